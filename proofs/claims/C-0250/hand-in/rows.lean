section
theorem pk_us {f : Nat → Int32} {k : Nat} {x : Int32} : upd f k x k = x := if_pos rfl
theorem pk_un {f : Nat → Int32} {k j : Nat} {x : Int32} (h : j ≠ k) : upd f k x j = f j := if_neg h
theorem pk_sub {a b : Nat} (h : b ≤ a) : nI a - nI b = nI (a - b) := by
  obtain ⟨c, rfl⟩ : ∃ c, a = c + b := ⟨a - b, by omega⟩
  rw [← nI_add, Int32.add_sub_cancel, Nat.add_sub_cancel]
theorem pk_m1 (n : Nat) : nI (n + 1) + (-1) = nI n := by
  rw [← nI_1, Int32.add_assoc, show (1 : Int32) + (-1) = 0 from rfl, Int32.add_zero]
theorem pk_mul (a b : Nat) : nI a * nI b = nI (a * b) := (Int32.ofNat_mul a b).symm
theorem pk_div {a d : Nat} (ha : a < 2 ^ 31) (h0 : 0 < d) (hd : d < 2 ^ 31) : nI a / nI d = nI (a / d) := by
  apply Int32.toInt_inj.mp
  rw [lg_idiv_nonneg (by rw [nI_toInt ha]; omega) (by rw [nI_toInt hd]; omega), nI_toInt ha, nI_toInt hd, nI_toInt (Nat.lt_of_le_of_lt (Nat.div_le_self a d) ha)]
  first | rfl | exact (Int.natCast_ediv _ _).symm
theorem pk_rem {a d : Nat} (ha : a < 2 ^ 31) (h0 : 0 < d) (hd : d < 2 ^ 31) : nI a - nI a / nI d * nI d = nI (a % d) := by
  rw [pk_div ha h0 hd, pk_mul, pk_sub (Nat.div_mul_le_self a d)]
  exact congrArg nI (by have := Nat.div_add_mod' a d; omega)
theorem pk_sub_toInt {a b : Nat} (ha : a < 2 ^ 30) (hb : b < 2 ^ 30) : (nI a - nI b).toInt = (a : Int) - b := by
  rw [Int32.toInt_sub, nI_toInt (by omega), nI_toInt (by omega)]
  exact Int.bmod_eq_of_le (by omega) (by omega)
theorem pk_sneg {a b : Nat} (hb : b < 2 ^ 30) (h : a < b) : nI a - nI b < 0 := by
  rw [Int32.lt_iff_toInt_lt, pk_sub_toInt (by omega) hb, show (0 : Int32).toInt = 0 from by decide]
  omega
theorem pk_ix (x : Int32) {n : Nat} (hn : n < 2 ^ 31) : x < 0 ∨ nI n ≤ x ∨ ∃ j : Nat, j < n ∧ x = nI j := by
  by_cases h : x < 0
  · exact Or.inl h
  · obtain ⟨j, hj, rfl⟩ := nI_of h
    by_cases h2 : j < n
    · exact Or.inr (Or.inr ⟨j, h2, rfl⟩)
    · exact Or.inr (Or.inl (nI_le (by omega) hj))
theorem pk_le {x y : Int32} {A B : Prop} (a b : Nat) (f : a ≤ b → A) (g : b < a → B) (hx : x = nI a := by rfl) (hy : y = nI b := by rfl) (ha : a < 2 ^ 31 := by omega) (hb : b < 2 ^ 31 := by omega) : (x ≤ y → A) ∧ (¬ x ≤ y → B) := by
  subst hx hy
  rw [nI_leI ha hb]
  exact ⟨f, fun z => g (by omega)⟩
theorem pk_lt {x y : Int32} {A B : Prop} (a b : Nat) (f : a < b → A) (g : b ≤ a → B) (hx : x = nI a := by rfl) (hy : y = nI b := by rfl) (ha : a < 2 ^ 31 := by omega) (hb : b < 2 ^ 31 := by omega) : (x < y → A) ∧ (¬ x < y → B) := by
  subst hx hy
  rw [nI_ltI ha hb]
  exact ⟨f, fun z => g (by omega)⟩
theorem pk_eq {x y : Int32} {A B : Prop} (a b : Nat) (f : a = b → A) (g : a ≠ b → B) (hx : x = nI a := by rfl) (hy : y = nI b := by rfl) (ha : a < 2 ^ 31 := by omega) (hb : b < 2 ^ 31 := by omega) : (x = y → A) ∧ (¬ x = y → B) := by
  subst hx hy
  rw [nI_eq ha hb]
  exact ⟨f, g⟩
theorem pk_in {x : Int32} (n N : Nat) (h : n < N) (hx : x = nI n := by rfl) (hN : N < 2 ^ 31 := by omega) : vp_in x N := by
  subst hx
  exact vp_in_nI h hN
theorem pk_cl {x : Int32} (n : Nat) (hx : x = nI n := by rfl) (h : n < 2 ^ 31 := by omega) : x.toNatClampNeg = n := by
  subst hx
  exact nI_clamp h
theorem pk_tn {n : Nat} (h : n < 2 ^ 32) : (nI n).toBitVec.toNat = n := Nat.mod_eq_of_lt h
theorem pk_and (x : Int32) {m : Int32} (k : Nat) (hm : m.toBitVec.toNat = 2 ^ k - 1) : x &&& m = nI (x.toBitVec.toNat % 2 ^ k) := by
  apply Int32.toBitVec_inj.mp
  apply BitVec.eq_of_toNat_eq
  rw [Int32.toBitVec_and, BitVec.toNat_and, hm, Nat.and_two_pow_sub_one_eq_mod]
  show _ = (BitVec.ofNat 32 _).toNat
  rw [BitVec.toNat_ofNat]
  exact (Nat.mod_eq_of_lt (Nat.lt_of_le_of_lt (Nat.mod_le _ _) x.toBitVec.isLt)).symm
theorem pk_andN {n : Nat} (h : n < 2 ^ 32) {m : Int32} (k : Nat) (hm : m.toBitVec.toNat = 2 ^ k - 1) : nI n &&& m = nI (n % 2 ^ k) := by
  rw [pk_and _ k hm, pk_tn h]
theorem pk_shl (a s : Int32) (k : Nat) (hs : (s.toBitVec.smod 32).toNat = k) : (a <<< s).toBitVec.toNat = a.toBitVec.toNat * 2 ^ k % 2 ^ 32 := by
  show (a.toBitVec <<< (s.toBitVec.smod 32).toNat).toNat = _
  rw [hs, BitVec.toNat_shiftLeft, Nat.shiftLeft_eq]
theorem pk_shlN {n : Nat} (s : Int32) (k : Nat) (hs : (s.toBitVec.smod 32).toNat = k) (h : n * 2 ^ k < 2 ^ 32) : nI n <<< s = nI (n * 2 ^ k) := by
  apply Int32.toBitVec_inj.mp
  apply BitVec.eq_of_toNat_eq
  have hn : n < 2 ^ 32 := Nat.lt_of_le_of_lt (Nat.le_mul_of_pos_right n (Nat.two_pow_pos k)) h
  rw [pk_shl _ _ k hs, pk_tn hn, pk_tn h, Nat.mod_eq_of_lt h]
theorem pk_shr (a s : Int32) (k : Nat) (hs : (s.toBitVec.smod 32).toNat = k) : (a >>> s).toInt = a.toInt >>> k := by
  show (a.toBitVec.sshiftRight (s.toBitVec.smod 32).toNat).toInt = _
  rw [hs, BitVec.toInt_sshiftRight]
  rfl
theorem pk_shrN {n : Nat} (h : n < 2 ^ 31) (s : Int32) (k : Nat) (hs : (s.toBitVec.smod 32).toNat = k) : nI n >>> s = nI (n / 2 ^ k) := by
  apply Int32.toInt_inj.mp
  have h2 : n / 2 ^ k ≤ n := Nat.div_le_self _ _
  rw [pk_shr _ _ k hs, nI_toInt h, nI_toInt (by omega), Int.shiftRight_eq_div_pow]
  rfl
theorem pk_loop {σ : Type} (W : Nat → Nat → σ → Prop) (I : Nat → σ → Prop) (e i0 : Nat) (s : σ) (hi : i0 ≤ e) (h0 : I i0 s) (hx : ∀ n s, I e s → W (n + 1) e s)
    (hs : ∀ n i s, i < e → I i s → (∀ s', I (i + 1) s' → W n (i + 1) s') → W (n + 1) i s) : ∃ n, W n i0 s :=
  ⟨e + 1, loop_i W I e hx hs (e + 1) i0 s hi (by omega) h0⟩
theorem pk_least (P : Nat → Prop) (h : ∃ k, P k) : ∃ k, P k ∧ ∀ j, j < k → ¬ P j := by
  obtain ⟨k, hk⟩ := h
  induction k using Nat.strongRecOn with
  | ind k ih =>
    by_cases e : ∃ j, j < k ∧ P j
    · obtain ⟨j, hj, pj⟩ := e
      exact ih j hj pj
    · exact ⟨k, hk, fun j hj pj => e ⟨j, hj, pj⟩⟩
def bt (x : Int32) (i : Nat) : Bool := x.toBitVec.getLsbD i
theorem b_ext {x y : Int32} (h : ∀ i, i < 32 → bt x i = bt y i) : x = y := Int32.toBitVec_inj.mp (BitVec.eq_of_getLsbD_eq (fun i hi => h i hi))
theorem b_or (x y : Int32) (i : Nat) : bt (x ||| y) i = (bt x i || bt y i) := by unfold bt; rw [Int32.toBitVec_or, BitVec.getLsbD_or]
theorem b_and (x y : Int32) (i : Nat) : bt (x &&& y) i = (bt x i && bt y i) := by unfold bt; rw [Int32.toBitVec_and, BitVec.getLsbD_and]
theorem b_xor (x y : Int32) (i : Nat) : bt (x ^^^ y) i = (bt x i ^^ bt y i) := by unfold bt; rw [Int32.toBitVec_xor, BitVec.getLsbD_xor]
theorem b_big {x : Int32} {i : Nat} (h : 32 ≤ i) : bt x i = false := BitVec.getLsbD_of_ge _ _ h
theorem b_m1 : ∀ i, i < 32 → bt (-1) i = true := by decide +kernel
theorem b_0 (i : Nat) : bt 0 i = false := BitVec.getLsbD_zero
theorem s_l : ∀ n, n < 32 → ((nI n &&& 31).toBitVec.smod 32).toNat = n := by decide +kernel
theorem b_shl (n : Nat) (hn : n < 32) (x : Int32) {i : Nat} (hi : i < 32) : bt (x <<< (nI n &&& 31)) i = (decide (n ≤ i) && bt x (i - n)) := by
  unfold bt
  rw [Int32.toBitVec_shiftLeft]
  show (x.toBitVec <<< ((nI n &&& 31).toBitVec.smod 32).toNat).getLsbD i = _
  rw [s_l n hn, BitVec.getLsbD_shiftLeft]
  rcases Nat.lt_or_ge i n with h | h
  · simp [h, Nat.not_le.mpr h]
  · simp [hi, h, Nat.not_lt.mpr h]
theorem b_sshr (n : Nat) (hn : n < 32) (x : Int32) {i : Nat} (hi : i < 32) : bt (x >>> (nI n &&& 31)) i = if n + i < 32 then bt x (n + i) else bt x 31 := by
  unfold bt
  rw [Int32.toBitVec_shiftRight]
  show (x.toBitVec.sshiftRight ((nI n &&& 31).toBitVec.smod 32).toNat).getLsbD i = _
  rw [s_l n hn, BitVec.getLsbD_sshiftRight, BitVec.msb_eq_getLsbD_last]
  simp [hi]
theorem nx_and (a b : Nat) : nI a &&& nI b = nI (a &&& b) := by
  apply Int32.toBitVec_inj.1
  show BitVec.ofNat 32 a &&& BitVec.ofNat 32 b = BitVec.ofNat 32 (a &&& b)
  apply BitVec.eq_of_getLsbD_eq
  intro i hi
  simp [hi]
end
section
/-! ===== counting below a number, classical; masks as naturals ===== -/
noncomputable def ct_c (P : Nat → Prop) : Nat → Nat
  | 0 => 0
  | n + 1 => ct_c P n + @ite Nat (P n) (Classical.propDecidable (P n)) 1 0
theorem ct_t {P : Nat → Prop} {n : Nat} (h : P n) : ct_c P (n + 1) = ct_c P n + 1 := by
  show ct_c P n + @ite Nat (P n) (Classical.propDecidable (P n)) 1 0 = _
  rw [if_pos h]
theorem ct_f {P : Nat → Prop} {n : Nat} (h : ¬ P n) : ct_c P (n + 1) = ct_c P n := by
  show ct_c P n + @ite Nat (P n) (Classical.propDecidable (P n)) 1 0 = _
  rw [if_neg h]
  exact Nat.add_zero _
theorem ct_congr {P Q : Nat → Prop} {n : Nat} (h : ∀ i, i < n → (P i ↔ Q i)) : ct_c P n = ct_c Q n := by
  induction n with
  | zero => rfl
  | succ n ih =>
    have e := ih (fun i hi => h i (by omega))
    by_cases hp : P n
    · rw [ct_t hp, ct_t ((h n (by omega)).mp hp), e]
    · rw [ct_f hp, ct_f (fun q => hp ((h n (by omega)).mpr q)), e]
theorem ct_add {P Q R : Nat → Prop} {n : Nat} (h : ∀ i, i < n → (P i ↔ (Q i ∨ R i))) (d : ∀ i, i < n → Q i → ¬ R i) : ct_c P n = ct_c Q n + ct_c R n := by
  induction n with
  | zero => rfl
  | succ n ih =>
    have e := ih (fun i hi => h i (by omega)) (fun i hi => d i (by omega))
    have hn := h n (by omega)
    by_cases hq : Q n
    · rw [ct_t (hn.mpr (Or.inl hq)), ct_t hq, ct_f (d n (by omega) hq), e]; omega
    · by_cases hr : R n
      · rw [ct_t (hn.mpr (Or.inr hr)), ct_f hq, ct_t hr, e]; omega
      · rw [ct_f (fun p => (hn.mp p).elim hq hr), ct_f hq, ct_f hr, e]
theorem ct_none {P : Nat → Prop} {n : Nat} (h : ∀ i, i < n → ¬ P i) : ct_c P n = 0 := by
  induction n with
  | zero => rfl
  | succ n ih => rw [ct_f (h n (by omega)), ih (fun i hi => h i (by omega))]
theorem ct_all {P : Nat → Prop} {n : Nat} (h : ∀ i, i < n → P i) : ct_c P n = n := by
  induction n with
  | zero => rfl
  | succ n ih => rw [ct_t (h n (by omega)), ih (fun i hi => h i (by omega))]
theorem ct_one {P : Nat → Prop} {n j : Nat} (hj : j < n) (h : ∀ i, i < n → (P i ↔ i = j)) : ct_c P n = 1 := by
  induction n with
  | zero => omega
  | succ n ih =>
    by_cases e : n = j
    · rw [ct_t ((h n (by omega)).mpr e), ct_none (fun i hi p => by have := (h i (by omega)).mp p; omega)]
    · rw [ct_f (fun p => e ((h n (by omega)).mp p)), ih (by omega) (fun i hi => h i (by omega))]
theorem ct_le (P : Nat → Prop) (n : Nat) : ct_c P n ≤ n := by
  induction n with
  | zero => exact Nat.le_refl _
  | succ n ih =>
    by_cases hp : P n
    · rw [ct_t hp]; omega
    · rw [ct_f hp]; omega
theorem ct_mono {P Q : Nat → Prop} {n : Nat} (h : ∀ i, i < n → P i → Q i) : ct_c P n ≤ ct_c Q n := by
  induction n with
  | zero => exact Nat.le_refl _
  | succ n ih =>
    have e := ih (fun i hi => h i (by omega))
    by_cases hp : P n
    · rw [ct_t hp, ct_t (h n (by omega) hp)]; omega
    · rw [ct_f hp]
      by_cases hq : Q n
      · rw [ct_t hq]; omega
      · rw [ct_f hq]; exact e
theorem ct_ins {P Q : Nat → Prop} {n j : Nat} (hj : j < n) (hp : ¬ P j) (h : ∀ i, i < n → (Q i ↔ (P i ∨ i = j))) : ct_c Q n = ct_c P n + 1 := by
  rw [ct_add (R := fun i => i = j) h (fun i _ p e => hp (by rw [← e]; exact p)), ct_one hj (fun i _ => Iff.rfl)]
theorem ct_lt {P : Nat → Prop} {n j : Nat} (hj : j < n) (hp : ¬ P j) : ct_c P n < n := by
  have e := ct_ins (Q := fun i => P i ∨ i = j) hj hp (fun i _ => Iff.rfl)
  have l := ct_le (fun i => P i ∨ i = j) n
  omega
theorem ct_pos {P : Nat → Prop} {n j : Nat} (hj : j < n) (h : P j) : 0 < ct_c P n := by
  have e := ct_mono (P := fun i => i = j) (Q := P) (n := n) (fun i _ e => by rw [e]; exact h)
  rw [ct_one hj (fun i _ => Iff.rfl)] at e
  omega
theorem ct_ex {P : Nat → Prop} {n : Nat} (h : 0 < ct_c P n) : ∃ j, j < n ∧ P j := by
  by_cases e : ∃ j, j < n ∧ P j
  · exact e
  · rw [ct_none (fun i hi p => e ⟨i, hi, p⟩)] at h
    omega
theorem ct_sub {P Q : Nat → Prop} {n : Nat} (h : ∀ i, i < n → P i → Q i) (c : ct_c Q n ≤ ct_c P n) : ∀ i, i < n → Q i → P i := by
  intro i hi q
  by_cases p : P i
  · exact p
  · have e := ct_ins (Q := fun j => P j ∨ j = i) hi p (fun j _ => Iff.rfl)
    have l := ct_mono (P := fun j => P j ∨ j = i) (Q := Q) (n := n) (fun j hj r => r.elim (h j hj) (fun e => by rw [e]; exact q))
    omega
theorem ct_inj {P : Nat → Prop} {n m : Nat} (f : Nat → Nat) : ∀ {Q : Nat → Prop}, (∀ i, i < n → P i → f i < m ∧ Q (f i)) → (∀ i j, i < n → j < n → P i → P j → f i = f j → i = j) → ct_c P n ≤ ct_c Q m := by
  induction n with
  | zero => intro Q _ _; exact Nat.zero_le _
  | succ n ih =>
    intro Q hf inj
    by_cases hp : P n
    · have hn := hf n (by omega) hp
      have e := ct_ins (P := fun y => Q y ∧ y ≠ f n) (Q := Q) (n := m) hn.1 (fun z => z.2 rfl) (fun i _ => ⟨fun q => by
        by_cases e : i = f n
        · exact Or.inr e
        · exact Or.inl ⟨q, e⟩, fun r => r.elim (fun z => z.1) (fun e => by rw [e]; exact hn.2)⟩)
      have l := ih (Q := fun y => Q y ∧ y ≠ f n) (fun i hi p => ⟨(hf i (by omega) p).1, (hf i (by omega) p).2, fun z => by have := inj i n (by omega) (by omega) p hp z; omega⟩) (fun i j hi hj => inj i j (by omega) (by omega))
      rw [ct_t hp]
      omega
    · rw [ct_f hp]
      exact ih (fun i hi => hf i (by omega)) (fun i j hi hj => inj i j (by omega) (by omega))
theorem ct_ext {P : Nat → Prop} {n m : Nat} (h : n ≤ m) (hp : ∀ i, n ≤ i → i < m → ¬ P i) : ct_c P m = ct_c P n := by
  induction m with
  | zero => rw [show n = 0 by omega]
  | succ m ih =>
    by_cases e : n = m + 1
    · rw [e]
    · rw [ct_f (hp m (by omega) (by omega)), ih (by omega) (fun i a b => hp i a (by omega))]
/-! masks -/
theorem mk_or (a b : Nat) : nI a ||| nI b = nI (a ||| b) := by
  apply Int32.toBitVec_inj.1
  show BitVec.ofNat 32 a ||| BitVec.ofNat 32 b = BitVec.ofNat 32 (a ||| b)
  apply BitVec.eq_of_getLsbD_eq
  intro i hi
  simp [hi]
theorem mk_bit {k j : Nat} (hk : k < 2 ^ 31) (hj : j < 32) : (nI k >>> (nI j &&& 31)) &&& 1 = nI (if k.testBit j = true then 1 else 0) := by
  rw [pk_shrN hk (nI j &&& 31) j (s_l j hj)]
  show nI (k / 2 ^ j) &&& nI 1 = _
  rw [nx_and, Nat.and_one_is_mod, Nat.testBit_eq_decide_div_mod_eq]
  generalize k / 2 ^ j = z
  rcases Nat.mod_two_eq_zero_or_one z with h | h <;> rw [h] <;> rfl
theorem mk_b0 {k j : Nat} (hk : k < 2 ^ 31) (hj : j < 32) : (nI k >>> (nI j &&& 31)) &&& 1 = 0 ↔ k.testBit j = false := by
  rw [mk_bit hk hj, ← nI_0]
  cases k.testBit j with
  | false => exact ⟨fun _ => rfl, fun _ => rfl⟩
  | true => exact ⟨fun h => absurd h (by decide), fun h => absurd h (by decide)⟩
theorem mk_b1 {k j : Nat} (hk : k < 2 ^ 31) (hj : j < 32) : (nI k >>> (nI j &&& 31)) &&& 1 = 1 ↔ k.testBit j = true := by
  rw [mk_bit hk hj]
  cases k.testBit j with
  | false => exact ⟨fun h => absurd h (by decide), fun h => absurd h (by decide)⟩
  | true => exact ⟨fun _ => rfl, fun _ => rfl⟩
theorem mk_one {j : Nat} (hj : j < 31) : (1 : Int32) <<< (nI j &&& 31) = nI (2 ^ j) := by
  have h := pk_shlN (n := 1) (nI j &&& 31) j (s_l j (by omega)) (by rw [Nat.one_mul]; exact Nat.pow_lt_pow_right (by decide) (by omega))
  rw [Nat.one_mul] at h
  exact h
theorem mk_set (S v i : Nat) : (S ||| 2 ^ v).testBit i = (S.testBit i || decide (v = i)) := by
  rw [Nat.testBit_or, Nat.testBit_two_pow]
theorem mk_setT {S v i : Nat} : (S ||| 2 ^ v).testBit i = true ↔ (S.testBit i = true ∨ i = v) := by
  rw [mk_set, Bool.or_eq_true, decide_eq_true_iff]
  exact ⟨fun h => h.imp id (fun e => e.symm), fun h => h.imp id (fun e => e.symm)⟩
theorem mk_orT {S T i : Nat} : (S ||| T).testBit i = true ↔ (S.testBit i = true ∨ T.testBit i = true) := by
  rw [Nat.testBit_or, Bool.or_eq_true]
theorem mk_andT {S T i : Nat} : (S &&& T).testBit i = true ↔ (S.testBit i = true ∧ T.testBit i = true) := by
  rw [Nat.testBit_and, Bool.and_eq_true]
theorem mk_oneT {v i : Nat} : (2 ^ v).testBit i = true ↔ i = v := by
  rw [Nat.testBit_two_pow, decide_eq_true_iff]
  exact ⟨fun e => e.symm, fun e => e.symm⟩
theorem mk_p9 {N : Nat} (hN : N ≤ 9) : 2 ^ N ≤ 512 := Nat.pow_le_pow_right (n := 2) (by decide) hN
theorem mk_vlt {v : Nat} (h : v < 9) : 2 ^ v < 512 := Nat.pow_lt_pow_right (a := 2) (n := 9) (by decide) h
theorem mk_hi {S N i : Nat} (h : S < 2 ^ N) (hi : S.testBit i = true) : i < N := by
  by_cases e : i < N
  · exact e
  · rw [Nat.testBit_lt_two_pow (Nat.lt_of_lt_of_le h (Nat.pow_le_pow_right (by decide) (by omega)))] at hi
    exact absurd hi (by decide)
theorem mk_ltN {S N : Nat} (h : ∀ i, S.testBit i = true → i < N) : S < 2 ^ N := by
  apply Nat.lt_pow_two_of_testBit
  intro i hi
  cases e : S.testBit i with
  | false => rfl
  | true => have := h i e; omega
theorem mk_setlt {S v N : Nat} (h : S < 2 ^ N) (hv : v < N) : S ||| 2 ^ v < 2 ^ N :=
  Nat.or_lt_two_pow h (Nat.pow_lt_pow_right (by decide) hv)
theorem mk_ff {b : Bool} (h : ¬ b = true) : b = false := by cases b with
  | false => rfl
  | true => exact absurd rfl h
theorem mk_tf {b : Bool} (h : b = false) : ¬ b = true := by rw [h]; decide
theorem mk_ext {S T : Nat} (h : ∀ i, S.testBit i = true ↔ T.testBit i = true) : S = T := by
  apply Nat.eq_of_testBit_eq
  intro i
  have := h i
  cases e : S.testBit i <;> cases f : T.testBit i <;> simp_all
noncomputable def mk_pc (S : Nat) : Nat := ct_c (fun v => S.testBit v = true) 9
theorem mk_pcle (S : Nat) : mk_pc S ≤ 9 := ct_le _ _
theorem mk_pcN {S N : Nat} (hN : N ≤ 9) (h : S < 2 ^ N) : mk_pc S ≤ N := by
  unfold mk_pc
  rw [ct_ext hN (fun i a _ z => by have := mk_hi h z; omega)]
  exact ct_le _ _
theorem mk_pcsub {S T : Nat} (h : ∀ i, S.testBit i = true → T.testBit i = true) : mk_pc S ≤ mk_pc T := ct_mono (fun i _ => h i)
theorem mk_pceq {S T : Nat} (h : ∀ i, S.testBit i = true → T.testBit i = true) (hT : T < 512) (c : mk_pc T ≤ mk_pc S) : S = T := by
  apply mk_ext
  intro i
  refine ⟨h i, fun z => ct_sub (fun i _ => h i) c i (mk_hi (N := 9) hT z) z⟩
theorem mk_pcins {S v : Nat} (hv : v < 9) (h : S.testBit v = false) : mk_pc (S ||| 2 ^ v) = mk_pc S + 1 :=
  ct_ins hv (mk_tf h) (fun _ _ => mk_setT)
theorem mk_pc0 : mk_pc 0 = 0 := ct_none (fun i _ h => by rw [Nat.zero_testBit] at h; exact absurd h (by decide))
theorem mk_pc1 {v : Nat} (hv : v < 9) : mk_pc (2 ^ v) = 1 := ct_one hv (fun _ _ => mk_oneT)
theorem mk_z {i : Nat} (h : (0 : Nat).testBit i = true) : False := by
  rw [Nat.zero_testBit] at h
  exact absurd h (by decide)
theorem mk_nz {S : Nat} (h : S ≠ 0) : ∃ i, S.testBit i = true := Nat.exists_testBit_of_ne_zero h
end
section
/-! ===== walks, connection, bridges ===== -/
def gr_W (E : Nat → Nat → Prop) : Nat → Nat → Nat → Prop
  | 0, a, b => a = b
  | k + 1, a, b => ∃ z, gr_W E k a z ∧ E z b
theorem gr_mono {E F : Nat → Nat → Prop} (h : ∀ x y, E x y → F x y) : ∀ {k a b : Nat}, gr_W E k a b → gr_W F k a b := by
  intro k
  induction k with
  | zero => intro a b w; exact w
  | succ k ih => intro a b w; obtain ⟨z, w, e⟩ := w; exact ⟨z, ih w, h z b e⟩
theorem gr_app {E : Nat → Nat → Prop} {k a b : Nat} (w : gr_W E k a b) : ∀ {l c : Nat}, gr_W E l b c → gr_W E (k + l) a c := by
  intro l
  induction l with
  | zero => intro c v; have v : b = c := v; rw [← v]; exact w
  | succ l ih => intro c v; obtain ⟨z, v, e⟩ := v; exact ⟨z, ih v, e⟩
theorem gr_1 {E : Nat → Nat → Prop} {a b : Nat} (e : E a b) : gr_W E 1 a b := ⟨a, rfl, e⟩
theorem gr_cons {E : Nat → Nat → Prop} {k a b c : Nat} (e : E a b) (w : gr_W E k b c) : gr_W E (k + 1) a c := by
  have h := gr_app (gr_1 e) w
  rw [Nat.add_comm] at h
  exact h
theorem gr_sym {E : Nat → Nat → Prop} (s : ∀ x y, E x y → E y x) : ∀ {k a b : Nat}, gr_W E k a b → gr_W E k b a := by
  intro k
  induction k with
  | zero => intro a b w; exact Eq.symm w
  | succ k ih => intro a b w; obtain ⟨z, w, e⟩ := w; exact gr_cons (s z b e) (ih w)
def gr_C (E : Nat → Nat → Prop) (a b : Nat) : Prop := ∃ k, gr_W E k a b
theorem gr_Cr {E : Nat → Nat → Prop} (a : Nat) : gr_C E a a := ⟨0, rfl⟩
theorem gr_Ce {E : Nat → Nat → Prop} {a b : Nat} (e : E a b) : gr_C E a b := ⟨1, gr_1 e⟩
theorem gr_Ct {E : Nat → Nat → Prop} {a b c : Nat} (h : gr_C E a b) (g : gr_C E b c) : gr_C E a c := by
  obtain ⟨k, w⟩ := h
  obtain ⟨l, v⟩ := g
  exact ⟨k + l, gr_app w v⟩
theorem gr_Cs {E : Nat → Nat → Prop} (s : ∀ x y, E x y → E y x) {a b : Nat} (h : gr_C E a b) : gr_C E b a := by
  obtain ⟨k, w⟩ := h
  exact ⟨k, gr_sym s w⟩
theorem gr_Cm {E F : Nat → Nat → Prop} (h : ∀ x y, E x y → F x y) {a b : Nat} (c : gr_C E a b) : gr_C F a b := by
  obtain ⟨k, w⟩ := c
  exact ⟨k, gr_mono h w⟩
/-- an equivalence that holds the edges holds the connection -/
theorem gr_Cleast {E : Nat → Nat → Prop} {Q : Nat → Nat → Prop} (r : ∀ x, Q x x) (t : ∀ x y z, Q x y → Q y z → Q x z) (h : ∀ x y, E x y → Q x y) {a b : Nat} (c : gr_C E a b) : Q a b := by
  obtain ⟨k, w⟩ := c
  induction k generalizing b with
  | zero => have w : a = b := w; rw [← w]; exact r a
  | succ k ih => obtain ⟨z, w, e⟩ := w; exact t a z b (ih w) (h z b e)
def gr_pr (x y a b : Nat) : Prop := (a = x ∧ b = y) ∨ (a = y ∧ b = x)
def gr_add (E : Nat → Nat → Prop) (x y : Nat) : Nat → Nat → Prop := fun a b => E a b ∨ gr_pr x y a b
def gr_del (E : Nat → Nat → Prop) (x y : Nat) : Nat → Nat → Prop := fun a b => E a b ∧ ¬ gr_pr x y a b
theorem gr_prs {x y a b : Nat} (h : gr_pr x y a b) : gr_pr x y b a := h.elim (fun z => Or.inr ⟨z.2, z.1⟩) (fun z => Or.inl ⟨z.2, z.1⟩)
theorem gr_prc {x y a b : Nat} (h : gr_pr x y a b) : gr_pr y x a b := h.elim (fun z => Or.inr z) (fun z => Or.inl z)
theorem gr_adds {E : Nat → Nat → Prop} (s : ∀ x y, E x y → E y x) (x y : Nat) : ∀ a b, gr_add E x y a b → gr_add E x y b a := fun a b h => h.elim (fun z => Or.inl (s a b z)) (fun z => Or.inr (gr_prs z))
theorem gr_dels {E : Nat → Nat → Prop} (s : ∀ x y, E x y → E y x) (x y : Nat) : ∀ a b, gr_del E x y a b → gr_del E x y b a := fun a b h => ⟨s a b h.1, fun z => h.2 (gr_prs z)⟩
theorem gr_addC {E : Nat → Nat → Prop} (s : ∀ x y, E x y → E y x) {x y a b : Nat} (c : gr_C (gr_add E x y) a b) : gr_C E a b ∨ (gr_C E a x ∧ gr_C E y b) ∨ (gr_C E a y ∧ gr_C E x b) := by
  obtain ⟨k, w⟩ := c
  induction k generalizing b with
  | zero => have w : a = b := w; rw [← w]; exact Or.inl (gr_Cr a)
  | succ k ih =>
    obtain ⟨z, w, e⟩ := w
    rcases e with e | ⟨rfl, rfl⟩ | ⟨rfl, rfl⟩
    · rcases ih w with h | ⟨h1, h2⟩ | ⟨h1, h2⟩
      · exact Or.inl (gr_Ct h (gr_Ce e))
      · exact Or.inr (Or.inl ⟨h1, gr_Ct h2 (gr_Ce e)⟩)
      · exact Or.inr (Or.inr ⟨h1, gr_Ct h2 (gr_Ce e)⟩)
    · rcases ih w with h | ⟨h1, h2⟩ | ⟨h1, h2⟩
      · exact Or.inr (Or.inl ⟨h, gr_Cr _⟩)
      · exact Or.inr (Or.inl ⟨h1, gr_Cr _⟩)
      · exact Or.inl h1
    · rcases ih w with h | ⟨h1, h2⟩ | ⟨h1, h2⟩
      · exact Or.inr (Or.inr ⟨h, gr_Cr _⟩)
      · exact Or.inl h1
      · exact Or.inr (Or.inr ⟨h1, gr_Cr _⟩)
/-- every edge of E is a bridge -/
def gr_Br (E : Nat → Nat → Prop) : Prop := ∀ a b, E a b → ¬ gr_C (gr_del E a b) a b
/-- a new edge between two parts keeps all bridges -/
theorem gr_Bradd {E : Nat → Nat → Prop} (s : ∀ x y, E x y → E y x) (B : gr_Br E) {x y : Nat} (n : ¬ gr_C E x y) : gr_Br (gr_add E x y) := by
  intro a b e c
  by_cases p : gr_pr x y a b
  · -- the new edge itself
    have c2 : gr_C E a b := gr_Cm (fun u v h => by
      rcases h with ⟨h | h, q⟩
      · exact h
      · exact absurd (by
          rcases p with ⟨rfl, rfl⟩ | ⟨rfl, rfl⟩
          · exact h
          · exact gr_prc h) q) c
    rcases p with ⟨rfl, rfl⟩ | ⟨rfl, rfl⟩
    · exact n c2
    · exact n (gr_Cs s c2)
  · have e : E a b := e.elim id (fun z => absurd z p)
    -- without (a,b) the graph is (E without (a,b)) with the new edge
    have c2 : gr_C (gr_add (gr_del E a b) x y) a b := gr_Cm (fun u v h => by
      rcases h with ⟨h | h, q⟩
      · exact Or.inl ⟨h, q⟩
      · exact Or.inr h) c
    have up : ∀ {u v : Nat}, gr_C (gr_del E a b) u v → gr_C E u v := fun h => gr_Cm (fun _ _ z => z.1) h
    rcases gr_addC (gr_dels s a b) c2 with h | ⟨h1, h2⟩ | ⟨h1, h2⟩
    · exact B a b e h
    · exact n (gr_Ct (gr_Cs s (up h1)) (gr_Ct (gr_Ce e) (gr_Cs s (up h2))))
    · exact n (gr_Ct (up h2) (gr_Ct (gr_Ce (s a b e)) (up h1)))
/-! the graph: m u v edges between u and v; T: the vertices taken out -/
def gr_E (m : Nat → Nat → Nat) (T : Nat) : Nat → Nat → Prop := fun a b => 0 < m a b ∧ T.testBit a = false ∧ T.testBit b = false
/-- a graph on n vertices: symmetric, at most two, nothing outside -/
def gr_G (n : Nat) (m : Nat → Nat → Nat) : Prop := (∀ u v, m u v = m v u) ∧ (∀ u v, m u v ≤ 2) ∧ (∀ u v, 0 < m u v → u < n ∧ v < n)
theorem gr_Es {n : Nat} {m : Nat → Nat → Nat} (g : gr_G n m) (T : Nat) : ∀ x y, gr_E m T x y → gr_E m T y x := fun x y h => ⟨by rw [g.1]; exact h.1, h.2.2, h.2.1⟩
def gr_loop (m : Nat → Nat → Nat) (T : Nat) : Prop := ∃ u, 0 < m u u ∧ T.testBit u = false
def gr_dbl (m : Nat → Nat → Nat) (T : Nat) : Prop := ∃ u v, u ≠ v ∧ m u v = 2 ∧ T.testBit u = false ∧ T.testBit v = false
/-- an edge that is no bridge, with a way round of length k -/
def gr_ck (m : Nat → Nat → Nat) (T k : Nat) : Prop := ∃ a b, a ≠ b ∧ gr_E m T a b ∧ gr_W (gr_del (gr_E m T) a b) k a b
def gr_Cyc (m : Nat → Nat → Nat) (T : Nat) : Prop := gr_loop m T ∨ gr_dbl m T ∨ ∃ k, gr_ck m T k
theorem gr_ckpos {m : Nat → Nat → Nat} {T k : Nat} (h : gr_ck m T k) : 0 < k := by
  obtain ⟨a, b, n, e, w⟩ := h
  cases k with
  | zero => exact absurd w n
  | succ k => omega
/-- edges inside a set R -/
def gr_I (m : Nat → Nat → Nat) (R : Nat) : Nat → Nat → Prop := fun a b => 0 < m a b ∧ R.testBit a = true ∧ R.testBit b = true
theorem gr_IE {m : Nat → Nat → Nat} {R T : Nat} (d : ∀ i, R.testBit i = true → T.testBit i = false) : ∀ x y, gr_I m R x y → gr_E m T x y := fun x y h => ⟨h.1, d x h.2.1, d y h.2.2⟩
/-- the ring R holds a closed way (of k + 1 edges) -/
def gr_rk (m : Nat → Nat → Nat) (R k : Nat) : Prop := ∃ a b, a ≠ b ∧ gr_I m R a b ∧ gr_W (gr_del (gr_I m R) a b) k a b
theorem gr_rkck {m : Nat → Nat → Nat} {R T k : Nat} (d : ∀ i, R.testBit i = true → T.testBit i = false) (h : gr_rk m R k) : gr_ck m T k := by
  obtain ⟨a, b, n, e, w⟩ := h
  exact ⟨a, b, n, gr_IE d a b e, gr_mono (fun x y z => ⟨gr_IE d x y z.1, z.2⟩) w⟩
/-! ways are shorter than the number of vertices -/
def gr_L (E : Nat → Nat → Prop) (k a b : Nat) : Prop := gr_W E k a b ∧ ∀ j, j < k → ¬ gr_W E j a b
theorem gr_Lpre {E : Nat → Nat → Prop} {k a b : Nat} (h : gr_L E (k + 1) a b) : ∃ z, gr_L E k a z ∧ E z b := by
  obtain ⟨⟨z, w, e⟩, l⟩ := h
  exact ⟨z, ⟨w, fun j hj v => l (j + 1) (by omega) ⟨z, v, e⟩⟩, e⟩
theorem gr_Lall {E : Nat → Nat → Prop} {a : Nat} : ∀ {k b : Nat}, gr_L E k a b → ∀ i, i ≤ k → ∃ z, gr_L E i a z := by
  intro k
  induction k with
  | zero => intro b h i hi; rw [show i = 0 by omega]; exact ⟨b, h⟩
  | succ k ih =>
    intro b h i hi
    by_cases e : i = k + 1
    · rw [e]; exact ⟨b, h⟩
    · obtain ⟨z, hz, _⟩ := gr_Lpre h
      exact ih hz i (by omega)
theorem gr_Llt {E : Nat → Nat → Prop} {n k a b : Nat} (ha : a < n) (hE : ∀ x y, E x y → y < n) (h : gr_L E k a b) : k < n := by
  have c := fun i => gr_Lall h i
  have inW : ∀ {i z : Nat}, gr_W E i a z → z < n := by
    intro i
    cases i with
    | zero => intro z w; have w : a = z := w; rw [← w]; exact ha
    | succ i => intro z w; obtain ⟨y, _, e⟩ := w; exact hE y z e
  have f : ∃ f : Nat → Nat, ∀ i, i ≤ k → gr_L E i a (f i) := by
    refine ⟨fun i => if hi : i ≤ k then Classical.choose (c i hi) else 0, fun i hi => ?_⟩
    show gr_L E i a (if hi : i ≤ k then Classical.choose (c i hi) else 0)
    rw [dif_pos hi]
    exact Classical.choose_spec (c i hi)
  obtain ⟨f, hf⟩ := f
  have l := ct_inj (P := fun _ => True) (n := k + 1) (m := n) f (Q := fun _ => True) (fun i hi _ => ⟨inW (hf i (by omega)).1, True.intro⟩) (fun i j hi hj _ _ e => by
    have h1 := hf i (by omega)
    have h2 := hf j (by omega)
    rw [e] at h1
    rcases Nat.lt_trichotomy i j with q | q | q
    · exact absurd h1.1 (h2.2 i q)
    · exact q
    · exact absurd h2.1 (h1.2 j q))
  rw [ct_all (fun _ _ => True.intro), ct_all (fun _ _ => True.intro)] at l
  omega
/-- the least walk -/
theorem gr_Lex {E : Nat → Nat → Prop} {k a b : Nat} (h : gr_W E k a b) : ∃ l, l ≤ k ∧ gr_L E l a b := by
  obtain ⟨l, w, m⟩ := pk_least (fun j => gr_W E j a b) ⟨k, h⟩
  refine ⟨l, ?_, w, m⟩
  by_cases e : l ≤ k
  · exact e
  · exact absurd h (m k (by omega))
end
section
/-! ===== breadth-first trees (pure) ===== -/
def bf_T (G : Nat → Nat → Prop) (s : Nat) (R : Nat → Prop) (D P : Nat → Nat) : Prop := R s ∧ D s = 0 ∧ ∀ v, R v → v ≠ s → R (P v) ∧ D v = D (P v) + 1 ∧ G (P v) v
def bf_F (G : Nat → Nat → Prop) (R : Nat → Prop) (D : Nat → Nat) : Prop := ∀ u v, R u → G u v → R v ∧ D v ≤ D u + 1
def bf_TE (s : Nat) (P : Nat → Nat) (u v : Nat) : Prop := (u ≠ s ∧ P u = v) ∨ (v ≠ s ∧ P v = u)
def bf_up (P : Nat → Nat) : Nat → Nat → Nat
  | 0, x => x
  | i + 1, x => P (bf_up P i x)
theorem bf_upS (P : Nat → Nat) (x : Nat) : ∀ i, bf_up P (i + 1) x = bf_up P i (P x) := by
  intro i
  induction i with
  | zero => rfl
  | succ i ih =>
    show P (bf_up P (i + 1) x) = P (bf_up P i (P x))
    rw [ih]
theorem bf_root {G : Nat → Nat → Prop} {s : Nat} {R : Nat → Prop} {D P : Nat → Nat} (T : bf_T G s R D P) {x : Nat} (r : R x) (d : D x = 0) : x = s := by
  by_cases e : x = s
  · exact e
  · have := (T.2.2 x r e).2.1
    omega
theorem bf_upR {G : Nat → Nat → Prop} {s : Nat} {R : Nat → Prop} {D P : Nat → Nat} (T : bf_T G s R D P) {x : Nat} (r : R x) : ∀ i, i ≤ D x → R (bf_up P i x) ∧ D (bf_up P i x) + i = D x := by
  intro i
  induction i with
  | zero => intro _; exact ⟨r, rfl⟩
  | succ i ih =>
    intro hi
    have h := ih (by omega)
    have ne : bf_up P i x ≠ s := fun e => by
      have h2 := h.2
      rw [e, T.2.1] at h2
      omega
    have t := T.2.2 _ h.1 ne
    refine ⟨t.1, ?_⟩
    show D (P (bf_up P i x)) + (i + 1) = D x
    omega
theorem bf_upNs {G : Nat → Nat → Prop} {s : Nat} {R : Nat → Prop} {D P : Nat → Nat} (T : bf_T G s R D P) {x : Nat} (r : R x) {i : Nat} (hi : i < D x) : bf_up P i x ≠ s := fun e => by
  have h := (bf_upR T r i (by omega)).2
  rw [e, T.2.1] at h
  omega
theorem bf_upTop {G : Nat → Nat → Prop} {s : Nat} {R : Nat → Prop} {D P : Nat → Nat} (T : bf_T G s R D P) {x : Nat} (r : R x) : bf_up P (D x) x = s := by
  have h := bf_upR T r (D x) (Nat.le_refl _)
  exact bf_root T h.1 (by omega)
theorem bf_upeq {G : Nat → Nat → Prop} {s : Nat} {R : Nat → Prop} {D P P' : Nat → Nat} (T : bf_T G s R D P) (h : ∀ x, R x → P' x = P x) {x : Nat} (r : R x) : ∀ i, i ≤ D x → bf_up P' i x = bf_up P i x := by
  intro i
  induction i with
  | zero => intro _; rfl
  | succ i ih =>
    intro hi
    show P' (bf_up P' i x) = P (bf_up P i x)
    rw [ih (by omega)]
    exact h _ (bf_upR T r i (by omega)).1
theorem bf_upW {E : Nat → Nat → Prop} {P : Nat → Nat} {x : Nat} : ∀ i, (∀ j, j < i → E (bf_up P j x) (P (bf_up P j x))) → gr_W E i x (bf_up P i x) := by
  intro i
  induction i with
  | zero => intro _; rfl
  | succ i ih => intro h; exact ⟨bf_up P i x, ih (fun j hj => h j (by omega)), h i (by omega)⟩
theorem bf_reach {G : Nat → Nat → Prop} {s : Nat} {R : Nat → Prop} {D P : Nat → Nat} (T : bf_T G s R D P) (F : bf_F G R D) : ∀ {i x : Nat}, gr_W G i s x → R x ∧ D x ≤ i := by
  intro i
  induction i with
  | zero =>
    intro x w
    have w : s = x := w
    rw [← w]
    exact ⟨T.1, by rw [T.2.1]; exact Nat.le_refl _⟩
  | succ i ih =>
    intro x w
    obtain ⟨z, w, e⟩ := w
    have h := ih w
    have f := F z x h.1 e
    exact ⟨f.1, by omega⟩
/-- a common ancestor of the two ends of an edge outside the tree gives a way round -/
theorem bf_meet {G E : Nat → Nat → Prop} (sE : ∀ x y, E x y → E y x) {s : Nat} {R : Nat → Prop} {D P : Nat → Nat} (T : bf_T G s R D P) {u v i j : Nat} (ru : R u) (rv : R v) (nt : ¬ bf_TE s P u v) (hi : i ≤ D u) (hj : j ≤ D v) (e : bf_up P i u = bf_up P j v) (hu : ∀ l, l < D u → E (bf_up P l u) (P (bf_up P l u))) (hv : ∀ l, l < D v → E (bf_up P l v) (P (bf_up P l v))) : gr_W (gr_del E u v) (i + j) u v := by
  have nd : ∀ y, y ≠ s → ¬ gr_pr u v y (P y) := by
    intro y ys p
    rcases p with ⟨a, b⟩ | ⟨a, b⟩
    · exact nt (Or.inl ⟨by rw [← a]; exact ys, by rw [← a]; exact b⟩)
    · exact nt (Or.inr ⟨by rw [← a]; exact ys, by rw [← a]; exact b⟩)
  have w1 : gr_W (gr_del E u v) i u (bf_up P i u) := bf_upW i (fun l hl => ⟨hu l (by omega), nd _ (bf_upNs T ru (by omega))⟩)
  have w2 : gr_W (gr_del E u v) j v (bf_up P j v) := bf_upW j (fun l hl => ⟨hv l (by omega), nd _ (bf_upNs T rv (by omega))⟩)
  rw [e] at w1
  exact gr_app w1 (gr_sym (gr_dels sE u v) w2)
theorem bf_par {G : Nat → Nat → Prop} (sG : ∀ x y, G x y → G y x) {s : Nat} {R : Nat → Prop} {D P : Nat → Nat} (T : bf_T G s R D P) {u : Nat} (ru : R u) : ∀ l, l < D u → G (bf_up P l u) (P (bf_up P l u)) := by
  intro l hl
  have h := bf_upR T ru l (by omega)
  exact sG _ _ (T.2.2 _ h.1 (bf_upNs T ru hl)).2.2
/-- a closed way through s has an edge outside the tree -/
theorem bf_find {G : Nat → Nat → Prop} (sG : ∀ x y, G x y → G y x) {s : Nat} {R : Nat → Prop} {D P : Nat → Nat} (T : bf_T G s R D P) (F : bf_F G R D) {b k : Nat} (sb : G s b) (ne : s ≠ b) (w : gr_W (gr_del G s b) k s b) : ∃ u v, R u ∧ R v ∧ G u v ∧ u ≠ v ∧ ¬ bf_TE s P u v ∧ D u + D v ≤ k := by
  by_cases ex : ∃ u v, R u ∧ R v ∧ G u v ∧ u ≠ v ∧ ¬ bf_TE s P u v ∧ D u + D v ≤ k
  · exact ex
  · exfalso
    have al : ∀ u v, R u → R v → G u v → u ≠ v → D u + D v ≤ k → bf_TE s P u v := by
      intro u v h1 h2 h3 h4 h5
      by_cases t : bf_TE s P u v
      · exact t
      · exact absurd ⟨u, v, h1, h2, h3, h4, t, h5⟩ ex
    have kp : 0 < k := by
      cases k with
      | zero => exact absurd w ne
      | succ k => omega
    have rb := bf_reach T F (gr_1 sb)
    have pb : P b = s := by
      rcases al s b T.1 rb.1 sb ne (by have := T.2.1; omega) with h | h
      · exact absurd rfl h.1
      · exact h.2
    have cl : ∀ i x, i ≤ k → gr_W (gr_del G s b) i s x → gr_W G (k - i) x b → ¬ ∃ l, l ≤ D x ∧ bf_up P l x = b := by
      intro i
      induction i with
      | zero =>
        intro x _ w _ h
        have w : s = x := w
        obtain ⟨l, hl, e⟩ := h
        rw [← w, T.2.1] at hl
        have : l = 0 := by omega
        rw [this, ← w] at e
        exact ne e
      | succ i ih =>
        intro x hi w v h
        obtain ⟨z, w, d⟩ := w
        have vz : gr_W G (k - i) z b := by
          have := gr_cons d.1 v
          rw [show k - (i + 1) + 1 = k - i by omega] at this
          exact this
        have nz := ih z (by omega) w vz
        have wz := bf_reach T F (gr_mono (fun _ _ q => q.1) w)
        have wx := bf_reach T F (gr_cons sb (gr_sym sG v))
        by_cases zx : z = x
        · rw [zx] at nz; exact nz h
        · obtain ⟨l, hl, e⟩ := h
          rcases al z x wz.1 wx.1 d.1 zx (by omega) with ⟨q1, q2⟩ | ⟨q1, q2⟩
          · have t := T.2.2 z wz.1 q1
            rw [q2] at t
            exact nz ⟨l + 1, by omega, by rw [bf_upS, q2]; exact e⟩
          · have t := T.2.2 x wx.1 q1
            rw [q2] at t
            cases l with
            | zero =>
              have e : x = b := e
              rw [e, pb] at q2
              exact d.2 (Or.inl ⟨q2.symm, e⟩)
            | succ l =>
              rw [bf_upS, q2] at e
              exact nz ⟨l, by omega, e⟩
    exact cl k b (Nat.le_refl _) w (by rw [Nat.sub_self]; rfl) ⟨0, Nat.zero_le _, rfl⟩
/-- the ways of an edge on a shortest closed way meet only in s -/
theorem bf_only {G : Nat → Nat → Prop} (sG : ∀ x y, G x y → G y x) {s : Nat} {R : Nat → Prop} {D P : Nat → Nat} (T : bf_T G s R D P) {u v k : Nat} (ru : R u) (rv : R v) (uv : G u v) (ne : u ≠ v) (nt : ¬ bf_TE s P u v) (min : ∀ a b l, a ≠ b → G a b → gr_W (gr_del G a b) l a b → k ≤ l) (hk : D u + D v ≤ k) : ∀ i j, i ≤ D u → j ≤ D v → bf_up P i u = bf_up P j v → bf_up P i u = s := by
  intro i j hi hj e
  have w := bf_meet sG T ru rv nt hi hj e (bf_par sG T ru) (bf_par sG T rv)
  have := min u v _ ne uv w
  rw [show i = D u by omega]
  exact bf_upTop T ru
/-! the sweep's invariant: k vertices of the queue done, and of the k-th the neighbours below j -/
def bf_cm (s : Nat) (D P : Nat → Nat) (u v : Nat) : Prop := ∃ i j, i ≤ D u ∧ j ≤ D v ∧ bf_up P i u = bf_up P j v ∧ bf_up P i u ≠ s
def bf_ok (s : Nat) (D P : Nat → Nat) (rs u v : Nat) : Prop := u ≠ v → ¬ bf_TE s P u v → ¬ bf_cm s D P u v → rs ≠ 0 ∧ rs ≤ D u + D v + 1
def bf_A (G : Nat → Nat → Prop) (n s : Nat) (R : Nat → Prop) (D P Q : Nat → Nat) (qd : Nat) : Prop := bf_T G s R D P ∧ (∀ v, R v → ∃ i, i < qd ∧ Q i = v) ∧ (∀ i, i < qd → R (Q i) ∧ D (Q i) ≤ i) ∧ (∀ i j, i ≤ j → j < qd → D (Q i) ≤ D (Q j)) ∧ ct_c R n = qd
def bf_J6 (k : Nat) (R : Nat → Prop) (D Q : Nat → Nat) (qd : Nat) : Prop := ∀ v, R v → k < qd → D v ≤ D (Q k) + 1
def bf_J7 (G : Nat → Nat → Prop) (s k j : Nat) (R : Nat → Prop) (D P Q : Nat → Nat) (qd rs : Nat) : Prop := ∀ i v, i < qd → (i < k ∨ (i = k ∧ v < j)) → G (Q i) v → R v ∧ D v ≤ D (Q i) + 1 ∧ bf_ok s D P rs (Q i) v
def bf_J (G : Nat → Nat → Prop) (n s k j : Nat) (R : Nat → Prop) (D P Q : Nat → Nat) (qd rs : Nat) : Prop := bf_A G n s R D P Q qd ∧ bf_J6 k R D Q qd ∧ bf_J7 G s k j R D P Q qd rs
def bf_le (rs rs' : Nat) : Prop := rs ≠ 0 → rs' ≠ 0 ∧ rs' ≤ rs
theorem bf_ler (r : Nat) : bf_le r r := fun h => ⟨h, Nat.le_refl _⟩
theorem bf_let {a b c : Nat} (h : bf_le a b) (g : bf_le b c) : bf_le a c := fun z => by
  have h1 := h z
  have h2 := g h1.1
  exact ⟨h2.1, by omega⟩
theorem bf_okmono {s : Nat} {D P : Nat → Nat} {rs rs' u v : Nat} (l : bf_le rs rs') (h : bf_ok s D P rs u v) : bf_ok s D P rs' u v := fun a b c => by
  have h1 := h a b c
  have h2 := l h1.1
  exact ⟨h2.1, by omega⟩
theorem bf_oktr {G : Nat → Nat → Prop} {s : Nat} {R : Nat → Prop} {D P D' P' : Nat → Nat} (T : bf_T G s R D P) (hP : ∀ x, R x → P' x = P x) (hD : ∀ x, R x → D' x = D x) {rs u v : Nat} (ru : R u) (rv : R v) (h : bf_ok s D P rs u v) : bf_ok s D' P' rs u v := by
  intro a b c
  rw [hD u ru, hD v rv]
  refine h a (fun t => b ?_) (fun t => c ?_)
  · unfold bf_TE
    rw [hP u ru, hP v rv]
    exact t
  · obtain ⟨i, j, hi, hj, e, ns⟩ := t
    refine ⟨i, j, by rw [hD u ru]; exact hi, by rw [hD v rv]; exact hj, ?_, ?_⟩
    · rw [bf_upeq T hP ru i hi, bf_upeq T hP rv j hj]; exact e
    · rw [bf_upeq T hP ru i hi]; exact ns
theorem bf_init {G : Nat → Nat → Prop} {n s : Nat} (hs : s < n) (P Q : Nat → Nat) (hQ : Q 0 = s) (rs : Nat) : bf_J G n s 0 0 (fun x => x = s) (fun _ => 0) P Q 1 rs := by
  refine ⟨⟨⟨rfl, rfl, fun v h ne => absurd h ne⟩, fun v h => ⟨0, by omega, by rw [hQ]; exact h.symm⟩, fun i hi => ⟨by rw [show i = 0 by omega]; exact hQ, Nat.zero_le _⟩, fun i j _ _ => Nat.le_refl _, ct_one hs (fun _ _ => Iff.rfl)⟩, fun v _ _ => Nat.zero_le _, fun i v _ h _ => ?_⟩
  rcases h with h | h <;> omega
theorem bf_skip {G : Nat → Nat → Prop} {n s k j : Nat} {R : Nat → Prop} {D P Q : Nat → Nat} {qd rs : Nat} (J : bf_J G n s k j R D P Q qd rs) (ng : ¬ G (Q k) j) : bf_J G n s k (j + 1) R D P Q qd rs := by
  refine ⟨J.1, J.2.1, fun i v hi h g => ?_⟩
  rcases h with h | ⟨h1, h2⟩
  · exact J.2.2 i v hi (Or.inl h) g
  · by_cases e : v = j
    · rw [h1, e] at g; exact absurd g ng
    · exact J.2.2 i v hi (Or.inr ⟨h1, by omega⟩) g
theorem bf_old {G : Nat → Nat → Prop} {n s k j : Nat} {R : Nat → Prop} {D P Q : Nat → Nat} {qd rs rs' : Nat} (J : bf_J G n s k j R D P Q qd rs) (hk : k < qd) (rj : R j) (l : bf_le rs rs') (o : bf_ok s D P rs' (Q k) j) : bf_J G n s k (j + 1) R D P Q qd rs' := by
  refine ⟨J.1, J.2.1, fun i v hi h g => ?_⟩
  have old : (i < k ∨ (i = k ∧ v < j)) → R v ∧ D v ≤ D (Q i) + 1 ∧ bf_ok s D P rs' (Q i) v := fun h => by
    have t := J.2.2 i v hi h g
    exact ⟨t.1, t.2.1, bf_okmono l t.2.2⟩
  rcases h with h | ⟨h1, h2⟩
  · exact old (Or.inl h)
  · by_cases e : v = j
    · rw [h1, e]
      exact ⟨rj, J.2.1 j rj hk, o⟩
    · exact old (Or.inr ⟨h1, by omega⟩)
theorem bf_room {G : Nat → Nat → Prop} {n s k j : Nat} {R : Nat → Prop} {D P Q : Nat → Nat} {qd rs : Nat} (J : bf_J G n s k j R D P Q qd rs) (hj : j < n) (nr : ¬ R j) : qd < n := by
  have h := ct_lt hj nr
  rw [J.1.2.2.2.2] at h
  exact h
theorem bf_qdle {G : Nat → Nat → Prop} {n s k j : Nat} {R : Nat → Prop} {D P Q : Nat → Nat} {qd rs : Nat} (J : bf_J G n s k j R D P Q qd rs) : qd ≤ n := by
  have h := ct_le R n
  rw [J.1.2.2.2.2] at h
  exact h
theorem bf_push {G : Nat → Nat → Prop} {n s k j : Nat} {R : Nat → Prop} {D P Q : Nat → Nat} {qd rs : Nat} (J : bf_J G n s k j R D P Q qd rs) (hk : k < qd) (hj : j < n) (g : G (Q k) j) (nr : ¬ R j) : bf_J G n s k (j + 1) (fun x => R x ∨ x = j) (fun x => if x = j then D (Q k) + 1 else D x) (fun x => if x = j then Q k else P x) (fun i => if i = qd then j else Q i) (qd + 1) rs := by
  obtain ⟨⟨T, A2, A3, A4, A5⟩, J6, J7⟩ := J
  have nj : ∀ x, R x → x ≠ j := fun x r e => nr (by rw [← e]; exact r)
  have hD : ∀ x, R x → (if x = j then D (Q k) + 1 else D x) = D x := fun x r => if_neg (nj x r)
  have hP : ∀ x, R x → (if x = j then Q k else P x) = P x := fun x r => if_neg (nj x r)
  have hQ : ∀ i, i < qd → (if i = qd then j else Q i) = Q i := fun i hi => if_neg (by omega)
  have rk := A3 k hk
  have jj : (if j = j then D (Q k) + 1 else D j) = D (Q k) + 1 := if_pos rfl
  have jp : (if j = j then Q k else P j) = Q k := if_pos rfl
  have qq : (if qd = qd then j else Q qd) = j := if_pos rfl
  refine ⟨⟨⟨Or.inl T.1, ?_, ?_⟩, ?_, ?_, ?_, ?_⟩, ?_, ?_⟩
  · show (if s = j then D (Q k) + 1 else D s) = 0
    rw [hD s T.1]; exact T.2.1
  · intro x rx ns
    dsimp only
    rcases rx with r | e
    · have t := T.2.2 x r ns
      rw [hP x r, hD x r, hD _ t.1]
      exact ⟨Or.inl t.1, t.2.1, t.2.2⟩
    · rw [e, jj, jp, hD _ rk.1]
      exact ⟨Or.inl rk.1, rfl, g⟩
  · intro x rx
    rcases rx with r | e
    · obtain ⟨i, hi, q⟩ := A2 x r
      exact ⟨i, by omega, by dsimp only; rw [hQ i hi]; exact q⟩
    · exact ⟨qd, by omega, by dsimp only; rw [qq]; exact e.symm⟩
  · intro i hi
    dsimp only
    by_cases e : i = qd
    · rw [e, qq, jj]
      exact ⟨Or.inr rfl, by omega⟩
    · have h := A3 i (by omega)
      rw [hQ i (by omega), hD _ h.1]
      exact ⟨Or.inl h.1, h.2⟩
  · intro a b hab hb
    dsimp only
    by_cases e : b = qd
    · rw [e, qq, jj]
      by_cases f : a = qd
      · rw [f, qq, jj]; exact Nat.le_refl _
      · have h := A3 a (by omega)
        rw [hQ a (by omega), hD _ h.1]
        exact J6 _ h.1 hk
    · rw [hQ b (by omega), hQ a (by omega), hD _ (A3 b (by omega)).1, hD _ (A3 a (by omega)).1]
      exact A4 a b hab (by omega)
  · rw [ct_ins hj nr (fun _ _ => Iff.rfl), A5]
  · intro x rx _
    dsimp only
    rw [hQ k hk, hD _ rk.1]
    rcases rx with r | e
    · rw [hD x r]; exact J6 x r hk
    · rw [e, jj]; exact Nat.le_refl _
  · intro i v hi h gv
    dsimp only at gv ⊢
    have ik : i < qd := by rcases h with h | h <;> omega
    rw [hQ i ik] at gv ⊢
    have ri := (A3 i ik).1
    by_cases e : i = k ∧ v = j
    · rw [e.1, e.2, jj, hD _ rk.1]
      refine ⟨Or.inr rfl, Nat.le_refl _, fun _ nt _ => absurd ?_ nt⟩
      exact Or.inr ⟨fun z => nr (by rw [z]; exact T.1), jp⟩
    · have t := J7 i v ik (by
        rcases h with h | ⟨h1, h2⟩
        · exact Or.inl h
        · exact Or.inr ⟨h1, by
            have : v ≠ j := fun z => e ⟨h1, z⟩
            omega⟩) gv
      rw [hD v t.1, hD _ ri]
      exact ⟨Or.inl t.1, t.2.1, bf_oktr T hP hD ri t.1 t.2.2⟩
theorem bf_next {G : Nat → Nat → Prop} {n s k : Nat} {R : Nat → Prop} {D P Q : Nat → Nat} {qd rs : Nat} (hG : ∀ x y, G x y → y < n) (J : bf_J G n s k n R D P Q qd rs) : bf_J G n s (k + 1) 0 R D P Q qd rs := by
  refine ⟨J.1, fun v r h => ?_, fun i v hi h g => ?_⟩
  · have h1 := J.2.1 v r (by omega)
    have h2 := J.1.2.2.2.1 k (k + 1) (by omega) h
    omega
  · rcases h with h | h
    · by_cases e : i = k
      · exact J.2.2 i v hi (Or.inr ⟨e, hG _ _ g⟩) g
      · exact J.2.2 i v hi (Or.inl (by omega)) g
    · omega
theorem bf_fin {G : Nat → Nat → Prop} {n s k j : Nat} {R : Nat → Prop} {D P Q : Nat → Nat} {qd rs : Nat} (J : bf_J G n s k j R D P Q qd rs) (hk : qd ≤ k) : bf_T G s R D P ∧ bf_F G R D ∧ ∀ u v, R u → G u v → bf_ok s D P rs u v := by
  have f : ∀ u v, R u → G u v → R v ∧ D v ≤ D u + 1 ∧ bf_ok s D P rs u v := by
    intro u v r g
    obtain ⟨i, hi, e⟩ := J.1.2.1 u r
    rw [← e] at g ⊢
    exact J.2.2 i v hi (Or.inl (by omega)) g
  exact ⟨J.1.1, fun u v r g => ⟨(f u v r g).1, (f u v r g).2.1⟩, fun u v r g => (f u v r g).2.2⟩
/-- what a finished sweep has found -/
theorem bf_got {G : Nat → Nat → Prop} (sG : ∀ x y, G x y → G y x) {s : Nat} {R : Nat → Prop} {D P : Nat → Nat} {rs : Nat} (h : bf_T G s R D P ∧ bf_F G R D ∧ ∀ u v, R u → G u v → bf_ok s D P rs u v) {b k : Nat} (sb : G s b) (ne : s ≠ b) (w : gr_W (gr_del G s b) k s b) (min : ∀ a b l, a ≠ b → G a b → gr_W (gr_del G a b) l a b → k ≤ l) : rs ≠ 0 ∧ rs ≤ k + 1 := by
  obtain ⟨T, F, O⟩ := h
  obtain ⟨u, v, ru, rv, uv, nuv, nt, d⟩ := bf_find sG T F sb ne w
  have on := bf_only sG T ru rv uv nuv nt min d
  have o := O u v ru uv nuv nt (fun ⟨i, j, hi, hj, e, ns⟩ => ns (on i j hi hj e))
  exact ⟨o.1, by omega⟩
end
section
/-! ===== labels: joining parts (pure) ===== -/
def uf_I (n : Nat) (L : Nat → Nat) (E : Nat → Nat → Prop) (c : Nat) : Prop := (∀ x, x < n → L x < n) ∧ (∀ x, x < n → L (L x) = L x) ∧ (∀ x y, x < n → y < n → (L x = L y ↔ gr_C E x y)) ∧ ct_c (fun x => L x = x) n + c = n
def uf_m (L : Nat → Nat) (a b : Nat) : Nat → Nat := fun x => if L x = b then a else L x
theorem uf_mt {L : Nat → Nat} {a b x : Nat} (h : L x = b) : uf_m L a b x = a := if_pos h
theorem uf_mf {L : Nat → Nat} {a b x : Nat} (h : ¬ L x = b) : uf_m L a b x = L x := if_neg h
theorem uf_congr {n : Nat} {L : Nat → Nat} {E F : Nat → Nat → Prop} {c : Nat} (h : ∀ x y, E x y ↔ F x y) (I : uf_I n L E c) : uf_I n L F c :=
  ⟨I.1, I.2.1, fun x y hx hy => ⟨fun e => gr_Cm (fun a b => (h a b).mp) ((I.2.2.1 x y hx hy).mp e), fun e => (I.2.2.1 x y hx hy).mpr (gr_Cm (fun a b => (h a b).mpr) e)⟩, I.2.2.2⟩
theorem uf_lab {n : Nat} {L L' : Nat → Nat} {E : Nat → Nat → Prop} {c : Nat} (h : ∀ x, x < n → L' x = L x) (I : uf_I n L E c) : uf_I n L' E c := by
  obtain ⟨i1, i2, i3, i4⟩ := I
  refine ⟨fun x hx => by rw [h x hx]; exact i1 x hx, fun x hx => by rw [h x hx, h _ (i1 x hx)]; exact i2 x hx, fun x y hx hy => by rw [h x hx, h y hy]; exact i3 x y hx hy, ?_⟩
  rw [ct_congr (Q := fun x => L x = x) (fun i hi => by rw [h i hi])]
  exact i4
theorem uf_0 (n : Nat) : uf_I n (fun x => x) (fun _ _ => False) 0 := by
  refine ⟨fun x hx => hx, fun x _ => rfl, fun x y _ _ => ⟨fun e => by have e : x = y := e; rw [e]; exact gr_Cr y, fun c => ?_⟩, ?_⟩
  · obtain ⟨k, w⟩ := c
    cases k with
    | zero => exact w
    | succ k => obtain ⟨z, _, f⟩ := w; exact f.elim
  · rw [ct_all (fun _ _ => rfl)]; rfl
theorem uf_same {n : Nat} {L : Nat → Nat} {E : Nat → Nat → Prop} {c u v : Nat} (s : ∀ x y, E x y → E y x) (I : uf_I n L E c) (hu : u < n) (hv : v < n) (e : L u = L v) : uf_I n L (gr_add E u v) c := by
  obtain ⟨i1, i2, i3, i4⟩ := I
  have uv := (i3 u v hu hv).mp e
  refine ⟨i1, i2, fun x y hx hy => ⟨fun h => gr_Cm (fun _ _ z => Or.inl z) ((i3 x y hx hy).mp h), fun h => (i3 x y hx hy).mpr ?_⟩, i4⟩
  rcases gr_addC s h with h | ⟨h1, h2⟩ | ⟨h1, h2⟩
  · exact h
  · exact gr_Ct h1 (gr_Ct uv h2)
  · exact gr_Ct h1 (gr_Ct (gr_Cs s uv) h2)
theorem uf_merge {n : Nat} {L : Nat → Nat} {E : Nat → Nat → Prop} {c u v : Nat} (s : ∀ x y, E x y → E y x) (I : uf_I n L E c) (hu : u < n) (hv : v < n) (ne : L u ≠ L v) : uf_I n (uf_m L (L u) (L v)) (gr_add E u v) (c + 1) := by
  obtain ⟨i1, i2, i3, i4⟩ := I
  have up : ∀ {x y : Nat}, gr_C E x y → gr_C (gr_add E u v) x y := fun h => gr_Cm (fun _ _ z => Or.inl z) h
  have uv : gr_C (gr_add E u v) u v := gr_Ce (Or.inr (Or.inl ⟨rfl, rfl⟩))
  have vu : gr_C (gr_add E u v) v u := gr_Ce (Or.inr (Or.inr ⟨rfl, rfl⟩))
  refine ⟨fun x hx => ?_, fun x hx => ?_, fun x y hx hy => ⟨fun h => ?_, fun h => ?_⟩, ?_⟩
  · by_cases e : L x = L v
    · rw [uf_mt e]; exact i1 u hu
    · rw [uf_mf e]; exact i1 x hx
  · by_cases e : L x = L v
    · rw [uf_mt e]
      have q : ¬ L (L u) = L v := by rw [i2 u hu]; exact ne
      rw [uf_mf q]; exact i2 u hu
    · rw [uf_mf e]
      have q : ¬ L (L x) = L v := by rw [i2 x hx]; exact e
      rw [uf_mf q]; exact i2 x hx
  · by_cases e : L x = L v
    · by_cases f : L y = L v
      · exact up ((i3 x y hx hy).mp (e.trans f.symm))
      · rw [uf_mt e, uf_mf f] at h
        exact gr_Ct (up ((i3 x v hx hv).mp e)) (gr_Ct vu (up ((i3 u y hu hy).mp h)))
    · by_cases f : L y = L v
      · rw [uf_mf e, uf_mt f] at h
        exact gr_Ct (up ((i3 x u hx hu).mp h)) (gr_Ct uv (up ((i3 v y hv hy).mp f.symm)))
      · rw [uf_mf e, uf_mf f] at h
        exact up ((i3 x y hx hy).mp h)
  · rcases gr_addC s h with h | ⟨h1, h2⟩ | ⟨h1, h2⟩
    · have q := (i3 x y hx hy).mpr h
      by_cases e : L x = L v
      · rw [uf_mt e, uf_mt (q.symm.trans e)]
      · rw [uf_mf e, uf_mf (fun z => e (q.trans z))]; exact q
    · have q1 := (i3 x u hx hu).mpr h1
      have q2 := (i3 v y hv hy).mpr h2
      rw [uf_mf (fun z => ne (q1.symm.trans z)), uf_mt q2.symm]; exact q1
    · have q1 := (i3 x v hx hv).mpr h1
      have q2 := (i3 u y hu hy).mpr h2
      rw [uf_mt q1, uf_mf (fun z => ne (q2.trans z))]; exact q2
  · have bv := i1 v hv
    have e := ct_ins (P := fun x => uf_m L (L u) (L v) x = x) (Q := fun x => L x = x) (n := n) bv (fun z => by
      rw [uf_mt (i2 v hv)] at z
      exact ne z) (fun i hi => by
      constructor
      · intro h
        by_cases q : i = L v
        · exact Or.inr q
        · exact Or.inl (by rw [uf_mf (by rw [h]; exact q)]; exact h)
      · intro h
        rcases h with h | h
        · by_cases q : L i = L v
          · rw [uf_mt q] at h
            rw [← h, i2 u hu] at q
            exact absurd q ne
          · rw [uf_mf q] at h; exact h
        · rw [h]; exact i2 v hv)
    omega
theorem uf_cle {n : Nat} {L L' : Nat → Nat} {E E' : Nat → Nat → Prop} {c c' : Nat} (I : uf_I n L E c) (I' : uf_I n L' E' c') (h : ∀ x y, x < n → y < n → (gr_C E' x y → gr_C E x y)) : ct_c (fun x => L x = x) n ≤ ct_c (fun x => L' x = x) n := by
  refine ct_inj L' (fun i hi _ => ⟨I'.1 i hi, I'.2.1 i hi⟩) (fun i j hi hj pi pj e => ?_)
  have q := (I.2.2.1 i j hi hj).mpr (h i j hi hj ((I'.2.2.1 i j hi hj).mp e))
  exact pi.symm.trans (q.trans pj)
theorem uf_count {n : Nat} {L L' : Nat → Nat} {E E' : Nat → Nat → Prop} {c c' : Nat} (I : uf_I n L E c) (I' : uf_I n L' E' c') (h : ∀ x y, x < n → y < n → (gr_C E x y ↔ gr_C E' x y)) : c = c' := by
  have a := uf_cle I I' (fun x y hx hy => (h x y hx hy).mpr)
  have b := uf_cle I' I (fun x y hx hy => (h x y hx hy).mp)
  have i4 := I.2.2.2
  have j4 := I'.2.2.2
  omega
/-! sums -/
def sm_r (f : Nat → Nat) : Nat → Nat
  | 0 => 0
  | n + 1 => sm_r f n + f n
theorem sm_s (f : Nat → Nat) (n : Nat) : sm_r f (n + 1) = sm_r f n + f n := rfl
theorem sm_congr {f g : Nat → Nat} {n : Nat} (h : ∀ i, i < n → f i = g i) : sm_r f n = sm_r g n := by
  induction n with
  | zero => rfl
  | succ n ih => rw [sm_s, sm_s, ih (fun i hi => h i (by omega)), h n (by omega)]
theorem sm_add (f g : Nat → Nat) (n : Nat) : sm_r (fun i => f i + g i) n = sm_r f n + sm_r g n := by
  induction n with
  | zero => rfl
  | succ n ih => rw [sm_s, sm_s, sm_s, ih]; omega
theorem sm_fub (f : Nat → Nat → Nat) (a b : Nat) : sm_r (fun i => sm_r (fun j => f i j) b) a = sm_r (fun j => sm_r (fun i => f i j) a) b := by
  induction a with
  | zero =>
    induction b with
    | zero => rfl
    | succ b ih => rw [sm_s, ← ih]; rfl
  | succ a ih =>
    rw [sm_s, ih]
    have e : sm_r (fun j => sm_r (fun i => f i j) (a + 1)) b = sm_r (fun j => sm_r (fun i => f i j) a + f a j) b := sm_congr (fun j _ => rfl)
    rw [e, sm_add]
theorem sm_ext {f : Nat → Nat} {n m : Nat} (h : n ≤ m) (hf : ∀ i, n ≤ i → i < m → f i = 0) : sm_r f m = sm_r f n := by
  induction m with
  | zero => rw [show n = 0 by omega]
  | succ m ih =>
    by_cases e : n = m + 1
    · rw [e]
    · rw [sm_s, hf m (by omega) (by omega), ih (by omega) (fun i a b => hf i a (by omega))]; omega
/-- the sum of the edges by rows below the diagonal, and above it -/
def sm_Y (m : Nat → Nat → Nat) (n : Nat) : Nat := sm_r (fun x => sm_r (fun y => m x y) (x + 1)) n
def sm_X (m : Nat → Nat → Nat) (n : Nat) : Nat := sm_r (fun u => sm_r (fun v => if u ≤ v then m u v else 0) n) n
theorem sm_XY {m : Nat → Nat → Nat} (s : ∀ u v, m u v = m v u) (n : Nat) : sm_X m n = sm_Y m n := by
  unfold sm_X sm_Y
  rw [sm_fub]
  refine sm_congr (fun y hy => ?_)
  rw [sm_ext (n := y + 1) (m := n) (by omega) (fun i a b => if_neg (by omega))]
  refine sm_congr (fun i hi => ?_)
  rw [if_pos (by omega)]
  exact s i y
/-! surplus: the edges outside T, done up to row u, column v -/
def us_p (u v a b : Nat) : Prop := (a < u ∧ b < u) ∨ (a = u ∧ b < v) ∨ (b = u ∧ a < v)
/-- the edges (no loops) that were done -/
def us_E (m : Nat → Nat → Nat) (T u v : Nat) : Nat → Nat → Prop := fun a b => a ≠ b ∧ gr_E m T a b ∧ us_p u v a b
/-- the number of edges where both ends stay -/
noncomputable def us_k (m : Nat → Nat → Nat) (T u v : Nat) : Nat := if T.testBit u = true then 0 else if T.testBit v = true then 0 else m u v
theorem us_k0 {m : Nat → Nat → Nat} {T u v : Nat} (h : ¬ (T.testBit u = false ∧ T.testBit v = false)) : us_k m T u v = 0 := by
  unfold us_k
  by_cases a : T.testBit u = true
  · rw [if_pos a]
  · by_cases b : T.testBit v = true
    · rw [if_neg a, if_pos b]
    · exact absurd ⟨mk_ff a, mk_ff b⟩ h
theorem us_k1 {m : Nat → Nat → Nat} {T u v : Nat} (h : T.testBit u = false ∧ T.testBit v = false) : us_k m T u v = m u v := by
  unfold us_k
  rw [if_neg (mk_tf h.1), if_neg (mk_tf h.2)]
end
section
/-! ===== surplus, step by step (pure) ===== -/
theorem us_ps {u v a b : Nat} (h : us_p u v a b) : us_p u v b a := by
  rcases h with h | h | h
  · exact Or.inl ⟨h.2, h.1⟩
  · exact Or.inr (Or.inr h)
  · exact Or.inr (Or.inl h)
theorem us_Es {n : Nat} {m : Nat → Nat → Nat} (g : gr_G n m) (T u v : Nat) : ∀ x y, us_E m T u v x y → us_E m T u v y x := fun x y h => ⟨fun e => h.1 e.symm, gr_Es g T x y h.2.1, us_ps h.2.2⟩
/-- one more place: the old ones or the new pair -/
theorem us_p1 {u v a b : Nat} : us_p u (v + 1) a b ↔ (us_p u v a b ∨ gr_pr u v a b) := by
  unfold us_p gr_pr
  constructor
  · intro h
    rcases h with h | ⟨h1, h2⟩ | ⟨h1, h2⟩
    · exact Or.inl (Or.inl h)
    · by_cases e : b = v
      · exact Or.inr (Or.inl ⟨h1, e⟩)
      · exact Or.inl (Or.inr (Or.inl ⟨h1, by omega⟩))
    · by_cases e : a = v
      · exact Or.inr (Or.inr ⟨e, h1⟩)
      · exact Or.inl (Or.inr (Or.inr ⟨h1, by omega⟩))
  · intro h
    rcases h with (h | h | h) | h | h
    · exact Or.inl h
    · exact Or.inr (Or.inl ⟨h.1, by omega⟩)
    · exact Or.inr (Or.inr ⟨h.1, by omega⟩)
    · exact Or.inr (Or.inl ⟨h.1, by omega⟩)
    · exact Or.inr (Or.inr ⟨h.2, by omega⟩)
theorem us_p2 {u a b : Nat} : us_p u (u + 1) a b ↔ us_p (u + 1) 0 a b := by
  unfold us_p
  omega
noncomputable def us_s (m : Nat → Nat → Nat) (T u v : Nat) : Nat := sm_r (fun x => sm_r (fun y => us_k m T x y) (x + 1)) u + sm_r (fun y => us_k m T u y) v
/-- the invariant: L the labels, c the number of joins, ov the surplus so far -/
def us_I (n : Nat) (m : Nat → Nat → Nat) (T u v : Nat) (L : Nat → Nat) (c ov : Nat) : Prop := uf_I n L (us_E m T u v) c ∧ ov + c = us_s m T u v ∧ (ov = 0 → (∀ x, us_p u v x x → ¬ (0 < m x x ∧ T.testBit x = false)) ∧ (∀ a b, a ≠ b → us_p u v a b → gr_E m T a b → m a b ≠ 2) ∧ gr_Br (us_E m T u v)) ∧ (ov ≠ 0 → gr_Cyc m T)
theorem us_lab {n : Nat} {m : Nat → Nat → Nat} {T u v : Nat} {L L' : Nat → Nat} {c ov : Nat} (h : ∀ x, x < n → L' x = L x) (I : us_I n m T u v L c ov) : us_I n m T u v L' c ov := ⟨uf_lab h I.1, I.2⟩
theorem us_0 {n : Nat} {m : Nat → Nat → Nat} (T : Nat) : us_I n m T 0 0 (fun x => x) 0 0 := by
  have no : ∀ a b, ¬ us_p 0 0 a b := fun a b h => by unfold us_p at h; omega
  exact ⟨uf_congr (fun x y => ⟨fun f => f.elim, fun h => no x y h.2.2⟩) (uf_0 n), rfl, fun _ => ⟨fun x h => absurd h (no x x), fun a b _ h => absurd h (no a b), fun a b h => absurd h.2.2 (no a b)⟩, fun h => absurd rfl h⟩
theorem us_row {n : Nat} {m : Nat → Nat → Nat} {T u : Nat} {L : Nat → Nat} {c ov : Nat} (I : us_I n m T u (u + 1) L c ov) : us_I n m T (u + 1) 0 L c ov := by
  obtain ⟨i1, i2, i3, i4⟩ := I
  have e : ∀ x y, us_E m T u (u + 1) x y ↔ us_E m T (u + 1) 0 x y := fun x y => by
    unfold us_E
    rw [us_p2]
  have ee : us_E m T u (u + 1) = us_E m T (u + 1) 0 := funext (fun x => funext (fun y => propext (e x y)))
  refine ⟨uf_congr e i1, ?_, fun h => ?_, i4⟩
  · rw [i2]
    rfl
  · have q := i3 h
    exact ⟨fun x hx => q.1 x (us_p2.mpr hx), fun a b ab hp => q.2.1 a b ab (us_p2.mpr hp), by rw [← ee]; exact q.2.2⟩
theorem us_s1 (m : Nat → Nat → Nat) (T u v : Nat) : us_s m T u (v + 1) = us_s m T u v + us_k m T u v := by
  unfold us_s
  rw [sm_s]
  omega
theorem us_kE {n : Nat} {m : Nat → Nat → Nat} (g : gr_G n m) {T u v a b : Nat} (p : gr_pr u v a b) (h : gr_E m T a b) : 0 < us_k m T u v ∧ us_k m T u v = m u v := by
  rcases p with ⟨rfl, rfl⟩ | ⟨rfl, rfl⟩
  · rw [us_k1 h.2]; exact ⟨h.1, rfl⟩
  · rw [us_k1 ⟨h.2.2, h.2.1⟩]; exact ⟨by rw [g.1]; exact h.1, rfl⟩
theorem us_kpos {m : Nat → Nat → Nat} {T u v : Nat} (h : 0 < us_k m T u v) : T.testBit u = false ∧ T.testBit v = false := by
  by_cases e : T.testBit u = false ∧ T.testBit v = false
  · exact e
  · rw [us_k0 e] at h; omega
/-- no edge here -/
theorem us_none {n : Nat} {m : Nat → Nat → Nat} (g : gr_G n m) {T u v : Nat} {L : Nat → Nat} {c ov : Nat} (I : us_I n m T u v L c ov) (k0 : us_k m T u v = 0) : us_I n m T u (v + 1) L c ov := by
  obtain ⟨i1, i2, i3, i4⟩ := I
  have np : ∀ a b, gr_E m T a b → us_p u (v + 1) a b → us_p u v a b := fun a b h p => by
    rcases us_p1.mp p with p | p
    · exact p
    · have := us_kE g p h; omega
  have e : ∀ x y, us_E m T u v x y ↔ us_E m T u (v + 1) x y := fun x y => ⟨fun h => ⟨h.1, h.2.1, us_p1.mpr (Or.inl h.2.2)⟩, fun h => ⟨h.1, h.2.1, np x y h.2.1 h.2.2⟩⟩
  have ee : us_E m T u v = us_E m T u (v + 1) := funext (fun x => funext (fun y => propext (e x y)))
  refine ⟨uf_congr e i1, by rw [us_s1, k0]; exact i2, fun h => ?_, i4⟩
  have q := i3 h
  exact ⟨fun x hx l => q.1 x (np x x ⟨l.1, l.2, l.2⟩ hx) l, fun a b ab hp he => q.2.1 a b ab (np a b he hp) he, by rw [← ee]; exact q.2.2⟩
/-- a loop -/
theorem us_loop {n : Nat} {m : Nat → Nat → Nat} {T u : Nat} {L : Nat → Nat} {c ov : Nat} (I : us_I n m T u u L c ov) (k0 : 0 < us_k m T u u) : us_I n m T u (u + 1) L c (ov + us_k m T u u) := by
  obtain ⟨i1, i2, i3, i4⟩ := I
  have e : ∀ x y, us_E m T u u x y ↔ us_E m T u (u + 1) x y := fun x y => ⟨fun h => ⟨h.1, h.2.1, us_p1.mpr (Or.inl h.2.2)⟩, fun h => ⟨h.1, h.2.1, by
    rcases us_p1.mp h.2.2 with p | p
    · exact p
    · have := h.1
      unfold gr_pr at p
      omega⟩⟩
  have t := us_kpos k0
  have km := us_k1 (m := m) t
  refine ⟨uf_congr e i1, by rw [us_s1]; omega, fun h => by omega, fun _ => Or.inl ⟨u, by omega, t.1⟩⟩
theorem us_Eadd {n : Nat} {m : Nat → Nat → Nat} (g : gr_G n m) {T u v : Nat} (ne : u ≠ v) (k0 : 0 < us_k m T u v) : ∀ x y, gr_add (us_E m T u v) u v x y ↔ us_E m T u (v + 1) x y := by
  intro x y
  have t := us_kpos k0
  have km := us_k1 (m := m) t
  constructor
  · intro h
    rcases h with h | h
    · exact ⟨h.1, h.2.1, us_p1.mpr (Or.inl h.2.2)⟩
    · refine ⟨?_, ?_, us_p1.mpr (Or.inr h)⟩
      · unfold gr_pr at h; omega
      · rcases h with ⟨rfl, rfl⟩ | ⟨rfl, rfl⟩
        · exact ⟨by omega, t.1, t.2⟩
        · exact ⟨by rw [g.1]; omega, t.2, t.1⟩
  · intro h
    rcases us_p1.mp h.2.2 with p | p
    · exact Or.inl ⟨h.1, h.2.1, p⟩
    · exact Or.inr p
theorem us_np {u v : Nat} (h : v < u) {a b : Nat} (p : gr_pr u v a b) : ¬ us_p u v a b := by
  intro q
  unfold us_p at q
  unfold gr_pr at p
  omega
/-- an edge inside a part -/
theorem us_in {n : Nat} {m : Nat → Nat → Nat} (g : gr_G n m) {T u v : Nat} {L : Nat → Nat} {c ov : Nat} (I : us_I n m T u v L c ov) (h : v < u) (hu : u < n) (k0 : 0 < us_k m T u v) (e : L u = L v) : us_I n m T u (v + 1) L c (ov + us_k m T u v) := by
  obtain ⟨i1, i2, i3, i4⟩ := I
  have t := us_kpos k0
  have km := us_k1 (m := m) t
  refine ⟨uf_congr (us_Eadd g (by omega) k0) (uf_same (us_Es g T u v) i1 hu (by omega) e), by rw [us_s1]; omega, fun z => by omega, fun _ => Or.inr (Or.inr ?_)⟩
  obtain ⟨k, w⟩ := (i1.2.2.1 u v hu (by omega)).mp e
  exact ⟨k, u, v, by omega, ⟨by omega, t.1, t.2⟩, gr_mono (fun x y q => ⟨q.2.1, fun p => us_np h p q.2.2⟩) w⟩
/-- an edge between two parts -/
theorem us_new {n : Nat} {m : Nat → Nat → Nat} (g : gr_G n m) {T u v : Nat} {L : Nat → Nat} {c ov : Nat} (I : us_I n m T u v L c ov) (h : v < u) (hu : u < n) (k0 : 0 < us_k m T u v) (e : L u ≠ L v) : us_I n m T u (v + 1) (uf_m L (L u) (L v)) (c + 1) (ov + (us_k m T u v - 1)) := by
  obtain ⟨i1, i2, i3, i4⟩ := I
  have t := us_kpos k0
  have km := us_k1 (m := m) t
  have ea := us_Eadd g (by omega) k0
  have ee : gr_add (us_E m T u v) u v = us_E m T u (v + 1) := funext (fun x => funext (fun y => propext (ea x y)))
  refine ⟨uf_congr ea (uf_merge (us_Es g T u v) i1 hu (by omega) e), by rw [us_s1]; omega, fun z => ?_, fun z => ?_⟩
  · have q := i3 (by omega)
    refine ⟨fun x hx => ?_, fun a b ab hp he => ?_, ?_⟩
    · rcases us_p1.mp hx with p | p
      · exact q.1 x p
      · unfold gr_pr at p; omega
    · rcases us_p1.mp hp with p | p
      · exact q.2.1 a b ab p he
      · have k2 := us_kE g p he
        rcases p with ⟨rfl, rfl⟩ | ⟨rfl, rfl⟩
        · omega
        · rw [g.1]; omega
    · rw [← ee]
      exact gr_Bradd (us_Es g T u v) q.2.2 (fun cc => e ((i1.2.2.1 u v hu (by omega)).mpr cc))
  · by_cases z2 : ov = 0
    · have b2 := g.2.1 u v
      exact Or.inr (Or.inl ⟨u, v, by omega, by omega, t.1, t.2⟩)
    · exact i4 z2
/-- at the end -/
theorem us_end {n : Nat} {m : Nat → Nat → Nat} (g : gr_G n m) {T : Nat} {L : Nat → Nat} {c ov : Nat} (I : us_I n m T n 0 L c ov) : ov = 0 ↔ ¬ gr_Cyc m T := by
  obtain ⟨i1, i2, i3, i4⟩ := I
  constructor
  · intro z cy
    have q := i3 z
    rcases cy with ⟨u, hu, tu⟩ | ⟨u, v, ne, h2, tu, tv⟩ | ⟨k, a, b, ne, e, w⟩
    · exact q.1 u (Or.inl ⟨(g.2.2 u u hu).1, (g.2.2 u u hu).1⟩) ⟨hu, tu⟩
    · have hp : 0 < m u v := by omega
      have hn := g.2.2 u v hp
      exact q.2.1 u v ne (Or.inl hn) ⟨hp, tu, tv⟩ h2
    · have hE : ∀ x y, gr_E m T x y → us_E m T n 0 x y := fun x y h => by
        have hn := g.2.2 x y h.1
        refine ⟨fun xy => ?_, h, Or.inl hn⟩
        rw [← xy] at h
        exact q.1 x (Or.inl ⟨hn.1, hn.1⟩) ⟨h.1, h.2.1⟩
      exact q.2.2 a b (hE a b e) ⟨k, gr_mono (fun x y h => ⟨hE x y h.1, h.2⟩) w⟩
  · intro nc
    by_cases z : ov = 0
    · exact z
    · exact absurd (i4 z) nc
theorem us_k00 (m : Nat → Nat → Nat) (u v : Nat) : us_k m 0 u v = m u v := us_k1 ⟨Nat.zero_testBit u, Nat.zero_testBit v⟩
theorem us_tot (m : Nat → Nat → Nat) (n : Nat) : us_s m 0 n 0 = sm_Y m n := by
  unfold us_s sm_Y
  show sm_r (fun x => sm_r (fun y => us_k m 0 x y) (x + 1)) n + 0 = _
  rw [Nat.add_zero]
  exact sm_congr (fun x _ => sm_congr (fun y _ => us_k00 m x y))
/-! the component's joins: all ordered pairs by number k = u * n + v -/
theorem ix_div {a b n : Nat} (h : b < n) : (a * n + b) / n = a := by
  rw [Nat.add_comm, Nat.add_mul_div_right _ _ (by omega), Nat.div_eq_of_lt h, Nat.zero_add]
theorem ix_mod {a b n : Nat} (h : b < n) : (a * n + b) % n = b := by
  rw [Nat.add_comm, Nat.add_mul_mod_self_right, Nat.mod_eq_of_lt h]
theorem ix_eq {k a b n : Nat} (h : b < n) (e : a * n + b = k) : a = k / n ∧ b = k % n := by
  rw [← e, ix_div h, ix_mod h]; exact ⟨rfl, rfl⟩
theorem ix_of {k n : Nat} (h : k < n * n) : k / n < n ∧ k % n < n ∧ k / n * n + k % n = k := by
  have n0 : 0 < n := by
    cases n with
    | zero => omega
    | succ n => omega
  exact ⟨Nat.div_lt_of_lt_mul h, Nat.mod_lt _ n0, Nat.div_add_mod' k n⟩
theorem ix_lt {a b n : Nat} (ha : a < n) (hb : b < n) : a * n + b < n * n := by
  have h : (a + 1) * n ≤ n * n := Nat.mul_le_mul_right n ha
  rw [Nat.succ_mul] at h
  omega
def xs_E (m : Nat → Nat → Nat) (n k : Nat) : Nat → Nat → Prop := fun a b => 0 < m a b ∧ (a * n + b < k ∨ b * n + a < k)
theorem xs_s {n : Nat} {m : Nat → Nat → Nat} (g : gr_G n m) (k : Nat) : ∀ x y, xs_E m n k x y → xs_E m n k y x := fun x y h => ⟨by rw [g.1]; exact h.1, h.2.symm⟩
theorem xs_none {n : Nat} {m : Nat → Nat → Nat} (g : gr_G n m) {k : Nat} (z : m (k / n) (k % n) = 0) : ∀ x y, xs_E m n k x y ↔ xs_E m n (k + 1) x y := by
  intro x y
  refine ⟨fun h => ⟨h.1, h.2.imp (fun q => by omega) (fun q => by omega)⟩, fun h => ⟨h.1, ?_⟩⟩
  have hn := g.2.2 x y h.1
  rcases h.2 with q | q
  · by_cases e : x * n + y = k
    · have i := ix_eq hn.2 e
      have := h.1
      rw [i.1, i.2] at this
      omega
    · exact Or.inl (by omega)
  · by_cases e : y * n + x = k
    · have i := ix_eq hn.1 e
      have := h.1
      rw [g.1, i.1, i.2] at this
      omega
    · exact Or.inr (by omega)
theorem xs_add {n : Nat} {m : Nat → Nat → Nat} (g : gr_G n m) {k : Nat} (hk : k < n * n) (z : 0 < m (k / n) (k % n)) : ∀ x y, gr_add (xs_E m n k) (k / n) (k % n) x y ↔ xs_E m n (k + 1) x y := by
  intro x y
  have i := ix_of hk
  constructor
  · intro h
    rcases h with h | ⟨rfl, rfl⟩ | ⟨rfl, rfl⟩
    · exact ⟨h.1, h.2.imp (fun q => by omega) (fun q => by omega)⟩
    · exact ⟨z, Or.inl (by omega)⟩
    · exact ⟨by rw [g.1]; exact z, Or.inr (by omega)⟩
  · intro h
    have hn := g.2.2 x y h.1
    rcases h.2 with q | q
    · by_cases e : x * n + y = k
      · exact Or.inr (Or.inl (ix_eq hn.2 e))
      · exact Or.inl ⟨h.1, Or.inl (by omega)⟩
    · by_cases e : y * n + x = k
      · exact Or.inr (Or.inr ⟨(ix_eq hn.1 e).2, (ix_eq hn.1 e).1⟩)
      · exact Or.inl ⟨h.1, Or.inr (by omega)⟩
theorem xs_0 {n : Nat} (m : Nat → Nat → Nat) : uf_I n (fun x => x) (xs_E m n 0) 0 :=
  uf_congr (fun x y => ⟨fun f => f.elim, fun h => by have := h.2; omega⟩) (uf_0 n)
/-- both sides join as often -/
theorem xs_fin {n : Nat} {m : Nat → Nat → Nat} (g : gr_G n m) {L L' : Nat → Nat} {c c' ov : Nat} (I : uf_I n L (xs_E m n (n * n)) c) (J : us_I n m 0 n 0 L' c' ov) : ov + c = sm_Y m n := by
  have e : c = c' := uf_count I J.1 (fun x y _ _ => ⟨fun h => gr_Cleast (fun x => gr_Cr x) (fun x y z => gr_Ct) (fun a b q => by
    by_cases ab : a = b
    · rw [ab]; exact gr_Cr b
    · exact gr_Ce ⟨ab, ⟨q.1, Nat.zero_testBit a, Nat.zero_testBit b⟩, Or.inl (g.2.2 a b q.1)⟩) h, fun h => gr_Cm (fun a b q => ⟨q.2.1.1, Or.inl (ix_lt (g.2.2 a b q.2.1.1).1 (g.2.2 a b q.2.1.1).2)⟩) h⟩)
  rw [e, J.2.1, us_tot]
end
section
/-! ===== the families of breaking sets (pure) ===== -/
/-- S is allowed: below 2^n, holds O, meets not b, breaks -/
def se_K (m : Nat → Nat → Nat) (n O b S : Nat) : Prop := S < 2 ^ n ∧ (∀ i, O.testBit i = true → S.testBit i = true) ∧ (∀ i, S.testBit i = true → b.testBit i = false) ∧ ¬ gr_Cyc m S
def se_F (m : Nat → Nat → Nat) (n s O b S : Nat) : Prop := se_K m n O b S ∧ mk_pc S = s
def se_H (m : Nat → Nat → Nat) (n s O b : Nat) : Prop := ∀ S, se_K m n O b S → s ≤ mk_pc S
def se_R (m : Nat → Nat → Nat) (n s O b c t S : Nat) : Prop := se_F m n s O b S ∧ ∃ w, t ≤ w ∧ c.testBit w = true ∧ S.testBit w = true
/-- R is unavoidable -/
def se_U (m : Nat → Nat → Nat) (R : Nat) : Prop := ∀ S, (∀ i, R.testBit i = true → S.testBit i = false) → gr_Cyc m S
theorem se_hit {m : Nat → Nat → Nat} {R S : Nat} (u : se_U m R) (nc : ¬ gr_Cyc m S) : ∃ w, R.testBit w = true ∧ S.testBit w = true := by
  by_cases e : ∃ w, R.testBit w = true ∧ S.testBit w = true
  · exact e
  · exact absurd (u S (fun i hi => mk_ff (fun z => e ⟨i, hi, z⟩))) nc
theorem se_none {m : Nat → Nat → Nat} {n s O b c t : Nat} (h : ∀ w, t ≤ w → w < n → c.testBit w = true → b.testBit w = true) (S : Nat) : ¬ se_R m n s O b c t S := by
  rintro ⟨⟨⟨k1, k2, k3, k4⟩, p⟩, w, tw, cw, sw⟩
  exact mk_tf (k3 w sw) (h w tw (mk_hi k1 sw) cw)
theorem se_split {m : Nat → Nat → Nat} {n s O b c t v : Nat} (tv : t ≤ v) (cv : c.testBit v = true) (bv : b.testBit v = false) (h : ∀ w, t ≤ w → w < v → c.testBit w = true → b.testBit w = true) (S : Nat) : se_R m n s O b c t S ↔ (se_F m n s (O ||| 2 ^ v) b S ∨ se_R m n s O (b ||| 2 ^ v) c (v + 1) S) := by
  constructor
  · rintro ⟨⟨⟨k1, k2, k3, k4⟩, p⟩, w, tw, cw, sw⟩
    by_cases sv : S.testBit v = true
    · refine Or.inl ⟨⟨k1, fun i hi => ?_, k3, k4⟩, p⟩
      rcases mk_setT.mp hi with q | q
      · exact k2 i q
      · rw [q]; exact sv
    · refine Or.inr ⟨⟨⟨k1, k2, fun i hi => ?_, k4⟩, p⟩, w, ?_, cw, sw⟩
      · apply mk_ff
        intro z
        rcases mk_setT.mp z with q | q
        · exact mk_tf (k3 i hi) q
        · rw [q] at hi; exact sv hi
      · by_cases e : v + 1 ≤ w
        · exact e
        · by_cases f : w = v
          · rw [f] at sw; exact absurd sw sv
          · exact absurd (h w tw (by omega) cw) (mk_tf (k3 w sw))
  · intro h
    rcases h with ⟨⟨k1, k2, k3, k4⟩, p⟩ | ⟨⟨⟨k1, k2, k3, k4⟩, p⟩, w, tw, cw, sw⟩
    · exact ⟨⟨⟨k1, fun i hi => k2 i (mk_setT.mpr (Or.inl hi)), k3, k4⟩, p⟩, v, tv, cv, k2 v (mk_setT.mpr (Or.inr rfl))⟩
    · exact ⟨⟨⟨k1, k2, fun i hi => mk_ff (fun z => mk_tf (k3 i hi) (mk_setT.mpr (Or.inl z))), k4⟩, p⟩, w, by omega, cw, sw⟩
theorem se_excl {m : Nat → Nat → Nat} {n s O b c t v S : Nat} (h : se_F m n s (O ||| 2 ^ v) b S) : ¬ se_R m n s O (b ||| 2 ^ v) c t S := by
  intro r
  have a := h.1.2.1 v (mk_setT.mpr (Or.inr rfl))
  exact mk_tf (r.1.1.2.2.1 v a) (mk_setT.mpr (Or.inr rfl))
theorem se_noted {m : Nat → Nat → Nat} {n s O b : Nat} (hn : n ≤ 9) (hO : O < 2 ^ n) (H : se_H m n s O b) (nc : ¬ gr_Cyc m O) (p : mk_pc O ≤ s) (d : ∀ i, O.testBit i = true → b.testBit i = false) (S : Nat) : se_F m n s O b S ↔ S = O := by
  have kO : se_K m n O b O := ⟨hO, fun _ h => h, d, nc⟩
  have l := H O kO
  constructor
  · rintro ⟨k, q⟩
    exact (mk_pceq k.2.1 (Nat.lt_of_lt_of_le k.1 (mk_p9 hn)) (by omega)).symm
  · intro e
    rw [e]
    exact ⟨kO, by omega⟩
theorem se_full {m : Nat → Nat → Nat} {n s O b : Nat} (hn : n ≤ 9) (cy : gr_Cyc m O) (p : s ≤ mk_pc O) (S : Nat) : ¬ se_F m n s O b S := by
  rintro ⟨k, q⟩
  have e := mk_pceq k.2.1 (Nat.lt_of_lt_of_le k.1 (mk_p9 hn)) (by omega)
  rw [← e] at k
  exact k.2.2.2 cy
theorem se_all {m : Nat → Nat → Nat} {n s O b R : Nat} (u : se_U m R) (S : Nat) : se_R m n s O b R 0 S ↔ se_F m n s O b S := by
  refine ⟨fun h => h.1, fun h => ⟨h, ?_⟩⟩
  obtain ⟨w, a, b⟩ := se_hit u h.1.2.2.2
  exact ⟨w, Nat.zero_le _, a, b⟩
/-- k disjoint rings in gone beyond O -/
def se_P (m : Nat → Nat → Nat) (O k g : Nat) : Prop := ∀ S, (∀ i, O.testBit i = true → S.testBit i = true) → ¬ gr_Cyc m S → mk_pc O + k ≤ mk_pc (S &&& g)
theorem se_P0 (m : Nat → Nat → Nat) (O : Nat) : se_P m O 0 O := fun S h _ => mk_pcsub (fun i hi => mk_andT.mpr ⟨h i hi, hi⟩)
theorem se_P1 {m : Nat → Nat → Nat} {O k g R n : Nat} (hn : n ≤ 9) (h : se_P m O k g) (u : se_U m R) (hR : R < 2 ^ n) (d : ∀ i, R.testBit i = true → g.testBit i = false) : se_P m O (k + 1) (g ||| R) := by
  intro S hs nc
  have q := h S hs nc
  obtain ⟨w, rw1, sw⟩ := se_hit u nc
  have wn := mk_hi hR rw1
  have e := mk_pcins (S := S &&& g) (v := w) (by omega) (mk_ff (fun z => mk_tf (d w rw1) (mk_andT.mp z).2))
  have l : mk_pc (S &&& g ||| 2 ^ w) ≤ mk_pc (S &&& (g ||| R)) := mk_pcsub (fun i hi => by
    rcases mk_setT.mp hi with z | z
    · exact mk_andT.mpr ⟨(mk_andT.mp z).1, mk_orT.mpr (Or.inl (mk_andT.mp z).2)⟩
    · rw [z]; exact mk_andT.mpr ⟨sw, mk_orT.mpr (Or.inr rw1)⟩)
  omega
theorem se_cut {m : Nat → Nat → Nat} {n s O b k g : Nat} (h : se_P m O k g) (l : s < mk_pc O + k) (S : Nat) : ¬ se_F m n s O b S := by
  rintro ⟨K, q⟩
  have a := h S K.2.1 K.2.2.2
  have b := mk_pcsub (S := S &&& g) (T := S) (fun i hi => (mk_andT.mp hi).1)
  omega
theorem se_Hdown {m : Nat → Nat → Nat} {n s O b v : Nat} (H : se_H m n s O b) : se_H m n s (O ||| 2 ^ v) b := fun S k => H S ⟨k.1, fun i hi => k.2.1 i (mk_setT.mpr (Or.inl hi)), k.2.2.1, k.2.2.2⟩
theorem se_Hbar {m : Nat → Nat → Nat} {n s O b v : Nat} (H : se_H m n s O b) : se_H m n s O (b ||| 2 ^ v) := fun S k => H S ⟨k.1, k.2.1, fun i hi => mk_ff (fun z => mk_tf (k.2.2.1 i hi) (mk_setT.mpr (Or.inl z))), k.2.2.2⟩
theorem se_Hup {m : Nat → Nat → Nat} {n s O b : Nat} (H : se_H m n s O b) (no : ∀ S, ¬ se_F m n s O b S) : se_H m n (s + 1) O b := fun S k => by
  have h := H S k
  by_cases e : mk_pc S = s
  · exact absurd ⟨k, e⟩ (no S)
  · omega
theorem se_H0 (m : Nat → Nat → Nat) (n O b : Nat) : se_H m n (mk_pc O) O b := fun S k => mk_pcsub k.2.1
/-! what the search has counted: a family A -/
def se_mn (n : Nat) (A : Nat → Prop) (ff : Int32) : Prop := ((∀ S, S < 2 ^ n → ¬ A S) ∧ ff = -1) ∨ ∃ S, S < 2 ^ n ∧ A S ∧ ff = nI S ∧ ∀ S', S' < 2 ^ n → A S' → S ≤ S'
def se_AC (n : Nat) (A : Nat → Prop) (fd ff : Int32) (mem : Nat → Int32) : Prop := fd = nI (ct_c A (2 ^ n)) ∧ se_mn n A ff ∧ ∀ v, v < n → mem v = nI (ct_c (fun S => A S ∧ S.testBit v = true) (2 ^ n))
theorem se_ACc {n : Nat} {A B : Nat → Prop} {fd ff : Int32} {mem : Nat → Int32} (h : ∀ S, A S ↔ B S) (a : se_AC n A fd ff mem) : se_AC n B fd ff mem := by
  rw [← show A = B from funext (fun S => propext (h S))]
  exact a
theorem se_AC0 {n : Nat} {mem : Nat → Int32} (h : ∀ v, v < n → mem v = 0) : se_AC n (fun _ => False) 0 (-1) mem := by
  refine ⟨?_, Or.inl ⟨fun _ _ h => h, rfl⟩, fun v hv => ?_⟩
  · rw [ct_none (fun _ _ h => h), nI_0]
  · rw [ct_none (fun _ _ h => h.1), nI_0]; exact h v hv
theorem se_ACn {n O : Nat} {A : Nat → Prop} {fd ff : Int32} {mem mem' : Nat → Int32} (hn : n ≤ 9) (a : se_AC n A fd ff mem) (hO : O < 2 ^ n) (no : ¬ A O) (hm : ∀ v, v < n → mem' v = mem v + nI (if O.testBit v = true then 1 else 0)) (ff' : Int32) (hf : (ff < 0 ∧ ff' = nI O) ∨ (¬ ff < 0 ∧ ff ≤ nI O ∧ ff' = ff) ∨ (¬ ff < 0 ∧ ¬ ff ≤ nI O ∧ ff' = nI O)) : se_AC n (fun S => A S ∨ S = O) (fd + 1) ff' mem' := by
  obtain ⟨a1, a2, a3⟩ := a
  have p9 := mk_p9 hn
  refine ⟨?_, ?_, fun v hv => ?_⟩
  · rw [a1, nI_1, ct_ins hO no (fun _ _ => Iff.rfl)]
  · rcases a2 with ⟨e, f⟩ | ⟨S, hS, aS, f, l⟩
    · have z : ff < 0 := by rw [f]; decide
      rcases hf with ⟨_, h⟩ | ⟨h, _⟩ | ⟨h, _⟩
      · refine Or.inr ⟨O, hO, Or.inr rfl, h, fun S' hS' h' => ?_⟩
        rcases h' with h' | h'
        · exact absurd h' (e S' hS')
        · omega
      · exact absurd z h
      · exact absurd z h
    · have z : ¬ ff < 0 := by rw [f]; exact nI_pos (by omega)
      rcases hf with ⟨h, _⟩ | ⟨_, h, q⟩ | ⟨_, h, q⟩
      · exact absurd h z
      · rw [f, nI_leI (by omega) (by omega)] at h
        refine Or.inr ⟨S, hS, Or.inl aS, q.trans f, fun S' hS' h' => ?_⟩
        rcases h' with h' | h'
        · exact l S' hS' h'
        · omega
      · rw [f, nI_leI (by omega) (by omega)] at h
        refine Or.inr ⟨O, hO, Or.inr rfl, q, fun S' hS' h' => ?_⟩
        rcases h' with h' | h'
        · have := l S' hS' h'; omega
        · omega
  · rw [hm v hv, a3 v hv, nI_add]
    congr 1
    by_cases b : O.testBit v = true
    · rw [if_pos b, ct_ins (P := fun S => A S ∧ S.testBit v = true) (Q := fun S => (A S ∨ S = O) ∧ S.testBit v = true) hO (fun z => no z.1) (fun i _ => ⟨fun h => h.1.elim (fun q => Or.inl ⟨q, h.2⟩) (fun q => Or.inr q), fun h => h.elim (fun q => ⟨Or.inl q.1, q.2⟩) (fun q => ⟨Or.inr q, by rw [q]; exact b⟩)⟩)]
    · rw [if_neg b, Nat.add_zero]
      exact ct_congr (fun i _ => ⟨fun h => ⟨Or.inl h.1, h.2⟩, fun h => ⟨h.1.elim id (fun q => by rw [q] at h; exact absurd h.2 b), h.2⟩⟩)
end
section
/-! ===== the component: ones, wayOf, take, close ===== -/
theorem bx_if {c d A B : Prop} (e : c ↔ d) (f : d → A) (g : ¬ d → B) : (c → A) ∧ (¬ c → B) := ⟨fun h => f (e.mp h), fun h => g (fun z => h (e.mpr z))⟩
theorem mk_ix (u v : Nat) : (9 : Int32) * nI u + nI v = nI (9 * u + v) := by
  rw [show (9 : Int32) = nI 9 from rfl, pk_mul, nI_add]
theorem mk_in {u v : Nat} (hu : u < 9) (hv : v < 9) : vp_in ((9 : Int32) * nI u + nI v) 81 := by
  rw [mk_ix]
  exact vp_in_nI (by omega) (by omega)
def gx_M (m : Nat → Nat → Nat) (a : Nat → Int32) : Prop := ∀ u v, u < 9 → v < 9 → a (9 * u + v) = nI (m u v)
theorem gx_g {m : Nat → Nat → Nat} {a : Nat → Int32} (h : gx_M m a) {u v : Nat} (hu : u < 9) (hv : v < 9) : a ((9 : Int32) * nI u + nI v).toNatClampNeg = nI (m u v) := by
  rw [mk_ix, nI_clamp (by omega)]
  exact h u v hu hv
theorem mk_cl {a : Nat → Int32} {x : Nat} (h : x < 2 ^ 31) : a (nI x).toNatClampNeg = a x := by rw [nI_clamp h]
theorem mk_m1 {x : Nat} (h : x < 2 ^ 31) : ¬ nI x = -1 := fun e => by
  have h1 := congrArg Int32.toInt e
  rw [nI_toInt h, show (-1 : Int32).toInt = -1 from by decide] at h1
  omega
theorem mk_pstep {S j : Nat} (hS : S < 2 ^ 31) (hj : j < 9) : nI (ct_c (fun v => S.testBit v = true) j) + ((nI S >>> (nI j &&& 31)) &&& 1) = nI (ct_c (fun v => S.testBit v = true) (j + 1)) := by
  rw [mk_bit hS (by omega), nI_add]
  by_cases h : S.testBit j = true
  · rw [if_pos h, ct_t (P := fun v => S.testBit v = true) h]
  · rw [if_neg h, ct_f (P := fun v => S.testBit v = true) h, Nat.add_zero]
theorem xw_ones4 {S : Nat} (hS : S < 2 ^ 31) {post : Int32 → Prop} (h : post (nI (mk_pc S))) : ∀ d j, j + d = 9 → wX_ones_4 post (nI S) (d + 1) (nI (ct_c (fun v => S.testBit v = true) j)) (nI j) := by
  intro d
  induction d with
  | zero =>
    intro j hj
    have e : j = 9 := by omega
    subst e
    exact pk_le 9 9 (fun _ => h) (fun z => absurd z (by omega))
  | succ d ih =>
    intro j hj
    exact pk_le 9 j (fun z => absurd z (by omega)) (fun z => nm_r (mk_pstep hS z) (nm_r (nI_1 j) (ih (j + 1) (by omega))))
theorem xw_ones {S : Nat} (hS : S < 2 ^ 31) {post : Int32 → Prop} (h : post (nI (mk_pc S))) : wpX_ones post (nI S) := ⟨10, xw_ones4 hS h 9 0 rfl⟩
/-! the set of a vertex and those above it -/
def bf_w (P : Nat → Nat) (x : Nat) : Nat → Nat
  | 0 => 0
  | k + 1 => bf_w P x k ||| 2 ^ (bf_up P k x)
theorem bf_wT (P : Nat → Nat) (x i : Nat) : ∀ k, (bf_w P x k).testBit i = true ↔ ∃ l, l < k ∧ bf_up P l x = i := by
  intro k
  induction k with
  | zero => exact ⟨fun h => (mk_z h).elim, fun ⟨l, h, _⟩ => by omega⟩
  | succ k ih =>
    show (bf_w P x k ||| 2 ^ (bf_up P k x)).testBit i = true ↔ _
    rw [mk_setT, ih]
    constructor
    · intro h
      rcases h with ⟨l, hl, e⟩ | e
      · exact ⟨l, by omega, e⟩
      · exact ⟨k, by omega, e.symm⟩
    · rintro ⟨l, hl, e⟩
      by_cases q : l = k
      · exact Or.inr (by rw [← e, q])
      · exact Or.inl ⟨l, by omega, e⟩
theorem bf_wlt {P : Nat → Nat} {x n : Nat} : ∀ k, (∀ l, l < k → bf_up P l x < n) → bf_w P x k < 2 ^ n := by
  intro k h
  refine mk_ltN (fun i hi => ?_)
  obtain ⟨l, hl, e⟩ := (bf_wT P x i k).mp hi
  rw [← e]; exact h l hl
section
variable {f_n f_kept f_found f_firstFound f_ring f_ringSize : Int32} {a_many a_out a_barred a_cycle a_tried a_from a_far a_queue a_tree a_members : Nat → Int32}
theorem xw_way7 {G : Nat → Nat → Prop} {s : Nat} {R : Nat → Prop} {D P : Nat → Nat} (T : bf_T G s R D P) (hR : ∀ y, R y → y < 9) (hf : ∀ v, R v → v ≠ s → a_from v = nI (P v)) (hs : a_from s = -1) {x : Nat} (r : R x) (dx : D x ≤ 8) {post : Int32 → Prop} (h : post (nI (bf_w P x (D x + 1)))) : ∀ d k, k + d = D x + 1 → wX_wayOf_7 post f_n f_kept f_found f_firstFound f_ring f_ringSize a_many a_out a_barred a_cycle a_tried a_from a_far a_queue a_tree a_members (d + 1) (nI (bf_w P x k)) (if d = 0 then -1 else nI (bf_up P k x)) (nI k) := by
  intro d
  induction d with
  | zero =>
    intro k hk
    have e : k = D x + 1 := by omega
    subst e
    exact br_c (fun _ => h) (fun _ => br_t rfl h)
  | succ d ih =>
    intro k hk
    rw [if_neg (by omega)]
    have u := bf_upR T r k (by omega)
    have u9 := hR _ u.1
    refine pk_le 9 k (fun z => absurd z (by omega)) (fun _ => br_f (mk_m1 (by omega)) (nm_r (e' := nI (bf_w P x (k + 1))) ?_ ⟨vp_in_nI u9 (by omega), nm_r (e' := if d = 0 then -1 else nI (bf_up P (k + 1) x)) ?_ (nm_r (nI_1 k) (ih (k + 1) (by omega)))⟩))
    · rw [mk_one (by omega), mk_or]
      rfl
    · rw [nI_clamp (n := bf_up P k x) (by omega)]
      by_cases e : d = 0
      · rw [if_pos e]
        have : bf_up P k x = s := by
          have kk : k = D x := by omega
          rw [kk]; exact bf_upTop T r
        rw [this]; exact hs
      · rw [if_neg e]
        exact hf _ u.1 (bf_upNs T r (by omega))
theorem xw_way {G : Nat → Nat → Prop} {s : Nat} {R : Nat → Prop} {D P : Nat → Nat} (T : bf_T G s R D P) (hR : ∀ y, R y → y < 9) (hf : ∀ v, R v → v ≠ s → a_from v = nI (P v)) (hs : a_from s = -1) {x : Nat} (r : R x) (dx : D x ≤ 8) {post : Int32 → Prop} (h : post (nI (bf_w P x (D x + 1)))) : wpX_wayOf post (f_n, f_kept, f_found, f_firstFound, f_ring, f_ringSize, a_many, a_out, a_barred, a_cycle, a_tried, a_from, a_far, a_queue, a_tree, a_members) (nI x) := by
  have q := xw_way7 (f_n := f_n) (f_kept := f_kept) (f_found := f_found) (f_firstFound := f_firstFound) (f_ring := f_ring) (f_ringSize := f_ringSize) (a_many := a_many) (a_out := a_out) (a_barred := a_barred) (a_cycle := a_cycle) (a_tried := a_tried) (a_far := a_far) (a_queue := a_queue) (a_tree := a_tree) (a_members := a_members) T hR hf hs r dx h (D x + 1) 0 (by omega)
  rw [if_neg (by omega)] at q
  exact ⟨_, q⟩
theorem xw_take {post : SX → Prop} {p0 : Int32} {r z : Nat} (hr : r < 2 ^ 31) (hz : z < 2 ^ 31) (h1 : (r = 0 ∨ z < r) → post (f_n, f_kept, f_found, f_firstFound, p0, nI z, a_many, a_out, a_barred, a_cycle, a_tried, a_from, a_far, a_queue, a_tree, a_members)) (h2 : r ≠ 0 → r ≤ z → post (f_n, f_kept, f_found, f_firstFound, f_ring, nI r, a_many, a_out, a_barred, a_cycle, a_tried, a_from, a_far, a_queue, a_tree, a_members)) : wpX_take post (f_n, f_kept, f_found, f_firstFound, f_ring, nI r, a_many, a_out, a_barred, a_cycle, a_tried, a_from, a_far, a_queue, a_tree, a_members) p0 (nI z) :=
  pk_eq r 0 (fun e => h1 (Or.inl e)) (fun e => pk_le r z (fun l => h2 e l) (fun l => h1 (Or.inr l)))
theorem xw_close {G : Nat → Nat → Prop} {s : Nat} {R : Nat → Prop} {D P : Nat → Nat} (T : bf_T G s R D P) (hR : ∀ y, R y → y < 9) (hf : ∀ v, R v → v ≠ s → a_from v = nI (P v)) (hs : a_from s = -1) (hd : ∀ v, R v → a_far v = nI (D v)) {u v r : Nat} (ru : R u) (rv : R v) (du : D u ≤ 8) (dv : D v ≤ 8) (hr : r < 2 ^ 31) {post : SX → Prop} (h1 : (r = 0 ∨ D u + D v + 1 < r) → post (f_n, f_kept, f_found, f_firstFound, nI (bf_w P u (D u + 1) ||| bf_w P v (D v + 1)), nI (D u + D v + 1), a_many, a_out, a_barred, a_cycle, a_tried, a_from, a_far, a_queue, a_tree, a_members)) (h2 : r ≠ 0 → r ≤ D u + D v + 1 → post (f_n, f_kept, f_found, f_firstFound, f_ring, nI r, a_many, a_out, a_barred, a_cycle, a_tried, a_from, a_far, a_queue, a_tree, a_members)) (h3 : bf_cm s D P u v → post (f_n, f_kept, f_found, f_firstFound, f_ring, nI r, a_many, a_out, a_barred, a_cycle, a_tried, a_from, a_far, a_queue, a_tree, a_members)) : wpX_close post (f_n, f_kept, f_found, f_firstFound, f_ring, nI r, a_many, a_out, a_barred, a_cycle, a_tried, a_from, a_far, a_queue, a_tree, a_members) (nI u) (nI v) := by
  have u9 := hR u ru
  have v9 := hR v rv
  have wl : ∀ {x : Nat}, R x → bf_w P x (D x + 1) < 2 ^ 9 := fun {x} rx => bf_wlt _ (fun l hl => hR _ (bf_upR T rx l (by omega)).1)
  have lu := wl ru
  have lv := wl rv
  unfold wpX_close
  dsimp only
  refine xw_way T hR hf hs ru du ?_
  refine xw_way T hR hf hs rv dv ?_
  rw [nx_and, mk_or]
  refine xw_ones (Nat.lt_of_lt_of_le (Nat.and_lt_two_pow _ lv) (by decide)) ?_
  refine pk_eq (mk_pc (bf_w P u (D u + 1) &&& bf_w P v (D v + 1))) 1 (fun _ => ⟨vp_in_nI u9 (by omega), vp_in_nI v9 (by omega), ?_⟩) (fun ne => h3 ?_) (ha := by have := mk_pcle (bf_w P u (D u + 1) &&& bf_w P v (D v + 1)); omega)
  · rw [mk_cl (a := a_far) (by omega), mk_cl (a := a_far) (by omega), hd u ru, hd v rv, nI_add, nI_1]
    exact xw_take hr (by omega) h1 h2
  · by_cases c : bf_cm s D P u v
    · exact c
    · exfalso
      apply ne
      have s9 := hR s T.1
      refine ct_one s9 (fun i _ => ?_)
      rw [mk_andT, bf_wT, bf_wT]
      constructor
      · rintro ⟨⟨a, ha, ea⟩, b, hb, eb⟩
        by_cases e : i = s
        · exact e
        · exact absurd ⟨a, b, by omega, by omega, ea.trans eb.symm, by rw [ea]; exact e⟩ c
      · intro e
        rw [e]
        exact ⟨⟨D u, by omega, bf_upTop T ru⟩, D v, by omega, bf_upTop T rv⟩
end
end
section
/-! ===== the component: sweep ===== -/
def sw_A (n s : Nat) (R : Nat → Prop) (D P Q : Nat → Nat) (qd : Nat) (fr fa qu : Nat → Int32) : Prop := (∀ v, R v → fa v = nI (D v)) ∧ (∀ v, v < n → ¬ R v → fa v = -1) ∧ (∀ v, R v → v ≠ s → fr v = nI (P v)) ∧ fr s = -1 ∧ ∀ i, i < qd → qu i = nI (Q i)
def sw_V (n : Nat) (m : Nat → Nat → Nat) (T rg rs : Nat) : Prop := (rs = 0 → rg = 0) ∧ (rs ≠ 0 → rg < 2 ^ n ∧ (∀ i, rg.testBit i = true → T.testBit i = false) ∧ gr_rk m rg (rs - 1))
def sw_I (n : Nat) (m : Nat → Nat → Nat) (T s rs0 k j : Nat) (R : Nat → Prop) (D P Q : Nat → Nat) (qd rg rs : Nat) (fr fa qu : Nat → Int32) : Prop := bf_J (gr_E m T) n s k j R D P Q qd rs ∧ sw_A n s R D P Q qd fr fa qu ∧ sw_V n m T rg rs ∧ rs ≤ 17 ∧ bf_le rs0 rs
theorem sw_R {n : Nat} {m : Nat → Nat → Nat} (g : gr_G n m) {T s : Nat} (hs : s < n) (ts : T.testBit s = false) {R : Nat → Prop} {D P : Nat → Nat} (B : bf_T (gr_E m T) s R D P) {v : Nat} (r : R v) : v < n ∧ T.testBit v = false := by
  by_cases e : v = s
  · rw [e]; exact ⟨hs, ts⟩
  · have h := (B.2.2 v r e).2.2
    exact ⟨(g.2.2 _ _ h.1).2, h.2.2⟩
theorem sw_D {G : Nat → Nat → Prop} {n s k j : Nat} {R : Nat → Prop} {D P Q : Nat → Nat} {qd rs : Nat} (hn : n ≤ 9) (J : bf_J G n s k j R D P Q qd rs) {v : Nat} (r : R v) : D v ≤ 8 := by
  obtain ⟨i, hi, e⟩ := J.1.2.1 v r
  have h := (J.1.2.2.1 i hi).2
  have q := bf_qdle J
  rw [e] at h
  omega
/-- a new ring out of two ways -/
theorem sw_new {n : Nat} {m : Nat → Nat → Nat} (g : gr_G n m) {T s : Nat} (hs : s < n) (ts : T.testBit s = false) {R : Nat → Prop} {D P : Nat → Nat} (B : bf_T (gr_E m T) s R D P) {u v : Nat} (ru : R u) (rv : R v) (uv : gr_E m T u v) (ne : u ≠ v) (nt : ¬ bf_TE s P u v) : sw_V n m T (bf_w P u (D u + 1) ||| bf_w P v (D v + 1)) (D u + D v + 1) := by
  refine ⟨fun h => by omega, fun _ => ?_⟩
  have wR : ∀ {x i : Nat}, R x → (bf_w P x (D x + 1)).testBit i = true → R i := fun {x i} rx h => by
    obtain ⟨l, hl, e⟩ := (bf_wT P x i _).mp h
    rw [← e]; exact (bf_upR B rx l (by omega)).1
  have rR : ∀ i, (bf_w P u (D u + 1) ||| bf_w P v (D v + 1)).testBit i = true → R i := fun i h => (mk_orT.mp h).elim (wR ru) (wR rv)
  refine ⟨mk_ltN (fun i h => (sw_R g hs ts B (rR i h)).1), fun i h => (sw_R g hs ts B (rR i h)).2, u, v, ne, ?_, ?_⟩
  · exact ⟨uv.1, mk_orT.mpr (Or.inl ((bf_wT P u u _).mpr ⟨0, by omega, rfl⟩)), mk_orT.mpr (Or.inr ((bf_wT P v v _).mpr ⟨0, by omega, rfl⟩))⟩
  · rw [show D u + D v + 1 - 1 = D u + D v by omega]
    have sI : ∀ x y, gr_I m (bf_w P u (D u + 1) ||| bf_w P v (D v + 1)) x y → gr_I m (bf_w P u (D u + 1) ||| bf_w P v (D v + 1)) y x := fun x y h => ⟨by rw [g.1]; exact h.1, h.2.2, h.2.1⟩
    refine bf_meet sI B ru rv nt (Nat.le_refl _) (Nat.le_refl _) ((bf_upTop B ru).trans (bf_upTop B rv).symm) (fun l hl => ?_) (fun l hl => ?_)
    · exact ⟨(bf_par (gr_Es g T) B ru l hl).1, mk_orT.mpr (Or.inl ((bf_wT P u _ _).mpr ⟨l, by omega, rfl⟩)), mk_orT.mpr (Or.inl ((bf_wT P u _ _).mpr ⟨l + 1, by omega, rfl⟩))⟩
    · exact ⟨(bf_par (gr_Es g T) B rv l hl).1, mk_orT.mpr (Or.inr ((bf_wT P v _ _).mpr ⟨l, by omega, rfl⟩)), mk_orT.mpr (Or.inr ((bf_wT P v _ _).mpr ⟨l + 1, by omega, rfl⟩))⟩
theorem sw_push {n s : Nat} {R : Nat → Prop} {D P Q : Nat → Nat} {qd j u : Nat} {fr fa qu : Nat → Int32} (A : sw_A n s R D P Q qd fr fa qu) (nr : ¬ R j) (rs : R s) (du : Nat) : sw_A n s (fun x => R x ∨ x = j) (fun x => if x = j then du else D x) (fun x => if x = j then u else P x) (fun i => if i = qd then j else Q i) (qd + 1) (upd fr j (nI u)) (upd fa j (nI du)) (upd qu qd (nI j)) := by
  obtain ⟨a1, a2, a3, a4, a5⟩ := A
  have nj : ∀ x, R x → x ≠ j := fun x r e => nr (by rw [← e]; exact r)
  refine ⟨fun v r => ?_, fun v hv r => ?_, fun v r ns => ?_, ?_, fun i hi => ?_⟩
  · dsimp only
    rcases r with r | e
    · rw [pk_un (nj v r), if_neg (nj v r)]; exact a1 v r
    · rw [e, pk_us, if_pos rfl]
  · rw [pk_un (fun e => r (Or.inr e))]
    exact a2 v hv (fun z => r (Or.inl z))
  · dsimp only
    rcases r with r | e
    · rw [pk_un (nj v r), if_neg (nj v r)]; exact a3 v r ns
    · rw [e, pk_us, if_pos rfl]
  · rw [pk_un (nj s rs)]; exact a4
  · dsimp only
    by_cases e : i = qd
    · rw [e, pk_us, if_pos rfl]
    · rw [pk_un e, if_neg e]; exact a5 i (by omega)
section
variable {f_n f_kept f_found f_firstFound f_ring f_ringSize : Int32} {a_many a_out a_barred a_cycle a_tried a_from a_far a_queue a_tree a_members : Nat → Int32}
theorem xw_s76 {n : Nat} {m : Nat → Nat → Nat} (g : gr_G n m) (hn : n ≤ 9) (hM : gx_M m a_many) {T s : Nat} (hT : T < 2 ^ 31) (hs : s < n) (ts : T.testBit s = false) (nl : ¬ gr_loop m T) {rs0 k u : Nat} {post : SX → Prop} {J49 : Int32 → Int32 → Int32 → Int32 → Int32 → Int32 → Int32 → Int32 → (Nat → Int32) → (Nat → Int32) → (Nat → Int32) → (Nat → Int32) → (Nat → Int32) → (Nat → Int32) → (Nat → Int32) → (Nat → Int32) → (Nat → Int32) → (Nat → Int32) → Prop}
    (co : ∀ (R : Nat → Prop) (D P Q : Nat → Nat) (qd rg rs : Nat) (fr fa qu : Nat → Int32), sw_I n m T s rs0 k n R D P Q qd rg rs fr fa qu → J49 (nI qd) (nI (k + 1)) (nI n) f_kept f_found f_firstFound (nI rg) (nI rs) a_many a_out a_barred a_cycle a_tried fr fa qu a_tree a_members) :
    ∀ (d j : Nat) (R : Nat → Prop) (D P Q : Nat → Nat) (qd rg rs : Nat) (fr fa qu : Nat → Int32), j + d = n → Q k = u → k < qd → sw_I n m T s rs0 k j R D P Q qd rg rs fr fa qu → wX_sweep_76 post J49 (nI T) (nI k) (nI u) (d + 1) (nI qd) (nI j) (nI n) f_kept f_found f_firstFound (nI rg) (nI rs) a_many a_out a_barred a_cycle a_tried fr fa qu a_tree a_members := by
  intro d
  induction d with
  | zero =>
    intro j R D P Q qd rg rs fr fa qu hj _ _ I
    have e : j = n := by omega
    subst e
    exact pk_le j j (fun _ => nm_r (nI_1 k) (co R D P Q qd rg rs fr fa qu I)) (fun z => absurd z (by omega))
  | succ d ih =>
    intro j R D P Q qd rg rs fr fa qu hj hu hk I
    obtain ⟨J, A, V, l17, le⟩ := I
    have B := J.1.1
    have ru : R u := by rw [← hu]; exact (J.1.2.2.1 k hk).1
    have un := sw_R g hs ts B ru
    have qn := bf_qdle J
    have skip : ¬ gr_E m T u j → wX_sweep_76 post J49 (nI T) (nI k) (nI u) (d + 1) (nI qd) (nI (j + 1)) (nI n) f_kept f_found f_firstFound (nI rg) (nI rs) a_many a_out a_barred a_cycle a_tried fr fa qu a_tree a_members := fun ng =>
      ih (j + 1) R D P Q qd rg rs fr fa qu (by omega) hu hk ⟨bf_skip J (by rw [hu]; exact ng), A, V, l17, le⟩
    have old : ∀ rg' rs' : Nat, R j → sw_V n m T rg' rs' → rs' ≤ 17 → bf_le rs rs' → bf_ok s D P rs' u j → wX_sweep_76 post J49 (nI T) (nI k) (nI u) (d + 1) (nI qd) (nI (j + 1)) (nI n) f_kept f_found f_firstFound (nI rg') (nI rs') a_many a_out a_barred a_cycle a_tried fr fa qu a_tree a_members := fun rg' rs' rj V' l' le' o =>
      ih (j + 1) R D P Q qd rg' rs' fr fa qu (by omega) hu hk ⟨bf_old J hk rj le' (by rw [hu]; exact o), A, V', l', bf_let le le'⟩
    refine pk_le n j (fun z => absurd z (by omega)) (fun jn => ⟨mk_in (by omega) (by omega), ?_⟩)
    have m2 := g.2.1 u j
    refine pk_le (m u j) 0 (fun z => nm_r (nI_1 j) (skip (fun h => by have := h.1; omega))) (fun mp => ?_) (hx := gx_g hM (by omega) (by omega))
    refine bx_if (mk_b0 hT (by omega)) (fun tj => ⟨vp_in_nI (by omega) (by omega), ?_⟩) (fun tj => nm_r (nI_1 j) (skip (fun h => tj h.2.2)))
    have uj : gr_E m T u j := ⟨mp, un.2, tj⟩
    have ne : u ≠ j := fun e => nl ⟨u, by rw [← e] at mp; exact mp, un.2⟩
    have cj : (nI j).toNatClampNeg = j := nI_clamp (by omega)
    have cu : (nI u).toNatClampNeg = u := nI_clamp (by omega)
    rw [cj, cu]
    by_cases rj : R j
    · -- an old vertex
      have du := sw_D hn J ru
      have dj := sw_D hn J rj
      have fu := A.1 u ru
      have fj := A.1 j rj
      refine br_f (by rw [fj]; exact mk_m1 (by omega)) ⟨vp_in_nI (by omega) (by omega), ?_⟩
      refine br_c (fun h => nm_r (nI_1 j) (old rg rs rj V l17 (bf_ler rs) (fun _ nt _ => absurd ?_ nt))) (fun h1 => ⟨vp_in_nI (by omega) (by omega), br_c (fun h => nm_r (nI_1 j) (old rg rs rj V l17 (bf_ler rs) (fun _ nt _ => absurd ?_ nt))) (fun h2 => ?_)⟩)
      · by_cases us : u = s
        · rw [us, A.2.2.2.1] at h
          exact absurd h.symm (mk_m1 (by omega))
        · have pu := (B.2.2 u ru us).1
          have := (sw_R g hs ts B pu).1
          rw [A.2.2.1 u ru us, nI_eq (by omega) (by omega)] at h
          exact Or.inl ⟨us, h⟩
      · by_cases js : j = s
        · rw [js, A.2.2.2.1] at h
          exact absurd h.symm (mk_m1 (by omega))
        · have pj := (B.2.2 j rj js).1
          have := (sw_R g hs ts B pj).1
          rw [A.2.2.1 j rj js, nI_eq (by omega) (by omega)] at h
          exact Or.inr ⟨js, h⟩
      · have nt : ¬ bf_TE s P u j := by
          rintro (⟨a, b⟩ | ⟨a, b⟩)
          · exact h1 (by rw [A.2.2.1 u ru a, b])
          · exact h2 (by rw [A.2.2.1 j rj a, b])
        have cl : wX_sweep_215 post J49 (wX_sweep_76 post J49 (nI T) (nI k) (nI u) (d + 1)) (nI T) (nI qd) (nI k) (nI u) (nI j) (nI n) f_kept f_found f_firstFound (nI rg) (nI rs) a_many a_out a_barred a_cycle a_tried fr fa qu a_tree a_members := by
          refine xw_close B (fun y ry => by have := (sw_R g hs ts B ry).1; omega) A.2.2.1 A.2.2.2.1 A.1 ru rj du dj (by omega) (fun h => nm_r (nI_1 j) ?_) (fun r0 rl => nm_r (nI_1 j) ?_) (fun c => nm_r (nI_1 j) ?_)
          · exact old _ _ rj (sw_new g hs ts B ru rj uj ne nt) (by omega) (fun z => ⟨by omega, by omega⟩) (fun _ _ _ => ⟨by omega, by omega⟩)
          · exact old rg rs rj V l17 (bf_ler rs) (fun _ _ _ => ⟨r0, rl⟩)
          · exact old rg rs rj V l17 (bf_ler rs) (fun _ _ nc => absurd c nc)
        refine pk_eq rs 0 (fun _ => cl) (fun r0 => ⟨vp_in_nI (by omega) (by omega), vp_in_nI (by omega) (by omega), ?_⟩)
        exact pk_le rs (D u + D j + 1) (fun rl => nm_r (nI_1 j) (old rg rs rj V l17 (bf_ler rs) (fun _ _ _ => ⟨r0, rl⟩))) (fun _ => cl) (hy := by rw [fu, fj, nI_add, nI_1])
    · -- a new one
      have qr := bf_room J jn rj
      have cq : (nI qd).toNatClampNeg = qd := nI_clamp (by omega)
      refine br_t (A.2.1 j jn rj) ⟨vp_in_nI (by omega) (by omega), vp_in_nI (by omega) (by omega), nm_r (e' := upd fa j (nI (D u + 1))) (by rw [A.1 u ru, nI_1]) ⟨vp_in_nI (by omega) (by omega), nm_e ⟨vp_in_nI (by omega) (by omega), nm_r (e' := upd qu qd (nI j)) (by rw [cq]) (nm_r (nI_1 qd) (nm_r (nI_1 j) ?_))⟩⟩⟩
      have J' := bf_push J hk jn (by rw [hu]; exact uj) rj
      rw [hu] at J'
      refine ih (j + 1) (fun x => R x ∨ x = j) (fun x => if x = j then D u + 1 else D x) (fun x => if x = j then u else P x) (fun i => if i = qd then j else Q i) (qd + 1) rg rs (upd fr j (nI u)) (upd fa j (nI (D u + 1))) (upd qu qd (nI j)) (by omega) ?_ (by omega) ⟨J', sw_push A rj B.1 (D u + 1), V, l17, le⟩
      rw [if_neg (by omega)]
      exact hu
end
end
section
/-! ===== the component: sweep, whole ===== -/
section
variable {f_n f_kept f_found f_firstFound f_ring f_ringSize : Int32} {a_many a_out a_barred a_cycle a_tried a_from a_far a_queue a_tree a_members : Nat → Int32}
theorem xw_s49 {n : Nat} {m : Nat → Nat → Nat} (g : gr_G n m) (hn : n ≤ 9) (hM : gx_M m a_many) {T s : Nat} (hT : T < 2 ^ 31) (hs : s < n) (ts : T.testBit s = false) (nl : ¬ gr_loop m T) {rs0 : Nat} {post : SX → Prop}
    (hp : ∀ (R : Nat → Prop) (D P : Nat → Nat) (rg rs : Nat) (fr fa qu : Nat → Int32), (bf_T (gr_E m T) s R D P ∧ bf_F (gr_E m T) R D ∧ ∀ u v, R u → gr_E m T u v → bf_ok s D P rs u v) → sw_V n m T rg rs → rs ≤ 17 → bf_le rs0 rs → post (nI n, f_kept, f_found, f_firstFound, nI rg, nI rs, a_many, a_out, a_barred, a_cycle, a_tried, fr, fa, qu, a_tree, a_members)) :
    ∀ (d k : Nat) (R : Nat → Prop) (D P Q : Nat → Nat) (qd rg rs : Nat) (fr fa qu : Nat → Int32), k + d = n → sw_I n m T s rs0 k 0 R D P Q qd rg rs fr fa qu → wX_sweep_49 post (nI T) (d + 1) (nI qd) (nI k) (nI n) f_kept f_found f_firstFound (nI rg) (nI rs) a_many a_out a_barred a_cycle a_tried fr fa qu a_tree a_members := by
  intro d
  induction d with
  | zero =>
    intro k R D P Q qd rg rs fr fa qu hk I
    have qn := bf_qdle I.1
    exact pk_le n k (fun _ => hp R D P rg rs fr fa qu (bf_fin I.1 (by omega)) I.2.2.1 I.2.2.2.1 I.2.2.2.2) (fun z => absurd z (by omega))
  | succ d ih =>
    intro k R D P Q qd rg rs fr fa qu hk I
    have qn := bf_qdle I.1
    refine pk_le n k (fun z => absurd z (by omega)) (fun _ => pk_le qd k (fun z => hp R D P rg rs fr fa qu (bf_fin I.1 z) I.2.2.1 I.2.2.2.1 I.2.2.2.2) (fun kq => ⟨vp_in_nI (by omega) (by omega), nm_r (e' := nI (Q k)) ?_ ⟨n + 1, ?_⟩⟩))
    · rw [nI_clamp (by omega)]
      exact I.2.1.2.2.2.2 k kq
    · refine xw_s76 g hn hM hT hs ts nl (fun R D P Q qd rg rs fr fa qu I' => ?_) n 0 R D P Q qd rg rs fr fa qu (by omega) rfl kq I
      exact ih (k + 1) R D P Q qd rg rs fr fa qu (by omega) ⟨bf_next (fun x y h => (g.2.2 x y h.1).2) I'.1, I'.2⟩
theorem xw_s2 {n : Nat} (hn : n ≤ 9) {s T : Int32} {post : SX → Prop}
    (hp : ∀ fr fa : Nat → Int32, (∀ v, v < n → fr v = -1 ∧ fa v = -1) → vp_in s 9 ∧ ∀ x, x = upd fa s.toNatClampNeg 0 → ∀ y, y = upd a_queue 0 s → ∃ n49 : Nat, wX_sweep_49 post T n49 1 0 (nI n) f_kept f_found f_firstFound f_ring f_ringSize a_many a_out a_barred a_cycle a_tried fr x y a_tree a_members) :
    ∀ (d j : Nat) (fr fa : Nat → Int32), j + d = n → (∀ v, v < j → fr v = -1 ∧ fa v = -1) → wX_sweep_2 post s T (nI n) f_kept f_found f_firstFound f_ring f_ringSize (d + 1) (nI j) a_many a_out a_barred a_cycle a_tried fr fa a_queue a_tree a_members := by
  intro d
  induction d with
  | zero =>
    intro j fr fa hj h
    have e : j = n := by omega
    subst e
    exact pk_le j j (fun _ => hp fr fa h) (fun z => absurd z (by omega))
  | succ d ih =>
    intro j fr fa hj h
    have cj : (nI j).toNatClampNeg = j := nI_clamp (by omega)
    refine pk_le n j (fun z => absurd z (by omega)) (fun _ => ⟨vp_in_nI (by omega) (by omega), nm_r (e' := upd fa j (-1)) (by rw [cj]) ⟨vp_in_nI (by omega) (by omega), nm_r (e' := upd fr j (-1)) (by rw [cj]) (nm_r (nI_1 j) (ih (j + 1) _ _ (by omega) (fun v hv => ?_)))⟩⟩)
    by_cases e : v = j
    · rw [e, pk_us, pk_us]; exact ⟨rfl, rfl⟩
    · rw [pk_un e, pk_un e]; exact h v (by omega)
theorem xw_sweep {n : Nat} {m : Nat → Nat → Nat} (g : gr_G n m) (hn : n ≤ 9) (hM : gx_M m a_many) {T s : Nat} (hT : T < 2 ^ 31) (hs : s < n) (ts : T.testBit s = false) (nl : ¬ gr_loop m T) {rg0 rs0 : Nat} (V : sw_V n m T rg0 rs0) (l0 : rs0 ≤ 17) {post : SX → Prop}
    (hp : ∀ (rg rs : Nat) (fr fa qu : Nat → Int32), sw_V n m T rg rs → rs ≤ 17 → bf_le rs0 rs → (∀ b k, gr_E m T s b → s ≠ b → gr_W (gr_del (gr_E m T) s b) k s b → (∀ a b l, a ≠ b → gr_E m T a b → gr_W (gr_del (gr_E m T) a b) l a b → k ≤ l) → rs ≠ 0 ∧ rs ≤ k + 1) → post (nI n, f_kept, f_found, f_firstFound, nI rg, nI rs, a_many, a_out, a_barred, a_cycle, a_tried, fr, fa, qu, a_tree, a_members)) :
    wpX_sweep post (nI n, f_kept, f_found, f_firstFound, nI rg0, nI rs0, a_many, a_out, a_barred, a_cycle, a_tried, a_from, a_far, a_queue, a_tree, a_members) (nI s) (nI T) := by
  refine ⟨n + 1, xw_s2 hn (fun fr fa h => ⟨vp_in_nI (by omega) (by omega), nm_r (e' := upd fa s 0) (by rw [nI_clamp (by omega)]) (nm_e ⟨n + 1, ?_⟩)⟩) n 0 a_from a_far (by omega) (fun v hv => by omega)⟩
  refine xw_s49 g hn hM hT hs ts nl (rs0 := rs0) (fun R D P rg rs fr fa qu F V l le => hp rg rs fr fa qu V l le (fun b k sb ne w min => bf_got (gr_Es g T) F sb ne w min)) n 0 (fun x => x = s) (fun _ => 0) (fun x => x) (fun _ => s) 1 rg0 rs0 fr (upd fa s 0) (upd a_queue 0 (nI s)) (by omega) ⟨bf_init hs _ _ rfl rs0, ⟨fun v e => ?_, fun v hv e => ?_, fun v e ne => absurd e ne, (h s hs).1, fun i hi => ?_⟩, V, l0, bf_ler rs0⟩
  · rw [show v = s from e, pk_us]; rfl
  · rw [pk_un e]; exact (h v hv).2
  · rw [show i = 0 by omega, pk_us]
end
end
section
/-! ===== the component: shortest ===== -/
def sh_nl (m : Nat → Nat → Nat) (n T k : Nat) : Prop := ∀ u, u < n → u * n + u < k → 0 < m u u → T.testBit u = true
def sh_nd (m : Nat → Nat → Nat) (n T k : Nat) : Prop := ∀ u v, u < n → v < n → u * n + v < k → u ≠ v → m u v = 2 → T.testBit u = false → T.testBit v = true
def sh_I (n : Nat) (m : Nat → Nat → Nat) (T k rg rs : Nat) : Prop :=
  (rs = 0 ∧ rg = 0 ∧ sh_nl m n T k ∧ sh_nd m n T k) ∨ (rs = 1 ∧ ∃ u, 0 < m u u ∧ T.testBit u = false ∧ rg = 2 ^ u) ∨ (rs = 2 ∧ sh_nl m n T k ∧ ∃ u v, u ≠ v ∧ m u v = 2 ∧ T.testBit u = false ∧ T.testBit v = false ∧ rg = 2 ^ u ||| 2 ^ v)
theorem sh_nl1 {m : Nat → Nat → Nat} {n T k : Nat} (h : sh_nl m n T k) (q : k / n = k % n → 0 < m (k / n) (k % n) → T.testBit (k / n) = true) : sh_nl m n T (k + 1) := by
  intro u hu hk mp
  by_cases e : u * n + u = k
  · have i := ix_eq hu e
    have e2 := i.1.symm.trans i.2
    rw [i.1]
    refine q e2 ?_
    rw [← e2, ← i.1]; exact mp
  · exact h u hu (by omega) mp
theorem sh_nd1 {m : Nat → Nat → Nat} {n T k : Nat} (h : sh_nd m n T k) (q : k / n ≠ k % n → m (k / n) (k % n) = 2 → T.testBit (k / n) = false → T.testBit (k % n) = true) : sh_nd m n T (k + 1) := by
  intro u v hu hv hk ne mp tu
  by_cases e : u * n + v = k
  · have i := ix_eq hv e
    rw [i.2]
    refine q ?_ ?_ ?_
    · rw [← i.1, ← i.2]; exact ne
    · rw [← i.1, ← i.2]; exact mp
    · rw [← i.1]; exact tu
  · exact h u v hu hv (by omega) ne mp tu
/-- nothing new at k -/
theorem sh_same {n : Nat} {m : Nat → Nat → Nat} {T k rg rs : Nat} (I : sh_I n m T k rg rs) (q1 : k / n = k % n → 0 < m (k / n) (k % n) → T.testBit (k / n) = true ∨ rs = 1) (q2 : k / n ≠ k % n → m (k / n) (k % n) = 2 → T.testBit (k / n) = false → T.testBit (k % n) = true ∨ rs ≠ 0) : sh_I n m T (k + 1) rg rs := by
  rcases I with ⟨a, b, c, d⟩ | ⟨a, b⟩ | ⟨a, b, c⟩
  · exact Or.inl ⟨a, b, sh_nl1 c (fun e f => (q1 e f).elim id (fun z => by omega)), sh_nd1 d (fun e f h => (q2 e f h).elim id (fun z => by omega))⟩
  · exact Or.inr (Or.inl ⟨a, b⟩)
  · exact Or.inr (Or.inr ⟨a, sh_nl1 b (fun e f => (q1 e f).elim id (fun z => by omega)), c⟩)
/-- what shortest answers -/
def sh_G (m : Nat → Nat → Nat) (T rs : Nat) : Prop := (gr_loop m T → rs = 1) ∧ (¬ gr_loop m T → gr_dbl m T → rs = 2) ∧ (¬ gr_loop m T → ¬ gr_dbl m T → (∀ k, gr_ck m T k → rs ≠ 0 ∧ rs ≤ k + 1) ∧ (rs ≠ 0 → gr_ck m T (rs - 1)))
def sh_R (n : Nat) (m : Nat → Nat → Nat) (T rg rs : Nat) : Prop := (rs = 0 → rg = 0 ∧ ¬ gr_Cyc m T) ∧ (rs ≠ 0 → rg < 2 ^ n ∧ (∀ i, rg.testBit i = true → T.testBit i = false) ∧ se_U m rg) ∧ rs ≤ 17 ∧ sh_G m T rs
theorem sh_nlE {n : Nat} {m : Nat → Nat → Nat} (g : gr_G n m) {T : Nat} (h : sh_nl m n T (n * n)) : ¬ gr_loop m T := by
  rintro ⟨u, mu, tu⟩
  have hu := (g.2.2 u u mu).1
  exact mk_tf tu (h u hu (ix_lt hu hu) mu)
theorem sh_ndE {n : Nat} {m : Nat → Nat → Nat} (g : gr_G n m) {T : Nat} (h : sh_nd m n T (n * n)) : ¬ gr_dbl m T := by
  rintro ⟨u, v, ne, m2, tu, tv⟩
  have hu := g.2.2 u v (by omega)
  exact mk_tf tv (h u v hu.1 hu.2 (ix_lt hu.1 hu.2) ne m2 tu)
/-- a loop or a double edge was found -/
theorem sh_fin {n : Nat} {m : Nat → Nat → Nat} (g : gr_G n m) {T rg rs : Nat} (I : sh_I n m T (n * n) rg rs) (r : rs ≠ 0) : sh_R n m T rg rs := by
  refine ⟨fun z => absurd z r, fun _ => ?_, ?_, ?_⟩
  · rcases I with ⟨a, _⟩ | ⟨a, u, mu, tu, e⟩ | ⟨a, _, u, v, ne, m2, tu, tv, e⟩
    · exact absurd a r
    · have hu := (g.2.2 u u mu).1
      rw [e]
      exact ⟨Nat.pow_lt_pow_right (by decide) hu, fun i hi => by rw [mk_oneT.mp hi]; exact tu, fun S h => Or.inl ⟨u, mu, h u (mk_oneT.mpr rfl)⟩⟩
    · have hu := g.2.2 u v (by omega)
      rw [e]
      exact ⟨Nat.or_lt_two_pow (Nat.pow_lt_pow_right (by decide) hu.1) (Nat.pow_lt_pow_right (by decide) hu.2), fun i hi => by
        rcases mk_setT.mp hi with q | q
        · rw [mk_oneT.mp q]; exact tu
        · rw [q]; exact tv, fun S h => Or.inr (Or.inl ⟨u, v, ne, m2, h u (mk_setT.mpr (Or.inl (mk_oneT.mpr rfl))), h v (mk_setT.mpr (Or.inr rfl))⟩)⟩
  · rcases I with ⟨a, _⟩ | ⟨a, _⟩ | ⟨a, _⟩ <;> omega
  · rcases I with ⟨a, _⟩ | ⟨a, u, mu, tu, e⟩ | ⟨a, nl, u, v, ne, m2, tu, tv, e⟩
    · exact absurd a r
    · exact ⟨fun _ => a, fun h => absurd ⟨u, mu, tu⟩ h, fun h => absurd ⟨u, mu, tu⟩ h⟩
    · exact ⟨fun h => absurd h (sh_nlE g nl), fun _ _ => a, fun _ h => absurd ⟨u, v, ne, m2, tu, tv⟩ h⟩
/-- after all the sweeps -/
theorem sh_swept {n : Nat} {m : Nat → Nat → Nat} (g : gr_G n m) {T rg rs : Nat} (nl : ¬ gr_loop m T) (nd : ¬ gr_dbl m T) (V : sw_V n m T rg rs) (l : rs ≤ 17) (co : ∀ s, s < n → T.testBit s = false → ∀ b k, gr_E m T s b → s ≠ b → gr_W (gr_del (gr_E m T) s b) k s b → (∀ a b l, a ≠ b → gr_E m T a b → gr_W (gr_del (gr_E m T) a b) l a b → k ≤ l) → rs ≠ 0 ∧ rs ≤ k + 1) : sh_R n m T rg rs := by
  have al : ∀ k, gr_ck m T k → rs ≠ 0 ∧ rs ≤ k + 1 := by
    intro k h
    obtain ⟨k0, ⟨a, b, ne, e, w⟩, mi⟩ := pk_least (fun k => gr_ck m T k) ⟨k, h⟩
    have lk : k0 ≤ k := by
      by_cases z : k0 ≤ k
      · exact z
      · exact absurd h (mi k (by omega))
    have c := co a (g.2.2 a b e.1).1 e.2.1 b k0 e ne w (fun a b l ne e w => by
      by_cases z : k0 ≤ l
      · exact z
      · exact absurd ⟨a, b, ne, e, w⟩ (mi l (by omega)))
    exact ⟨c.1, by omega⟩
  refine ⟨fun z => ⟨V.1 z, ?_⟩, fun z => ?_, l, fun h => absurd h nl, fun _ h => absurd h nd, fun _ _ => ⟨al, fun z => ?_⟩⟩
  · rintro (h | h | ⟨k, h⟩)
    · exact nl h
    · exact nd h
    · exact (al k h).1 z
  · have v := V.2 z
    exact ⟨v.1, v.2.1, fun S h => Or.inr (Or.inr ⟨_, gr_rkck h v.2.2⟩)⟩
  · have v := V.2 z
    exact gr_rkck v.2.1 v.2.2
section
variable {f_n f_kept f_found f_firstFound f_ring f_ringSize : Int32} {a_many a_out a_barred a_cycle a_tried a_from a_far a_queue a_tree a_members : Nat → Int32}
theorem xw_sh157 {n : Nat} {m : Nat → Nat → Nat} (g : gr_G n m) (hn : n ≤ 9) (hM : gx_M m a_many) {T : Nat} (hT : T < 2 ^ 31) (nl : ¬ gr_loop m T) (nd : ¬ gr_dbl m T) {post : SX → Prop}
    (hp : ∀ (rg rs : Nat) (fr fa qu : Nat → Int32), sh_R n m T rg rs → post (nI n, f_kept, f_found, f_firstFound, nI rg, nI rs, a_many, a_out, a_barred, a_cycle, a_tried, fr, fa, qu, a_tree, a_members)) :
    ∀ (d v rg rs : Nat) (fr fa qu : Nat → Int32), v + d = n → sw_V n m T rg rs → rs ≤ 17 → (∀ s, s < v → T.testBit s = false → ∀ b k, gr_E m T s b → s ≠ b → gr_W (gr_del (gr_E m T) s b) k s b → (∀ a b l, a ≠ b → gr_E m T a b → gr_W (gr_del (gr_E m T) a b) l a b → k ≤ l) → rs ≠ 0 ∧ rs ≤ k + 1) → wX_shortest_157 post (nI T) (d + 1) (nI v) (nI n) f_kept f_found f_firstFound (nI rg) (nI rs) a_many a_out a_barred a_cycle a_tried fr fa qu a_tree a_members := by
  intro d
  induction d with
  | zero =>
    intro v rg rs fr fa qu hv V l co
    have e : v = n := by omega
    subst e
    exact pk_le v v (fun _ => hp rg rs fr fa qu (sh_swept g nl nd V l co)) (fun z => absurd z (by omega))
  | succ d ih =>
    intro v rg rs fr fa qu hv V l co
    refine pk_le n v (fun z => absurd z (by omega)) (fun _ => bx_if (mk_b0 hT (by omega)) (fun tv => ?_) (fun tv => nm_r (nI_1 v) (ih (v + 1) rg rs fr fa qu (by omega) V l (fun s hs ts => co s (by
      have : s ≠ v := fun e => tv (by rw [← e]; exact ts)
      omega) ts))))
    refine xw_sweep g hn hM hT (by omega) tv nl V l (fun rg' rs' fr' fa' qu' V' l' le c => nm_r (nI_1 v) (ih (v + 1) rg' rs' fr' fa' qu' (by omega) V' l' (fun s hs ts b k h1 h2 h3 h4 => ?_)))
    by_cases e : s = v
    · rw [e] at h1 h2 h3
      exact c b k h1 h2 h3 h4
    · have q := co s (by omega) ts b k h1 h2 h3 h4
      have q2 := le q.1
      exact ⟨q2.1, by omega⟩
theorem xw_sh12 {n : Nat} {m : Nat → Nat → Nat} (g : gr_G n m) (n0 : 0 < n) (hn : n ≤ 9) (hM : gx_M m a_many) {T : Nat} (hT : T < 2 ^ 31) {post : SX → Prop}
    (hp : ∀ (rg rs : Nat) (fr fa qu : Nat → Int32), sh_R n m T rg rs → post (nI n, f_kept, f_found, f_firstFound, nI rg, nI rs, a_many, a_out, a_barred, a_cycle, a_tried, fr, fa, qu, a_tree, a_members)) :
    ∀ (d k rg rs : Nat), k + d = n * n → sh_I n m T k rg rs → wX_shortest_12 post (nI T) (d + 1) (nI k) (nI n) f_kept f_found f_firstFound (nI rg) (nI rs) a_many a_out a_barred a_cycle a_tried a_from a_far a_queue a_tree a_members := by
  have nn : n * n ≤ 81 := Nat.mul_le_mul hn hn
  intro d
  induction d with
  | zero =>
    intro k rg rs hk I
    have e : k = n * n := by omega
    subst e
    have r2 : rs ≤ 2 := by rcases I with ⟨a, _⟩ | ⟨a, _⟩ | ⟨a, _⟩ <;> omega
    refine pk_le (n * n) (n * n) (fun _ => ?_) (fun z => absurd z (by omega)) (hx := pk_mul n n)
    refine pk_le rs 0 (fun z => ⟨n + 1, ?_⟩) (fun z => hp rg rs a_from a_far a_queue (sh_fin g I (by omega)))
    rcases I with ⟨a, b, c, e⟩ | ⟨a, _⟩ | ⟨a, _⟩
    · exact xw_sh157 g hn hM hT (sh_nlE g c) (sh_ndE g e) hp n 0 rg rs a_from a_far a_queue (by omega) ⟨fun _ => b, fun z => absurd a z⟩ (by omega) (fun s hs => by omega)
    · omega
    · omega
  | succ d ih =>
    intro k rg rs hk I
    have ik := ix_of (show k < n * n by omega)
    have r2 : rs ≤ 2 := by rcases I with ⟨a, _⟩ | ⟨a, _⟩ | ⟨a, _⟩ <;> omega
    have nx : ∀ rg' rs', sh_I n m T (k + 1) rg' rs' → wX_shortest_12 post (nI T) (d + 1) (nI (k + 1)) (nI n) f_kept f_found f_firstFound (nI rg') (nI rs') a_many a_out a_barred a_cycle a_tried a_from a_far a_queue a_tree a_members := fun rg' rs' I' => ih (k + 1) rg' rs' (by omega) I'
    have nz : ¬ nI n = 0 := nI_ne0 n0 (by omega)
    have u9 : k / n < 9 := by omega
    have v9 : k % n < 9 := by omega
    have m2 := g.2.1 (k / n) (k % n)
    have em := gx_g hM u9 v9
    -- not there
    have j61 : ¬ (T.testBit (k / n) = false ∧ T.testBit (k % n) = false) → wX_shortest_61 post (wX_shortest_12 post (nI T) (d + 1)) (nI T) (nI k) (nI (k / n)) (nI (k % n)) (nI n) f_kept f_found f_firstFound (nI rg) (nI rs) a_many a_out a_barred a_cycle a_tried a_from a_far a_queue a_tree a_members := fun no => by
      refine br_t rfl (br_t rfl (nm_r (nI_1 k) (nx rg rs (sh_same I (fun e _ => Or.inl ?_) (fun _ _ tu => Or.inl ?_)))))
      · by_cases tu : T.testBit (k / n) = true
        · exact tu
        · exact absurd ⟨mk_ff tu, by rw [← e]; exact mk_ff tu⟩ no
      · by_cases tv : T.testBit (k % n) = true
        · exact tv
        · exact absurd ⟨tu, mk_ff tv⟩ no
    refine pk_le (n * n) k (fun z => absurd z (by omega)) (fun _ => ⟨nz, nm_r (pk_div (by omega) n0 (by omega)) ⟨nz, nm_r (pk_rem (by omega) n0 (by omega)) ?_⟩⟩) (hx := pk_mul n n)
    refine bx_if (mk_b0 hT (by omega)) (fun tu => bx_if (mk_b0 hT (by omega)) (fun tv => ?_) (fun tv => j61 (fun z => tv z.2))) (fun tu => j61 (fun z => tu z.1))
    refine br_f (by decide) (pk_eq (k / n) (k % n) (fun e => ⟨mk_in u9 v9, pk_le (m (k / n) (k % n)) 0 (fun z => ?_) (fun z => ?_) (hx := em)⟩) (fun ne => ?_))
    · -- no loop here
      exact br_f (by decide) (br_t (congrArg nI e) (nm_r (nI_1 k) (nx rg rs (sh_same I (fun _ h => by omega) (fun h => absurd e h)))))
    · -- a loop
      rw [mk_one (by omega)]
      refine xw_take (z := 1) (by omega) (by omega) (fun _ => nm_r (nI_1 k) (nx _ 1 ?_)) (fun r0 r1 => nm_r (nI_1 k) (nx rg rs (sh_same I (fun _ _ => Or.inr (by omega)) (fun h => absurd e h))))
      exact Or.inr (Or.inl ⟨rfl, k / n, by rw [← e] at z; exact z, tu, rfl⟩)
    · refine br_f (by decide) (br_f (fun z => ne ((nI_eq (by omega) (by omega)).mp z)) ⟨mk_in u9 v9, pk_eq (m (k / n) (k % n)) 2 (fun z => ?_) (fun z => ?_) (hx := em)⟩)
      · rw [mk_one (by omega), mk_one (by omega), mk_or]
        refine xw_take (z := 2) (by omega) (by omega) (fun q => nm_r (nI_1 k) (nx _ 2 ?_)) (fun r0 r1 => nm_r (nI_1 k) (nx rg rs (sh_same I (fun h => absurd h ne) (fun _ _ _ => Or.inr r0))))
        rcases I with ⟨a, b, c, f⟩ | ⟨a, _⟩ | ⟨a, _⟩
        · exact Or.inr (Or.inr ⟨rfl, sh_nl1 c (fun h => absurd h ne), k / n, k % n, ne, z, tu, tv, rfl⟩)
        · omega
        · omega
      · exact nm_r (nI_1 k) (nx rg rs (sh_same I (fun h => absurd h ne) (fun _ h => absurd h z)))
theorem xw_shortest {n : Nat} {m : Nat → Nat → Nat} (g : gr_G n m) (n0 : 0 < n) (hn : n ≤ 9) (hM : gx_M m a_many) {T : Nat} (hT : T < 2 ^ 31) {post : SX → Prop}
    (hp : ∀ (rg rs : Nat) (fr fa qu : Nat → Int32), sh_R n m T rg rs → post (nI n, f_kept, f_found, f_firstFound, nI rg, nI rs, a_many, a_out, a_barred, a_cycle, a_tried, fr, fa, qu, a_tree, a_members)) : wpX_shortest post (nI n, f_kept, f_found, f_firstFound, f_ring, f_ringSize, a_many, a_out, a_barred, a_cycle, a_tried, a_from, a_far, a_queue, a_tree, a_members) (nI T) :=
  ⟨n * n + 1, xw_sh12 g n0 hn hM hT hp (n * n) 0 0 0 (by omega) (Or.inl ⟨rfl, rfl, fun _ _ h => by omega, fun _ _ _ _ h => by omega⟩)⟩
end
end
section
/-! ===== the component: packing, note, enter, nextTry ===== -/
theorem mk_uu (f : Nat → Int32) (k : Nat) (x y : Int32) : upd (upd f k x) k y = upd f k y := by
  funext j
  by_cases e : j = k
  · rw [e, pk_us, pk_us]
  · rw [pk_un e, pk_un e, pk_un e]
section
variable {f_n f_kept f_found f_firstFound f_ring f_ringSize : Int32} {a_many a_out a_barred a_cycle a_tried a_from a_far a_queue a_tree a_members : Nat → Int32}
theorem xw_pack7 {n : Nat} {m : Nat → Nat → Nat} (g : gr_G n m) (n0 : 0 < n) (hn : n ≤ 9) (hM : gx_M m a_many) {O : Nat} {post : Int32 → SX → Prop}
    (hp : ∀ (k : Nat) (rg rs : Int32) (fr fa qu : Nat → Int32), k ≤ 9 → (∃ e, se_P m O k e) → post (nI k) (nI n, f_kept, f_found, f_firstFound, rg, rs, a_many, a_out, a_barred, a_cycle, a_tried, fr, fa, qu, a_tree, a_members)) :
    ∀ (d k e : Nat) (rg rs : Int32) (fr fa qu : Nat → Int32), k + d = 9 → se_P m O k e → e < 2 ^ n → wX_packing_7 post (d + 1) (nI e) (nI k) (nI k) (nI n) f_kept f_found f_firstFound rg rs a_many a_out a_barred a_cycle a_tried fr fa qu a_tree a_members := by
  have p9 := mk_p9 hn
  intro d
  induction d with
  | zero =>
    intro k e rg rs fr fa qu hk hP he
    have q : k = 9 := by omega
    subst q
    exact pk_le 9 9 (fun _ => hp 9 rg rs fr fa qu (by omega) ⟨e, hP⟩) (fun z => absurd z (by omega))
  | succ d ih =>
    intro k e rg rs fr fa qu hk hP he
    refine pk_le 9 k (fun z => absurd z (by omega)) (fun _ => ?_)
    refine xw_shortest g n0 hn hM (by omega) (fun rg' rs' fr' fa' qu' S => ?_)
    refine pk_eq rs' 0 (fun z => hp k _ _ fr' fa' qu' (by omega) ⟨e, hP⟩) (fun z => nm_r (mk_or e rg') (nm_r (nI_1 k) (nm_r (nI_1 k) ?_))) (ha := by have := S.2.2.1; omega)
    have q := S.2.1 z
    exact ih (k + 1) (e ||| rg') _ _ fr' fa' qu' (by omega) (se_P1 hn hP q.2.2 q.1 q.2.1) (Nat.or_lt_two_pow he q.1)
theorem xw_packing {n : Nat} {m : Nat → Nat → Nat} (g : gr_G n m) (n0 : 0 < n) (hn : n ≤ 9) (hM : gx_M m a_many) {O : Nat} (hO : O < 2 ^ n) {post : Int32 → SX → Prop}
    (hp : ∀ (k : Nat) (rg rs : Int32) (fr fa qu : Nat → Int32), k ≤ 9 → (∃ e, se_P m O k e) → post (nI k) (nI n, f_kept, f_found, f_firstFound, rg, rs, a_many, a_out, a_barred, a_cycle, a_tried, fr, fa, qu, a_tree, a_members)) : wpX_packing post (nI n, f_kept, f_found, f_firstFound, f_ring, f_ringSize, a_many, a_out, a_barred, a_cycle, a_tried, a_from, a_far, a_queue, a_tree, a_members) (nI O) :=
  ⟨10, xw_pack7 g n0 hn hM hp 9 0 O f_ring f_ringSize a_from a_far a_queue rfl (se_P0 m O) hO⟩
theorem xw_note32 {n O : Nat} (hn : n ≤ 9) (hO : O < 2 ^ 31) {post : SX → Prop}
    (hp : ∀ mem : Nat → Int32, (∀ v, v < n → mem v = a_members v + nI (if O.testBit v = true then 1 else 0)) → post (nI n, f_kept, f_found, f_firstFound, f_ring, f_ringSize, a_many, a_out, a_barred, a_cycle, a_tried, a_from, a_far, a_queue, a_tree, mem)) :
    ∀ (d j : Nat) (mem : Nat → Int32), j + d = n → (∀ v, v < j → mem v = a_members v + nI (if O.testBit v = true then 1 else 0)) → (∀ v, j ≤ v → mem v = a_members v) → wX_note_32 post (nI O) (nI n) f_kept f_found f_firstFound f_ring f_ringSize (d + 1) (nI j) a_many a_out a_barred a_cycle a_tried a_from a_far a_queue a_tree mem := by
  intro d
  induction d with
  | zero =>
    intro j mem hj h1 h2
    have e : j = n := by omega
    subst e
    exact pk_le j j (fun _ => hp mem h1) (fun z => absurd z (by omega))
  | succ d ih =>
    intro j mem hj h1 h2
    have cj : (nI j).toNatClampNeg = j := nI_clamp (by omega)
    refine pk_le n j (fun z => absurd z (by omega)) (fun _ => ⟨vp_in_nI (by omega) (by omega), vp_in_nI (by omega) (by omega), nm_r (e' := upd mem j (a_members j + nI (if O.testBit j = true then 1 else 0))) (by rw [cj, mk_bit hO (by omega), h2 j (Nat.le_refl _)]) (nm_r (nI_1 j) (ih (j + 1) _ (by omega) (fun v hv => ?_) (fun v hv => ?_)))⟩)
    · by_cases e : v = j
      · rw [e, pk_us]
      · rw [pk_un e]; exact h1 v (by omega)
    · rw [pk_un (by omega)]; exact h2 v (by omega)
theorem xw_note {n O : Nat} (hn : n ≤ 9) (hO : O < 2 ^ n) {A : Nat → Prop} (AC : se_AC n A f_found f_firstFound a_members) (no : ¬ A O) {post : SX → Prop}
    (hp : ∀ (fd ff : Int32) (mem : Nat → Int32), se_AC n (fun S => A S ∨ S = O) fd ff mem → post (nI n, f_kept, fd, ff, f_ring, f_ringSize, a_many, a_out, a_barred, a_cycle, a_tried, a_from, a_far, a_queue, a_tree, mem)) : wpX_note post (nI n, f_kept, f_found, f_firstFound, f_ring, f_ringSize, a_many, a_out, a_barred, a_cycle, a_tried, a_from, a_far, a_queue, a_tree, a_members) (nI O) := by
  have p9 := mk_p9 hn
  refine nm_e (br_c (fun h => ⟨n + 1, ?_⟩) (fun h => br_c (fun h2 => ⟨n + 1, ?_⟩) (fun h2 => ⟨n + 1, ?_⟩)))
  · exact xw_note32 hn (by omega) (fun mem hm => hp _ _ mem (se_ACn hn AC hO no hm _ (Or.inl ⟨h, rfl⟩))) n 0 a_members (by omega) (fun v hv => by omega) (fun _ _ => rfl)
  · exact xw_note32 hn (by omega) (fun mem hm => hp _ _ mem (se_ACn hn AC hO no hm _ (Or.inr (Or.inl ⟨h, h2, rfl⟩)))) n 0 a_members (by omega) (fun v hv => by omega) (fun _ _ => rfl)
  · exact xw_note32 hn (by omega) (fun mem hm => hp _ _ mem (se_ACn hn AC hO no hm _ (Or.inr (Or.inr ⟨h, h2, rfl⟩)))) n 0 a_members (by omega) (fun v hv => by omega) (fun _ _ => rfl)
theorem xw_enter {n : Nat} {m : Nat → Nat → Nat} (g : gr_G n m) (n0 : 0 < n) (hn : n ≤ 9) (hM : gx_M m a_many) {O d s : Nat} (hO : O < 2 ^ n) (hd : d ≤ 9) (ho : a_out d = nI O) (hs : s ≤ 9) (ps : mk_pc O ≤ s) {A : Nat → Prop} (AC : se_AC n A f_found f_firstFound a_members) (no : ¬ gr_Cyc m O → ¬ A O) {post : SX → Prop}
    (h1 : ¬ gr_Cyc m O → ∀ (fd ff rg rs : Int32) (fr fa qu mem : Nat → Int32), se_AC n (fun S => A S ∨ S = O) fd ff mem → post (nI n, f_kept, fd, ff, rg, rs, a_many, a_out, a_barred, upd a_cycle d (nI 0), upd a_tried d (nI 0), fr, fa, qu, a_tree, mem))
    (h2 : gr_Cyc m O → ∀ (c : Nat) (rg rs : Int32) (fr fa qu : Nat → Int32), c < 2 ^ n → (∀ i, c.testBit i = true → O.testBit i = false) → (c ≠ 0 → mk_pc O < s) → (∀ b S, se_R m n s O b c 0 S ↔ se_F m n s O b S) → post (nI n, f_kept, f_found, f_firstFound, rg, rs, a_many, a_out, a_barred, upd a_cycle d (nI c), upd a_tried d (nI 0), fr, fa, qu, a_tree, a_members)) :
    wpX_enter post (nI n, f_kept, f_found, f_firstFound, f_ring, f_ringSize, a_many, a_out, a_barred, a_cycle, a_tried, a_from, a_far, a_queue, a_tree, a_members) (nI d) (nI s) := by
  have p9 := mk_p9 hn
  have cd : (nI d).toNatClampNeg = d := nI_clamp (by omega)
  have i10 : vp_in (nI d) 10 := vp_in_nI (by omega) (by omega)
  have z2 : 0 < 2 ^ n := Nat.two_pow_pos n
  refine ⟨i10, ?_⟩
  rw [cd, ho]
  refine xw_shortest g n0 hn hM (by omega) (fun rg rs fr fa qu S => ⟨i10, nm_e ⟨i10, nm_r (e' := upd a_tried d (nI 0)) rfl ?_⟩⟩)
  refine pk_eq rs 0 (fun r0 => ⟨i10, ?_⟩) (fun r0 => ⟨i10, ?_⟩) (ha := by have := S.2.2.1; omega)
  · have q := S.1 r0
    rw [ho, q.1]
    exact xw_note hn hO AC (no q.2) (fun fd ff mem ac => h1 q.2 fd ff _ _ fr fa qu mem ac)
  · have q := S.2.1 r0
    have cy : gr_Cyc m O := q.2.2 O q.2.1
    rw [ho]
    have zero : (∀ b S, ¬ se_F m n s O b S) → ∀ (rg rs : Int32) (fr fa qu : Nat → Int32), post (nI n, f_kept, f_found, f_firstFound, rg, rs, a_many, a_out, a_barred, upd a_cycle d (nI 0), upd a_tried d (nI 0), fr, fa, qu, a_tree, a_members) := fun no rg rs fr fa qu =>
      h2 cy 0 rg rs fr fa qu z2 (fun i h => (mk_z h).elim) (fun h => absurd rfl h) (fun b S => ⟨fun h => h.1, fun h => absurd h (no b S)⟩)
    refine xw_ones (by omega) (nm_r (pk_sub ps) ?_)
    refine pk_le (s - mk_pc O) 0 (fun z => ⟨i10, nm_r (e' := upd a_cycle d (nI 0)) (by rw [mk_uu]; rfl) (zero (fun b S => se_full hn cy (by omega) S) _ _ fr fa qu)⟩) (fun z => ⟨i10, ?_⟩)
    refine xw_packing g n0 hn hM hO (fun k rg' rs' fr' fa' qu' k9 P => ?_)
    obtain ⟨e, P⟩ := P
    refine pk_le k (s - mk_pc O) (fun _ => ?_) (fun l => ⟨i10, nm_r (e' := upd a_cycle d (nI 0)) (by rw [mk_uu]; rfl) (zero (fun b S => se_cut P (by omega) S) _ _ fr' fa' qu')⟩)
    exact h2 cy rg rg' rs' fr' fa' qu' q.1 q.2.1 (fun _ => by omega) (fun b S => se_all q.2.2 S)
theorem xw_next7 {n d b c t : Nat} (hn : n ≤ 9) (hd : d ≤ 9) (hb : b < 2 ^ n) (hc : c < 2 ^ n) (ba : a_barred d = nI b) (cy : a_cycle d = nI c) {post : Int32 → SX → Prop}
    (h1 : (∀ w, t ≤ w → w < n → c.testBit w = true → b.testBit w = true) → post (-1) (nI n, f_kept, f_found, f_firstFound, f_ring, f_ringSize, a_many, a_out, a_barred, a_cycle, a_tried, a_from, a_far, a_queue, a_tree, a_members))
    (h2 : ∀ v, t ≤ v → v < n → c.testBit v = true → b.testBit v = false → (∀ w, t ≤ w → w < v → c.testBit w = true → b.testBit w = true) → post (nI v) (nI n, f_kept, f_found, f_firstFound, f_ring, f_ringSize, a_many, a_out, a_barred, a_cycle, upd a_tried d (nI (v + 1)), a_from, a_far, a_queue, a_tree, a_members)) :
    ∀ (e v : Nat), v + e = n → t ≤ v → (∀ w, t ≤ w → w < v → c.testBit w = true → b.testBit w = true) → wX_nextTry_7 post (nI d) (nI n) f_kept f_found f_firstFound f_ring f_ringSize a_many a_out a_barred a_cycle a_tried a_from a_far a_queue a_tree a_members (e + 1) (nI v) := by
  have p9 := mk_p9 hn
  have cd : (nI d).toNatClampNeg = d := nI_clamp (by omega)
  have i10 : vp_in (nI d) 10 := vp_in_nI (by omega) (by omega)
  intro e
  induction e with
  | zero =>
    intro v hv tv h
    have e : v = n := by omega
    subst e
    exact pk_le v v (fun _ => h1 h) (fun z => absurd z (by omega))
  | succ e ih =>
    intro v hv tv h
    have go : (c.testBit v = true → b.testBit v = true) → wX_nextTry_7 post (nI d) (nI n) f_kept f_found f_firstFound f_ring f_ringSize a_many a_out a_barred a_cycle a_tried a_from a_far a_queue a_tree a_members (e + 1) (nI (v + 1)) := fun q => ih (v + 1) (by omega) (by omega) (fun w tw wv cw => by
      by_cases z : w = v
      · rw [z] at cw ⊢; exact q cw
      · exact h w tw (by omega) cw)
    refine pk_le n v (fun z => absurd z (by omega)) (fun vn => ⟨i10, ?_⟩)
    rw [cd, ba, cy]
    refine bx_if (mk_b1 (by omega) (by omega)) (fun cv => ⟨i10, bx_if (mk_b0 (by omega) (by omega)) (fun bv => ⟨i10, nm_r (e' := upd a_tried d (nI (v + 1))) (by rw [nI_1]) (h2 v tv vn cv bv h)⟩) (fun bv => nm_r (nI_1 v) (go (fun _ => by
      cases q : b.testBit v with
      | false => exact absurd q bv
      | true => rfl)))⟩) (fun cv => nm_r (nI_1 v) (go (fun z => absurd z cv)))
theorem xw_next {n d b c t : Nat} (hn : n ≤ 9) (hd : d ≤ 9) (hb : b < 2 ^ n) (hc : c < 2 ^ n) (ht : t ≤ n) (ba : a_barred d = nI b) (cy : a_cycle d = nI c) (tr : a_tried d = nI t) {post : Int32 → SX → Prop}
    (h1 : (∀ w, t ≤ w → w < n → c.testBit w = true → b.testBit w = true) → post (-1) (nI n, f_kept, f_found, f_firstFound, f_ring, f_ringSize, a_many, a_out, a_barred, a_cycle, a_tried, a_from, a_far, a_queue, a_tree, a_members))
    (h2 : ∀ v, t ≤ v → v < n → c.testBit v = true → b.testBit v = false → (∀ w, t ≤ w → w < v → c.testBit w = true → b.testBit w = true) → post (nI v) (nI n, f_kept, f_found, f_firstFound, f_ring, f_ringSize, a_many, a_out, a_barred, a_cycle, upd a_tried d (nI (v + 1)), a_from, a_far, a_queue, a_tree, a_members)) : wpX_nextTry post (nI n, f_kept, f_found, f_firstFound, f_ring, f_ringSize, a_many, a_out, a_barred, a_cycle, a_tried, a_from, a_far, a_queue, a_tree, a_members) (nI d) := by
  have cd : (nI d).toNatClampNeg = d := nI_clamp (by omega)
  exact ⟨vp_in_nI (by omega) (by omega), nm_r (e' := nI t) (by rw [cd, tr]) ⟨n - t + 1, xw_next7 hn hd hb hc ba cy h1 h2 (n - t) t (by omega) (Nat.le_refl _) (fun w a b => by omega)⟩⟩
end
end
section
/-! ===== the component: search, leastFrom ===== -/
/-- a place of the search: d the depth, O taken, b barred, c the cycle, t tried -/
def df_L (m : Nat → Nat → Nat) (n s d O b c t : Nat) : Prop := d ≤ 9 ∧ t ≤ n ∧ O < 2 ^ n ∧ b < 2 ^ n ∧ c < 2 ^ n ∧ (∀ i, c.testBit i = true → O.testBit i = false) ∧ (∀ i, O.testBit i = true → b.testBit i = false) ∧ mk_pc O ≤ s ∧ (c ≠ 0 → mk_pc O < s) ∧ d ≤ mk_pc O ∧ se_H m n s O b
def df_A (d O b c t : Nat) (ou ba cy tr : Nat → Int32) : Prop := ou d = nI O ∧ ba d = nI b ∧ cy d = nI c ∧ tr d = nI t
def df_lo (d : Nat) (f f' : Nat → Int32) : Prop := ∀ i, i < d → f' i = f i
noncomputable def df_f (n O b : Nat) : Nat := ct_c (fun v => O.testBit v = false ∧ b.testBit v = false) n
theorem df_f1 {n O b v : Nat} (hv : v < n) (ov : O.testBit v = false) (bv : b.testBit v = false) : df_f n (O ||| 2 ^ v) b + 1 = df_f n O b := by
  refine (ct_ins hv (fun h => mk_tf h.1 (mk_setT.mpr (Or.inr rfl))) (fun i _ => ⟨fun h => ?_, fun h => ?_⟩)).symm
  · by_cases e : i = v
    · exact Or.inr e
    · exact Or.inl ⟨mk_ff (fun z => (mk_setT.mp z).elim (mk_tf h.1) e), h.2⟩
  · rcases h with h | h
    · exact ⟨mk_ff (fun z => mk_tf h.1 (mk_setT.mpr (Or.inl z))), h.2⟩
    · rw [h]; exact ⟨ov, bv⟩
theorem df_f2 {n O b v : Nat} (hv : v < n) (ov : O.testBit v = false) (bv : b.testBit v = false) : df_f n O (b ||| 2 ^ v) + 1 = df_f n O b := by
  refine (ct_ins hv (fun h => mk_tf h.2 (mk_setT.mpr (Or.inr rfl))) (fun i _ => ⟨fun h => ?_, fun h => ?_⟩)).symm
  · by_cases e : i = v
    · exact Or.inr e
    · exact Or.inl ⟨h.1, mk_ff (fun z => (mk_setT.mp z).elim (mk_tf h.2) e)⟩
  · rcases h with h | h
    · exact ⟨h.1, mk_ff (fun z => mk_tf h.2 (mk_setT.mpr (Or.inl z)))⟩
    · rw [h]; exact ⟨ov, bv⟩
theorem df_c0 {m : Nat → Nat → Nat} {n s O b t : Nat} (S : Nat) : ¬ se_R m n s O b 0 t S := fun h => by
  obtain ⟨w, _, z, _⟩ := h.2
  exact mk_z z
section
variable {f_n f_kept f_found f_firstFound f_ring f_ringSize : Int32} {a_many a_out a_barred a_cycle a_tried a_from a_far a_queue a_tree a_members : Nat → Int32}
theorem xw_dfs {n : Nat} {m : Nat → Nat → Nat} (g : gr_G n m) (n0 : 0 < n) (hn : n ≤ 9) (hM : gx_M m a_many) {s : Nat} (hs : s ≤ n) {post : SX → Prop} : ∀ (f d O b c t st : Nat) (A : Nat → Prop) (fd ff rg rs : Int32) (ou ba cy tr fr fa qu mem : Nat → Int32),
    df_L m n s d O b c t → df_A d O b c t ou ba cy tr → df_f n O b ≤ f → se_AC n A fd ff mem → (∀ S, A S → ¬ se_R m n s O b c t S) → st + 2 ^ (f + 1) ≤ 20000 →
    (∀ (st' : Nat) (fd ff rg rs : Int32) (ou' ba' cy' tr' fr fa qu mem : Nat → Int32), st' + 1 ≤ st + 2 ^ (f + 1) → df_lo d ou ou' → df_lo d ba ba' → df_lo d cy cy' → df_lo d tr tr' → se_AC n (fun S => A S ∨ se_R m n s O b c t S) fd ff mem → wX_search_62 post (nI s) (20001 - st') (nI d + (-1)) (nI st') (nI n) f_kept fd ff rg rs a_many ou' ba' cy' tr' fr fa qu a_tree mem) →
    wX_search_62 post (nI s) (20001 - st) (nI d) (nI st) (nI n) f_kept fd ff rg rs a_many ou ba cy tr fr fa qu a_tree mem := by
  have p9 := mk_p9 hn
  intro f
  induction f with
  | zero =>
    intro d O b c t st A fd ff rg rs ou ba cy tr fr fa qu mem L Ar hf AC dj hst co
    obtain ⟨l1, l2, l3, l4, l5, l6, l7, l8, l9, l10, l11⟩ := L
    rw [show 20001 - st = (20001 - (st + 1)) + 1 by omega]
    refine pk_le 20000 st (fun z => absurd z (by omega)) (fun _ => br_f (nI_pos (by omega)) ?_)
    refine xw_next hn l1 l4 l5 l2 Ar.2.1 Ar.2.2.1 Ar.2.2.2 (fun h => br_t rfl (nm_e (nm_r (nI_1 st) ?_))) (fun v tv vn cv bv h => ?_)
    · exact co (st + 1) fd ff rg rs ou ba cy tr fr fa qu mem (by omega) (fun _ _ => rfl) (fun _ _ => rfl) (fun _ _ => rfl) (fun _ _ => rfl) (se_ACc (fun S => ⟨Or.inl, fun z => z.elim id (fun q => absurd q (se_none h S))⟩) AC)
    · have := ct_pos (P := fun v => O.testBit v = false ∧ b.testBit v = false) vn ⟨l6 v cv, bv⟩
      unfold df_f at hf
      omega
  | succ f ih =>
    intro d O b c t st A fd ff rg rs ou ba cy tr fr fa qu mem L Ar hf AC dj hst co
    have pw : 2 ^ (f + 1 + 1) = 2 ^ (f + 1) + 2 ^ (f + 1) := by rw [Nat.pow_succ]; omega
    have p1 : 2 ≤ 2 ^ (f + 1) := by
      have : 0 < 2 ^ f := Nat.two_pow_pos f
      rw [Nat.pow_succ]; omega
    obtain ⟨l1, l2, l3, l4, l5, l6, l7, l8, l9, l10, l11⟩ := L
    rw [show 20001 - st = (20001 - (st + 1)) + 1 by omega]
    refine pk_le 20000 st (fun z => absurd z (by omega)) (fun _ => br_f (nI_pos (by omega)) ?_)
    refine xw_next hn l1 l4 l5 l2 Ar.2.1 Ar.2.2.1 Ar.2.2.2 (fun h => br_t rfl (nm_e (nm_r (nI_1 st) ?_))) (fun v tv vn cv bv h => ?_)
    · exact co (st + 1) fd ff rg rs ou ba cy tr fr fa qu mem (by omega) (fun _ _ => rfl) (fun _ _ => rfl) (fun _ _ => rfl) (fun _ _ => rfl) (se_ACc (fun S => ⟨Or.inl, fun z => z.elim id (fun q => absurd q (se_none h S))⟩) AC)
    · have ov := l6 v cv
      have cne : c ≠ 0 := fun z => by rw [z] at cv; exact mk_z cv
      have pl := l9 cne
      have d8 : d < 9 := by omega
      have pO := mk_pcins (S := O) (v := v) (by omega) ov
      have hO' := mk_setlt l3 vn
      have hb' := mk_setlt l4 vn
      have cd : (nI d).toNatClampNeg = d := nI_clamp (by omega)
      have cd1 : (nI (d + 1)).toNatClampNeg = d + 1 := nI_clamp (by omega)
      have i0 : vp_in (nI d) 10 := vp_in_nI (by omega) (by omega)
      have i1 : vp_in (nI (d + 1)) 10 := vp_in_nI (by omega) (by omega)
      have dO' : ∀ i, (O ||| 2 ^ v).testBit i = true → b.testBit i = false := fun i hi => by
        rcases mk_setT.mp hi with q | q
        · exact l7 i q
        · rw [q]; exact bv
      have H' := se_Hdown (v := v) l11
      have split := fun S => se_split (m := m) (n := n) (s := s) (O := O) tv cv bv h S
      refine br_f (mk_m1 (by omega)) ?_
      rw [nI_1, cd, cd1]
      refine ⟨i0, i1, nm_r (e' := upd ou (d + 1) (nI (O ||| 2 ^ v))) (by rw [Ar.1, mk_one (by omega), mk_or]) ⟨i0, i1, nm_r (e' := upd ba (d + 1) (nI b)) (by rw [Ar.2.1]) ⟨i0, i0, nm_r (e' := upd (upd ba (d + 1) (nI b)) d (nI (b ||| 2 ^ v))) (by rw [pk_un (show d ≠ d + 1 by omega), Ar.2.1, mk_one (by omega), mk_or]) (nm_e ?_)⟩⟩⟩
      -- what follows behind the child
      have back : ∀ (st' : Nat) (fd ff rg rs : Int32) (ou' ba' cy' tr' fr fa qu mem : Nat → Int32), st' + 1 ≤ st + 1 + 2 ^ (f + 1) → df_lo (d + 1) (upd ou (d + 1) (nI (O ||| 2 ^ v))) ou' → df_lo (d + 1) (upd (upd ba (d + 1) (nI b)) d (nI (b ||| 2 ^ v))) ba' → df_lo (d + 1) cy cy' → df_lo (d + 1) (upd tr d (nI (v + 1))) tr' → se_AC n (fun S => A S ∨ se_F m n s (O ||| 2 ^ v) b S) fd ff mem → wX_search_62 post (nI s) (20001 - st') (nI (d + 1) + (-1)) (nI st') (nI n) f_kept fd ff rg rs a_many ou' ba' cy' tr' fr fa qu a_tree mem := by
        intro st' fd ff rg rs ou' ba' cy' tr' fr fa qu mem hst' e1 e2 e3 e4 ac
        rw [pk_m1]
        refine ih d O (b ||| 2 ^ v) c (v + 1) st' _ fd ff rg rs ou' ba' cy' tr' fr fa qu mem ⟨l1, by omega, l3, hb', l5, l6, fun i hi => ?_, l8, l9, l10, se_Hbar l11⟩ ⟨?_, ?_, ?_, ?_⟩ (by have := df_f2 vn ov bv; omega) ac (fun S a r => ?_) (by omega) ?_
        · refine mk_ff (fun z => ?_)
          rcases mk_setT.mp z with q | q
          · exact mk_tf (l7 i hi) q
          · rw [q] at hi; exact mk_tf ov hi
        · rw [e1 d (by omega), pk_un (by omega)]; exact Ar.1
        · rw [e2 d (by omega), pk_us]
        · rw [e3 d (by omega)]; exact Ar.2.2.1
        · rw [e4 d (by omega), pk_us]
        · rcases a with a | a
          · exact dj S a ((split S).mpr (Or.inr r))
          · exact se_excl a r
        · intro st2 fd2 ff2 rg2 rs2 ou2 ba2 cy2 tr2 fr2 fa2 qu2 mem2 hst2 k1 k2 k3 k4 ac2
          refine co st2 fd2 ff2 rg2 rs2 ou2 ba2 cy2 tr2 fr2 fa2 qu2 mem2 (by omega) (fun i hi => ?_) (fun i hi => ?_) (fun i hi => ?_) (fun i hi => ?_) (se_ACc (fun S => ?_) ac2)
          · rw [k1 i hi, e1 i (by omega), pk_un (by omega)]
          · rw [k2 i hi, e2 i (by omega), pk_un (by omega), pk_un (by omega)]
          · rw [k3 i hi, e3 i (by omega)]
          · rw [k4 i hi, e4 i (by omega), pk_un (by omega)]
          · rw [split S]
            exact ⟨fun z => z.elim (fun y => y.elim Or.inl (fun q => Or.inr (Or.inl q))) (fun q => Or.inr (Or.inr q)), fun z => z.elim (fun y => Or.inl (Or.inl y)) (fun y => y.elim (fun q => Or.inl (Or.inr q)) Or.inr)⟩
      have nA : ∀ S, A S → ¬ se_F m n s (O ||| 2 ^ v) b S := fun S a q => dj S a ((split S).mpr (Or.inl q))
      refine xw_enter g n0 hn hM hO' (by omega) pk_us (by omega) (by omega) AC (fun nc a => nA _ a ((se_noted hn hO' H' nc (by omega) dO' _).mpr rfl)) (fun nc fd1 ff1 rg1 rs1 fr1 fa1 qu1 mem1 ac1 => nm_r (nI_1 st) ?_) (fun cy1 c1 rg1 rs1 fr1 fa1 qu1 b1 b2 b3 b4 => nm_r (nI_1 st) ?_)
      · have nt := fun S => se_noted hn hO' H' nc (by omega) dO' S
        refine ih (d + 1) (O ||| 2 ^ v) b 0 0 (st + 1) _ fd1 ff1 rg1 rs1 _ _ _ _ fr1 fa1 qu1 mem1 ⟨by omega, Nat.zero_le _, hO', l4, Nat.two_pow_pos n, fun i hi => (mk_z hi).elim, dO', by omega, fun z => absurd rfl z, by omega, H'⟩ ⟨pk_us, by rw [pk_un (by omega), pk_us], pk_us, pk_us⟩ (by have := df_f1 vn ov bv; omega) ac1 (fun S _ => df_c0 S) (by omega) ?_
        intro st2 fd2 ff2 rg2 rs2 ou2 ba2 cy2 tr2 fr2 fa2 qu2 mem2 hst2 k1 k2 k3 k4 ac2
        refine back st2 fd2 ff2 rg2 rs2 ou2 ba2 cy2 tr2 fr2 fa2 qu2 mem2 hst2 k1 k2 (fun i hi => ?_) (fun i hi => ?_) (se_ACc (fun S => ?_) ac2)
        · rw [k3 i hi, pk_un (by omega)]
        · rw [k4 i hi, pk_un (by omega)]
        · rw [nt S]
          exact ⟨fun z => z.elim id (fun q => absurd q (df_c0 S)), Or.inl⟩
      · refine ih (d + 1) (O ||| 2 ^ v) b c1 0 (st + 1) A fd ff rg1 rs1 _ _ _ _ fr1 fa1 qu1 mem ⟨by omega, Nat.zero_le _, hO', l4, b1, b2, dO', by omega, b3, by omega, H'⟩ ⟨pk_us, by rw [pk_un (by omega), pk_us], pk_us, pk_us⟩ (by have := df_f1 vn ov bv; omega) AC (fun S a r => nA S a ((b4 b S).mp r)) (by omega) ?_
        intro st2 fd2 ff2 rg2 rs2 ou2 ba2 cy2 tr2 fr2 fa2 qu2 mem2 hst2 k1 k2 k3 k4 ac2
        refine back st2 fd2 ff2 rg2 rs2 ou2 ba2 cy2 tr2 fr2 fa2 qu2 mem2 hst2 k1 k2 (fun i hi => ?_) (fun i hi => ?_) (se_ACc (fun S => ?_) ac2)
        · rw [k3 i hi, pk_un (by omega)]
        · rw [k4 i hi, pk_un (by omega)]
        · rw [b4 b S]
end
end
section
/-! ===== the component: search and leastFrom, whole ===== -/
section
variable {f_n f_kept f_found f_firstFound f_ring f_ringSize : Int32} {a_many a_out a_barred a_cycle a_tried a_from a_far a_queue a_tree a_members : Nat → Int32}
theorem xw_search13 {n : Nat} (hn : n ≤ 9) {x1 x2 x3 : Int32} {post : SX → Prop}
    (hp : ∀ mem : Nat → Int32, (∀ v, v < n → mem v = 0) → ∀ x, x = upd a_out 0 x1 → ∀ y, y = upd a_barred 0 x2 → wpX_enter (fun u => match u with | (f_n_7, f_kept_8, f_found_9, f_firstFound_10, f_ring_11, f_ringSize_12, a_many_13, a_out_14, a_barred_15, a_cycle_16, a_tried_17, a_from_18, a_far_19, a_queue_20, a_tree_21, a_members_22) => (∃ n62 : Nat, wX_search_62 post x3 n62 0 0 f_n_7 f_kept_8 f_found_9 f_firstFound_10 f_ring_11 f_ringSize_12 a_many_13 a_out_14 a_barred_15 a_cycle_16 a_tried_17 a_from_18 a_far_19 a_queue_20 a_tree_21 a_members_22)) (nI n, f_kept, f_found, f_firstFound, f_ring, f_ringSize, a_many, x, y, a_cycle, a_tried, a_from, a_far, a_queue, a_tree, mem) 0 x3) :
    ∀ (d j : Nat) (mem : Nat → Int32), j + d = n → (∀ v, v < j → mem v = 0) → wX_search_13 post x1 x2 x3 (nI n) f_kept f_found f_firstFound f_ring f_ringSize (d + 1) (nI j) a_many a_out a_barred a_cycle a_tried a_from a_far a_queue a_tree mem := by
  intro d
  induction d with
  | zero =>
    intro j mem hj h
    have e : j = n := by omega
    subst e
    exact pk_le j j (fun _ => hp mem h) (fun z => absurd z (by omega))
  | succ d ih =>
    intro j mem hj h
    have cj : (nI j).toNatClampNeg = j := nI_clamp (by omega)
    refine pk_le n j (fun z => absurd z (by omega)) (fun _ => ⟨vp_in_nI (by omega) (by omega), nm_r (e' := upd mem j 0) (by rw [cj]) (nm_r (nI_1 j) (ih (j + 1) _ (by omega) (fun v hv => ?_)))⟩)
    by_cases e : v = j
    · rw [e, pk_us]
    · rw [pk_un e]; exact h v (by omega)
theorem xw_search {n : Nat} {m : Nat → Nat → Nat} (g : gr_G n m) (n0 : 0 < n) (hn : n ≤ 9) (hM : gx_M m a_many) {s tk b : Nat} (hs : s ≤ n) (ht : tk < 2 ^ n) (hb : b < 2 ^ n) (dj : ∀ i, tk.testBit i = true → b.testBit i = false) (ps : mk_pc tk ≤ s) (H : se_H m n s tk b) {post : SX → Prop}
    (hp : ∀ (fd ff rg rs : Int32) (ou ba cy tr fr fa qu mem : Nat → Int32), se_AC n (se_F m n s tk b) fd ff mem → post (nI n, f_kept, fd, ff, rg, rs, a_many, ou, ba, cy, tr, fr, fa, qu, a_tree, mem)) : wpX_search post (nI n, f_kept, f_found, f_firstFound, f_ring, f_ringSize, a_many, a_out, a_barred, a_cycle, a_tried, a_from, a_far, a_queue, a_tree, a_members) (nI tk) (nI b) (nI s) := by
  have pow : 2 ^ (n + 1) ≤ 1024 := Nat.pow_le_pow_right (n := 2) (j := 10) (by decide) (by omega)
  have z1 : nI 0 + (-1) = -1 := by decide
  have fin : ∀ (A : Nat → Prop) (st' : Nat) (fd ff rg rs : Int32) (ou ba cy tr fr fa qu mem : Nat → Int32), st' ≤ 1024 → (∀ S, A S ↔ se_F m n s tk b S) → se_AC n A fd ff mem → wX_search_62 post (nI s) (20001 - st') (nI 0 + (-1)) (nI st') (nI n) f_kept fd ff rg rs a_many ou ba cy tr fr fa qu a_tree mem := by
    intro A st' fd ff rg rs ou ba cy tr fr fa qu mem hst e ac
    rw [show 20001 - st' = (20001 - (st' + 1)) + 1 by omega, z1]
    exact br_c (fun _ => hp fd ff rg rs ou ba cy tr fr fa qu mem (se_ACc e ac)) (fun _ => br_t (by decide) (hp fd ff rg rs ou ba cy tr fr fa qu mem (se_ACc e ac)))
  refine ⟨n + 1, xw_search13 hn (fun mem hm => nm_e (nm_e ?_)) n 0 a_members (by omega) (fun v hv => by omega)⟩
  have fl : df_f n tk b ≤ n := ct_le _ _
  refine xw_enter (d := 0) g n0 hn hM ht (by omega) pk_us (by omega) ps (se_AC0 hm) (fun _ a => a) (fun nc fd1 ff1 rg1 rs1 fr1 fa1 qu1 mem1 ac1 => ⟨20001, ?_⟩) (fun cy1 c1 rg1 rs1 fr1 fa1 qu1 b1 b2 b3 b4 => ⟨20001, ?_⟩)
  · refine xw_dfs g n0 hn hM hs n 0 tk b 0 0 0 _ fd1 ff1 rg1 rs1 _ _ _ _ fr1 fa1 qu1 mem1 ⟨by omega, Nat.zero_le _, ht, hb, Nat.two_pow_pos n, fun i hi => (mk_z hi).elim, dj, ps, fun z => absurd rfl z, Nat.zero_le _, H⟩ ⟨pk_us, pk_us, pk_us, pk_us⟩ fl ac1 (fun S _ => df_c0 S) (by omega) ?_
    intro st' fd ff rg rs ou ba cy tr fr fa qu mem hst _ _ _ _ ac
    refine fin _ st' fd ff rg rs ou ba cy tr fr fa qu mem (by omega) (fun S => ?_) ac
    rw [se_noted hn ht H nc ps dj S]
    exact ⟨fun z => z.elim (fun y => y.elim (fun f => f.elim) id) (fun q => absurd q (df_c0 S)), fun z => Or.inl (Or.inr z)⟩
  · refine xw_dfs g n0 hn hM hs n 0 tk b c1 0 0 _ 0 (-1) rg1 rs1 _ _ _ _ fr1 fa1 qu1 mem ⟨by omega, Nat.zero_le _, ht, hb, b1, b2, dj, ps, b3, Nat.zero_le _, H⟩ ⟨pk_us, pk_us, pk_us, pk_us⟩ fl (se_AC0 hm) (fun S a => a.elim) (by omega) ?_
    intro st' fd ff rg rs ou ba cy tr fr fa qu mem hst _ _ _ _ ac
    refine fin _ st' fd ff rg rs ou ba cy tr fr fa qu mem (by omega) (fun S => ?_) ac
    rw [b4 b S]
    exact ⟨fun z => z.elim (fun f => f.elim) id, Or.inr⟩
theorem xw_lf5 {n : Nat} {m : Nat → Nat → Nat} (g : gr_G n m) (n0 : 0 < n) (hn : n ≤ 9) (hM : gx_M m a_many) {tk b : Nat} (ht : tk < 2 ^ n) (hb : b < 2 ^ n) (dj : ∀ i, tk.testBit i = true → b.testBit i = false) {post : Int32 → SX → Prop}
    (h1 : (∀ S, ¬ se_K m n tk b S) → ∀ (fd ff rg rs : Int32) (ou ba cy tr fr fa qu mem : Nat → Int32), post (-1) (nI n, f_kept, fd, ff, rg, rs, a_many, ou, ba, cy, tr, fr, fa, qu, a_tree, mem))
    (h2 : ∀ s, s ≤ n → mk_pc tk ≤ s → se_H m n s tk b → (∃ S, se_F m n s tk b S) → ∀ (fd ff rg rs : Int32) (ou ba cy tr fr fa qu mem : Nat → Int32), post (nI s) (nI n, f_kept, fd, ff, rg, rs, a_many, ou, ba, cy, tr, fr, fa, qu, a_tree, mem)) :
    ∀ (d s : Nat) (fd ff rg rs : Int32) (ou ba cy tr fr fa qu mem : Nat → Int32), s + d = n + 1 → mk_pc tk ≤ s → se_H m n s tk b → wX_leastFrom_5 post (nI tk) (nI b) (d + 1) (nI s) (nI n) f_kept fd ff rg rs a_many ou ba cy tr fr fa qu a_tree mem := by
  have p9 := mk_p9 hn
  intro d
  induction d with
  | zero =>
    intro s fd ff rg rs ou ba cy tr fr fa qu mem hd ps H
    exact pk_lt n s (fun _ => h1 (fun S k => by
      have a := H S k
      have b := mk_pcN hn k.1
      omega) fd ff rg rs ou ba cy tr fr fa qu mem) (fun z => absurd z (by omega))
  | succ d ih =>
    intro s fd ff rg rs ou ba cy tr fr fa qu mem hd ps H
    refine pk_lt n s (fun z => absurd z (by omega)) (fun sn => ?_)
    refine xw_search g n0 hn hM sn ht hb dj ps H (fun fd' ff' rg' rs' ou' ba' cy' tr' fr' fa' qu' mem' ac => ?_)
    have cl := ct_le (se_F m n s tk b) (2 ^ n)
    refine pk_le (ct_c (se_F m n s tk b) (2 ^ n)) 0 (fun z => nm_r (nI_1 s) (ih (s + 1) fd' ff' rg' rs' ou' ba' cy' tr' fr' fa' qu' mem' (by omega) (by omega) (se_Hup H (fun S f => ?_)))) (fun z => ?_) (hx := ac.1)
    · have := ct_pos (P := se_F m n s tk b) f.1.1 f
      omega
    · obtain ⟨S, _, f⟩ := ct_ex (P := se_F m n s tk b) z
      exact h2 s sn ps H ⟨S, f⟩ fd' ff' rg' rs' ou' ba' cy' tr' fr' fa' qu' mem'
theorem xw_lf {n : Nat} {m : Nat → Nat → Nat} (g : gr_G n m) (n0 : 0 < n) (hn : n ≤ 9) (hM : gx_M m a_many) {tk b : Nat} (ht : tk < 2 ^ n) (hb : b < 2 ^ n) (dj : ∀ i, tk.testBit i = true → b.testBit i = false) {post : Int32 → SX → Prop}
    (h1 : (∀ S, ¬ se_K m n tk b S) → ∀ (fd ff rg rs : Int32) (ou ba cy tr fr fa qu mem : Nat → Int32), post (-1) (nI n, f_kept, fd, ff, rg, rs, a_many, ou, ba, cy, tr, fr, fa, qu, a_tree, mem))
    (h2 : ∀ s, s ≤ n → mk_pc tk ≤ s → se_H m n s tk b → (∃ S, se_F m n s tk b S) → ∀ (fd ff rg rs : Int32) (ou ba cy tr fr fa qu mem : Nat → Int32), post (nI s) (nI n, f_kept, fd, ff, rg, rs, a_many, ou, ba, cy, tr, fr, fa, qu, a_tree, mem)) : wpX_leastFrom post (nI n, f_kept, f_found, f_firstFound, f_ring, f_ringSize, a_many, a_out, a_barred, a_cycle, a_tried, a_from, a_far, a_queue, a_tree, a_members) (nI tk) (nI b) := by
  have p9 := mk_p9 hn
  have pn := mk_pcN hn ht
  refine xw_ones (by omega) ⟨n + 1 - mk_pc tk + 1, ?_⟩
  exact xw_lf5 g n0 hn hM ht hb dj h1 h2 (n + 1 - mk_pc tk) (mk_pc tk) f_found f_firstFound f_ring f_ringSize a_out a_barred a_cycle a_tried a_from a_far a_queue a_members (by omega) (Nat.le_refl _) (se_H0 m n tk b)
end
end
section
/-! ===== the component: edges, join, excess, setEdges, ring ===== -/
section
variable {f_n f_kept f_found f_firstFound f_ring f_ringSize : Int32} {a_many a_out a_barred a_cycle a_tried a_from a_far a_queue a_tree a_members : Nat → Int32}
theorem xw_e14 {n : Nat} {m : Nat → Nat → Nat} (hn : n ≤ 9) (hM : gx_M m a_many) {u B : Nat} (hu : u < n) {post : Int32 → Prop} {J4 : Int32 → Int32 → Prop} (co : J4 (nI (B + sm_r (fun v => if u ≤ v then m u v else 0) n)) (nI (u + 1))) :
    ∀ d j, u ≤ j → j + d = n → wX_edges_14 post J4 (nI u) (nI n) f_kept f_found f_firstFound f_ring f_ringSize a_many a_out a_barred a_cycle a_tried a_from a_far a_queue a_tree a_members (d + 1) (nI (B + sm_r (fun v => if u ≤ v then m u v else 0) j)) (nI j) := by
  intro d
  induction d with
  | zero =>
    intro j uj hj
    have e : j = n := by omega
    subst e
    exact pk_le j j (fun _ => nm_r (nI_1 u) co) (fun z => absurd z (by omega))
  | succ d ih =>
    intro j uj hj
    refine pk_le n j (fun z => absurd z (by omega)) (fun _ => ⟨mk_in (by omega) (by omega), nm_r (e' := nI (B + sm_r (fun v => if u ≤ v then m u v else 0) (j + 1))) ?_ (nm_r (nI_1 j) (ih (j + 1) (by omega) (by omega)))⟩)
    rw [gx_g hM (by omega) (by omega), nI_add, sm_s, if_pos uj, Nat.add_assoc]
theorem xw_e4 {n : Nat} {m : Nat → Nat → Nat} (hn : n ≤ 9) (hM : gx_M m a_many) {post : Int32 → Prop} (hp : post (nI (sm_X m n))) :
    ∀ d u, u + d = n → wX_edges_4 post (nI n) f_kept f_found f_firstFound f_ring f_ringSize a_many a_out a_barred a_cycle a_tried a_from a_far a_queue a_tree a_members (d + 1) (nI (sm_r (fun u => sm_r (fun v => if u ≤ v then m u v else 0) n) u)) (nI u) := by
  intro d
  induction d with
  | zero =>
    intro u hu
    have e : u = n := by omega
    subst e
    exact pk_le u u (fun _ => hp) (fun z => absurd z (by omega))
  | succ d ih =>
    intro u hu
    refine pk_le n u (fun z => absurd z (by omega)) (fun un => ⟨n - u + 1, ?_⟩)
    have q := xw_e14 (f_kept := f_kept) (f_found := f_found) (f_firstFound := f_firstFound) (f_ring := f_ring) (f_ringSize := f_ringSize) (a_out := a_out) (a_barred := a_barred) (a_cycle := a_cycle) (a_tried := a_tried) (a_from := a_from) (a_far := a_far) (a_queue := a_queue) (a_tree := a_tree) (a_members := a_members) (B := sm_r (fun u => sm_r (fun v => if u ≤ v then m u v else 0) n) u) hn hM un (post := post) (ih (u + 1) (by omega)) (n - u) u (Nat.le_refl _) (by omega)
    rw [sm_ext (f := fun v => if u ≤ v then m u v else 0) (n := 0) (m := u) (by omega) (fun i _ hi => if_neg (by omega))] at q
    exact q
theorem xw_edges {n : Nat} {m : Nat → Nat → Nat} (hn : n ≤ 9) (hM : gx_M m a_many) {post : Int32 → Prop} (hp : post (nI (sm_X m n))) : wpX_edges post (nI n, f_kept, f_found, f_firstFound, f_ring, f_ringSize, a_many, a_out, a_barred, a_cycle, a_tried, a_from, a_far, a_queue, a_tree, a_members) :=
  ⟨n + 1, xw_e4 hn hM hp n 0 (by omega)⟩
theorem xw_join2 {n a b : Nat} {L : Nat → Nat} (hn : n ≤ 9) (hb : b < 2 ^ 31) (hL : ∀ v, v < n → L v < 2 ^ 31) {post : SX → Prop}
    (hp : ∀ tr : Nat → Int32, (∀ v, v < n → tr v = nI (uf_m L a b v)) → post (nI n, f_kept, f_found, f_firstFound, f_ring, f_ringSize, a_many, a_out, a_barred, a_cycle, a_tried, a_from, a_far, a_queue, tr, a_members)) :
    ∀ (d j : Nat) (tr : Nat → Int32), j + d = n → (∀ v, v < j → tr v = nI (uf_m L a b v)) → (∀ v, j ≤ v → v < n → tr v = nI (L v)) → wX_join_2 post (nI a) (nI b) (nI n) f_kept f_found f_firstFound f_ring f_ringSize (d + 1) (nI j) a_many a_out a_barred a_cycle a_tried a_from a_far a_queue tr a_members := by
  intro d
  induction d with
  | zero =>
    intro j tr hj h1 h2
    have e : j = n := by omega
    subst e
    exact pk_le j j (fun _ => hp tr h1) (fun z => absurd z (by omega))
  | succ d ih =>
    intro j tr hj h1 h2
    have cj : (nI j).toNatClampNeg = j := nI_clamp (by omega)
    have ej := h2 j (Nat.le_refl _) (by omega)
    have lj := hL j (by omega)
    refine pk_le n j (fun z => absurd z (by omega)) (fun _ => ⟨vp_in_nI (by omega) (by omega), ?_⟩)
    refine pk_eq (L j) b (fun e => ⟨vp_in_nI (by omega) (by omega), nm_r (e' := upd tr j (nI a)) (by rw [cj]) (nm_r (nI_1 j) (ih (j + 1) _ (by omega) (fun v hv => ?_) (fun v hv hn => ?_)))⟩) (fun e => nm_r (nI_1 j) (ih (j + 1) tr (by omega) (fun v hv => ?_) (fun v hv hn => h2 v (by omega) hn))) (hx := by rw [cj]; exact ej)
    · by_cases q : v = j
      · rw [q, pk_us, uf_mt e]
      · rw [pk_un q]; exact h1 v (by omega)
    · rw [pk_un (by omega)]; exact h2 v (by omega) hn
    · by_cases q : v = j
      · rw [q, ej, uf_mf e]
      · exact h1 v (by omega)
theorem xw_join {n a b : Nat} {L : Nat → Nat} (hn : n ≤ 9) (hb : b < 2 ^ 31) (hL : ∀ v, v < n → L v < 2 ^ 31) (ht : ∀ v, v < n → a_tree v = nI (L v)) {post : SX → Prop}
    (hp : ∀ tr : Nat → Int32, (∀ v, v < n → tr v = nI (uf_m L a b v)) → post (nI n, f_kept, f_found, f_firstFound, f_ring, f_ringSize, a_many, a_out, a_barred, a_cycle, a_tried, a_from, a_far, a_queue, tr, a_members)) : wpX_join post (nI n, f_kept, f_found, f_firstFound, f_ring, f_ringSize, a_many, a_out, a_barred, a_cycle, a_tried, a_from, a_far, a_queue, a_tree, a_members) (nI a) (nI b) :=
  ⟨n + 1, xw_join2 hn hb hL hp n 0 a_tree (by omega) (fun v hv => by omega) (fun v _ => ht v)⟩
theorem xw_ex30 {n : Nat} {m : Nat → Nat → Nat} (g : gr_G n m) (n0 : 0 < n) (hn : n ≤ 9) (hM : gx_M m a_many) {post : Int32 → SX → Prop}
    (hp : ∀ (L : Nat → Nat) (c : Nat) (tr : Nat → Int32), uf_I n L (xs_E m n (n * n)) c → post (nI (sm_X m n) - nI c) (nI n, f_kept, f_found, f_firstFound, f_ring, f_ringSize, a_many, a_out, a_barred, a_cycle, a_tried, a_from, a_far, a_queue, tr, a_members)) :
    ∀ (d k : Nat) (L : Nat → Nat) (c : Nat) (tr : Nat → Int32), k + d = n * n → uf_I n L (xs_E m n k) c → (∀ v, v < n → tr v = nI (L v)) → wX_excess_30 post (d + 1) (nI (n - c)) (nI k) (nI n) f_kept f_found f_firstFound f_ring f_ringSize a_many a_out a_barred a_cycle a_tried a_from a_far a_queue tr a_members := by
  have nn : n * n ≤ 81 := Nat.mul_le_mul hn hn
  intro d
  induction d with
  | zero =>
    intro k L c tr hk I ht
    have e : k = n * n := by omega
    subst e
    have i4 := I.2.2.2
    refine pk_le (n * n) (n * n) (fun _ => ?_) (fun z => absurd z (by omega)) (hx := pk_mul n n)
    refine xw_edges hn hM ?_
    rw [pk_sub (show n - c ≤ n by omega), show n - (n - c) = c by omega]
    exact hp L c tr I
  | succ d ih =>
    intro k L c tr hk I ht
    have ik := ix_of (show k < n * n by omega)
    have nz : ¬ nI n = 0 := nI_ne0 n0 (by omega)
    have u9 : k / n < 9 := by omega
    have v9 : k % n < 9 := by omega
    have m2 := g.2.1 (k / n) (k % n)
    have lu := I.1 _ ik.1
    have lv := I.1 _ ik.2.1
    have cu : (nI (k / n)).toNatClampNeg = k / n := nI_clamp (by omega)
    have cv : (nI (k % n)).toNatClampNeg = k % n := nI_clamp (by omega)
    refine pk_le (n * n) k (fun z => absurd z (by omega)) (fun _ => ⟨nz, nm_r (pk_div (by omega) n0 (by omega)) ⟨nz, nm_r (pk_rem (by omega) n0 (by omega)) ⟨mk_in u9 v9, ?_⟩⟩⟩) (hx := pk_mul n n)
    refine pk_le (m (k / n) (k % n)) 0 (fun z => nm_r (nI_1 k) (ih (k + 1) L c tr (by omega) (uf_congr (xs_none g (by omega)) I) ht)) (fun z => ⟨vp_in_nI u9 (by omega), vp_in_nI v9 (by omega), ?_⟩) (hx := gx_g hM u9 v9)
    rw [cu, cv, ht _ ik.1, ht _ ik.2.1]
    refine pk_eq (L (k / n)) (L (k % n)) (fun e => nm_r (nI_1 k) (ih (k + 1) L c tr (by omega) (uf_congr (xs_add g (by omega) z) (uf_same (xs_s g k) I ik.1 ik.2.1 e)) ht)) (fun e => ⟨vp_in_nI u9 (by omega), vp_in_nI v9 (by omega), ?_⟩)
    refine xw_join hn (by omega) (fun v hv => by have := I.1 v hv; omega) ht (fun tr' h' => ?_)
    have I' := uf_merge (xs_s g k) I ik.1 ik.2.1 e
    have i4 := I'.2.2.2
    refine nm_r (e' := nI (n - (c + 1))) ?_ (nm_r (nI_1 k) (ih (k + 1) _ (c + 1) tr' (by omega) (uf_congr (xs_add g (by omega) z) I') h'))
    rw [show n - c = n - (c + 1) + 1 by omega, pk_m1]
theorem xw_ex7 {n : Nat} (hn : n ≤ 9) {x1 : Int32} {post : Int32 → SX → Prop}
    (hp : ∀ tr : Nat → Int32, (∀ v, v < n → tr v = nI v) → ∃ n30 : Nat, wX_excess_30 post n30 x1 0 (nI n) f_kept f_found f_firstFound f_ring f_ringSize a_many a_out a_barred a_cycle a_tried a_from a_far a_queue tr a_members) :
    ∀ (d j : Nat) (tr : Nat → Int32), j + d = n → (∀ v, v < j → tr v = nI v) → wX_excess_7 post x1 (nI n) f_kept f_found f_firstFound f_ring f_ringSize (d + 1) (nI j) a_many a_out a_barred a_cycle a_tried a_from a_far a_queue tr a_members := by
  intro d
  induction d with
  | zero =>
    intro j tr hj h
    have e : j = n := by omega
    subst e
    exact pk_le j j (fun _ => hp tr h) (fun z => absurd z (by omega))
  | succ d ih =>
    intro j tr hj h
    have cj : (nI j).toNatClampNeg = j := nI_clamp (by omega)
    refine pk_le n j (fun z => absurd z (by omega)) (fun _ => ⟨vp_in_nI (by omega) (by omega), nm_r (e' := upd tr j (nI j)) (by rw [cj]) (nm_r (nI_1 j) (ih (j + 1) _ (by omega) (fun v hv => ?_)))⟩)
    by_cases e : v = j
    · rw [e, pk_us]
    · rw [pk_un e]; exact h v (by omega)
theorem xw_excess {n : Nat} {m : Nat → Nat → Nat} (g : gr_G n m) (n0 : 0 < n) (hn : n ≤ 9) (hM : gx_M m a_many) {post : Int32 → SX → Prop}
    (hp : ∀ (L : Nat → Nat) (c : Nat) (tr : Nat → Int32), uf_I n L (xs_E m n (n * n)) c → post (nI (sm_X m n) - nI c) (nI n, f_kept, f_found, f_firstFound, f_ring, f_ringSize, a_many, a_out, a_barred, a_cycle, a_tried, a_from, a_far, a_queue, tr, a_members)) : wpX_excess post (nI n, f_kept, f_found, f_firstFound, f_ring, f_ringSize, a_many, a_out, a_barred, a_cycle, a_tried, a_from, a_far, a_queue, a_tree, a_members) := by
  refine ⟨n + 1, xw_ex7 hn (fun tr h => ⟨n * n + 1, ?_⟩) n 0 a_tree (by omega) (fun v hv => by omega)⟩
  exact xw_ex30 g n0 hn hM hp (n * n) 0 (fun x => x) 0 tr (by omega) (xs_0 m) h
end
/-! setting an edge -/
def gx_st (m : Nat → Nat → Nat) (u v c : Nat) : Nat → Nat → Nat := fun a b => if (a = u ∧ b = v) ∨ (a = v ∧ b = u) then c else m a b
def gx_up (a : Nat → Int32) (u v : Nat) (c : Int32) : Nat → Int32 := upd (upd a (9 * u + v) c) (9 * v + u) c
theorem gx_set {m : Nat → Nat → Nat} {a : Nat → Int32} (h : gx_M m a) {u v : Nat} (hu : u < 9) (hv : v < 9) (c : Nat) : gx_M (gx_st m u v c) (gx_up a u v (nI c)) := by
  intro x y hx hy
  unfold gx_st gx_up
  by_cases e : (x = u ∧ y = v) ∨ (x = v ∧ y = u)
  · rw [if_pos e]
    rcases e with ⟨rfl, rfl⟩ | ⟨rfl, rfl⟩
    · by_cases q : x = y
      · subst q; exact pk_us
      · rw [pk_un (by omega), pk_us]
    · exact pk_us
  · rw [if_neg e, pk_un (by omega), pk_un (by omega)]
    exact h x y hx hy
theorem gx_stp {m : Nat → Nat → Nat} {u v c a b : Nat} (e : (a = u ∧ b = v) ∨ (a = v ∧ b = u)) : gx_st m u v c a b = c := if_pos e
theorem gx_stn {m : Nat → Nat → Nat} {u v c a b : Nat} (e : ¬ ((a = u ∧ b = v) ∨ (a = v ∧ b = u))) : gx_st m u v c a b = m a b := if_neg e
theorem gx_stG {n : Nat} {m : Nat → Nat → Nat} (g : gr_G n m) {u v c : Nat} (hu : u < n) (hv : v < n) (hc : c ≤ 2) : gr_G n (gx_st m u v c) := by
  refine ⟨fun a b => ?_, fun a b => ?_, fun a b h => ?_⟩
  · by_cases e : (a = u ∧ b = v) ∨ (a = v ∧ b = u)
    · rw [gx_stp e, gx_stp (by omega)]
    · rw [gx_stn e, gx_stn (by omega)]; exact g.1 a b
  · by_cases e : (a = u ∧ b = v) ∨ (a = v ∧ b = u)
    · rw [gx_stp e]; exact hc
    · rw [gx_stn e]; exact g.2.1 a b
  · by_cases e : (a = u ∧ b = v) ∨ (a = v ∧ b = u)
    · omega
    · rw [gx_stn e] at h; exact g.2.2 a b h
/-- the array of ring's edges after k steps -/
def gx_ra (n v step : Nat) (a : Nat → Int32) : Nat → (Nat → Int32)
  | 0 => a
  | k + 1 => if gx_ra n v step a k (9 * ((v + k * step) % n) + (v + k * step + step) % n) = 0 then gx_up (gx_ra n v step a k) ((v + k * step) % n) ((v + k * step + step) % n) (nI 1) else gx_ra n v step a k
theorem gx_raG {n : Nat} (n0 : 0 < n) (hn : n ≤ 9) {v step : Nat} {a : Nat → Int32} {m : Nat → Nat → Nat} (g : gr_G n m) (h : gx_M m a) : ∀ k, ∃ m', gr_G n m' ∧ gx_M m' (gx_ra n v step a k) := by
  intro k
  induction k with
  | zero => exact ⟨m, g, h⟩
  | succ k ih =>
    obtain ⟨m', g', h'⟩ := ih
    have a1 := Nat.mod_lt (v + k * step) n0
    have a2 := Nat.mod_lt (v + k * step + step) n0
    by_cases e : gx_ra n v step a k (9 * ((v + k * step) % n) + (v + k * step + step) % n) = 0
    · have q : gx_ra n v step a (k + 1) = gx_up (gx_ra n v step a k) ((v + k * step) % n) ((v + k * step + step) % n) (nI 1) := if_pos e
      rw [q]
      exact ⟨_, gx_stG g' a1 a2 (by omega), gx_set h' (by omega) (by omega) 1⟩
    · have q : gx_ra n v step a (k + 1) = gx_ra n v step a k := if_neg e
      rw [q]
      exact ⟨m', g', h'⟩
end
section
/-! ===== the reference: total, size, in, merge, surplus, open ===== -/
theorem sm_le {f : Nat → Nat} {B n : Nat} (h : ∀ i, i < n → f i ≤ B) : sm_r f n ≤ n * B := by
  induction n with
  | zero => exact Nat.zero_le _
  | succ n ih =>
    have a := ih (fun i hi => h i (by omega))
    have b := h n (by omega)
    rw [sm_s, Nat.succ_mul]
    omega
theorem us_kle {n : Nat} {m : Nat → Nat → Nat} (g : gr_G n m) (T u v : Nat) : us_k m T u v ≤ 2 := by
  by_cases e : T.testBit u = false ∧ T.testBit v = false
  · rw [us_k1 e]; exact g.2.1 u v
  · rw [us_k0 e]; omega
theorem us_sle {n : Nat} {m : Nat → Nat → Nat} (g : gr_G n m) {T u v : Nat} (hu : u ≤ 9) (hv : v ≤ 9) : us_s m T u v ≤ 180 := by
  unfold us_s
  have a : sm_r (fun y => us_k m T u y) v ≤ v * 2 := sm_le (fun i _ => us_kle g T u i)
  have b : sm_r (fun x => sm_r (fun y => us_k m T x y) (x + 1)) u ≤ u * 18 := sm_le (fun i hi => by
    have : sm_r (fun y => us_k m T i y) (i + 1) ≤ (i + 1) * 2 := sm_le (fun j _ => us_kle g T i j)
    omega)
  omega
/-- not kept, and breaking -/
def yo_K (m : Nat → Nat → Nat) (kp S : Nat) : Prop := (∀ i, S.testBit i = true → kp.testBit i = false) ∧ ¬ gr_Cyc m S
section
variable {f_n f_sets : Int32} {a_many a_kept a_label a_far : Nat → Int32}
theorem yw_t20 {n : Nat} {m : Nat → Nat → Nat} (hn : n ≤ 9) (hM : gx_M m a_many) {u B : Nat} (hu : u < n) {post : Int32 → Prop} {J4 : Int32 → Int32 → Prop} (co : J4 (nI (B + sm_r (fun y => m u y) (u + 1))) (nI (u + 1))) :
    ∀ d j, j + d = u + 1 → wY_total_20 post J4 (nI u) (nI n) f_sets a_many a_kept a_label a_far (d + 1) (nI (B + sm_r (fun y => m u y) j)) (nI j) := by
  intro d
  induction d with
  | zero =>
    intro j hj
    have e : j = u + 1 := by omega
    subst e
    exact pk_lt u (u + 1) (fun _ => nm_r (nI_1 u) co) (fun z => absurd z (by omega))
  | succ d ih =>
    intro j hj
    refine pk_lt u j (fun z => absurd z (by omega)) (fun _ => ⟨mk_in (by omega) (by omega), nm_r (e' := nI (B + sm_r (fun y => m u y) (j + 1))) ?_ (nm_r (nI_1 j) (ih (j + 1) (by omega)))⟩)
    rw [gx_g hM (by omega) (by omega), nI_add, sm_s, Nat.add_assoc]
theorem yw_t4 {n : Nat} {m : Nat → Nat → Nat} (hn : n ≤ 9) (hM : gx_M m a_many) {post : Int32 → Prop} (hp : post (nI (sm_Y m n))) :
    ∀ d u, u + d = n → wY_total_4 post (nI n) f_sets a_many a_kept a_label a_far (d + 1) (nI (sm_r (fun x => sm_r (fun y => m x y) (x + 1)) u)) (nI u) := by
  intro d
  induction d with
  | zero =>
    intro u hu
    have e : u = n := by omega
    subst e
    exact pk_le u u (fun _ => hp) (fun z => absurd z (by omega))
  | succ d ih =>
    intro u hu
    refine pk_le n u (fun z => absurd z (by omega)) (fun un => pk_le 9 u (fun z => absurd z (by omega)) (fun _ => ⟨u + 1 + 1, ?_⟩))
    exact yw_t20 (B := sm_r (fun x => sm_r (fun y => m x y) (x + 1)) u) hn hM un (ih (u + 1) (by omega)) (u + 1) 0 (by omega)
theorem yw_total {n : Nat} {m : Nat → Nat → Nat} (hn : n ≤ 9) (hM : gx_M m a_many) {post : Int32 → Prop} (hp : post (nI (sm_Y m n))) : wpY_total post (nI n, f_sets, a_many, a_kept, a_label, a_far) :=
  ⟨n + 1, yw_t4 hn hM hp n 0 (by omega)⟩
theorem yw_size4 {S : Nat} (hS : S < 2 ^ 31) {post : Int32 → Prop} (h : post (nI (mk_pc S))) : ∀ d j, j + d = 9 → wY_size_4 post (nI S) f_n f_sets a_many a_kept a_label a_far (d + 1) (nI (ct_c (fun v => S.testBit v = true) j)) (nI j) := by
  intro d
  induction d with
  | zero =>
    intro j hj
    have e : j = 9 := by omega
    subst e
    exact pk_le 9 9 (fun _ => h) (fun z => absurd z (by omega))
  | succ d ih =>
    intro j hj
    exact pk_le 9 j (fun z => absurd z (by omega)) (fun z => nm_r (mk_pstep hS z) (nm_r (nI_1 j) (ih (j + 1) (by omega))))
theorem yw_size {S : Nat} (hS : S < 2 ^ 31) {post : Int32 → Prop} (h : post (nI (mk_pc S))) : wpY_size post (f_n, f_sets, a_many, a_kept, a_label, a_far) (nI S) := ⟨10, yw_size4 hS h 9 0 rfl⟩
theorem yw_in {S v : Nat} (hS : S < 2 ^ 31) (hv : v < 32) {post : Int32 → Prop} (h1 : S.testBit v = true → post 1) (h0 : S.testBit v = false → post 0) : wpY_in post (f_n, f_sets, a_many, a_kept, a_label, a_far) (nI S) (nI v) :=
  bx_if (mk_b1 hS hv) h1 (fun z => h0 (mk_ff z))
theorem yw_merge9 {a b : Nat} {L : Nat → Nat} (hb : b < 2 ^ 31) (hL : ∀ v, v < 9 → L v < 2 ^ 31) {post : Int32 → SY → Prop}
    (hp : ∀ lb : Nat → Int32, (∀ v, v < 9 → lb v = nI (uf_m L a b v)) → post 1 (f_n, f_sets, a_many, a_kept, lb, a_far)) :
    ∀ (d j : Nat) (lb : Nat → Int32), j + d = 9 → (∀ v, v < j → lb v = nI (uf_m L a b v)) → (∀ v, j ≤ v → v < 9 → lb v = nI (L v)) → wY_merge_9 post (nI a) (nI b) f_n f_sets (d + 1) (nI j) a_many a_kept lb a_far := by
  intro d
  induction d with
  | zero =>
    intro j lb hj h1 h2
    have e : j = 9 := by omega
    subst e
    exact pk_le 9 9 (fun _ => hp lb h1) (fun z => absurd z (by omega))
  | succ d ih =>
    intro j lb hj h1 h2
    have cj : (nI j).toNatClampNeg = j := nI_clamp (by omega)
    have ej := h2 j (Nat.le_refl _) (by omega)
    have lj := hL j (by omega)
    refine pk_le 9 j (fun z => absurd z (by omega)) (fun _ => ⟨vp_in_nI (by omega) (by omega), ?_⟩)
    refine pk_eq (L j) b (fun e => ⟨vp_in_nI (by omega) (by omega), nm_r (e' := upd lb j (nI a)) (by rw [cj]) (nm_r (nI_1 j) (ih (j + 1) _ (by omega) (fun v hv => ?_) (fun v hv hn => ?_)))⟩) (fun e => nm_r (nI_1 j) (ih (j + 1) lb (by omega) (fun v hv => ?_) (fun v hv hn => h2 v (by omega) hn))) (hx := by rw [cj]; exact ej)
    · by_cases q : v = j
      · rw [q, pk_us, uf_mt e]
      · rw [pk_un q]; exact h1 v (by omega)
    · rw [pk_un (by omega)]; exact h2 v (by omega) hn
    · by_cases q : v = j
      · rw [q, ej, uf_mf e]
      · exact h1 v (by omega)
theorem yw_merge {a b : Nat} {L : Nat → Nat} (ha : a < 2 ^ 31) (hb : b < 2 ^ 31) (hL : ∀ v, v < 9 → L v < 2 ^ 31) (ht : ∀ v, v < 9 → a_label v = nI (L v)) {post : Int32 → SY → Prop}
    (h0 : a = b → post 0 (f_n, f_sets, a_many, a_kept, a_label, a_far)) (h1 : a ≠ b → ∀ lb : Nat → Int32, (∀ v, v < 9 → lb v = nI (uf_m L a b v)) → post 1 (f_n, f_sets, a_many, a_kept, lb, a_far)) : wpY_merge post (f_n, f_sets, a_many, a_kept, a_label, a_far) (nI a) (nI b) :=
  pk_eq a b h0 (fun e => ⟨10, yw_merge9 hb hL (h1 e) 9 0 a_label (by omega) (fun v hv => by omega) (fun v _ => ht v)⟩)
theorem yw_s83 {n : Nat} {m : Nat → Nat → Nat} (g : gr_G n m) (hn : n ≤ 9) {T u v c ov : Nat} {L : Nat → Nat} (I : us_I n m T u v L c ov) (hu : u < n) (hv : v ≤ u) (L9 : ∀ w, w < 9 → L w < 9) (ht : ∀ w, w < 9 → a_label w = nI (L w)) {post : Int32 → SY → Prop} {J25 J42 : Int32 → Int32 → Int32 → Int32 → (Nat → Int32) → (Nat → Int32) → (Nat → Int32) → (Nat → Int32) → Prop}
    (nx : ∀ (L : Nat → Nat) (c ov : Nat) (lb : Nat → Int32), us_I n m T u (v + 1) L c ov → (∀ w, w < 9 → L w < 9) → (∀ w, w < 9 → lb w = nI (L w)) → J42 (nI ov) (nI (v + 1)) (nI n) f_sets a_many a_kept lb a_far) :
    wY_surplus_83 post J25 J42 (nI T) (nI ov) (nI u) (nI v) (nI (us_k m T u v)) (nI n) f_sets a_many a_kept a_label a_far := by
  have k2 := us_kle g T u v
  refine pk_le (us_k m T u v) 0 (fun z => pk_le (us_k m T u v) 0 (fun z => nm_r (nI_1 v) (nx L c ov a_label (us_none g I (by omega)) L9 ht)) (fun z => absurd z (by omega))) (fun z => pk_eq u v (fun e => nm_r (nI_add ov (us_k m T u v)) (pk_le (us_k m T u v) 0 (fun z => absurd z (by omega)) (fun _ => pk_eq u v (fun _ => nm_r (nI_1 v) ?_) (fun ne => absurd e ne)))) (fun ne => pk_le (us_k m T u v) 0 (fun z => absurd z (by omega)) (fun _ => pk_eq u v (fun e => absurd e ne) (fun _ => ⟨vp_in_nI (by omega) (by omega), vp_in_nI (by omega) (by omega), ?_⟩))))
  · subst e
    exact nx L c _ a_label (us_loop I z) L9 ht
  · rw [nI_clamp (by omega), nI_clamp (by omega), ht u (by omega), ht v (by omega)]
    have lu := L9 u (by omega)
    have lv := L9 v (by omega)
    refine yw_merge (by omega) (by omega) (fun w hw => by have := L9 w hw; omega) ht (fun e => br_t rfl (nm_r (nI_add _ _) (nm_r (nI_1 v) (nx L c _ a_label (us_in g I (by omega) hu z e) L9 ht)))) (fun e lb hl => br_f (by decide) (nm_r (e' := nI (ov + (us_k m T u v - 1))) ?_ (nm_r (nI_1 v) (nx _ (c + 1) _ lb (us_new g I (by omega) hu z e) (fun w hw => ?_) hl))))
    · rw [show (1 : Int32) = nI 1 from rfl, pk_sub (by omega), nI_add]
    · by_cases q : L w = L v
      · rw [uf_mt q]; exact lu
      · rw [uf_mf q]; exact L9 w hw
theorem yw_s42 {n : Nat} {m : Nat → Nat → Nat} (g : gr_G n m) (hn : n ≤ 9) (hM : gx_M m a_many) {T u : Nat} (hT : T < 2 ^ 31) (hu : u < n) {post : Int32 → SY → Prop} {J25 : Int32 → Int32 → Int32 → Int32 → (Nat → Int32) → (Nat → Int32) → (Nat → Int32) → (Nat → Int32) → Prop}
    (co : ∀ (L : Nat → Nat) (c ov : Nat) (lb : Nat → Int32), us_I n m T u (u + 1) L c ov → (∀ w, w < 9 → L w < 9) → (∀ w, w < 9 → lb w = nI (L w)) → J25 (nI ov) (nI (u + 1)) (nI n) f_sets a_many a_kept lb a_far) :
    ∀ (d v : Nat) (L : Nat → Nat) (c ov : Nat) (lb : Nat → Int32), v + d = u + 1 → us_I n m T u v L c ov → (∀ w, w < 9 → L w < 9) → (∀ w, w < 9 → lb w = nI (L w)) → wY_surplus_42 post J25 (nI T) (nI u) (d + 1) (nI ov) (nI v) (nI n) f_sets a_many a_kept lb a_far := by
  intro d
  induction d with
  | zero =>
    intro v L c ov lb hv I L9 ht
    have e : v = u + 1 := by omega
    subst e
    exact pk_lt u (u + 1) (fun _ => nm_r (nI_1 u) (co L c ov lb I L9 ht)) (fun z => absurd z (by omega))
  | succ d ih =>
    intro v L c ov lb hv I L9 ht
    have main := fun (J25 : Int32 → Int32 → Int32 → Int32 → (Nat → Int32) → (Nat → Int32) → (Nat → Int32) → (Nat → Int32) → Prop) (J42 : Int32 → Int32 → Int32 → Int32 → (Nat → Int32) → (Nat → Int32) → (Nat → Int32) → (Nat → Int32) → Prop) => yw_s83 (f_sets := f_sets) (a_many := a_many) (a_kept := a_kept) (a_label := lb) (a_far := a_far) (post := post) (J25 := J25) (J42 := J42) g hn I hu (by omega) L9 ht
    refine pk_lt u v (fun z => absurd z (by omega)) (fun vu => ?_)
    have nx : ∀ (L : Nat → Nat) (c ov : Nat) (lb : Nat → Int32), us_I n m T u (v + 1) L c ov → (∀ w, w < 9 → L w < 9) → (∀ w, w < 9 → lb w = nI (L w)) → wY_surplus_42 post J25 (nI T) (nI u) (d + 1) (nI ov) (nI (v + 1)) (nI n) f_sets a_many a_kept lb a_far := fun L c ov lb I' L9' ht' => ih (v + 1) L c ov lb (by omega) I' L9' ht'
    have r := main J25 (wY_surplus_42 post J25 (nI T) (nI u) (d + 1)) nx
    refine yw_in hT (by omega) (fun tu => br_f (by decide) ?_) (fun tu => br_t rfl ?_)
    · rw [us_k0 (fun h => mk_tf h.1 tu)] at r
      exact r
    · refine yw_in hT (by omega) (fun tv => br_f (by decide) ?_) (fun tv => br_t rfl ⟨mk_in (by omega) (by omega), ?_⟩)
      · rw [us_k0 (fun h => mk_tf h.2 tv)] at r
        exact r
      · rw [us_k1 ⟨tu, tv⟩] at r
        rw [gx_g hM (by omega) (by omega)]
        exact r
theorem yw_s25 {n : Nat} {m : Nat → Nat → Nat} (g : gr_G n m) (hn : n ≤ 9) (hM : gx_M m a_many) {T : Nat} (hT : T < 2 ^ 31) {post : Int32 → SY → Prop}
    (hp : ∀ (L : Nat → Nat) (c ov : Nat) (lb : Nat → Int32), us_I n m T n 0 L c ov → post (nI ov) (nI n, f_sets, a_many, a_kept, lb, a_far)) :
    ∀ (d u : Nat) (L : Nat → Nat) (c ov : Nat) (lb : Nat → Int32), u + d = n → us_I n m T u 0 L c ov → (∀ w, w < 9 → L w < 9) → (∀ w, w < 9 → lb w = nI (L w)) → wY_surplus_25 post (nI T) (d + 1) (nI ov) (nI u) (nI n) f_sets a_many a_kept lb a_far := by
  intro d
  induction d with
  | zero =>
    intro u L c ov lb hu I L9 ht
    have e : u = n := by omega
    subst e
    exact pk_le u u (fun _ => hp L c ov lb I) (fun z => absurd z (by omega))
  | succ d ih =>
    intro u L c ov lb hu I L9 ht
    refine pk_le n u (fun z => absurd z (by omega)) (fun un => pk_le 9 u (fun z => absurd z (by omega)) (fun _ => ⟨u + 1 + 1, ?_⟩))
    exact yw_s42 g hn hM hT un (fun L c ov lb I' L9' ht' => ih (u + 1) L c ov lb (by omega) (us_row I') L9' ht') (u + 1) 0 L c ov lb (by omega) I L9 ht
theorem yw_s4 {T : Int32} {post : Int32 → SY → Prop}
    (hp : ∀ lb : Nat → Int32, (∀ w, w < 9 → lb w = nI w) → ∃ n25 : Nat, wY_surplus_25 post T n25 0 0 f_n f_sets a_many a_kept lb a_far) :
    ∀ (d j : Nat) (lb : Nat → Int32), j + d = 9 → (∀ w, w < j → lb w = nI w) → wY_surplus_4 post T 0 f_n f_sets (d + 1) (nI j) a_many a_kept lb a_far := by
  intro d
  induction d with
  | zero =>
    intro j lb hj h
    have e : j = 9 := by omega
    subst e
    exact pk_le 9 9 (fun _ => hp lb h) (fun z => absurd z (by omega))
  | succ d ih =>
    intro j lb hj h
    have cj : (nI j).toNatClampNeg = j := nI_clamp (by omega)
    refine pk_le 9 j (fun z => absurd z (by omega)) (fun _ => ⟨vp_in_nI (by omega) (by omega), nm_r (e' := upd lb j (nI j)) (by rw [cj]) (nm_r (nI_1 j) (ih (j + 1) _ (by omega) (fun v hv => ?_)))⟩)
    by_cases e : v = j
    · rw [e, pk_us]
    · rw [pk_un e]; exact h v (by omega)
theorem yw_surplus {n : Nat} {m : Nat → Nat → Nat} (g : gr_G n m) (hn : n ≤ 9) (hM : gx_M m a_many) {T : Nat} (hT : T < 2 ^ 31) {post : Int32 → SY → Prop}
    (hp : ∀ (L : Nat → Nat) (c ov : Nat) (lb : Nat → Int32), us_I n m T n 0 L c ov → post (nI ov) (nI n, f_sets, a_many, a_kept, lb, a_far)) : wpY_surplus post (nI n, f_sets, a_many, a_kept, a_label, a_far) (nI T) := by
  refine ⟨10, yw_s4 (fun lb h => ⟨n + 1, ?_⟩) 9 0 a_label (by omega) (fun w hw => by omega)⟩
  exact yw_s25 g hn hM hT hp n 0 (fun x => x) 0 0 lb (by omega) (us_0 T) (fun w hw => hw) h
/-- the surplus as a question -/
theorem yw_sur0 {n : Nat} {m : Nat → Nat → Nat} (g : gr_G n m) (hn : n ≤ 9) (hM : gx_M m a_many) {T : Nat} (hT : T < 2 ^ 31) {post : Int32 → SY → Prop}
    (h1 : ¬ gr_Cyc m T → ∀ lb : Nat → Int32, post 0 (nI n, f_sets, a_many, a_kept, lb, a_far)) (h0 : gr_Cyc m T → ∀ (r : Int32) (lb : Nat → Int32), ¬ r = 0 → post r (nI n, f_sets, a_many, a_kept, lb, a_far)) : wpY_surplus post (nI n, f_sets, a_many, a_kept, a_label, a_far) (nI T) := by
  refine yw_surplus g hn hM hT (fun L c ov lb I => ?_)
  have e := us_end g I
  have b := us_sle g (m := m) (T := T) (u := n) (v := 0) hn (by omega)
  have i2 := I.2.1
  by_cases z : ov = 0
  · rw [z]; exact h1 (e.mp z) lb
  · refine h0 ?_ _ lb (nI_ne0 (by omega) (by omega))
    by_cases cy : gr_Cyc m T
    · exact cy
    · exact absurd (e.mpr cy) z
theorem yw_open2 {n : Nat} {m : Nat → Nat → Nat} (g : gr_G n m) (hn : n ≤ 9) (hM : gx_M m a_many) {kp S : Nat} (hS : S < 2 ^ n) (hk : ∀ v, v < n → (a_kept v = 0 ↔ kp.testBit v = false)) {post : Int32 → SY → Prop}
    (h1 : yo_K m kp S → ∀ lb : Nat → Int32, post 1 (nI n, f_sets, a_many, a_kept, lb, a_far)) (h0 : ¬ yo_K m kp S → ∀ lb : Nat → Int32, post 0 (nI n, f_sets, a_many, a_kept, lb, a_far)) :
    ∀ d v, v + d = n → (∀ i, i < v → S.testBit i = true → kp.testBit i = false) → wY_open_2 post (nI S) (nI n) f_sets a_many a_kept a_label a_far (d + 1) (nI v) := by
  have p9 := mk_p9 hn
  intro d
  induction d with
  | zero =>
    intro v hv h
    have e : v = n := by omega
    subst e
    refine pk_le v v (fun _ => ?_) (fun z => absurd z (by omega))
    refine yw_sur0 g hn hM (by omega) (fun nc lb => br_t rfl (h1 ⟨fun i hi => h i (mk_hi hS hi) hi, nc⟩ lb)) (fun cy r lb ne => br_f ne (h0 (fun z => z.2 cy) lb))
  | succ d ih =>
    intro v hv h
    have cv : (nI v).toNatClampNeg = v := nI_clamp (by omega)
    have go : (S.testBit v = true → kp.testBit v = false) → wY_open_2 post (nI S) (nI n) f_sets a_many a_kept a_label a_far (d + 1) (nI (v + 1)) := fun q => ih (v + 1) (by omega) (fun i hi si => by
      by_cases e : i = v
      · rw [e] at si ⊢; exact q si
      · exact h i (by omega) si)
    refine pk_le n v (fun z => absurd z (by omega)) (fun vn => pk_le 9 v (fun z => absurd z (by omega)) (fun _ => ⟨vp_in_nI (by omega) (by omega), ?_⟩))
    rw [cv]
    refine bx_if (hk v vn) (fun kv => nm_r (nI_1 v) (go (fun _ => kv))) (fun kv => ?_)
    refine yw_in (by omega) (by omega) (fun sv => br_f (by decide) (h0 (fun z => kv (z.1 v sv)) a_label)) (fun sv => br_t rfl (nm_r (nI_1 v) (go (fun z => absurd z (mk_tf sv)))))
theorem yw_open {n : Nat} {m : Nat → Nat → Nat} (g : gr_G n m) (hn : n ≤ 9) (hM : gx_M m a_many) {kp S : Nat} (hS : S < 2 ^ n) (hk : ∀ v, v < n → (a_kept v = 0 ↔ kp.testBit v = false)) {post : Int32 → SY → Prop}
    (h1 : yo_K m kp S → ∀ lb : Nat → Int32, post 1 (nI n, f_sets, a_many, a_kept, lb, a_far)) (h0 : ¬ yo_K m kp S → ∀ lb : Nat → Int32, post 0 (nI n, f_sets, a_many, a_kept, lb, a_far)) : wpY_open post (nI n, f_sets, a_many, a_kept, a_label, a_far) (nI S) :=
  ⟨n + 1, yw_open2 g hn hM hS hk h1 h0 n 0 (by omega) (fun i hi => by omega)⟩
end
end
section
/-! ===== the reference: search, sizeOf, least, tally ===== -/
def yo_F (m : Nat → Nat → Nat) (kp mu nt S : Nat) : Prop := (∀ i, mu.testBit i = true → S.testBit i = true) ∧ (∀ i, S.testBit i = true → nt.testBit i = false) ∧ yo_K m kp S
/-- the best below i: the smallest, of these the least number -/
def yo_B (m : Nat → Nat → Nat) (kp mu nt i : Nat) (ch : Int32) : Prop := (ch = -1 ∧ ∀ S, S < i → ¬ yo_F m kp mu nt S) ∨ ∃ c, c < i ∧ ch = nI c ∧ yo_F m kp mu nt c ∧ ∀ S, S < i → yo_F m kp mu nt S → (mk_pc c < mk_pc S ∨ (mk_pc c = mk_pc S ∧ c ≤ S))
theorem yo_skip {m : Nat → Nat → Nat} {kp mu nt i : Nat} {ch : Int32} (h : yo_B m kp mu nt i ch) (no : ¬ yo_F m kp mu nt i) : yo_B m kp mu nt (i + 1) ch := by
  rcases h with ⟨a, b⟩ | ⟨c, a, b, d, e⟩
  · refine Or.inl ⟨a, fun S hS f => ?_⟩
    by_cases q : S = i
    · rw [q] at f; exact no f
    · exact b S (by omega) f
  · refine Or.inr ⟨c, by omega, b, d, fun S hS f => ?_⟩
    by_cases q : S = i
    · rw [q] at f; exact absurd f no
    · exact e S (by omega) f
theorem yo_keep {m : Nat → Nat → Nat} {kp mu nt i c : Nat} (hi : i < 2 ^ 31) (h : yo_B m kp mu nt i (nI c)) (hc : c < 2 ^ 31) (l : mk_pc c ≤ mk_pc i) : yo_B m kp mu nt (i + 1) (nI c) := by
  rcases h with ⟨a, b⟩ | ⟨c', a, b, d, e⟩
  · exact absurd a (mk_m1 hc)
  · have ec : c = c' := (nI_eq hc (by omega)).mp b
    subst ec
    refine Or.inr ⟨c, by omega, rfl, d, fun S hS f => ?_⟩
    by_cases q : S = i
    · rw [q]; omega
    · exact e S (by omega) f
theorem yo_new {m : Nat → Nat → Nat} {kp mu nt i : Nat} {ch : Int32} (h : yo_B m kp mu nt i ch) (f : yo_F m kp mu nt i) (hl : ∀ c, c < i → ch = nI c → mk_pc i < mk_pc c) : yo_B m kp mu nt (i + 1) (nI i) := by
  refine Or.inr ⟨i, by omega, rfl, f, fun S hS fS => ?_⟩
  by_cases q : S = i
  · rw [q]; exact Or.inr ⟨rfl, Nat.le_refl _⟩
  · rcases h with ⟨a, b⟩ | ⟨c, a, b, d, e⟩
    · exact absurd fS (b S (by omega))
    · have l := hl c a b
      have r := e S (by omega) fS
      omega
theorem mk_sub {S T : Nat} (hS : S < 2 ^ 31) (hT : T < 2 ^ 31) : nI S &&& nI T = nI T ↔ ∀ i, T.testBit i = true → S.testBit i = true := by
  rw [nx_and, nI_eq (Nat.lt_of_le_of_lt Nat.and_le_left hS) hT]
  constructor
  · intro h i hi
    rw [← h] at hi
    exact (mk_andT.mp hi).1
  · intro h
    exact mk_ext (fun i => ⟨fun q => (mk_andT.mp q).2, fun q => mk_andT.mpr ⟨h i q, q⟩⟩)
theorem mk_dis {S T : Nat} (hS : S < 2 ^ 31) : nI S &&& nI T = 0 ↔ ∀ i, S.testBit i = true → T.testBit i = false := by
  rw [nx_and, ← nI_0, nI_eq (Nat.lt_of_le_of_lt Nat.and_le_left hS) (by decide)]
  constructor
  · intro h i hi
    refine mk_ff (fun z => ?_)
    have q := mk_andT.mpr ⟨hi, z⟩
    rw [h] at q
    exact mk_z q
  · intro h
    exact mk_ext (fun i => ⟨fun q => absurd (mk_andT.mp q).2 (mk_tf (h i (mk_andT.mp q).1)), fun q => (mk_z q).elim⟩)
section
variable {f_n f_sets : Int32} {a_many a_kept a_label a_far : Nat → Int32}
theorem yw_s5 {n : Nat} {m : Nat → Nat → Nat} (g : gr_G n m) (hn : n ≤ 9) (hM : gx_M m a_many) {kp mu nt : Nat} (hmu : mu < 2 ^ 31) (hk : ∀ v, v < n → (a_kept v = 0 ↔ kp.testBit v = false)) {post : Int32 → SY → Prop}
    (hp : ∀ (ch : Int32) (lb : Nat → Int32), yo_B m kp mu nt (2 ^ n) ch → post ch (nI n, nI (2 ^ n), a_many, a_kept, lb, a_far)) :
    ∀ (d i : Nat) (ch : Int32) (lb : Nat → Int32), i + d = 2 ^ n → yo_B m kp mu nt i ch → wY_search_5 post (nI mu) (nI nt) (d + 1) ch (nI i) (nI n) (nI (2 ^ n)) a_many a_kept lb a_far := by
  have p9 := mk_p9 hn
  intro d
  induction d with
  | zero =>
    intro i ch lb hi B
    have e : i = 2 ^ n := by omega
    subst e
    exact pk_le (2 ^ n) (2 ^ n) (fun _ => hp ch lb B) (fun z => absurd z (by omega))
  | succ d ih =>
    intro i ch lb hi B
    have iN : i < 2 ^ n := by omega
    have skip : ¬ yo_F m kp mu nt i → ∀ lb : Nat → Int32, wY_search_5 post (nI mu) (nI nt) (d + 1) ch (nI (i + 1)) (nI n) (nI (2 ^ n)) a_many a_kept lb a_far := fun no lb => ih (i + 1) ch lb (by omega) (yo_skip B no)
    refine pk_le (2 ^ n) i (fun z => absurd z (by omega)) (fun _ => ?_)
    refine bx_if (mk_sub (by omega) hmu) (fun s1 => bx_if (mk_dis (by omega)) (fun s2 => ?_) (fun s2 => br_t rfl (nm_r (nI_1 i) (skip (fun f => s2 f.2.1) lb)))) (fun s1 => br_t rfl (nm_r (nI_1 i) (skip (fun f => s1 f.1) lb)))
    have j59 : (∀ c, c < i → ch = nI c → mk_pc i < mk_pc c) → wY_search_59 post (wY_search_5 post (nI mu) (nI nt) (d + 1)) (nI mu) (nI nt) ch (nI i) (nI n) (nI (2 ^ n)) a_many a_kept lb a_far := fun hl =>
      yw_open g hn hM iN hk (fun k lb' => br_f (by decide) (nm_r (nI_1 i) (ih (i + 1) (nI i) lb' (by omega) (yo_new B ⟨s1, s2, k⟩ hl)))) (fun k lb' => br_t rfl (nm_r (nI_1 i) (skip (fun f => k f.2.2) lb')))
    refine br_f (by decide) ?_
    have B' := B
    rcases B with ⟨a, b⟩ | ⟨c, a, b, f, e⟩
    · refine br_t (by rw [a]; decide) (j59 (fun c hc q => ?_))
      rw [a] at q
      exact absurd q.symm (mk_m1 (by omega))
    · subst b
      refine br_f (nI_pos (by omega)) (yw_size (by omega) (yw_size (by omega) ?_))
      have pi := mk_pcle i
      have pc := mk_pcle c
      refine pk_le (mk_pc c) (mk_pc i) (fun l => nm_r (nI_1 i) (ih (i + 1) (nI c) lb (by omega) (yo_keep (by omega) B' (by omega) l))) (fun l => j59 (fun c' hc q => ?_))
      have := (nI_eq (by omega) (by omega)).mp q
      subst this
      exact l
theorem yw_search {n : Nat} {m : Nat → Nat → Nat} (g : gr_G n m) (hn : n ≤ 9) (hM : gx_M m a_many) {kp mu nt : Nat} (hmu : mu < 2 ^ 31) (hk : ∀ v, v < n → (a_kept v = 0 ↔ kp.testBit v = false)) {post : Int32 → SY → Prop}
    (hp : ∀ (ch : Int32) (lb : Nat → Int32), yo_B m kp mu nt (2 ^ n) ch → post ch (nI n, nI (2 ^ n), a_many, a_kept, lb, a_far)) : wpY_search post (nI n, nI (2 ^ n), a_many, a_kept, a_label, a_far) (nI mu) (nI nt) :=
  ⟨2 ^ n + 1, yw_s5 g hn hM hmu hk hp (2 ^ n) 0 (-1) a_label (by omega) (Or.inl ⟨rfl, fun S h => by omega⟩)⟩
/-- the size of the best -/
def yo_r (m : Nat → Nat → Nat) (n kp mu nt : Nat) (r : Int32) : Prop := (r = -1 ∧ ∀ S, S < 2 ^ n → ¬ yo_F m kp mu nt S) ∨ ∃ c, c < 2 ^ n ∧ r = nI (mk_pc c) ∧ yo_F m kp mu nt c ∧ ∀ S, S < 2 ^ n → yo_F m kp mu nt S → mk_pc c ≤ mk_pc S
theorem yw_sizeOf {n : Nat} {m : Nat → Nat → Nat} {kp mu nt : Nat} (hn : n ≤ 9) {ch : Int32} (B : yo_B m kp mu nt (2 ^ n) ch) {post : Int32 → Prop} (hp : ∀ r, yo_r m n kp mu nt r → post r) : wpY_sizeOf post (f_n, f_sets, a_many, a_kept, a_label, a_far) ch := by
  have p9 := mk_p9 hn
  rcases B with ⟨a, b⟩ | ⟨c, a, b, f, e⟩
  · rw [a]
    exact br_f (by decide) (hp (-1) (Or.inl ⟨rfl, b⟩))
  · rw [b]
    exact br_t (nI_pos' (by omega)) (yw_size (by omega) (hp _ (Or.inr ⟨c, a, rfl, f, fun S hS fS => by have := e S hS fS; omega⟩)))
theorem yw_least {n : Nat} {m : Nat → Nat → Nat} (g : gr_G n m) (hn : n ≤ 9) (hM : gx_M m a_many) {kp : Nat} (hk : ∀ v, v < n → (a_kept v = 0 ↔ kp.testBit v = false)) {post : Int32 → SY → Prop}
    (hp : ∀ (r : Int32) (lb : Nat → Int32), yo_r m n kp 0 0 r → post r (nI n, nI (2 ^ n), a_many, a_kept, lb, a_far)) : wpY_least post (nI n, nI (2 ^ n), a_many, a_kept, a_label, a_far) := by
  unfold wpY_least
  dsimp only
  refine yw_search (mu := 0) (nt := 0) g hn hM (by decide) hk (fun ch lb B => ?_)
  exact yw_sizeOf hn B (fun r h => hp r lb h)
/-- the counted sets -/
def yo_T (m : Nat → Nat → Nat) (kp mu k S : Nat) : Prop := mk_pc S = k ∧ (∀ i, mu.testBit i = true → S.testBit i = true) ∧ yo_K m kp S
theorem yw_t10 {n : Nat} {m : Nat → Nat → Nat} (g : gr_G n m) (hn : n ≤ 9) (hM : gx_M m a_many) {kp mu k : Nat} (hmu : mu < 2 ^ 31) (k9 : k ≤ 9) (hk : ∀ v, v < n → (a_kept v = 0 ↔ kp.testBit v = false)) {post : Int32 → SY → Prop}
    (hp : ∀ lb : Nat → Int32, post (nI (ct_c (yo_T m kp mu k) (2 ^ n))) (nI n, nI (2 ^ n), a_many, a_kept, lb, a_far)) :
    ∀ (d i : Nat) (lb : Nat → Int32), i + d = 2 ^ n → wY_tally_10 post (nI mu) (nI k) (d + 1) (nI (ct_c (yo_T m kp mu k) i)) (nI i) (nI n) (nI (2 ^ n)) a_many a_kept lb a_far := by
  have p9 := mk_p9 hn
  intro d
  induction d with
  | zero =>
    intro i lb hi
    have e : i = 2 ^ n := by omega
    subst e
    exact pk_le (2 ^ n) (2 ^ n) (fun _ => hp lb) (fun z => absurd z (by omega))
  | succ d ih =>
    intro i lb hi
    have iN : i < 2 ^ n := by omega
    have nx := fun lb => ih (i + 1) lb (by omega)
    have no : ¬ yo_T m kp mu k i → ∀ lb : Nat → Int32, wY_tally_10 post (nI mu) (nI k) (d + 1) (nI (ct_c (yo_T m kp mu k) i)) (nI (i + 1)) (nI n) (nI (2 ^ n)) a_many a_kept lb a_far := fun z lb => by
      have q := nx lb
      rw [ct_f z] at q
      exact q
    refine pk_le (2 ^ n) i (fun z => absurd z (by omega)) (fun _ => br_f (nI_pos (by omega)) (yw_size (by omega) ?_))
    have pi := mk_pcle i
    refine pk_eq (mk_pc i) k (fun e => bx_if (mk_sub (by omega) hmu) (fun s => ?_) (fun s => nm_r (nI_1 i) (no (fun z => s z.2.1) lb))) (fun e => nm_r (nI_1 i) (no (fun z => e z.1) lb))
    refine yw_open g hn hM iN hk (fun y lb' => br_f (by decide) (nm_r (nI_1 _) (nm_r (nI_1 i) ?_))) (fun y lb' => br_t rfl (nm_r (nI_1 i) (no (fun z => y z.2.2) lb')))
    have q := nx lb'
    rw [ct_t (P := yo_T m kp mu k) ⟨e, s, y⟩] at q
    exact q
theorem yw_t10n {n : Nat} (hn : n ≤ 9) {mu : Int32} {post : Int32 → SY → Prop} (hp : post 0 (f_n, nI (2 ^ n), a_many, a_kept, a_label, a_far)) :
    ∀ (d i : Nat), i + d = 2 ^ n → wY_tally_10 post mu (-1) (d + 1) 0 (nI i) f_n (nI (2 ^ n)) a_many a_kept a_label a_far := by
  have p9 := mk_p9 hn
  intro d
  induction d with
  | zero =>
    intro i hi
    have e : i = 2 ^ n := by omega
    subst e
    exact pk_le (2 ^ n) (2 ^ n) (fun _ => hp) (fun z => absurd z (by omega))
  | succ d ih =>
    intro i hi
    exact pk_le (2 ^ n) i (fun z => absurd z (by omega)) (fun _ => br_t (by decide) (nm_r (nI_1 i) (ih (i + 1) (by omega))))
theorem yw_tally {n : Nat} {m : Nat → Nat → Nat} (g : gr_G n m) (hn : n ≤ 9) (hM : gx_M m a_many) {kp mu : Nat} (hmu : mu < 2 ^ 31) (hk : ∀ v, v < n → (a_kept v = 0 ↔ kp.testBit v = false)) {post : Int32 → SY → Prop}
    (h0 : (∀ S, S < 2 ^ n → ¬ yo_F m kp 0 0 S) → ∀ lb : Nat → Int32, post 0 (nI n, nI (2 ^ n), a_many, a_kept, lb, a_far))
    (h1 : ∀ c, c < 2 ^ n → yo_F m kp 0 0 c → (∀ S, S < 2 ^ n → yo_F m kp 0 0 S → mk_pc c ≤ mk_pc S) → ∀ lb : Nat → Int32, post (nI (ct_c (yo_T m kp mu (mk_pc c)) (2 ^ n))) (nI n, nI (2 ^ n), a_many, a_kept, lb, a_far)) : wpY_tally post (nI n, nI (2 ^ n), a_many, a_kept, a_label, a_far) (nI mu) := by
  unfold wpY_tally
  dsimp only
  refine yw_least g hn hM hk (fun r lb R => ⟨2 ^ n + 1, ?_⟩)
  rcases R with ⟨a, b⟩ | ⟨c, a, b, f, e⟩
  · rw [a]
    exact yw_t10n hn (h0 b lb) (2 ^ n) 0 (by omega)
  · rw [b]
    exact yw_t10 g hn hM hmu (mk_pcle c) hk (h1 c a f e) (2 ^ n) 0 lb (by omega)
end
end
section
/-! ===== the reference: way ===== -/
def wa_R (E : Nat → Nat → Prop) (u r : Nat) (fa : Nat → Int32) : Prop := ∀ w, w < 9 → (∀ k, k ≤ r → gr_L E k u w → fa w = nI k) ∧ ((∀ k, k ≤ r → ¬ gr_W E k u w) → fa w = 99)
def wa_M (E : Nat → Nat → Prop) (u r k : Nat) (fa : Nat → Int32) : Prop := ∀ w, w < 9 → (∀ j, j ≤ r → gr_L E j u w → fa w = nI j) ∧ ((∀ j, j ≤ r → ¬ gr_W E j u w) → (fa w = 99 ∨ (fa w = nI (r + 1) ∧ gr_W E (r + 1) u w)) ∧ ((∃ x, x < 9 ∧ 9 * x + w < k ∧ gr_L E r u x ∧ E x w) → fa w = nI (r + 1)))
theorem wa_99 : (99 : Int32) = nI 99 := rfl
theorem wa_start {E : Nat → Nat → Prop} {u r : Nat} {fa : Nat → Int32} (h : wa_R E u r fa) : wa_M E u r 0 fa := fun w hw => ⟨(h w hw).1, fun z => ⟨Or.inl ((h w hw).2 z), fun ⟨x, _, q, _⟩ => by omega⟩⟩
theorem wa_end {E : Nat → Nat → Prop} (hE : ∀ x y, E x y → x < 9) {u r : Nat} {fa : Nat → Int32} (h : wa_M E u r 81 fa) : wa_R E u (r + 1) fa := by
  intro w hw
  have q := h w hw
  refine ⟨fun k hk l => ?_, fun no => ?_⟩
  · by_cases e : k = r + 1
    · subst e
      obtain ⟨z, lz, ez⟩ := gr_Lpre l
      have zn := hE z w ez
      exact (q.2 (fun j hj wj => l.2 j (by omega) wj)).2 ⟨z, zn, by omega, lz, ez⟩
    · exact q.1 k (by omega) l
  · rcases (q.2 (fun j hj => no j (by omega))).1 with a | a
    · exact a
    · exact absurd a.2 (no (r + 1) (Nat.le_refl _))
/-- what the array says of a vertex in round r + 1 -/
theorem wa_is {E : Nat → Nat → Prop} {u r k : Nat} {fa : Nat → Int32} (hr : r ≤ 8) (h : wa_M E u r k fa) {w : Nat} (hw : w < 9) : (∃ j, j ≤ r ∧ gr_L E j u w ∧ fa w = nI j) ∨ ((∀ j, j ≤ r → ¬ gr_W E j u w) ∧ (fa w = 99 ∨ fa w = nI (r + 1))) := by
  by_cases e : ∃ j, j ≤ r ∧ gr_W E j u w
  · obtain ⟨j, hj, wj⟩ := e
    obtain ⟨l, hl, L⟩ := gr_Lex wj
    exact Or.inl ⟨l, by omega, L, (h w hw).1 l (by omega) L⟩
  · have no : ∀ j, j ≤ r → ¬ gr_W E j u w := fun j hj z => e ⟨j, hj, z⟩
    exact Or.inr ⟨no, ((h w hw).2 no).1.imp id (fun z => z.1)⟩
theorem wa_L {E : Nat → Nat → Prop} {u r k : Nat} {fa : Nat → Int32} (hr : r ≤ 8) (h : wa_M E u r k fa) {w : Nat} (hw : w < 9) : fa w = nI r ↔ gr_L E r u w := by
  constructor
  · intro e
    rcases wa_is hr h hw with ⟨j, hj, L, q⟩ | ⟨no, q⟩
    · rw [q, nI_eq (by omega) (by omega)] at e
      rw [← e]; exact L
    · rcases q with q | q
      · rw [q, wa_99, nI_eq (by omega) (by omega)] at e
        omega
      · rw [q, nI_eq (by omega) (by omega)] at e
        omega
  · intro L
    exact (h w hw).1 r (Nat.le_refl _) L
theorem wa_big {E : Nat → Nat → Prop} {u r k : Nat} {fa : Nat → Int32} (hr : r ≤ 8) (h : wa_M E u r k fa) {w : Nat} (hw : w < 9) : (fa w ≤ nI (r + 1) → (∀ j, j ≤ r → ¬ gr_W E j u w) → fa w = nI (r + 1)) ∧ (¬ fa w ≤ nI (r + 1) → ∀ j, j ≤ r → ¬ gr_W E j u w) := by
  constructor
  · intro l no
    rcases ((h w hw).2 no).1 with q | q
    · rw [q, wa_99, nI_leI (by omega) (by omega)] at l
      omega
    · exact q.1
  · intro l
    rcases wa_is hr h hw with ⟨j, hj, L, q⟩ | ⟨no, q⟩
    · rw [q] at l
      exact absurd (nI_le (by omega) (by omega)) l
    · exact no
theorem wa_ix {x w k : Nat} (hw : w < 9) (e : 9 * x + w = k) : x = k / 9 ∧ w = k % 9 := by omega
/-- nothing changes at k -/
theorem wa_same {E : Nat → Nat → Prop} {u r k : Nat} {fa : Nat → Int32} (h : wa_M E u r k fa) (q : gr_L E r u (k / 9) → E (k / 9) (k % 9) → (∀ j, j ≤ r → ¬ gr_W E j u (k % 9)) → fa (k % 9) = nI (r + 1)) : wa_M E u r (k + 1) fa := by
  intro w hw
  refine ⟨(h w hw).1, fun no => ⟨((h w hw).2 no).1, fun ⟨x, hx, l, L, e⟩ => ?_⟩⟩
  by_cases z : 9 * x + w = k
  · have i := wa_ix hw z
    rw [i.1] at L e
    rw [i.2] at e no ⊢
    exact q L e no
  · exact ((h w hw).2 no).2 ⟨x, hx, by omega, L, e⟩
theorem wa_upd {E : Nat → Nat → Prop} {u r k : Nat} {fa : Nat → Int32} (h : wa_M E u r k fa) (no : ∀ j, j ≤ r → ¬ gr_W E j u (k % 9)) (L : gr_L E r u (k / 9)) (e : E (k / 9) (k % 9)) : wa_M E u r (k + 1) (upd fa (k % 9) (nI (r + 1))) := by
  intro w hw
  by_cases q : w = k % 9
  · rw [q, pk_us]
    exact ⟨fun j hj l => absurd l.1 (no j hj), fun _ => ⟨Or.inr ⟨rfl, _, L.1, e⟩, fun _ => rfl⟩⟩
  · rw [pk_un q]
    refine ⟨(h w hw).1, fun no' => ⟨((h w hw).2 no').1, fun ⟨x, hx, l, L', e'⟩ => ((h w hw).2 no').2 ⟨x, hx, ?_, L', e'⟩⟩⟩
    by_cases z : 9 * x + w = k
    · exact absurd (wa_ix hw z).2 q
    · omega
section
variable {f_n f_sets : Int32} {a_many a_kept a_label a_far : Nat → Int32}
theorem yw_w44 {n : Nat} {m : Nat → Nat → Nat} (g : gr_G n m) (hn : n ≤ 9) (hM : gx_M m a_many) {u v r : Nat} (hu : u < n) (hv : v < n) (hr : r ≤ 8) {post : Int32 → SY → Prop} {J33 : Int32 → (Nat → Int32) → (Nat → Int32) → (Nat → Int32) → (Nat → Int32) → Prop}
    (co : ∀ fa : Nat → Int32, wa_M (gr_del (gr_E m 0) u v) u r 81 fa → J33 (nI (r + 1 + 1)) a_many a_kept a_label fa) :
    ∀ (d k : Nat) (fa : Nat → Int32), k + d = 81 → wa_M (gr_del (gr_E m 0) u v) u r k fa → wY_way_44 post J33 (nI u) (nI v) (nI (r + 1)) (nI n) f_sets (d + 1) (nI k) a_many a_kept a_label fa := by
  intro d
  induction d with
  | zero =>
    intro k fa hk W
    have e : k = 81 := by omega
    subst e
    exact pk_le 81 81 (fun _ => nm_r (nI_1 (r + 1)) (co fa W)) (fun z => absurd z (by omega))
  | succ d ih =>
    intro k fa hk W
    have x9 : k / 9 < 9 := by omega
    have y9 : k % 9 < 9 := by omega
    have ck : (nI k).toNatClampNeg = k := nI_clamp (by omega)
    have cx : (nI (k / 9)).toNatClampNeg = k / 9 := nI_clamp (by omega)
    have cy : (nI (k % 9)).toNatClampNeg = k % 9 := nI_clamp (by omega)
    have em : a_many (nI k).toNatClampNeg = nI (m (k / 9) (k % 9)) := by
      rw [ck]
      have := hM (k / 9) (k % 9) x9 y9
      rw [show 9 * (k / 9) + k % 9 = k by omega] at this
      exact this
    have m2 := g.2.1 (k / 9) (k % 9)
    have nx : ∀ fa : Nat → Int32, wa_M (gr_del (gr_E m 0) u v) u r (k + 1) fa → wY_way_44 post J33 (nI u) (nI v) (nI (r + 1)) (nI n) f_sets (d + 1) (nI (k + 1)) a_many a_kept a_label fa := fun fa W' => ih (k + 1) fa (by omega) W'
    have no : ¬ gr_del (gr_E m 0) u v (k / 9) (k % 9) → wY_way_44 post J33 (nI u) (nI v) (nI (r + 1)) (nI n) f_sets (d + 1) (nI (k + 1)) a_many a_kept a_label fa := fun ne => nx fa (wa_same W (fun _ e => absurd e ne))
    have j89 : gr_pr u v (k / 9) (k % 9) → wY_way_89 post J33 (wY_way_44 post J33 (nI u) (nI v) (nI (r + 1)) (nI n) f_sets (d + 1)) (nI u) (nI v) (nI (r + 1)) (nI k) (nI (k / 9)) (nI (k % 9)) (nI n) f_sets a_many a_kept a_label fa := fun p =>
      ⟨vp_in_nI (by omega) (by omega), pk_le (m (k / 9) (k % 9)) 0 (fun _ => nm_r (nI_1 k) (no (fun z => z.2 p))) (fun _ => br_f (by decide) (nm_r (nI_1 k) (no (fun z => z.2 p)))) (hx := em)⟩
    have j93 : ¬ gr_pr u v (k / 9) (k % 9) → wY_way_93 post J33 (wY_way_44 post J33 (nI u) (nI v) (nI (r + 1)) (nI n) f_sets (d + 1)) (nI u) (nI v) (nI (r + 1)) (nI k) (nI (k / 9)) (nI (k % 9)) (nI n) f_sets a_many a_kept a_label fa := fun p => by
      refine ⟨vp_in_nI (by omega) (by omega), pk_le (m (k / 9) (k % 9)) 0 (fun z => nm_r (nI_1 k) (no (fun e => by have := e.1.1; omega))) (fun z => br_t rfl ⟨vp_in_nI x9 (by omega), ?_⟩) (hx := em)⟩
      have ed : gr_del (gr_E m 0) u v (k / 9) (k % 9) := ⟨⟨z, Nat.zero_testBit _, Nat.zero_testBit _⟩, p⟩
      rw [cx, nI_pred, cy]
      refine bx_if (wa_L hr W x9) (fun L => ⟨vp_in_nI y9 (by omega), br_c (fun l => nm_r (nI_1 k) (nx fa (wa_same W (fun _ _ q => (wa_big hr W y9).1 l q)))) (fun l => ⟨vp_in_nI y9 (by omega), nm_e (nm_r (nI_1 k) (nx _ (wa_upd W ((wa_big hr W y9).2 l) L ed)))⟩)⟩) (fun L => nm_r (nI_1 k) (nx fa (wa_same W (fun l => absurd l L))))
    have j77 : ¬ (k / 9 = u ∧ k % 9 = v) → wY_way_77 post J33 (wY_way_44 post J33 (nI u) (nI v) (nI (r + 1)) (nI n) f_sets (d + 1)) (nI u) (nI v) (nI (r + 1)) (nI k) (nI (k / 9)) (nI (k % 9)) (nI n) f_sets a_many a_kept a_label fa := fun p =>
      pk_eq (k / 9) v (fun a => pk_eq (k % 9) u (fun b => j89 (Or.inr ⟨a, b⟩)) (fun b => j93 (fun z => z.elim p (fun y => b y.2)))) (fun a => j93 (fun z => z.elim p (fun y => a y.1)))
    refine pk_le 81 k (fun z => absurd z (by omega)) (fun _ => ⟨by decide, nm_r (pk_div (d := 9) (by omega) (by decide) (by decide)) ⟨by decide, nm_r (pk_rem (d := 9) (by omega) (by decide) (by decide)) ?_⟩⟩)
    exact pk_eq (k / 9) u (fun a => pk_eq (k % 9) v (fun b => j89 (Or.inl ⟨a, b⟩)) (fun b => j77 (fun z => b z.2))) (fun a => j77 (fun z => a z.1))
theorem yw_w33 {n : Nat} {m : Nat → Nat → Nat} (g : gr_G n m) (n0 : 0 < n) (hn : n ≤ 9) (hM : gx_M m a_many) {u v : Nat} (hu : u < n) (hv : v < n) {post : Int32 → SY → Prop}
    (h1 : ∀ l, l < n → gr_L (gr_del (gr_E m 0) u v) l u v → ∀ fa : Nat → Int32, post (nI l) (nI n, f_sets, a_many, a_kept, a_label, fa)) (h0 : (∀ k, ¬ gr_W (gr_del (gr_E m 0) u v) k u v) → ∀ fa : Nat → Int32, post 0 (nI n, f_sets, a_many, a_kept, a_label, fa)) :
    ∀ (d r : Nat) (fa : Nat → Int32), r + 1 + d = n → wa_R (gr_del (gr_E m 0) u v) u r fa → wY_way_33 post (nI u) (nI v) (nI n) f_sets (d + 1) (nI (r + 1)) a_many a_kept a_label fa := by
  intro d
  induction d with
  | zero =>
    intro r fa hr W
    have cv : (nI v).toNatClampNeg = v := nI_clamp (by omega)
    refine pk_le n (r + 1) (fun _ => ⟨vp_in_nI (by omega) (by omega), ?_⟩) (fun z => absurd z (by omega))
    rw [cv]
    by_cases e : ∃ k, gr_W (gr_del (gr_E m 0) u v) k u v
    · obtain ⟨k, w⟩ := e
      obtain ⟨l, _, L⟩ := gr_Lex w
      have ln := gr_Llt hu (fun x y z => (g.2.2 x y z.1.1).2) L
      have q := (W v (by omega)).1 l (by omega) L
      rw [q]
      exact pk_le 99 l (fun z => absurd z (by omega)) (fun _ => ⟨vp_in_nI (by omega) (by omega), h1 l ln L fa⟩)
    · have no : ∀ k, ¬ gr_W (gr_del (gr_E m 0) u v) k u v := fun k z => e ⟨k, z⟩
      have q := (W v (by omega)).2 (fun k _ => no k)
      rw [q]
      exact br_t (by decide) (h0 no fa)
  | succ d ih =>
    intro r fa hr W
    refine pk_le n (r + 1) (fun z => absurd z (by omega)) (fun _ => ⟨82, ?_⟩)
    exact yw_w44 g hn hM hu hv (by omega) (fun fa' W' => ih (r + 1) fa' (by omega) (wa_end (fun x y z => by have := (g.2.2 x y z.1.1).1; omega) W')) 81 0 fa (by omega) (wa_start W)
theorem yw_w2 {u : Nat} (hu : u < 9) {v : Int32} {post : Int32 → SY → Prop}
    (hp : ∀ fa : Nat → Int32, (∀ w, w < 9 → fa w = if w = u then 0 else 99) → ∃ n33 : Nat, wY_way_33 post (nI u) v f_n f_sets n33 1 a_many a_kept a_label fa) :
    ∀ (d j : Nat) (fa : Nat → Int32), j + d = 9 → (∀ w, w < j → fa w = if w = u then 0 else 99) → wY_way_2 post (nI u) v f_n f_sets (d + 1) (nI j) a_many a_kept a_label fa := by
  intro d
  induction d with
  | zero =>
    intro j fa hj h
    have e : j = 9 := by omega
    subst e
    exact pk_le 9 9 (fun _ => hp fa h) (fun z => absurd z (by omega))
  | succ d ih =>
    intro j fa hj h
    have cj : (nI j).toNatClampNeg = j := nI_clamp (by omega)
    refine pk_le 9 j (fun z => absurd z (by omega)) (fun _ => pk_eq j u (fun e => ⟨vp_in_nI (by omega) (by omega), nm_r (e' := upd fa j 0) (by rw [cj]) (nm_r (nI_1 j) (ih (j + 1) _ (by omega) (fun w hw => ?_)))⟩) (fun e => ⟨vp_in_nI (by omega) (by omega), nm_r (e' := upd fa j 99) (by rw [cj]) (nm_r (nI_1 j) (ih (j + 1) _ (by omega) (fun w hw => ?_)))⟩))
    · by_cases q : w = j
      · rw [q, pk_us, if_pos e]
      · rw [pk_un q]; exact h w (by omega)
    · by_cases q : w = j
      · rw [q, pk_us, if_neg e]
      · rw [pk_un q]; exact h w (by omega)
theorem yw_way {n : Nat} {m : Nat → Nat → Nat} (g : gr_G n m) (n0 : 0 < n) (hn : n ≤ 9) (hM : gx_M m a_many) {u v : Nat} (hu : u < n) (hv : v < n) {post : Int32 → SY → Prop}
    (h1 : ∀ l, l < n → gr_L (gr_del (gr_E m 0) u v) l u v → ∀ fa : Nat → Int32, post (nI l) (nI n, f_sets, a_many, a_kept, a_label, fa)) (h0 : (∀ k, ¬ gr_W (gr_del (gr_E m 0) u v) k u v) → ∀ fa : Nat → Int32, post 0 (nI n, f_sets, a_many, a_kept, a_label, fa)) : wpY_way post (nI n, f_sets, a_many, a_kept, a_label, a_far) (nI u) (nI v) := by
  refine ⟨10, yw_w2 (by omega) (fun fa h => ⟨n - 1 + 1, ?_⟩) 9 0 a_far (by omega) (fun w hw => by omega)⟩
  refine yw_w33 g n0 hn hM hu hv h1 h0 (n - 1) 0 fa (by omega) (fun w hw => ⟨fun k hk L => ?_, fun no => ?_⟩)
  · have e : k = 0 := by omega
    subst e
    have q : u = w := L.1
    rw [h w hw, if_pos q.symm]; rfl
  · rw [h w hw, if_neg (fun e => no 0 (Nat.le_refl _) e.symm)]
end
end
section
/-! ===== the reference: girth ===== -/
/-- l is the length that the pair a, b gives -/
def gi_c (m : Nat → Nat → Nat) (a b l : Nat) : Prop := (a = b ∧ 0 < m a b ∧ l = 1) ∨ (a ≠ b ∧ m a b = 2 ∧ l = 2) ∨ (a ≠ b ∧ m a b = 1 ∧ ∃ k, gr_L (gr_del (gr_E m 0) a b) k a b ∧ l = k + 1)
def gi_p (u v a b : Nat) : Prop := b ≤ a ∧ (a < u ∨ (a = u ∧ b < v))
def gi_I (m : Nat → Nat → Nat) (u v le : Nat) : Prop := (le = 0 ∧ ∀ a b l, gi_p u v a b → ¬ gi_c m a b l) ∨ (le ≠ 0 ∧ (∃ a b, gi_p u v a b ∧ gi_c m a b le) ∧ ∀ a b l, gi_p u v a b → gi_c m a b l → le ≤ l)
theorem gi_p1 {u v a b : Nat} (h : gi_p u (v + 1) a b) : gi_p u v a b ∨ (a = u ∧ b = v) := by
  unfold gi_p at *
  omega
theorem gi_pm {u v a b : Nat} (h : gi_p u v a b) : gi_p u (v + 1) a b := by
  unfold gi_p at *
  omega
theorem gi_none {m : Nat → Nat → Nat} {u v le : Nat} (I : gi_I m u v le) (no : ∀ l, ¬ gi_c m u v l) : gi_I m u (v + 1) le := by
  rcases I with ⟨a, b⟩ | ⟨a, ⟨x, y, p, c⟩, b⟩
  · refine Or.inl ⟨a, fun x y l p c => ?_⟩
    rcases gi_p1 p with q | ⟨rfl, rfl⟩
    · exact b x y l q c
    · exact no l c
  · refine Or.inr ⟨a, ⟨x, y, gi_pm p, c⟩, fun x y l p c => ?_⟩
    rcases gi_p1 p with q | ⟨rfl, rfl⟩
    · exact b x y l q c
    · exact absurd c (no l)
theorem gi_Lu {E : Nat → Nat → Prop} {k l a b : Nat} (h : gr_L E k a b) (g : gr_L E l a b) : k = l := by
  rcases Nat.lt_trichotomy k l with q | q | q
  · exact absurd h.1 (g.2 k q)
  · exact q
  · exact absurd g.1 (h.2 l q)
theorem gi_uni {m : Nat → Nat → Nat} {a b l l' : Nat} (h : gi_c m a b l) (g : gi_c m a b l') : l = l' := by
  rcases h with ⟨a1, a2, a3⟩ | ⟨a1, a2, a3⟩ | ⟨a1, a2, k, a3, a4⟩ <;> rcases g with ⟨b1, b2, b3⟩ | ⟨b1, b2, b3⟩ | ⟨b1, b2, k', b3, b4⟩ <;> first | omega | (have := gi_Lu a3 b3; omega) | exact absurd a1 b1 | exact absurd b1 a1
theorem gi_one {m : Nat → Nat → Nat} {u v le l : Nat} (I : gi_I m u v le) (hv : v ≤ u) (c : gi_c m u v l) (l0 : l ≠ 0) : gi_I m u (v + 1) (if le = 0 then l else if le ≤ l then le else l) := by
  have pu : gi_p u (v + 1) u v := ⟨hv, Or.inr ⟨rfl, by omega⟩⟩
  rcases I with ⟨a, b⟩ | ⟨a, ⟨x, y, p, d⟩, b⟩
  · rw [if_pos a]
    refine Or.inr ⟨l0, ⟨u, v, pu, c⟩, fun x y l' p d => ?_⟩
    rcases gi_p1 p with q | ⟨rfl, rfl⟩
    · exact absurd d (b x y l' q)
    · exact Nat.le_of_eq (gi_uni c d)
  · rw [if_neg a]
    by_cases z : le ≤ l
    · rw [if_pos z]
      refine Or.inr ⟨a, ⟨x, y, gi_pm p, d⟩, fun x y l' p d => ?_⟩
      rcases gi_p1 p with q | ⟨rfl, rfl⟩
      · exact b x y l' q d
      · have := gi_uni c d; omega
    · rw [if_neg z]
      refine Or.inr ⟨l0, ⟨u, v, pu, c⟩, fun x y l' p d => ?_⟩
      rcases gi_p1 p with q | ⟨rfl, rfl⟩
      · have := b x y l' q d; omega
      · exact Nat.le_of_eq (gi_uni c d)
theorem gi_row {m : Nat → Nat → Nat} {u le : Nat} (I : gi_I m u (u + 1) le) : gi_I m (u + 1) 0 le := by
  have e : ∀ a b, gi_p u (u + 1) a b ↔ gi_p (u + 1) 0 a b := fun a b => by unfold gi_p; omega
  rcases I with ⟨a, b⟩ | ⟨a, ⟨x, y, p, d⟩, b⟩
  · exact Or.inl ⟨a, fun x y l p => b x y l ((e x y).mpr p)⟩
  · exact Or.inr ⟨a, ⟨x, y, (e x y).mp p, d⟩, fun x y l p => b x y l ((e x y).mpr p)⟩
theorem gi_0 (m : Nat → Nat → Nat) : gi_I m 0 0 0 := Or.inl ⟨rfl, fun a b l p => by unfold gi_p at p; omega⟩
theorem gi_Wsw {n : Nat} {m : Nat → Nat → Nat} (g : gr_G n m) {a b k : Nat} (w : gr_W (gr_del (gr_E m 0) a b) k a b) : gr_W (gr_del (gr_E m 0) b a) k b a :=
  gr_mono (fun x y h => ⟨h.1, fun z => h.2 (gr_prc z)⟩) (gr_sym (gr_dels (gr_Es g 0) a b) w)
/-- both sides give one number -/
theorem gi_fin {n : Nat} {m : Nat → Nat → Nat} (g : gr_G n m) {le rs : Nat} (I : gi_I m n 0 le) (S : sh_G m 0 rs) : le = rs := by
  have tz : ∀ i, (0 : Nat).testBit i = false := Nat.zero_testBit
  -- a closed way gives a candidate
  have cand : ¬ gr_dbl m 0 → ∀ k, gr_ck m 0 k → ∃ a b l, gi_p n 0 a b ∧ gi_c m a b (l + 1) ∧ l ≤ k := by
    intro nd k h
    obtain ⟨a, b, ne, e, w⟩ := h
    have hn := g.2.2 a b e.1
    have m1 : m a b = 1 := by
      have h2 := g.2.1 a b
      have h0 := e.1
      have : m a b ≠ 2 := fun z => nd ⟨a, b, ne, z, tz a, tz b⟩
      omega
    rcases Nat.lt_or_ge b a with q | q
    · obtain ⟨l, hl, L⟩ := gr_Lex w
      exact ⟨a, b, l, ⟨by omega, Or.inl hn.1⟩, Or.inr (Or.inr ⟨ne, m1, l, L, rfl⟩), hl⟩
    · obtain ⟨l, hl, L⟩ := gr_Lex (gi_Wsw g w)
      exact ⟨b, a, l, ⟨by omega, Or.inl hn.2⟩, Or.inr (Or.inr ⟨fun z => ne z.symm, by rw [g.1]; exact m1, l, L, rfl⟩), hl⟩
  -- a candidate of a single edge is a closed way
  have back : ∀ a b k, a ≠ b → m a b = 1 → gr_L (gr_del (gr_E m 0) a b) k a b → gr_ck m 0 k := fun a b k ne m1 L => ⟨a, b, ne, ⟨by omega, tz a, tz b⟩, L.1⟩
  by_cases lo : gr_loop m 0
  · have r := S.1 lo
    obtain ⟨u, mu, _⟩ := lo
    have hu := (g.2.2 u u mu).1
    have c : gi_c m u u 1 := Or.inl ⟨rfl, mu, rfl⟩
    rcases I with ⟨a, b⟩ | ⟨a, _, b⟩
    · exact absurd c (b u u 1 ⟨Nat.le_refl _, Or.inl hu⟩)
    · have := b u u 1 ⟨Nat.le_refl _, Or.inl hu⟩ c
      omega
  · by_cases db : gr_dbl m 0
    · have r := S.2.1 lo db
      obtain ⟨u, v, ne, m2, _, _⟩ := db
      have hu := g.2.2 u v (by omega)
      have ex : ∃ a b, gi_p n 0 a b ∧ gi_c m a b 2 := by
        rcases Nat.lt_or_ge v u with q | q
        · exact ⟨u, v, ⟨by omega, Or.inl hu.1⟩, Or.inr (Or.inl ⟨ne, m2, rfl⟩)⟩
        · exact ⟨v, u, ⟨by omega, Or.inl hu.2⟩, Or.inr (Or.inl ⟨fun z => ne z.symm, by rw [g.1]; exact m2, rfl⟩)⟩
      obtain ⟨a, b, p, c⟩ := ex
      rcases I with ⟨z, q⟩ | ⟨z, ⟨x, y, p', c'⟩, q⟩
      · exact absurd c (q a b 2 p)
      · have l2 := q a b 2 p c
        rcases c' with ⟨c1, c2, c3⟩ | ⟨c1, c2, c3⟩ | ⟨c1, c2, k, c3, c4⟩
        · exact absurd ⟨x, by rw [← c1] at c2; exact c2, tz x⟩ lo
        · omega
        · have := gr_ckpos (back x y k c1 c2 c3)
          omega
    · have r := S.2.2 lo db
      rcases I with ⟨z, q⟩ | ⟨z, ⟨x, y, p', c'⟩, q⟩
      · by_cases r0 : rs = 0
        · omega
        · obtain ⟨a, b, l, p, c, _⟩ := cand db _ (r.2 r0)
          exact absurd c (q a b (l + 1) p)
      · have ck : gr_ck m 0 (le - 1) := by
          rcases c' with ⟨c1, c2, c3⟩ | ⟨c1, c2, c3⟩ | ⟨c1, c2, k, c3, c4⟩
          · exact absurd ⟨x, by rw [← c1] at c2; exact c2, tz x⟩ lo
          · exact absurd ⟨x, y, c1, c2, tz x, tz y⟩ db
          · rw [show le - 1 = k by omega]
            exact back x y k c1 c2 c3
        have a1 := r.1 _ ck
        obtain ⟨a, b, l, p, c, hl⟩ := cand db _ (r.2 a1.1)
        have a2 := q a b (l + 1) p c
        omega
section
variable {f_n f_sets : Int32} {a_many a_kept a_label a_far : Nat → Int32}
theorem yw_g112 {J4 J20 : Int32 → Int32 → Int32 → Int32 → (Nat → Int32) → (Nat → Int32) → (Nat → Int32) → (Nat → Int32) → Prop} {post : Int32 → SY → Prop} {u v le l : Nat} (hle : le < 2 ^ 31) (hl : l < 2 ^ 31)
    (h : J20 (nI (if l = 0 then le else if le = 0 then l else if le ≤ l then le else l)) (nI (v + 1)) f_n f_sets a_many a_kept a_label a_far) : wY_girth_112 post J4 J20 (nI le) (nI u) (nI v) (nI l) f_n f_sets a_many a_kept a_label a_far := by
  refine pk_le l 0 (fun z => nm_r (nI_1 v) ?_) (fun z => pk_eq le 0 (fun e => nm_r (nI_1 v) ?_) (fun e => pk_le le l (fun q => nm_r (nI_1 v) ?_) (fun q => nm_r (nI_1 v) ?_)))
  · rw [if_pos (by omega)] at h; exact h
  · rw [if_neg (by omega), if_pos e] at h; exact h
  · rw [if_neg (by omega), if_neg e, if_pos q] at h; exact h
  · rw [if_neg (by omega), if_neg e, if_neg (by omega)] at h; exact h
theorem yw_g20 {n : Nat} {m : Nat → Nat → Nat} (g : gr_G n m) (n0 : 0 < n) (hn : n ≤ 9) (hM : gx_M m a_many) {u : Nat} (hu : u < n) {post : Int32 → SY → Prop} {J4 : Int32 → Int32 → Int32 → Int32 → (Nat → Int32) → (Nat → Int32) → (Nat → Int32) → (Nat → Int32) → Prop}
    (co : ∀ (le : Nat) (fa : Nat → Int32), le ≤ 10 → gi_I m u (u + 1) le → J4 (nI le) (nI (u + 1)) (nI n) f_sets a_many a_kept a_label fa) :
    ∀ (d v le : Nat) (fa : Nat → Int32), v + d = u + 1 → le ≤ 10 → gi_I m u v le → wY_girth_20 post J4 (nI u) (d + 1) (nI le) (nI v) (nI n) f_sets a_many a_kept a_label fa := by
  intro d
  induction d with
  | zero =>
    intro v le fa hv l10 I
    have e : v = u + 1 := by omega
    subst e
    exact pk_lt u (u + 1) (fun _ => nm_r (nI_1 u) (co le fa l10 I)) (fun z => absurd z (by omega))
  | succ d ih =>
    intro v le fa hv l10 I
    have nx : ∀ (l : Nat) (fa : Nat → Int32), l ≤ 10 → (l = 0 → ∀ l, ¬ gi_c m u v l) → (l ≠ 0 → gi_c m u v l) → wY_girth_112 post J4 (wY_girth_20 post J4 (nI u) (d + 1)) (nI le) (nI u) (nI v) (nI l) (nI n) f_sets a_many a_kept a_label fa := by
      intro l fa hl h0 h1
      refine yw_g112 (by omega) (by omega) ?_
      by_cases z : l = 0
      · rw [if_pos z]
        exact ih (v + 1) le fa (by omega) l10 (gi_none I (h0 z))
      · rw [if_neg z]
        refine ih (v + 1) _ fa (by omega) ?_ (gi_one I (by omega) (h1 z) z)
        by_cases a : le = 0
        · rw [if_pos a]; omega
        · rw [if_neg a]
          by_cases b : le ≤ l
          · rw [if_pos b]; omega
          · rw [if_neg b]; omega
    have m2 := g.2.1 u v
    refine pk_lt u v (fun z => absurd z (by omega)) (fun vu => pk_eq u v (fun e => ⟨mk_in (by omega) (by omega), pk_le (m u v) 0 (fun z => ?_) (fun z => ?_) (hx := gx_g hM (by omega) (by omega))⟩) (fun ne => ?_))
    · refine br_t (congrArg nI e) (br_t (congrArg nI e) (nx 0 fa (by omega) (fun _ l c => ?_) (fun z => absurd rfl z)))
      rcases c with c | c | c
      · omega
      · exact c.1 e
      · exact c.1 e
    · exact br_t (congrArg nI e) (br_t (congrArg nI e) (nx 1 fa (by omega) (fun z => by omega) (fun _ => Or.inl ⟨e, z, rfl⟩)))
    · have nz : ¬ nI u = nI v := fun z => ne ((nI_eq (by omega) (by omega)).mp z)
      refine br_f nz ⟨mk_in (by omega) (by omega), pk_eq (m u v) 2 (fun z => ?_) (fun z => ?_) (hx := gx_g hM (by omega) (by omega))⟩
      · refine br_f nz ⟨mk_in (by omega) (by omega), pk_eq (m u v) 1 (fun y => by omega) (fun _ => ?_) (hx := gx_g hM (by omega) (by omega))⟩
        exact nx 2 fa (by omega) (fun z => by omega) (fun _ => Or.inr (Or.inl ⟨ne, z, rfl⟩))
      · refine br_f nz ⟨mk_in (by omega) (by omega), pk_eq (m u v) 1 (fun y => ?_) (fun y => ?_) (hx := gx_g hM (by omega) (by omega))⟩
        · refine yw_way g n0 hn hM hu (by omega) (fun l ln L fa' => ?_) (fun no fa' => ?_)
          · have lp : 0 < l := by
              cases l with
              | zero => exact absurd L.1 ne
              | succ l => omega
            refine pk_le l 0 (fun q => by omega) (fun q => nm_r (nI_1 l) (nx (l + 1) fa' (by omega) (fun z => by omega) (fun _ => Or.inr (Or.inr ⟨ne, y, l, L, rfl⟩))))
          · refine br_t (by decide) (nx 0 fa' (by omega) (fun _ l c => ?_) (fun z => absurd rfl z))
            rcases c with c | c | ⟨_, _, k, c, _⟩
            · exact ne c.1
            · exact z c.2.1
            · exact no k c.1
        · refine nx 0 fa (by omega) (fun _ l c => ?_) (fun z => absurd rfl z)
          rcases c with c | c | c
          · exact ne c.1
          · exact z c.2.1
          · exact y c.2.1
theorem yw_g4 {n : Nat} {m : Nat → Nat → Nat} (g : gr_G n m) (n0 : 0 < n) (hn : n ≤ 9) (hM : gx_M m a_many) {post : Int32 → SY → Prop}
    (hp : ∀ (le : Nat) (fa : Nat → Int32), le ≤ 10 → gi_I m n 0 le → post (nI le) (nI n, f_sets, a_many, a_kept, a_label, fa)) :
    ∀ (d u le : Nat) (fa : Nat → Int32), u + d = n → le ≤ 10 → gi_I m u 0 le → wY_girth_4 post (d + 1) (nI le) (nI u) (nI n) f_sets a_many a_kept a_label fa := by
  intro d
  induction d with
  | zero =>
    intro u le fa hu l10 I
    have e : u = n := by omega
    subst e
    exact pk_le u u (fun _ => hp le fa l10 I) (fun z => absurd z (by omega))
  | succ d ih =>
    intro u le fa hu l10 I
    refine pk_le n u (fun z => absurd z (by omega)) (fun un => pk_le 9 u (fun z => absurd z (by omega)) (fun _ => ⟨u + 1 + 1, ?_⟩))
    exact yw_g20 g n0 hn hM un (fun le fa l10 I' => ih (u + 1) le fa (by omega) l10 (gi_row I')) (u + 1) 0 le fa (by omega) l10 I
theorem yw_girth {n : Nat} {m : Nat → Nat → Nat} (g : gr_G n m) (n0 : 0 < n) (hn : n ≤ 9) (hM : gx_M m a_many) {post : Int32 → SY → Prop}
    (hp : ∀ (le : Nat) (fa : Nat → Int32), le ≤ 10 → gi_I m n 0 le → post (nI le) (nI n, f_sets, a_many, a_kept, a_label, fa)) : wpY_girth post (nI n, f_sets, a_many, a_kept, a_label, a_far) :=
  ⟨n + 1, yw_g4 g n0 hn hM hp n 0 0 a_far (by omega) (by omega) (gi_0 m)⟩
end
end
section
/-! ===== the small methods of both sides: one outcome ===== -/
theorem nx_xor (a b : Nat) : nI a ^^^ nI b = nI (a ^^^ b) := by
  apply Int32.toBitVec_inj.1
  show BitVec.ofNat 32 a ^^^ BitVec.ofNat 32 b = BitVec.ofNat 32 (a ^^^ b)
  apply BitVec.eq_of_getLsbD_eq
  intro i hi
  simp [hi]
/-- a vertex taken out of a mask -/
def mk_clr (S v : Nat) : Nat := S &&& (2 ^ v ^^^ (2 ^ 32 - 1))
theorem mk_clrI (S v : Nat) (hv : v < 31) : nI S &&& (((1 : Int32) <<< (nI v &&& 31)) ^^^ (-1)) = nI (mk_clr S v) := by
  rw [mk_one hv, show (-1 : Int32) = nI (2 ^ 32 - 1) from by decide, nx_xor, nx_and]
  rfl
theorem mk_clrT {S v i : Nat} (hS : S < 2 ^ 32) : (mk_clr S v).testBit i = true ↔ (S.testBit i = true ∧ i ≠ v) := by
  unfold mk_clr
  rw [mk_andT, Nat.testBit_xor, Nat.testBit_two_pow, Nat.testBit_two_pow_sub_one]
  constructor
  · rintro ⟨a, b⟩
    have hi := mk_hi hS a
    refine ⟨a, fun e => ?_⟩
    rw [decide_eq_true hi, decide_eq_true e.symm] at b
    exact absurd b (by decide)
  · rintro ⟨a, b⟩
    have hi := mk_hi hS a
    rw [decide_eq_true hi, decide_eq_false (fun e => b e.symm)]
    exact ⟨a, rfl⟩
section
variable {f_n f_kept f_found f_firstFound f_ring f_ringSize : Int32} {a_many a_out a_barred a_cycle a_tried a_from a_far a_queue a_tree a_members : Nat → Int32}
theorem xw_isV1 {n j : Nat} (hn : n ≤ 9) (hj : j < n) {post : Int32 → Prop} (h : post 1) : wpX_isVertex post (nI n, f_kept, f_found, f_firstFound, f_ring, f_ringSize, a_many, a_out, a_barred, a_cycle, a_tried, a_from, a_far, a_queue, a_tree, a_members) (nI j) :=
  br_f (nI_pos (by omega)) (br_f (nI_ge hj (by omega)) h)
theorem xw_isV0 {n : Nat} {x : Int32} (hx : x < 0 ∨ nI n ≤ x) {post : Int32 → Prop} (h : post 0) : wpX_isVertex post (nI n, f_kept, f_found, f_firstFound, f_ring, f_ringSize, a_many, a_out, a_barred, a_cycle, a_tried, a_from, a_far, a_queue, a_tree, a_members) x := by
  by_cases z : x < 0
  · exact br_t z h
  · exact br_f z (br_t (hx.resolve_left z) h)
theorem xw_set {n u v : Nat} (hu : u < 9) (hv : v < 9) {c : Int32} {post : SX → Prop} (h : post (nI n, f_kept, f_found, f_firstFound, f_ring, f_ringSize, gx_up a_many u v c, a_out, a_barred, a_cycle, a_tried, a_from, a_far, a_queue, a_tree, a_members)) : wpX_setEdges post (nI n, f_kept, f_found, f_firstFound, f_ring, f_ringSize, a_many, a_out, a_barred, a_cycle, a_tried, a_from, a_far, a_queue, a_tree, a_members) (nI u) (nI v) c := by
  refine ⟨mk_in hu hv, nm_r (e' := upd a_many (9 * u + v) c) (by rw [mk_ix, nI_clamp (by omega)]) ⟨mk_in hv hu, nm_r (e' := gx_up a_many u v c) (by rw [mk_ix, nI_clamp (by omega)]; rfl) h⟩⟩
theorem xw_r44 {n : Nat} {m : Nat → Nat → Nat} (g : gr_G n m) (n0 : 0 < n) (hn : n ≤ 9) (hM : gx_M m a_many) {v step cnt : Nat} (hv : v < n) (hst : step ≤ 8) (hc : cnt ≤ 12) {post : Int32 → SX → Prop}
    (hp : ∀ m', gr_G n m' → gx_M m' (gx_ra n v step a_many cnt) → post (nI (sm_X m' n)) (nI n, f_kept, f_found, f_firstFound, f_ring, f_ringSize, gx_ra n v step a_many cnt, a_out, a_barred, a_cycle, a_tried, a_from, a_far, a_queue, a_tree, a_members)) :
    ∀ d k, k + d = cnt → wX_ring_44 post (nI step) (nI cnt) (d + 1) (nI ((v + k * step) % n)) (nI k) (nI n) f_kept f_found f_firstFound f_ring f_ringSize (gx_ra n v step a_many k) a_out a_barred a_cycle a_tried a_from a_far a_queue a_tree a_members := by
  intro d
  induction d with
  | zero =>
    intro k hk
    have e : k = cnt := by omega
    subst e
    obtain ⟨m', g', h'⟩ := gx_raG n0 hn (v := v) (step := step) g hM k
    exact pk_le k k (fun _ => xw_edges hn h' (hp m' g' h')) (fun z => absurd z (by omega))
  | succ d ih =>
    intro k hk
    have a1 := Nat.mod_lt (v + k * step) n0
    have a2 := Nat.mod_lt (v + k * step + step) n0
    have nz : ¬ nI n = 0 := nI_ne0 n0 (by omega)
    have e1 : ((v + k * step) % n + step) % n = (v + k * step + step) % n := Nat.mod_add_mod _ _ _
    have e2 : (v + (k + 1) * step) % n = (v + k * step + step) % n := by rw [Nat.succ_mul, Nat.add_assoc]
    have nx := ih (k + 1) (by omega)
    rw [e2] at nx
    refine pk_le cnt k (fun z => absurd z (by omega)) (fun _ => ⟨nz, nm_r (e' := nI ((v + k * step + step) % n)) (by rw [nI_add, pk_rem (by omega) n0 (by omega), e1]) ⟨mk_in (by omega) (by omega), ?_⟩⟩)
    rw [mk_ix, nI_clamp (by omega)]
    by_cases q : gx_ra n v step a_many k (9 * ((v + k * step) % n) + (v + k * step + step) % n) = 0
    · refine br_t q (xw_set (by omega) (by omega) (nm_r (nI_1 k) ?_))
      have e3 : gx_ra n v step a_many (k + 1) = gx_up (gx_ra n v step a_many k) ((v + k * step) % n) ((v + k * step + step) % n) (nI 1) := if_pos q
      rw [e3] at nx
      exact nx
    · refine br_f q (nm_r (nI_1 k) ?_)
      have e3 : gx_ra n v step a_many (k + 1) = gx_ra n v step a_many k := if_neg q
      rw [e3] at nx
      exact nx
end
section
variable {f_n f_sets : Int32} {a_many a_kept a_label a_far : Nat → Int32}
theorem yw_bad0 {n j : Nat} (hn : n ≤ 9) (hj : j < n) {post : Int32 → Prop} (h : post 0) : wpY_bad post (nI n, f_sets, a_many, a_kept, a_label, a_far) (nI j) :=
  br_f (nI_pos (by omega)) (br_f (nI_ge hj (by omega)) (pk_le j 8 (fun _ => h) (fun z => absurd z (by omega))))
theorem yw_bad1 {n : Nat} {x : Int32} (hx : x < 0 ∨ nI n ≤ x) {post : Int32 → Prop} (h : post 1) : wpY_bad post (nI n, f_sets, a_many, a_kept, a_label, a_far) x := by
  by_cases z : x < 0
  · exact br_t z h
  · exact br_f z (br_t (hx.resolve_left z) h)
theorem yw_r41 {n : Nat} {m : Nat → Nat → Nat} (g : gr_G n m) (n0 : 0 < n) (hn : n ≤ 9) (hM : gx_M m a_many) {v step cnt : Nat} (hv : v < n) (hst : step ≤ 8) (hc : cnt ≤ 12) {post : Int32 → SY → Prop}
    (hp : ∀ m', gr_G n m' → gx_M m' (gx_ra n v step a_many cnt) → post (nI (sm_Y m' n)) (nI n, f_sets, gx_ra n v step a_many cnt, a_kept, a_label, a_far)) :
    ∀ d k, k + d = cnt → wY_ring_41 post (nI v) (nI step) (nI cnt) (nI n) f_sets (d + 1) (nI k) (gx_ra n v step a_many k) a_kept a_label a_far := by
  intro d
  induction d with
  | zero =>
    intro k hk
    have e : k = cnt := by omega
    subst e
    obtain ⟨m', g', h'⟩ := gx_raG n0 hn (v := v) (step := step) g hM k
    exact pk_le k k (fun _ => yw_total hn h' (hp m' g' h')) (fun z => absurd z (by omega))
  | succ d ih =>
    intro k hk
    have a1 := Nat.mod_lt (v + k * step) n0
    have a2 := Nat.mod_lt (v + k * step + step) n0
    have nz : ¬ nI n = 0 := nI_ne0 n0 (by omega)
    have ks : k * step ≤ 12 * 8 := Nat.mul_le_mul (by omega) hst
    have nx := ih (k + 1) (by omega)
    have one : (1 : Int32) ≤ nI n := nI_le (a := 1) (by omega) (by omega)
    have e1 : nI v + nI k * nI step = nI (v + k * step) := by rw [pk_mul, nI_add]
    refine pk_le cnt k (fun z => absurd z (by omega)) (fun _ => br_t one ⟨nz, br_t one ⟨nz, ?_⟩⟩)
    rw [e1, nI_add, pk_rem (by omega) n0 (by omega), pk_rem (by omega) n0 (by omega)]
    refine ⟨mk_in (by omega) (by omega), ?_⟩
    have i1 : ((9 : Int32) * nI ((v + k * step) % n) + nI ((v + k * step + step) % n)).toNatClampNeg = 9 * ((v + k * step) % n) + (v + k * step + step) % n := by rw [mk_ix, nI_clamp (by omega)]
    have i2 : ((9 : Int32) * nI ((v + k * step + step) % n) + nI ((v + k * step) % n)).toNatClampNeg = 9 * ((v + k * step + step) % n) + (v + k * step) % n := by rw [mk_ix, nI_clamp (by omega)]
    rw [i1, i2]
    by_cases q : gx_ra n v step a_many k (9 * ((v + k * step) % n) + (v + k * step + step) % n) = 0
    · refine br_t q ⟨mk_in (by omega) (by omega), nm_e ⟨mk_in (by omega) (by omega), nm_e (nm_r (nI_1 k) ?_)⟩⟩
      have e3 : gx_ra n v step a_many (k + 1) = gx_up (gx_ra n v step a_many k) ((v + k * step) % n) ((v + k * step + step) % n) (nI 1) := if_pos q
      rw [e3] at nx
      exact nx
    · refine br_f q (nm_r (nI_1 k) ?_)
      have e3 : gx_ra n v step a_many (k + 1) = gx_ra n v step a_many k := if_neg q
      rw [e3] at nx
      exact nx
end
section
variable {f_n f_kept f_found f_firstFound f_ring f_ringSize : Int32} {a_many a_out a_barred a_cycle a_tried a_from a_far a_queue a_tree a_members : Nat → Int32} {f_sets : Int32} {a_kept a_label b_far : Nat → Int32}
/-- link: one answer and one array for both -/
theorem jo_link {n : Nat} {m : Nat → Nat → Nat} (g : gr_G n m) (hn : n ≤ 9) (hM : gx_M m a_many) (v1 v2 v3 : Int32) : ∃ (r : Int32) (a' : Nat → Int32) (m' : Nat → Nat → Nat), gr_G n m' ∧ gx_M m' a' ∧ (∀ post : Int32 → SX → Prop, post r (nI n, f_kept, f_found, f_firstFound, f_ring, f_ringSize, a', a_out, a_barred, a_cycle, a_tried, a_from, a_far, a_queue, a_tree, a_members) → wpX_link post (nI n, f_kept, f_found, f_firstFound, f_ring, f_ringSize, a_many, a_out, a_barred, a_cycle, a_tried, a_from, a_far, a_queue, a_tree, a_members) v1 v2 v3) ∧ (∀ post : Int32 → SY → Prop, post r (nI n, f_sets, a', a_kept, a_label, b_far) → wpY_link post (nI n, f_sets, a_many, a_kept, a_label, b_far) v1 v2 v3) := by
  have bad1 : (v1 < 0 ∨ nI n ≤ v1) → ∃ (r : Int32) (a' : Nat → Int32) (m' : Nat → Nat → Nat), gr_G n m' ∧ gx_M m' a' ∧ (∀ post : Int32 → SX → Prop, post r (nI n, f_kept, f_found, f_firstFound, f_ring, f_ringSize, a', a_out, a_barred, a_cycle, a_tried, a_from, a_far, a_queue, a_tree, a_members) → wpX_link post (nI n, f_kept, f_found, f_firstFound, f_ring, f_ringSize, a_many, a_out, a_barred, a_cycle, a_tried, a_from, a_far, a_queue, a_tree, a_members) v1 v2 v3) ∧ (∀ post : Int32 → SY → Prop, post r (nI n, f_sets, a', a_kept, a_label, b_far) → wpY_link post (nI n, f_sets, a_many, a_kept, a_label, b_far) v1 v2 v3) := fun h =>
    ⟨-1, a_many, m, g, hM, fun post hp => by
      unfold wpX_link
      dsimp only
      exact xw_isV0 h (br_t rfl hp), fun post hp => by
      unfold wpY_link
      dsimp only
      exact yw_bad1 h (br_f (by decide) hp)⟩
  rcases pk_ix v1 (n := n) (by omega) with h | h | ⟨u, hu, rfl⟩
  · exact bad1 (Or.inl h)
  · exact bad1 (Or.inr h)
  · have bad2 : (v2 < 0 ∨ nI n ≤ v2) → ∃ (r : Int32) (a' : Nat → Int32) (m' : Nat → Nat → Nat), gr_G n m' ∧ gx_M m' a' ∧ (∀ post : Int32 → SX → Prop, post r (nI n, f_kept, f_found, f_firstFound, f_ring, f_ringSize, a', a_out, a_barred, a_cycle, a_tried, a_from, a_far, a_queue, a_tree, a_members) → wpX_link post (nI n, f_kept, f_found, f_firstFound, f_ring, f_ringSize, a_many, a_out, a_barred, a_cycle, a_tried, a_from, a_far, a_queue, a_tree, a_members) (nI u) v2 v3) ∧ (∀ post : Int32 → SY → Prop, post r (nI n, f_sets, a', a_kept, a_label, b_far) → wpY_link post (nI n, f_sets, a_many, a_kept, a_label, b_far) (nI u) v2 v3) := fun h =>
      ⟨-1, a_many, m, g, hM, fun post hp => by
        unfold wpX_link
        dsimp only
        exact xw_isV1 hn hu (br_f (by decide) (xw_isV0 h (br_t rfl hp))), fun post hp => by
        unfold wpY_link
        dsimp only
        exact yw_bad0 hn hu (br_t rfl (yw_bad1 h (br_f (by decide) hp)))⟩
    rcases pk_ix v2 (n := n) (by omega) with h | h | ⟨v, hv, rfl⟩
    · exact bad2 (Or.inl h)
    · exact bad2 (Or.inr h)
    · by_cases z : v3 < 0
      · exact ⟨-2, a_many, m, g, hM, fun post hp => by
          unfold wpX_link
          dsimp only
          exact xw_isV1 hn hu (br_f (by decide) (xw_isV1 hn hv (br_f (by decide) (br_t z hp)))), fun post hp => by
          unfold wpY_link
          dsimp only
          exact yw_bad0 hn hu (br_t rfl (yw_bad0 hn hv (br_t rfl (br_t z hp))))⟩
      · by_cases y : v3 ≤ 2
        · obtain ⟨c, hc, rfl⟩ := nI_of2 (n := 2) (by decide) z y
          refine ⟨nI (m u v), gx_up a_many u v (nI c), gx_st m u v c, gx_stG g hu hv hc, gx_set hM (by omega) (by omega) c, fun post hp => ?_, fun post hp => ?_⟩
          · unfold wpX_link
            dsimp only
            exact xw_isV1 hn hu (br_f (by decide) (xw_isV1 hn hv (br_f (by decide) (br_f z (br_t y ⟨mk_in (by omega) (by omega), nm_r (gx_g hM (by omega) (by omega)) (xw_set (by omega) (by omega) hp)⟩)))))
          · unfold wpY_link
            dsimp only
            refine yw_bad0 hn hu (br_t rfl (yw_bad0 hn hv (br_t rfl (br_f z (br_t y ⟨mk_in (by omega) (by omega), nm_r (gx_g hM (by omega) (by omega)) ⟨mk_in (by omega) (by omega), nm_r (e' := upd a_many (9 * u + v) (nI c)) (by rw [mk_ix, nI_clamp (by omega)]) ⟨mk_in (by omega) (by omega), nm_r (e' := gx_up a_many u v (nI c)) (by rw [mk_ix, nI_clamp (by omega)]; rfl) hp⟩⟩⟩)))))
        · exact ⟨-2, a_many, m, g, hM, fun post hp => by
            unfold wpX_link
            dsimp only
            exact xw_isV1 hn hu (br_f (by decide) (xw_isV1 hn hv (br_f (by decide) (br_f z (br_f y hp))))), fun post hp => by
            unfold wpY_link
            dsimp only
            exact yw_bad0 hn hu (br_t rfl (yw_bad0 hn hv (br_t rfl (br_f z (br_f y hp)))))⟩
/-- ring: the same -/
theorem jo_ring {n : Nat} {m : Nat → Nat → Nat} (g : gr_G n m) (n0 : 0 < n) (hn : n ≤ 9) (hM : gx_M m a_many) (v1 v2 v3 : Int32) : ∃ (r : Int32) (a' : Nat → Int32) (m' : Nat → Nat → Nat), gr_G n m' ∧ gx_M m' a' ∧ (∀ post : Int32 → SX → Prop, post r (nI n, f_kept, f_found, f_firstFound, f_ring, f_ringSize, a', a_out, a_barred, a_cycle, a_tried, a_from, a_far, a_queue, a_tree, a_members) → wpX_ring post (nI n, f_kept, f_found, f_firstFound, f_ring, f_ringSize, a_many, a_out, a_barred, a_cycle, a_tried, a_from, a_far, a_queue, a_tree, a_members) v1 v2 v3) ∧ (∀ post : Int32 → SY → Prop, post r (nI n, f_sets, a', a_kept, a_label, b_far) → wpY_ring post (nI n, f_sets, a_many, a_kept, a_label, b_far) v1 v2 v3) := by
  have bad1 : (v1 < 0 ∨ nI n ≤ v1) → ∃ (r : Int32) (a' : Nat → Int32) (m' : Nat → Nat → Nat), gr_G n m' ∧ gx_M m' a' ∧ (∀ post : Int32 → SX → Prop, post r (nI n, f_kept, f_found, f_firstFound, f_ring, f_ringSize, a', a_out, a_barred, a_cycle, a_tried, a_from, a_far, a_queue, a_tree, a_members) → wpX_ring post (nI n, f_kept, f_found, f_firstFound, f_ring, f_ringSize, a_many, a_out, a_barred, a_cycle, a_tried, a_from, a_far, a_queue, a_tree, a_members) v1 v2 v3) ∧ (∀ post : Int32 → SY → Prop, post r (nI n, f_sets, a', a_kept, a_label, b_far) → wpY_ring post (nI n, f_sets, a_many, a_kept, a_label, b_far) v1 v2 v3) := fun h =>
    ⟨-1, a_many, m, g, hM, fun post hp => by
      unfold wpX_ring
      dsimp only
      exact xw_isV0 h (br_t rfl hp), fun post hp => by
      unfold wpY_ring
      dsimp only
      exact yw_bad1 h (br_f (by decide) hp)⟩
  rcases pk_ix v1 (n := n) (by omega) with h | h | ⟨v, hv, rfl⟩
  · exact bad1 (Or.inl h)
  · exact bad1 (Or.inr h)
  · by_cases z : v2 < 1
    · exact ⟨-2, a_many, m, g, hM, fun post hp => by
        unfold wpX_ring
        dsimp only
        exact xw_isV1 hn hv (br_f (by decide) (br_t z hp)), fun post hp => by
        unfold wpY_ring
        dsimp only
        exact yw_bad0 hn hv (br_t rfl (br_t z hp))⟩
    · by_cases y : v2 ≤ 8
      · by_cases z3 : v3 < 1
        · exact ⟨-3, a_many, m, g, hM, fun post hp => by
            unfold wpX_ring
            dsimp only
            exact xw_isV1 hn hv (br_f (by decide) (br_f z (br_t y (br_t z3 hp)))), fun post hp => by
            unfold wpY_ring
            dsimp only
            exact yw_bad0 hn hv (br_t rfl (br_f z (br_t y (br_t z3 hp))))⟩
        · by_cases y3 : v3 ≤ 12
          · obtain ⟨step, hst, rfl⟩ := nI_of2 (n := 8) (by decide) (fun q => z (Int32.lt_of_lt_of_le q (by decide))) y
            obtain ⟨cnt, hc, rfl⟩ := nI_of2 (n := 12) (by decide) (fun q => z3 (Int32.lt_of_lt_of_le q (by decide))) y3
            obtain ⟨m', g', h'⟩ := gx_raG n0 hn (v := v) (step := step) g hM cnt
            refine ⟨nI (sm_Y m' n), gx_ra n v step a_many cnt, m', g', h', fun post hp => ?_, fun post hp => ?_⟩
            · unfold wpX_ring
              dsimp only
              refine xw_isV1 hn hv (br_f (by decide) (br_f z (br_t y (br_f z3 (br_t y3 ⟨cnt + 1, ?_⟩)))))
              have q := xw_r44 (f_kept := f_kept) (f_found := f_found) (f_firstFound := f_firstFound) (f_ring := f_ring) (f_ringSize := f_ringSize) (a_out := a_out) (a_barred := a_barred) (a_cycle := a_cycle) (a_tried := a_tried) (a_from := a_from) (a_far := a_far) (a_queue := a_queue) (a_tree := a_tree) (a_members := a_members) (post := post) g n0 hn hM hv hst hc (fun m2 g2 h2 => ?_) cnt 0 (by omega)
              · rw [show (v + 0 * step) % n = v by rw [Nat.zero_mul, Nat.add_zero, Nat.mod_eq_of_lt hv]] at q
                exact q
              · have e : sm_X m2 n = sm_Y m' n := by
                  rw [sm_XY g2.1]
                  refine sm_congr (fun x hx => sm_congr (fun y hy => ?_))
                  have a := h2 x y (by omega) (by omega)
                  rw [h' x y (by omega) (by omega)] at a
                  have b1 := g2.2.1 x y
                  have b2 := g'.2.1 x y
                  exact ((nI_eq (by omega) (by omega)).mp a).symm
                rw [e]
                exact hp
            · unfold wpY_ring
              dsimp only
              refine yw_bad0 hn hv (br_t rfl (br_f z (br_t y (br_f z3 (br_t y3 ⟨cnt + 1, ?_⟩)))))
              refine yw_r41 (post := post) g n0 hn hM hv hst hc (fun m2 g2 h2 => ?_) cnt 0 (by omega)
              have e : sm_Y m2 n = sm_Y m' n := by
                refine sm_congr (fun x hx => sm_congr (fun y hy => ?_))
                have a := h2 x y (by omega) (by omega)
                rw [h' x y (by omega) (by omega)] at a
                have b1 := g2.2.1 x y
                have b2 := g'.2.1 x y
                exact ((nI_eq (by omega) (by omega)).mp a).symm
              rw [e]
              exact hp
          · exact ⟨-3, a_many, m, g, hM, fun post hp => by
              unfold wpX_ring
              dsimp only
              exact xw_isV1 hn hv (br_f (by decide) (br_f z (br_t y (br_f z3 (br_f y3 hp))))), fun post hp => by
              unfold wpY_ring
              dsimp only
              exact yw_bad0 hn hv (br_t rfl (br_f z (br_t y (br_f z3 (br_f y3 hp)))))⟩
      · exact ⟨-2, a_many, m, g, hM, fun post hp => by
          unfold wpX_ring
          dsimp only
          exact xw_isV1 hn hv (br_f (by decide) (br_f z (br_f y hp))), fun post hp => by
          unfold wpY_ring
          dsimp only
          exact yw_bad0 hn hv (br_t rfl (br_f z (br_f y hp)))⟩
/-- keep -/
theorem jo_keep {n kp : Nat} (hn : n ≤ 9) (hkp : kp < 2 ^ n) (hk : ∀ w, w < n → (a_kept w = 0 ↔ kp.testBit w = false)) (v1 v2 : Int32) : ∃ (r : Int32) (kp' : Nat) (k' : Nat → Int32), kp' < 2 ^ n ∧ (∀ w, w < n → (k' w = 0 ↔ kp'.testBit w = false)) ∧ (∀ post : Int32 → SX → Prop, post r (nI n, nI kp', f_found, f_firstFound, f_ring, f_ringSize, a_many, a_out, a_barred, a_cycle, a_tried, a_from, a_far, a_queue, a_tree, a_members) → wpX_keep post (nI n, nI kp, f_found, f_firstFound, f_ring, f_ringSize, a_many, a_out, a_barred, a_cycle, a_tried, a_from, a_far, a_queue, a_tree, a_members) v1 v2) ∧ (∀ post : Int32 → SY → Prop, post r (nI n, f_sets, a_many, k', a_label, b_far) → wpY_keep post (nI n, f_sets, a_many, a_kept, a_label, b_far) v1 v2) := by
  have p9 := mk_p9 hn
  have bad1 : (v1 < 0 ∨ nI n ≤ v1) → ∃ (r : Int32) (kp' : Nat) (k' : Nat → Int32), kp' < 2 ^ n ∧ (∀ w, w < n → (k' w = 0 ↔ kp'.testBit w = false)) ∧ (∀ post : Int32 → SX → Prop, post r (nI n, nI kp', f_found, f_firstFound, f_ring, f_ringSize, a_many, a_out, a_barred, a_cycle, a_tried, a_from, a_far, a_queue, a_tree, a_members) → wpX_keep post (nI n, nI kp, f_found, f_firstFound, f_ring, f_ringSize, a_many, a_out, a_barred, a_cycle, a_tried, a_from, a_far, a_queue, a_tree, a_members) v1 v2) ∧ (∀ post : Int32 → SY → Prop, post r (nI n, f_sets, a_many, k', a_label, b_far) → wpY_keep post (nI n, f_sets, a_many, a_kept, a_label, b_far) v1 v2) := fun h =>
    ⟨-1, kp, a_kept, hkp, hk, fun post hp => by
      unfold wpX_keep
      dsimp only
      exact xw_isV0 h (br_t rfl hp), fun post hp => by
      unfold wpY_keep
      dsimp only
      exact yw_bad1 h (br_f (by decide) hp)⟩
  rcases pk_ix v1 (n := n) (by omega) with h | h | ⟨v, hv, rfl⟩
  · exact bad1 (Or.inl h)
  · exact bad1 (Or.inr h)
  · have cv : (nI v).toNatClampNeg = v := nI_clamp (by omega)
    have i9 : vp_in (nI v) 9 := vp_in_nI (by omega) (by omega)
    have Y : ∀ (post : Int32 → SY → Prop) (k' : Nat → Int32), ((v2 = 0 → k' = upd a_kept v 0) ∧ (¬ v2 = 0 → k' = upd a_kept v 1)) → post (nI (if kp.testBit v = true then 1 else 0)) (nI n, f_sets, a_many, k', a_label, b_far) → wpY_keep post (nI n, f_sets, a_many, a_kept, a_label, b_far) (nI v) v2 := by
      intro post k' hk' hp
      unfold wpY_keep
      dsimp only
      refine yw_bad0 hn hv (br_t rfl ⟨i9, ?_⟩)
      rw [cv]
      refine bx_if (hk v hv) (fun e => ?_) (fun e => ?_)
      · rw [if_neg (mk_tf e)] at hp
        exact br_c (fun z => ⟨i9, nm_r (e' := k') (by rw [cv, hk'.1 z]; rfl) hp⟩) (fun z => ⟨i9, nm_r (e' := k') (by rw [cv, hk'.2 z]; rfl) hp⟩)
      · have e' : kp.testBit v = true := by
          cases q : kp.testBit v with
          | false => exact absurd q e
          | true => rfl
        rw [if_pos e'] at hp
        exact br_c (fun z => ⟨i9, nm_r (e' := k') (by rw [cv, hk'.1 z]; rfl) hp⟩) (fun z => ⟨i9, nm_r (e' := k') (by rw [cv, hk'.2 z]; rfl) hp⟩)
    by_cases z : v2 = 0
    · refine ⟨nI (if kp.testBit v = true then 1 else 0), mk_clr kp v, upd a_kept v 0, ?_, fun w hw => ?_, fun post hp => ?_, fun post hp => Y post _ ⟨fun _ => rfl, fun q => absurd z q⟩ hp⟩
      · exact Nat.lt_of_le_of_lt Nat.and_le_left hkp
      · by_cases e : w = v
        · rw [e, pk_us]
          exact ⟨fun _ => mk_ff (fun q => ((mk_clrT (by omega)).mp q).2 rfl), fun _ => rfl⟩
        · rw [pk_un e, hk w hw]
          exact ⟨fun q => mk_ff (fun t => mk_tf q ((mk_clrT (by omega)).mp t).1), fun q => mk_ff (fun t => mk_tf q ((mk_clrT (by omega)).mpr ⟨t, e⟩))⟩
      · unfold wpX_keep
        dsimp only
        exact xw_isV1 hn hv (br_f (by decide) (nm_r (mk_bit (by omega) (by omega)) (br_t z (nm_r (mk_clrI kp v (by omega)) hp))))
    · refine ⟨nI (if kp.testBit v = true then 1 else 0), kp ||| 2 ^ v, upd a_kept v 1, mk_setlt hkp hv, fun w hw => ?_, fun post hp => ?_, fun post hp => Y post _ ⟨fun q => absurd q z, fun _ => rfl⟩ hp⟩
      · by_cases e : w = v
        · rw [e, pk_us]
          exact ⟨fun q => absurd q (by decide), fun q => absurd (mk_setT.mpr (Or.inr rfl)) (mk_tf q)⟩
        · rw [pk_un e, hk w hw]
          exact ⟨fun q => mk_ff (fun t => (mk_setT.mp t).elim (mk_tf q) e), fun q => mk_ff (fun t => mk_tf q (mk_setT.mpr (Or.inl t)))⟩
      · unfold wpX_keep
        dsimp only
        exact xw_isV1 hn hv (br_f (by decide) (nm_r (mk_bit (by omega) (by omega)) (br_f z (nm_r (by rw [mk_one (by omega), mk_or]) hp))))
end
end
section
/-! ===== the two answers of the searches ===== -/
theorem jo_K {m : Nat → Nat → Nat} {n kp mu nt S : Nat} (hS : S < 2 ^ n) : yo_F m kp mu nt S ↔ se_K m n mu (kp ||| nt) S := by
  constructor
  · rintro ⟨a, b, c, d⟩
    exact ⟨hS, a, fun i hi => mk_ff (fun z => (mk_orT.mp z).elim (mk_tf (c i hi)) (mk_tf (b i hi))), d⟩
  · rintro ⟨_, a, b, d⟩
    exact ⟨a, fun i hi => mk_ff (fun z => mk_tf (b i hi) (mk_orT.mpr (Or.inr z))), fun i hi => mk_ff (fun z => mk_tf (b i hi) (mk_orT.mpr (Or.inl z))), d⟩
theorem jo_or0 (kp : Nat) : kp ||| 0 = kp := mk_ext (fun i => by
  rw [mk_orT]
  exact ⟨fun h => h.elim id (fun z => (mk_z z).elim), Or.inl⟩)
theorem jo_none {m : Nat → Nat → Nat} {n kp mu nt b : Nat} (eb : kp ||| nt = b) (no : ∀ S, ¬ se_K m n mu b S) {r : Int32} (h : yo_r m n kp mu nt r) : r = -1 := by
  rcases h with ⟨a, _⟩ | ⟨c, hc, _, f, _⟩
  · exact a
  · exact absurd ((jo_K hc).mp f) (by rw [eb]; exact no c)
theorem jo_some {m : Nat → Nat → Nat} {n kp mu nt b s : Nat} (eb : kp ||| nt = b) (H : se_H m n s mu b) (ex : ∃ S, se_F m n s mu b S) {r : Int32} (h : yo_r m n kp mu nt r) : r = nI s := by
  obtain ⟨S, k, p⟩ := ex
  have fS : yo_F m kp mu nt S := (jo_K k.1).mpr (by rw [eb]; exact k)
  rcases h with ⟨_, a⟩ | ⟨c, hc, e, f, l⟩
  · exact absurd fS (a S k.1)
  · have l1 := l S k.1 fS
    have l2 := H c (by rw [← eb]; exact (jo_K hc).mp f)
    rw [e, show mk_pc c = s by omega]
theorem jo_pc {m : Nat → Nat → Nat} {n kp s c : Nat} (H : se_H m n s 0 kp) (ex : ∃ S, se_F m n s 0 kp S) (hc : c < 2 ^ n) (f : yo_F m kp 0 0 c) (l : ∀ S, S < 2 ^ n → yo_F m kp 0 0 S → mk_pc c ≤ mk_pc S) : mk_pc c = s := by
  obtain ⟨S, k, p⟩ := ex
  have eb := jo_or0 kp
  have fS : yo_F m kp 0 0 S := (jo_K k.1).mpr (by rw [eb]; exact k)
  have l1 := l S k.1 fS
  have l2 := H c (by have := (jo_K (n := n) hc).mp f; rw [eb] at this; exact this)
  omega
theorem jo_F {m : Nat → Nat → Nat} {n kp s S : Nat} (hS : S < 2 ^ n) : yo_T m kp 0 s S ↔ se_F m n s 0 kp S := by
  have q := jo_K (m := m) (n := n) (kp := kp) (mu := 0) (nt := 0) hS
  rw [jo_or0] at q
  constructor
  · rintro ⟨a, b, c⟩
    exact ⟨q.mp ⟨b, fun i _ => Nat.zero_testBit i, c⟩, a⟩
  · rintro ⟨k, p⟩
    have y := q.mpr k
    exact ⟨p, y.1, y.2.2⟩
theorem jo_Fv {m : Nat → Nat → Nat} {n kp s v S : Nat} (hS : S < 2 ^ n) : yo_T m kp (2 ^ v) s S ↔ (se_F m n s 0 kp S ∧ S.testBit v = true) := by
  rw [← jo_F hS]
  constructor
  · rintro ⟨a, b, c⟩
    exact ⟨⟨a, fun i h => (mk_z h).elim, c⟩, b v (mk_oneT.mpr rfl)⟩
  · rintro ⟨⟨a, _, c⟩, b⟩
    exact ⟨a, fun i h => by rw [mk_oneT.mp h]; exact b, c⟩
theorem jo_first {m : Nat → Nat → Nat} {n kp s : Nat} (hn : n ≤ 9) (H : se_H m n s 0 kp) (ex : ∃ S, se_F m n s 0 kp S) {ff ch : Int32} (M : se_mn n (se_F m n s 0 kp) ff) (B : yo_B m kp 0 0 (2 ^ n) ch) : ch = ff := by
  have eb := jo_or0 kp
  have q : ∀ S, S < 2 ^ n → (yo_F m kp 0 0 S ↔ se_K m n 0 kp S) := fun S hS => by
    have := jo_K (m := m) (n := n) (kp := kp) (mu := 0) (nt := 0) hS
    rw [eb] at this
    exact this
  rcases M with ⟨no, _⟩ | ⟨S0, hS0, f0, e0, l0⟩
  · obtain ⟨S, f⟩ := ex
    exact absurd f (no S f.1.1)
  · rcases B with ⟨_, no⟩ | ⟨c, hc, ec, fc, lc⟩
    · exact absurd ((q S0 hS0).mpr f0.1) (no S0 hS0)
    · have r := lc S0 hS0 ((q S0 hS0).mpr f0.1)
      have kc := (q c hc).mp fc
      have h1 := H c kc
      have p0 := f0.2
      have pc : mk_pc c = s := by omega
      have l := l0 c hc ⟨kc, pc⟩
      rw [e0, ec, show c = S0 by omega]
/-! ===== the relation ===== -/
def re_P (fn fk : Int32) (am : Nat → Int32) (gn gs : Int32) (bm bk : Nat → Int32) : Prop := ∃ (n kp : Nat) (m : Nat → Nat → Nat), 2 ≤ n ∧ n ≤ 9 ∧ kp < 2 ^ n ∧ gr_G n m ∧ gx_M m am ∧ fn = nI n ∧ fk = nI kp ∧ gn = nI n ∧ gs = nI (2 ^ n) ∧ bm = am ∧ ∀ w, w < n → (bk w = 0 ↔ kp.testBit w = false)
def i_Rel (_k : Nat) (u : SX) (v : SY) : Prop := re_P u.1 u.2.1 u.2.2.2.2.2.2.1 v.1 v.2.1 v.2.2.1 v.2.2.2.1
theorem re_el {P : SX → SY → Prop} (h : ∀ (n kp : Nat) (m : Nat → Nat → Nat) (f_found f_firstFound f_ring f_ringSize : Int32) (a_many a_out a_barred a_cycle a_tried a_from a_far a_queue a_tree a_members a_kept a_label b_far : Nat → Int32), 2 ≤ n → n ≤ 9 → kp < 2 ^ n → gr_G n m → gx_M m a_many → (∀ w, w < n → (a_kept w = 0 ↔ kp.testBit w = false)) → P (nI n, nI kp, f_found, f_firstFound, f_ring, f_ringSize, a_many, a_out, a_barred, a_cycle, a_tried, a_from, a_far, a_queue, a_tree, a_members) (nI n, nI (2 ^ n), a_many, a_kept, a_label, b_far)) {k : Nat} {u : SX} {v : SY} (I : i_Rel k u v) : P u v := by
  obtain ⟨f_n, f_kept, f_found, f_firstFound, f_ring, f_ringSize, a_many, a_out, a_barred, a_cycle, a_tried, a_from, a_far, a_queue, a_tree, a_members⟩ := u
  obtain ⟨g_n, g_sets, b_many, a_kept, a_label, b_far⟩ := v
  obtain ⟨n, kp, m, h1, h2, h3, h4, h5, e1, e2, e3, e4, e5, h6⟩ := I
  have e1 : f_n = nI n := e1
  have e2 : f_kept = nI kp := e2
  have e3 : g_n = nI n := e3
  have e4 : g_sets = nI (2 ^ n) := e4
  have e5 : b_many = a_many := e5
  subst e1 e2 e3 e4 e5
  exact h n kp m f_found f_firstFound f_ring f_ringSize b_many a_out a_barred a_cycle a_tried a_from a_far a_queue a_tree a_members a_kept a_label b_far h1 h2 h3 h4 h5 h6
section
variable {f_n f_kept f_found f_firstFound f_ring f_ringSize : Int32} {a_many a_out a_barred a_cycle a_tried a_from a_far a_queue a_tree a_members : Nat → Int32} {a_kept a_label b_far : Nat → Int32}
theorem re_mk {n kp : Nat} {m : Nat → Nat → Nat} (h1 : 2 ≤ n) (h2 : n ≤ 9) (h3 : kp < 2 ^ n) (h4 : gr_G n m) (h5 : gx_M m a_many) (h6 : ∀ w, w < n → (a_kept w = 0 ↔ kp.testBit w = false)) (k : Nat) : i_Rel k (nI n, nI kp, f_found, f_firstFound, f_ring, f_ringSize, a_many, a_out, a_barred, a_cycle, a_tried, a_from, a_far, a_queue, a_tree, a_members) (nI n, nI (2 ^ n), a_many, a_kept, a_label, b_far) :=
  ⟨n, kp, m, h1, h2, h3, h4, h5, rfl, rfl, rfl, rfl, rfl, h6⟩
end
theorem re_0 {n : Nat} (h1 : 2 ≤ n) (h2 : n ≤ 9) (k : Nat) : i_Rel k (nI n, 0, 0, 0, 0, 0, (fun _ => 0), (fun _ => 0), (fun _ => 0), (fun _ => 0), (fun _ => 0), (fun _ => 0), (fun _ => 0), (fun _ => 0), (fun _ => 0), (fun _ => 0)) (nI n, nI (2 ^ n), (fun _ => 0), (fun _ => 0), (fun _ => 0), (fun _ => 0)) :=
  ⟨n, 0, fun _ _ => 0, h1, h2, Nat.two_pow_pos n, ⟨fun _ _ => rfl, fun _ _ => Nat.zero_le _, fun _ _ h => absurd h (Nat.lt_irrefl 0)⟩, fun _ _ _ _ => rfl, rfl, rfl, rfl, rfl, rfl, fun w _ => ⟨fun _ => Nat.zero_testBit w, fun _ => rfl⟩⟩
end
section
/-! ===== what is owed ===== -/
theorem i_up {k : Nat} {u : SX} {v : SY} (h : i_Rel k u v) : i_Rel (k + 4) u v := h
theorem i_vc0 (k0 : Int32) : wpX_init (fun u => wpY_init (fun v => i_Rel 1 u v) k0) k0 := by
  by_cases h2 : 2 ≤ k0
  · by_cases h9 : k0 ≤ 9
    · obtain ⟨n, hn, rfl⟩ := nI_of2 (n := 9) (by decide) (fun q => absurd (Int32.lt_of_le_of_lt h2 q) (by decide)) h9
      have n2 : 2 ≤ n := (nI_leI (a := 2) (by omega) (by omega)).mp h2
      exact br_t h2 (br_t h9 (br_t h2 (br_t h9 (nm_r (mk_one (by omega)) (re_0 n2 hn 1)))))
    · exact br_t h2 (br_f h9 (br_t h2 (br_f h9 (nm_r (mk_one (j := 9) (by decide)) (re_0 (n := 9) (by decide) (by decide) 1)))))
  · exact br_f h2 (br_t (by decide) (br_f h2 (nm_r (mk_one (j := 2) (by decide)) (re_0 (n := 2) (by decide) (by decide) 1))))
theorem i_vc_vertices {k : Nat} {u : SX} {v : SY} (I : i_Rel k u v) (hk : k + 4 ≤ 2049) : wpX_vertices (fun r => wpY_vertices (fun r' => r' = r ∧ i_Rel (k + 4) u v) v) u := by
  refine re_el (P := fun u v => wpX_vertices (fun r => wpY_vertices (fun r' => r' = r ∧ i_Rel (k + 4) u v) v) u) ?_ I
  intro n kp m f_found f_firstFound f_ring f_ringSize a_many a_out a_barred a_cycle a_tried a_from a_far a_queue a_tree a_members a_kept a_label b_far h1 h2 h3 h4 h5 h6
  exact ⟨rfl, re_mk h1 h2 h3 h4 h5 h6 _⟩
theorem i_vc_link {k : Nat} {u : SX} {v : SY} (I : i_Rel k u v) (hk : k + 4 ≤ 2049) (v1 : Int32) (v2 : Int32) (v3 : Int32) : wpX_link (fun r u' => wpY_link (fun r' v' => r' = r ∧ i_Rel (k + 4) u' v') v v1 v2 v3) u v1 v2 v3 := by
  refine re_el (P := fun u v => wpX_link (fun r u' => wpY_link (fun r' v' => r' = r ∧ i_Rel (k + 4) u' v') v v1 v2 v3) u v1 v2 v3) ?_ I
  intro n kp m f_found f_firstFound f_ring f_ringSize a_many a_out a_barred a_cycle a_tried a_from a_far a_queue a_tree a_members a_kept a_label b_far h1 h2 h3 h4 h5 h6
  obtain ⟨r, a', m', g', M', hX, hY⟩ := jo_link h4 h2 h5 v1 v2 v3
  exact hX _ (hY _ ⟨rfl, re_mk h1 h2 h3 g' M' h6 _⟩)
theorem i_vc_ring {k : Nat} {u : SX} {v : SY} (I : i_Rel k u v) (hk : k + 4 ≤ 2049) (v1 : Int32) (v2 : Int32) (v3 : Int32) : wpX_ring (fun r u' => wpY_ring (fun r' v' => r' = r ∧ i_Rel (k + 4) u' v') v v1 v2 v3) u v1 v2 v3 := by
  refine re_el (P := fun u v => wpX_ring (fun r u' => wpY_ring (fun r' v' => r' = r ∧ i_Rel (k + 4) u' v') v v1 v2 v3) u v1 v2 v3) ?_ I
  intro n kp m f_found f_firstFound f_ring f_ringSize a_many a_out a_barred a_cycle a_tried a_from a_far a_queue a_tree a_members a_kept a_label b_far h1 h2 h3 h4 h5 h6
  obtain ⟨r, a', m', g', M', hX, hY⟩ := jo_ring h4 (by omega) h2 h5 v1 v2 v3
  exact hX _ (hY _ ⟨rfl, re_mk h1 h2 h3 g' M' h6 _⟩)
theorem i_vc_keep {k : Nat} {u : SX} {v : SY} (I : i_Rel k u v) (hk : k + 4 ≤ 2049) (v1 : Int32) (v2 : Int32) : wpX_keep (fun r u' => wpY_keep (fun r' v' => r' = r ∧ i_Rel (k + 4) u' v') v v1 v2) u v1 v2 := by
  refine re_el (P := fun u v => wpX_keep (fun r u' => wpY_keep (fun r' v' => r' = r ∧ i_Rel (k + 4) u' v') v v1 v2) u v1 v2) ?_ I
  intro n kp m f_found f_firstFound f_ring f_ringSize a_many a_out a_barred a_cycle a_tried a_from a_far a_queue a_tree a_members a_kept a_label b_far h1 h2 h3 h4 h5 h6
  obtain ⟨r, kp', k', g', M', hX, hY⟩ := jo_keep h2 h3 h6 v1 v2
  exact hX _ (hY _ ⟨rfl, re_mk h1 h2 g' h4 h5 M' _⟩)
theorem i_vc_edges {k : Nat} {u : SX} {v : SY} (I : i_Rel k u v) (hk : k + 4 ≤ 2049) : wpX_edges (fun r => wpY_edges (fun r' => r' = r ∧ i_Rel (k + 4) u v) v) u := by
  refine re_el (P := fun u v => wpX_edges (fun r => wpY_edges (fun r' => r' = r ∧ i_Rel (k + 4) u v) v) u) ?_ I
  intro n kp m f_found f_firstFound f_ring f_ringSize a_many a_out a_barred a_cycle a_tried a_from a_far a_queue a_tree a_members a_kept a_label b_far h1 h2 h3 h4 h5 h6
  refine xw_edges h2 h5 ?_
  unfold wpY_edges
  dsimp only
  exact yw_total h2 h5 ⟨by rw [sm_XY h4.1], re_mk h1 h2 h3 h4 h5 h6 _⟩
theorem i_vc_breaks {k : Nat} {u : SX} {v : SY} (I : i_Rel k u v) (hk : k + 4 ≤ 2049) (v1 : Int32) : wpX_breaks (fun r u' => wpY_breaks (fun r' v' => r' = r ∧ i_Rel (k + 4) u' v') v v1) u v1 := by
  refine re_el (P := fun u v => wpX_breaks (fun r u' => wpY_breaks (fun r' v' => r' = r ∧ i_Rel (k + 4) u' v') v v1) u v1) ?_ I
  intro n kp m f_found f_firstFound f_ring f_ringSize a_many a_out a_barred a_cycle a_tried a_from a_far a_queue a_tree a_members a_kept a_label b_far h1 h2 h3 h4 h5 h6
  have p9 := mk_p9 h2
  unfold wpX_breaks wpY_breaks
  dsimp only
  rw [mk_one (by omega)]
  rcases pk_ix v1 (n := 2 ^ n) (by omega) with h | h | ⟨T, hT, rfl⟩
  · exact br_t h (br_t h ⟨rfl, re_mk h1 h2 h3 h4 h5 h6 _⟩)
  · by_cases z : v1 < 0
    · exact br_t z (br_t z ⟨rfl, re_mk h1 h2 h3 h4 h5 h6 _⟩)
    · have y : ¬ v1 < nI (2 ^ n) := Int32.not_lt.mpr h
      exact br_f z (br_f y (br_f z (br_f y ⟨rfl, re_mk h1 h2 h3 h4 h5 h6 _⟩)))
  · have z : ¬ nI T < 0 := nI_pos (by omega)
    have y : nI T < nI (2 ^ n) := nI_lt hT (by omega)
    refine br_f z (br_t y (xw_shortest h4 (by omega) h2 h5 (by omega) (fun rg rs fr fa qu S => ?_)))
    refine pk_eq rs 0 (fun r0 => br_f z (br_t y ?_)) (fun r0 => br_f z (br_t y ?_)) (ha := by have := S.2.2.1; omega)
    · exact yw_sur0 h4 h2 h5 (by omega) (fun _ lb => br_t rfl ⟨rfl, re_mk h1 h2 h3 h4 h5 h6 _⟩) (fun cy => absurd cy (S.1 r0).2)
    · have q := S.2.1 r0
      exact yw_sur0 h4 h2 h5 (by omega) (fun nc => absurd (q.2.2 T q.2.1) nc) (fun _ r lb ne => br_f ne ⟨rfl, re_mk h1 h2 h3 h4 h5 h6 _⟩)
theorem i_vc_least {k : Nat} {u : SX} {v : SY} (I : i_Rel k u v) (hk : k + 4 ≤ 2049) : wpX_least (fun r u' => wpY_least (fun r' v' => r' = r ∧ i_Rel (k + 4) u' v') v) u := by
  refine re_el (P := fun u v => wpX_least (fun r u' => wpY_least (fun r' v' => r' = r ∧ i_Rel (k + 4) u' v') v) u) ?_ I
  intro n kp m f_found f_firstFound f_ring f_ringSize a_many a_out a_barred a_cycle a_tried a_from a_far a_queue a_tree a_members a_kept a_label b_far h1 h2 h3 h4 h5 h6
  unfold wpX_least
  dsimp only
  refine xw_lf (tk := 0) h4 (by omega) h2 h5 (Nat.two_pow_pos n) h3 (fun i h => (mk_z h).elim) (fun no fd ff rg rs ou ba cy tr fr fa qu mem => ?_) (fun s _ _ H ex fd ff rg rs ou ba cy tr fr fa qu mem => ?_)
  · exact yw_least h4 h2 h5 h6 (fun r lb R => ⟨jo_none (jo_or0 kp) no R, re_mk h1 h2 h3 h4 h5 h6 _⟩)
  · exact yw_least h4 h2 h5 h6 (fun r lb R => ⟨jo_some (jo_or0 kp) H ex R, re_mk h1 h2 h3 h4 h5 h6 _⟩)
theorem i_vc_first {k : Nat} {u : SX} {v : SY} (I : i_Rel k u v) (hk : k + 4 ≤ 2049) : wpX_first (fun r u' => wpY_first (fun r' v' => r' = r ∧ i_Rel (k + 4) u' v') v) u := by
  refine re_el (P := fun u v => wpX_first (fun r u' => wpY_first (fun r' v' => r' = r ∧ i_Rel (k + 4) u' v') v) u) ?_ I
  intro n kp m f_found f_firstFound f_ring f_ringSize a_many a_out a_barred a_cycle a_tried a_from a_far a_queue a_tree a_members a_kept a_label b_far h1 h2 h3 h4 h5 h6
  unfold wpX_first
  dsimp only
  refine xw_lf (tk := 0) h4 (by omega) h2 h5 (Nat.two_pow_pos n) h3 (fun i h => (mk_z h).elim) (fun no fd ff rg rs ou ba cy tr fr fa qu mem => br_f (by decide) ?_) (fun s sn ps H ex fd ff rg rs ou ba cy tr fr fa qu mem => br_t (nI_pos' (by omega)) ?_)
  · unfold wpY_first
    dsimp only
    refine yw_search (mu := 0) (nt := 0) h4 h2 h5 (by decide) h6 (fun ch lb B => ⟨?_, re_mk h1 h2 h3 h4 h5 h6 _⟩)
    rcases B with ⟨a, _⟩ | ⟨c, hc, _, f, _⟩
    · exact a
    · have q := (jo_K (n := n) hc).mp f
      rw [jo_or0] at q
      exact absurd q (no c)
  · refine xw_search (tk := 0) h4 (by omega) h2 h5 sn (Nat.two_pow_pos n) h3 (fun i h => (mk_z h).elim) ps H (fun fd ff rg rs ou ba cy tr fr fa qu mem AC => ?_)
    unfold wpY_first
    dsimp only
    exact yw_search (mu := 0) (nt := 0) h4 h2 h5 (by decide) h6 (fun ch lb B => ⟨jo_first h2 H ex AC.2.1 B, re_mk h1 h2 h3 h4 h5 h6 _⟩)
theorem i_vc_breakers {k : Nat} {u : SX} {v : SY} (I : i_Rel k u v) (hk : k + 4 ≤ 2049) : wpX_breakers (fun r u' => wpY_breakers (fun r' v' => r' = r ∧ i_Rel (k + 4) u' v') v) u := by
  refine re_el (P := fun u v => wpX_breakers (fun r u' => wpY_breakers (fun r' v' => r' = r ∧ i_Rel (k + 4) u' v') v) u) ?_ I
  intro n kp m f_found f_firstFound f_ring f_ringSize a_many a_out a_barred a_cycle a_tried a_from a_far a_queue a_tree a_members a_kept a_label b_far h1 h2 h3 h4 h5 h6
  unfold wpX_breakers
  dsimp only
  refine xw_lf (tk := 0) h4 (by omega) h2 h5 (Nat.two_pow_pos n) h3 (fun i h => (mk_z h).elim) (fun no fd ff rg rs ou ba cy tr fr fa qu mem => br_f (by decide) ?_) (fun s sn ps H ex fd ff rg rs ou ba cy tr fr fa qu mem => br_t (nI_pos' (by omega)) ?_)
  · unfold wpY_breakers
    dsimp only
    refine yw_tally (mu := 0) h4 h2 h5 (by decide) h6 (fun _ lb => ⟨rfl, re_mk h1 h2 h3 h4 h5 h6 _⟩) (fun c hc f _ => ?_)
    have q := (jo_K (n := n) hc).mp f
    rw [jo_or0] at q
    exact absurd q (no c)
  · refine xw_search (tk := 0) h4 (by omega) h2 h5 sn (Nat.two_pow_pos n) h3 (fun i h => (mk_z h).elim) ps H (fun fd ff rg rs ou ba cy tr fr fa qu mem AC => ?_)
    unfold wpY_breakers
    dsimp only
    refine yw_tally (mu := 0) h4 h2 h5 (by decide) h6 (fun no => ?_) (fun c hc f l lb => ⟨?_, re_mk h1 h2 h3 h4 h5 h6 _⟩)
    · obtain ⟨S, kS, _⟩ := ex
      exact absurd ((jo_K kS.1).mpr (by rw [jo_or0]; exact kS)) (no S kS.1)
    · rw [jo_pc H ex hc f l, AC.1]
      exact congrArg nI (ct_congr (fun S hS => jo_F hS))
theorem i_vc_inBreakers {k : Nat} {u : SX} {v : SY} (I : i_Rel k u v) (hk : k + 4 ≤ 2049) (v1 : Int32) : wpX_inBreakers (fun r u' => wpY_inBreakers (fun r' v' => r' = r ∧ i_Rel (k + 4) u' v') v v1) u v1 := by
  refine re_el (P := fun u v => wpX_inBreakers (fun r u' => wpY_inBreakers (fun r' v' => r' = r ∧ i_Rel (k + 4) u' v') v v1) u v1) ?_ I
  intro n kp m f_found f_firstFound f_ring f_ringSize a_many a_out a_barred a_cycle a_tried a_from a_far a_queue a_tree a_members a_kept a_label b_far h1 h2 h3 h4 h5 h6
  unfold wpX_inBreakers wpY_inBreakers
  dsimp only
  rcases pk_ix v1 (n := n) (by omega) with h | h | ⟨v, hv, rfl⟩
  · exact xw_isV0 (Or.inl h) (br_t rfl (yw_bad1 (Or.inl h) (br_f (by decide) ⟨rfl, re_mk h1 h2 h3 h4 h5 h6 _⟩)))
  · exact xw_isV0 (Or.inr h) (br_t rfl (yw_bad1 (Or.inr h) (br_f (by decide) ⟨rfl, re_mk h1 h2 h3 h4 h5 h6 _⟩)))
  · refine xw_isV1 h2 hv (br_f (by decide) ?_)
    have p := mk_vlt (v := v) (by omega)
    refine xw_lf (tk := 0) h4 (by omega) h2 h5 (Nat.two_pow_pos n) h3 (fun i h => (mk_z h).elim) (fun no fd ff rg rs ou ba cy tr fr fa qu mem => br_f (by decide) ?_) (fun s sn ps H ex fd ff rg rs ou ba cy tr fr fa qu mem => br_t (nI_pos' (by omega)) ?_)
    · refine yw_bad0 h2 hv (br_t rfl ?_)
      rw [mk_one (by omega)]
      refine yw_tally h4 h2 h5 (by omega) h6 (fun _ lb => ⟨rfl, re_mk h1 h2 h3 h4 h5 h6 _⟩) (fun c hc f _ => ?_)
      have q := (jo_K (n := n) hc).mp f
      rw [jo_or0] at q
      exact absurd q (no c)
    · refine xw_search (tk := 0) h4 (by omega) h2 h5 sn (Nat.two_pow_pos n) h3 (fun i h => (mk_z h).elim) ps H (fun fd ff rg rs ou ba cy tr fr fa qu mem AC => ⟨vp_in_nI (by omega) (by omega), ?_⟩)
      refine yw_bad0 h2 hv (br_t rfl ?_)
      rw [mk_one (by omega), nI_clamp (by omega)]
      refine yw_tally h4 h2 h5 (by omega) h6 (fun no => ?_) (fun c hc f l lb => ⟨?_, re_mk h1 h2 h3 h4 h5 h6 _⟩)
      · obtain ⟨S, kS, _⟩ := ex
        exact absurd ((jo_K kS.1).mpr (by rw [jo_or0]; exact kS)) (no S kS.1)
      · rw [jo_pc H ex hc f l]
        exact (congrArg nI (ct_congr (fun S hS => jo_Fv hS))).trans (AC.2.2 v hv).symm
theorem i_vc_leastWith {k : Nat} {u : SX} {v : SY} (I : i_Rel k u v) (hk : k + 4 ≤ 2049) (v1 : Int32) : wpX_leastWith (fun r u' => wpY_leastWith (fun r' v' => r' = r ∧ i_Rel (k + 4) u' v') v v1) u v1 := by
  refine re_el (P := fun u v => wpX_leastWith (fun r u' => wpY_leastWith (fun r' v' => r' = r ∧ i_Rel (k + 4) u' v') v v1) u v1) ?_ I
  intro n kp m f_found f_firstFound f_ring f_ringSize a_many a_out a_barred a_cycle a_tried a_from a_far a_queue a_tree a_members a_kept a_label b_far h1 h2 h3 h4 h5 h6
  have p9 := mk_p9 h2
  unfold wpX_leastWith wpY_leastWith
  dsimp only
  rcases pk_ix v1 (n := n) (by omega) with h | h | ⟨v, hv, rfl⟩
  · exact xw_isV0 (Or.inl h) (br_t rfl (yw_bad1 (Or.inl h) (br_f (by decide) ⟨rfl, re_mk h1 h2 h3 h4 h5 h6 _⟩)))
  · exact xw_isV0 (Or.inr h) (br_t rfl (yw_bad1 (Or.inr h) (br_f (by decide) ⟨rfl, re_mk h1 h2 h3 h4 h5 h6 _⟩)))
  · refine xw_isV1 h2 hv (br_f (by decide) ?_)
    have p := mk_vlt (v := v) (by omega)
    have pn : 2 ^ v < 2 ^ n := Nat.pow_lt_pow_right (by decide) hv
    rw [mk_one (by omega)]
    refine bx_if (mk_b1 (by omega) (by omega)) (fun kv => ?_) (fun kv => ?_)
    · refine yw_bad0 h2 hv (br_t rfl (yw_search (mu := 2 ^ v) (nt := 0) h4 h2 h5 (by omega) h6 (fun ch lb B => yw_sizeOf h2 B (fun r R => ⟨jo_none (jo_or0 kp) (fun S kS => ?_) R, re_mk h1 h2 h3 h4 h5 h6 _⟩))))
      exact mk_tf (kS.2.2.1 v (kS.2.1 v (mk_oneT.mpr rfl))) kv
    · refine xw_lf h4 (by omega) h2 h5 pn h3 (fun i h => by rw [mk_oneT.mp h]; exact mk_ff kv) (fun no fd ff rg rs ou ba cy tr fr fa qu mem => ?_) (fun s _ _ H ex fd ff rg rs ou ba cy tr fr fa qu mem => ?_)
      · exact yw_bad0 h2 hv (br_t rfl (yw_search (mu := 2 ^ v) (nt := 0) h4 h2 h5 (by omega) h6 (fun ch lb B => yw_sizeOf h2 B (fun r R => ⟨jo_none (jo_or0 kp) no R, re_mk h1 h2 h3 h4 h5 h6 _⟩))))
      · exact yw_bad0 h2 hv (br_t rfl (yw_search (mu := 2 ^ v) (nt := 0) h4 h2 h5 (by omega) h6 (fun ch lb B => yw_sizeOf h2 B (fun r R => ⟨jo_some (jo_or0 kp) H ex R, re_mk h1 h2 h3 h4 h5 h6 _⟩))))
theorem i_vc_leastWithout {k : Nat} {u : SX} {v : SY} (I : i_Rel k u v) (hk : k + 4 ≤ 2049) (v1 : Int32) : wpX_leastWithout (fun r u' => wpY_leastWithout (fun r' v' => r' = r ∧ i_Rel (k + 4) u' v') v v1) u v1 := by
  refine re_el (P := fun u v => wpX_leastWithout (fun r u' => wpY_leastWithout (fun r' v' => r' = r ∧ i_Rel (k + 4) u' v') v v1) u v1) ?_ I
  intro n kp m f_found f_firstFound f_ring f_ringSize a_many a_out a_barred a_cycle a_tried a_from a_far a_queue a_tree a_members a_kept a_label b_far h1 h2 h3 h4 h5 h6
  have p9 := mk_p9 h2
  unfold wpX_leastWithout wpY_leastWithout
  dsimp only
  rcases pk_ix v1 (n := n) (by omega) with h | h | ⟨v, hv, rfl⟩
  · exact xw_isV0 (Or.inl h) (br_t rfl (yw_bad1 (Or.inl h) (br_f (by decide) ⟨rfl, re_mk h1 h2 h3 h4 h5 h6 _⟩)))
  · exact xw_isV0 (Or.inr h) (br_t rfl (yw_bad1 (Or.inr h) (br_f (by decide) ⟨rfl, re_mk h1 h2 h3 h4 h5 h6 _⟩)))
  · refine xw_isV1 h2 hv (br_f (by decide) ?_)
    have p := mk_vlt (v := v) (by omega)
    rw [mk_one (by omega), mk_or]
    refine xw_lf (tk := 0) h4 (by omega) h2 h5 (Nat.two_pow_pos n) (mk_setlt h3 hv) (fun i h => (mk_z h).elim) (fun no fd ff rg rs ou ba cy tr fr fa qu mem => ?_) (fun s _ _ H ex fd ff rg rs ou ba cy tr fr fa qu mem => ?_)
    · exact yw_bad0 h2 hv (br_t rfl (yw_search (mu := 0) (nt := 2 ^ v) h4 h2 h5 (by decide) h6 (fun ch lb B => yw_sizeOf h2 B (fun r R => ⟨jo_none rfl no R, re_mk h1 h2 h3 h4 h5 h6 _⟩))))
    · exact yw_bad0 h2 hv (br_t rfl (yw_search (mu := 0) (nt := 2 ^ v) h4 h2 h5 (by decide) h6 (fun ch lb B => yw_sizeOf h2 B (fun r R => ⟨jo_some rfl H ex R, re_mk h1 h2 h3 h4 h5 h6 _⟩))))
theorem i_vc_girth {k : Nat} {u : SX} {v : SY} (I : i_Rel k u v) (hk : k + 4 ≤ 2049) : wpX_girth (fun r u' => wpY_girth (fun r' v' => r' = r ∧ i_Rel (k + 4) u' v') v) u := by
  refine re_el (P := fun u v => wpX_girth (fun r u' => wpY_girth (fun r' v' => r' = r ∧ i_Rel (k + 4) u' v') v) u) ?_ I
  intro n kp m f_found f_firstFound f_ring f_ringSize a_many a_out a_barred a_cycle a_tried a_from a_far a_queue a_tree a_members a_kept a_label b_far h1 h2 h3 h4 h5 h6
  unfold wpX_girth
  dsimp only
  refine xw_shortest (T := 0) h4 (by omega) h2 h5 (by decide) (fun rg rs fr fa qu S => ?_)
  exact yw_girth h4 (by omega) h2 h5 (fun le fa _ G => ⟨congrArg nI (gi_fin h4 G S.2.2.2), re_mk h1 h2 h3 h4 h5 h6 _⟩)
theorem i_vc_excess {k : Nat} {u : SX} {v : SY} (I : i_Rel k u v) (hk : k + 4 ≤ 2049) : wpX_excess (fun r u' => wpY_excess (fun r' v' => r' = r ∧ i_Rel (k + 4) u' v') v) u := by
  refine re_el (P := fun u v => wpX_excess (fun r u' => wpY_excess (fun r' v' => r' = r ∧ i_Rel (k + 4) u' v') v) u) ?_ I
  intro n kp m f_found f_firstFound f_ring f_ringSize a_many a_out a_barred a_cycle a_tried a_from a_far a_queue a_tree a_members a_kept a_label b_far h1 h2 h3 h4 h5 h6
  refine xw_excess h4 (by omega) h2 h5 (fun L c tr U => ?_)
  unfold wpY_excess
  dsimp only
  refine yw_surplus (T := 0) h4 h2 h5 (by decide) (fun L' c' ov lb J => ⟨?_, re_mk h1 h2 h3 h4 h5 h6 _⟩)
  have e := xs_fin h4 U J
  rw [sm_XY h4.1, ← e, pk_sub (by omega)]
  exact congrArg nI (by omega)
end
