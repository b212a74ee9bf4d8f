section
/-! rows of the kit, to paste (a starting text) -/
theorem pk_us {f : Nat → Int32} {k : Nat} {x : Int32} : upd f k x k = x := if_pos rfl
theorem pk_un {f : Nat → Int32} {k j : Nat} {x : Int32} (h : j ≠ k) : upd f k x j = f j := if_neg h
theorem pk_sub {a b : Nat} (h : b ≤ a) : nI a - nI b = nI (a - b) := by
  obtain ⟨c, rfl⟩ : ∃ c, a = c + b := ⟨a - b, by omega⟩
  rw [← nI_add, Int32.add_sub_cancel, Nat.add_sub_cancel]
theorem pk_m1 (n : Nat) : nI (n + 1) + (-1) = nI n := by
  rw [← nI_1, Int32.add_assoc, show (1 : Int32) + (-1) = 0 from rfl, Int32.add_zero]
theorem pk_mul (a b : Nat) : nI a * nI b = nI (a * b) := (Int32.ofNat_mul a b).symm
theorem pk_div {a d : Nat} (ha : a < 2 ^ 31) (h0 : 0 < d) (hd : d < 2 ^ 31) : nI a / nI d = nI (a / d) := by
  apply Int32.toInt_inj.mp
  rw [lg_idiv_nonneg (by rw [nI_toInt ha]; omega) (by rw [nI_toInt hd]; omega), nI_toInt ha, nI_toInt hd, nI_toInt (Nat.lt_of_le_of_lt (Nat.div_le_self a d) ha)]
  first | rfl | exact (Int.natCast_ediv _ _).symm
theorem pk_rem {a d : Nat} (ha : a < 2 ^ 31) (h0 : 0 < d) (hd : d < 2 ^ 31) : nI a - nI a / nI d * nI d = nI (a % d) := by
  rw [pk_div ha h0 hd, pk_mul, pk_sub (Nat.div_mul_le_self a d)]
  exact congrArg nI (by have := Nat.div_add_mod' a d; omega)
theorem pk_sub_toInt {a b : Nat} (ha : a < 2 ^ 30) (hb : b < 2 ^ 30) : (nI a - nI b).toInt = (a : Int) - b := by
  rw [Int32.toInt_sub, nI_toInt (by omega), nI_toInt (by omega)]
  exact Int.bmod_eq_of_le (by omega) (by omega)
theorem pk_sneg {a b : Nat} (hb : b < 2 ^ 30) (h : a < b) : nI a - nI b < 0 := by
  rw [Int32.lt_iff_toInt_lt, pk_sub_toInt (by omega) hb, show (0 : Int32).toInt = 0 from by decide]
  omega
theorem pk_ix (x : Int32) {n : Nat} (hn : n < 2 ^ 31) : x < 0 ∨ nI n ≤ x ∨ ∃ j : Nat, j < n ∧ x = nI j := by
  by_cases h : x < 0
  · exact Or.inl h
  · obtain ⟨j, hj, rfl⟩ := nI_of h
    by_cases h2 : j < n
    · exact Or.inr (Or.inr ⟨j, h2, rfl⟩)
    · exact Or.inr (Or.inl (nI_le (by omega) hj))
theorem pk_le {x y : Int32} {A B : Prop} (a b : Nat) (f : a ≤ b → A) (g : b < a → B) (hx : x = nI a := by rfl) (hy : y = nI b := by rfl) (ha : a < 2 ^ 31 := by omega) (hb : b < 2 ^ 31 := by omega) : (x ≤ y → A) ∧ (¬ x ≤ y → B) := by
  subst hx hy
  rw [nI_leI ha hb]
  exact ⟨f, fun z => g (by omega)⟩
theorem pk_lt {x y : Int32} {A B : Prop} (a b : Nat) (f : a < b → A) (g : b ≤ a → B) (hx : x = nI a := by rfl) (hy : y = nI b := by rfl) (ha : a < 2 ^ 31 := by omega) (hb : b < 2 ^ 31 := by omega) : (x < y → A) ∧ (¬ x < y → B) := by
  subst hx hy
  rw [nI_ltI ha hb]
  exact ⟨f, fun z => g (by omega)⟩
theorem pk_eq {x y : Int32} {A B : Prop} (a b : Nat) (f : a = b → A) (g : a ≠ b → B) (hx : x = nI a := by rfl) (hy : y = nI b := by rfl) (ha : a < 2 ^ 31 := by omega) (hb : b < 2 ^ 31 := by omega) : (x = y → A) ∧ (¬ x = y → B) := by
  subst hx hy
  rw [nI_eq ha hb]
  exact ⟨f, g⟩
theorem pk_in {x : Int32} (n N : Nat) (h : n < N) (hx : x = nI n := by rfl) (hN : N < 2 ^ 31 := by omega) : vp_in x N := by
  subst hx
  exact vp_in_nI h hN
theorem pk_cl {x : Int32} (n : Nat) (hx : x = nI n := by rfl) (h : n < 2 ^ 31 := by omega) : x.toNatClampNeg = n := by
  subst hx
  exact nI_clamp h
theorem pk_tn {n : Nat} (h : n < 2 ^ 32) : (nI n).toBitVec.toNat = n := Nat.mod_eq_of_lt h
theorem pk_and (x : Int32) {m : Int32} (k : Nat) (hm : m.toBitVec.toNat = 2 ^ k - 1) : x &&& m = nI (x.toBitVec.toNat % 2 ^ k) := by
  apply Int32.toBitVec_inj.mp
  apply BitVec.eq_of_toNat_eq
  rw [Int32.toBitVec_and, BitVec.toNat_and, hm, Nat.and_two_pow_sub_one_eq_mod]
  show _ = (BitVec.ofNat 32 _).toNat
  rw [BitVec.toNat_ofNat]
  exact (Nat.mod_eq_of_lt (Nat.lt_of_le_of_lt (Nat.mod_le _ _) x.toBitVec.isLt)).symm
theorem pk_andN {n : Nat} (h : n < 2 ^ 32) {m : Int32} (k : Nat) (hm : m.toBitVec.toNat = 2 ^ k - 1) : nI n &&& m = nI (n % 2 ^ k) := by
  rw [pk_and _ k hm, pk_tn h]
theorem pk_andE (x : Int32) {m : Int32} (k : Nat) (hm : m.toBitVec.toNat = 2 ^ k - 1) : ∃ j : Nat, j < 2 ^ k ∧ x &&& m = nI j := ⟨_, Nat.mod_lt _ (Nat.two_pow_pos k), pk_and x k hm⟩
theorem pk_andIn (x : Int32) {m : Int32} (k : Nat) (hm : m.toBitVec.toNat = 2 ^ k - 1) (hk : k ≤ 30) : vp_in (x &&& m) (2 ^ k) := by
  obtain ⟨j, hj, e⟩ := pk_andE x k hm
  rw [e]
  exact vp_in_nI hj (Nat.lt_of_le_of_lt (Nat.pow_le_pow_right (by decide) hk) (by decide))
theorem pk_shl (a s : Int32) (k : Nat) (hs : (s.toBitVec.smod 32).toNat = k) : (a <<< s).toBitVec.toNat = a.toBitVec.toNat * 2 ^ k % 2 ^ 32 := by
  show (a.toBitVec <<< (s.toBitVec.smod 32).toNat).toNat = _
  rw [hs, BitVec.toNat_shiftLeft, Nat.shiftLeft_eq]
theorem pk_shlN {n : Nat} (s : Int32) (k : Nat) (hs : (s.toBitVec.smod 32).toNat = k) (h : n * 2 ^ k < 2 ^ 32) : nI n <<< s = nI (n * 2 ^ k) := by
  apply Int32.toBitVec_inj.mp
  apply BitVec.eq_of_toNat_eq
  have hn : n < 2 ^ 32 := Nat.lt_of_le_of_lt (Nat.le_mul_of_pos_right n (Nat.two_pow_pos k)) h
  rw [pk_shl _ _ k hs, pk_tn hn, pk_tn h, Nat.mod_eq_of_lt h]
theorem pk_shr (a s : Int32) (k : Nat) (hs : (s.toBitVec.smod 32).toNat = k) : (a >>> s).toInt = a.toInt >>> k := by
  show (a.toBitVec.sshiftRight (s.toBitVec.smod 32).toNat).toInt = _
  rw [hs, BitVec.toInt_sshiftRight]
  rfl
theorem pk_shrN {n : Nat} (h : n < 2 ^ 31) (s : Int32) (k : Nat) (hs : (s.toBitVec.smod 32).toNat = k) : nI n >>> s = nI (n / 2 ^ k) := by
  apply Int32.toInt_inj.mp
  have h2 : n / 2 ^ k ≤ n := Nat.div_le_self _ _
  rw [pk_shr _ _ k hs, nI_toInt h, nI_toInt (by omega), Int.shiftRight_eq_div_pow]
  rfl
theorem pk_ushr (x s : Int32) (k : Nat) (hs : ((s.toUInt32 &&& Int32.toUInt32 31).toBitVec % 32).toNat = k) : (x.toUInt32 >>> (s.toUInt32 &&& Int32.toUInt32 31)).toInt32.toBitVec.toNat = x.toBitVec.toNat / 2 ^ k := by
  have e : (x.toUInt32 >>> (s.toUInt32 &&& Int32.toUInt32 31)).toInt32.toBitVec = x.toBitVec >>> k := by
    rw [← hs]
    exact UInt32.toBitVec_shiftRight _ _
  rw [e, BitVec.toNat_ushiftRight, Nat.shiftRight_eq_div_pow]
theorem pk_ushrN {n : Nat} (hn : n < 2 ^ 32) (s : Int32) (k : Nat) (hs : ((s.toUInt32 &&& Int32.toUInt32 31).toBitVec % 32).toNat = k) : ((nI n).toUInt32 >>> (s.toUInt32 &&& Int32.toUInt32 31)).toInt32 = nI (n / 2 ^ k) := by
  apply Int32.toBitVec_inj.mp
  apply BitVec.eq_of_toNat_eq
  rw [pk_ushr _ s k hs, pk_tn hn, pk_tn (Nat.lt_of_le_of_lt (Nat.div_le_self _ _) hn)]
def bt (x : Int32) (i : Nat) : Bool := x.toBitVec.getLsbD i
theorem b_ext {x y : Int32} (h : ∀ i, i < 32 → bt x i = bt y i) : x = y := Int32.toBitVec_inj.mp (BitVec.eq_of_getLsbD_eq (fun i hi => h i hi))
theorem b_or (x y : Int32) (i : Nat) : bt (x ||| y) i = (bt x i || bt y i) := by unfold bt; rw [Int32.toBitVec_or, BitVec.getLsbD_or]
theorem b_and (x y : Int32) (i : Nat) : bt (x &&& y) i = (bt x i && bt y i) := by unfold bt; rw [Int32.toBitVec_and, BitVec.getLsbD_and]
theorem b_xor (x y : Int32) (i : Nat) : bt (x ^^^ y) i = (bt x i ^^ bt y i) := by unfold bt; rw [Int32.toBitVec_xor, BitVec.getLsbD_xor]
theorem b_big {x : Int32} {i : Nat} (h : 32 ≤ i) : bt x i = false := BitVec.getLsbD_of_ge _ _ h
theorem b_255 (i : Nat) : bt 255 i = decide (i < 8) := by
  rcases Nat.lt_or_ge i 32 with h | h
  · exact (by decide +kernel : ∀ i, i < 32 → bt 255 i = decide (i < 8)) i h
  · rw [b_big h, decide_eq_false (by omega)]
theorem b_65535 (i : Nat) : bt 65535 i = decide (i < 16) := by
  rcases Nat.lt_or_ge i 32 with h | h
  · exact (by decide +kernel : ∀ i, i < 32 → bt 65535 i = decide (i < 16)) i h
  · rw [b_big h, decide_eq_false (by omega)]
theorem b_m1 : ∀ i, i < 32 → bt (-1) i = true := by decide +kernel
theorem b_0 (i : Nat) : bt 0 i = false := BitVec.getLsbD_zero
theorem s_l : ∀ n, n < 32 → ((nI n &&& 31).toBitVec.smod 32).toNat = n := by decide +kernel
theorem s_u : ∀ n, n < 32 → (((nI n).toUInt32 &&& Int32.toUInt32 31).toBitVec % 32).toNat = n := by decide +kernel
theorem b_shl (n : Nat) (hn : n < 32) (x : Int32) {i : Nat} (hi : i < 32) : bt (x <<< (nI n &&& 31)) i = (decide (n ≤ i) && bt x (i - n)) := by
  unfold bt
  rw [Int32.toBitVec_shiftLeft]
  show (x.toBitVec <<< ((nI n &&& 31).toBitVec.smod 32).toNat).getLsbD i = _
  rw [s_l n hn, BitVec.getLsbD_shiftLeft]
  rcases Nat.lt_or_ge i n with h | h
  · simp [h, Nat.not_le.mpr h]
  · simp [hi, h, Nat.not_lt.mpr h]
theorem b_ushr (n : Nat) (hn : n < 32) (x : Int32) (i : Nat) : bt ((x.toUInt32 >>> ((nI n).toUInt32 &&& Int32.toUInt32 31)).toInt32) i = bt x (n + i) := by
  show (x.toUInt32 >>> ((nI n).toUInt32 &&& Int32.toUInt32 31)).toBitVec.getLsbD i = x.toUInt32.toBitVec.getLsbD (n + i)
  rw [UInt32.toBitVec_shiftRight]
  show (x.toUInt32.toBitVec >>> (((nI n).toUInt32 &&& Int32.toUInt32 31).toBitVec % 32).toNat).getLsbD i = _
  rw [s_u n hn, BitVec.getLsbD_ushiftRight]
theorem b_sshr (n : Nat) (hn : n < 32) (x : Int32) {i : Nat} (hi : i < 32) : bt (x >>> (nI n &&& 31)) i = if n + i < 32 then bt x (n + i) else bt x 31 := by
  unfold bt
  rw [Int32.toBitVec_shiftRight]
  show (x.toBitVec.sshiftRight ((nI n &&& 31).toBitVec.smod 32).toNat).getLsbD i = _
  rw [s_l n hn, BitVec.getLsbD_sshiftRight, BitVec.msb_eq_getLsbD_last]
  simp [hi]
theorem b_shl8 (x : Int32) {i : Nat} (hi : i < 32) : bt (x <<< ((8 : Int32) &&& 31)) i = (decide (8 ≤ i) && bt x (i - 8)) := b_shl 8 (by omega) x hi
theorem b_shl16 (x : Int32) {i : Nat} (hi : i < 32) : bt (x <<< ((16 : Int32) &&& 31)) i = (decide (16 ≤ i) && bt x (i - 16)) := b_shl 16 (by omega) x hi
theorem b_shl24 (x : Int32) {i : Nat} (hi : i < 32) : bt (x <<< ((24 : Int32) &&& 31)) i = (decide (24 ≤ i) && bt x (i - 24)) := b_shl 24 (by omega) x hi
theorem b_sshr8 (x : Int32) {i : Nat} (hi : i < 32) : bt (x >>> ((8 : Int32) &&& 31)) i = if 8 + i < 32 then bt x (8 + i) else bt x 31 := b_sshr 8 (by omega) x hi
end
section
/-! counting, levels, bits, small helpers -/
noncomputable def ca_01 (P : Prop) : Nat := @ite Nat P (Classical.propDecidable P) 1 0
theorem ca_01t {P : Prop} (h : P) : ca_01 P = 1 := by unfold ca_01; rw [if_pos h]
theorem ca_01f {P : Prop} (h : ¬ P) : ca_01 P = 0 := by unfold ca_01; rw [if_neg h]
theorem ca_01le (P : Prop) : ca_01 P ≤ 1 := by
  rcases Classical.em P with h | h
  · rw [ca_01t h]; omega
  · rw [ca_01f h]; omega
theorem ca_01mono {P Q : Prop} (h : P → Q) : ca_01 P ≤ ca_01 Q := by
  rcases Classical.em P with hp | hp
  · rw [ca_01t hp, ca_01t (h hp)]; omega
  · rw [ca_01f hp]; omega
noncomputable def ca_cn (P : Nat → Prop) : Nat → Nat
  | 0 => 0
  | k + 1 => ca_cn P k + ca_01 (P k)
theorem ca_cn_z (P : Nat → Prop) : ca_cn P 0 = 0 := rfl
theorem ca_cn_t {P : Nat → Prop} {n : Nat} (h : P n) : ca_cn P (n + 1) = ca_cn P n + 1 := by
  simp only [ca_cn]; rw [ca_01t h]
theorem ca_cn_f {P : Nat → Prop} {n : Nat} (h : ¬ P n) : ca_cn P (n + 1) = ca_cn P n := by
  simp only [ca_cn]; rw [ca_01f h]; omega
theorem ca_cn_mono {P Q : Nat → Prop} : ∀ {N : Nat}, (∀ k, k < N → P k → Q k) → ca_cn P N ≤ ca_cn Q N
  | 0, _ => Nat.le_refl _
  | N + 1, h => by
    have a := ca_cn_mono (P := P) (Q := Q) (N := N) (fun k hk => h k (by omega))
    have b := ca_01mono (h N (by omega))
    simp only [ca_cn]; omega
theorem ca_cn_lt {P Q : Nat → Prop} {a : Nat} (hp : ¬ P a) (hq : Q a) : ∀ {N : Nat}, (∀ k, k < N → P k → Q k) → a < N → ca_cn P N < ca_cn Q N
  | 0, _, h => by omega
  | N + 1, h, ha => by
    simp only [ca_cn]
    rcases Nat.lt_or_ge a N with z | z
    · have x := ca_cn_lt hp hq (N := N) (fun k hk => h k (by omega)) z
      have b := ca_01mono (h N (by omega))
      omega
    · have e : a = N := by omega
      subst e
      have x := ca_cn_mono (P := P) (Q := Q) (N := a) (fun k hk => h k (by omega))
      rw [ca_01t hq, ca_01f hp]; omega
theorem ca_cn_le (P : Nat → Prop) : ∀ N, ca_cn P N ≤ N
  | 0 => Nat.le_refl _
  | N + 1 => by have := ca_cn_le P N; have := ca_01le (P N); simp only [ca_cn]; omega
theorem ca_cn_eq {P Q : Nat → Prop} {N : Nat} (h : ∀ k, k < N → (P k ↔ Q k)) : ca_cn P N = ca_cn Q N :=
  Nat.le_antisymm (ca_cn_mono fun k hk => (h k hk).mp) (ca_cn_mono fun k hk => (h k hk).mpr)
theorem ca_cn_add {P : Nat → Prop} {a : Nat} (hp : ¬ P a) : ∀ {N : Nat}, a < N → ca_cn (fun k => P k ∨ k = a) N = ca_cn P N + 1
  | 0, h => by omega
  | N + 1, h => by
    simp only [ca_cn]
    rcases Nat.lt_or_ge a N with z | z
    · rw [ca_cn_add hp z]
      have : ca_01 (P N ∨ N = a) = ca_01 (P N) := Nat.le_antisymm (ca_01mono fun q => q.elim id (fun e => by omega)) (ca_01mono Or.inl)
      omega
    · have e : a = N := by omega
      subst e
      rw [ca_cn_eq (P := fun k => P k ∨ k = a) (Q := P) (fun k hk => ⟨fun q => q.elim id (fun e => by omega), Or.inl⟩), ca_01t (Or.inr rfl), ca_01f hp]
theorem ca_cn_up (P : Nat → Prop) {a : Nat} : ∀ {b : Nat}, a ≤ b → ca_cn P a ≤ ca_cn P b
  | 0, h => by have e : a = 0 := by omega
               subst e; exact Nat.le_refl _
  | b + 1, h => by
    rcases Nat.lt_or_ge a (b + 1) with z | z
    · have := ca_cn_up P (a := a) (b := b) (by omega)
      simp only [ca_cn]; omega
    · have e : a = b + 1 := by omega
      subst e; exact Nat.le_refl _
theorem ca_cn_str {P : Nat → Prop} {a b : Nat} (ha : P a) (h : a < b) : ca_cn P a < ca_cn P b := by
  have h1 := ca_cn_t ha
  have h2 := ca_cn_up P (a := a + 1) (b := b) (by omega)
  omega
theorem ca_cn_sur {P : Nat → Prop} : ∀ {n j : Nat}, j < ca_cn P n → ∃ e, e < n ∧ P e ∧ ca_cn P e = j
  | 0, j, h => by simp only [ca_cn] at h; omega
  | n + 1, j, h => by
    by_cases z : j < ca_cn P n
    · obtain ⟨e, h1, h2, h3⟩ := ca_cn_sur z
      exact ⟨e, by omega, h2, h3⟩
    · by_cases hp : P n
      · rw [ca_cn_t hp] at h
        exact ⟨n, by omega, hp, by omega⟩
      · rw [ca_cn_f hp] at h
        omega
theorem ca_cn_in {P : Nat → Prop} {a b : Nat} (ha : P a) (hb : P b) (h : ca_cn P a = ca_cn P b) : a = b := by
  rcases Nat.lt_trichotomy a b with z | z | z
  · have := ca_cn_str ha z; omega
  · exact z
  · have := ca_cn_str hb z; omega
theorem ca_cn_none {P : Nat → Prop} {N : Nat} (h : ca_cn P N = 0) : ∀ k, k < N → ¬ P k := by
  intro k hk hp
  have := ca_cn_str hp hk
  omega
theorem ca_cn_no {P : Nat → Prop} {N : Nat} (h : ∀ k, k < N → ¬ P k) : ca_cn P N = 0 := by
  rcases Nat.eq_zero_or_pos (ca_cn P N) with z | z
  · exact z
  · obtain ⟨e, h1, h2, _⟩ := ca_cn_sur z
    exact absurd h2 (h e h1)
theorem ca_cn_all {P : Nat → Prop} : ∀ {N : Nat}, (∀ k, k < N → P k) → ca_cn P N = N
  | 0, _ => rfl
  | N + 1, h => by
    rw [ca_cn_t (h N (by omega)), ca_cn_all (fun k hk => h k (by omega))]
theorem ca_cn_inj {P : Nat → Prop} (f : Nat → Nat) {m : Nat} : ∀ {n : Nat} {Q : Nat → Prop}, (∀ i, i < n → P i → f i < m ∧ Q (f i)) → (∀ i j, i < n → j < n → P i → P j → f i = f j → i = j) → ca_cn P n ≤ ca_cn Q m
  | 0, Q, _, _ => by rw [ca_cn_z]; omega
  | n + 1, Q, h, hi => by
    by_cases hp : P n
    · rw [ca_cn_t hp]
      have hfn := h n (by omega) hp
      have h1 : ca_cn (fun k => (Q k ∧ k ≠ f n) ∨ k = f n) m = ca_cn (fun k => Q k ∧ k ≠ f n) m + 1 := ca_cn_add (fun z => z.2 rfl) hfn.1
      have h2 : ca_cn (fun k => (Q k ∧ k ≠ f n) ∨ k = f n) m = ca_cn Q m := ca_cn_eq (fun k _ => ⟨fun z => z.elim (fun y => y.1) (fun y => by rw [y]; exact hfn.2), fun z => by
        by_cases e : k = f n
        · exact Or.inr e
        · exact Or.inl ⟨z, e⟩⟩)
      have h3 := ca_cn_inj (P := P) f (m := m) (n := n) (Q := fun k => Q k ∧ k ≠ f n) (fun i hn hpi => by
        have := h i (by omega) hpi
        refine ⟨this.1, this.2, fun e => ?_⟩
        have := hi i n (by omega) (by omega) hpi hp e
        omega) (fun i j h4 h5 => hi i j (by omega) (by omega))
      omega
    · rw [ca_cn_f hp]
      exact ca_cn_inj f (fun i hn => h i (by omega)) (fun i j h4 h5 => hi i j (by omega) (by omega))
theorem ca_pig {m n : Nat} (f : Nat → Nat) (h : ∀ i, i < m → f i < n) (hi : ∀ i j, i < m → j < m → f i = f j → i = j) : m ≤ n := by
  have h1 := ca_cn_inj (P := fun _ => True) (Q := fun _ => True) f (n := m) (m := n) (fun i hm _ => ⟨h i hm, trivial⟩) (fun i j h1 h2 _ _ => hi i j h1 h2)
  rw [ca_cn_all (fun _ _ => trivial), ca_cn_all (fun _ _ => trivial)] at h1
  exact h1
theorem ca_skol {r : Nat → Nat → Prop} (h : ∀ a, ∃ b, r a b) : ∃ f : Nat → Nat, ∀ a, r a (f a) := ⟨fun a => Classical.choose (h a), fun a => Classical.choose_spec (h a)⟩
theorem ca_lev {n : Nat} (L : Nat → Nat → Prop) (hb : ∀ j q, L j q → q < n) (hu : ∀ j k q, L j q → L k q → j = k) (hd : ∀ j q, L (j + 1) q → ∃ p, L j p) {j q : Nat} (h : L j q) : j < n := by
  have key : ∀ k, k ≤ j → ∃ p, L (j - k) p := by
    intro k
    induction k with
    | zero => intro _; exact ⟨q, h⟩
    | succ k ih =>
      intro hk
      obtain ⟨p, hp⟩ := ih (by omega)
      have e : j - k = (j - (k + 1)) + 1 := by omega
      rw [e] at hp
      exact hd _ p hp
  have key2 : ∀ i, ∃ p, i ≤ j → L i p := by
    intro i
    by_cases hi : i ≤ j
    · obtain ⟨p, hp⟩ := key (j - i) (by omega)
      have e : j - (j - i) = i := by omega
      rw [e] at hp
      exact ⟨p, fun _ => hp⟩
    · exact ⟨0, fun z => absurd z hi⟩
  obtain ⟨f, hf⟩ := ca_skol key2
  have := ca_pig (m := j + 1) (n := n) f (fun i hi => hb i _ (hf i (by omega))) (fun a b h1 h2 e => by
    have x := hf a (by omega)
    have y := hf b (by omega)
    rw [e] at x
    exact hu _ _ _ x y)
  omega
/-- the least number -/
theorem ca_least {p : Nat → Prop} : ∀ {n : Nat}, p n → ∃ m, m ≤ n ∧ p m ∧ ∀ k, k < m → ¬ p k := by
  intro n
  induction n using Nat.strongRecOn with
  | ind n ih =>
    intro h
    by_cases z : ∃ k, k < n ∧ p k
    · obtain ⟨k, hk, hp⟩ := z
      obtain ⟨m, h1, h2, h3⟩ := ih k hk hp
      exact ⟨m, by omega, h2, h3⟩
    · exact ⟨n, Nat.le_refl _, h, fun k hk hp => z ⟨k, hk, hp⟩⟩
/-! bits -/
theorem ca_sh : ∀ v, v < 32 → ∀ i, i < 32 → bt ((1 : Int32) <<< (nI v &&& 31)) i = decide (i = v) := by decide +kernel
theorem ca_bsh {v : Nat} (hv : v < 32) (i : Nat) : bt ((1 : Int32) <<< (nI v &&& 31)) i = true ↔ i = v := by
  rcases Nat.lt_or_ge i 32 with h | h
  · rw [ca_sh v hv i h, decide_eq_true_iff]
  · rw [b_big h]
    exact ⟨fun z => (Bool.noConfusion z), fun z => by omega⟩
theorem ca_bor {x y : Int32} {i : Nat} : bt (x ||| y) i = true ↔ bt x i = true ∨ bt y i = true := by
  rw [b_or, Bool.or_eq_true]
theorem ca_band {x y : Int32} {i : Nat} : bt (x &&& y) i = true ↔ bt x i = true ∧ bt y i = true := by
  rw [b_and, Bool.and_eq_true]
theorem ca_bset {m : Int32} {v : Nat} (hv : v < 32) (i : Nat) : bt (m ||| ((1 : Int32) <<< (nI v &&& 31))) i = true ↔ bt m i = true ∨ i = v := by
  rw [ca_bor, ca_bsh hv]
theorem ca_bclr {m : Int32} {v : Nat} (hv : v < 32) (i : Nat) : bt (m &&& (((1 : Int32) <<< (nI v &&& 31)) ^^^ (-1))) i = true ↔ bt m i = true ∧ i ≠ v := by
  rcases Nat.lt_or_ge i 32 with h | h
  · rw [ca_band, b_xor, ca_sh v hv i h, b_m1 i h]
    by_cases e : i = v
    · simp [e]
    · simp [e]
  · rw [b_big h, b_big h]
    exact ⟨fun z => Bool.noConfusion z, fun z => Bool.noConfusion z.1⟩
theorem ca_blt {m : Int32} {i : Nat} (h : bt m i = true) : i < 32 := by
  rcases Nat.lt_or_ge i 32 with z | z
  · exact z
  · rw [b_big z] at h; exact Bool.noConfusion h
theorem ca_bext {x y : Int32} (h : ∀ i, i < 32 → (bt x i = true ↔ bt y i = true)) : x = y :=
  b_ext (fun i hi => Bool.eq_iff_iff.mpr (h i hi))
theorem ca_b1 : ∀ i, i < 32 → bt 1 i = decide (i = 0) := by decide +kernel
theorem ca_b1i (i : Nat) : bt 1 i = true ↔ i = 0 := by
  rcases Nat.lt_or_ge i 32 with h | h
  · rw [ca_b1 i h, decide_eq_true_iff]
  · rw [b_big h]
    exact ⟨fun z => (Bool.noConfusion z), fun z => by omega⟩
theorem ca_b0i (i : Nat) : bt 0 i = true ↔ False := by rw [b_0]; exact ⟨fun z => Bool.noConfusion z, fun z => z.elim⟩
theorem ca_ball : ∀ B, B < 9 → ∀ i, i < 32 → bt (((1 : Int32) <<< (nI B &&& 31)) - 1) i = decide (i < B) := by decide +kernel
theorem ca_balli {B : Nat} (hB : B ≤ 8) (i : Nat) : bt (((1 : Int32) <<< (nI B &&& 31)) - 1) i = true ↔ i < B := by
  rcases Nat.lt_or_ge i 32 with h | h
  · rw [ca_ball B (by omega) i h, decide_eq_true_iff]
  · rw [b_big h]
    exact ⟨fun z => (Bool.noConfusion z), fun z => by omega⟩
def ca_b01 (b : Bool) : Nat := if b then 1 else 0
theorem ca_hb (m : Int32) {b : Nat} (hb : b < 32) : ((m.toUInt32 >>> ((nI b).toUInt32 &&& Int32.toUInt32 31)).toInt32 &&& 1) = nI (ca_b01 (bt m b)) := by
  apply b_ext
  intro i hi
  rw [b_and, b_ushr b hb, ca_b1 i hi]
  cases hx : bt m b with
  | false =>
    show _ = bt (nI 0) i
    rw [nI_0, b_0]
    by_cases e : i = 0
    · subst e; rw [Nat.add_zero, hx]; rfl
    · rw [decide_eq_false e, Bool.and_false]
  | true =>
    show _ = bt 1 i
    rw [ca_b1 i hi]
    by_cases e : i = 0
    · subst e; rw [Nat.add_zero, hx]; rfl
    · rw [decide_eq_false e, Bool.and_false]
theorem ca_h0 {m : Int32} {b : Nat} (hb : b < 32) : ((m.toUInt32 >>> ((nI b).toUInt32 &&& Int32.toUInt32 31)).toInt32 &&& 1) = 0 ↔ bt m b = false := by
  rw [ca_hb m hb]
  cases bt m b with
  | false => exact ⟨fun _ => rfl, fun _ => rfl⟩
  | true => exact ⟨fun z => absurd z (by decide), fun z => Bool.noConfusion z⟩
theorem ca_nt {b : Bool} (h : ¬ b = false) : b = true := by cases b; exact absurd rfl h; rfl
theorem ca_nff {b : Bool} (h : ¬ b = true) : b = false := by cases b; rfl; exact absurd rfl h
theorem ca_ff {b : Bool} (h : b = false) : ¬ b = true := by rw [h]; exact Bool.noConfusion
/-! small terms -/
theorem ca_r {a : Nat → Int32} {i : Nat} {v : Int32} (e : a i = v) (h : i < 2 ^ 31 := by omega) : a (nI i).toNatClampNeg = v := by
  rw [nI_clamp h]; exact e
theorem ca_vi {i n : Nat} {R : Prop} (k : R) (h : i < n := by omega) (hn : n < 2 ^ 31 := by decide) : vp_in (nI i) n ∧ R := ⟨vp_in_nI h hn, k⟩
theorem ca_vx {x : Int32} {n : Nat} {R : Prop} (i : Nat) (e : x = nI i) (k : R) (h : i < n := by omega) (hn : n < 2 ^ 31 := by decide) : vp_in x n ∧ R := by
  subst e; exact ⟨vp_in_nI h hn, k⟩
theorem ca_wr {a : Nat → Int32} {i : Nat} {v : Int32} {P : (Nat → Int32) → Prop} (k : P (upd a i v)) (h : i < 2 ^ 31 := by omega) : ∀ y, y = upd a (nI i).toNatClampNeg v → P y := by
  rw [nI_clamp h]; exact nm_e k
theorem ca_wx {a : Nat → Int32} {x : Int32} {v w : Int32} {P : (Nat → Int32) → Prop} (i : Nat) (e : x = nI i) (ew : v = w) (k : P (upd a i w)) (h : i < 2 ^ 31 := by omega) : ∀ y, y = upd a x.toNatClampNeg v → P y := by
  subst e ew; rw [nI_clamp h]; exact nm_e k
theorem ca_rd {a : Nat → Int32} {i : Nat} {v : Int32} {P : Int32 → Prop} (e : a i = v) (k : P v) (h : i < 2 ^ 31 := by omega) : ∀ y, y = a (nI i).toNatClampNeg → P y := by
  rw [nI_clamp h]; exact nm_r e k
theorem ca_in {P : Int32 → Prop} {i : Nat} (k : P (nI (i + 1))) : ∀ y, y = nI i + 1 → P y := nm_r (nI_1 i) k
theorem ca_vb0 : vp_nar .boolean 0 = 0 := by decide
theorem ca_vb1 : vp_nar .boolean 1 = 1 := by decide
theorem ca_lt0 {a : Nat} {A B : Prop} (k : B) (h : a < 2 ^ 31 := by omega) : (nI a < 0 → A) ∧ (¬ nI a < 0 → B) := br_f (nI_pos h) k
theorem ca_m0 {A B : Prop} (k : A) : ((-1 : Int32) < 0 → A) ∧ (¬ (-1 : Int32) < 0 → B) := br_t (by decide) k
theorem ca_nm1 {a : Nat} (h : a < 2 ^ 31) : ¬ nI a = -1 := by
  intro e
  have := nI_pos (n := a) h
  rw [e] at this
  exact this (by decide)
theorem ca_ninj {a b : Nat} (h : nI a = nI b) (ha : a < 2 ^ 31) (hb : b < 2 ^ 31) : a = b := (nI_eq ha hb).mp h
theorem ca_mul32 (a b : Nat) : nI a * 32 + nI b = nI (a * 32 + b) := by
  rw [show (32 : Int32) = nI 32 from rfl, pk_mul, nI_add]
theorem ca_mulp (a b : Nat) : (nI a + 1) * 32 + nI b = nI ((a + 1) * 32 + b) := by
  rw [nI_1, ca_mul32]
theorem ca_tw (a : Nat) : 2 * nI a = nI (2 * a) := pk_mul 2 a
theorem ca_upd {f : Nat → Int32} {k j : Nat} {x : Int32} : upd f k x j = if j = k then x else f j := rfl
theorem ca_10 : ¬ (1 : Int32) = 0 := by decide
end
section
/-! the program, pure -/
abbrev ca_PG : Type := Nat × Nat × (Nat → Nat) × (Nat → Nat) × (Nat → Nat) × (Nat → Nat) × (Nat → Nat) × (Nat → Nat) × (Nat → Nat) × (Nat → Nat) × (Nat → Nat) × (Nat → Nat) × (Nat → Nat)
def ca_B (P : ca_PG) : Nat := P.1
def ca_N (P : ca_PG) : Nat := P.2.1
def ca_kd (P : ca_PG) : Nat → Nat := P.2.2.1
def ca_bl (P : ca_PG) : Nat → Nat := P.2.2.2.1
def ca_aA (P : ca_PG) : Nat → Nat := P.2.2.2.2.1
def ca_aB (P : ca_PG) : Nat → Nat := P.2.2.2.2.2.1
def ca_tk (P : ca_PG) : Nat → Nat := P.2.2.2.2.2.2.1
def ca_tv (P : ca_PG) : Nat → Nat := P.2.2.2.2.2.2.2.1
def ca_t1 (P : ca_PG) : Nat → Nat := P.2.2.2.2.2.2.2.2.1
def ca_t2 (P : ca_PG) : Nat → Nat := P.2.2.2.2.2.2.2.2.2.1
def ca_bs (P : ca_PG) : Nat → Nat := P.2.2.2.2.2.2.2.2.2.2.1
def ca_bp (P : ca_PG) : Nat → Nat := P.2.2.2.2.2.2.2.2.2.2.2.1
def ca_bi (P : ca_PG) : Nat → Nat := P.2.2.2.2.2.2.2.2.2.2.2.2
def ca_isE (P : ca_PG) (e : Nat) : Prop := e / 2 < ca_B P ∧ ((e % 2 = 0 ∧ ca_tk P (e / 2) ≠ 2) ∨ (e % 2 = 1 ∧ ca_tk P (e / 2) = 1))
def ca_tg (P : ca_PG) (e : Nat) : Nat := if e % 2 = 0 then ca_t1 P (e / 2) else ca_t2 P (e / 2)
noncomputable def ca_eno (P : ca_PG) (e : Nat) : Nat := ca_cn (fun x => ca_isE P x ∧ ca_tg P x = ca_tg P e) e
noncomputable def ca_xe (P : ca_PG) (e : Nat) : Nat := ca_cn (ca_isE P) e
noncomputable def ca_E (P : ca_PG) : Nat := ca_xe P (2 * ca_B P)
def ca_TE (P : ca_PG) : Prop := ∀ e, ca_isE P e → ca_tg P e < ca_B P
def ca_RA (P : ca_PG) (x : Nat) : Nat → Nat → Prop
  | 0, y => y = 0 ∧ x ≠ 0
  | k + 1, y => ca_RA P x k y ∨ ∃ e, ca_isE P e ∧ ca_tg P e = y ∧ y ≠ x ∧ ca_RA P x k (e / 2)
def ca_Rc (P : ca_PG) (x y : Nat) : Prop := ∃ k, ca_RA P x k y
def ca_Dm (P : ca_PG) (x y : Nat) : Prop := ¬ ca_Rc P x y
noncomputable def ca_dp (P : ca_PG) (s : Nat) : Nat := ca_cn (fun x => ca_Dm P x s) (ca_B P)
def ca_WF (P : ca_PG) : Prop := ca_B P ≤ 8 ∧ ca_N P ≤ 32 ∧ (ca_B P = 0 → ca_N P = 0) ∧ (0 < ca_B P → ca_bs P 0 = 0 ∧ ca_bs P (ca_B P - 1) + ca_bi P (ca_B P - 1) = ca_N P) ∧
  (∀ s, s + 1 < ca_B P → ca_bs P (s + 1) = ca_bs P s + ca_bi P s) ∧ (∀ s, s < ca_B P → ca_bp P s ≤ ca_bi P s) ∧
  (∀ s i, s < ca_B P → ca_bs P s ≤ i → i < ca_bs P s + ca_bi P s → ca_bl P i = s ∧ (ca_kd P i = 8 ↔ i < ca_bs P s + ca_bp P s)) ∧
  (∀ i, i < ca_N P → ca_bl P i < ca_B P ∧ ca_bs P (ca_bl P i) ≤ i ∧ i < ca_bs P (ca_bl P i) + ca_bi P (ca_bl P i)) ∧
  (∀ s, s < ca_B P → ca_bs P s + ca_bi P s ≤ ca_N P)
def ca_IF (P : ca_PG) : Prop := ∀ i, i < ca_N P → ca_kd P i ≤ 8 ∧ (ca_kd P i = 1 → ca_aA P i < 4) ∧ (2 ≤ ca_kd P i → ca_aA P i < 32) ∧ (2 ≤ ca_kd P i → ca_kd P i ≠ 7 → ca_aB P i < 32)
def ca_TF (P : ca_PG) (c : Nat) : Prop := ∀ s, s < c → ca_tk P s ≤ 2 ∧ ca_tv P s < 32 ∧ ca_t1 P s < 8 ∧ ca_t2 P s < 8
section
variable {P : ca_PG}
theorem ca_wB (h : ca_WF P) : ca_B P ≤ 8 := h.1
theorem ca_wN (h : ca_WF P) : ca_N P ≤ 32 := h.2.1
theorem ca_w0 (h : ca_WF P) (hB : 0 < ca_B P) : ca_bs P 0 = 0 := (h.2.2.2.1 hB).1
theorem ca_wl (h : ca_WF P) (hB : 0 < ca_B P) : ca_bs P (ca_B P - 1) + ca_bi P (ca_B P - 1) = ca_N P := (h.2.2.2.1 hB).2
theorem ca_ws (h : ca_WF P) {s : Nat} (hs : s + 1 < ca_B P) : ca_bs P (s + 1) = ca_bs P s + ca_bi P s := h.2.2.2.2.1 s hs
theorem ca_wp (h : ca_WF P) {s : Nat} (hs : s < ca_B P) : ca_bp P s ≤ ca_bi P s := h.2.2.2.2.2.1 s hs
theorem ca_wi (h : ca_WF P) {s i : Nat} (hs : s < ca_B P) (h1 : ca_bs P s ≤ i) (h2 : i < ca_bs P s + ca_bi P s) : ca_bl P i = s ∧ (ca_kd P i = 8 ↔ i < ca_bs P s + ca_bp P s) := h.2.2.2.2.2.2.1 s i hs h1 h2
theorem ca_wb (h : ca_WF P) {i : Nat} (hi : i < ca_N P) : ca_bl P i < ca_B P ∧ ca_bs P (ca_bl P i) ≤ i ∧ i < ca_bs P (ca_bl P i) + ca_bi P (ca_bl P i) := h.2.2.2.2.2.2.2.1 i hi
theorem ca_wn (h : ca_WF P) {s : Nat} (hs : s < ca_B P) : ca_bs P s + ca_bi P s ≤ ca_N P := h.2.2.2.2.2.2.2.2 s hs
/-- a phi of block t, by its place -/
theorem ca_wph (h : ca_WF P) {t i : Nat} (ht : t < ca_B P) : (i < ca_N P ∧ ca_kd P i = 8 ∧ ca_bl P i = t) ↔ (ca_bs P t ≤ i ∧ i < ca_bs P t + ca_bp P t) := by
  have h1 := ca_wp h ht
  have h2 := ca_wn h ht
  constructor
  · rintro ⟨a, b, c⟩
    have h3 := ca_wb h a
    rw [c] at h3
    have h4 := ca_wi h ht h3.2.1 h3.2.2
    exact ⟨h3.2.1, h4.2.mp b⟩
  · rintro ⟨a, b⟩
    have h4 := ca_wi h ht a (by omega)
    exact ⟨by omega, h4.2.mpr b, h4.1⟩
/-! edges -/
theorem ca_elt {e : Nat} (h : ca_isE P e) : e < 2 * ca_B P := by have := h.1; omega
theorem ca_exe {e : Nat} (h : ca_isE P e) : ca_xe P e < ca_E P := ca_cn_str h (ca_elt h)
theorem ca_esur {j : Nat} (h : j < ca_E P) : ∃ e, ca_isE P e ∧ ca_xe P e = j := by
  obtain ⟨e, _, h2, h3⟩ := ca_cn_sur h
  exact ⟨e, h2, h3⟩
theorem ca_einj {e f : Nat} (he : ca_isE P e) (hf : ca_isE P f) (h : ca_xe P e = ca_xe P f) : e = f := ca_cn_in he hf h
theorem ca_Ele (h : ca_B P ≤ 8) : ca_E P ≤ 16 := by
  have := ca_cn_le (ca_isE P) (2 * ca_B P)
  unfold ca_E ca_xe
  omega
theorem ca_xele (h : ca_B P ≤ 8) {e : Nat} (he : e ≤ 2 * ca_B P) : ca_xe P e ≤ 16 := by
  have := ca_cn_le (ca_isE P) e
  unfold ca_xe
  omega
theorem ca_tg0 (s : Nat) : ca_tg P (2 * s) = ca_t1 P s := by
  unfold ca_tg
  rw [if_pos (by omega), show 2 * s / 2 = s by omega]
theorem ca_tg1 (s : Nat) : ca_tg P (2 * s + 1) = ca_t2 P s := by
  unfold ca_tg
  rw [if_neg (by omega), show (2 * s + 1) / 2 = s by omega]
theorem ca_isE0 (s : Nat) : ca_isE P (2 * s) ↔ s < ca_B P ∧ ca_tk P s ≠ 2 := by
  unfold ca_isE
  rw [show 2 * s / 2 = s by omega]
  constructor
  · rintro ⟨a, ⟨_, b⟩ | ⟨b, _⟩⟩
    · exact ⟨a, b⟩
    · omega
  · rintro ⟨a, b⟩
    exact ⟨a, Or.inl ⟨by omega, b⟩⟩
theorem ca_isE1 (s : Nat) : ca_isE P (2 * s + 1) ↔ s < ca_B P ∧ ca_tk P s = 1 := by
  unfold ca_isE
  rw [show (2 * s + 1) / 2 = s by omega]
  constructor
  · rintro ⟨a, ⟨b, _⟩ | ⟨_, b⟩⟩
    · omega
    · exact ⟨a, b⟩
  · rintro ⟨a, b⟩
    exact ⟨a, Or.inr ⟨by omega, b⟩⟩
theorem ca_tg8 (hT : ca_TF P (ca_B P)) {e : Nat} (h : e / 2 < ca_B P) : ca_tg P e < 8 := by
  have := hT _ h
  unfold ca_tg
  split
  · exact this.2.2.1
  · exact this.2.2.2
/-! reaching, avoiding x -/
theorem ca_RAup {x y : Nat} {k m : Nat} (h : k ≤ m) (hr : ca_RA P x k y) : ca_RA P x m y := by
  induction m with
  | zero => have e : k = 0 := by omega
            subst e; exact hr
  | succ m ih =>
    by_cases z : k ≤ m
    · exact Or.inl (ih z)
    · have e : k = m + 1 := by omega
      subst e; exact hr
theorem ca_RAB (hT : ca_TE P) (hB : 0 < ca_B P) {x y : Nat} {k : Nat} (h : ca_RA P x k y) : y < ca_B P := by
  induction k generalizing y with
  | zero => have := h.1; omega
  | succ k ih =>
    rcases h with h | ⟨e, h1, h2, _⟩
    · exact ih h
    · rw [← h2]; exact hT e h1
theorem ca_RAst (hT : ca_TE P) (hB : 0 < ca_B P) {x y : Nat} (h : ca_Rc P x y) : ca_RA P x (ca_B P) y := by
  obtain ⟨k, hk⟩ := h
  obtain ⟨m, _, h1, h2⟩ := ca_least (p := fun k => ca_RA P x k y) hk
  have : m < ca_B P := ca_lev (n := ca_B P) (fun j q => ca_RA P x j q ∧ ∀ i, i < j → ¬ ca_RA P x i q) (fun j q z => ca_RAB hT hB z.1) (fun a b q z1 z2 => by
    rcases Nat.lt_trichotomy a b with z | z | z
    · exact absurd z1.1 (z2.2 a z)
    · exact z
    · exact absurd z2.1 (z1.2 b z)) (fun j q z => by
    obtain ⟨z1, z2⟩ := z
    rcases z1 with z1 | ⟨e, e1, e2, e3, e4⟩
    · exact absurd z1 (z2 j (by omega))
    · refine ⟨e / 2, e4, fun i hi hr => ?_⟩
      exact z2 (i + 1) (by omega) (Or.inr ⟨e, e1, e2, e3, hr⟩)) ⟨h1, h2⟩
  exact ca_RAup (by omega) h1
theorem ca_RA0 {k y : Nat} : ¬ ca_RA P 0 k y := by
  induction k generalizing y with
  | zero => intro h; exact h.2 rfl
  | succ k ih =>
    intro h
    rcases h with h | ⟨e, _, _, _, h⟩
    · exact ih h
    · exact ih h
theorem ca_RAx {x k : Nat} (hx : x ≠ 0) : ¬ ca_RA P x k x := by
  induction k with
  | zero => intro h; exact hx h.1
  | succ k ih =>
    intro h
    rcases h with h | ⟨e, _, _, h, _⟩
    · exact ih h
    · exact h rfl
theorem ca_Dm0 (s : Nat) : ca_Dm P 0 s := fun ⟨_, h⟩ => ca_RA0 h
theorem ca_Dms (s : Nat) : ca_Dm P s s := by
  by_cases h : s = 0
  · subst h; exact ca_Dm0 0
  · exact fun ⟨_, z⟩ => ca_RAx h z
theorem ca_Dm0x {x : Nat} (h : x ≠ 0) : ¬ ca_Dm P x 0 := fun z => z ⟨0, rfl, h⟩
theorem ca_dp1 {s : Nat} (hs : s < ca_B P) : 1 ≤ ca_dp P s := by
  have := ca_cn_str (P := fun x => ca_Dm P x s) (ca_Dms s) hs
  unfold ca_dp
  omega
theorem ca_dpB (s : Nat) : ca_dp P s ≤ ca_B P := ca_cn_le _ _
theorem ca_dp2 {s : Nat} (hs : s < ca_B P) (h0 : s ≠ 0) : 2 ≤ ca_dp P s := by
  have h1 := ca_cn_str (P := fun x => ca_Dm P x s) (ca_Dms s) hs
  have h2 := ca_cn_str (P := fun x => ca_Dm P x s) (ca_Dm0 s) (show 0 < s by omega)
  unfold ca_dp
  omega
theorem ca_dp0 (hB : 0 < ca_B P) : ca_dp P 0 = 1 := by
  unfold ca_dp
  have h1 : ca_cn (fun x => ca_Dm P x 0) (ca_B P) = ca_cn (fun x => False ∨ x = 0) (ca_B P) := ca_cn_eq (fun k _ => ⟨fun z => by
    by_cases e : k = 0
    · exact Or.inr e
    · exact absurd z (ca_Dm0x e), fun z => by
    rcases z with z | z
    · exact z.elim
    · subst z; exact ca_Dm0 0⟩)
  rw [h1, ca_cn_add (P := fun _ => False) (fun z => z) hB, ca_cn_no (fun _ _ z => z)]
end
end
section
/-! points and next uses, pure -/
def ca_ni (P : ca_PG) (s : Nat) : Nat := ca_bi P s - ca_bp P s
def ca_pb (P : ca_PG) : Nat → Nat
  | 0 => 0
  | s + 1 => ca_pb P s + ca_ni P s + 1
def ca_T (P : ca_PG) : Nat := ca_pb P (ca_B P)
def ca_nk (P : ca_PG) (s k : Nat) : Nat := if k < ca_ni P s then ca_bs P s + ca_bp P s + k else 32 + s
def ca_nf (P : ca_PG) (p : Nat) : Nat → Nat
  | 0 => 0
  | s + 1 => if ca_pb P s ≤ p then ca_nk P s (p - ca_pb P s) else ca_nf P p s
def ca_nm (P : ca_PG) (p : Nat) : Nat := ca_nf P p (ca_B P)
def ca_isP (P : ca_PG) (q : Nat) : Prop := (q < 32 ∧ q < ca_N P ∧ ca_kd P q ≠ 8) ∨ (32 ≤ q ∧ q - 32 < ca_B P)
def ca_st (P : ca_PG) (s : Nat) : Nat := ca_nk P s 0
def ca_isN (P : ca_PG) (q w : Nat) : Prop := (q < 32 ∧ w = 0) ∨ (32 ≤ q ∧ ca_isE P (2 * (q - 32) + w))
def ca_nx (P : ca_PG) (q w : Nat) : Nat := if q < 32 then (if q + 1 < ca_N P ∧ ca_bl P (q + 1) = ca_bl P q then q + 1 else 32 + ca_bl P q) else ca_st P (ca_tg P (2 * (q - 32) + w))
def ca_us (P : ca_PG) (v q : Nat) : Prop := (q < 32 ∧ ((ca_kd P q = 7 ∧ ca_aA P q = v) ∨ (2 ≤ ca_kd P q ∧ ca_kd P q ≤ 6 ∧ (ca_aA P q = v ∨ ca_aB P q = v)))) ∨ (32 ≤ q ∧ ca_tk P (q - 32) ≠ 0 ∧ ca_tv P (q - 32) = v)
def ca_ph (P : ca_PG) (i t : Nat) : Prop := i < ca_N P ∧ ca_kd P i = 8 ∧ ca_bl P i = t
noncomputable def ca_arg (P : ca_PG) (e i : Nat) : Nat := if ca_eno P e = 0 then ca_aA P i else ca_aB P i
def ca_fe (P : ca_PG) (v e : Nat) : Prop := ∃ i, ca_ph P i (ca_tg P e) ∧ ca_arg P e i = v
def ca_se (P : ca_PG) (v q w : Nat) : Prop := (q < 32 ∧ q = v) ∨ (32 ≤ q ∧ ca_ph P v (ca_tg P (2 * (q - 32) + w)))
def ca_DW (P : ca_PG) (v : Nat) : Nat → Nat → Prop
  | 0, q => ca_us P v q
  | d + 1, q => ∃ w, w < 2 ∧ ca_isN P q w ∧ ((d = 0 ∧ 32 ≤ q ∧ ca_fe P v (2 * (q - 32) + w)) ∨ (¬ ca_se P v q w ∧ ca_DW P v d (ca_nx P q w)))
def ca_DI (P : ca_PG) (v q d : Nat) : Prop := ca_DW P v d q ∧ ∀ k, k < d → ¬ ca_DW P v k q
def ca_Lv (P : ca_PG) (v q : Nat) : Prop := ∃ d, ca_DW P v d q
noncomputable def ca_lc (P : ca_PG) (q : Nat) : Nat := ca_cn (fun v => ca_Lv P v q) (ca_N P)
def ca_EL (P : ca_PG) (v : Nat) : Prop := ∃ q, ca_isP P q ∧ ca_Lv P v q
def ca_If (P : ca_PG) (v w : Nat) : Prop := v ≠ w ∧ ∃ q, ca_isP P q ∧ ca_Lv P v q ∧ ca_Lv P w q
noncomputable def ca_key (P : ca_PG) (w : Nat) : Nat := (ca_dp P (ca_bl P w) * 8 + ca_bl P w) * 32 + w
def ca_Gr (P : ca_PG) (c : Nat → Int32) (w : Nat) : Prop := ∃ k, k < 32 ∧ c w = nI k ∧ (∀ x, x < ca_N P → ca_If P w x → ca_key P x < ca_key P w → c x ≠ nI k) ∧ (∀ j, j < k → ∃ x, x < ca_N P ∧ ca_If P w x ∧ ca_key P x < ca_key P w ∧ c x = nI j)
def ca_Sol (P : ca_PG) (c : Nat → Int32) : Prop := ∀ w, w < ca_N P → (¬ ca_EL P w → c w = -1) ∧ (ca_EL P w → ca_Gr P c w)
def ca_le (P : ca_PG) (q w v : Nat) : Prop := ∃ a b, ca_DI P w q a ∧ ca_DI P v q b ∧ (a < b ∨ (a = b ∧ w < v))
noncomputable def ca_rk (P : ca_PG) (q v : Nat) : Nat := ca_cn (fun w => ca_le P q w v) (ca_N P)
section
variable {P : ca_PG}
theorem ca_pbm {a b : Nat} (h : a < b) : ca_pb P a + ca_ni P a + 1 ≤ ca_pb P b := by
  induction b with
  | zero => omega
  | succ b ih =>
    rcases Nat.lt_or_ge a b with z | z
    · have := ih z
      show _ ≤ ca_pb P b + ca_ni P b + 1
      omega
    · have e : a = b := by omega
      subst e
      exact Nat.le_refl _
theorem ca_nfat {s k : Nat} (hk : k ≤ ca_ni P s) : ∀ {n : Nat}, s < n → ca_nf P (ca_pb P s + k) n = ca_nk P s k
  | 0, h => by omega
  | n + 1, h => by
    show (if ca_pb P n ≤ ca_pb P s + k then ca_nk P n (ca_pb P s + k - ca_pb P n) else ca_nf P (ca_pb P s + k) n) = _
    rcases Nat.lt_or_ge s n with z | z
    · have := ca_pbm (P := P) z
      rw [if_neg (by omega)]
      exact ca_nfat hk z
    · have e : s = n := by omega
      subst e
      rw [if_pos (by omega), show ca_pb P s + k - ca_pb P s = k by omega]
theorem ca_nmat {s k : Nat} (hs : s < ca_B P) (hk : k ≤ ca_ni P s) : ca_nm P (ca_pb P s + k) = ca_nk P s k := ca_nfat hk hs
theorem ca_ptex {p : Nat} : ∀ {n : Nat}, p < ca_pb P n → ∃ s k, s < n ∧ k ≤ ca_ni P s ∧ p = ca_pb P s + k
  | 0, h => by simp only [ca_pb] at h; omega
  | n + 1, h => by
    have h' : p < ca_pb P n + ca_ni P n + 1 := h
    by_cases z : p < ca_pb P n
    · obtain ⟨s, k, h1, h2, h3⟩ := ca_ptex z
      exact ⟨s, k, by omega, h2, h3⟩
    · exact ⟨n, p - ca_pb P n, by omega, by omega, by omega⟩
theorem ca_ptlt {s k : Nat} (hs : s < ca_B P) (hk : k ≤ ca_ni P s) : ca_pb P s + k < ca_T P := by
  have := ca_pbm (P := P) hs
  unfold ca_T
  omega
theorem ca_pbT {s : Nat} (hs : s < ca_B P) : ca_pb P s < ca_T P := ca_ptlt (k := 0) hs (by omega)
theorem ca_pbs (h : ca_WF P) {s : Nat} (hs : s < ca_B P) : ca_pb P s ≤ ca_bs P s + s := by
  induction s with
  | zero => show 0 ≤ _; omega
  | succ s ih =>
    have h1 := ih (by omega)
    have h2 := ca_ws h hs
    show ca_pb P s + (ca_bi P s - ca_bp P s) + 1 ≤ _
    omega
theorem ca_T40 (h : ca_WF P) : ca_T P ≤ ca_N P + ca_B P := by
  unfold ca_T
  rcases Nat.eq_zero_or_pos (ca_B P) with z | z
  · rw [z]; show 0 ≤ _; omega
  · obtain ⟨b, hb⟩ : ∃ b, ca_B P = b + 1 := ⟨ca_B P - 1, by omega⟩
    have h1 := ca_pbs h (s := b) (by omega)
    have h2 := ca_wl h z
    rw [hb] at h2 ⊢
    rw [show b + 1 - 1 = b by omega] at h2
    show ca_pb P b + (ca_bi P b - ca_bp P b) + 1 ≤ _
    omega
theorem ca_T40' (h : ca_WF P) : ca_T P ≤ 40 := by
  have := ca_T40 h
  have := ca_wB h
  have := ca_wN h
  omega
theorem ca_nklo {s k : Nat} (hk : k < ca_ni P s) : ca_nk P s k = ca_bs P s + ca_bp P s + k := if_pos hk
theorem ca_nkhi {s k : Nat} (hk : ca_ni P s ≤ k) : ca_nk P s k = 32 + s := if_neg (by omega)
theorem ca_nkP (h : ca_WF P) {s k : Nat} (hs : s < ca_B P) : ca_isP P (ca_nk P s k) := by
  have h1 := ca_wn h hs
  have h2 := ca_wN h
  by_cases z : k < ca_ni P s
  · rw [ca_nklo z]
    unfold ca_ni at z
    have h3 := ca_wi h (i := ca_bs P s + ca_bp P s + k) hs (by omega) (by omega)
    refine Or.inl ⟨by omega, by omega, fun e => ?_⟩
    have := h3.2.mp e
    omega
  · rw [ca_nkhi (by omega)]
    exact Or.inr ⟨by omega, by omega⟩
theorem ca_nmP (h : ca_WF P) {p : Nat} (hp : p < ca_T P) : ca_isP P (ca_nm P p) := by
  obtain ⟨s, k, h1, h2, h3⟩ := ca_ptex hp
  rw [h3, ca_nmat h1 h2]
  exact ca_nkP h h1
theorem ca_P40 (h : ca_WF P) {q : Nat} (hq : ca_isP P q) : q < 40 := by
  have := ca_wB h
  rcases hq with z | z <;> omega
theorem ca_nmsur (h : ca_WF P) {q : Nat} (hq : ca_isP P q) : ∃ p, p < ca_T P ∧ ca_nm P p = q := by
  rcases hq with ⟨h1, h2, h3⟩ | ⟨h1, h2⟩
  · have h4 := ca_wb h h2
    have h5 := ca_wi h h4.1 h4.2.1 h4.2.2
    have h6 : ¬ q < ca_bs P (ca_bl P q) + ca_bp P (ca_bl P q) := fun z => h3 (h5.2.mpr z)
    have hk : q - (ca_bs P (ca_bl P q) + ca_bp P (ca_bl P q)) < ca_ni P (ca_bl P q) := by unfold ca_ni; omega
    refine ⟨ca_pb P (ca_bl P q) + (q - (ca_bs P (ca_bl P q) + ca_bp P (ca_bl P q))), ca_ptlt h4.1 (by omega), ?_⟩
    rw [ca_nmat h4.1 (by omega), ca_nklo hk]
    omega
  · refine ⟨ca_pb P (q - 32) + ca_ni P (q - 32), ca_ptlt h2 (by omega), ?_⟩
    rw [ca_nmat h2 (by omega), ca_nkhi (by omega)]
    omega
theorem ca_nkinj (h : ca_WF P) {s k t j : Nat} (hs : s < ca_B P) (ht : t < ca_B P) (hk : k ≤ ca_ni P s) (hj : j ≤ ca_ni P t) (e : ca_nk P s k = ca_nk P t j) : s = t ∧ k = j := by
  have a1 := ca_wn h hs
  have a2 := ca_wn h ht
  have a3 := ca_wN h
  rcases Nat.lt_or_ge k (ca_ni P s) with z | z
  · rw [ca_nklo z] at e
    rcases Nat.lt_or_ge j (ca_ni P t) with y | y
    · rw [ca_nklo y] at e
      unfold ca_ni at z y
      have h1 := (ca_wi h (i := ca_bs P s + ca_bp P s + k) hs (by omega) (by omega)).1
      have h2 := (ca_wi h (i := ca_bs P s + ca_bp P s + k) ht (by omega) (by omega)).1
      have : s = t := by rw [← h1, h2]
      subst this
      exact ⟨rfl, by omega⟩
    · rw [ca_nkhi y] at e
      unfold ca_ni at z
      omega
  · rw [ca_nkhi z] at e
    rcases Nat.lt_or_ge j (ca_ni P t) with y | y
    · rw [ca_nklo y] at e
      unfold ca_ni at y
      omega
    · rw [ca_nkhi y] at e
      have : s = t := by omega
      subst this
      exact ⟨rfl, by omega⟩
theorem ca_nminj (h : ca_WF P) {p r : Nat} (hp : p < ca_T P) (hr : r < ca_T P) (e : ca_nm P p = ca_nm P r) : p = r := by
  obtain ⟨s, k, h1, h2, h3⟩ := ca_ptex hp
  obtain ⟨t, j, g1, g2, g3⟩ := ca_ptex hr
  rw [h3, g3, ca_nmat h1 h2, ca_nmat g1 g2] at e
  obtain ⟨e1, e2⟩ := ca_nkinj h h1 g1 h2 g2 e
  rw [h3, g3, e1, e2]
theorem ca_nmlast {s : Nat} (hs : s < ca_B P) : ca_nm P (ca_pb P s + ca_ni P s) = 32 + s := by
  rw [ca_nmat hs (Nat.le_refl _), ca_nkhi (Nat.le_refl _)]
theorem ca_nmst {s : Nat} (hs : s < ca_B P) : ca_nm P (ca_pb P s) = ca_st P s := ca_nmat (k := 0) hs (by omega)
/-- the next point of an instruction -/
theorem ca_nmnx (h : ca_WF P) {s k : Nat} (hs : s < ca_B P) (hk : k < ca_ni P s) : ca_nx P (ca_nk P s k) 0 = ca_nk P s (k + 1) := by
  have a1 := ca_wn h hs
  have a3 := ca_wN h
  have hk' := hk
  unfold ca_ni at hk'
  rw [ca_nklo hk]
  have h1 := (ca_wi h (i := ca_bs P s + ca_bp P s + k) hs (by omega) (by omega)).1
  unfold ca_nx
  rw [if_pos (by omega), h1]
  rcases Nat.lt_or_ge (k + 1) (ca_ni P s) with z | z
  · have z' := z
    unfold ca_ni at z'
    have h2 := (ca_wi h (i := ca_bs P s + ca_bp P s + k + 1) hs (by omega) (by omega)).1
    rw [if_pos ⟨by omega, h2⟩, ca_nklo z]
    omega
  · rw [ca_nkhi z, if_neg]
    rintro ⟨b1, b2⟩
    have h2 := ca_wb h b1
    rw [b2] at h2
    unfold ca_ni at z
    omega
theorem ca_nxP (h : ca_WF P) (hT : ca_TE P) {q w : Nat} (hq : ca_isP P q) (hw : ca_isN P q w) : ca_isP P (ca_nx P q w) := by
  rcases hq with ⟨h1, h2, h3⟩ | ⟨h1, h2⟩
  · have hq' : ca_isP P q := Or.inl ⟨h1, h2, h3⟩
    obtain ⟨p, hp, e⟩ := ca_nmsur h hq'
    obtain ⟨s, k, g1, g2, g3⟩ := ca_ptex hp
    rw [g3, ca_nmat g1 g2] at e
    have hk : k < ca_ni P s := by
      rcases Nat.lt_or_ge k (ca_ni P s) with z | z
      · exact z
      · rw [ca_nkhi z] at e; omega
    have hw0 : w = 0 := by
      rcases hw with z | z
      · exact z.2
      · omega
    subst hw0
    rw [← e, ca_nmnx h g1 hk]
    exact ca_nkP h g1
  · rcases hw with z | z
    · omega
    · unfold ca_nx
      rw [if_neg (by omega)]
      exact ca_nkP h (hT _ z.2)
theorem ca_dwb (h : ca_WF P) (hT : ca_TE P) {v q d : Nat} (hq : ca_isP P q) (hd : ca_DW P v d q) : ∃ m, m ≤ 40 ∧ m ≤ d ∧ ca_DI P v q m := by
  obtain ⟨m, h1, h2, h3⟩ := ca_least (p := fun d => ca_DW P v d q) hd
  refine ⟨m, ?_, h1, h2, h3⟩
  rcases Nat.eq_zero_or_pos m with z | z
  · omega
  · obtain ⟨j, rfl⟩ : ∃ j, m = j + 1 := ⟨m - 1, by omega⟩
    have : j < 40 := ca_lev (n := 40) (fun j q => ca_isP P q ∧ ca_DI P v q (j + 1)) (fun j q z => ca_P40 h z.1) (fun a b q z1 z2 => by
      rcases Nat.lt_trichotomy a b with z | z | z
      · exact absurd z1.2.1 (z2.2.2 (a + 1) (by omega))
      · exact z
      · exact absurd z2.2.1 (z1.2.2 (b + 1) (by omega))) (fun j q z => by
      obtain ⟨z0, z1, z2⟩ := z
      obtain ⟨w, w1, w2, w3⟩ := z1
      rcases w3 with w3 | ⟨w3, w4⟩
      · omega
      · refine ⟨ca_nx P q w, ca_nxP h hT z0 w2, w4, fun k hk hr => ?_⟩
        exact z2 (k + 1) (by omega) ⟨w, w1, w2, Or.inr ⟨w3, hr⟩⟩) ⟨hq, h2, h3⟩
    omega
theorem ca_DIu {v q a b : Nat} (h1 : ca_DI P v q a) (h2 : ca_DI P v q b) : a = b := by
  rcases Nat.lt_trichotomy a b with z | z | z
  · exact absurd h1.1 (h2.2 a z)
  · exact z
  · exact absurd h2.1 (h1.2 b z)
theorem ca_LvDI {v q : Nat} (h : ca_Lv P v q) : ∃ d, ca_DI P v q d := by
  obtain ⟨d, hd⟩ := h
  obtain ⟨m, _, h2, h3⟩ := ca_least (p := fun d => ca_DW P v d q) hd
  exact ⟨m, h2, h3⟩
/-! ranks -/
theorem ca_let {q v w x : Nat} (h1 : ca_le P q v w) (h2 : ca_le P q w x) : ca_le P q v x := by
  obtain ⟨a, b, a1, a2, a3⟩ := h1
  obtain ⟨c, d, c1, c2, c3⟩ := h2
  have := ca_DIu a2 c1
  subst this
  exact ⟨a, d, a1, c2, by omega⟩
theorem ca_len {q v : Nat} : ¬ ca_le P q v v := by
  rintro ⟨a, b, a1, a2, a3⟩
  have := ca_DIu a1 a2
  omega
theorem ca_letot {q v w : Nat} (hv : ca_Lv P v q) (hw : ca_Lv P w q) (hn : v ≠ w) : ca_le P q v w ∨ ca_le P q w v := by
  obtain ⟨a, ha⟩ := ca_LvDI hv
  obtain ⟨b, hb⟩ := ca_LvDI hw
  rcases Nat.lt_trichotomy a b with z | z | z
  · exact Or.inl ⟨a, b, ha, hb, Or.inl z⟩
  · rcases Nat.lt_or_ge v w with y | y
    · exact Or.inl ⟨a, b, ha, hb, Or.inr ⟨z, y⟩⟩
    · exact Or.inr ⟨b, a, hb, ha, Or.inr ⟨z.symm, by omega⟩⟩
  · exact Or.inr ⟨b, a, hb, ha, Or.inl z⟩
theorem ca_rkm {q v w : Nat} (hv : v < ca_N P) (h : ca_le P q v w) : ca_rk P q v < ca_rk P q w :=
  ca_cn_lt (P := fun x => ca_le P q x v) (Q := fun x => ca_le P q x w) (a := v) ca_len h (fun _ _ z => ca_let z h) hv
theorem ca_rklt {q v : Nat} (hv : v < ca_N P) (h : ca_Lv P v q) : ca_rk P q v < ca_lc P q :=
  ca_cn_lt (P := fun x => ca_le P q x v) (Q := fun x => ca_Lv P x q) (a := v) ca_len h (fun _ _ z => by
    obtain ⟨a, b, a1, _⟩ := z
    exact ⟨a, a1.1⟩) hv
theorem ca_rkinj {q v w : Nat} (hv : v < ca_N P) (hw : w < ca_N P) (h1 : ca_Lv P v q) (h2 : ca_Lv P w q) (e : ca_rk P q v = ca_rk P q w) : v = w := by
  rcases Classical.em (v = w) with z | z
  · exact z
  · rcases ca_letot h1 h2 z with y | y
    · have := ca_rkm hv y; omega
    · have := ca_rkm hw y; omega
theorem ca_rkall {q R : Nat} : (∀ v, v < ca_N P → ca_Lv P v q → ca_rk P q v < R) ↔ ca_lc P q ≤ R := by
  constructor
  · intro h
    have h1 := ca_cn_inj (P := fun v => ca_Lv P v q) (Q := fun _ => True) (ca_rk P q) (n := ca_N P) (m := R) (fun i hi hp => ⟨h i hi hp, trivial⟩) (fun i j hi hj hp hq e => ca_rkinj hi hj hp hq e)
    rw [ca_cn_all (P := fun _ => True) (fun _ _ => trivial)] at h1
    exact h1
  · intro h v hv hl
    have := ca_rklt hv hl
    omega
theorem ca_cnsp (A C : Nat → Prop) : ∀ n, ca_cn A n = ca_cn (fun v => A v ∧ C v) n + ca_cn (fun v => A v ∧ ¬ C v) n
  | 0 => rfl
  | n + 1 => by
    have ih := ca_cnsp A C n
    by_cases h1 : A n
    · rw [ca_cn_t h1]
      by_cases h2 : C n
      · rw [ca_cn_t (P := fun v => A v ∧ C v) ⟨h1, h2⟩, ca_cn_f (P := fun v => A v ∧ ¬ C v) (fun z => z.2 h2)]; omega
      · rw [ca_cn_f (P := fun v => A v ∧ C v) (fun z => h2 z.2), ca_cn_t (P := fun v => A v ∧ ¬ C v) ⟨h1, h2⟩]; omega
    · rw [ca_cn_f h1, ca_cn_f (P := fun v => A v ∧ C v) (fun z => h1 z.1), ca_cn_f (P := fun v => A v ∧ ¬ C v) (fun z => h1 z.1)]; omega
theorem ca_rkcnt {q R : Nat} : ca_cn (fun v => ca_Lv P v q ∧ ca_rk P q v < R) (ca_N P) = min (ca_lc P q) R := by
  have h1 : ca_cn (fun v => ca_Lv P v q ∧ ca_rk P q v < R) (ca_N P) ≤ R := by
    have h1 := ca_cn_inj (P := fun v => ca_Lv P v q ∧ ca_rk P q v < R) (Q := fun _ => True) (ca_rk P q) (n := ca_N P) (m := R) (fun i hi hp => ⟨hp.2, trivial⟩) (fun i j hi hj hp hq e => ca_rkinj hi hj hp.1 hq.1 e)
    rw [ca_cn_all (P := fun _ => True) (fun _ _ => trivial)] at h1
    exact h1
  have h2 := ca_cnsp (fun v => ca_Lv P v q) (fun v => ca_rk P q v < R) (ca_N P)
  have h3 : ca_cn (fun v => ca_Lv P v q ∧ ¬ ca_rk P q v < R) (ca_N P) ≤ ca_lc P q - R := by
    have h1 := ca_cn_inj (P := fun v => ca_Lv P v q ∧ ¬ ca_rk P q v < R) (Q := fun _ => True) (fun v => ca_rk P q v - R) (n := ca_N P) (m := ca_lc P q - R) (fun i hi hp => ⟨by
      have := ca_rklt hi hp.1
      have := hp.2
      show ca_rk P q i - R < _
      omega, trivial⟩) (fun i j hi hj hp hq e => ca_rkinj hi hj hp.1 hq.1 (by
      have h4 := hp.2
      have h5 := hq.2
      have e' : ca_rk P q i - R = ca_rk P q j - R := e
      omega))
    rw [ca_cn_all (P := fun _ => True) (fun _ _ => trivial)] at h1
    exact h1
  have h4 : ca_lc P q = ca_cn (fun v => ca_Lv P v q) (ca_N P) := rfl
  omega
/-! colours -/
theorem ca_GrU {c d : Nat → Int32} {w : Nat} (hc : ca_Gr P c w) (hd : ca_Gr P d w) (h : ∀ x, x < ca_N P → ca_key P x < ca_key P w → c x = d x) : c w = d w := by
  obtain ⟨k, k1, k2, k3, k4⟩ := hc
  obtain ⟨j, j1, j2, j3, j4⟩ := hd
  rw [k2, j2]
  congr 1
  rcases Nat.lt_trichotomy k j with z | z | z
  · obtain ⟨x, x1, x2, x3, x4⟩ := j4 k z
    exact absurd ((h x x1 x3).trans x4) (k3 x x1 x2 x3)
  · exact z
  · obtain ⟨x, x1, x2, x3, x4⟩ := k4 j z
    exact absurd ((h x x1 x3).symm.trans x4) (j3 x x1 x2 x3)
theorem ca_SolU {c d : Nat → Int32} (hc : ca_Sol P c) (hd : ca_Sol P d) : ∀ w, w < ca_N P → c w = d w := by
  have key : ∀ n w, w < ca_N P → ca_key P w < n → c w = d w := by
    intro n
    induction n with
    | zero => intro w _ h; omega
    | succ n ih =>
      intro w hw hn
      rcases Classical.em (ca_EL P w) with z | z
      · exact ca_GrU ((hc w hw).2 z) ((hd w hw).2 z) (fun x hx hk => ih x hx (by omega))
      · rw [(hc w hw).1 z, (hd w hw).1 z]
  exact fun w hw => key _ w hw (Nat.lt_succ_self _)
theorem ca_Ifs {v w : Nat} (h : ca_If P v w) : ca_If P w v := by
  obtain ⟨h1, q, h2, h3, h4⟩ := h
  exact ⟨Ne.symm h1, q, h2, h4, h3⟩
/-- the greatest value over the points -/
def ca_Mx (P : ca_PG) (g : Nat → Nat) (r : Nat) : Prop := (∀ q, ca_isP P q → g q ≤ r) ∧ (r = 0 ∨ ∃ q, ca_isP P q ∧ g q = r)
theorem ca_MxU {g : Nat → Nat} {r t : Nat} (h1 : ca_Mx P g r) (h2 : ca_Mx P g t) : r = t := by
  obtain ⟨a1, a2⟩ := h1
  obtain ⟨b1, b2⟩ := h2
  have x : r ≤ t := by
    rcases a2 with z | ⟨q, z1, z2⟩
    · omega
    · have := b1 q z1; omega
  have y : t ≤ r := by
    rcases b2 with z | ⟨q, z1, z2⟩
    · omega
    · have := a1 q z1; omega
  omega
/-- counting over X's points and over Y's names -/
theorem ca_cnpt (h : ca_WF P) (Q : Nat → Prop) : ca_cn (fun p => Q (ca_nm P p)) (ca_T P) = ca_cn (fun q => ca_isP P q ∧ Q q) 40 := by
  apply Nat.le_antisymm
  · exact ca_cn_inj (ca_nm P) (fun i hi hp => ⟨ca_P40 h (ca_nmP h hi), ca_nmP h hi, hp⟩) (fun i j hi hj _ _ e => ca_nminj h hi hj e)
  · have key : ∀ q, ∃ p, ca_isP P q → p < ca_T P ∧ ca_nm P p = q := by
      intro q
      by_cases hq : ca_isP P q
      · obtain ⟨p, hp⟩ := ca_nmsur h hq
        exact ⟨p, fun _ => hp⟩
      · exact ⟨0, fun z => absurd z hq⟩
    obtain ⟨f, hf⟩ := ca_skol key
    exact ca_cn_inj f (fun q _ hp => ⟨(hf q hp.1).1, by rw [(hf q hp.1).2]; exact hp.2⟩) (fun i j _ _ hi hj e => by
      have h1 := (hf i hi.1).2
      have h2 := (hf j hj.1).2
      rw [e] at h1
      rw [← h1, h2])
end
end
section
/-! parallel moves, pure -/
def ca_stp (ct cf cs : Nat → Int32) (i : Nat) (c : Nat → Int32) : Nat → Int32 :=
  if cs i = 0 then upd c (ct i).toNatClampNeg (c (cf i).toNatClampNeg)
  else upd (upd c (ct i).toNatClampNeg (c (cf i).toNatClampNeg)) (cf i).toNatClampNeg (c (ct i).toNatClampNeg)
def ca_ex (ct cf cs : Nat → Int32) : Nat → Nat → (Nat → Int32) → (Nat → Int32)
  | 0, _, c => c
  | n + 1, i, c => ca_ex ct cf cs n (i + 1) (ca_stp ct cf cs i c)
theorem ca_exs (ct cf cs : Nat → Int32) : ∀ (n i : Nat) (c : Nat → Int32), ca_ex ct cf cs (n + 1) i c = ca_stp ct cf cs (i + n) (ca_ex ct cf cs n i c)
  | 0, i, c => rfl
  | n + 1, i, c => by
    show ca_ex ct cf cs (n + 1) (i + 1) (ca_stp ct cf cs i c) = _
    rw [ca_exs ct cf cs n (i + 1) (ca_stp ct cf cs i c), show i + 1 + n = i + (n + 1) by omega]
    rfl
theorem ca_exc {ct cf cs dt df ds : Nat → Int32} : ∀ (n i : Nat) (c : Nat → Int32), (∀ j, i ≤ j → j < i + n → dt j = ct j ∧ df j = cf j ∧ ds j = cs j) → ca_ex dt df ds n i c = ca_ex ct cf cs n i c
  | 0, _, _, _ => rfl
  | n + 1, i, c, h => by
    have h0 := h i (by omega) (by omega)
    show ca_ex dt df ds n (i + 1) (ca_stp dt df ds i c) = ca_ex ct cf cs n (i + 1) (ca_stp ct cf cs i c)
    have e : ca_stp dt df ds i c = ca_stp ct cf cs i c := by
      unfold ca_stp
      rw [h0.1, h0.2.1, h0.2.2]
    rw [e]
    exact ca_exc n (i + 1) _ (fun j h1 h2 => h j (by omega) (by omega))
def ca_SV (S : Nat → Int32) : Prop := ∀ c, c < 40 → S c = -1 ∨ ∃ f, f < 40 ∧ f ≠ c ∧ S c = nI f
noncomputable def ca_nr (S : Nat → Int32) (f : Nat) : Nat := ca_cn (fun c => S c = nI f) 40
noncomputable def ca_np (S : Nat → Int32) : Nat := ca_cn (fun c => S c ≠ -1) 40
def ca_wt (S : Nat → Int32) (x : Nat → Int32) (c : Nat) : Int32 := if S c = -1 then x c else x (S c).toNatClampNeg
def ca_SI (Z S ct cf cs : Nat → Int32) (b n : Nat) : Prop := ∀ (x : Nat → Int32) (c : Nat), c < 40 →
  (S c = -1 → ca_ex ct cf cs n b x c = ca_wt Z x c) ∧ (S c ≠ -1 → ca_ex ct cf cs n b x (S c).toNatClampNeg = ca_wt Z x c)
theorem ca_SI0 (S ct cf cs : Nat → Int32) (b : Nat) : ca_SI S S ct cf cs b 0 := by
  intro x c _
  refine ⟨fun h => ?_, fun h => ?_⟩
  · show x c = ca_wt S x c
    unfold ca_wt
    rw [if_pos h]
  · show x _ = ca_wt S x c
    unfold ca_wt
    rw [if_neg h]
theorem ca_SIc {Z S ct cf cs dt df ds : Nat → Int32} {b n : Nat} (h : ca_SI Z S ct cf cs b n) (hc : ∀ j, b ≤ j → j < b + n → dt j = ct j ∧ df j = cf j ∧ ds j = cs j) : ca_SI Z S dt df ds b n := by
  intro x c hx
  rw [ca_exc n b x hc]
  exact h x c hx
theorem ca_SImv {Z S ct cf cs : Nat → Int32} {b n t f : Nat} (h : ca_SI Z S ct cf cs b n) (hV : ca_SV S) (ht : t < 40) (hf : f < 40) (hS : S t = nI f) (hu : ∀ c, c < 40 → S c ≠ nI t) (e1 : ct (b + n) = nI t) (e2 : cf (b + n) = nI f) (e3 : cs (b + n) = 0) : ca_SI Z (upd S t (-1)) ct cf cs b (n + 1) := by
  intro x c hc
  have h0 := h x c hc
  rw [ca_exs]
  generalize ca_ex ct cf cs n b x = cur at h0 ⊢
  have es : ca_stp ct cf cs (b + n) cur = upd cur t (cur f) := by
    unfold ca_stp
    rw [if_pos e3, e1, e2, nI_clamp (n := t) (by omega), nI_clamp (n := f) (by omega)]
  rw [es]
  by_cases hct : c = t
  · subst hct
    refine ⟨fun _ => ?_, fun z => absurd pk_us z⟩
    rw [pk_us]
    have := h0.2 (by rw [hS]; exact ca_nm1 (by omega))
    rw [hS, nI_clamp (n := f) (by omega)] at this
    exact this
  · rw [pk_un hct]
    refine ⟨fun z => ?_, fun z => ?_⟩
    · rw [pk_un hct]
      exact h0.1 z
    · rcases hV c hc with y | ⟨g, g1, g2, g3⟩
      · exact absurd y z
      · have hg : g ≠ t := fun e => hu c hc (by rw [g3, e])
        have := h0.2 z
        rw [g3, nI_clamp (n := g) (by omega)] at this ⊢
        rw [pk_un hg]
        exact this
theorem ca_SIsw {Z S S' ct cf cs : Nat → Int32} {b n t f : Nat} (h : ca_SI Z S ct cf cs b n) (hV : ca_SV S) (ht : t < 40) (hf : f < 40) (hft : f ≠ t) (hS : S t = nI f) (hp : S f ≠ -1) (hu : ∀ c, c < 40 → S c = nI f → c = t) (e1 : ct (b + n) = nI t) (e2 : cf (b + n) = nI f) (e3 : cs (b + n) ≠ 0) (hS' : ∀ c, c < 40 → S' c = if c = t then -1 else if S c = nI t then (if c = f then -1 else nI f) else S c) : ca_SI Z S' ct cf cs b (n + 1) := by
  intro x c hc
  have h0 := h x c hc
  rw [ca_exs]
  generalize ca_ex ct cf cs n b x = cur at h0 ⊢
  have es : ca_stp ct cf cs (b + n) cur = upd (upd cur t (cur f)) f (cur t) := by
    unfold ca_stp
    rw [if_neg e3, e1, e2, nI_clamp (n := t) (by omega), nI_clamp (n := f) (by omega)]
  rw [es, hS' c hc]
  by_cases hct : c = t
  · subst hct
    rw [if_pos rfl]
    refine ⟨fun _ => ?_, fun z => absurd rfl z⟩
    rw [pk_un (Ne.symm hft), pk_us]
    have := h0.2 (by rw [hS]; exact ca_nm1 (by omega))
    rw [hS, nI_clamp (n := f) (by omega)] at this
    exact this
  · rw [if_neg hct]
    by_cases hSt : S c = nI t
    · rw [if_pos hSt]
      have h1 := h0.2 (by rw [hSt]; exact ca_nm1 (by omega))
      rw [hSt, nI_clamp (n := t) (by omega)] at h1
      by_cases hcf : c = f
      · rw [if_pos hcf]
        refine ⟨fun _ => ?_, fun z => absurd rfl z⟩
        rw [hcf, pk_us, ← hcf]
        exact h1
      · rw [if_neg hcf]
        refine ⟨fun z => absurd z (ca_nm1 (by omega)), fun _ => ?_⟩
        rw [nI_clamp (n := f) (by omega), pk_us]
        exact h1
    · rw [if_neg hSt]
      refine ⟨fun z => ?_, fun z => ?_⟩
      · have hcf : c ≠ f := fun e => hp (by rw [← e]; exact z)
        rw [pk_un hcf, pk_un hct]
        exact h0.1 z
      · rcases hV c hc with y | ⟨g, g1, g2, g3⟩
        · exact absurd y z
        · have hg : g ≠ t := fun e => hSt (by rw [g3, e])
          have hg2 : g ≠ f := fun e => hct (hu c hc (by rw [g3, e]))
          have := h0.2 z
          rw [g3, nI_clamp (n := g) (by omega)] at this ⊢
          rw [pk_un hg2, pk_un hg]
          exact this
theorem ca_cyc {S : Nat → Int32} (hV : ca_SV S) (hr : ∀ c, c < 40 → S c ≠ -1 → ∃ d, d < 40 ∧ S d = nI c) {f : Nat} (hf : f < 40) : (∀ c, c < 40 → S c = nI f → S f ≠ -1) ∧ (∀ c d, c < 40 → d < 40 → S c = nI f → S d = nI f → c = d) := by
  have key : ∀ c, ∃ d, c < 40 → S c ≠ -1 → d < 40 ∧ S d = nI c := by
    intro c
    by_cases h : c < 40 ∧ S c ≠ -1
    · obtain ⟨d, h1, h2⟩ := hr c h.1 h.2
      exact ⟨d, fun _ _ => ⟨h1, h2⟩⟩
    · exact ⟨0, fun h1 h2 => absurd ⟨h1, h2⟩ h⟩
  obtain ⟨r, hr'⟩ := ca_skol key
  have sur : ∀ c, c < 40 → S c ≠ -1 → ∃ a, a < 40 ∧ S a ≠ -1 ∧ r a = c := by
    intro c hc hcp
    apply Classical.byContradiction
    intro hno
    have h1 := ca_cn_inj (P := fun a => S a ≠ -1) (Q := fun d => S d ≠ -1 ∧ d ≠ c) r (n := 40) (m := 40) (fun i hi hp => by
      have := hr' i hi hp
      refine ⟨this.1, ?_, fun e => hno ⟨i, hi, hp, e⟩⟩
      rw [this.2]
      exact ca_nm1 (by omega)) (fun i j hi hj hp hq e => by
      have h1 := (hr' i hi hp).2
      have h2 := (hr' j hj hq).2
      rw [e, h2] at h1
      exact (ca_ninj h1 (by omega) (by omega)).symm)
    have h2 := ca_cn_lt (P := fun d => S d ≠ -1 ∧ d ≠ c) (Q := fun d => S d ≠ -1) (a := c) (fun z => z.2 rfl) hcp (N := 40) (fun _ _ z => z.1) hc
    omega
  have one : ∀ c, c < 40 → S c = nI f → c = r f ∧ S f ≠ -1 := by
    intro c hc e
    obtain ⟨a, h1, h2, h3⟩ := sur c hc (by rw [e]; exact ca_nm1 (by omega))
    have h4 := (hr' a h1 h2).2
    rw [h3, e] at h4
    have : f = a := ca_ninj h4 (by omega) (by omega)
    subst this
    exact ⟨h3.symm, h2⟩
  exact ⟨fun c hc e => (one c hc e).2, fun c d hc hd e1 e2 => by rw [(one c hc e1).1, (one d hd e2).1]⟩
/-! counts of a move and of an exchange -/
theorem ca_mvf {S : Nat → Int32} {t f : Nat} (ht : t < 40) (hf : f < 40) (hS : S t = nI f) : ca_nr S f = ca_nr (upd S t (-1)) f + 1 := by
  unfold ca_nr
  rw [← ca_cn_add (P := fun c => upd S t (-1) c = nI f) (a := t) (fun z => ca_nm1 (a := f) (by omega) (by rw [← z]; exact pk_us)) ht]
  apply ca_cn_eq
  intro c _
  by_cases e : c = t
  · exact ⟨fun _ => Or.inr e, fun _ => by rw [e]; exact hS⟩
  · show S c = nI f ↔ upd S t (-1) c = nI f ∨ c = t
    rw [pk_un e]
    exact ⟨Or.inl, fun z => z.elim id (fun y => absurd y e)⟩
theorem ca_mvg {S : Nat → Int32} {t f g : Nat} (hS : S t = nI f) (hg : g < 40) (hf : f < 40) (hfg : g ≠ f) : ca_nr (upd S t (-1)) g = ca_nr S g := by
  apply ca_cn_eq
  intro c _
  by_cases e : c = t
  · subst e
    rw [pk_us, hS]
    exact ⟨fun z => absurd z.symm (ca_nm1 (by omega)), fun z => absurd (ca_ninj z (by omega) (by omega)).symm hfg⟩
  · rw [pk_un e]
theorem ca_mvp {S : Nat → Int32} {t : Nat} (ht : t < 40) (hS : S t ≠ -1) : ca_np S = ca_np (upd S t (-1)) + 1 := by
  unfold ca_np
  rw [← ca_cn_add (P := fun c => upd S t (-1) c ≠ -1) (a := t) (fun z => z pk_us) ht]
  apply ca_cn_eq
  intro c _
  by_cases e : c = t
  · exact ⟨fun _ => Or.inr e, fun _ => by rw [e]; exact hS⟩
  · show S c ≠ -1 ↔ upd S t (-1) c ≠ -1 ∨ c = t
    rw [pk_un e]
    exact ⟨Or.inl, fun z => z.elim id (fun y => absurd y e)⟩
theorem ca_mvV {S : Nat → Int32} {t : Nat} (hV : ca_SV S) : ca_SV (upd S t (-1)) := by
  intro c hc
  by_cases e : c = t
  · subst e; exact Or.inl pk_us
  · rw [pk_un e]; exact hV c hc
def ca_sw (S : Nat → Int32) (t f c : Nat) : Int32 := if c = t then -1 else if S c = nI t then (if c = f then -1 else nI f) else S c
theorem ca_swV {S S' : Nat → Int32} {t f : Nat} (hV : ca_SV S) (hf : f < 40) (h : ∀ c, c < 40 → S' c = ca_sw S t f c) : ca_SV S' := by
  intro c hc
  rw [h c hc]
  unfold ca_sw
  by_cases h1 : c = t
  · rw [if_pos h1]; exact Or.inl rfl
  · rw [if_neg h1]
    by_cases h2 : S c = nI t
    · rw [if_pos h2]
      by_cases h3 : c = f
      · rw [if_pos h3]; exact Or.inl rfl
      · rw [if_neg h3]; exact Or.inr ⟨f, hf, Ne.symm h3, rfl⟩
    · rw [if_neg h2]; exact hV c hc
theorem ca_swp {S S' : Nat → Int32} {t f : Nat} (ht : t < 40) (hS : S t ≠ -1) (h : ∀ c, c < 40 → S' c = ca_sw S t f c) : ca_np S' < ca_np S := by
  refine ca_cn_lt (P := fun c => S' c ≠ -1) (Q := fun c => S c ≠ -1) (a := t) (fun z => z ?_) hS ?_ ht
  · rw [h t ht]; unfold ca_sw; rw [if_pos rfl]
  · intro c hc z e
    apply z
    rw [h c hc]
    unfold ca_sw
    by_cases h1 : c = t
    · rw [if_pos h1]
    · rw [if_neg h1]
      by_cases h2 : S c = nI t
      · rw [e] at h2; exact absurd h2.symm (ca_nm1 (by omega))
      · rw [if_neg h2]; exact e
theorem ca_swt {S S' : Nat → Int32} {t f : Nat} (ht : t < 40) (hf : f < 40) (hft : f ≠ t) (h : ∀ c, c < 40 → S' c = ca_sw S t f c) : ca_nr S' t = 0 := by
  apply ca_cn_no
  intro c hc z
  rw [h c hc] at z
  unfold ca_sw at z
  by_cases h1 : c = t
  · rw [if_pos h1] at z; exact ca_nm1 (by omega) z.symm
  · rw [if_neg h1] at z
    by_cases h2 : S c = nI t
    · rw [if_pos h2] at z
      by_cases h3 : c = f
      · rw [if_pos h3] at z; exact ca_nm1 (by omega) z.symm
      · rw [if_neg h3] at z; exact hft (ca_ninj z (by omega) (by omega))
    · rw [if_neg h2] at z; exact h2 z
theorem ca_swf {S S' : Nat → Int32} {t f : Nat} (ht : t < 40) (hf : f < 40) (hft : f ≠ t) (hu : ∀ c, c < 40 → S c = nI f → c = t) (h : ∀ c, c < 40 → S' c = ca_sw S t f c) : ca_nr S' f = ca_cn (fun c => c ≠ f ∧ c ≠ t ∧ S c = nI t) 40 := by
  apply ca_cn_eq
  intro c hc
  show S' c = nI f ↔ _
  rw [h c hc]
  unfold ca_sw
  by_cases h1 : c = t
  · rw [if_pos h1]
    exact ⟨fun z => absurd z.symm (ca_nm1 (by omega)), fun z => absurd h1 z.2.1⟩
  · rw [if_neg h1]
    by_cases h2 : S c = nI t
    · rw [if_pos h2]
      by_cases h3 : c = f
      · rw [if_pos h3]
        exact ⟨fun z => absurd z.symm (ca_nm1 (by omega)), fun z => absurd h3 z.1⟩
      · rw [if_neg h3]
        exact ⟨fun _ => ⟨h3, h1, h2⟩, fun _ => rfl⟩
    · rw [if_neg h2]
      exact ⟨fun z => absurd (hu c hc z) h1, fun z => absurd z.2.2 h2⟩
theorem ca_swg {S S' : Nat → Int32} {t f g : Nat} (ht : t < 40) (hf : f < 40) (hg : g < 40) (hgt : g ≠ t) (hgf : g ≠ f) (hS : S t = nI f) (h : ∀ c, c < 40 → S' c = ca_sw S t f c) : ca_nr S' g = ca_nr S g := by
  apply ca_cn_eq
  intro c hc
  show S' c = nI g ↔ S c = nI g
  rw [h c hc]
  unfold ca_sw
  by_cases h1 : c = t
  · rw [if_pos h1, h1, hS]
    exact ⟨fun z => absurd z.symm (ca_nm1 (by omega)), fun z => absurd (ca_ninj z (by omega) (by omega)).symm hgf⟩
  · rw [if_neg h1]
    by_cases h2 : S c = nI t
    · rw [if_pos h2, h2]
      have hz : ¬ nI t = nI g := fun z => hgt (ca_ninj z (by omega) (by omega)).symm
      by_cases h3 : c = f
      · rw [if_pos h3]
        exact ⟨fun z => absurd z.symm (ca_nm1 (by omega)), fun z => absurd z hz⟩
      · rw [if_neg h3]
        exact ⟨fun z => absurd (ca_ninj z (by omega) (by omega)).symm hgf, fun z => absurd z hz⟩
    · rw [if_neg h2]
end
section
/-! what the arrays hold -/
def ca_AP (P : ca_PG) (k b x y : Nat → Int32) : Prop := ∀ i, i < ca_N P → k i = nI (ca_kd P i) ∧ b i = nI (ca_bl P i) ∧ (1 ≤ ca_kd P i → x i = nI (ca_aA P i)) ∧ (2 ≤ ca_kd P i → ca_kd P i ≠ 7 → y i = nI (ca_aB P i))
def ca_AT (P : ca_PG) (c : Nat) (tk tv t1 t2 : Nat → Int32) : Prop := ∀ s, s < c → tk s = nI (ca_tk P s) ∧ tv s = nI (ca_tv P s) ∧ t1 s = nI (ca_t1 P s) ∧ t2 s = nI (ca_t2 P s)
def ca_AB (P : ca_PG) (bs bp bi : Nat → Int32) : Prop := ∀ s, s < ca_B P → bs s = nI (ca_bs P s) ∧ bp s = nI (ca_bp P s) ∧ bi s = nI (ca_bi P s)
def ca_AY (P : ca_PG) (c : Nat) (ty : Nat → Int32) : Prop := ∀ s, s < c → ty s = nI (ca_tk P s + 1)
def ca_AE (P : ca_PG) (ef et eo : Nat → Int32) : Prop := ∀ e, ca_isE P e → ef (ca_xe P e) = nI (e / 2) ∧ et (ca_xe P e) = nI (ca_tg P e) ∧ eo (ca_xe P e) = nI (ca_eno P e)
def ca_AG (P : ca_PG) (eb ee : Nat → Int32) : Prop := ∀ s, s < ca_B P → eb s = nI (ca_xe P (2 * s)) ∧ ee s = nI (ca_xe P (2 * s + 2))
noncomputable def ca_inc (P : ca_PG) (t n : Nat) : Nat := ca_cn (fun x => ca_isE P x ∧ ca_tg P x = t) n
def ca_AI (P : ca_PG) (inc : Nat → Int32) : Prop := ∀ t, t < 8 → inc t = nI (ca_inc P t (2 * ca_B P))
def ca_AD (P : ca_PG) (dom : Nat → Int32) : Prop := ∀ s, s < ca_B P → ∀ x, bt (dom s) x = true ↔ x < ca_B P ∧ ca_Dm P x s
def ca_Adp (P : ca_PG) (dep : Nat → Int32) : Prop := ∀ s, s < ca_B P → dep s = nI (ca_dp P s)
def ca_Apr (P : ca_PG) (par : Nat → Int32) : Prop := ∀ s, 0 < s → s < ca_B P → ∃ q, q < ca_B P ∧ par s = nI q ∧ ca_dp P q < ca_dp P s
def ca_pit (P : ca_PG) (s k : Nat) : Int32 := if k < ca_ni P s then nI (ca_bs P s + ca_bp P s + k) else -1
def ca_AL (P : ca_PG) (pb pk pi pu : Nat → Int32) : Prop := ∀ s, s < ca_B P → pb s = nI (ca_pb P s) ∧ ∀ k, k ≤ ca_ni P s → pk (ca_pb P s + k) = nI s ∧ pi (ca_pb P s + k) = ca_pit P s k ∧ ∀ v, bt (pu (ca_pb P s + k)) v = true ↔ ca_us P v (ca_nk P s k)
def ca_AM (P : ca_PG) (ea es : Nat → Int32) : Prop := ∀ e, ca_isE P e → ∀ v, (bt (ea (ca_xe P e)) v = true ↔ ca_fe P v e) ∧ (bt (es (ca_xe P e)) v = true ↔ ca_ph P v (ca_tg P e))
def ca_AX (P : ca_PG) (D : Nat → Int32) : Prop := ∀ p, p < ca_T P → ∀ v, v < ca_N P → (∃ d, d ≤ 40 ∧ ca_DI P v (ca_nm P p) d ∧ D (p * 32 + v) = nI d) ∨ (¬ ca_Lv P v (ca_nm P p) ∧ D (p * 32 + v) = 1000)
def ca_AV (P : ca_PG) (lv : Nat → Int32) : Prop := ∀ p, p < ca_T P → ∀ v, bt (lv p) v = true ↔ v < ca_N P ∧ ca_Lv P v (ca_nm P p)
def ca_AN (P : ca_PG) (ne : Nat → Int32) : Prop := ∀ v, v < ca_N P → ∀ w, bt (ne v) w = true ↔ w < ca_N P ∧ ca_If P v w
def ca_AR (P : ca_PG) (R : Nat) (ir : Nat → Int32) : Prop := ∀ p, p < ca_T P → ∀ v, bt (ir p) v = true ↔ v < ca_N P ∧ ca_Lv P v (ca_nm P p) ∧ ca_rk P (ca_nm P p) v < R
def ca_YD (P : ca_PG) (d : Nat → Int32) : Prop := ∀ q v, q < 40 → v < 32 → ((ca_isP P q ∧ v < ca_N P) → (∃ k, k ≤ 40 ∧ ca_DI P v q k ∧ d (q * 32 + v) = nI k) ∨ (¬ ca_Lv P v q ∧ d (q * 32 + v) = -1)) ∧ (¬ (ca_isP P q ∧ v < ca_N P) → d (q * 32 + v) = -1)
def ca_STi (P : ca_PG) : Prop := ∀ i, i < ca_N P → ca_kd P i ≠ 8 → ∀ d, ca_us P d i → d < ca_N P ∧ ((ca_bl P d = ca_bl P i ∧ d < i) ∨ (ca_bl P d ≠ ca_bl P i ∧ ca_Dm P (ca_bl P d) (ca_bl P i)))
def ca_STe (P : ca_PG) (d s : Nat) : Prop := d < ca_N P ∧ ca_Dm P (ca_bl P d) s
def ca_STt (P : ca_PG) : Prop := ∀ s, s < ca_B P → ca_tk P s ≠ 0 → ca_STe P (ca_tv P s) s
def ca_STp (P : ca_PG) : Prop := ∀ e, ca_isE P e → ∀ i, ca_ph P i (ca_tg P e) → ca_STe P (ca_arg P e i) (e / 2)
/-! placing -/
def ca_PL (P : ca_PG) (R M p : Nat) (tk lo : Nat → Int32) (us : Int32) : Prop :=
  (∀ v, v < 32 → lo (p * 32 + v) = -1 ∨ ∃ c, c < 40 ∧ lo (p * 32 + v) = nI c ∧ tk c = 1 ∧ v < ca_N P ∧ ca_Lv P v (ca_nm P p) ∧ (ca_rk P (ca_nm P p) v < R → c < M) ∧ (¬ ca_rk P (ca_nm P p) v < R → 8 ≤ c)) ∧
  (∀ c, c < 40 → tk c = 0 ∨ (tk c = 1 ∧ ∃ v, v < ca_N P ∧ lo (p * 32 + v) = nI c)) ∧
  (∀ v w c, v < 32 → w < 32 → c < 40 → lo (p * 32 + v) = nI c → lo (p * 32 + w) = nI c → v = w) ∧
  (∀ v c, v < 32 → c < 6 → lo (p * 32 + v) = nI c → bt us c = true)
def ca_LP (P : ca_PG) (R M : Nat) (lo : Nat → Int32) (p : Nat) : Prop :=
  (∀ v, v < ca_N P → ca_Lv P v (ca_nm P p) → ∃ c, c < 40 ∧ lo (p * 32 + v) = nI c ∧ (ca_rk P (ca_nm P p) v < R → c < M) ∧ (¬ ca_rk P (ca_nm P p) v < R → 8 ≤ c)) ∧
  (∀ v, v < 32 → ¬ (v < ca_N P ∧ ca_Lv P v (ca_nm P p)) → lo (p * 32 + v) = -1) ∧
  (∀ v w c, v < 32 → w < 32 → c < 40 → lo (p * 32 + v) = nI c → lo (p * 32 + w) = nI c → v = w)
def ca_UP (lo : Nat → Int32) (us : Int32) (p : Nat) : Prop := ∀ v c, v < 32 → c < 6 → lo (p * 32 + v) = nI c → bt us c = true
def ca_UM (M : Nat) (us : Int32) : Prop := ∀ c, bt us c = true → c < M
def ca_HV (M : Nat) (h : Nat → Int32) : Prop := ∀ v, v < 32 → h v = -1 ∨ ∃ c, c < 40 ∧ (c < M ∨ 8 ≤ c) ∧ h v = nI c
section
variable {P : ca_PG} {R M p : Nat} {tk lo : Nat → Int32} {us : Int32}
theorem ca_PL0 (h1 : ∀ c, c < 40 → tk c = 0) (h2 : ∀ v, v < 32 → lo (p * 32 + v) = -1) : ca_PL P R M p tk lo us := by
  refine ⟨fun v hv => Or.inl (h2 v hv), fun c hc => Or.inl (h1 c hc), fun v w c hv _ hc e _ => ?_, fun v c hv hc e => ?_⟩
  · rw [h2 v hv] at e; exact absurd e.symm (ca_nm1 (by omega))
  · rw [h2 v hv] at e; exact absurd e.symm (ca_nm1 (by omega))
theorem ca_PLtake (hN : ca_N P ≤ 32) (h : ca_PL P R M p tk lo us) {v c : Nat} (hv : v < ca_N P) (hl : ca_Lv P v (ca_nm P p)) (he : lo (p * 32 + v) = -1) (hc : c < 40) (ht : tk c = 0) (hr : ca_rk P (ca_nm P p) v < R → c < M) (hs : ¬ ca_rk P (ca_nm P p) v < R → 8 ≤ c) {us' : Int32} (hu : ∀ i, bt us i = true → bt us' i = true) (hu2 : c < 6 → bt us' c = true) : ca_PL P R M p (upd tk c 1) (upd lo (p * 32 + v) (nI c)) us' := by
  obtain ⟨h1, h2, h3, h4⟩ := h
  have ne : ∀ w, w < 32 → lo (p * 32 + w) ≠ nI c := by
    intro w hw e
    rcases h1 w hw with z | ⟨d, d1, d2, d3, _⟩
    · rw [z] at e; exact ca_nm1 (by omega) e.symm
    · rw [d2] at e
      have := ca_ninj e (by omega) (by omega)
      subst this
      rw [ht] at d3
      exact absurd d3 (by decide)
  refine ⟨fun w hw => ?_, fun d hd => ?_, fun w x d hw hx hd e1 e2 => ?_, fun w d hw hd e => ?_⟩
  · by_cases e : w = v
    · subst e
      exact Or.inr ⟨c, hc, pk_us, pk_us, hv, hl, hr, hs⟩
    · rw [pk_un (show p * 32 + w ≠ p * 32 + v by omega)]
      rcases h1 w hw with z | ⟨d, d1, d2, d3, d4⟩
      · exact Or.inl z
      · refine Or.inr ⟨d, d1, d2, ?_, d4⟩
        have : d ≠ c := fun e => ne w hw (by rw [d2, e])
        rw [pk_un this]; exact d3
  · by_cases e : d = c
    · subst e
      exact Or.inr ⟨pk_us, v, hv, pk_us⟩
    · rw [pk_un e]
      rcases h2 d hd with z | ⟨z, w, w1, w2⟩
      · exact Or.inl z
      · refine Or.inr ⟨z, w, w1, ?_⟩
        have : w ≠ v := fun e => by
          subst e; rw [he] at w2; exact ca_nm1 (by omega) w2.symm
        rw [pk_un (show p * 32 + w ≠ p * 32 + v by omega)]; exact w2
  · by_cases ew : w = v
    · subst ew
      rw [pk_us] at e1
      by_cases ex : x = w
      · exact ex.symm
      · rw [pk_un (show p * 32 + x ≠ p * 32 + w by omega)] at e2
        exact absurd (e2.trans e1.symm) (ne x hx)
    · rw [pk_un (show p * 32 + w ≠ p * 32 + v by omega)] at e1
      by_cases ex : x = v
      · subst ex
        rw [pk_us] at e2
        exact absurd (e1.trans e2.symm) (ne w hw)
      · rw [pk_un (show p * 32 + x ≠ p * 32 + v by omega)] at e2
        exact h3 w x d hw hx hd e1 e2
  · by_cases ew : w = v
    · subst ew
      rw [pk_us] at e
      have := ca_ninj e (by omega) (by omega)
      subst this
      exact hu2 hd
    · rw [pk_un (show p * 32 + w ≠ p * 32 + v by omega)] at e
      exact hu d (h4 w d hw hd e)
theorem ca_PLreg (hN : ca_N P ≤ 32) (h : ca_PL P R M p tk lo us) {v : Nat} (hv : v < ca_N P) (hl : ca_Lv P v (ca_nm P p)) (he : lo (p * 32 + v) = -1) (hr : ca_rk P (ca_nm P p) v < R) (hM : min (ca_lc P (ca_nm P p)) R ≤ M) (hM6 : M ≤ 6) : ∃ c, c < M ∧ tk c = 0 := by
  apply Classical.byContradiction
  intro hno
  obtain ⟨h1, h2, h3, h4⟩ := h
  have key : ∀ c, ∃ w, c < M → w < ca_N P ∧ lo (p * 32 + w) = nI c := by
    intro c
    by_cases hc : c < M
    · rcases h2 c (by omega) with z | ⟨_, w, w1, w2⟩
      · exact absurd ⟨c, hc, z⟩ hno
      · exact ⟨w, fun _ => ⟨w1, w2⟩⟩
    · exact ⟨0, fun z => absurd z hc⟩
  obtain ⟨f, hf⟩ := ca_skol key
  have a1 := ca_cn_inj (P := fun _ => True) (Q := fun w => (ca_Lv P w (ca_nm P p) ∧ ca_rk P (ca_nm P p) w < R) ∧ w ≠ v) f (n := M) (m := ca_N P) (fun c hc _ => by
    obtain ⟨w1, w2⟩ := hf c hc
    refine ⟨w1, ?_, fun e => ?_⟩
    · rcases h1 (f c) (by omega) with z | ⟨d, d1, d2, d3, d4, d5, d6, d7⟩
      · rw [w2] at z; exact absurd z (ca_nm1 (by omega))
      · refine ⟨d5, Classical.byContradiction fun z => ?_⟩
        have := d7 z
        rw [w2] at d2
        have := ca_ninj d2 (by omega) (by omega)
        omega
    · rw [e, he] at w2; exact ca_nm1 (by omega) w2.symm) (fun i j hi hj _ _ e => by
    have e1 := (hf i hi).2
    have e2 := (hf j hj).2
    rw [e, e2] at e1
    exact (ca_ninj e1 (by omega) (by omega)).symm)
  rw [ca_cn_all (P := fun _ => True) (fun _ _ => trivial)] at a1
  have a2 := ca_cn_lt (P := fun w => (ca_Lv P w (ca_nm P p) ∧ ca_rk P (ca_nm P p) w < R) ∧ w ≠ v) (Q := fun w => ca_Lv P w (ca_nm P p) ∧ ca_rk P (ca_nm P p) w < R) (a := v) (fun z => z.2 rfl) ⟨hl, hr⟩ (N := ca_N P) (fun _ _ z => z.1) hv
  rw [ca_rkcnt] at a2
  omega
theorem ca_PLslot (hN : ca_N P ≤ 32) (h : ca_PL P R M p tk lo us) {v : Nat} (hv : v < ca_N P) (he : lo (p * 32 + v) = -1) : ∃ c, 8 ≤ c ∧ c < 40 ∧ tk c = 0 := by
  apply Classical.byContradiction
  intro hno
  obtain ⟨h1, h2, h3, h4⟩ := h
  have key : ∀ c, ∃ w, c < 32 → w < ca_N P ∧ lo (p * 32 + w) = nI (8 + c) := by
    intro c
    by_cases hc : c < 32
    · rcases h2 (8 + c) (by omega) with z | ⟨_, w, w1, w2⟩
      · exact absurd ⟨8 + c, by omega, by omega, z⟩ hno
      · exact ⟨w, fun _ => ⟨w1, w2⟩⟩
    · exact ⟨0, fun z => absurd z hc⟩
  obtain ⟨f, hf⟩ := ca_skol key
  have a1 := ca_cn_inj (P := fun _ => True) (Q := fun w => w ≠ v) f (n := 32) (m := ca_N P) (fun c hc _ => by
    obtain ⟨w1, w2⟩ := hf c hc
    refine ⟨w1, fun e => ?_⟩
    rw [e, he] at w2; exact ca_nm1 (by omega) w2.symm) (fun i j hi hj _ _ e => by
    have e1 := (hf i hi).2
    have e2 := (hf j hj).2
    rw [e, e2] at e1
    have := ca_ninj e1 (by omega) (by omega)
    omega)
  rw [ca_cn_all (P := fun _ => True) (fun _ _ => trivial)] at a1
  have a2 := ca_cn_lt (P := fun w => w ≠ v) (Q := fun _ => True) (a := v) (fun z => z rfl) trivial (N := ca_N P) (fun _ _ _ => trivial) hv
  rw [ca_cn_all (P := fun _ => True) (fun _ _ => trivial)] at a2
  omega
theorem ca_PLend (hN : ca_N P ≤ 32) (h : ca_PL P R M p tk lo us) (hd : ∀ v, v < ca_N P → ca_Lv P v (ca_nm P p) → lo (p * 32 + v) ≠ -1) : ca_LP P R M lo p ∧ ca_UP lo us p := by
  obtain ⟨h1, h2, h3, h4⟩ := h
  refine ⟨⟨fun v hv hl => ?_, fun v hv hn => ?_, h3⟩, h4⟩
  · rcases h1 v (by omega) with z | ⟨c, c1, c2, c3, c4, c5, c6, c7⟩
    · exact absurd z (hd v hv hl)
    · exact ⟨c, c1, c2, c6, c7⟩
  · rcases h1 v hv with z | ⟨c, c1, c2, c3, c4, c5, c6, c7⟩
    · exact z
    · exact absurd ⟨c4, c5⟩ hn
/-- all registers below the greatest number are used -/
theorem ca_used (h : ca_WF P) (hR : R ≤ 6) (hM : ca_Mx P (fun q => min (ca_lc P q) R) M) (hL : ∀ p, p < ca_T P → ca_LP P R M lo p ∧ ca_UP lo us p) (hU : ca_UM M us) : ca_cn (fun c => bt us c = true) 32 = M := by
  have hN := ca_wN h
  have hM6 : M ≤ 6 := by
    rcases hM.2 with z | ⟨q, _, z⟩
    · omega
    · have : min (ca_lc P q) R = M := z
      omega
  have all : ∀ c, c < M → bt us c = true := by
    rcases hM.2 with z | ⟨q, hq, z⟩
    · intro c hc; omega
    · obtain ⟨p, hp, e⟩ := ca_nmsur h hq
      obtain ⟨⟨l1, l2, l3⟩, l4⟩ := hL p hp
      rw [← e] at z
      intro c hc
      apply Classical.byContradiction
      intro hno
      have key : ∀ v, ∃ c, (v < ca_N P ∧ ca_Lv P v (ca_nm P p) ∧ ca_rk P (ca_nm P p) v < R) → c < M ∧ lo (p * 32 + v) = nI c := by
        intro v
        by_cases hv : v < ca_N P ∧ ca_Lv P v (ca_nm P p) ∧ ca_rk P (ca_nm P p) v < R
        · obtain ⟨d, d1, d2, d3, _⟩ := l1 v hv.1 hv.2.1
          exact ⟨d, fun _ => ⟨d3 hv.2.2, d2⟩⟩
        · exact ⟨0, fun z => absurd z hv⟩
      obtain ⟨f, hf⟩ := ca_skol key
      have a1 := ca_cn_inj (P := fun v => ca_Lv P v (ca_nm P p) ∧ ca_rk P (ca_nm P p) v < R) (Q := fun d => d ≠ c) f (n := ca_N P) (m := M) (fun i hi hp2 => by
        obtain ⟨f1, f2⟩ := hf i ⟨hi, hp2⟩
        refine ⟨f1, fun e => hno ?_⟩
        rw [← e]
        exact l4 i (f i) (by omega) (by omega) f2) (fun i j hi hj hpi hpj e => by
        obtain ⟨f1, f2⟩ := hf i ⟨hi, hpi⟩
        obtain ⟨g1, g2⟩ := hf j ⟨hj, hpj⟩
        rw [e] at f2
        exact l3 i j (f j) (by omega) (by omega) (by omega) f2 g2)
      rw [ca_rkcnt] at a1
      have a2 := ca_cn_lt (P := fun d => d ≠ c) (Q := fun _ => True) (a := c) (fun z => z rfl) trivial (N := M) (fun _ _ _ => trivial) hc
      rw [ca_cn_all (P := fun _ => True) (fun _ _ => trivial)] at a2
      have z' : min (ca_lc P (ca_nm P p)) R = M := z
      omega
  have e1 : ca_cn (fun c => bt us c = true) 32 = ca_cn (fun c => c < M) 32 := ca_cn_eq (fun k _ => ⟨fun z => hU k z, fun z => all k z⟩)
  rw [e1]
  have e2 : ∀ n, M ≤ n → ca_cn (fun c => c < M) n = M := by
    intro n
    induction n with
    | zero => intro h; have : M = 0 := by omega
              subst this; rfl
    | succ n ih =>
      intro h
      rcases Nat.lt_or_ge n M with z | z
      · have : M = n + 1 := by omega
        rw [ca_cn_all (fun k hk => by omega)]; omega
      · rw [ca_cn_f (by omega), ih z]
  exact e2 32 (by omega)
theorem ca_HVrow (h : ca_LP P R M lo p) (hM : ∀ v, v < ca_N P → ca_rk P (ca_nm P p) v < R ∨ ¬ ca_rk P (ca_nm P p) v < R) {v : Nat} (hv : v < 32) : lo (p * 32 + v) = -1 ∨ ∃ c, c < 40 ∧ (c < M ∨ 8 ≤ c) ∧ lo (p * 32 + v) = nI c := by
  by_cases z : v < ca_N P ∧ ca_Lv P v (ca_nm P p)
  · obtain ⟨c, c1, c2, c3, c4⟩ := h.1 v z.1 z.2
    refine Or.inr ⟨c, c1, ?_, c2⟩
    rcases hM v z.1 with y | y
    · exact Or.inl (c3 y)
    · exact Or.inr (c4 y)
  · exact Or.inl (h.2.1 v hv z)
end
end
section
/-! X: bits, edges, reaching -/
theorem ca_loop {σ : Type} (W : Nat → Nat → σ → Prop) (I : Nat → σ → Prop) (a e : Nat) (hae : a ≤ e) (s : σ) (h0 : I a s) (hx : ∀ n s, I e s → W (n + 1) e s) (hs : ∀ n i s, a ≤ i → i < e → I i s → (∀ t, I (i + 1) t → W n (i + 1) t) → W (n + 1) i s) : ∃ n, W n a s := by
  have key : ∀ d i s, a ≤ i → i + d = e → I i s → W (d + 1) i s := by
    intro d
    induction d with
    | zero =>
      intro i s _ hi hI
      have : i = e := by omega
      subst this
      exact hx 0 s hI
    | succ d ih =>
      intro i s ha hi hI
      exact hs (d + 1) i s ha (by omega) hI (fun t ht => ih (i + 1) t (by omega) (by omega) ht)
  exact ⟨(e - a) + 1, key (e - a) a s (Nat.le_refl _) (by omega) h0⟩
theorem ca_cnlt {Q : Nat → Prop} {b : Nat} : ∀ {n : Nat}, b ≤ n → ca_cn (fun x => x < b ∧ Q x) n = ca_cn Q b
  | 0, h => by have : b = 0 := by omega
               subst this; rfl
  | n + 1, h => by
    rcases Nat.lt_or_ge n b with z | z
    · have e : b = n + 1 := by omega
      subst e
      exact ca_cn_eq (fun k hk => ⟨fun y => y.2, fun y => ⟨hk, y⟩⟩)
    · rw [ca_cn_f (by omega)]
      exact ca_cnlt z
def ca_EN (P : ca_PG) (n : Nat) (ef et eo : Nat → Int32) : Prop := ∀ e, e < n → ca_isE P e → ef (ca_xe P e) = nI (e / 2) ∧ et (ca_xe P e) = nI (ca_tg P e) ∧ eo (ca_xe P e) = nI (ca_eno P e)
def ca_IN (P : ca_PG) (n : Nat) (inc : Nat → Int32) : Prop := ∀ t, t < 8 → inc t = nI (ca_inc P t n)
def ca_GN (P : ca_PG) (n : Nat) (eb ee : Nat → Int32) : Prop := ∀ s, s < n → eb s = nI (ca_xe P (2 * s)) ∧ ee s = nI (ca_xe P (2 * s + 2))
section
variable {P : ca_PG}
theorem ca_ENs {e : Nat} {ef et eo : Nat → Int32} (h : ca_EN P e ef et eo) (he : ca_isE P e) : ca_EN P (e + 1) (upd ef (ca_xe P e) (nI (e / 2))) (upd et (ca_xe P e) (nI (ca_tg P e))) (upd eo (ca_xe P e) (nI (ca_eno P e))) := by
  intro f hf hE
  by_cases z : f = e
  · subst z
    exact ⟨pk_us, pk_us, pk_us⟩
  · have : ca_xe P f < ca_xe P e := ca_cn_str hE (by omega)
    rw [pk_un (by omega), pk_un (by omega), pk_un (by omega)]
    exact h f (by omega) hE
theorem ca_ENn {e : Nat} {ef et eo : Nat → Int32} (h : ca_EN P e ef et eo) (he : ¬ ca_isE P e) : ca_EN P (e + 1) ef et eo := by
  intro f hf hE
  by_cases z : f = e
  · subst z; exact absurd hE he
  · exact h f (by omega) hE
theorem ca_INs {e : Nat} {inc : Nat → Int32} (h : ca_IN P e inc) (he : ca_isE P e) (ht : ca_tg P e < 8) : ca_IN P (e + 1) (upd inc (ca_tg P e) (inc (ca_tg P e) + 1)) := by
  intro t h8
  by_cases z : t = ca_tg P e
  · subst z
    rw [pk_us, h _ h8, nI_1]
    unfold ca_inc
    rw [ca_cn_t ⟨he, rfl⟩]
  · rw [pk_un z, h t h8]
    unfold ca_inc
    rw [ca_cn_f (fun y => z y.2.symm)]
theorem ca_INn {e : Nat} {inc : Nat → Int32} (h : ca_IN P e inc) (he : ¬ ca_isE P e) : ca_IN P (e + 1) inc := by
  intro t h8
  rw [h t h8]
  unfold ca_inc
  rw [ca_cn_f (fun y => he y.1)]
theorem ca_xes {e : Nat} (he : ca_isE P e) : ca_xe P (e + 1) = ca_xe P e + 1 := ca_cn_t he
theorem ca_xen {e : Nat} (he : ¬ ca_isE P e) : ca_xe P (e + 1) = ca_xe P e := ca_cn_f he
theorem ca_RAe {x k y : Nat} (h : ca_RA P x k y) (hy : y ≠ 0) : ∃ e, ca_isE P e ∧ ca_tg P e = y ∧ y ≠ x ∧ ∃ j, j < k ∧ ca_RA P x j (e / 2) := by
  induction k with
  | zero => exact absurd h.1 hy
  | succ k ih =>
    rcases h with h | ⟨e, h1, h2, h3, h4⟩
    · obtain ⟨e, h1, h2, h3, j, h4, h5⟩ := ih h
      exact ⟨e, h1, h2, h3, j, by omega, h5⟩
    · exact ⟨e, h1, h2, h3, k, by omega, h4⟩
variable {f_phiKind f_jumpKind f_branchKind f_retKind f_far f_registerEnd f_firstSlot f_cellEnd f_edgeCode f_blockLimit f_itemLimit f_outLimit f_stage f_open f_blocks f_items f_edges f_points f_greatestPressure f_everLive f_registers f_usedRegisters f_placedBlocks f_codeSize f_current f_returned f_outSize : Int32} {a_blockStart a_blockPhis a_blockItems a_termKind a_termValue a_termFirst a_termSecond a_itemKind a_itemA a_itemB a_itemBlock a_edgeFrom a_edgeTo a_edgeOrder a_edgeArgs a_edgeSets a_edgeBegin a_edgeEnd a_incoming a_dominators a_depth a_parent a_pointBase a_pointBlock a_pointItem a_pointUses a_live a_distance a_neighbours a_colour a_inRegisters a_location a_hint a_taken a_moveSource a_moveReaders a_codeTo a_codeFrom a_codeSwap a_codeBegin a_codeEnd a_outLog a_params a_cells : Nat → Int32}
theorem xl_has {post : Int32 → Prop} (u : SX) {m b' : Int32} {b : Nat} (eb : b' = nI b) (hb : b < 32) (h1 : bt m b = true → post 1) (h0 : bt m b = false → post 0) : wpX_has post u m b' := by
  subst eb
  exact match u with
  | (f_phiKind, f_jumpKind, f_branchKind, f_retKind, f_far, f_registerEnd, f_firstSlot, f_cellEnd, f_edgeCode, f_blockLimit, f_itemLimit, f_outLimit, f_stage, f_open, f_blocks, f_items, f_edges, f_points, f_greatestPressure, f_everLive, f_registers, f_usedRegisters, f_placedBlocks, f_codeSize, f_current, f_returned, f_outSize, a_blockStart, a_blockPhis, a_blockItems, a_termKind, a_termValue, a_termFirst, a_termSecond, a_itemKind, a_itemA, a_itemB, a_itemBlock, a_edgeFrom, a_edgeTo, a_edgeOrder, a_edgeArgs, a_edgeSets, a_edgeBegin, a_edgeEnd, a_incoming, a_dominators, a_depth, a_parent, a_pointBase, a_pointBlock, a_pointItem, a_pointUses, a_live, a_distance, a_neighbours, a_colour, a_inRegisters, a_location, a_hint, a_taken, a_moveSource, a_moveReaders, a_codeTo, a_codeFrom, a_codeSwap, a_codeBegin, a_codeEnd, a_outLog, a_params, a_cells) => ⟨fun e => h0 ((ca_h0 hb).mp e), fun e => h1 (ca_nt (fun z => e ((ca_h0 hb).mpr z)))⟩
theorem xl_countBits {post : Int32 → Prop} (u : SX) {m : Int32} (h : post (nI (ca_cn (fun i => bt m i = true) 32))) : wpX_countBits post u m := match u with
  | (f_phiKind, f_jumpKind, f_branchKind, f_retKind, f_far, f_registerEnd, f_firstSlot, f_cellEnd, f_edgeCode, f_blockLimit, f_itemLimit, f_outLimit, f_stage, f_open, f_blocks, f_items, f_edges, f_points, f_greatestPressure, f_everLive, f_registers, f_usedRegisters, f_placedBlocks, f_codeSize, f_current, f_returned, f_outSize, a_blockStart, a_blockPhis, a_blockItems, a_termKind, a_termValue, a_termFirst, a_termSecond, a_itemKind, a_itemA, a_itemB, a_itemBlock, a_edgeFrom, a_edgeTo, a_edgeOrder, a_edgeArgs, a_edgeSets, a_edgeBegin, a_edgeEnd, a_incoming, a_dominators, a_depth, a_parent, a_pointBase, a_pointBlock, a_pointItem, a_pointUses, a_live, a_distance, a_neighbours, a_colour, a_inRegisters, a_location, a_hint, a_taken, a_moveSource, a_moveReaders, a_codeTo, a_codeFrom, a_codeSwap, a_codeBegin, a_codeEnd, a_outLog, a_params, a_cells) => by
    refine ca_loop (fun n i (s : Int32) => wX_countBits_4 post m f_phiKind f_jumpKind f_branchKind f_retKind f_far f_registerEnd f_firstSlot f_cellEnd f_edgeCode f_blockLimit f_itemLimit f_outLimit f_stage f_open f_blocks f_items f_edges f_points f_greatestPressure f_everLive f_registers f_usedRegisters f_placedBlocks f_codeSize f_current f_returned f_outSize a_blockStart a_blockPhis a_blockItems a_termKind a_termValue a_termFirst a_termSecond a_itemKind a_itemA a_itemB a_itemBlock a_edgeFrom a_edgeTo a_edgeOrder a_edgeArgs a_edgeSets a_edgeBegin a_edgeEnd a_incoming a_dominators a_depth a_parent a_pointBase a_pointBlock a_pointItem a_pointUses a_live a_distance a_neighbours a_colour a_inRegisters a_location a_hint a_taken a_moveSource a_moveReaders a_codeTo a_codeFrom a_codeSwap a_codeBegin a_codeEnd a_outLog a_params a_cells n s (nI i)) (fun i s => s = nI (ca_cn (fun i => bt m i = true) i)) 0 32 (by omega) 0 rfl ?_ ?_
    · intro n s hs
      refine br_t (nI_le (a := 32) (b := 32) (Nat.le_refl _) (by decide)) ?_
      rw [hs]; exact h
    · intro n i s _ hi hs ih
      refine br_f (nI_ge (b := 32) hi (by decide)) (nm_r (e' := nI (ca_cn (fun i => bt m i = true) (i + 1))) ?_ (ca_in (ih _ rfl)))
      rw [hs, ca_hb m hi, nI_add]
      congr 1
      cases hb : bt m i with
      | false => rw [ca_cn_f (ca_ff hb)]; rfl
      | true => rw [ca_cn_t hb]; rfl
theorem xl_targetsExist {post : Int32 → Prop} (hW : ca_WF P) (hF : ca_TF P (ca_B P)) (hA : ca_AT P (ca_B P) a_termKind a_termValue a_termFirst a_termSecond) (h1 : ca_TE P → post 1) (h0 : ¬ ca_TE P → post 0) : wpX_targetsExist post (f_phiKind, f_jumpKind, f_branchKind, f_retKind, f_far, f_registerEnd, f_firstSlot, f_cellEnd, f_edgeCode, f_blockLimit, f_itemLimit, f_outLimit, f_stage, f_open, (nI (ca_B P)), (nI (ca_N P)), f_edges, f_points, f_greatestPressure, f_everLive, f_registers, f_usedRegisters, f_placedBlocks, f_codeSize, f_current, f_returned, f_outSize, a_blockStart, a_blockPhis, a_blockItems, a_termKind, a_termValue, a_termFirst, a_termSecond, a_itemKind, a_itemA, a_itemB, a_itemBlock, a_edgeFrom, a_edgeTo, a_edgeOrder, a_edgeArgs, a_edgeSets, a_edgeBegin, a_edgeEnd, a_incoming, a_dominators, a_depth, a_parent, a_pointBase, a_pointBlock, a_pointItem, a_pointUses, a_live, a_distance, a_neighbours, a_colour, a_inRegisters, a_location, a_hint, a_taken, a_moveSource, a_moveReaders, a_codeTo, a_codeFrom, a_codeSwap, a_codeBegin, a_codeEnd, a_outLog, a_params, a_cells) := by
  have hB := ca_wB hW
  refine ca_loop (σ := Unit) (fun n i _ => wX_targetsExist_2 post f_phiKind f_jumpKind f_branchKind f_retKind f_far f_registerEnd f_firstSlot f_cellEnd f_edgeCode f_blockLimit f_itemLimit f_outLimit f_stage f_open (nI (ca_B P)) (nI (ca_N P)) f_edges f_points f_greatestPressure f_everLive f_registers f_usedRegisters f_placedBlocks f_codeSize f_current f_returned f_outSize a_blockStart a_blockPhis a_blockItems a_termKind a_termValue a_termFirst a_termSecond a_itemKind a_itemA a_itemB a_itemBlock a_edgeFrom a_edgeTo a_edgeOrder a_edgeArgs a_edgeSets a_edgeBegin a_edgeEnd a_incoming a_dominators a_depth a_parent a_pointBase a_pointBlock a_pointItem a_pointUses a_live a_distance a_neighbours a_colour a_inRegisters a_location a_hint a_taken a_moveSource a_moveReaders a_codeTo a_codeFrom a_codeSwap a_codeBegin a_codeEnd a_outLog a_params a_cells n (nI i)) (fun i _ => ∀ e, e / 2 < i → ca_isE P e → ca_tg P e < ca_B P) 0 (ca_B P) (by omega) () ?_ ?_ ?_
  · intro e he; omega
  · intro n _ hI
    exact br_t (nI_le (Nat.le_refl _) (by omega)) (h1 fun e he => hI e he.1 he)
  · intro n i _ _ hi hI ih
    have hA' := hA i hi
    have hF' := hF i hi
    have nxt : (ca_isE P (2 * i) → ca_tg P (2 * i) < ca_B P) → (ca_isE P (2 * i + 1) → ca_tg P (2 * i + 1) < ca_B P) → wX_targetsExist_2 post f_phiKind f_jumpKind f_branchKind f_retKind f_far f_registerEnd f_firstSlot f_cellEnd f_edgeCode f_blockLimit f_itemLimit f_outLimit f_stage f_open (nI (ca_B P)) (nI (ca_N P)) f_edges f_points f_greatestPressure f_everLive f_registers f_usedRegisters f_placedBlocks f_codeSize f_current f_returned f_outSize a_blockStart a_blockPhis a_blockItems a_termKind a_termValue a_termFirst a_termSecond a_itemKind a_itemA a_itemB a_itemBlock a_edgeFrom a_edgeTo a_edgeOrder a_edgeArgs a_edgeSets a_edgeBegin a_edgeEnd a_incoming a_dominators a_depth a_parent a_pointBase a_pointBlock a_pointItem a_pointUses a_live a_distance a_neighbours a_colour a_inRegisters a_location a_hint a_taken a_moveSource a_moveReaders a_codeTo a_codeFrom a_codeSwap a_codeBegin a_codeEnd a_outLog a_params a_cells n (nI (i + 1)) := by
      intro z1 z2
      refine ih () (fun e he hE => ?_)
      rcases Nat.lt_or_ge (e / 2) i with y | y
      · exact hI e y hE
      · rcases (show e = 2 * i ∨ e = 2 * i + 1 by omega) with y | y
        · subst y; exact z1 hE
        · subst y; exact z2 hE
    have key : (ca_isE P (2 * i) → ca_tg P (2 * i) < ca_B P) → wX_targetsExist_35 post (wX_targetsExist_2 post f_phiKind f_jumpKind f_branchKind f_retKind f_far f_registerEnd f_firstSlot f_cellEnd f_edgeCode f_blockLimit f_itemLimit f_outLimit f_stage f_open (nI (ca_B P)) (nI (ca_N P)) f_edges f_points f_greatestPressure f_everLive f_registers f_usedRegisters f_placedBlocks f_codeSize f_current f_returned f_outSize a_blockStart a_blockPhis a_blockItems a_termKind a_termValue a_termFirst a_termSecond a_itemKind a_itemA a_itemB a_itemBlock a_edgeFrom a_edgeTo a_edgeOrder a_edgeArgs a_edgeSets a_edgeBegin a_edgeEnd a_incoming a_dominators a_depth a_parent a_pointBase a_pointBlock a_pointItem a_pointUses a_live a_distance a_neighbours a_colour a_inRegisters a_location a_hint a_taken a_moveSource a_moveReaders a_codeTo a_codeFrom a_codeSwap a_codeBegin a_codeEnd a_outLog a_params a_cells n) (nI i) f_phiKind f_jumpKind f_branchKind f_retKind f_far f_registerEnd f_firstSlot f_cellEnd f_edgeCode f_blockLimit f_itemLimit f_outLimit f_stage f_open (nI (ca_B P)) (nI (ca_N P)) f_edges f_points f_greatestPressure f_everLive f_registers f_usedRegisters f_placedBlocks f_codeSize f_current f_returned f_outSize a_blockStart a_blockPhis a_blockItems a_termKind a_termValue a_termFirst a_termSecond a_itemKind a_itemA a_itemB a_itemBlock a_edgeFrom a_edgeTo a_edgeOrder a_edgeArgs a_edgeSets a_edgeBegin a_edgeEnd a_incoming a_dominators a_depth a_parent a_pointBase a_pointBlock a_pointItem a_pointUses a_live a_distance a_neighbours a_colour a_inRegisters a_location a_hint a_taken a_moveSource a_moveReaders a_codeTo a_codeFrom a_codeSwap a_codeBegin a_codeEnd a_outLog a_params a_cells := by
      intro hz
      refine ca_vi (pk_eq (ca_tk P i) 1 (fun e1 => ?_) (fun e1 => ?_) (ca_r hA'.1))
      · refine ca_vi (pk_lt (ca_t2 P i) (ca_B P) (fun hl => ?_) (fun hl => ?_) (ca_r hA'.2.2.2))
        · exact ca_in (nxt hz (fun _ => by rw [ca_tg1]; exact hl))
        · refine h0 (fun hT => ?_)
          have := hT (2 * i + 1) ((ca_isE1 i).mpr ⟨hi, e1⟩)
          rw [ca_tg1] at this
          omega
      · exact ca_in (nxt hz (fun z => absurd ((ca_isE1 i).mp z).2 e1))
    refine br_f (nI_ge hi (by omega)) (ca_vi (pk_eq (ca_tk P i) 2 (fun e1 => ?_) (fun e1 => ?_) (ca_r hA'.1)))
    · exact key (fun z => absurd e1 ((ca_isE0 i).mp z).2)
    · refine ca_vi (pk_lt (ca_t1 P i) (ca_B P) (fun hl => ?_) (fun hl => ?_) (ca_r hA'.2.2.1))
      · exact key (fun _ => by rw [ca_tg0]; exact hl)
      · refine h0 (fun hT => ?_)
        have := hT (2 * i) ((ca_isE0 i).mpr ⟨hi, e1⟩)
        rw [ca_tg0] at this
        omega
theorem xl_addEdge {post : SX → Prop} {E s t : Nat} {p1 : Int32} (hp : p1 = nI t) (hE : E < 16) (ht : t < 8) (K : post (f_phiKind, f_jumpKind, f_branchKind, f_retKind, f_far, f_registerEnd, f_firstSlot, f_cellEnd, f_edgeCode, f_blockLimit, f_itemLimit, f_outLimit, f_stage, f_open, (nI (ca_B P)), (nI (ca_N P)), (nI (E + 1)), f_points, f_greatestPressure, f_everLive, f_registers, f_usedRegisters, f_placedBlocks, f_codeSize, f_current, f_returned, f_outSize, a_blockStart, a_blockPhis, a_blockItems, a_termKind, a_termValue, a_termFirst, a_termSecond, a_itemKind, a_itemA, a_itemB, a_itemBlock, (upd a_edgeFrom E (nI s)), (upd a_edgeTo E (nI t)), (upd a_edgeOrder E (a_incoming t)), a_edgeArgs, a_edgeSets, a_edgeBegin, a_edgeEnd, (upd a_incoming t (a_incoming t + 1)), a_dominators, a_depth, a_parent, a_pointBase, a_pointBlock, a_pointItem, a_pointUses, a_live, a_distance, a_neighbours, a_colour, a_inRegisters, a_location, a_hint, a_taken, a_moveSource, a_moveReaders, a_codeTo, a_codeFrom, a_codeSwap, a_codeBegin, a_codeEnd, a_outLog, a_params, a_cells)) : wpX_addEdge post (f_phiKind, f_jumpKind, f_branchKind, f_retKind, f_far, f_registerEnd, f_firstSlot, f_cellEnd, f_edgeCode, f_blockLimit, f_itemLimit, f_outLimit, f_stage, f_open, (nI (ca_B P)), (nI (ca_N P)), (nI E), f_points, f_greatestPressure, f_everLive, f_registers, f_usedRegisters, f_placedBlocks, f_codeSize, f_current, f_returned, f_outSize, a_blockStart, a_blockPhis, a_blockItems, a_termKind, a_termValue, a_termFirst, a_termSecond, a_itemKind, a_itemA, a_itemB, a_itemBlock, a_edgeFrom, a_edgeTo, a_edgeOrder, a_edgeArgs, a_edgeSets, a_edgeBegin, a_edgeEnd, a_incoming, a_dominators, a_depth, a_parent, a_pointBase, a_pointBlock, a_pointItem, a_pointUses, a_live, a_distance, a_neighbours, a_colour, a_inRegisters, a_location, a_hint, a_taken, a_moveSource, a_moveReaders, a_codeTo, a_codeFrom, a_codeSwap, a_codeBegin, a_codeEnd, a_outLog, a_params, a_cells) (nI s) p1 := by
  subst hp
  exact ca_vi (ca_wr (ca_vi (ca_wr (ca_vi (ca_vi (ca_wx E rfl (ca_r rfl) (ca_vi (ca_vi (ca_wx t rfl (congrArg (· + 1) (ca_r rfl)) (ca_in K))))))))))
theorem xl_be28 {post : SX → Prop} (hW : ca_WF P) (hF : ca_TF P (ca_B P)) (hA : ca_AT P (ca_B P) a_termKind a_termValue a_termFirst a_termSecond) (hi0 : ∀ t, t < 8 → a_incoming t = 0) (K : ∀ ef et eo eb ee inc, ca_AE P ef et eo → ca_AG P eb ee → ca_AI P inc → post (f_phiKind, f_jumpKind, f_branchKind, f_retKind, f_far, f_registerEnd, f_firstSlot, f_cellEnd, f_edgeCode, f_blockLimit, f_itemLimit, f_outLimit, f_stage, f_open, (nI (ca_B P)), (nI (ca_N P)), (nI (ca_E P)), f_points, f_greatestPressure, f_everLive, f_registers, f_usedRegisters, f_placedBlocks, f_codeSize, f_current, f_returned, f_outSize, a_blockStart, a_blockPhis, a_blockItems, a_termKind, a_termValue, a_termFirst, a_termSecond, a_itemKind, a_itemA, a_itemB, a_itemBlock, ef, et, eo, a_edgeArgs, a_edgeSets, eb, ee, inc, a_dominators, a_depth, a_parent, a_pointBase, a_pointBlock, a_pointItem, a_pointUses, a_live, a_distance, a_neighbours, a_colour, a_inRegisters, a_location, a_hint, a_taken, a_moveSource, a_moveReaders, a_codeTo, a_codeFrom, a_codeSwap, a_codeBegin, a_codeEnd, a_outLog, a_params, a_cells)) : ∃ n, wX_buildEdges_28 post n 0 f_phiKind f_jumpKind f_branchKind f_retKind f_far f_registerEnd f_firstSlot f_cellEnd f_edgeCode f_blockLimit f_itemLimit f_outLimit f_stage f_open (nI (ca_B P)) (nI (ca_N P)) 0 f_points f_greatestPressure f_everLive f_registers f_usedRegisters f_placedBlocks f_codeSize f_current f_returned f_outSize a_blockStart a_blockPhis a_blockItems a_termKind a_termValue a_termFirst a_termSecond a_itemKind a_itemA a_itemB a_itemBlock a_edgeFrom a_edgeTo a_edgeOrder a_edgeArgs a_edgeSets a_edgeBegin a_edgeEnd a_incoming a_dominators a_depth a_parent a_pointBase a_pointBlock a_pointItem a_pointUses a_live a_distance a_neighbours a_colour a_inRegisters a_location a_hint a_taken a_moveSource a_moveReaders a_codeTo a_codeFrom a_codeSwap a_codeBegin a_codeEnd a_outLog a_params a_cells := by
  have hB := ca_wB hW
  refine ca_loop (σ := Int32 × (Nat → Int32) × (Nat → Int32) × (Nat → Int32) × (Nat → Int32) × (Nat → Int32) × (Nat → Int32)) (fun n i s => wX_buildEdges_28 post n (nI i) f_phiKind f_jumpKind f_branchKind f_retKind f_far f_registerEnd f_firstSlot f_cellEnd f_edgeCode f_blockLimit f_itemLimit f_outLimit f_stage f_open (nI (ca_B P)) (nI (ca_N P)) s.1 f_points f_greatestPressure f_everLive f_registers f_usedRegisters f_placedBlocks f_codeSize f_current f_returned f_outSize a_blockStart a_blockPhis a_blockItems a_termKind a_termValue a_termFirst a_termSecond a_itemKind a_itemA a_itemB a_itemBlock s.2.1 s.2.2.1 s.2.2.2.1 a_edgeArgs a_edgeSets s.2.2.2.2.1 s.2.2.2.2.2.1 s.2.2.2.2.2.2 a_dominators a_depth a_parent a_pointBase a_pointBlock a_pointItem a_pointUses a_live a_distance a_neighbours a_colour a_inRegisters a_location a_hint a_taken a_moveSource a_moveReaders a_codeTo a_codeFrom a_codeSwap a_codeBegin a_codeEnd a_outLog a_params a_cells) (fun i s => s.1 = nI (ca_xe P (2 * i)) ∧ ca_EN P (2 * i) s.2.1 s.2.2.1 s.2.2.2.1 ∧ ca_GN P i s.2.2.2.2.1 s.2.2.2.2.2.1 ∧ ca_IN P (2 * i) s.2.2.2.2.2.2) 0 (ca_B P) (by omega) (0, a_edgeFrom, a_edgeTo, a_edgeOrder, a_edgeBegin, a_edgeEnd, a_incoming) ?_ ?_ ?_
  · exact ⟨rfl, fun e he => by omega, fun s hs => by omega, fun t ht => hi0 t ht⟩
  · rintro n ⟨E, ef, et, eo, eb, ee, inc⟩ ⟨h1, h2, h3, h4⟩
    dsimp only at h1 h2 h3 h4
    subst h1
    exact br_t (nI_le (Nat.le_refl _) (by omega)) (K ef et eo eb ee inc (fun e he => h2 e (ca_elt he) he) h3 h4)
  · rintro n i ⟨E, ef, et, eo, eb, ee, inc⟩ _ hi ⟨h1, h2, h3, h4⟩ ih
    dsimp only at h1 h2 h3 h4
    subst h1
    have hA' := hA i hi
    have hF' := hF i hi
    have x0 : ca_xe P (2 * i) ≤ 2 * i := ca_cn_le _ _
    have x1 : ca_xe P (2 * i + 1) ≤ 2 * i + 1 := ca_cn_le _ _
    have x2 : ca_xe P (2 * i + 2) ≤ 2 * i + 2 := ca_cn_le _ _
    have k88 : ∀ ef et eo inc, ca_EN P (2 * i + 2) ef et eo → ca_IN P (2 * i + 2) inc → wX_buildEdges_88 post (wX_buildEdges_28 post n) (nI i) f_phiKind f_jumpKind f_branchKind f_retKind f_far f_registerEnd f_firstSlot f_cellEnd f_edgeCode f_blockLimit f_itemLimit f_outLimit f_stage f_open (nI (ca_B P)) (nI (ca_N P)) (nI (ca_xe P (2 * i + 2))) f_points f_greatestPressure f_everLive f_registers f_usedRegisters f_placedBlocks f_codeSize f_current f_returned f_outSize a_blockStart a_blockPhis a_blockItems a_termKind a_termValue a_termFirst a_termSecond a_itemKind a_itemA a_itemB a_itemBlock ef et eo a_edgeArgs a_edgeSets (upd eb i (nI (ca_xe P (2 * i)))) ee inc a_dominators a_depth a_parent a_pointBase a_pointBlock a_pointItem a_pointUses a_live a_distance a_neighbours a_colour a_inRegisters a_location a_hint a_taken a_moveSource a_moveReaders a_codeTo a_codeFrom a_codeSwap a_codeBegin a_codeEnd a_outLog a_params a_cells := by
      intro ef et eo inc g1 g2
      refine ca_vi (ca_wr (ca_in (ih (nI (ca_xe P (2 * i + 2)), ef, et, eo, upd eb i (nI (ca_xe P (2 * i))), upd ee i (nI (ca_xe P (2 * i + 2))), inc) ⟨rfl, g1, ?_, g2⟩)))
      intro s hs
      show upd eb i _ s = _ ∧ upd ee i _ s = _
      by_cases z : s = i
      · subst z; exact ⟨pk_us, pk_us⟩
      · rw [pk_un z, pk_un z]; exact h3 s (by omega)
    have k67 : ∀ ef et eo inc, ca_EN P (2 * i + 1) ef et eo → ca_IN P (2 * i + 1) inc → wX_buildEdges_67 post (wX_buildEdges_28 post n) (nI i) f_phiKind f_jumpKind f_branchKind f_retKind f_far f_registerEnd f_firstSlot f_cellEnd f_edgeCode f_blockLimit f_itemLimit f_outLimit f_stage f_open (nI (ca_B P)) (nI (ca_N P)) (nI (ca_xe P (2 * i + 1))) f_points f_greatestPressure f_everLive f_registers f_usedRegisters f_placedBlocks f_codeSize f_current f_returned f_outSize a_blockStart a_blockPhis a_blockItems a_termKind a_termValue a_termFirst a_termSecond a_itemKind a_itemA a_itemB a_itemBlock ef et eo a_edgeArgs a_edgeSets (upd eb i (nI (ca_xe P (2 * i)))) ee inc a_dominators a_depth a_parent a_pointBase a_pointBlock a_pointItem a_pointUses a_live a_distance a_neighbours a_colour a_inRegisters a_location a_hint a_taken a_moveSource a_moveReaders a_codeTo a_codeFrom a_codeSwap a_codeBegin a_codeEnd a_outLog a_params a_cells := by
      intro ef et eo inc g1 g2
      refine ca_vi (pk_eq (ca_tk P i) 1 (fun e1 => ?_) (fun e1 => ?_) (ca_r hA'.1))
      · have hE := (ca_isE1 (P := P) i).mpr ⟨hi, e1⟩
        refine ca_vi (xl_addEdge (E := ca_xe P (2 * i + 1)) (ca_r hA'.2.2.2) (by omega) hF'.2.2.2 ?_)
        have r1 := ca_ENs g1 hE
        have r2 := ca_INs g2 hE (by rw [ca_tg1]; exact hF'.2.2.2)
        rw [ca_tg1, show (2 * i + 1) / 2 = i by omega, show nI (ca_eno P (2 * i + 1)) = inc (ca_t2 P i) by rw [g2 _ hF'.2.2.2, ← ca_tg1]; rfl] at r1
        rw [ca_tg1] at r2
        have r3 := k88 _ _ _ _ r1 r2
        rw [ca_xes hE] at r3
        exact r3
      · have hE : ¬ ca_isE P (2 * i + 1) := fun z => e1 ((ca_isE1 i).mp z).2
        have r3 := k88 _ _ _ _ (ca_ENn g1 hE) (ca_INn g2 hE)
        rw [ca_xen hE] at r3
        exact r3
    refine br_f (nI_ge hi (by omega)) (ca_vi (ca_wr (ca_vi (pk_eq (ca_tk P i) 2 (fun e1 => ?_) (fun e1 => ?_) (ca_r hA'.1)))))
    · have hE : ¬ ca_isE P (2 * i) := fun z => ((ca_isE0 i).mp z).2 e1
      have r3 := k67 _ _ _ _ (ca_ENn h2 hE) (ca_INn h4 hE)
      rw [ca_xen hE] at r3
      exact r3
    · have hE := (ca_isE0 (P := P) i).mpr ⟨hi, e1⟩
      refine ca_vi (xl_addEdge (E := ca_xe P (2 * i)) (ca_r hA'.2.2.1) (by omega) hF'.2.2.1 ?_)
      have r1 := ca_ENs h2 hE
      have r2 := ca_INs h4 hE (by rw [ca_tg0]; exact hF'.2.2.1)
      rw [ca_tg0, show (2 * i) / 2 = i by omega, show nI (ca_eno P (2 * i)) = inc (ca_t1 P i) by rw [h4 _ hF'.2.2.1, ← ca_tg0]; rfl] at r1
      rw [ca_tg0] at r2
      have r3 := k67 _ _ _ _ r1 r2
      rw [ca_xes hE] at r3
      exact r3
theorem xl_buildEdges {post : SX → Prop} (hW : ca_WF P) (hF : ca_TF P (ca_B P)) (hA : ca_AT P (ca_B P) a_termKind a_termValue a_termFirst a_termSecond) (K : ∀ ef et eo eb ee inc, ca_AE P ef et eo → ca_AG P eb ee → ca_AI P inc → post (f_phiKind, f_jumpKind, f_branchKind, f_retKind, f_far, f_registerEnd, f_firstSlot, f_cellEnd, f_edgeCode, f_blockLimit, f_itemLimit, f_outLimit, f_stage, f_open, (nI (ca_B P)), (nI (ca_N P)), (nI (ca_E P)), f_points, f_greatestPressure, f_everLive, f_registers, f_usedRegisters, f_placedBlocks, f_codeSize, f_current, f_returned, f_outSize, a_blockStart, a_blockPhis, a_blockItems, a_termKind, a_termValue, a_termFirst, a_termSecond, a_itemKind, a_itemA, a_itemB, a_itemBlock, ef, et, eo, a_edgeArgs, a_edgeSets, eb, ee, inc, a_dominators, a_depth, a_parent, a_pointBase, a_pointBlock, a_pointItem, a_pointUses, a_live, a_distance, a_neighbours, a_colour, a_inRegisters, a_location, a_hint, a_taken, a_moveSource, a_moveReaders, a_codeTo, a_codeFrom, a_codeSwap, a_codeBegin, a_codeEnd, a_outLog, a_params, a_cells)) : wpX_buildEdges post (f_phiKind, f_jumpKind, f_branchKind, f_retKind, f_far, f_registerEnd, f_firstSlot, f_cellEnd, f_edgeCode, f_blockLimit, f_itemLimit, f_outLimit, f_stage, f_open, (nI (ca_B P)), (nI (ca_N P)), f_edges, f_points, f_greatestPressure, f_everLive, f_registers, f_usedRegisters, f_placedBlocks, f_codeSize, f_current, f_returned, f_outSize, a_blockStart, a_blockPhis, a_blockItems, a_termKind, a_termValue, a_termFirst, a_termSecond, a_itemKind, a_itemA, a_itemB, a_itemBlock, a_edgeFrom, a_edgeTo, a_edgeOrder, a_edgeArgs, a_edgeSets, a_edgeBegin, a_edgeEnd, a_incoming, a_dominators, a_depth, a_parent, a_pointBase, a_pointBlock, a_pointItem, a_pointUses, a_live, a_distance, a_neighbours, a_colour, a_inRegisters, a_location, a_hint, a_taken, a_moveSource, a_moveReaders, a_codeTo, a_codeFrom, a_codeSwap, a_codeBegin, a_codeEnd, a_outLog, a_params, a_cells) := by
  refine ca_loop (fun n i (s : Nat → Int32) => wX_buildEdges_7 post f_phiKind f_jumpKind f_branchKind f_retKind f_far f_registerEnd f_firstSlot f_cellEnd f_edgeCode f_blockLimit f_itemLimit f_outLimit f_stage f_open (nI (ca_B P)) (nI (ca_N P)) 0 f_points f_greatestPressure f_everLive f_registers f_usedRegisters f_placedBlocks f_codeSize f_current f_returned f_outSize n (nI i) a_blockStart a_blockPhis a_blockItems a_termKind a_termValue a_termFirst a_termSecond a_itemKind a_itemA a_itemB a_itemBlock a_edgeFrom a_edgeTo a_edgeOrder a_edgeArgs a_edgeSets a_edgeBegin a_edgeEnd s a_dominators a_depth a_parent a_pointBase a_pointBlock a_pointItem a_pointUses a_live a_distance a_neighbours a_colour a_inRegisters a_location a_hint a_taken a_moveSource a_moveReaders a_codeTo a_codeFrom a_codeSwap a_codeBegin a_codeEnd a_outLog a_params a_cells) (fun i s => ∀ t, t < i → s t = 0) 0 8 (by omega) a_incoming (fun t ht => by omega) ?_ ?_
  · intro n s hs
    exact br_t (nI_le (a := 8) (b := 8) (Nat.le_refl _) (by decide)) (xl_be28 hW hF hA hs K)
  · intro n i s _ hi hs ih
    refine br_f (nI_ge (b := 8) hi (by decide)) (ca_vi (ca_wr (ca_in (ih _ ?_))))
    intro t ht
    by_cases z : t = i
    · subst z; exact pk_us
    · rw [pk_un z]; exact hs t (by omega)
end
end
section
/-! X: reaching, dominators, strictness -/
section
variable {P : ca_PG}
variable {f_phiKind f_jumpKind f_branchKind f_retKind f_far f_registerEnd f_firstSlot f_cellEnd f_edgeCode f_blockLimit f_itemLimit f_outLimit f_stage f_open f_blocks f_items f_edges f_points f_greatestPressure f_everLive f_registers f_usedRegisters f_placedBlocks f_codeSize f_current f_returned f_outSize : Int32} {a_blockStart a_blockPhis a_blockItems a_termKind a_termValue a_termFirst a_termSecond a_itemKind a_itemA a_itemB a_itemBlock a_edgeFrom a_edgeTo a_edgeOrder a_edgeArgs a_edgeSets a_edgeBegin a_edgeEnd a_incoming a_dominators a_depth a_parent a_pointBase a_pointBlock a_pointItem a_pointUses a_live a_distance a_neighbours a_colour a_inRegisters a_location a_hint a_taken a_moveSource a_moveReaders a_codeTo a_codeFrom a_codeSwap a_codeBegin a_codeEnd a_outLog a_params a_cells : Nat → Int32}
theorem xl_allReachable {post : Int32 → Prop} (hW : ca_WF P) (hB0 : 0 < ca_B P) (hT : ca_TE P) (hE : ca_AE P a_edgeFrom a_edgeTo a_edgeOrder) (h1 : (∀ s, s < ca_B P → ca_Rc P 99 s) → post 1) (h0 : ¬ (∀ s, s < ca_B P → ca_Rc P 99 s) → post 0) : wpX_allReachable post (f_phiKind, f_jumpKind, f_branchKind, f_retKind, f_far, f_registerEnd, f_firstSlot, f_cellEnd, f_edgeCode, f_blockLimit, f_itemLimit, f_outLimit, f_stage, f_open, (nI (ca_B P)), (nI (ca_N P)), (nI (ca_E P)), f_points, f_greatestPressure, f_everLive, f_registers, f_usedRegisters, f_placedBlocks, f_codeSize, f_current, f_returned, f_outSize, a_blockStart, a_blockPhis, a_blockItems, a_termKind, a_termValue, a_termFirst, a_termSecond, a_itemKind, a_itemA, a_itemB, a_itemBlock, a_edgeFrom, a_edgeTo, a_edgeOrder, a_edgeArgs, a_edgeSets, a_edgeBegin, a_edgeEnd, a_incoming, a_dominators, a_depth, a_parent, a_pointBase, a_pointBlock, a_pointItem, a_pointUses, a_live, a_distance, a_neighbours, a_colour, a_inRegisters, a_location, a_hint, a_taken, a_moveSource, a_moveReaders, a_codeTo, a_codeFrom, a_codeSwap, a_codeBegin, a_codeEnd, a_outLog, a_params, a_cells) := by
  have hB := ca_wB hW
  have hE16 := ca_Ele (P := P) hB
  refine ca_loop (fun n r (m : Int32) => wX_allReachable_4 post f_phiKind f_jumpKind f_branchKind f_retKind f_far f_registerEnd f_firstSlot f_cellEnd f_edgeCode f_blockLimit f_itemLimit f_outLimit f_stage f_open (nI (ca_B P)) (nI (ca_N P)) (nI (ca_E P)) f_points f_greatestPressure f_everLive f_registers f_usedRegisters f_placedBlocks f_codeSize f_current f_returned f_outSize a_blockStart a_blockPhis a_blockItems a_termKind a_termValue a_termFirst a_termSecond a_itemKind a_itemA a_itemB a_itemBlock a_edgeFrom a_edgeTo a_edgeOrder a_edgeArgs a_edgeSets a_edgeBegin a_edgeEnd a_incoming a_dominators a_depth a_parent a_pointBase a_pointBlock a_pointItem a_pointUses a_live a_distance a_neighbours a_colour a_inRegisters a_location a_hint a_taken a_moveSource a_moveReaders a_codeTo a_codeFrom a_codeSwap a_codeBegin a_codeEnd a_outLog a_params a_cells n m (nI r)) (fun r m => (∀ y, bt m y = true → y < ca_B P ∧ ca_Rc P 99 y) ∧ (∀ y, ca_RA P 99 r y → bt m y = true)) 0 (ca_B P) (by omega) 1 ?_ ?_ ?_
  · refine ⟨fun y hy => ?_, fun y hy => ?_⟩
    · rw [(ca_b1i y).mp hy]
      exact ⟨hB0, 0, rfl, by omega⟩
    · rw [hy.1]; exact (ca_b1i 0).mpr rfl
  · intro n m ⟨hs, hc⟩
    refine br_t (nI_le (Nat.le_refl _) (by omega)) ?_
    by_cases hall : ∀ s, s < ca_B P → ca_Rc P 99 s
    · refine br_t (ca_bext fun i _ => ?_) (h1 hall)
      rw [ca_balli hB]
      exact ⟨fun z => (hs i z).1, fun z => hc i (ca_RAst hT hB0 (hall i z))⟩
    · refine br_f (fun e => hall fun s hss => ?_) (h0 hall)
      have : bt m s = true := by rw [e]; exact (ca_balli hB s).mpr hss
      exact (hs s this).2
  · intro n r m _ hr ⟨hs, hc⟩ ih
    refine br_f (nI_ge hr (by omega)) ?_
    refine ca_loop (fun k j (m : Int32) => wX_allReachable_14 post (wX_allReachable_4 post f_phiKind f_jumpKind f_branchKind f_retKind f_far f_registerEnd f_firstSlot f_cellEnd f_edgeCode f_blockLimit f_itemLimit f_outLimit f_stage f_open (nI (ca_B P)) (nI (ca_N P)) (nI (ca_E P)) f_points f_greatestPressure f_everLive f_registers f_usedRegisters f_placedBlocks f_codeSize f_current f_returned f_outSize a_blockStart a_blockPhis a_blockItems a_termKind a_termValue a_termFirst a_termSecond a_itemKind a_itemA a_itemB a_itemBlock a_edgeFrom a_edgeTo a_edgeOrder a_edgeArgs a_edgeSets a_edgeBegin a_edgeEnd a_incoming a_dominators a_depth a_parent a_pointBase a_pointBlock a_pointItem a_pointUses a_live a_distance a_neighbours a_colour a_inRegisters a_location a_hint a_taken a_moveSource a_moveReaders a_codeTo a_codeFrom a_codeSwap a_codeBegin a_codeEnd a_outLog a_params a_cells n) (nI r) f_phiKind f_jumpKind f_branchKind f_retKind f_far f_registerEnd f_firstSlot f_cellEnd f_edgeCode f_blockLimit f_itemLimit f_outLimit f_stage f_open (nI (ca_B P)) (nI (ca_N P)) (nI (ca_E P)) f_points f_greatestPressure f_everLive f_registers f_usedRegisters f_placedBlocks f_codeSize f_current f_returned f_outSize a_blockStart a_blockPhis a_blockItems a_termKind a_termValue a_termFirst a_termSecond a_itemKind a_itemA a_itemB a_itemBlock a_edgeFrom a_edgeTo a_edgeOrder a_edgeArgs a_edgeSets a_edgeBegin a_edgeEnd a_incoming a_dominators a_depth a_parent a_pointBase a_pointBlock a_pointItem a_pointUses a_live a_distance a_neighbours a_colour a_inRegisters a_location a_hint a_taken a_moveSource a_moveReaders a_codeTo a_codeFrom a_codeSwap a_codeBegin a_codeEnd a_outLog a_params a_cells k m (nI j)) (fun j m => (∀ y, bt m y = true → y < ca_B P ∧ ca_Rc P 99 y) ∧ (∀ y, ca_RA P 99 r y → bt m y = true) ∧ (∀ e, ca_isE P e → ca_xe P e < j → ca_RA P 99 r (e / 2) → bt m (ca_tg P e) = true)) 0 (ca_E P) (by omega) m ⟨hs, hc, fun e _ z => by omega⟩ ?_ ?_
    · intro k m ⟨g1, g2, g3⟩
      refine br_t (nI_le (Nat.le_refl _) (by omega)) (ca_in (ih m ⟨g1, fun y hy => ?_⟩))
      rcases hy with hy | ⟨e, e1, e2, _, e4⟩
      · exact g2 y hy
      · rw [← e2]; exact g3 e e1 (ca_exe e1) e4
    · intro k j m _ hj ⟨g1, g2, g3⟩ ih2
      obtain ⟨e, he, ej⟩ := ca_esur hj
      have hE' := hE e he
      rw [ej] at hE'
      have hb : e / 2 < ca_B P := he.1
      have ht := hT e he
      refine br_f (nI_ge hj (by omega)) (ca_vi (xl_has _ (ca_r hE'.1) (by omega) (fun hb1 => ?_) (fun hb0 => ?_)))
      · refine br_f (by decide) (ca_vi (nm_r (e' := m ||| ((1 : Int32) <<< (nI (ca_tg P e) &&& 31))) (by rw [ca_r hE'.2.1]) (ca_in (ih2 _ ⟨fun y hy => ?_, fun y hy => ?_, fun f hf hl hr2 => ?_⟩))))
        · rcases (ca_bset (by omega) y).mp hy with z | z
          · exact g1 y z
          · rw [z]
            refine ⟨ht, ?_⟩
            obtain ⟨q, hq⟩ := (g1 _ hb1).2
            exact ⟨q + 1, Or.inr ⟨e, he, rfl, by omega, hq⟩⟩
        · exact (ca_bset (by omega) y).mpr (Or.inl (g2 y hy))
        · by_cases z : ca_xe P f = j
          · have := ca_einj hf he (by omega)
            subst this
            exact (ca_bset (by omega) _).mpr (Or.inr rfl)
          · exact (ca_bset (by omega) _).mpr (Or.inl (g3 f hf (by omega) hr2))
      · refine br_t rfl (ca_in (ih2 m ⟨g1, g2, fun f hf hl hr2 => ?_⟩))
        by_cases z : ca_xe P f = j
        · have := ca_einj hf he (by omega)
          subst this
          exact absurd (g2 _ hr2) (ca_ff hb0)
        · exact g3 f hf (by omega) hr2
def ca_PF (P : ca_PG) : Prop := ∀ s, s < ca_B P → 0 < ca_bp P s → ca_inc P s (2 * ca_B P) = 2
theorem ca_incle {t : Nat} (hB : ca_B P ≤ 8) : ca_inc P t (2 * ca_B P) ≤ 16 := by
  have := ca_cn_le (fun x => ca_isE P x ∧ ca_tg P x = t) (2 * ca_B P)
  unfold ca_inc
  omega
theorem xl_phisFit {post : Int32 → Prop} (hW : ca_WF P) (hb : ca_AB P a_blockStart a_blockPhis a_blockItems) (hI : ca_AI P a_incoming) (h1 : ca_PF P → post 1) (h0 : ¬ ca_PF P → post 0) : wpX_phisFit post (f_phiKind, f_jumpKind, f_branchKind, f_retKind, f_far, f_registerEnd, f_firstSlot, f_cellEnd, f_edgeCode, f_blockLimit, f_itemLimit, f_outLimit, f_stage, f_open, (nI (ca_B P)), (nI (ca_N P)), (nI (ca_E P)), f_points, f_greatestPressure, f_everLive, f_registers, f_usedRegisters, f_placedBlocks, f_codeSize, f_current, f_returned, f_outSize, a_blockStart, a_blockPhis, a_blockItems, a_termKind, a_termValue, a_termFirst, a_termSecond, a_itemKind, a_itemA, a_itemB, a_itemBlock, a_edgeFrom, a_edgeTo, a_edgeOrder, a_edgeArgs, a_edgeSets, a_edgeBegin, a_edgeEnd, a_incoming, a_dominators, a_depth, a_parent, a_pointBase, a_pointBlock, a_pointItem, a_pointUses, a_live, a_distance, a_neighbours, a_colour, a_inRegisters, a_location, a_hint, a_taken, a_moveSource, a_moveReaders, a_codeTo, a_codeFrom, a_codeSwap, a_codeBegin, a_codeEnd, a_outLog, a_params, a_cells) := by
  have hB := ca_wB hW
  have hN := ca_wN hW
  refine ca_loop (σ := Unit) (fun n i _ => wX_phisFit_2 post f_phiKind f_jumpKind f_branchKind f_retKind f_far f_registerEnd f_firstSlot f_cellEnd f_edgeCode f_blockLimit f_itemLimit f_outLimit f_stage f_open (nI (ca_B P)) (nI (ca_N P)) (nI (ca_E P)) f_points f_greatestPressure f_everLive f_registers f_usedRegisters f_placedBlocks f_codeSize f_current f_returned f_outSize a_blockStart a_blockPhis a_blockItems a_termKind a_termValue a_termFirst a_termSecond a_itemKind a_itemA a_itemB a_itemBlock a_edgeFrom a_edgeTo a_edgeOrder a_edgeArgs a_edgeSets a_edgeBegin a_edgeEnd a_incoming a_dominators a_depth a_parent a_pointBase a_pointBlock a_pointItem a_pointUses a_live a_distance a_neighbours a_colour a_inRegisters a_location a_hint a_taken a_moveSource a_moveReaders a_codeTo a_codeFrom a_codeSwap a_codeBegin a_codeEnd a_outLog a_params a_cells n (nI i)) (fun i _ => ∀ s, s < i → 0 < ca_bp P s → ca_inc P s (2 * ca_B P) = 2) 0 (ca_B P) (by omega) () (fun s hs => by omega) ?_ ?_
  · intro n _ hI
    exact br_t (nI_le (Nat.le_refl _) (by omega)) (h1 hI)
  · intro n i _ _ hi hJ ih
    have hb' := hb i hi
    have hI' := hI i (by omega)
    have h3 := ca_wp hW hi
    have h4 := ca_wn hW hi
    have h5 := ca_incle (P := P) (t := i) hB
    refine br_f (nI_ge hi (by omega)) (ca_vi (pk_le (ca_bp P i) 0 (fun z => ?_) (fun z => ?_) (ca_r hb'.2.1)))
    · refine ca_in (ih () (fun s hs h => ?_))
      by_cases e : s = i
      · subst e; omega
      · exact hJ s (by omega) h
    · refine ca_vi (pk_eq (ca_inc P i (2 * ca_B P)) 2 (fun y => ?_) (fun y => ?_) (ca_r hI'))
      · refine ca_in (ih () (fun s hs h => ?_))
        by_cases e : s = i
        · subst e; exact y
        · exact hJ s (by omega) h
      · exact h0 (fun h => y (h i hi (by omega)))
theorem xl_commonDom {post : Int32 → Prop} {m : Int32} {s : Nat} (hW : ca_WF P) (hs : s < 8) (hT : ca_TE P) (hE : ca_AE P a_edgeFrom a_edgeTo a_edgeOrder) (K : ∀ r, (∀ x, bt r x = true ↔ bt m x = true ∧ ∀ e, ca_isE P e → ca_tg P e = s → bt (a_dominators (e / 2)) x = true) → post r) : wpX_commonDominators post (f_phiKind, f_jumpKind, f_branchKind, f_retKind, f_far, f_registerEnd, f_firstSlot, f_cellEnd, f_edgeCode, f_blockLimit, f_itemLimit, f_outLimit, f_stage, f_open, (nI (ca_B P)), (nI (ca_N P)), (nI (ca_E P)), f_points, f_greatestPressure, f_everLive, f_registers, f_usedRegisters, f_placedBlocks, f_codeSize, f_current, f_returned, f_outSize, a_blockStart, a_blockPhis, a_blockItems, a_termKind, a_termValue, a_termFirst, a_termSecond, a_itemKind, a_itemA, a_itemB, a_itemBlock, a_edgeFrom, a_edgeTo, a_edgeOrder, a_edgeArgs, a_edgeSets, a_edgeBegin, a_edgeEnd, a_incoming, a_dominators, a_depth, a_parent, a_pointBase, a_pointBlock, a_pointItem, a_pointUses, a_live, a_distance, a_neighbours, a_colour, a_inRegisters, a_location, a_hint, a_taken, a_moveSource, a_moveReaders, a_codeTo, a_codeFrom, a_codeSwap, a_codeBegin, a_codeEnd, a_outLog, a_params, a_cells) (nI s) m := by
  have hB := ca_wB hW
  have hE16 := ca_Ele (P := P) hB
  refine ca_loop (fun n j (r : Int32) => wX_commonDominators_5 post (nI s) f_phiKind f_jumpKind f_branchKind f_retKind f_far f_registerEnd f_firstSlot f_cellEnd f_edgeCode f_blockLimit f_itemLimit f_outLimit f_stage f_open (nI (ca_B P)) (nI (ca_N P)) (nI (ca_E P)) f_points f_greatestPressure f_everLive f_registers f_usedRegisters f_placedBlocks f_codeSize f_current f_returned f_outSize a_blockStart a_blockPhis a_blockItems a_termKind a_termValue a_termFirst a_termSecond a_itemKind a_itemA a_itemB a_itemBlock a_edgeFrom a_edgeTo a_edgeOrder a_edgeArgs a_edgeSets a_edgeBegin a_edgeEnd a_incoming a_dominators a_depth a_parent a_pointBase a_pointBlock a_pointItem a_pointUses a_live a_distance a_neighbours a_colour a_inRegisters a_location a_hint a_taken a_moveSource a_moveReaders a_codeTo a_codeFrom a_codeSwap a_codeBegin a_codeEnd a_outLog a_params a_cells n r (nI j)) (fun j r => ∀ x, bt r x = true ↔ bt m x = true ∧ ∀ e, ca_isE P e → ca_xe P e < j → ca_tg P e = s → bt (a_dominators (e / 2)) x = true) 0 (ca_E P) (by omega) m ?_ ?_ ?_
  · exact fun x => ⟨fun h => ⟨h, fun e _ z => by omega⟩, fun h => h.1⟩
  · intro n r hr
    refine br_t (nI_le (Nat.le_refl _) (by omega)) (K r fun x => ?_)
    rw [hr x]
    exact ⟨fun h => ⟨h.1, fun e he => h.2 e he (ca_exe he)⟩, fun h => ⟨h.1, fun e he _ => h.2 e he⟩⟩
  · intro n j r _ hj hr ih
    obtain ⟨e, he, ej⟩ := ca_esur hj
    have hE' := hE e he
    rw [ej] at hE'
    have hb : e / 2 < ca_B P := he.1
    have ht := hT e he
    refine br_f (nI_ge hj (by omega)) (ca_vi (pk_eq (ca_tg P e) s (fun z => ?_) (fun z => ?_) (ca_r hE'.2.1)))
    · refine ca_vi (ca_vx (e / 2) (ca_r hE'.1) (nm_r (e' := r &&& a_dominators (e / 2)) (by rw [ca_r hE'.1, nI_clamp (n := e / 2) (by omega)]) (ca_in (ih _ fun x => ?_))))
      rw [ca_band, hr x]
      constructor
      · rintro ⟨⟨a, b⟩, c⟩
        refine ⟨a, fun f hf hl ht => ?_⟩
        by_cases y : ca_xe P f = j
        · have := ca_einj hf he (by omega)
          subst this; exact c
        · exact b f hf (by omega) ht
      · rintro ⟨a, b⟩
        exact ⟨⟨a, fun f hf hl => b f hf (by omega)⟩, b e he (by omega) z⟩
    · refine ca_in (ih _ fun x => ?_)
      rw [hr x]
      constructor
      · rintro ⟨a, b⟩
        refine ⟨a, fun f hf hl ht2 => ?_⟩
        by_cases y : ca_xe P f = j
        · have := ca_einj hf he (by omega)
          subst this; exact absurd ht2 z
        · exact b f hf (by omega) ht2
      · rintro ⟨a, b⟩
        exact ⟨a, fun f hf hl => b f hf (by omega)⟩
theorem xl_findParents {post : SX → Prop} (hW : ca_WF P) (hD : ca_AD P a_dominators) (hp : ca_Adp P a_depth) (K : ∀ par, ca_Apr P par → post (f_phiKind, f_jumpKind, f_branchKind, f_retKind, f_far, f_registerEnd, f_firstSlot, f_cellEnd, f_edgeCode, f_blockLimit, f_itemLimit, f_outLimit, f_stage, f_open, (nI (ca_B P)), (nI (ca_N P)), (nI (ca_E P)), f_points, f_greatestPressure, f_everLive, f_registers, f_usedRegisters, f_placedBlocks, f_codeSize, f_current, f_returned, f_outSize, a_blockStart, a_blockPhis, a_blockItems, a_termKind, a_termValue, a_termFirst, a_termSecond, a_itemKind, a_itemA, a_itemB, a_itemBlock, a_edgeFrom, a_edgeTo, a_edgeOrder, a_edgeArgs, a_edgeSets, a_edgeBegin, a_edgeEnd, a_incoming, a_dominators, a_depth, par, a_pointBase, a_pointBlock, a_pointItem, a_pointUses, a_live, a_distance, a_neighbours, a_colour, a_inRegisters, a_location, a_hint, a_taken, a_moveSource, a_moveReaders, a_codeTo, a_codeFrom, a_codeSwap, a_codeBegin, a_codeEnd, a_outLog, a_params, a_cells)) : wpX_findParents post (f_phiKind, f_jumpKind, f_branchKind, f_retKind, f_far, f_registerEnd, f_firstSlot, f_cellEnd, f_edgeCode, f_blockLimit, f_itemLimit, f_outLimit, f_stage, f_open, (nI (ca_B P)), (nI (ca_N P)), (nI (ca_E P)), f_points, f_greatestPressure, f_everLive, f_registers, f_usedRegisters, f_placedBlocks, f_codeSize, f_current, f_returned, f_outSize, a_blockStart, a_blockPhis, a_blockItems, a_termKind, a_termValue, a_termFirst, a_termSecond, a_itemKind, a_itemA, a_itemB, a_itemBlock, a_edgeFrom, a_edgeTo, a_edgeOrder, a_edgeArgs, a_edgeSets, a_edgeBegin, a_edgeEnd, a_incoming, a_dominators, a_depth, a_parent, a_pointBase, a_pointBlock, a_pointItem, a_pointUses, a_live, a_distance, a_neighbours, a_colour, a_inRegisters, a_location, a_hint, a_taken, a_moveSource, a_moveReaders, a_codeTo, a_codeFrom, a_codeSwap, a_codeBegin, a_codeEnd, a_outLog, a_params, a_cells) := by
  have hB := ca_wB hW
  refine ca_loop (fun n i (s : Nat → Int32) => wX_findParents_2 post f_phiKind f_jumpKind f_branchKind f_retKind f_far f_registerEnd f_firstSlot f_cellEnd f_edgeCode f_blockLimit f_itemLimit f_outLimit f_stage f_open (nI (ca_B P)) (nI (ca_N P)) (nI (ca_E P)) f_points f_greatestPressure f_everLive f_registers f_usedRegisters f_placedBlocks f_codeSize f_current f_returned f_outSize n (nI i) a_blockStart a_blockPhis a_blockItems a_termKind a_termValue a_termFirst a_termSecond a_itemKind a_itemA a_itemB a_itemBlock a_edgeFrom a_edgeTo a_edgeOrder a_edgeArgs a_edgeSets a_edgeBegin a_edgeEnd a_incoming a_dominators a_depth s a_pointBase a_pointBlock a_pointItem a_pointUses a_live a_distance a_neighbours a_colour a_inRegisters a_location a_hint a_taken a_moveSource a_moveReaders a_codeTo a_codeFrom a_codeSwap a_codeBegin a_codeEnd a_outLog a_params a_cells) (fun i s => ∀ t, t < i → ∃ q, q < ca_B P ∧ s t = nI q ∧ (q = 0 ∨ ca_dp P q + 1 = ca_dp P t)) 0 (ca_B P) (by omega) a_parent (fun t ht => by omega) ?_ ?_
  · intro n s hs
    refine br_t (nI_le (Nat.le_refl _) (by omega)) (K s fun t h0 ht => ?_)
    obtain ⟨q, q1, q2, q3⟩ := hs t ht
    refine ⟨q, q1, q2, ?_⟩
    have := ca_dp2 (P := P) ht (by omega)
    rcases q3 with z | z
    · subst z
      rw [ca_dp0 (by omega)]; omega
    · omega
  · intro n i s _ hi hs ih
    have hD' := hD i hi
    have hpi := hp i hi
    have hd1 := ca_dp1 (P := P) hi
    have hd2 := ca_dpB (P := P) i
    refine br_f (nI_ge hi (by omega)) (ca_vi (ca_wr ?_))
    refine ca_loop (fun k j (s : Nat → Int32) => wX_findParents_19 post (wX_findParents_2 post f_phiKind f_jumpKind f_branchKind f_retKind f_far f_registerEnd f_firstSlot f_cellEnd f_edgeCode f_blockLimit f_itemLimit f_outLimit f_stage f_open (nI (ca_B P)) (nI (ca_N P)) (nI (ca_E P)) f_points f_greatestPressure f_everLive f_registers f_usedRegisters f_placedBlocks f_codeSize f_current f_returned f_outSize n) (nI i) f_phiKind f_jumpKind f_branchKind f_retKind f_far f_registerEnd f_firstSlot f_cellEnd f_edgeCode f_blockLimit f_itemLimit f_outLimit f_stage f_open (nI (ca_B P)) (nI (ca_N P)) (nI (ca_E P)) f_points f_greatestPressure f_everLive f_registers f_usedRegisters f_placedBlocks f_codeSize f_current f_returned f_outSize k (nI j) a_blockStart a_blockPhis a_blockItems a_termKind a_termValue a_termFirst a_termSecond a_itemKind a_itemA a_itemB a_itemBlock a_edgeFrom a_edgeTo a_edgeOrder a_edgeArgs a_edgeSets a_edgeBegin a_edgeEnd a_incoming a_dominators a_depth s a_pointBase a_pointBlock a_pointItem a_pointUses a_live a_distance a_neighbours a_colour a_inRegisters a_location a_hint a_taken a_moveSource a_moveReaders a_codeTo a_codeFrom a_codeSwap a_codeBegin a_codeEnd a_outLog a_params a_cells) (fun j s => ∀ t, t < i + 1 → ∃ q, q < ca_B P ∧ s t = nI q ∧ (q = 0 ∨ ca_dp P q + 1 = ca_dp P t)) 0 (ca_B P) (by omega) (upd s i 0) ?_ ?_ ?_
    · intro t ht
      by_cases z : t = i
      · subst z; exact ⟨0, by omega, pk_us, Or.inl rfl⟩
      · rw [pk_un z]; exact hs t (by omega)
    · intro k s hs
      exact br_t (nI_le (Nat.le_refl _) (by omega)) (ca_in (ih s hs))
    · intro k j s _ hj hs ih2
      have hpj := hp j hj
      have hd3 := ca_dpB (P := P) j
      refine br_f (nI_ge hj (by omega)) (ca_vi (xl_has _ rfl (by omega) (fun hb1 => ?_) (fun hb0 => ?_)))
      · refine br_f (by decide) (ca_vi (ca_vi (pk_eq (ca_dp P j) (ca_dp P i - 1) (fun z => ?_) (fun z => ?_) (ca_r hpj) ?_)))
        · refine ca_vi (ca_wr (ca_in (ih2 _ fun t ht => ?_)))
          by_cases y : t = i
          · subst y; exact ⟨j, hj, pk_us, Or.inr (by omega)⟩
          · rw [pk_un y]; exact hs t ht
        · exact ca_in (ih2 _ hs)
        · rw [ca_r hpi]
          exact pk_sub (b := 1) hd1
      · exact br_t rfl (ca_in (ih2 _ hs))
theorem xl_fd118 {post : SX → Prop} (hW : ca_WF P) (hD : ca_AD P a_dominators) (K : ∀ dep par, ca_Adp P dep → ca_Apr P par → post (f_phiKind, f_jumpKind, f_branchKind, f_retKind, f_far, f_registerEnd, f_firstSlot, f_cellEnd, f_edgeCode, f_blockLimit, f_itemLimit, f_outLimit, f_stage, f_open, (nI (ca_B P)), (nI (ca_N P)), (nI (ca_E P)), f_points, f_greatestPressure, f_everLive, f_registers, f_usedRegisters, f_placedBlocks, f_codeSize, f_current, f_returned, f_outSize, a_blockStart, a_blockPhis, a_blockItems, a_termKind, a_termValue, a_termFirst, a_termSecond, a_itemKind, a_itemA, a_itemB, a_itemBlock, a_edgeFrom, a_edgeTo, a_edgeOrder, a_edgeArgs, a_edgeSets, a_edgeBegin, a_edgeEnd, a_incoming, a_dominators, dep, par, a_pointBase, a_pointBlock, a_pointItem, a_pointUses, a_live, a_distance, a_neighbours, a_colour, a_inRegisters, a_location, a_hint, a_taken, a_moveSource, a_moveReaders, a_codeTo, a_codeFrom, a_codeSwap, a_codeBegin, a_codeEnd, a_outLog, a_params, a_cells)) : ∃ n, wX_findDominators_118 post f_phiKind f_jumpKind f_branchKind f_retKind f_far f_registerEnd f_firstSlot f_cellEnd f_edgeCode f_blockLimit f_itemLimit f_outLimit f_stage f_open (nI (ca_B P)) (nI (ca_N P)) (nI (ca_E P)) f_points f_greatestPressure f_everLive f_registers f_usedRegisters f_placedBlocks f_codeSize f_current f_returned f_outSize n 0 a_blockStart a_blockPhis a_blockItems a_termKind a_termValue a_termFirst a_termSecond a_itemKind a_itemA a_itemB a_itemBlock a_edgeFrom a_edgeTo a_edgeOrder a_edgeArgs a_edgeSets a_edgeBegin a_edgeEnd a_incoming a_dominators a_depth a_parent a_pointBase a_pointBlock a_pointItem a_pointUses a_live a_distance a_neighbours a_colour a_inRegisters a_location a_hint a_taken a_moveSource a_moveReaders a_codeTo a_codeFrom a_codeSwap a_codeBegin a_codeEnd a_outLog a_params a_cells := by
  have hB := ca_wB hW
  refine ca_loop (fun n i (s : Nat → Int32) => wX_findDominators_118 post f_phiKind f_jumpKind f_branchKind f_retKind f_far f_registerEnd f_firstSlot f_cellEnd f_edgeCode f_blockLimit f_itemLimit f_outLimit f_stage f_open (nI (ca_B P)) (nI (ca_N P)) (nI (ca_E P)) f_points f_greatestPressure f_everLive f_registers f_usedRegisters f_placedBlocks f_codeSize f_current f_returned f_outSize n (nI i) a_blockStart a_blockPhis a_blockItems a_termKind a_termValue a_termFirst a_termSecond a_itemKind a_itemA a_itemB a_itemBlock a_edgeFrom a_edgeTo a_edgeOrder a_edgeArgs a_edgeSets a_edgeBegin a_edgeEnd a_incoming a_dominators s a_parent a_pointBase a_pointBlock a_pointItem a_pointUses a_live a_distance a_neighbours a_colour a_inRegisters a_location a_hint a_taken a_moveSource a_moveReaders a_codeTo a_codeFrom a_codeSwap a_codeBegin a_codeEnd a_outLog a_params a_cells) (fun i s => ∀ t, t < i → s t = nI (ca_dp P t)) 0 (ca_B P) (by omega) a_depth (fun t ht => by omega) ?_ ?_
  · intro n s hs
    exact br_t (nI_le (Nat.le_refl _) (by omega)) (xl_findParents hW hD hs (fun par hpar => K s par hs hpar))
  · intro n i s _ hi hs ih
    refine br_f (nI_ge hi (by omega)) (ca_vi (xl_countBits _ (ca_vi (ca_wx i rfl (w := nI (ca_dp P i)) ?_ (ca_in (ih _ fun t ht => ?_))))))
    · congr 1
      unfold ca_dp
      rw [← ca_cnlt (Q := fun x => ca_Dm P x i) (b := ca_B P) (n := 32) (by omega)]
      refine ca_cn_eq fun k _ => ?_
      rw [nI_clamp (n := i) (by omega)]
      exact hD i hi k
    · by_cases z : t = i
      · subst z; exact pk_us
      · rw [pk_un z]; exact hs t (by omega)
def ca_DS (P : ca_PG) (dom : Nat → Int32) : Prop := (∀ x, bt (dom 0) x = true ↔ x = 0) ∧ ∀ s, s < ca_B P → ∀ x, (bt (dom s) x = true → x < ca_B P) ∧ (x < ca_B P → ca_Dm P x s → bt (dom s) x = true)
def ca_DC (P : ca_PG) (r : Nat) (dom : Nat → Int32) : Prop := ∀ s, s < ca_B P → ∀ x, bt (dom s) x = true → ¬ ca_RA P x r s
def ca_FX (P : ca_PG) (n : Nat) (dom : Nat → Int32) : Prop := ∀ s, 1 ≤ s → s < n → ∀ x, bt (dom s) x = true → x = s ∨ ∀ e, ca_isE P e → ca_tg P e = s → bt (dom (e / 2)) x = true
theorem ca_FXall {dom : Nat → Int32} (h0 : ca_DS P dom) (h : ca_FX P (ca_B P) dom) (k : Nat) : ca_DC P k dom := by
  induction k with
  | zero =>
    intro s hs x hx hr
    have := hr.1
    subst this
    exact hr.2 ((h0.1 x).mp hx)
  | succ k ih =>
    intro s hs x hx hr
    rcases hr with hr | ⟨e, e1, e2, e3, e4⟩
    · exact ih s hs x hx hr
    · by_cases z : s = 0
      · subst z
        exact e3 ((h0.1 x).mp hx).symm
      · rcases h s (by omega) hs x hx with y | y
        · exact e3 y.symm
        · exact ih (e / 2) e1.1 x (y e e1 e2) e4
theorem ca_DCfin {dom : Nat → Int32} (hT : ca_TE P) (hB0 : 0 < ca_B P) (h0 : ca_DS P dom) {k : Nat} (hk : ca_B P ≤ k) (h : ca_DC P k dom) : ca_AD P dom := by
  intro s hs x
  refine ⟨fun hx => ⟨((h0.2 s hs x).1 hx), fun hr => ?_⟩, fun hx => (h0.2 s hs x).2 hx.1 hx.2⟩
  exact h s hs x hx (ca_RAup hk (ca_RAst hT hB0 hr))
theorem xl_fd43 {post : SX → Prop} (hW : ca_WF P) (hB0 : 0 < ca_B P) (hT : ca_TE P) (hE : ca_AE P a_edgeFrom a_edgeTo a_edgeOrder) (hD : ca_DS P a_dominators) (hC : ca_DC P 0 a_dominators) (K : ∀ dom dep par, ca_AD P dom → ca_Adp P dep → ca_Apr P par → post (f_phiKind, f_jumpKind, f_branchKind, f_retKind, f_far, f_registerEnd, f_firstSlot, f_cellEnd, f_edgeCode, f_blockLimit, f_itemLimit, f_outLimit, f_stage, f_open, (nI (ca_B P)), (nI (ca_N P)), (nI (ca_E P)), f_points, f_greatestPressure, f_everLive, f_registers, f_usedRegisters, f_placedBlocks, f_codeSize, f_current, f_returned, f_outSize, a_blockStart, a_blockPhis, a_blockItems, a_termKind, a_termValue, a_termFirst, a_termSecond, a_itemKind, a_itemA, a_itemB, a_itemBlock, a_edgeFrom, a_edgeTo, a_edgeOrder, a_edgeArgs, a_edgeSets, a_edgeBegin, a_edgeEnd, a_incoming, dom, dep, par, a_pointBase, a_pointBlock, a_pointItem, a_pointUses, a_live, a_distance, a_neighbours, a_colour, a_inRegisters, a_location, a_hint, a_taken, a_moveSource, a_moveReaders, a_codeTo, a_codeFrom, a_codeSwap, a_codeBegin, a_codeEnd, a_outLog, a_params, a_cells)) : ∃ n, wX_findDominators_43 post (((1 : Int32) <<< (nI (ca_B P) &&& 31)) - 1) f_phiKind f_jumpKind f_branchKind f_retKind f_far f_registerEnd f_firstSlot f_cellEnd f_edgeCode f_blockLimit f_itemLimit f_outLimit f_stage f_open (nI (ca_B P)) (nI (ca_N P)) (nI (ca_E P)) f_points f_greatestPressure f_everLive f_registers f_usedRegisters f_placedBlocks f_codeSize f_current f_returned f_outSize n 1 0 a_blockStart a_blockPhis a_blockItems a_termKind a_termValue a_termFirst a_termSecond a_itemKind a_itemA a_itemB a_itemBlock a_edgeFrom a_edgeTo a_edgeOrder a_edgeArgs a_edgeSets a_edgeBegin a_edgeEnd a_incoming a_dominators a_depth a_parent a_pointBase a_pointBlock a_pointItem a_pointUses a_live a_distance a_neighbours a_colour a_inRegisters a_location a_hint a_taken a_moveSource a_moveReaders a_codeTo a_codeFrom a_codeSwap a_codeBegin a_codeEnd a_outLog a_params a_cells := by
  have hB := ca_wB hW
  refine ca_loop (σ := Int32 × (Nat → Int32)) (fun n r s => wX_findDominators_43 post (((1 : Int32) <<< (nI (ca_B P) &&& 31)) - 1) f_phiKind f_jumpKind f_branchKind f_retKind f_far f_registerEnd f_firstSlot f_cellEnd f_edgeCode f_blockLimit f_itemLimit f_outLimit f_stage f_open (nI (ca_B P)) (nI (ca_N P)) (nI (ca_E P)) f_points f_greatestPressure f_everLive f_registers f_usedRegisters f_placedBlocks f_codeSize f_current f_returned f_outSize n s.1 (nI r) a_blockStart a_blockPhis a_blockItems a_termKind a_termValue a_termFirst a_termSecond a_itemKind a_itemA a_itemB a_itemBlock a_edgeFrom a_edgeTo a_edgeOrder a_edgeArgs a_edgeSets a_edgeBegin a_edgeEnd a_incoming s.2 a_depth a_parent a_pointBase a_pointBlock a_pointItem a_pointUses a_live a_distance a_neighbours a_colour a_inRegisters a_location a_hint a_taken a_moveSource a_moveReaders a_codeTo a_codeFrom a_codeSwap a_codeBegin a_codeEnd a_outLog a_params a_cells) (fun r s => ca_DS P s.2 ∧ ca_DC P r s.2 ∧ (s.1 = 0 → ca_AD P s.2)) 0 64 (by omega) (1, a_dominators) ⟨hD, hC, fun z => absurd z ca_10⟩ ?_ ?_
  · rintro n ⟨c, dom⟩ ⟨g1, g2, g3⟩
    exact br_t (nI_le (a := 64) (b := 64) (Nat.le_refl _) (by decide)) (xl_fd118 hW (ca_DCfin hT hB0 g1 (by omega) g2) (fun dep par => K dom dep par (ca_DCfin hT hB0 g1 (by omega) g2)))
  · rintro n r ⟨c, dom⟩ _ hr ⟨g1, g2, g3⟩ ih
    dsimp only at g1 g2 g3
    refine br_f (nI_ge (b := 64) hr (by decide)) (br_c (fun z => xl_fd118 hW (g3 z) (fun dep par => K dom dep par (g3 z))) (fun _ => ?_))
    refine ca_loop (σ := Int32 × (Nat → Int32)) (fun k i s => wX_findDominators_58 post (wX_findDominators_43 post (((1 : Int32) <<< (nI (ca_B P) &&& 31)) - 1) f_phiKind f_jumpKind f_branchKind f_retKind f_far f_registerEnd f_firstSlot f_cellEnd f_edgeCode f_blockLimit f_itemLimit f_outLimit f_stage f_open (nI (ca_B P)) (nI (ca_N P)) (nI (ca_E P)) f_points f_greatestPressure f_everLive f_registers f_usedRegisters f_placedBlocks f_codeSize f_current f_returned f_outSize n) (((1 : Int32) <<< (nI (ca_B P) &&& 31)) - 1) (nI r) f_phiKind f_jumpKind f_branchKind f_retKind f_far f_registerEnd f_firstSlot f_cellEnd f_edgeCode f_blockLimit f_itemLimit f_outLimit f_stage f_open (nI (ca_B P)) (nI (ca_N P)) (nI (ca_E P)) f_points f_greatestPressure f_everLive f_registers f_usedRegisters f_placedBlocks f_codeSize f_current f_returned f_outSize k s.1 (nI i) a_blockStart a_blockPhis a_blockItems a_termKind a_termValue a_termFirst a_termSecond a_itemKind a_itemA a_itemB a_itemBlock a_edgeFrom a_edgeTo a_edgeOrder a_edgeArgs a_edgeSets a_edgeBegin a_edgeEnd a_incoming s.2 a_depth a_parent a_pointBase a_pointBlock a_pointItem a_pointUses a_live a_distance a_neighbours a_colour a_inRegisters a_location a_hint a_taken a_moveSource a_moveReaders a_codeTo a_codeFrom a_codeSwap a_codeBegin a_codeEnd a_outLog a_params a_cells) (fun i s => ca_DS P s.2 ∧ ca_DC P r s.2 ∧ (∀ t, 1 ≤ t → t < i → ∀ x, bt (s.2 t) x = true → ¬ ca_RA P x (r + 1) t) ∧ (s.1 = 0 → ca_FX P i s.2)) 1 (ca_B P) (by omega) (0, dom) ⟨g1, g2, fun t h1 h2 => by omega, fun _ t h1 h2 => by omega⟩ ?_ ?_
    · rintro k ⟨c, dom⟩ ⟨g1, g2, g3, g4⟩
      dsimp only at g1 g2 g3 g4
      refine br_t (nI_le (Nat.le_refl _) (by omega)) (ca_in (ih (c, dom) ⟨g1, fun s hs x hx => ?_, fun z => ca_DCfin hT hB0 g1 (Nat.le_refl _) (ca_FXall g1 (g4 z) _)⟩))
      by_cases y : s = 0
      · subst y
        rw [(g1.1 x).mp hx]
        exact ca_RA0
      · exact g3 s (by omega) hs x hx
    · rintro k i ⟨c, dom⟩ hi1 hi ⟨g1, g2, g3, g4⟩ ih2
      dsimp only at g1 g2 g3 g4
      refine br_f (nI_ge hi (by omega)) (xl_commonDom hW (by omega) hT hE (fun m hm => nm_e (ca_vi ?_)))
      have mk : ∀ x, bt (m ||| ((1 : Int32) <<< (nI i &&& 31))) x = true ↔ (x < ca_B P ∧ ∀ e, ca_isE P e → ca_tg P e = i → bt (dom (e / 2)) x = true) ∨ x = i := by
        intro x
        rw [ca_bset (by omega), hm x, ca_balli hB]
      have snd : ∀ x, x < ca_B P → ca_Dm P x i → bt (m ||| ((1 : Int32) <<< (nI i &&& 31))) x = true := by
        intro x hx hd
        rw [mk x]
        by_cases z : x = i
        · exact Or.inr z
        · refine Or.inl ⟨hx, fun e e1 e2 => (g1.2 (e / 2) e1.1 x).2 hx (fun ⟨q, hq⟩ => hd ⟨q + 1, Or.inr ⟨e, e1, e2, fun y => z y.symm, hq⟩⟩)⟩
      have cmp : ∀ x, bt (m ||| ((1 : Int32) <<< (nI i &&& 31))) x = true → ¬ ca_RA P x (r + 1) i := by
        intro x hx hr2
        rcases (mk x).mp hx with z | z
        · obtain ⟨e, e1, e2, e3, j, e4, e5⟩ := ca_RAe hr2 (by omega)
          exact g2 (e / 2) e1.1 x (z.2 e e1 e2) (ca_RAup (by omega) e5)
        · subst z
          exact ca_RAx (by omega) hr2
      rw [nI_clamp (n := i) (by omega)]
      refine br_c (fun z => ?_) (fun z => ?_)
      · refine ca_in (ih2 (c, dom) ⟨g1, g2, fun t h1 h2 x hx => ?_, fun y t h1 h2 x hx => ?_⟩)
        · by_cases e : t = i
          · subst e
            exact cmp x (by rw [z]; exact hx)
          · exact g3 t h1 (by omega) x hx
        · by_cases e : t = i
          · subst e
            rcases (mk x).mp (by rw [z]; exact hx) with w | w
            · exact Or.inr w.2
            · exact Or.inl w
          · exact g4 y t h1 (by omega) x hx
      · refine ca_vi (nm_e (ca_in (ih2 (1, upd dom i (m ||| ((1 : Int32) <<< (nI i &&& 31)))) ⟨⟨?_, fun t ht x => ?_⟩, fun t ht x hx => ?_, fun t h1 h2 x hx => ?_, fun y => absurd y ca_10⟩)))
        · intro x
          show bt (upd dom i _ 0) x = true ↔ _
          rw [pk_un (by omega)]
          exact g1.1 x
        · show (bt (upd dom i _ t) x = true → _) ∧ (_ → _ → bt (upd dom i _ t) x = true)
          by_cases e : t = i
          · subst e
            rw [pk_us]
            refine ⟨fun hx => ?_, snd x⟩
            rcases (mk x).mp hx with w | w
            · exact w.1
            · omega
          · rw [pk_un e]; exact g1.2 t ht x
        · have hx : bt (upd dom i _ t) x = true := hx
          by_cases e : t = i
          · subst e
            rw [pk_us] at hx
            exact fun hr2 => cmp x hx (ca_RAup (by omega) hr2)
          · rw [pk_un e] at hx; exact g2 t ht x hx
        · have hx : bt (upd dom i _ t) x = true := hx
          by_cases e : t = i
          · subst e
            rw [pk_us] at hx
            exact cmp x hx
          · rw [pk_un e] at hx; exact g3 t h1 (by omega) x hx
theorem xl_findDominators {post : SX → Prop} (hW : ca_WF P) (hB0 : 0 < ca_B P) (hT : ca_TE P) (hE : ca_AE P a_edgeFrom a_edgeTo a_edgeOrder) (K : ∀ dom dep par, ca_AD P dom → ca_Adp P dep → ca_Apr P par → post (f_phiKind, f_jumpKind, f_branchKind, f_retKind, f_far, f_registerEnd, f_firstSlot, f_cellEnd, f_edgeCode, f_blockLimit, f_itemLimit, f_outLimit, f_stage, f_open, (nI (ca_B P)), (nI (ca_N P)), (nI (ca_E P)), f_points, f_greatestPressure, f_everLive, f_registers, f_usedRegisters, f_placedBlocks, f_codeSize, f_current, f_returned, f_outSize, a_blockStart, a_blockPhis, a_blockItems, a_termKind, a_termValue, a_termFirst, a_termSecond, a_itemKind, a_itemA, a_itemB, a_itemBlock, a_edgeFrom, a_edgeTo, a_edgeOrder, a_edgeArgs, a_edgeSets, a_edgeBegin, a_edgeEnd, a_incoming, dom, dep, par, a_pointBase, a_pointBlock, a_pointItem, a_pointUses, a_live, a_distance, a_neighbours, a_colour, a_inRegisters, a_location, a_hint, a_taken, a_moveSource, a_moveReaders, a_codeTo, a_codeFrom, a_codeSwap, a_codeBegin, a_codeEnd, a_outLog, a_params, a_cells)) : wpX_findDominators post (f_phiKind, f_jumpKind, f_branchKind, f_retKind, f_far, f_registerEnd, f_firstSlot, f_cellEnd, f_edgeCode, f_blockLimit, f_itemLimit, f_outLimit, f_stage, f_open, (nI (ca_B P)), (nI (ca_N P)), (nI (ca_E P)), f_points, f_greatestPressure, f_everLive, f_registers, f_usedRegisters, f_placedBlocks, f_codeSize, f_current, f_returned, f_outSize, a_blockStart, a_blockPhis, a_blockItems, a_termKind, a_termValue, a_termFirst, a_termSecond, a_itemKind, a_itemA, a_itemB, a_itemBlock, a_edgeFrom, a_edgeTo, a_edgeOrder, a_edgeArgs, a_edgeSets, a_edgeBegin, a_edgeEnd, a_incoming, a_dominators, a_depth, a_parent, a_pointBase, a_pointBlock, a_pointItem, a_pointUses, a_live, a_distance, a_neighbours, a_colour, a_inRegisters, a_location, a_hint, a_taken, a_moveSource, a_moveReaders, a_codeTo, a_codeFrom, a_codeSwap, a_codeBegin, a_codeEnd, a_outLog, a_params, a_cells) := by
  have hB := ca_wB hW
  refine nm_e (nm_e ?_)
  refine ca_loop (fun n i (s : Nat → Int32) => wX_findDominators_18 post (((1 : Int32) <<< (nI (ca_B P) &&& 31)) - 1) f_phiKind f_jumpKind f_branchKind f_retKind f_far f_registerEnd f_firstSlot f_cellEnd f_edgeCode f_blockLimit f_itemLimit f_outLimit f_stage f_open (nI (ca_B P)) (nI (ca_N P)) (nI (ca_E P)) f_points f_greatestPressure f_everLive f_registers f_usedRegisters f_placedBlocks f_codeSize f_current f_returned f_outSize n (nI i) a_blockStart a_blockPhis a_blockItems a_termKind a_termValue a_termFirst a_termSecond a_itemKind a_itemA a_itemB a_itemBlock a_edgeFrom a_edgeTo a_edgeOrder a_edgeArgs a_edgeSets a_edgeBegin a_edgeEnd a_incoming s a_depth a_parent a_pointBase a_pointBlock a_pointItem a_pointUses a_live a_distance a_neighbours a_colour a_inRegisters a_location a_hint a_taken a_moveSource a_moveReaders a_codeTo a_codeFrom a_codeSwap a_codeBegin a_codeEnd a_outLog a_params a_cells) (fun i s => s 0 = 1 ∧ ∀ t, 1 ≤ t → t < i → s t = ((1 : Int32) <<< (nI (ca_B P) &&& 31)) - 1) 1 (ca_B P) (by omega) (upd a_dominators 0 1) ⟨pk_us, fun t h1 h2 => by omega⟩ ?_ ?_
  · intro n s ⟨hs0, hs⟩
    refine br_t (nI_le (Nat.le_refl _) (by omega)) (xl_fd43 hW hB0 hT hE ⟨fun x => ?_, fun t ht x => ?_⟩ (fun t ht x hx hr => ?_) K)
    · rw [hs0]; exact ca_b1i x
    · by_cases z : t = 0
      · subst z
        rw [hs0, ca_b1i x]
        refine ⟨fun e => by omega, fun _ hd => ?_⟩
        by_cases y : x = 0
        · exact y
        · exact absurd hd (ca_Dm0x y)
      · rw [hs t (by omega) ht, ca_balli hB]
        exact ⟨fun y => y, fun y _ => y⟩
    · have := hr.1
      subst this
      rw [hs0] at hx
      exact hr.2 ((ca_b1i x).mp hx)
  · intro n i s hi1 hi ⟨hs0, hs⟩ ih
    refine br_f (nI_ge hi (by omega)) (ca_vi (ca_wr (ca_in (ih _ ⟨?_, fun t h1 h2 => ?_⟩))))
    · rw [pk_un (by omega)]; exact hs0
    · by_cases z : t = i
      · subst z; exact pk_us
      · rw [pk_un z]; exact hs t h1 (by omega)
end
end
section
/-! X: strictness, points, edge masks -/
def ca_SIn (P : ca_PG) (d i : Nat) : Prop := d < ca_N P ∧ ((ca_bl P d = ca_bl P i ∧ d < i) ∨ (ca_bl P d ≠ ca_bl P i ∧ ca_Dm P (ca_bl P d) (ca_bl P i)))
section
variable {P : ca_PG}
variable {f_phiKind f_jumpKind f_branchKind f_retKind f_far f_registerEnd f_firstSlot f_cellEnd f_edgeCode f_blockLimit f_itemLimit f_outLimit f_stage f_open f_blocks f_items f_edges f_points f_greatestPressure f_everLive f_registers f_usedRegisters f_placedBlocks f_codeSize f_current f_returned f_outSize : Int32} {a_blockStart a_blockPhis a_blockItems a_termKind a_termValue a_termFirst a_termSecond a_itemKind a_itemA a_itemB a_itemBlock a_edgeFrom a_edgeTo a_edgeOrder a_edgeArgs a_edgeSets a_edgeBegin a_edgeEnd a_incoming a_dominators a_depth a_parent a_pointBase a_pointBlock a_pointItem a_pointUses a_live a_distance a_neighbours a_colour a_inRegisters a_location a_hint a_taken a_moveSource a_moveReaders a_codeTo a_codeFrom a_codeSwap a_codeBegin a_codeEnd a_outLog a_params a_cells : Nat → Int32}
theorem ca_nle (a : Nat) (h : a < 2 ^ 31) : ¬ nI a < 0 := nI_pos h
theorem xl_strictOperand {post : Int32 → Prop} {d i : Nat} {p0 : Int32} (e0 : p0 = nI d) (hd : d < 32) (hi : i < ca_N P) (hW : ca_WF P) (hP : ca_AP P a_itemKind a_itemBlock a_itemA a_itemB) (hD : ca_AD P a_dominators) (h1 : ca_SIn P d i → post 1) (h0 : ¬ ca_SIn P d i → post 0) : wpX_strictOperand post (f_phiKind, f_jumpKind, f_branchKind, f_retKind, f_far, f_registerEnd, f_firstSlot, f_cellEnd, f_edgeCode, f_blockLimit, f_itemLimit, f_outLimit, f_stage, f_open, (nI (ca_B P)), (nI (ca_N P)), (nI (ca_E P)), f_points, f_greatestPressure, f_everLive, f_registers, f_usedRegisters, f_placedBlocks, f_codeSize, f_current, f_returned, f_outSize, a_blockStart, a_blockPhis, a_blockItems, a_termKind, a_termValue, a_termFirst, a_termSecond, a_itemKind, a_itemA, a_itemB, a_itemBlock, a_edgeFrom, a_edgeTo, a_edgeOrder, a_edgeArgs, a_edgeSets, a_edgeBegin, a_edgeEnd, a_incoming, a_dominators, a_depth, a_parent, a_pointBase, a_pointBlock, a_pointItem, a_pointUses, a_live, a_distance, a_neighbours, a_colour, a_inRegisters, a_location, a_hint, a_taken, a_moveSource, a_moveReaders, a_codeTo, a_codeFrom, a_codeSwap, a_codeBegin, a_codeEnd, a_outLog, a_params, a_cells) p0 (nI i) := by
  subst e0
  have hB := ca_wB hW
  have hN := ca_wN hW
  have hbi := ca_wb hW hi
  refine br_f (nI_pos (by omega)) (pk_lt d (ca_N P) (fun hdN => ?_) (fun hdN => ?_))
  · have hbd := ca_wb hW hdN
    refine ca_vi (ca_rd (hP i hi).2.1 (ca_vi (pk_eq (ca_bl P d) (ca_bl P i) (fun e => ?_) (fun e => ?_) (ca_r (hP d hdN).2.1))))
    · refine pk_le i d (fun z => h0 fun y => ?_) (fun z => h1 ⟨hdN, Or.inl ⟨e, z⟩⟩)
      rcases y.2 with w | w
      · omega
      · exact w.1 e
    · refine ca_vi (ca_vi (xl_has _ (ca_r (hP d hdN).2.1) (by omega) (fun hb => ⟨narrow_b1, h1 ⟨hdN, Or.inr ⟨e, ?_⟩⟩⟩) (fun hb => ⟨narrow_b0, h0 fun y => ?_⟩)))
      · rw [nI_clamp (n := ca_bl P i) (by omega)] at hb
        exact ((hD _ hbi.1 _).mp hb).2
      · rw [nI_clamp (n := ca_bl P i) (by omega)] at hb
        rcases y.2 with w | w
        · exact e w.1
        · exact ca_ff hb ((hD _ hbi.1 _).mpr ⟨hbd.1, w.2⟩)
  · exact h0 (fun y => by have := y.1; omega)
theorem xl_strictAtEnd {post : Int32 → Prop} {d s : Nat} {p0 p1 : Int32} (e0 : p0 = nI d) (e1 : p1 = nI s) (hd : d < 32) (hs : s < ca_B P) (hW : ca_WF P) (hP : ca_AP P a_itemKind a_itemBlock a_itemA a_itemB) (hD : ca_AD P a_dominators) (h1 : ca_STe P d s → post 1) (h0 : ¬ ca_STe P d s → post 0) : wpX_strictAtEnd post (f_phiKind, f_jumpKind, f_branchKind, f_retKind, f_far, f_registerEnd, f_firstSlot, f_cellEnd, f_edgeCode, f_blockLimit, f_itemLimit, f_outLimit, f_stage, f_open, (nI (ca_B P)), (nI (ca_N P)), (nI (ca_E P)), f_points, f_greatestPressure, f_everLive, f_registers, f_usedRegisters, f_placedBlocks, f_codeSize, f_current, f_returned, f_outSize, a_blockStart, a_blockPhis, a_blockItems, a_termKind, a_termValue, a_termFirst, a_termSecond, a_itemKind, a_itemA, a_itemB, a_itemBlock, a_edgeFrom, a_edgeTo, a_edgeOrder, a_edgeArgs, a_edgeSets, a_edgeBegin, a_edgeEnd, a_incoming, a_dominators, a_depth, a_parent, a_pointBase, a_pointBlock, a_pointItem, a_pointUses, a_live, a_distance, a_neighbours, a_colour, a_inRegisters, a_location, a_hint, a_taken, a_moveSource, a_moveReaders, a_codeTo, a_codeFrom, a_codeSwap, a_codeBegin, a_codeEnd, a_outLog, a_params, a_cells) p0 p1 := by
  subst e0 e1
  have hB := ca_wB hW
  have hN := ca_wN hW
  refine br_f (nI_pos (by omega)) (pk_lt d (ca_N P) (fun hdN => ?_) (fun hdN => ?_))
  · have hbd := ca_wb hW hdN
    refine ca_vi (ca_vi (xl_has _ (ca_r (hP d hdN).2.1) (by omega) (fun hb => ⟨narrow_b1, h1 ⟨hdN, ?_⟩⟩) (fun hb => ⟨narrow_b0, h0 fun y => ?_⟩)))
    · rw [nI_clamp (n := s) (by omega)] at hb
      exact ((hD _ hs _).mp hb).2
    · rw [nI_clamp (n := s) (by omega)] at hb
      exact ca_ff hb ((hD _ hs _).mpr ⟨hbd.1, y.2⟩)
  · exact h0 (fun y => by have := y.1; omega)
theorem xl_instructionsStrict {post : Int32 → Prop} (hW : ca_WF P) (hF : ca_IF P) (hP : ca_AP P a_itemKind a_itemBlock a_itemA a_itemB) (hD : ca_AD P a_dominators) (h1 : ca_STi P → post 1) (h0 : ¬ ca_STi P → post 0) : wpX_instructionsStrict post (f_phiKind, f_jumpKind, f_branchKind, f_retKind, f_far, f_registerEnd, f_firstSlot, f_cellEnd, f_edgeCode, f_blockLimit, f_itemLimit, f_outLimit, f_stage, f_open, (nI (ca_B P)), (nI (ca_N P)), (nI (ca_E P)), f_points, f_greatestPressure, f_everLive, f_registers, f_usedRegisters, f_placedBlocks, f_codeSize, f_current, f_returned, f_outSize, a_blockStart, a_blockPhis, a_blockItems, a_termKind, a_termValue, a_termFirst, a_termSecond, a_itemKind, a_itemA, a_itemB, a_itemBlock, a_edgeFrom, a_edgeTo, a_edgeOrder, a_edgeArgs, a_edgeSets, a_edgeBegin, a_edgeEnd, a_incoming, a_dominators, a_depth, a_parent, a_pointBase, a_pointBlock, a_pointItem, a_pointUses, a_live, a_distance, a_neighbours, a_colour, a_inRegisters, a_location, a_hint, a_taken, a_moveSource, a_moveReaders, a_codeTo, a_codeFrom, a_codeSwap, a_codeBegin, a_codeEnd, a_outLog, a_params, a_cells) := by
  have hB := ca_wB hW
  have hN := ca_wN hW
  refine ca_loop (σ := Unit) (fun n i _ => wX_instructionsStrict_2 post f_phiKind f_jumpKind f_branchKind f_retKind f_far f_registerEnd f_firstSlot f_cellEnd f_edgeCode f_blockLimit f_itemLimit f_outLimit f_stage f_open (nI (ca_B P)) (nI (ca_N P)) (nI (ca_E P)) f_points f_greatestPressure f_everLive f_registers f_usedRegisters f_placedBlocks f_codeSize f_current f_returned f_outSize a_blockStart a_blockPhis a_blockItems a_termKind a_termValue a_termFirst a_termSecond a_itemKind a_itemA a_itemB a_itemBlock a_edgeFrom a_edgeTo a_edgeOrder a_edgeArgs a_edgeSets a_edgeBegin a_edgeEnd a_incoming a_dominators a_depth a_parent a_pointBase a_pointBlock a_pointItem a_pointUses a_live a_distance a_neighbours a_colour a_inRegisters a_location a_hint a_taken a_moveSource a_moveReaders a_codeTo a_codeFrom a_codeSwap a_codeBegin a_codeEnd a_outLog a_params a_cells n (nI i)) (fun i _ => ∀ j, j < i → ca_kd P j ≠ 8 → ∀ d, ca_us P d j → ca_SIn P d j) 0 (ca_N P) (by omega) () (fun s hs => by omega) ?_ ?_
  · intro n _ hI
    exact br_t (nI_le (Nat.le_refl _) (by omega)) (h1 hI)
  · intro n i _ _ hi hI ih
    have hP' := hP i hi
    have hF' := hF i hi
    have nxt : (ca_kd P i ≠ 8 → ∀ d, ca_us P d i → ca_SIn P d i) → wX_instructionsStrict_2 post f_phiKind f_jumpKind f_branchKind f_retKind f_far f_registerEnd f_firstSlot f_cellEnd f_edgeCode f_blockLimit f_itemLimit f_outLimit f_stage f_open (nI (ca_B P)) (nI (ca_N P)) (nI (ca_E P)) f_points f_greatestPressure f_everLive f_registers f_usedRegisters f_placedBlocks f_codeSize f_current f_returned f_outSize a_blockStart a_blockPhis a_blockItems a_termKind a_termValue a_termFirst a_termSecond a_itemKind a_itemA a_itemB a_itemBlock a_edgeFrom a_edgeTo a_edgeOrder a_edgeArgs a_edgeSets a_edgeBegin a_edgeEnd a_incoming a_dominators a_depth a_parent a_pointBase a_pointBlock a_pointItem a_pointUses a_live a_distance a_neighbours a_colour a_inRegisters a_location a_hint a_taken a_moveSource a_moveReaders a_codeTo a_codeFrom a_codeSwap a_codeBegin a_codeEnd a_outLog a_params a_cells n (nI (i + 1)) := by
      intro z
      refine ih () (fun j hj hk d hu => ?_)
      by_cases e : j = i
      · subst e; exact z hk d hu
      · exact hI j (by omega) hk d hu
    have fail : ∀ d, ca_kd P i ≠ 8 → ca_us P d i → ¬ ca_SIn P d i → post 0 := fun d h2 h3 h4 => h0 (fun h => h4 (h i hi h2 d h3))
    have k72b : 2 ≤ ca_kd P i → ca_kd P i ≤ 6 → ca_SIn P (ca_aA P i) i → wX_instructionsStrict_72 post (wX_instructionsStrict_2 post f_phiKind f_jumpKind f_branchKind f_retKind f_far f_registerEnd f_firstSlot f_cellEnd f_edgeCode f_blockLimit f_itemLimit f_outLimit f_stage f_open (nI (ca_B P)) (nI (ca_N P)) (nI (ca_E P)) f_points f_greatestPressure f_everLive f_registers f_usedRegisters f_placedBlocks f_codeSize f_current f_returned f_outSize a_blockStart a_blockPhis a_blockItems a_termKind a_termValue a_termFirst a_termSecond a_itemKind a_itemA a_itemB a_itemBlock a_edgeFrom a_edgeTo a_edgeOrder a_edgeArgs a_edgeSets a_edgeBegin a_edgeEnd a_incoming a_dominators a_depth a_parent a_pointBase a_pointBlock a_pointItem a_pointUses a_live a_distance a_neighbours a_colour a_inRegisters a_location a_hint a_taken a_moveSource a_moveReaders a_codeTo a_codeFrom a_codeSwap a_codeBegin a_codeEnd a_outLog a_params a_cells n) (nI i) 1 f_phiKind f_jumpKind f_branchKind f_retKind f_far f_registerEnd f_firstSlot f_cellEnd f_edgeCode f_blockLimit f_itemLimit f_outLimit f_stage f_open (nI (ca_B P)) (nI (ca_N P)) (nI (ca_E P)) f_points f_greatestPressure f_everLive f_registers f_usedRegisters f_placedBlocks f_codeSize f_current f_returned f_outSize a_blockStart a_blockPhis a_blockItems a_termKind a_termValue a_termFirst a_termSecond a_itemKind a_itemA a_itemB a_itemBlock a_edgeFrom a_edgeTo a_edgeOrder a_edgeArgs a_edgeSets a_edgeBegin a_edgeEnd a_incoming a_dominators a_depth a_parent a_pointBase a_pointBlock a_pointItem a_pointUses a_live a_distance a_neighbours a_colour a_inRegisters a_location a_hint a_taken a_moveSource a_moveReaders a_codeTo a_codeFrom a_codeSwap a_codeBegin a_codeEnd a_outLog a_params a_cells := by
      intro g1 g2 g3
      refine br_f (by decide) (ca_vi (xl_strictOperand (ca_r (hP'.2.2.2 g1 (by omega))) (hF'.2.2.2 g1 (by omega)) hi hW hP hD (fun z => ?_) (fun z => ?_)))
      · refine br_f (by decide) (ca_in (nxt fun _ d hu => ?_))
        rcases hu with ⟨_, ⟨u1, _⟩ | ⟨_, _, u3⟩⟩ | ⟨u1, _⟩
        · omega
        · rcases u3 with u | u
          · rw [← u]; exact g3
          · rw [← u]; exact z
        · omega
      · exact br_t rfl (fail _ (by omega) (Or.inl ⟨by omega, Or.inr ⟨g1, g2, Or.inr rfl⟩⟩) z)
    have k72a : (ca_kd P i ≠ 8 → ∀ d, ca_us P d i → ca_SIn P d i) → wX_instructionsStrict_72 post (wX_instructionsStrict_2 post f_phiKind f_jumpKind f_branchKind f_retKind f_far f_registerEnd f_firstSlot f_cellEnd f_edgeCode f_blockLimit f_itemLimit f_outLimit f_stage f_open (nI (ca_B P)) (nI (ca_N P)) (nI (ca_E P)) f_points f_greatestPressure f_everLive f_registers f_usedRegisters f_placedBlocks f_codeSize f_current f_returned f_outSize a_blockStart a_blockPhis a_blockItems a_termKind a_termValue a_termFirst a_termSecond a_itemKind a_itemA a_itemB a_itemBlock a_edgeFrom a_edgeTo a_edgeOrder a_edgeArgs a_edgeSets a_edgeBegin a_edgeEnd a_incoming a_dominators a_depth a_parent a_pointBase a_pointBlock a_pointItem a_pointUses a_live a_distance a_neighbours a_colour a_inRegisters a_location a_hint a_taken a_moveSource a_moveReaders a_codeTo a_codeFrom a_codeSwap a_codeBegin a_codeEnd a_outLog a_params a_cells n) (nI i) 0 f_phiKind f_jumpKind f_branchKind f_retKind f_far f_registerEnd f_firstSlot f_cellEnd f_edgeCode f_blockLimit f_itemLimit f_outLimit f_stage f_open (nI (ca_B P)) (nI (ca_N P)) (nI (ca_E P)) f_points f_greatestPressure f_everLive f_registers f_usedRegisters f_placedBlocks f_codeSize f_current f_returned f_outSize a_blockStart a_blockPhis a_blockItems a_termKind a_termValue a_termFirst a_termSecond a_itemKind a_itemA a_itemB a_itemBlock a_edgeFrom a_edgeTo a_edgeOrder a_edgeArgs a_edgeSets a_edgeBegin a_edgeEnd a_incoming a_dominators a_depth a_parent a_pointBase a_pointBlock a_pointItem a_pointUses a_live a_distance a_neighbours a_colour a_inRegisters a_location a_hint a_taken a_moveSource a_moveReaders a_codeTo a_codeFrom a_codeSwap a_codeBegin a_codeEnd a_outLog a_params a_cells := by
      intro g
      exact br_t rfl (ca_in (nxt g))
    refine br_f (nI_ge hi (by omega)) (ca_vi (ca_rd hP'.1 (pk_lt (ca_kd P i) 2 (fun z => ?_) (fun z => ?_))))
    · refine pk_lt (ca_kd P i) 2 (fun z => ?_) (fun z => by omega)
      refine br_t rfl (k72a fun _ d hu => ?_)
      rcases hu with ⟨_, ⟨u1, _⟩ | ⟨u1, _⟩⟩ | ⟨u1, _⟩ <;> omega
    · refine pk_lt 7 (ca_kd P i) (fun y => ?_) (fun y => ?_)
      · refine pk_lt (ca_kd P i) 2 (fun z => by omega) (fun z => ?_)
        refine pk_lt 6 (ca_kd P i) (fun z => ?_) (fun z => by omega)
        exact br_t rfl (k72a fun h8 d hu => by omega)
      · refine pk_lt (ca_kd P i) 2 (fun z => by omega) (fun _ => pk_lt 6 (ca_kd P i) (fun w => ?_) (fun w => ?_))
        · have e7 : ca_kd P i = 7 := by omega
          refine br_f (by decide) (ca_vi (xl_strictOperand (ca_r (hP'.2.2.1 (by omega))) (hF'.2.2.1 z) hi hW hP hD (fun s => ?_) (fun s => ?_)))
          · refine br_f (by decide) (k72a fun _ d hu => ?_)
            rcases hu with ⟨_, ⟨_, u1⟩ | ⟨_, u1, _⟩⟩ | ⟨u1, _⟩
            · rw [← u1]; exact s
            · omega
            · omega
          · exact br_t rfl (fail _ (by omega) (Or.inl ⟨by omega, Or.inl ⟨e7, rfl⟩⟩) s)
        · refine br_f (by decide) (ca_vi (xl_strictOperand (ca_r (hP'.2.2.1 (by omega))) (hF'.2.2.1 z) hi hW hP hD (fun s => ?_) (fun s => ?_)))
          · exact br_f (by decide) (k72b z (by omega) s)
          · exact br_t rfl (fail _ (by omega) (Or.inl ⟨by omega, Or.inr ⟨z, by omega, Or.inl rfl⟩⟩) s)
theorem xl_terminatorsStrict {post : Int32 → Prop} (hW : ca_WF P) (hF : ca_TF P (ca_B P)) (hA : ca_AT P (ca_B P) a_termKind a_termValue a_termFirst a_termSecond) (hP : ca_AP P a_itemKind a_itemBlock a_itemA a_itemB) (hD : ca_AD P a_dominators) (h1 : ca_STt P → post 1) (h0 : ¬ ca_STt P → post 0) : wpX_terminatorsStrict post (f_phiKind, f_jumpKind, f_branchKind, f_retKind, f_far, f_registerEnd, f_firstSlot, f_cellEnd, f_edgeCode, f_blockLimit, f_itemLimit, f_outLimit, f_stage, f_open, (nI (ca_B P)), (nI (ca_N P)), (nI (ca_E P)), f_points, f_greatestPressure, f_everLive, f_registers, f_usedRegisters, f_placedBlocks, f_codeSize, f_current, f_returned, f_outSize, a_blockStart, a_blockPhis, a_blockItems, a_termKind, a_termValue, a_termFirst, a_termSecond, a_itemKind, a_itemA, a_itemB, a_itemBlock, a_edgeFrom, a_edgeTo, a_edgeOrder, a_edgeArgs, a_edgeSets, a_edgeBegin, a_edgeEnd, a_incoming, a_dominators, a_depth, a_parent, a_pointBase, a_pointBlock, a_pointItem, a_pointUses, a_live, a_distance, a_neighbours, a_colour, a_inRegisters, a_location, a_hint, a_taken, a_moveSource, a_moveReaders, a_codeTo, a_codeFrom, a_codeSwap, a_codeBegin, a_codeEnd, a_outLog, a_params, a_cells) := by
  have hB := ca_wB hW
  refine ca_loop (σ := Unit) (fun n i _ => wX_terminatorsStrict_2 post f_phiKind f_jumpKind f_branchKind f_retKind f_far f_registerEnd f_firstSlot f_cellEnd f_edgeCode f_blockLimit f_itemLimit f_outLimit f_stage f_open (nI (ca_B P)) (nI (ca_N P)) (nI (ca_E P)) f_points f_greatestPressure f_everLive f_registers f_usedRegisters f_placedBlocks f_codeSize f_current f_returned f_outSize a_blockStart a_blockPhis a_blockItems a_termKind a_termValue a_termFirst a_termSecond a_itemKind a_itemA a_itemB a_itemBlock a_edgeFrom a_edgeTo a_edgeOrder a_edgeArgs a_edgeSets a_edgeBegin a_edgeEnd a_incoming a_dominators a_depth a_parent a_pointBase a_pointBlock a_pointItem a_pointUses a_live a_distance a_neighbours a_colour a_inRegisters a_location a_hint a_taken a_moveSource a_moveReaders a_codeTo a_codeFrom a_codeSwap a_codeBegin a_codeEnd a_outLog a_params a_cells n (nI i)) (fun i _ => ∀ s, s < i → ca_tk P s ≠ 0 → ca_STe P (ca_tv P s) s) 0 (ca_B P) (by omega) () (fun s hs => by omega) ?_ ?_
  · intro n _ hI
    exact br_t (nI_le (Nat.le_refl _) (by omega)) (h1 hI)
  · intro n i _ _ hi hI ih
    have hA' := hA i hi
    have hF' := hF i hi
    refine br_f (nI_ge hi (by omega)) (ca_vi (pk_eq (ca_tk P i) 0 (fun z => ?_) (fun z => ?_) (ca_r hA'.1)))
    · refine ca_in (ih () fun s hs h => ?_)
      by_cases e : s = i
      · subst e; exact absurd z h
      · exact hI s (by omega) h
    · refine ca_vi (xl_strictAtEnd (ca_r hA'.2.1) rfl hF'.2.1 hi hW hP hD (fun y => ?_) (fun y => ?_))
      · refine br_f (by decide) (ca_in (ih () fun s hs h => ?_))
        by_cases e : s = i
        · subst e; exact y
        · exact hI s (by omega) h
      · exact br_t rfl (h0 fun h => y (h i hi z))
theorem ca_enole {e : Nat} (hB : ca_B P ≤ 8) (he : ca_isE P e) : ca_eno P e ≤ 16 := by
  have := ca_cn_le (fun x => ca_isE P x ∧ ca_tg P x = ca_tg P e) e
  have := ca_elt he
  unfold ca_eno
  omega
theorem ca_arg32 (hF : ca_IF P) {e i t : Nat} (hi : ca_ph P i t) : ca_arg P e i < 32 := by
  have := hF i hi.1
  have h8 := hi.2.1
  unfold ca_arg
  split
  · exact this.2.2.1 (by omega)
  · exact this.2.2.2 (by omega) (by omega)
theorem xl_phiArgument {post : Int32 → Prop} {e j i t : Nat} (hW : ca_WF P) (hP : ca_AP P a_itemKind a_itemBlock a_itemA a_itemB) (hE : ca_AE P a_edgeFrom a_edgeTo a_edgeOrder) (he : ca_isE P e) (ej : ca_xe P e = j) (hi : ca_ph P i t) (K : post (nI (ca_arg P e i))) : wpX_phiArgument post (f_phiKind, f_jumpKind, f_branchKind, f_retKind, f_far, f_registerEnd, f_firstSlot, f_cellEnd, f_edgeCode, f_blockLimit, f_itemLimit, f_outLimit, f_stage, f_open, (nI (ca_B P)), (nI (ca_N P)), (nI (ca_E P)), f_points, f_greatestPressure, f_everLive, f_registers, f_usedRegisters, f_placedBlocks, f_codeSize, f_current, f_returned, f_outSize, a_blockStart, a_blockPhis, a_blockItems, a_termKind, a_termValue, a_termFirst, a_termSecond, a_itemKind, a_itemA, a_itemB, a_itemBlock, a_edgeFrom, a_edgeTo, a_edgeOrder, a_edgeArgs, a_edgeSets, a_edgeBegin, a_edgeEnd, a_incoming, a_dominators, a_depth, a_parent, a_pointBase, a_pointBlock, a_pointItem, a_pointUses, a_live, a_distance, a_neighbours, a_colour, a_inRegisters, a_location, a_hint, a_taken, a_moveSource, a_moveReaders, a_codeTo, a_codeFrom, a_codeSwap, a_codeBegin, a_codeEnd, a_outLog, a_params, a_cells) (nI j) (nI i) := by
  have hB := ca_wB hW
  have hN := ca_wN hW
  have hE' := hE e he
  have hj := ca_exe he
  have hE16 := ca_Ele (P := P) hB
  have hen := ca_enole hB he
  have hi' := hi.1
  have h8 := hi.2.1
  have hP' := hP i hi'
  rw [ej] at hE'
  refine ca_vi (pk_eq (ca_eno P e) 0 (fun z => ?_) (fun z => ?_) (ca_r hE'.2.2))
  · refine ca_vi ?_
    rw [ca_r (hP'.2.2.1 (by omega))]
    unfold ca_arg at K
    rw [if_pos z] at K
    exact K
  · refine ca_vi ?_
    rw [ca_r (hP'.2.2.2 (by omega) (by omega))]
    unfold ca_arg at K
    rw [if_neg z] at K
    exact K
theorem xl_phisStrict {post : Int32 → Prop} (hW : ca_WF P) (hT : ca_TE P) (hF : ca_IF P) (hE : ca_AE P a_edgeFrom a_edgeTo a_edgeOrder) (hb : ca_AB P a_blockStart a_blockPhis a_blockItems) (hP : ca_AP P a_itemKind a_itemBlock a_itemA a_itemB) (hD : ca_AD P a_dominators) (h1 : ca_STp P → post 1) (h0 : ¬ ca_STp P → post 0) : wpX_phisStrict post (f_phiKind, f_jumpKind, f_branchKind, f_retKind, f_far, f_registerEnd, f_firstSlot, f_cellEnd, f_edgeCode, f_blockLimit, f_itemLimit, f_outLimit, f_stage, f_open, (nI (ca_B P)), (nI (ca_N P)), (nI (ca_E P)), f_points, f_greatestPressure, f_everLive, f_registers, f_usedRegisters, f_placedBlocks, f_codeSize, f_current, f_returned, f_outSize, a_blockStart, a_blockPhis, a_blockItems, a_termKind, a_termValue, a_termFirst, a_termSecond, a_itemKind, a_itemA, a_itemB, a_itemBlock, a_edgeFrom, a_edgeTo, a_edgeOrder, a_edgeArgs, a_edgeSets, a_edgeBegin, a_edgeEnd, a_incoming, a_dominators, a_depth, a_parent, a_pointBase, a_pointBlock, a_pointItem, a_pointUses, a_live, a_distance, a_neighbours, a_colour, a_inRegisters, a_location, a_hint, a_taken, a_moveSource, a_moveReaders, a_codeTo, a_codeFrom, a_codeSwap, a_codeBegin, a_codeEnd, a_outLog, a_params, a_cells) := by
  have hB := ca_wB hW
  have hN := ca_wN hW
  have hE16 := ca_Ele (P := P) hB
  refine ca_loop (σ := Unit) (fun n j _ => wX_phisStrict_2 post f_phiKind f_jumpKind f_branchKind f_retKind f_far f_registerEnd f_firstSlot f_cellEnd f_edgeCode f_blockLimit f_itemLimit f_outLimit f_stage f_open (nI (ca_B P)) (nI (ca_N P)) (nI (ca_E P)) f_points f_greatestPressure f_everLive f_registers f_usedRegisters f_placedBlocks f_codeSize f_current f_returned f_outSize a_blockStart a_blockPhis a_blockItems a_termKind a_termValue a_termFirst a_termSecond a_itemKind a_itemA a_itemB a_itemBlock a_edgeFrom a_edgeTo a_edgeOrder a_edgeArgs a_edgeSets a_edgeBegin a_edgeEnd a_incoming a_dominators a_depth a_parent a_pointBase a_pointBlock a_pointItem a_pointUses a_live a_distance a_neighbours a_colour a_inRegisters a_location a_hint a_taken a_moveSource a_moveReaders a_codeTo a_codeFrom a_codeSwap a_codeBegin a_codeEnd a_outLog a_params a_cells n (nI j)) (fun j _ => ∀ e, ca_isE P e → ca_xe P e < j → ∀ i, ca_ph P i (ca_tg P e) → ca_STe P (ca_arg P e i) (e / 2)) 0 (ca_E P) (by omega) () (fun e _ hs => by omega) ?_ ?_
  · intro n _ hI
    exact br_t (nI_le (Nat.le_refl _) (by omega)) (h1 fun e he => hI e he (ca_exe he))
  · intro n j _ _ hj hI ih
    obtain ⟨e, he, ej⟩ := ca_esur hj
    have hE' := hE e he
    rw [ej] at hE'
    have hbb : e / 2 < ca_B P := he.1
    have ht := hT e he
    have hbt := hb _ ht
    have q1 := ca_wn hW ht
    have q2 := ca_wp hW ht
    refine br_f (nI_ge hj (by omega)) (ca_vi (ca_rd hE'.2.1 (ca_vi (ca_vi (nm_r (e' := nI (ca_bs P (ca_tg P e) + ca_bp P (ca_tg P e))) (by rw [ca_r hbt.1, ca_r hbt.2.1, nI_add]) (ca_vi (ca_rd hbt.1 ?_)))))))
    refine ca_loop (σ := Unit) (fun k i _ => wX_phisStrict_39 post (wX_phisStrict_2 post f_phiKind f_jumpKind f_branchKind f_retKind f_far f_registerEnd f_firstSlot f_cellEnd f_edgeCode f_blockLimit f_itemLimit f_outLimit f_stage f_open (nI (ca_B P)) (nI (ca_N P)) (nI (ca_E P)) f_points f_greatestPressure f_everLive f_registers f_usedRegisters f_placedBlocks f_codeSize f_current f_returned f_outSize a_blockStart a_blockPhis a_blockItems a_termKind a_termValue a_termFirst a_termSecond a_itemKind a_itemA a_itemB a_itemBlock a_edgeFrom a_edgeTo a_edgeOrder a_edgeArgs a_edgeSets a_edgeBegin a_edgeEnd a_incoming a_dominators a_depth a_parent a_pointBase a_pointBlock a_pointItem a_pointUses a_live a_distance a_neighbours a_colour a_inRegisters a_location a_hint a_taken a_moveSource a_moveReaders a_codeTo a_codeFrom a_codeSwap a_codeBegin a_codeEnd a_outLog a_params a_cells n) (nI j) (nI (ca_bs P (ca_tg P e) + ca_bp P (ca_tg P e))) f_phiKind f_jumpKind f_branchKind f_retKind f_far f_registerEnd f_firstSlot f_cellEnd f_edgeCode f_blockLimit f_itemLimit f_outLimit f_stage f_open (nI (ca_B P)) (nI (ca_N P)) (nI (ca_E P)) f_points f_greatestPressure f_everLive f_registers f_usedRegisters f_placedBlocks f_codeSize f_current f_returned f_outSize a_blockStart a_blockPhis a_blockItems a_termKind a_termValue a_termFirst a_termSecond a_itemKind a_itemA a_itemB a_itemBlock a_edgeFrom a_edgeTo a_edgeOrder a_edgeArgs a_edgeSets a_edgeBegin a_edgeEnd a_incoming a_dominators a_depth a_parent a_pointBase a_pointBlock a_pointItem a_pointUses a_live a_distance a_neighbours a_colour a_inRegisters a_location a_hint a_taken a_moveSource a_moveReaders a_codeTo a_codeFrom a_codeSwap a_codeBegin a_codeEnd a_outLog a_params a_cells k (nI i)) (fun i _ => ∀ a, a < i → ca_ph P a (ca_tg P e) → ca_STe P (ca_arg P e a) (e / 2)) (ca_bs P (ca_tg P e)) (ca_bs P (ca_tg P e) + ca_bp P (ca_tg P e)) (by omega) () ?_ ?_ ?_
    · intro a ha hp
      have := (ca_wph hW ht).mp hp
      omega
    · intro k _ hJ
      refine br_t (nI_le (Nat.le_refl _) (by omega)) (ca_in (ih () fun f hf hl i hi => ?_))
      by_cases z : ca_xe P f = j
      · have := ca_einj hf he (by omega)
        subst this
        exact hJ i ((ca_wph hW ht).mp hi).2 hi
      · exact hI f hf (by omega) i hi
    · intro k i _ hi0 hi hJ ih2
      have hph : ca_ph P i (ca_tg P e) := (ca_wph hW ht).mpr ⟨hi0, hi⟩
      refine br_f (nI_ge hi (by omega)) (xl_phiArgument hW hP hE he ej hph (ca_vi (xl_strictAtEnd rfl (ca_r hE'.1) (ca_arg32 hF hph) hbb hW hP hD (fun y => ?_) (fun y => ?_))))
      · refine br_f (by decide) (ca_in (ih2 () fun a ha hp => ?_))
        by_cases z : a = i
        · subst z; exact y
        · exact hJ a (by omega) hp
      · exact br_t rfl (h0 fun h => y (h e he i hph))
end
end
section
/-! X: points, edge masks -/
def ca_LB (P : ca_PG) (s n : Nat) (pk pi pu : Nat → Int32) : Prop := ∀ k, k < n → pk (ca_pb P s + k) = nI s ∧ pi (ca_pb P s + k) = ca_pit P s k ∧ ∀ v, bt (pu (ca_pb P s + k)) v = true ↔ ca_us P v (ca_nk P s k)
def ca_LN (P : ca_PG) (n : Nat) (pb pk pi pu : Nat → Int32) : Prop := ∀ s, s < n → pb s = nI (ca_pb P s) ∧ ca_LB P s (ca_ni P s + 1) pk pi pu
section
variable {P : ca_PG}
theorem ca_LBs {s k : Nat} {pk pi pu : Nat → Int32} (h : ca_LB P s k pk pi pu) {m : Int32} (hm : ∀ v, bt m v = true ↔ ca_us P v (ca_nk P s k)) : ca_LB P s (k + 1) (upd pk (ca_pb P s + k) (nI s)) (upd pi (ca_pb P s + k) (ca_pit P s k)) (upd pu (ca_pb P s + k) m) := by
  intro j hj
  by_cases z : j = k
  · subst z
    rw [pk_us, pk_us, pk_us]
    exact ⟨rfl, rfl, hm⟩
  · rw [pk_un (by omega), pk_un (by omega), pk_un (by omega)]
    exact h j (by omega)
theorem ca_LNs {s k n : Nat} {pb pk pi pu : Nat → Int32} (h : ca_LN P n pb pk pi pu) (hn : n ≤ s) {x y z : Int32} : ca_LN P n pb (upd pk (ca_pb P s + k) x) (upd pi (ca_pb P s + k) y) (upd pu (ca_pb P s + k) z) := by
  intro t ht
  refine ⟨(h t ht).1, fun j hj => ?_⟩
  have := ca_pbm (P := P) (show t < s by omega)
  rw [pk_un (by omega), pk_un (by omega), pk_un (by omega)]
  exact (h t ht).2 j hj
variable {f_phiKind f_jumpKind f_branchKind f_retKind f_far f_registerEnd f_firstSlot f_cellEnd f_edgeCode f_blockLimit f_itemLimit f_outLimit f_stage f_open f_blocks f_items f_edges f_points f_greatestPressure f_everLive f_registers f_usedRegisters f_placedBlocks f_codeSize f_current f_returned f_outSize : Int32} {a_blockStart a_blockPhis a_blockItems a_termKind a_termValue a_termFirst a_termSecond a_itemKind a_itemA a_itemB a_itemBlock a_edgeFrom a_edgeTo a_edgeOrder a_edgeArgs a_edgeSets a_edgeBegin a_edgeEnd a_incoming a_dominators a_depth a_parent a_pointBase a_pointBlock a_pointItem a_pointUses a_live a_distance a_neighbours a_colour a_inRegisters a_location a_hint a_taken a_moveSource a_moveReaders a_codeTo a_codeFrom a_codeSwap a_codeBegin a_codeEnd a_outLog a_params a_cells : Nat → Int32}
theorem xl_instructionUses {post : Int32 → Prop} {i : Nat} (hW : ca_WF P) (hF : ca_IF P) (hP : ca_AP P a_itemKind a_itemBlock a_itemA a_itemB) (hi : i < ca_N P) (K : ∀ m, (∀ v, bt m v = true ↔ ca_us P v i) → post m) : wpX_instructionUses post (f_phiKind, f_jumpKind, f_branchKind, f_retKind, f_far, f_registerEnd, f_firstSlot, f_cellEnd, f_edgeCode, f_blockLimit, f_itemLimit, f_outLimit, f_stage, f_open, (nI (ca_B P)), (nI (ca_N P)), f_edges, f_points, f_greatestPressure, f_everLive, f_registers, f_usedRegisters, f_placedBlocks, f_codeSize, f_current, f_returned, f_outSize, a_blockStart, a_blockPhis, a_blockItems, a_termKind, a_termValue, a_termFirst, a_termSecond, a_itemKind, a_itemA, a_itemB, a_itemBlock, a_edgeFrom, a_edgeTo, a_edgeOrder, a_edgeArgs, a_edgeSets, a_edgeBegin, a_edgeEnd, a_incoming, a_dominators, a_depth, a_parent, a_pointBase, a_pointBlock, a_pointItem, a_pointUses, a_live, a_distance, a_neighbours, a_colour, a_inRegisters, a_location, a_hint, a_taken, a_moveSource, a_moveReaders, a_codeTo, a_codeFrom, a_codeSwap, a_codeBegin, a_codeEnd, a_outLog, a_params, a_cells) (nI i) := by
  have hN := ca_wN hW
  have hP' := hP i hi
  have hF' := hF i hi
  refine ca_vi (ca_rd hP'.1 (pk_eq (ca_kd P i) 7 (fun z => ?_) (fun z => ?_)))
  · refine ca_vi (K _ fun v => ?_)
    rw [ca_r (hP'.2.2.1 (by omega)), ca_bsh (hF'.2.2.1 (by omega))]
    constructor
    · intro e; exact Or.inl ⟨by omega, Or.inl ⟨z, e.symm⟩⟩
    · rintro (⟨_, ⟨_, u⟩ | ⟨_, u, _⟩⟩ | ⟨u, _⟩)
      · exact u.symm
      · omega
      · omega
  · refine pk_lt (ca_kd P i) 2 (fun y => K _ fun v => ?_) (fun y => pk_lt 6 (ca_kd P i) (fun w => K _ fun v => ?_) (fun w => ca_vi (ca_vi (K _ fun v => ?_))))
    · rw [ca_b0i]
      refine ⟨fun e => e.elim, ?_⟩
      rintro (⟨_, ⟨u, _⟩ | ⟨u, _, _⟩⟩ | ⟨u, _⟩) <;> omega
    · rw [ca_b0i]
      refine ⟨fun e => e.elim, ?_⟩
      rintro (⟨_, ⟨u, _⟩ | ⟨_, u, _⟩⟩ | ⟨u, _⟩) <;> omega
    · rw [ca_r (hP'.2.2.1 (by omega)), ca_r (hP'.2.2.2 (by omega) (by omega)), ca_bor, ca_bsh (hF'.2.2.1 (by omega)), ca_bsh (hF'.2.2.2 (by omega) (by omega))]
      constructor
      · intro e; exact Or.inl ⟨by omega, Or.inr ⟨y, by omega, e.elim (fun e => Or.inl e.symm) (fun e => Or.inr e.symm)⟩⟩
      · rintro (⟨_, ⟨u, _⟩ | ⟨_, _, u⟩⟩ | ⟨u, _⟩)
        · omega
        · exact u.elim (fun e => Or.inl e.symm) (fun e => Or.inr e.symm)
        · omega
theorem xl_addPoint {post : SX → Prop} {T : Nat} {p0 p1 p2 : Int32} (hT : T < 40) (K : post (f_phiKind, f_jumpKind, f_branchKind, f_retKind, f_far, f_registerEnd, f_firstSlot, f_cellEnd, f_edgeCode, f_blockLimit, f_itemLimit, f_outLimit, f_stage, f_open, (nI (ca_B P)), (nI (ca_N P)), f_edges, (nI (T + 1)), f_greatestPressure, f_everLive, f_registers, f_usedRegisters, f_placedBlocks, f_codeSize, f_current, f_returned, f_outSize, a_blockStart, a_blockPhis, a_blockItems, a_termKind, a_termValue, a_termFirst, a_termSecond, a_itemKind, a_itemA, a_itemB, a_itemBlock, a_edgeFrom, a_edgeTo, a_edgeOrder, a_edgeArgs, a_edgeSets, a_edgeBegin, a_edgeEnd, a_incoming, a_dominators, a_depth, a_parent, a_pointBase, (upd a_pointBlock T p0), (upd a_pointItem T p1), (upd a_pointUses T p2), a_live, a_distance, a_neighbours, a_colour, a_inRegisters, a_location, a_hint, a_taken, a_moveSource, a_moveReaders, a_codeTo, a_codeFrom, a_codeSwap, a_codeBegin, a_codeEnd, a_outLog, a_params, a_cells)) : wpX_addPoint post (f_phiKind, f_jumpKind, f_branchKind, f_retKind, f_far, f_registerEnd, f_firstSlot, f_cellEnd, f_edgeCode, f_blockLimit, f_itemLimit, f_outLimit, f_stage, f_open, (nI (ca_B P)), (nI (ca_N P)), f_edges, (nI T), f_greatestPressure, f_everLive, f_registers, f_usedRegisters, f_placedBlocks, f_codeSize, f_current, f_returned, f_outSize, a_blockStart, a_blockPhis, a_blockItems, a_termKind, a_termValue, a_termFirst, a_termSecond, a_itemKind, a_itemA, a_itemB, a_itemBlock, a_edgeFrom, a_edgeTo, a_edgeOrder, a_edgeArgs, a_edgeSets, a_edgeBegin, a_edgeEnd, a_incoming, a_dominators, a_depth, a_parent, a_pointBase, a_pointBlock, a_pointItem, a_pointUses, a_live, a_distance, a_neighbours, a_colour, a_inRegisters, a_location, a_hint, a_taken, a_moveSource, a_moveReaders, a_codeTo, a_codeFrom, a_codeSwap, a_codeBegin, a_codeEnd, a_outLog, a_params, a_cells) p0 p1 p2 :=
  ca_vi (ca_wr (ca_vi (ca_wr (ca_vi (ca_wr (ca_in K))))))
theorem xl_lay53 {post : SX → Prop} {J : Int32 → Int32 → Int32 → Int32 → Int32 → Int32 → Int32 → Int32 → Int32 → Int32 → Int32 → Int32 → Int32 → Int32 → Int32 → Int32 → Int32 → Int32 → Int32 → Int32 → Int32 → Int32 → Int32 → Int32 → Int32 → Int32 → Int32 → Int32 → (Nat → Int32) → (Nat → Int32) → (Nat → Int32) → (Nat → Int32) → (Nat → Int32) → (Nat → Int32) → (Nat → Int32) → (Nat → Int32) → (Nat → Int32) → (Nat → Int32) → (Nat → Int32) → (Nat → Int32) → (Nat → Int32) → (Nat → Int32) → (Nat → Int32) → (Nat → Int32) → (Nat → Int32) → (Nat → Int32) → (Nat → Int32) → (Nat → Int32) → (Nat → Int32) → (Nat → Int32) → (Nat → Int32) → (Nat → Int32) → (Nat → Int32) → (Nat → Int32) → (Nat → Int32) → (Nat → Int32) → (Nat → Int32) → (Nat → Int32) → (Nat → Int32) → (Nat → Int32) → (Nat → Int32) → (Nat → Int32) → (Nat → Int32) → (Nat → Int32) → (Nat → Int32) → (Nat → Int32) → (Nat → Int32) → (Nat → Int32) → (Nat → Int32) → (Nat → Int32) → (Nat → Int32) → (Nat → Int32) → Prop} {s : Nat} (hW : ca_WF P) (hF : ca_IF P) (hTF : ca_TF P (ca_B P)) (hP : ca_AP P a_itemKind a_itemBlock a_itemA a_itemB) (hA : ca_AT P (ca_B P) a_termKind a_termValue a_termFirst a_termSecond) (hs : s < ca_B P) (hL : ca_LN P s a_pointBase a_pointBlock a_pointItem a_pointUses) (hb : a_pointBase s = nI (ca_pb P s)) (K : ∀ pk pi pu, ca_LN P (s + 1) a_pointBase pk pi pu → J (nI (s + 1)) f_phiKind f_jumpKind f_branchKind f_retKind f_far f_registerEnd f_firstSlot f_cellEnd f_edgeCode f_blockLimit f_itemLimit f_outLimit f_stage f_open (nI (ca_B P)) (nI (ca_N P)) f_edges (nI (ca_pb P (s + 1))) f_greatestPressure f_everLive f_registers f_usedRegisters f_placedBlocks f_codeSize f_current f_returned f_outSize a_blockStart a_blockPhis a_blockItems a_termKind a_termValue a_termFirst a_termSecond a_itemKind a_itemA a_itemB a_itemBlock a_edgeFrom a_edgeTo a_edgeOrder a_edgeArgs a_edgeSets a_edgeBegin a_edgeEnd a_incoming a_dominators a_depth a_parent a_pointBase pk pi pu a_live a_distance a_neighbours a_colour a_inRegisters a_location a_hint a_taken a_moveSource a_moveReaders a_codeTo a_codeFrom a_codeSwap a_codeBegin a_codeEnd a_outLog a_params a_cells) : ∃ n, wX_layOutPoints_53 post J (nI s) (nI (ca_bs P s + ca_bi P s)) n (nI (ca_bs P s + ca_bp P s)) f_phiKind f_jumpKind f_branchKind f_retKind f_far f_registerEnd f_firstSlot f_cellEnd f_edgeCode f_blockLimit f_itemLimit f_outLimit f_stage f_open (nI (ca_B P)) (nI (ca_N P)) f_edges (nI (ca_pb P s)) f_greatestPressure f_everLive f_registers f_usedRegisters f_placedBlocks f_codeSize f_current f_returned f_outSize a_blockStart a_blockPhis a_blockItems a_termKind a_termValue a_termFirst a_termSecond a_itemKind a_itemA a_itemB a_itemBlock a_edgeFrom a_edgeTo a_edgeOrder a_edgeArgs a_edgeSets a_edgeBegin a_edgeEnd a_incoming a_dominators a_depth a_parent a_pointBase a_pointBlock a_pointItem a_pointUses a_live a_distance a_neighbours a_colour a_inRegisters a_location a_hint a_taken a_moveSource a_moveReaders a_codeTo a_codeFrom a_codeSwap a_codeBegin a_codeEnd a_outLog a_params a_cells := by
  have hB := ca_wB hW
  have hN := ca_wN hW
  have w1 := ca_wn hW hs
  have w2 := ca_wp hW hs
  have hT := ca_T40' hW
  have hlt := fun k hk => ca_ptlt (P := P) (s := s) (k := k) hs hk
  refine ca_loop (σ := Int32 × (Nat → Int32) × (Nat → Int32) × (Nat → Int32)) (fun n i s' => wX_layOutPoints_53 post J (nI s) (nI (ca_bs P s + ca_bi P s)) n (nI i) f_phiKind f_jumpKind f_branchKind f_retKind f_far f_registerEnd f_firstSlot f_cellEnd f_edgeCode f_blockLimit f_itemLimit f_outLimit f_stage f_open (nI (ca_B P)) (nI (ca_N P)) f_edges (s'.1) f_greatestPressure f_everLive f_registers f_usedRegisters f_placedBlocks f_codeSize f_current f_returned f_outSize a_blockStart a_blockPhis a_blockItems a_termKind a_termValue a_termFirst a_termSecond a_itemKind a_itemA a_itemB a_itemBlock a_edgeFrom a_edgeTo a_edgeOrder a_edgeArgs a_edgeSets a_edgeBegin a_edgeEnd a_incoming a_dominators a_depth a_parent a_pointBase (s'.2.1) (s'.2.2.1) (s'.2.2.2) a_live a_distance a_neighbours a_colour a_inRegisters a_location a_hint a_taken a_moveSource a_moveReaders a_codeTo a_codeFrom a_codeSwap a_codeBegin a_codeEnd a_outLog a_params a_cells) (fun i s' => s'.1 = nI (ca_pb P s + (i - (ca_bs P s + ca_bp P s))) ∧ ca_LN P s a_pointBase s'.2.1 s'.2.2.1 s'.2.2.2 ∧ ca_LB P s (i - (ca_bs P s + ca_bp P s)) s'.2.1 s'.2.2.1 s'.2.2.2) (ca_bs P s + ca_bp P s) (ca_bs P s + ca_bi P s) (by omega) (nI (ca_pb P s), a_pointBlock, a_pointItem, a_pointUses) ?_ ?_ ?_
  · refine ⟨?_, hL, fun k hk => by omega⟩
    rw [Nat.sub_self]; rfl
  · rintro n ⟨T, pk, pi, pu⟩ ⟨h1, h2, h3⟩
    dsimp only at h1 h2 h3
    subst h1
    have e1 : ca_bs P s + ca_bi P s - (ca_bs P s + ca_bp P s) = ca_ni P s := by unfold ca_ni; omega
    rw [e1] at h3 ⊢
    have hk := hlt (ca_ni P s) (Nat.le_refl _)
    have hA' := hA s hs
    have hF' := hTF s hs
    have fin : ∀ m, (∀ v, bt m v = true ↔ ca_us P v (ca_nk P s (ca_ni P s))) → wX_layOutPoints_100 post J (nI s) m f_phiKind f_jumpKind f_branchKind f_retKind f_far f_registerEnd f_firstSlot f_cellEnd f_edgeCode f_blockLimit f_itemLimit f_outLimit f_stage f_open (nI (ca_B P)) (nI (ca_N P)) f_edges (nI (ca_pb P s + ca_ni P s)) f_greatestPressure f_everLive f_registers f_usedRegisters f_placedBlocks f_codeSize f_current f_returned f_outSize a_blockStart a_blockPhis a_blockItems a_termKind a_termValue a_termFirst a_termSecond a_itemKind a_itemA a_itemB a_itemBlock a_edgeFrom a_edgeTo a_edgeOrder a_edgeArgs a_edgeSets a_edgeBegin a_edgeEnd a_incoming a_dominators a_depth a_parent a_pointBase pk pi pu a_live a_distance a_neighbours a_colour a_inRegisters a_location a_hint a_taken a_moveSource a_moveReaders a_codeTo a_codeFrom a_codeSwap a_codeBegin a_codeEnd a_outLog a_params a_cells := by
      intro m hm
      refine xl_addPoint (by omega) (ca_in (K _ _ _ fun t ht => ?_))
      have q1 := ca_LBs h3 hm
      have q2 := ca_LNs h2 (Nat.le_refl s) (k := ca_ni P s) (x := nI s) (y := ca_pit P s (ca_ni P s)) (z := m)
      have q3 : ca_pit P s (ca_ni P s) = -1 := if_neg (by omega)
      rw [q3] at q1 q2
      by_cases z : t = s
      · subst z; exact ⟨hb, q1⟩
      · exact q2 t (by omega)
    refine br_t (nI_le (Nat.le_refl _) (by omega)) (ca_vi (pk_eq (ca_tk P s) 0 (fun z => fin _ fun v => ?_) (fun z => ca_vi (fin _ fun v => ?_)) (ca_r hA'.1)))
    · rw [ca_b0i, ca_nkhi (Nat.le_refl _)]
      refine ⟨fun y => y.elim, ?_⟩
      rintro (⟨u, _⟩ | ⟨_, u, _⟩)
      · omega
      · rw [show 32 + s - 32 = s by omega] at u; exact u z
    · rw [ca_r hA'.2.1, ca_bsh hF'.2.1, ca_nkhi (Nat.le_refl _)]
      constructor
      · intro e
        refine Or.inr ⟨by omega, ?_, ?_⟩
        · rw [show 32 + s - 32 = s by omega]; exact z
        · rw [show 32 + s - 32 = s by omega]; exact e.symm
      · rintro (⟨u, _⟩ | ⟨_, _, u⟩)
        · omega
        · rw [show 32 + s - 32 = s by omega] at u; exact u.symm
  · rintro n i ⟨T, pk, pi, pu⟩ hi0 hi ⟨h1, h2, h3⟩ ih
    dsimp only at h1 h2 h3
    subst h1
    have hk : i - (ca_bs P s + ca_bp P s) < ca_ni P s := by unfold ca_ni; omega
    have hk2 := hlt _ (Nat.le_of_lt hk)
    have hw := ca_wi hW (i := i) hs (by omega) hi
    have enk : ca_nk P s (i - (ca_bs P s + ca_bp P s)) = i := by rw [ca_nklo hk]; omega
    have epit : ca_pit P s (i - (ca_bs P s + ca_bp P s)) = nI i := by
      unfold ca_pit
      rw [if_pos hk]
      congr 1; omega
    refine br_f (nI_ge hi (by omega)) (xl_instructionUses hW hF hP (by omega) (fun m hm => xl_addPoint (by omega) (ca_in (ih (nI (ca_pb P s + (i - (ca_bs P s + ca_bp P s)) + 1), upd pk (ca_pb P s + (i - (ca_bs P s + ca_bp P s))) (nI s), upd pi (ca_pb P s + (i - (ca_bs P s + ca_bp P s))) (nI i), upd pu (ca_pb P s + (i - (ca_bs P s + ca_bp P s))) m) ⟨?_, ?_, ?_⟩))))
    · show nI _ = nI _
      congr 1; omega
    · exact ca_LNs h2 (Nat.le_refl s)
    · have q1 := ca_LBs h3 (m := m) (by rw [enk]; exact hm)
      rw [epit, show i - (ca_bs P s + ca_bp P s) + 1 = i + 1 - (ca_bs P s + ca_bp P s) by omega] at q1
      exact q1
theorem xl_layOutPoints {post : SX → Prop} (hW : ca_WF P) (hF : ca_IF P) (hTF : ca_TF P (ca_B P)) (hP : ca_AP P a_itemKind a_itemBlock a_itemA a_itemB) (hA : ca_AT P (ca_B P) a_termKind a_termValue a_termFirst a_termSecond) (hb : ca_AB P a_blockStart a_blockPhis a_blockItems) (K : ∀ pb pk pi pu, ca_AL P pb pk pi pu → post (f_phiKind, f_jumpKind, f_branchKind, f_retKind, f_far, f_registerEnd, f_firstSlot, f_cellEnd, f_edgeCode, f_blockLimit, f_itemLimit, f_outLimit, f_stage, f_open, (nI (ca_B P)), (nI (ca_N P)), f_edges, (nI (ca_T P)), f_greatestPressure, f_everLive, f_registers, f_usedRegisters, f_placedBlocks, f_codeSize, f_current, f_returned, f_outSize, a_blockStart, a_blockPhis, a_blockItems, a_termKind, a_termValue, a_termFirst, a_termSecond, a_itemKind, a_itemA, a_itemB, a_itemBlock, a_edgeFrom, a_edgeTo, a_edgeOrder, a_edgeArgs, a_edgeSets, a_edgeBegin, a_edgeEnd, a_incoming, a_dominators, a_depth, a_parent, pb, pk, pi, pu, a_live, a_distance, a_neighbours, a_colour, a_inRegisters, a_location, a_hint, a_taken, a_moveSource, a_moveReaders, a_codeTo, a_codeFrom, a_codeSwap, a_codeBegin, a_codeEnd, a_outLog, a_params, a_cells)) : wpX_layOutPoints post (f_phiKind, f_jumpKind, f_branchKind, f_retKind, f_far, f_registerEnd, f_firstSlot, f_cellEnd, f_edgeCode, f_blockLimit, f_itemLimit, f_outLimit, f_stage, f_open, (nI (ca_B P)), (nI (ca_N P)), f_edges, f_points, f_greatestPressure, f_everLive, f_registers, f_usedRegisters, f_placedBlocks, f_codeSize, f_current, f_returned, f_outSize, a_blockStart, a_blockPhis, a_blockItems, a_termKind, a_termValue, a_termFirst, a_termSecond, a_itemKind, a_itemA, a_itemB, a_itemBlock, a_edgeFrom, a_edgeTo, a_edgeOrder, a_edgeArgs, a_edgeSets, a_edgeBegin, a_edgeEnd, a_incoming, a_dominators, a_depth, a_parent, a_pointBase, a_pointBlock, a_pointItem, a_pointUses, a_live, a_distance, a_neighbours, a_colour, a_inRegisters, a_location, a_hint, a_taken, a_moveSource, a_moveReaders, a_codeTo, a_codeFrom, a_codeSwap, a_codeBegin, a_codeEnd, a_outLog, a_params, a_cells) := by
  have hB := ca_wB hW
  have hN := ca_wN hW
  refine ca_loop (σ := Int32 × (Nat → Int32) × (Nat → Int32) × (Nat → Int32) × (Nat → Int32)) (fun n i s => wX_layOutPoints_7 post n (nI i) f_phiKind f_jumpKind f_branchKind f_retKind f_far f_registerEnd f_firstSlot f_cellEnd f_edgeCode f_blockLimit f_itemLimit f_outLimit f_stage f_open (nI (ca_B P)) (nI (ca_N P)) f_edges s.1 f_greatestPressure f_everLive f_registers f_usedRegisters f_placedBlocks f_codeSize f_current f_returned f_outSize a_blockStart a_blockPhis a_blockItems a_termKind a_termValue a_termFirst a_termSecond a_itemKind a_itemA a_itemB a_itemBlock a_edgeFrom a_edgeTo a_edgeOrder a_edgeArgs a_edgeSets a_edgeBegin a_edgeEnd a_incoming a_dominators a_depth a_parent s.2.1 s.2.2.1 s.2.2.2.1 s.2.2.2.2 a_live a_distance a_neighbours a_colour a_inRegisters a_location a_hint a_taken a_moveSource a_moveReaders a_codeTo a_codeFrom a_codeSwap a_codeBegin a_codeEnd a_outLog a_params a_cells) (fun i s => s.1 = nI (ca_pb P i) ∧ ca_LN P i s.2.1 s.2.2.1 s.2.2.2.1 s.2.2.2.2) 0 (ca_B P) (by omega) (0, a_pointBase, a_pointBlock, a_pointItem, a_pointUses) ⟨rfl, fun s hs => by omega⟩ ?_ ?_
  · rintro n ⟨T, pb, pk, pi, pu⟩ ⟨h1, h2⟩
    dsimp only at h1 h2
    subst h1
    refine br_t (nI_le (Nat.le_refl _) (by omega)) (K pb pk pi pu fun s hs => ⟨(h2 s hs).1, fun k hk => (h2 s hs).2 k (by omega)⟩)
  · rintro n i ⟨T, pb, pk, pi, pu⟩ _ hi ⟨h1, h2⟩ ih
    dsimp only at h1 h2
    subst h1
    have hb' := hb i hi
    refine br_f (nI_ge hi (by omega)) (ca_vi (ca_wr (ca_vi (ca_vi (nm_r (e' := nI (ca_bs P i + ca_bi P i)) (by rw [ca_r hb'.1, ca_r hb'.2.2, nI_add]) (ca_vi (ca_vi (nm_r (e' := nI (ca_bs P i + ca_bp P i)) (by rw [ca_r hb'.1, ca_r hb'.2.1, nI_add]) ?_))))))))
    refine xl_lay53 hW hF hTF hP hA hi ?_ pk_us (fun pk pi pu h => ih (nI (ca_pb P (i + 1)), upd pb i (nI (ca_pb P i)), pk, pi, pu) ⟨rfl, h⟩)
    intro t ht
    rw [pk_un (by omega)]
    exact h2 t ht
theorem xl_collectEdgeMasks {post : SX → Prop} (hW : ca_WF P) (hT : ca_TE P) (hF : ca_IF P) (hE : ca_AE P a_edgeFrom a_edgeTo a_edgeOrder) (hb : ca_AB P a_blockStart a_blockPhis a_blockItems) (hP : ca_AP P a_itemKind a_itemBlock a_itemA a_itemB) (K : ∀ ea es, ca_AM P ea es → post (f_phiKind, f_jumpKind, f_branchKind, f_retKind, f_far, f_registerEnd, f_firstSlot, f_cellEnd, f_edgeCode, f_blockLimit, f_itemLimit, f_outLimit, f_stage, f_open, (nI (ca_B P)), (nI (ca_N P)), (nI (ca_E P)), (nI (ca_T P)), f_greatestPressure, f_everLive, f_registers, f_usedRegisters, f_placedBlocks, f_codeSize, f_current, f_returned, f_outSize, a_blockStart, a_blockPhis, a_blockItems, a_termKind, a_termValue, a_termFirst, a_termSecond, a_itemKind, a_itemA, a_itemB, a_itemBlock, a_edgeFrom, a_edgeTo, a_edgeOrder, ea, es, a_edgeBegin, a_edgeEnd, a_incoming, a_dominators, a_depth, a_parent, a_pointBase, a_pointBlock, a_pointItem, a_pointUses, a_live, a_distance, a_neighbours, a_colour, a_inRegisters, a_location, a_hint, a_taken, a_moveSource, a_moveReaders, a_codeTo, a_codeFrom, a_codeSwap, a_codeBegin, a_codeEnd, a_outLog, a_params, a_cells)) : wpX_collectEdgeMasks post (f_phiKind, f_jumpKind, f_branchKind, f_retKind, f_far, f_registerEnd, f_firstSlot, f_cellEnd, f_edgeCode, f_blockLimit, f_itemLimit, f_outLimit, f_stage, f_open, (nI (ca_B P)), (nI (ca_N P)), (nI (ca_E P)), (nI (ca_T P)), f_greatestPressure, f_everLive, f_registers, f_usedRegisters, f_placedBlocks, f_codeSize, f_current, f_returned, f_outSize, a_blockStart, a_blockPhis, a_blockItems, a_termKind, a_termValue, a_termFirst, a_termSecond, a_itemKind, a_itemA, a_itemB, a_itemBlock, a_edgeFrom, a_edgeTo, a_edgeOrder, a_edgeArgs, a_edgeSets, a_edgeBegin, a_edgeEnd, a_incoming, a_dominators, a_depth, a_parent, a_pointBase, a_pointBlock, a_pointItem, a_pointUses, a_live, a_distance, a_neighbours, a_colour, a_inRegisters, a_location, a_hint, a_taken, a_moveSource, a_moveReaders, a_codeTo, a_codeFrom, a_codeSwap, a_codeBegin, a_codeEnd, a_outLog, a_params, a_cells) := by
  have hB := ca_wB hW
  have hN := ca_wN hW
  have hE16 := ca_Ele (P := P) hB
  refine ca_loop (σ := (Nat → Int32) × (Nat → Int32)) (fun n j s => wX_collectEdgeMasks_2 post f_phiKind f_jumpKind f_branchKind f_retKind f_far f_registerEnd f_firstSlot f_cellEnd f_edgeCode f_blockLimit f_itemLimit f_outLimit f_stage f_open (nI (ca_B P)) (nI (ca_N P)) (nI (ca_E P)) (nI (ca_T P)) f_greatestPressure f_everLive f_registers f_usedRegisters f_placedBlocks f_codeSize f_current f_returned f_outSize n (nI j) a_blockStart a_blockPhis a_blockItems a_termKind a_termValue a_termFirst a_termSecond a_itemKind a_itemA a_itemB a_itemBlock a_edgeFrom a_edgeTo a_edgeOrder s.1 s.2 a_edgeBegin a_edgeEnd a_incoming a_dominators a_depth a_parent a_pointBase a_pointBlock a_pointItem a_pointUses a_live a_distance a_neighbours a_colour a_inRegisters a_location a_hint a_taken a_moveSource a_moveReaders a_codeTo a_codeFrom a_codeSwap a_codeBegin a_codeEnd a_outLog a_params a_cells) (fun j s => ∀ e, ca_isE P e → ca_xe P e < j → ∀ v, (bt (s.1 (ca_xe P e)) v = true ↔ ca_fe P v e) ∧ (bt (s.2 (ca_xe P e)) v = true ↔ ca_ph P v (ca_tg P e))) 0 (ca_E P) (by omega) (a_edgeArgs, a_edgeSets) (fun e _ hs => by omega) ?_ ?_
  · rintro n ⟨ea, es⟩ hI
    exact br_t (nI_le (Nat.le_refl _) (by omega)) (K ea es fun e he => hI e he (ca_exe he))
  · rintro n j ⟨ea, es⟩ _ hj hI ih
    dsimp only at hI
    obtain ⟨e, he, ej⟩ := ca_esur hj
    have hE' := hE e he
    rw [ej] at hE'
    have ht := hT e he
    have hbt := hb _ ht
    have q1 := ca_wn hW ht
    have q2 := ca_wp hW ht
    refine br_f (nI_ge hj (by omega)) (ca_vi (ca_wr (ca_vi (ca_wr (ca_vi (ca_rd hE'.2.1 (ca_vi (ca_vi (nm_r (e' := nI (ca_bs P (ca_tg P e) + ca_bp P (ca_tg P e))) (by rw [ca_r hbt.1, ca_r hbt.2.1, nI_add]) (ca_vi (ca_rd hbt.1 ?_)))))))))))
    refine ca_loop (σ := (Nat → Int32) × (Nat → Int32)) (fun k i s => wX_collectEdgeMasks_53 post (wX_collectEdgeMasks_2 post f_phiKind f_jumpKind f_branchKind f_retKind f_far f_registerEnd f_firstSlot f_cellEnd f_edgeCode f_blockLimit f_itemLimit f_outLimit f_stage f_open (nI (ca_B P)) (nI (ca_N P)) (nI (ca_E P)) (nI (ca_T P)) f_greatestPressure f_everLive f_registers f_usedRegisters f_placedBlocks f_codeSize f_current f_returned f_outSize n) (nI j) (nI (ca_bs P (ca_tg P e) + ca_bp P (ca_tg P e))) f_phiKind f_jumpKind f_branchKind f_retKind f_far f_registerEnd f_firstSlot f_cellEnd f_edgeCode f_blockLimit f_itemLimit f_outLimit f_stage f_open (nI (ca_B P)) (nI (ca_N P)) (nI (ca_E P)) (nI (ca_T P)) f_greatestPressure f_everLive f_registers f_usedRegisters f_placedBlocks f_codeSize f_current f_returned f_outSize k (nI i) a_blockStart a_blockPhis a_blockItems a_termKind a_termValue a_termFirst a_termSecond a_itemKind a_itemA a_itemB a_itemBlock a_edgeFrom a_edgeTo a_edgeOrder s.1 s.2 a_edgeBegin a_edgeEnd a_incoming a_dominators a_depth a_parent a_pointBase a_pointBlock a_pointItem a_pointUses a_live a_distance a_neighbours a_colour a_inRegisters a_location a_hint a_taken a_moveSource a_moveReaders a_codeTo a_codeFrom a_codeSwap a_codeBegin a_codeEnd a_outLog a_params a_cells) (fun i s => (∀ f, ca_isE P f → ca_xe P f < j → ∀ v, (bt (s.1 (ca_xe P f)) v = true ↔ ca_fe P v f) ∧ (bt (s.2 (ca_xe P f)) v = true ↔ ca_ph P v (ca_tg P f))) ∧ (∀ v, (bt (s.1 j) v = true ↔ ∃ a, a < i ∧ ca_ph P a (ca_tg P e) ∧ ca_arg P e a = v) ∧ (bt (s.2 j) v = true ↔ v < i ∧ ca_ph P v (ca_tg P e)))) (ca_bs P (ca_tg P e)) (ca_bs P (ca_tg P e) + ca_bp P (ca_tg P e)) (by omega) (upd ea j 0, upd es j 0) ⟨?_, ?_⟩ ?_ ?_
    · intro f hf hl v
      show (bt (upd ea j 0 (ca_xe P f)) v = true ↔ _) ∧ (bt (upd es j 0 (ca_xe P f)) v = true ↔ _)
      rw [pk_un (by omega), pk_un (by omega)]
      exact hI f hf hl v
    · intro v
      show (bt (upd ea j 0 j) v = true ↔ _) ∧ (bt (upd es j 0 j) v = true ↔ _)
      rw [pk_us, pk_us, ca_b0i]
      refine ⟨⟨fun z => z.elim, ?_⟩, ⟨fun z => z.elim, ?_⟩⟩
      · rintro ⟨a, a1, a2, _⟩
        have := (ca_wph hW ht).mp a2
        omega
      · rintro ⟨a1, a2⟩
        have := (ca_wph hW ht).mp a2
        omega
    · rintro k ⟨ea, es⟩ ⟨hJ1, hJ2⟩
      dsimp only at hJ1 hJ2
      refine br_t (nI_le (Nat.le_refl _) (by omega)) (ca_in (ih (ea, es) fun f hf hl v => ?_))
      by_cases z : ca_xe P f = j
      · have := ca_einj hf he (by omega)
        subst this
        show (bt (ea (ca_xe P f)) v = true ↔ _) ∧ (bt (es (ca_xe P f)) v = true ↔ _)
        rw [ej, (hJ2 v).1, (hJ2 v).2]
        refine ⟨⟨?_, ?_⟩, ⟨fun y => y.2, fun y => ⟨((ca_wph hW ht).mp y).2, y⟩⟩⟩
        · rintro ⟨a, _, a2, a3⟩; exact ⟨a, a2, a3⟩
        · rintro ⟨a, a2, a3⟩; exact ⟨a, ((ca_wph hW ht).mp a2).2, a2, a3⟩
      · exact hJ1 f hf (by omega) v
    · rintro k i ⟨ea, es⟩ hi0 hi ⟨hJ1, hJ2⟩ ih2
      dsimp only at hJ1 hJ2
      have hph : ca_ph P i (ca_tg P e) := (ca_wph hW ht).mpr ⟨hi0, hi⟩
      have ha := ca_arg32 hF (e := e) hph
      refine br_f (nI_ge hi (by omega)) (xl_phiArgument hW hP hE he ej hph (ca_vi (ca_vi (ca_wx j rfl (by rw [nI_clamp (n := j) (by omega)]) (ca_vi (ca_vi (ca_wx j rfl (by rw [nI_clamp (n := j) (by omega)]) (ca_in (ih2 (upd ea j (ea j ||| ((1 : Int32) <<< (nI (ca_arg P e i) &&& 31))), upd es j (es j ||| ((1 : Int32) <<< (nI i &&& 31)))) ⟨?_, ?_⟩)))))))))
      · intro f hf hl v
        show (bt (upd ea j _ (ca_xe P f)) v = true ↔ _) ∧ (bt (upd es j _ (ca_xe P f)) v = true ↔ _)
        rw [pk_un (by omega), pk_un (by omega)]
        exact hJ1 f hf hl v
      · intro v
        show (bt (upd ea j _ j) v = true ↔ _) ∧ (bt (upd es j _ j) v = true ↔ _)
        rw [pk_us, pk_us, ca_bset ha, ca_bset (by omega), (hJ2 v).1, (hJ2 v).2]
        refine ⟨⟨?_, ?_⟩, ⟨?_, ?_⟩⟩
        · rintro (⟨a, a1, a2, a3⟩ | a)
          · exact ⟨a, by omega, a2, a3⟩
          · exact ⟨i, by omega, hph, a.symm⟩
        · rintro ⟨a, a1, a2, a3⟩
          by_cases z : a = i
          · subst z; exact Or.inr a3.symm
          · exact Or.inl ⟨a, by omega, a2, a3⟩
        · rintro (⟨a1, a2⟩ | a)
          · exact ⟨by omega, a2⟩
          · subst a; exact ⟨by omega, hph⟩
        · rintro ⟨a1, a2⟩
          by_cases z : v = i
          · exact Or.inr z
          · exact Or.inl ⟨by omega, a2⟩
end
end
section
/-! X: next uses -/
def ca_XS (P : ca_PG) (D : Nat → Int32) : Prop := ∀ p, p < ca_T P → ∀ v, v < ca_N P → ∃ g, g ≤ 1000 ∧ D (p * 32 + v) = nI g ∧ (g < 1000 → ca_DW P v g (ca_nm P p))
def ca_Dle (D : Nat → Int32) (p v d : Nat) : Prop := ∃ g, g ≤ d ∧ g ≤ 1000 ∧ D (p * 32 + v) = nI g
def ca_XL (P : ca_PG) (r : Nat) (D : Nat → Int32) : Prop := ∀ p, p < ca_T P → ∀ v, v < ca_N P → ∀ d, d < r → ca_DW P v d (ca_nm P p) → ca_Dle D p v d
def ca_FD (P : ca_PG) (D : Nat → Int32) (p v : Nat) : Prop := ∀ d, (∀ p, p < ca_T P → ∀ k, k < d → ca_DW P v k (ca_nm P p) → ca_Dle D p v k) → ca_DW P v d (ca_nm P p) → ca_Dle D p v d
section
variable {P : ca_PG}
theorem ca_Dlev {D : Nat → Int32} {p v d g : Nat} (h : ca_Dle D p v d) (e : D (p * 32 + v) = nI g) (hg : g ≤ 1001) : g ≤ d := by
  obtain ⟨k, k1, k2, k3⟩ := h
  rw [e] at k3
  have := ca_ninj k3 (by omega) (by omega)
  omega
theorem ca_XLall {D : Nat → Int32} (h : ∀ p, p < ca_T P → ∀ v, v < ca_N P → ca_FD P D p v) (r : Nat) : ca_XL P r D := by
  induction r with
  | zero => intro p _ v _ d hd; omega
  | succ r ih =>
    intro p hp v hv d hd hw
    exact h p hp v hv d (fun p' hp' k hk hw' => ih p' hp' v hv k (by omega) hw') hw
theorem ca_XLfin (hW : ca_WF P) (hT : ca_TE P) {D : Nat → Int32} (h1 : ca_XS P D) (h2 : ca_XL P 42 D) : ca_AX P D := by
  intro p hp v hv
  obtain ⟨g, g1, g2, g3⟩ := h1 p hp v hv
  by_cases hl : ca_Lv P v (ca_nm P p)
  · obtain ⟨d, hd⟩ := hl
    obtain ⟨m, m1, _, m2⟩ := ca_dwb hW hT (ca_nmP hW hp) hd
    have h3 := ca_Dlev (h2 p hp v hv m (by omega) m2.1) g2 (by omega)
    have h4 : ¬ g < m := fun z => m2.2 g z (g3 (by omega))
    have : g = m := by omega
    subst this
    exact Or.inl ⟨g, m1, m2, g2⟩
  · refine Or.inr ⟨hl, ?_⟩
    have : ¬ g < 1000 := fun z => hl ⟨g, g3 z⟩
    rw [g2, show g = 1000 by omega]
    rfl
theorem ca_ese {s e : Nat} (he : ca_isE P e) (h1 : ca_xe P (2 * s) ≤ ca_xe P e) (h2 : ca_xe P e < ca_xe P (2 * s + 2)) : e / 2 = s := by
  have a : 2 * s ≤ e := by
    rcases Nat.lt_or_ge e (2 * s) with z | z
    · have : ca_xe P e < ca_xe P (2 * s) := ca_cn_str he z
      omega
    · exact z
  have b : e < 2 * s + 2 := by
    rcases Nat.lt_or_ge e (2 * s + 2) with z | z
    · exact z
    · have : ca_xe P (2 * s + 2) ≤ ca_xe P e := ca_cn_up _ z
      omega
  omega
theorem ca_ese2 {s e : Nat} (he : ca_isE P e) (h : e / 2 = s) : ca_xe P (2 * s) ≤ ca_xe P e ∧ ca_xe P e < ca_xe P (2 * s + 2) :=
  ⟨ca_cn_up _ (by omega), ca_cn_str he (by omega)⟩
theorem ca_idx {p v : Nat} (hp : p < 40) (hv : v < 32) : p * 32 + v < 1280 := by omega
variable {f_phiKind f_jumpKind f_branchKind f_retKind f_far f_registerEnd f_firstSlot f_cellEnd f_edgeCode f_blockLimit f_itemLimit f_outLimit f_stage f_open f_blocks f_items f_edges f_points f_greatestPressure f_everLive f_registers f_usedRegisters f_placedBlocks f_codeSize f_current f_returned f_outSize : Int32} {a_blockStart a_blockPhis a_blockItems a_termKind a_termValue a_termFirst a_termSecond a_itemKind a_itemA a_itemB a_itemBlock a_edgeFrom a_edgeTo a_edgeOrder a_edgeArgs a_edgeSets a_edgeBegin a_edgeEnd a_incoming a_dominators a_depth a_parent a_pointBase a_pointBlock a_pointItem a_pointUses a_live a_distance a_neighbours a_colour a_inRegisters a_location a_hint a_taken a_moveSource a_moveReaders a_codeTo a_codeFrom a_codeSwap a_codeBegin a_codeEnd a_outLog a_params a_cells : Nat → Int32}
theorem xl_distanceAlong {post : Int32 → Prop} {e j v : Nat} (hW : ca_WF P) (hT : ca_TE P) (hE : ca_AE P a_edgeFrom a_edgeTo a_edgeOrder) (hM : ca_AM P a_edgeArgs a_edgeSets) (hL : ca_AL P a_pointBase a_pointBlock a_pointItem a_pointUses) (hS : ca_XS P a_distance) (he : ca_isE P e) (ej : ca_xe P e = j) (hv : v < ca_N P) (K : ∀ f, f ≤ 1001 → (f < 1000 → (f = 1 ∧ ca_fe P v e) ∨ (∃ g, f = g + 1 ∧ ¬ ca_ph P v (ca_tg P e) ∧ ca_DW P v g (ca_st P (ca_tg P e)))) → (ca_fe P v e → f = 1) → (¬ ca_ph P v (ca_tg P e) → ∀ d, ca_Dle a_distance (ca_pb P (ca_tg P e)) v d → f ≤ d + 1) → post (nI f)) : wpX_distanceAlong post (f_phiKind, f_jumpKind, f_branchKind, f_retKind, f_far, f_registerEnd, f_firstSlot, f_cellEnd, f_edgeCode, f_blockLimit, f_itemLimit, f_outLimit, f_stage, f_open, (nI (ca_B P)), (nI (ca_N P)), (nI (ca_E P)), (nI (ca_T P)), f_greatestPressure, f_everLive, f_registers, f_usedRegisters, f_placedBlocks, f_codeSize, f_current, f_returned, f_outSize, a_blockStart, a_blockPhis, a_blockItems, a_termKind, a_termValue, a_termFirst, a_termSecond, a_itemKind, a_itemA, a_itemB, a_itemBlock, a_edgeFrom, a_edgeTo, a_edgeOrder, a_edgeArgs, a_edgeSets, a_edgeBegin, a_edgeEnd, a_incoming, a_dominators, a_depth, a_parent, a_pointBase, a_pointBlock, a_pointItem, a_pointUses, a_live, a_distance, a_neighbours, a_colour, a_inRegisters, a_location, a_hint, a_taken, a_moveSource, a_moveReaders, a_codeTo, a_codeFrom, a_codeSwap, a_codeBegin, a_codeEnd, a_outLog, a_params, a_cells) (nI j) (nI v) := by
  have hB := ca_wB hW
  have hN := ca_wN hW
  have hE16 := ca_Ele (P := P) hB
  have hj := ca_exe he
  have hE' := hE e he
  have hM' := hM e he v
  rw [ej] at hE' hM' hj
  have ht := hT e he
  have hp := ca_pbT ht
  have h40 := ca_T40' hW
  obtain ⟨g, g1, g2, g3⟩ := hS _ hp v hv
  rw [ca_nmst ht] at g3
  refine ca_vi (xl_has _ rfl (by omega) (fun hb => ?_) (fun hb => ?_))
  · rw [nI_clamp (n := j) (by omega)] at hb
    have hf := hM'.1.mp hb
    exact br_f (by decide) (K 1 (by omega) (fun _ => Or.inl ⟨rfl, hf⟩) (fun _ => rfl) (fun _ d _ => by omega))
  · rw [nI_clamp (n := j) (by omega)] at hb
    have hf : ¬ ca_fe P v e := fun z => ca_ff hb (hM'.1.mpr z)
    refine br_t rfl (ca_vi (xl_has _ rfl (by omega) (fun hb2 => ?_) (fun hb2 => ?_)))
    · rw [nI_clamp (n := j) (by omega)] at hb2
      have hph := hM'.2.mp hb2
      exact br_f (by decide) (K 1000 (by omega) (fun z => by omega) (fun z => absurd z hf) (fun z => absurd hph z))
    · rw [nI_clamp (n := j) (by omega)] at hb2
      have hph : ¬ ca_ph P v (ca_tg P e) := fun z => ca_ff hb2 (hM'.2.mpr z)
      have e1 : a_pointBase (a_edgeTo (nI j).toNatClampNeg).toNatClampNeg * 32 + nI v = nI (ca_pb P (ca_tg P e) * 32 + v) := by
        rw [ca_r hE'.2.1, ca_r (hL _ ht).1, ca_mul32]
      refine br_t rfl (ca_vi (ca_vx _ (ca_r hE'.2.1) (ca_vx _ e1 ?_ (by omega))))
      rw [e1, ca_r g2]
      show post (nI 1 + nI g)
      rw [nI_add]
      refine K (1 + g) (by omega) (fun z => Or.inr ⟨g, by omega, hph, g3 (by omega)⟩) (fun z => absurd z hf) (fun _ d hd => ?_)
      have := ca_Dlev hd g2 (by omega)
      omega
theorem xl_df76 {post : Int32 → Prop} {s v : Nat} (hW : ca_WF P) (hT : ca_TE P) (hE : ca_AE P a_edgeFrom a_edgeTo a_edgeOrder) (hG : ca_AG P a_edgeBegin a_edgeEnd) (hM : ca_AM P a_edgeArgs a_edgeSets) (hL : ca_AL P a_pointBase a_pointBlock a_pointItem a_pointUses) (hS : ca_XS P a_distance) (hs : s < ca_B P) (hv : v < ca_N P) (hnu : ¬ ca_us P v (32 + s)) (K : ∀ f, f ≤ 1001 → (f < 1000 → ca_DW P v f (32 + s)) → (∀ d, (∀ p, p < ca_T P → ∀ k, k < d → ca_DW P v k (ca_nm P p) → ca_Dle a_distance p v k) → ca_DW P v d (32 + s) → f ≤ d) → post (nI f)) : ∃ n, wX_distanceFrom_76 post (nI v) (nI s) f_phiKind f_jumpKind f_branchKind f_retKind f_far f_registerEnd f_firstSlot f_cellEnd f_edgeCode f_blockLimit f_itemLimit f_outLimit f_stage f_open (nI (ca_B P)) (nI (ca_N P)) (nI (ca_E P)) (nI (ca_T P)) f_greatestPressure f_everLive f_registers f_usedRegisters f_placedBlocks f_codeSize f_current f_returned f_outSize a_blockStart a_blockPhis a_blockItems a_termKind a_termValue a_termFirst a_termSecond a_itemKind a_itemA a_itemB a_itemBlock a_edgeFrom a_edgeTo a_edgeOrder a_edgeArgs a_edgeSets a_edgeBegin a_edgeEnd a_incoming a_dominators a_depth a_parent a_pointBase a_pointBlock a_pointItem a_pointUses a_live a_distance a_neighbours a_colour a_inRegisters a_location a_hint a_taken a_moveSource a_moveReaders a_codeTo a_codeFrom a_codeSwap a_codeBegin a_codeEnd a_outLog a_params a_cells n 1000 (nI (ca_xe P (2 * s))) := by
  have hB := ca_wB hW
  have hN := ca_wN hW
  have hG' := hG s hs
  have x2 := ca_xele (P := P) hB (e := 2 * s + 2) (by omega)
  have e32 : 32 + s - 32 = s := by omega
  refine ca_loop (σ := Int32) (fun n j b => wX_distanceFrom_76 post (nI v) (nI s) f_phiKind f_jumpKind f_branchKind f_retKind f_far f_registerEnd f_firstSlot f_cellEnd f_edgeCode f_blockLimit f_itemLimit f_outLimit f_stage f_open (nI (ca_B P)) (nI (ca_N P)) (nI (ca_E P)) (nI (ca_T P)) f_greatestPressure f_everLive f_registers f_usedRegisters f_placedBlocks f_codeSize f_current f_returned f_outSize a_blockStart a_blockPhis a_blockItems a_termKind a_termValue a_termFirst a_termSecond a_itemKind a_itemA a_itemB a_itemBlock a_edgeFrom a_edgeTo a_edgeOrder a_edgeArgs a_edgeSets a_edgeBegin a_edgeEnd a_incoming a_dominators a_depth a_parent a_pointBase a_pointBlock a_pointItem a_pointUses a_live a_distance a_neighbours a_colour a_inRegisters a_location a_hint a_taken a_moveSource a_moveReaders a_codeTo a_codeFrom a_codeSwap a_codeBegin a_codeEnd a_outLog a_params a_cells n b (nI j)) (fun j b => ∃ f, f ≤ 1000 ∧ b = nI f ∧ (f < 1000 → ca_DW P v f (32 + s)) ∧ ∀ e, ca_isE P e → e / 2 = s → ca_xe P e < j → (ca_fe P v e → f ≤ 1) ∧ (¬ ca_ph P v (ca_tg P e) → ∀ d, ca_Dle a_distance (ca_pb P (ca_tg P e)) v d → f ≤ d + 1)) (ca_xe P (2 * s)) (ca_xe P (2 * s + 2)) (ca_cn_up _ (by omega)) 1000 ?_ ?_ ?_
  · refine ⟨1000, by omega, rfl, fun z => by omega, fun e he h1 h2 => ?_⟩
    have := (ca_ese2 he h1).1
    omega
  · rintro n b ⟨f, f1, rfl, f3, f4⟩
    refine ca_vi (br_t ?_ (K f (by omega) f3 (fun d hd hw => ?_)))
    · rw [ca_r hG'.2]; exact nI_le (Nat.le_refl _) (by omega)
    · cases d with
      | zero => exact absurd hw hnu
      | succ d =>
        obtain ⟨w, w1, w2, w3⟩ := hw
        rw [e32] at w3
        have hE2 : ca_isE P (2 * s + w) := by
          rcases w2 with z | z
          · omega
          · rw [e32] at z; exact z.2
        have h4 := f4 _ hE2 (by omega) (ca_ese2 hE2 (by omega)).2
        rcases w3 with ⟨w4, _, w5⟩ | ⟨w4, w5⟩
        · have := h4.1 w5; omega
        · have ht := hT _ hE2
          have hnx : ca_nx P (32 + s) w = ca_st P (ca_tg P (2 * s + w)) := by
            unfold ca_nx
            rw [if_neg (by omega), e32]
          rw [hnx] at w5
          refine h4.2 (fun z => w4 (Or.inr ⟨by omega, ?_⟩)) d (hd _ (ca_pbT ht) d (by omega) ?_)
          · rw [e32]; exact z
          · rw [ca_nmst ht]; exact w5
  · rintro n j b hj0 hj ⟨f, f1, rfl, f3, f4⟩ ih
    have hjE : j < ca_E P := Nat.lt_of_lt_of_le hj (ca_cn_up _ (by omega))
    obtain ⟨e, he, ej⟩ := ca_esur hjE
    have hes : e / 2 = s := ca_ese he (by omega) (by omega)
    refine ca_vi (br_f ?_ (xl_distanceAlong hW hT hE hM hL hS he ej hv (fun h h1 h2 h3 h4 => ?_)))
    · rw [ca_r hG'.2]; exact nI_ge hj (by omega)
    · refine pk_le f h (fun z => ?_) (fun z => ?_)
      · refine ca_in (ih _ ⟨f, f1, rfl, f3, fun g hg g1 g2 => ?_⟩)
        by_cases y : ca_xe P g = j
        · have := ca_einj hg he (by omega)
          subst this
          exact ⟨fun q => by have := h3 q; omega, fun q d hd => by have := h4 q d hd; omega⟩
        · exact f4 g hg g1 (by omega)
      · refine ca_in (ih _ ⟨h, by omega, rfl, fun q => ?_, fun g hg g1 g2 => ?_⟩)
        · have hw2 : ∃ w, w < 2 ∧ e = 2 * s + w := ⟨e - 2 * s, by omega, by omega⟩
          obtain ⟨w, w1, w2⟩ := hw2
          subst w2
          rcases h2 q with ⟨q1, q2⟩ | ⟨g, q1, q2, q3⟩
          · subst q1
            exact ⟨w, w1, Or.inr ⟨by omega, by rw [e32]; exact he⟩, Or.inl ⟨rfl, by omega, by rw [e32]; exact q2⟩⟩
          · subst q1
            refine ⟨w, w1, Or.inr ⟨by omega, by rw [e32]; exact he⟩, Or.inr ⟨?_, ?_⟩⟩
            · rintro (⟨y, _⟩ | ⟨_, y⟩)
              · omega
              · rw [e32] at y; exact q2 y
            · unfold ca_nx
              rw [if_neg (by omega), e32]; exact q3
        · by_cases y : ca_xe P g = j
          · have := ca_einj hg he (by omega)
            subst this
            exact ⟨fun q => by have := h3 q; omega, fun q d hd => by have := h4 q d hd; omega⟩
          · have := f4 g hg g1 (by omega)
            exact ⟨fun q => by have := this.1 q; omega, fun q d hd => by have := this.2 q d hd; omega⟩
theorem xl_distanceFrom {post : Int32 → Prop} {p v : Nat} (hW : ca_WF P) (hT : ca_TE P) (hE : ca_AE P a_edgeFrom a_edgeTo a_edgeOrder) (hG : ca_AG P a_edgeBegin a_edgeEnd) (hM : ca_AM P a_edgeArgs a_edgeSets) (hL : ca_AL P a_pointBase a_pointBlock a_pointItem a_pointUses) (hS : ca_XS P a_distance) (hp : p < ca_T P) (hv : v < ca_N P) (K : ∀ f, f ≤ 1001 → (f < 1000 → ca_DW P v f (ca_nm P p)) → (∀ d, (∀ p, p < ca_T P → ∀ k, k < d → ca_DW P v k (ca_nm P p) → ca_Dle a_distance p v k) → ca_DW P v d (ca_nm P p) → f ≤ d) → post (nI f)) : wpX_distanceFrom post (f_phiKind, f_jumpKind, f_branchKind, f_retKind, f_far, f_registerEnd, f_firstSlot, f_cellEnd, f_edgeCode, f_blockLimit, f_itemLimit, f_outLimit, f_stage, f_open, (nI (ca_B P)), (nI (ca_N P)), (nI (ca_E P)), (nI (ca_T P)), f_greatestPressure, f_everLive, f_registers, f_usedRegisters, f_placedBlocks, f_codeSize, f_current, f_returned, f_outSize, a_blockStart, a_blockPhis, a_blockItems, a_termKind, a_termValue, a_termFirst, a_termSecond, a_itemKind, a_itemA, a_itemB, a_itemBlock, a_edgeFrom, a_edgeTo, a_edgeOrder, a_edgeArgs, a_edgeSets, a_edgeBegin, a_edgeEnd, a_incoming, a_dominators, a_depth, a_parent, a_pointBase, a_pointBlock, a_pointItem, a_pointUses, a_live, a_distance, a_neighbours, a_colour, a_inRegisters, a_location, a_hint, a_taken, a_moveSource, a_moveReaders, a_codeTo, a_codeFrom, a_codeSwap, a_codeBegin, a_codeEnd, a_outLog, a_params, a_cells) (nI p) (nI v) := by
  have hB := ca_wB hW
  have hN := ca_wN hW
  have h40 := ca_T40' hW
  obtain ⟨s, k, hs, hk, rfl⟩ := ca_ptex hp
  have hL' := (hL s hs).2 k hk
  have hnm := ca_nmat hs hk
  rw [hnm] at K
  refine ca_vi (xl_has _ rfl (by omega) (fun hb => ?_) (fun hb => ?_))
  · rw [nI_clamp (n := ca_pb P s + k) (by omega), hL'.2.2] at hb
    exact br_f (by decide) (K 0 (by omega) (fun _ => hb) (fun _ _ _ => by omega))
  · rw [nI_clamp (n := ca_pb P s + k) (by omega)] at hb
    have hnu : ¬ ca_us P v (ca_nk P s k) := fun z => ca_ff hb ((hL'.2.2 v).mpr z)
    refine br_t rfl (ca_vi (ca_rd hL'.2.1 ?_))
    rcases Nat.lt_or_ge k (ca_ni P s) with z | z
    · have hit : ca_pit P s k = nI (ca_bs P s + ca_bp P s + k) := if_pos z
      have hq := ca_nklo z
      have hw1 := ca_wn hW hs
      have hz := z
      unfold ca_ni at hz
      rw [hit]
      refine ca_lt0 (pk_eq (ca_bs P s + ca_bp P s + k) v (fun y => ?_) (fun y => ?_))
      · refine K 1000 (by omega) (fun w => by omega) (fun d _ hw => ?_)
        cases d with
        | zero => exact absurd hw hnu
        | succ d =>
          obtain ⟨w, w1, w2, w3⟩ := hw
          rcases w3 with ⟨_, w4, _⟩ | ⟨w4, _⟩
          · omega
          · exact absurd (Or.inl ⟨by omega, by omega⟩) w4
      · have hp1 := ca_ptlt hs (show k + 1 ≤ ca_ni P s from z)
        obtain ⟨g, g1, g2, g3⟩ := hS _ hp1 v hv
        have hnx := ca_nmnx hW hs z
        have hnm1 := ca_nmat hs (show k + 1 ≤ ca_ni P s from z)
        rw [hnm1] at g3
        have e1 : (nI (ca_pb P s + k) + 1) * 32 + nI v = nI ((ca_pb P s + (k + 1)) * 32 + v) := by
          rw [ca_mulp]; rfl
        refine ca_vx _ e1 ?_ (by omega)
        rw [e1, ca_r g2]
        show post (nI 1 + nI g)
        rw [nI_add]
        refine K (1 + g) (by omega) (fun w => ?_) (fun d hd hw => ?_)
        · rw [show 1 + g = g + 1 by omega]
          refine ⟨0, by omega, Or.inl ⟨by omega, rfl⟩, Or.inr ⟨?_, ?_⟩⟩
          · rintro (⟨_, y2⟩ | ⟨y2, _⟩)
            · omega
            · omega
          · rw [hnx]; exact g3 (by omega)
        · cases d with
          | zero => exact absurd hw hnu
          | succ d =>
            obtain ⟨w, w1, w2, w3⟩ := hw
            have hw0 : w = 0 := by
              rcases w2 with y2 | y2
              · exact y2.2
              · omega
            subst hw0
            rcases w3 with ⟨_, w4, _⟩ | ⟨_, w4⟩
            · omega
            · rw [hnx, ← hnm1] at w4
              have := ca_Dlev (hd _ hp1 d (by omega) w4) g2 (by omega)
              omega
    · have hit : ca_pit P s k = -1 := if_neg (by omega)
      have hk2 : k = ca_ni P s := by omega
      have hq := ca_nkhi z
      rw [hq] at K hnu
      rw [hit]
      exact ca_m0 (ca_vi (ca_rd hL'.1 (ca_vi (ca_rd (hG s hs).1 (xl_df76 hW hT hE hG hM hL hS hs hv hnu K)))))
end
end
section
/-! X: relaxation, liveness, interference -/
def ca_xv (T i : Nat) : Int32 := if i < T then nI (T - 1 - i) else -1
section
variable {P : ca_PG}
theorem ca_Dup {D : Nat → Int32} {p i p' v' d g f : Nat} (hi : i < 32) (hv : v' < 32) (e : D (p * 32 + i) = nI g) (hg : g ≤ 1000) (hf : f ≤ g) (h : ca_Dle D p' v' d) : ca_Dle (upd D (p * 32 + i) (nI f)) p' v' d := by
  by_cases z : p' = p ∧ v' = i
  · obtain ⟨z1, z2⟩ := z
    subst z1 z2
    have := ca_Dlev h e (by omega)
    exact ⟨f, by omega, by omega, pk_us⟩
  · obtain ⟨k, k1, k2, k3⟩ := h
    refine ⟨k, k1, k2, ?_⟩
    rw [pk_un (by omega)]
    exact k3
variable {f_phiKind f_jumpKind f_branchKind f_retKind f_far f_registerEnd f_firstSlot f_cellEnd f_edgeCode f_blockLimit f_itemLimit f_outLimit f_stage f_open f_blocks f_items f_edges f_points f_greatestPressure f_everLive f_registers f_usedRegisters f_placedBlocks f_codeSize f_current f_returned f_outSize : Int32} {a_blockStart a_blockPhis a_blockItems a_termKind a_termValue a_termFirst a_termSecond a_itemKind a_itemA a_itemB a_itemBlock a_edgeFrom a_edgeTo a_edgeOrder a_edgeArgs a_edgeSets a_edgeBegin a_edgeEnd a_incoming a_dominators a_depth a_parent a_pointBase a_pointBlock a_pointItem a_pointUses a_live a_distance a_neighbours a_colour a_inRegisters a_location a_hint a_taken a_moveSource a_moveReaders a_codeTo a_codeFrom a_codeSwap a_codeBegin a_codeEnd a_outLog a_params a_cells : Nat → Int32}
theorem xl_improvePoint {post : Int32 → SX → Prop} {p r : Nat} (hW : ca_WF P) (hT : ca_TE P) (hE : ca_AE P a_edgeFrom a_edgeTo a_edgeOrder) (hG : ca_AG P a_edgeBegin a_edgeEnd) (hM : ca_AM P a_edgeArgs a_edgeSets) (hL : ca_AL P a_pointBase a_pointBlock a_pointItem a_pointUses) (hS : ca_XS P a_distance) (hX : ca_XL P r a_distance) (hp : p < ca_T P) (K : ∀ c D, ca_XS P D → ca_XL P r D → (∀ p v d, p < ca_T P → v < ca_N P → ca_Dle a_distance p v d → ca_Dle D p v d) → (∀ v, v < ca_N P → ∀ d, d < r + 1 → ca_DW P v d (ca_nm P p) → ca_Dle D p v d) → (c = 0 → D = a_distance ∧ ∀ v, v < ca_N P → ca_FD P a_distance p v) → post c (f_phiKind, f_jumpKind, f_branchKind, f_retKind, f_far, f_registerEnd, f_firstSlot, f_cellEnd, f_edgeCode, f_blockLimit, f_itemLimit, f_outLimit, f_stage, f_open, (nI (ca_B P)), (nI (ca_N P)), (nI (ca_E P)), (nI (ca_T P)), f_greatestPressure, f_everLive, f_registers, f_usedRegisters, f_placedBlocks, f_codeSize, f_current, f_returned, f_outSize, a_blockStart, a_blockPhis, a_blockItems, a_termKind, a_termValue, a_termFirst, a_termSecond, a_itemKind, a_itemA, a_itemB, a_itemBlock, a_edgeFrom, a_edgeTo, a_edgeOrder, a_edgeArgs, a_edgeSets, a_edgeBegin, a_edgeEnd, a_incoming, a_dominators, a_depth, a_parent, a_pointBase, a_pointBlock, a_pointItem, a_pointUses, a_live, D, a_neighbours, a_colour, a_inRegisters, a_location, a_hint, a_taken, a_moveSource, a_moveReaders, a_codeTo, a_codeFrom, a_codeSwap, a_codeBegin, a_codeEnd, a_outLog, a_params, a_cells)) : wpX_improvePoint post (f_phiKind, f_jumpKind, f_branchKind, f_retKind, f_far, f_registerEnd, f_firstSlot, f_cellEnd, f_edgeCode, f_blockLimit, f_itemLimit, f_outLimit, f_stage, f_open, (nI (ca_B P)), (nI (ca_N P)), (nI (ca_E P)), (nI (ca_T P)), f_greatestPressure, f_everLive, f_registers, f_usedRegisters, f_placedBlocks, f_codeSize, f_current, f_returned, f_outSize, a_blockStart, a_blockPhis, a_blockItems, a_termKind, a_termValue, a_termFirst, a_termSecond, a_itemKind, a_itemA, a_itemB, a_itemBlock, a_edgeFrom, a_edgeTo, a_edgeOrder, a_edgeArgs, a_edgeSets, a_edgeBegin, a_edgeEnd, a_incoming, a_dominators, a_depth, a_parent, a_pointBase, a_pointBlock, a_pointItem, a_pointUses, a_live, a_distance, a_neighbours, a_colour, a_inRegisters, a_location, a_hint, a_taken, a_moveSource, a_moveReaders, a_codeTo, a_codeFrom, a_codeSwap, a_codeBegin, a_codeEnd, a_outLog, a_params, a_cells) (nI p) := by
  have hB := ca_wB hW
  have hN := ca_wN hW
  have h40 := ca_T40' hW
  refine ca_loop (σ := Int32 × (Nat → Int32)) (fun n i s => wX_improvePoint_4 post (nI p) f_phiKind f_jumpKind f_branchKind f_retKind f_far f_registerEnd f_firstSlot f_cellEnd f_edgeCode f_blockLimit f_itemLimit f_outLimit f_stage f_open (nI (ca_B P)) (nI (ca_N P)) (nI (ca_E P)) (nI (ca_T P)) f_greatestPressure f_everLive f_registers f_usedRegisters f_placedBlocks f_codeSize f_current f_returned f_outSize n s.1 (nI i) a_blockStart a_blockPhis a_blockItems a_termKind a_termValue a_termFirst a_termSecond a_itemKind a_itemA a_itemB a_itemBlock a_edgeFrom a_edgeTo a_edgeOrder a_edgeArgs a_edgeSets a_edgeBegin a_edgeEnd a_incoming a_dominators a_depth a_parent a_pointBase a_pointBlock a_pointItem a_pointUses a_live s.2 a_neighbours a_colour a_inRegisters a_location a_hint a_taken a_moveSource a_moveReaders a_codeTo a_codeFrom a_codeSwap a_codeBegin a_codeEnd a_outLog a_params a_cells) (fun i s => ca_XS P s.2 ∧ ca_XL P r s.2 ∧ (∀ p v d, p < ca_T P → v < ca_N P → ca_Dle a_distance p v d → ca_Dle s.2 p v d) ∧ (∀ v, v < i → ∀ d, d < r + 1 → ca_DW P v d (ca_nm P p) → ca_Dle s.2 p v d) ∧ (s.1 = 0 ∨ s.1 = 1) ∧ (s.1 = 0 → s.2 = a_distance ∧ ∀ v, v < i → ca_FD P a_distance p v)) 0 (ca_N P) (by omega) (0, a_distance) ⟨hS, hX, fun _ _ _ _ _ h => h, fun v hv => by omega, Or.inl rfl, fun _ => ⟨rfl, fun v hv => by omega⟩⟩ ?_ ?_
  · rintro n ⟨c, D⟩ ⟨h1, h2, h3, h4, h5, h6⟩
    refine br_t (nI_le (Nat.le_refl _) (by omega)) ⟨?_, K c D h1 h2 h3 h4 h6⟩
    rcases h5 with z | z
    · dsimp only at z; subst z; exact narrow_b0
    · dsimp only at z; subst z; exact narrow_b1
  · rintro n i ⟨c, D⟩ _ hi ⟨h1, h2, h3, h4, h5, h6⟩ ih
    dsimp only at h1 h2 h3 h4 h5 h6
    obtain ⟨g, g1, g2, g3⟩ := h1 p hp i hi
    refine br_f (nI_ge hi (by omega)) (xl_distanceFrom hW hT hE hG hM hL h1 hp hi (fun f f1 f2 f3 => ?_))
    rw [ca_mul32]
    have hdone : ∀ d, d < r + 1 → ca_DW P i d (ca_nm P p) → f ≤ d := fun d hd hw => f3 d (fun p' hp' k hk hw' => h2 p' hp' i hi k (by omega) hw') hw
    refine ca_vi (pk_le g f (fun z => ?_) (fun z => ?_) (ca_r g2)) (by omega)
    · refine ca_in (ih (c, D) ⟨h1, h2, h3, fun v hv d hd hw => ?_, h5, fun y => ⟨(h6 y).1, fun v hv => ?_⟩⟩)
      · by_cases e : v = i
        · subst e
          exact ⟨g, by have := hdone d hd hw; omega, g1, g2⟩
        · exact h4 v (by omega) d hd hw
      · by_cases e : v = i
        · subst e
          intro d hd hw
          rw [(h6 y).1] at g2 f3
          exact ⟨g, by have := f3 d hd hw; omega, g1, g2⟩
        · exact (h6 y).2 v (by omega)
    · refine ca_vi (ca_wr (ca_in (ih (1, upd D (p * 32 + i) (nI f)) ⟨fun p' hp' v hv => ?_, fun p' hp' v hv d hd hw => ?_, fun p' v d hp' hv h => ?_, fun v hv d hd hw => ?_, Or.inr rfl, fun y => absurd y ca_10⟩))) (by omega)
      · by_cases e : p' = p ∧ v = i
        · obtain ⟨e1, e2⟩ := e
          subst e1 e2
          exact ⟨f, by omega, pk_us, fun w => f2 w⟩
        · show ∃ g, g ≤ 1000 ∧ upd D (p * 32 + i) (nI f) (p' * 32 + v) = nI g ∧ _
          rw [pk_un (by omega)]
          exact h1 p' hp' v hv
      · exact ca_Dup (by omega) (by omega) g2 g1 (by omega) (h2 p' hp' v hv d hd hw)
      · exact ca_Dup (by omega) (by omega) g2 g1 (by omega) (h3 p' v d hp' hv h)
      · by_cases e : v = i
        · subst e
          exact ⟨f, hdone d hd hw, by omega, pk_us⟩
        · exact ca_Dup (by omega) (by omega) g2 g1 (by omega) (h4 v (by omega) d hd hw)
theorem xl_nu47 {post : SX → Prop} {J : Int32 → Int32 → Int32 → Int32 → Int32 → Int32 → Int32 → Int32 → Int32 → Int32 → Int32 → Int32 → Int32 → Int32 → Int32 → Int32 → Int32 → Int32 → Int32 → Int32 → Int32 → Int32 → Int32 → Int32 → Int32 → Int32 → Int32 → Int32 → Int32 → (Nat → Int32) → (Nat → Int32) → (Nat → Int32) → (Nat → Int32) → (Nat → Int32) → (Nat → Int32) → (Nat → Int32) → (Nat → Int32) → (Nat → Int32) → (Nat → Int32) → (Nat → Int32) → (Nat → Int32) → (Nat → Int32) → (Nat → Int32) → (Nat → Int32) → (Nat → Int32) → (Nat → Int32) → (Nat → Int32) → (Nat → Int32) → (Nat → Int32) → (Nat → Int32) → (Nat → Int32) → (Nat → Int32) → (Nat → Int32) → (Nat → Int32) → (Nat → Int32) → (Nat → Int32) → (Nat → Int32) → (Nat → Int32) → (Nat → Int32) → (Nat → Int32) → (Nat → Int32) → (Nat → Int32) → (Nat → Int32) → (Nat → Int32) → (Nat → Int32) → (Nat → Int32) → (Nat → Int32) → (Nat → Int32) → (Nat → Int32) → (Nat → Int32) → (Nat → Int32) → (Nat → Int32) → (Nat → Int32) → Prop} {r : Nat} (hW : ca_WF P) (hT : ca_TE P) (hE : ca_AE P a_edgeFrom a_edgeTo a_edgeOrder) (hG : ca_AG P a_edgeBegin a_edgeEnd) (hM : ca_AM P a_edgeArgs a_edgeSets) (hL : ca_AL P a_pointBase a_pointBlock a_pointItem a_pointUses) (hS : ca_XS P a_distance) (hX : ca_XL P r a_distance) (hT0 : 0 < ca_T P) (K : ∀ c D, ca_XS P D → ca_XL P (r + 1) D → (c = 0 → ∀ p, p < ca_T P → ∀ v, v < ca_N P → ca_FD P D p v) → J c (nI (r + 1)) f_phiKind f_jumpKind f_branchKind f_retKind f_far f_registerEnd f_firstSlot f_cellEnd f_edgeCode f_blockLimit f_itemLimit f_outLimit f_stage f_open (nI (ca_B P)) (nI (ca_N P)) (nI (ca_E P)) (nI (ca_T P)) f_greatestPressure f_everLive f_registers f_usedRegisters f_placedBlocks f_codeSize f_current f_returned f_outSize a_blockStart a_blockPhis a_blockItems a_termKind a_termValue a_termFirst a_termSecond a_itemKind a_itemA a_itemB a_itemBlock a_edgeFrom a_edgeTo a_edgeOrder a_edgeArgs a_edgeSets a_edgeBegin a_edgeEnd a_incoming a_dominators a_depth a_parent a_pointBase a_pointBlock a_pointItem a_pointUses a_live D a_neighbours a_colour a_inRegisters a_location a_hint a_taken a_moveSource a_moveReaders a_codeTo a_codeFrom a_codeSwap a_codeBegin a_codeEnd a_outLog a_params a_cells) : ∃ n, wX_findNextUses_47 post J (nI r) n 0 (nI (ca_T P - 1)) f_phiKind f_jumpKind f_branchKind f_retKind f_far f_registerEnd f_firstSlot f_cellEnd f_edgeCode f_blockLimit f_itemLimit f_outLimit f_stage f_open (nI (ca_B P)) (nI (ca_N P)) (nI (ca_E P)) (nI (ca_T P)) f_greatestPressure f_everLive f_registers f_usedRegisters f_placedBlocks f_codeSize f_current f_returned f_outSize a_blockStart a_blockPhis a_blockItems a_termKind a_termValue a_termFirst a_termSecond a_itemKind a_itemA a_itemB a_itemBlock a_edgeFrom a_edgeTo a_edgeOrder a_edgeArgs a_edgeSets a_edgeBegin a_edgeEnd a_incoming a_dominators a_depth a_parent a_pointBase a_pointBlock a_pointItem a_pointUses a_live a_distance a_neighbours a_colour a_inRegisters a_location a_hint a_taken a_moveSource a_moveReaders a_codeTo a_codeFrom a_codeSwap a_codeBegin a_codeEnd a_outLog a_params a_cells := by
  have h40 := ca_T40' hW
  have key := ca_loop (σ := Int32 × (Nat → Int32)) (fun n i s => wX_findNextUses_47 post J (nI r) n s.1 (ca_xv (ca_T P) i) f_phiKind f_jumpKind f_branchKind f_retKind f_far f_registerEnd f_firstSlot f_cellEnd f_edgeCode f_blockLimit f_itemLimit f_outLimit f_stage f_open (nI (ca_B P)) (nI (ca_N P)) (nI (ca_E P)) (nI (ca_T P)) f_greatestPressure f_everLive f_registers f_usedRegisters f_placedBlocks f_codeSize f_current f_returned f_outSize a_blockStart a_blockPhis a_blockItems a_termKind a_termValue a_termFirst a_termSecond a_itemKind a_itemA a_itemB a_itemBlock a_edgeFrom a_edgeTo a_edgeOrder a_edgeArgs a_edgeSets a_edgeBegin a_edgeEnd a_incoming a_dominators a_depth a_parent a_pointBase a_pointBlock a_pointItem a_pointUses a_live s.2 a_neighbours a_colour a_inRegisters a_location a_hint a_taken a_moveSource a_moveReaders a_codeTo a_codeFrom a_codeSwap a_codeBegin a_codeEnd a_outLog a_params a_cells) (fun i s => ca_XS P s.2 ∧ ca_XL P r s.2 ∧ (∀ p, p < ca_T P → ca_T P ≤ p + i → ∀ v, v < ca_N P → ∀ d, d < r + 1 → ca_DW P v d (ca_nm P p) → ca_Dle s.2 p v d) ∧ (s.1 = 0 → ∀ p, p < ca_T P → ca_T P ≤ p + i → ∀ v, v < ca_N P → ca_FD P s.2 p v)) 0 (ca_T P) (by omega) (0, a_distance) ⟨hS, hX, fun p _ _ => by omega, fun _ p _ _ => by omega⟩ ?_ ?_
  · obtain ⟨n, hn⟩ := key
    refine ⟨n, ?_⟩
    have e : ca_xv (ca_T P) 0 = nI (ca_T P - 1) := by unfold ca_xv; rw [if_pos hT0]; rfl
    dsimp only at hn
    rw [e] at hn
    exact hn
  · rintro n ⟨c, D⟩ ⟨h1, h2, h3, h4⟩
    dsimp only at h1 h2 h3 h4 ⊢
    have e : ca_xv (ca_T P) (ca_T P) = -1 := if_neg (by omega)
    rw [e]
    exact ca_m0 (ca_in (K c D h1 (fun p hp v hv d hd => h3 p hp (by omega) v hv d hd) (fun z p hp => h4 z p hp (by omega))))
  · rintro n i ⟨c, D⟩ _ hi ⟨h1, h2, h3, h4⟩ ih
    dsimp only at h1 h2 h3 h4 ih ⊢
    have e : ca_xv (ca_T P) i = nI (ca_T P - 1 - i) := if_pos hi
    have e2 : nI (ca_T P - 1 - i) + (-1) = ca_xv (ca_T P) (i + 1) := by
      unfold ca_xv
      by_cases z : i + 1 < ca_T P
      · rw [if_pos z, show ca_T P - 1 - i = ca_T P - 1 - (i + 1) + 1 by omega, pk_m1]
      · rw [if_neg z, show ca_T P - 1 - i = 0 by omega]
        rfl
    rw [e]
    have hpt : ca_T P - 1 - i < ca_T P := by omega
    refine ca_lt0 (xl_improvePoint hW hT hE hG hM hL h1 h2 hpt (fun c2 D2 k1 k2 k3 k4 k5 => ?_))
    have q3 : ∀ p, p < ca_T P → ca_T P ≤ p + (i + 1) → ∀ v, v < ca_N P → ∀ d, d < r + 1 → ca_DW P v d (ca_nm P p) → ca_Dle D2 p v d := by
      intro p hp hpi v hv d hd hw
      by_cases z : p = ca_T P - 1 - i
      · subst z; exact k4 v hv d hd hw
      · exact k3 p v d hp hv (h3 p hp (by omega) v hv d hd hw)
    refine br_c (fun z => nm_r e2 (ih (c, D2) ⟨k1, k2, q3, fun y p hp hpi v hv => ?_⟩)) (fun z => nm_r e2 (ih (1, D2) ⟨k1, k2, q3, fun y => absurd y ca_10⟩))
    obtain ⟨z1, z2⟩ := k5 z
    subst z1
    by_cases w : p = ca_T P - 1 - i
    · subst w; exact z2 v hv
    · exact h4 y p hp (by omega) v hv
theorem xl_findNextUses {post : SX → Prop} (hW : ca_WF P) (hT : ca_TE P) (hE : ca_AE P a_edgeFrom a_edgeTo a_edgeOrder) (hG : ca_AG P a_edgeBegin a_edgeEnd) (hM : ca_AM P a_edgeArgs a_edgeSets) (hL : ca_AL P a_pointBase a_pointBlock a_pointItem a_pointUses) (hT0 : 0 < ca_T P) (K : ∀ D, ca_AX P D → post (f_phiKind, f_jumpKind, f_branchKind, f_retKind, f_far, f_registerEnd, f_firstSlot, f_cellEnd, f_edgeCode, f_blockLimit, f_itemLimit, f_outLimit, f_stage, f_open, (nI (ca_B P)), (nI (ca_N P)), (nI (ca_E P)), (nI (ca_T P)), f_greatestPressure, f_everLive, f_registers, f_usedRegisters, f_placedBlocks, f_codeSize, f_current, f_returned, f_outSize, a_blockStart, a_blockPhis, a_blockItems, a_termKind, a_termValue, a_termFirst, a_termSecond, a_itemKind, a_itemA, a_itemB, a_itemBlock, a_edgeFrom, a_edgeTo, a_edgeOrder, a_edgeArgs, a_edgeSets, a_edgeBegin, a_edgeEnd, a_incoming, a_dominators, a_depth, a_parent, a_pointBase, a_pointBlock, a_pointItem, a_pointUses, a_live, D, a_neighbours, a_colour, a_inRegisters, a_location, a_hint, a_taken, a_moveSource, a_moveReaders, a_codeTo, a_codeFrom, a_codeSwap, a_codeBegin, a_codeEnd, a_outLog, a_params, a_cells)) : wpX_findNextUses post (f_phiKind, f_jumpKind, f_branchKind, f_retKind, f_far, f_registerEnd, f_firstSlot, f_cellEnd, f_edgeCode, f_blockLimit, f_itemLimit, f_outLimit, f_stage, f_open, (nI (ca_B P)), (nI (ca_N P)), (nI (ca_E P)), (nI (ca_T P)), f_greatestPressure, f_everLive, f_registers, f_usedRegisters, f_placedBlocks, f_codeSize, f_current, f_returned, f_outSize, a_blockStart, a_blockPhis, a_blockItems, a_termKind, a_termValue, a_termFirst, a_termSecond, a_itemKind, a_itemA, a_itemB, a_itemBlock, a_edgeFrom, a_edgeTo, a_edgeOrder, a_edgeArgs, a_edgeSets, a_edgeBegin, a_edgeEnd, a_incoming, a_dominators, a_depth, a_parent, a_pointBase, a_pointBlock, a_pointItem, a_pointUses, a_live, a_distance, a_neighbours, a_colour, a_inRegisters, a_location, a_hint, a_taken, a_moveSource, a_moveReaders, a_codeTo, a_codeFrom, a_codeSwap, a_codeBegin, a_codeEnd, a_outLog, a_params, a_cells) := by
  have h40 := ca_T40' hW
  have hN := ca_wN hW
  refine ca_loop (fun n i (s : Nat → Int32) => wX_findNextUses_2 post f_phiKind f_jumpKind f_branchKind f_retKind f_far f_registerEnd f_firstSlot f_cellEnd f_edgeCode f_blockLimit f_itemLimit f_outLimit f_stage f_open (nI (ca_B P)) (nI (ca_N P)) (nI (ca_E P)) (nI (ca_T P)) f_greatestPressure f_everLive f_registers f_usedRegisters f_placedBlocks f_codeSize f_current f_returned f_outSize n (nI i) a_blockStart a_blockPhis a_blockItems a_termKind a_termValue a_termFirst a_termSecond a_itemKind a_itemA a_itemB a_itemBlock a_edgeFrom a_edgeTo a_edgeOrder a_edgeArgs a_edgeSets a_edgeBegin a_edgeEnd a_incoming a_dominators a_depth a_parent a_pointBase a_pointBlock a_pointItem a_pointUses a_live s a_neighbours a_colour a_inRegisters a_location a_hint a_taken a_moveSource a_moveReaders a_codeTo a_codeFrom a_codeSwap a_codeBegin a_codeEnd a_outLog a_params a_cells) (fun i s => ∀ x, x < i → s x = 1000) 0 1280 (by omega) a_distance (fun x hx => by omega) ?_ ?_
  · intro n D hD
    refine br_t (nI_le (a := 1280) (b := 1280) (Nat.le_refl _) (by decide)) ?_
    refine ca_loop (σ := Int32 × (Nat → Int32)) (fun n r s => wX_findNextUses_28 post n s.1 (nI r) f_phiKind f_jumpKind f_branchKind f_retKind f_far f_registerEnd f_firstSlot f_cellEnd f_edgeCode f_blockLimit f_itemLimit f_outLimit f_stage f_open (nI (ca_B P)) (nI (ca_N P)) (nI (ca_E P)) (nI (ca_T P)) f_greatestPressure f_everLive f_registers f_usedRegisters f_placedBlocks f_codeSize f_current f_returned f_outSize a_blockStart a_blockPhis a_blockItems a_termKind a_termValue a_termFirst a_termSecond a_itemKind a_itemA a_itemB a_itemBlock a_edgeFrom a_edgeTo a_edgeOrder a_edgeArgs a_edgeSets a_edgeBegin a_edgeEnd a_incoming a_dominators a_depth a_parent a_pointBase a_pointBlock a_pointItem a_pointUses a_live s.2 a_neighbours a_colour a_inRegisters a_location a_hint a_taken a_moveSource a_moveReaders a_codeTo a_codeFrom a_codeSwap a_codeBegin a_codeEnd a_outLog a_params a_cells) (fun r s => ca_XS P s.2 ∧ ca_XL P r s.2 ∧ (s.1 = 0 → ca_XL P 42 s.2)) 0 42 (by omega) (1, D) ⟨fun p hp v hv => ⟨1000, by omega, hD _ (by omega), fun z => by omega⟩, fun p hp v hv d hd => by omega, fun z => absurd z ca_10⟩ ?_ ?_
    · rintro n ⟨c, D⟩ ⟨h1, h2, h3⟩
      exact br_t (nI_le (a := 42) (b := 42) (Nat.le_refl _) (by decide)) (K D (ca_XLfin hW hT h1 h2))
    · rintro n r ⟨c, D⟩ _ hr ⟨h1, h2, h3⟩ ih
      dsimp only at h1 h2 h3
      refine br_f (nI_ge (b := 42) hr (by decide)) (br_c (fun z => K D (ca_XLfin hW hT h1 (h3 z))) (fun _ => nm_r (e' := nI (ca_T P - 1)) (pk_sub (b := 1) hT0) ?_))
      exact xl_nu47 hW hT hE hG hM hL h1 h2 hT0 (fun c D k1 k2 k3 => ih (c, D) ⟨k1, k2, fun z => ca_XLall (k3 z) 42⟩)
  · intro n i s _ hi hs ih
    refine br_f (nI_ge (b := 1280) hi (by decide)) (ca_vi (ca_wr (ca_in (ih _ fun x hx => ?_))))
    by_cases z : x = i
    · subst z; exact pk_us
    · rw [pk_un z]; exact hs x (by omega)
theorem xl_findLiveness {post : SX → Prop} (hW : ca_WF P) (hD : ca_AX P a_distance) (K : ∀ g el lv, ca_Mx P (ca_lc P) g → g ≤ 32 → (∀ v, bt el v = true ↔ v < ca_N P ∧ ca_EL P v) → ca_AV P lv → post (f_phiKind, f_jumpKind, f_branchKind, f_retKind, f_far, f_registerEnd, f_firstSlot, f_cellEnd, f_edgeCode, f_blockLimit, f_itemLimit, f_outLimit, f_stage, f_open, (nI (ca_B P)), (nI (ca_N P)), (nI (ca_E P)), (nI (ca_T P)), (nI g), el, f_registers, f_usedRegisters, f_placedBlocks, f_codeSize, f_current, f_returned, f_outSize, a_blockStart, a_blockPhis, a_blockItems, a_termKind, a_termValue, a_termFirst, a_termSecond, a_itemKind, a_itemA, a_itemB, a_itemBlock, a_edgeFrom, a_edgeTo, a_edgeOrder, a_edgeArgs, a_edgeSets, a_edgeBegin, a_edgeEnd, a_incoming, a_dominators, a_depth, a_parent, a_pointBase, a_pointBlock, a_pointItem, a_pointUses, lv, a_distance, a_neighbours, a_colour, a_inRegisters, a_location, a_hint, a_taken, a_moveSource, a_moveReaders, a_codeTo, a_codeFrom, a_codeSwap, a_codeBegin, a_codeEnd, a_outLog, a_params, a_cells)) : wpX_findLiveness post (f_phiKind, f_jumpKind, f_branchKind, f_retKind, f_far, f_registerEnd, f_firstSlot, f_cellEnd, f_edgeCode, f_blockLimit, f_itemLimit, f_outLimit, f_stage, f_open, (nI (ca_B P)), (nI (ca_N P)), (nI (ca_E P)), (nI (ca_T P)), f_greatestPressure, f_everLive, f_registers, f_usedRegisters, f_placedBlocks, f_codeSize, f_current, f_returned, f_outSize, a_blockStart, a_blockPhis, a_blockItems, a_termKind, a_termValue, a_termFirst, a_termSecond, a_itemKind, a_itemA, a_itemB, a_itemBlock, a_edgeFrom, a_edgeTo, a_edgeOrder, a_edgeArgs, a_edgeSets, a_edgeBegin, a_edgeEnd, a_incoming, a_dominators, a_depth, a_parent, a_pointBase, a_pointBlock, a_pointItem, a_pointUses, a_live, a_distance, a_neighbours, a_colour, a_inRegisters, a_location, a_hint, a_taken, a_moveSource, a_moveReaders, a_codeTo, a_codeFrom, a_codeSwap, a_codeBegin, a_codeEnd, a_outLog, a_params, a_cells) := by
  have h40 := ca_T40' hW
  have hN := ca_wN hW
  have lcle : ∀ q, ca_lc P q ≤ 32 := fun q => by
    have := ca_cn_le (fun v => ca_Lv P v q) (ca_N P)
    unfold ca_lc; omega
  refine ca_loop (σ := Int32 × Int32 × (Nat → Int32)) (fun n p s => wX_findLiveness_12 post f_phiKind f_jumpKind f_branchKind f_retKind f_far f_registerEnd f_firstSlot f_cellEnd f_edgeCode f_blockLimit f_itemLimit f_outLimit f_stage f_open (nI (ca_B P)) (nI (ca_N P)) (nI (ca_E P)) (nI (ca_T P)) f_registers f_usedRegisters f_placedBlocks f_codeSize f_current f_returned f_outSize n (nI p) s.1 s.2.1 a_blockStart a_blockPhis a_blockItems a_termKind a_termValue a_termFirst a_termSecond a_itemKind a_itemA a_itemB a_itemBlock a_edgeFrom a_edgeTo a_edgeOrder a_edgeArgs a_edgeSets a_edgeBegin a_edgeEnd a_incoming a_dominators a_depth a_parent a_pointBase a_pointBlock a_pointItem a_pointUses s.2.2 a_distance a_neighbours a_colour a_inRegisters a_location a_hint a_taken a_moveSource a_moveReaders a_codeTo a_codeFrom a_codeSwap a_codeBegin a_codeEnd a_outLog a_params a_cells) (fun p s => (∃ g, g ≤ 32 ∧ s.1 = nI g ∧ (∀ k, k < p → ca_lc P (ca_nm P k) ≤ g) ∧ (g = 0 ∨ ∃ k, k < p ∧ ca_lc P (ca_nm P k) = g)) ∧ (∀ v, bt s.2.1 v = true ↔ v < ca_N P ∧ ∃ k, k < p ∧ ca_Lv P v (ca_nm P k)) ∧ (∀ k, k < p → ∀ v, bt (s.2.2 k) v = true ↔ v < ca_N P ∧ ca_Lv P v (ca_nm P k))) 0 (ca_T P) (by omega) (0, 0, a_live) ?_ ?_ ?_
  · refine ⟨⟨0, by omega, rfl, fun k hk => by omega, Or.inl rfl⟩, fun v => ?_, fun k hk => by omega⟩
    show bt 0 v = true ↔ _
    rw [ca_b0i]
    exact ⟨fun z => z.elim, fun ⟨_, k, hk, _⟩ => by omega⟩
  · rintro n ⟨g', el, lv⟩ ⟨⟨g, g1, g2, g3, g4⟩, h2, h3⟩
    dsimp only at g2 h2 h3
    subst g2
    refine br_t (nI_le (Nat.le_refl _) (by omega)) (K g el lv ⟨fun q hq => ?_, ?_⟩ g1 (fun v => ?_) h3)
    · obtain ⟨p, hp, e⟩ := ca_nmsur hW hq
      rw [← e]; exact g3 p hp
    · rcases g4 with z | ⟨k, hk, e⟩
      · exact Or.inl z
      · exact Or.inr ⟨_, ca_nmP hW hk, e⟩
    · rw [h2 v]
      refine ⟨fun ⟨a, k, hk, b⟩ => ⟨a, _, ca_nmP hW hk, b⟩, fun ⟨a, q, hq, b⟩ => ?_⟩
      obtain ⟨p, hp, e⟩ := ca_nmsur hW hq
      exact ⟨a, p, hp, by rw [e]; exact b⟩
  · rintro n p ⟨g', el, lv⟩ _ hp ⟨⟨g, g1, g2, g3, g4⟩, h2, h3⟩ ih
    dsimp only at g2 h2 h3
    subst g2
    refine br_f (nI_ge hp (by omega)) ?_
    refine ca_loop (σ := Int32) (fun k v m => wX_findLiveness_24 post (wX_findLiveness_12 post f_phiKind f_jumpKind f_branchKind f_retKind f_far f_registerEnd f_firstSlot f_cellEnd f_edgeCode f_blockLimit f_itemLimit f_outLimit f_stage f_open (nI (ca_B P)) (nI (ca_N P)) (nI (ca_E P)) (nI (ca_T P)) f_registers f_usedRegisters f_placedBlocks f_codeSize f_current f_returned f_outSize n) (nI p) f_phiKind f_jumpKind f_branchKind f_retKind f_far f_registerEnd f_firstSlot f_cellEnd f_edgeCode f_blockLimit f_itemLimit f_outLimit f_stage f_open (nI (ca_B P)) (nI (ca_N P)) (nI (ca_E P)) (nI (ca_T P)) (nI g) el f_registers f_usedRegisters f_placedBlocks f_codeSize f_current f_returned f_outSize a_blockStart a_blockPhis a_blockItems a_termKind a_termValue a_termFirst a_termSecond a_itemKind a_itemA a_itemB a_itemBlock a_edgeFrom a_edgeTo a_edgeOrder a_edgeArgs a_edgeSets a_edgeBegin a_edgeEnd a_incoming a_dominators a_depth a_parent a_pointBase a_pointBlock a_pointItem a_pointUses lv a_distance a_neighbours a_colour a_inRegisters a_location a_hint a_taken a_moveSource a_moveReaders a_codeTo a_codeFrom a_codeSwap a_codeBegin a_codeEnd a_outLog a_params a_cells k m (nI v)) (fun v m => ∀ w, bt m w = true ↔ w < v ∧ ca_Lv P w (ca_nm P p)) 0 (ca_N P) (by omega) 0 ?_ ?_ ?_
    · intro w
      rw [ca_b0i]
      exact ⟨fun z => z.elim, fun z => by omega⟩
    · intro k m hm
      have hc : ca_cn (fun i => bt m i = true) 32 = ca_lc P (ca_nm P p) := by
        unfold ca_lc
        rw [← ca_cnlt (Q := fun v => ca_Lv P v (ca_nm P p)) (b := ca_N P) (n := 32) (by omega)]
        exact ca_cn_eq fun k _ => hm k
      have hle := lcle (ca_nm P p)
      have f2 : ∀ v, bt (el ||| m) v = true ↔ v < ca_N P ∧ ∃ k, k < p + 1 ∧ ca_Lv P v (ca_nm P k) := by
        intro v
        rw [ca_bor, h2 v, hm v]
        constructor
        · rintro (⟨a, k, hk, b⟩ | ⟨a, b⟩)
          · exact ⟨a, k, by omega, b⟩
          · exact ⟨a, p, by omega, b⟩
        · rintro ⟨a, k, hk, b⟩
          by_cases z : k = p
          · subst z; exact Or.inr ⟨a, b⟩
          · exact Or.inl ⟨a, k, by omega, b⟩
      have f3 : ∀ k, k < p + 1 → ∀ v, bt (upd lv p m k) v = true ↔ v < ca_N P ∧ ca_Lv P v (ca_nm P k) := by
        intro k hk v
        by_cases z : k = p
        · subst z; rw [pk_us]; exact hm v
        · rw [pk_un z]; exact h3 k (by omega) v
      refine br_t (nI_le (Nat.le_refl _) (by omega)) (ca_vi (ca_wr (nm_e (xl_countBits _ ?_))))
      rw [hc]
      refine pk_le (ca_lc P (ca_nm P p)) g (fun z => ?_) (fun z => ?_)
      · refine ca_in (ih (nI g, el ||| m, upd lv p m) ⟨⟨g, g1, rfl, fun k hk => ?_, ?_⟩, f2, f3⟩)
        · by_cases y : k = p
          · subst y; exact z
          · exact g3 k (by omega)
        · rcases g4 with y | ⟨k, hk, y⟩
          · exact Or.inl y
          · exact Or.inr ⟨k, by omega, y⟩
      · refine ca_in (ih (nI (ca_lc P (ca_nm P p)), el ||| m, upd lv p m) ⟨⟨ca_lc P (ca_nm P p), hle, rfl, fun k hk => ?_, Or.inr ⟨p, by omega, rfl⟩⟩, f2, f3⟩)
        by_cases y : k = p
        · subst y; exact Nat.le_refl _
        · have := g3 k (by omega); omega
    · intro k v m _ hv hm ih2
      refine br_f (nI_ge hv (by omega)) ?_
      rw [ca_mul32]
      refine ca_vi ?_ (by omega)
      rcases hD p hp v hv with ⟨d, d1, d2, d3⟩ | ⟨d1, d3⟩
      · refine br_f ?_ (nm_e (ca_in (ih2 _ fun w => ?_)))
        · rw [ca_r d3]; exact nI_ge (b := 1000) (by omega) (by decide)
        · rw [ca_bset (by omega), hm w]
          constructor
          · rintro (⟨a, b⟩ | a)
            · exact ⟨by omega, b⟩
            · subst a; exact ⟨by omega, d, d2.1⟩
          · rintro ⟨a, b⟩
            by_cases z : w = v
            · exact Or.inr z
            · exact Or.inl ⟨by omega, b⟩
      · refine br_t ?_ (ca_in (ih2 _ fun w => ?_))
        · rw [ca_r d3]; exact nI_le (a := 1000) (b := 1000) (Nat.le_refl _) (by decide)
        · rw [hm w]
          constructor
          · rintro ⟨a, b⟩; exact ⟨by omega, b⟩
          · rintro ⟨a, b⟩
            by_cases z : w = v
            · subst z; exact absurd b d1
            · exact ⟨by omega, b⟩
theorem xl_findInterference {post : SX → Prop} (hW : ca_WF P) (hV : ca_AV P a_live) (K : ∀ ne, ca_AN P ne → post (f_phiKind, f_jumpKind, f_branchKind, f_retKind, f_far, f_registerEnd, f_firstSlot, f_cellEnd, f_edgeCode, f_blockLimit, f_itemLimit, f_outLimit, f_stage, f_open, (nI (ca_B P)), (nI (ca_N P)), (nI (ca_E P)), (nI (ca_T P)), f_greatestPressure, f_everLive, f_registers, f_usedRegisters, f_placedBlocks, f_codeSize, f_current, f_returned, f_outSize, a_blockStart, a_blockPhis, a_blockItems, a_termKind, a_termValue, a_termFirst, a_termSecond, a_itemKind, a_itemA, a_itemB, a_itemBlock, a_edgeFrom, a_edgeTo, a_edgeOrder, a_edgeArgs, a_edgeSets, a_edgeBegin, a_edgeEnd, a_incoming, a_dominators, a_depth, a_parent, a_pointBase, a_pointBlock, a_pointItem, a_pointUses, a_live, a_distance, ne, a_colour, a_inRegisters, a_location, a_hint, a_taken, a_moveSource, a_moveReaders, a_codeTo, a_codeFrom, a_codeSwap, a_codeBegin, a_codeEnd, a_outLog, a_params, a_cells)) : wpX_findInterference post (f_phiKind, f_jumpKind, f_branchKind, f_retKind, f_far, f_registerEnd, f_firstSlot, f_cellEnd, f_edgeCode, f_blockLimit, f_itemLimit, f_outLimit, f_stage, f_open, (nI (ca_B P)), (nI (ca_N P)), (nI (ca_E P)), (nI (ca_T P)), f_greatestPressure, f_everLive, f_registers, f_usedRegisters, f_placedBlocks, f_codeSize, f_current, f_returned, f_outSize, a_blockStart, a_blockPhis, a_blockItems, a_termKind, a_termValue, a_termFirst, a_termSecond, a_itemKind, a_itemA, a_itemB, a_itemBlock, a_edgeFrom, a_edgeTo, a_edgeOrder, a_edgeArgs, a_edgeSets, a_edgeBegin, a_edgeEnd, a_incoming, a_dominators, a_depth, a_parent, a_pointBase, a_pointBlock, a_pointItem, a_pointUses, a_live, a_distance, a_neighbours, a_colour, a_inRegisters, a_location, a_hint, a_taken, a_moveSource, a_moveReaders, a_codeTo, a_codeFrom, a_codeSwap, a_codeBegin, a_codeEnd, a_outLog, a_params, a_cells) := by
  have h40 := ca_T40' hW
  have hN := ca_wN hW
  refine ca_loop (fun n v (s : Nat → Int32) => wX_findInterference_2 post f_phiKind f_jumpKind f_branchKind f_retKind f_far f_registerEnd f_firstSlot f_cellEnd f_edgeCode f_blockLimit f_itemLimit f_outLimit f_stage f_open (nI (ca_B P)) (nI (ca_N P)) (nI (ca_E P)) (nI (ca_T P)) f_greatestPressure f_everLive f_registers f_usedRegisters f_placedBlocks f_codeSize f_current f_returned f_outSize n (nI v) a_blockStart a_blockPhis a_blockItems a_termKind a_termValue a_termFirst a_termSecond a_itemKind a_itemA a_itemB a_itemBlock a_edgeFrom a_edgeTo a_edgeOrder a_edgeArgs a_edgeSets a_edgeBegin a_edgeEnd a_incoming a_dominators a_depth a_parent a_pointBase a_pointBlock a_pointItem a_pointUses a_live a_distance s a_colour a_inRegisters a_location a_hint a_taken a_moveSource a_moveReaders a_codeTo a_codeFrom a_codeSwap a_codeBegin a_codeEnd a_outLog a_params a_cells) (fun v s => ∀ x, x < v → ∀ w, bt (s x) w = true ↔ w < ca_N P ∧ ca_If P x w) 0 (ca_N P) (by omega) a_neighbours (fun x hx => by omega) ?_ ?_
  · intro n s hs
    exact br_t (nI_le (Nat.le_refl _) (by omega)) (K s hs)
  · intro n v s _ hv hs ih
    refine br_f (nI_ge hv (by omega)) ?_
    refine ca_loop (σ := Int32) (fun k p m => wX_findInterference_14 post (wX_findInterference_2 post f_phiKind f_jumpKind f_branchKind f_retKind f_far f_registerEnd f_firstSlot f_cellEnd f_edgeCode f_blockLimit f_itemLimit f_outLimit f_stage f_open (nI (ca_B P)) (nI (ca_N P)) (nI (ca_E P)) (nI (ca_T P)) f_greatestPressure f_everLive f_registers f_usedRegisters f_placedBlocks f_codeSize f_current f_returned f_outSize n) (nI v) f_phiKind f_jumpKind f_branchKind f_retKind f_far f_registerEnd f_firstSlot f_cellEnd f_edgeCode f_blockLimit f_itemLimit f_outLimit f_stage f_open (nI (ca_B P)) (nI (ca_N P)) (nI (ca_E P)) (nI (ca_T P)) f_greatestPressure f_everLive f_registers f_usedRegisters f_placedBlocks f_codeSize f_current f_returned f_outSize a_blockStart a_blockPhis a_blockItems a_termKind a_termValue a_termFirst a_termSecond a_itemKind a_itemA a_itemB a_itemBlock a_edgeFrom a_edgeTo a_edgeOrder a_edgeArgs a_edgeSets a_edgeBegin a_edgeEnd a_incoming a_dominators a_depth a_parent a_pointBase a_pointBlock a_pointItem a_pointUses a_live a_distance s a_colour a_inRegisters a_location a_hint a_taken a_moveSource a_moveReaders a_codeTo a_codeFrom a_codeSwap a_codeBegin a_codeEnd a_outLog a_params a_cells k m (nI p)) (fun p m => ∀ w, bt m w = true ↔ w < ca_N P ∧ ∃ k, k < p ∧ ca_Lv P v (ca_nm P k) ∧ ca_Lv P w (ca_nm P k)) 0 (ca_T P) (by omega) 0 ?_ ?_ ?_
    · intro w
      rw [ca_b0i]
      exact ⟨fun z => z.elim, fun ⟨_, k, hk, _⟩ => by omega⟩
    · intro k m hm
      refine br_t (nI_le (Nat.le_refl _) (by omega)) (ca_vi (ca_wr (ca_in (ih _ fun x hx w => ?_))))
      by_cases z : x = v
      · subst z
        rw [pk_us, ca_bclr (by omega), hm w]
        constructor
        · rintro ⟨⟨a, p, hp, b, c⟩, d⟩
          exact ⟨a, fun e => d e.symm, _, ca_nmP hW hp, b, c⟩
        · rintro ⟨a, d, q, hq, b, c⟩
          obtain ⟨p, hp, e⟩ := ca_nmsur hW hq
          rw [← e] at b c
          exact ⟨⟨a, p, hp, b, c⟩, fun e => d e.symm⟩
      · rw [pk_un z]; exact hs x (by omega) w
    · intro k p m _ hp hm ih2
      have hV' := hV p hp
      refine br_f (nI_ge hp (by omega)) (ca_vi (xl_has _ rfl (by omega) (fun hb => ?_) (fun hb => ?_)))
      · rw [nI_clamp (n := p) (by omega), hV' v] at hb
        refine br_f (by decide) (ca_vi (nm_r (e' := m ||| a_live p) (by rw [nI_clamp (n := p) (by omega)]) (ca_in (ih2 _ fun w => ?_))))
        rw [ca_bor, hm w, hV' w]
        constructor
        · rintro (⟨a, k, hk, b⟩ | ⟨a, b⟩)
          · exact ⟨a, k, by omega, b⟩
          · exact ⟨a, p, by omega, hb.2, b⟩
        · rintro ⟨a, k, hk, b, c⟩
          by_cases z : k = p
          · subst z; exact Or.inr ⟨a, c⟩
          · exact Or.inl ⟨a, k, by omega, b, c⟩
      · rw [nI_clamp (n := p) (by omega)] at hb
        refine br_t rfl (ca_in (ih2 _ fun w => ?_))
        rw [hm w]
        constructor
        · rintro ⟨a, k, hk, b⟩; exact ⟨a, k, by omega, b⟩
        · rintro ⟨a, k, hk, b, c⟩
          by_cases z : k = p
          · subst z
            exact absurd ((hV' v).mpr ⟨hv, b⟩) (ca_ff hb)
          · exact ⟨a, k, by omega, b, c⟩
end
end
section
/-! X: colours -/
def ca_CI (P : ca_PG) (z : Nat) (c : Nat → Int32) : Prop := (∀ w, w < ca_N P → ca_key P w < z → (¬ ca_EL P w → c w = -1) ∧ (ca_EL P w → ca_Gr P c w)) ∧ (∀ w, w < ca_N P → z ≤ ca_key P w → c w = -1) ∧ (∀ w, w < ca_N P → c w = -1 ∨ ∃ k, k < ca_cn (fun x => ca_key P x < z ∧ ca_EL P x) (ca_N P) ∧ c w = nI k)
section
variable {P : ca_PG}
theorem ca_CIskip {z y : Nat} {c : Nat → Int32} (h : ca_CI P z c) (hk : ∀ w, w < ca_N P → (ca_key P w < y ↔ ca_key P w < z)) : ca_CI P y c := by
  obtain ⟨h1, h2, h3⟩ := h
  refine ⟨fun w hw hl => h1 w hw ((hk w hw).mp hl), fun w hw hl => h2 w hw ?_, fun w hw => ?_⟩
  · have := hk w hw
    omega
  · rw [ca_cn_eq (P := fun x => ca_key P x < y ∧ ca_EL P x) (Q := fun x => ca_key P x < z ∧ ca_EL P x) (fun x hx => by rw [hk x hx])]
    exact h3 w hw
theorem ca_Grc {c d : Nat → Int32} {w : Nat} (h : ca_Gr P c w) (he : d w = c w) (hx : ∀ x, x < ca_N P → ca_key P x < ca_key P w → d x = c x) : ca_Gr P d w := by
  obtain ⟨k, k1, k2, k3, k4⟩ := h
  refine ⟨k, k1, by rw [he]; exact k2, fun x h1 h2 h3 => ?_, fun j hj => ?_⟩
  · rw [hx x h1 h3]; exact k3 x h1 h2 h3
  · obtain ⟨x, x1, x2, x3, x4⟩ := k4 j hj
    exact ⟨x, x1, x2, x3, by rw [hx x x1 x3]; exact x4⟩
theorem ca_keyinj (hW : ca_WF P) {v w : Nat} (hv : v < ca_N P) (hw : w < ca_N P) (e : ca_key P v = ca_key P w) : v = w := by
  have hN := ca_wN hW
  unfold ca_key at e
  omega
theorem ca_CIcnt (hW : ca_WF P) {v : Nat} (hv : v < ca_N P) : ca_cn (fun x => ca_key P x < ca_key P v ∧ ca_EL P x) (ca_N P) ≤ 31 := by
  have hN := ca_wN hW
  have a2 := ca_cn_lt (P := fun x => ca_key P x < ca_key P v ∧ ca_EL P x) (Q := fun _ => True) (a := v) (fun z => by have := z.1; omega) trivial (N := ca_N P) (fun _ _ _ => trivial) hv
  rw [ca_cn_all (P := fun _ => True) (fun _ _ => trivial)] at a2
  omega
theorem ca_CIstep (hW : ca_WF P) {v k : Nat} {c : Nat → Int32} (h : ca_CI P (ca_key P v) c) (hv : v < ca_N P) (hE : ca_EL P v) (hk1 : ∀ x, x < ca_N P → ca_If P v x → c x ≠ nI k) (hk2 : ∀ j, j < k → ∃ x, x < ca_N P ∧ ca_If P v x ∧ c x = nI j) : ca_CI P (ca_key P v + 1) (upd c v (nI k)) := by
  obtain ⟨h1, h2, h3⟩ := h
  have hN := ca_wN hW
  have hcnt := ca_CIcnt hW hv
  have hkm : k ≤ ca_cn (fun x => ca_key P x < ca_key P v ∧ ca_EL P x) (ca_N P) := by
    rcases Nat.eq_zero_or_pos k with z | z
    · omega
    · obtain ⟨x, x1, x2, x3⟩ := hk2 (k - 1) (by omega)
      rcases h3 x x1 with y | ⟨j, j1, j2⟩
      · rw [x3] at y
        apply Classical.byContradiction
        intro hno
        obtain ⟨x, x1, x2, x3⟩ := hk2 (ca_cn (fun x => ca_key P x < ca_key P v ∧ ca_EL P x) (ca_N P)) (by omega)
        rcases h3 x x1 with y | ⟨j, j1, j2⟩
        · rw [x3] at y; exact ca_nm1 (by omega) y
        · rw [x3] at j2
          have := ca_ninj j2 (by omega) (by omega)
          omega
      · apply Classical.byContradiction
        intro hno
        obtain ⟨x, x1, x2, x3⟩ := hk2 (ca_cn (fun x => ca_key P x < ca_key P v ∧ ca_EL P x) (ca_N P)) (by omega)
        rcases h3 x x1 with y | ⟨j, j1, j2⟩
        · rw [x3] at y; exact ca_nm1 (by omega) y
        · rw [x3] at j2
          have := ca_ninj j2 (by omega) (by omega)
          omega
  have hcs : ca_cn (fun x => ca_key P x < ca_key P v + 1 ∧ ca_EL P x) (ca_N P) = ca_cn (fun x => ca_key P x < ca_key P v ∧ ca_EL P x) (ca_N P) + 1 := by
    rw [← ca_cn_add (P := fun x => ca_key P x < ca_key P v ∧ ca_EL P x) (a := v) (fun z => by have := z.1; omega) hv]
    refine ca_cn_eq fun x hx => ⟨fun z => ?_, fun z => ?_⟩
    · rcases Nat.lt_or_ge (ca_key P x) (ca_key P v) with y | y
      · exact Or.inl ⟨y, z.2⟩
      · exact Or.inr (ca_keyinj hW hx hv (by have := z.1; omega))
    · rcases z with z | z
      · exact ⟨by have := z.1; omega, z.2⟩
      · subst z; exact ⟨by omega, hE⟩
  refine ⟨fun w hw hl => ?_, fun w hw hl => ?_, fun w hw => ?_⟩
  · by_cases z : w = v
    · subst z
      refine ⟨fun y => absurd hE y, fun _ => ⟨k, by omega, pk_us, fun x g1 g2 g3 => ?_, fun j hj => ?_⟩⟩
      · have : x ≠ w := fun e => by subst e; omega
        rw [pk_un this]; exact hk1 x g1 g2
      · obtain ⟨x, x1, x2, x3⟩ := hk2 j hj
        have hne : x ≠ w := fun e => x2.1 e.symm
        refine ⟨x, x1, x2, ?_, by rw [pk_un hne]; exact x3⟩
        rcases Nat.lt_or_ge (ca_key P x) (ca_key P w) with y | y
        · exact y
        · rw [h2 x x1 y] at x3
          exact absurd x3.symm (ca_nm1 (by omega))
    · have hl2 : ca_key P w < ca_key P v := by
        rcases Nat.lt_or_ge (ca_key P w) (ca_key P v) with y | y
        · exact y
        · exact absurd (ca_keyinj hW hw hv (by omega)) z
      obtain ⟨g1, g2⟩ := h1 w hw hl2
      rw [pk_un z]
      refine ⟨g1, fun y => ca_Grc (g2 y) (pk_un z) (fun x hx hl3 => pk_un (fun e => by subst e; omega))⟩
  · have z : w ≠ v := fun e => by subst e; omega
    rw [pk_un z]; exact h2 w hw (by omega)
  · rw [hcs]
    by_cases z : w = v
    · subst z
      exact Or.inr ⟨k, by omega, pk_us⟩
    · rw [pk_un z]
      rcases h3 w hw with y | ⟨j, j1, j2⟩
      · exact Or.inl y
      · exact Or.inr ⟨j, by omega, j2⟩
theorem ca_CInot (hW : ca_WF P) {v : Nat} {c : Nat → Int32} (h : ca_CI P (ca_key P v) c) (hv : v < ca_N P) (hE : ¬ ca_EL P v) : ca_CI P (ca_key P v + 1) c := by
  obtain ⟨h1, h2, h3⟩ := h
  have hcs : ca_cn (fun x => ca_key P x < ca_key P v + 1 ∧ ca_EL P x) (ca_N P) = ca_cn (fun x => ca_key P x < ca_key P v ∧ ca_EL P x) (ca_N P) := by
    refine ca_cn_eq fun x hx => ⟨fun z => ⟨?_, z.2⟩, fun z => ⟨by have := z.1; omega, z.2⟩⟩
    rcases Nat.lt_or_ge (ca_key P x) (ca_key P v) with y | y
    · exact y
    · have := ca_keyinj hW hx hv (by have := z.1; omega)
      subst this
      exact absurd z.2 hE
  refine ⟨fun w hw hl => ?_, fun w hw hl => h2 w hw (by omega), fun w hw => by rw [hcs]; exact h3 w hw⟩
  rcases Nat.lt_or_ge (ca_key P w) (ca_key P v) with y | y
  · exact h1 w hw y
  · have := ca_keyinj hW hw hv (by omega)
    subst this
    exact ⟨fun _ => h2 w hw (by omega), fun y => absurd y hE⟩
theorem ca_CIsol {z : Nat} {c : Nat → Int32} (h : ca_CI P z c) (hz : ∀ w, w < ca_N P → ca_key P w < z) : ca_Sol P c := fun w hw => h.1 w hw (hz w hw)
variable {f_phiKind f_jumpKind f_branchKind f_retKind f_far f_registerEnd f_firstSlot f_cellEnd f_edgeCode f_blockLimit f_itemLimit f_outLimit f_stage f_open f_blocks f_items f_edges f_points f_greatestPressure f_everLive f_registers f_usedRegisters f_placedBlocks f_codeSize f_current f_returned f_outSize : Int32} {a_blockStart a_blockPhis a_blockItems a_termKind a_termValue a_termFirst a_termSecond a_itemKind a_itemA a_itemB a_itemBlock a_edgeFrom a_edgeTo a_edgeOrder a_edgeArgs a_edgeSets a_edgeBegin a_edgeEnd a_incoming a_dominators a_depth a_parent a_pointBase a_pointBlock a_pointItem a_pointUses a_live a_distance a_neighbours a_colour a_inRegisters a_location a_hint a_taken a_moveSource a_moveReaders a_codeTo a_codeFrom a_codeSwap a_codeBegin a_codeEnd a_outLog a_params a_cells : Nat → Int32}
theorem xl_leastColour {post : Int32 → Prop} {v m : Nat} (hW : ca_WF P) (hn : ca_AN P a_neighbours) (hv : v < ca_N P) (hm : m ≤ 31) (hc : ∀ w, w < ca_N P → a_colour w = -1 ∨ ∃ k, k < m ∧ a_colour w = nI k) (K : ∀ k, (∀ x, x < ca_N P → ca_If P v x → a_colour x ≠ nI k) → (∀ j, j < k → ∃ x, x < ca_N P ∧ ca_If P v x ∧ a_colour x = nI j) → post (nI k)) : wpX_leastColour post (f_phiKind, f_jumpKind, f_branchKind, f_retKind, f_far, f_registerEnd, f_firstSlot, f_cellEnd, f_edgeCode, f_blockLimit, f_itemLimit, f_outLimit, f_stage, f_open, (nI (ca_B P)), (nI (ca_N P)), (nI (ca_E P)), (nI (ca_T P)), f_greatestPressure, f_everLive, f_registers, f_usedRegisters, f_placedBlocks, f_codeSize, f_current, f_returned, f_outSize, a_blockStart, a_blockPhis, a_blockItems, a_termKind, a_termValue, a_termFirst, a_termSecond, a_itemKind, a_itemA, a_itemB, a_itemBlock, a_edgeFrom, a_edgeTo, a_edgeOrder, a_edgeArgs, a_edgeSets, a_edgeBegin, a_edgeEnd, a_incoming, a_dominators, a_depth, a_parent, a_pointBase, a_pointBlock, a_pointItem, a_pointUses, a_live, a_distance, a_neighbours, a_colour, a_inRegisters, a_location, a_hint, a_taken, a_moveSource, a_moveReaders, a_codeTo, a_codeFrom, a_codeSwap, a_codeBegin, a_codeEnd, a_outLog, a_params, a_cells) (nI v) := by
  have hN := ca_wN hW
  refine ca_loop (σ := Int32) (fun n i u => wX_leastColour_4 post (nI v) f_phiKind f_jumpKind f_branchKind f_retKind f_far f_registerEnd f_firstSlot f_cellEnd f_edgeCode f_blockLimit f_itemLimit f_outLimit f_stage f_open (nI (ca_B P)) (nI (ca_N P)) (nI (ca_E P)) (nI (ca_T P)) f_greatestPressure f_everLive f_registers f_usedRegisters f_placedBlocks f_codeSize f_current f_returned f_outSize a_blockStart a_blockPhis a_blockItems a_termKind a_termValue a_termFirst a_termSecond a_itemKind a_itemA a_itemB a_itemBlock a_edgeFrom a_edgeTo a_edgeOrder a_edgeArgs a_edgeSets a_edgeBegin a_edgeEnd a_incoming a_dominators a_depth a_parent a_pointBase a_pointBlock a_pointItem a_pointUses a_live a_distance a_neighbours a_colour a_inRegisters a_location a_hint a_taken a_moveSource a_moveReaders a_codeTo a_codeFrom a_codeSwap a_codeBegin a_codeEnd a_outLog a_params a_cells n u (nI i)) (fun i u => ∀ j, bt u j = true ↔ ∃ x, x < i ∧ ca_If P v x ∧ a_colour x = nI j ∧ j < 32) 0 (ca_N P) (by omega) 0 ?_ ?_ ?_
  · intro j
    rw [ca_b0i]
    exact ⟨fun z => z.elim, fun ⟨x, hx, _⟩ => by omega⟩
  · intro n u hu
    refine br_t (nI_le (Nat.le_refl _) (by omega)) ?_
    refine ca_loop (σ := Unit) (fun n c _ => wX_leastColour_54 post u f_phiKind f_jumpKind f_branchKind f_retKind f_far f_registerEnd f_firstSlot f_cellEnd f_edgeCode f_blockLimit f_itemLimit f_outLimit f_stage f_open (nI (ca_B P)) (nI (ca_N P)) (nI (ca_E P)) (nI (ca_T P)) f_greatestPressure f_everLive f_registers f_usedRegisters f_placedBlocks f_codeSize f_current f_returned f_outSize a_blockStart a_blockPhis a_blockItems a_termKind a_termValue a_termFirst a_termSecond a_itemKind a_itemA a_itemB a_itemBlock a_edgeFrom a_edgeTo a_edgeOrder a_edgeArgs a_edgeSets a_edgeBegin a_edgeEnd a_incoming a_dominators a_depth a_parent a_pointBase a_pointBlock a_pointItem a_pointUses a_live a_distance a_neighbours a_colour a_inRegisters a_location a_hint a_taken a_moveSource a_moveReaders a_codeTo a_codeFrom a_codeSwap a_codeBegin a_codeEnd a_outLog a_params a_cells n (nI c)) (fun c _ => ∀ j, j < c → ∃ x, x < ca_N P ∧ ca_If P v x ∧ a_colour x = nI j) 0 31 (by omega) () (fun j hj => by omega) ?_ ?_
    · intro n _ hI
      refine br_t (nI_le (a := 31) (b := 31) (Nat.le_refl _) (by decide)) (K 31 (fun x x1 x2 x3 => ?_) hI)
      rcases hc x x1 with y | ⟨k, k1, k2⟩
      · rw [x3] at y; exact ca_nm1 (by omega) y
      · rw [x3] at k2
        have := ca_ninj k2 (by omega) (by omega)
        omega
    · intro n c _ _ hcc hI ih
      refine br_f (nI_ge (b := 31) hcc (by decide)) (xl_has _ rfl (by omega) (fun hb => ?_) (fun hb => ?_))
      · refine br_f (by decide) (ca_in (ih () fun j hj => ?_))
        by_cases z : j = c
        · subst z
          obtain ⟨x, x1, x2, x3, _⟩ := (hu j).mp hb
          exact ⟨x, x1, x2, x3⟩
        · exact hI j (by omega)
      · refine br_t rfl (K c (fun x x1 x2 x3 => ca_ff hb ((hu c).mpr ⟨x, x1, x2, x3, by omega⟩)) hI)
  · intro n i u _ hi hu ih
    have hn' := hn v hv
    refine br_f (nI_ge hi (by omega)) (ca_vi (xl_has _ rfl (by omega) (fun hb => ?_) (fun hb => ?_)))
    · rw [nI_clamp (n := v) (by omega), hn' i] at hb
      refine br_f (by decide) (ca_vi ?_)
      rcases hc i hi with y | ⟨k, k1, k2⟩
      · refine br_t (by rw [ca_r y]; decide) (ca_in (ih u fun j => ?_))
        rw [hu j]
        constructor
        · rintro ⟨x, x1, x2⟩; exact ⟨x, by omega, x2⟩
        · rintro ⟨x, x1, x2, x3, x4⟩
          by_cases z : x = i
          · subst z; rw [y] at x3; exact absurd x3.symm (ca_nm1 (by omega))
          · exact ⟨x, by omega, x2, x3, x4⟩
      · refine br_f (by rw [ca_r k2]; exact nI_pos (by omega)) (ca_vi (nm_r (e' := u ||| ((1 : Int32) <<< (nI k &&& 31))) (by rw [ca_r k2]) (ca_in (ih _ fun j => ?_))))
        rw [ca_bset (by omega), hu j]
        constructor
        · rintro (⟨x, x1, x2⟩ | e)
          · exact ⟨x, by omega, x2⟩
          · subst e; exact ⟨i, by omega, hb.2, k2, by omega⟩
        · rintro ⟨x, x1, x2, x3, x4⟩
          by_cases z : x = i
          · subst z
            rw [x3] at k2
            exact Or.inr (ca_ninj k2 (by omega) (by omega))
          · exact Or.inl ⟨x, by omega, x2, x3, x4⟩
    · rw [nI_clamp (n := v) (by omega)] at hb
      refine br_t rfl (ca_in (ih u fun j => ?_))
      rw [hu j]
      constructor
      · rintro ⟨x, x1, x2⟩; exact ⟨x, by omega, x2⟩
      · rintro ⟨x, x1, x2, x3, x4⟩
        by_cases z : x = i
        · subst z; exact absurd ((hn' x).mpr ⟨hi, x2⟩) (ca_ff hb)
        · exact ⟨x, by omega, x2, x3, x4⟩
theorem xl_colourBlock {post : SX → Prop} {s : Nat} (hW : ca_WF P) (hn : ca_AN P a_neighbours) (hb : ca_AB P a_blockStart a_blockPhis a_blockItems) (he : ∀ v, bt f_everLive v = true ↔ v < ca_N P ∧ ca_EL P v) (hs : s < ca_B P) (hc : ca_CI P ((ca_dp P s * 8 + s) * 32) a_colour) (K : ∀ c, ca_CI P ((ca_dp P s * 8 + s + 1) * 32) c → post (f_phiKind, f_jumpKind, f_branchKind, f_retKind, f_far, f_registerEnd, f_firstSlot, f_cellEnd, f_edgeCode, f_blockLimit, f_itemLimit, f_outLimit, f_stage, f_open, (nI (ca_B P)), (nI (ca_N P)), (nI (ca_E P)), (nI (ca_T P)), f_greatestPressure, f_everLive, f_registers, f_usedRegisters, f_placedBlocks, f_codeSize, f_current, f_returned, f_outSize, a_blockStart, a_blockPhis, a_blockItems, a_termKind, a_termValue, a_termFirst, a_termSecond, a_itemKind, a_itemA, a_itemB, a_itemBlock, a_edgeFrom, a_edgeTo, a_edgeOrder, a_edgeArgs, a_edgeSets, a_edgeBegin, a_edgeEnd, a_incoming, a_dominators, a_depth, a_parent, a_pointBase, a_pointBlock, a_pointItem, a_pointUses, a_live, a_distance, a_neighbours, c, a_inRegisters, a_location, a_hint, a_taken, a_moveSource, a_moveReaders, a_codeTo, a_codeFrom, a_codeSwap, a_codeBegin, a_codeEnd, a_outLog, a_params, a_cells)) : wpX_colourBlock post (f_phiKind, f_jumpKind, f_branchKind, f_retKind, f_far, f_registerEnd, f_firstSlot, f_cellEnd, f_edgeCode, f_blockLimit, f_itemLimit, f_outLimit, f_stage, f_open, (nI (ca_B P)), (nI (ca_N P)), (nI (ca_E P)), (nI (ca_T P)), f_greatestPressure, f_everLive, f_registers, f_usedRegisters, f_placedBlocks, f_codeSize, f_current, f_returned, f_outSize, a_blockStart, a_blockPhis, a_blockItems, a_termKind, a_termValue, a_termFirst, a_termSecond, a_itemKind, a_itemA, a_itemB, a_itemBlock, a_edgeFrom, a_edgeTo, a_edgeOrder, a_edgeArgs, a_edgeSets, a_edgeBegin, a_edgeEnd, a_incoming, a_dominators, a_depth, a_parent, a_pointBase, a_pointBlock, a_pointItem, a_pointUses, a_live, a_distance, a_neighbours, a_colour, a_inRegisters, a_location, a_hint, a_taken, a_moveSource, a_moveReaders, a_codeTo, a_codeFrom, a_codeSwap, a_codeBegin, a_codeEnd, a_outLog, a_params, a_cells) (nI s) := by
  have hN := ca_wN hW
  have hB := ca_wB hW
  have hb' := hb s hs
  have w1 := ca_wn hW hs
  refine ca_vi (ca_vi (nm_r (e' := nI (ca_bs P s + ca_bi P s)) (by rw [ca_r hb'.1, ca_r hb'.2.2, nI_add]) (ca_vi (ca_rd hb'.1 ?_))))
  refine ca_loop (fun n v (c : Nat → Int32) => wX_colourBlock_21 post (nI (ca_bs P s + ca_bi P s)) f_phiKind f_jumpKind f_branchKind f_retKind f_far f_registerEnd f_firstSlot f_cellEnd f_edgeCode f_blockLimit f_itemLimit f_outLimit f_stage f_open (nI (ca_B P)) (nI (ca_N P)) (nI (ca_E P)) (nI (ca_T P)) f_greatestPressure f_everLive f_registers f_usedRegisters f_placedBlocks f_codeSize f_current f_returned f_outSize n (nI v) a_blockStart a_blockPhis a_blockItems a_termKind a_termValue a_termFirst a_termSecond a_itemKind a_itemA a_itemB a_itemBlock a_edgeFrom a_edgeTo a_edgeOrder a_edgeArgs a_edgeSets a_edgeBegin a_edgeEnd a_incoming a_dominators a_depth a_parent a_pointBase a_pointBlock a_pointItem a_pointUses a_live a_distance a_neighbours c a_inRegisters a_location a_hint a_taken a_moveSource a_moveReaders a_codeTo a_codeFrom a_codeSwap a_codeBegin a_codeEnd a_outLog a_params a_cells) (fun v c => ca_CI P ((ca_dp P s * 8 + s) * 32 + v) c) (ca_bs P s) (ca_bs P s + ca_bi P s) (by omega) a_colour ?_ ?_ ?_
  · refine ca_CIskip hc fun w hw => ?_
    have h1 := ca_wb hW hw
    unfold ca_key
    constructor
    · intro z
      rcases Nat.lt_or_ge ((ca_dp P (ca_bl P w) * 8 + ca_bl P w) * 32 + w) ((ca_dp P s * 8 + s) * 32) with y | y
      · exact y
      · have e : ca_bl P w = s := by omega
        rw [e] at h1; omega
    · intro z; omega
  · intro n c hcc
    refine br_t (nI_le (Nat.le_refl _) (by omega)) (K c (ca_CIskip hcc fun w hw => ?_))
    have h1 := ca_wb hW hw
    unfold ca_key
    constructor
    · intro z
      rcases Nat.lt_or_ge ((ca_dp P (ca_bl P w) * 8 + ca_bl P w) * 32 + w) ((ca_dp P s * 8 + s) * 32) with y | y
      · omega
      · have e : ca_bl P w = s := by omega
        rw [e] at h1 z ⊢; omega
    · intro z; omega
  · intro n v c hv0 hv hcc ih
    have hvN : v < ca_N P := by omega
    have hbl := (ca_wi hW (i := v) hs hv0 hv).1
    have hkey : ca_key P v = (ca_dp P s * 8 + s) * 32 + v := by unfold ca_key; rw [hbl]
    rw [← hkey] at hcc
    refine br_f (nI_ge hv (by omega)) (xl_has _ rfl (by omega) (fun hb1 => ?_) (fun hb0 => ?_))
    · have hE := ((he v).mp hb1).2
      refine br_f (by decide) (xl_leastColour hW hn hvN (ca_CIcnt hW hvN) hcc.2.2 (fun k k1 k2 => ca_vi (ca_wr (ca_in (ih _ ?_)))))
      have := ca_CIstep hW hcc hvN hE k1 k2
      rw [hkey] at this
      exact this
    · have hE : ¬ ca_EL P v := fun z => ca_ff hb0 ((he v).mpr ⟨hvN, z⟩)
      refine br_t rfl (ca_in (ih _ ?_))
      have := ca_CInot hW hcc hvN hE
      rw [hkey] at this
      exact this
theorem xl_colourValues {post : SX → Prop} (hW : ca_WF P) (hn : ca_AN P a_neighbours) (hb : ca_AB P a_blockStart a_blockPhis a_blockItems) (hd : ca_Adp P a_depth) (he : ∀ v, bt f_everLive v = true ↔ v < ca_N P ∧ ca_EL P v) (K : ∀ c, ca_Sol P c → post (f_phiKind, f_jumpKind, f_branchKind, f_retKind, f_far, f_registerEnd, f_firstSlot, f_cellEnd, f_edgeCode, f_blockLimit, f_itemLimit, f_outLimit, f_stage, f_open, (nI (ca_B P)), (nI (ca_N P)), (nI (ca_E P)), (nI (ca_T P)), f_greatestPressure, f_everLive, f_registers, f_usedRegisters, f_placedBlocks, f_codeSize, f_current, f_returned, f_outSize, a_blockStart, a_blockPhis, a_blockItems, a_termKind, a_termValue, a_termFirst, a_termSecond, a_itemKind, a_itemA, a_itemB, a_itemBlock, a_edgeFrom, a_edgeTo, a_edgeOrder, a_edgeArgs, a_edgeSets, a_edgeBegin, a_edgeEnd, a_incoming, a_dominators, a_depth, a_parent, a_pointBase, a_pointBlock, a_pointItem, a_pointUses, a_live, a_distance, a_neighbours, c, a_inRegisters, a_location, a_hint, a_taken, a_moveSource, a_moveReaders, a_codeTo, a_codeFrom, a_codeSwap, a_codeBegin, a_codeEnd, a_outLog, a_params, a_cells)) : wpX_colourValues post (f_phiKind, f_jumpKind, f_branchKind, f_retKind, f_far, f_registerEnd, f_firstSlot, f_cellEnd, f_edgeCode, f_blockLimit, f_itemLimit, f_outLimit, f_stage, f_open, (nI (ca_B P)), (nI (ca_N P)), (nI (ca_E P)), (nI (ca_T P)), f_greatestPressure, f_everLive, f_registers, f_usedRegisters, f_placedBlocks, f_codeSize, f_current, f_returned, f_outSize, a_blockStart, a_blockPhis, a_blockItems, a_termKind, a_termValue, a_termFirst, a_termSecond, a_itemKind, a_itemA, a_itemB, a_itemBlock, a_edgeFrom, a_edgeTo, a_edgeOrder, a_edgeArgs, a_edgeSets, a_edgeBegin, a_edgeEnd, a_incoming, a_dominators, a_depth, a_parent, a_pointBase, a_pointBlock, a_pointItem, a_pointUses, a_live, a_distance, a_neighbours, a_colour, a_inRegisters, a_location, a_hint, a_taken, a_moveSource, a_moveReaders, a_codeTo, a_codeFrom, a_codeSwap, a_codeBegin, a_codeEnd, a_outLog, a_params, a_cells) := by
  have hN := ca_wN hW
  have hB := ca_wB hW
  refine ca_loop (fun n i (s : Nat → Int32) => wX_colourValues_2 post f_phiKind f_jumpKind f_branchKind f_retKind f_far f_registerEnd f_firstSlot f_cellEnd f_edgeCode f_blockLimit f_itemLimit f_outLimit f_stage f_open (nI (ca_B P)) (nI (ca_N P)) (nI (ca_E P)) (nI (ca_T P)) f_greatestPressure f_everLive f_registers f_usedRegisters f_placedBlocks f_codeSize f_current f_returned f_outSize n (nI i) a_blockStart a_blockPhis a_blockItems a_termKind a_termValue a_termFirst a_termSecond a_itemKind a_itemA a_itemB a_itemBlock a_edgeFrom a_edgeTo a_edgeOrder a_edgeArgs a_edgeSets a_edgeBegin a_edgeEnd a_incoming a_dominators a_depth a_parent a_pointBase a_pointBlock a_pointItem a_pointUses a_live a_distance a_neighbours s a_inRegisters a_location a_hint a_taken a_moveSource a_moveReaders a_codeTo a_codeFrom a_codeSwap a_codeBegin a_codeEnd a_outLog a_params a_cells) (fun i s => ∀ x, x < i → s x = -1) 0 32 (by omega) a_colour (fun x hx => by omega) ?_ ?_
  · intro n c hc
    refine br_t (nI_le (a := 32) (b := 32) (Nat.le_refl _) (by decide)) ?_
    refine ca_loop (fun n l (c : Nat → Int32) => wX_colourValues_23 post n (nI l) f_phiKind f_jumpKind f_branchKind f_retKind f_far f_registerEnd f_firstSlot f_cellEnd f_edgeCode f_blockLimit f_itemLimit f_outLimit f_stage f_open (nI (ca_B P)) (nI (ca_N P)) (nI (ca_E P)) (nI (ca_T P)) f_greatestPressure f_everLive f_registers f_usedRegisters f_placedBlocks f_codeSize f_current f_returned f_outSize a_blockStart a_blockPhis a_blockItems a_termKind a_termValue a_termFirst a_termSecond a_itemKind a_itemA a_itemB a_itemBlock a_edgeFrom a_edgeTo a_edgeOrder a_edgeArgs a_edgeSets a_edgeBegin a_edgeEnd a_incoming a_dominators a_depth a_parent a_pointBase a_pointBlock a_pointItem a_pointUses a_live a_distance a_neighbours c a_inRegisters a_location a_hint a_taken a_moveSource a_moveReaders a_codeTo a_codeFrom a_codeSwap a_codeBegin a_codeEnd a_outLog a_params a_cells) (fun l c => ca_CI P (l * 8 * 32) c) 1 (ca_B P + 1) (by omega) c ?_ ?_ ?_
    · refine ⟨fun w hw hl => ?_, fun w hw _ => hc w (by omega), fun w hw => Or.inl (hc w (by omega))⟩
      have := ca_dp1 (P := P) (ca_wb hW hw).1
      unfold ca_key at hl
      omega
    · intro n c hcc
      refine pk_lt (ca_B P) (ca_B P + 1) (fun _ => K c (ca_CIsol hcc fun w hw => ?_)) (fun z => by omega)
      have h1 := ca_dpB (P := P) (ca_bl P w)
      have h2 := (ca_wb hW hw).1
      unfold ca_key
      omega
    · intro n l c hl1 hl hcc ih
      refine pk_lt (ca_B P) l (fun z => by omega) (fun _ => ?_)
      refine ca_loop (fun k s (c : Nat → Int32) => wX_colourValues_33 post (wX_colourValues_23 post n) (nI l) k (nI s) f_phiKind f_jumpKind f_branchKind f_retKind f_far f_registerEnd f_firstSlot f_cellEnd f_edgeCode f_blockLimit f_itemLimit f_outLimit f_stage f_open (nI (ca_B P)) (nI (ca_N P)) (nI (ca_E P)) (nI (ca_T P)) f_greatestPressure f_everLive f_registers f_usedRegisters f_placedBlocks f_codeSize f_current f_returned f_outSize a_blockStart a_blockPhis a_blockItems a_termKind a_termValue a_termFirst a_termSecond a_itemKind a_itemA a_itemB a_itemBlock a_edgeFrom a_edgeTo a_edgeOrder a_edgeArgs a_edgeSets a_edgeBegin a_edgeEnd a_incoming a_dominators a_depth a_parent a_pointBase a_pointBlock a_pointItem a_pointUses a_live a_distance a_neighbours c a_inRegisters a_location a_hint a_taken a_moveSource a_moveReaders a_codeTo a_codeFrom a_codeSwap a_codeBegin a_codeEnd a_outLog a_params a_cells) (fun s c => ca_CI P ((l * 8 + s) * 32) c) 0 (ca_B P) (by omega) c hcc ?_ ?_
      · intro k c hcc
        refine br_t (nI_le (Nat.le_refl _) (by omega)) (ca_in (ih c (ca_CIskip hcc fun w hw => ?_)))
        have h2 := (ca_wb hW hw).1
        unfold ca_key
        constructor
        · intro z; omega
        · intro z; omega
      · intro k s c _ hs hcc ih2
        have hds := ca_dpB (P := P) s
        refine br_f (nI_ge hs (by omega)) (ca_vi (pk_eq (ca_dp P s) l (fun z => ?_) (fun z => ?_) (ca_r (hd s hs))))
        · subst z
          exact xl_colourBlock hW hn hb he hs hcc (fun c hcc => ca_in (ih2 c hcc))
        · refine ca_in (ih2 c (ca_CIskip hcc fun w hw => ?_))
          have h2 := (ca_wb hW hw).1
          unfold ca_key
          constructor
          · intro y
            rcases Nat.lt_or_ge ((ca_dp P (ca_bl P w) * 8 + ca_bl P w) * 32 + w) ((l * 8 + s) * 32) with x | x
            · exact x
            · have e : ca_bl P w = s := by omega
              rw [e] at x y
              omega
          · intro y; omega
  · intro n i s _ hi hs ih
    refine br_f (nI_ge (b := 32) hi (by decide)) (ca_vi (ca_wr (ca_in (ih _ fun x hx => ?_))))
    by_cases z : x = i
    · subst z; exact pk_us
    · rw [pk_un z]; exact hs x (by omega)
end
end
section
/-! Y: edges, reaching, strictness -/
def ca_YT (P : ca_PG) (c : Nat) (ty tv t1 t2 : Nat → Int32) : Prop := ∀ s, s < c → ty s = nI (ca_tk P s + 1) ∧ tv s = nI (ca_tv P s) ∧ t1 s = nI (ca_t1 P s) ∧ t2 s = nI (ca_t2 P s)
section
variable {P : ca_PG}
variable {g_blockLimit g_itemLimit g_outLimit g_stage g_blocks g_items g_open g_outs g_point g_regs g_answer : Int32} {b_kind b_block b_argA b_argB b_term b_termValue b_first b_second b_dist b_params b_val b_log b_reached b_level b_fresh b_key b_colour : Nat → Int32}
theorem ca_shr1 {e : Nat} (h : e < 2 ^ 31) : nI e >>> ((1 : Int32) &&& 31) = nI (e / 2) := pk_shrN h _ 1 (by decide)
theorem ca_and1 {e : Nat} (h : e < 2 ^ 31) : nI e &&& 1 = nI (e % 2) := pk_andN (by omega) 1 (by decide)
theorem yl_target {post : Int32 → Prop} {e : Nat} {p0 : Int32} (e0 : p0 = nI e) (he : e < 1000) (hB : ca_B P ≤ 8) (hF : ca_TF P (ca_B P)) (hY : ca_YT P (ca_B P) b_term b_termValue b_first b_second) (h1 : ca_isE P e → post (nI (ca_tg P e))) (h0 : ¬ ca_isE P e → post (-1)) : wpY_target post (g_blockLimit, g_itemLimit, g_outLimit, g_stage, (nI (ca_B P)), (nI (ca_N P)), g_open, g_outs, g_point, g_regs, g_answer, b_kind, b_block, b_argA, b_argB, b_term, b_termValue, b_first, b_second, b_dist, b_params, b_val, b_log, b_reached, b_level, b_fresh, b_key, b_colour) p0 := by
  subst e0
  refine nm_r (ca_shr1 (by omega)) (ca_lt0 (pk_lt (e / 2) (ca_B P) (fun hs => ?_) (fun hs => h0 fun z => by have := z.1; omega)))
  have hY' := hY _ hs
  have hF' := hF _ hs
  rw [ca_and1 (by omega)]
  refine pk_eq (e % 2) 0 (fun ev => ?_) (fun od => ?_)
  · have ht : ca_tg P e = ca_t1 P (e / 2) := if_pos ev
    have yes : ca_tk P (e / 2) ≠ 2 → post (b_first (nI (e / 2)).toNatClampNeg) := by
      intro z
      rw [ca_r hY'.2.2.1, ← ht]
      exact h1 ⟨hs, Or.inl ⟨ev, z⟩⟩
    refine ca_vi (pk_eq (ca_tk P (e / 2) + 1) 1 (fun z => ca_vi (yes (by omega))) (fun z => ca_vi (pk_eq (ca_tk P (e / 2) + 1) 2 (fun y => ca_vi (yes (by omega))) (fun y => h0 fun x => ?_) (ca_r hY'.1))) (ca_r hY'.1))
    rcases x.2 with x | x
    · omega
    · omega
  · have ht : ca_tg P e = ca_t2 P (e / 2) := if_neg od
    refine ca_vi (pk_eq (ca_tk P (e / 2) + 1) 2 (fun z => ca_vi ?_) (fun z => h0 fun x => ?_) (ca_r hY'.1))
    · rw [ca_r hY'.2.2.2, ← ht]
      exact h1 ⟨hs, Or.inr ⟨by omega, by omega⟩⟩
    · rcases x.2 with x | x
      · omega
      · omega
theorem yl_edgeNumber {post : Int32 → Prop} {e : Nat} {p0 : Int32} (e0 : p0 = nI e) (hB : ca_B P ≤ 8) (hF : ca_TF P (ca_B P)) (hY : ca_YT P (ca_B P) b_term b_termValue b_first b_second) (he : ca_isE P e) (K : post (nI (ca_eno P e))) : wpY_edgeNumber post (g_blockLimit, g_itemLimit, g_outLimit, g_stage, (nI (ca_B P)), (nI (ca_N P)), g_open, g_outs, g_point, g_regs, g_answer, b_kind, b_block, b_argA, b_argB, b_term, b_termValue, b_first, b_second, b_dist, b_params, b_val, b_log, b_reached, b_level, b_fresh, b_key, b_colour) p0 := by
  subst e0
  have h16 := ca_elt he
  have t8 := ca_tg8 hF he.1
  unfold wpY_edgeNumber
  refine yl_target rfl (by omega) hB hF hY (fun _ => ?_) (fun z => absurd he z)
  refine ca_loop (σ := Int32) (fun n x c => wY_edgeNumber_11 post (nI e) (nI (ca_tg P e)) g_blockLimit g_itemLimit g_outLimit g_stage (nI (ca_B P)) (nI (ca_N P)) g_open g_outs g_point g_regs g_answer b_kind b_block b_argA b_argB b_term b_termValue b_first b_second b_dist b_params b_val b_log b_reached b_level b_fresh b_key b_colour n c (nI x)) (fun x c => c = nI (ca_cn (fun x => ca_isE P x ∧ ca_tg P x = ca_tg P e) x)) 0 e (by omega) 0 rfl ?_ ?_
  · intro n c hc
    refine br_t (nI_le (Nat.le_refl _) (by omega)) ?_
    rw [hc]; exact K
  · intro n x c _ hx hc ih
    subst hc
    refine br_f (nI_ge hx (by omega)) (yl_target rfl (by omega) hB hF hY (fun hE => ?_) (fun hE => ?_))
    · have hx8 := ca_tg8 hF hE.1
      refine pk_eq (ca_tg P x) (ca_tg P e) (fun z => ?_) (fun z => ?_)
      · refine nm_r (nI_1 _) (ca_in (ih _ ?_))
        rw [ca_cn_t ⟨hE, z⟩]
      · refine ca_in (ih _ ?_)
        rw [ca_cn_f (fun y => z y.2)]
    · refine br_f (fun z => ca_nm1 (by omega) z.symm) (ca_in (ih _ ?_))
      rw [ca_cn_f (fun y => hE y.1)]
theorem yl_rc38 {post : Int32 → SY → Prop} {x y : Nat} {px : Int32} (hx : ∀ t, t < 8 → (nI t = px ↔ t = x)) (hy : y < 8) (hW : ca_WF P) (hB0 : 0 < ca_B P) (hT : ca_TE P) (hF : ca_TF P (ca_B P)) (hY : ca_YT P (ca_B P) b_term b_termValue b_first b_second) (h01 : ∀ t, t < 8 → b_reached t = 0 ∨ b_reached t = 1) (hs : ∀ t, t < 8 → b_reached t = 1 → ca_Rc P x t) (h0 : ∀ t, ca_RA P x 0 t → b_reached t = 1) (K1 : ∀ ρ, ca_Rc P x y → post 1 (g_blockLimit, g_itemLimit, g_outLimit, g_stage, (nI (ca_B P)), (nI (ca_N P)), g_open, g_outs, g_point, g_regs, g_answer, b_kind, b_block, b_argA, b_argB, b_term, b_termValue, b_first, b_second, b_dist, b_params, b_val, b_log, ρ, b_level, b_fresh, b_key, b_colour)) (K0 : ∀ ρ, ¬ ca_Rc P x y → post 0 (g_blockLimit, g_itemLimit, g_outLimit, g_stage, (nI (ca_B P)), (nI (ca_N P)), g_open, g_outs, g_point, g_regs, g_answer, b_kind, b_block, b_argA, b_argB, b_term, b_termValue, b_first, b_second, b_dist, b_params, b_val, b_log, ρ, b_level, b_fresh, b_key, b_colour)) : ∃ n, wY_reachable_38 post (nI y) px g_blockLimit g_itemLimit g_outLimit g_stage (nI (ca_B P)) (nI (ca_N P)) g_open g_outs g_point g_regs g_answer n 0 b_kind b_block b_argA b_argB b_term b_termValue b_first b_second b_dist b_params b_val b_log b_reached b_level b_fresh b_key b_colour := by
  have hB := ca_wB hW
  refine ca_loop (σ := Nat → Int32) (fun n r ρ => wY_reachable_38 post (nI y) px g_blockLimit g_itemLimit g_outLimit g_stage (nI (ca_B P)) (nI (ca_N P)) g_open g_outs g_point g_regs g_answer n (nI r) b_kind b_block b_argA b_argB b_term b_termValue b_first b_second b_dist b_params b_val b_log ρ b_level b_fresh b_key b_colour) (fun r ρ => (∀ t, t < 8 → ρ t = 0 ∨ ρ t = 1) ∧ (∀ t, t < 8 → ρ t = 1 → ca_Rc P x t) ∧ (∀ t, ca_RA P x r t → ρ t = 1)) 0 (ca_B P) (by omega) b_reached ⟨h01, hs, h0⟩ ?_ ?_
  · rintro n ρ ⟨g1, g2, g3⟩
    refine br_t (nI_le (Nat.le_refl _) (by omega)) (ca_vi ?_)
    rw [nI_clamp (n := y) (by omega)]
    rcases g1 y hy with z | z
    · rw [z]
      exact ⟨narrow_b0, K0 ρ fun hr => absurd ((g3 y (ca_RAst hT hB0 hr)).symm.trans z) (by decide)⟩
    · rw [z]
      exact ⟨narrow_b1, K1 ρ (g2 y hy z)⟩
  · rintro n r ρ _ hr ⟨g1, g2, g3⟩ ih
    refine br_f (nI_ge hr (by omega)) ?_
    refine ca_loop (σ := Nat → Int32) (fun k e ρ => wY_reachable_49 post (wY_reachable_38 post (nI y) px g_blockLimit g_itemLimit g_outLimit g_stage (nI (ca_B P)) (nI (ca_N P)) g_open g_outs g_point g_regs g_answer n) (nI y) px (nI r) g_blockLimit g_itemLimit g_outLimit g_stage (nI (ca_B P)) (nI (ca_N P)) g_open g_outs g_point g_regs g_answer k (nI e) b_kind b_block b_argA b_argB b_term b_termValue b_first b_second b_dist b_params b_val b_log ρ b_level b_fresh b_key b_colour) (fun e ρ => (∀ t, t < 8 → ρ t = 0 ∨ ρ t = 1) ∧ (∀ t, t < 8 → ρ t = 1 → ca_Rc P x t) ∧ (∀ t, ca_RA P x r t → ρ t = 1) ∧ (∀ f, f < e → ca_isE P f → ca_tg P f ≠ x → ca_RA P x r (f / 2) → ρ (ca_tg P f) = 1)) 0 (2 * ca_B P) (by omega) ρ ⟨g1, g2, g3, fun f hf => by omega⟩ ?_ ?_
    · rintro k ρ ⟨k1, k2, k3, k4⟩
      refine br_t (by rw [ca_tw]; exact nI_le (Nat.le_refl _) (by omega)) (ca_in (ih ρ ⟨k1, k2, fun t ht => ?_⟩))
      rcases ht with ht | ⟨e, e1, e2, e3, e4⟩
      · exact k3 t ht
      · subst e2; exact k4 e (ca_elt e1) e1 e3 e4
    · rintro k e ρ _ he ⟨k1, k2, k3, k4⟩ ih2
      refine br_f (by rw [ca_tw]; exact nI_ge he (by omega)) (yl_target rfl (by omega) hB hF hY (fun hE => ?_) (fun hE => ?_))
      · have t8 := ca_tg8 hF hE.1
        have hb : e / 2 < ca_B P := hE.1
        refine ca_lt0 ?_
        by_cases hz : ca_tg P e = x
        · refine br_t ((hx _ t8).mpr hz) (ca_in (ih2 ρ ⟨k1, k2, k3, fun f hf h1 h2 h3 => ?_⟩))
          by_cases q : f = e
          · subst q; exact absurd hz h2
          · exact k4 f (by omega) h1 h2 h3
        · refine br_f (fun z => hz ((hx _ t8).mp z)) ?_
          rw [ca_shr1 (by omega)]
          refine ca_vi ?_
          rw [nI_clamp (n := e / 2) (by omega)]
          rcases k1 (e / 2) (by omega) with w | w
          · refine br_t w (ca_in (ih2 ρ ⟨k1, k2, k3, fun f hf h1 h2 h3 => ?_⟩))
            by_cases q : f = e
            · subst q
              exact absurd ((k3 _ h3).symm.trans w) (by decide)
            · exact k4 f (by omega) h1 h2 h3
          · refine br_f (by rw [w]; decide) (ca_vi (ca_wx (ca_tg P e) rfl ca_vb1 (ca_in (ih2 _ ⟨fun t ht => ?_, fun t ht h => ?_, fun t ht => ?_, fun f hf h1 h2 h3 => ?_⟩))))
            · by_cases q : t = ca_tg P e
              · subst q; exact Or.inr pk_us
              · rw [pk_un q]; exact k1 t ht
            · by_cases q : t = ca_tg P e
              · subst q
                obtain ⟨m, hm⟩ := k2 _ (by omega) w
                exact ⟨m + 1, Or.inr ⟨e, hE, rfl, hz, hm⟩⟩
              · rw [pk_un q] at h; exact k2 t ht h
            · by_cases q : t = ca_tg P e
              · subst q; exact pk_us
              · rw [pk_un q]; exact k3 t ht
            · by_cases q : ca_tg P f = ca_tg P e
              · rw [q]; exact pk_us
              · rw [pk_un q]
                refine k4 f ?_ h1 h2 h3
                have : f ≠ e := fun y => q (by rw [y])
                omega
      · refine br_t (by decide) (ca_in (ih2 ρ ⟨k1, k2, k3, fun f hf h1 h2 h3 => ?_⟩))
        by_cases q : f = e
        · subst q; exact absurd h1 hE
        · exact k4 f (by omega) h1 h2 h3
theorem yl_reachable {post : Int32 → SY → Prop} {x y : Nat} {py px : Int32} (ey : py = nI y) (hx : ∀ t, t < 8 → (nI t = px ↔ t = x)) (hy : y < 8) (hW : ca_WF P) (hB0 : 0 < ca_B P) (hT : ca_TE P) (hF : ca_TF P (ca_B P)) (hY : ca_YT P (ca_B P) b_term b_termValue b_first b_second) (K1 : ∀ ρ, ca_Rc P x y → post 1 (g_blockLimit, g_itemLimit, g_outLimit, g_stage, (nI (ca_B P)), (nI (ca_N P)), g_open, g_outs, g_point, g_regs, g_answer, b_kind, b_block, b_argA, b_argB, b_term, b_termValue, b_first, b_second, b_dist, b_params, b_val, b_log, ρ, b_level, b_fresh, b_key, b_colour)) (K0 : ∀ ρ, ¬ ca_Rc P x y → post 0 (g_blockLimit, g_itemLimit, g_outLimit, g_stage, (nI (ca_B P)), (nI (ca_N P)), g_open, g_outs, g_point, g_regs, g_answer, b_kind, b_block, b_argA, b_argB, b_term, b_termValue, b_first, b_second, b_dist, b_params, b_val, b_log, ρ, b_level, b_fresh, b_key, b_colour)) : wpY_reachable post (g_blockLimit, g_itemLimit, g_outLimit, g_stage, (nI (ca_B P)), (nI (ca_N P)), g_open, g_outs, g_point, g_regs, g_answer, b_kind, b_block, b_argA, b_argB, b_term, b_termValue, b_first, b_second, b_dist, b_params, b_val, b_log, b_reached, b_level, b_fresh, b_key, b_colour) py px := by
  subst ey
  refine ca_loop (σ := Nat → Int32) (fun n i ρ => wY_reachable_2 post (nI y) px g_blockLimit g_itemLimit g_outLimit g_stage (nI (ca_B P)) (nI (ca_N P)) g_open g_outs g_point g_regs g_answer n (nI i) b_kind b_block b_argA b_argB b_term b_termValue b_first b_second b_dist b_params b_val b_log ρ b_level b_fresh b_key b_colour) (fun i ρ => ∀ t, t < i → ρ t = 0) 0 8 (by omega) b_reached (fun t ht => by omega) ?_ ?_
  · intro n ρ hρ
    refine br_t (nI_le (a := 8) (b := 8) (Nat.le_refl _) (by decide)) (br_c (fun z => nm_r (e' := upd ρ 0 0) (by rw [ca_vb0]) ?_) (fun z => nm_r (e' := upd ρ 0 1) (by rw [ca_vb1]) ?_))
    · have hx0 : 0 = x := (hx 0 (by omega)).mp z.symm
      refine yl_rc38 hx hy hW hB0 hT hF hY (fun t ht => ?_) (fun t ht h => ?_) (fun t ht => absurd hx0.symm ht.2) K1 K0
      · by_cases q : t = 0
        · subst q; exact Or.inl pk_us
        · rw [pk_un q]; exact Or.inl (hρ t ht)
      · by_cases q : t = 0
        · subst q; rw [pk_us] at h; exact absurd h (by decide)
        · rw [pk_un q, hρ t ht] at h; exact absurd h (by decide)
    · have hx0 : ¬ 0 = x := fun h => z ((hx 0 (by omega)).mpr h).symm
      refine yl_rc38 hx hy hW hB0 hT hF hY (fun t ht => ?_) (fun t ht h => ?_) (fun t ht => ?_) K1 K0
      · by_cases q : t = 0
        · subst q; exact Or.inr pk_us
        · rw [pk_un q]; exact Or.inl (hρ t ht)
      · by_cases q : t = 0
        · subst q; exact ⟨0, rfl, fun h => hx0 h.symm⟩
        · rw [pk_un q, hρ t ht] at h; exact absurd h (by decide)
      · rw [ht.1]; exact pk_us
  · intro n i ρ _ hi hρ ih
    refine br_f (nI_ge (b := 8) hi (by decide)) (ca_vi (ca_wx i rfl ca_vb0 (ca_in (ih _ fun t ht => ?_))))
    by_cases q : t = i
    · subst q; exact pk_us
    · rw [pk_un q]; exact hρ t (by omega)
theorem ca_hx {x : Nat} (hx : x < 8) : ∀ t, t < 8 → (nI t = nI x ↔ t = x) := fun t ht => nI_eq (by omega) (by omega)
theorem ca_hx9 : ∀ t, t < 8 → (nI t = -1 ↔ t = 99) := fun t ht => ⟨fun z => absurd z (ca_nm1 (by omega)), fun z => by omega⟩
theorem yl_dominates {post : Int32 → SY → Prop} {x y : Nat} {px py : Int32} (ex : px = nI x) (ey : py = nI y) (hx : x < 8) (hy : y < 8) (hW : ca_WF P) (hB0 : 0 < ca_B P) (hT : ca_TE P) (hF : ca_TF P (ca_B P)) (hY : ca_YT P (ca_B P) b_term b_termValue b_first b_second) (K1 : ∀ ρ, ca_Dm P x y → post 1 (g_blockLimit, g_itemLimit, g_outLimit, g_stage, (nI (ca_B P)), (nI (ca_N P)), g_open, g_outs, g_point, g_regs, g_answer, b_kind, b_block, b_argA, b_argB, b_term, b_termValue, b_first, b_second, b_dist, b_params, b_val, b_log, ρ, b_level, b_fresh, b_key, b_colour)) (K0 : ∀ ρ, ¬ ca_Dm P x y → post 0 (g_blockLimit, g_itemLimit, g_outLimit, g_stage, (nI (ca_B P)), (nI (ca_N P)), g_open, g_outs, g_point, g_regs, g_answer, b_kind, b_block, b_argA, b_argB, b_term, b_termValue, b_first, b_second, b_dist, b_params, b_val, b_log, ρ, b_level, b_fresh, b_key, b_colour)) : wpY_dominates post (g_blockLimit, g_itemLimit, g_outLimit, g_stage, (nI (ca_B P)), (nI (ca_N P)), g_open, g_outs, g_point, g_regs, g_answer, b_kind, b_block, b_argA, b_argB, b_term, b_termValue, b_first, b_second, b_dist, b_params, b_val, b_log, b_reached, b_level, b_fresh, b_key, b_colour) px py := by
  subst ex
  unfold wpY_dominates
  exact yl_reachable ey (ca_hx hx) hy hW hB0 hT hF hY (fun ρ h => br_f (by decide) (K0 ρ fun z => z h)) (fun ρ h => br_t rfl (K1 ρ h))
theorem yl_dominators {post : Int32 → SY → Prop} {s : Nat} {p0 : Int32} (e0 : p0 = nI s) (hs : s < 8) (hW : ca_WF P) (hB0 : 0 < ca_B P) (hT : ca_TE P) (hF : ca_TF P (ca_B P)) (hY : ca_YT P (ca_B P) b_term b_termValue b_first b_second) (K : ∀ ρ, post (nI (ca_dp P s)) (g_blockLimit, g_itemLimit, g_outLimit, g_stage, (nI (ca_B P)), (nI (ca_N P)), g_open, g_outs, g_point, g_regs, g_answer, b_kind, b_block, b_argA, b_argB, b_term, b_termValue, b_first, b_second, b_dist, b_params, b_val, b_log, ρ, b_level, b_fresh, b_key, b_colour)) : wpY_dominators post (g_blockLimit, g_itemLimit, g_outLimit, g_stage, (nI (ca_B P)), (nI (ca_N P)), g_open, g_outs, g_point, g_regs, g_answer, b_kind, b_block, b_argA, b_argB, b_term, b_termValue, b_first, b_second, b_dist, b_params, b_val, b_log, b_reached, b_level, b_fresh, b_key, b_colour) p0 := by
  subst e0
  have hB := ca_wB hW
  refine ca_loop (σ := Int32 × (Nat → Int32)) (fun n x c => wY_dominators_4 post (nI s) n c.1 (nI x) g_blockLimit g_itemLimit g_outLimit g_stage (nI (ca_B P)) (nI (ca_N P)) g_open g_outs g_point g_regs g_answer b_kind b_block b_argA b_argB b_term b_termValue b_first b_second b_dist b_params b_val b_log c.2 b_level b_fresh b_key b_colour) (fun x c => c.1 = nI (ca_cn (fun x => ca_Dm P x s) x)) 0 (ca_B P) (by omega) (0, b_reached) rfl ?_ ?_
  · rintro n ⟨c, ρ⟩ hc
    refine br_t (nI_le (Nat.le_refl _) (by omega)) ?_
    dsimp only at hc ⊢
    rw [hc]; exact K ρ
  · rintro n x ⟨c, ρ⟩ _ hx hc ih
    dsimp only at hc
    subst hc
    refine br_f (nI_ge hx (by omega)) (yl_dominates rfl rfl (by omega) hs hW hB0 hT hF hY (fun ρ h => ?_) (fun ρ h => ?_))
    · refine br_f (by decide) (nm_r (nI_1 _) (ca_in (ih (_, ρ) ?_)))
      show nI _ = nI _
      rw [ca_cn_t (P := fun x => ca_Dm P x s) h]
    · refine br_t rfl (ca_in (ih (_, ρ) ?_))
      show nI _ = nI _
      rw [ca_cn_f (P := fun x => ca_Dm P x s) h]
theorem yl_strictIn {post : Int32 → SY → Prop} {d i : Nat} {p0 : Int32} (e0 : p0 = nI d) (hd : d < 32) (hi : i < ca_N P) (hW : ca_WF P) (hB0 : 0 < ca_B P) (hT : ca_TE P) (hF : ca_TF P (ca_B P)) (hY : ca_YT P (ca_B P) b_term b_termValue b_first b_second) (hP : ca_AP P b_kind b_block b_argA b_argB) (K1 : ∀ ρ, ca_SIn P d i → post 1 (g_blockLimit, g_itemLimit, g_outLimit, g_stage, (nI (ca_B P)), (nI (ca_N P)), g_open, g_outs, g_point, g_regs, g_answer, b_kind, b_block, b_argA, b_argB, b_term, b_termValue, b_first, b_second, b_dist, b_params, b_val, b_log, ρ, b_level, b_fresh, b_key, b_colour)) (K0 : ∀ ρ, ¬ ca_SIn P d i → post 0 (g_blockLimit, g_itemLimit, g_outLimit, g_stage, (nI (ca_B P)), (nI (ca_N P)), g_open, g_outs, g_point, g_regs, g_answer, b_kind, b_block, b_argA, b_argB, b_term, b_termValue, b_first, b_second, b_dist, b_params, b_val, b_log, ρ, b_level, b_fresh, b_key, b_colour)) : wpY_strictIn post (g_blockLimit, g_itemLimit, g_outLimit, g_stage, (nI (ca_B P)), (nI (ca_N P)), g_open, g_outs, g_point, g_regs, g_answer, b_kind, b_block, b_argA, b_argB, b_term, b_termValue, b_first, b_second, b_dist, b_params, b_val, b_log, b_reached, b_level, b_fresh, b_key, b_colour) p0 (nI i) := by
  subst e0
  have hB := ca_wB hW
  have hN := ca_wN hW
  have hbi := ca_wb hW hi
  refine pk_lt d (ca_N P) (fun hdN => ?_) (fun hdN => K0 b_reached fun y => by have := y.1; omega)
  have hbd := ca_wb hW hdN
  refine ca_vi (ca_vi (pk_eq (ca_bl P d) (ca_bl P i) (fun e => ?_) (fun e => ?_) (ca_r (hP d hdN).2.1) (ca_r (hP i hi).2.1)))
  · refine pk_le i d (fun z => K0 b_reached fun y => ?_) (fun z => K1 b_reached ⟨hdN, Or.inl ⟨e, z⟩⟩)
    rcases y.2 with w | w
    · omega
    · exact w.1 e
  · refine ca_vi (ca_vi (yl_dominates (ca_r (hP d hdN).2.1) (ca_r (hP i hi).2.1) (by omega) (by omega) hW hB0 hT hF hY (fun ρ h => ⟨narrow_b1, K1 ρ ⟨hdN, Or.inr ⟨e, h⟩⟩⟩) (fun ρ h => ⟨narrow_b0, K0 ρ fun y => ?_⟩)))
    rcases y.2 with w | w
    · exact e w.1
    · exact h w.2
theorem yl_strictEnd {post : Int32 → SY → Prop} {d s : Nat} {p0 p1 : Int32} (e0 : p0 = nI d) (e1 : p1 = nI s) (hd : d < 32) (hs : s < ca_B P) (hW : ca_WF P) (hB0 : 0 < ca_B P) (hT : ca_TE P) (hF : ca_TF P (ca_B P)) (hY : ca_YT P (ca_B P) b_term b_termValue b_first b_second) (hP : ca_AP P b_kind b_block b_argA b_argB) (K1 : ∀ ρ, ca_STe P d s → post 1 (g_blockLimit, g_itemLimit, g_outLimit, g_stage, (nI (ca_B P)), (nI (ca_N P)), g_open, g_outs, g_point, g_regs, g_answer, b_kind, b_block, b_argA, b_argB, b_term, b_termValue, b_first, b_second, b_dist, b_params, b_val, b_log, ρ, b_level, b_fresh, b_key, b_colour)) (K0 : ∀ ρ, ¬ ca_STe P d s → post 0 (g_blockLimit, g_itemLimit, g_outLimit, g_stage, (nI (ca_B P)), (nI (ca_N P)), g_open, g_outs, g_point, g_regs, g_answer, b_kind, b_block, b_argA, b_argB, b_term, b_termValue, b_first, b_second, b_dist, b_params, b_val, b_log, ρ, b_level, b_fresh, b_key, b_colour)) : wpY_strictEnd post (g_blockLimit, g_itemLimit, g_outLimit, g_stage, (nI (ca_B P)), (nI (ca_N P)), g_open, g_outs, g_point, g_regs, g_answer, b_kind, b_block, b_argA, b_argB, b_term, b_termValue, b_first, b_second, b_dist, b_params, b_val, b_log, b_reached, b_level, b_fresh, b_key, b_colour) p0 p1 := by
  subst e0 e1
  have hB := ca_wB hW
  have hN := ca_wN hW
  refine pk_le (ca_N P) d (fun hdN => K0 b_reached fun y => by have := y.1; omega) (fun hdN => ?_)
  have hbd := ca_wb hW hdN
  exact ca_vi (yl_dominates (ca_r (hP d hdN).2.1) rfl (by omega) (by omega) hW hB0 hT hF hY (fun ρ h => br_f (by decide) (K1 ρ ⟨hdN, h⟩)) (fun ρ h => br_t rfl (K0 ρ fun y => h y.2)))
theorem yl_uses {post : Int32 → Prop} {v q : Nat} (hW : ca_WF P) (hFI : ca_IF P) (hF : ca_TF P (ca_B P)) (hY : ca_YT P (ca_B P) b_term b_termValue b_first b_second) (hP : ca_AP P b_kind b_block b_argA b_argB) (hv : v < 32) (hq : (q < 32 ∧ q < ca_N P) ∨ (32 ≤ q ∧ q - 32 < ca_B P)) (h1 : ca_us P v q → post 1) (h0 : ¬ ca_us P v q → post 0) : wpY_uses post (g_blockLimit, g_itemLimit, g_outLimit, g_stage, (nI (ca_B P)), (nI (ca_N P)), g_open, g_outs, g_point, g_regs, g_answer, b_kind, b_block, b_argA, b_argB, b_term, b_termValue, b_first, b_second, b_dist, b_params, b_val, b_log, b_reached, b_level, b_fresh, b_key, b_colour) (nI v) (nI q) := by
  have hB := ca_wB hW
  have hN := ca_wN hW
  refine pk_lt q 32 (fun hq32 => ?_) (fun hq32 => ?_)
  · have hqN : q < ca_N P := by omega
    have hP' := hP q hqN
    have hF' := hFI q hqN
    have no : ¬ (ca_kd P q = 7 ∧ ca_aA P q = v) → ¬ (2 ≤ ca_kd P q ∧ ca_kd P q ≤ 6 ∧ (ca_aA P q = v ∨ ca_aB P q = v)) → post 0 := by
      intro z1 z2
      refine h0 ?_
      rintro (⟨_, u | u⟩ | ⟨u, _⟩)
      · exact z1 u
      · exact z2 u
      · omega
    refine ca_vi (pk_eq (ca_kd P q) 7 (fun k7 => ?_) (fun k7 => ?_) (ca_r hP'.1))
    · have := hF'.2.2.1 (by omega)
      refine ca_vi (pk_eq (ca_aA P q) v (fun z => h1 (Or.inl ⟨hq32, Or.inl ⟨k7, z⟩⟩)) (fun z => no (fun y => z y.2) (fun y => by omega)) (ca_r (hP'.2.2.1 (by omega))))
    · refine ca_vi (pk_lt (ca_kd P q) 2 (fun z => no (fun y => k7 y.1) (fun y => by omega)) (fun z => ca_vi (pk_lt 6 (ca_kd P q) (fun y => no (fun x => k7 x.1) (fun x => by omega)) (fun y => ?_) rfl (ca_r hP'.1))) (ca_r hP'.1))
      have a1 := hF'.2.2.1 (by omega)
      have a2 := hF'.2.2.2 (by omega) (by omega)
      refine ca_vi (pk_eq (ca_aA P q) v (fun x => h1 (Or.inl ⟨hq32, Or.inr ⟨z, by omega, Or.inl x⟩⟩)) (fun x => ca_vi (pk_eq (ca_aB P q) v (fun w => h1 (Or.inl ⟨hq32, Or.inr ⟨z, by omega, Or.inr w⟩⟩)) (fun w => no (fun u => k7 u.1) (fun u => u.2.2.elim x w)) (ca_r (hP'.2.2.2 (by omega) (by omega))))) (ca_r (hP'.2.2.1 (by omega))))
  · have hqB : q - 32 < ca_B P := by omega
    have hY' := hY _ hqB
    have hF' := hF _ hqB
    rw [show nI q - 32 = nI (q - 32) from pk_sub (b := 32) hq32]
    refine ca_vi (pk_eq (ca_tk P (q - 32) + 1) 1 (fun z => h0 ?_) (fun z => ca_vi (pk_eq (ca_tv P (q - 32)) v (fun y => h1 (Or.inr ⟨hq32, by omega, y⟩)) (fun y => h0 ?_) (ca_r hY'.2.1))) (ca_r hY'.1))
    · rintro (⟨u, _⟩ | ⟨_, u, _⟩) <;> omega
    · rintro (⟨u, _⟩ | ⟨_, _, u⟩)
      · omega
      · exact y u
end
end
section
/-! Y: all strict; points -/
section
variable {P : ca_PG}
variable {g_blockLimit g_itemLimit g_outLimit g_stage g_blocks g_items g_open g_outs g_point g_regs g_answer : Int32} {b_kind b_block b_argA b_argB b_term b_termValue b_first b_second b_dist b_params b_val b_log b_reached b_level b_fresh b_key b_colour : Nat → Int32}
theorem yl_as143 {post : Int32 → SY → Prop} (hW : ca_WF P) (hB0 : 0 < ca_B P) (hT : ca_TE P) (hF : ca_TF P (ca_B P)) (hY : ca_YT P (ca_B P) b_term b_termValue b_first b_second) (hP : ca_AP P b_kind b_block b_argA b_argB) (K1 : ∀ ρ, ca_STt P → post 1 (g_blockLimit, g_itemLimit, g_outLimit, g_stage, (nI (ca_B P)), (nI (ca_N P)), g_open, g_outs, g_point, g_regs, g_answer, b_kind, b_block, b_argA, b_argB, b_term, b_termValue, b_first, b_second, b_dist, b_params, b_val, b_log, ρ, b_level, b_fresh, b_key, b_colour)) (K0 : ∀ ρ, ¬ ca_STt P → post 0 (g_blockLimit, g_itemLimit, g_outLimit, g_stage, (nI (ca_B P)), (nI (ca_N P)), g_open, g_outs, g_point, g_regs, g_answer, b_kind, b_block, b_argA, b_argB, b_term, b_termValue, b_first, b_second, b_dist, b_params, b_val, b_log, ρ, b_level, b_fresh, b_key, b_colour)) : ∃ n, wY_allStrict_143 post n 0 g_blockLimit g_itemLimit g_outLimit g_stage (nI (ca_B P)) (nI (ca_N P)) g_open g_outs g_point g_regs g_answer b_kind b_block b_argA b_argB b_term b_termValue b_first b_second b_dist b_params b_val b_log b_reached b_level b_fresh b_key b_colour := by
  have hB := ca_wB hW
  refine ca_loop (σ := Nat → Int32) (fun n i ρ => wY_allStrict_143 post n (nI i) g_blockLimit g_itemLimit g_outLimit g_stage (nI (ca_B P)) (nI (ca_N P)) g_open g_outs g_point g_regs g_answer b_kind b_block b_argA b_argB b_term b_termValue b_first b_second b_dist b_params b_val b_log ρ b_level b_fresh b_key b_colour) (fun i _ => ∀ s, s < i → ca_tk P s ≠ 0 → ca_STe P (ca_tv P s) s) 0 (ca_B P) (by omega) b_reached (fun s hs => by omega) ?_ ?_
  · intro n ρ hI
    exact br_t (nI_le (Nat.le_refl _) (by omega)) (K1 ρ hI)
  · intro n i ρ _ hi hI ih
    have hY' := hY i hi
    have hF' := hF i hi
    refine br_f (nI_ge hi (by omega)) (ca_vi (pk_eq (ca_tk P i + 1) 1 (fun z => ?_) (fun z => ?_) (ca_r hY'.1)))
    · refine ca_in (ih ρ fun s hs h => ?_)
      by_cases e : s = i
      · subst e; omega
      · exact hI s (by omega) h
    · refine ca_vi (yl_strictEnd (ca_r hY'.2.1) rfl hF'.2.1 hi hW hB0 hT hF hY hP (fun ρ y => ?_) (fun ρ y => ?_))
      · refine br_f (by decide) (ca_in (ih ρ fun s hs h => ?_))
        by_cases e : s = i
        · subst e; exact y
        · exact hI s (by omega) h
      · exact br_t rfl (K0 ρ fun h => y (h i hi (by omega)))
theorem yl_as103 {post : Int32 → SY → Prop} {J : Int32 → Int32 → Int32 → Int32 → Int32 → Int32 → Int32 → Int32 → Int32 → Int32 → Int32 → Int32 → (Nat → Int32) → (Nat → Int32) → (Nat → Int32) → (Nat → Int32) → (Nat → Int32) → (Nat → Int32) → (Nat → Int32) → (Nat → Int32) → (Nat → Int32) → (Nat → Int32) → (Nat → Int32) → (Nat → Int32) → (Nat → Int32) → (Nat → Int32) → (Nat → Int32) → (Nat → Int32) → (Nat → Int32) → Prop} {i : Nat} (hW : ca_WF P) (hB0 : 0 < ca_B P) (hT : ca_TE P) (hFI : ca_IF P) (hF : ca_TF P (ca_B P)) (hY : ca_YT P (ca_B P) b_term b_termValue b_first b_second) (hP : ca_AP P b_kind b_block b_argA b_argB) (hi : i < ca_N P) (K1 : ∀ ρ, (∀ d, ca_us P d i → ca_SIn P d i) → J (nI (i + 1)) g_blockLimit g_itemLimit g_outLimit g_stage (nI (ca_B P)) (nI (ca_N P)) g_open g_outs g_point g_regs g_answer b_kind b_block b_argA b_argB b_term b_termValue b_first b_second b_dist b_params b_val b_log ρ b_level b_fresh b_key b_colour) (K0 : ∀ ρ d, ca_us P d i → ¬ ca_SIn P d i → post 0 (g_blockLimit, g_itemLimit, g_outLimit, g_stage, (nI (ca_B P)), (nI (ca_N P)), g_open, g_outs, g_point, g_regs, g_answer, b_kind, b_block, b_argA, b_argB, b_term, b_termValue, b_first, b_second, b_dist, b_params, b_val, b_log, ρ, b_level, b_fresh, b_key, b_colour)) : ∃ n, wY_allStrict_103 post J (nI i) n 0 g_blockLimit g_itemLimit g_outLimit g_stage (nI (ca_B P)) (nI (ca_N P)) g_open g_outs g_point g_regs g_answer b_kind b_block b_argA b_argB b_term b_termValue b_first b_second b_dist b_params b_val b_log b_reached b_level b_fresh b_key b_colour := by
  have hB := ca_wB hW
  have hN := ca_wN hW
  refine ca_loop (σ := Nat → Int32) (fun n d ρ => wY_allStrict_103 post J (nI i) n (nI d) g_blockLimit g_itemLimit g_outLimit g_stage (nI (ca_B P)) (nI (ca_N P)) g_open g_outs g_point g_regs g_answer b_kind b_block b_argA b_argB b_term b_termValue b_first b_second b_dist b_params b_val b_log ρ b_level b_fresh b_key b_colour) (fun d _ => ∀ x, x < d → ca_us P x i → ca_SIn P x i) 0 32 (by omega) b_reached (fun s hs => by omega) ?_ ?_
  · intro n ρ hI
    refine br_t (nI_le (a := 32) (b := 32) (Nat.le_refl _) (by decide)) (ca_in (K1 ρ fun d hu => hI d ?_ hu))
    have hF' := hFI i hi
    rcases hu with ⟨_, ⟨u1, u2⟩ | ⟨u1, u2, u3⟩⟩ | ⟨u1, _⟩
    · have := hF'.2.2.1 (by omega); omega
    · have a1 := hF'.2.2.1 (by omega)
      have a2 := hF'.2.2.2 (by omega) (by omega)
      omega
    · omega
  · intro n d ρ _ hd hI ih
    refine br_f (nI_ge (b := 32) hd (by decide)) (yl_uses hW hFI hF hY hP hd (Or.inl ⟨by omega, hi⟩) (fun hu => ?_) (fun hu => ?_))
    · refine br_f (by decide) (yl_strictIn rfl hd hi hW hB0 hT hF hY hP (fun ρ h => ?_) (fun ρ h => ?_))
      · refine br_f (by decide) (ca_in (ih ρ fun x hx hu2 => ?_))
        by_cases e : x = d
        · subst e; exact h
        · exact hI x (by omega) hu2
      · exact br_t rfl (K0 ρ d hu h)
    · refine br_t rfl (ca_in (ih ρ fun x hx hu2 => ?_))
      by_cases e : x = d
      · subst e; exact absurd hu2 hu
      · exact hI x (by omega) hu2
theorem yl_as23 {post : Int32 → SY → Prop} {J : Int32 → Int32 → Int32 → Int32 → Int32 → Int32 → Int32 → Int32 → Int32 → Int32 → Int32 → Int32 → (Nat → Int32) → (Nat → Int32) → (Nat → Int32) → (Nat → Int32) → (Nat → Int32) → (Nat → Int32) → (Nat → Int32) → (Nat → Int32) → (Nat → Int32) → (Nat → Int32) → (Nat → Int32) → (Nat → Int32) → (Nat → Int32) → (Nat → Int32) → (Nat → Int32) → (Nat → Int32) → (Nat → Int32) → Prop} {i : Nat} (hW : ca_WF P) (hB0 : 0 < ca_B P) (hT : ca_TE P) (hFI : ca_IF P) (hF : ca_TF P (ca_B P)) (hY : ca_YT P (ca_B P) b_term b_termValue b_first b_second) (hP : ca_AP P b_kind b_block b_argA b_argB) (hi : i < ca_N P) (h8 : ca_kd P i = 8) (K1 : ∀ ρ, (∀ e, ca_isE P e → ca_tg P e = ca_bl P i → ca_STe P (ca_arg P e i) (e / 2)) → J (nI (i + 1)) g_blockLimit g_itemLimit g_outLimit g_stage (nI (ca_B P)) (nI (ca_N P)) g_open g_outs g_point g_regs g_answer b_kind b_block b_argA b_argB b_term b_termValue b_first b_second b_dist b_params b_val b_log ρ b_level b_fresh b_key b_colour) (K0 : ∀ ρ e, ca_isE P e → ca_tg P e = ca_bl P i → ¬ ca_STe P (ca_arg P e i) (e / 2) → post 0 (g_blockLimit, g_itemLimit, g_outLimit, g_stage, (nI (ca_B P)), (nI (ca_N P)), g_open, g_outs, g_point, g_regs, g_answer, b_kind, b_block, b_argA, b_argB, b_term, b_termValue, b_first, b_second, b_dist, b_params, b_val, b_log, ρ, b_level, b_fresh, b_key, b_colour)) : ∃ n, wY_allStrict_23 post J (nI i) n 0 g_blockLimit g_itemLimit g_outLimit g_stage (nI (ca_B P)) (nI (ca_N P)) g_open g_outs g_point g_regs g_answer b_kind b_block b_argA b_argB b_term b_termValue b_first b_second b_dist b_params b_val b_log b_reached b_level b_fresh b_key b_colour := by
  have hB := ca_wB hW
  have hN := ca_wN hW
  have hP' := hP i hi
  have hbi := (ca_wb hW hi).1
  refine ca_loop (σ := Nat → Int32) (fun n e ρ => wY_allStrict_23 post J (nI i) n (nI e) g_blockLimit g_itemLimit g_outLimit g_stage (nI (ca_B P)) (nI (ca_N P)) g_open g_outs g_point g_regs g_answer b_kind b_block b_argA b_argB b_term b_termValue b_first b_second b_dist b_params b_val b_log ρ b_level b_fresh b_key b_colour) (fun e _ => ∀ f, f < e → ca_isE P f → ca_tg P f = ca_bl P i → ca_STe P (ca_arg P f i) (f / 2)) 0 (2 * ca_B P) (by omega) b_reached (fun s hs => by omega) ?_ ?_
  · intro n ρ hI
    exact br_t (by rw [ca_tw]; exact nI_le (Nat.le_refl _) (by omega)) (ca_in (K1 ρ fun e he => hI e (ca_elt he) he))
  · intro n e ρ _ he hI ih
    refine br_f (by rw [ca_tw]; exact nI_ge he (by omega)) (yl_target rfl (by omega) hB hF hY (fun hE => ca_vi ?_) (fun hE => ca_vi ?_))
    · have t8 := ca_tg8 hF hE.1
      have hen := ca_enole hB hE
      have hph : ca_ph P i (ca_bl P i) := ⟨hi, h8, rfl⟩
      refine pk_eq (ca_tg P e) (ca_bl P i) (fun z => yl_edgeNumber rfl hB hF hY hE ?_) (fun z => ?_) rfl (ca_r hP'.2.1)
      · have fin : ∀ {p : Int32} (ρ : Nat → Int32), p = nI (ca_arg P e i) → wY_allStrict_76 post J (wY_allStrict_23 post J (nI i) n) (nI i) (nI e) p g_blockLimit g_itemLimit g_outLimit g_stage (nI (ca_B P)) (nI (ca_N P)) g_open g_outs g_point g_regs g_answer b_kind b_block b_argA b_argB b_term b_termValue b_first b_second b_dist b_params b_val b_log ρ b_level b_fresh b_key b_colour := by
          intro p ρ ep
          refine yl_strictEnd ep (ca_shr1 (by omega)) (ca_arg32 hFI hph) hE.1 hW hB0 hT hF hY hP (fun ρ h => ?_) (fun ρ h => ?_)
          · refine br_f (by decide) (ca_in (ih ρ fun f hf h1 h2 => ?_))
            by_cases y : f = e
            · subst y; exact h
            · exact hI f (by omega) h1 h2
          · exact br_t rfl (K0 ρ e hE z h)
        refine pk_eq (ca_eno P e) 0 (fun y => ca_vi (fin ρ ?_)) (fun y => ca_vi (fin ρ ?_))
        · rw [ca_r (hP'.2.2.1 (by omega))]
          unfold ca_arg
          rw [if_pos y]
        · rw [ca_r (hP'.2.2.2 (by omega) (by omega))]
          unfold ca_arg
          rw [if_neg y]
      · refine ca_in (ih ρ fun f hf h1 h2 => ?_)
        by_cases y : f = e
        · subst y; exact absurd h2 z
        · exact hI f (by omega) h1 h2
    · refine br_f (fun y => ?_) (ca_in (ih ρ fun f hf h1 h2 => ?_))
      · rw [ca_r hP'.2.1] at y
        exact ca_nm1 (by omega) y.symm
      · by_cases y : f = e
        · subst y; exact absurd h1 hE
        · exact hI f (by omega) h1 h2
theorem yl_allStrict {post : Int32 → SY → Prop} (hW : ca_WF P) (hB0 : 0 < ca_B P) (hT : ca_TE P) (hFI : ca_IF P) (hF : ca_TF P (ca_B P)) (hY : ca_YT P (ca_B P) b_term b_termValue b_first b_second) (hP : ca_AP P b_kind b_block b_argA b_argB) (K1 : ∀ ρ, (ca_STi P ∧ ca_STt P ∧ ca_STp P) → post 1 (g_blockLimit, g_itemLimit, g_outLimit, g_stage, (nI (ca_B P)), (nI (ca_N P)), g_open, g_outs, g_point, g_regs, g_answer, b_kind, b_block, b_argA, b_argB, b_term, b_termValue, b_first, b_second, b_dist, b_params, b_val, b_log, ρ, b_level, b_fresh, b_key, b_colour)) (K0 : ∀ ρ, ¬ (ca_STi P ∧ ca_STt P ∧ ca_STp P) → post 0 (g_blockLimit, g_itemLimit, g_outLimit, g_stage, (nI (ca_B P)), (nI (ca_N P)), g_open, g_outs, g_point, g_regs, g_answer, b_kind, b_block, b_argA, b_argB, b_term, b_termValue, b_first, b_second, b_dist, b_params, b_val, b_log, ρ, b_level, b_fresh, b_key, b_colour)) : wpY_allStrict post (g_blockLimit, g_itemLimit, g_outLimit, g_stage, (nI (ca_B P)), (nI (ca_N P)), g_open, g_outs, g_point, g_regs, g_answer, b_kind, b_block, b_argA, b_argB, b_term, b_termValue, b_first, b_second, b_dist, b_params, b_val, b_log, b_reached, b_level, b_fresh, b_key, b_colour) := by
  have hB := ca_wB hW
  have hN := ca_wN hW
  refine ca_loop (σ := Nat → Int32) (fun n i ρ => wY_allStrict_2 post n (nI i) g_blockLimit g_itemLimit g_outLimit g_stage (nI (ca_B P)) (nI (ca_N P)) g_open g_outs g_point g_regs g_answer b_kind b_block b_argA b_argB b_term b_termValue b_first b_second b_dist b_params b_val b_log ρ b_level b_fresh b_key b_colour) (fun i _ => ∀ j, j < i → (ca_kd P j ≠ 8 → ∀ d, ca_us P d j → ca_SIn P d j) ∧ (ca_kd P j = 8 → ∀ e, ca_isE P e → ca_tg P e = ca_bl P j → ca_STe P (ca_arg P e j) (e / 2))) 0 (ca_N P) (by omega) b_reached (fun s hs => by omega) ?_ ?_
  · intro n ρ hI
    refine br_t (nI_le (Nat.le_refl _) (by omega)) (yl_as143 hW hB0 hT hF hY hP (fun ρ h => K1 ρ ⟨fun i hi h8 d hu => (hI i hi).1 h8 d hu, h, fun e he i hi => ?_⟩) (fun ρ h => K0 ρ fun z => h z.2.1))
    exact (hI i hi.1).2 hi.2.1 e he hi.2.2.symm
  · intro n i ρ _ hi hI ih
    have hP' := hP i hi
    have hk := (hFI i hi).1
    refine br_f (nI_ge hi (by omega)) (ca_vi (pk_eq (ca_kd P i) 8 (fun z => ?_) (fun z => ?_) (ca_r hP'.1)))
    · refine yl_as23 hW hB0 hT hFI hF hY hP hi z (fun ρ h => ih ρ fun j hj => ?_) (fun ρ e he h2 h3 => K0 ρ fun y => h3 (y.2.2 e he i ⟨hi, z, h2.symm⟩))
      by_cases y : j = i
      · subst y; exact ⟨fun x => absurd z x, fun _ => h⟩
      · exact hI j (by omega)
    · refine yl_as103 hW hB0 hT hFI hF hY hP hi (fun ρ h => ih ρ fun j hj => ?_) (fun ρ d h2 h3 => K0 ρ fun y => h3 (y.1 i hi z d h2))
      by_cases y : j = i
      · subst y; exact ⟨fun _ => h, fun x => absurd x z⟩
      · exact hI j (by omega)
theorem yl_startOf {post : Int32 → Prop} {s : Nat} {p0 : Int32} (e0 : p0 = nI s) (hW : ca_WF P) (hFI : ca_IF P) (hP : ca_AP P b_kind b_block b_argA b_argB) (hs : s < ca_B P) (K : post (nI (ca_st P s))) : wpY_startOf post (g_blockLimit, g_itemLimit, g_outLimit, g_stage, (nI (ca_B P)), (nI (ca_N P)), g_open, g_outs, g_point, g_regs, g_answer, b_kind, b_block, b_argA, b_argB, b_term, b_termValue, b_first, b_second, b_dist, b_params, b_val, b_log, b_reached, b_level, b_fresh, b_key, b_colour) p0 := by
  subst e0
  have hB := ca_wB hW
  have hN := ca_wN hW
  have w1 := ca_wn hW hs
  have w2 := ca_wp hW hs
  refine ca_loop (σ := Unit) (fun n i _ => wY_startOf_2 post (nI s) g_blockLimit g_itemLimit g_outLimit g_stage (nI (ca_B P)) (nI (ca_N P)) g_open g_outs g_point g_regs g_answer b_kind b_block b_argA b_argB b_term b_termValue b_first b_second b_dist b_params b_val b_log b_reached b_level b_fresh b_key b_colour n (nI i)) (fun i _ => ∀ j, j < i → ca_bl P j = s → ca_kd P j = 8) 0 (ca_N P) (by omega) () (fun s hs => by omega) ?_ ?_
  · intro n _ hI
    refine br_t (nI_le (Nat.le_refl _) (by omega)) ?_
    have : ca_ni P s = 0 := by
      rcases Nat.eq_zero_or_pos (ca_ni P s) with z | z
      · exact z
      · unfold ca_ni at z
        have h1 := ca_wi hW (i := ca_bs P s + ca_bp P s) hs (by omega) (by omega)
        have h2 := h1.2.mp (hI _ (by omega) h1.1)
        omega
    unfold ca_st at K
    rw [ca_nkhi (by omega)] at K
    show post (nI 32 + nI s)
    rw [nI_add]
    exact K
  · intro n i _ _ hi hI ih
    have hP' := hP i hi
    have hk := (hFI i hi).1
    have hb := ca_wb hW hi
    refine br_f (nI_ge hi (by omega)) (ca_vi (pk_eq (ca_bl P i) s (fun z => ca_vi (pk_eq (ca_kd P i) 8 (fun y => ?_) (fun y => ?_) (ca_r hP'.1))) (fun z => ?_) (ca_r hP'.2.1)))
    · refine ca_in (ih () fun j hj h => ?_)
      by_cases x : j = i
      · subst x; exact y
      · exact hI j (by omega) h
    · rw [z] at hb
      have h1 := ca_wi hW hs hb.2.1 hb.2.2
      have h2 : ¬ i < ca_bs P s + ca_bp P s := fun x => y (h1.2.mpr x)
      have h3 : i = ca_bs P s + ca_bp P s := by
        rcases Nat.lt_or_ge (ca_bs P s + ca_bp P s) i with x | x
        · have h4 := ca_wi hW (i := ca_bs P s + ca_bp P s) hs (by omega) (by omega)
          have h5 := h4.2.mp (hI _ x h4.1)
          omega
        · omega
      have h6 : 0 < ca_ni P s := by unfold ca_ni; omega
      unfold ca_st at K
      rw [ca_nklo h6, Nat.add_zero, ← h3] at K
      exact K
    · refine ca_in (ih () fun j hj h => ?_)
      by_cases x : j = i
      · subst x; exact absurd h z
      · exact hI j (by omega) h
theorem ca_2q {q w : Nat} (h : 32 ≤ q) : 2 * (nI q - 32) + nI w = nI (2 * (q - 32) + w) := by
  rw [show nI q - 32 = nI (q - 32) from pk_sub (b := 32) h, ca_tw, nI_add]
theorem yl_next {post : Int32 → Prop} {q w : Nat} (hW : ca_WF P) (hT : ca_TE P) (hFI : ca_IF P) (hF : ca_TF P (ca_B P)) (hY : ca_YT P (ca_B P) b_term b_termValue b_first b_second) (hP : ca_AP P b_kind b_block b_argA b_argB) (hq : ca_isP P q) (hw : w < 2) (h1 : ca_isN P q w → post (nI (ca_nx P q w))) (h0 : ¬ ca_isN P q w → post (-1)) : wpY_next post (g_blockLimit, g_itemLimit, g_outLimit, g_stage, (nI (ca_B P)), (nI (ca_N P)), g_open, g_outs, g_point, g_regs, g_answer, b_kind, b_block, b_argA, b_argB, b_term, b_termValue, b_first, b_second, b_dist, b_params, b_val, b_log, b_reached, b_level, b_fresh, b_key, b_colour) (nI q) (nI w) := by
  have hB := ca_wB hW
  have hN := ca_wN hW
  have h40 := ca_P40 hW hq
  refine pk_le 32 q (fun hq32 => ?_) (fun hq32 => ?_)
  · refine yl_target (ca_2q hq32) (by omega) hB hF hY (fun hE => ?_) (fun hE => ?_)
    · have ht := hT _ hE
      refine br_t (nI_pos' (by omega)) (yl_startOf rfl hW hFI hP ht ?_)
      have := h1 (Or.inr ⟨hq32, hE⟩)
      unfold ca_nx at this
      rw [if_neg (by omega)] at this
      exact this
    · refine br_f (by decide) (h0 ?_)
      rintro (z | z)
      · omega
      · exact hE z.2
  · have hqN : q < ca_N P := by
      rcases hq with z | z
      · exact z.2.1
      · omega
    have hP' := hP q hqN
    have hb := ca_wb hW hqN
    refine pk_eq w 0 (fun hw0 => ?_) (fun hw0 => h0 ?_)
    · have K := h1 (Or.inl ⟨hq32, hw0⟩)
      unfold ca_nx at K
      rw [if_pos hq32] at K
      have no : ¬ (q + 1 < ca_N P ∧ ca_bl P (q + 1) = ca_bl P q) → post (32 + b_block (nI q).toNatClampNeg) := by
        intro z
        rw [if_neg z] at K
        rw [ca_r hP'.2.1]
        show post (nI 32 + nI _)
        rw [nI_add]
        exact K
      rw [nI_1]
      refine pk_le (ca_N P) (q + 1) (fun z => ca_vi (no (fun y => by have := y.1; omega))) (fun z => ca_vi (ca_vi ?_))
      have hb2 := ca_wb hW z
      refine pk_eq (ca_bl P (q + 1)) (ca_bl P q) (fun y => ?_) (fun y => ca_vi (no fun x => y x.2)) (ca_r (hP _ z).2.1) (ca_r hP'.2.1)
      rw [if_pos ⟨z, y⟩] at K
      exact K
    · rintro (z | z)
      · exact hw0 z.2
      · omega
theorem yl_feeds {post : Int32 → Prop} {v q w : Nat} (hW : ca_WF P) (hFI : ca_IF P) (hF : ca_TF P (ca_B P)) (hY : ca_YT P (ca_B P) b_term b_termValue b_first b_second) (hP : ca_AP P b_kind b_block b_argA b_argB) (hv : v < 32) (hq : q < 40) (hw : w < 2) (hN : ca_isN P q w) (h1 : 32 ≤ q → ca_fe P v (2 * (q - 32) + w) → post 1) (h0 : ¬ (32 ≤ q ∧ ca_fe P v (2 * (q - 32) + w)) → post 0) : wpY_feeds post (g_blockLimit, g_itemLimit, g_outLimit, g_stage, (nI (ca_B P)), (nI (ca_N P)), g_open, g_outs, g_point, g_regs, g_answer, b_kind, b_block, b_argA, b_argB, b_term, b_termValue, b_first, b_second, b_dist, b_params, b_val, b_log, b_reached, b_level, b_fresh, b_key, b_colour) (nI v) (nI q) (nI w) := by
  have hB := ca_wB hW
  have hN32 := ca_wN hW
  refine pk_le 32 q (fun hq32 => nm_r (ca_2q hq32) ?_) (fun hq32 => h0 fun z => by have := z.1; omega)
  have hE : ca_isE P (2 * (q - 32) + w) := by
    rcases hN with z | z
    · omega
    · exact z.2
  have t8 := ca_tg8 hF hE.1
  have hen := ca_enole hB hE
  refine yl_target rfl (by omega) hB hF hY (fun _ => yl_edgeNumber rfl hB hF hY hE ?_) (fun z => absurd hE z)
  generalize 2 * (q - 32) + w = e at *
  refine ca_loop (σ := Unit) (fun n i _ => wY_feeds_37 post (nI v) (nI (ca_tg P e)) (nI (ca_eno P e)) g_blockLimit g_itemLimit g_outLimit g_stage (nI (ca_B P)) (nI (ca_N P)) g_open g_outs g_point g_regs g_answer b_kind b_block b_argA b_argB b_term b_termValue b_first b_second b_dist b_params b_val b_log b_reached b_level b_fresh b_key b_colour n (nI i)) (fun i _ => ∀ j, j < i → ca_ph P j (ca_tg P e) → ca_arg P e j ≠ v) 0 (ca_N P) (by omega) () (fun s hs => by omega) ?_ ?_
  · intro n _ hI
    refine br_t (nI_le (Nat.le_refl _) (by omega)) (h0 ?_)
    rintro ⟨_, i, i1, i2⟩
    exact hI i i1.1 i1 i2
  · intro n i _ _ hi hI ih
    have hP' := hP i hi
    have hk := (hFI i hi).1
    have hbi := (ca_wb hW hi).1
    have nxt : (ca_ph P i (ca_tg P e) → ca_arg P e i ≠ v) → wY_feeds_37 post (nI v) (nI (ca_tg P e)) (nI (ca_eno P e)) g_blockLimit g_itemLimit g_outLimit g_stage (nI (ca_B P)) (nI (ca_N P)) g_open g_outs g_point g_regs g_answer b_kind b_block b_argA b_argB b_term b_termValue b_first b_second b_dist b_params b_val b_log b_reached b_level b_fresh b_key b_colour n (nI (i + 1)) := by
      intro z
      refine ih () fun j hj h => ?_
      by_cases x : j = i
      · subst x; exact z h
      · exact hI j (by omega) h
    refine br_f (nI_ge hi (by omega)) (ca_vi (pk_eq (ca_kd P i) 8 (fun z => ca_vi (pk_eq (ca_bl P i) (ca_tg P e) (fun y => ?_) (fun y => ?_) (ca_r hP'.2.1))) (fun z => ?_) (ca_r hP'.1)))
    · have hph : ca_ph P i (ca_tg P e) := ⟨hi, z, y⟩
      have ha := ca_arg32 hFI (e := e) hph
      have fin : ∀ {p : Int32}, p = nI (ca_arg P e i) → wY_feeds_92 post (wY_feeds_37 post (nI v) (nI (ca_tg P e)) (nI (ca_eno P e)) g_blockLimit g_itemLimit g_outLimit g_stage (nI (ca_B P)) (nI (ca_N P)) g_open g_outs g_point g_regs g_answer b_kind b_block b_argA b_argB b_term b_termValue b_first b_second b_dist b_params b_val b_log b_reached b_level b_fresh b_key b_colour n) (nI v) (nI (ca_tg P e)) (nI (ca_eno P e)) (nI i) p g_blockLimit g_itemLimit g_outLimit g_stage (nI (ca_B P)) (nI (ca_N P)) g_open g_outs g_point g_regs g_answer b_kind b_block b_argA b_argB b_term b_termValue b_first b_second b_dist b_params b_val b_log b_reached b_level b_fresh b_key b_colour := by
        intro p ep
        exact pk_eq (ca_arg P e i) v (fun x => h1 hq32 ⟨i, hph, x⟩) (fun x => ca_in (nxt fun _ => x)) ep
      refine pk_eq (ca_eno P e) 0 (fun x => ca_vi (fin ?_)) (fun x => ca_vi (fin ?_))
      · rw [ca_r (hP'.2.2.1 (by omega))]
        unfold ca_arg
        rw [if_pos x]
      · rw [ca_r (hP'.2.2.2 (by omega) (by omega))]
        unfold ca_arg
        rw [if_neg x]
    · exact ca_in (nxt fun x => absurd x.2.2 y)
    · exact ca_in (nxt fun x => absurd x.2.1 z)
theorem yl_sets {post : Int32 → Prop} {v q w : Nat} (hW : ca_WF P) (hFI : ca_IF P) (hF : ca_TF P (ca_B P)) (hY : ca_YT P (ca_B P) b_term b_termValue b_first b_second) (hP : ca_AP P b_kind b_block b_argA b_argB) (hv : v < ca_N P) (hq : q < 40) (hw : w < 2) (hN : ca_isN P q w) (h1 : ca_se P v q w → post 1) (h0 : ¬ ca_se P v q w → post 0) : wpY_sets post (g_blockLimit, g_itemLimit, g_outLimit, g_stage, (nI (ca_B P)), (nI (ca_N P)), g_open, g_outs, g_point, g_regs, g_answer, b_kind, b_block, b_argA, b_argB, b_term, b_termValue, b_first, b_second, b_dist, b_params, b_val, b_log, b_reached, b_level, b_fresh, b_key, b_colour) (nI v) (nI q) (nI w) := by
  have hB := ca_wB hW
  have hN32 := ca_wN hW
  have hP' := hP v hv
  have hk := (hFI v hv).1
  have hbi := (ca_wb hW hv).1
  refine pk_le 32 q (fun hq32 => ?_) (fun hq32 => ?_)
  · have hE : ca_isE P (2 * (q - 32) + w) := by
      rcases hN with z | z
      · omega
      · exact z.2
    have t8 := ca_tg8 hF hE.1
    refine yl_target (ca_2q hq32) (by omega) hB hF hY (fun _ => ca_vi (pk_eq (ca_kd P v) 8 (fun z => ca_vi (pk_eq (ca_bl P v) (ca_tg P (2 * (q - 32) + w)) (fun y => h1 (Or.inr ⟨hq32, hv, z, y⟩)) (fun y => h0 ?_) (ca_r hP'.2.1))) (fun z => h0 ?_) (ca_r hP'.1))) (fun z => absurd hE z)
    · rintro (x | x)
      · omega
      · exact y x.2.2.2
    · rintro (x | x)
      · omega
      · exact z x.2.2.1
  · refine pk_eq q v (fun z => h1 (Or.inl ⟨hq32, z⟩)) (fun z => h0 ?_)
    rintro (x | x)
    · exact z x.2
    · omega
end
end
section
/-! Y: the next use distance -/
def ca_RW (P : ca_PG) (v p : Nat) : Nat → Nat → Prop
  | 0, y => y = p
  | j + 1, y => ∃ z w, ca_RW P v p j z ∧ w < 2 ∧ ca_isN P z w ∧ ¬ ca_se P v z w ∧ ca_nx P z w = y
def ca_fd (P : ca_PG) (v y : Nat) : Prop := ∃ w, w < 2 ∧ ca_isN P y w ∧ 32 ≤ y ∧ ca_fe P v (2 * (y - 32) + w)
/-- levels up to d are right -/
def ca_L1 (P : ca_PG) (v p d : Nat) (l : Nat → Int32) : Prop := ∀ y, y < 40 → l y = -1 ∨ ∃ j, j ≤ d ∧ l y = nI j ∧ ca_RW P v p j y ∧ ca_isP P y
def ca_L2 (P : ca_PG) (v p d : Nat) (l : Nat → Int32) : Prop := ∀ j, j ≤ d → ∀ y, ca_RW P v p j y → ∃ k, k ≤ j ∧ l y = nI k
def ca_L3 (P : ca_PG) (v p d : Nat) : Prop := ∀ j, j < d → ∀ y, ca_RW P v p j y → ¬ ca_us P v y ∧ ¬ ca_fd P v y
section
variable {P : ca_PG}
theorem ca_RWP (hW : ca_WF P) (hT : ca_TE P) {v p j y : Nat} (hp : ca_isP P p) (h : ca_RW P v p j y) : ca_isP P y := by
  induction j generalizing y with
  | zero => have : y = p := h
            subst this; exact hp
  | succ j ih =>
    obtain ⟨z, w, h1, h2, h3, h4, h5⟩ := h
    rw [← h5]
    exact ca_nxP hW hT (ih h1) h3
theorem ca_RWDW {v p j m y : Nat} (h : ca_RW P v p j y) (hd : ca_DW P v m y) : ca_DW P v (j + m) p := by
  induction j generalizing m y with
  | zero => have : y = p := h
            subst this; rw [Nat.zero_add]; exact hd
  | succ j ih =>
    obtain ⟨z, w, h1, h2, h3, h4, h5⟩ := h
    rw [show j + 1 + m = j + (m + 1) by omega]
    refine ih h1 ⟨w, h2, h3, Or.inr ⟨h4, ?_⟩⟩
    rw [h5]; exact hd
theorem ca_RWcons {v p j y w : Nat} (hw : w < 2) (h1 : ca_isN P p w) (h2 : ¬ ca_se P v p w) (h : ca_RW P v (ca_nx P p w) j y) : ca_RW P v p (j + 1) y := by
  induction j generalizing y with
  | zero => have : y = ca_nx P p w := h
            exact ⟨p, w, rfl, hw, h1, h2, this.symm⟩
  | succ j ih =>
    obtain ⟨z, u, g1, g2, g3, g4, g5⟩ := h
    exact ⟨z, u, ih g1, g2, g3, g4, g5⟩
theorem ca_DWRW {v d p : Nat} (h : ca_DW P v d p) : (∃ y, ca_RW P v p d y ∧ ca_us P v y) ∨ (∃ j y, d = j + 1 ∧ ca_RW P v p j y ∧ ca_fd P v y) := by
  induction d generalizing p with
  | zero => exact Or.inl ⟨p, rfl, h⟩
  | succ d ih =>
    obtain ⟨w, h1, h2, h3⟩ := h
    rcases h3 with ⟨h3, h4, h5⟩ | ⟨h3, h4⟩
    · exact Or.inr ⟨d, p, rfl, by subst h3; rfl, w, h1, h2, h4, h5⟩
    · rcases ih h4 with ⟨y, y1, y2⟩ | ⟨j, y, y1, y2, y3⟩
      · exact Or.inl ⟨y, ca_RWcons h1 h2 h3 y1, y2⟩
      · exact Or.inr ⟨j + 1, y, by omega, ca_RWcons h1 h2 h3 y2, y3⟩
theorem ca_fdDW {v y : Nat} (h : ca_fd P v y) : ca_DW P v 1 y := by
  obtain ⟨w, h1, h2, h3, h4⟩ := h
  exact ⟨w, h1, h2, Or.inl ⟨rfl, h3, h4⟩⟩
theorem ca_L3no {v p d : Nat} (h : ca_L3 P v p d) (k : Nat) (hk : k < d) : ¬ ca_DW P v k p := by
  intro z
  rcases ca_DWRW z with ⟨y, y1, y2⟩ | ⟨j, y, y1, y2, y3⟩
  · exact (h k hk y y1).1 y2
  · exact (h j (by omega) y y2).2 y3
variable {g_blockLimit g_itemLimit g_outLimit g_stage g_blocks g_items g_open g_outs g_point g_regs g_answer : Int32} {b_kind b_block b_argA b_argB b_term b_termValue b_first b_second b_dist b_params b_val b_log b_reached b_level b_fresh b_key b_colour : Nat → Int32}
theorem yl_d39 {post : Int32 → SY → Prop} {J : Int32 → (Nat → Int32) → (Nat → Int32) → (Nat → Int32) → (Nat → Int32) → (Nat → Int32) → (Nat → Int32) → (Nat → Int32) → (Nat → Int32) → (Nat → Int32) → (Nat → Int32) → (Nat → Int32) → (Nat → Int32) → (Nat → Int32) → (Nat → Int32) → (Nat → Int32) → (Nat → Int32) → (Nat → Int32) → Prop} {v p d : Nat} (hW : ca_WF P) (hT : ca_TE P) (hFI : ca_IF P) (hF : ca_TF P (ca_B P)) (hY : ca_YT P (ca_B P) b_term b_termValue b_first b_second) (hP : ca_AP P b_kind b_block b_argA b_argB) (hv : v < ca_N P) (hp : ca_isP P p) (hd : d ≤ 40) (h1 : ca_L1 P v p d b_level) (h2 : ca_L2 P v p d b_level) (h3 : ca_L3 P v p d) (Ku : ca_DI P v p d → post (nI d) (g_blockLimit, g_itemLimit, g_outLimit, g_stage, (nI (ca_B P)), (nI (ca_N P)), g_open, g_outs, g_point, g_regs, g_answer, b_kind, b_block, b_argA, b_argB, b_term, b_termValue, b_first, b_second, b_dist, b_params, b_val, b_log, b_reached, b_level, b_fresh, b_key, b_colour)) (K : (∀ y, ca_RW P v p d y → ¬ ca_us P v y) → ∃ n, wY_distance_84 post J (nI v) (nI d) g_blockLimit g_itemLimit g_outLimit g_stage (nI (ca_B P)) (nI (ca_N P)) g_open g_outs g_point g_regs g_answer n 0 0 0 b_kind b_block b_argA b_argB b_term b_termValue b_first b_second b_dist b_params b_val b_log b_reached b_level b_fresh b_key b_colour) : ∃ n, wY_distance_39 post J (nI v) (nI d) g_blockLimit g_itemLimit g_outLimit g_stage (nI (ca_B P)) (nI (ca_N P)) g_open g_outs g_point g_regs g_answer b_kind b_block b_argA b_argB b_term b_termValue b_first b_second b_dist b_params b_val b_log b_reached b_level b_fresh b_key b_colour n 0 := by
  have hN := ca_wN hW
  refine ca_loop (σ := Unit) (fun n y _ => wY_distance_39 post J (nI v) (nI d) g_blockLimit g_itemLimit g_outLimit g_stage (nI (ca_B P)) (nI (ca_N P)) g_open g_outs g_point g_regs g_answer b_kind b_block b_argA b_argB b_term b_termValue b_first b_second b_dist b_params b_val b_log b_reached b_level b_fresh b_key b_colour n (nI y)) (fun y _ => ∀ z, z < y → b_level z = nI d → ¬ ca_us P v z) 0 40 (by omega) () (fun s hs => by omega) ?_ ?_
  · intro n _ hI
    refine br_t (nI_le (a := 40) (b := 40) (Nat.le_refl _) (by decide)) (K fun y hy hu => ?_)
    have hyP := ca_RWP hW hT hp hy
    have hy40 := ca_P40 hW hyP
    obtain ⟨k, k1, k2⟩ := h2 d (Nat.le_refl _) y hy
    by_cases z : k = d
    · subst z; exact hI y hy40 k2 hu
    · rcases h1 y hy40 with w | ⟨j, j1, j2, j3, _⟩
      · rw [w] at k2; exact ca_nm1 (by omega) k2.symm
      · rw [k2] at j2
        have := ca_ninj j2 (by omega) (by omega)
        subst this
        exact (h3 k (by omega) y j3).1 hu
  · intro n y _ _ hy hI ih
    have nxt : (b_level y = nI d → ¬ ca_us P v y) → wY_distance_39 post J (nI v) (nI d) g_blockLimit g_itemLimit g_outLimit g_stage (nI (ca_B P)) (nI (ca_N P)) g_open g_outs g_point g_regs g_answer b_kind b_block b_argA b_argB b_term b_termValue b_first b_second b_dist b_params b_val b_log b_reached b_level b_fresh b_key b_colour n (nI (y + 1)) := by
      intro z
      refine ih () fun x hx h => ?_
      by_cases e : x = y
      · subst e; exact z h
      · exact hI x (by omega) h
    refine br_f (nI_ge (b := 40) hy (by decide)) (ca_vi ?_)
    rw [nI_clamp (n := y) (by omega)]
    refine br_c (fun z => ?_) (fun z => ca_in (nxt fun h => absurd h z))
    rcases h1 y hy with w | ⟨j, j1, j2, j3, j4⟩
    · rw [w] at z; exact absurd z.symm (ca_nm1 (by omega))
    · have : j = d := by rw [j2] at z; exact ca_ninj z (by omega) (by omega)
      subst this
      refine yl_uses hW hFI hF hY hP (by omega) ?_ (fun hu => br_f (by decide) (Ku ⟨?_, fun k hk => ca_L3no h3 k hk⟩)) (fun hu => br_t rfl (ca_in (nxt fun _ => hu)))
      · rcases j4 with q | q
        · exact Or.inl ⟨q.1, q.2.1⟩
        · exact Or.inr q
      · have := ca_RWDW j3 (m := 0) hu
        exact this
/-- the state of the scan at level d: l0 the levels at its start -/
def ca_LM (P : ca_PG) (v p d : Nat) (l0 l : Nat → Int32) (fed more : Int32) : Prop :=
  ca_L1 P v p (d + 1) l ∧ (∀ y, y < 40 → l0 y ≠ -1 → l y = l0 y) ∧ (fed = 0 ∨ (fed = 1 ∧ ∃ y, ca_RW P v p d y ∧ ca_fd P v y)) ∧ (more = 0 ∨ more = 1) ∧ (more = 0 → ∀ y, y < 40 → l y = l0 y) ∧ (∀ y, y < 40 → l0 y = -1 → l y = -1 ∨ l y = nI (d + 1))
def ca_LQ (P : ca_PG) (v d y w : Nat) (l0 l : Nat → Int32) (fed : Int32) : Prop := l0 y = nI d → ∀ u, u < w → ca_isN P y u → (fed = 0 → 32 ≤ y → ¬ ca_fe P v (2 * (y - 32) + u)) ∧ (¬ ca_se P v y u → l (ca_nx P y u) ≠ -1)
theorem ca_LQm {v d y w : Nat} {l0 l l' : Nat → Int32} {f f' : Int32} (h : ca_LQ P v d y w l0 l f) (hl : ∀ z, l z ≠ -1 → l' z ≠ -1) (hf : f' = 0 → f = 0) : ca_LQ P v d y w l0 l' f' :=
  fun e u hu hN => ⟨fun z => (h e u hu hN).1 (hf z), fun z => hl _ ((h e u hu hN).2 z)⟩
theorem ca_setn {l : Nat → Int32} {x d : Nat} (hd : d < 100) : ∀ z, l z ≠ -1 → upd l x (nI d) z ≠ -1 := by
  intro z h
  by_cases e : z = x
  · subst e; rw [pk_us]; exact ca_nm1 (by omega)
  · rw [pk_un e]; exact h
theorem yl_d94 {post : Int32 → SY → Prop} {J : Int32 → (Nat → Int32) → (Nat → Int32) → (Nat → Int32) → (Nat → Int32) → (Nat → Int32) → (Nat → Int32) → (Nat → Int32) → (Nat → Int32) → (Nat → Int32) → (Nat → Int32) → (Nat → Int32) → (Nat → Int32) → (Nat → Int32) → (Nat → Int32) → (Nat → Int32) → (Nat → Int32) → (Nat → Int32) → Prop} {J84 : Int32 → Int32 → Int32 → (Nat → Int32) → (Nat → Int32) → (Nat → Int32) → (Nat → Int32) → (Nat → Int32) → (Nat → Int32) → (Nat → Int32) → (Nat → Int32) → (Nat → Int32) → (Nat → Int32) → (Nat → Int32) → (Nat → Int32) → (Nat → Int32) → (Nat → Int32) → (Nat → Int32) → (Nat → Int32) → (Nat → Int32) → Prop} {v p d y : Nat} {l0 : Nat → Int32} {fed more : Int32} (hW : ca_WF P) (hT : ca_TE P) (hFI : ca_IF P) (hF : ca_TF P (ca_B P)) (hY : ca_YT P (ca_B P) b_term b_termValue b_first b_second) (hP : ca_AP P b_kind b_block b_argA b_argB) (hv : v < ca_N P) (hp : ca_isP P p) (hd : d ≤ 40) (hy : y < 40) (h1 : ca_L1 P v p d l0) (hM : ca_LM P v p d l0 b_level fed more) (hQ : ∀ x, x < y → ca_LQ P v d x 2 l0 b_level fed) (K : ∀ l fed more, ca_LM P v p d l0 l fed more → (∀ x, x < y + 1 → ca_LQ P v d x 2 l0 l fed) → J84 fed more (nI (y + 1)) b_kind b_block b_argA b_argB b_term b_termValue b_first b_second b_dist b_params b_val b_log b_reached l b_fresh b_key b_colour) : ∃ n, wY_distance_94 post J J84 (nI v) (nI d) (nI y) g_blockLimit g_itemLimit g_outLimit g_stage (nI (ca_B P)) (nI (ca_N P)) g_open g_outs g_point g_regs g_answer n fed more 0 b_kind b_block b_argA b_argB b_term b_termValue b_first b_second b_dist b_params b_val b_log b_reached b_level b_fresh b_key b_colour := by
  have hN := ca_wN hW
  have ext : ∀ {l : Nat → Int32} {f : Int32}, (∀ x, x < y → ca_LQ P v d x 2 l0 l f) → ca_LQ P v d y 2 l0 l f → ∀ x, x < y + 1 → ca_LQ P v d x 2 l0 l f := by
    intro l f g1 g2 x hx
    by_cases e : x = y
    · subst e; exact g2
    · exact g1 x (by omega)
  refine ca_loop (σ := Int32 × Int32 × (Nat → Int32)) (fun n w s => wY_distance_94 post J J84 (nI v) (nI d) (nI y) g_blockLimit g_itemLimit g_outLimit g_stage (nI (ca_B P)) (nI (ca_N P)) g_open g_outs g_point g_regs g_answer n s.1 s.2.1 (nI w) b_kind b_block b_argA b_argB b_term b_termValue b_first b_second b_dist b_params b_val b_log b_reached s.2.2 b_fresh b_key b_colour) (fun w s => ca_LM P v p d l0 s.2.2 s.1 s.2.1 ∧ (∀ x, x < y → ca_LQ P v d x 2 l0 s.2.2 s.1) ∧ ca_LQ P v d y w l0 s.2.2 s.1) 0 2 (by omega) (fed, more, b_level) ⟨hM, hQ, fun _ u hu => by omega⟩ ?_ ?_
  · rintro n ⟨f, m, l⟩ ⟨g1, g2, g3⟩
    exact br_t (nI_le (a := 2) (b := 2) (Nat.le_refl _) (by decide)) (ca_in (K l f m g1 (ext g2 g3)))
  · rintro n w ⟨f, m, l⟩ _ hw ⟨g1, g2, g3⟩ ih
    dsimp only at g1 g2 g3
    obtain ⟨m1, m2, m3, m4, m5, m6⟩ := g1
    refine br_f (nI_ge (b := 2) hw (by decide)) (ca_vi ?_)
    rw [nI_clamp (n := y) (by omega)]
    by_cases hly : l0 y = nI d
    · have hlz : l y = nI d := by rw [m2 y hy (by rw [hly]; exact ca_nm1 (by omega))]; exact hly
      have hRP : ca_RW P v p d y ∧ ca_isP P y := by
        rcases h1 y hy with z | ⟨j, j1, j2, j3, j4⟩
        · rw [z] at hly; exact absurd hly.symm (ca_nm1 (by omega))
        · rw [hly] at j2
          have := ca_ninj j2 (by omega) (by omega)
          subst this
          exact ⟨j3, j4⟩
      obtain ⟨hR, hyP⟩ := hRP
      refine br_t hlz (yl_next hW hT hFI hF hY hP hyP hw (fun hN1 => ?_) (fun hN1 => ?_))
      · have hnP := ca_nxP hW hT hyP hN1
        have hn40 := ca_P40 hW hnP
        -- the join behind 'feeds'
        have key : ∀ f', ca_LM P v p d l0 l f' m → (f' = 0 → f = 0) → (f' = 0 → 32 ≤ y → ¬ ca_fe P v (2 * (y - 32) + w)) → wY_distance_141 post J J84 (wY_distance_94 post J J84 (nI v) (nI d) (nI y) g_blockLimit g_itemLimit g_outLimit g_stage (nI (ca_B P)) (nI (ca_N P)) g_open g_outs g_point g_regs g_answer n) (nI v) (nI d) f' m (nI y) (nI w) (nI (ca_nx P y w)) g_blockLimit g_itemLimit g_outLimit g_stage (nI (ca_B P)) (nI (ca_N P)) g_open g_outs g_point g_regs g_answer b_kind b_block b_argA b_argB b_term b_termValue b_first b_second b_dist b_params b_val b_log b_reached l b_fresh b_key b_colour := by
          intro f' hLM hf' hno
          obtain ⟨m1, m2, m3, m4, m5, m6⟩ := hLM
          refine ca_vi ?_
          have fin : ∀ l' m', (∀ z, l z ≠ -1 → l' z ≠ -1) → (¬ ca_se P v y w → l' (ca_nx P y w) ≠ -1) → ca_LM P v p d l0 l' f' m' → wY_distance_94 post J J84 (nI v) (nI d) (nI y) g_blockLimit g_itemLimit g_outLimit g_stage (nI (ca_B P)) (nI (ca_N P)) g_open g_outs g_point g_regs g_answer n f' m' (nI (w + 1)) b_kind b_block b_argA b_argB b_term b_termValue b_first b_second b_dist b_params b_val b_log b_reached (l') b_fresh b_key b_colour := by
            intro l' m' q1 q2 q3
            refine ih (f', m', l') ⟨q3, fun x hx => ca_LQm (g2 x hx) q1 hf', fun e u hu hNu => ?_⟩
            by_cases eu : u = w
            · subst eu; exact ⟨hno, q2⟩
            · exact ca_LQm g3 q1 hf' e u (by omega) hNu
          have el : l (nI (ca_nx P y w)).toNatClampNeg = l (ca_nx P y w) := by rw [nI_clamp (by omega)]
          rw [el]
          rcases m1 _ hn40 with z | ⟨j, j1, j2, j3, j4⟩
          · refine br_f (by rw [z]; decide) (yl_sets hW hFI hF hY hP hv hy hw hN1 (fun hs => ?_) (fun hs => ?_))
            · exact br_f (by decide) (ca_in (fin l m (fun _ h => h) (fun h => absurd hs h) ⟨m1, m2, m3, m4, m5, m6⟩))
            · refine br_t rfl (ca_vi (ca_wx (ca_nx P y w) rfl (nI_1 d) (ca_in (fin _ 1 (ca_setn (by omega)) (fun _ => ?_) ⟨fun x hx => ?_, fun x hx h0 => ?_, m3, Or.inr rfl, fun h => absurd h (by decide), fun x hx h0 => ?_⟩))))
              · rw [pk_us]; exact ca_nm1 (by omega)
              · by_cases e : x = ca_nx P y w
                · subst e
                  exact Or.inr ⟨d + 1, by omega, pk_us, ⟨y, w, hR, hw, hN1, hs, rfl⟩, hnP⟩
                · rw [pk_un e]; exact m1 x hx
              · by_cases e : x = ca_nx P y w
                · subst e
                  rw [← m2 _ hx h0] at h0
                  exact absurd z h0
                · rw [pk_un e]; exact m2 x hx h0
              · by_cases e : x = ca_nx P y w
                · subst e; exact Or.inr pk_us
                · rw [pk_un e]; exact m6 x hx h0
          · refine br_t (by rw [j2]; exact nI_pos' (by omega)) (ca_in (fin l m (fun _ h => h) (fun _ => ?_) ⟨m1, m2, m3, m4, m5, m6⟩))
            rw [j2]; exact ca_nm1 (by omega)
        refine ca_lt0 (yl_feeds hW hFI hF hY hP (by omega) hy hw hN1 (fun q1 q2 => ?_) (fun q => ?_))
        · refine br_f (by decide) (key 1 ⟨m1, m2, Or.inr ⟨rfl, y, hR, w, hw, hN1, q1, q2⟩, m4, m5, m6⟩ (fun z => absurd z (by decide)) (fun z => absurd z (by decide)))
        · exact br_t rfl (key f ⟨m1, m2, m3, m4, m5, m6⟩ (fun z => z) (fun _ z1 z2 => q ⟨z1, z2⟩))
      · refine ca_m0 (ca_in (ih (f, m, l) ⟨⟨m1, m2, m3, m4, m5, m6⟩, g2, fun e u hu hNu => ?_⟩))
        by_cases eu : u = w
        · subst eu; exact absurd hNu hN1
        · exact g3 e u (by omega) hNu
    · have hlz : ¬ l y = nI d := by
        intro z
        rcases Classical.em (l0 y = -1) with q | q
        · rcases m6 y hy q with z1 | z1
          · rw [z1] at z; exact ca_nm1 (by omega) z.symm
          · rw [z1] at z
            have := ca_ninj z (by omega) (by omega)
            omega
        · rw [m2 y hy q] at z; exact hly z
      exact br_f hlz (ca_in (K l f m ⟨m1, m2, m3, m4, m5, m6⟩ (ext g2 (fun e => absurd e hly))))
theorem yl_d84 {post : Int32 → SY → Prop} {J : Int32 → (Nat → Int32) → (Nat → Int32) → (Nat → Int32) → (Nat → Int32) → (Nat → Int32) → (Nat → Int32) → (Nat → Int32) → (Nat → Int32) → (Nat → Int32) → (Nat → Int32) → (Nat → Int32) → (Nat → Int32) → (Nat → Int32) → (Nat → Int32) → (Nat → Int32) → (Nat → Int32) → (Nat → Int32) → Prop} {v p d : Nat} (hW : ca_WF P) (hT : ca_TE P) (hFI : ca_IF P) (hF : ca_TF P (ca_B P)) (hY : ca_YT P (ca_B P) b_term b_termValue b_first b_second) (hP : ca_AP P b_kind b_block b_argA b_argB) (hv : v < ca_N P) (hp : ca_isP P p) (hd : d ≤ 40) (h1 : ca_L1 P v p d b_level) (h2 : ca_L2 P v p d b_level) (h3 : ca_L3 P v p d) (hu : ∀ y, ca_RW P v p d y → ¬ ca_us P v y) (K1 : ∀ l, ca_DI P v p (d + 1) → post (nI (d + 1)) (g_blockLimit, g_itemLimit, g_outLimit, g_stage, (nI (ca_B P)), (nI (ca_N P)), g_open, g_outs, g_point, g_regs, g_answer, b_kind, b_block, b_argA, b_argB, b_term, b_termValue, b_first, b_second, b_dist, b_params, b_val, b_log, b_reached, l, b_fresh, b_key, b_colour)) (K0 : ∀ l, ¬ ca_Lv P v p → post (-1) (g_blockLimit, g_itemLimit, g_outLimit, g_stage, (nI (ca_B P)), (nI (ca_N P)), g_open, g_outs, g_point, g_regs, g_answer, b_kind, b_block, b_argA, b_argB, b_term, b_termValue, b_first, b_second, b_dist, b_params, b_val, b_log, b_reached, l, b_fresh, b_key, b_colour)) (KJ : ∀ l, ca_L1 P v p (d + 1) l → ca_L2 P v p (d + 1) l → ca_L3 P v p (d + 1) → J (nI (d + 1)) b_kind b_block b_argA b_argB b_term b_termValue b_first b_second b_dist b_params b_val b_log b_reached l b_fresh b_key b_colour) : ∃ n, wY_distance_84 post J (nI v) (nI d) g_blockLimit g_itemLimit g_outLimit g_stage (nI (ca_B P)) (nI (ca_N P)) g_open g_outs g_point g_regs g_answer n 0 0 0 b_kind b_block b_argA b_argB b_term b_termValue b_first b_second b_dist b_params b_val b_log b_reached b_level b_fresh b_key b_colour := by
  refine ca_loop (σ := Int32 × Int32 × (Nat → Int32)) (fun n y s => wY_distance_84 post J (nI v) (nI d) g_blockLimit g_itemLimit g_outLimit g_stage (nI (ca_B P)) (nI (ca_N P)) g_open g_outs g_point g_regs g_answer n s.1 s.2.1 (nI y) b_kind b_block b_argA b_argB b_term b_termValue b_first b_second b_dist b_params b_val b_log b_reached s.2.2 b_fresh b_key b_colour) (fun y s => ca_LM P v p d b_level s.2.2 s.1 s.2.1 ∧ (∀ x, x < y → ca_LQ P v d x 2 b_level s.2.2 s.1)) 0 40 (by omega) (0, 0, b_level) ⟨⟨fun y hy => ?_, fun _ _ _ => rfl, Or.inl rfl, Or.inl rfl, fun _ _ _ => rfl, fun _ _ h => Or.inl h⟩, fun x hx => by omega⟩ ?_ ?_
  · rcases h1 y hy with z | ⟨j, j1, j2⟩
    · exact Or.inl z
    · exact Or.inr ⟨j, by omega, j2⟩
  · rintro n ⟨f, m, l⟩ ⟨⟨m1, m2, m3, m4, m5, m6⟩, g2⟩
    dsimp only at m1 m2 m3 m4 m5 m6 g2
    refine br_t (nI_le (a := 40) (b := 40) (Nat.le_refl _) (by decide)) (br_c (fun f0 => br_c (fun r0 => ?_) (fun r0 => ?_)) (fun f0 => ?_))
    · -- nothing new
      have cl : ∀ j y, ca_RW P v p j y → ∃ k, k ≤ d ∧ b_level y = nI k ∧ ca_RW P v p k y := by
        intro j
        induction j with
        | zero =>
          intro y hy
          obtain ⟨k, k1, k2⟩ := h2 0 (by omega) y hy
          have : k = 0 := by omega
          subst this
          exact ⟨0, by omega, k2, hy⟩
        | succ j ih =>
          rintro y ⟨z, w, z1, z2, z3, z4, z5⟩
          obtain ⟨k, k1, k2, k3⟩ := ih z z1
          have hyP : ca_isP P y := by rw [← z5]; exact ca_nxP hW hT (ca_RWP hW hT hp z1) z3
          have hy40 := ca_P40 hW hyP
          have hz40 := ca_P40 hW (ca_RWP hW hT hp z1)
          have hl : b_level y ≠ -1 := by
            by_cases e : k = d
            · subst e
              have := (g2 z hz40 k2 w z2 z3).2 z4
              rw [z5, m5 r0 y hy40] at this
              exact this
            · obtain ⟨i, i1, i2⟩ := h2 (k + 1) (by omega) y ⟨z, w, k3, z2, z3, z4, z5⟩
              rw [i2]; exact ca_nm1 (by omega)
          rcases h1 y hy40 with q | ⟨i, i1, i2, i3, _⟩
          · exact absurd q hl
          · exact ⟨i, i1, i2, i3⟩
      have none : ∀ j y, ca_RW P v p j y → ¬ ca_us P v y ∧ ¬ ca_fd P v y := by
        intro j y hy
        have hy40 := ca_P40 hW (ca_RWP hW hT hp hy)
        obtain ⟨k, k1, k2, k3⟩ := cl j y hy
        by_cases e : k = d
        · subst e
          refine ⟨hu y k3, ?_⟩
          rintro ⟨w, w1, w2, w3, w4⟩
          exact (g2 y hy40 k2 w w1 w2).1 f0 w3 w4
        · exact h3 k (by omega) y k3
      refine K0 l ?_
      rintro ⟨k, hk⟩
      rcases ca_DWRW hk with ⟨y, y1, y2⟩ | ⟨j, y, y1, y2, y3⟩
      · exact (none k y y1).1 y2
      · exact (none j y y2).2 y3
    · refine ca_in (KJ l m1 (fun j hj y hy => ?_) (fun j hj y hy => ?_))
      · have hyP := ca_RWP hW hT hp hy
        have hy40 := ca_P40 hW hyP
        have keep : ∀ i, i ≤ d → i ≤ j → ca_RW P v p i y → ∃ k, k ≤ j ∧ l y = nI k := by
          intro i i1 i2 i3
          obtain ⟨k, k1, k2⟩ := h2 i i1 y i3
          exact ⟨k, by omega, by rw [m2 y hy40 (by rw [k2]; exact ca_nm1 (by omega))]; exact k2⟩
        by_cases e : j ≤ d
        · exact keep j e (Nat.le_refl _) hy
        · have : j = d + 1 := by omega
          subst this
          have hy' := hy
          obtain ⟨z, w, z1, z2, z3, z4, z5⟩ := hy'
          have hz40 := ca_P40 hW (ca_RWP hW hT hp z1)
          obtain ⟨k, k1, k2⟩ := h2 d (Nat.le_refl _) z z1
          by_cases e2 : k = d
          · subst e2
            have := (g2 z hz40 k2 w z2 z3).2 z4
            rw [z5] at this
            rcases m1 y hy40 with q | ⟨i, i1, i2, _⟩
            · exact absurd q this
            · exact ⟨i, i1, i2⟩
          · rcases h1 z hz40 with q | ⟨i, i1, i2, i3, _⟩
            · rw [q] at k2; exact absurd k2.symm (ca_nm1 (by omega))
            · rw [k2] at i2
              have := ca_ninj i2 (by omega) (by omega)
              subst this
              exact keep (k + 1) (by omega) (by omega) ⟨z, w, i3, z2, z3, z4, z5⟩
      · by_cases e : j < d
        · exact h3 j e y hy
        · have : j = d := by omega
          subst this
          refine ⟨hu y hy, ?_⟩
          rintro ⟨w, w1, w2, w3, w4⟩
          have hy40 := ca_P40 hW (ca_RWP hW hT hp hy)
          obtain ⟨k, k1, k2⟩ := h2 j (Nat.le_refl _) y hy
          by_cases e2 : k = j
          · subst e2
            exact (g2 y hy40 k2 w w1 w2).1 f0 w3 w4
          · rcases h1 y hy40 with q | ⟨i, i1, i2, i3, _⟩
            · rw [q] at k2; exact absurd k2.symm (ca_nm1 (by omega))
            · rw [k2] at i2
              have := ca_ninj i2 (by omega) (by omega)
              subst this
              exact (h3 k (by omega) y i3).2 ⟨w, w1, w2, w3, w4⟩
    · rcases m3 with q | ⟨_, y, y1, y2⟩
      · exact absurd q f0
      · show post (nI d + 1) _
        rw [nI_1]
        refine K1 l ⟨ca_RWDW y1 (ca_fdDW y2), fun k hk z => ?_⟩
        rcases ca_DWRW z with ⟨x, x1, x2⟩ | ⟨j, x, x1, x2, x3⟩
        · by_cases e : k = d
          · subst e; exact hu x x1 x2
          · exact (h3 k (by omega) x x1).1 x2
        · exact (h3 j (by omega) x x2).2 x3
  · rintro n y ⟨f, m, l⟩ _ hy ⟨g1, g2⟩ ih
    exact br_f (nI_ge (b := 40) hy (by decide)) (yl_d94 hW hT hFI hF hY hP hv hp hd hy h1 g1 g2 (fun l f m k1 k2 => ih (f, m, l) ⟨k1, k2⟩))
theorem yl_distance {post : Int32 → SY → Prop} {v p : Nat} (hW : ca_WF P) (hT : ca_TE P) (hFI : ca_IF P) (hF : ca_TF P (ca_B P)) (hY : ca_YT P (ca_B P) b_term b_termValue b_first b_second) (hP : ca_AP P b_kind b_block b_argA b_argB) (hv : v < ca_N P) (hp : ca_isP P p) (K1 : ∀ l d, d ≤ 40 → ca_DI P v p d → post (nI d) (g_blockLimit, g_itemLimit, g_outLimit, g_stage, (nI (ca_B P)), (nI (ca_N P)), g_open, g_outs, g_point, g_regs, g_answer, b_kind, b_block, b_argA, b_argB, b_term, b_termValue, b_first, b_second, b_dist, b_params, b_val, b_log, b_reached, l, b_fresh, b_key, b_colour)) (K0 : ∀ l, ¬ ca_Lv P v p → post (-1) (g_blockLimit, g_itemLimit, g_outLimit, g_stage, (nI (ca_B P)), (nI (ca_N P)), g_open, g_outs, g_point, g_regs, g_answer, b_kind, b_block, b_argA, b_argB, b_term, b_termValue, b_first, b_second, b_dist, b_params, b_val, b_log, b_reached, l, b_fresh, b_key, b_colour)) : wpY_distance post (g_blockLimit, g_itemLimit, g_outLimit, g_stage, (nI (ca_B P)), (nI (ca_N P)), g_open, g_outs, g_point, g_regs, g_answer, b_kind, b_block, b_argA, b_argB, b_term, b_termValue, b_first, b_second, b_dist, b_params, b_val, b_log, b_reached, b_level, b_fresh, b_key, b_colour) (nI v) (nI p) := by
  have hN := ca_wN hW
  have hp40 := ca_P40 hW hp
  refine ca_loop (σ := Nat → Int32) (fun n i l => wY_distance_2 post (nI v) (nI p) g_blockLimit g_itemLimit g_outLimit g_stage (nI (ca_B P)) (nI (ca_N P)) g_open g_outs g_point g_regs g_answer n (nI i) b_kind b_block b_argA b_argB b_term b_termValue b_first b_second b_dist b_params b_val b_log b_reached l b_fresh b_key b_colour) (fun i l => ∀ t, t < i → l t = -1) 0 40 (by omega) b_level (fun t ht => by omega) ?_ ?_
  · intro n l hl
    refine br_t (nI_le (a := 40) (b := 40) (Nat.le_refl _) (by decide)) (ca_vi (ca_wr ?_))
    refine ca_loop (σ := Nat → Int32) (fun n d l => wY_distance_30 post (nI v) g_blockLimit g_itemLimit g_outLimit g_stage (nI (ca_B P)) (nI (ca_N P)) g_open g_outs g_point g_regs g_answer n (nI d) b_kind b_block b_argA b_argB b_term b_termValue b_first b_second b_dist b_params b_val b_log b_reached l b_fresh b_key b_colour) (fun d l => ca_L1 P v p d l ∧ ca_L2 P v p d l ∧ ca_L3 P v p d) 0 41 (by omega) (upd l p 0) ⟨fun y hy => ?_, fun j hj y hy => ?_, fun j hj => by omega⟩ ?_ ?_
    · by_cases e : y = p
      · subst e; exact Or.inr ⟨0, by omega, pk_us, rfl, hp⟩
      · rw [pk_un e]; exact Or.inl (hl y hy)
    · have : j = 0 := by omega
      subst this
      have hy : y = p := hy
      subst hy
      exact ⟨0, by omega, pk_us⟩
    · rintro n l ⟨g1, g2, g3⟩
      refine br_t (nI_lt (a := 40) (b := 41) (by omega) (by decide)) (K0 l ?_)
      rintro ⟨k, hk⟩
      obtain ⟨m, m1, _, m2⟩ := ca_dwb hW hT hp hk
      exact ca_L3no g3 m (by omega) m2.1
    · rintro n d l _ hd ⟨g1, g2, g3⟩ ih
      refine br_f (nI_nlt (a := 40) (b := d) (by omega) (by decide)) (yl_d39 hW hT hFI hF hY hP hv hp (by omega) g1 g2 g3 (fun h => K1 l d (by omega) h) (fun hu => yl_d84 hW hT hFI hF hY hP hv hp (by omega) g1 g2 g3 hu (fun l h => ?_) K0 (fun l k1 k2 k3 => ih l ⟨k1, k2, k3⟩)))
      obtain ⟨m, m1, _, m2⟩ := ca_dwb hW hT hp h.1
      have := ca_DIu h m2
      exact K1 l (d + 1) (by omega) h
  · intro n i l _ hi hl ih
    refine br_f (nI_ge (b := 40) hi (by decide)) (ca_vi (ca_wr (ca_in (ih _ fun t ht => ?_))))
    by_cases q : t = i
    · subst q; exact pk_us
    · rw [pk_un q]; exact hl t (by omega)
end
end
section
/-! Y: check -/
def ca_YDc (P : ca_PG) (q v : Nat) (d : Nat → Int32) : Prop := ((ca_isP P q ∧ v < ca_N P) → (∃ k, k ≤ 40 ∧ ca_DI P v q k ∧ d (q * 32 + v) = nI k) ∨ (¬ ca_Lv P v q ∧ d (q * 32 + v) = -1)) ∧ (¬ (ca_isP P q ∧ v < ca_N P) → d (q * 32 + v) = -1)
theorem ca_m1lt {a : Nat} (h : a < 2 ^ 31) : (-1 : Int32) < nI a := by
  rw [Int32.lt_iff_toInt_lt, nI_toInt h, show (-1 : Int32).toInt = -1 from by decide]
  omega
theorem ca_upd2 (D : Nat → Int32) (k : Nat) (x y : Int32) : upd (upd D k x) k y = upd D k y := by
  funext j
  by_cases z : j = k
  · subst z; rw [pk_us, pk_us]
  · rw [pk_un z, pk_un z, pk_un z]
section
variable {P : ca_PG}
theorem ca_YDcu {q v i : Nat} {p : Nat} {d : Nat → Int32} {x : Int32} (hv : v < 32) (hi : i < 32) (h : ca_YDc P q v d) (hn : ¬ (q = p ∧ v = i)) : ca_YDc P q v (upd d (p * 32 + i) x) := by
  unfold ca_YDc
  rw [pk_un (by omega)]
  exact h
variable {g_blockLimit g_itemLimit g_outLimit g_stage g_blocks g_items g_open g_outs g_point g_regs g_answer : Int32} {b_kind b_block b_argA b_argB b_term b_termValue b_first b_second b_dist b_params b_val b_log b_reached b_level b_fresh b_key b_colour : Nat → Int32}
theorem yl_ck266 {post : Int32 → SY → Prop} {J : Int32 → Int32 → Int32 → Int32 → Int32 → Int32 → Int32 → Int32 → Int32 → Int32 → Int32 → Int32 → (Nat → Int32) → (Nat → Int32) → (Nat → Int32) → (Nat → Int32) → (Nat → Int32) → (Nat → Int32) → (Nat → Int32) → (Nat → Int32) → (Nat → Int32) → (Nat → Int32) → (Nat → Int32) → (Nat → Int32) → (Nat → Int32) → (Nat → Int32) → (Nat → Int32) → (Nat → Int32) → (Nat → Int32) → Prop} {q : Nat} {f : Int32} (hW : ca_WF P) (hT : ca_TE P) (hFI : ca_IF P) (hF : ca_TF P (ca_B P)) (hY : ca_YT P (ca_B P) b_term b_termValue b_first b_second) (hP : ca_AP P b_kind b_block b_argA b_argB) (hq : q < 40) (hf : (f = 1 ∧ ca_isP P q) ∨ (f = 0 ∧ ¬ ca_isP P q)) (hD : ∀ p v, p < q → v < 32 → ca_YDc P p v b_dist) (K : ∀ l D, (∀ p v, p < q + 1 → v < 32 → ca_YDc P p v D) → J (nI (q + 1)) g_blockLimit g_itemLimit g_outLimit g_stage (nI (ca_B P)) (nI (ca_N P)) g_open g_outs g_point g_regs g_answer b_kind b_block b_argA b_argB b_term b_termValue b_first b_second D b_params b_val b_log b_reached l b_fresh b_key b_colour) : ∃ n, wY_check_266 post J (nI q) f n 0 g_blockLimit g_itemLimit g_outLimit g_stage (nI (ca_B P)) (nI (ca_N P)) g_open g_outs g_point g_regs g_answer b_kind b_block b_argA b_argB b_term b_termValue b_first b_second b_dist b_params b_val b_log b_reached b_level b_fresh b_key b_colour := by
  have hN := ca_wN hW
  refine ca_loop (σ := (Nat → Int32) × (Nat → Int32)) (fun n v s => wY_check_266 post J (nI q) f n (nI v) g_blockLimit g_itemLimit g_outLimit g_stage (nI (ca_B P)) (nI (ca_N P)) g_open g_outs g_point g_regs g_answer b_kind b_block b_argA b_argB b_term b_termValue b_first b_second s.2 b_params b_val b_log b_reached s.1 b_fresh b_key b_colour) (fun v s => (∀ p v, p < q → v < 32 → ca_YDc P p v s.2) ∧ (∀ w, w < v → ca_YDc P q w s.2)) 0 32 (by omega) (b_level, b_dist) ⟨hD, fun w hw => by omega⟩ ?_ ?_
  · rintro n ⟨l, D⟩ ⟨g1, g2⟩
    refine br_t (nI_le (a := 32) (b := 32) (Nat.le_refl _) (by decide)) (ca_in (K l D fun p v hp hv => ?_))
    by_cases e : p = q
    · subst e; exact g2 v hv
    · exact g1 p v (by omega) hv
  · rintro n v ⟨l, D⟩ _ hv ⟨g1, g2⟩ ih
    dsimp only at g1 g2
    have nxt : ∀ l x, ca_YDc P q v (upd D (q * 32 + v) x) → wY_check_266 post J (nI q) f n (nI (v + 1)) g_blockLimit g_itemLimit g_outLimit g_stage (nI (ca_B P)) (nI (ca_N P)) g_open g_outs g_point g_regs g_answer b_kind b_block b_argA b_argB b_term b_termValue b_first b_second (upd D (q * 32 + v) x) b_params b_val b_log b_reached l b_fresh b_key b_colour := by
      intro l x hx
      refine ih (l, _) ⟨fun p w hp hw => ca_YDcu hw hv (g1 p w hp hw) (by omega), fun w hw => ?_⟩
      by_cases e : w = v
      · subst e; exact hx
      · exact ca_YDcu (by omega) hv (g2 w (by omega)) (by omega)
    have nxt0 : ∀ l, ¬ (ca_isP P q ∧ v < ca_N P) → wY_check_266 post J (nI q) f n (nI (v + 1)) g_blockLimit g_itemLimit g_outLimit g_stage (nI (ca_B P)) (nI (ca_N P)) g_open g_outs g_point g_regs g_answer b_kind b_block b_argA b_argB b_term b_termValue b_first b_second (upd D (q * 32 + v) (-1)) b_params b_val b_log b_reached l b_fresh b_key b_colour := by
      intro l hx
      exact nxt l (-1) ⟨fun z => absurd z hx, fun _ => pk_us⟩
    refine br_f (nI_ge (b := 32) hv (by decide)) ?_
    rw [ca_mul32]
    refine ca_vi (ca_wr ?_) (by omega)
    rcases hf with ⟨f1, f2⟩ | ⟨f1, f2⟩
    · refine br_f (by rw [f1]; decide) (pk_le (ca_N P) v (fun z => ca_in (nxt0 l fun y => by have := y.2; omega)) (fun z => ?_))
      refine yl_distance hW hT hFI hF hY hP z f2 (fun l d d1 d2 => ?_) (fun l hl => ?_)
      · refine ca_vi (ca_wr (ca_in ?_)) (by omega)
        have e : upd (upd D (q * 32 + v) (-1)) (q * 32 + v) (nI d) = upd D (q * 32 + v) (nI d) := by
          exact ca_upd2 _ _ _ _
        rw [e]
        exact nxt l _ ⟨fun _ => Or.inl ⟨d, d1, d2, pk_us⟩, fun y => absurd ⟨f2, z⟩ y⟩
      · refine ca_vi (ca_wr (ca_in ?_)) (by omega)
        have e : upd (upd D (q * 32 + v) (-1)) (q * 32 + v) (-1) = upd D (q * 32 + v) (-1) := by
          exact ca_upd2 _ _ _ _
        rw [e]
        exact nxt l _ ⟨fun _ => Or.inr ⟨hl, pk_us⟩, fun y => absurd ⟨f2, z⟩ y⟩
    · exact br_t f1 (ca_in (nxt0 l fun y => f2 y.1))
theorem yl_ck208 {post : Int32 → SY → Prop} (hW : ca_WF P) (hT : ca_TE P) (hFI : ca_IF P) (hF : ca_TF P (ca_B P)) (hY : ca_YT P (ca_B P) b_term b_termValue b_first b_second) (hP : ca_AP P b_kind b_block b_argA b_argB) (K : ∀ l D, ca_YD P D → post 0 (g_blockLimit, g_itemLimit, g_outLimit, 1, (nI (ca_B P)), (nI (ca_N P)), g_open, g_outs, g_point, g_regs, g_answer, b_kind, b_block, b_argA, b_argB, b_term, b_termValue, b_first, b_second, D, b_params, b_val, b_log, b_reached, l, b_fresh, b_key, b_colour)) : ∃ n, wY_check_208 post n 0 g_blockLimit g_itemLimit g_outLimit g_stage (nI (ca_B P)) (nI (ca_N P)) g_open g_outs g_point g_regs g_answer b_kind b_block b_argA b_argB b_term b_termValue b_first b_second b_dist b_params b_val b_log b_reached b_level b_fresh b_key b_colour := by
  have hN := ca_wN hW
  have hB := ca_wB hW
  refine ca_loop (σ := (Nat → Int32) × (Nat → Int32)) (fun n q s => wY_check_208 post n (nI q) g_blockLimit g_itemLimit g_outLimit g_stage (nI (ca_B P)) (nI (ca_N P)) g_open g_outs g_point g_regs g_answer b_kind b_block b_argA b_argB b_term b_termValue b_first b_second s.2 b_params b_val b_log b_reached s.1 b_fresh b_key b_colour) (fun q s => ∀ p v, p < q → v < 32 → ca_YDc P p v s.2) 0 40 (by omega) (b_level, b_dist) (fun p v hp => by omega) ?_ ?_
  · rintro n ⟨l, D⟩ g
    exact br_t (nI_le (a := 40) (b := 40) (Nat.le_refl _) (by decide)) (K l D fun q v hq hv => g q v hq hv)
  · rintro n q ⟨l, D⟩ _ hq g ih
    dsimp only at g
    have yes : ca_isP P q → ∃ k, wY_check_266 post (wY_check_208 post n) (nI q) 1 k 0 g_blockLimit g_itemLimit g_outLimit g_stage (nI (ca_B P)) (nI (ca_N P)) g_open g_outs g_point g_regs g_answer b_kind b_block b_argA b_argB b_term b_termValue b_first b_second D b_params b_val b_log b_reached l b_fresh b_key b_colour := fun h => yl_ck266 hW hT hFI hF hY hP hq (Or.inl ⟨rfl, h⟩) g (fun l D h => ih (l, D) h)
    have no : ¬ ca_isP P q → ∃ k, wY_check_266 post (wY_check_208 post n) (nI q) 0 k 0 g_blockLimit g_itemLimit g_outLimit g_stage (nI (ca_B P)) (nI (ca_N P)) g_open g_outs g_point g_regs g_answer b_kind b_block b_argA b_argB b_term b_termValue b_first b_second D b_params b_val b_log b_reached l b_fresh b_key b_colour := fun h => yl_ck266 hW hT hFI hF hY hP hq (Or.inr ⟨rfl, h⟩) g (fun l D h => ih (l, D) h)
    refine br_f (nI_ge (b := 40) hq (by decide)) (pk_le 32 q (fun z => ?_) (fun z => ?_))
    · rw [show nI q - 32 = nI (q - 32) from pk_sub (b := 32) z]
      refine pk_le (ca_B P) (q - 32) (fun y => no ?_) (fun y => yes (Or.inr ⟨z, y⟩))
      rintro (x | x) <;> omega
    · refine pk_le (ca_N P) q (fun y => no ?_) (fun y => ca_vi (pk_eq (ca_kd P q) 8 (fun x => no ?_) (fun x => yes (Or.inl ⟨z, y, x⟩)) (ca_r (hP q y).1) rfl (by have := (hFI q y).1; omega)))
      · rintro (x | x) <;> omega
      · rintro (w | w)
        · exact w.2.2 x
        · omega
def ca_PFi (P : ca_PG) : Prop := ∀ i, i < ca_N P → ca_kd P i = 8 → ca_inc P (ca_bl P i) (2 * ca_B P) = 2
theorem ca_PFe (hW : ca_WF P) : ca_PF P ↔ ca_PFi P := by
  constructor
  · intro h i hi h8
    have hb := ca_wb hW hi
    have := (ca_wi hW hb.1 hb.2.1 hb.2.2).2.mp h8
    exact h _ hb.1 (by omega)
  · intro h s hs hp
    have w1 := ca_wn hW hs
    have w2 := ca_wp hW hs
    have h1 := ca_wi hW (i := ca_bs P s) hs (by omega) (by omega)
    have := h (ca_bs P s) (by omega) (h1.2.mpr (by omega))
    rw [h1.1] at this
    exact this
theorem yl_ck122 {post : Int32 → SY → Prop} (hW : ca_WF P) (hB0 : 0 < ca_B P) (hT : ca_TE P) (hFI : ca_IF P) (hF : ca_TF P (ca_B P)) (hY : ca_YT P (ca_B P) b_term b_termValue b_first b_second) (hP : ca_AP P b_kind b_block b_argA b_argB) (K9 : ¬ ca_PFi P → post (-9) (g_blockLimit, g_itemLimit, g_outLimit, g_stage, (nI (ca_B P)), (nI (ca_N P)), g_open, g_outs, g_point, g_regs, g_answer, b_kind, b_block, b_argA, b_argB, b_term, b_termValue, b_first, b_second, b_dist, b_params, b_val, b_log, b_reached, b_level, b_fresh, b_key, b_colour)) (K10 : ca_PFi P → ∀ ρ, ¬ (ca_STi P ∧ ca_STt P ∧ ca_STp P) → post (-10) (g_blockLimit, g_itemLimit, g_outLimit, g_stage, (nI (ca_B P)), (nI (ca_N P)), g_open, g_outs, g_point, g_regs, g_answer, b_kind, b_block, b_argA, b_argB, b_term, b_termValue, b_first, b_second, b_dist, b_params, b_val, b_log, ρ, b_level, b_fresh, b_key, b_colour)) (K : ca_PFi P → ∀ ρ l D, (ca_STi P ∧ ca_STt P ∧ ca_STp P) → ca_YD P D → post 0 (g_blockLimit, g_itemLimit, g_outLimit, 1, (nI (ca_B P)), (nI (ca_N P)), g_open, g_outs, g_point, g_regs, g_answer, b_kind, b_block, b_argA, b_argB, b_term, b_termValue, b_first, b_second, D, b_params, b_val, b_log, ρ, l, b_fresh, b_key, b_colour)) : ∃ n, wY_check_122 post g_blockLimit g_itemLimit g_outLimit g_stage (nI (ca_B P)) (nI (ca_N P)) g_open g_outs g_point g_regs g_answer b_kind b_block b_argA b_argB b_term b_termValue b_first b_second b_dist b_params b_val b_log b_reached b_level b_fresh b_key b_colour n 0 := by
  have hN := ca_wN hW
  have hB := ca_wB hW
  refine ca_loop (σ := Unit) (fun n i _ => wY_check_122 post g_blockLimit g_itemLimit g_outLimit g_stage (nI (ca_B P)) (nI (ca_N P)) g_open g_outs g_point g_regs g_answer b_kind b_block b_argA b_argB b_term b_termValue b_first b_second b_dist b_params b_val b_log b_reached b_level b_fresh b_key b_colour n (nI i)) (fun i _ => ∀ j, j < i → ca_kd P j = 8 → ca_inc P (ca_bl P j) (2 * ca_B P) = 2) 0 (ca_N P) (by omega) () (fun j hj => by omega) ?_ ?_
  · intro n _ hI
    exact br_t (nI_le (Nat.le_refl _) (by omega)) (yl_allStrict hW hB0 hT hFI hF hY hP (fun ρ h => br_f (by decide) (yl_ck208 hW hT hFI hF hY hP (fun l D hD => K hI ρ l D h hD))) (fun ρ h => br_t rfl (K10 hI ρ h)))
  · intro n i _ _ hi hI ih
    have hP' := hP i hi
    have hbi := (ca_wb hW hi).1
    have hk := (hFI i hi).1
    refine br_f (nI_ge hi (by omega)) ?_
    refine ca_loop (σ := Int32) (fun k e c => wY_check_134 post (wY_check_122 post g_blockLimit g_itemLimit g_outLimit g_stage (nI (ca_B P)) (nI (ca_N P)) g_open g_outs g_point g_regs g_answer b_kind b_block b_argA b_argB b_term b_termValue b_first b_second b_dist b_params b_val b_log b_reached b_level b_fresh b_key b_colour n) (nI i) g_blockLimit g_itemLimit g_outLimit g_stage (nI (ca_B P)) (nI (ca_N P)) g_open g_outs g_point g_regs g_answer b_kind b_block b_argA b_argB b_term b_termValue b_first b_second b_dist b_params b_val b_log b_reached b_level b_fresh b_key b_colour k c (nI e)) (fun e c => c = nI (ca_inc P (ca_bl P i) e)) 0 (2 * ca_B P) (by omega) 0 rfl ?_ ?_
    · intro k c hc
      subst hc
      have h5 := ca_incle (P := P) (t := ca_bl P i) hB
      have nxt : (ca_kd P i = 8 → ca_inc P (ca_bl P i) (2 * ca_B P) = 2) → wY_check_122 post g_blockLimit g_itemLimit g_outLimit g_stage (nI (ca_B P)) (nI (ca_N P)) g_open g_outs g_point g_regs g_answer b_kind b_block b_argA b_argB b_term b_termValue b_first b_second b_dist b_params b_val b_log b_reached b_level b_fresh b_key b_colour n (nI (i + 1)) := by
        intro z
        refine ih () fun j hj h => ?_
        by_cases e : j = i
        · subst e; exact z h
        · exact hI j (by omega) h
      refine br_t (by rw [ca_tw]; exact nI_le (Nat.le_refl _) (by omega)) (ca_vi (pk_eq (ca_kd P i) 8 (fun z => pk_eq (ca_inc P (ca_bl P i) (2 * ca_B P)) 2 (fun y => ca_in (nxt fun _ => y)) (fun y => K9 fun h => y (h i hi z))) (fun z => ca_in (nxt fun h => absurd h z)) (ca_r hP'.1)))
    · intro k e c _ he hc ih2
      subst hc
      refine br_f (by rw [ca_tw]; exact nI_ge he (by omega)) (yl_target rfl (by omega) hB hF hY (fun hE => ca_vi ?_) (fun hE => ca_vi ?_))
      · have t8 := ca_tg8 hF hE.1
        refine pk_eq (ca_tg P e) (ca_bl P i) (fun z => nm_r (nI_1 _) (ca_in (ih2 _ ?_))) (fun z => ca_in (ih2 _ ?_)) rfl (ca_r hP'.2.1)
        · unfold ca_inc; rw [ca_cn_t ⟨hE, z⟩]
        · unfold ca_inc; rw [ca_cn_f (fun y => z y.2)]
      · refine br_f (fun y => ?_) (ca_in (ih2 _ ?_))
        · rw [ca_r hP'.2.1] at y; exact ca_nm1 (by omega) y.symm
        · unfold ca_inc; rw [ca_cn_f (fun y => hE y.1)]
theorem yl_ck94 {post : Int32 → SY → Prop} (hW : ca_WF P) (hB0 : 0 < ca_B P) (hT : ca_TE P) (hFI : ca_IF P) (hF : ca_TF P (ca_B P)) (hY : ca_YT P (ca_B P) b_term b_termValue b_first b_second) (hP : ca_AP P b_kind b_block b_argA b_argB) (K8 : ∀ ρ, ¬ (∀ s, s < ca_B P → ca_Rc P 99 s) → post (-8) (g_blockLimit, g_itemLimit, g_outLimit, g_stage, (nI (ca_B P)), (nI (ca_N P)), g_open, g_outs, g_point, g_regs, g_answer, b_kind, b_block, b_argA, b_argB, b_term, b_termValue, b_first, b_second, b_dist, b_params, b_val, b_log, ρ, b_level, b_fresh, b_key, b_colour)) (K9 : ∀ ρ, (∀ s, s < ca_B P → ca_Rc P 99 s) → ¬ ca_PFi P → post (-9) (g_blockLimit, g_itemLimit, g_outLimit, g_stage, (nI (ca_B P)), (nI (ca_N P)), g_open, g_outs, g_point, g_regs, g_answer, b_kind, b_block, b_argA, b_argB, b_term, b_termValue, b_first, b_second, b_dist, b_params, b_val, b_log, ρ, b_level, b_fresh, b_key, b_colour)) (K10 : (∀ s, s < ca_B P → ca_Rc P 99 s) → ca_PFi P → ∀ ρ, ¬ (ca_STi P ∧ ca_STt P ∧ ca_STp P) → post (-10) (g_blockLimit, g_itemLimit, g_outLimit, g_stage, (nI (ca_B P)), (nI (ca_N P)), g_open, g_outs, g_point, g_regs, g_answer, b_kind, b_block, b_argA, b_argB, b_term, b_termValue, b_first, b_second, b_dist, b_params, b_val, b_log, ρ, b_level, b_fresh, b_key, b_colour)) (K : (∀ s, s < ca_B P → ca_Rc P 99 s) → ca_PFi P → ∀ ρ l D, (ca_STi P ∧ ca_STt P ∧ ca_STp P) → ca_YD P D → post 0 (g_blockLimit, g_itemLimit, g_outLimit, 1, (nI (ca_B P)), (nI (ca_N P)), g_open, g_outs, g_point, g_regs, g_answer, b_kind, b_block, b_argA, b_argB, b_term, b_termValue, b_first, b_second, D, b_params, b_val, b_log, ρ, l, b_fresh, b_key, b_colour)) : ∃ n, wY_check_94 post n 0 g_blockLimit g_itemLimit g_outLimit g_stage (nI (ca_B P)) (nI (ca_N P)) g_open g_outs g_point g_regs g_answer b_kind b_block b_argA b_argB b_term b_termValue b_first b_second b_dist b_params b_val b_log b_reached b_level b_fresh b_key b_colour := by
  have hB := ca_wB hW
  refine ca_loop (σ := Nat → Int32) (fun n s ρ => wY_check_94 post n (nI s) g_blockLimit g_itemLimit g_outLimit g_stage (nI (ca_B P)) (nI (ca_N P)) g_open g_outs g_point g_regs g_answer b_kind b_block b_argA b_argB b_term b_termValue b_first b_second b_dist b_params b_val b_log ρ b_level b_fresh b_key b_colour) (fun s _ => ∀ t, t < s → ca_Rc P 99 t) 0 (ca_B P) (by omega) b_reached (fun t ht => by omega) ?_ ?_
  · intro n ρ hI
    exact br_t (nI_le (Nat.le_refl _) (by omega)) (yl_ck122 hW hB0 hT hFI hF hY hP (K9 ρ hI) (fun h => K10 hI h) (fun h => K hI h))
  · intro n s ρ _ hs hI ih
    refine br_f (nI_ge hs (by omega)) (yl_reachable rfl ca_hx9 (by omega) hW hB0 hT hF hY (fun ρ h => ?_) (fun ρ h => ?_))
    · refine br_f (by decide) (ca_in (ih ρ fun t ht => ?_))
      by_cases e : t = s
      · subst e; exact h
      · exact hI t (by omega)
    · exact br_t rfl (K8 ρ fun z => h (z s hs))
theorem yl_ck28 {post : Int32 → SY → Prop} (hW : ca_WF P) (hB0 : 0 < ca_B P) (hFI : ca_IF P) (hF : ca_TF P (ca_B P)) (hY : ca_YT P (ca_B P) b_term b_termValue b_first b_second) (hP : ca_AP P b_kind b_block b_argA b_argB) (K6 : ¬ ca_TE P → post (-6) (g_blockLimit, g_itemLimit, g_outLimit, g_stage, (nI (ca_B P)), (nI (ca_N P)), g_open, g_outs, g_point, g_regs, g_answer, b_kind, b_block, b_argA, b_argB, b_term, b_termValue, b_first, b_second, b_dist, b_params, b_val, b_log, b_reached, b_level, b_fresh, b_key, b_colour)) (K7 : ca_TE P → (∃ e, ca_isE P e ∧ ca_tg P e = 0) → post (-7) (g_blockLimit, g_itemLimit, g_outLimit, g_stage, (nI (ca_B P)), (nI (ca_N P)), g_open, g_outs, g_point, g_regs, g_answer, b_kind, b_block, b_argA, b_argB, b_term, b_termValue, b_first, b_second, b_dist, b_params, b_val, b_log, b_reached, b_level, b_fresh, b_key, b_colour)) (K8 : ca_TE P → ¬ (∃ e, ca_isE P e ∧ ca_tg P e = 0) → ∀ ρ, ¬ (∀ s, s < ca_B P → ca_Rc P 99 s) → post (-8) (g_blockLimit, g_itemLimit, g_outLimit, g_stage, (nI (ca_B P)), (nI (ca_N P)), g_open, g_outs, g_point, g_regs, g_answer, b_kind, b_block, b_argA, b_argB, b_term, b_termValue, b_first, b_second, b_dist, b_params, b_val, b_log, ρ, b_level, b_fresh, b_key, b_colour)) (K9 : ca_TE P → ¬ (∃ e, ca_isE P e ∧ ca_tg P e = 0) → ∀ ρ, (∀ s, s < ca_B P → ca_Rc P 99 s) → ¬ ca_PFi P → post (-9) (g_blockLimit, g_itemLimit, g_outLimit, g_stage, (nI (ca_B P)), (nI (ca_N P)), g_open, g_outs, g_point, g_regs, g_answer, b_kind, b_block, b_argA, b_argB, b_term, b_termValue, b_first, b_second, b_dist, b_params, b_val, b_log, ρ, b_level, b_fresh, b_key, b_colour)) (K10 : ca_TE P → ¬ (∃ e, ca_isE P e ∧ ca_tg P e = 0) → (∀ s, s < ca_B P → ca_Rc P 99 s) → ca_PFi P → ∀ ρ, ¬ (ca_STi P ∧ ca_STt P ∧ ca_STp P) → post (-10) (g_blockLimit, g_itemLimit, g_outLimit, g_stage, (nI (ca_B P)), (nI (ca_N P)), g_open, g_outs, g_point, g_regs, g_answer, b_kind, b_block, b_argA, b_argB, b_term, b_termValue, b_first, b_second, b_dist, b_params, b_val, b_log, ρ, b_level, b_fresh, b_key, b_colour)) (K : ca_TE P → ¬ (∃ e, ca_isE P e ∧ ca_tg P e = 0) → (∀ s, s < ca_B P → ca_Rc P 99 s) → ca_PFi P → ∀ ρ l D, (ca_STi P ∧ ca_STt P ∧ ca_STp P) → ca_YD P D → post 0 (g_blockLimit, g_itemLimit, g_outLimit, 1, (nI (ca_B P)), (nI (ca_N P)), g_open, g_outs, g_point, g_regs, g_answer, b_kind, b_block, b_argA, b_argB, b_term, b_termValue, b_first, b_second, D, b_params, b_val, b_log, ρ, l, b_fresh, b_key, b_colour)) : ∃ n, wY_check_28 post g_blockLimit g_itemLimit g_outLimit g_stage (nI (ca_B P)) (nI (ca_N P)) g_open g_outs g_point g_regs g_answer b_kind b_block b_argA b_argB b_term b_termValue b_first b_second b_dist b_params b_val b_log b_reached b_level b_fresh b_key b_colour n 0 := by
  have hB := ca_wB hW
  refine ca_loop (σ := Unit) (fun n e _ => wY_check_28 post g_blockLimit g_itemLimit g_outLimit g_stage (nI (ca_B P)) (nI (ca_N P)) g_open g_outs g_point g_regs g_answer b_kind b_block b_argA b_argB b_term b_termValue b_first b_second b_dist b_params b_val b_log b_reached b_level b_fresh b_key b_colour n (nI e)) (fun e _ => ∀ f, f < e → ca_isE P f → ca_tg P f < ca_B P) 0 (2 * ca_B P) (by omega) () (fun t ht => by omega) ?_ ?_
  · intro n _ hI
    have hT : ca_TE P := fun e he => hI e (ca_elt he) he
    refine br_t (by rw [ca_tw]; exact nI_le (Nat.le_refl _) (by omega)) ?_
    refine ca_loop (σ := Unit) (fun n e _ => wY_check_63 post g_blockLimit g_itemLimit g_outLimit g_stage (nI (ca_B P)) (nI (ca_N P)) g_open g_outs g_point g_regs g_answer b_kind b_block b_argA b_argB b_term b_termValue b_first b_second b_dist b_params b_val b_log b_reached b_level b_fresh b_key b_colour n (nI e)) (fun e _ => ∀ f, f < e → ca_isE P f → ca_tg P f ≠ 0) 0 (2 * ca_B P) (by omega) () (fun t ht => by omega) ?_ ?_
    · intro n _ hJ
      have hn : ¬ (∃ e, ca_isE P e ∧ ca_tg P e = 0) := fun ⟨e, he, h⟩ => hJ e (ca_elt he) he h
      exact br_t (by rw [ca_tw]; exact nI_le (Nat.le_refl _) (by omega)) (yl_ck94 hW hB0 hT hFI hF hY hP (K8 hT hn) (K9 hT hn) (K10 hT hn) (K hT hn))
    · intro n e _ _ he hJ ih
      refine br_f (by rw [ca_tw]; exact nI_ge he (by omega)) (yl_target rfl (by omega) hB hF hY (fun hE => ?_) (fun hE => ?_))
      · have t8 := ca_tg8 hF hE.1
        refine pk_eq (ca_tg P e) 0 (fun z => K7 hT ⟨e, hE, z⟩) (fun z => ca_in (ih () fun f hf h => ?_))
        by_cases y : f = e
        · subst y; exact z
        · exact hJ f (by omega) h
      · refine br_f (by decide) (ca_in (ih () fun f hf h => ?_))
        by_cases y : f = e
        · subst y; exact absurd h hE
        · exact hJ f (by omega) h
  · intro n e _ _ he hI ih
    refine br_f (by rw [ca_tw]; exact nI_ge he (by omega)) (yl_target rfl (by omega) hB hF hY (fun hE => ?_) (fun hE => ?_))
    · have t8 := ca_tg8 hF hE.1
      refine pk_lt (ca_tg P e) (ca_B P) (fun z => ca_in (ih () fun f hf h => ?_)) (fun z => K6 fun h => by have := h e hE; omega)
      by_cases y : f = e
      · subst y; exact z
      · exact hI f (by omega) h
    · refine br_t (ca_m1lt (by omega)) (ca_in (ih () fun f hf h => ?_))
      by_cases y : f = e
      · subst y; exact absurd h hE
      · exact hI f (by omega) h
end
end
section
/-! X: ranks, placing one point -/
def ca_RO (M : Nat) (lo : Nat → Int32) (p : Nat) : Prop := ∀ v, v < 32 → lo (p * 32 + v) = -1 ∨ ∃ c, c < 40 ∧ (c < M ∨ 8 ≤ c) ∧ lo (p * 32 + v) = nI c
section
variable {P : ca_PG}
variable {f_phiKind f_jumpKind f_branchKind f_retKind f_far f_registerEnd f_firstSlot f_cellEnd f_edgeCode f_blockLimit f_itemLimit f_outLimit f_stage f_open f_blocks f_items f_edges f_points f_greatestPressure f_everLive f_registers f_usedRegisters f_placedBlocks f_codeSize f_current f_returned f_outSize : Int32} {a_blockStart a_blockPhis a_blockItems a_termKind a_termValue a_termFirst a_termSecond a_itemKind a_itemA a_itemB a_itemBlock a_edgeFrom a_edgeTo a_edgeOrder a_edgeArgs a_edgeSets a_edgeBegin a_edgeEnd a_incoming a_dominators a_depth a_parent a_pointBase a_pointBlock a_pointItem a_pointUses a_live a_distance a_neighbours a_colour a_inRegisters a_location a_hint a_taken a_moveSource a_moveReaders a_codeTo a_codeFrom a_codeSwap a_codeBegin a_codeEnd a_outLog a_params a_cells : Nat → Int32}
theorem xl_rankAt {post : Int32 → Prop} {p v : Nat} (hW : ca_WF P) (hD : ca_AX P a_distance) (hV : ca_AV P a_live) (hp : p < ca_T P) (hv : v < ca_N P) (hl : ca_Lv P v (ca_nm P p)) (K : post (nI (ca_rk P (ca_nm P p) v))) : wpX_rankAt post (f_phiKind, f_jumpKind, f_branchKind, f_retKind, f_far, f_registerEnd, f_firstSlot, f_cellEnd, f_edgeCode, f_blockLimit, f_itemLimit, f_outLimit, f_stage, f_open, (nI (ca_B P)), (nI (ca_N P)), (nI (ca_E P)), (nI (ca_T P)), f_greatestPressure, f_everLive, f_registers, f_usedRegisters, f_placedBlocks, f_codeSize, f_current, f_returned, f_outSize, a_blockStart, a_blockPhis, a_blockItems, a_termKind, a_termValue, a_termFirst, a_termSecond, a_itemKind, a_itemA, a_itemB, a_itemBlock, a_edgeFrom, a_edgeTo, a_edgeOrder, a_edgeArgs, a_edgeSets, a_edgeBegin, a_edgeEnd, a_incoming, a_dominators, a_depth, a_parent, a_pointBase, a_pointBlock, a_pointItem, a_pointUses, a_live, a_distance, a_neighbours, a_colour, a_inRegisters, a_location, a_hint, a_taken, a_moveSource, a_moveReaders, a_codeTo, a_codeFrom, a_codeSwap, a_codeBegin, a_codeEnd, a_outLog, a_params, a_cells) (nI p) (nI v) := by
  have hN := ca_wN hW
  have h40 := ca_T40' hW
  have hV' := hV p hp
  rcases hD p hp v hv with ⟨b, b1, b2, b3⟩ | ⟨z, _⟩
  · show vp_in (nI p * 32 + nI v) 1280 ∧ _
    rw [ca_mul32]
    refine ca_vi (ca_rd b3 ?_) (by omega)
    refine ca_loop (σ := Int32) (fun n w c => wX_rankAt_18 post (nI p) (nI v) (nI b) f_phiKind f_jumpKind f_branchKind f_retKind f_far f_registerEnd f_firstSlot f_cellEnd f_edgeCode f_blockLimit f_itemLimit f_outLimit f_stage f_open (nI (ca_B P)) (nI (ca_N P)) (nI (ca_E P)) (nI (ca_T P)) f_greatestPressure f_everLive f_registers f_usedRegisters f_placedBlocks f_codeSize f_current f_returned f_outSize a_blockStart a_blockPhis a_blockItems a_termKind a_termValue a_termFirst a_termSecond a_itemKind a_itemA a_itemB a_itemBlock a_edgeFrom a_edgeTo a_edgeOrder a_edgeArgs a_edgeSets a_edgeBegin a_edgeEnd a_incoming a_dominators a_depth a_parent a_pointBase a_pointBlock a_pointItem a_pointUses a_live a_distance a_neighbours a_colour a_inRegisters a_location a_hint a_taken a_moveSource a_moveReaders a_codeTo a_codeFrom a_codeSwap a_codeBegin a_codeEnd a_outLog a_params a_cells n c (nI w)) (fun w c => c = nI (ca_cn (fun w => ca_le P (ca_nm P p) w v) w)) 0 (ca_N P) (by omega) 0 rfl ?_ ?_
    · intro n c hc
      refine br_t (nI_le (Nat.le_refl _) (by omega)) ?_
      rw [hc]; exact K
    · intro n w c _ hw hc ih
      subst hc
      refine br_f (nI_ge hw (by omega)) ?_
      rw [ca_mul32]
      have no : ¬ ca_le P (ca_nm P p) w v → wX_rankAt_18 post (nI p) (nI v) (nI b) f_phiKind f_jumpKind f_branchKind f_retKind f_far f_registerEnd f_firstSlot f_cellEnd f_edgeCode f_blockLimit f_itemLimit f_outLimit f_stage f_open (nI (ca_B P)) (nI (ca_N P)) (nI (ca_E P)) (nI (ca_T P)) f_greatestPressure f_everLive f_registers f_usedRegisters f_placedBlocks f_codeSize f_current f_returned f_outSize a_blockStart a_blockPhis a_blockItems a_termKind a_termValue a_termFirst a_termSecond a_itemKind a_itemA a_itemB a_itemBlock a_edgeFrom a_edgeTo a_edgeOrder a_edgeArgs a_edgeSets a_edgeBegin a_edgeEnd a_incoming a_dominators a_depth a_parent a_pointBase a_pointBlock a_pointItem a_pointUses a_live a_distance a_neighbours a_colour a_inRegisters a_location a_hint a_taken a_moveSource a_moveReaders a_codeTo a_codeFrom a_codeSwap a_codeBegin a_codeEnd a_outLog a_params a_cells n (nI (ca_cn (fun w => ca_le P (ca_nm P p) w v) w)) (nI (w + 1)) := by
        intro z
        exact ih _ (by rw [ca_cn_f (P := fun w => ca_le P (ca_nm P p) w v) z])
      have yes : ca_le P (ca_nm P p) w v → wX_rankAt_18 post (nI p) (nI v) (nI b) f_phiKind f_jumpKind f_branchKind f_retKind f_far f_registerEnd f_firstSlot f_cellEnd f_edgeCode f_blockLimit f_itemLimit f_outLimit f_stage f_open (nI (ca_B P)) (nI (ca_N P)) (nI (ca_E P)) (nI (ca_T P)) f_greatestPressure f_everLive f_registers f_usedRegisters f_placedBlocks f_codeSize f_current f_returned f_outSize a_blockStart a_blockPhis a_blockItems a_termKind a_termValue a_termFirst a_termSecond a_itemKind a_itemA a_itemB a_itemBlock a_edgeFrom a_edgeTo a_edgeOrder a_edgeArgs a_edgeSets a_edgeBegin a_edgeEnd a_incoming a_dominators a_depth a_parent a_pointBase a_pointBlock a_pointItem a_pointUses a_live a_distance a_neighbours a_colour a_inRegisters a_location a_hint a_taken a_moveSource a_moveReaders a_codeTo a_codeFrom a_codeSwap a_codeBegin a_codeEnd a_outLog a_params a_cells n (nI (ca_cn (fun w => ca_le P (ca_nm P p) w v) w + 1)) (nI (w + 1)) := by
        intro z
        exact ih _ (by rw [ca_cn_t (P := fun w => ca_le P (ca_nm P p) w v) z])
      rcases hD p hp w hw with ⟨a, a1, a2, a3⟩ | ⟨a2, a3⟩
      · refine ca_vi (ca_rd a3 (ca_vi (xl_has _ rfl (by omega) (fun hb => ?_) (fun hb => ?_)))) (by omega)
        · refine br_f (by decide) (pk_lt a b (fun z => nm_r (nI_1 _) (ca_in (yes ⟨a, b, a2, b2, Or.inl z⟩))) (fun z => pk_eq a b (fun y => pk_le v w (fun x => ca_in (no ?_)) (fun x => nm_r (nI_1 _) (ca_in (yes ⟨a, b, a2, b2, Or.inr ⟨y, x⟩⟩)))) (fun y => ca_in (no ?_))))
          · rintro ⟨a', b', q1, q2, q3⟩
            have := ca_DIu a2 q1
            have := ca_DIu b2 q2
            omega
          · rintro ⟨a', b', q1, q2, q3⟩
            have := ca_DIu a2 q1
            have := ca_DIu b2 q2
            omega
        · rw [nI_clamp (n := p) (by omega)] at hb
          exact absurd ((hV' w).mpr ⟨hw, a, a2.1⟩) (ca_ff hb)
      · refine ca_vi (ca_rd a3 (ca_vi (xl_has _ rfl (by omega) (fun hb => ?_) (fun hb => br_t rfl (ca_in (no ?_)))))) (by omega)
        · rw [nI_clamp (n := p) (by omega)] at hb
          exact absurd ((hV' w).mp hb).2 a2
        · rintro ⟨a', b', q1, q2, q3⟩
          exact a2 ⟨a', q1.1⟩
  · exact absurd hl z
theorem xl_nearestValues {post : Int32 → Prop} {p R : Nat} (hW : ca_WF P) (hD : ca_AX P a_distance) (hV : ca_AV P a_live) (hp : p < ca_T P) (hR : R ≤ 6) (K : ∀ m, (∀ v, bt m v = true ↔ v < ca_N P ∧ ca_Lv P v (ca_nm P p) ∧ ca_rk P (ca_nm P p) v < R) → post m) : wpX_nearestValues post (f_phiKind, f_jumpKind, f_branchKind, f_retKind, f_far, f_registerEnd, f_firstSlot, f_cellEnd, f_edgeCode, f_blockLimit, f_itemLimit, f_outLimit, f_stage, f_open, (nI (ca_B P)), (nI (ca_N P)), (nI (ca_E P)), (nI (ca_T P)), f_greatestPressure, f_everLive, (nI R), f_usedRegisters, f_placedBlocks, f_codeSize, f_current, f_returned, f_outSize, a_blockStart, a_blockPhis, a_blockItems, a_termKind, a_termValue, a_termFirst, a_termSecond, a_itemKind, a_itemA, a_itemB, a_itemBlock, a_edgeFrom, a_edgeTo, a_edgeOrder, a_edgeArgs, a_edgeSets, a_edgeBegin, a_edgeEnd, a_incoming, a_dominators, a_depth, a_parent, a_pointBase, a_pointBlock, a_pointItem, a_pointUses, a_live, a_distance, a_neighbours, a_colour, a_inRegisters, a_location, a_hint, a_taken, a_moveSource, a_moveReaders, a_codeTo, a_codeFrom, a_codeSwap, a_codeBegin, a_codeEnd, a_outLog, a_params, a_cells) (nI p) := by
  have hN := ca_wN hW
  have h40 := ca_T40' hW
  have hV' := hV p hp
  refine ca_loop (σ := Int32) (fun n v m => wX_nearestValues_4 post (nI p) f_phiKind f_jumpKind f_branchKind f_retKind f_far f_registerEnd f_firstSlot f_cellEnd f_edgeCode f_blockLimit f_itemLimit f_outLimit f_stage f_open (nI (ca_B P)) (nI (ca_N P)) (nI (ca_E P)) (nI (ca_T P)) f_greatestPressure f_everLive (nI R) f_usedRegisters f_placedBlocks f_codeSize f_current f_returned f_outSize a_blockStart a_blockPhis a_blockItems a_termKind a_termValue a_termFirst a_termSecond a_itemKind a_itemA a_itemB a_itemBlock a_edgeFrom a_edgeTo a_edgeOrder a_edgeArgs a_edgeSets a_edgeBegin a_edgeEnd a_incoming a_dominators a_depth a_parent a_pointBase a_pointBlock a_pointItem a_pointUses a_live a_distance a_neighbours a_colour a_inRegisters a_location a_hint a_taken a_moveSource a_moveReaders a_codeTo a_codeFrom a_codeSwap a_codeBegin a_codeEnd a_outLog a_params a_cells n m (nI v)) (fun v m => ∀ w, bt m w = true ↔ w < v ∧ ca_Lv P w (ca_nm P p) ∧ ca_rk P (ca_nm P p) w < R) 0 (ca_N P) (by omega) 0 ?_ ?_ ?_
  · intro w
    rw [ca_b0i]
    exact ⟨fun z => z.elim, fun z => by omega⟩
  · intro n m hm
    exact br_t (nI_le (Nat.le_refl _) (by omega)) (K m hm)
  · intro n v m _ hv hm ih
    have skip : ¬ (ca_Lv P v (ca_nm P p) ∧ ca_rk P (ca_nm P p) v < R) → wX_nearestValues_4 post (nI p) f_phiKind f_jumpKind f_branchKind f_retKind f_far f_registerEnd f_firstSlot f_cellEnd f_edgeCode f_blockLimit f_itemLimit f_outLimit f_stage f_open (nI (ca_B P)) (nI (ca_N P)) (nI (ca_E P)) (nI (ca_T P)) f_greatestPressure f_everLive (nI R) f_usedRegisters f_placedBlocks f_codeSize f_current f_returned f_outSize a_blockStart a_blockPhis a_blockItems a_termKind a_termValue a_termFirst a_termSecond a_itemKind a_itemA a_itemB a_itemBlock a_edgeFrom a_edgeTo a_edgeOrder a_edgeArgs a_edgeSets a_edgeBegin a_edgeEnd a_incoming a_dominators a_depth a_parent a_pointBase a_pointBlock a_pointItem a_pointUses a_live a_distance a_neighbours a_colour a_inRegisters a_location a_hint a_taken a_moveSource a_moveReaders a_codeTo a_codeFrom a_codeSwap a_codeBegin a_codeEnd a_outLog a_params a_cells n m (nI (v + 1)) := by
      intro z
      refine ih m fun w => ?_
      rw [hm w]
      constructor
      · rintro ⟨a, b⟩; exact ⟨by omega, b⟩
      · rintro ⟨a, b⟩
        by_cases e : w = v
        · subst e; exact absurd b z
        · exact ⟨by omega, b⟩
    refine br_f (nI_ge hv (by omega)) (ca_vi (xl_has _ rfl (by omega) (fun hb => ?_) (fun hb => ?_)))
    · rw [nI_clamp (n := p) (by omega)] at hb
      have hl := ((hV' v).mp hb).2
      have hrk : ca_rk P (ca_nm P p) v ≤ 32 := by
        have := ca_cn_le (fun w => ca_le P (ca_nm P p) w v) (ca_N P)
        unfold ca_rk; omega
      refine br_f (by decide) (xl_rankAt hW hD hV hp hv hl (pk_le R (ca_rk P (ca_nm P p) v) (fun z => ca_in (skip fun y => by have := y.2; omega)) (fun z => nm_e (ca_in (ih _ fun w => ?_)))))
      rw [ca_bset (by omega), hm w]
      constructor
      · rintro (⟨a, b⟩ | a)
        · exact ⟨by omega, b⟩
        · subst a; exact ⟨by omega, hl, z⟩
      · rintro ⟨a, b⟩
        by_cases e : w = v
        · exact Or.inr e
        · exact Or.inl ⟨by omega, b⟩
    · rw [nI_clamp (n := p) (by omega)] at hb
      exact br_t rfl (ca_in (skip fun y => absurd ((hV' v).mpr ⟨hv, y.1⟩) (ca_ff hb)))
theorem xl_lastPoint {post : Int32 → Prop} {s : Nat} {p0 : Int32} (e0 : p0 = nI s) (hW : ca_WF P) (hb : ca_AB P a_blockStart a_blockPhis a_blockItems) (hL : ca_AL P a_pointBase a_pointBlock a_pointItem a_pointUses) (hs : s < ca_B P) (K : post (nI (ca_pb P s + ca_ni P s))) : wpX_lastPoint post (f_phiKind, f_jumpKind, f_branchKind, f_retKind, f_far, f_registerEnd, f_firstSlot, f_cellEnd, f_edgeCode, f_blockLimit, f_itemLimit, f_outLimit, f_stage, f_open, (nI (ca_B P)), (nI (ca_N P)), (nI (ca_E P)), (nI (ca_T P)), f_greatestPressure, f_everLive, f_registers, f_usedRegisters, f_placedBlocks, f_codeSize, f_current, f_returned, f_outSize, a_blockStart, a_blockPhis, a_blockItems, a_termKind, a_termValue, a_termFirst, a_termSecond, a_itemKind, a_itemA, a_itemB, a_itemBlock, a_edgeFrom, a_edgeTo, a_edgeOrder, a_edgeArgs, a_edgeSets, a_edgeBegin, a_edgeEnd, a_incoming, a_dominators, a_depth, a_parent, a_pointBase, a_pointBlock, a_pointItem, a_pointUses, a_live, a_distance, a_neighbours, a_colour, a_inRegisters, a_location, a_hint, a_taken, a_moveSource, a_moveReaders, a_codeTo, a_codeFrom, a_codeSwap, a_codeBegin, a_codeEnd, a_outLog, a_params, a_cells) p0 := by
  subst e0
  have hB := ca_wB hW
  have w2 := ca_wp hW hs
  have hb' := hb s hs
  refine ca_vi (ca_vi (ca_vi ?_))
  rw [ca_r (hL s hs).1, ca_r hb'.2.2, ca_r hb'.2.1, nI_add, pk_sub (by omega)]
  unfold ca_ni at K
  rw [show ca_pb P s + ca_bi P s - ca_bp P s = ca_pb P s + (ca_bi P s - ca_bp P s) by omega]
  exact K
theorem xl_hintsFromPoint {post : SX → Prop} {p M : Nat} (hW : ca_WF P) (hp : p < 40) (hr : ca_RO M a_location p) (hh : ca_HV M a_hint) (K : ∀ h, ca_HV M h → post (f_phiKind, f_jumpKind, f_branchKind, f_retKind, f_far, f_registerEnd, f_firstSlot, f_cellEnd, f_edgeCode, f_blockLimit, f_itemLimit, f_outLimit, f_stage, f_open, (nI (ca_B P)), (nI (ca_N P)), (nI (ca_E P)), (nI (ca_T P)), f_greatestPressure, f_everLive, f_registers, f_usedRegisters, f_placedBlocks, f_codeSize, f_current, f_returned, f_outSize, a_blockStart, a_blockPhis, a_blockItems, a_termKind, a_termValue, a_termFirst, a_termSecond, a_itemKind, a_itemA, a_itemB, a_itemBlock, a_edgeFrom, a_edgeTo, a_edgeOrder, a_edgeArgs, a_edgeSets, a_edgeBegin, a_edgeEnd, a_incoming, a_dominators, a_depth, a_parent, a_pointBase, a_pointBlock, a_pointItem, a_pointUses, a_live, a_distance, a_neighbours, a_colour, a_inRegisters, a_location, h, a_taken, a_moveSource, a_moveReaders, a_codeTo, a_codeFrom, a_codeSwap, a_codeBegin, a_codeEnd, a_outLog, a_params, a_cells)) : wpX_hintsFromPoint post (f_phiKind, f_jumpKind, f_branchKind, f_retKind, f_far, f_registerEnd, f_firstSlot, f_cellEnd, f_edgeCode, f_blockLimit, f_itemLimit, f_outLimit, f_stage, f_open, (nI (ca_B P)), (nI (ca_N P)), (nI (ca_E P)), (nI (ca_T P)), f_greatestPressure, f_everLive, f_registers, f_usedRegisters, f_placedBlocks, f_codeSize, f_current, f_returned, f_outSize, a_blockStart, a_blockPhis, a_blockItems, a_termKind, a_termValue, a_termFirst, a_termSecond, a_itemKind, a_itemA, a_itemB, a_itemBlock, a_edgeFrom, a_edgeTo, a_edgeOrder, a_edgeArgs, a_edgeSets, a_edgeBegin, a_edgeEnd, a_incoming, a_dominators, a_depth, a_parent, a_pointBase, a_pointBlock, a_pointItem, a_pointUses, a_live, a_distance, a_neighbours, a_colour, a_inRegisters, a_location, a_hint, a_taken, a_moveSource, a_moveReaders, a_codeTo, a_codeFrom, a_codeSwap, a_codeBegin, a_codeEnd, a_outLog, a_params, a_cells) (nI p) := by
  have hN := ca_wN hW
  refine ca_loop (fun n v (h : Nat → Int32) => wX_hintsFromPoint_2 post (nI p) f_phiKind f_jumpKind f_branchKind f_retKind f_far f_registerEnd f_firstSlot f_cellEnd f_edgeCode f_blockLimit f_itemLimit f_outLimit f_stage f_open (nI (ca_B P)) (nI (ca_N P)) (nI (ca_E P)) (nI (ca_T P)) f_greatestPressure f_everLive f_registers f_usedRegisters f_placedBlocks f_codeSize f_current f_returned f_outSize n (nI v) a_blockStart a_blockPhis a_blockItems a_termKind a_termValue a_termFirst a_termSecond a_itemKind a_itemA a_itemB a_itemBlock a_edgeFrom a_edgeTo a_edgeOrder a_edgeArgs a_edgeSets a_edgeBegin a_edgeEnd a_incoming a_dominators a_depth a_parent a_pointBase a_pointBlock a_pointItem a_pointUses a_live a_distance a_neighbours a_colour a_inRegisters a_location h a_taken a_moveSource a_moveReaders a_codeTo a_codeFrom a_codeSwap a_codeBegin a_codeEnd a_outLog a_params a_cells) (fun _ h => ca_HV M h) 0 (ca_N P) (by omega) a_hint hh ?_ ?_
  · intro n h hh
    exact br_t (nI_le (Nat.le_refl _) (by omega)) (K h hh)
  · intro n v h _ hv hh ih
    refine br_f (nI_ge hv (by omega)) ?_
    rw [ca_mul32]
    refine ca_vi (ca_vi (ca_wx v rfl (ca_r rfl) (ca_in (ih _ fun w hw => ?_)))) (by omega)
    by_cases e : w = v
    · subst e; rw [pk_us]; exact hr w hw
    · rw [pk_un e]; exact hh w hw
theorem xl_hintPhis {post : SX → Prop} {e j M : Nat} (hW : ca_WF P) (hF : ca_IF P) (hT : ca_TE P) (hE : ca_AE P a_edgeFrom a_edgeTo a_edgeOrder) (hb : ca_AB P a_blockStart a_blockPhis a_blockItems) (hP : ca_AP P a_itemKind a_itemBlock a_itemA a_itemB) (hL : ca_AL P a_pointBase a_pointBlock a_pointItem a_pointUses) (he : ca_isE P e) (ej : ca_xe P e = j) (hr : ca_RO M a_location (ca_pb P (e / 2) + ca_ni P (e / 2))) (hh : ca_HV M a_hint) (K : ∀ h, ca_HV M h → post (f_phiKind, f_jumpKind, f_branchKind, f_retKind, f_far, f_registerEnd, f_firstSlot, f_cellEnd, f_edgeCode, f_blockLimit, f_itemLimit, f_outLimit, f_stage, f_open, (nI (ca_B P)), (nI (ca_N P)), (nI (ca_E P)), (nI (ca_T P)), f_greatestPressure, f_everLive, f_registers, f_usedRegisters, f_placedBlocks, f_codeSize, f_current, f_returned, f_outSize, a_blockStart, a_blockPhis, a_blockItems, a_termKind, a_termValue, a_termFirst, a_termSecond, a_itemKind, a_itemA, a_itemB, a_itemBlock, a_edgeFrom, a_edgeTo, a_edgeOrder, a_edgeArgs, a_edgeSets, a_edgeBegin, a_edgeEnd, a_incoming, a_dominators, a_depth, a_parent, a_pointBase, a_pointBlock, a_pointItem, a_pointUses, a_live, a_distance, a_neighbours, a_colour, a_inRegisters, a_location, h, a_taken, a_moveSource, a_moveReaders, a_codeTo, a_codeFrom, a_codeSwap, a_codeBegin, a_codeEnd, a_outLog, a_params, a_cells)) : wpX_hintPhis post (f_phiKind, f_jumpKind, f_branchKind, f_retKind, f_far, f_registerEnd, f_firstSlot, f_cellEnd, f_edgeCode, f_blockLimit, f_itemLimit, f_outLimit, f_stage, f_open, (nI (ca_B P)), (nI (ca_N P)), (nI (ca_E P)), (nI (ca_T P)), f_greatestPressure, f_everLive, f_registers, f_usedRegisters, f_placedBlocks, f_codeSize, f_current, f_returned, f_outSize, a_blockStart, a_blockPhis, a_blockItems, a_termKind, a_termValue, a_termFirst, a_termSecond, a_itemKind, a_itemA, a_itemB, a_itemBlock, a_edgeFrom, a_edgeTo, a_edgeOrder, a_edgeArgs, a_edgeSets, a_edgeBegin, a_edgeEnd, a_incoming, a_dominators, a_depth, a_parent, a_pointBase, a_pointBlock, a_pointItem, a_pointUses, a_live, a_distance, a_neighbours, a_colour, a_inRegisters, a_location, a_hint, a_taken, a_moveSource, a_moveReaders, a_codeTo, a_codeFrom, a_codeSwap, a_codeBegin, a_codeEnd, a_outLog, a_params, a_cells) (nI j) := by
  have hB := ca_wB hW
  have hN := ca_wN hW
  have hE16 := ca_Ele (P := P) hB
  have hj := ca_exe he
  have hE' := hE e he
  rw [ej] at hE' hj
  have hbb : e / 2 < ca_B P := he.1
  have ht := hT e he
  have hbt := hb _ ht
  have q1 := ca_wn hW ht
  have q2 := ca_wp hW ht
  have hlp := ca_ptlt (P := P) (s := e / 2) (k := ca_ni P (e / 2)) hbb (Nat.le_refl _)
  have h40 := ca_T40' hW
  refine ca_vi (ca_rd hE'.2.1 (ca_vi (xl_lastPoint (ca_r hE'.1) hW hb hL hbb (ca_vi (ca_vi (nm_r (e' := nI (ca_bs P (ca_tg P e) + ca_bp P (ca_tg P e))) (by rw [ca_r hbt.1, ca_r hbt.2.1, nI_add]) (ca_vi (ca_rd hbt.1 ?_))))))))
  refine ca_loop (fun n i (h : Nat → Int32) => wX_hintPhis_41 post (nI j) (nI (ca_pb P (e / 2) + ca_ni P (e / 2))) (nI (ca_bs P (ca_tg P e) + ca_bp P (ca_tg P e))) f_phiKind f_jumpKind f_branchKind f_retKind f_far f_registerEnd f_firstSlot f_cellEnd f_edgeCode f_blockLimit f_itemLimit f_outLimit f_stage f_open (nI (ca_B P)) (nI (ca_N P)) (nI (ca_E P)) (nI (ca_T P)) f_greatestPressure f_everLive f_registers f_usedRegisters f_placedBlocks f_codeSize f_current f_returned f_outSize n (nI i) a_blockStart a_blockPhis a_blockItems a_termKind a_termValue a_termFirst a_termSecond a_itemKind a_itemA a_itemB a_itemBlock a_edgeFrom a_edgeTo a_edgeOrder a_edgeArgs a_edgeSets a_edgeBegin a_edgeEnd a_incoming a_dominators a_depth a_parent a_pointBase a_pointBlock a_pointItem a_pointUses a_live a_distance a_neighbours a_colour a_inRegisters a_location h a_taken a_moveSource a_moveReaders a_codeTo a_codeFrom a_codeSwap a_codeBegin a_codeEnd a_outLog a_params a_cells) (fun _ h => ca_HV M h) (ca_bs P (ca_tg P e)) (ca_bs P (ca_tg P e) + ca_bp P (ca_tg P e)) (by omega) a_hint hh ?_ ?_
  · intro n h hh
    exact br_t (nI_le (Nat.le_refl _) (by omega)) (K h hh)
  · intro n i h hi0 hi hh ih
    have hph : ca_ph P i (ca_tg P e) := (ca_wph hW ht).mpr ⟨hi0, hi⟩
    have ha := ca_arg32 hF (e := e) hph
    refine br_f (nI_ge hi (by omega)) (xl_phiArgument hW hP hE he ej hph ?_)
    rw [ca_mul32]
    refine ca_vi (ca_vi (ca_wx i rfl (ca_r rfl) (ca_in (ih _ fun w hw => ?_)))) (by omega)
    by_cases e1 : w = i
    · subst e1; rw [pk_us]; exact hr _ ha
    · rw [pk_un e1]; exact hh w hw
theorem xl_startHints {post : SX → Prop} {s M : Nat} (hW : ca_WF P) (hF : ca_IF P) (hT : ca_TE P) (hE : ca_AE P a_edgeFrom a_edgeTo a_edgeOrder) (hb : ca_AB P a_blockStart a_blockPhis a_blockItems) (hP : ca_AP P a_itemKind a_itemBlock a_itemA a_itemB) (hL : ca_AL P a_pointBase a_pointBlock a_pointItem a_pointUses) (hs : s < ca_B P) (hpar : s ≠ 0 → ∃ q, q < ca_B P ∧ a_parent s = nI q ∧ ca_RO M a_location (ca_pb P q + ca_ni P q)) (hpl : ∀ t, t < ca_B P → bt f_placedBlocks t = true → ca_RO M a_location (ca_pb P t + ca_ni P t)) (K : ∀ h, ca_HV M h → post (f_phiKind, f_jumpKind, f_branchKind, f_retKind, f_far, f_registerEnd, f_firstSlot, f_cellEnd, f_edgeCode, f_blockLimit, f_itemLimit, f_outLimit, f_stage, f_open, (nI (ca_B P)), (nI (ca_N P)), (nI (ca_E P)), (nI (ca_T P)), f_greatestPressure, f_everLive, f_registers, f_usedRegisters, f_placedBlocks, f_codeSize, f_current, f_returned, f_outSize, a_blockStart, a_blockPhis, a_blockItems, a_termKind, a_termValue, a_termFirst, a_termSecond, a_itemKind, a_itemA, a_itemB, a_itemBlock, a_edgeFrom, a_edgeTo, a_edgeOrder, a_edgeArgs, a_edgeSets, a_edgeBegin, a_edgeEnd, a_incoming, a_dominators, a_depth, a_parent, a_pointBase, a_pointBlock, a_pointItem, a_pointUses, a_live, a_distance, a_neighbours, a_colour, a_inRegisters, a_location, h, a_taken, a_moveSource, a_moveReaders, a_codeTo, a_codeFrom, a_codeSwap, a_codeBegin, a_codeEnd, a_outLog, a_params, a_cells)) : wpX_startHints post (f_phiKind, f_jumpKind, f_branchKind, f_retKind, f_far, f_registerEnd, f_firstSlot, f_cellEnd, f_edgeCode, f_blockLimit, f_itemLimit, f_outLimit, f_stage, f_open, (nI (ca_B P)), (nI (ca_N P)), (nI (ca_E P)), (nI (ca_T P)), f_greatestPressure, f_everLive, f_registers, f_usedRegisters, f_placedBlocks, f_codeSize, f_current, f_returned, f_outSize, a_blockStart, a_blockPhis, a_blockItems, a_termKind, a_termValue, a_termFirst, a_termSecond, a_itemKind, a_itemA, a_itemB, a_itemBlock, a_edgeFrom, a_edgeTo, a_edgeOrder, a_edgeArgs, a_edgeSets, a_edgeBegin, a_edgeEnd, a_incoming, a_dominators, a_depth, a_parent, a_pointBase, a_pointBlock, a_pointItem, a_pointUses, a_live, a_distance, a_neighbours, a_colour, a_inRegisters, a_location, a_hint, a_taken, a_moveSource, a_moveReaders, a_codeTo, a_codeFrom, a_codeSwap, a_codeBegin, a_codeEnd, a_outLog, a_params, a_cells) (nI s) := by
  have hB := ca_wB hW
  have hN := ca_wN hW
  have h40 := ca_T40' hW
  have hE16 := ca_Ele (P := P) hB
  refine ca_loop (fun n i (h : Nat → Int32) => wX_startHints_2 post (nI s) f_phiKind f_jumpKind f_branchKind f_retKind f_far f_registerEnd f_firstSlot f_cellEnd f_edgeCode f_blockLimit f_itemLimit f_outLimit f_stage f_open (nI (ca_B P)) (nI (ca_N P)) (nI (ca_E P)) (nI (ca_T P)) f_greatestPressure f_everLive f_registers f_usedRegisters f_placedBlocks f_codeSize f_current f_returned f_outSize n (nI i) a_blockStart a_blockPhis a_blockItems a_termKind a_termValue a_termFirst a_termSecond a_itemKind a_itemA a_itemB a_itemBlock a_edgeFrom a_edgeTo a_edgeOrder a_edgeArgs a_edgeSets a_edgeBegin a_edgeEnd a_incoming a_dominators a_depth a_parent a_pointBase a_pointBlock a_pointItem a_pointUses a_live a_distance a_neighbours a_colour a_inRegisters a_location h a_taken a_moveSource a_moveReaders a_codeTo a_codeFrom a_codeSwap a_codeBegin a_codeEnd a_outLog a_params a_cells) (fun i h => ∀ v, v < i → h v = -1) 0 32 (by omega) a_hint (fun v hv => by omega) ?_ ?_
  · intro n h hh
    have hH : ca_HV M h := fun v hv => Or.inl (hh v hv)
    have key : ∀ h, ca_HV M h → ∃ n, wX_startHints_43 post (nI s) n 0 f_phiKind f_jumpKind f_branchKind f_retKind f_far f_registerEnd f_firstSlot f_cellEnd f_edgeCode f_blockLimit f_itemLimit f_outLimit f_stage f_open (nI (ca_B P)) (nI (ca_N P)) (nI (ca_E P)) (nI (ca_T P)) f_greatestPressure f_everLive f_registers f_usedRegisters f_placedBlocks f_codeSize f_current f_returned f_outSize a_blockStart a_blockPhis a_blockItems a_termKind a_termValue a_termFirst a_termSecond a_itemKind a_itemA a_itemB a_itemBlock a_edgeFrom a_edgeTo a_edgeOrder a_edgeArgs a_edgeSets a_edgeBegin a_edgeEnd a_incoming a_dominators a_depth a_parent a_pointBase a_pointBlock a_pointItem a_pointUses a_live a_distance a_neighbours a_colour a_inRegisters a_location h a_taken a_moveSource a_moveReaders a_codeTo a_codeFrom a_codeSwap a_codeBegin a_codeEnd a_outLog a_params a_cells := by
      intro h hH
      refine ca_loop (fun n j (h : Nat → Int32) => wX_startHints_43 post (nI s) n (nI j) f_phiKind f_jumpKind f_branchKind f_retKind f_far f_registerEnd f_firstSlot f_cellEnd f_edgeCode f_blockLimit f_itemLimit f_outLimit f_stage f_open (nI (ca_B P)) (nI (ca_N P)) (nI (ca_E P)) (nI (ca_T P)) f_greatestPressure f_everLive f_registers f_usedRegisters f_placedBlocks f_codeSize f_current f_returned f_outSize a_blockStart a_blockPhis a_blockItems a_termKind a_termValue a_termFirst a_termSecond a_itemKind a_itemA a_itemB a_itemBlock a_edgeFrom a_edgeTo a_edgeOrder a_edgeArgs a_edgeSets a_edgeBegin a_edgeEnd a_incoming a_dominators a_depth a_parent a_pointBase a_pointBlock a_pointItem a_pointUses a_live a_distance a_neighbours a_colour a_inRegisters a_location h a_taken a_moveSource a_moveReaders a_codeTo a_codeFrom a_codeSwap a_codeBegin a_codeEnd a_outLog a_params a_cells) (fun _ h => ca_HV M h) 0 (ca_E P) (by omega) h hH ?_ ?_
      · intro n h hh
        exact br_t (nI_le (Nat.le_refl _) (by omega)) (K h hh)
      · intro n j h _ hj hh ih
        obtain ⟨e, he, ej⟩ := ca_esur hj
        have hE' := hE e he
        rw [ej] at hE'
        have hbb : e / 2 < ca_B P := he.1
        have ht := hT e he
        refine br_f (nI_ge hj (by omega)) (ca_vi (pk_eq (ca_tg P e) s (fun z => ca_vi (xl_has _ (ca_r hE'.1) (by omega) (fun hb1 => ?_) (fun hb0 => br_t rfl (ca_in (ih h hh))))) (fun z => ca_in (ih h hh)) (ca_r hE'.2.1)))
        exact br_f (by decide) (xl_hintPhis hW hF hT hE hb hP hL he ej (hpl _ hbb hb1) hh (fun h hh => ca_in (ih h hh)))
    refine br_t (nI_le (a := 32) (b := 32) (Nat.le_refl _) (by decide)) (pk_eq s 0 (fun z => key h hH) (fun z => ?_))
    obtain ⟨q, q1, q2, q3⟩ := hpar z
    have hlp := ca_ptlt (P := P) (s := q) (k := ca_ni P q) q1 (Nat.le_refl _)
    exact ca_vi (xl_lastPoint (ca_r q2) hW hb hL q1 (xl_hintsFromPoint hW (by omega) q3 hH key))
  · intro n i h _ hi hh ih
    refine br_f (nI_ge (b := 32) hi (by decide)) (ca_vi (ca_wr (ca_in (ih _ fun v hv => ?_))))
    by_cases z : v = i
    · subst z; exact pk_us
    · rw [pk_un z]; exact hh v (by omega)
theorem xl_take {post : SX → Prop} {p v c : Nat} (hp : p < 40) (hv : v < 32) (hc : c < 40) (K : ∀ us, (∀ i, bt f_usedRegisters i = true → bt us i = true) → (c < 6 → bt us c = true) → (∀ i, bt us i = true → bt f_usedRegisters i = true ∨ (i = c ∧ c < 6)) → post (f_phiKind, f_jumpKind, f_branchKind, f_retKind, f_far, f_registerEnd, f_firstSlot, f_cellEnd, f_edgeCode, f_blockLimit, f_itemLimit, f_outLimit, f_stage, f_open, (nI (ca_B P)), (nI (ca_N P)), (nI (ca_E P)), (nI (ca_T P)), f_greatestPressure, f_everLive, f_registers, us, f_placedBlocks, f_codeSize, f_current, f_returned, f_outSize, a_blockStart, a_blockPhis, a_blockItems, a_termKind, a_termValue, a_termFirst, a_termSecond, a_itemKind, a_itemA, a_itemB, a_itemBlock, a_edgeFrom, a_edgeTo, a_edgeOrder, a_edgeArgs, a_edgeSets, a_edgeBegin, a_edgeEnd, a_incoming, a_dominators, a_depth, a_parent, a_pointBase, a_pointBlock, a_pointItem, a_pointUses, a_live, a_distance, a_neighbours, a_colour, a_inRegisters, (upd a_location (p * 32 + v) (nI c)), a_hint, (upd a_taken c 1), a_moveSource, a_moveReaders, a_codeTo, a_codeFrom, a_codeSwap, a_codeBegin, a_codeEnd, a_outLog, a_params, a_cells)) : wpX_take post (f_phiKind, f_jumpKind, f_branchKind, f_retKind, f_far, f_registerEnd, f_firstSlot, f_cellEnd, f_edgeCode, f_blockLimit, f_itemLimit, f_outLimit, f_stage, f_open, (nI (ca_B P)), (nI (ca_N P)), (nI (ca_E P)), (nI (ca_T P)), f_greatestPressure, f_everLive, f_registers, f_usedRegisters, f_placedBlocks, f_codeSize, f_current, f_returned, f_outSize, a_blockStart, a_blockPhis, a_blockItems, a_termKind, a_termValue, a_termFirst, a_termSecond, a_itemKind, a_itemA, a_itemB, a_itemBlock, a_edgeFrom, a_edgeTo, a_edgeOrder, a_edgeArgs, a_edgeSets, a_edgeBegin, a_edgeEnd, a_incoming, a_dominators, a_depth, a_parent, a_pointBase, a_pointBlock, a_pointItem, a_pointUses, a_live, a_distance, a_neighbours, a_colour, a_inRegisters, a_location, a_hint, a_taken, a_moveSource, a_moveReaders, a_codeTo, a_codeFrom, a_codeSwap, a_codeBegin, a_codeEnd, a_outLog, a_params, a_cells) (nI p) (nI v) (nI c) := by
  refine ca_vi (ca_wx c rfl ca_vb1 ?_)
  rw [ca_mul32]
  refine ca_vi (ca_wr (pk_le 6 c (fun z => K _ (fun _ h => h) (fun y => by omega) (fun _ h => Or.inl h)) (fun z => nm_e (K _ (fun i h => ?_) (fun _ => ?_) (fun i h => ?_))))) (by omega)
  · exact (ca_bset (by omega) i).mpr (Or.inl h)
  · exact (ca_bset (by omega) c).mpr (Or.inr rfl)
  · rcases (ca_bset (by omega) i).mp h with y | y
    · exact Or.inl y
    · exact Or.inr ⟨y, z⟩
end
end
section
/-! X: placing -/
def ca_FR (p : Nat) (l0 lo : Nat → Int32) : Prop := ∀ x, (x < p * 32 ∨ p * 32 + 32 ≤ x) → lo x = l0 x
def ca_MU (u0 us : Int32) : Prop := ∀ i, bt u0 i = true → bt us i = true
section
variable {P : ca_PG}
theorem ca_LPc {R M p : Nat} {l0 lo : Nat → Int32} (h : ca_LP P R M l0 p) (hN : ca_N P ≤ 32) (hc : ∀ v, v < 32 → lo (p * 32 + v) = l0 (p * 32 + v)) : ca_LP P R M lo p := by
  obtain ⟨h1, h2, h3⟩ := h
  refine ⟨fun v hv hl => ?_, fun v hv hn => ?_, fun v w c hv hw hc2 e1 e2 => ?_⟩
  · rw [hc v (by omega)]; exact h1 v hv hl
  · rw [hc v hv]; exact h2 v hv hn
  · rw [hc v hv] at e1; rw [hc w hw] at e2; exact h3 v w c hv hw hc2 e1 e2
theorem ca_UPc {p : Nat} {l0 lo : Nat → Int32} {u0 us : Int32} (h : ca_UP l0 u0 p) (hm : ca_MU u0 us) (hc : ∀ v, v < 32 → lo (p * 32 + v) = l0 (p * 32 + v)) : ca_UP lo us p := by
  intro v c hv hc6 e
  rw [hc v hv] at e
  exact hm c (h v c hv hc6 e)
theorem ca_ROof {R M p : Nat} {lo : Nat → Int32} (h : ca_LP P R M lo p) : ca_RO M lo p :=
  fun _ hv => ca_HVrow h (fun _ _ => Classical.em _) hv
variable {f_phiKind f_jumpKind f_branchKind f_retKind f_far f_registerEnd f_firstSlot f_cellEnd f_edgeCode f_blockLimit f_itemLimit f_outLimit f_stage f_open f_blocks f_items f_edges f_points f_greatestPressure f_everLive f_registers f_usedRegisters f_placedBlocks f_codeSize f_current f_returned f_outSize : Int32} {a_blockStart a_blockPhis a_blockItems a_termKind a_termValue a_termFirst a_termSecond a_itemKind a_itemA a_itemB a_itemBlock a_edgeFrom a_edgeTo a_edgeOrder a_edgeArgs a_edgeSets a_edgeBegin a_edgeEnd a_incoming a_dominators a_depth a_parent a_pointBase a_pointBlock a_pointItem a_pointUses a_live a_distance a_neighbours a_colour a_inRegisters a_location a_hint a_taken a_moveSource a_moveReaders a_codeTo a_codeFrom a_codeSwap a_codeBegin a_codeEnd a_outLog a_params a_cells : Nat → Int32}
theorem xl_tl41 {post : SX → Prop} {p v a b c0 : Nat} (hp : p < 40) (hv : v < 32) (h1 : a ≤ c0) (h2 : c0 < b) (hb : b ≤ 40) (h3 : a_taken c0 = 0) (K : ∀ c us, a ≤ c → c ≤ c0 → a_taken c = 0 → (∀ i, bt f_usedRegisters i = true → bt us i = true) → (c < 6 → bt us c = true) → (∀ i, bt us i = true → bt f_usedRegisters i = true ∨ (i = c ∧ c < 6)) → post (f_phiKind, f_jumpKind, f_branchKind, f_retKind, f_far, f_registerEnd, f_firstSlot, f_cellEnd, f_edgeCode, f_blockLimit, f_itemLimit, f_outLimit, f_stage, f_open, (nI (ca_B P)), (nI (ca_N P)), (nI (ca_E P)), (nI (ca_T P)), f_greatestPressure, f_everLive, f_registers, us, f_placedBlocks, f_codeSize, f_current, f_returned, f_outSize, a_blockStart, a_blockPhis, a_blockItems, a_termKind, a_termValue, a_termFirst, a_termSecond, a_itemKind, a_itemA, a_itemB, a_itemBlock, a_edgeFrom, a_edgeTo, a_edgeOrder, a_edgeArgs, a_edgeSets, a_edgeBegin, a_edgeEnd, a_incoming, a_dominators, a_depth, a_parent, a_pointBase, a_pointBlock, a_pointItem, a_pointUses, a_live, a_distance, a_neighbours, a_colour, a_inRegisters, (upd a_location (p * 32 + v) (nI c)), a_hint, (upd a_taken c 1), a_moveSource, a_moveReaders, a_codeTo, a_codeFrom, a_codeSwap, a_codeBegin, a_codeEnd, a_outLog, a_params, a_cells)) : ∃ n, wX_takeLowest_41 post (nI p) (nI v) (nI b) f_phiKind f_jumpKind f_branchKind f_retKind f_far f_registerEnd f_firstSlot f_cellEnd f_edgeCode f_blockLimit f_itemLimit f_outLimit f_stage f_open (nI (ca_B P)) (nI (ca_N P)) (nI (ca_E P)) (nI (ca_T P)) f_greatestPressure f_everLive f_registers f_usedRegisters f_placedBlocks f_codeSize f_current f_returned f_outSize a_blockStart a_blockPhis a_blockItems a_termKind a_termValue a_termFirst a_termSecond a_itemKind a_itemA a_itemB a_itemBlock a_edgeFrom a_edgeTo a_edgeOrder a_edgeArgs a_edgeSets a_edgeBegin a_edgeEnd a_incoming a_dominators a_depth a_parent a_pointBase a_pointBlock a_pointItem a_pointUses a_live a_distance a_neighbours a_colour a_inRegisters a_location a_hint a_taken a_moveSource a_moveReaders a_codeTo a_codeFrom a_codeSwap a_codeBegin a_codeEnd a_outLog a_params a_cells n (nI a) := by
  refine ca_loop (σ := Unit) (fun n c _ => wX_takeLowest_41 post (nI p) (nI v) (nI b) f_phiKind f_jumpKind f_branchKind f_retKind f_far f_registerEnd f_firstSlot f_cellEnd f_edgeCode f_blockLimit f_itemLimit f_outLimit f_stage f_open (nI (ca_B P)) (nI (ca_N P)) (nI (ca_E P)) (nI (ca_T P)) f_greatestPressure f_everLive f_registers f_usedRegisters f_placedBlocks f_codeSize f_current f_returned f_outSize a_blockStart a_blockPhis a_blockItems a_termKind a_termValue a_termFirst a_termSecond a_itemKind a_itemA a_itemB a_itemBlock a_edgeFrom a_edgeTo a_edgeOrder a_edgeArgs a_edgeSets a_edgeBegin a_edgeEnd a_incoming a_dominators a_depth a_parent a_pointBase a_pointBlock a_pointItem a_pointUses a_live a_distance a_neighbours a_colour a_inRegisters a_location a_hint a_taken a_moveSource a_moveReaders a_codeTo a_codeFrom a_codeSwap a_codeBegin a_codeEnd a_outLog a_params a_cells n (nI c)) (fun _ _ => True) a c0 h1 () trivial ?_ ?_
  · intro n _ _
    refine br_f (nI_ge h2 (by omega)) (ca_vi ?_)
    rw [nI_clamp (n := c0) (by omega)]
    exact br_t h3 (xl_take hp hv (by omega) (fun us u1 u2 u3 => K c0 us h1 (Nat.le_refl _) h3 u1 u2 u3))
  · intro n c _ hc0 hc _ ih
    refine br_f (nI_ge (by omega) (by omega)) (ca_vi ?_)
    rw [nI_clamp (n := c) (by omega)]
    exact br_c (fun z => xl_take hp hv (by omega) (fun us u1 u2 u3 => K c us hc0 (by omega) z u1 u2 u3)) (fun _ => ca_in (ih () trivial))
theorem xl_takeLowest {post : SX → Prop} {p v R M : Nat} (hW : ca_WF P) (hI : ca_AR P R a_inRegisters) (hp : p < ca_T P) (hv : v < ca_N P) (hl : ca_Lv P v (ca_nm P p)) (hM : min (ca_lc P (ca_nm P p)) R ≤ M) (hM6 : M ≤ 6) (hPL : ca_PL P R M p a_taken a_location f_usedRegisters) (hU : ca_UM M f_usedRegisters) (he : a_location (p * 32 + v) = -1) (K : ∀ us lo tk, ca_PL P R M p tk lo us → ca_UM M us → ca_MU f_usedRegisters us → (∀ x, x ≠ p * 32 + v → lo x = a_location x) → lo (p * 32 + v) ≠ -1 → post (f_phiKind, f_jumpKind, f_branchKind, f_retKind, f_far, f_registerEnd, f_firstSlot, f_cellEnd, f_edgeCode, f_blockLimit, f_itemLimit, f_outLimit, f_stage, f_open, (nI (ca_B P)), (nI (ca_N P)), (nI (ca_E P)), (nI (ca_T P)), f_greatestPressure, f_everLive, f_registers, us, f_placedBlocks, f_codeSize, f_current, f_returned, f_outSize, a_blockStart, a_blockPhis, a_blockItems, a_termKind, a_termValue, a_termFirst, a_termSecond, a_itemKind, a_itemA, a_itemB, a_itemBlock, a_edgeFrom, a_edgeTo, a_edgeOrder, a_edgeArgs, a_edgeSets, a_edgeBegin, a_edgeEnd, a_incoming, a_dominators, a_depth, a_parent, a_pointBase, a_pointBlock, a_pointItem, a_pointUses, a_live, a_distance, a_neighbours, a_colour, a_inRegisters, lo, a_hint, tk, a_moveSource, a_moveReaders, a_codeTo, a_codeFrom, a_codeSwap, a_codeBegin, a_codeEnd, a_outLog, a_params, a_cells)) : wpX_takeLowest post (f_phiKind, f_jumpKind, f_branchKind, f_retKind, f_far, f_registerEnd, f_firstSlot, f_cellEnd, f_edgeCode, f_blockLimit, f_itemLimit, f_outLimit, f_stage, f_open, (nI (ca_B P)), (nI (ca_N P)), (nI (ca_E P)), (nI (ca_T P)), f_greatestPressure, f_everLive, f_registers, f_usedRegisters, f_placedBlocks, f_codeSize, f_current, f_returned, f_outSize, a_blockStart, a_blockPhis, a_blockItems, a_termKind, a_termValue, a_termFirst, a_termSecond, a_itemKind, a_itemA, a_itemB, a_itemBlock, a_edgeFrom, a_edgeTo, a_edgeOrder, a_edgeArgs, a_edgeSets, a_edgeBegin, a_edgeEnd, a_incoming, a_dominators, a_depth, a_parent, a_pointBase, a_pointBlock, a_pointItem, a_pointUses, a_live, a_distance, a_neighbours, a_colour, a_inRegisters, a_location, a_hint, a_taken, a_moveSource, a_moveReaders, a_codeTo, a_codeFrom, a_codeSwap, a_codeBegin, a_codeEnd, a_outLog, a_params, a_cells) (nI p) (nI v) := by
  have hN := ca_wN hW
  have h40 := ca_T40' hW
  have hI' := hI p hp v
  have fin : ∀ c us, c < 40 → a_taken c = 0 → (ca_rk P (ca_nm P p) v < R → c < M) → (¬ ca_rk P (ca_nm P p) v < R → 8 ≤ c) → (∀ i, bt f_usedRegisters i = true → bt us i = true) → (c < 6 → bt us c = true) → (∀ i, bt us i = true → bt f_usedRegisters i = true ∨ (i = c ∧ c < 6)) → post (f_phiKind, f_jumpKind, f_branchKind, f_retKind, f_far, f_registerEnd, f_firstSlot, f_cellEnd, f_edgeCode, f_blockLimit, f_itemLimit, f_outLimit, f_stage, f_open, (nI (ca_B P)), (nI (ca_N P)), (nI (ca_E P)), (nI (ca_T P)), f_greatestPressure, f_everLive, f_registers, us, f_placedBlocks, f_codeSize, f_current, f_returned, f_outSize, a_blockStart, a_blockPhis, a_blockItems, a_termKind, a_termValue, a_termFirst, a_termSecond, a_itemKind, a_itemA, a_itemB, a_itemBlock, a_edgeFrom, a_edgeTo, a_edgeOrder, a_edgeArgs, a_edgeSets, a_edgeBegin, a_edgeEnd, a_incoming, a_dominators, a_depth, a_parent, a_pointBase, a_pointBlock, a_pointItem, a_pointUses, a_live, a_distance, a_neighbours, a_colour, a_inRegisters, (upd a_location (p * 32 + v) (nI c)), a_hint, (upd a_taken c 1), a_moveSource, a_moveReaders, a_codeTo, a_codeFrom, a_codeSwap, a_codeBegin, a_codeEnd, a_outLog, a_params, a_cells) := by
    intro c us hc ht hr hs u1 u2 u3
    refine K us _ _ (ca_PLtake hN hPL hv hl he hc ht hr hs u1 u2) (fun i hi => ?_) u1 (fun x hx => pk_un hx) (by rw [pk_us]; exact ca_nm1 (by omega))
    rcases u3 i hi with z | ⟨z1, z2⟩
    · exact hU i z
    · subst z1
      rcases Classical.em (ca_rk P (ca_nm P p) v < R) with y | y
      · exact hr y
      · have := hs y; omega
  refine ca_vi (xl_has _ rfl (by omega) (fun hb => ?_) (fun hb => ?_))
  · rw [nI_clamp (n := p) (by omega)] at hb
    have hr := (hI'.mp hb).2.2
    obtain ⟨c0, c1, c2⟩ := ca_PLreg hN hPL hv hl he hr hM hM6
    refine br_f (by decide) (br_f (by decide) ?_)
    exact xl_tl41 (a := 0) (b := 6) (c0 := c0) (by omega) (by omega) (by omega) (by omega) (by omega) c2 (fun c us k1 k2 k3 u1 u2 u3 => fin c us (by omega) k3 (fun _ => by omega) (fun z => absurd hr z) u1 u2 u3)
  · rw [nI_clamp (n := p) (by omega)] at hb
    have hr : ¬ ca_rk P (ca_nm P p) v < R := fun z => ca_ff hb (hI'.mpr ⟨hv, hl, z⟩)
    obtain ⟨c0, c1, c2, c3⟩ := ca_PLslot hN hPL hv he
    refine br_t rfl (br_t rfl ?_)
    exact xl_tl41 (a := 8) (b := 40) (c0 := c0) (by omega) (by omega) (by omega) (by omega) (by omega) c3 (fun c us k1 k2 k3 u1 u2 u3 => fin c us (by omega) k3 (fun z => absurd z hr) (fun _ => k1) u1 u2 u3)
theorem xl_pp135 {post : SX → Prop} {p R M : Nat} {l0 : Nat → Int32} {u0 : Int32} (hW : ca_WF P) (hV : ca_AV P a_live) (hI : ca_AR P R a_inRegisters) (hp : p < ca_T P) (hM : min (ca_lc P (ca_nm P p)) R ≤ M) (hM6 : M ≤ 6) (hPL : ca_PL P R M p a_taken a_location f_usedRegisters) (hU : ca_UM M f_usedRegisters) (hfr : ca_FR p l0 a_location) (hmu : ca_MU u0 f_usedRegisters) (K : ∀ us lo tk, ca_LP P R M lo p → ca_UP lo us p → ca_UM M us → ca_MU u0 us → ca_FR p l0 lo → post (f_phiKind, f_jumpKind, f_branchKind, f_retKind, f_far, f_registerEnd, f_firstSlot, f_cellEnd, f_edgeCode, f_blockLimit, f_itemLimit, f_outLimit, f_stage, f_open, (nI (ca_B P)), (nI (ca_N P)), (nI (ca_E P)), (nI (ca_T P)), f_greatestPressure, f_everLive, f_registers, us, f_placedBlocks, f_codeSize, f_current, f_returned, f_outSize, a_blockStart, a_blockPhis, a_blockItems, a_termKind, a_termValue, a_termFirst, a_termSecond, a_itemKind, a_itemA, a_itemB, a_itemBlock, a_edgeFrom, a_edgeTo, a_edgeOrder, a_edgeArgs, a_edgeSets, a_edgeBegin, a_edgeEnd, a_incoming, a_dominators, a_depth, a_parent, a_pointBase, a_pointBlock, a_pointItem, a_pointUses, a_live, a_distance, a_neighbours, a_colour, a_inRegisters, lo, a_hint, tk, a_moveSource, a_moveReaders, a_codeTo, a_codeFrom, a_codeSwap, a_codeBegin, a_codeEnd, a_outLog, a_params, a_cells)) : ∃ n, wX_placePoint_135 post (nI p) n 0 f_phiKind f_jumpKind f_branchKind f_retKind f_far f_registerEnd f_firstSlot f_cellEnd f_edgeCode f_blockLimit f_itemLimit f_outLimit f_stage f_open (nI (ca_B P)) (nI (ca_N P)) (nI (ca_E P)) (nI (ca_T P)) f_greatestPressure f_everLive f_registers f_usedRegisters f_placedBlocks f_codeSize f_current f_returned f_outSize a_blockStart a_blockPhis a_blockItems a_termKind a_termValue a_termFirst a_termSecond a_itemKind a_itemA a_itemB a_itemBlock a_edgeFrom a_edgeTo a_edgeOrder a_edgeArgs a_edgeSets a_edgeBegin a_edgeEnd a_incoming a_dominators a_depth a_parent a_pointBase a_pointBlock a_pointItem a_pointUses a_live a_distance a_neighbours a_colour a_inRegisters a_location a_hint a_taken a_moveSource a_moveReaders a_codeTo a_codeFrom a_codeSwap a_codeBegin a_codeEnd a_outLog a_params a_cells := by
  have hN := ca_wN hW
  have h40 := ca_T40' hW
  have hV' := hV p hp
  refine ca_loop (σ := Int32 × (Nat → Int32) × (Nat → Int32)) (fun n v s => wX_placePoint_135 post (nI p) n (nI v) f_phiKind f_jumpKind f_branchKind f_retKind f_far f_registerEnd f_firstSlot f_cellEnd f_edgeCode f_blockLimit f_itemLimit f_outLimit f_stage f_open (nI (ca_B P)) (nI (ca_N P)) (nI (ca_E P)) (nI (ca_T P)) f_greatestPressure f_everLive f_registers s.1 f_placedBlocks f_codeSize f_current f_returned f_outSize a_blockStart a_blockPhis a_blockItems a_termKind a_termValue a_termFirst a_termSecond a_itemKind a_itemA a_itemB a_itemBlock a_edgeFrom a_edgeTo a_edgeOrder a_edgeArgs a_edgeSets a_edgeBegin a_edgeEnd a_incoming a_dominators a_depth a_parent a_pointBase a_pointBlock a_pointItem a_pointUses a_live a_distance a_neighbours a_colour a_inRegisters s.2.1 a_hint s.2.2 a_moveSource a_moveReaders a_codeTo a_codeFrom a_codeSwap a_codeBegin a_codeEnd a_outLog a_params a_cells) (fun v s => ca_PL P R M p s.2.2 s.2.1 s.1 ∧ ca_UM M s.1 ∧ ca_FR p l0 s.2.1 ∧ ca_MU u0 s.1 ∧ ∀ w, w < v → ca_Lv P w (ca_nm P p) → s.2.1 (p * 32 + w) ≠ -1) 0 (ca_N P) (by omega) (f_usedRegisters, a_location, a_taken) ⟨hPL, hU, hfr, hmu, fun w hw => by omega⟩ ?_ ?_
  · rintro n ⟨us, lo, tk⟩ ⟨g1, g2, g3, g4, g5⟩
    obtain ⟨q1, q2⟩ := ca_PLend hN g1 g5
    exact br_t (nI_le (Nat.le_refl _) (by omega)) (K us lo tk q1 q2 g2 g4 g3)
  · rintro n v ⟨us, lo, tk⟩ _ hv ⟨g1, g2, g3, g4, g5⟩ ih
    dsimp only at g1 g2 g3 g4 g5 ⊢
    have skip : (ca_Lv P v (ca_nm P p) → lo (p * 32 + v) ≠ -1) → wX_placePoint_135 post (nI p) n (nI (v + 1)) f_phiKind f_jumpKind f_branchKind f_retKind f_far f_registerEnd f_firstSlot f_cellEnd f_edgeCode f_blockLimit f_itemLimit f_outLimit f_stage f_open (nI (ca_B P)) (nI (ca_N P)) (nI (ca_E P)) (nI (ca_T P)) f_greatestPressure f_everLive f_registers us f_placedBlocks f_codeSize f_current f_returned f_outSize a_blockStart a_blockPhis a_blockItems a_termKind a_termValue a_termFirst a_termSecond a_itemKind a_itemA a_itemB a_itemBlock a_edgeFrom a_edgeTo a_edgeOrder a_edgeArgs a_edgeSets a_edgeBegin a_edgeEnd a_incoming a_dominators a_depth a_parent a_pointBase a_pointBlock a_pointItem a_pointUses a_live a_distance a_neighbours a_colour a_inRegisters lo a_hint tk a_moveSource a_moveReaders a_codeTo a_codeFrom a_codeSwap a_codeBegin a_codeEnd a_outLog a_params a_cells := by
      intro z
      refine ih (us, lo, tk) ⟨g1, g2, g3, g4, fun w hw hl => ?_⟩
      by_cases e : w = v
      · subst e; exact z hl
      · exact g5 w (by omega) hl
    refine br_f (nI_ge hv (by omega)) (ca_vi (xl_has _ rfl (by omega) (fun hb => ?_) (fun hb => ?_)))
    · rw [nI_clamp (n := p) (by omega)] at hb
      have hl := ((hV' v).mp hb).2
      refine br_f (by decide) ?_
      rw [ca_mul32]
      refine ca_vi ?_ (by omega)
      rw [nI_clamp (n := p * 32 + v) (by omega)]
      rcases g1.1 v (by omega) with z | ⟨c, c1, c2, _⟩
      · refine br_f (by rw [z]; decide) (xl_takeLowest hW hI hp hv hl hM hM6 g1 g2 z (fun us' lo' tk' k1 k2 k3 k4 k5 => ca_in (ih (us', lo', tk') ⟨k1, k2, fun x hx => ?_, fun i hi => k3 i (g4 i hi), fun w hw hlw => ?_⟩)))
        · show lo' x = _
          rw [k4 x (by omega)]; exact g3 x hx
        · show lo' _ ≠ _
          by_cases e : w = v
          · subst e; exact k5
          · rw [k4 _ (by omega)]; exact g5 w (by omega) hlw
      · refine br_t (by rw [c2]; exact nI_pos' (by omega)) (ca_in (skip fun _ => ?_))
        rw [c2]; exact ca_nm1 (by omega)
    · rw [nI_clamp (n := p) (by omega)] at hb
      exact br_t rfl (ca_in (skip fun z => absurd ((hV' v).mpr ⟨hv, z⟩) (ca_ff hb)))
theorem xl_pp49 {post : SX → Prop} {p R M : Nat} {l0 : Nat → Int32} {u0 : Int32} (hW : ca_WF P) (hV : ca_AV P a_live) (hI : ca_AR P R a_inRegisters) (hp : p < ca_T P) (hM : min (ca_lc P (ca_nm P p)) R ≤ M) (hM6 : M ≤ 6) (hh : ca_HV M a_hint) (ht : ∀ c, c < 40 → a_taken c = 0) (hlo : ∀ v, v < 32 → a_location (p * 32 + v) = -1) (hU : ca_UM M f_usedRegisters) (hfr : ca_FR p l0 a_location) (hmu : ca_MU u0 f_usedRegisters) (K : ∀ us lo tk, ca_LP P R M lo p → ca_UP lo us p → ca_UM M us → ca_MU u0 us → ca_FR p l0 lo → post (f_phiKind, f_jumpKind, f_branchKind, f_retKind, f_far, f_registerEnd, f_firstSlot, f_cellEnd, f_edgeCode, f_blockLimit, f_itemLimit, f_outLimit, f_stage, f_open, (nI (ca_B P)), (nI (ca_N P)), (nI (ca_E P)), (nI (ca_T P)), f_greatestPressure, f_everLive, f_registers, us, f_placedBlocks, f_codeSize, f_current, f_returned, f_outSize, a_blockStart, a_blockPhis, a_blockItems, a_termKind, a_termValue, a_termFirst, a_termSecond, a_itemKind, a_itemA, a_itemB, a_itemBlock, a_edgeFrom, a_edgeTo, a_edgeOrder, a_edgeArgs, a_edgeSets, a_edgeBegin, a_edgeEnd, a_incoming, a_dominators, a_depth, a_parent, a_pointBase, a_pointBlock, a_pointItem, a_pointUses, a_live, a_distance, a_neighbours, a_colour, a_inRegisters, lo, a_hint, tk, a_moveSource, a_moveReaders, a_codeTo, a_codeFrom, a_codeSwap, a_codeBegin, a_codeEnd, a_outLog, a_params, a_cells)) : ∃ n, wX_placePoint_49 post (nI p) n 0 f_phiKind f_jumpKind f_branchKind f_retKind f_far f_registerEnd f_firstSlot f_cellEnd f_edgeCode f_blockLimit f_itemLimit f_outLimit f_stage f_open (nI (ca_B P)) (nI (ca_N P)) (nI (ca_E P)) (nI (ca_T P)) f_greatestPressure f_everLive f_registers f_usedRegisters f_placedBlocks f_codeSize f_current f_returned f_outSize a_blockStart a_blockPhis a_blockItems a_termKind a_termValue a_termFirst a_termSecond a_itemKind a_itemA a_itemB a_itemBlock a_edgeFrom a_edgeTo a_edgeOrder a_edgeArgs a_edgeSets a_edgeBegin a_edgeEnd a_incoming a_dominators a_depth a_parent a_pointBase a_pointBlock a_pointItem a_pointUses a_live a_distance a_neighbours a_colour a_inRegisters a_location a_hint a_taken a_moveSource a_moveReaders a_codeTo a_codeFrom a_codeSwap a_codeBegin a_codeEnd a_outLog a_params a_cells := by
  have hN := ca_wN hW
  have h40 := ca_T40' hW
  have hV' := hV p hp
  refine ca_loop (σ := Int32 × (Nat → Int32) × (Nat → Int32)) (fun n v s => wX_placePoint_49 post (nI p) n (nI v) f_phiKind f_jumpKind f_branchKind f_retKind f_far f_registerEnd f_firstSlot f_cellEnd f_edgeCode f_blockLimit f_itemLimit f_outLimit f_stage f_open (nI (ca_B P)) (nI (ca_N P)) (nI (ca_E P)) (nI (ca_T P)) f_greatestPressure f_everLive f_registers s.1 f_placedBlocks f_codeSize f_current f_returned f_outSize a_blockStart a_blockPhis a_blockItems a_termKind a_termValue a_termFirst a_termSecond a_itemKind a_itemA a_itemB a_itemBlock a_edgeFrom a_edgeTo a_edgeOrder a_edgeArgs a_edgeSets a_edgeBegin a_edgeEnd a_incoming a_dominators a_depth a_parent a_pointBase a_pointBlock a_pointItem a_pointUses a_live a_distance a_neighbours a_colour a_inRegisters s.2.1 a_hint s.2.2 a_moveSource a_moveReaders a_codeTo a_codeFrom a_codeSwap a_codeBegin a_codeEnd a_outLog a_params a_cells) (fun v s => ca_PL P R M p s.2.2 s.2.1 s.1 ∧ ca_UM M s.1 ∧ ca_FR p l0 s.2.1 ∧ ca_MU u0 s.1 ∧ ∀ w, v ≤ w → w < 32 → s.2.1 (p * 32 + w) = -1) 0 (ca_N P) (by omega) (f_usedRegisters, a_location, a_taken) ⟨ca_PL0 ht hlo, hU, hfr, hmu, fun w _ hw => hlo w hw⟩ ?_ ?_
  · rintro n ⟨us, lo, tk⟩ ⟨g1, g2, g3, g4, g5⟩
    exact br_t (nI_le (Nat.le_refl _) (by omega)) (xl_pp135 hW hV hI hp hM hM6 g1 g2 g3 g4 K)
  · rintro n v ⟨us, lo, tk⟩ _ hv ⟨g1, g2, g3, g4, g5⟩ ih
    dsimp only at g1 g2 g3 g4 g5 ⊢
    have skip : wX_placePoint_49 post (nI p) n (nI (v + 1)) f_phiKind f_jumpKind f_branchKind f_retKind f_far f_registerEnd f_firstSlot f_cellEnd f_edgeCode f_blockLimit f_itemLimit f_outLimit f_stage f_open (nI (ca_B P)) (nI (ca_N P)) (nI (ca_E P)) (nI (ca_T P)) f_greatestPressure f_everLive f_registers us f_placedBlocks f_codeSize f_current f_returned f_outSize a_blockStart a_blockPhis a_blockItems a_termKind a_termValue a_termFirst a_termSecond a_itemKind a_itemA a_itemB a_itemBlock a_edgeFrom a_edgeTo a_edgeOrder a_edgeArgs a_edgeSets a_edgeBegin a_edgeEnd a_incoming a_dominators a_depth a_parent a_pointBase a_pointBlock a_pointItem a_pointUses a_live a_distance a_neighbours a_colour a_inRegisters lo a_hint tk a_moveSource a_moveReaders a_codeTo a_codeFrom a_codeSwap a_codeBegin a_codeEnd a_outLog a_params a_cells := ih (us, lo, tk) ⟨g1, g2, g3, g4, fun w hw1 hw2 => g5 w (by omega) hw2⟩
    have done : ∀ c, c < 40 → ca_Lv P v (ca_nm P p) → tk c = 0 → (ca_rk P (ca_nm P p) v < R → c < M) → (¬ ca_rk P (ca_nm P p) v < R → 8 ≤ c) → wpX_take (fun u => match u with | (f_phiKind, f_jumpKind, f_branchKind, f_retKind, f_far, f_registerEnd, f_firstSlot, f_cellEnd, f_edgeCode, f_blockLimit, f_itemLimit, f_outLimit, f_stage, f_open, x1, x2, x3, x4, f_greatestPressure, f_everLive, f_registers, x5, f_placedBlocks, f_codeSize, f_current, f_returned, f_outSize, a_blockStart, a_blockPhis, a_blockItems, a_termKind, a_termValue, a_termFirst, a_termSecond, a_itemKind, a_itemA, a_itemB, a_itemBlock, a_edgeFrom, a_edgeTo, a_edgeOrder, a_edgeArgs, a_edgeSets, a_edgeBegin, a_edgeEnd, a_incoming, a_dominators, a_depth, a_parent, a_pointBase, a_pointBlock, a_pointItem, a_pointUses, a_live, a_distance, a_neighbours, a_colour, a_inRegisters, x6, a_hint, x7, a_moveSource, a_moveReaders, a_codeTo, a_codeFrom, a_codeSwap, a_codeBegin, a_codeEnd, a_outLog, a_params, a_cells) => ∀ y, y = nI v + 1 → wX_placePoint_49 post (nI p) n y f_phiKind f_jumpKind f_branchKind f_retKind f_far f_registerEnd f_firstSlot f_cellEnd f_edgeCode f_blockLimit f_itemLimit f_outLimit f_stage f_open x1 x2 x3 x4 f_greatestPressure f_everLive f_registers x5 f_placedBlocks f_codeSize f_current f_returned f_outSize a_blockStart a_blockPhis a_blockItems a_termKind a_termValue a_termFirst a_termSecond a_itemKind a_itemA a_itemB a_itemBlock a_edgeFrom a_edgeTo a_edgeOrder a_edgeArgs a_edgeSets a_edgeBegin a_edgeEnd a_incoming a_dominators a_depth a_parent a_pointBase a_pointBlock a_pointItem a_pointUses a_live a_distance a_neighbours a_colour a_inRegisters x6 a_hint x7 a_moveSource a_moveReaders a_codeTo a_codeFrom a_codeSwap a_codeBegin a_codeEnd a_outLog a_params a_cells) (f_phiKind, f_jumpKind, f_branchKind, f_retKind, f_far, f_registerEnd, f_firstSlot, f_cellEnd, f_edgeCode, f_blockLimit, f_itemLimit, f_outLimit, f_stage, f_open, (nI (ca_B P)), (nI (ca_N P)), (nI (ca_E P)), (nI (ca_T P)), f_greatestPressure, f_everLive, f_registers, us, f_placedBlocks, f_codeSize, f_current, f_returned, f_outSize, a_blockStart, a_blockPhis, a_blockItems, a_termKind, a_termValue, a_termFirst, a_termSecond, a_itemKind, a_itemA, a_itemB, a_itemBlock, a_edgeFrom, a_edgeTo, a_edgeOrder, a_edgeArgs, a_edgeSets, a_edgeBegin, a_edgeEnd, a_incoming, a_dominators, a_depth, a_parent, a_pointBase, a_pointBlock, a_pointItem, a_pointUses, a_live, a_distance, a_neighbours, a_colour, a_inRegisters, lo, a_hint, tk, a_moveSource, a_moveReaders, a_codeTo, a_codeFrom, a_codeSwap, a_codeBegin, a_codeEnd, a_outLog, a_params, a_cells) (nI p) (nI v) (nI c) := by
      intro c hc hl htc hr hs
      refine xl_take (by omega) (by omega) hc (fun us' u1 u2 u3 => ca_in (ih (us', _, _) ⟨ca_PLtake hN g1 hv hl (g5 v (Nat.le_refl _) (by omega)) hc htc hr hs u1 u2, fun i hi => ?_, fun x hx => ?_, fun i hi => u1 i (g4 i hi), fun w hw1 hw2 => ?_⟩))
      · rcases u3 i hi with z | ⟨z1, z2⟩
        · exact g2 i z
        · subst z1
          rcases Classical.em (ca_rk P (ca_nm P p) v < R) with y | y
          · exact hr y
          · have := hs y; omega
      · show upd lo _ _ x = _
        rw [pk_un (by omega)]; exact g3 x hx
      · show upd lo _ _ _ = _
        rw [pk_un (by omega)]; exact g5 w (by omega) hw2
    refine br_f (nI_ge hv (by omega)) (ca_vi ?_)
    rcases hh v (by omega) with z | ⟨c, c1, c2, c3⟩
    · refine ca_rd z (ca_vi (xl_has _ rfl (by omega) (fun hb => br_f (by decide) (ca_m0 (ca_in skip))) (fun hb => br_t rfl (ca_in skip))))
    · refine ca_rd c3 (ca_vi (xl_has _ rfl (by omega) (fun hb => ?_) (fun hb => br_t rfl (ca_in skip))))
      rw [nI_clamp (n := p) (by omega)] at hb
      have hl := ((hV' v).mp hb).2
      refine br_f (by decide) (ca_lt0 (ca_vi (xl_has _ rfl (by omega) (fun hr => ?_) (fun hr => ?_))))
      · rw [nI_clamp (n := p) (by omega)] at hr
        have hr' := ((hI p hp v).mp hr).2.2
        refine ca_vi ?_
        rw [nI_clamp (n := c) (by omega)]
        refine br_c (fun t0 => pk_le 8 c (fun y => br_f (by decide) (ca_in skip)) (fun y => br_t rfl (done c c1 hl t0 (fun _ => by omega) (fun q => absurd hr' q)))) (fun _ => ca_in skip)
      · rw [nI_clamp (n := p) (by omega)] at hr
        have hr' : ¬ ca_rk P (ca_nm P p) v < R := fun q => ca_ff hr ((hI p hp v).mpr ⟨hv, hl, q⟩)
        refine ca_vi ?_
        rw [nI_clamp (n := c) (by omega)]
        exact br_c (fun t0 => pk_le 8 c (fun y => br_t rfl (done c c1 hl t0 (fun q => absurd q hr') (fun _ => y))) (fun y => br_f (by decide) (ca_in skip))) (fun _ => ca_in skip)
theorem xl_placePoint {post : SX → Prop} {p R M : Nat} (hW : ca_WF P) (hV : ca_AV P a_live) (hI : ca_AR P R a_inRegisters) (hp : p < ca_T P) (hM : min (ca_lc P (ca_nm P p)) R ≤ M) (hM6 : M ≤ 6) (hh : ca_HV M a_hint) (hU : ca_UM M f_usedRegisters) (K : ∀ us lo tk, ca_LP P R M lo p → ca_UP lo us p → ca_UM M us → ca_MU f_usedRegisters us → ca_FR p a_location lo → post (f_phiKind, f_jumpKind, f_branchKind, f_retKind, f_far, f_registerEnd, f_firstSlot, f_cellEnd, f_edgeCode, f_blockLimit, f_itemLimit, f_outLimit, f_stage, f_open, (nI (ca_B P)), (nI (ca_N P)), (nI (ca_E P)), (nI (ca_T P)), f_greatestPressure, f_everLive, f_registers, us, f_placedBlocks, f_codeSize, f_current, f_returned, f_outSize, a_blockStart, a_blockPhis, a_blockItems, a_termKind, a_termValue, a_termFirst, a_termSecond, a_itemKind, a_itemA, a_itemB, a_itemBlock, a_edgeFrom, a_edgeTo, a_edgeOrder, a_edgeArgs, a_edgeSets, a_edgeBegin, a_edgeEnd, a_incoming, a_dominators, a_depth, a_parent, a_pointBase, a_pointBlock, a_pointItem, a_pointUses, a_live, a_distance, a_neighbours, a_colour, a_inRegisters, lo, a_hint, tk, a_moveSource, a_moveReaders, a_codeTo, a_codeFrom, a_codeSwap, a_codeBegin, a_codeEnd, a_outLog, a_params, a_cells)) : wpX_placePoint post (f_phiKind, f_jumpKind, f_branchKind, f_retKind, f_far, f_registerEnd, f_firstSlot, f_cellEnd, f_edgeCode, f_blockLimit, f_itemLimit, f_outLimit, f_stage, f_open, (nI (ca_B P)), (nI (ca_N P)), (nI (ca_E P)), (nI (ca_T P)), f_greatestPressure, f_everLive, f_registers, f_usedRegisters, f_placedBlocks, f_codeSize, f_current, f_returned, f_outSize, a_blockStart, a_blockPhis, a_blockItems, a_termKind, a_termValue, a_termFirst, a_termSecond, a_itemKind, a_itemA, a_itemB, a_itemBlock, a_edgeFrom, a_edgeTo, a_edgeOrder, a_edgeArgs, a_edgeSets, a_edgeBegin, a_edgeEnd, a_incoming, a_dominators, a_depth, a_parent, a_pointBase, a_pointBlock, a_pointItem, a_pointUses, a_live, a_distance, a_neighbours, a_colour, a_inRegisters, a_location, a_hint, a_taken, a_moveSource, a_moveReaders, a_codeTo, a_codeFrom, a_codeSwap, a_codeBegin, a_codeEnd, a_outLog, a_params, a_cells) (nI p) := by
  have h40 := ca_T40' hW
  refine ca_loop (fun n i (t : Nat → Int32) => wX_placePoint_2 post (nI p) f_phiKind f_jumpKind f_branchKind f_retKind f_far f_registerEnd f_firstSlot f_cellEnd f_edgeCode f_blockLimit f_itemLimit f_outLimit f_stage f_open (nI (ca_B P)) (nI (ca_N P)) (nI (ca_E P)) (nI (ca_T P)) f_greatestPressure f_everLive f_registers f_usedRegisters f_placedBlocks f_codeSize f_current f_returned f_outSize n (nI i) a_blockStart a_blockPhis a_blockItems a_termKind a_termValue a_termFirst a_termSecond a_itemKind a_itemA a_itemB a_itemBlock a_edgeFrom a_edgeTo a_edgeOrder a_edgeArgs a_edgeSets a_edgeBegin a_edgeEnd a_incoming a_dominators a_depth a_parent a_pointBase a_pointBlock a_pointItem a_pointUses a_live a_distance a_neighbours a_colour a_inRegisters a_location a_hint t a_moveSource a_moveReaders a_codeTo a_codeFrom a_codeSwap a_codeBegin a_codeEnd a_outLog a_params a_cells) (fun i t => ∀ c, c < i → t c = 0) 0 40 (by omega) a_taken (fun v hv => by omega) ?_ ?_
  · intro n t ht
    refine br_t (nI_le (a := 40) (b := 40) (Nat.le_refl _) (by decide)) ?_
    refine ca_loop (fun n i (l : Nat → Int32) => wX_placePoint_23 post (nI p) f_phiKind f_jumpKind f_branchKind f_retKind f_far f_registerEnd f_firstSlot f_cellEnd f_edgeCode f_blockLimit f_itemLimit f_outLimit f_stage f_open (nI (ca_B P)) (nI (ca_N P)) (nI (ca_E P)) (nI (ca_T P)) f_greatestPressure f_everLive f_registers f_usedRegisters f_placedBlocks f_codeSize f_current f_returned f_outSize n (nI i) a_blockStart a_blockPhis a_blockItems a_termKind a_termValue a_termFirst a_termSecond a_itemKind a_itemA a_itemB a_itemBlock a_edgeFrom a_edgeTo a_edgeOrder a_edgeArgs a_edgeSets a_edgeBegin a_edgeEnd a_incoming a_dominators a_depth a_parent a_pointBase a_pointBlock a_pointItem a_pointUses a_live a_distance a_neighbours a_colour a_inRegisters l a_hint t a_moveSource a_moveReaders a_codeTo a_codeFrom a_codeSwap a_codeBegin a_codeEnd a_outLog a_params a_cells) (fun i l => (∀ v, v < i → l (p * 32 + v) = -1) ∧ ca_FR p a_location l) 0 32 (by omega) a_location ⟨fun v hv => by omega, fun x _ => rfl⟩ ?_ ?_
    · rintro n l ⟨g1, g2⟩
      exact br_t (nI_le (a := 32) (b := 32) (Nat.le_refl _) (by decide)) (xl_pp49 hW hV hI hp hM hM6 hh ht g1 hU g2 (fun _ h => h) K)
    · rintro n i l _ hi ⟨g1, g2⟩ ih
      refine br_f (nI_ge (b := 32) hi (by decide)) ?_
      rw [ca_mul32]
      refine ca_vi (ca_wr (ca_in (ih _ ⟨fun v hv => ?_, fun x hx => ?_⟩))) (by omega)
      · by_cases z : v = i
        · subst z; exact pk_us
        · rw [pk_un (by omega)]; exact g1 v (by omega)
      · rw [pk_un (by omega)]; exact g2 x hx
  · intro n i t _ hi ht ih
    refine br_f (nI_ge (b := 40) hi (by decide)) (ca_vi (ca_wx i rfl ca_vb0 (ca_in (ih _ fun v hv => ?_))))
    by_cases z : v = i
    · subst z; exact pk_us
    · rw [pk_un z]; exact ht v (by omega)
theorem xl_placeBlock {post : SX → Prop} {s R M : Nat} (hW : ca_WF P) (hF : ca_IF P) (hT : ca_TE P) (hE : ca_AE P a_edgeFrom a_edgeTo a_edgeOrder) (hb : ca_AB P a_blockStart a_blockPhis a_blockItems) (hP : ca_AP P a_itemKind a_itemBlock a_itemA a_itemB) (hL : ca_AL P a_pointBase a_pointBlock a_pointItem a_pointUses) (hV : ca_AV P a_live) (hI : ca_AR P R a_inRegisters) (hM : ∀ p, p < ca_T P → min (ca_lc P (ca_nm P p)) R ≤ M) (hM6 : M ≤ 6) (hs : s < ca_B P) (hpar : s ≠ 0 → ∃ q, q < ca_B P ∧ a_parent s = nI q ∧ ca_RO M a_location (ca_pb P q + ca_ni P q)) (hpl : ∀ t, t < ca_B P → bt f_placedBlocks t = true → ca_RO M a_location (ca_pb P t + ca_ni P t)) (hU : ca_UM M f_usedRegisters) (K : ∀ us lo h tk, (∀ k, k ≤ ca_ni P s → ca_LP P R M lo (ca_pb P s + k) ∧ ca_UP lo us (ca_pb P s + k)) → ca_UM M us → ca_MU f_usedRegisters us → (∀ p v, v < 32 → (p < ca_pb P s ∨ ca_pb P s + ca_ni P s < p) → lo (p * 32 + v) = a_location (p * 32 + v)) → post (f_phiKind, f_jumpKind, f_branchKind, f_retKind, f_far, f_registerEnd, f_firstSlot, f_cellEnd, f_edgeCode, f_blockLimit, f_itemLimit, f_outLimit, f_stage, f_open, (nI (ca_B P)), (nI (ca_N P)), (nI (ca_E P)), (nI (ca_T P)), f_greatestPressure, f_everLive, f_registers, us, f_placedBlocks, f_codeSize, f_current, f_returned, f_outSize, a_blockStart, a_blockPhis, a_blockItems, a_termKind, a_termValue, a_termFirst, a_termSecond, a_itemKind, a_itemA, a_itemB, a_itemBlock, a_edgeFrom, a_edgeTo, a_edgeOrder, a_edgeArgs, a_edgeSets, a_edgeBegin, a_edgeEnd, a_incoming, a_dominators, a_depth, a_parent, a_pointBase, a_pointBlock, a_pointItem, a_pointUses, a_live, a_distance, a_neighbours, a_colour, a_inRegisters, lo, h, tk, a_moveSource, a_moveReaders, a_codeTo, a_codeFrom, a_codeSwap, a_codeBegin, a_codeEnd, a_outLog, a_params, a_cells)) : wpX_placeBlock post (f_phiKind, f_jumpKind, f_branchKind, f_retKind, f_far, f_registerEnd, f_firstSlot, f_cellEnd, f_edgeCode, f_blockLimit, f_itemLimit, f_outLimit, f_stage, f_open, (nI (ca_B P)), (nI (ca_N P)), (nI (ca_E P)), (nI (ca_T P)), f_greatestPressure, f_everLive, f_registers, f_usedRegisters, f_placedBlocks, f_codeSize, f_current, f_returned, f_outSize, a_blockStart, a_blockPhis, a_blockItems, a_termKind, a_termValue, a_termFirst, a_termSecond, a_itemKind, a_itemA, a_itemB, a_itemBlock, a_edgeFrom, a_edgeTo, a_edgeOrder, a_edgeArgs, a_edgeSets, a_edgeBegin, a_edgeEnd, a_incoming, a_dominators, a_depth, a_parent, a_pointBase, a_pointBlock, a_pointItem, a_pointUses, a_live, a_distance, a_neighbours, a_colour, a_inRegisters, a_location, a_hint, a_taken, a_moveSource, a_moveReaders, a_codeTo, a_codeFrom, a_codeSwap, a_codeBegin, a_codeEnd, a_outLog, a_params, a_cells) (nI s) := by
  have hB := ca_wB hW
  have hN := ca_wN hW
  have h40 := ca_T40' hW
  have hlt := ca_ptlt (P := P) (s := s) (k := ca_ni P s) hs (Nat.le_refl _)
  refine xl_startHints hW hF hT hE hb hP hL hs hpar hpl (fun h hh => xl_lastPoint rfl hW hb hL hs (ca_vi (ca_rd (hL s hs).1 ?_)))
  refine ca_loop (σ := Int32 × (Nat → Int32) × (Nat → Int32) × (Nat → Int32)) (fun n p s' => wX_placeBlock_18 post (nI (ca_pb P s + ca_ni P s)) n (nI p) f_phiKind f_jumpKind f_branchKind f_retKind f_far f_registerEnd f_firstSlot f_cellEnd f_edgeCode f_blockLimit f_itemLimit f_outLimit f_stage f_open (nI (ca_B P)) (nI (ca_N P)) (nI (ca_E P)) (nI (ca_T P)) f_greatestPressure f_everLive f_registers (s'.1) f_placedBlocks f_codeSize f_current f_returned f_outSize a_blockStart a_blockPhis a_blockItems a_termKind a_termValue a_termFirst a_termSecond a_itemKind a_itemA a_itemB a_itemBlock a_edgeFrom a_edgeTo a_edgeOrder a_edgeArgs a_edgeSets a_edgeBegin a_edgeEnd a_incoming a_dominators a_depth a_parent a_pointBase a_pointBlock a_pointItem a_pointUses a_live a_distance a_neighbours a_colour a_inRegisters (s'.2.1) (s'.2.2.1) (s'.2.2.2) a_moveSource a_moveReaders a_codeTo a_codeFrom a_codeSwap a_codeBegin a_codeEnd a_outLog a_params a_cells) (fun p s' => ca_UM M s'.1 ∧ ca_MU f_usedRegisters s'.1 ∧ ca_HV M s'.2.2.1 ∧ (∀ q v, v < 32 → (q < ca_pb P s ∨ ca_pb P s + ca_ni P s < q) → s'.2.1 (q * 32 + v) = a_location (q * 32 + v)) ∧ (∀ q, ca_pb P s ≤ q → q < p → ca_LP P R M s'.2.1 q ∧ ca_UP s'.2.1 s'.1 q)) (ca_pb P s) (ca_pb P s + ca_ni P s + 1) (by omega) (f_usedRegisters, a_location, h, a_taken) ⟨hU, fun _ z => z, hh, fun _ _ _ _ => rfl, fun q h1 h2 => by omega⟩ ?_ ?_
  · rintro n ⟨us, lo, h, tk⟩ ⟨g1, g2, g3, g4, g5⟩
    exact br_t (nI_lt (by omega) (by omega)) (K us lo h tk (fun k hk => g5 _ (by omega) (by omega)) g1 g2 g4)
  · rintro n p ⟨us, lo, h, tk⟩ hp0 hp ⟨g1, g2, g3, g4, g5⟩ ih
    dsimp only at g1 g2 g3 g4 g5 ⊢
    have hpT : p < ca_T P := by omega
    refine br_f (nI_nlt (by omega) (by omega)) (xl_placePoint hW hV hI hpT (hM p hpT) hM6 g3 g1 (fun us' lo' tk' k1 k2 k3 k4 k5 => xl_hintsFromPoint hW (by omega) (ca_ROof k1) g3 (fun h' hh' => ca_in (ih (us', lo', h', tk') ⟨k3, fun i hi => k4 i (g2 i hi), hh', fun q v hv hq => ?_, fun q q1 q2 => ?_⟩))))
    · show lo' _ = _
      rw [k5 _ (by omega)]; exact g4 q v hv hq
    · show ca_LP P R M lo' q ∧ ca_UP lo' us' q
      by_cases z : q = p
      · subst z; exact ⟨k1, k2⟩
      · obtain ⟨m1, m2⟩ := g5 q q1 (by omega)
        have fr : ∀ v, v < 32 → lo' (q * 32 + v) = lo (q * 32 + v) := fun v hv => k5 _ (by omega)
        exact ⟨ca_LPc m1 hN fr, ca_UPc m2 k4 fr⟩
theorem xl_placeProgram {post : SX → Prop} {R M : Nat} (hW : ca_WF P) (hF : ca_IF P) (hT : ca_TE P) (hE : ca_AE P a_edgeFrom a_edgeTo a_edgeOrder) (hb : ca_AB P a_blockStart a_blockPhis a_blockItems) (hP : ca_AP P a_itemKind a_itemBlock a_itemA a_itemB) (hL : ca_AL P a_pointBase a_pointBlock a_pointItem a_pointUses) (hd : ca_Adp P a_depth) (hpr : ca_Apr P a_parent) (hV : ca_AV P a_live) (hI : ca_AR P R a_inRegisters) (hM : ∀ p, p < ca_T P → min (ca_lc P (ca_nm P p)) R ≤ M) (hM6 : M ≤ 6) (K : ∀ us pl lo h tk, (∀ p, p < ca_T P → ca_LP P R M lo p ∧ ca_UP lo us p) → ca_UM M us → post (f_phiKind, f_jumpKind, f_branchKind, f_retKind, f_far, f_registerEnd, f_firstSlot, f_cellEnd, f_edgeCode, f_blockLimit, f_itemLimit, f_outLimit, f_stage, f_open, (nI (ca_B P)), (nI (ca_N P)), (nI (ca_E P)), (nI (ca_T P)), f_greatestPressure, f_everLive, f_registers, us, pl, f_codeSize, f_current, f_returned, f_outSize, a_blockStart, a_blockPhis, a_blockItems, a_termKind, a_termValue, a_termFirst, a_termSecond, a_itemKind, a_itemA, a_itemB, a_itemBlock, a_edgeFrom, a_edgeTo, a_edgeOrder, a_edgeArgs, a_edgeSets, a_edgeBegin, a_edgeEnd, a_incoming, a_dominators, a_depth, a_parent, a_pointBase, a_pointBlock, a_pointItem, a_pointUses, a_live, a_distance, a_neighbours, a_colour, a_inRegisters, lo, h, tk, a_moveSource, a_moveReaders, a_codeTo, a_codeFrom, a_codeSwap, a_codeBegin, a_codeEnd, a_outLog, a_params, a_cells)) : wpX_placeProgram post (f_phiKind, f_jumpKind, f_branchKind, f_retKind, f_far, f_registerEnd, f_firstSlot, f_cellEnd, f_edgeCode, f_blockLimit, f_itemLimit, f_outLimit, f_stage, f_open, (nI (ca_B P)), (nI (ca_N P)), (nI (ca_E P)), (nI (ca_T P)), f_greatestPressure, f_everLive, f_registers, f_usedRegisters, f_placedBlocks, f_codeSize, f_current, f_returned, f_outSize, a_blockStart, a_blockPhis, a_blockItems, a_termKind, a_termValue, a_termFirst, a_termSecond, a_itemKind, a_itemA, a_itemB, a_itemBlock, a_edgeFrom, a_edgeTo, a_edgeOrder, a_edgeArgs, a_edgeSets, a_edgeBegin, a_edgeEnd, a_incoming, a_dominators, a_depth, a_parent, a_pointBase, a_pointBlock, a_pointItem, a_pointUses, a_live, a_distance, a_neighbours, a_colour, a_inRegisters, a_location, a_hint, a_taken, a_moveSource, a_moveReaders, a_codeTo, a_codeFrom, a_codeSwap, a_codeBegin, a_codeEnd, a_outLog, a_params, a_cells) := by
  have hB := ca_wB hW
  have hN := ca_wN hW
  refine ca_loop (σ := Int32 × Int32 × (Nat → Int32) × (Nat → Int32) × (Nat → Int32)) (fun n l s => wX_placeProgram_12 post n (nI l) f_phiKind f_jumpKind f_branchKind f_retKind f_far f_registerEnd f_firstSlot f_cellEnd f_edgeCode f_blockLimit f_itemLimit f_outLimit f_stage f_open (nI (ca_B P)) (nI (ca_N P)) (nI (ca_E P)) (nI (ca_T P)) f_greatestPressure f_everLive f_registers s.1 s.2.1 f_codeSize f_current f_returned f_outSize a_blockStart a_blockPhis a_blockItems a_termKind a_termValue a_termFirst a_termSecond a_itemKind a_itemA a_itemB a_itemBlock a_edgeFrom a_edgeTo a_edgeOrder a_edgeArgs a_edgeSets a_edgeBegin a_edgeEnd a_incoming a_dominators a_depth a_parent a_pointBase a_pointBlock a_pointItem a_pointUses a_live a_distance a_neighbours a_colour a_inRegisters s.2.2.1 s.2.2.2.1 s.2.2.2.2 a_moveSource a_moveReaders a_codeTo a_codeFrom a_codeSwap a_codeBegin a_codeEnd a_outLog a_params a_cells) (fun l s => ca_UM M s.1 ∧ ∀ t, t < ca_B P → (bt s.2.1 t = true ↔ ca_dp P t < l) ∧ (ca_dp P t < l → ∀ k, k ≤ ca_ni P t → ca_LP P R M s.2.2.1 (ca_pb P t + k) ∧ ca_UP s.2.2.1 s.1 (ca_pb P t + k))) 1 (ca_B P + 1) (by omega) (0, 0, a_location, a_hint, a_taken) ⟨fun c hc => absurd ((ca_b0i c).mp hc) id, fun t ht => ?_⟩ ?_ ?_
  · have := ca_dp1 (P := P) ht
    refine ⟨?_, fun z => by omega⟩
    show bt 0 t = true ↔ _
    rw [ca_b0i]
    exact ⟨fun z => z.elim, fun z => by omega⟩
  · rintro n ⟨us, pl, lo, h, tk⟩ ⟨g1, g2⟩
    dsimp only at g1 g2 ⊢
    refine pk_lt (ca_B P) (ca_B P + 1) (fun _ => K us pl lo h tk (fun p hp => ?_) g1) (fun z => by omega)
    obtain ⟨s, k, hs, hk, rfl⟩ := ca_ptex hp
    have := ca_dpB (P := P) s
    exact (g2 s hs).2 (by omega) k hk
  · rintro n l ⟨us, pl, lo, h, tk⟩ hl1 hl ⟨g1, g2⟩ ih
    dsimp only at g1 g2 ⊢
    refine pk_lt (ca_B P) l (fun z => by omega) (fun _ => ?_)
    refine ca_loop (σ := Int32 × Int32 × (Nat → Int32) × (Nat → Int32) × (Nat → Int32)) (fun k i s => wX_placeProgram_22 post (wX_placeProgram_12 post n) (nI l) k (nI i) f_phiKind f_jumpKind f_branchKind f_retKind f_far f_registerEnd f_firstSlot f_cellEnd f_edgeCode f_blockLimit f_itemLimit f_outLimit f_stage f_open (nI (ca_B P)) (nI (ca_N P)) (nI (ca_E P)) (nI (ca_T P)) f_greatestPressure f_everLive f_registers s.1 s.2.1 f_codeSize f_current f_returned f_outSize a_blockStart a_blockPhis a_blockItems a_termKind a_termValue a_termFirst a_termSecond a_itemKind a_itemA a_itemB a_itemBlock a_edgeFrom a_edgeTo a_edgeOrder a_edgeArgs a_edgeSets a_edgeBegin a_edgeEnd a_incoming a_dominators a_depth a_parent a_pointBase a_pointBlock a_pointItem a_pointUses a_live a_distance a_neighbours a_colour a_inRegisters s.2.2.1 s.2.2.2.1 s.2.2.2.2 a_moveSource a_moveReaders a_codeTo a_codeFrom a_codeSwap a_codeBegin a_codeEnd a_outLog a_params a_cells) (fun i s => ca_UM M s.1 ∧ ∀ t, t < ca_B P → (bt s.2.1 t = true ↔ (ca_dp P t < l ∨ (ca_dp P t = l ∧ t < i))) ∧ ((ca_dp P t < l ∨ (ca_dp P t = l ∧ t < i)) → ∀ k, k ≤ ca_ni P t → ca_LP P R M s.2.2.1 (ca_pb P t + k) ∧ ca_UP s.2.2.1 s.1 (ca_pb P t + k))) 0 (ca_B P) (by omega) (us, pl, lo, h, tk) ⟨g1, fun t ht => ?_⟩ ?_ ?_
    · obtain ⟨q1, q2⟩ := g2 t ht
      refine ⟨?_, fun z => q2 (by omega)⟩
      show bt pl t = true ↔ _
      rw [q1]
      constructor <;> intro z <;> omega
    · rintro k ⟨us, pl, lo, h, tk⟩ ⟨k1, k2⟩
      dsimp only at k1 k2 ⊢
      refine br_t (nI_le (Nat.le_refl _) (by omega)) (ca_in (ih (us, pl, lo, h, tk) ⟨k1, fun t ht => ?_⟩))
      obtain ⟨q1, q2⟩ := k2 t ht
      refine ⟨?_, fun z => q2 (by omega)⟩
      show bt pl t = true ↔ _
      rw [q1]
      constructor <;> intro z <;> omega
    · rintro k i ⟨us, pl, lo, h, tk⟩ _ hi ⟨k1, k2⟩ ih2
      dsimp only at k1 k2 ⊢
      have hdi := ca_dpB (P := P) i
      refine br_f (nI_ge hi (by omega)) (ca_vi (pk_eq (ca_dp P i) l (fun z => ?_) (fun z => ?_) (ca_r (hd i hi))))
      · refine xl_placeBlock hW hF hT hE hb hP hL hV hI hM hM6 hi (fun h0 => ?_) (fun t ht hbt => ?_) k1 (fun us' lo' h' tk' m1 m2 m3 m4 => nm_e (ca_in (ih2 (us', _, lo', h', tk') ⟨m2, fun t ht => ⟨?_, fun y j hj => ?_⟩⟩)))
        · obtain ⟨q, q1, q2, q3⟩ := hpr i (by omega) hi
          exact ⟨q, q1, q2, ca_ROof ((k2 q q1).2 (Or.inl (by omega)) _ (Nat.le_refl _)).1⟩
        · exact ca_ROof ((k2 t ht).2 ((k2 t ht).1.mp hbt) _ (Nat.le_refl _)).1
        · show bt (pl ||| _) t = true ↔ _
          rw [ca_bset (by omega), (k2 t ht).1]
          constructor
          · rintro (y | y)
            · omega
            · subst y; exact Or.inr ⟨z, by omega⟩
          · rintro (y | y)
            · exact Or.inl (Or.inl y)
            · by_cases e : t = i
              · exact Or.inr e
              · exact Or.inl (Or.inr ⟨y.1, by omega⟩)
        · show ca_LP P R M lo' _ ∧ ca_UP lo' us' _
          by_cases e : t = i
          · subst e; exact m1 j hj
          · obtain ⟨n1, n2⟩ := (k2 t ht).2 (by omega) j hj
            have hne : ca_pb P t + j < ca_pb P i ∨ ca_pb P i + ca_ni P i < ca_pb P t + j := by
              rcases Nat.lt_or_ge t i with w | w
              · have := ca_pbm (P := P) w; omega
              · have := ca_pbm (P := P) (show i < t by omega); omega
            have fr : ∀ v, v < 32 → lo' ((ca_pb P t + j) * 32 + v) = lo ((ca_pb P t + j) * 32 + v) := fun v hv => m4 _ v hv hne
            exact ⟨ca_LPc n1 hN fr, ca_UPc n2 m3 fr⟩
      · refine ca_in (ih2 (us, pl, lo, h, tk) ⟨k1, fun t ht => ?_⟩)
        obtain ⟨q1, q2⟩ := k2 t ht
        have he : (ca_dp P t < l ∨ (ca_dp P t = l ∧ t < i + 1)) ↔ (ca_dp P t < l ∨ (ca_dp P t = l ∧ t < i)) := by
          constructor
          · rintro (y | y)
            · exact Or.inl y
            · by_cases e : t = i
              · subst e; exact absurd y.1 z
              · exact Or.inr ⟨y.1, by omega⟩
          · rintro (y | y)
            · exact Or.inl y
            · exact Or.inr ⟨y.1, by omega⟩
        rw [he]
        exact ⟨q1, q2⟩
end
end
section
/-! X: putting moves in sequence -/
def ca_WI (el : Nat → Prop) (t f : Nat → Nat) (v : Nat) (S Rd : Nat → Int32) : Prop := ca_SV S ∧ (∀ g, g < 40 → Rd g = nI (ca_nr S g)) ∧ ca_np S ≤ v ∧ (∀ w, w < v → el w → S (t w) = if t w = f w then -1 else nI (f w)) ∧ (∀ c, c < 40 → S c ≠ -1 → ∃ w, w < v ∧ el w ∧ t w = c)
def ca_CV (ct cf : Nat → Int32) (n : Nat) : Prop := ∀ j, j < n → ∃ t f, t < 40 ∧ f < 40 ∧ ct j = nI t ∧ cf j = nI f
section
variable {el : Nat → Prop} {t f : Nat → Nat} {v : Nat} {S Rd : Nat → Int32}
theorem ca_WI0 (h1 : ∀ c, c < 40 → S c = -1) (h2 : ∀ c, c < 40 → Rd c = 0) : ca_WI el t f 0 S Rd := by
  refine ⟨fun c hc => Or.inl (h1 c hc), fun g hg => ?_, ?_, fun w hw => by omega, fun c hc z => absurd (h1 c hc) z⟩
  · have : ca_nr S g = 0 := ca_cn_no fun k hk z => by
      rw [h1 k hk] at z; exact ca_nm1 (by omega) z.symm
    rw [h2 g hg, this]; rfl
  · have : ca_np S = 0 := ca_cn_no fun k hk z => z (h1 k hk)
    omega
theorem ca_WIskip (h : ca_WI el t f v S Rd) (hn : ¬ el v) : ca_WI el t f (v + 1) S Rd := by
  obtain ⟨h1, h2, h3, h4, h5⟩ := h
  refine ⟨h1, h2, by omega, fun w hw he => ?_, fun c hc z => ?_⟩
  · by_cases e : w = v
    · subst e; exact absurd he hn
    · exact h4 w (by omega) he
  · obtain ⟨w, w1, w2⟩ := h5 c hc z
    exact ⟨w, by omega, w2⟩
theorem ca_WIfree (h : ca_WI el t f v S Rd) (hi : ∀ a b, el a → el b → t a = t b → a = b) (he : el v) (ht : t v < 40) : S (t v) = -1 := by
  obtain ⟨h1, h2, h3, h4, h5⟩ := h
  apply Classical.byContradiction
  intro z
  obtain ⟨w, w1, w2, w3⟩ := h5 _ ht z
  have := hi w v w2 he w3
  omega
theorem ca_WIeq (h : ca_WI el t f v S Rd) (hi : ∀ a b, el a → el b → t a = t b → a = b) (he : el v) (ht : t v < 40) (e : t v = f v) : ca_WI el t f (v + 1) S Rd := by
  have hf := ca_WIfree h hi he ht
  obtain ⟨h1, h2, h3, h4, h5⟩ := h
  refine ⟨h1, h2, by omega, fun w hw hw2 => ?_, fun c hc z => ?_⟩
  · by_cases q : w = v
    · subst q; rw [if_pos e]; exact hf
    · exact h4 w (by omega) hw2
  · obtain ⟨w, w1, w2⟩ := h5 c hc z
    exact ⟨w, by omega, w2⟩
theorem ca_WIne (h : ca_WI el t f v S Rd) (hi : ∀ a b, el a → el b → t a = t b → a = b) (he : el v) (ht : t v < 40) (hf : f v < 40) (e : t v ≠ f v) : ca_WI el t f (v + 1) (upd S (t v) (nI (f v))) (upd Rd (f v) (Rd (f v) + 1)) := by
  have h0 := ca_WIfree h hi he ht
  obtain ⟨h1, h2, h3, h4, h5⟩ := h
  refine ⟨fun c hc => ?_, fun g hg => ?_, ?_, fun w hw hw2 => ?_, fun c hc z => ?_⟩
  · by_cases q : c = t v
    · subst q; exact Or.inr ⟨f v, hf, Ne.symm e, pk_us⟩
    · rw [pk_un q]; exact h1 c hc
  · have hadd : ca_nr (upd S (t v) (nI (f v))) (f v) = ca_nr S (f v) + 1 := by
      unfold ca_nr
      rw [← ca_cn_add (P := fun c => S c = nI (f v)) (a := t v) (fun z => by rw [h0] at z; exact ca_nm1 (by omega) z.symm) ht]
      refine ca_cn_eq fun c _ => ?_
      by_cases q : c = t v
      · subst q; exact ⟨fun _ => Or.inr rfl, fun _ => pk_us⟩
      · show upd S (t v) (nI (f v)) c = nI (f v) ↔ S c = nI (f v) ∨ c = t v
        rw [pk_un q]
        exact ⟨Or.inl, fun z => z.elim id (fun y => absurd y q)⟩
    by_cases q : g = f v
    · subst q
      rw [pk_us, h2 _ hf, nI_1, hadd]
    · rw [pk_un q, h2 g hg]
      congr 1
      refine ca_cn_eq fun c _ => ?_
      by_cases y : c = t v
      · subst y
        rw [pk_us, h0]
        exact ⟨fun z => absurd z.symm (ca_nm1 (by omega)), fun z => absurd (ca_ninj z (by omega) (by omega)).symm q⟩
      · rw [pk_un y]
  · have : ca_np (upd S (t v) (nI (f v))) = ca_np S + 1 := by
      unfold ca_np
      rw [← ca_cn_add (P := fun c => S c ≠ -1) (a := t v) (fun z => z h0) ht]
      refine ca_cn_eq fun c _ => ?_
      by_cases q : c = t v
      · subst q
        refine ⟨fun _ => Or.inr rfl, fun _ => ?_⟩
        show upd S (t v) _ (t v) ≠ -1
        rw [pk_us]; exact ca_nm1 (by omega)
      · show upd S (t v) (nI (f v)) c ≠ -1 ↔ S c ≠ -1 ∨ c = t v
        rw [pk_un q]
        exact ⟨Or.inl, fun z => z.elim id (fun y => absurd y q)⟩
    omega
  · by_cases q : w = v
    · subst q; rw [pk_us, if_neg e]
    · have : t w ≠ t v := fun y => q (hi w v hw2 he y)
      rw [pk_un this]; exact h4 w (by omega) hw2
  · by_cases q : c = t v
    · exact ⟨v, by omega, he, q.symm⟩
    · rw [pk_un q] at z
      obtain ⟨w, w1, w2⟩ := h5 c hc z
      exact ⟨w, by omega, w2⟩
theorem ca_WIwt (h : ca_WI el t f v S Rd) {w : Nat} (hw : w < v) (he : el w) (hf : f w < 40) (x : Nat → Int32) : ca_wt S x (t w) = x (f w) := by
  have h4 := h.2.2.2.1 w hw he
  unfold ca_wt
  by_cases e : t w = f w
  · rw [if_pos e] at h4
    rw [if_pos h4, e]
  · rw [if_neg e] at h4
    rw [if_neg (by rw [h4]; exact ca_nm1 (by omega)), h4, nI_clamp (by omega)]
end
section
variable {P : ca_PG}
variable {f_phiKind f_jumpKind f_branchKind f_retKind f_far f_registerEnd f_firstSlot f_cellEnd f_edgeCode f_blockLimit f_itemLimit f_outLimit f_stage f_open f_blocks f_items f_edges f_points f_greatestPressure f_everLive f_registers f_usedRegisters f_placedBlocks f_codeSize f_current f_returned f_outSize : Int32} {a_blockStart a_blockPhis a_blockItems a_termKind a_termValue a_termFirst a_termSecond a_itemKind a_itemA a_itemB a_itemBlock a_edgeFrom a_edgeTo a_edgeOrder a_edgeArgs a_edgeSets a_edgeBegin a_edgeEnd a_incoming a_dominators a_depth a_parent a_pointBase a_pointBlock a_pointItem a_pointUses a_live a_distance a_neighbours a_colour a_inRegisters a_location a_hint a_taken a_moveSource a_moveReaders a_codeTo a_codeFrom a_codeSwap a_codeBegin a_codeEnd a_outLog a_params a_cells : Nat → Int32}
theorem xl_clearMoves {post : SX → Prop} (K : ∀ S Rd, (∀ c, c < 40 → S c = -1) → (∀ c, c < 40 → Rd c = 0) → post (f_phiKind, f_jumpKind, f_branchKind, f_retKind, f_far, f_registerEnd, f_firstSlot, f_cellEnd, f_edgeCode, f_blockLimit, f_itemLimit, f_outLimit, f_stage, f_open, (nI (ca_B P)), (nI (ca_N P)), (nI (ca_E P)), (nI (ca_T P)), f_greatestPressure, f_everLive, f_registers, f_usedRegisters, f_placedBlocks, f_codeSize, f_current, f_returned, f_outSize, a_blockStart, a_blockPhis, a_blockItems, a_termKind, a_termValue, a_termFirst, a_termSecond, a_itemKind, a_itemA, a_itemB, a_itemBlock, a_edgeFrom, a_edgeTo, a_edgeOrder, a_edgeArgs, a_edgeSets, a_edgeBegin, a_edgeEnd, a_incoming, a_dominators, a_depth, a_parent, a_pointBase, a_pointBlock, a_pointItem, a_pointUses, a_live, a_distance, a_neighbours, a_colour, a_inRegisters, a_location, a_hint, a_taken, S, Rd, a_codeTo, a_codeFrom, a_codeSwap, a_codeBegin, a_codeEnd, a_outLog, a_params, a_cells)) : wpX_clearMoves post (f_phiKind, f_jumpKind, f_branchKind, f_retKind, f_far, f_registerEnd, f_firstSlot, f_cellEnd, f_edgeCode, f_blockLimit, f_itemLimit, f_outLimit, f_stage, f_open, (nI (ca_B P)), (nI (ca_N P)), (nI (ca_E P)), (nI (ca_T P)), f_greatestPressure, f_everLive, f_registers, f_usedRegisters, f_placedBlocks, f_codeSize, f_current, f_returned, f_outSize, a_blockStart, a_blockPhis, a_blockItems, a_termKind, a_termValue, a_termFirst, a_termSecond, a_itemKind, a_itemA, a_itemB, a_itemBlock, a_edgeFrom, a_edgeTo, a_edgeOrder, a_edgeArgs, a_edgeSets, a_edgeBegin, a_edgeEnd, a_incoming, a_dominators, a_depth, a_parent, a_pointBase, a_pointBlock, a_pointItem, a_pointUses, a_live, a_distance, a_neighbours, a_colour, a_inRegisters, a_location, a_hint, a_taken, a_moveSource, a_moveReaders, a_codeTo, a_codeFrom, a_codeSwap, a_codeBegin, a_codeEnd, a_outLog, a_params, a_cells) := by
  refine ca_loop (σ := (Nat → Int32) × (Nat → Int32)) (fun n i s => wX_clearMoves_2 post f_phiKind f_jumpKind f_branchKind f_retKind f_far f_registerEnd f_firstSlot f_cellEnd f_edgeCode f_blockLimit f_itemLimit f_outLimit f_stage f_open (nI (ca_B P)) (nI (ca_N P)) (nI (ca_E P)) (nI (ca_T P)) f_greatestPressure f_everLive f_registers f_usedRegisters f_placedBlocks f_codeSize f_current f_returned f_outSize n (nI i) a_blockStart a_blockPhis a_blockItems a_termKind a_termValue a_termFirst a_termSecond a_itemKind a_itemA a_itemB a_itemBlock a_edgeFrom a_edgeTo a_edgeOrder a_edgeArgs a_edgeSets a_edgeBegin a_edgeEnd a_incoming a_dominators a_depth a_parent a_pointBase a_pointBlock a_pointItem a_pointUses a_live a_distance a_neighbours a_colour a_inRegisters a_location a_hint a_taken s.1 s.2 a_codeTo a_codeFrom a_codeSwap a_codeBegin a_codeEnd a_outLog a_params a_cells) (fun i s => ∀ c, c < i → s.1 c = -1 ∧ s.2 c = 0) 0 40 (by omega) (a_moveSource, a_moveReaders) (fun c hc => by omega) ?_ ?_
  · rintro n ⟨S, Rd⟩ h
    exact br_t (nI_le (a := 40) (b := 40) (Nat.le_refl _) (by decide)) (K S Rd (fun c hc => (h c hc).1) (fun c hc => (h c hc).2))
  · rintro n i ⟨S, Rd⟩ _ hi h ih
    dsimp only at h ⊢
    refine br_f (nI_ge (b := 40) hi (by decide)) (ca_vi (ca_wr (ca_vi (ca_wr (ca_in (ih (upd S i (-1), upd Rd i 0) fun c hc => ?_))))))
    show upd S i (-1) c = -1 ∧ upd Rd i 0 c = 0
    by_cases z : c = i
    · subst z; exact ⟨pk_us, pk_us⟩
    · rw [pk_un z, pk_un z]; exact h c (by omega)
theorem xl_wantMove {post : SX → Prop} {t f : Nat} {p0 p1 : Int32} (e0 : p0 = nI t) (e1 : p1 = nI f) (ht : t < 40) (hf : f < 40) (K1 : t = f → post (f_phiKind, f_jumpKind, f_branchKind, f_retKind, f_far, f_registerEnd, f_firstSlot, f_cellEnd, f_edgeCode, f_blockLimit, f_itemLimit, f_outLimit, f_stage, f_open, (nI (ca_B P)), (nI (ca_N P)), (nI (ca_E P)), (nI (ca_T P)), f_greatestPressure, f_everLive, f_registers, f_usedRegisters, f_placedBlocks, f_codeSize, f_current, f_returned, f_outSize, a_blockStart, a_blockPhis, a_blockItems, a_termKind, a_termValue, a_termFirst, a_termSecond, a_itemKind, a_itemA, a_itemB, a_itemBlock, a_edgeFrom, a_edgeTo, a_edgeOrder, a_edgeArgs, a_edgeSets, a_edgeBegin, a_edgeEnd, a_incoming, a_dominators, a_depth, a_parent, a_pointBase, a_pointBlock, a_pointItem, a_pointUses, a_live, a_distance, a_neighbours, a_colour, a_inRegisters, a_location, a_hint, a_taken, a_moveSource, a_moveReaders, a_codeTo, a_codeFrom, a_codeSwap, a_codeBegin, a_codeEnd, a_outLog, a_params, a_cells)) (K2 : t ≠ f → post (f_phiKind, f_jumpKind, f_branchKind, f_retKind, f_far, f_registerEnd, f_firstSlot, f_cellEnd, f_edgeCode, f_blockLimit, f_itemLimit, f_outLimit, f_stage, f_open, (nI (ca_B P)), (nI (ca_N P)), (nI (ca_E P)), (nI (ca_T P)), f_greatestPressure, f_everLive, f_registers, f_usedRegisters, f_placedBlocks, f_codeSize, f_current, f_returned, f_outSize, a_blockStart, a_blockPhis, a_blockItems, a_termKind, a_termValue, a_termFirst, a_termSecond, a_itemKind, a_itemA, a_itemB, a_itemBlock, a_edgeFrom, a_edgeTo, a_edgeOrder, a_edgeArgs, a_edgeSets, a_edgeBegin, a_edgeEnd, a_incoming, a_dominators, a_depth, a_parent, a_pointBase, a_pointBlock, a_pointItem, a_pointUses, a_live, a_distance, a_neighbours, a_colour, a_inRegisters, a_location, a_hint, a_taken, (upd a_moveSource t (nI f)), (upd a_moveReaders f (a_moveReaders f + 1)), a_codeTo, a_codeFrom, a_codeSwap, a_codeBegin, a_codeEnd, a_outLog, a_params, a_cells)) : wpX_wantMove post (f_phiKind, f_jumpKind, f_branchKind, f_retKind, f_far, f_registerEnd, f_firstSlot, f_cellEnd, f_edgeCode, f_blockLimit, f_itemLimit, f_outLimit, f_stage, f_open, (nI (ca_B P)), (nI (ca_N P)), (nI (ca_E P)), (nI (ca_T P)), f_greatestPressure, f_everLive, f_registers, f_usedRegisters, f_placedBlocks, f_codeSize, f_current, f_returned, f_outSize, a_blockStart, a_blockPhis, a_blockItems, a_termKind, a_termValue, a_termFirst, a_termSecond, a_itemKind, a_itemA, a_itemB, a_itemBlock, a_edgeFrom, a_edgeTo, a_edgeOrder, a_edgeArgs, a_edgeSets, a_edgeBegin, a_edgeEnd, a_incoming, a_dominators, a_depth, a_parent, a_pointBase, a_pointBlock, a_pointItem, a_pointUses, a_live, a_distance, a_neighbours, a_colour, a_inRegisters, a_location, a_hint, a_taken, a_moveSource, a_moveReaders, a_codeTo, a_codeFrom, a_codeSwap, a_codeBegin, a_codeEnd, a_outLog, a_params, a_cells) p0 p1 := by
  subst e0 e1
  exact ca_lt0 (ca_lt0 (pk_eq t f K1 (fun z => ca_vi (ca_wr (ca_vi (ca_vi (ca_wx f rfl (congrArg (· + 1) (ca_r rfl)) (K2 z))))))))
theorem xl_pendingMove {post : Int32 → Prop} {u : Int32} (hV : ca_SV a_moveSource) (K1 : ∀ c, c < 40 → a_moveSource c ≠ -1 → (u ≠ 0 → a_moveReaders c = 0) → post (nI c)) (K0 : (∀ c, c < 40 → a_moveSource c ≠ -1 → u ≠ 0 ∧ a_moveReaders c ≠ 0) → post (-1)) : wpX_pendingMove post (f_phiKind, f_jumpKind, f_branchKind, f_retKind, f_far, f_registerEnd, f_firstSlot, f_cellEnd, f_edgeCode, f_blockLimit, f_itemLimit, f_outLimit, f_stage, f_open, (nI (ca_B P)), (nI (ca_N P)), (nI (ca_E P)), (nI (ca_T P)), f_greatestPressure, f_everLive, f_registers, f_usedRegisters, f_placedBlocks, f_codeSize, f_current, f_returned, f_outSize, a_blockStart, a_blockPhis, a_blockItems, a_termKind, a_termValue, a_termFirst, a_termSecond, a_itemKind, a_itemA, a_itemB, a_itemBlock, a_edgeFrom, a_edgeTo, a_edgeOrder, a_edgeArgs, a_edgeSets, a_edgeBegin, a_edgeEnd, a_incoming, a_dominators, a_depth, a_parent, a_pointBase, a_pointBlock, a_pointItem, a_pointUses, a_live, a_distance, a_neighbours, a_colour, a_inRegisters, a_location, a_hint, a_taken, a_moveSource, a_moveReaders, a_codeTo, a_codeFrom, a_codeSwap, a_codeBegin, a_codeEnd, a_outLog, a_params, a_cells) u := by
  refine ca_loop (σ := Unit) (fun n i _ => wX_pendingMove_2 post u f_phiKind f_jumpKind f_branchKind f_retKind f_far f_registerEnd f_firstSlot f_cellEnd f_edgeCode f_blockLimit f_itemLimit f_outLimit f_stage f_open (nI (ca_B P)) (nI (ca_N P)) (nI (ca_E P)) (nI (ca_T P)) f_greatestPressure f_everLive f_registers f_usedRegisters f_placedBlocks f_codeSize f_current f_returned f_outSize a_blockStart a_blockPhis a_blockItems a_termKind a_termValue a_termFirst a_termSecond a_itemKind a_itemA a_itemB a_itemBlock a_edgeFrom a_edgeTo a_edgeOrder a_edgeArgs a_edgeSets a_edgeBegin a_edgeEnd a_incoming a_dominators a_depth a_parent a_pointBase a_pointBlock a_pointItem a_pointUses a_live a_distance a_neighbours a_colour a_inRegisters a_location a_hint a_taken a_moveSource a_moveReaders a_codeTo a_codeFrom a_codeSwap a_codeBegin a_codeEnd a_outLog a_params a_cells n (nI i)) (fun i _ => ∀ c, c < i → a_moveSource c ≠ -1 → u ≠ 0 ∧ a_moveReaders c ≠ 0) 0 40 (by omega) () (fun c hc => by omega) ?_ ?_
  · intro n _ h
    exact br_t (nI_le (a := 40) (b := 40) (Nat.le_refl _) (by decide)) (K0 h)
  · intro n i _ _ hi h ih
    have nxt : (a_moveSource i ≠ -1 → u ≠ 0 ∧ a_moveReaders i ≠ 0) → wX_pendingMove_2 post u f_phiKind f_jumpKind f_branchKind f_retKind f_far f_registerEnd f_firstSlot f_cellEnd f_edgeCode f_blockLimit f_itemLimit f_outLimit f_stage f_open (nI (ca_B P)) (nI (ca_N P)) (nI (ca_E P)) (nI (ca_T P)) f_greatestPressure f_everLive f_registers f_usedRegisters f_placedBlocks f_codeSize f_current f_returned f_outSize a_blockStart a_blockPhis a_blockItems a_termKind a_termValue a_termFirst a_termSecond a_itemKind a_itemA a_itemB a_itemBlock a_edgeFrom a_edgeTo a_edgeOrder a_edgeArgs a_edgeSets a_edgeBegin a_edgeEnd a_incoming a_dominators a_depth a_parent a_pointBase a_pointBlock a_pointItem a_pointUses a_live a_distance a_neighbours a_colour a_inRegisters a_location a_hint a_taken a_moveSource a_moveReaders a_codeTo a_codeFrom a_codeSwap a_codeBegin a_codeEnd a_outLog a_params a_cells n (nI (i + 1)) := by
      intro z
      refine ih () fun c hc y => ?_
      by_cases e : c = i
      · subst e; exact z y
      · exact h c (by omega) y
    refine br_f (nI_ge (b := 40) hi (by decide)) (ca_vi ?_)
    rw [nI_clamp (n := i) (by omega)]
    rcases hV i hi with z | ⟨f, f1, f2, f3⟩
    · exact br_t (by rw [z]; decide) (ca_in (nxt fun y => absurd z y))
    · have hne : a_moveSource i ≠ -1 := by rw [f3]; exact ca_nm1 (by omega)
      refine br_f (by rw [f3]; exact nI_pos (by omega)) (br_c (fun u0 => K1 i hi hne (fun y => absurd u0 y)) (fun u0 => ca_vi (br_c (fun r0 => K1 i hi hne (fun _ => r0)) (fun r0 => ca_in (nxt fun _ => ⟨u0, r0⟩)))))
theorem xl_emit {post : SX → Prop} {n : Nat} {p0 p1 p2 q : Int32} (hn : n < 1792) (eq : vp_nar .boolean p2 = q) (K : post (f_phiKind, f_jumpKind, f_branchKind, f_retKind, f_far, f_registerEnd, f_firstSlot, f_cellEnd, f_edgeCode, f_blockLimit, f_itemLimit, f_outLimit, f_stage, f_open, (nI (ca_B P)), (nI (ca_N P)), (nI (ca_E P)), (nI (ca_T P)), f_greatestPressure, f_everLive, f_registers, f_usedRegisters, f_placedBlocks, (nI (n + 1)), f_current, f_returned, f_outSize, a_blockStart, a_blockPhis, a_blockItems, a_termKind, a_termValue, a_termFirst, a_termSecond, a_itemKind, a_itemA, a_itemB, a_itemBlock, a_edgeFrom, a_edgeTo, a_edgeOrder, a_edgeArgs, a_edgeSets, a_edgeBegin, a_edgeEnd, a_incoming, a_dominators, a_depth, a_parent, a_pointBase, a_pointBlock, a_pointItem, a_pointUses, a_live, a_distance, a_neighbours, a_colour, a_inRegisters, a_location, a_hint, a_taken, a_moveSource, a_moveReaders, (upd a_codeTo n p0), (upd a_codeFrom n p1), (upd a_codeSwap n q), a_codeBegin, a_codeEnd, a_outLog, a_params, a_cells)) : wpX_emit post (f_phiKind, f_jumpKind, f_branchKind, f_retKind, f_far, f_registerEnd, f_firstSlot, f_cellEnd, f_edgeCode, f_blockLimit, f_itemLimit, f_outLimit, f_stage, f_open, (nI (ca_B P)), (nI (ca_N P)), (nI (ca_E P)), (nI (ca_T P)), f_greatestPressure, f_everLive, f_registers, f_usedRegisters, f_placedBlocks, (nI n), f_current, f_returned, f_outSize, a_blockStart, a_blockPhis, a_blockItems, a_termKind, a_termValue, a_termFirst, a_termSecond, a_itemKind, a_itemA, a_itemB, a_itemBlock, a_edgeFrom, a_edgeTo, a_edgeOrder, a_edgeArgs, a_edgeSets, a_edgeBegin, a_edgeEnd, a_incoming, a_dominators, a_depth, a_parent, a_pointBase, a_pointBlock, a_pointItem, a_pointUses, a_live, a_distance, a_neighbours, a_colour, a_inRegisters, a_location, a_hint, a_taken, a_moveSource, a_moveReaders, a_codeTo, a_codeFrom, a_codeSwap, a_codeBegin, a_codeEnd, a_outLog, a_params, a_cells) p0 p1 p2 := by
  subst eq
  exact br_f (nI_ge (b := 1792) hn (by decide)) (ca_vi (ca_wr (ca_vi (ca_wr (ca_vi (ca_wr (ca_in K)))))))
theorem xl_shortenCycle {post : SX → Prop} {t f n : Nat} (ht : t < 40) (hf : f < 40) (hft : f ≠ t) (hn : n < 1792) (hS : a_moveSource t = nI f) (K : ∀ S Rd, (∀ c, c < 40 → S c = ca_sw a_moveSource t f c) → Rd t = 0 → Rd f = nI (ca_cn (fun c => c ≠ f ∧ c ≠ t ∧ a_moveSource c = nI t) 40) → (∀ g, g ≠ t → g ≠ f → Rd g = a_moveReaders g) → post (f_phiKind, f_jumpKind, f_branchKind, f_retKind, f_far, f_registerEnd, f_firstSlot, f_cellEnd, f_edgeCode, f_blockLimit, f_itemLimit, f_outLimit, f_stage, f_open, (nI (ca_B P)), (nI (ca_N P)), (nI (ca_E P)), (nI (ca_T P)), f_greatestPressure, f_everLive, f_registers, f_usedRegisters, f_placedBlocks, (nI (n + 1)), f_current, f_returned, f_outSize, a_blockStart, a_blockPhis, a_blockItems, a_termKind, a_termValue, a_termFirst, a_termSecond, a_itemKind, a_itemA, a_itemB, a_itemBlock, a_edgeFrom, a_edgeTo, a_edgeOrder, a_edgeArgs, a_edgeSets, a_edgeBegin, a_edgeEnd, a_incoming, a_dominators, a_depth, a_parent, a_pointBase, a_pointBlock, a_pointItem, a_pointUses, a_live, a_distance, a_neighbours, a_colour, a_inRegisters, a_location, a_hint, a_taken, S, Rd, (upd a_codeTo n (nI t)), (upd a_codeFrom n (nI f)), (upd a_codeSwap n 1), a_codeBegin, a_codeEnd, a_outLog, a_params, a_cells)) : wpX_shortenCycle post (f_phiKind, f_jumpKind, f_branchKind, f_retKind, f_far, f_registerEnd, f_firstSlot, f_cellEnd, f_edgeCode, f_blockLimit, f_itemLimit, f_outLimit, f_stage, f_open, (nI (ca_B P)), (nI (ca_N P)), (nI (ca_E P)), (nI (ca_T P)), f_greatestPressure, f_everLive, f_registers, f_usedRegisters, f_placedBlocks, (nI n), f_current, f_returned, f_outSize, a_blockStart, a_blockPhis, a_blockItems, a_termKind, a_termValue, a_termFirst, a_termSecond, a_itemKind, a_itemA, a_itemB, a_itemBlock, a_edgeFrom, a_edgeTo, a_edgeOrder, a_edgeArgs, a_edgeSets, a_edgeBegin, a_edgeEnd, a_incoming, a_dominators, a_depth, a_parent, a_pointBase, a_pointBlock, a_pointItem, a_pointUses, a_live, a_distance, a_neighbours, a_colour, a_inRegisters, a_location, a_hint, a_taken, a_moveSource, a_moveReaders, a_codeTo, a_codeFrom, a_codeSwap, a_codeBegin, a_codeEnd, a_outLog, a_params, a_cells) (nI t) := by
  refine ca_vi (ca_rd hS (xl_emit hn ca_vb1 (ca_vi (ca_wr (ca_vi (ca_wr (ca_vi (ca_wr ?_))))))))
  refine ca_loop (σ := (Nat → Int32) × (Nat → Int32)) (fun k i s => wX_shortenCycle_37 post (nI t) (nI f) f_phiKind f_jumpKind f_branchKind f_retKind f_far f_registerEnd f_firstSlot f_cellEnd f_edgeCode f_blockLimit f_itemLimit f_outLimit f_stage f_open (nI (ca_B P)) (nI (ca_N P)) (nI (ca_E P)) (nI (ca_T P)) f_greatestPressure f_everLive f_registers f_usedRegisters f_placedBlocks (nI (n + 1)) f_current f_returned f_outSize k (nI i) a_blockStart a_blockPhis a_blockItems a_termKind a_termValue a_termFirst a_termSecond a_itemKind a_itemA a_itemB a_itemBlock a_edgeFrom a_edgeTo a_edgeOrder a_edgeArgs a_edgeSets a_edgeBegin a_edgeEnd a_incoming a_dominators a_depth a_parent a_pointBase a_pointBlock a_pointItem a_pointUses a_live a_distance a_neighbours a_colour a_inRegisters a_location a_hint a_taken s.1 s.2 (upd a_codeTo n (nI t)) (upd a_codeFrom n (nI f)) (upd a_codeSwap n 1) a_codeBegin a_codeEnd a_outLog a_params a_cells) (fun i s => (∀ c, c < 40 → (c < i → s.1 c = ca_sw a_moveSource t f c) ∧ (i ≤ c → s.1 c = upd a_moveSource t (-1) c)) ∧ s.2 t = 0 ∧ s.2 f = nI (ca_cn (fun c => c ≠ f ∧ c ≠ t ∧ a_moveSource c = nI t) i) ∧ (∀ g, g ≠ t → g ≠ f → s.2 g = a_moveReaders g)) 0 40 (by omega) (upd a_moveSource t (-1), upd (upd a_moveReaders t 0) f 0) ⟨fun c hc => ⟨fun z => by omega, fun _ => rfl⟩, ?_, ?_, fun g h1 h2 => ?_⟩ ?_ ?_
  · show upd _ _ _ _ = _
    rw [pk_un (Ne.symm hft), pk_us]
  · exact pk_us
  · show upd _ _ _ _ = _
    rw [pk_un h2, pk_un h1]
  · rintro k ⟨S, Rd⟩ ⟨g1, g2, g3, g4⟩
    exact br_t (nI_le (a := 40) (b := 40) (Nat.le_refl _) (by decide)) (K S Rd (fun c hc => (g1 c hc).1 hc) g2 g3 g4)
  · rintro k i ⟨S, Rd⟩ _ hi ⟨g1, g2, g3, g4⟩ ih
    dsimp only at g1 g2 g3 g4 ⊢
    have hSi := (g1 i hi).2 (Nat.le_refl _)
    have mk : ∀ x, x = ca_sw a_moveSource t f i → ∀ c, c < 40 → (c < i + 1 → upd S i x c = ca_sw a_moveSource t f c) ∧ (i + 1 ≤ c → upd S i x c = upd a_moveSource t (-1) c) := by
      intro x hx c hc
      by_cases e : c = i
      · subst e
        exact ⟨fun _ => by rw [pk_us]; exact hx, fun z => by omega⟩
      · rw [pk_un e]
        exact ⟨fun z => (g1 c hc).1 (by omega), fun z => (g1 c hc).2 (by omega)⟩
    have mk0 : S i = ca_sw a_moveSource t f i → ∀ c, c < 40 → (c < i + 1 → S c = ca_sw a_moveSource t f c) ∧ (i + 1 ≤ c → S c = upd a_moveSource t (-1) c) := by
      intro hx c hc
      by_cases e : c = i
      · subst e
        exact ⟨fun _ => hx, fun z => by omega⟩
      · exact ⟨fun z => (g1 c hc).1 (by omega), fun z => (g1 c hc).2 (by omega)⟩
    refine br_f (nI_ge (b := 40) hi (by decide)) (ca_vi ?_)
    rw [nI_clamp (n := i) (by omega)]
    by_cases hit : i = t
    · have e1 : S i = -1 := by rw [hSi, hit]; exact pk_us
      refine br_f (by rw [e1]; exact fun z => ca_nm1 (by omega) z.symm) (ca_in (ih (S, Rd) ⟨mk0 ?_, g2, ?_, g4⟩))
      · rw [e1]; unfold ca_sw; rw [if_pos hit]
      · show Rd f = _
        rw [g3, ca_cn_f (P := fun c => c ≠ f ∧ c ≠ t ∧ a_moveSource c = nI t) (fun z => z.2.1 hit)]
    · have e1 : S i = a_moveSource i := by rw [hSi, pk_un hit]
      by_cases hst : a_moveSource i = nI t
      · refine br_t (by rw [e1]; exact hst) (pk_eq i f (fun z => ?_) (fun z => ?_))
        · refine ca_vi (nm_e (ca_in (ih (upd S i (-1), Rd) ⟨mk (-1) ?_, g2, ?_, g4⟩)))
          · unfold ca_sw; rw [if_neg hit, if_pos hst, if_pos z]
          · show Rd f = _
            rw [g3, ca_cn_f (P := fun c => c ≠ f ∧ c ≠ t ∧ a_moveSource c = nI t) (fun y => y.1 z)]
        · refine ca_vi (nm_e (ca_vi (ca_vi (ca_wx f rfl (congrArg (· + 1) (ca_r g3)) (ca_in (ih (upd S i (nI f), upd Rd f _) ⟨mk (nI f) ?_, ?_, ?_, fun g h1 h2 => ?_⟩))))))
          · unfold ca_sw; rw [if_neg hit, if_pos hst, if_neg z]
          · show upd Rd f _ t = 0
            rw [pk_un (Ne.symm hft)]; exact g2
          · show upd Rd f _ f = _
            rw [pk_us, nI_1, ca_cn_t (P := fun c => c ≠ f ∧ c ≠ t ∧ a_moveSource c = nI t) ⟨z, hit, hst⟩]
          · show upd Rd f _ g = _
            rw [pk_un h2]; exact g4 g h1 h2
      · refine br_f (by rw [e1]; exact hst) (ca_in (ih (S, Rd) ⟨mk0 ?_, g2, ?_, g4⟩))
        · rw [e1]; unfold ca_sw; rw [if_neg hit, if_neg hst]
        · show Rd f = _
          rw [g3, ca_cn_f (P := fun c => c ≠ f ∧ c ≠ t ∧ a_moveSource c = nI t) (fun z => hst z.2.2)]
/-- the state of the sequencing: b its begin, n the moves so far -/
def ca_QI (Z ct0 cf0 cs0 : Nat → Int32) (b m0 r n : Nat) (S Rd ct cf cs : Nat → Int32) : Prop :=
  ca_SV S ∧ (∀ g, g < 40 → Rd g = nI (ca_nr S g)) ∧ ca_np S + r ≤ 40 ∧ n + ca_np S ≤ m0 ∧ ca_SI Z S ct cf cs b n ∧ (∀ j, j < b → ct j = ct0 j ∧ cf j = cf0 j ∧ cs j = cs0 j) ∧ (∀ j, b ≤ j → j < b + n → ∃ t f, t < 40 ∧ f < 40 ∧ ct j = nI t ∧ cf j = nI f)
theorem ca_QIe {Z ct0 cf0 cs0 : Nat → Int32} {b m0 r n : Nat} {S Rd ct cf cs : Nat → Int32} (h : ca_QI Z ct0 cf0 cs0 b m0 r n S Rd ct cf cs) {t f : Nat} (ht : t < 40) (hf : f < 40) {q : Int32} : ca_SI Z S (upd ct (b + n) (nI t)) (upd cf (b + n) (nI f)) (upd cs (b + n) q) b n ∧ (∀ j, j < b → upd ct (b + n) (nI t) j = ct0 j ∧ upd cf (b + n) (nI f) j = cf0 j ∧ upd cs (b + n) q j = cs0 j) ∧ (∀ j, b ≤ j → j < b + (n + 1) → ∃ t' f', t' < 40 ∧ f' < 40 ∧ upd ct (b + n) (nI t) j = nI t' ∧ upd cf (b + n) (nI f) j = nI f') := by
  obtain ⟨h1, h2, h3, h4, h5, h6, h7⟩ := h
  refine ⟨ca_SIc h5 fun j j1 j2 => ?_, fun j hj => ?_, fun j j1 j2 => ?_⟩
  · rw [pk_un (by omega), pk_un (by omega), pk_un (by omega)]; exact ⟨rfl, rfl, rfl⟩
  · rw [pk_un (by omega), pk_un (by omega), pk_un (by omega)]; exact h6 j hj
  · by_cases e : j = b + n
    · subst e; exact ⟨t, f, ht, hf, pk_us, pk_us⟩
    · rw [pk_un e, pk_un e]; exact h7 j j1 (by omega)
theorem xl_sequenceMoves {post : SX → Prop} {b m0 : Nat} (hb : b + m0 ≤ 1792) (hV : ca_SV a_moveSource) (hR : ∀ g, g < 40 → a_moveReaders g = nI (ca_nr a_moveSource g)) (hm : ca_np a_moveSource ≤ m0) (K : ∀ n S Rd ct cf cs, n ≤ m0 → (∀ x c, c < 40 → ca_ex ct cf cs n b x c = ca_wt a_moveSource x c) → (∀ j, j < b → ct j = a_codeTo j ∧ cf j = a_codeFrom j ∧ cs j = a_codeSwap j) → (∀ j, b ≤ j → j < b + n → ∃ t f, t < 40 ∧ f < 40 ∧ ct j = nI t ∧ cf j = nI f) → post (f_phiKind, f_jumpKind, f_branchKind, f_retKind, f_far, f_registerEnd, f_firstSlot, f_cellEnd, f_edgeCode, f_blockLimit, f_itemLimit, f_outLimit, f_stage, f_open, (nI (ca_B P)), (nI (ca_N P)), (nI (ca_E P)), (nI (ca_T P)), f_greatestPressure, f_everLive, f_registers, f_usedRegisters, f_placedBlocks, (nI (b + n)), f_current, f_returned, f_outSize, a_blockStart, a_blockPhis, a_blockItems, a_termKind, a_termValue, a_termFirst, a_termSecond, a_itemKind, a_itemA, a_itemB, a_itemBlock, a_edgeFrom, a_edgeTo, a_edgeOrder, a_edgeArgs, a_edgeSets, a_edgeBegin, a_edgeEnd, a_incoming, a_dominators, a_depth, a_parent, a_pointBase, a_pointBlock, a_pointItem, a_pointUses, a_live, a_distance, a_neighbours, a_colour, a_inRegisters, a_location, a_hint, a_taken, S, Rd, ct, cf, cs, a_codeBegin, a_codeEnd, a_outLog, a_params, a_cells)) : wpX_sequenceMoves post (f_phiKind, f_jumpKind, f_branchKind, f_retKind, f_far, f_registerEnd, f_firstSlot, f_cellEnd, f_edgeCode, f_blockLimit, f_itemLimit, f_outLimit, f_stage, f_open, (nI (ca_B P)), (nI (ca_N P)), (nI (ca_E P)), (nI (ca_T P)), f_greatestPressure, f_everLive, f_registers, f_usedRegisters, f_placedBlocks, (nI b), f_current, f_returned, f_outSize, a_blockStart, a_blockPhis, a_blockItems, a_termKind, a_termValue, a_termFirst, a_termSecond, a_itemKind, a_itemA, a_itemB, a_itemBlock, a_edgeFrom, a_edgeTo, a_edgeOrder, a_edgeArgs, a_edgeSets, a_edgeBegin, a_edgeEnd, a_incoming, a_dominators, a_depth, a_parent, a_pointBase, a_pointBlock, a_pointItem, a_pointUses, a_live, a_distance, a_neighbours, a_colour, a_inRegisters, a_location, a_hint, a_taken, a_moveSource, a_moveReaders, a_codeTo, a_codeFrom, a_codeSwap, a_codeBegin, a_codeEnd, a_outLog, a_params, a_cells) := by
  have np40 : ca_np a_moveSource ≤ 40 := ca_cn_le _ _
  refine ca_loop (σ := Int32 × (Nat → Int32) × (Nat → Int32) × (Nat → Int32) × (Nat → Int32) × (Nat → Int32)) (fun k r s => wX_sequenceMoves_2 post k (nI r) f_phiKind f_jumpKind f_branchKind f_retKind f_far f_registerEnd f_firstSlot f_cellEnd f_edgeCode f_blockLimit f_itemLimit f_outLimit f_stage f_open (nI (ca_B P)) (nI (ca_N P)) (nI (ca_E P)) (nI (ca_T P)) f_greatestPressure f_everLive f_registers f_usedRegisters f_placedBlocks s.1 f_current f_returned f_outSize a_blockStart a_blockPhis a_blockItems a_termKind a_termValue a_termFirst a_termSecond a_itemKind a_itemA a_itemB a_itemBlock a_edgeFrom a_edgeTo a_edgeOrder a_edgeArgs a_edgeSets a_edgeBegin a_edgeEnd a_incoming a_dominators a_depth a_parent a_pointBase a_pointBlock a_pointItem a_pointUses a_live a_distance a_neighbours a_colour a_inRegisters a_location a_hint a_taken s.2.1 s.2.2.1 s.2.2.2.1 s.2.2.2.2.1 s.2.2.2.2.2 a_codeBegin a_codeEnd a_outLog a_params a_cells) (fun r s => ∃ n, s.1 = nI (b + n) ∧ ca_QI a_moveSource a_codeTo a_codeFrom a_codeSwap b m0 r n s.2.1 s.2.2.1 s.2.2.2.1 s.2.2.2.2.1 s.2.2.2.2.2) 0 40 (by omega) (nI b, a_moveSource, a_moveReaders, a_codeTo, a_codeFrom, a_codeSwap) ⟨0, rfl, hV, hR, (show ca_np a_moveSource + 0 ≤ 40 by omega), (show 0 + ca_np a_moveSource ≤ m0 by omega), ca_SI0 _ _ _ _ _, fun _ _ => ⟨rfl, rfl, rfl⟩, fun j j1 j2 => by omega⟩ ?_ ?_
  · rintro k ⟨z, S, Rd, ct, cf, cs⟩ ⟨n, h0, h1, h2, h3, h4, h5, h6, h7⟩
    dsimp only at h0 h1 h2 h3 h4 h5 h6 h7 ⊢
    subst h0
    have hz : ca_np S = 0 := by omega
    exact br_t (nI_le (a := 40) (b := 40) (Nat.le_refl _) (by decide)) (K n S Rd ct cf cs (by omega) (fun x c hc => (h5 x c hc).1 (Classical.byContradiction fun y => ca_cn_none hz c hc y)) h6 h7)
  · rintro k r ⟨z, S, Rd, ct, cf, cs⟩ _ hr ⟨n, h0, hQ⟩ ih
    dsimp only at h0 hQ ⊢
    subst h0
    have hQ' := hQ
    obtain ⟨h1, h2, h3, h4, h5, h6, h7⟩ := hQ'
    refine br_f (nI_ge (b := 40) hr (by decide)) (xl_pendingMove h1 (fun t t1 t2 t3 => ?_) (fun hno => ?_))
    · -- a move
      have hpos : 0 < ca_np S := Nat.lt_of_le_of_lt (Nat.zero_le _) (ca_cn_str (P := fun c => S c ≠ -1) t2 t1)
      rcases h1 t t1 with y | ⟨f, f1, f2, f3⟩
      · exact absurd y t2
      · refine ca_lt0 (ca_vi (ca_rd f3 (xl_emit (by omega) ca_vb0 ?_)))
        have hnr := t3 (by decide)
        rw [h2 t t1] at hnr
        have hnr0 : ca_nr S t = 0 := ca_ninj (b := 0) hnr (by have := ca_cn_le (fun c => S c = nI t) 40; unfold ca_nr; omega) (by omega)
        have hun : ∀ c, c < 40 → S c ≠ nI t := fun c hc => ca_cn_none hnr0 c hc
        obtain ⟨q1, q2, q3⟩ := ca_QIe hQ t1 f1 (q := 0)
        have hnrf := ca_mvf t1 f1 f3
        refine ca_vi (ca_vi (ca_wx f rfl (w := nI (ca_nr (upd S t (-1)) f)) ?_ (ca_vi (ca_wr (ca_in (ih (nI (b + n + 1), upd S t (-1), upd Rd f (nI (ca_nr (upd S t (-1)) f)), upd ct (b + n) (nI t), upd cf (b + n) (nI f), upd cs (b + n) 0) ⟨n + 1, rfl, ca_mvV h1, fun g hg => ?_, ?_, ?_, ca_SImv q1 h1 t1 f1 f3 hun pk_us pk_us pk_us, q2, q3⟩))))))
        · rw [ca_r (h2 f f1), hnrf]
          exact nI_pred _
        · show upd Rd f _ g = _
          by_cases e : g = f
          · subst e; exact pk_us
          · rw [pk_un e, h2 g hg, ca_mvg f3 hg f1 e]
        · have := ca_mvp t1 t2; dsimp only; omega
        · have := ca_mvp t1 t2; dsimp only; omega
    · -- no cell is unread
      refine ca_m0 (xl_pendingMove h1 (fun t t1 t2 _ => ?_) (fun hno2 => ?_))
      · rcases h1 t t1 with y | ⟨f, f1, f2, f3⟩
        · exact absurd y t2
        · have hpos : 0 < ca_np S := Nat.lt_of_le_of_lt (Nat.zero_le _) (ca_cn_str (P := fun c => S c ≠ -1) t2 t1)
          have hrd : ∀ c, c < 40 → S c ≠ -1 → ∃ d, d < 40 ∧ S d = nI c := by
            intro c hc hcp
            have h8 := (hno c hc hcp).2
            rw [h2 c hc] at h8
            have h9 : 0 < ca_nr S c := by
              rcases Nat.eq_zero_or_pos (ca_nr S c) with y | y
              · rw [y] at h8; exact absurd rfl h8
              · exact y
            obtain ⟨d, d1, d2, _⟩ := ca_cn_sur h9
            exact ⟨d, d1, d2⟩
          obtain ⟨c1, c2⟩ := ca_cyc h1 hrd f1
          have hu : ∀ c, c < 40 → S c = nI f → c = t := fun c hc e => c2 c t hc t1 e f3
          obtain ⟨q1, q2, q3⟩ := ca_QIe hQ t1 f1 (q := 1)
          refine br_t (nI_pos' (by omega)) (xl_shortenCycle t1 f1 f2 (by omega) f3 (fun S' Rd' k1 k2 k3 k4 => ca_in (ih (nI (b + n + 1), S', Rd', upd ct (b + n) (nI t), upd cf (b + n) (nI f), upd cs (b + n) 1) ⟨n + 1, rfl, ca_swV h1 f1 k1, fun g hg => ?_, ?_, ?_, ca_SIsw q1 h1 t1 f1 f2 f3 (c1 t t1 f3) hu pk_us pk_us (show upd cs (b + n) 1 (b + n) ≠ 0 by rw [pk_us]; decide) k1, q2, q3⟩)))
          · show Rd' g = _
            by_cases e : g = t
            · subst e; rw [k2, ca_swt t1 f1 f2 k1]; rfl
            · by_cases e2 : g = f
              · subst e2; rw [k3, ca_swf t1 f1 f2 hu k1]
              · rw [k4 g e e2, h2 g hg, ca_swg t1 f1 hg e e2 f3 k1]
          · have := ca_swp t1 t2 k1; dsimp only; omega
          · have := ca_swp t1 t2 k1; dsimp only; omega
      · refine br_f (by decide) (K n S Rd ct cf cs (by omega) (fun x c hc => (h5 x c hc).1 (Classical.byContradiction fun y => (hno2 c hc y).1 rfl)) h6 h7)
end
end
section
/-! X: compiling -/
def ca_cl (lo : Nat → Int32) (x : Nat) : Nat := (lo x).toNatClampNeg
def ca_CS (ct cf cs cb ce : Nat → Int32) (z k : Nat) (el : Nat → Prop) (t f : Nat → Nat) : Prop := ∃ b n, cb k = nI b ∧ ce k = nI (b + n) ∧ b + n ≤ z ∧ ∀ x w, el w → ca_ex ct cf cs n b x (t w) = x (f w)
def ca_elI (P : ca_PG) (p w : Nat) : Prop := w < ca_N P ∧ ca_Lv P w (ca_nm P (p + 1)) ∧ w ≠ ca_nm P p
def ca_elE (P : ca_PG) (e w : Nat) : Prop := w < ca_N P ∧ ca_Lv P w (ca_st P (ca_tg P e))
noncomputable def ca_src (P : ca_PG) (e w : Nat) : Nat := @ite Nat (ca_ph P w (ca_tg P e)) (Classical.propDecidable _) (ca_arg P e w) w
def ca_CSI (P : ca_PG) (lo ct cf cs cb ce : Nat → Int32) (z p : Nat) : Prop := ca_CS ct cf cs cb ce z p (ca_elI P p) (fun w => ca_cl lo ((p + 1) * 32 + w)) (fun w => ca_cl lo (p * 32 + w))
def ca_CSE (P : ca_PG) (lo ct cf cs cb ce : Nat → Int32) (z e : Nat) : Prop := ca_CS ct cf cs cb ce z (40 + ca_xe P e) (ca_elE P e) (fun w => ca_cl lo (ca_pb P (ca_tg P e) * 32 + w)) (fun w => ca_cl lo ((ca_pb P (e / 2) + ca_ni P (e / 2)) * 32 + ca_src P e w))
theorem ca_CSm {ct cf cs cb ce dt df ds db de : Nat → Int32} {z y k : Nat} {el : Nat → Prop} {t f : Nat → Nat} (h : ca_CS ct cf cs cb ce z k el t f) (hz : z ≤ y) (hj : ∀ j, j < z → dt j = ct j ∧ df j = cf j ∧ ds j = cs j) (h1 : db k = cb k) (h2 : de k = ce k) : ca_CS dt df ds db de y k el t f := by
  obtain ⟨b, n, b1, b2, b3, b4⟩ := h
  refine ⟨b, n, h1.trans b1, h2.trans b2, by omega, fun x w hw => ?_⟩
  rw [ca_exc n b x (fun j j1 j2 => hj j (by omega))]
  exact b4 x w hw
section
variable {P : ca_PG}
theorem ca_LPcl {R M p : Nat} {lo : Nat → Int32} (h : ca_LP P R M lo p) {v : Nat} (hv : v < ca_N P) (hl : ca_Lv P v (ca_nm P p)) : ca_cl lo (p * 32 + v) < 40 ∧ lo (p * 32 + v) = nI (ca_cl lo (p * 32 + v)) := by
  obtain ⟨c, c1, c2, _⟩ := h.1 v hv hl
  unfold ca_cl
  rw [c2, nI_clamp (by omega)]
  exact ⟨c1, rfl⟩
theorem ca_LPinj {R M p : Nat} {lo : Nat → Int32} (hN : ca_N P ≤ 32) (h : ca_LP P R M lo p) {v w : Nat} (hv : v < ca_N P) (hw : w < ca_N P) (hl : ca_Lv P v (ca_nm P p)) (hm : ca_Lv P w (ca_nm P p)) (e : ca_cl lo (p * 32 + v) = ca_cl lo (p * 32 + w)) : v = w := by
  obtain ⟨c1, c2⟩ := ca_LPcl h hv hl
  obtain ⟨d1, d2⟩ := ca_LPcl h hw hm
  exact h.2.2 v w _ (by omega) (by omega) d1 (by rw [c2, e]) d2
theorem ca_LvI (hW : ca_WF P) {s k w : Nat} (hs : s < ca_B P) (hk : k < ca_ni P s) (h : ca_Lv P w (ca_nm P (ca_pb P s + k + 1))) (hn : w ≠ ca_nm P (ca_pb P s + k)) : ca_Lv P w (ca_nm P (ca_pb P s + k)) := by
  obtain ⟨d, hd⟩ := h
  have e1 := ca_nmat hs (Nat.le_of_lt hk)
  have e2 : ca_nm P (ca_pb P s + k + 1) = ca_nk P s (k + 1) := ca_nmat (k := k + 1) hs hk
  have hq := ca_nklo hk
  have hw1 := ca_wn hW hs
  have hN := ca_wN hW
  have hk' := hk
  unfold ca_ni at hk'
  rw [e1] at hn ⊢
  rw [e2] at hd
  refine ⟨d + 1, 0, by omega, Or.inl ⟨by omega, rfl⟩, Or.inr ⟨?_, ?_⟩⟩
  · rintro (⟨_, y⟩ | ⟨y, _⟩)
    · exact hn y.symm
    · omega
  · rw [ca_nmnx hW hs hk]; exact hd
theorem ca_LvE (hW : ca_WF P) (hT : ca_TE P) {e w : Nat} (he : ca_isE P e) (h : ca_elE P e w) : ca_src P e w < 32 → ca_Lv P (ca_src P e w) (32 + e / 2) := by
  intro _
  have e32 : 32 + e / 2 - 32 = e / 2 := by omega
  have e2 : 2 * (32 + e / 2 - 32) + e % 2 = e := by omega
  unfold ca_src
  by_cases hp : ca_ph P w (ca_tg P e)
  · rw [if_pos hp]
    refine ⟨1, e % 2, by omega, Or.inr ⟨by omega, ?_⟩, Or.inl ⟨rfl, by omega, ?_⟩⟩
    · rw [e2]; exact he
    · rw [e2]; exact ⟨w, hp, rfl⟩
  · rw [if_neg hp]
    obtain ⟨d, hd⟩ := h.2
    refine ⟨d + 1, e % 2, by omega, Or.inr ⟨by omega, ?_⟩, Or.inr ⟨?_, ?_⟩⟩
    · rw [e2]; exact he
    · rintro (⟨y, _⟩ | ⟨_, y⟩)
      · omega
      · rw [e2] at y; exact hp y
    · unfold ca_nx
      rw [if_neg (by omega), e2]; exact hd
theorem ca_src32 (hF : ca_IF P) (hN : ca_N P ≤ 32) {e w : Nat} (hw : w < ca_N P) : ca_src P e w < 32 := by
  unfold ca_src
  by_cases hp : ca_ph P w (ca_tg P e)
  · rw [if_pos hp]; exact ca_arg32 hF hp
  · rw [if_neg hp]; omega
variable {f_phiKind f_jumpKind f_branchKind f_retKind f_far f_registerEnd f_firstSlot f_cellEnd f_edgeCode f_blockLimit f_itemLimit f_outLimit f_stage f_open f_blocks f_items f_edges f_points f_greatestPressure f_everLive f_registers f_usedRegisters f_placedBlocks f_codeSize f_current f_returned f_outSize : Int32} {a_blockStart a_blockPhis a_blockItems a_termKind a_termValue a_termFirst a_termSecond a_itemKind a_itemA a_itemB a_itemBlock a_edgeFrom a_edgeTo a_edgeOrder a_edgeArgs a_edgeSets a_edgeBegin a_edgeEnd a_incoming a_dominators a_depth a_parent a_pointBase a_pointBlock a_pointItem a_pointUses a_live a_distance a_neighbours a_colour a_inRegisters a_location a_hint a_taken a_moveSource a_moveReaders a_codeTo a_codeFrom a_codeSwap a_codeBegin a_codeEnd a_outLog a_params a_cells : Nat → Int32}
theorem xl_compileInstruction {post : SX → Prop} {s k b R M : Nat} (hW : ca_WF P) (hV : ca_AV P a_live) (hL : ca_AL P a_pointBase a_pointBlock a_pointItem a_pointUses) (hLP : ∀ p, p < ca_T P → ca_LP P R M a_location p) (hs : s < ca_B P) (hk : k < ca_ni P s) (hb : b + 32 ≤ 1792) (K : ∀ n S Rd ct cf cs, n ≤ 32 → (∀ j, j < b → ct j = a_codeTo j ∧ cf j = a_codeFrom j ∧ cs j = a_codeSwap j) → (∀ j, b ≤ j → j < b + n → ∃ t f, t < 40 ∧ f < 40 ∧ ct j = nI t ∧ cf j = nI f) → (∀ x w, ca_elI P (ca_pb P s + k) w → ca_ex ct cf cs n b x (ca_cl a_location ((ca_pb P s + k + 1) * 32 + w)) = x (ca_cl a_location ((ca_pb P s + k) * 32 + w))) → post (f_phiKind, f_jumpKind, f_branchKind, f_retKind, f_far, f_registerEnd, f_firstSlot, f_cellEnd, f_edgeCode, f_blockLimit, f_itemLimit, f_outLimit, f_stage, f_open, (nI (ca_B P)), (nI (ca_N P)), (nI (ca_E P)), (nI (ca_T P)), f_greatestPressure, f_everLive, f_registers, f_usedRegisters, f_placedBlocks, (nI (b + n)), f_current, f_returned, f_outSize, a_blockStart, a_blockPhis, a_blockItems, a_termKind, a_termValue, a_termFirst, a_termSecond, a_itemKind, a_itemA, a_itemB, a_itemBlock, a_edgeFrom, a_edgeTo, a_edgeOrder, a_edgeArgs, a_edgeSets, a_edgeBegin, a_edgeEnd, a_incoming, a_dominators, a_depth, a_parent, a_pointBase, a_pointBlock, a_pointItem, a_pointUses, a_live, a_distance, a_neighbours, a_colour, a_inRegisters, a_location, a_hint, a_taken, S, Rd, ct, cf, cs, (upd a_codeBegin (ca_pb P s + k) (nI b)), (upd a_codeEnd (ca_pb P s + k) (nI (b + n))), a_outLog, a_params, a_cells)) : wpX_compileInstruction post (f_phiKind, f_jumpKind, f_branchKind, f_retKind, f_far, f_registerEnd, f_firstSlot, f_cellEnd, f_edgeCode, f_blockLimit, f_itemLimit, f_outLimit, f_stage, f_open, (nI (ca_B P)), (nI (ca_N P)), (nI (ca_E P)), (nI (ca_T P)), f_greatestPressure, f_everLive, f_registers, f_usedRegisters, f_placedBlocks, (nI b), f_current, f_returned, f_outSize, a_blockStart, a_blockPhis, a_blockItems, a_termKind, a_termValue, a_termFirst, a_termSecond, a_itemKind, a_itemA, a_itemB, a_itemBlock, a_edgeFrom, a_edgeTo, a_edgeOrder, a_edgeArgs, a_edgeSets, a_edgeBegin, a_edgeEnd, a_incoming, a_dominators, a_depth, a_parent, a_pointBase, a_pointBlock, a_pointItem, a_pointUses, a_live, a_distance, a_neighbours, a_colour, a_inRegisters, a_location, a_hint, a_taken, a_moveSource, a_moveReaders, a_codeTo, a_codeFrom, a_codeSwap, a_codeBegin, a_codeEnd, a_outLog, a_params, a_cells) (nI (ca_pb P s + k)) := by
  have hN := ca_wN hW
  have h40 := ca_T40' hW
  have hpT := ca_ptlt (P := P) hs (Nat.le_of_lt hk)
  have hpT1 : ca_pb P s + k + 1 < ca_T P := ca_ptlt (P := P) (k := k + 1) hs hk
  have hL' := ((hL s hs).2 k (Nat.le_of_lt hk)).2.1
  have hit : ca_pit P s k = nI (ca_bs P s + ca_bp P s + k) := if_pos hk
  rw [hit] at hL'
  have hnm : ca_nm P (ca_pb P s + k) = ca_bs P s + ca_bp P s + k := by rw [ca_nmat hs (Nat.le_of_lt hk), ca_nklo hk]
  have hP0 := hLP _ hpT
  have hP1 := hLP _ hpT1
  have hlv : ∀ w, ca_elI P (ca_pb P s + k) w → ca_Lv P w (ca_nm P (ca_pb P s + k)) := fun w hw => ca_LvI hW hs hk hw.2.1 hw.2.2
  have w1 := ca_wn hW hs
  have hk' := hk
  unfold ca_ni at hk'
  have hinj : ∀ a c, ca_elI P (ca_pb P s + k) a → ca_elI P (ca_pb P s + k) c → ca_cl a_location ((ca_pb P s + k + 1) * 32 + a) = ca_cl a_location ((ca_pb P s + k + 1) * 32 + c) → a = c := fun a c ha hc e => ca_LPinj hN hP1 ha.1 hc.1 ha.2.1 hc.2.1 e
  generalize ca_pb P s + k = p at *
  refine xl_clearMoves (fun S Rd hS hR => ?_)
  refine ca_loop (σ := (Nat → Int32) × (Nat → Int32)) (fun n v s => wX_compileInstruction_6 post (nI p) n (nI v) f_phiKind f_jumpKind f_branchKind f_retKind f_far f_registerEnd f_firstSlot f_cellEnd f_edgeCode f_blockLimit f_itemLimit f_outLimit f_stage f_open (nI (ca_B P)) (nI (ca_N P)) (nI (ca_E P)) (nI (ca_T P)) f_greatestPressure f_everLive f_registers f_usedRegisters f_placedBlocks (nI b) f_current f_returned f_outSize a_blockStart a_blockPhis a_blockItems a_termKind a_termValue a_termFirst a_termSecond a_itemKind a_itemA a_itemB a_itemBlock a_edgeFrom a_edgeTo a_edgeOrder a_edgeArgs a_edgeSets a_edgeBegin a_edgeEnd a_incoming a_dominators a_depth a_parent a_pointBase a_pointBlock a_pointItem a_pointUses a_live a_distance a_neighbours a_colour a_inRegisters a_location a_hint a_taken s.1 s.2 a_codeTo a_codeFrom a_codeSwap a_codeBegin a_codeEnd a_outLog a_params a_cells) (fun v s => ca_WI (ca_elI P p) (fun w => ca_cl a_location ((p + 1) * 32 + w)) (fun w => ca_cl a_location (p * 32 + w)) v s.1 s.2) 0 (ca_N P) (by omega) (S, Rd) (ca_WI0 hS hR) ?_ ?_
  · rintro n ⟨S, Rd⟩ hI
    dsimp only at hI ⊢
    refine br_t (nI_le (Nat.le_refl _) (by omega)) (ca_vi (ca_wr (xl_sequenceMoves (b := b) (m0 := 32) (by omega) hI.1 hI.2.1 (by have := hI.2.2.1; omega) (fun n S' Rd' ct cf cs k1 k2 k3 k4 => ca_vi (ca_wr (K n S' Rd' ct cf cs k1 k3 k4 fun x w hw => ?_))))))
    obtain ⟨c1, c2⟩ := ca_LPcl hP1 hw.1 hw.2.1
    obtain ⟨d1, d2⟩ := ca_LPcl hP0 hw.1 (hlv w hw)
    rw [k2 x _ c1]
    exact ca_WIwt hI hw.1 hw d1 x
  · rintro n v ⟨S, Rd⟩ _ hv hI ih
    dsimp only at hI ⊢
    refine br_f (nI_ge hv (by omega)) ?_
    rw [nI_1]
    refine ca_vi (xl_has _ rfl (by omega) (fun hb1 => ?_) (fun hb0 => ?_))
    · rw [nI_clamp (n := p + 1) (by omega)] at hb1
      have hl1 := ((hV _ hpT1 v).mp hb1).2
      refine br_f (by decide) (ca_vi (pk_eq v (ca_bs P s + ca_bp P s + k) (fun z => ca_in (ih (S, Rd) (ca_WIskip hI fun y => y.2.2 (by rw [hnm]; exact z)))) (fun z => ?_) rfl (ca_r hL')))
      have hel : ca_elI P p v := ⟨hv, hl1, by rw [hnm]; exact z⟩
      obtain ⟨c1, c2⟩ := ca_LPcl hP1 hv hl1
      obtain ⟨d1, d2⟩ := ca_LPcl hP0 hv (hlv v hel)
      rw [ca_mul32, ca_mul32]
      refine ca_vi (ca_vi (xl_wantMove (ca_r c2) (ca_r d2) c1 d1 (fun y => ca_in (ih (S, Rd) (ca_WIeq hI hinj hel c1 y))) (fun y => ca_in (ih (upd S _ _, upd Rd _ _) (ca_WIne hI hinj hel c1 d1 y)))) (by omega)) (by omega)
    · rw [nI_clamp (n := p + 1) (by omega)] at hb0
      exact br_t rfl (ca_in (ih (S, Rd) (ca_WIskip hI fun y => absurd ((hV _ hpT1 v).mpr ⟨hv, y.2.1⟩) (ca_ff hb0))))
theorem xl_compileEdge {post : SX → Prop} {e j b R M : Nat} (hW : ca_WF P) (hF : ca_IF P) (hT : ca_TE P) (hE : ca_AE P a_edgeFrom a_edgeTo a_edgeOrder) (hM : ca_AM P a_edgeArgs a_edgeSets) (hbl : ca_AB P a_blockStart a_blockPhis a_blockItems) (hP : ca_AP P a_itemKind a_itemBlock a_itemA a_itemB) (hV : ca_AV P a_live) (hL : ca_AL P a_pointBase a_pointBlock a_pointItem a_pointUses) (hLP : ∀ p, p < ca_T P → ca_LP P R M a_location p) (hST : ∀ i, ca_ph P i (ca_tg P e) → ca_arg P e i < ca_N P) (he : ca_isE P e) (ej : ca_xe P e = j) (hb : b + 32 ≤ 1792) (K : ∀ n S Rd ct cf cs, n ≤ 32 → (∀ j, j < b → ct j = a_codeTo j ∧ cf j = a_codeFrom j ∧ cs j = a_codeSwap j) → (∀ j, b ≤ j → j < b + n → ∃ t f, t < 40 ∧ f < 40 ∧ ct j = nI t ∧ cf j = nI f) → (∀ x w, ca_elE P e w → ca_ex ct cf cs n b x (ca_cl a_location (ca_pb P (ca_tg P e) * 32 + w)) = x (ca_cl a_location ((ca_pb P (e / 2) + ca_ni P (e / 2)) * 32 + ca_src P e w))) → post (f_phiKind, f_jumpKind, f_branchKind, f_retKind, f_far, f_registerEnd, f_firstSlot, f_cellEnd, f_edgeCode, f_blockLimit, f_itemLimit, f_outLimit, f_stage, f_open, (nI (ca_B P)), (nI (ca_N P)), (nI (ca_E P)), (nI (ca_T P)), f_greatestPressure, f_everLive, f_registers, f_usedRegisters, f_placedBlocks, (nI (b + n)), f_current, f_returned, f_outSize, a_blockStart, a_blockPhis, a_blockItems, a_termKind, a_termValue, a_termFirst, a_termSecond, a_itemKind, a_itemA, a_itemB, a_itemBlock, a_edgeFrom, a_edgeTo, a_edgeOrder, a_edgeArgs, a_edgeSets, a_edgeBegin, a_edgeEnd, a_incoming, a_dominators, a_depth, a_parent, a_pointBase, a_pointBlock, a_pointItem, a_pointUses, a_live, a_distance, a_neighbours, a_colour, a_inRegisters, a_location, a_hint, a_taken, S, Rd, ct, cf, cs, (upd a_codeBegin (40 + j) (nI b)), (upd a_codeEnd (40 + j) (nI (b + n))), a_outLog, a_params, a_cells)) : wpX_compileEdge post (f_phiKind, f_jumpKind, f_branchKind, f_retKind, f_far, f_registerEnd, f_firstSlot, f_cellEnd, f_edgeCode, f_blockLimit, f_itemLimit, f_outLimit, f_stage, f_open, (nI (ca_B P)), (nI (ca_N P)), (nI (ca_E P)), (nI (ca_T P)), f_greatestPressure, f_everLive, f_registers, f_usedRegisters, f_placedBlocks, (nI b), f_current, f_returned, f_outSize, a_blockStart, a_blockPhis, a_blockItems, a_termKind, a_termValue, a_termFirst, a_termSecond, a_itemKind, a_itemA, a_itemB, a_itemBlock, a_edgeFrom, a_edgeTo, a_edgeOrder, a_edgeArgs, a_edgeSets, a_edgeBegin, a_edgeEnd, a_incoming, a_dominators, a_depth, a_parent, a_pointBase, a_pointBlock, a_pointItem, a_pointUses, a_live, a_distance, a_neighbours, a_colour, a_inRegisters, a_location, a_hint, a_taken, a_moveSource, a_moveReaders, a_codeTo, a_codeFrom, a_codeSwap, a_codeBegin, a_codeEnd, a_outLog, a_params, a_cells) (nI j) := by
  have hB := ca_wB hW
  have hN := ca_wN hW
  have h40 := ca_T40' hW
  have hE16 := ca_Ele (P := P) hB
  have hj := ca_exe he
  have hE' := hE e he
  have hM' := hM e he
  rw [ej] at hE' hj hM'
  have hbb : e / 2 < ca_B P := he.1
  have ht := hT e he
  have hqT := ca_pbT ht
  have hpT := ca_ptlt (P := P) hbb (Nat.le_refl (ca_ni P (e / 2)))
  have hP0 := hLP _ hpT
  have hP1 := hLP _ hqT
  have hnm1 := ca_nmst (P := P) ht
  have hnm0 := ca_nmlast (P := P) hbb
  have hsN : ∀ w, w < ca_N P → ca_src P e w < ca_N P := by
    intro w hw
    unfold ca_src
    by_cases hp : ca_ph P w (ca_tg P e)
    · rw [if_pos hp]; exact hST w hp
    · rw [if_neg hp]; exact hw
  have hlv : ∀ w, ca_elE P e w → ca_Lv P (ca_src P e w) (ca_nm P (ca_pb P (e / 2) + ca_ni P (e / 2))) := fun w hw => by rw [hnm0]; exact ca_LvE hW hT he hw (ca_src32 hF hN hw.1)
  have hlv1 : ∀ w, ca_elE P e w → ca_Lv P w (ca_nm P (ca_pb P (ca_tg P e))) := fun w hw => by rw [hnm1]; exact hw.2
  have hinj : ∀ a c, ca_elE P e a → ca_elE P e c → ca_cl a_location (ca_pb P (ca_tg P e) * 32 + a) = ca_cl a_location (ca_pb P (ca_tg P e) * 32 + c) → a = c := fun a c ha hc e => ca_LPinj hN hP1 ha.1 hc.1 (hlv1 a ha) (hlv1 c hc) e
  have e40 : (40 : Int32) + nI j = nI (40 + j) := nI_add 40 j
  refine xl_clearMoves (fun S Rd hS hR => ca_vi (xl_lastPoint (ca_r hE'.1) hW hbl hL hbb (ca_vi (ca_vx (ca_tg P e) (ca_r hE'.2.1) (nm_r (e' := nI (ca_pb P (ca_tg P e))) (by rw [ca_r hE'.2.1, ca_r (hL _ ht).1]) ?_)))))
  generalize ca_pb P (e / 2) + ca_ni P (e / 2) = p at *
  generalize hq : ca_pb P (ca_tg P e) = q at *
  refine ca_loop (σ := (Nat → Int32) × (Nat → Int32)) (fun n v s => wX_compileEdge_30 post (nI j) (nI p) (nI q) n (nI v) f_phiKind f_jumpKind f_branchKind f_retKind f_far f_registerEnd f_firstSlot f_cellEnd f_edgeCode f_blockLimit f_itemLimit f_outLimit f_stage f_open (nI (ca_B P)) (nI (ca_N P)) (nI (ca_E P)) (nI (ca_T P)) f_greatestPressure f_everLive f_registers f_usedRegisters f_placedBlocks (nI b) f_current f_returned f_outSize a_blockStart a_blockPhis a_blockItems a_termKind a_termValue a_termFirst a_termSecond a_itemKind a_itemA a_itemB a_itemBlock a_edgeFrom a_edgeTo a_edgeOrder a_edgeArgs a_edgeSets a_edgeBegin a_edgeEnd a_incoming a_dominators a_depth a_parent a_pointBase a_pointBlock a_pointItem a_pointUses a_live a_distance a_neighbours a_colour a_inRegisters a_location a_hint a_taken s.1 s.2 a_codeTo a_codeFrom a_codeSwap a_codeBegin a_codeEnd a_outLog a_params a_cells) (fun v s => ca_WI (ca_elE P e) (fun w => ca_cl a_location (q * 32 + w)) (fun w => ca_cl a_location (p * 32 + ca_src P e w)) v s.1 s.2) 0 (ca_N P) (by omega) (S, Rd) (ca_WI0 hS hR) ?_ ?_
  · rintro n ⟨S, Rd⟩ hI
    dsimp only at hI ⊢
    refine br_t (nI_le (Nat.le_refl _) (by omega)) ?_
    rw [e40]
    refine ca_vi (ca_wr (xl_sequenceMoves (b := b) (m0 := 32) (by omega) hI.1 hI.2.1 (by have := hI.2.2.1; omega) (fun n S' Rd' ct cf cs k1 k2 k3 k4 => ca_vi (ca_wr (K n S' Rd' ct cf cs k1 k3 k4 fun x w hw => ?_)))))
    obtain ⟨c1, c2⟩ := ca_LPcl hP1 hw.1 (hlv1 w hw)
    obtain ⟨d1, d2⟩ := ca_LPcl hP0 (hsN w hw.1) (hlv w hw)
    rw [k2 x _ c1]
    exact ca_WIwt hI hw.1 hw d1 x
  · rintro n v ⟨S, Rd⟩ _ hv hI ih
    dsimp only at hI ⊢
    have mv : ca_elE P e v → ∀ p5, p5 = nI (ca_src P e v) → wX_compileEdge_82 post (wX_compileEdge_30 post (nI j) (nI p) (nI q) n) (nI j) (nI p) (nI q) (nI v) p5 f_phiKind f_jumpKind f_branchKind f_retKind f_far f_registerEnd f_firstSlot f_cellEnd f_edgeCode f_blockLimit f_itemLimit f_outLimit f_stage f_open (nI (ca_B P)) (nI (ca_N P)) (nI (ca_E P)) (nI (ca_T P)) f_greatestPressure f_everLive f_registers f_usedRegisters f_placedBlocks (nI b) f_current f_returned f_outSize a_blockStart a_blockPhis a_blockItems a_termKind a_termValue a_termFirst a_termSecond a_itemKind a_itemA a_itemB a_itemBlock a_edgeFrom a_edgeTo a_edgeOrder a_edgeArgs a_edgeSets a_edgeBegin a_edgeEnd a_incoming a_dominators a_depth a_parent a_pointBase a_pointBlock a_pointItem a_pointUses a_live a_distance a_neighbours a_colour a_inRegisters a_location a_hint a_taken S Rd a_codeTo a_codeFrom a_codeSwap a_codeBegin a_codeEnd a_outLog a_params a_cells := by
      intro hel p5 ep5
      subst ep5
      obtain ⟨c1, c2⟩ := ca_LPcl hP1 hv (hlv1 v hel)
      obtain ⟨d1, d2⟩ := ca_LPcl hP0 (hsN v hv) (hlv v hel)
      have := hsN v hv
      unfold wX_compileEdge_82
      rw [ca_mul32, ca_mul32]
      exact ca_vi (ca_vi (xl_wantMove (ca_r c2) (ca_r d2) c1 d1 (fun y => ca_in (ih (S, Rd) (ca_WIeq hI hinj hel c1 y))) (fun y => ca_in (ih (upd S _ _, upd Rd _ _) (ca_WIne hI hinj hel c1 d1 y)))) (by omega)) (by omega)
    refine br_f (nI_ge hv (by omega)) (ca_vi (xl_has _ rfl (by omega) (fun hb1 => ?_) (fun hb0 => ?_)))
    · rw [nI_clamp (n := q) (by omega)] at hb1
      have hl1 := ((hV _ hqT v).mp hb1).2
      rw [hnm1] at hl1
      have hel : ca_elE P e v := ⟨hv, hl1⟩
      refine br_f (by decide) (ca_vi (xl_has _ rfl (by omega) (fun hb2 => ?_) (fun hb2 => ?_)))
      · rw [nI_clamp (n := j) (by omega)] at hb2
        have hph := (hM' v).2.mp hb2
        refine br_f (by decide) (xl_phiArgument hW hP hE he ej hph (mv hel _ ?_))
        unfold ca_src; rw [if_pos hph]
      · rw [nI_clamp (n := j) (by omega)] at hb2
        have hph : ¬ ca_ph P v (ca_tg P e) := fun z => ca_ff hb2 ((hM' v).2.mpr z)
        refine br_t rfl (mv hel _ ?_)
        unfold ca_src; rw [if_neg hph]
    · rw [nI_clamp (n := q) (by omega)] at hb0
      refine br_t rfl (ca_in (ih (S, Rd) (ca_WIskip hI fun y => ca_ff hb0 ((hV _ hqT v).mpr ⟨hv, ?_⟩))))
      rw [hnm1]; exact y.2
end
end
section
/-! X: compiling the program, allocate, moves at run -/
def ca_STa (P : ca_PG) : Prop := ∀ e, ca_isE P e → ∀ i, ca_ph P i (ca_tg P e) → ca_arg P e i < ca_N P
def ca_CD (P : ca_PG) (lo ct cf cs cb ce : Nat → Int32) (z : Nat) : Prop := z ≤ 1792 ∧ ca_CV ct cf z ∧ (∀ s k, s < ca_B P → k < ca_ni P s → ca_CSI P lo ct cf cs cb ce z (ca_pb P s + k)) ∧ (∀ e, ca_isE P e → ca_CSE P lo ct cf cs cb ce z e)
section
variable {P : ca_PG}
theorem ca_MxE (hW : ca_WF P) (g : Nat → Nat) : ∃ r, ca_Mx P g r := by
  have key : ∀ n, ∃ r, (∀ q, q < n → ca_isP P q → g q ≤ r) ∧ (r = 0 ∨ ∃ q, ca_isP P q ∧ g q = r) := by
    intro n
    induction n with
    | zero => exact ⟨0, fun q hq => by omega, Or.inl rfl⟩
    | succ n ih =>
      obtain ⟨r, r1, r2⟩ := ih
      by_cases h : ca_isP P n ∧ r < g n
      · refine ⟨g n, fun q hq hp => ?_, Or.inr ⟨n, h.1, rfl⟩⟩
        by_cases e : q = n
        · subst e; exact Nat.le_refl _
        · have := r1 q (by omega) hp; omega
      · refine ⟨r, fun q hq hp => ?_, r2⟩
        by_cases e : q = n
        · subst e
          rcases Nat.lt_or_ge r (g q) with z | z
          · exact absurd ⟨hp, z⟩ h
          · exact z
        · exact r1 q (by omega) hp
  obtain ⟨r, r1, r2⟩ := key 40
  exact ⟨r, fun q hq => r1 q (ca_P40 hW hq) hq, r2⟩
variable {f_phiKind f_jumpKind f_branchKind f_retKind f_far f_registerEnd f_firstSlot f_cellEnd f_edgeCode f_blockLimit f_itemLimit f_outLimit f_stage f_open f_blocks f_items f_edges f_points f_greatestPressure f_everLive f_registers f_usedRegisters f_placedBlocks f_codeSize f_current f_returned f_outSize : Int32} {a_blockStart a_blockPhis a_blockItems a_termKind a_termValue a_termFirst a_termSecond a_itemKind a_itemA a_itemB a_itemBlock a_edgeFrom a_edgeTo a_edgeOrder a_edgeArgs a_edgeSets a_edgeBegin a_edgeEnd a_incoming a_dominators a_depth a_parent a_pointBase a_pointBlock a_pointItem a_pointUses a_live a_distance a_neighbours a_colour a_inRegisters a_location a_hint a_taken a_moveSource a_moveReaders a_codeTo a_codeFrom a_codeSwap a_codeBegin a_codeEnd a_outLog a_params a_cells : Nat → Int32}
theorem xl_cp37 {post : SX → Prop} {R M : Nat} (hW : ca_WF P) (hF : ca_IF P) (hT : ca_TE P) (hE : ca_AE P a_edgeFrom a_edgeTo a_edgeOrder) (hM : ca_AM P a_edgeArgs a_edgeSets) (hbl : ca_AB P a_blockStart a_blockPhis a_blockItems) (hP : ca_AP P a_itemKind a_itemBlock a_itemA a_itemB) (hV : ca_AV P a_live) (hL : ca_AL P a_pointBase a_pointBlock a_pointItem a_pointUses) (hLP : ∀ p, p < ca_T P → ca_LP P R M a_location p) (hST : ca_STa P) {z0 : Nat} (hz0 : z0 ≤ 1280) (hCV : ca_CV a_codeTo a_codeFrom z0) (hCI : ∀ s k, s < ca_B P → k < ca_ni P s → ca_CSI P a_location a_codeTo a_codeFrom a_codeSwap a_codeBegin a_codeEnd z0 (ca_pb P s + k)) (K : ∀ z S Rd ct cf cs cb ce, ca_CD P a_location ct cf cs cb ce z → post (f_phiKind, f_jumpKind, f_branchKind, f_retKind, f_far, f_registerEnd, f_firstSlot, f_cellEnd, f_edgeCode, f_blockLimit, f_itemLimit, f_outLimit, f_stage, f_open, (nI (ca_B P)), (nI (ca_N P)), (nI (ca_E P)), (nI (ca_T P)), f_greatestPressure, f_everLive, f_registers, f_usedRegisters, f_placedBlocks, (nI z), f_current, f_returned, f_outSize, a_blockStart, a_blockPhis, a_blockItems, a_termKind, a_termValue, a_termFirst, a_termSecond, a_itemKind, a_itemA, a_itemB, a_itemBlock, a_edgeFrom, a_edgeTo, a_edgeOrder, a_edgeArgs, a_edgeSets, a_edgeBegin, a_edgeEnd, a_incoming, a_dominators, a_depth, a_parent, a_pointBase, a_pointBlock, a_pointItem, a_pointUses, a_live, a_distance, a_neighbours, a_colour, a_inRegisters, a_location, a_hint, a_taken, S, Rd, ct, cf, cs, cb, ce, a_outLog, a_params, a_cells)) : ∃ n, wX_compileProgram_37 post n 0 f_phiKind f_jumpKind f_branchKind f_retKind f_far f_registerEnd f_firstSlot f_cellEnd f_edgeCode f_blockLimit f_itemLimit f_outLimit f_stage f_open (nI (ca_B P)) (nI (ca_N P)) (nI (ca_E P)) (nI (ca_T P)) f_greatestPressure f_everLive f_registers f_usedRegisters f_placedBlocks (nI z0) f_current f_returned f_outSize a_blockStart a_blockPhis a_blockItems a_termKind a_termValue a_termFirst a_termSecond a_itemKind a_itemA a_itemB a_itemBlock a_edgeFrom a_edgeTo a_edgeOrder a_edgeArgs a_edgeSets a_edgeBegin a_edgeEnd a_incoming a_dominators a_depth a_parent a_pointBase a_pointBlock a_pointItem a_pointUses a_live a_distance a_neighbours a_colour a_inRegisters a_location a_hint a_taken a_moveSource a_moveReaders a_codeTo a_codeFrom a_codeSwap a_codeBegin a_codeEnd a_outLog a_params a_cells := by
  have hB := ca_wB hW
  have h40 := ca_T40' hW
  have hE16 := ca_Ele (P := P) hB
  refine ca_loop (σ := Int32 × (Nat → Int32) × (Nat → Int32) × (Nat → Int32) × (Nat → Int32) × (Nat → Int32) × (Nat → Int32) × (Nat → Int32)) (fun n j s => wX_compileProgram_37 post n (nI j) f_phiKind f_jumpKind f_branchKind f_retKind f_far f_registerEnd f_firstSlot f_cellEnd f_edgeCode f_blockLimit f_itemLimit f_outLimit f_stage f_open (nI (ca_B P)) (nI (ca_N P)) (nI (ca_E P)) (nI (ca_T P)) f_greatestPressure f_everLive f_registers f_usedRegisters f_placedBlocks s.1 f_current f_returned f_outSize a_blockStart a_blockPhis a_blockItems a_termKind a_termValue a_termFirst a_termSecond a_itemKind a_itemA a_itemB a_itemBlock a_edgeFrom a_edgeTo a_edgeOrder a_edgeArgs a_edgeSets a_edgeBegin a_edgeEnd a_incoming a_dominators a_depth a_parent a_pointBase a_pointBlock a_pointItem a_pointUses a_live a_distance a_neighbours a_colour a_inRegisters a_location a_hint a_taken s.2.1 s.2.2.1 s.2.2.2.1 s.2.2.2.2.1 s.2.2.2.2.2.1 s.2.2.2.2.2.2.1 s.2.2.2.2.2.2.2 a_outLog a_params a_cells) (fun j s => ∃ z, z ≤ 1280 + 32 * j ∧ s.1 = nI z ∧ ca_CV s.2.2.2.1 s.2.2.2.2.1 z ∧ (∀ t k, t < ca_B P → k < ca_ni P t → ca_CSI P a_location s.2.2.2.1 s.2.2.2.2.1 s.2.2.2.2.2.1 s.2.2.2.2.2.2.1 s.2.2.2.2.2.2.2 z (ca_pb P t + k)) ∧ (∀ e, ca_isE P e → ca_xe P e < j → ca_CSE P a_location s.2.2.2.1 s.2.2.2.2.1 s.2.2.2.2.2.1 s.2.2.2.2.2.2.1 s.2.2.2.2.2.2.2 z e)) 0 (ca_E P) (by omega) (nI z0, a_moveSource, a_moveReaders, a_codeTo, a_codeFrom, a_codeSwap, a_codeBegin, a_codeEnd) ⟨z0, by omega, rfl, hCV, hCI, fun e _ h => by omega⟩ ?_ ?_
  · rintro n ⟨c, S, Rd, ct, cf, cs, cb, ce⟩ ⟨z, h1, h2, h3, h4, h5⟩
    dsimp only at h2 h3 h4 h5 ⊢
    subst h2
    exact br_t (nI_le (Nat.le_refl _) (by omega)) (K z S Rd ct cf cs cb ce ⟨by omega, h3, h4, fun e he => h5 e he (ca_exe he)⟩)
  · rintro n j ⟨c, S, Rd, ct, cf, cs, cb, ce⟩ _ hj ⟨z, h1, h2, h3, h4, h5⟩ ih
    dsimp only at h2 h3 h4 h5 ⊢
    subst h2
    obtain ⟨e, he, ej⟩ := ca_esur hj
    refine br_f (nI_ge hj (by omega)) (xl_compileEdge hW hF hT hE hM hbl hP hV hL hLP (hST e he) he ej (by omega) (fun m S' Rd' ct' cf' cs' k1 k2 k3 k4 => ca_in (ih (nI (z + m), S', Rd', ct', cf', cs', upd cb (40 + j) (nI z), upd ce (40 + j) (nI (z + m))) ⟨z + m, by omega, rfl, fun i hi => ?_, fun t k ht hk => ?_, fun f hf hfj => ?_⟩)))
    · by_cases y : i < z
      · obtain ⟨t, u, t1, u1, t2, u2⟩ := h3 i y
        exact ⟨t, u, t1, u1, (k2 i y).1.trans t2, (k2 i y).2.1.trans u2⟩
      · exact k3 i (by omega) hi
    · have hlt := ca_ptlt (P := P) ht (Nat.le_of_lt hk)
      exact ca_CSm (h4 t k ht hk) (by omega) k2 (pk_un (by omega)) (pk_un (by omega))
    · by_cases y : ca_xe P f = j
      · have := ca_einj hf he (by omega)
        subst this
        refine ⟨z, m, ?_, ?_, by omega, k4⟩
        · show upd cb _ _ _ = _
          rw [y]; exact pk_us
        · show upd ce _ _ _ = _
          rw [y]; exact pk_us
      · exact ca_CSm (h5 f hf (by omega)) (by omega) k2 (pk_un (by omega)) (pk_un (by omega))
theorem xl_compileProgram {post : SX → Prop} {R M : Nat} (hW : ca_WF P) (hF : ca_IF P) (hT : ca_TE P) (hE : ca_AE P a_edgeFrom a_edgeTo a_edgeOrder) (hM : ca_AM P a_edgeArgs a_edgeSets) (hbl : ca_AB P a_blockStart a_blockPhis a_blockItems) (hP : ca_AP P a_itemKind a_itemBlock a_itemA a_itemB) (hV : ca_AV P a_live) (hL : ca_AL P a_pointBase a_pointBlock a_pointItem a_pointUses) (hLP : ∀ p, p < ca_T P → ca_LP P R M a_location p) (hST : ca_STa P) (K : ∀ z S Rd ct cf cs cb ce, ca_CD P a_location ct cf cs cb ce z → post (f_phiKind, f_jumpKind, f_branchKind, f_retKind, f_far, f_registerEnd, f_firstSlot, f_cellEnd, f_edgeCode, f_blockLimit, f_itemLimit, f_outLimit, f_stage, f_open, (nI (ca_B P)), (nI (ca_N P)), (nI (ca_E P)), (nI (ca_T P)), f_greatestPressure, f_everLive, f_registers, f_usedRegisters, f_placedBlocks, (nI z), f_current, f_returned, f_outSize, a_blockStart, a_blockPhis, a_blockItems, a_termKind, a_termValue, a_termFirst, a_termSecond, a_itemKind, a_itemA, a_itemB, a_itemBlock, a_edgeFrom, a_edgeTo, a_edgeOrder, a_edgeArgs, a_edgeSets, a_edgeBegin, a_edgeEnd, a_incoming, a_dominators, a_depth, a_parent, a_pointBase, a_pointBlock, a_pointItem, a_pointUses, a_live, a_distance, a_neighbours, a_colour, a_inRegisters, a_location, a_hint, a_taken, S, Rd, ct, cf, cs, cb, ce, a_outLog, a_params, a_cells)) : wpX_compileProgram post (f_phiKind, f_jumpKind, f_branchKind, f_retKind, f_far, f_registerEnd, f_firstSlot, f_cellEnd, f_edgeCode, f_blockLimit, f_itemLimit, f_outLimit, f_stage, f_open, (nI (ca_B P)), (nI (ca_N P)), (nI (ca_E P)), (nI (ca_T P)), f_greatestPressure, f_everLive, f_registers, f_usedRegisters, f_placedBlocks, f_codeSize, f_current, f_returned, f_outSize, a_blockStart, a_blockPhis, a_blockItems, a_termKind, a_termValue, a_termFirst, a_termSecond, a_itemKind, a_itemA, a_itemB, a_itemBlock, a_edgeFrom, a_edgeTo, a_edgeOrder, a_edgeArgs, a_edgeSets, a_edgeBegin, a_edgeEnd, a_incoming, a_dominators, a_depth, a_parent, a_pointBase, a_pointBlock, a_pointItem, a_pointUses, a_live, a_distance, a_neighbours, a_colour, a_inRegisters, a_location, a_hint, a_taken, a_moveSource, a_moveReaders, a_codeTo, a_codeFrom, a_codeSwap, a_codeBegin, a_codeEnd, a_outLog, a_params, a_cells) := by
  have hB := ca_wB hW
  have hN := ca_wN hW
  have h40 := ca_T40' hW
  refine ca_loop (σ := Int32 × (Nat → Int32) × (Nat → Int32) × (Nat → Int32) × (Nat → Int32) × (Nat → Int32) × (Nat → Int32) × (Nat → Int32)) (fun n p s => wX_compileProgram_7 post n (nI p) f_phiKind f_jumpKind f_branchKind f_retKind f_far f_registerEnd f_firstSlot f_cellEnd f_edgeCode f_blockLimit f_itemLimit f_outLimit f_stage f_open (nI (ca_B P)) (nI (ca_N P)) (nI (ca_E P)) (nI (ca_T P)) f_greatestPressure f_everLive f_registers f_usedRegisters f_placedBlocks s.1 f_current f_returned f_outSize a_blockStart a_blockPhis a_blockItems a_termKind a_termValue a_termFirst a_termSecond a_itemKind a_itemA a_itemB a_itemBlock a_edgeFrom a_edgeTo a_edgeOrder a_edgeArgs a_edgeSets a_edgeBegin a_edgeEnd a_incoming a_dominators a_depth a_parent a_pointBase a_pointBlock a_pointItem a_pointUses a_live a_distance a_neighbours a_colour a_inRegisters a_location a_hint a_taken s.2.1 s.2.2.1 s.2.2.2.1 s.2.2.2.2.1 s.2.2.2.2.2.1 s.2.2.2.2.2.2.1 s.2.2.2.2.2.2.2 a_outLog a_params a_cells) (fun p s => ∃ z, z ≤ 32 * p ∧ s.1 = nI z ∧ ca_CV s.2.2.2.1 s.2.2.2.2.1 z ∧ (∀ t k, t < ca_B P → k < ca_ni P t → ca_pb P t + k < p → ca_CSI P a_location s.2.2.2.1 s.2.2.2.2.1 s.2.2.2.2.2.1 s.2.2.2.2.2.2.1 s.2.2.2.2.2.2.2 z (ca_pb P t + k))) 0 (ca_T P) (by omega) (0, a_moveSource, a_moveReaders, a_codeTo, a_codeFrom, a_codeSwap, a_codeBegin, a_codeEnd) ⟨0, by omega, rfl, fun i hi => by omega, fun t k _ _ h => by omega⟩ ?_ ?_
  · rintro n ⟨c, S, Rd, ct, cf, cs, cb, ce⟩ ⟨z, h1, h2, h3, h4⟩
    dsimp only at h2 h3 h4 ⊢
    subst h2
    exact br_t (nI_le (Nat.le_refl _) (by omega)) (xl_cp37 hW hF hT hE hM hbl hP hV hL hLP hST (by omega) h3 (fun s k hs hk => h4 s k hs hk (ca_ptlt hs (Nat.le_of_lt hk))) K)
  · rintro n p ⟨c, S, Rd, ct, cf, cs, cb, ce⟩ _ hp ⟨z, h1, h2, h3, h4⟩ ih
    dsimp only at h2 h3 h4 ⊢
    subst h2
    obtain ⟨s, k, hs, hk, e⟩ := ca_ptex hp
    have hL' := ((hL s hs).2 k hk).2.1
    rw [← e] at hL'
    refine br_f (nI_ge hp (by omega)) (ca_vi ?_)
    rw [nI_clamp (n := p) (by omega)]
    rcases Nat.lt_or_ge k (ca_ni P s) with hk2 | hk2
    · have hw1 := ca_wn hW hs
      have hk3 := hk2
      unfold ca_ni at hk3
      have hit : a_pointItem p = nI (ca_bs P s + ca_bp P s + k) := by rw [hL']; exact if_pos hk2
      refine br_f (by rw [hit]; exact nI_pos (by omega)) ?_
      rw [e]
      refine xl_compileInstruction hW hV hL hLP hs hk2 (by omega) (fun m S' Rd' ct' cf' cs' k1 k2 k3 k4 => ?_)
      rw [← e]
      refine ca_in (ih (nI (z + m), S', Rd', ct', cf', cs', upd cb p (nI z), upd ce p (nI (z + m))) ⟨z + m, by omega, rfl, fun i hi => ?_, fun t j ht hj htj => ?_⟩)
      · by_cases y : i < z
        · obtain ⟨t, u, t1, u1, t2, u2⟩ := h3 i y
          exact ⟨t, u, t1, u1, (k2 i y).1.trans t2, (k2 i y).2.1.trans u2⟩
        · exact k3 i (by omega) hi
      · by_cases y : ca_pb P t + j = p
        · rw [y]
          rw [← e] at k4
          exact ⟨z, m, pk_us, pk_us, by omega, k4⟩
        · exact ca_CSm (h4 t j ht hj (by omega)) (by omega) k2 (pk_un y) (pk_un y)
    · have hit : a_pointItem p = -1 := by rw [hL']; exact if_neg (by omega)
      refine br_t (by rw [hit]; decide) (ca_in (ih (nI z, S, Rd, ct, cf, cs, cb, ce) ⟨z, by omega, rfl, h3, fun t j ht hj htj => ?_⟩))
      by_cases y : ca_pb P t + j = p
      · have hj2 : j ≤ ca_ni P t := Nat.le_of_lt hj
        have e1 := ca_nmat (P := P) ht hj2
        rw [y, e, ca_nmat hs hk] at e1
        have := (ca_nkinj hW hs ht hk hj2 e1)
        obtain ⟨rfl, rfl⟩ := this
        omega
      · exact h4 t j ht hj (by omega)
theorem xl_restart {post : SX → Prop} (K : ∀ c, (∀ i, i < 40 → c i = 0) → post (f_phiKind, f_jumpKind, f_branchKind, f_retKind, f_far, f_registerEnd, f_firstSlot, f_cellEnd, f_edgeCode, f_blockLimit, f_itemLimit, f_outLimit, 2, f_open, (nI (ca_B P)), (nI (ca_N P)), (nI (ca_E P)), (nI (ca_T P)), f_greatestPressure, f_everLive, f_registers, f_usedRegisters, f_placedBlocks, f_codeSize, 0, 0, 0, a_blockStart, a_blockPhis, a_blockItems, a_termKind, a_termValue, a_termFirst, a_termSecond, a_itemKind, a_itemA, a_itemB, a_itemBlock, a_edgeFrom, a_edgeTo, a_edgeOrder, a_edgeArgs, a_edgeSets, a_edgeBegin, a_edgeEnd, a_incoming, a_dominators, a_depth, a_parent, a_pointBase, a_pointBlock, a_pointItem, a_pointUses, a_live, a_distance, a_neighbours, a_colour, a_inRegisters, a_location, a_hint, a_taken, a_moveSource, a_moveReaders, a_codeTo, a_codeFrom, a_codeSwap, a_codeBegin, a_codeEnd, a_outLog, a_params, c)) : wpX_restart post (f_phiKind, f_jumpKind, f_branchKind, f_retKind, f_far, f_registerEnd, f_firstSlot, f_cellEnd, f_edgeCode, f_blockLimit, f_itemLimit, f_outLimit, f_stage, f_open, (nI (ca_B P)), (nI (ca_N P)), (nI (ca_E P)), (nI (ca_T P)), f_greatestPressure, f_everLive, f_registers, f_usedRegisters, f_placedBlocks, f_codeSize, f_current, f_returned, f_outSize, a_blockStart, a_blockPhis, a_blockItems, a_termKind, a_termValue, a_termFirst, a_termSecond, a_itemKind, a_itemA, a_itemB, a_itemBlock, a_edgeFrom, a_edgeTo, a_edgeOrder, a_edgeArgs, a_edgeSets, a_edgeBegin, a_edgeEnd, a_incoming, a_dominators, a_depth, a_parent, a_pointBase, a_pointBlock, a_pointItem, a_pointUses, a_live, a_distance, a_neighbours, a_colour, a_inRegisters, a_location, a_hint, a_taken, a_moveSource, a_moveReaders, a_codeTo, a_codeFrom, a_codeSwap, a_codeBegin, a_codeEnd, a_outLog, a_params, a_cells) := by
  refine ca_loop (fun n i (c : Nat → Int32) => wX_restart_2 post f_phiKind f_jumpKind f_branchKind f_retKind f_far f_registerEnd f_firstSlot f_cellEnd f_edgeCode f_blockLimit f_itemLimit f_outLimit f_stage f_open (nI (ca_B P)) (nI (ca_N P)) (nI (ca_E P)) (nI (ca_T P)) f_greatestPressure f_everLive f_registers f_usedRegisters f_placedBlocks f_codeSize f_current f_returned f_outSize n (nI i) a_blockStart a_blockPhis a_blockItems a_termKind a_termValue a_termFirst a_termSecond a_itemKind a_itemA a_itemB a_itemBlock a_edgeFrom a_edgeTo a_edgeOrder a_edgeArgs a_edgeSets a_edgeBegin a_edgeEnd a_incoming a_dominators a_depth a_parent a_pointBase a_pointBlock a_pointItem a_pointUses a_live a_distance a_neighbours a_colour a_inRegisters a_location a_hint a_taken a_moveSource a_moveReaders a_codeTo a_codeFrom a_codeSwap a_codeBegin a_codeEnd a_outLog a_params c) (fun i c => ∀ j, j < i → c j = 0) 0 40 (by omega) a_cells (fun j hj => by omega) ?_ ?_
  · intro n c hc
    exact br_t (nI_le (a := 40) (b := 40) (Nat.le_refl _) (by decide)) (K c hc)
  · intro n i c _ hi hc ih
    refine br_f (nI_ge (b := 40) hi (by decide)) (ca_vi (ca_wr (ca_in (ih _ fun j hj => ?_))))
    by_cases z : j = i
    · subst z; exact pk_us
    · rw [pk_un z]; exact hc j (by omega)
/-- what allocation leaves -/
def ca_ALC (P : ca_PG) (R M z : Nat) (us : Int32) (ir lo ct cf cs cb ce : Nat → Int32) : Prop := 2 ≤ R ∧ R ≤ 6 ∧ ca_Mx P (fun q => min (ca_lc P q) R) M ∧ ca_AR P R ir ∧ (∀ p, p < ca_T P → ca_LP P R M lo p ∧ ca_UP lo us p) ∧ ca_UM M us ∧ ca_CD P lo ct cf cs cb ce z
theorem xl_al25 {post : Int32 → SX → Prop} {R : Nat} (hW : ca_WF P) (hF : ca_IF P) (hT : ca_TE P) (hE : ca_AE P a_edgeFrom a_edgeTo a_edgeOrder) (hM : ca_AM P a_edgeArgs a_edgeSets) (hbl : ca_AB P a_blockStart a_blockPhis a_blockItems) (hP : ca_AP P a_itemKind a_itemBlock a_itemA a_itemB) (hd : ca_Adp P a_depth) (hpr : ca_Apr P a_parent) (hD : ca_AX P a_distance) (hV : ca_AV P a_live) (hL : ca_AL P a_pointBase a_pointBlock a_pointItem a_pointUses) (hST : ca_STa P) (hR2 : 2 ≤ R) (hR6 : R ≤ 6) (K : ∀ M z us pl ir lo h tk S Rd ct cf cs cb ce c, ca_ALC P R M z us ir lo ct cf cs cb ce → (∀ i, i < 40 → c i = 0) → post (nI (ca_cn (fun p => R < ca_lc P (ca_nm P p)) (ca_T P))) (f_phiKind, f_jumpKind, f_branchKind, f_retKind, f_far, f_registerEnd, f_firstSlot, f_cellEnd, f_edgeCode, f_blockLimit, f_itemLimit, f_outLimit, 2, f_open, (nI (ca_B P)), (nI (ca_N P)), (nI (ca_E P)), (nI (ca_T P)), f_greatestPressure, f_everLive, (nI R), us, pl, (nI z), 0, 0, 0, a_blockStart, a_blockPhis, a_blockItems, a_termKind, a_termValue, a_termFirst, a_termSecond, a_itemKind, a_itemA, a_itemB, a_itemBlock, a_edgeFrom, a_edgeTo, a_edgeOrder, a_edgeArgs, a_edgeSets, a_edgeBegin, a_edgeEnd, a_incoming, a_dominators, a_depth, a_parent, a_pointBase, a_pointBlock, a_pointItem, a_pointUses, a_live, a_distance, a_neighbours, a_colour, ir, lo, h, tk, S, Rd, ct, cf, cs, cb, ce, a_outLog, a_params, c)) : ∃ n, wX_allocate_25 post f_phiKind f_jumpKind f_branchKind f_retKind f_far f_registerEnd f_firstSlot f_cellEnd f_edgeCode f_blockLimit f_itemLimit f_outLimit f_stage f_open (nI (ca_B P)) (nI (ca_N P)) (nI (ca_E P)) (nI (ca_T P)) f_greatestPressure f_everLive (nI R) f_usedRegisters f_placedBlocks f_codeSize f_current f_returned f_outSize n 0 0 a_blockStart a_blockPhis a_blockItems a_termKind a_termValue a_termFirst a_termSecond a_itemKind a_itemA a_itemB a_itemBlock a_edgeFrom a_edgeTo a_edgeOrder a_edgeArgs a_edgeSets a_edgeBegin a_edgeEnd a_incoming a_dominators a_depth a_parent a_pointBase a_pointBlock a_pointItem a_pointUses a_live a_distance a_neighbours a_colour a_inRegisters a_location a_hint a_taken a_moveSource a_moveReaders a_codeTo a_codeFrom a_codeSwap a_codeBegin a_codeEnd a_outLog a_params a_cells := by
  have hN := ca_wN hW
  have h40 := ca_T40' hW
  obtain ⟨M, hMx⟩ := ca_MxE hW (fun q => min (ca_lc P q) R)
  have hM6 : M ≤ 6 := by
    rcases hMx.2 with z | ⟨q, _, z⟩
    · omega
    · have z' : min (ca_lc P q) R = M := z
      omega
  refine ca_loop (σ := Int32 × (Nat → Int32)) (fun n p s => wX_allocate_25 post f_phiKind f_jumpKind f_branchKind f_retKind f_far f_registerEnd f_firstSlot f_cellEnd f_edgeCode f_blockLimit f_itemLimit f_outLimit f_stage f_open (nI (ca_B P)) (nI (ca_N P)) (nI (ca_E P)) (nI (ca_T P)) f_greatestPressure f_everLive (nI R) f_usedRegisters f_placedBlocks f_codeSize f_current f_returned f_outSize n s.1 (nI p) a_blockStart a_blockPhis a_blockItems a_termKind a_termValue a_termFirst a_termSecond a_itemKind a_itemA a_itemB a_itemBlock a_edgeFrom a_edgeTo a_edgeOrder a_edgeArgs a_edgeSets a_edgeBegin a_edgeEnd a_incoming a_dominators a_depth a_parent a_pointBase a_pointBlock a_pointItem a_pointUses a_live a_distance a_neighbours a_colour s.2 a_location a_hint a_taken a_moveSource a_moveReaders a_codeTo a_codeFrom a_codeSwap a_codeBegin a_codeEnd a_outLog a_params a_cells) (fun p s => s.1 = nI (ca_cn (fun p => R < ca_lc P (ca_nm P p)) p) ∧ ∀ k, k < p → ∀ v, bt (s.2 k) v = true ↔ v < ca_N P ∧ ca_Lv P v (ca_nm P k) ∧ ca_rk P (ca_nm P k) v < R) 0 (ca_T P) (by omega) (0, a_inRegisters) ⟨rfl, fun k hk => by omega⟩ ?_ ?_
  · rintro n ⟨x, ir⟩ ⟨h1, h2⟩
    dsimp only at h1 h2 ⊢
    subst h1
    refine br_t (nI_le (Nat.le_refl _) (by omega)) (xl_placeProgram (R := R) (M := M) hW hF hT hE hbl hP hL hd hpr hV h2 (fun p hp => hMx.1 _ (ca_nmP hW hp)) hM6 (fun us pl lo h tk k1 k2 => xl_compileProgram hW hF hT hE hM hbl hP hV hL (fun p hp => (k1 p hp).1) hST (fun z S Rd ct cf cs cb ce k3 => xl_restart (fun c hc => K M z us pl ir lo h tk S Rd ct cf cs cb ce c ⟨hR2, hR6, hMx, h2, k1, k2, k3⟩ hc))))
  · rintro n p ⟨x, ir⟩ _ hp ⟨h1, h2⟩ ih
    dsimp only at h1 h2 ⊢
    subst h1
    refine br_f (nI_ge hp (by omega)) (xl_nearestValues (R := R) hW hD hV hp hR6 (fun m hm => ca_vi (ca_wr (ca_vi (ca_vi ?_)))))
    rw [nI_clamp (n := p) (by omega), pk_us]
    have f2 : ∀ k, k < p + 1 → ∀ v, bt (upd ir p m k) v = true ↔ v < ca_N P ∧ ca_Lv P v (ca_nm P k) ∧ ca_rk P (ca_nm P k) v < R := by
      intro k hk v
      by_cases e : k = p
      · subst e; rw [pk_us]; exact hm v
      · rw [pk_un e]; exact h2 k (by omega) v
    have hiff : m = a_live p ↔ ca_lc P (ca_nm P p) ≤ R := by
      rw [← ca_rkall]
      constructor
      · intro e v hv hl
        have : bt m v = true := by rw [e]; exact (hV p hp v).mpr ⟨hv, hl⟩
        exact ((hm v).mp this).2.2
      · intro h
        refine ca_bext fun v _ => ?_
        rw [hm v, hV p hp v]
        exact ⟨fun z => ⟨z.1, z.2.1⟩, fun z => ⟨z.1, z.2, h v z.1 z.2⟩⟩
    refine br_c (fun z => ca_in (ih (_, upd ir p m) ⟨?_, f2⟩)) (fun z => nm_r (nI_1 _) (ca_in (ih (_, upd ir p m) ⟨?_, f2⟩)))
    · have := hiff.mp z
      show nI _ = nI _
      rw [ca_cn_f (P := fun p => R < ca_lc P (ca_nm P p)) (by omega)]
    · have : ¬ ca_lc P (ca_nm P p) ≤ R := fun y => z (hiff.mpr y)
      show nI _ = nI _
      rw [ca_cn_t (P := fun p => R < ca_lc P (ca_nm P p)) (by omega)]
/-! running a code -/
theorem xl_runMoves {post : SX → Prop} {k b m z : Nat} {p0 : Int32} (e0 : p0 = nI k) (hk : k < 56) (hz : z ≤ 1792) (hbn : b + m ≤ z) (hCV : ca_CV a_codeTo a_codeFrom z) (hb : a_codeBegin k = nI b) (he : a_codeEnd k = nI (b + m)) (K : post (f_phiKind, f_jumpKind, f_branchKind, f_retKind, f_far, f_registerEnd, f_firstSlot, f_cellEnd, f_edgeCode, f_blockLimit, f_itemLimit, f_outLimit, f_stage, f_open, (nI (ca_B P)), (nI (ca_N P)), (nI (ca_E P)), (nI (ca_T P)), f_greatestPressure, f_everLive, f_registers, f_usedRegisters, f_placedBlocks, f_codeSize, f_current, f_returned, f_outSize, a_blockStart, a_blockPhis, a_blockItems, a_termKind, a_termValue, a_termFirst, a_termSecond, a_itemKind, a_itemA, a_itemB, a_itemBlock, a_edgeFrom, a_edgeTo, a_edgeOrder, a_edgeArgs, a_edgeSets, a_edgeBegin, a_edgeEnd, a_incoming, a_dominators, a_depth, a_parent, a_pointBase, a_pointBlock, a_pointItem, a_pointUses, a_live, a_distance, a_neighbours, a_colour, a_inRegisters, a_location, a_hint, a_taken, a_moveSource, a_moveReaders, a_codeTo, a_codeFrom, a_codeSwap, a_codeBegin, a_codeEnd, a_outLog, a_params, (ca_ex a_codeTo a_codeFrom a_codeSwap m b a_cells))) : wpX_runMoves post (f_phiKind, f_jumpKind, f_branchKind, f_retKind, f_far, f_registerEnd, f_firstSlot, f_cellEnd, f_edgeCode, f_blockLimit, f_itemLimit, f_outLimit, f_stage, f_open, (nI (ca_B P)), (nI (ca_N P)), (nI (ca_E P)), (nI (ca_T P)), f_greatestPressure, f_everLive, f_registers, f_usedRegisters, f_placedBlocks, f_codeSize, f_current, f_returned, f_outSize, a_blockStart, a_blockPhis, a_blockItems, a_termKind, a_termValue, a_termFirst, a_termSecond, a_itemKind, a_itemA, a_itemB, a_itemBlock, a_edgeFrom, a_edgeTo, a_edgeOrder, a_edgeArgs, a_edgeSets, a_edgeBegin, a_edgeEnd, a_incoming, a_dominators, a_depth, a_parent, a_pointBase, a_pointBlock, a_pointItem, a_pointUses, a_live, a_distance, a_neighbours, a_colour, a_inRegisters, a_location, a_hint, a_taken, a_moveSource, a_moveReaders, a_codeTo, a_codeFrom, a_codeSwap, a_codeBegin, a_codeEnd, a_outLog, a_params, a_cells) p0 := by
  subst e0
  refine ca_vi (ca_rd hb ?_)
  refine ca_loop (fun n i (c : Nat → Int32) => wX_runMoves_7 post (nI k) f_phiKind f_jumpKind f_branchKind f_retKind f_far f_registerEnd f_firstSlot f_cellEnd f_edgeCode f_blockLimit f_itemLimit f_outLimit f_stage f_open (nI (ca_B P)) (nI (ca_N P)) (nI (ca_E P)) (nI (ca_T P)) f_greatestPressure f_everLive f_registers f_usedRegisters f_placedBlocks f_codeSize f_current f_returned f_outSize n (nI i) a_blockStart a_blockPhis a_blockItems a_termKind a_termValue a_termFirst a_termSecond a_itemKind a_itemA a_itemB a_itemBlock a_edgeFrom a_edgeTo a_edgeOrder a_edgeArgs a_edgeSets a_edgeBegin a_edgeEnd a_incoming a_dominators a_depth a_parent a_pointBase a_pointBlock a_pointItem a_pointUses a_live a_distance a_neighbours a_colour a_inRegisters a_location a_hint a_taken a_moveSource a_moveReaders a_codeTo a_codeFrom a_codeSwap a_codeBegin a_codeEnd a_outLog a_params c) (fun i c => c = ca_ex a_codeTo a_codeFrom a_codeSwap (i - b) b a_cells) b (b + m) (by omega) a_cells (by rw [Nat.sub_self]; rfl) ?_ ?_
  · intro n c hc
    subst hc
    rw [show b + m - b = m by omega]
    exact ca_vi (br_t (by rw [ca_r he]; exact nI_le (Nat.le_refl _) (by omega)) K)
  · intro n i c hi0 hi hc ih
    subst hc
    obtain ⟨t, f, t1, f1, t2, f2⟩ := hCV i (by omega)
    have es : ca_ex a_codeTo a_codeFrom a_codeSwap (i + 1 - b) b a_cells = ca_stp a_codeTo a_codeFrom a_codeSwap i (ca_ex a_codeTo a_codeFrom a_codeSwap (i - b) b a_cells) := by
      rw [show i + 1 - b = (i - b) + 1 by omega, ca_exs, show b + (i - b) = i by omega]
    generalize ca_ex a_codeTo a_codeFrom a_codeSwap (i - b) b a_cells = c at *
    refine ca_vi (br_f (by rw [ca_r he]; exact nI_ge hi (by omega)) (ca_vi (ca_rd t2 (ca_vi (ca_rd f2 (ca_vi (ca_rd rfl (ca_vi (ca_vi (ca_wx t rfl (ca_r (a := c) (i := f) rfl) (ca_vi ?_)))))))))))
    rw [nI_clamp (n := i) (by omega)]
    refine br_c (fun y => ca_in (ih _ ?_)) (fun y => ca_vi (ca_wr (ca_in (ih _ ?_))))
    · rw [es]
      unfold ca_stp
      rw [if_pos y, t2, f2, nI_clamp (n := t) (by omega), nI_clamp (n := f) (by omega)]
    · rw [es]
      unfold ca_stp
      rw [if_neg y, t2, f2, nI_clamp (n := t) (by omega), nI_clamp (n := f) (by omega)]
end
end
section
/-! X: steps -/
def ca_ev (P : ca_PG) (arg par val : Nat → Int32) (i : Nat) : Int32 :=
  if ca_kd P i = 0 then arg i else if ca_kd P i = 1 then par (ca_aA P i) else if ca_kd P i = 2 then val (ca_aA P i) + val (ca_aB P i) else if ca_kd P i = 3 then val (ca_aA P i) - val (ca_aB P i) else if ca_kd P i = 4 then val (ca_aA P i) * val (ca_aB P i) else if ca_kd P i = 5 then val (ca_aA P i) ^^^ val (ca_aB P i) else if ca_kd P i = 6 then (if val (ca_aB P i) ≤ val (ca_aA P i) then 0 else 1) else val (ca_aA P i)
def ca_XR (P : ca_PG) (lo cells val : Nat → Int32) (cu : Nat) : Prop := ∀ v, v < ca_N P → ca_Lv P v (ca_nm P cu) → cells (ca_cl lo (cu * 32 + v)) = val v
def ca_ch (P : ca_PG) (s : Nat) (x : Int32) (e : Nat) : Prop := (ca_tk P s = 0 ∧ e = 2 * s) ∨ (ca_tk P s = 1 ∧ ((x = 0 ∧ e = 2 * s + 1) ∨ (x ≠ 0 ∧ e = 2 * s)))
section
variable {P : ca_PG}
theorem ca_chE {s : Nat} {x : Int32} {e : Nat} (hs : s < ca_B P) (h : ca_ch P s x e) : ca_isE P e ∧ e / 2 = s := by
  rcases h with ⟨h1, h2⟩ | ⟨h1, ⟨_, h2⟩ | ⟨_, h2⟩⟩
  · subst h2; exact ⟨(ca_isE0 s).mpr ⟨hs, by omega⟩, by omega⟩
  · subst h2; exact ⟨(ca_isE1 s).mpr ⟨hs, h1⟩, by omega⟩
  · subst h2; exact ⟨(ca_isE0 s).mpr ⟨hs, by omega⟩, by omega⟩
variable {f_phiKind f_jumpKind f_branchKind f_retKind f_far f_registerEnd f_firstSlot f_cellEnd f_edgeCode f_blockLimit f_itemLimit f_outLimit f_stage f_open f_blocks f_items f_edges f_points f_greatestPressure f_everLive f_registers f_usedRegisters f_placedBlocks f_codeSize f_current f_returned f_outSize : Int32} {a_blockStart a_blockPhis a_blockItems a_termKind a_termValue a_termFirst a_termSecond a_itemKind a_itemA a_itemB a_itemBlock a_edgeFrom a_edgeTo a_edgeOrder a_edgeArgs a_edgeSets a_edgeBegin a_edgeEnd a_incoming a_dominators a_depth a_parent a_pointBase a_pointBlock a_pointItem a_pointUses a_live a_distance a_neighbours a_colour a_inRegisters a_location a_hint a_taken a_moveSource a_moveReaders a_codeTo a_codeFrom a_codeSwap a_codeBegin a_codeEnd a_outLog a_params a_cells : Nat → Int32}
theorem xl_fetch {post : Int32 → Prop} {v c cu : Nat} {p0 : Int32} (e0 : p0 = nI v) (hcu : cu < 40) (hv : v < 32) (hl : a_location (cu * 32 + v) = nI c) (hc : c < 40) (K : post (a_cells c)) : wpX_fetch post (f_phiKind, f_jumpKind, f_branchKind, f_retKind, f_far, f_registerEnd, f_firstSlot, f_cellEnd, f_edgeCode, f_blockLimit, f_itemLimit, f_outLimit, f_stage, f_open, (nI (ca_B P)), (nI (ca_N P)), (nI (ca_E P)), (nI (ca_T P)), f_greatestPressure, f_everLive, f_registers, f_usedRegisters, f_placedBlocks, f_codeSize, (nI cu), f_returned, f_outSize, a_blockStart, a_blockPhis, a_blockItems, a_termKind, a_termValue, a_termFirst, a_termSecond, a_itemKind, a_itemA, a_itemB, a_itemBlock, a_edgeFrom, a_edgeTo, a_edgeOrder, a_edgeArgs, a_edgeSets, a_edgeBegin, a_edgeEnd, a_incoming, a_dominators, a_depth, a_parent, a_pointBase, a_pointBlock, a_pointItem, a_pointUses, a_live, a_distance, a_neighbours, a_colour, a_inRegisters, a_location, a_hint, a_taken, a_moveSource, a_moveReaders, a_codeTo, a_codeFrom, a_codeSwap, a_codeBegin, a_codeEnd, a_outLog, a_params, a_cells) p0 := by
  subst e0
  show vp_in (nI cu * 32 + nI v) 1280 ∧ _
  rw [ca_mul32]
  refine ca_vi (ca_rd hl (ca_lt0 (ca_vi ?_))) (by omega)
  rw [nI_clamp (n := c) (by omega)]
  exact K
theorem xl_evaluate {post : Int32 → SX → Prop} {i cu oL O : Nat} {val : Nat → Int32} (hW : ca_WF P) (hF : ca_IF P) (hP : ca_AP P a_itemKind a_itemBlock a_itemA a_itemB) (hi : i < ca_N P) (h8 : ca_kd P i ≠ 8) (hcu : cu < 40) (hO : oL ≤ 32) (hO2 : O ≤ oL) (hA : 2 ≤ ca_kd P i → ∃ c, c < 40 ∧ a_location (cu * 32 + ca_aA P i) = nI c ∧ a_cells c = val (ca_aA P i)) (hB : 2 ≤ ca_kd P i → ca_kd P i ≠ 7 → ∃ c, c < 40 ∧ a_location (cu * 32 + ca_aB P i) = nI c ∧ a_cells c = val (ca_aB P i)) (K1 : ca_kd P i ≠ 7 → post (ca_ev P a_itemA a_params val i) (f_phiKind, f_jumpKind, f_branchKind, f_retKind, f_far, f_registerEnd, f_firstSlot, f_cellEnd, f_edgeCode, f_blockLimit, f_itemLimit, (nI oL), f_stage, f_open, (nI (ca_B P)), (nI (ca_N P)), (nI (ca_E P)), (nI (ca_T P)), f_greatestPressure, f_everLive, f_registers, f_usedRegisters, f_placedBlocks, f_codeSize, (nI cu), f_returned, (nI O), a_blockStart, a_blockPhis, a_blockItems, a_termKind, a_termValue, a_termFirst, a_termSecond, a_itemKind, a_itemA, a_itemB, a_itemBlock, a_edgeFrom, a_edgeTo, a_edgeOrder, a_edgeArgs, a_edgeSets, a_edgeBegin, a_edgeEnd, a_incoming, a_dominators, a_depth, a_parent, a_pointBase, a_pointBlock, a_pointItem, a_pointUses, a_live, a_distance, a_neighbours, a_colour, a_inRegisters, a_location, a_hint, a_taken, a_moveSource, a_moveReaders, a_codeTo, a_codeFrom, a_codeSwap, a_codeBegin, a_codeEnd, a_outLog, a_params, a_cells)) (K2 : ca_kd P i = 7 → oL ≤ O → post (ca_ev P a_itemA a_params val i) (f_phiKind, f_jumpKind, f_branchKind, f_retKind, f_far, f_registerEnd, f_firstSlot, f_cellEnd, f_edgeCode, f_blockLimit, f_itemLimit, (nI oL), f_stage, f_open, (nI (ca_B P)), (nI (ca_N P)), (nI (ca_E P)), (nI (ca_T P)), f_greatestPressure, f_everLive, f_registers, f_usedRegisters, f_placedBlocks, f_codeSize, (nI cu), f_returned, (nI O), a_blockStart, a_blockPhis, a_blockItems, a_termKind, a_termValue, a_termFirst, a_termSecond, a_itemKind, a_itemA, a_itemB, a_itemBlock, a_edgeFrom, a_edgeTo, a_edgeOrder, a_edgeArgs, a_edgeSets, a_edgeBegin, a_edgeEnd, a_incoming, a_dominators, a_depth, a_parent, a_pointBase, a_pointBlock, a_pointItem, a_pointUses, a_live, a_distance, a_neighbours, a_colour, a_inRegisters, a_location, a_hint, a_taken, a_moveSource, a_moveReaders, a_codeTo, a_codeFrom, a_codeSwap, a_codeBegin, a_codeEnd, a_outLog, a_params, a_cells)) (K3 : ca_kd P i = 7 → O < oL → post (ca_ev P a_itemA a_params val i) (f_phiKind, f_jumpKind, f_branchKind, f_retKind, f_far, f_registerEnd, f_firstSlot, f_cellEnd, f_edgeCode, f_blockLimit, f_itemLimit, (nI oL), f_stage, f_open, (nI (ca_B P)), (nI (ca_N P)), (nI (ca_E P)), (nI (ca_T P)), f_greatestPressure, f_everLive, f_registers, f_usedRegisters, f_placedBlocks, f_codeSize, (nI cu), f_returned, (nI (O + 1)), a_blockStart, a_blockPhis, a_blockItems, a_termKind, a_termValue, a_termFirst, a_termSecond, a_itemKind, a_itemA, a_itemB, a_itemBlock, a_edgeFrom, a_edgeTo, a_edgeOrder, a_edgeArgs, a_edgeSets, a_edgeBegin, a_edgeEnd, a_incoming, a_dominators, a_depth, a_parent, a_pointBase, a_pointBlock, a_pointItem, a_pointUses, a_live, a_distance, a_neighbours, a_colour, a_inRegisters, a_location, a_hint, a_taken, a_moveSource, a_moveReaders, a_codeTo, a_codeFrom, a_codeSwap, a_codeBegin, a_codeEnd, (upd a_outLog O (ca_ev P a_itemA a_params val i)), a_params, a_cells)) : wpX_evaluate post (f_phiKind, f_jumpKind, f_branchKind, f_retKind, f_far, f_registerEnd, f_firstSlot, f_cellEnd, f_edgeCode, f_blockLimit, f_itemLimit, (nI oL), f_stage, f_open, (nI (ca_B P)), (nI (ca_N P)), (nI (ca_E P)), (nI (ca_T P)), f_greatestPressure, f_everLive, f_registers, f_usedRegisters, f_placedBlocks, f_codeSize, (nI cu), f_returned, (nI O), a_blockStart, a_blockPhis, a_blockItems, a_termKind, a_termValue, a_termFirst, a_termSecond, a_itemKind, a_itemA, a_itemB, a_itemBlock, a_edgeFrom, a_edgeTo, a_edgeOrder, a_edgeArgs, a_edgeSets, a_edgeBegin, a_edgeEnd, a_incoming, a_dominators, a_depth, a_parent, a_pointBase, a_pointBlock, a_pointItem, a_pointUses, a_live, a_distance, a_neighbours, a_colour, a_inRegisters, a_location, a_hint, a_taken, a_moveSource, a_moveReaders, a_codeTo, a_codeFrom, a_codeSwap, a_codeBegin, a_codeEnd, a_outLog, a_params, a_cells) (nI i) := by
  have hN := ca_wN hW
  have hP' := hP i hi
  have hF' := hF i hi
  refine ca_vi (ca_rd hP'.1 (ca_vi (ca_rd rfl (pk_eq (ca_kd P i) 0 (fun z => ?_) (fun z => ?_)))))
  · have := K1 (by omega)
    unfold ca_ev at this
    rw [if_pos z] at this
    exact this
  · refine pk_eq (ca_kd P i) 1 (fun y => ?_) (fun y => ?_)
    · have k := K1 (by omega)
      unfold ca_ev at k
      rw [if_neg z, if_pos y] at k
      have ha := hF'.2.1 y
      rw [hP'.2.2.1 (by omega)]
      refine ca_vi ?_
      rw [nI_clamp (n := ca_aA P i) (by omega)]
      exact k
    · obtain ⟨c, c1, c2, c3⟩ := hA (by omega)
      refine xl_fetch (hP'.2.2.1 (by omega)) hcu (hF'.2.2.1 (by omega)) c2 c1 ?_
      rw [c3]
      refine pk_eq (ca_kd P i) 7 (fun x => ?_) (fun x => ?_)
      · have ee : ca_ev P a_itemA a_params val i = val (ca_aA P i) := by
          unfold ca_ev
          rw [if_neg (by omega), if_neg (by omega), if_neg (by omega), if_neg (by omega), if_neg (by omega), if_neg (by omega), if_neg (by omega)]
        rw [ee] at K2 K3
        exact pk_le oL O (fun w => K2 x w) (fun w => ca_vi (ca_wr (ca_in (K3 x w))))
      · obtain ⟨d, d1, d2, d3⟩ := hB (by omega) x
        have k := K1 x
        unfold ca_ev at k
        rw [if_neg z, if_neg y] at k
        refine ca_vi (xl_fetch (ca_r (hP'.2.2.2 (by omega) x)) hcu (hF'.2.2.2 (by omega) x) d2 d1 ?_)
        rw [d3]
        refine pk_eq (ca_kd P i) 2 (fun w => ?_) (fun w => pk_eq (ca_kd P i) 3 (fun w3 => ?_) (fun w3 => pk_eq (ca_kd P i) 4 (fun w4 => ?_) (fun w4 => pk_eq (ca_kd P i) 5 (fun w5 => ?_) (fun w5 => ?_))))
        · rw [if_pos w] at k; exact k
        · rw [if_neg w, if_pos w3] at k; exact k
        · rw [if_neg w, if_neg w3, if_pos w4] at k; exact k
        · rw [if_neg w, if_neg w3, if_neg w4, if_pos w5] at k; exact k
        · have h6 : ca_kd P i = 6 := by
            have h9 := hF'.1
            clear hA hB
            omega
          rw [if_neg w, if_neg w3, if_neg w4, if_neg w5, if_pos h6] at k
          refine br_c (fun q => ?_) (fun q => ?_)
          · rw [if_pos q] at k; exact k
          · rw [if_neg q] at k; exact k
theorem xl_stepInstruction {post : SX → Prop} {s k R M z oL O : Nat} {val : Nat → Int32} (hW : ca_WF P) (hF : ca_IF P) (hST : ca_STi P) (hP : ca_AP P a_itemKind a_itemBlock a_itemA a_itemB) (hLP : ∀ p, p < ca_T P → ca_LP P R M a_location p) (hCD : ca_CD P a_location a_codeTo a_codeFrom a_codeSwap a_codeBegin a_codeEnd z) (hs : s < ca_B P) (hk : k < ca_ni P s) (hO : oL ≤ 32) (hO2 : O ≤ oL) (hX : ca_XR P a_location a_cells val (ca_pb P s + k)) (K1 : ca_kd P (ca_nk P s k) ≠ 7 → ∀ c, ca_XR P a_location c (upd val (ca_nk P s k) (ca_ev P a_itemA a_params val (ca_nk P s k))) (ca_pb P s + k + 1) → post (f_phiKind, f_jumpKind, f_branchKind, f_retKind, f_far, f_registerEnd, f_firstSlot, f_cellEnd, f_edgeCode, f_blockLimit, f_itemLimit, (nI oL), f_stage, f_open, (nI (ca_B P)), (nI (ca_N P)), (nI (ca_E P)), (nI (ca_T P)), f_greatestPressure, f_everLive, f_registers, f_usedRegisters, f_placedBlocks, f_codeSize, (nI (ca_pb P s + k + 1)), f_returned, (nI O), a_blockStart, a_blockPhis, a_blockItems, a_termKind, a_termValue, a_termFirst, a_termSecond, a_itemKind, a_itemA, a_itemB, a_itemBlock, a_edgeFrom, a_edgeTo, a_edgeOrder, a_edgeArgs, a_edgeSets, a_edgeBegin, a_edgeEnd, a_incoming, a_dominators, a_depth, a_parent, a_pointBase, a_pointBlock, a_pointItem, a_pointUses, a_live, a_distance, a_neighbours, a_colour, a_inRegisters, a_location, a_hint, a_taken, a_moveSource, a_moveReaders, a_codeTo, a_codeFrom, a_codeSwap, a_codeBegin, a_codeEnd, a_outLog, a_params, c)) (K2 : ca_kd P (ca_nk P s k) = 7 → oL ≤ O → ∀ c, ca_XR P a_location c (upd val (ca_nk P s k) (ca_ev P a_itemA a_params val (ca_nk P s k))) (ca_pb P s + k + 1) → post (f_phiKind, f_jumpKind, f_branchKind, f_retKind, f_far, f_registerEnd, f_firstSlot, f_cellEnd, f_edgeCode, f_blockLimit, f_itemLimit, (nI oL), f_stage, f_open, (nI (ca_B P)), (nI (ca_N P)), (nI (ca_E P)), (nI (ca_T P)), f_greatestPressure, f_everLive, f_registers, f_usedRegisters, f_placedBlocks, f_codeSize, (nI (ca_pb P s + k + 1)), f_returned, (nI O), a_blockStart, a_blockPhis, a_blockItems, a_termKind, a_termValue, a_termFirst, a_termSecond, a_itemKind, a_itemA, a_itemB, a_itemBlock, a_edgeFrom, a_edgeTo, a_edgeOrder, a_edgeArgs, a_edgeSets, a_edgeBegin, a_edgeEnd, a_incoming, a_dominators, a_depth, a_parent, a_pointBase, a_pointBlock, a_pointItem, a_pointUses, a_live, a_distance, a_neighbours, a_colour, a_inRegisters, a_location, a_hint, a_taken, a_moveSource, a_moveReaders, a_codeTo, a_codeFrom, a_codeSwap, a_codeBegin, a_codeEnd, a_outLog, a_params, c)) (K3 : ca_kd P (ca_nk P s k) = 7 → O < oL → ∀ c, ca_XR P a_location c (upd val (ca_nk P s k) (ca_ev P a_itemA a_params val (ca_nk P s k))) (ca_pb P s + k + 1) → post (f_phiKind, f_jumpKind, f_branchKind, f_retKind, f_far, f_registerEnd, f_firstSlot, f_cellEnd, f_edgeCode, f_blockLimit, f_itemLimit, (nI oL), f_stage, f_open, (nI (ca_B P)), (nI (ca_N P)), (nI (ca_E P)), (nI (ca_T P)), f_greatestPressure, f_everLive, f_registers, f_usedRegisters, f_placedBlocks, f_codeSize, (nI (ca_pb P s + k + 1)), f_returned, (nI (O + 1)), a_blockStart, a_blockPhis, a_blockItems, a_termKind, a_termValue, a_termFirst, a_termSecond, a_itemKind, a_itemA, a_itemB, a_itemBlock, a_edgeFrom, a_edgeTo, a_edgeOrder, a_edgeArgs, a_edgeSets, a_edgeBegin, a_edgeEnd, a_incoming, a_dominators, a_depth, a_parent, a_pointBase, a_pointBlock, a_pointItem, a_pointUses, a_live, a_distance, a_neighbours, a_colour, a_inRegisters, a_location, a_hint, a_taken, a_moveSource, a_moveReaders, a_codeTo, a_codeFrom, a_codeSwap, a_codeBegin, a_codeEnd, (upd a_outLog O (ca_ev P a_itemA a_params val (ca_nk P s k))), a_params, c)) : wpX_stepInstruction post (f_phiKind, f_jumpKind, f_branchKind, f_retKind, f_far, f_registerEnd, f_firstSlot, f_cellEnd, f_edgeCode, f_blockLimit, f_itemLimit, (nI oL), f_stage, f_open, (nI (ca_B P)), (nI (ca_N P)), (nI (ca_E P)), (nI (ca_T P)), f_greatestPressure, f_everLive, f_registers, f_usedRegisters, f_placedBlocks, f_codeSize, (nI (ca_pb P s + k)), f_returned, (nI O), a_blockStart, a_blockPhis, a_blockItems, a_termKind, a_termValue, a_termFirst, a_termSecond, a_itemKind, a_itemA, a_itemB, a_itemBlock, a_edgeFrom, a_edgeTo, a_edgeOrder, a_edgeArgs, a_edgeSets, a_edgeBegin, a_edgeEnd, a_incoming, a_dominators, a_depth, a_parent, a_pointBase, a_pointBlock, a_pointItem, a_pointUses, a_live, a_distance, a_neighbours, a_colour, a_inRegisters, a_location, a_hint, a_taken, a_moveSource, a_moveReaders, a_codeTo, a_codeFrom, a_codeSwap, a_codeBegin, a_codeEnd, a_outLog, a_params, a_cells) (nI (ca_nk P s k)) := by
  have hN := ca_wN hW
  have h40 := ca_T40' hW
  have hpT := ca_ptlt (P := P) hs (Nat.le_of_lt hk)
  have hpT1 : ca_pb P s + k + 1 < ca_T P := ca_ptlt (P := P) (k := k + 1) hs hk
  have hnm := ca_nmat (P := P) hs (Nat.le_of_lt hk)
  have hisP := ca_nmP hW hpT
  have hP0 := hLP _ hpT
  have hP1 := hLP _ hpT1
  obtain ⟨b, m, b1, b2, b3, b4⟩ := hCD.2.2.1 s k hs hk
  have hLvI : ∀ w, ca_elI P (ca_pb P s + k) w → ca_Lv P w (ca_nm P (ca_pb P s + k)) := fun w hw => ca_LvI hW hs hk hw.2.1 hw.2.2
  have hq32 : ca_nk P s k < 32 ∧ ca_nk P s k < ca_N P ∧ ca_kd P (ca_nk P s k) ≠ 8 := by
    rw [hnm] at hisP
    rcases hisP with q | q
    · exact q
    · have := ca_nklo hk
      have := ca_wn hW hs
      have hk' := hk
      unfold ca_ni at hk'
      omega
  rw [hnm] at hLvI
  have hX' : ∀ v, v < ca_N P → ca_Lv P v (ca_nk P s k) → ∃ c, c < 40 ∧ a_location ((ca_pb P s + k) * 32 + v) = nI c ∧ a_cells c = val v := by
    intro v hv hl
    rw [← hnm] at hl
    obtain ⟨c1, c2⟩ := ca_LPcl hP0 hv hl
    exact ⟨_, c1, c2, hX v hv hl⟩
  have hfin : ∀ x, ∀ y, y = a_location ((ca_pb P s + k + 1) * 32 + ca_nk P s k) → (y = -1 → ca_XR P a_location (ca_ex a_codeTo a_codeFrom a_codeSwap m b a_cells) (upd val (ca_nk P s k) x) (ca_pb P s + k + 1)) ∧ (∀ c, c < 40 → y = nI c → ca_XR P a_location (upd (ca_ex a_codeTo a_codeFrom a_codeSwap m b a_cells) c x) (upd val (ca_nk P s k) x) (ca_pb P s + k + 1)) := by
    intro x y ey
    refine ⟨fun h v hv hl => ?_, fun c hc h v hv hl => ?_⟩
    · have hne : v ≠ ca_nk P s k := by
        intro e
        subst e
        obtain ⟨c1, c2⟩ := ca_LPcl hP1 hv hl
        rw [← ey, h] at c2
        exact ca_nm1 (by omega) c2.symm
      have hel : ca_elI P (ca_pb P s + k) v := ⟨hv, hl, by rw [hnm]; exact hne⟩
      have := b4 a_cells v hel
      dsimp only at this
      rw [this, pk_un hne]
      exact hX v hv (by rw [hnm]; exact hLvI v hel)
    · by_cases hne : v = ca_nk P s k
      · subst hne
        have : ca_cl a_location ((ca_pb P s + k + 1) * 32 + ca_nk P s k) = c := by
          unfold ca_cl
          rw [← ey, h, nI_clamp (by omega)]
        rw [this, pk_us, pk_us]
      · have hel : ca_elI P (ca_pb P s + k) v := ⟨hv, hl, by rw [hnm]; exact hne⟩
        have hcl : ca_cl a_location ((ca_pb P s + k + 1) * 32 + v) ≠ c := by
          intro e
          obtain ⟨c1, c2⟩ := ca_LPcl hP1 hv hl
          rw [e] at c2
          exact hne (hP1.2.2 v _ c (by omega) (by omega) hc c2 (by rw [← ey]; exact h))
        have := b4 a_cells v hel
        dsimp only at this
        rw [pk_un hcl, pk_un hne, this]
        exact hX v hv (by rw [hnm]; exact hLvI v hel)
  have hy : a_location ((ca_pb P s + k + 1) * 32 + ca_nk P s k) = -1 ∨ ∃ c, c < 40 ∧ a_location ((ca_pb P s + k + 1) * 32 + ca_nk P s k) = nI c := by
    by_cases hl : ca_Lv P (ca_nk P s k) (ca_nm P (ca_pb P s + k + 1))
    · obtain ⟨c1, c2⟩ := ca_LPcl hP1 hq32.2.1 hl
      exact Or.inr ⟨_, c1, c2⟩
    · exact Or.inl (hP1.2.1 _ hq32.1 (fun z => hl z.2))
  have hus : ∀ d, ca_us P d (ca_nk P s k) → d < ca_N P ∧ ca_Lv P d (ca_nk P s k) := fun d hd => ⟨(hST _ hq32.2.1 hq32.2.2 d hd).1, 0, hd⟩
  generalize ca_nk P s k = i at *
  generalize ca_pb P s + k = p at *
  have hk7 := (hF i hq32.2.1).1
  have tail : ∀ {f0 : Int32} {ol : Nat → Int32} (x : Int32), (∀ c, ca_XR P a_location c (upd val i x) (p + 1) → post (f_phiKind, f_jumpKind, f_branchKind, f_retKind, f_far, f_registerEnd, f_firstSlot, f_cellEnd, f_edgeCode, f_blockLimit, f_itemLimit, (nI oL), f_stage, f_open, (nI (ca_B P)), (nI (ca_N P)), (nI (ca_E P)), (nI (ca_T P)), f_greatestPressure, f_everLive, f_registers, f_usedRegisters, f_placedBlocks, f_codeSize, (nI (p + 1)), f_returned, f0, a_blockStart, a_blockPhis, a_blockItems, a_termKind, a_termValue, a_termFirst, a_termSecond, a_itemKind, a_itemA, a_itemB, a_itemBlock, a_edgeFrom, a_edgeTo, a_edgeOrder, a_edgeArgs, a_edgeSets, a_edgeBegin, a_edgeEnd, a_incoming, a_dominators, a_depth, a_parent, a_pointBase, a_pointBlock, a_pointItem, a_pointUses, a_live, a_distance, a_neighbours, a_colour, a_inRegisters, a_location, a_hint, a_taken, a_moveSource, a_moveReaders, a_codeTo, a_codeFrom, a_codeSwap, a_codeBegin, a_codeEnd, ol, a_params, c)) → ∀ y, y = nI p + 1 → vp_in (y * 32 + nI i) 1280 ∧ ∀ w, w = a_location (y * 32 + nI i).toNatClampNeg → (w < 0 → post (f_phiKind, f_jumpKind, f_branchKind, f_retKind, f_far, f_registerEnd, f_firstSlot, f_cellEnd, f_edgeCode, f_blockLimit, f_itemLimit, (nI oL), f_stage, f_open, (nI (ca_B P)), (nI (ca_N P)), (nI (ca_E P)), (nI (ca_T P)), f_greatestPressure, f_everLive, f_registers, f_usedRegisters, f_placedBlocks, f_codeSize, y, f_returned, f0, a_blockStart, a_blockPhis, a_blockItems, a_termKind, a_termValue, a_termFirst, a_termSecond, a_itemKind, a_itemA, a_itemB, a_itemBlock, a_edgeFrom, a_edgeTo, a_edgeOrder, a_edgeArgs, a_edgeSets, a_edgeBegin, a_edgeEnd, a_incoming, a_dominators, a_depth, a_parent, a_pointBase, a_pointBlock, a_pointItem, a_pointUses, a_live, a_distance, a_neighbours, a_colour, a_inRegisters, a_location, a_hint, a_taken, a_moveSource, a_moveReaders, a_codeTo, a_codeFrom, a_codeSwap, a_codeBegin, a_codeEnd, ol, a_params, (ca_ex a_codeTo a_codeFrom a_codeSwap m b a_cells))) ∧ (¬ w < 0 → vp_in w 40 ∧ ∀ c, c = upd (ca_ex a_codeTo a_codeFrom a_codeSwap m b a_cells) w.toNatClampNeg x → post (f_phiKind, f_jumpKind, f_branchKind, f_retKind, f_far, f_registerEnd, f_firstSlot, f_cellEnd, f_edgeCode, f_blockLimit, f_itemLimit, (nI oL), f_stage, f_open, (nI (ca_B P)), (nI (ca_N P)), (nI (ca_E P)), (nI (ca_T P)), f_greatestPressure, f_everLive, f_registers, f_usedRegisters, f_placedBlocks, f_codeSize, y, f_returned, f0, a_blockStart, a_blockPhis, a_blockItems, a_termKind, a_termValue, a_termFirst, a_termSecond, a_itemKind, a_itemA, a_itemB, a_itemBlock, a_edgeFrom, a_edgeTo, a_edgeOrder, a_edgeArgs, a_edgeSets, a_edgeBegin, a_edgeEnd, a_incoming, a_dominators, a_depth, a_parent, a_pointBase, a_pointBlock, a_pointItem, a_pointUses, a_live, a_distance, a_neighbours, a_colour, a_inRegisters, a_location, a_hint, a_taken, a_moveSource, a_moveReaders, a_codeTo, a_codeFrom, a_codeSwap, a_codeBegin, a_codeEnd, ol, a_params, c)) := by
    intro f0 ol x hp
    refine ca_in ?_
    rw [ca_mul32]
    rcases hy with h | ⟨c, hc, h⟩
    · exact ca_vi (ca_rd h (ca_m0 (hp _ ((hfin x _ rfl).1 h)))) (by omega)
    · exact ca_vi (ca_rd h (ca_lt0 (ca_vi (ca_wr (hp _ ((hfin x _ rfl).2 c hc h)))))) (by omega)
  unfold wpX_stepInstruction
  refine xl_evaluate (val := val) (cu := p) hW hF hP hq32.2.1 hq32.2.2 (by omega) hO hO2 (fun h2 => ?_) (fun h2 h7 => ?_) (fun h7 => ?_) (fun h7 hz => ?_) (fun h7 hz => ?_)
  · obtain ⟨u1, u2⟩ := hus (ca_aA P i) (Or.inl ⟨hq32.1, by
      by_cases h7 : ca_kd P i = 7
      · exact Or.inl ⟨h7, rfl⟩
      · exact Or.inr ⟨h2, by omega, Or.inl rfl⟩⟩)
    exact hX' _ u1 u2
  · obtain ⟨u1, u2⟩ := hus (ca_aB P i) (Or.inl ⟨hq32.1, Or.inr ⟨h2, by omega, Or.inr rfl⟩⟩)
    exact hX' _ u1 u2
  · exact xl_runMoves (k := p) rfl (by omega) hCD.1 b3 hCD.2.1 b1 b2 (tail _ (K1 h7))
  · exact xl_runMoves (k := p) rfl (by omega) hCD.1 b3 hCD.2.1 b1 b2 (tail _ (K2 h7 hz))
  · exact xl_runMoves (k := p) rfl (by omega) hCD.1 b3 hCD.2.1 b1 b2 (tail _ (K3 h7 hz))
theorem xl_stepTerminator {post : SX → Prop} {s R M z : Nat} {val : Nat → Int32} (hW : ca_WF P) (hF : ca_IF P) (hTF : ca_TF P (ca_B P)) (hT : ca_TE P) (hSt : ca_STt P) (hSa : ca_STa P) (hA : ca_AT P (ca_B P) a_termKind a_termValue a_termFirst a_termSecond) (hE : ca_AE P a_edgeFrom a_edgeTo a_edgeOrder) (hG : ca_AG P a_edgeBegin a_edgeEnd) (hL : ca_AL P a_pointBase a_pointBlock a_pointItem a_pointUses) (hLP : ∀ p, p < ca_T P → ca_LP P R M a_location p) (hCD : ca_CD P a_location a_codeTo a_codeFrom a_codeSwap a_codeBegin a_codeEnd z) (hs : s < ca_B P) (hX : ca_XR P a_location a_cells val (ca_pb P s + ca_ni P s)) (Kr : ca_tk P s = 2 → post (f_phiKind, f_jumpKind, f_branchKind, f_retKind, f_far, f_registerEnd, f_firstSlot, f_cellEnd, f_edgeCode, f_blockLimit, f_itemLimit, f_outLimit, 3, f_open, (nI (ca_B P)), (nI (ca_N P)), (nI (ca_E P)), (nI (ca_T P)), f_greatestPressure, f_everLive, f_registers, f_usedRegisters, f_placedBlocks, f_codeSize, (nI (ca_pb P s + ca_ni P s)), (val (ca_tv P s)), f_outSize, a_blockStart, a_blockPhis, a_blockItems, a_termKind, a_termValue, a_termFirst, a_termSecond, a_itemKind, a_itemA, a_itemB, a_itemBlock, a_edgeFrom, a_edgeTo, a_edgeOrder, a_edgeArgs, a_edgeSets, a_edgeBegin, a_edgeEnd, a_incoming, a_dominators, a_depth, a_parent, a_pointBase, a_pointBlock, a_pointItem, a_pointUses, a_live, a_distance, a_neighbours, a_colour, a_inRegisters, a_location, a_hint, a_taken, a_moveSource, a_moveReaders, a_codeTo, a_codeFrom, a_codeSwap, a_codeBegin, a_codeEnd, a_outLog, a_params, a_cells)) (Ke : ca_tk P s ≠ 2 → ∀ e, ca_ch P s (val (ca_tv P s)) e → ∀ c, ca_XR P a_location c (fun v => val (ca_src P e v)) (ca_pb P (ca_tg P e)) → post (f_phiKind, f_jumpKind, f_branchKind, f_retKind, f_far, f_registerEnd, f_firstSlot, f_cellEnd, f_edgeCode, f_blockLimit, f_itemLimit, f_outLimit, f_stage, f_open, (nI (ca_B P)), (nI (ca_N P)), (nI (ca_E P)), (nI (ca_T P)), f_greatestPressure, f_everLive, f_registers, f_usedRegisters, f_placedBlocks, f_codeSize, (nI (ca_pb P (ca_tg P e))), f_returned, f_outSize, a_blockStart, a_blockPhis, a_blockItems, a_termKind, a_termValue, a_termFirst, a_termSecond, a_itemKind, a_itemA, a_itemB, a_itemBlock, a_edgeFrom, a_edgeTo, a_edgeOrder, a_edgeArgs, a_edgeSets, a_edgeBegin, a_edgeEnd, a_incoming, a_dominators, a_depth, a_parent, a_pointBase, a_pointBlock, a_pointItem, a_pointUses, a_live, a_distance, a_neighbours, a_colour, a_inRegisters, a_location, a_hint, a_taken, a_moveSource, a_moveReaders, a_codeTo, a_codeFrom, a_codeSwap, a_codeBegin, a_codeEnd, a_outLog, a_params, c)) : wpX_stepTerminator post (f_phiKind, f_jumpKind, f_branchKind, f_retKind, f_far, f_registerEnd, f_firstSlot, f_cellEnd, f_edgeCode, f_blockLimit, f_itemLimit, f_outLimit, f_stage, f_open, (nI (ca_B P)), (nI (ca_N P)), (nI (ca_E P)), (nI (ca_T P)), f_greatestPressure, f_everLive, f_registers, f_usedRegisters, f_placedBlocks, f_codeSize, (nI (ca_pb P s + ca_ni P s)), f_returned, f_outSize, a_blockStart, a_blockPhis, a_blockItems, a_termKind, a_termValue, a_termFirst, a_termSecond, a_itemKind, a_itemA, a_itemB, a_itemBlock, a_edgeFrom, a_edgeTo, a_edgeOrder, a_edgeArgs, a_edgeSets, a_edgeBegin, a_edgeEnd, a_incoming, a_dominators, a_depth, a_parent, a_pointBase, a_pointBlock, a_pointItem, a_pointUses, a_live, a_distance, a_neighbours, a_colour, a_inRegisters, a_location, a_hint, a_taken, a_moveSource, a_moveReaders, a_codeTo, a_codeFrom, a_codeSwap, a_codeBegin, a_codeEnd, a_outLog, a_params, a_cells) := by
  have hB := ca_wB hW
  have hN := ca_wN hW
  have h40 := ca_T40' hW
  have hE16 := ca_Ele (P := P) hB
  have hpT := ca_ptlt (P := P) hs (Nat.le_refl (ca_ni P s))
  have hnm := ca_nmlast (P := P) hs
  have hA' := hA s hs
  have hF' := hTF s hs
  have hL' := (hL s hs).2 (ca_ni P s) (Nat.le_refl _)
  have hP0 := hLP _ hpT
  have x2 := ca_xele (P := P) hB (e := 2 * s) (by omega)
  have hval : ca_tk P s ≠ 0 → ∃ c, c < 40 ∧ a_location ((ca_pb P s + ca_ni P s) * 32 + ca_tv P s) = nI c ∧ a_cells c = val (ca_tv P s) := by
    intro h0
    have hl : ca_Lv P (ca_tv P s) (ca_nm P (ca_pb P s + ca_ni P s)) := by
      rw [hnm]
      refine ⟨0, Or.inr ⟨by omega, ?_, ?_⟩⟩
      · rw [show 32 + s - 32 = s by omega]; exact h0
      · rw [show 32 + s - 32 = s by omega]
    have hv := (hSt s hs h0).1
    obtain ⟨c1, c2⟩ := ca_LPcl hP0 hv hl
    exact ⟨_, c1, c2, hX _ hv hl⟩
  have edge : ca_tk P s ≠ 2 → ∀ e, ca_ch P s (val (ca_tv P s)) e → ∀ p2, p2 = nI (ca_xe P e) → wX_stepTerminator_75 post p2 f_phiKind f_jumpKind f_branchKind f_retKind f_far f_registerEnd f_firstSlot f_cellEnd f_edgeCode f_blockLimit f_itemLimit f_outLimit f_stage f_open (nI (ca_B P)) (nI (ca_N P)) (nI (ca_E P)) (nI (ca_T P)) f_greatestPressure f_everLive f_registers f_usedRegisters f_placedBlocks f_codeSize (nI (ca_pb P s + ca_ni P s)) f_returned f_outSize a_blockStart a_blockPhis a_blockItems a_termKind a_termValue a_termFirst a_termSecond a_itemKind a_itemA a_itemB a_itemBlock a_edgeFrom a_edgeTo a_edgeOrder a_edgeArgs a_edgeSets a_edgeBegin a_edgeEnd a_incoming a_dominators a_depth a_parent a_pointBase a_pointBlock a_pointItem a_pointUses a_live a_distance a_neighbours a_colour a_inRegisters a_location a_hint a_taken a_moveSource a_moveReaders a_codeTo a_codeFrom a_codeSwap a_codeBegin a_codeEnd a_outLog a_params a_cells := by
    intro h2 e hch p2 ep2
    subst ep2
    obtain ⟨he, hes⟩ := ca_chE hs hch
    have hE' := hE e he
    have hj := ca_exe he
    have ht := hT e he
    have hqT := ca_pbT ht
    have hP1 := hLP _ hqT
    have hnm1 := ca_nmst (P := P) ht
    obtain ⟨b, m, b1, b2, b3, b4⟩ := hCD.2.2.2 e he
    rw [hes] at b4
    refine xl_runMoves (k := 40 + ca_xe P e) (nI_add 40 _) (by omega) hCD.1 b3 hCD.2.1 b1 b2 (ca_vi (ca_vx (ca_tg P e) (ca_r hE'.2.1) (nm_r (e' := nI (ca_pb P (ca_tg P e))) (by rw [ca_r hE'.2.1, ca_r (hL _ ht).1]) (Ke h2 e hch _ fun v hv hl => ?_))))
    rw [hnm1] at hl
    have hel : ca_elE P e v := ⟨hv, hl⟩
    have h3 := b4 a_cells v hel
    dsimp only at h3
    rw [h3]
    have hsN : ca_src P e v < ca_N P := by
      unfold ca_src
      by_cases hp : ca_ph P v (ca_tg P e)
      · rw [if_pos hp]; exact hSa e he v hp
      · rw [if_neg hp]; exact hv
    refine hX _ hsN ?_
    rw [hnm, ← hes]
    exact ca_LvE hW hT he hel (ca_src32 hF hN hv)
  refine ca_vi (ca_rd hL'.1 (ca_vi (pk_eq (ca_tk P s) 2 (fun h2 => ?_) (fun h2 => ?_) (ca_r hA'.1))))
  · obtain ⟨c, c1, c2, c3⟩ := hval (by omega)
    refine ca_vi (xl_fetch (ca_r hA'.2.1) (by omega) hF'.2.1 c2 c1 ?_)
    rw [c3]
    exact Kr h2
  · refine ca_vi (ca_rd (hG s hs).1 (ca_vi (pk_eq (ca_tk P s) 1 (fun h1 => ?_) (fun h1 => ?_) (ca_r hA'.1))))
    · obtain ⟨c, c1, c2, c3⟩ := hval (by omega)
      refine ca_vi (xl_fetch (ca_r hA'.2.1) (by omega) hF'.2.1 c2 c1 ?_)
      rw [c3]
      refine br_c (fun hv0 => nm_e (edge h2 (2 * s + 1) (Or.inr ⟨h1, Or.inl ⟨hv0, rfl⟩⟩) _ ?_)) (fun hv0 => edge h2 (2 * s) (Or.inr ⟨h1, Or.inr ⟨hv0, rfl⟩⟩) _ rfl)
      rw [nI_1, ca_xes ((ca_isE0 s).mpr ⟨hs, h2⟩)]
    · exact edge h2 (2 * s) (Or.inl ⟨by omega, rfl⟩) _ rfl
end
end
section
/-! Y: counting, allocate, steps -/
section
variable {P : ca_PG}
theorem ca_YDlv (h : ca_WF P) {d : Nat → Int32} (hD : ca_YD P d) {q v : Nat} (hq : q < 40) (hv : v < 32) : (d (q * 32 + v) = -1 ∧ ¬ (ca_isP P q ∧ v < ca_N P ∧ ca_Lv P v q)) ∨ (∃ k, k ≤ 40 ∧ ca_DI P v q k ∧ d (q * 32 + v) = nI k ∧ ca_isP P q ∧ v < ca_N P) := by
  obtain ⟨h1, h2⟩ := hD q v hq hv
  by_cases z : ca_isP P q ∧ v < ca_N P
  · rcases h1 z with ⟨k, k1, k2, k3⟩ | ⟨k1, k2⟩
    · exact Or.inr ⟨k, k1, k2, k3, z⟩
    · exact Or.inl ⟨k2, fun y => k1 y.2.2⟩
  · exact Or.inl ⟨h2 z, fun y => z ⟨y.1, y.2.1⟩⟩
noncomputable def ca_lq (P : ca_PG) (q : Nat) : Nat := ca_cn (fun v => ca_isP P q ∧ ca_Lv P v q) (ca_N P)
theorem ca_lqP {q : Nat} (h : ca_isP P q) : ca_lq P q = ca_lc P q := ca_cn_eq fun _ _ => ⟨fun z => z.2, fun z => ⟨h, z⟩⟩
theorem ca_lqN {q : Nat} (h : ¬ ca_isP P q) : ca_lq P q = 0 := ca_cn_no fun _ _ z => h z.1
theorem ca_lq32 (hW : ca_WF P) (q : Nat) : ca_lq P q ≤ 32 := by
  have := ca_cn_le (fun v => ca_isP P q ∧ ca_Lv P v q) (ca_N P)
  have := ca_wN hW
  unfold ca_lq; omega
variable {g_blockLimit g_itemLimit g_outLimit g_stage g_blocks g_items g_open g_outs g_point g_regs g_answer : Int32} {b_kind b_block b_argA b_argB b_term b_termValue b_first b_second b_dist b_params b_val b_log b_reached b_level b_fresh b_key b_colour : Nat → Int32}
theorem yl_live {post : Int32 → Prop} {v q : Nat} {p1 : Int32} (e1 : p1 = nI q) (hW : ca_WF P) (hD : ca_YD P b_dist) (hq : q < 40) (hv : v < ca_N P) (h1 : ca_isP P q → ca_Lv P v q → post 1) (h0 : ¬ (ca_isP P q ∧ ca_Lv P v q) → post 0) : wpY_live post (g_blockLimit, g_itemLimit, g_outLimit, g_stage, (nI (ca_B P)), (nI (ca_N P)), g_open, g_outs, g_point, g_regs, g_answer, b_kind, b_block, b_argA, b_argB, b_term, b_termValue, b_first, b_second, b_dist, b_params, b_val, b_log, b_reached, b_level, b_fresh, b_key, b_colour) (nI v) p1 := by
  subst e1
  have hN := ca_wN hW
  show vp_in (nI q * 32 + nI v) 1280 ∧ _
  rw [ca_mul32]
  refine ca_vi ?_ (by omega)
  rw [nI_clamp (n := q * 32 + v) (by omega)]
  rcases ca_YDlv hW hD hq (show v < 32 by omega) with ⟨z1, z2⟩ | ⟨k, k1, k2, k3, k4, k5⟩
  · rw [z1]; exact ca_m0 (h0 fun y => z2 ⟨y.1, hv, y.2⟩)
  · rw [k3]; exact ca_lt0 (h1 k4 ⟨k, k2.1⟩)
theorem yl_liveCount {post : Int32 → Prop} {q : Nat} (hW : ca_WF P) (hD : ca_YD P b_dist) (hq : q < 40) (K : post (nI (ca_lq P q))) : wpY_liveCount post (g_blockLimit, g_itemLimit, g_outLimit, g_stage, (nI (ca_B P)), (nI (ca_N P)), g_open, g_outs, g_point, g_regs, g_answer, b_kind, b_block, b_argA, b_argB, b_term, b_termValue, b_first, b_second, b_dist, b_params, b_val, b_log, b_reached, b_level, b_fresh, b_key, b_colour) (nI q) := by
  have hN := ca_wN hW
  refine ca_loop (σ := Int32) (fun n v c => wY_liveCount_4 post (nI q) g_blockLimit g_itemLimit g_outLimit g_stage (nI (ca_B P)) (nI (ca_N P)) g_open g_outs g_point g_regs g_answer b_kind b_block b_argA b_argB b_term b_termValue b_first b_second b_dist b_params b_val b_log b_reached b_level b_fresh b_key b_colour n c (nI v)) (fun v c => c = nI (ca_cn (fun v => ca_isP P q ∧ ca_Lv P v q) v)) 0 (ca_N P) (by omega) 0 rfl ?_ ?_
  · intro n c hc
    refine br_t (nI_le (Nat.le_refl _) (by omega)) ?_
    rw [hc]; exact K
  · intro n v c _ hv hc ih
    subst hc
    refine br_f (nI_ge hv (by omega)) (yl_live rfl hW hD hq hv (fun h1 h2 => ?_) (fun h => ?_))
    · refine br_f (by decide) (nm_r (nI_1 _) (ca_in (ih _ ?_)))
      rw [ca_cn_t (P := fun v => ca_isP P q ∧ ca_Lv P v q) ⟨h1, h2⟩]
    · refine br_t rfl (ca_in (ih _ ?_))
      rw [ca_cn_f (P := fun v => ca_isP P q ∧ ca_Lv P v q) h]
theorem yl_al83 {post : Int32 → SY → Prop} {R : Nat} (hR : R ≤ 6) (hW : ca_WF P) (hD : ca_YD P b_dist) (K : post (nI (ca_cn (fun q => R < ca_lq P q) 40)) (g_blockLimit, g_itemLimit, g_outLimit, g_stage, (nI (ca_B P)), (nI (ca_N P)), g_open, g_outs, g_point, (nI R), g_answer, b_kind, b_block, b_argA, b_argB, b_term, b_termValue, b_first, b_second, b_dist, b_params, b_val, b_log, b_reached, b_level, b_fresh, b_key, b_colour)) : ∃ n, wY_allocate_83 post g_blockLimit g_itemLimit g_outLimit g_stage (nI (ca_B P)) (nI (ca_N P)) g_open g_outs g_point (nI R) g_answer b_kind b_block b_argA b_argB b_term b_termValue b_first b_second b_dist b_params b_val b_log b_reached b_level b_fresh b_key b_colour n 0 0 := by
  refine ca_loop (σ := Int32) (fun n q c => wY_allocate_83 post g_blockLimit g_itemLimit g_outLimit g_stage (nI (ca_B P)) (nI (ca_N P)) g_open g_outs g_point (nI R) g_answer b_kind b_block b_argA b_argB b_term b_termValue b_first b_second b_dist b_params b_val b_log b_reached b_level b_fresh b_key b_colour n c (nI q)) (fun q c => c = nI (ca_cn (fun q => R < ca_lq P q) q)) 0 40 (by omega) 0 rfl ?_ ?_
  · intro n c hc
    refine br_t (nI_le (a := 40) (b := 40) (Nat.le_refl _) (by decide)) ?_
    rw [hc]; exact K
  · intro n q c _ hq hc ih
    subst hc
    have := ca_lq32 hW q
    refine br_f (nI_ge (b := 40) hq (by decide)) (yl_liveCount hW hD hq (pk_le (ca_lq P q) R (fun z => ca_in (ih _ ?_)) (fun z => nm_r (nI_1 _) (ca_in (ih _ ?_)))))
    · rw [ca_cn_f (P := fun q => R < ca_lq P q) (by omega)]
    · rw [ca_cn_t (P := fun q => R < ca_lq P q) (by omega)]
theorem yl_al31 {post : Int32 → SY → Prop} {R : Nat} {p0 : Int32} (e0 : p0 = nI R) (hR : R ≤ 6) (hW : ca_WF P) (hB0 : 0 < ca_B P) (hFI : ca_IF P) (hP : ca_AP P b_kind b_block b_argA b_argB) (hD : ca_YD P b_dist) (K : ∀ val, (∀ i, i < 32 → val i = 0) → post (nI (ca_cn (fun q => R < ca_lq P q) 40)) (g_blockLimit, g_itemLimit, g_outLimit, 2, (nI (ca_B P)), (nI (ca_N P)), g_open, 0, (nI (ca_st P 0)), (nI R), 0, b_kind, b_block, b_argA, b_argB, b_term, b_termValue, b_first, b_second, b_dist, b_params, val, b_log, b_reached, b_level, b_fresh, b_key, b_colour)) : wY_allocate_31 post p0 g_blockLimit g_itemLimit g_outLimit g_stage (nI (ca_B P)) (nI (ca_N P)) g_open g_outs g_point g_regs g_answer b_kind b_block b_argA b_argB b_term b_termValue b_first b_second b_dist b_params b_val b_log b_reached b_level b_fresh b_key b_colour := by
  subst e0
  refine ca_loop (σ := Nat → Int32) (fun n i val => wY_allocate_46 post g_blockLimit g_itemLimit g_outLimit g_stage (nI (ca_B P)) (nI (ca_N P)) g_open 0 g_point (nI R) 0 n (nI i) b_kind b_block b_argA b_argB b_term b_termValue b_first b_second b_dist b_params val b_log b_reached b_level b_fresh b_key b_colour) (fun i val => ∀ j, j < i → val j = 0) 0 32 (by omega) b_val (fun j hj => by omega) ?_ ?_
  · intro n val hval
    exact br_t (nI_le (a := 32) (b := 32) (Nat.le_refl _) (by decide)) (yl_startOf (s := 0) rfl hW hFI hP hB0 (yl_al83 hR hW hD (K val hval)))
  · intro n i val _ hi hval ih
    refine br_f (nI_ge (b := 32) hi (by decide)) (ca_vi (ca_wr (ca_in (ih _ fun j hj => ?_))))
    by_cases z : j = i
    · subst z; exact pk_us
    · rw [pk_un z]; exact hval j (by omega)
theorem yl_evaluate {post : Int32 → Prop} {i : Nat} (hW : ca_WF P) (hF : ca_IF P) (hP : ca_AP P b_kind b_block b_argA b_argB) (hi : i < ca_N P) (h8 : ca_kd P i ≠ 8) (K : post (ca_ev P b_argA b_params b_val i)) : wpY_evaluate post (g_blockLimit, g_itemLimit, g_outLimit, g_stage, (nI (ca_B P)), (nI (ca_N P)), g_open, g_outs, g_point, g_regs, g_answer, b_kind, b_block, b_argA, b_argB, b_term, b_termValue, b_first, b_second, b_dist, b_params, b_val, b_log, b_reached, b_level, b_fresh, b_key, b_colour) (nI i) := by
  have hN := ca_wN hW
  have hP' := hP i hi
  have hF' := hF i hi
  unfold ca_ev at K
  have hk := hF'.1
  refine ca_vi (ca_rd rfl (ca_vi (ca_rd rfl (ca_vi (pk_eq (ca_kd P i) 0 (fun z => ?_) (fun z => ca_vi (pk_eq (ca_kd P i) 1 (fun y => ?_) (fun y => ?_) (ca_r hP'.1))) (ca_r hP'.1))))))
  · rw [if_pos z] at K; exact K
  · rw [if_neg z, if_pos y] at K
    have ha := hF'.2.1 y
    rw [hP'.2.2.1 (by omega)]
    refine ca_vi ?_
    rw [nI_clamp (n := ca_aA P i) (by omega)]
    exact K
  · rw [if_neg z, if_neg y] at K
    have ha := hF'.2.2.1 (by omega)
    rw [hP'.2.2.1 (by omega)]
    by_cases h7 : ca_kd P i = 7
    · rw [if_neg (by omega), if_neg (by omega), if_neg (by omega), if_neg (by omega), if_neg (by omega)] at K
      refine ca_vi (pk_eq (ca_kd P i) 2 (fun w => by omega) (fun _ => ca_vi (pk_eq (ca_kd P i) 3 (fun w => by omega) (fun _ => ca_vi (pk_eq (ca_kd P i) 4 (fun w => by omega) (fun _ => ca_vi (pk_eq (ca_kd P i) 5 (fun w => by omega) (fun _ => ca_vi (pk_eq (ca_kd P i) 6 (fun w => by omega) (fun _ => ca_vi ?_) (ca_r hP'.1))) (ca_r hP'.1))) (ca_r hP'.1))) (ca_r hP'.1))) (ca_r hP'.1))
      rw [nI_clamp (n := ca_aA P i) (by omega)]
      exact K
    · have hb := hF'.2.2.2 (by omega) h7
      rw [hP'.2.2.2 (by omega) h7, nI_clamp (n := ca_aA P i) (by omega), nI_clamp (n := ca_aB P i) (by omega)]
      refine ca_vi (pk_eq (ca_kd P i) 2 (fun w => ca_vi (ca_vi ?_)) (fun w2 => ca_vi (pk_eq (ca_kd P i) 3 (fun w => ca_vi (ca_vi ?_)) (fun w3 => ca_vi (pk_eq (ca_kd P i) 4 (fun w => ca_vi (ca_vi ?_)) (fun w4 => ca_vi (pk_eq (ca_kd P i) 5 (fun w => ca_vi (ca_vi ?_)) (fun w5 => ca_vi (pk_eq (ca_kd P i) 6 (fun w => ca_vi (ca_vi ?_)) (fun w6 => by omega) (ca_r hP'.1))) (ca_r hP'.1))) (ca_r hP'.1))) (ca_r hP'.1))) (ca_r hP'.1))
      · rw [if_pos w] at K; exact K
      · rw [if_neg w2, if_pos w] at K; exact K
      · rw [if_neg w2, if_neg w3, if_pos w] at K; exact K
      · rw [if_neg w2, if_neg w3, if_neg w4, if_pos w] at K; exact K
      · rw [if_neg w2, if_neg w3, if_neg w4, if_neg w5, if_pos w] at K
        refine br_c (fun q => ?_) (fun q => ?_)
        · rw [if_pos q] at K; exact K
        · rw [if_neg q] at K; exact K
theorem yl_stepI {post : SY → Prop} {q oL O : Nat} (hW : ca_WF P) (hT : ca_TE P) (hFI : ca_IF P) (hF : ca_TF P (ca_B P)) (hY : ca_YT P (ca_B P) b_term b_termValue b_first b_second) (hP : ca_AP P b_kind b_block b_argA b_argB) (hq : q < 32) (hqN : q < ca_N P) (h8 : ca_kd P q ≠ 8) (hO : oL ≤ 32) (hO2 : O ≤ oL) (K1 : ca_kd P q ≠ 7 → post (g_blockLimit, g_itemLimit, (nI oL), g_stage, (nI (ca_B P)), (nI (ca_N P)), g_open, (nI O), (nI (ca_nx P q 0)), g_regs, g_answer, b_kind, b_block, b_argA, b_argB, b_term, b_termValue, b_first, b_second, b_dist, b_params, (upd b_val q (ca_ev P b_argA b_params b_val q)), b_log, b_reached, b_level, b_fresh, b_key, b_colour)) (K2 : ca_kd P q = 7 → oL ≤ O → post (g_blockLimit, g_itemLimit, (nI oL), g_stage, (nI (ca_B P)), (nI (ca_N P)), g_open, (nI O), (nI (ca_nx P q 0)), g_regs, g_answer, b_kind, b_block, b_argA, b_argB, b_term, b_termValue, b_first, b_second, b_dist, b_params, (upd b_val q (ca_ev P b_argA b_params b_val q)), b_log, b_reached, b_level, b_fresh, b_key, b_colour)) (K3 : ca_kd P q = 7 → O < oL → post (g_blockLimit, g_itemLimit, (nI oL), g_stage, (nI (ca_B P)), (nI (ca_N P)), g_open, (nI (O + 1)), (nI (ca_nx P q 0)), g_regs, g_answer, b_kind, b_block, b_argA, b_argB, b_term, b_termValue, b_first, b_second, b_dist, b_params, (upd b_val q (ca_ev P b_argA b_params b_val q)), (upd b_log O (ca_ev P b_argA b_params b_val q)), b_reached, b_level, b_fresh, b_key, b_colour)) : wpY_step post (g_blockLimit, g_itemLimit, (nI oL), g_stage, (nI (ca_B P)), (nI (ca_N P)), g_open, (nI O), (nI q), g_regs, g_answer, b_kind, b_block, b_argA, b_argB, b_term, b_termValue, b_first, b_second, b_dist, b_params, b_val, b_log, b_reached, b_level, b_fresh, b_key, b_colour) := by
  have hN := ca_wN hW
  have hP' := hP q hqN
  have hk := (hFI q hqN).1
  have hisP : ca_isP P q := Or.inl ⟨hq, hqN, h8⟩
  have fin : ∀ {f0 : Int32} {vl ol : Nat → Int32}, post (g_blockLimit, g_itemLimit, (nI oL), g_stage, (nI (ca_B P)), (nI (ca_N P)), g_open, f0, (nI (ca_nx P q 0)), g_regs, g_answer, b_kind, b_block, b_argA, b_argB, b_term, b_termValue, b_first, b_second, b_dist, b_params, vl, ol, b_reached, b_level, b_fresh, b_key, b_colour) → wY_step_73 post g_blockLimit g_itemLimit (nI oL) g_stage (nI (ca_B P)) (nI (ca_N P)) g_open f0 (nI q) g_regs g_answer b_kind b_block b_argA b_argB b_term b_termValue b_first b_second b_dist b_params vl ol b_reached b_level b_fresh b_key b_colour := by
    intro f0 vl ol hp
    exact yl_next (w := 0) hW hT hFI hF hY hP hisP (by omega) (fun _ => hp) (fun z => absurd (Or.inl ⟨hq, rfl⟩) z)
  refine pk_le 32 q (fun z => by omega) (fun _ => yl_evaluate hW hFI hP hqN h8 (ca_vi (ca_wr (ca_vi (pk_eq (ca_kd P q) 7 (fun z => ?_) (fun z => fin (K1 z)) (ca_r hP'.1))))))
  exact pk_le oL O (fun w => fin (K2 z w)) (fun w => ca_vi (ca_wr (ca_in (fin (K3 z w)))))
noncomputable def ca_vn (P : ca_PG) (e : Nat) (val base : Nat → Int32) (i : Nat) : Nat → Int32 := fun j => if j < i then val (ca_src P e j) else base j
theorem ca_vn0 (P : ca_PG) (e : Nat) (val base : Nat → Int32) : ca_vn P e val base 0 = base := by
  funext j
  exact if_neg (by omega)
theorem ca_vns (P : ca_PG) (e : Nat) (val base : Nat → Int32) (i : Nat) : upd (ca_vn P e val base i) i (val (ca_src P e i)) = ca_vn P e val base (i + 1) := by
  funext j
  unfold ca_vn
  by_cases z : j = i
  · subst z; rw [pk_us, if_pos (by omega)]
  · rw [pk_un z]
    by_cases y : j < i
    · rw [if_pos y, if_pos (by omega)]
    · rw [if_neg y, if_neg (by omega)]
theorem yl_stepT {post : SY → Prop} {s : Nat} (hW : ca_WF P) (hT : ca_TE P) (hFI : ca_IF P) (hF : ca_TF P (ca_B P)) (hY : ca_YT P (ca_B P) b_term b_termValue b_first b_second) (hP : ca_AP P b_kind b_block b_argA b_argB) (hs : s < ca_B P) (Kr : ca_tk P s = 2 → post (g_blockLimit, g_itemLimit, g_outLimit, 3, (nI (ca_B P)), (nI (ca_N P)), g_open, g_outs, (nI (32 + s)), g_regs, (b_val (ca_tv P s)), b_kind, b_block, b_argA, b_argB, b_term, b_termValue, b_first, b_second, b_dist, b_params, b_val, b_log, b_reached, b_level, b_fresh, b_key, b_colour)) (Ke : ca_tk P s ≠ 2 → ∀ e, ca_ch P s (b_val (ca_tv P s)) e → post (g_blockLimit, g_itemLimit, g_outLimit, g_stage, (nI (ca_B P)), (nI (ca_N P)), g_open, g_outs, (nI (ca_st P (ca_tg P e))), g_regs, g_answer, b_kind, b_block, b_argA, b_argB, b_term, b_termValue, b_first, b_second, b_dist, b_params, (ca_vn P e b_val b_val (ca_N P)), b_log, b_reached, b_level, (ca_vn P e b_val b_fresh (ca_N P)), b_key, b_colour)) : wpY_step post (g_blockLimit, g_itemLimit, g_outLimit, g_stage, (nI (ca_B P)), (nI (ca_N P)), g_open, g_outs, (nI (32 + s)), g_regs, g_answer, b_kind, b_block, b_argA, b_argB, b_term, b_termValue, b_first, b_second, b_dist, b_params, b_val, b_log, b_reached, b_level, b_fresh, b_key, b_colour) := by
  have hB := ca_wB hW
  have hN := ca_wN hW
  have hY' := hY s hs
  have hF' := hF s hs
  have edge : ca_tk P s ≠ 2 → ∀ e, ca_ch P s (b_val (ca_tv P s)) e → ∀ p2, p2 = nI e → wY_step_157 post p2 g_blockLimit g_itemLimit g_outLimit g_stage (nI (ca_B P)) (nI (ca_N P)) g_open g_outs (nI (32 + s)) g_regs g_answer b_kind b_block b_argA b_argB b_term b_termValue b_first b_second b_dist b_params b_val b_log b_reached b_level b_fresh b_key b_colour := by
    intro h2 e hch p2 ep2
    subst ep2
    obtain ⟨he, hes⟩ := ca_chE hs hch
    have hel := ca_elt he
    have ht := hT e he
    have hen := ca_enole hB he
    refine yl_target rfl (by omega) hB hF hY (fun _ => yl_edgeNumber rfl hB hF hY he ?_) (fun z => absurd he z)
    refine ca_loop (σ := Nat → Int32) (fun n i fr => wY_step_173 post (nI (ca_tg P e)) (nI (ca_eno P e)) g_blockLimit g_itemLimit g_outLimit g_stage (nI (ca_B P)) (nI (ca_N P)) g_open g_outs (nI (32 + s)) g_regs g_answer n (nI i) b_kind b_block b_argA b_argB b_term b_termValue b_first b_second b_dist b_params b_val b_log b_reached b_level fr b_key b_colour) (fun i fr => fr = ca_vn P e b_val b_fresh i) 0 (ca_N P) (by omega) b_fresh (ca_vn0 _ _ _ _).symm ?_ ?_
    · intro n fr hfr
      subst hfr
      refine br_t (nI_le (Nat.le_refl _) (by omega)) ?_
      refine ca_loop (σ := Nat → Int32) (fun n i vl => wY_step_267 post (nI (ca_tg P e)) g_blockLimit g_itemLimit g_outLimit g_stage (nI (ca_B P)) (nI (ca_N P)) g_open g_outs (nI (32 + s)) g_regs g_answer n (nI i) b_kind b_block b_argA b_argB b_term b_termValue b_first b_second b_dist b_params vl b_log b_reached b_level (ca_vn P e b_val b_fresh (ca_N P)) b_key b_colour) (fun i vl => vl = ca_vn P e b_val b_val i) 0 (ca_N P) (by omega) b_val (ca_vn0 _ _ _ _).symm ?_ ?_
      · intro n vl hvl
        subst hvl
        exact br_t (nI_le (Nat.le_refl _) (by omega)) (yl_startOf rfl hW hFI hP ht (Ke h2 e hch))
      · intro n i vl _ hi hvl ih
        subst hvl
        refine br_f (nI_ge hi (by omega)) (ca_vi (ca_vi (ca_wx i rfl (w := b_val (ca_src P e i)) (ca_r (if_pos hi)) (ca_in (ih _ (ca_vns _ _ _ _ _))))))
    · intro n i fr _ hi hfr ih
      have hP' := hP i hi
      have hk := (hFI i hi).1
      have hbi := (ca_wb hW hi).1
      have fin : ∀ fr', (∀ v, v ≠ i → fr' v = fr v) → fr' i = b_val (ca_src P e i) → wY_step_173 post (nI (ca_tg P e)) (nI (ca_eno P e)) g_blockLimit g_itemLimit g_outLimit g_stage (nI (ca_B P)) (nI (ca_N P)) g_open g_outs (nI (32 + s)) g_regs g_answer n (nI (i + 1)) b_kind b_block b_argA b_argB b_term b_termValue b_first b_second b_dist b_params b_val b_log b_reached b_level (fr') b_key b_colour := by
        intro fr' h1 h2
        refine ih fr' ?_
        rw [← ca_vns]
        funext v
        by_cases z : v = i
        · subst z; rw [pk_us]; exact h2
        · rw [h1 v z, pk_un z, hfr]
      have nph : ¬ ca_ph P i (ca_tg P e) → wY_step_173 post (nI (ca_tg P e)) (nI (ca_eno P e)) g_blockLimit g_itemLimit g_outLimit g_stage (nI (ca_B P)) (nI (ca_N P)) g_open g_outs (nI (32 + s)) g_regs g_answer n (nI (i + 1)) b_kind b_block b_argA b_argB b_term b_termValue b_first b_second b_dist b_params b_val b_log b_reached b_level (upd fr i (b_val i)) b_key b_colour := by
        intro z
        refine fin _ (fun v hv => pk_un hv) ?_
        rw [pk_us]
        unfold ca_src; rw [if_neg z]
      refine br_f (nI_ge hi (by omega)) (ca_vi (ca_vi (ca_wx i rfl (ca_r rfl) (ca_vi (pk_eq (ca_kd P i) 8 (fun z => ca_vi (pk_eq (ca_bl P i) (ca_tg P e) (fun y => ?_) (fun y => ca_in (nph fun x => y x.2.2)) (ca_r hP'.2.1))) (fun z => ca_in (nph fun x => z x.2.1)) (ca_r hP'.1))))))
      have hph : ca_ph P i (ca_tg P e) := ⟨hi, z, y⟩
      have ha1 := (hFI i hi).2.2.1 (by omega)
      have ha2 := (hFI i hi).2.2.2 (by omega) (by omega)
      have esrc : ca_src P e i = ca_arg P e i := by unfold ca_src; rw [if_pos hph]
      refine pk_eq (ca_eno P e) 0 (fun x => ?_) (fun x => ?_)
      · have ea : b_argA (nI i).toNatClampNeg = nI (ca_aA P i) := ca_r (hP'.2.2.1 (by omega))
        refine ca_vi (ca_vx (ca_aA P i) ea (ca_vi (ca_wx i rfl (w := b_val (ca_aA P i)) (by rw [ea, nI_clamp (n := ca_aA P i) (by omega)]) (ca_in (fin _ (fun v hv => ?_) ?_)))))
        · rw [pk_un hv, pk_un hv]
        · rw [pk_us, esrc]; unfold ca_arg; rw [if_pos x]
      · have ea : b_argB (nI i).toNatClampNeg = nI (ca_aB P i) := ca_r (hP'.2.2.2 (by omega) (by omega))
        refine ca_vi (ca_vx (ca_aB P i) ea (ca_vi (ca_wx i rfl (w := b_val (ca_aB P i)) (by rw [ea, nI_clamp (n := ca_aB P i) (by omega)]) (ca_in (fin _ (fun v hv => ?_) ?_)))))
        · rw [pk_un hv, pk_un hv]
        · rw [pk_us, esrc]; unfold ca_arg; rw [if_neg x]
  have ev : b_termValue (nI s).toNatClampNeg = nI (ca_tv P s) := ca_r hY'.2.1
  refine pk_le 32 (32 + s) (fun _ => nm_r (e' := nI s) ?_ (ca_vi (pk_eq (ca_tk P s + 1) 3 (fun h2 => ?_) (fun h2 => nm_r (ca_tw s) (ca_vi (pk_eq (ca_tk P s + 1) 2 (fun h1 => ?_) (fun h1 => edge (by omega) (2 * s) (Or.inl ⟨by omega, rfl⟩) _ rfl) (ca_r hY'.1)))) (ca_r hY'.1)))) (fun z => by omega)
  · rw [show nI (32 + s) - 32 = nI (32 + s - 32) from pk_sub (b := 32) (by omega), show 32 + s - 32 = s by omega]
  · refine ca_vi (ca_vx (ca_tv P s) ev (nm_r (e' := b_val (ca_tv P s)) (by rw [ev, nI_clamp (n := ca_tv P s) (by omega)]) (Kr (by omega))))
  · refine ca_vi (ca_vx (ca_tv P s) ev ?_)
    rw [ev, nI_clamp (n := ca_tv P s) (by omega)]
    exact br_c (fun hv0 => nm_r (nI_1 _) (edge (by omega) (2 * s + 1) (Or.inr ⟨by omega, Or.inl ⟨hv0, rfl⟩⟩) _ rfl)) (fun hv0 => edge (by omega) (2 * s) (Or.inr ⟨by omega, Or.inr ⟨hv0, rfl⟩⟩) _ rfl)
end
end
section
/-! the relation -/
def ca_F0 (P : ca_PG) (bL iL oL O c : Nat) (st op : Int32) (bs bp bi tk tv t1 t2 kd ia ib bl ty : Nat → Int32) : Prop :=
  1 ≤ bL ∧ bL ≤ 8 ∧ 4 ≤ iL ∧ iL ≤ 32 ∧ 1 ≤ oL ∧ oL ≤ 32 ∧ O ≤ oL ∧ ca_B P ≤ bL ∧ ca_N P ≤ iL ∧ ca_WF P ∧ ca_IF P ∧ ((op = 0 ∧ c = ca_B P) ∨ (op = 1 ∧ c + 1 = ca_B P ∧ st = 0)) ∧ ca_AP P kd bl ia ib ∧ ca_AB P bs bp bi ∧ ca_TF P c ∧ ca_AT P c tk tv t1 t2 ∧ ca_AY P c ty
def ca_F1 (P : ca_PG) (op ed pt gp : Int32) (ef et eo ea es eb ee dep par pb pk pi pu lv ds ne col yd : Nat → Int32) : Prop :=
  op = 0 ∧ 0 < ca_B P ∧ ca_TE P ∧ ca_STi P ∧ ca_STt P ∧ ca_STp P ∧ ed = nI (ca_E P) ∧ pt = nI (ca_T P) ∧ ca_AE P ef et eo ∧ ca_AG P eb ee ∧ ca_Adp P dep ∧ ca_Apr P par ∧ ca_AL P pb pk pi pu ∧ ca_AM P ea es ∧ ca_AX P ds ∧ ca_AV P lv ∧ ca_AN P ne ∧ ca_Sol P col ∧ (∃ g, g ≤ 32 ∧ gp = nI g ∧ ca_Mx P (ca_lc P) g) ∧ ca_YD P yd
def ca_F2 (P : ca_PG) (rg yr us : Int32) (ir lo ct cf cs cb ce : Nat → Int32) : Prop := ∃ R M z, rg = nI R ∧ yr = nI R ∧ ca_ALC P R M z us ir lo ct cf cs cb ce
def ca_F3 (P : ca_PG) (cu pt : Int32) (lo cells val : Nat → Int32) : Prop := ∃ u, u < ca_T P ∧ cu = nI u ∧ pt = nI (ca_nm P u) ∧ ca_XR P lo cells val u
def ca_SG (P : ca_PG) (st op ed pt gp rg yr us cu yp : Int32) (ef et eo ea es eb ee dep par pb pk pi pu lv ds ne col yd ir lo ct cf cs cb ce cells val : Nat → Int32) : Prop :=
  st = 0 ∨ (ca_F1 P op ed pt gp ef et eo ea es eb ee dep par pb pk pi pu lv ds ne col yd ∧ (st = 1 ∨ (ca_F2 P rg yr us ir lo ct cf cs cb ce ∧ ((st = 2 ∧ ca_F3 P cu yp lo cells val) ∨ st = 3))))
def i_Rel (_ : Nat) (u : SX) (v : SY) : Prop := match u, v with
  | (f_phiKind, f_jumpKind, f_branchKind, f_retKind, f_far, f_registerEnd, f_firstSlot, f_cellEnd, f_edgeCode, f_blockLimit, f_itemLimit, f_outLimit, f_stage, f_open, f_blocks, f_items, f_edges, f_points, f_greatestPressure, f_everLive, f_registers, f_usedRegisters, f_placedBlocks, f_codeSize, f_current, f_returned, f_outSize, a_blockStart, a_blockPhis, a_blockItems, a_termKind, a_termValue, a_termFirst, a_termSecond, a_itemKind, a_itemA, a_itemB, a_itemBlock, a_edgeFrom, a_edgeTo, a_edgeOrder, a_edgeArgs, a_edgeSets, a_edgeBegin, a_edgeEnd, a_incoming, a_dominators, a_depth, a_parent, a_pointBase, a_pointBlock, a_pointItem, a_pointUses, a_live, a_distance, a_neighbours, a_colour, a_inRegisters, a_location, a_hint, a_taken, a_moveSource, a_moveReaders, a_codeTo, a_codeFrom, a_codeSwap, a_codeBegin, a_codeEnd, a_outLog, a_params, a_cells), (g_blockLimit, g_itemLimit, g_outLimit, g_stage, g_blocks, g_items, g_open, g_outs, g_point, g_regs, g_answer, b_kind, b_block, b_argA, b_argB, b_term, b_termValue, b_first, b_second, b_dist, b_params, b_val, b_log, b_reached, b_level, b_fresh, b_key, b_colour) => ∃ (P : ca_PG) (bL iL oL O c : Nat), (f_blockLimit = nI bL ∧ f_itemLimit = nI iL ∧ f_outLimit = nI oL ∧ f_blocks = nI (ca_B P) ∧ f_items = nI (ca_N P) ∧ f_outSize = nI O) ∧ (g_blockLimit = nI bL ∧ g_itemLimit = nI iL ∧ g_outLimit = nI oL ∧ g_stage = f_stage ∧ g_blocks = nI (ca_B P) ∧ g_items = nI (ca_N P) ∧ g_open = f_open ∧ g_outs = nI O ∧ g_answer = f_returned ∧ b_kind = a_itemKind ∧ b_block = a_itemBlock ∧ b_argA = a_itemA ∧ b_argB = a_itemB ∧ b_termValue = a_termValue ∧ b_first = a_termFirst ∧ b_second = a_termSecond ∧ b_params = a_params ∧ b_log = a_outLog) ∧
    ca_F0 P bL iL oL O c f_stage f_open a_blockStart a_blockPhis a_blockItems a_termKind a_termValue a_termFirst a_termSecond a_itemKind a_itemA a_itemB a_itemBlock b_term ∧
    ca_SG P f_stage f_open f_edges f_points f_greatestPressure f_registers g_regs f_usedRegisters f_current g_point a_edgeFrom a_edgeTo a_edgeOrder a_edgeArgs a_edgeSets a_edgeBegin a_edgeEnd a_depth a_parent a_pointBase a_pointBlock a_pointItem a_pointUses a_live a_distance a_neighbours a_colour b_dist a_inRegisters a_location a_codeTo a_codeFrom a_codeSwap a_codeBegin a_codeEnd a_cells b_val
theorem i_up {k : Nat} {u : SX} {v : SY} (h : i_Rel k u v) : i_Rel (k + 4) u v := h
theorem ca_el {k : Nat} {u : SX} {v : SY} {Q : SX → SY → Prop} (h : ∀ (f_phiKind f_jumpKind f_branchKind f_retKind f_far f_registerEnd f_firstSlot f_cellEnd f_edgeCode f_stage f_open f_edges f_points f_greatestPressure f_everLive f_registers f_usedRegisters f_placedBlocks f_codeSize f_current f_returned : Int32) (a_blockStart a_blockPhis a_blockItems a_termKind a_termValue a_termFirst a_termSecond a_itemKind a_itemA a_itemB a_itemBlock a_edgeFrom a_edgeTo a_edgeOrder a_edgeArgs a_edgeSets a_edgeBegin a_edgeEnd a_incoming a_dominators a_depth a_parent a_pointBase a_pointBlock a_pointItem a_pointUses a_live a_distance a_neighbours a_colour a_inRegisters a_location a_hint a_taken a_moveSource a_moveReaders a_codeTo a_codeFrom a_codeSwap a_codeBegin a_codeEnd a_outLog a_params a_cells : Nat → Int32) (g_point g_regs : Int32) (b_term b_dist b_val b_reached b_level b_fresh b_key b_colour : Nat → Int32) (P : ca_PG) (bL iL oL O c : Nat), ca_F0 P bL iL oL O c f_stage f_open a_blockStart a_blockPhis a_blockItems a_termKind a_termValue a_termFirst a_termSecond a_itemKind a_itemA a_itemB a_itemBlock b_term → ca_SG P f_stage f_open f_edges f_points f_greatestPressure f_registers g_regs f_usedRegisters f_current g_point a_edgeFrom a_edgeTo a_edgeOrder a_edgeArgs a_edgeSets a_edgeBegin a_edgeEnd a_depth a_parent a_pointBase a_pointBlock a_pointItem a_pointUses a_live a_distance a_neighbours a_colour b_dist a_inRegisters a_location a_codeTo a_codeFrom a_codeSwap a_codeBegin a_codeEnd a_cells b_val → Q (f_phiKind, f_jumpKind, f_branchKind, f_retKind, f_far, f_registerEnd, f_firstSlot, f_cellEnd, f_edgeCode, (nI bL), (nI iL), (nI oL), f_stage, f_open, (nI (ca_B P)), (nI (ca_N P)), f_edges, f_points, f_greatestPressure, f_everLive, f_registers, f_usedRegisters, f_placedBlocks, f_codeSize, f_current, f_returned, (nI O), a_blockStart, a_blockPhis, a_blockItems, a_termKind, a_termValue, a_termFirst, a_termSecond, a_itemKind, a_itemA, a_itemB, a_itemBlock, a_edgeFrom, a_edgeTo, a_edgeOrder, a_edgeArgs, a_edgeSets, a_edgeBegin, a_edgeEnd, a_incoming, a_dominators, a_depth, a_parent, a_pointBase, a_pointBlock, a_pointItem, a_pointUses, a_live, a_distance, a_neighbours, a_colour, a_inRegisters, a_location, a_hint, a_taken, a_moveSource, a_moveReaders, a_codeTo, a_codeFrom, a_codeSwap, a_codeBegin, a_codeEnd, a_outLog, a_params, a_cells) ((nI bL), (nI iL), (nI oL), f_stage, (nI (ca_B P)), (nI (ca_N P)), f_open, (nI O), g_point, g_regs, f_returned, a_itemKind, a_itemBlock, a_itemA, a_itemB, b_term, a_termValue, a_termFirst, a_termSecond, b_dist, a_params, b_val, a_outLog, b_reached, b_level, b_fresh, b_key, b_colour)) (I : i_Rel k u v) : Q u v := match u, v, I with
  | (f_phiKind, f_jumpKind, f_branchKind, f_retKind, f_far, f_registerEnd, f_firstSlot, f_cellEnd, f_edgeCode, f_blockLimit, f_itemLimit, f_outLimit, f_stage, f_open, f_blocks, f_items, f_edges, f_points, f_greatestPressure, f_everLive, f_registers, f_usedRegisters, f_placedBlocks, f_codeSize, f_current, f_returned, f_outSize, a_blockStart, a_blockPhis, a_blockItems, a_termKind, a_termValue, a_termFirst, a_termSecond, a_itemKind, a_itemA, a_itemB, a_itemBlock, a_edgeFrom, a_edgeTo, a_edgeOrder, a_edgeArgs, a_edgeSets, a_edgeBegin, a_edgeEnd, a_incoming, a_dominators, a_depth, a_parent, a_pointBase, a_pointBlock, a_pointItem, a_pointUses, a_live, a_distance, a_neighbours, a_colour, a_inRegisters, a_location, a_hint, a_taken, a_moveSource, a_moveReaders, a_codeTo, a_codeFrom, a_codeSwap, a_codeBegin, a_codeEnd, a_outLog, a_params, a_cells), (g_blockLimit, g_itemLimit, g_outLimit, g_stage, g_blocks, g_items, g_open, g_outs, g_point, g_regs, g_answer, b_kind, b_block, b_argA, b_argB, b_term, b_termValue, b_first, b_second, b_dist, b_params, b_val, b_log, b_reached, b_level, b_fresh, b_key, b_colour), I => by
    obtain ⟨P, bL, iL, oL, O, c, ⟨e1, e2, e3, e4, e5, e6⟩, ⟨d1, d2, d3, d4, d5, d6, d7, d8, d9, d10, d11, d12, d13, d14, d15, d16, d17, d18⟩, h0, hs⟩ := I
    subst e1 e2 e3 e4 e5 e6 d1 d2 d3 d4 d5 d6 d7 d8 d9 d10 d11 d12 d13 d14 d15 d16 d17 d18
    exact h _ _ _ _ _ _ _ _ _ _ _ _ _ _ _ _ _ _ _ _ _ _ _ _ _ _ _ _ _ _ _ _ _ _ _ _ _ _ _ _ _ _ _ _ _ _ _ _ _ _ _ _ _ _ _ _ _ _ _ _ _ _ _ _ _ _ _ _ _ _ _ _ _ _ _ P bL iL oL O c h0 hs
section
variable {f_phiKind f_jumpKind f_branchKind f_retKind f_far f_registerEnd f_firstSlot f_cellEnd f_edgeCode f_stage f_open f_edges f_points f_greatestPressure f_everLive f_registers f_usedRegisters f_placedBlocks f_codeSize f_current f_returned : Int32} {a_blockStart a_blockPhis a_blockItems a_termKind a_termValue a_termFirst a_termSecond a_itemKind a_itemA a_itemB a_itemBlock a_edgeFrom a_edgeTo a_edgeOrder a_edgeArgs a_edgeSets a_edgeBegin a_edgeEnd a_incoming a_dominators a_depth a_parent a_pointBase a_pointBlock a_pointItem a_pointUses a_live a_distance a_neighbours a_colour a_inRegisters a_location a_hint a_taken a_moveSource a_moveReaders a_codeTo a_codeFrom a_codeSwap a_codeBegin a_codeEnd a_outLog a_params a_cells : Nat → Int32} {g_point g_regs : Int32} {b_term b_dist b_val b_reached b_level b_fresh b_key b_colour : Nat → Int32} {P : ca_PG} {bL iL oL O c : Nat}
theorem ca_mk (k : Nat) (h0 : ca_F0 P bL iL oL O c f_stage f_open a_blockStart a_blockPhis a_blockItems a_termKind a_termValue a_termFirst a_termSecond a_itemKind a_itemA a_itemB a_itemBlock b_term) (hs : ca_SG P f_stage f_open f_edges f_points f_greatestPressure f_registers g_regs f_usedRegisters f_current g_point a_edgeFrom a_edgeTo a_edgeOrder a_edgeArgs a_edgeSets a_edgeBegin a_edgeEnd a_depth a_parent a_pointBase a_pointBlock a_pointItem a_pointUses a_live a_distance a_neighbours a_colour b_dist a_inRegisters a_location a_codeTo a_codeFrom a_codeSwap a_codeBegin a_codeEnd a_cells b_val) : i_Rel k (f_phiKind, f_jumpKind, f_branchKind, f_retKind, f_far, f_registerEnd, f_firstSlot, f_cellEnd, f_edgeCode, (nI bL), (nI iL), (nI oL), f_stage, f_open, (nI (ca_B P)), (nI (ca_N P)), f_edges, f_points, f_greatestPressure, f_everLive, f_registers, f_usedRegisters, f_placedBlocks, f_codeSize, f_current, f_returned, (nI O), a_blockStart, a_blockPhis, a_blockItems, a_termKind, a_termValue, a_termFirst, a_termSecond, a_itemKind, a_itemA, a_itemB, a_itemBlock, a_edgeFrom, a_edgeTo, a_edgeOrder, a_edgeArgs, a_edgeSets, a_edgeBegin, a_edgeEnd, a_incoming, a_dominators, a_depth, a_parent, a_pointBase, a_pointBlock, a_pointItem, a_pointUses, a_live, a_distance, a_neighbours, a_colour, a_inRegisters, a_location, a_hint, a_taken, a_moveSource, a_moveReaders, a_codeTo, a_codeFrom, a_codeSwap, a_codeBegin, a_codeEnd, a_outLog, a_params, a_cells) ((nI bL), (nI iL), (nI oL), f_stage, (nI (ca_B P)), (nI (ca_N P)), f_open, (nI O), g_point, g_regs, f_returned, a_itemKind, a_itemBlock, a_itemA, a_itemB, b_term, a_termValue, a_termFirst, a_termSecond, b_dist, a_params, b_val, a_outLog, b_reached, b_level, b_fresh, b_key, b_colour) :=
  ⟨P, bL, iL, oL, O, c, ⟨rfl, rfl, rfl, rfl, rfl, rfl⟩, ⟨rfl, rfl, rfl, rfl, rfl, rfl, rfl, rfl, rfl, rfl, rfl, rfl, rfl, rfl, rfl, rfl, rfl, rfl⟩, h0, hs⟩
end
/-! the empty program -/
def ca_P0 : ca_PG := (0, 0, fun _ => 0, fun _ => 0, fun _ => 0, fun _ => 0, fun _ => 0, fun _ => 0, fun _ => 0, fun _ => 0, fun _ => 0, fun _ => 0, fun _ => 0)
theorem ca_WF0 : ca_WF ca_P0 := by
  refine ⟨by decide, by decide, fun _ => rfl, fun z => absurd z (by decide), fun s hs => ?_, fun s hs => ?_, fun s i hs => ?_, fun i hi => ?_, fun s hs => ?_⟩
  · exact absurd hs (Nat.not_lt_zero _)
  · exact absurd hs (Nat.not_lt_zero _)
  · exact absurd hs (Nat.not_lt_zero _)
  · exact absurd hi (Nat.not_lt_zero _)
  · exact absurd hs (Nat.not_lt_zero _)
theorem ca_F00 {bL iL oL : Nat} (h1 : 1 ≤ bL) (h2 : bL ≤ 8) (h3 : 4 ≤ iL) (h4 : iL ≤ 32) (h5 : 1 ≤ oL) (h6 : oL ≤ 32) {bs bp bi tk tv t1 t2 kd ia ib bl ty : Nat → Int32} : ca_F0 ca_P0 bL iL oL 0 0 0 0 bs bp bi tk tv t1 t2 kd ia ib bl ty :=
  ⟨h1, h2, h3, h4, h5, h6, Nat.zero_le _, Nat.zero_le _, Nat.zero_le _, ca_WF0, fun i hi => absurd hi (Nat.not_lt_zero _), Or.inl ⟨rfl, rfl⟩, fun i hi => absurd hi (Nat.not_lt_zero _), fun i hi => absurd hi (Nat.not_lt_zero _), fun i hi => absurd hi (Nat.not_lt_zero _), fun i hi => absurd hi (Nat.not_lt_zero _), fun i hi => absurd hi (Nat.not_lt_zero _)⟩
/-- a clamped number -/
theorem ca_clam {p : Int32} {lo hi : Nat} (hl : lo ≤ hi) (hh : hi < 2 ^ 31) : (nI lo ≤ p ∧ p ≤ nI hi ∧ ∃ j, lo ≤ j ∧ j ≤ hi ∧ p = nI j) ∨ (nI lo ≤ p ∧ ¬ p ≤ nI hi) ∨ ¬ nI lo ≤ p := by
  by_cases a : nI lo ≤ p
  · by_cases b : p ≤ nI hi
    · refine Or.inl ⟨a, b, ?_⟩
      have h0 : ¬ p < 0 := by
        intro z
        have := nI_pos (n := lo) (by omega)
        exact this (Int32.lt_of_le_of_lt a z)
      obtain ⟨j, hj, rfl⟩ := nI_of h0
      rw [nI_leI (by omega) hj] at a
      rw [nI_leI hj hh] at b
      exact ⟨j, a, b, rfl⟩
    · exact Or.inr (Or.inl ⟨a, b⟩)
  · exact Or.inr (Or.inr a)
end
section
/-! the constructors; building -/
def ca_CLM (p : Int32) (lo hi j : Nat) : Prop := (nI lo ≤ p ∧ p ≤ nI hi ∧ p = nI j) ∨ (nI lo ≤ p ∧ ¬ p ≤ nI hi ∧ j = hi) ∨ (¬ nI lo ≤ p ∧ j = lo)
theorem ca_clmE (p : Int32) {lo hi : Nat} (hl : lo ≤ hi) (hh : hi < 2 ^ 31) : ∃ j, lo ≤ j ∧ j ≤ hi ∧ ca_CLM p lo hi j := by
  rcases ca_clam (p := p) hl hh with ⟨a, b, j, j1, j2, j3⟩ | ⟨a, b⟩ | a
  · exact ⟨j, j1, j2, Or.inl ⟨a, b, j3⟩⟩
  · exact ⟨hi, hl, Nat.le_refl _, Or.inr (Or.inl ⟨a, b, rfl⟩)⟩
  · exact ⟨lo, Nat.le_refl _, hl, Or.inr (Or.inr ⟨a, rfl⟩)⟩
theorem ca_clmB {p : Int32} {lo hi j : Nat} {A : Int32 → Prop} (h : ca_CLM p lo hi j) (k : A (nI j)) : (nI lo ≤ p → (p ≤ nI hi → A p) ∧ (¬ p ≤ nI hi → A (nI hi))) ∧ (¬ nI lo ≤ p → A (nI lo)) := by
  rcases h with ⟨a, b, c⟩ | ⟨a, b, c⟩ | ⟨a, c⟩
  · rw [c] at a b ⊢; exact br_t a (br_t b k)
  · rw [c] at k; exact br_t a (br_f b k)
  · rw [c] at k; exact br_f a k
theorem xl_clamp {post : Int32 → Prop} (u : SX) {p : Int32} {lo hi j : Nat} (h : ca_CLM p lo hi j) (k : post (nI j)) : wpX_clamp post u p (nI lo) (nI hi) := match u with
  | (f_phiKind, f_jumpKind, f_branchKind, f_retKind, f_far, f_registerEnd, f_firstSlot, f_cellEnd, f_edgeCode, f_blockLimit, f_itemLimit, f_outLimit, f_stage, f_open, f_blocks, f_items, f_edges, f_points, f_greatestPressure, f_everLive, f_registers, f_usedRegisters, f_placedBlocks, f_codeSize, f_current, f_returned, f_outSize, a_blockStart, a_blockPhis, a_blockItems, a_termKind, a_termValue, a_termFirst, a_termSecond, a_itemKind, a_itemA, a_itemB, a_itemBlock, a_edgeFrom, a_edgeTo, a_edgeOrder, a_edgeArgs, a_edgeSets, a_edgeBegin, a_edgeEnd, a_incoming, a_dominators, a_depth, a_parent, a_pointBase, a_pointBlock, a_pointItem, a_pointUses, a_live, a_distance, a_neighbours, a_colour, a_inRegisters, a_location, a_hint, a_taken, a_moveSource, a_moveReaders, a_codeTo, a_codeFrom, a_codeSwap, a_codeBegin, a_codeEnd, a_outLog, a_params, a_cells) => ca_clmB h k
theorem i_vc0 (k0 : Int32) (k1 : Int32) (k2 : Int32) : wpX_init (fun u => wpY_init (fun v => i_Rel 3 u v) k0 k1 k2) k0 k1 k2 := by
  obtain ⟨b, b1, b2, b3⟩ := ca_clmE k0 (lo := 1) (hi := 8) (by omega) (by omega)
  obtain ⟨i, i1, i2, i3⟩ := ca_clmE k1 (lo := 4) (hi := 32) (by omega) (by omega)
  obtain ⟨o, o1, o2, o3⟩ := ca_clmE k2 (lo := 1) (hi := 32) (by omega) (by omega)
  refine xl_clamp _ b3 (xl_clamp _ i3 (xl_clamp _ o3 ?_))
  exact ca_clmB (A := fun r => wY_init_202 _ k1 k2 r 0 0 0 0 0 0 0 0 0 2 0 (fun _ => 0) (fun _ => 0) (fun _ => 0) (fun _ => 0) (fun _ => 0) (fun _ => 0) (fun _ => 0) (fun _ => 0) (fun _ => 0) (fun _ => 0) (fun _ => 0) (fun _ => 0) (fun _ => 0) (fun _ => 0) (fun _ => 0) (fun _ => 0) (fun _ => 0)) b3 (ca_clmB (A := fun r => wY_init_227 _ k2 r (nI b) 0 0 0 0 0 0 0 0 2 0 (fun _ => 0) (fun _ => 0) (fun _ => 0) (fun _ => 0) (fun _ => 0) (fun _ => 0) (fun _ => 0) (fun _ => 0) (fun _ => 0) (fun _ => 0) (fun _ => 0) (fun _ => 0) (fun _ => 0) (fun _ => 0) (fun _ => 0) (fun _ => 0) (fun _ => 0)) i3 (ca_clmB (A := fun r => i_Rel 3 (8, 0, 1, 2, 1000, 6, 8, 40, 40, nI b, nI i, nI o, 0, 0, 0, 0, 0, 0, 0, 0, 0, 0, 0, 0, 0, 0, 0, (fun _ => 0), (fun _ => 0), (fun _ => 0), (fun _ => 0), (fun _ => 0), (fun _ => 0), (fun _ => 0), (fun _ => 0), (fun _ => 0), (fun _ => 0), (fun _ => 0), (fun _ => 0), (fun _ => 0), (fun _ => 0), (fun _ => 0), (fun _ => 0), (fun _ => 0), (fun _ => 0), (fun _ => 0), (fun _ => 0), (fun _ => 0), (fun _ => 0), (fun _ => 0), (fun _ => 0), (fun _ => 0), (fun _ => 0), (fun _ => 0), (fun _ => 0), (fun _ => 0), (fun _ => 0), (fun _ => 0), (fun _ => 0), (fun _ => 0), (fun _ => 0), (fun _ => 0), (fun _ => 0), (fun _ => 0), (fun _ => 0), (fun _ => 0), (fun _ => 0), (fun _ => 0), (fun _ => 0), (fun _ => 0), (fun _ => 0)) (nI b, nI i, r, 0, 0, 0, 0, 0, 0, 2, 0, (fun _ => 0), (fun _ => 0), (fun _ => 0), (fun _ => 0), (fun _ => 0), (fun _ => 0), (fun _ => 0), (fun _ => 0), (fun _ => 0), (fun _ => 0), (fun _ => 0), (fun _ => 0), (fun _ => 0), (fun _ => 0), (fun _ => 0), (fun _ => 0), (fun _ => 0))) o3 (ca_mk (P := ca_P0) (bL := b) (iL := i) (oL := o) (O := 0) (c := 0) 3 (ca_F00 b1 b2 i1 i2 o1 o2) (Or.inl rfl))))
/-! pure: the program grows -/
def ca_up (f : Nat → Nat) (k x : Nat) : Nat → Nat := fun j => if j = k then x else f j
theorem ca_us1 {f : Nat → Nat} {k x : Nat} : ca_up f k x k = x := if_pos rfl
theorem ca_un1 {f : Nat → Nat} {k j x : Nat} (h : j ≠ k) : ca_up f k x j = f j := if_neg h
def ca_Pop (P : ca_PG) : ca_PG := (ca_B P + 1, ca_N P, ca_kd P, ca_bl P, ca_aA P, ca_aB P, ca_tk P, ca_tv P, ca_t1 P, ca_t2 P, ca_up (ca_bs P) (ca_B P) (ca_N P), ca_up (ca_bp P) (ca_B P) 0, ca_up (ca_bi P) (ca_B P) 0)
def ca_Pad (P : ca_PG) (k a b : Nat) (bp : Nat → Nat) : ca_PG := (ca_B P, ca_N P + 1, ca_up (ca_kd P) (ca_N P) k, ca_up (ca_bl P) (ca_N P) (ca_B P - 1), ca_up (ca_aA P) (ca_N P) a, ca_up (ca_aB P) (ca_N P) b, ca_tk P, ca_tv P, ca_t1 P, ca_t2 P, ca_bs P, bp, ca_up (ca_bi P) (ca_B P - 1) (ca_bi P (ca_B P - 1) + 1))
def ca_Pcl (P : ca_PG) (k v t f : Nat) : ca_PG := (ca_B P, ca_N P, ca_kd P, ca_bl P, ca_aA P, ca_aB P, ca_up (ca_tk P) (ca_B P - 1) k, ca_up (ca_tv P) (ca_B P - 1) v, ca_up (ca_t1 P) (ca_B P - 1) t, ca_up (ca_t2 P) (ca_B P - 1) f, ca_bs P, ca_bp P, ca_bi P)
section
variable {P : ca_PG}
theorem ca_WFop (h : ca_WF P) (hB : ca_B P < 8) : ca_WF (ca_Pop P) := by
  have hN := ca_wN h
  refine ⟨?_, hN, fun z => ?_, fun _ => ⟨?_, ?_⟩, fun s hs => ?_, fun s hs => ?_, fun s i hs h1 h2 => ?_, fun i hi => ?_, fun s hs => ?_⟩
  · show ca_B P + 1 ≤ 8; omega
  · have z' : ca_B P + 1 = 0 := z
    omega
  · show ca_up (ca_bs P) (ca_B P) (ca_N P) 0 = 0
    by_cases e : ca_B P = 0
    · rw [e, ca_us1]; exact h.2.2.1 e
    · rw [ca_un1 (by omega)]; exact ca_w0 h (by omega)
  · show ca_up (ca_bs P) (ca_B P) (ca_N P) (ca_B P + 1 - 1) + ca_up (ca_bi P) (ca_B P) 0 (ca_B P + 1 - 1) = ca_N P
    rw [show ca_B P + 1 - 1 = ca_B P by omega, ca_us1, ca_us1]; rfl
  · have hs' : s + 1 < ca_B P + 1 := hs
    show ca_up (ca_bs P) (ca_B P) (ca_N P) (s + 1) = ca_up (ca_bs P) (ca_B P) (ca_N P) s + ca_up (ca_bi P) (ca_B P) 0 s
    rw [ca_un1 (f := ca_bs P) (j := s) (by omega), ca_un1 (f := ca_bi P) (j := s) (by omega)]
    by_cases e : s + 1 = ca_B P
    · rw [e, ca_us1]
      have := ca_wl h (by omega)
      rw [show ca_B P - 1 = s by omega] at this
      omega
    · rw [ca_un1 e]; exact ca_ws h (by omega)
  · have hs' : s < ca_B P + 1 := hs
    show ca_up (ca_bp P) (ca_B P) 0 s ≤ ca_up (ca_bi P) (ca_B P) 0 s
    by_cases e : s = ca_B P
    · rw [e, ca_us1, ca_us1]; omega
    · rw [ca_un1 e, ca_un1 e]; exact ca_wp h (by omega)
  · have hs' : s < ca_B P + 1 := hs
    have h1' : ca_up (ca_bs P) (ca_B P) (ca_N P) s ≤ i := h1
    have h2' : i < ca_up (ca_bs P) (ca_B P) (ca_N P) s + ca_up (ca_bi P) (ca_B P) 0 s := h2
    show ca_bl P i = s ∧ (ca_kd P i = 8 ↔ i < ca_up (ca_bs P) (ca_B P) (ca_N P) s + ca_up (ca_bp P) (ca_B P) 0 s)
    by_cases e : s = ca_B P
    · rw [e, ca_us1] at h1'
      rw [e, ca_us1, ca_us1] at h2'
      omega
    · rw [ca_un1 e] at h1'
      rw [ca_un1 e, ca_un1 e] at h2'
      rw [ca_un1 e, ca_un1 e]
      exact ca_wi h (by omega) h1' h2'
  · have hi' : i < ca_N P := hi
    have := ca_wb h hi'
    show ca_bl P i < ca_B P + 1 ∧ ca_up (ca_bs P) (ca_B P) (ca_N P) (ca_bl P i) ≤ i ∧ i < ca_up (ca_bs P) (ca_B P) (ca_N P) (ca_bl P i) + ca_up (ca_bi P) (ca_B P) 0 (ca_bl P i)
    rw [ca_un1 (by omega), ca_un1 (by omega)]
    exact ⟨by omega, this.2⟩
  · have hs' : s < ca_B P + 1 := hs
    show ca_up (ca_bs P) (ca_B P) (ca_N P) s + ca_up (ca_bi P) (ca_B P) 0 s ≤ ca_N P
    by_cases e : s = ca_B P
    · rw [e, ca_us1, ca_us1]; omega
    · rw [ca_un1 e, ca_un1 e]; exact ca_wn h (by omega)
theorem ca_WFad (h : ca_WF P) (hB : 0 < ca_B P) (hN : ca_N P < 32) {k a b : Nat} {bp : Nat → Nat} (hbp : ∀ s, s < ca_B P → s ≠ ca_B P - 1 → bp s = ca_bp P s) (hk : (k = 8 ∧ ca_bi P (ca_B P - 1) ≤ ca_bp P (ca_B P - 1) ∧ bp (ca_B P - 1) = ca_bp P (ca_B P - 1) + 1) ∨ (k ≠ 8 ∧ bp (ca_B P - 1) = ca_bp P (ca_B P - 1))) : ca_WF (ca_Pad P k a b bp) := by
  have hl := ca_wl h hB
  have hpl := ca_wp h (show ca_B P - 1 < ca_B P by omega)
  have sB := ca_wB h
  refine ⟨sB, hN, fun z => ?_, fun _ => ⟨show ca_bs P 0 = 0 from ca_w0 h hB, ?_⟩, fun s hs => ?_, fun s hs => ?_, fun s i hs h1 h2 => ?_, fun i hi => ?_, fun s hs => ?_⟩
  · have z' : ca_B P = 0 := z
    omega
  · show ca_bs P (ca_B P - 1) + ca_up (ca_bi P) (ca_B P - 1) (ca_bi P (ca_B P - 1) + 1) (ca_B P - 1) = ca_N P + 1
    rw [ca_us1]; omega
  · have hs' : s + 1 < ca_B P := hs
    show ca_bs P (s + 1) = ca_bs P s + ca_up (ca_bi P) (ca_B P - 1) (ca_bi P (ca_B P - 1) + 1) s
    rw [ca_un1 (by omega)]; exact ca_ws h hs'
  · have hs' : s < ca_B P := hs
    show bp s ≤ ca_up (ca_bi P) (ca_B P - 1) (ca_bi P (ca_B P - 1) + 1) s
    by_cases e : s = ca_B P - 1
    · subst e
      rw [ca_us1]
      rcases hk with ⟨_, _, q⟩ | ⟨_, q⟩ <;> omega
    · rw [ca_un1 e, hbp s hs' e]; exact ca_wp h hs'
  · have hs' : s < ca_B P := hs
    have h1' : ca_bs P s ≤ i := h1
    have h2' : i < ca_bs P s + ca_up (ca_bi P) (ca_B P - 1) (ca_bi P (ca_B P - 1) + 1) s := h2
    show ca_up (ca_bl P) (ca_N P) (ca_B P - 1) i = s ∧ (ca_up (ca_kd P) (ca_N P) k i = 8 ↔ i < ca_bs P s + bp s)
    have hns := ca_wn h hs'
    by_cases e : s = ca_B P - 1
    · subst e
      rw [ca_us1] at h2'
      by_cases ei : i = ca_N P
      · subst ei
        rw [ca_us1, ca_us1]
        refine ⟨rfl, ?_⟩
        rcases hk with ⟨q0, q1, q2⟩ | ⟨q1, q2⟩
        · exact ⟨fun _ => by omega, fun _ => q0⟩
        · exact ⟨fun z => absurd z q1, fun z => by omega⟩
      · rw [ca_un1 ei, ca_un1 ei]
        have hw := ca_wi h (i := i) hs' h1' (by omega)
        refine ⟨hw.1, ?_⟩
        rw [hw.2]
        rcases hk with ⟨q0, q1, q2⟩ | ⟨q1, q2⟩
        · rw [q2]
          exact ⟨fun z => by omega, fun z => by omega⟩
        · rw [q2]
    · rw [ca_un1 e] at h2'
      rw [ca_un1 (f := ca_bl P) (j := i) (by omega), ca_un1 (f := ca_kd P) (j := i) (by omega), hbp s hs' e]
      exact ca_wi h hs' h1' h2'
  · have hi' : i < ca_N P + 1 := hi
    show ca_up (ca_bl P) (ca_N P) (ca_B P - 1) i < ca_B P ∧ ca_bs P (ca_up (ca_bl P) (ca_N P) (ca_B P - 1) i) ≤ i ∧ i < ca_bs P (ca_up (ca_bl P) (ca_N P) (ca_B P - 1) i) + ca_up (ca_bi P) (ca_B P - 1) (ca_bi P (ca_B P - 1) + 1) (ca_up (ca_bl P) (ca_N P) (ca_B P - 1) i)
    by_cases ei : i = ca_N P
    · subst ei
      rw [ca_us1, ca_us1]
      omega
    · rw [ca_un1 ei]
      have := ca_wb h (i := i) (by omega)
      refine ⟨this.1, this.2.1, ?_⟩
      by_cases e : ca_bl P i = ca_B P - 1
      · rw [e] at this ⊢
        rw [ca_us1]; omega
      · rw [ca_un1 e]; exact this.2.2
  · have hs' : s < ca_B P := hs
    show ca_bs P s + ca_up (ca_bi P) (ca_B P - 1) (ca_bi P (ca_B P - 1) + 1) s ≤ ca_N P + 1
    have hns := ca_wn h hs'
    by_cases e : s = ca_B P - 1
    · subst e; rw [ca_us1]; omega
    · rw [ca_un1 e]; omega
end
end
section
/-! the building calls -/
section
variable {P : ca_PG} {bL iL oL O c : Nat}
def ca_nd (v : Int32) (L : Nat) : Prop := ∃ j, j < L ∧ v = nI j
theorem ca_ndE (v : Int32) {L : Nat} (hL : L < 2 ^ 31) : ca_nd v L ∨ (¬ ca_nd v L ∧ (v < 0 ∨ nI L ≤ v)) := by
  rcases pk_ix v hL with z | z | ⟨j, h1, h2⟩
  · refine Or.inr ⟨?_, Or.inl z⟩
    rintro ⟨j, h1, h2⟩
    rw [h2] at z
    exact nI_pos (by omega) z
  · refine Or.inr ⟨?_, Or.inr z⟩
    rintro ⟨j, h1, h2⟩
    rw [h2] at z
    exact nI_ge h1 hL z
  · exact Or.inl ⟨j, h1, h2⟩
/-- a number in a range, asked by X -/
theorem ca_ndX {A B : Prop} {v : Int32} {L : Nat} (hL : L < 2 ^ 31) (h1 : ca_nd v L → B) (h0 : ¬ ca_nd v L → A) : (v < 0 → A) ∧ (¬ v < 0 → (nI L ≤ v → A) ∧ (¬ nI L ≤ v → B)) := by
  rcases ca_ndE v hL with ⟨j, j1, j2⟩ | ⟨z, y⟩
  · subst j2
    exact br_f (nI_pos (by omega)) (br_f (nI_ge j1 hL) (h1 ⟨j, j1, rfl⟩))
  · exact ⟨fun _ => h0 z, fun _ => ⟨fun _ => h0 z, fun x => by
      rcases y with y | y
      · exact absurd y (by assumption)
      · exact absurd y x⟩⟩
theorem ca_ndY {A B : Prop} {v : Int32} {L : Nat} (hL : L < 2 ^ 31) (h1 : ca_nd v L → B) (h0 : ¬ ca_nd v L → A) : (v < 0 → A) ∧ (¬ v < 0 → (v < nI L → B) ∧ (¬ v < nI L → A)) := by
  rcases ca_ndE v hL with ⟨j, j1, j2⟩ | ⟨z, y⟩
  · subst j2
    exact br_f (nI_pos (by omega)) (br_t (nI_lt j1 hL) (h1 ⟨j, j1, rfl⟩))
  · exact ⟨fun _ => h0 z, fun q => ⟨fun x => by
      rcases y with y | y
      · exact absurd y q
      · exact absurd x (Int32.not_lt.mpr y), fun _ => h0 z⟩⟩
variable {f_phiKind f_jumpKind f_branchKind f_retKind f_far f_registerEnd f_firstSlot f_cellEnd f_edgeCode f_stage f_open f_edges f_points f_greatestPressure f_everLive f_registers f_usedRegisters f_placedBlocks f_codeSize f_current f_returned : Int32} {a_blockStart a_blockPhis a_blockItems a_termKind a_termValue a_termFirst a_termSecond a_itemKind a_itemA a_itemB a_itemBlock a_edgeFrom a_edgeTo a_edgeOrder a_edgeArgs a_edgeSets a_edgeBegin a_edgeEnd a_incoming a_dominators a_depth a_parent a_pointBase a_pointBlock a_pointItem a_pointUses a_live a_distance a_neighbours a_colour a_inRegisters a_location a_hint a_taken a_moveSource a_moveReaders a_codeTo a_codeFrom a_codeSwap a_codeBegin a_codeEnd a_outLog a_params a_cells : Nat → Int32} {g_point g_regs : Int32} {b_term b_dist b_val b_reached b_level b_fresh b_key b_colour : Nat → Int32}
theorem xl_isName {post : Int32 → Prop} {v : Int32} (hL : iL ≤ 32) (h1 : ca_nd v iL → post 1) (h0 : ¬ ca_nd v iL → post 0) : wpX_isName post (f_phiKind, f_jumpKind, f_branchKind, f_retKind, f_far, f_registerEnd, f_firstSlot, f_cellEnd, f_edgeCode, (nI bL), (nI iL), (nI oL), f_stage, f_open, (nI (ca_B P)), (nI (ca_N P)), f_edges, f_points, f_greatestPressure, f_everLive, f_registers, f_usedRegisters, f_placedBlocks, f_codeSize, f_current, f_returned, (nI O), a_blockStart, a_blockPhis, a_blockItems, a_termKind, a_termValue, a_termFirst, a_termSecond, a_itemKind, a_itemA, a_itemB, a_itemBlock, a_edgeFrom, a_edgeTo, a_edgeOrder, a_edgeArgs, a_edgeSets, a_edgeBegin, a_edgeEnd, a_incoming, a_dominators, a_depth, a_parent, a_pointBase, a_pointBlock, a_pointItem, a_pointUses, a_live, a_distance, a_neighbours, a_colour, a_inRegisters, a_location, a_hint, a_taken, a_moveSource, a_moveReaders, a_codeTo, a_codeFrom, a_codeSwap, a_codeBegin, a_codeEnd, a_outLog, a_params, a_cells) v := ca_ndX (by omega) h1 h0
theorem xl_isTarget {post : Int32 → Prop} {v : Int32} (hL : bL ≤ 8) (h1 : ca_nd v bL → post 1) (h0 : ¬ ca_nd v bL → post 0) : wpX_isTarget post (f_phiKind, f_jumpKind, f_branchKind, f_retKind, f_far, f_registerEnd, f_firstSlot, f_cellEnd, f_edgeCode, (nI bL), (nI iL), (nI oL), f_stage, f_open, (nI (ca_B P)), (nI (ca_N P)), f_edges, f_points, f_greatestPressure, f_everLive, f_registers, f_usedRegisters, f_placedBlocks, f_codeSize, f_current, f_returned, (nI O), a_blockStart, a_blockPhis, a_blockItems, a_termKind, a_termValue, a_termFirst, a_termSecond, a_itemKind, a_itemA, a_itemB, a_itemBlock, a_edgeFrom, a_edgeTo, a_edgeOrder, a_edgeArgs, a_edgeSets, a_edgeBegin, a_edgeEnd, a_incoming, a_dominators, a_depth, a_parent, a_pointBase, a_pointBlock, a_pointItem, a_pointUses, a_live, a_distance, a_neighbours, a_colour, a_inRegisters, a_location, a_hint, a_taken, a_moveSource, a_moveReaders, a_codeTo, a_codeFrom, a_codeSwap, a_codeBegin, a_codeEnd, a_outLog, a_params, a_cells) v := ca_ndX (by omega) h1 h0
theorem yl_noItem {post : Int32 → Prop} {v : Int32} (hL : iL ≤ 32) (h1 : ca_nd v iL → post 0) (h0 : ¬ ca_nd v iL → post 1) : wpY_noItem post ((nI bL), (nI iL), (nI oL), f_stage, (nI (ca_B P)), (nI (ca_N P)), f_open, (nI O), g_point, g_regs, f_returned, a_itemKind, a_itemBlock, a_itemA, a_itemB, b_term, a_termValue, a_termFirst, a_termSecond, b_dist, a_params, b_val, a_outLog, b_reached, b_level, b_fresh, b_key, b_colour) v := ca_ndY (by omega) h1 h0
theorem yl_noBlock {post : Int32 → Prop} {v : Int32} (hL : bL ≤ 8) (h1 : ca_nd v bL → post 0) (h0 : ¬ ca_nd v bL → post 1) : wpY_noBlock post ((nI bL), (nI iL), (nI oL), f_stage, (nI (ca_B P)), (nI (ca_N P)), f_open, (nI O), g_point, g_regs, f_returned, a_itemKind, a_itemBlock, a_itemA, a_itemB, b_term, a_termValue, a_termFirst, a_termSecond, b_dist, a_params, b_val, a_outLog, b_reached, b_level, b_fresh, b_key, b_colour) v := ca_ndY (by omega) h1 h0
theorem xl_openState {post : Int32 → Prop} (h1 : f_stage = 0 → ¬ f_open = 0 → post 0) (h2 : f_stage = 0 → f_open = 0 → post (-2)) (h3 : ¬ f_stage = 0 → post (-1)) : wpX_openState post (f_phiKind, f_jumpKind, f_branchKind, f_retKind, f_far, f_registerEnd, f_firstSlot, f_cellEnd, f_edgeCode, (nI bL), (nI iL), (nI oL), f_stage, f_open, (nI (ca_B P)), (nI (ca_N P)), f_edges, f_points, f_greatestPressure, f_everLive, f_registers, f_usedRegisters, f_placedBlocks, f_codeSize, f_current, f_returned, (nI O), a_blockStart, a_blockPhis, a_blockItems, a_termKind, a_termValue, a_termFirst, a_termSecond, a_itemKind, a_itemA, a_itemB, a_itemBlock, a_edgeFrom, a_edgeTo, a_edgeOrder, a_edgeArgs, a_edgeSets, a_edgeBegin, a_edgeEnd, a_incoming, a_dominators, a_depth, a_parent, a_pointBase, a_pointBlock, a_pointItem, a_pointUses, a_live, a_distance, a_neighbours, a_colour, a_inRegisters, a_location, a_hint, a_taken, a_moveSource, a_moveReaders, a_codeTo, a_codeFrom, a_codeSwap, a_codeBegin, a_codeEnd, a_outLog, a_params, a_cells) := br_c (fun s => br_c (h2 s) (h1 s)) h3
end
section
theorem i_vc_openBlock {k : Nat} {u : SX} {v : SY} (I : i_Rel k u v) (hk : k + 4 ≤ 2051) : wpX_openBlock (fun r u' => wpY_openBlock (fun r' v' => r' = r ∧ i_Rel (k + 4) u' v') v) u := by
  refine ca_el (Q := fun u v => wpX_openBlock (fun r u' => wpY_openBlock (fun r' v' => r' = r ∧ i_Rel (k + 4) u' v') v) u) ?_ I
  intro f_phiKind f_jumpKind f_branchKind f_retKind f_far f_registerEnd f_firstSlot f_cellEnd f_edgeCode f_stage f_open f_edges f_points f_greatestPressure f_everLive f_registers f_usedRegisters f_placedBlocks f_codeSize f_current f_returned a_blockStart a_blockPhis a_blockItems a_termKind a_termValue a_termFirst a_termSecond a_itemKind a_itemA a_itemB a_itemBlock a_edgeFrom a_edgeTo a_edgeOrder a_edgeArgs a_edgeSets a_edgeBegin a_edgeEnd a_incoming a_dominators a_depth a_parent a_pointBase a_pointBlock a_pointItem a_pointUses a_live a_distance a_neighbours a_colour a_inRegisters a_location a_hint a_taken a_moveSource a_moveReaders a_codeTo a_codeFrom a_codeSwap a_codeBegin a_codeEnd a_outLog a_params a_cells g_point g_regs b_term b_dist b_val b_reached b_level b_fresh b_key b_colour P bL iL oL O c h0 hs
  have same : i_Rel (k + 4) (f_phiKind, f_jumpKind, f_branchKind, f_retKind, f_far, f_registerEnd, f_firstSlot, f_cellEnd, f_edgeCode, (nI bL), (nI iL), (nI oL), f_stage, f_open, (nI (ca_B P)), (nI (ca_N P)), f_edges, f_points, f_greatestPressure, f_everLive, f_registers, f_usedRegisters, f_placedBlocks, f_codeSize, f_current, f_returned, (nI O), a_blockStart, a_blockPhis, a_blockItems, a_termKind, a_termValue, a_termFirst, a_termSecond, a_itemKind, a_itemA, a_itemB, a_itemBlock, a_edgeFrom, a_edgeTo, a_edgeOrder, a_edgeArgs, a_edgeSets, a_edgeBegin, a_edgeEnd, a_incoming, a_dominators, a_depth, a_parent, a_pointBase, a_pointBlock, a_pointItem, a_pointUses, a_live, a_distance, a_neighbours, a_colour, a_inRegisters, a_location, a_hint, a_taken, a_moveSource, a_moveReaders, a_codeTo, a_codeFrom, a_codeSwap, a_codeBegin, a_codeEnd, a_outLog, a_params, a_cells) ((nI bL), (nI iL), (nI oL), f_stage, (nI (ca_B P)), (nI (ca_N P)), f_open, (nI O), g_point, g_regs, f_returned, a_itemKind, a_itemBlock, a_itemA, a_itemB, b_term, a_termValue, a_termFirst, a_termSecond, b_dist, a_params, b_val, a_outLog, b_reached, b_level, b_fresh, b_key, b_colour) := ca_mk (k + 4) h0 hs
  obtain ⟨q1, q2, q3, q4, q5, q6, q7, q8, q9, qW, qI, qo, qP, qb, qT, qA, qY⟩ := h0
  have hW := qW
  have hB := ca_wB qW
  have hN := ca_wN qW
  refine br_c (fun s0 => br_c (fun o0 => pk_lt (ca_B P) bL (fun hl => ?_) (fun hl => ?_)) (fun o1 => ?_)) (fun s1 => ?_)
  · refine ca_vi (ca_wr (ca_vi (ca_wr (ca_vi (ca_wr (ca_in ?_))))))
    refine br_t s0 (br_t o0 (br_t (nI_lt hl (by omega)) (ca_in ⟨rfl, ?_⟩)))
    have hc : c = ca_B P := by
      rcases qo with z | z
      · exact z.2
      · rw [o0] at z; exact absurd z.1 (by decide)
    subst s0
    refine ca_mk (P := ca_Pop P) (c := ca_B P) (k + 4) ⟨q1, q2, q3, q4, q5, q6, q7, hl, q9, ca_WFop qW (by omega), qI, Or.inr ⟨rfl, rfl, rfl⟩, qP, fun s hs2 => ?_, ?_, ?_, ?_⟩ (Or.inl rfl)
    · have hs3 : s < ca_B P + 1 := hs2
      show upd a_blockStart (ca_B P) (nI (ca_N P)) s = nI (ca_up (ca_bs P) (ca_B P) (ca_N P) s) ∧ upd a_blockPhis (ca_B P) 0 s = nI (ca_up (ca_bp P) (ca_B P) 0 s) ∧ upd a_blockItems (ca_B P) 0 s = nI (ca_up (ca_bi P) (ca_B P) 0 s)
      by_cases e : s = ca_B P
      · subst e
        rw [pk_us, pk_us, pk_us, ca_us1, ca_us1, ca_us1]
        exact ⟨rfl, rfl, rfl⟩
      · rw [pk_un e, pk_un e, pk_un e, ca_un1 e, ca_un1 e, ca_un1 e]
        exact qb s (by omega)
    · rw [← hc]; exact qT
    · rw [← hc]; exact qA
    · rw [← hc]; exact qY
  · exact br_t s0 (br_t o0 (br_f (nI_nlt hl (by omega)) ⟨rfl, same⟩))
  · exact br_t s0 (br_f o1 ⟨rfl, same⟩)
  · exact br_f s1 ⟨rfl, same⟩
end
section
variable {P : ca_PG} {bL iL oL O c : Nat}
variable {f_phiKind f_jumpKind f_branchKind f_retKind f_far f_registerEnd f_firstSlot f_cellEnd f_edgeCode f_stage f_open f_edges f_points f_greatestPressure f_everLive f_registers f_usedRegisters f_placedBlocks f_codeSize f_current f_returned : Int32} {a_blockStart a_blockPhis a_blockItems a_termKind a_termValue a_termFirst a_termSecond a_itemKind a_itemA a_itemB a_itemBlock a_edgeFrom a_edgeTo a_edgeOrder a_edgeArgs a_edgeSets a_edgeBegin a_edgeEnd a_incoming a_dominators a_depth a_parent a_pointBase a_pointBlock a_pointItem a_pointUses a_live a_distance a_neighbours a_colour a_inRegisters a_location a_hint a_taken a_moveSource a_moveReaders a_codeTo a_codeFrom a_codeSwap a_codeBegin a_codeEnd a_outLog a_params a_cells : Nat → Int32} {g_point g_regs : Int32} {b_term b_dist b_val b_reached b_level b_fresh b_key b_colour : Nat → Int32}
theorem ca_bm {n : Nat} (h : 0 < n) : nI n - 1 = nI (n - 1) := pk_sub (b := 1) h
/-- closing a block, both sides -/
theorem ca_close {k tk tv t1 t2 : Nat} {pk yk pv p1 p2 : Int32} {post : Int32 → SX → Prop} (h0 : ca_F0 P bL iL oL O c f_stage f_open a_blockStart a_blockPhis a_blockItems a_termKind a_termValue a_termFirst a_termSecond a_itemKind a_itemA a_itemB a_itemBlock b_term) (s0 : f_stage = 0) (o1 : ¬ f_open = 0) (e1 : pk = nI tk) (e2 : yk = nI (tk + 1)) (e3 : pv = nI tv) (e4 : p1 = nI t1) (e5 : p2 = nI t2) (htk : tk ≤ 2) (htv : tv < 32) (ht1 : t1 < 8) (ht2 : t2 < 8) (K : (∀ postY : Int32 → SY → Prop, postY 0 ((nI bL), (nI iL), (nI oL), f_stage, (nI (ca_B P)), (nI (ca_N P)), 0, (nI O), g_point, g_regs, f_returned, a_itemKind, a_itemBlock, a_itemA, a_itemB, (upd b_term (ca_B P - 1) yk), (upd a_termValue (ca_B P - 1) pv), (upd a_termFirst (ca_B P - 1) p1), (upd a_termSecond (ca_B P - 1) p2), b_dist, a_params, b_val, a_outLog, b_reached, b_level, b_fresh, b_key, b_colour) → wpY_close postY ((nI bL), (nI iL), (nI oL), f_stage, (nI (ca_B P)), (nI (ca_N P)), f_open, (nI O), g_point, g_regs, f_returned, a_itemKind, a_itemBlock, a_itemA, a_itemB, b_term, a_termValue, a_termFirst, a_termSecond, b_dist, a_params, b_val, a_outLog, b_reached, b_level, b_fresh, b_key, b_colour) yk pv p1 p2) → i_Rel k (f_phiKind, f_jumpKind, f_branchKind, f_retKind, f_far, f_registerEnd, f_firstSlot, f_cellEnd, f_edgeCode, (nI bL), (nI iL), (nI oL), f_stage, 0, (nI (ca_B P)), (nI (ca_N P)), f_edges, f_points, f_greatestPressure, f_everLive, f_registers, f_usedRegisters, f_placedBlocks, f_codeSize, f_current, f_returned, (nI O), a_blockStart, a_blockPhis, a_blockItems, (upd a_termKind (ca_B P - 1) pk), (upd a_termValue (ca_B P - 1) pv), (upd a_termFirst (ca_B P - 1) p1), (upd a_termSecond (ca_B P - 1) p2), a_itemKind, a_itemA, a_itemB, a_itemBlock, a_edgeFrom, a_edgeTo, a_edgeOrder, a_edgeArgs, a_edgeSets, a_edgeBegin, a_edgeEnd, a_incoming, a_dominators, a_depth, a_parent, a_pointBase, a_pointBlock, a_pointItem, a_pointUses, a_live, a_distance, a_neighbours, a_colour, a_inRegisters, a_location, a_hint, a_taken, a_moveSource, a_moveReaders, a_codeTo, a_codeFrom, a_codeSwap, a_codeBegin, a_codeEnd, a_outLog, a_params, a_cells) ((nI bL), (nI iL), (nI oL), f_stage, (nI (ca_B P)), (nI (ca_N P)), 0, (nI O), g_point, g_regs, f_returned, a_itemKind, a_itemBlock, a_itemA, a_itemB, (upd b_term (ca_B P - 1) yk), (upd a_termValue (ca_B P - 1) pv), (upd a_termFirst (ca_B P - 1) p1), (upd a_termSecond (ca_B P - 1) p2), b_dist, a_params, b_val, a_outLog, b_reached, b_level, b_fresh, b_key, b_colour) → post 0 (f_phiKind, f_jumpKind, f_branchKind, f_retKind, f_far, f_registerEnd, f_firstSlot, f_cellEnd, f_edgeCode, (nI bL), (nI iL), (nI oL), f_stage, 0, (nI (ca_B P)), (nI (ca_N P)), f_edges, f_points, f_greatestPressure, f_everLive, f_registers, f_usedRegisters, f_placedBlocks, f_codeSize, f_current, f_returned, (nI O), a_blockStart, a_blockPhis, a_blockItems, (upd a_termKind (ca_B P - 1) pk), (upd a_termValue (ca_B P - 1) pv), (upd a_termFirst (ca_B P - 1) p1), (upd a_termSecond (ca_B P - 1) p2), a_itemKind, a_itemA, a_itemB, a_itemBlock, a_edgeFrom, a_edgeTo, a_edgeOrder, a_edgeArgs, a_edgeSets, a_edgeBegin, a_edgeEnd, a_incoming, a_dominators, a_depth, a_parent, a_pointBase, a_pointBlock, a_pointItem, a_pointUses, a_live, a_distance, a_neighbours, a_colour, a_inRegisters, a_location, a_hint, a_taken, a_moveSource, a_moveReaders, a_codeTo, a_codeFrom, a_codeSwap, a_codeBegin, a_codeEnd, a_outLog, a_params, a_cells)) : wpX_closeBlock post (f_phiKind, f_jumpKind, f_branchKind, f_retKind, f_far, f_registerEnd, f_firstSlot, f_cellEnd, f_edgeCode, (nI bL), (nI iL), (nI oL), f_stage, f_open, (nI (ca_B P)), (nI (ca_N P)), f_edges, f_points, f_greatestPressure, f_everLive, f_registers, f_usedRegisters, f_placedBlocks, f_codeSize, f_current, f_returned, (nI O), a_blockStart, a_blockPhis, a_blockItems, a_termKind, a_termValue, a_termFirst, a_termSecond, a_itemKind, a_itemA, a_itemB, a_itemBlock, a_edgeFrom, a_edgeTo, a_edgeOrder, a_edgeArgs, a_edgeSets, a_edgeBegin, a_edgeEnd, a_incoming, a_dominators, a_depth, a_parent, a_pointBase, a_pointBlock, a_pointItem, a_pointUses, a_live, a_distance, a_neighbours, a_colour, a_inRegisters, a_location, a_hint, a_taken, a_moveSource, a_moveReaders, a_codeTo, a_codeFrom, a_codeSwap, a_codeBegin, a_codeEnd, a_outLog, a_params, a_cells) pk pv p1 p2 := by
  obtain ⟨q1, q2, q3, q4, q5, q6, q7, q8, q9, qW, qI, qo, qP, qb, qT, qA, qY⟩ := h0
  have hB := ca_wB qW
  have hc : c + 1 = ca_B P := by
    rcases qo with z | z
    · exact absurd z.1 o1
    · exact z.2.1
  subst s0 e1 e2 e3 e4 e5
  refine nm_r (ca_bm (by omega)) (ca_vi (ca_wr (ca_vi (ca_wr (ca_vi (ca_wr (ca_vi (ca_wr (K (fun postY hp => ?_) ?_)))))))))
  · show vp_in (nI (ca_B P) - 1) 8 ∧ _
    rw [ca_bm (show 0 < ca_B P by omega)]
    exact ca_vi (ca_wr (ca_vi (ca_wr (ca_vi (ca_wr (ca_vi (ca_wr hp)))))))
  · refine ca_mk (P := ca_Pcl P tk tv t1 t2) (c := ca_B P) k ⟨q1, q2, q3, q4, q5, q6, q7, q8, q9, qW, qI, Or.inl ⟨rfl, rfl⟩, qP, qb, fun s hs => ?_, fun s hs => ?_, fun s hs => ?_⟩ (Or.inl rfl)
    · show ca_up (ca_tk P) (ca_B P - 1) tk s ≤ 2 ∧ ca_up (ca_tv P) (ca_B P - 1) tv s < 32 ∧ ca_up (ca_t1 P) (ca_B P - 1) t1 s < 8 ∧ ca_up (ca_t2 P) (ca_B P - 1) t2 s < 8
      by_cases e : s = ca_B P - 1
      · subst e; rw [ca_us1, ca_us1, ca_us1, ca_us1]; exact ⟨htk, htv, ht1, ht2⟩
      · rw [ca_un1 e, ca_un1 e, ca_un1 e, ca_un1 e]; exact qT s (by omega)
    · show upd a_termKind (ca_B P - 1) (nI tk) s = nI (ca_up (ca_tk P) (ca_B P - 1) tk s) ∧ upd a_termValue (ca_B P - 1) (nI tv) s = nI (ca_up (ca_tv P) (ca_B P - 1) tv s) ∧ upd a_termFirst (ca_B P - 1) (nI t1) s = nI (ca_up (ca_t1 P) (ca_B P - 1) t1 s) ∧ upd a_termSecond (ca_B P - 1) (nI t2) s = nI (ca_up (ca_t2 P) (ca_B P - 1) t2 s)
      by_cases e : s = ca_B P - 1
      · subst e
        rw [ca_us1, ca_us1, ca_us1, ca_us1]
        exact ⟨pk_us, pk_us, pk_us, pk_us⟩
      · rw [ca_un1 e, ca_un1 e, ca_un1 e, ca_un1 e, pk_un e, pk_un e, pk_un e, pk_un e]; exact qA s (by omega)
    · show upd b_term (ca_B P - 1) (nI (tk + 1)) s = nI (ca_up (ca_tk P) (ca_B P - 1) tk s + 1)
      by_cases e : s = ca_B P - 1
      · subst e; rw [pk_us, ca_us1]
      · rw [pk_un e, ca_un1 e]; exact qY s (by omega)
/-- adding an item, both sides -/
theorem ca_add {k kk : Nat} {pk a b : Int32} {bp : Nat → Nat} {abp : Nat → Int32} (h0 : ca_F0 P bL iL oL O c f_stage f_open a_blockStart a_blockPhis a_blockItems a_termKind a_termValue a_termFirst a_termSecond a_itemKind a_itemA a_itemB a_itemBlock b_term) (s0 : f_stage = 0) (o1 : ¬ f_open = 0) (hN : ca_N P < iL) (e1 : pk = nI kk) (hk8 : kk ≤ 8) (ha1 : kk = 1 → ca_nd a 4) (ha2 : 2 ≤ kk → ca_nd a 32) (hb2 : 2 ≤ kk → kk ≠ 7 → ca_nd b 32) (hbp : ∀ s, s < ca_B P → s ≠ ca_B P - 1 → bp s = ca_bp P s) (habp : ∀ s, s < ca_B P → abp s = nI (bp s)) (hk : (kk = 8 ∧ ca_bi P (ca_B P - 1) ≤ ca_bp P (ca_B P - 1) ∧ bp (ca_B P - 1) = ca_bp P (ca_B P - 1) + 1) ∨ (kk ≠ 8 ∧ bp (ca_B P - 1) = ca_bp P (ca_B P - 1))) {post : Int32 → SX → Prop} (K : (∀ postY : Int32 → SY → Prop, postY (nI (ca_N P + 1) - 1) ((nI bL), (nI iL), (nI oL), f_stage, (nI (ca_B P)), (nI (ca_N P + 1)), f_open, (nI O), g_point, g_regs, f_returned, (upd a_itemKind (ca_N P) pk), (upd a_itemBlock (ca_N P) (nI (ca_B P - 1))), (upd a_itemA (ca_N P) a), (upd a_itemB (ca_N P) b), b_term, a_termValue, a_termFirst, a_termSecond, b_dist, a_params, b_val, a_outLog, b_reached, b_level, b_fresh, b_key, b_colour) → wpY_add postY ((nI bL), (nI iL), (nI oL), f_stage, (nI (ca_B P)), (nI (ca_N P)), f_open, (nI O), g_point, g_regs, f_returned, a_itemKind, a_itemBlock, a_itemA, a_itemB, b_term, a_termValue, a_termFirst, a_termSecond, b_dist, a_params, b_val, a_outLog, b_reached, b_level, b_fresh, b_key, b_colour) pk a b) → i_Rel k (f_phiKind, f_jumpKind, f_branchKind, f_retKind, f_far, f_registerEnd, f_firstSlot, f_cellEnd, f_edgeCode, (nI bL), (nI iL), (nI oL), f_stage, f_open, (nI (ca_B P)), (nI (ca_N P + 1)), f_edges, f_points, f_greatestPressure, f_everLive, f_registers, f_usedRegisters, f_placedBlocks, f_codeSize, f_current, f_returned, (nI O), a_blockStart, abp, (upd a_blockItems (ca_B P - 1) (nI (ca_bi P (ca_B P - 1) + 1))), a_termKind, a_termValue, a_termFirst, a_termSecond, (upd a_itemKind (ca_N P) pk), (upd a_itemA (ca_N P) a), (upd a_itemB (ca_N P) b), (upd a_itemBlock (ca_N P) (nI (ca_B P - 1))), a_edgeFrom, a_edgeTo, a_edgeOrder, a_edgeArgs, a_edgeSets, a_edgeBegin, a_edgeEnd, a_incoming, a_dominators, a_depth, a_parent, a_pointBase, a_pointBlock, a_pointItem, a_pointUses, a_live, a_distance, a_neighbours, a_colour, a_inRegisters, a_location, a_hint, a_taken, a_moveSource, a_moveReaders, a_codeTo, a_codeFrom, a_codeSwap, a_codeBegin, a_codeEnd, a_outLog, a_params, a_cells) ((nI bL), (nI iL), (nI oL), f_stage, (nI (ca_B P)), (nI (ca_N P + 1)), f_open, (nI O), g_point, g_regs, f_returned, (upd a_itemKind (ca_N P) pk), (upd a_itemBlock (ca_N P) (nI (ca_B P - 1))), (upd a_itemA (ca_N P) a), (upd a_itemB (ca_N P) b), b_term, a_termValue, a_termFirst, a_termSecond, b_dist, a_params, b_val, a_outLog, b_reached, b_level, b_fresh, b_key, b_colour) → post (nI (ca_N P + 1) - 1) (f_phiKind, f_jumpKind, f_branchKind, f_retKind, f_far, f_registerEnd, f_firstSlot, f_cellEnd, f_edgeCode, (nI bL), (nI iL), (nI oL), f_stage, f_open, (nI (ca_B P)), (nI (ca_N P + 1)), f_edges, f_points, f_greatestPressure, f_everLive, f_registers, f_usedRegisters, f_placedBlocks, f_codeSize, f_current, f_returned, (nI O), a_blockStart, abp, (upd a_blockItems (ca_B P - 1) (nI (ca_bi P (ca_B P - 1) + 1))), a_termKind, a_termValue, a_termFirst, a_termSecond, (upd a_itemKind (ca_N P) pk), (upd a_itemA (ca_N P) a), (upd a_itemB (ca_N P) b), (upd a_itemBlock (ca_N P) (nI (ca_B P - 1))), a_edgeFrom, a_edgeTo, a_edgeOrder, a_edgeArgs, a_edgeSets, a_edgeBegin, a_edgeEnd, a_incoming, a_dominators, a_depth, a_parent, a_pointBase, a_pointBlock, a_pointItem, a_pointUses, a_live, a_distance, a_neighbours, a_colour, a_inRegisters, a_location, a_hint, a_taken, a_moveSource, a_moveReaders, a_codeTo, a_codeFrom, a_codeSwap, a_codeBegin, a_codeEnd, a_outLog, a_params, a_cells)) : wpX_addItem post (f_phiKind, f_jumpKind, f_branchKind, f_retKind, f_far, f_registerEnd, f_firstSlot, f_cellEnd, f_edgeCode, (nI bL), (nI iL), (nI oL), f_stage, f_open, (nI (ca_B P)), (nI (ca_N P)), f_edges, f_points, f_greatestPressure, f_everLive, f_registers, f_usedRegisters, f_placedBlocks, f_codeSize, f_current, f_returned, (nI O), a_blockStart, abp, a_blockItems, a_termKind, a_termValue, a_termFirst, a_termSecond, a_itemKind, a_itemA, a_itemB, a_itemBlock, a_edgeFrom, a_edgeTo, a_edgeOrder, a_edgeArgs, a_edgeSets, a_edgeBegin, a_edgeEnd, a_incoming, a_dominators, a_depth, a_parent, a_pointBase, a_pointBlock, a_pointItem, a_pointUses, a_live, a_distance, a_neighbours, a_colour, a_inRegisters, a_location, a_hint, a_taken, a_moveSource, a_moveReaders, a_codeTo, a_codeFrom, a_codeSwap, a_codeBegin, a_codeEnd, a_outLog, a_params, a_cells) pk a b := by
  obtain ⟨q1, q2, q3, q4, q5, q6, q7, q8, q9, qW, qI, qo, qP, qb, qT, qA, qY⟩ := h0
  have hB := ca_wB qW
  have hc : c + 1 = ca_B P := by
    rcases qo with z | z
    · exact absurd z.1 o1
    · exact z.2.1
  have hbl := qb (ca_B P - 1) (by omega)
  subst s0 e1
  have clA : ∀ {x : Int32} {L : Nat}, L ≤ 32 → ca_nd x L → x = nI x.toNatClampNeg ∧ x.toNatClampNeg < L := by
    intro x L hL ⟨j, j1, j2⟩
    subst j2
    rw [nI_clamp (by omega)]
    exact ⟨rfl, j1⟩
  show vp_in (nI (ca_N P)) 32 ∧ _
  rw [ca_bm (show 0 < ca_B P by omega)]
  refine ca_vi (ca_wr (ca_vi (ca_wr (ca_vi (ca_wr (ca_vi (ca_wr (ca_vi (ca_vi (ca_wx (ca_B P - 1) rfl (w := nI (ca_bi P (ca_B P - 1) + 1)) (by rw [ca_r hbl.2.2, nI_1]) (ca_in (K (fun postY hp => ?_) ?_))))))))))))
  · refine br_t (nI_lt hN (by omega)) ?_
    rw [ca_bm (show 0 < ca_B P by omega)]
    exact ca_vi (ca_wr (ca_vi (ca_wr (ca_vi (ca_wr (ca_vi (ca_wr (ca_in hp))))))))
  refine ca_mk (P := ca_Pad P kk a.toNatClampNeg b.toNatClampNeg bp) (c := c) k ⟨q1, q2, q3, q4, q5, q6, q7, q8, hN, ca_WFad qW (by omega) (by omega) hbp hk, fun i hi => ?_, qo, fun i hi => ?_, fun s hs => ?_, qT, qA, qY⟩ (Or.inl rfl)
  · have hi' : i < ca_N P + 1 := hi
    show ca_up (ca_kd P) (ca_N P) kk i ≤ 8 ∧ (ca_up (ca_kd P) (ca_N P) kk i = 1 → ca_up (ca_aA P) (ca_N P) a.toNatClampNeg i < 4) ∧ (2 ≤ ca_up (ca_kd P) (ca_N P) kk i → ca_up (ca_aA P) (ca_N P) a.toNatClampNeg i < 32) ∧ (2 ≤ ca_up (ca_kd P) (ca_N P) kk i → ca_up (ca_kd P) (ca_N P) kk i ≠ 7 → ca_up (ca_aB P) (ca_N P) b.toNatClampNeg i < 32)
    by_cases e : i = ca_N P
    · subst e
      rw [ca_us1, ca_us1, ca_us1]
      exact ⟨hk8, fun z => (clA (by omega) (ha1 z)).2, fun z => (clA (by omega) (ha2 z)).2, fun z y => (clA (by omega) (hb2 z y)).2⟩
    · rw [ca_un1 e, ca_un1 e, ca_un1 e]; exact qI i (by omega)
  · have hi' : i < ca_N P + 1 := hi
    show upd a_itemKind (ca_N P) (nI kk) i = nI (ca_up (ca_kd P) (ca_N P) kk i) ∧ upd a_itemBlock (ca_N P) (nI (ca_B P - 1)) i = nI (ca_up (ca_bl P) (ca_N P) (ca_B P - 1) i) ∧ (1 ≤ ca_up (ca_kd P) (ca_N P) kk i → upd a_itemA (ca_N P) a i = nI (ca_up (ca_aA P) (ca_N P) a.toNatClampNeg i)) ∧ (2 ≤ ca_up (ca_kd P) (ca_N P) kk i → ca_up (ca_kd P) (ca_N P) kk i ≠ 7 → upd a_itemB (ca_N P) b i = nI (ca_up (ca_aB P) (ca_N P) b.toNatClampNeg i))
    by_cases e : i = ca_N P
    · subst e
      rw [ca_us1, ca_us1, ca_us1, ca_us1, pk_us, pk_us, pk_us, pk_us]
      refine ⟨rfl, rfl, fun z => ?_, fun z y => (clA (by omega) (hb2 z y)).1⟩
      by_cases h1 : kk = 1
      · exact (clA (by omega) (ha1 h1)).1
      · exact (clA (by omega) (ha2 (by omega))).1
    · rw [ca_un1 e, ca_un1 e, ca_un1 e, ca_un1 e, pk_un e, pk_un e, pk_un e, pk_un e]; exact qP i (by omega)
  · have hs' : s < ca_B P := hs
    show a_blockStart s = nI (ca_bs P s) ∧ abp s = nI (bp s) ∧ upd a_blockItems (ca_B P - 1) (nI (ca_bi P (ca_B P - 1) + 1)) s = nI (ca_up (ca_bi P) (ca_B P - 1) (ca_bi P (ca_B P - 1) + 1) s)
    refine ⟨(qb s hs').1, habp s hs', ?_⟩
    by_cases e : s = ca_B P - 1
    · subst e; rw [pk_us, ca_us1]
    · rw [pk_un e, ca_un1 e]; exact (qb s hs').2.2
end
end
section
/-! the calls that close a block or add an item -/
theorem i_vc_jump {k : Nat} {u : SX} {v : SY} (I : i_Rel k u v) (hk : k + 4 ≤ 2051) (v1 : Int32) : wpX_jump (fun r u' => wpY_jump (fun r' v' => r' = r ∧ i_Rel (k + 4) u' v') v v1) u v1 := by
  refine ca_el (Q := fun u v => wpX_jump (fun r u' => wpY_jump (fun r' v' => r' = r ∧ i_Rel (k + 4) u' v') v v1) u v1) ?_ I
  intro f_phiKind f_jumpKind f_branchKind f_retKind f_far f_registerEnd f_firstSlot f_cellEnd f_edgeCode f_stage f_open f_edges f_points f_greatestPressure f_everLive f_registers f_usedRegisters f_placedBlocks f_codeSize f_current f_returned a_blockStart a_blockPhis a_blockItems a_termKind a_termValue a_termFirst a_termSecond a_itemKind a_itemA a_itemB a_itemBlock a_edgeFrom a_edgeTo a_edgeOrder a_edgeArgs a_edgeSets a_edgeBegin a_edgeEnd a_incoming a_dominators a_depth a_parent a_pointBase a_pointBlock a_pointItem a_pointUses a_live a_distance a_neighbours a_colour a_inRegisters a_location a_hint a_taken a_moveSource a_moveReaders a_codeTo a_codeFrom a_codeSwap a_codeBegin a_codeEnd a_outLog a_params a_cells g_point g_regs b_term b_dist b_val b_reached b_level b_fresh b_key b_colour P bL iL oL O c h0 hs
  have same : i_Rel (k + 4) (f_phiKind, f_jumpKind, f_branchKind, f_retKind, f_far, f_registerEnd, f_firstSlot, f_cellEnd, f_edgeCode, (nI bL), (nI iL), (nI oL), f_stage, f_open, (nI (ca_B P)), (nI (ca_N P)), f_edges, f_points, f_greatestPressure, f_everLive, f_registers, f_usedRegisters, f_placedBlocks, f_codeSize, f_current, f_returned, (nI O), a_blockStart, a_blockPhis, a_blockItems, a_termKind, a_termValue, a_termFirst, a_termSecond, a_itemKind, a_itemA, a_itemB, a_itemBlock, a_edgeFrom, a_edgeTo, a_edgeOrder, a_edgeArgs, a_edgeSets, a_edgeBegin, a_edgeEnd, a_incoming, a_dominators, a_depth, a_parent, a_pointBase, a_pointBlock, a_pointItem, a_pointUses, a_live, a_distance, a_neighbours, a_colour, a_inRegisters, a_location, a_hint, a_taken, a_moveSource, a_moveReaders, a_codeTo, a_codeFrom, a_codeSwap, a_codeBegin, a_codeEnd, a_outLog, a_params, a_cells) ((nI bL), (nI iL), (nI oL), f_stage, (nI (ca_B P)), (nI (ca_N P)), f_open, (nI O), g_point, g_regs, f_returned, a_itemKind, a_itemBlock, a_itemA, a_itemB, b_term, a_termValue, a_termFirst, a_termSecond, b_dist, a_params, b_val, a_outLog, b_reached, b_level, b_fresh, b_key, b_colour) := ca_mk (k + 4) h0 hs
  have h0' := h0
  obtain ⟨q1, q2, q3, q4, q5, q6, q7, q8, q9, qW, qI, qo, qP, qb, qT, qA, qY⟩ := h0
  unfold wpX_jump
  refine xl_openState (fun s0 o1 => br_t rfl ?_) (fun s0 o0 => br_f (by decide) (br_t s0 (br_t o0 ⟨rfl, same⟩))) (fun s1 => br_f (by decide) (br_f s1 ⟨rfl, same⟩))
  refine xl_isTarget q2 (fun hv => br_f (by decide) ?_) (fun z => br_t rfl (br_t s0 (br_f o1 (yl_noBlock q2 (fun y => absurd y z) (fun _ => br_f (by decide) ⟨rfl, same⟩)))))
  have hv' := hv
  obtain ⟨t, t1, t2⟩ := hv'
  exact ca_close (k := k + 4) (tk := 0) (tv := 0) (t1 := t) (t2 := 0) (yk := 1) h0' s0 o1 rfl rfl rfl t2 rfl (by omega) (by omega) (by omega) (by omega) (fun hY hR => br_t s0 (br_f o1 (yl_noBlock q2 (fun _ => br_t rfl (hY _ ⟨rfl, hR⟩)) (fun z => absurd hv z))))
theorem i_vc_ret {k : Nat} {u : SX} {v : SY} (I : i_Rel k u v) (hk : k + 4 ≤ 2051) (v1 : Int32) : wpX_ret (fun r u' => wpY_ret (fun r' v' => r' = r ∧ i_Rel (k + 4) u' v') v v1) u v1 := by
  refine ca_el (Q := fun u v => wpX_ret (fun r u' => wpY_ret (fun r' v' => r' = r ∧ i_Rel (k + 4) u' v') v v1) u v1) ?_ I
  intro f_phiKind f_jumpKind f_branchKind f_retKind f_far f_registerEnd f_firstSlot f_cellEnd f_edgeCode f_stage f_open f_edges f_points f_greatestPressure f_everLive f_registers f_usedRegisters f_placedBlocks f_codeSize f_current f_returned a_blockStart a_blockPhis a_blockItems a_termKind a_termValue a_termFirst a_termSecond a_itemKind a_itemA a_itemB a_itemBlock a_edgeFrom a_edgeTo a_edgeOrder a_edgeArgs a_edgeSets a_edgeBegin a_edgeEnd a_incoming a_dominators a_depth a_parent a_pointBase a_pointBlock a_pointItem a_pointUses a_live a_distance a_neighbours a_colour a_inRegisters a_location a_hint a_taken a_moveSource a_moveReaders a_codeTo a_codeFrom a_codeSwap a_codeBegin a_codeEnd a_outLog a_params a_cells g_point g_regs b_term b_dist b_val b_reached b_level b_fresh b_key b_colour P bL iL oL O c h0 hs
  have same : i_Rel (k + 4) (f_phiKind, f_jumpKind, f_branchKind, f_retKind, f_far, f_registerEnd, f_firstSlot, f_cellEnd, f_edgeCode, (nI bL), (nI iL), (nI oL), f_stage, f_open, (nI (ca_B P)), (nI (ca_N P)), f_edges, f_points, f_greatestPressure, f_everLive, f_registers, f_usedRegisters, f_placedBlocks, f_codeSize, f_current, f_returned, (nI O), a_blockStart, a_blockPhis, a_blockItems, a_termKind, a_termValue, a_termFirst, a_termSecond, a_itemKind, a_itemA, a_itemB, a_itemBlock, a_edgeFrom, a_edgeTo, a_edgeOrder, a_edgeArgs, a_edgeSets, a_edgeBegin, a_edgeEnd, a_incoming, a_dominators, a_depth, a_parent, a_pointBase, a_pointBlock, a_pointItem, a_pointUses, a_live, a_distance, a_neighbours, a_colour, a_inRegisters, a_location, a_hint, a_taken, a_moveSource, a_moveReaders, a_codeTo, a_codeFrom, a_codeSwap, a_codeBegin, a_codeEnd, a_outLog, a_params, a_cells) ((nI bL), (nI iL), (nI oL), f_stage, (nI (ca_B P)), (nI (ca_N P)), f_open, (nI O), g_point, g_regs, f_returned, a_itemKind, a_itemBlock, a_itemA, a_itemB, b_term, a_termValue, a_termFirst, a_termSecond, b_dist, a_params, b_val, a_outLog, b_reached, b_level, b_fresh, b_key, b_colour) := ca_mk (k + 4) h0 hs
  have h0' := h0
  obtain ⟨q1, q2, q3, q4, q5, q6, q7, q8, q9, qW, qI, qo, qP, qb, qT, qA, qY⟩ := h0
  unfold wpX_ret
  refine xl_openState (fun s0 o1 => br_t rfl ?_) (fun s0 o0 => br_f (by decide) (br_t s0 (br_t o0 ⟨rfl, same⟩))) (fun s1 => br_f (by decide) (br_f s1 ⟨rfl, same⟩))
  refine xl_isName q4 (fun hv => br_f (by decide) ?_) (fun z => br_t rfl (br_t s0 (br_f o1 (yl_noItem q4 (fun y => absurd y z) (fun _ => br_f (by decide) ⟨rfl, same⟩)))))
  have hv' := hv
  obtain ⟨t, t1, t2⟩ := hv'
  exact ca_close (k := k + 4) (tk := 2) (tv := t) (t1 := 0) (t2 := 0) (yk := 3) h0' s0 o1 rfl rfl t2 rfl rfl (by omega) (by omega) (by omega) (by omega) (fun hY hR => br_t s0 (br_f o1 (yl_noItem q4 (fun _ => br_t rfl (hY _ ⟨rfl, hR⟩)) (fun z => absurd hv z))))
theorem i_vc_branch {k : Nat} {u : SX} {v : SY} (I : i_Rel k u v) (hk : k + 4 ≤ 2051) (v1 : Int32) (v2 : Int32) (v3 : Int32) : wpX_branch (fun r u' => wpY_branch (fun r' v' => r' = r ∧ i_Rel (k + 4) u' v') v v1 v2 v3) u v1 v2 v3 := by
  refine ca_el (Q := fun u v => wpX_branch (fun r u' => wpY_branch (fun r' v' => r' = r ∧ i_Rel (k + 4) u' v') v v1 v2 v3) u v1 v2 v3) ?_ I
  intro f_phiKind f_jumpKind f_branchKind f_retKind f_far f_registerEnd f_firstSlot f_cellEnd f_edgeCode f_stage f_open f_edges f_points f_greatestPressure f_everLive f_registers f_usedRegisters f_placedBlocks f_codeSize f_current f_returned a_blockStart a_blockPhis a_blockItems a_termKind a_termValue a_termFirst a_termSecond a_itemKind a_itemA a_itemB a_itemBlock a_edgeFrom a_edgeTo a_edgeOrder a_edgeArgs a_edgeSets a_edgeBegin a_edgeEnd a_incoming a_dominators a_depth a_parent a_pointBase a_pointBlock a_pointItem a_pointUses a_live a_distance a_neighbours a_colour a_inRegisters a_location a_hint a_taken a_moveSource a_moveReaders a_codeTo a_codeFrom a_codeSwap a_codeBegin a_codeEnd a_outLog a_params a_cells g_point g_regs b_term b_dist b_val b_reached b_level b_fresh b_key b_colour P bL iL oL O c h0 hs
  have same : i_Rel (k + 4) (f_phiKind, f_jumpKind, f_branchKind, f_retKind, f_far, f_registerEnd, f_firstSlot, f_cellEnd, f_edgeCode, (nI bL), (nI iL), (nI oL), f_stage, f_open, (nI (ca_B P)), (nI (ca_N P)), f_edges, f_points, f_greatestPressure, f_everLive, f_registers, f_usedRegisters, f_placedBlocks, f_codeSize, f_current, f_returned, (nI O), a_blockStart, a_blockPhis, a_blockItems, a_termKind, a_termValue, a_termFirst, a_termSecond, a_itemKind, a_itemA, a_itemB, a_itemBlock, a_edgeFrom, a_edgeTo, a_edgeOrder, a_edgeArgs, a_edgeSets, a_edgeBegin, a_edgeEnd, a_incoming, a_dominators, a_depth, a_parent, a_pointBase, a_pointBlock, a_pointItem, a_pointUses, a_live, a_distance, a_neighbours, a_colour, a_inRegisters, a_location, a_hint, a_taken, a_moveSource, a_moveReaders, a_codeTo, a_codeFrom, a_codeSwap, a_codeBegin, a_codeEnd, a_outLog, a_params, a_cells) ((nI bL), (nI iL), (nI oL), f_stage, (nI (ca_B P)), (nI (ca_N P)), f_open, (nI O), g_point, g_regs, f_returned, a_itemKind, a_itemBlock, a_itemA, a_itemB, b_term, a_termValue, a_termFirst, a_termSecond, b_dist, a_params, b_val, a_outLog, b_reached, b_level, b_fresh, b_key, b_colour) := ca_mk (k + 4) h0 hs
  have h0' := h0
  obtain ⟨q1, q2, q3, q4, q5, q6, q7, q8, q9, qW, qI, qo, qP, qb, qT, qA, qY⟩ := h0
  unfold wpX_branch
  refine xl_openState (fun s0 o1 => br_t rfl ?_) (fun s0 o0 => br_f (by decide) (br_t s0 (br_t o0 ⟨rfl, same⟩))) (fun s1 => br_f (by decide) (br_f s1 ⟨rfl, same⟩))
  refine xl_isName q4 (fun hv => br_f (by decide) ?_) (fun z => br_t rfl (br_t s0 (br_f o1 (yl_noItem q4 (fun y => absurd y z) (fun _ => br_f (by decide) ⟨rfl, same⟩)))))
  refine xl_isTarget q2 (fun hw => br_f (by decide) ?_) (fun z => br_t rfl (br_t s0 (br_f o1 (yl_noItem q4 (fun _ => br_t rfl (yl_noBlock q2 (fun y => absurd y z) (fun _ => br_f (by decide) ⟨rfl, same⟩))) (fun y => absurd hv y)))))
  refine xl_isTarget q2 (fun hx => br_f (by decide) ?_) (fun z => br_t rfl (br_t s0 (br_f o1 (yl_noItem q4 (fun _ => br_t rfl (yl_noBlock q2 (fun _ => br_t rfl (yl_noBlock q2 (fun y => absurd y z) (fun _ => br_f (by decide) ⟨rfl, same⟩))) (fun y => absurd hw y))) (fun y => absurd hv y)))))
  have hv' := hv
  have hw' := hw
  have hx' := hx
  obtain ⟨a, a1, a2⟩ := hv'
  obtain ⟨b, b1, b2⟩ := hw'
  obtain ⟨d, d1, d2⟩ := hx'
  exact ca_close (k := k + 4) (tk := 1) (tv := a) (t1 := b) (t2 := d) (yk := 2) h0' s0 o1 rfl rfl a2 b2 d2 (by omega) (by omega) (by omega) (by omega) (fun hY hR => br_t s0 (br_f o1 (yl_noItem q4 (fun _ => br_t rfl (yl_noBlock q2 (fun _ => br_t rfl (yl_noBlock q2 (fun _ => br_t rfl (hY _ ⟨rfl, hR⟩)) (fun y => absurd hx y))) (fun y => absurd hw y))) (fun y => absurd hv y))))
section
variable {P : ca_PG} {bL iL oL O c : Nat}
variable {f_phiKind f_jumpKind f_branchKind f_retKind f_far f_registerEnd f_firstSlot f_cellEnd f_edgeCode f_stage f_open f_edges f_points f_greatestPressure f_everLive f_registers f_usedRegisters f_placedBlocks f_codeSize f_current f_returned : Int32} {a_blockStart a_blockPhis a_blockItems a_termKind a_termValue a_termFirst a_termSecond a_itemKind a_itemA a_itemB a_itemBlock a_edgeFrom a_edgeTo a_edgeOrder a_edgeArgs a_edgeSets a_edgeBegin a_edgeEnd a_incoming a_dominators a_depth a_parent a_pointBase a_pointBlock a_pointItem a_pointUses a_live a_distance a_neighbours a_colour a_inRegisters a_location a_hint a_taken a_moveSource a_moveReaders a_codeTo a_codeFrom a_codeSwap a_codeBegin a_codeEnd a_outLog a_params a_cells : Nat → Int32} {g_point g_regs : Int32} {b_term b_dist b_val b_reached b_level b_fresh b_key b_colour : Nat → Int32}
theorem yl_phi21 {post : Int32 → SY → Prop} {v1 v2 : Int32} (hW : ca_WF P) (hFI : ca_IF P) (hP : ca_AP P a_itemKind a_itemBlock a_itemA a_itemB) (hB0 : 0 < ca_B P) (h1 : ca_bi P (ca_B P - 1) ≤ ca_bp P (ca_B P - 1) → wpY_noItem (fun r => (r = 0 → wpY_noItem (fun r => (r = 0 → wpY_add (fun r u => match u with | (x1, x2, x3, x4, x5, x6, x7, x8, x9, x10, x11, y1, y2, y3, y4, y5, y6, y7, y8, y9, y10, y11, y12, y13, y14, y15, y16, y17) => post r (x1, x2, x3, x4, x5, x6, x7, x8, x9, x10, x11, y1, y2, y3, y4, y5, y6, y7, y8, y9, y10, y11, y12, y13, y14, y15, y16, y17)) ((nI bL), (nI iL), (nI oL), f_stage, (nI (ca_B P)), (nI (ca_N P)), f_open, (nI O), g_point, g_regs, f_returned, a_itemKind, a_itemBlock, a_itemA, a_itemB, b_term, a_termValue, a_termFirst, a_termSecond, b_dist, a_params, b_val, a_outLog, b_reached, b_level, b_fresh, b_key, b_colour) 8 v1 v2) ∧ (¬ r = 0 → post (-3) ((nI bL), (nI iL), (nI oL), f_stage, (nI (ca_B P)), (nI (ca_N P)), f_open, (nI O), g_point, g_regs, f_returned, a_itemKind, a_itemBlock, a_itemA, a_itemB, b_term, a_termValue, a_termFirst, a_termSecond, b_dist, a_params, b_val, a_outLog, b_reached, b_level, b_fresh, b_key, b_colour))) ((nI bL), (nI iL), (nI oL), f_stage, (nI (ca_B P)), (nI (ca_N P)), f_open, (nI O), g_point, g_regs, f_returned, a_itemKind, a_itemBlock, a_itemA, a_itemB, b_term, a_termValue, a_termFirst, a_termSecond, b_dist, a_params, b_val, a_outLog, b_reached, b_level, b_fresh, b_key, b_colour) v2) ∧ (¬ r = 0 → post (-3) ((nI bL), (nI iL), (nI oL), f_stage, (nI (ca_B P)), (nI (ca_N P)), f_open, (nI O), g_point, g_regs, f_returned, a_itemKind, a_itemBlock, a_itemA, a_itemB, b_term, a_termValue, a_termFirst, a_termSecond, b_dist, a_params, b_val, a_outLog, b_reached, b_level, b_fresh, b_key, b_colour))) ((nI bL), (nI iL), (nI oL), f_stage, (nI (ca_B P)), (nI (ca_N P)), f_open, (nI O), g_point, g_regs, f_returned, a_itemKind, a_itemBlock, a_itemA, a_itemB, b_term, a_termValue, a_termFirst, a_termSecond, b_dist, a_params, b_val, a_outLog, b_reached, b_level, b_fresh, b_key, b_colour) v1) (h0 : ¬ ca_bi P (ca_B P - 1) ≤ ca_bp P (ca_B P - 1) → post (-2) ((nI bL), (nI iL), (nI oL), f_stage, (nI (ca_B P)), (nI (ca_N P)), f_open, (nI O), g_point, g_regs, f_returned, a_itemKind, a_itemBlock, a_itemA, a_itemB, b_term, a_termValue, a_termFirst, a_termSecond, b_dist, a_params, b_val, a_outLog, b_reached, b_level, b_fresh, b_key, b_colour)) : ∃ n, wY_phi_21 post v1 v2 (nI bL) (nI iL) (nI oL) f_stage (nI (ca_B P)) (nI (ca_N P)) f_open (nI O) g_point g_regs f_returned a_itemKind a_itemBlock a_itemA a_itemB b_term a_termValue a_termFirst a_termSecond b_dist a_params b_val a_outLog b_reached b_level b_fresh b_key b_colour n 0 := by
  have hB := ca_wB hW
  have hN := ca_wN hW
  have hl := ca_wl hW hB0
  have hpl := ca_wp hW (show ca_B P - 1 < ca_B P by omega)
  refine ca_loop (σ := Unit) (fun n i _ => wY_phi_21 post v1 v2 (nI bL) (nI iL) (nI oL) f_stage (nI (ca_B P)) (nI (ca_N P)) f_open (nI O) g_point g_regs f_returned a_itemKind a_itemBlock a_itemA a_itemB b_term a_termValue a_termFirst a_termSecond b_dist a_params b_val a_outLog b_reached b_level b_fresh b_key b_colour n (nI i)) (fun i _ => ∀ j, j < i → ca_bl P j = ca_B P - 1 → ca_kd P j = 8) 0 (ca_N P) (by omega) () (fun j hj => by omega) ?_ ?_
  · intro n _ hI
    refine br_t (nI_le (Nat.le_refl _) (by omega)) (h1 ?_)
    rcases Nat.lt_or_ge (ca_bp P (ca_B P - 1)) (ca_bi P (ca_B P - 1)) with z | z
    · have hw := ca_wi hW (s := ca_B P - 1) (i := ca_bs P (ca_B P - 1) + ca_bp P (ca_B P - 1)) (by omega) (by omega) (by omega)
      have := hw.2.mp (hI _ (by omega) hw.1)
      omega
    · exact z
  · intro n i _ _ hi hI ih
    have hP' := hP i hi
    have hk := (hFI i hi).1
    have hbi := ca_wb hW hi
    refine br_f (nI_ge hi (by omega)) ?_
    rw [ca_bm hB0]
    refine ca_vi (pk_eq (ca_bl P i) (ca_B P - 1) (fun z => ca_vi (pk_eq (ca_kd P i) 8 (fun y => ?_) (fun y => h0 fun x => ?_) (ca_r hP'.1))) (fun z => ?_) (ca_r hP'.2.1))
    · refine ca_in (ih () fun j hj h => ?_)
      by_cases e : j = i
      · subst e; exact y
      · exact hI j (by omega) h
    · rw [z] at hbi
      have hw := ca_wi hW (s := ca_B P - 1) (i := i) (by omega) hbi.2.1 hbi.2.2
      exact y (hw.2.mpr (by omega))
    · refine ca_in (ih () fun j hj h => ?_)
      by_cases e : j = i
      · subst e; exact absurd h z
      · exact hI j (by omega) h
end
theorem i_vc_phi {k : Nat} {u : SX} {v : SY} (I : i_Rel k u v) (hk : k + 4 ≤ 2051) (v1 : Int32) (v2 : Int32) : wpX_phi (fun r u' => wpY_phi (fun r' v' => r' = r ∧ i_Rel (k + 4) u' v') v v1 v2) u v1 v2 := by
  refine ca_el (Q := fun u v => wpX_phi (fun r u' => wpY_phi (fun r' v' => r' = r ∧ i_Rel (k + 4) u' v') v v1 v2) u v1 v2) ?_ I
  intro f_phiKind f_jumpKind f_branchKind f_retKind f_far f_registerEnd f_firstSlot f_cellEnd f_edgeCode f_stage f_open f_edges f_points f_greatestPressure f_everLive f_registers f_usedRegisters f_placedBlocks f_codeSize f_current f_returned a_blockStart a_blockPhis a_blockItems a_termKind a_termValue a_termFirst a_termSecond a_itemKind a_itemA a_itemB a_itemBlock a_edgeFrom a_edgeTo a_edgeOrder a_edgeArgs a_edgeSets a_edgeBegin a_edgeEnd a_incoming a_dominators a_depth a_parent a_pointBase a_pointBlock a_pointItem a_pointUses a_live a_distance a_neighbours a_colour a_inRegisters a_location a_hint a_taken a_moveSource a_moveReaders a_codeTo a_codeFrom a_codeSwap a_codeBegin a_codeEnd a_outLog a_params a_cells g_point g_regs b_term b_dist b_val b_reached b_level b_fresh b_key b_colour P bL iL oL O c h0 hs
  have same : i_Rel (k + 4) (f_phiKind, f_jumpKind, f_branchKind, f_retKind, f_far, f_registerEnd, f_firstSlot, f_cellEnd, f_edgeCode, (nI bL), (nI iL), (nI oL), f_stage, f_open, (nI (ca_B P)), (nI (ca_N P)), f_edges, f_points, f_greatestPressure, f_everLive, f_registers, f_usedRegisters, f_placedBlocks, f_codeSize, f_current, f_returned, (nI O), a_blockStart, a_blockPhis, a_blockItems, a_termKind, a_termValue, a_termFirst, a_termSecond, a_itemKind, a_itemA, a_itemB, a_itemBlock, a_edgeFrom, a_edgeTo, a_edgeOrder, a_edgeArgs, a_edgeSets, a_edgeBegin, a_edgeEnd, a_incoming, a_dominators, a_depth, a_parent, a_pointBase, a_pointBlock, a_pointItem, a_pointUses, a_live, a_distance, a_neighbours, a_colour, a_inRegisters, a_location, a_hint, a_taken, a_moveSource, a_moveReaders, a_codeTo, a_codeFrom, a_codeSwap, a_codeBegin, a_codeEnd, a_outLog, a_params, a_cells) ((nI bL), (nI iL), (nI oL), f_stage, (nI (ca_B P)), (nI (ca_N P)), f_open, (nI O), g_point, g_regs, f_returned, a_itemKind, a_itemBlock, a_itemA, a_itemB, b_term, a_termValue, a_termFirst, a_termSecond, b_dist, a_params, b_val, a_outLog, b_reached, b_level, b_fresh, b_key, b_colour) := ca_mk (k + 4) h0 hs
  have h0' := h0
  obtain ⟨q1, q2, q3, q4, q5, q6, q7, q8, q9, qW, qI, qo, qP, qb, qT, qA, qY⟩ := h0
  unfold wpX_phi
  refine xl_openState (fun s0 o1 => br_t rfl ?_) (fun s0 o0 => br_f (by decide) (br_t s0 (br_t o0 ⟨rfl, same⟩))) (fun s1 => br_f (by decide) (br_f s1 ⟨rfl, same⟩))
  have hB := ca_wB qW
  have hN := ca_wN qW
  have hc : c + 1 = ca_B P := by
    rcases qo with z | z
    · exact absurd z.1 o1
    · exact z.2.1
  have hbl := qb (ca_B P - 1) (by omega)
  have hwp := ca_wp qW (show ca_B P - 1 < ca_B P by omega)
  have hwn := ca_wn qW (show ca_B P - 1 < ca_B P by omega)
  refine nm_r (ca_bm (by omega)) (ca_vi (ca_vi (pk_le (ca_bi P (ca_B P - 1)) (ca_bp P (ca_B P - 1)) (fun hle => ?_) (fun hgt => br_t s0 (br_f o1 (yl_phi21 qW qI qP (by omega) (fun z => by omega) (fun _ => ⟨rfl, same⟩)))) (ca_r hbl.2.2) (ca_r hbl.2.1))))
  refine xl_isName q4 (fun hv => br_f (by decide) ?_) (fun z => br_t rfl (br_t s0 (br_f o1 (yl_phi21 qW qI qP (by omega) (fun _ => yl_noItem q4 (fun y => absurd y z) (fun _ => br_f (by decide) ⟨rfl, same⟩)) (fun y => absurd hle y)))))
  refine xl_isName q4 (fun hw => br_f (by decide) ?_) (fun z => br_t rfl (br_t s0 (br_f o1 (yl_phi21 qW qI qP (by omega) (fun _ => yl_noItem q4 (fun _ => br_t rfl (yl_noItem q4 (fun y => absurd y z) (fun _ => br_f (by decide) ⟨rfl, same⟩))) (fun y => absurd hv y)) (fun y => absurd hle y)))))
  have full : ¬ ca_N P < iL → wpY_add (fun r u => match u with | (x1, x2, x3, x4, x5, x6, x7, x8, x9, x10, x11, y1, y2, y3, y4, y5, y6, y7, y8, y9, y10, y11, y12, y13, y14, y15, y16, y17) => r = -4 ∧ i_Rel (k + 4) (f_phiKind, f_jumpKind, f_branchKind, f_retKind, f_far, f_registerEnd, f_firstSlot, f_cellEnd, f_edgeCode, (nI bL), (nI iL), (nI oL), f_stage, f_open, (nI (ca_B P)), (nI (ca_N P)), f_edges, f_points, f_greatestPressure, f_everLive, f_registers, f_usedRegisters, f_placedBlocks, f_codeSize, f_current, f_returned, (nI O), a_blockStart, a_blockPhis, a_blockItems, a_termKind, a_termValue, a_termFirst, a_termSecond, a_itemKind, a_itemA, a_itemB, a_itemBlock, a_edgeFrom, a_edgeTo, a_edgeOrder, a_edgeArgs, a_edgeSets, a_edgeBegin, a_edgeEnd, a_incoming, a_dominators, a_depth, a_parent, a_pointBase, a_pointBlock, a_pointItem, a_pointUses, a_live, a_distance, a_neighbours, a_colour, a_inRegisters, a_location, a_hint, a_taken, a_moveSource, a_moveReaders, a_codeTo, a_codeFrom, a_codeSwap, a_codeBegin, a_codeEnd, a_outLog, a_params, a_cells) (x1, x2, x3, x4, x5, x6, x7, x8, x9, x10, x11, y1, y2, y3, y4, y5, y6, y7, y8, y9, y10, y11, y12, y13, y14, y15, y16, y17)) ((nI bL), (nI iL), (nI oL), f_stage, (nI (ca_B P)), (nI (ca_N P)), f_open, (nI O), g_point, g_regs, f_returned, a_itemKind, a_itemBlock, a_itemA, a_itemB, b_term, a_termValue, a_termFirst, a_termSecond, b_dist, a_params, b_val, a_outLog, b_reached, b_level, b_fresh, b_key, b_colour) 8 v1 v2 := fun z => br_f (nI_nlt (by omega) (by omega)) ⟨rfl, same⟩
  refine pk_lt (ca_N P) iL (fun hl => ?_) (fun hl => br_t s0 (br_f o1 (yl_phi21 qW qI qP (by omega) (fun _ => yl_noItem q4 (fun _ => br_t rfl (yl_noItem q4 (fun _ => br_t rfl (full (by omega))) (fun y => absurd hw y))) (fun y => absurd hv y)) (fun y => absurd hle y))))
  have hv' := hv
  have hw' := hw
  obtain ⟨a, a1, a2⟩ := hv'
  obtain ⟨b, b1, b2⟩ := hw'
  refine ca_vi (ca_vi (ca_wx (ca_B P - 1) rfl (w := nI (ca_bp P (ca_B P - 1) + 1)) (by rw [ca_r hbl.2.1, nI_1]) ?_))
  refine ca_add (k := k + 4) (kk := 8) (bp := ca_up (ca_bp P) (ca_B P - 1) (ca_bp P (ca_B P - 1) + 1)) h0' s0 o1 hl rfl (by omega) (fun z => by omega) (fun _ => ⟨a, by omega, a2⟩) (fun _ _ => ⟨b, by omega, b2⟩) (fun s _ hs => ca_un1 hs) (fun s hs => ?_) (Or.inl ⟨rfl, hle, ca_us1⟩) (fun hY hR => br_t s0 (br_f o1 (yl_phi21 qW qI qP (by omega) (fun _ => yl_noItem q4 (fun _ => br_t rfl (yl_noItem q4 (fun _ => br_t rfl (hY _ ⟨rfl, hR⟩)) (fun y => absurd hw y))) (fun y => absurd hv y)) (fun y => absurd hle y))))
  by_cases e : s = ca_B P - 1
  · subst e; rw [pk_us, ca_us1]
  · rw [pk_un e, ca_un1 e]; exact (qb s hs).2.1
end
section
/-! op, and the small calls -/
def ca_fit (iL : Nat) (v1 v2 v3 : Int32) : Prop := ∃ kk, kk < 8 ∧ v1 = nI kk ∧ (kk = 1 → ca_nd v2 4) ∧ (kk = 7 → ca_nd v2 iL) ∧ (2 ≤ kk → kk ≤ 6 → ca_nd v2 iL ∧ ca_nd v3 iL)
theorem ca_fitn {iL kk : Nat} {v2 v3 : Int32} (hk : kk < 8) (h : ca_fit iL (nI kk) v2 v3) : (kk = 1 → ca_nd v2 4) ∧ (kk = 7 → ca_nd v2 iL) ∧ (2 ≤ kk → kk ≤ 6 → ca_nd v2 iL ∧ ca_nd v3 iL) := by
  obtain ⟨k', h1, h2, h3⟩ := h
  have := ca_ninj h2 (by omega) (by omega)
  subst this
  exact h3
theorem ca_8le {v : Int32} (h : nI 8 ≤ v) : ¬ v < 0 ∧ ¬ v ≤ 7 := by
  refine ⟨fun z => ?_, fun z => ?_⟩
  · exact nI_pos (n := 8) (by omega) (Int32.lt_of_le_of_lt h z)
  · exact nI_ge (a := 7) (b := 8) (by omega) (by omega) (Int32.le_trans h z)
section
variable {P : ca_PG} {bL iL oL O c : Nat}
variable {f_phiKind f_jumpKind f_branchKind f_retKind f_far f_registerEnd f_firstSlot f_cellEnd f_edgeCode f_stage f_open f_edges f_points f_greatestPressure f_everLive f_registers f_usedRegisters f_placedBlocks f_codeSize f_current f_returned : Int32} {a_blockStart a_blockPhis a_blockItems a_termKind a_termValue a_termFirst a_termSecond a_itemKind a_itemA a_itemB a_itemBlock a_edgeFrom a_edgeTo a_edgeOrder a_edgeArgs a_edgeSets a_edgeBegin a_edgeEnd a_incoming a_dominators a_depth a_parent a_pointBase a_pointBlock a_pointItem a_pointUses a_live a_distance a_neighbours a_colour a_inRegisters a_location a_hint a_taken a_moveSource a_moveReaders a_codeTo a_codeFrom a_codeSwap a_codeBegin a_codeEnd a_outLog a_params a_cells : Nat → Int32} {g_point g_regs : Int32} {b_term b_dist b_val b_reached b_level b_fresh b_key b_colour : Nat → Int32}
theorem xl_argumentsFit {post : Int32 → Prop} {v1 v2 v3 : Int32} (hL : iL ≤ 32) (h1 : ca_fit iL v1 v2 v3 → post 1) (h0 : ¬ ca_fit iL v1 v2 v3 → post 0) : wpX_argumentsFit post (f_phiKind, f_jumpKind, f_branchKind, f_retKind, f_far, f_registerEnd, f_firstSlot, f_cellEnd, f_edgeCode, (nI bL), (nI iL), (nI oL), f_stage, f_open, (nI (ca_B P)), (nI (ca_N P)), f_edges, f_points, f_greatestPressure, f_everLive, f_registers, f_usedRegisters, f_placedBlocks, f_codeSize, f_current, f_returned, (nI O), a_blockStart, a_blockPhis, a_blockItems, a_termKind, a_termValue, a_termFirst, a_termSecond, a_itemKind, a_itemA, a_itemB, a_itemBlock, a_edgeFrom, a_edgeTo, a_edgeOrder, a_edgeArgs, a_edgeSets, a_edgeBegin, a_edgeEnd, a_incoming, a_dominators, a_depth, a_parent, a_pointBase, a_pointBlock, a_pointItem, a_pointUses, a_live, a_distance, a_neighbours, a_colour, a_inRegisters, a_location, a_hint, a_taken, a_moveSource, a_moveReaders, a_codeTo, a_codeFrom, a_codeSwap, a_codeBegin, a_codeEnd, a_outLog, a_params, a_cells) v1 v2 v3 := by
  rcases pk_ix v1 (n := 8) (by omega) with z | z | ⟨kk, k1, k2⟩
  · refine br_t z (h0 ?_)
    rintro ⟨kk, _, h2, _⟩
    rw [h2] at z
    exact nI_pos (by omega) z
  · refine br_f (ca_8le z).1 (br_f (ca_8le z).2 (h0 ?_))
    rintro ⟨kk, h1, h2, _⟩
    rw [h2] at z
    exact nI_ge (b := 8) h1 (by omega) z
  · subst k2
    refine br_f (nI_pos (by omega)) (br_t (nI_le (b := 7) (by omega) (by omega)) (pk_eq kk 0 (fun e => h1 ⟨kk, k1, rfl, fun _ => by omega, fun _ => by omega, fun _ _ => by omega⟩) (fun e0 => pk_eq kk 1 (fun e => ?_) (fun e1 => pk_eq kk 7 (fun e => ?_) (fun e7 => ?_)))))
    · refine ca_ndX (L := 4) (by omega) (fun h => h1 ⟨kk, k1, rfl, fun _ => h, fun _ => by omega, fun _ _ => by omega⟩) (fun h => h0 fun y => h ((ca_fitn k1 y).1 e))
    · refine xl_isName hL (fun h => ⟨narrow_b1, h1 ⟨kk, k1, rfl, fun _ => by omega, fun _ => h, fun _ _ => by omega⟩⟩) (fun h => ⟨narrow_b0, h0 fun y => h ((ca_fitn k1 y).2.1 e)⟩)
    · refine xl_isName hL (fun h => br_f (by decide) (xl_isName hL (fun g => br_f (by decide) (h1 ⟨kk, k1, rfl, fun _ => by omega, fun _ => by omega, fun _ _ => ⟨h, g⟩⟩)) (fun g => br_t rfl (h0 fun y => g ((ca_fitn k1 y).2.2 (by omega) (by omega)).2)))) (fun h => br_t rfl (h0 fun y => h ((ca_fitn k1 y).2.2 (by omega) (by omega)).1))
theorem ca_nd3 {v : Int32} : ca_nd v 4 → ¬ v < 0 ∧ v ≤ 3 := by
  rintro ⟨j, j1, j2⟩
  subst j2
  exact ⟨nI_pos (by omega), nI_le (b := 3) (by omega) (by omega)⟩
theorem ca_nd3n {v : Int32} (h : ¬ ca_nd v 4) : v < 0 ∨ ¬ v ≤ 3 := by
  rcases ca_ndE v (L := 4) (by omega) with z | ⟨_, z | z⟩
  · exact absurd z h
  · exact Or.inl z
  · refine Or.inr fun y => ?_
    exact nI_ge (a := 3) (b := 4) (by omega) (by omega) (Int32.le_trans z y)
theorem yl_op {post : Int32 → SY → Prop} {v1 v2 v3 : Int32} (hL : iL ≤ 32) (s0 : f_stage = 0) (o1 : ¬ f_open = 0) (h1 : ca_fit iL v1 v2 v3 → wY_op_96 post v1 v2 v3 (nI bL) (nI iL) (nI oL) f_stage (nI (ca_B P)) (nI (ca_N P)) f_open (nI O) g_point g_regs f_returned a_itemKind a_itemBlock a_itemA a_itemB b_term a_termValue a_termFirst a_termSecond b_dist a_params b_val a_outLog b_reached b_level b_fresh b_key b_colour) (h0 : ¬ ca_fit iL v1 v2 v3 → post (-3) ((nI bL), (nI iL), (nI oL), f_stage, (nI (ca_B P)), (nI (ca_N P)), f_open, (nI O), g_point, g_regs, f_returned, a_itemKind, a_itemBlock, a_itemA, a_itemB, b_term, a_termValue, a_termFirst, a_termSecond, b_dist, a_params, b_val, a_outLog, b_reached, b_level, b_fresh, b_key, b_colour)) : wpY_op post ((nI bL), (nI iL), (nI oL), f_stage, (nI (ca_B P)), (nI (ca_N P)), f_open, (nI O), g_point, g_regs, f_returned, a_itemKind, a_itemBlock, a_itemA, a_itemB, b_term, a_termValue, a_termFirst, a_termSecond, b_dist, a_params, b_val, a_outLog, b_reached, b_level, b_fresh, b_key, b_colour) v1 v2 v3 := by
  refine br_t s0 (br_f o1 ?_)
  rcases pk_ix v1 (n := 8) (by omega) with z | z | ⟨kk, k1, k2⟩
  · refine br_t z (h0 ?_)
    rintro ⟨kk, _, h2, _⟩
    rw [h2] at z
    exact nI_pos (by omega) z
  · refine br_f (ca_8le z).1 (br_f (ca_8le z).2 (h0 ?_))
    rintro ⟨kk, h1, h2, _⟩
    rw [h2] at z
    exact nI_ge (b := 8) h1 (by omega) z
  · subst k2
    have k79 : (kk = 1 → ca_nd v2 4) → ¬ (2 ≤ kk ∧ kk ≤ 6) → wY_op_79 post (nI kk) v2 v3 (nI bL) (nI iL) (nI oL) f_stage (nI (ca_B P)) (nI (ca_N P)) f_open (nI O) g_point g_regs f_returned a_itemKind a_itemBlock a_itemA a_itemB b_term a_termValue a_termFirst a_termSecond b_dist a_params b_val a_outLog b_reached b_level b_fresh b_key b_colour := by
      intro g1 g2
      refine pk_eq kk 7 (fun e => yl_noItem hL (fun h => br_t rfl (h1 ⟨kk, k1, rfl, g1, fun _ => h, fun y1 y2 => absurd ⟨y1, y2⟩ g2⟩)) (fun h => br_f (by decide) (h0 fun y => h ((ca_fitn k1 y).2.1 e)))) (fun e => h1 ⟨kk, k1, rfl, g1, fun y => absurd y e, fun y1 y2 => absurd ⟨y1, y2⟩ g2⟩)
    have k49 : (kk = 1 → ca_nd v2 4) → wY_op_49 post (nI kk) v2 v3 (nI bL) (nI iL) (nI oL) f_stage (nI (ca_B P)) (nI (ca_N P)) f_open (nI O) g_point g_regs f_returned a_itemKind a_itemBlock a_itemA a_itemB b_term a_termValue a_termFirst a_termSecond b_dist a_params b_val a_outLog b_reached b_level b_fresh b_key b_colour := by
      intro g1
      refine pk_lt kk 2 (fun z => k79 g1 (by omega)) (fun z => pk_lt 6 kk (fun y => k79 g1 (by omega)) (fun y => ?_))
      refine yl_noItem hL (fun h => br_t rfl (yl_noItem hL (fun g => br_t rfl ?_) (fun g => br_f (by decide) (h0 fun y2 => g ((ca_fitn k1 y2).2.2 (by omega) (by omega)).2)))) (fun h => br_f (by decide) (h0 fun y2 => h ((ca_fitn k1 y2).2.2 (by omega) (by omega)).1))
      exact pk_eq kk 7 (fun e => by omega) (fun e => h1 ⟨kk, k1, rfl, g1, fun y => absurd y e, fun _ _ => ⟨h, g⟩⟩)
    refine br_f (nI_pos (by omega)) (br_t (nI_le (b := 7) (by omega) (by omega)) (pk_eq kk 1 (fun e => ?_) (fun e => k49 (fun y => absurd y e))))
    by_cases hn : ca_nd v2 4
    · exact br_f (ca_nd3 hn).1 (br_t (ca_nd3 hn).2 (k49 fun _ => hn))
    · have hf : ¬ ca_fit iL (nI kk) v2 v3 := fun y => hn ((ca_fitn k1 y).1 e)
      by_cases z : v2 < 0
      · exact br_t z (h0 hf)
      · exact br_f z (br_f ((ca_nd3n hn).resolve_left z) (h0 hf))
end
theorem i_vc_op {k : Nat} {u : SX} {v : SY} (I : i_Rel k u v) (hk : k + 4 ≤ 2051) (v1 : Int32) (v2 : Int32) (v3 : Int32) : wpX_op (fun r u' => wpY_op (fun r' v' => r' = r ∧ i_Rel (k + 4) u' v') v v1 v2 v3) u v1 v2 v3 := by
  refine ca_el (Q := fun u v => wpX_op (fun r u' => wpY_op (fun r' v' => r' = r ∧ i_Rel (k + 4) u' v') v v1 v2 v3) u v1 v2 v3) ?_ I
  intro f_phiKind f_jumpKind f_branchKind f_retKind f_far f_registerEnd f_firstSlot f_cellEnd f_edgeCode f_stage f_open f_edges f_points f_greatestPressure f_everLive f_registers f_usedRegisters f_placedBlocks f_codeSize f_current f_returned a_blockStart a_blockPhis a_blockItems a_termKind a_termValue a_termFirst a_termSecond a_itemKind a_itemA a_itemB a_itemBlock a_edgeFrom a_edgeTo a_edgeOrder a_edgeArgs a_edgeSets a_edgeBegin a_edgeEnd a_incoming a_dominators a_depth a_parent a_pointBase a_pointBlock a_pointItem a_pointUses a_live a_distance a_neighbours a_colour a_inRegisters a_location a_hint a_taken a_moveSource a_moveReaders a_codeTo a_codeFrom a_codeSwap a_codeBegin a_codeEnd a_outLog a_params a_cells g_point g_regs b_term b_dist b_val b_reached b_level b_fresh b_key b_colour P bL iL oL O c h0 hs
  have same : i_Rel (k + 4) (f_phiKind, f_jumpKind, f_branchKind, f_retKind, f_far, f_registerEnd, f_firstSlot, f_cellEnd, f_edgeCode, (nI bL), (nI iL), (nI oL), f_stage, f_open, (nI (ca_B P)), (nI (ca_N P)), f_edges, f_points, f_greatestPressure, f_everLive, f_registers, f_usedRegisters, f_placedBlocks, f_codeSize, f_current, f_returned, (nI O), a_blockStart, a_blockPhis, a_blockItems, a_termKind, a_termValue, a_termFirst, a_termSecond, a_itemKind, a_itemA, a_itemB, a_itemBlock, a_edgeFrom, a_edgeTo, a_edgeOrder, a_edgeArgs, a_edgeSets, a_edgeBegin, a_edgeEnd, a_incoming, a_dominators, a_depth, a_parent, a_pointBase, a_pointBlock, a_pointItem, a_pointUses, a_live, a_distance, a_neighbours, a_colour, a_inRegisters, a_location, a_hint, a_taken, a_moveSource, a_moveReaders, a_codeTo, a_codeFrom, a_codeSwap, a_codeBegin, a_codeEnd, a_outLog, a_params, a_cells) ((nI bL), (nI iL), (nI oL), f_stage, (nI (ca_B P)), (nI (ca_N P)), f_open, (nI O), g_point, g_regs, f_returned, a_itemKind, a_itemBlock, a_itemA, a_itemB, b_term, a_termValue, a_termFirst, a_termSecond, b_dist, a_params, b_val, a_outLog, b_reached, b_level, b_fresh, b_key, b_colour) := ca_mk (k + 4) h0 hs
  have h0' := h0
  obtain ⟨q1, q2, q3, q4, q5, q6, q7, q8, q9, qW, qI, qo, qP, qb, qT, qA, qY⟩ := h0
  unfold wpX_op
  refine xl_openState (fun s0 o1 => br_t rfl ?_) (fun s0 o0 => br_f (by decide) (br_t s0 (br_t o0 ⟨rfl, same⟩))) (fun s1 => br_f (by decide) (br_f s1 ⟨rfl, same⟩))
  refine xl_argumentsFit q4 (fun hf => br_f (by decide) ?_) (fun hf => br_t rfl (yl_op q4 s0 o1 (fun y => absurd y hf) (fun _ => ⟨rfl, same⟩)))
  refine pk_lt (ca_N P) iL (fun hl => ?_) (fun hl => yl_op q4 s0 o1 (fun _ => br_f (nI_nlt hl (by omega)) ⟨rfl, same⟩) (fun y => absurd hf y))
  have hf' := hf
  obtain ⟨kk, k1, k2, k3, k4, k5⟩ := hf'
  have wid : ∀ {x : Int32}, ca_nd x iL → ca_nd x 32 := fun ⟨j, j1, j2⟩ => ⟨j, by omega, j2⟩
  refine ca_add (k := k + 4) (kk := kk) (bp := ca_bp P) h0' s0 o1 hl k2 (by omega) k3 (fun z => ?_) (fun z y => ?_) (fun s _ _ => rfl) (fun s hs => (qb s hs).2.1) (Or.inr ⟨by omega, rfl⟩) (fun hY hR => yl_op q4 s0 o1 (fun _ => hY _ ⟨rfl, hR⟩) (fun y => absurd hf y))
  · by_cases e : kk = 7
    · exact wid (k4 e)
    · exact wid (k5 z (by omega)).1
  · exact wid (k5 z (by omega)).2
theorem i_vc_setParam {k : Nat} {u : SX} {v : SY} (I : i_Rel k u v) (hk : k + 4 ≤ 2051) (v1 : Int32) (v2 : Int32) : wpX_setParam (fun r u' => wpY_setParam (fun r' v' => r' = r ∧ i_Rel (k + 4) u' v') v v1 v2) u v1 v2 := by
  refine ca_el (Q := fun u v => wpX_setParam (fun r u' => wpY_setParam (fun r' v' => r' = r ∧ i_Rel (k + 4) u' v') v v1 v2) u v1 v2) ?_ I
  intro f_phiKind f_jumpKind f_branchKind f_retKind f_far f_registerEnd f_firstSlot f_cellEnd f_edgeCode f_stage f_open f_edges f_points f_greatestPressure f_everLive f_registers f_usedRegisters f_placedBlocks f_codeSize f_current f_returned a_blockStart a_blockPhis a_blockItems a_termKind a_termValue a_termFirst a_termSecond a_itemKind a_itemA a_itemB a_itemBlock a_edgeFrom a_edgeTo a_edgeOrder a_edgeArgs a_edgeSets a_edgeBegin a_edgeEnd a_incoming a_dominators a_depth a_parent a_pointBase a_pointBlock a_pointItem a_pointUses a_live a_distance a_neighbours a_colour a_inRegisters a_location a_hint a_taken a_moveSource a_moveReaders a_codeTo a_codeFrom a_codeSwap a_codeBegin a_codeEnd a_outLog a_params a_cells g_point g_regs b_term b_dist b_val b_reached b_level b_fresh b_key b_colour P bL iL oL O c h0 hs
  have same : i_Rel (k + 4) (f_phiKind, f_jumpKind, f_branchKind, f_retKind, f_far, f_registerEnd, f_firstSlot, f_cellEnd, f_edgeCode, (nI bL), (nI iL), (nI oL), f_stage, f_open, (nI (ca_B P)), (nI (ca_N P)), f_edges, f_points, f_greatestPressure, f_everLive, f_registers, f_usedRegisters, f_placedBlocks, f_codeSize, f_current, f_returned, (nI O), a_blockStart, a_blockPhis, a_blockItems, a_termKind, a_termValue, a_termFirst, a_termSecond, a_itemKind, a_itemA, a_itemB, a_itemBlock, a_edgeFrom, a_edgeTo, a_edgeOrder, a_edgeArgs, a_edgeSets, a_edgeBegin, a_edgeEnd, a_incoming, a_dominators, a_depth, a_parent, a_pointBase, a_pointBlock, a_pointItem, a_pointUses, a_live, a_distance, a_neighbours, a_colour, a_inRegisters, a_location, a_hint, a_taken, a_moveSource, a_moveReaders, a_codeTo, a_codeFrom, a_codeSwap, a_codeBegin, a_codeEnd, a_outLog, a_params, a_cells) ((nI bL), (nI iL), (nI oL), f_stage, (nI (ca_B P)), (nI (ca_N P)), f_open, (nI O), g_point, g_regs, f_returned, a_itemKind, a_itemBlock, a_itemA, a_itemB, b_term, a_termValue, a_termFirst, a_termSecond, b_dist, a_params, b_val, a_outLog, b_reached, b_level, b_fresh, b_key, b_colour) := ca_mk (k + 4) h0 hs
  have h0' := h0
  obtain ⟨q1, q2, q3, q4, q5, q6, q7, q8, q9, qW, qI, qo, qP, qb, qT, qA, qY⟩ := h0
  rcases pk_ix v1 (n := 4) (by omega) with z | z | ⟨j, j1, j2⟩
  · exact br_t z (br_t z ⟨rfl, same⟩)
  · have z3 : ¬ v1 ≤ 3 := fun y => nI_ge (a := 3) (b := 4) (by omega) (by omega) (Int32.le_trans z y)
    have z0 : ¬ v1 < 0 := fun y => nI_pos (n := 4) (by omega) (Int32.lt_of_le_of_lt z y)
    exact br_f z0 (br_f z3 (br_f z0 (br_f z3 ⟨rfl, same⟩)))
  · subst j2
    have z0 : ¬ nI j < 0 := nI_pos (by omega)
    have z3 : nI j ≤ 3 := nI_le (b := 3) (by omega) (by omega)
    exact br_f z0 (br_t z3 (ca_vi (nm_e (ca_vi (nm_e (br_f z0 (br_t z3 (ca_vi (nm_e (ca_vi (nm_e ⟨rfl, ca_mk (k + 4) h0' hs⟩)))))))))))
theorem i_vc_result {k : Nat} {u : SX} {v : SY} (I : i_Rel k u v) (hk : k + 4 ≤ 2051) : wpX_result (fun r => wpY_result (fun r' => r' = r ∧ i_Rel (k + 4) u v) v) u := by
  refine ca_el (Q := fun u v => wpX_result (fun r => wpY_result (fun r' => r' = r ∧ i_Rel (k + 4) u v) v) u) ?_ I
  intro f_phiKind f_jumpKind f_branchKind f_retKind f_far f_registerEnd f_firstSlot f_cellEnd f_edgeCode f_stage f_open f_edges f_points f_greatestPressure f_everLive f_registers f_usedRegisters f_placedBlocks f_codeSize f_current f_returned a_blockStart a_blockPhis a_blockItems a_termKind a_termValue a_termFirst a_termSecond a_itemKind a_itemA a_itemB a_itemBlock a_edgeFrom a_edgeTo a_edgeOrder a_edgeArgs a_edgeSets a_edgeBegin a_edgeEnd a_incoming a_dominators a_depth a_parent a_pointBase a_pointBlock a_pointItem a_pointUses a_live a_distance a_neighbours a_colour a_inRegisters a_location a_hint a_taken a_moveSource a_moveReaders a_codeTo a_codeFrom a_codeSwap a_codeBegin a_codeEnd a_outLog a_params a_cells g_point g_regs b_term b_dist b_val b_reached b_level b_fresh b_key b_colour P bL iL oL O c h0 hs
  have same : i_Rel (k + 4) (f_phiKind, f_jumpKind, f_branchKind, f_retKind, f_far, f_registerEnd, f_firstSlot, f_cellEnd, f_edgeCode, (nI bL), (nI iL), (nI oL), f_stage, f_open, (nI (ca_B P)), (nI (ca_N P)), f_edges, f_points, f_greatestPressure, f_everLive, f_registers, f_usedRegisters, f_placedBlocks, f_codeSize, f_current, f_returned, (nI O), a_blockStart, a_blockPhis, a_blockItems, a_termKind, a_termValue, a_termFirst, a_termSecond, a_itemKind, a_itemA, a_itemB, a_itemBlock, a_edgeFrom, a_edgeTo, a_edgeOrder, a_edgeArgs, a_edgeSets, a_edgeBegin, a_edgeEnd, a_incoming, a_dominators, a_depth, a_parent, a_pointBase, a_pointBlock, a_pointItem, a_pointUses, a_live, a_distance, a_neighbours, a_colour, a_inRegisters, a_location, a_hint, a_taken, a_moveSource, a_moveReaders, a_codeTo, a_codeFrom, a_codeSwap, a_codeBegin, a_codeEnd, a_outLog, a_params, a_cells) ((nI bL), (nI iL), (nI oL), f_stage, (nI (ca_B P)), (nI (ca_N P)), f_open, (nI O), g_point, g_regs, f_returned, a_itemKind, a_itemBlock, a_itemA, a_itemB, b_term, a_termValue, a_termFirst, a_termSecond, b_dist, a_params, b_val, a_outLog, b_reached, b_level, b_fresh, b_key, b_colour) := ca_mk (k + 4) h0 hs
  have h0' := h0
  obtain ⟨q1, q2, q3, q4, q5, q6, q7, q8, q9, qW, qI, qo, qP, qb, qT, qA, qY⟩ := h0
  exact br_c (fun s3 => br_t s3 ⟨rfl, same⟩) (fun s3 => br_f s3 ⟨rfl, same⟩)
theorem i_vc_outCount {k : Nat} {u : SX} {v : SY} (I : i_Rel k u v) (hk : k + 4 ≤ 2051) : wpX_outCount (fun r => wpY_outCount (fun r' => r' = r ∧ i_Rel (k + 4) u v) v) u := by
  refine ca_el (Q := fun u v => wpX_outCount (fun r => wpY_outCount (fun r' => r' = r ∧ i_Rel (k + 4) u v) v) u) ?_ I
  intro f_phiKind f_jumpKind f_branchKind f_retKind f_far f_registerEnd f_firstSlot f_cellEnd f_edgeCode f_stage f_open f_edges f_points f_greatestPressure f_everLive f_registers f_usedRegisters f_placedBlocks f_codeSize f_current f_returned a_blockStart a_blockPhis a_blockItems a_termKind a_termValue a_termFirst a_termSecond a_itemKind a_itemA a_itemB a_itemBlock a_edgeFrom a_edgeTo a_edgeOrder a_edgeArgs a_edgeSets a_edgeBegin a_edgeEnd a_incoming a_dominators a_depth a_parent a_pointBase a_pointBlock a_pointItem a_pointUses a_live a_distance a_neighbours a_colour a_inRegisters a_location a_hint a_taken a_moveSource a_moveReaders a_codeTo a_codeFrom a_codeSwap a_codeBegin a_codeEnd a_outLog a_params a_cells g_point g_regs b_term b_dist b_val b_reached b_level b_fresh b_key b_colour P bL iL oL O c h0 hs
  have same : i_Rel (k + 4) (f_phiKind, f_jumpKind, f_branchKind, f_retKind, f_far, f_registerEnd, f_firstSlot, f_cellEnd, f_edgeCode, (nI bL), (nI iL), (nI oL), f_stage, f_open, (nI (ca_B P)), (nI (ca_N P)), f_edges, f_points, f_greatestPressure, f_everLive, f_registers, f_usedRegisters, f_placedBlocks, f_codeSize, f_current, f_returned, (nI O), a_blockStart, a_blockPhis, a_blockItems, a_termKind, a_termValue, a_termFirst, a_termSecond, a_itemKind, a_itemA, a_itemB, a_itemBlock, a_edgeFrom, a_edgeTo, a_edgeOrder, a_edgeArgs, a_edgeSets, a_edgeBegin, a_edgeEnd, a_incoming, a_dominators, a_depth, a_parent, a_pointBase, a_pointBlock, a_pointItem, a_pointUses, a_live, a_distance, a_neighbours, a_colour, a_inRegisters, a_location, a_hint, a_taken, a_moveSource, a_moveReaders, a_codeTo, a_codeFrom, a_codeSwap, a_codeBegin, a_codeEnd, a_outLog, a_params, a_cells) ((nI bL), (nI iL), (nI oL), f_stage, (nI (ca_B P)), (nI (ca_N P)), f_open, (nI O), g_point, g_regs, f_returned, a_itemKind, a_itemBlock, a_itemA, a_itemB, b_term, a_termValue, a_termFirst, a_termSecond, b_dist, a_params, b_val, a_outLog, b_reached, b_level, b_fresh, b_key, b_colour) := ca_mk (k + 4) h0 hs
  have h0' := h0
  obtain ⟨q1, q2, q3, q4, q5, q6, q7, q8, q9, qW, qI, qo, qP, qb, qT, qA, qY⟩ := h0
  exact ⟨rfl, same⟩
theorem i_vc_outAt {k : Nat} {u : SX} {v : SY} (I : i_Rel k u v) (hk : k + 4 ≤ 2051) (v1 : Int32) : wpX_outAt (fun r => wpY_outAt (fun r' => r' = r ∧ i_Rel (k + 4) u v) v v1) u v1 := by
  refine ca_el (Q := fun u v => wpX_outAt (fun r => wpY_outAt (fun r' => r' = r ∧ i_Rel (k + 4) u v) v v1) u v1) ?_ I
  intro f_phiKind f_jumpKind f_branchKind f_retKind f_far f_registerEnd f_firstSlot f_cellEnd f_edgeCode f_stage f_open f_edges f_points f_greatestPressure f_everLive f_registers f_usedRegisters f_placedBlocks f_codeSize f_current f_returned a_blockStart a_blockPhis a_blockItems a_termKind a_termValue a_termFirst a_termSecond a_itemKind a_itemA a_itemB a_itemBlock a_edgeFrom a_edgeTo a_edgeOrder a_edgeArgs a_edgeSets a_edgeBegin a_edgeEnd a_incoming a_dominators a_depth a_parent a_pointBase a_pointBlock a_pointItem a_pointUses a_live a_distance a_neighbours a_colour a_inRegisters a_location a_hint a_taken a_moveSource a_moveReaders a_codeTo a_codeFrom a_codeSwap a_codeBegin a_codeEnd a_outLog a_params a_cells g_point g_regs b_term b_dist b_val b_reached b_level b_fresh b_key b_colour P bL iL oL O c h0 hs
  have same : i_Rel (k + 4) (f_phiKind, f_jumpKind, f_branchKind, f_retKind, f_far, f_registerEnd, f_firstSlot, f_cellEnd, f_edgeCode, (nI bL), (nI iL), (nI oL), f_stage, f_open, (nI (ca_B P)), (nI (ca_N P)), f_edges, f_points, f_greatestPressure, f_everLive, f_registers, f_usedRegisters, f_placedBlocks, f_codeSize, f_current, f_returned, (nI O), a_blockStart, a_blockPhis, a_blockItems, a_termKind, a_termValue, a_termFirst, a_termSecond, a_itemKind, a_itemA, a_itemB, a_itemBlock, a_edgeFrom, a_edgeTo, a_edgeOrder, a_edgeArgs, a_edgeSets, a_edgeBegin, a_edgeEnd, a_incoming, a_dominators, a_depth, a_parent, a_pointBase, a_pointBlock, a_pointItem, a_pointUses, a_live, a_distance, a_neighbours, a_colour, a_inRegisters, a_location, a_hint, a_taken, a_moveSource, a_moveReaders, a_codeTo, a_codeFrom, a_codeSwap, a_codeBegin, a_codeEnd, a_outLog, a_params, a_cells) ((nI bL), (nI iL), (nI oL), f_stage, (nI (ca_B P)), (nI (ca_N P)), f_open, (nI O), g_point, g_regs, f_returned, a_itemKind, a_itemBlock, a_itemA, a_itemB, b_term, a_termValue, a_termFirst, a_termSecond, b_dist, a_params, b_val, a_outLog, b_reached, b_level, b_fresh, b_key, b_colour) := ca_mk (k + 4) h0 hs
  have h0' := h0
  obtain ⟨q1, q2, q3, q4, q5, q6, q7, q8, q9, qW, qI, qo, qP, qb, qT, qA, qY⟩ := h0
  rcases ca_ndE v1 (L := O) (by omega) with ⟨j, j1, j2⟩ | ⟨_, z | z⟩
  · subst j2
    exact br_f (nI_pos (by omega)) (br_t (nI_lt j1 (by omega)) (ca_vi (br_f (nI_pos (by omega)) (br_f (nI_ge j1 (by omega)) (ca_vi ⟨rfl, same⟩)))))
  · exact br_t z (br_t z ⟨rfl, same⟩)
  · have z0 : ¬ v1 < 0 := fun y => nI_pos (n := O) (by omega) (Int32.lt_of_le_of_lt z y)
    exact br_f z0 (br_f (Int32.not_lt.mpr z) (br_f z0 (br_t z ⟨rfl, same⟩)))
theorem i_vc_size {k : Nat} {u : SX} {v : SY} (I : i_Rel k u v) (hk : k + 4 ≤ 2051) : wpX_size (fun r => wpY_size (fun r' => r' = r ∧ i_Rel (k + 4) u v) v) u := by
  refine ca_el (Q := fun u v => wpX_size (fun r => wpY_size (fun r' => r' = r ∧ i_Rel (k + 4) u v) v) u) ?_ I
  intro f_phiKind f_jumpKind f_branchKind f_retKind f_far f_registerEnd f_firstSlot f_cellEnd f_edgeCode f_stage f_open f_edges f_points f_greatestPressure f_everLive f_registers f_usedRegisters f_placedBlocks f_codeSize f_current f_returned a_blockStart a_blockPhis a_blockItems a_termKind a_termValue a_termFirst a_termSecond a_itemKind a_itemA a_itemB a_itemBlock a_edgeFrom a_edgeTo a_edgeOrder a_edgeArgs a_edgeSets a_edgeBegin a_edgeEnd a_incoming a_dominators a_depth a_parent a_pointBase a_pointBlock a_pointItem a_pointUses a_live a_distance a_neighbours a_colour a_inRegisters a_location a_hint a_taken a_moveSource a_moveReaders a_codeTo a_codeFrom a_codeSwap a_codeBegin a_codeEnd a_outLog a_params a_cells g_point g_regs b_term b_dist b_val b_reached b_level b_fresh b_key b_colour P bL iL oL O c h0 hs
  have same : i_Rel (k + 4) (f_phiKind, f_jumpKind, f_branchKind, f_retKind, f_far, f_registerEnd, f_firstSlot, f_cellEnd, f_edgeCode, (nI bL), (nI iL), (nI oL), f_stage, f_open, (nI (ca_B P)), (nI (ca_N P)), f_edges, f_points, f_greatestPressure, f_everLive, f_registers, f_usedRegisters, f_placedBlocks, f_codeSize, f_current, f_returned, (nI O), a_blockStart, a_blockPhis, a_blockItems, a_termKind, a_termValue, a_termFirst, a_termSecond, a_itemKind, a_itemA, a_itemB, a_itemBlock, a_edgeFrom, a_edgeTo, a_edgeOrder, a_edgeArgs, a_edgeSets, a_edgeBegin, a_edgeEnd, a_incoming, a_dominators, a_depth, a_parent, a_pointBase, a_pointBlock, a_pointItem, a_pointUses, a_live, a_distance, a_neighbours, a_colour, a_inRegisters, a_location, a_hint, a_taken, a_moveSource, a_moveReaders, a_codeTo, a_codeFrom, a_codeSwap, a_codeBegin, a_codeEnd, a_outLog, a_params, a_cells) ((nI bL), (nI iL), (nI oL), f_stage, (nI (ca_B P)), (nI (ca_N P)), f_open, (nI O), g_point, g_regs, f_returned, a_itemKind, a_itemBlock, a_itemA, a_itemB, b_term, a_termValue, a_termFirst, a_termSecond, b_dist, a_params, b_val, a_outLog, b_reached, b_level, b_fresh, b_key, b_colour) := ca_mk (k + 4) h0 hs
  have h0' := h0
  obtain ⟨q1, q2, q3, q4, q5, q6, q7, q8, q9, qW, qI, qo, qP, qb, qT, qA, qY⟩ := h0
  refine nm_e (br_c (fun o0 => br_t o0 ⟨?_, same⟩) (fun o0 => br_f o0 ⟨rfl, same⟩))
  exact Int32.add_zero _
end
section
/-! check -/
section
variable {P : ca_PG}
variable {f_phiKind f_jumpKind f_branchKind f_retKind f_far f_registerEnd f_firstSlot f_cellEnd f_edgeCode f_blockLimit f_itemLimit f_outLimit f_stage f_open f_blocks f_items f_edges f_points f_greatestPressure f_everLive f_registers f_usedRegisters f_placedBlocks f_codeSize f_current f_returned f_outSize : Int32} {a_blockStart a_blockPhis a_blockItems a_termKind a_termValue a_termFirst a_termSecond a_itemKind a_itemA a_itemB a_itemBlock a_edgeFrom a_edgeTo a_edgeOrder a_edgeArgs a_edgeSets a_edgeBegin a_edgeEnd a_incoming a_dominators a_depth a_parent a_pointBase a_pointBlock a_pointItem a_pointUses a_live a_distance a_neighbours a_colour a_inRegisters a_location a_hint a_taken a_moveSource a_moveReaders a_codeTo a_codeFrom a_codeSwap a_codeBegin a_codeEnd a_outLog a_params a_cells : Nat → Int32}
theorem xl_analyse {post : SX → Prop} (hW : ca_WF P) (hB0 : 0 < ca_B P) (hT : ca_TE P) (hF : ca_IF P) (hTF : ca_TF P (ca_B P)) (hP : ca_AP P a_itemKind a_itemBlock a_itemA a_itemB) (hA : ca_AT P (ca_B P) a_termKind a_termValue a_termFirst a_termSecond) (hb : ca_AB P a_blockStart a_blockPhis a_blockItems) (hE : ca_AE P a_edgeFrom a_edgeTo a_edgeOrder) (hG : ca_AG P a_edgeBegin a_edgeEnd) (hd : ca_Adp P a_depth) (K : ∀ pb pk pi pu ea es D g el lv ne c, ca_AL P pb pk pi pu → ca_AM P ea es → ca_AX P D → ca_Mx P (ca_lc P) g → g ≤ 32 → ca_AV P lv → ca_AN P ne → ca_Sol P c → post (f_phiKind, f_jumpKind, f_branchKind, f_retKind, f_far, f_registerEnd, f_firstSlot, f_cellEnd, f_edgeCode, f_blockLimit, f_itemLimit, f_outLimit, f_stage, f_open, (nI (ca_B P)), (nI (ca_N P)), (nI (ca_E P)), (nI (ca_T P)), (nI g), el, f_registers, f_usedRegisters, f_placedBlocks, f_codeSize, f_current, f_returned, f_outSize, a_blockStart, a_blockPhis, a_blockItems, a_termKind, a_termValue, a_termFirst, a_termSecond, a_itemKind, a_itemA, a_itemB, a_itemBlock, a_edgeFrom, a_edgeTo, a_edgeOrder, ea, es, a_edgeBegin, a_edgeEnd, a_incoming, a_dominators, a_depth, a_parent, pb, pk, pi, pu, lv, D, ne, c, a_inRegisters, a_location, a_hint, a_taken, a_moveSource, a_moveReaders, a_codeTo, a_codeFrom, a_codeSwap, a_codeBegin, a_codeEnd, a_outLog, a_params, a_cells)) : wpX_analyse post (f_phiKind, f_jumpKind, f_branchKind, f_retKind, f_far, f_registerEnd, f_firstSlot, f_cellEnd, f_edgeCode, f_blockLimit, f_itemLimit, f_outLimit, f_stage, f_open, (nI (ca_B P)), (nI (ca_N P)), (nI (ca_E P)), f_points, f_greatestPressure, f_everLive, f_registers, f_usedRegisters, f_placedBlocks, f_codeSize, f_current, f_returned, f_outSize, a_blockStart, a_blockPhis, a_blockItems, a_termKind, a_termValue, a_termFirst, a_termSecond, a_itemKind, a_itemA, a_itemB, a_itemBlock, a_edgeFrom, a_edgeTo, a_edgeOrder, a_edgeArgs, a_edgeSets, a_edgeBegin, a_edgeEnd, a_incoming, a_dominators, a_depth, a_parent, a_pointBase, a_pointBlock, a_pointItem, a_pointUses, a_live, a_distance, a_neighbours, a_colour, a_inRegisters, a_location, a_hint, a_taken, a_moveSource, a_moveReaders, a_codeTo, a_codeFrom, a_codeSwap, a_codeBegin, a_codeEnd, a_outLog, a_params, a_cells) := by
  unfold wpX_analyse
  exact xl_layOutPoints hW hF hTF hP hA hb (fun pb pk pi pu hL => xl_collectEdgeMasks hW hT hF hE hb hP (fun ea es hM => xl_findNextUses hW hT hE hG hM hL (ca_pbT (s := 0) hB0) (fun D hD => xl_findLiveness hW hD (fun g el lv hg g32 hel hV => xl_findInterference hW hV (fun ne hn => xl_colourValues hW hn hb hd hel (fun c hc => K pb pk pi pu ea es D g el lv ne c hL hM hD hg g32 hV hn hc))))))
end
theorem i_vc_check {k : Nat} {u : SX} {v : SY} (I : i_Rel k u v) (hk : k + 4 ≤ 2051) : wpX_check (fun r u' => wpY_check (fun r' v' => r' = r ∧ i_Rel (k + 4) u' v') v) u := by
  refine ca_el (Q := fun u v => wpX_check (fun r u' => wpY_check (fun r' v' => r' = r ∧ i_Rel (k + 4) u' v') v) u) ?_ I
  intro f_phiKind f_jumpKind f_branchKind f_retKind f_far f_registerEnd f_firstSlot f_cellEnd f_edgeCode f_stage f_open f_edges f_points f_greatestPressure f_everLive f_registers f_usedRegisters f_placedBlocks f_codeSize f_current f_returned a_blockStart a_blockPhis a_blockItems a_termKind a_termValue a_termFirst a_termSecond a_itemKind a_itemA a_itemB a_itemBlock a_edgeFrom a_edgeTo a_edgeOrder a_edgeArgs a_edgeSets a_edgeBegin a_edgeEnd a_incoming a_dominators a_depth a_parent a_pointBase a_pointBlock a_pointItem a_pointUses a_live a_distance a_neighbours a_colour a_inRegisters a_location a_hint a_taken a_moveSource a_moveReaders a_codeTo a_codeFrom a_codeSwap a_codeBegin a_codeEnd a_outLog a_params a_cells g_point g_regs b_term b_dist b_val b_reached b_level b_fresh b_key b_colour P bL iL oL O c h0 hs
  have same : i_Rel (k + 4) (f_phiKind, f_jumpKind, f_branchKind, f_retKind, f_far, f_registerEnd, f_firstSlot, f_cellEnd, f_edgeCode, (nI bL), (nI iL), (nI oL), f_stage, f_open, (nI (ca_B P)), (nI (ca_N P)), f_edges, f_points, f_greatestPressure, f_everLive, f_registers, f_usedRegisters, f_placedBlocks, f_codeSize, f_current, f_returned, (nI O), a_blockStart, a_blockPhis, a_blockItems, a_termKind, a_termValue, a_termFirst, a_termSecond, a_itemKind, a_itemA, a_itemB, a_itemBlock, a_edgeFrom, a_edgeTo, a_edgeOrder, a_edgeArgs, a_edgeSets, a_edgeBegin, a_edgeEnd, a_incoming, a_dominators, a_depth, a_parent, a_pointBase, a_pointBlock, a_pointItem, a_pointUses, a_live, a_distance, a_neighbours, a_colour, a_inRegisters, a_location, a_hint, a_taken, a_moveSource, a_moveReaders, a_codeTo, a_codeFrom, a_codeSwap, a_codeBegin, a_codeEnd, a_outLog, a_params, a_cells) ((nI bL), (nI iL), (nI oL), f_stage, (nI (ca_B P)), (nI (ca_N P)), f_open, (nI O), g_point, g_regs, f_returned, a_itemKind, a_itemBlock, a_itemA, a_itemB, b_term, a_termValue, a_termFirst, a_termSecond, b_dist, a_params, b_val, a_outLog, b_reached, b_level, b_fresh, b_key, b_colour) := ca_mk (k + 4) h0 hs
  have h0' := h0
  obtain ⟨q1, q2, q3, q4, q5, q6, q7, q8, q9, qW, qI, qo, qP, qb, qT, qA, qY⟩ := h0
  have hB := ca_wB qW
  refine br_c (fun s0 => pk_eq (ca_B P) 0 (fun b0 => ?_) (fun b0 => br_c (fun o0 => ?_) (fun o1 => ?_))) (fun s1 => br_f s1 ⟨rfl, same⟩)
  · exact br_t s0 (br_t (by rw [b0]; rfl) ⟨rfl, same⟩)
  · have hc : c = ca_B P := by
      rcases qo with z | z
      · exact z.2
      · rw [o0] at z; exact absurd z.1 (by decide)
    have hB0 : 0 < ca_B P := by omega
    have qT' := qT
    have qA' := qA
    rw [hc] at qT' qA' qY
    have hYT : ca_YT P (ca_B P) b_term a_termValue a_termFirst a_termSecond := fun s hs => ⟨qY s hs, (qA' s hs).2⟩
    have b0' : ¬ nI (ca_B P) = 0 := nI_ne0 hB0 (by omega)
    refine xl_targetsExist qW qT' qA' (fun hT => br_f (by decide) ?_) (fun hT => br_t rfl ?_)
    · refine xl_buildEdges qW qT' qA' (fun ef et eo eb ee inc hE hG hI => ?_)
      have hI0 := hI 0 (by omega)
      have hile := ca_incle (P := P) (t := 0) hB
      refine pk_le (ca_inc P 0 (2 * ca_B P)) 0 (fun hz => ?_) (fun hz => ?_) hI0
      · have hno : ¬ (∃ e, ca_isE P e ∧ ca_tg P e = 0) := fun ⟨e, e1, e2⟩ => ca_cn_none (P := fun x => ca_isE P x ∧ ca_tg P x = 0) (show ca_inc P 0 (2 * ca_B P) = 0 by omega) e (ca_elt e1) ⟨e1, e2⟩
        refine xl_allReachable qW hB0 hT hE (fun hR => br_f (by decide) ?_) (fun hR => br_t rfl ?_)
        · refine xl_phisFit qW qb hI (fun hF => br_f (by decide) ?_) (fun hF => br_t rfl ?_)
          · have hFi := (ca_PFe qW).mp hF
            refine xl_findDominators qW hB0 hT hE (fun dom dep par hD hdp hpr => ?_)
            have strictno : ∀ (h : ¬ (ca_STi P ∧ ca_STt P ∧ ca_STp P)), wpY_check (fun r' v' => r' = -10 ∧ i_Rel (k + 4) (f_phiKind, f_jumpKind, f_branchKind, f_retKind, f_far, f_registerEnd, f_firstSlot, f_cellEnd, f_edgeCode, (nI bL), (nI iL), (nI oL), f_stage, f_open, (nI (ca_B P)), (nI (ca_N P)), (nI (ca_E P)), f_points, f_greatestPressure, f_everLive, f_registers, f_usedRegisters, f_placedBlocks, f_codeSize, f_current, f_returned, (nI O), a_blockStart, a_blockPhis, a_blockItems, a_termKind, a_termValue, a_termFirst, a_termSecond, a_itemKind, a_itemA, a_itemB, a_itemBlock, ef, et, eo, a_edgeArgs, a_edgeSets, eb, ee, inc, dom, dep, par, a_pointBase, a_pointBlock, a_pointItem, a_pointUses, a_live, a_distance, a_neighbours, a_colour, a_inRegisters, a_location, a_hint, a_taken, a_moveSource, a_moveReaders, a_codeTo, a_codeFrom, a_codeSwap, a_codeBegin, a_codeEnd, a_outLog, a_params, a_cells) v') ((nI bL), (nI iL), (nI oL), f_stage, (nI (ca_B P)), (nI (ca_N P)), f_open, (nI O), g_point, g_regs, f_returned, a_itemKind, a_itemBlock, a_itemA, a_itemB, b_term, a_termValue, a_termFirst, a_termSecond, b_dist, a_params, b_val, a_outLog, b_reached, b_level, b_fresh, b_key, b_colour) := fun h => br_t s0 (br_f b0' (br_t o0 (yl_ck28 qW hB0 qI qT' hYT qP (fun z => absurd hT z) (fun _ z => absurd z hno) (fun _ _ _ z => absurd hR z) (fun _ _ _ _ z => absurd hFi z) (fun _ _ _ _ ρ _ => ⟨rfl, ca_mk (k + 4) h0' (Or.inl s0)⟩) (fun _ _ _ _ ρ l D z => absurd z h))))
            refine xl_instructionsStrict qW qI qP hD (fun hi => br_f (by decide) ?_) (fun hi => br_t rfl (strictno fun z => hi z.1))
            refine xl_terminatorsStrict qW qT' qA' qP hD (fun ht => br_f (by decide) ?_) (fun ht => br_t rfl (strictno fun z => ht z.2.1))
            refine xl_phisStrict qW hT qI hE qb qP hD (fun hp => br_f (by decide) ?_) (fun hp => br_t rfl (strictno fun z => hp z.2.2))
            refine xl_analyse qW hB0 hT qI qT' qP qA' qb hE hG hdp (fun pb pk pi pu ea es D g el lv ne col hL hM hX hg g32 hV hn hcol => ?_)
            refine br_t s0 (br_f b0' (br_t o0 (yl_ck28 qW hB0 qI qT' hYT qP (fun z => absurd hT z) (fun _ z => absurd z hno) (fun _ _ _ z => absurd hR z) (fun _ _ _ _ z => absurd hFi z) (fun _ _ _ _ ρ z => absurd ⟨hi, ht, hp⟩ z) (fun _ _ _ _ ρ l YD _ hYD => ⟨rfl, ?_⟩))))
            refine ca_mk (c := c) (k + 4) ⟨q1, q2, q3, q4, q5, q6, q7, q8, q9, qW, qI, Or.inl ⟨o0, hc⟩, qP, qb, qT, qA, ?_⟩ (Or.inr ⟨⟨o0, hB0, hT, hi, ht, hp, rfl, rfl, hE, hG, hdp, hpr, hL, hM, hX, hV, hn, hcol, ⟨g, g32, rfl, hg⟩, hYD⟩, Or.inl rfl⟩)
            rw [hc]; exact qY
          · exact br_t s0 (br_f b0' (br_t o0 (yl_ck28 qW hB0 qI qT' hYT qP (fun z => absurd hT z) (fun _ z => absurd z hno) (fun _ _ _ z => absurd hR z) (fun _ _ ρ _ _ => ⟨rfl, ca_mk (k + 4) h0' (Or.inl s0)⟩) (fun _ _ _ z => absurd ((ca_PFe qW).mpr z) hF) (fun _ _ _ z => absurd ((ca_PFe qW).mpr z) hF))))
        · exact br_t s0 (br_f b0' (br_t o0 (yl_ck28 qW hB0 qI qT' hYT qP (fun z => absurd hT z) (fun _ z => absurd z hno) (fun _ _ ρ _ => ⟨rfl, ca_mk (k + 4) h0' (Or.inl s0)⟩) (fun _ _ _ z => absurd z hR) (fun _ _ z => absurd z hR) (fun _ _ z => absurd z hR))))
      · have hyes : ∃ e, ca_isE P e ∧ ca_tg P e = 0 := by
          obtain ⟨e, _, e2, _⟩ := ca_cn_sur (P := fun x => ca_isE P x ∧ ca_tg P x = 0) (show 0 < ca_cn (fun x => ca_isE P x ∧ ca_tg P x = 0) (2 * ca_B P) from hz)
          exact ⟨e, e2⟩
        exact br_t s0 (br_f b0' (br_t o0 (yl_ck28 qW hB0 qI qT' hYT qP (fun z => absurd hT z) (fun _ _ => ⟨rfl, ca_mk (k + 4) h0' (Or.inl s0)⟩) (fun _ z => absurd hyes z) (fun _ z => absurd hyes z) (fun _ z => absurd hyes z) (fun _ z => absurd hyes z))))
    · exact br_t s0 (br_f b0' (br_t o0 (yl_ck28 qW hB0 qI qT' hYT qP (fun _ => ⟨rfl, same⟩) (fun z => absurd z hT) (fun z => absurd z hT) (fun z => absurd z hT) (fun z => absurd z hT) (fun z => absurd z hT))))
  · exact br_t s0 (br_f (nI_ne0 (by omega) (by omega)) (br_f o1 ⟨rfl, same⟩))
end
section
/-! allocate -/
theorem ca_STaof {P : ca_PG} (h : ca_STp P) : ca_STa P := fun e he i hi => (h e he i hi).1
theorem ca_op0 {P : ca_PG} {c : Nat} {st op : Int32} (h : (op = 0 ∧ c = ca_B P) ∨ (op = 1 ∧ c + 1 = ca_B P ∧ st = 0)) (h0 : op = 0) : c = ca_B P := by
  rcases h with z | z
  · exact z.2
  · rw [h0] at z; exact absurd z.1 (by decide)
theorem ca_spc {P : ca_PG} (hW : ca_WF P) (R : Nat) : ca_cn (fun q => R < ca_lq P q) 40 = ca_cn (fun p => R < ca_lc P (ca_nm P p)) (ca_T P) := by
  rw [ca_cnpt hW (fun q => R < ca_lc P q)]
  refine ca_cn_eq fun q _ => ?_
  by_cases h : ca_isP P q
  · rw [ca_lqP h]
    exact ⟨fun z => ⟨h, z⟩, fun z => z.2⟩
  · rw [ca_lqN h]
    exact ⟨fun z => by omega, fun z => absurd z.1 h⟩
theorem i_vc_allocate {k : Nat} {u : SX} {v : SY} (I : i_Rel k u v) (hk : k + 4 ≤ 2051) (v1 : Int32) : wpX_allocate (fun r u' => wpY_allocate (fun r' v' => r' = r ∧ i_Rel (k + 4) u' v') v v1) u v1 := by
  refine ca_el (Q := fun u v => wpX_allocate (fun r u' => wpY_allocate (fun r' v' => r' = r ∧ i_Rel (k + 4) u' v') v v1) u v1) ?_ I
  intro f_phiKind f_jumpKind f_branchKind f_retKind f_far f_registerEnd f_firstSlot f_cellEnd f_edgeCode f_stage f_open f_edges f_points f_greatestPressure f_everLive f_registers f_usedRegisters f_placedBlocks f_codeSize f_current f_returned a_blockStart a_blockPhis a_blockItems a_termKind a_termValue a_termFirst a_termSecond a_itemKind a_itemA a_itemB a_itemBlock a_edgeFrom a_edgeTo a_edgeOrder a_edgeArgs a_edgeSets a_edgeBegin a_edgeEnd a_incoming a_dominators a_depth a_parent a_pointBase a_pointBlock a_pointItem a_pointUses a_live a_distance a_neighbours a_colour a_inRegisters a_location a_hint a_taken a_moveSource a_moveReaders a_codeTo a_codeFrom a_codeSwap a_codeBegin a_codeEnd a_outLog a_params a_cells g_point g_regs b_term b_dist b_val b_reached b_level b_fresh b_key b_colour P bL iL oL O c h0 hs
  have same : i_Rel (k + 4) (f_phiKind, f_jumpKind, f_branchKind, f_retKind, f_far, f_registerEnd, f_firstSlot, f_cellEnd, f_edgeCode, (nI bL), (nI iL), (nI oL), f_stage, f_open, (nI (ca_B P)), (nI (ca_N P)), f_edges, f_points, f_greatestPressure, f_everLive, f_registers, f_usedRegisters, f_placedBlocks, f_codeSize, f_current, f_returned, (nI O), a_blockStart, a_blockPhis, a_blockItems, a_termKind, a_termValue, a_termFirst, a_termSecond, a_itemKind, a_itemA, a_itemB, a_itemBlock, a_edgeFrom, a_edgeTo, a_edgeOrder, a_edgeArgs, a_edgeSets, a_edgeBegin, a_edgeEnd, a_incoming, a_dominators, a_depth, a_parent, a_pointBase, a_pointBlock, a_pointItem, a_pointUses, a_live, a_distance, a_neighbours, a_colour, a_inRegisters, a_location, a_hint, a_taken, a_moveSource, a_moveReaders, a_codeTo, a_codeFrom, a_codeSwap, a_codeBegin, a_codeEnd, a_outLog, a_params, a_cells) ((nI bL), (nI iL), (nI oL), f_stage, (nI (ca_B P)), (nI (ca_N P)), f_open, (nI O), g_point, g_regs, f_returned, a_itemKind, a_itemBlock, a_itemA, a_itemB, b_term, a_termValue, a_termFirst, a_termSecond, b_dist, a_params, b_val, a_outLog, b_reached, b_level, b_fresh, b_key, b_colour) := ca_mk (k + 4) h0 hs
  have h0' := h0
  obtain ⟨q1, q2, q3, q4, q5, q6, q7, q8, q9, qW, qI, qo, qP, qb, qT, qA, qY⟩ := h0
  have hB := ca_wB qW
  have hN := ca_wN qW
  rcases hs with s0 | ⟨hF1, hst⟩
  · exact br_t s0 (br_t s0 ⟨rfl, same⟩)
  have s1 : ¬ f_stage = 0 := by
    rcases hst with z | ⟨_, ⟨z, _⟩ | z⟩ <;> rw [z] <;> decide
  have hF1' := hF1
  obtain ⟨r1, r2, r3, r4, r5, r6, r7, r8, r9, r10, r11, r12, r13, r14, r15, r16, r17, r18, r19, r20⟩ := hF1
  subst r7 r8
  have hc := ca_op0 qo r1
  obtain ⟨R, R2, R6, hR⟩ := ca_clmE v1 (lo := 2) (hi := 6) (by omega) (by omega)
  refine br_f s1 (xl_clamp _ hR (xl_al25 qW qI r3 r9 r14 qb qP r11 r12 r15 r16 r13 (ca_STaof r6) R2 R6 (fun M z us pl ir lo h tk S Rd ct cf cs cb ce cl hA hcl => ?_)))
  refine br_f s1 (ca_clmB (A := fun r => wY_allocate_31 _ r (nI bL) (nI iL) (nI oL) f_stage (nI (ca_B P)) (nI (ca_N P)) f_open (nI O) g_point g_regs f_returned a_itemKind a_itemBlock a_itemA a_itemB b_term a_termValue a_termFirst a_termSecond b_dist a_params b_val a_outLog b_reached b_level b_fresh b_key b_colour) hR (yl_al31 rfl R6 qW r2 qI qP r20 (fun val hval => ⟨by rw [ca_spc qW], ?_⟩)))
  have hT0 := ca_pbT (P := P) (s := 0) r2
  refine ca_mk (O := 0) (c := c) (k + 4) ⟨q1, q2, q3, q4, q5, q6, Nat.zero_le _, q8, q9, qW, qI, Or.inl ⟨r1, hc⟩, qP, qb, qT, qA, qY⟩ (Or.inr ⟨hF1', Or.inr ⟨⟨R, M, z, rfl, rfl, hA⟩, Or.inl ⟨rfl, 0, hT0, rfl, ?_, fun v hv hl => ?_⟩⟩⟩)
  · rw [← ca_nmst r2]; rfl
  · obtain ⟨c1, _⟩ := ca_LPcl (hA.2.2.2.2.1 0 hT0).1 hv hl
    rw [hcl _ c1, hval v (by omega)]
end
section
/-! run -/
theorem ca_chU {P : ca_PG} {s : Nat} {x : Int32} {e f : Nat} (h : ca_ch P s x e) (g : ca_ch P s x f) : e = f := by
  rcases h with ⟨a1, a2⟩ | ⟨a1, ⟨a2, a3⟩ | ⟨a2, a3⟩⟩ <;> rcases g with ⟨b1, b2⟩ | ⟨b1, ⟨b2, b3⟩ | ⟨b2, b3⟩⟩
  · omega
  · omega
  · omega
  · omega
  · omega
  · exact absurd a2 b2
  · omega
  · exact absurd b2 a2
  · omega
section
variable {P : ca_PG} {bL iL oL O c : Nat}
variable {f_phiKind f_jumpKind f_branchKind f_retKind f_far f_registerEnd f_firstSlot f_cellEnd f_edgeCode f_stage f_open f_edges f_points f_greatestPressure f_everLive f_registers f_usedRegisters f_placedBlocks f_codeSize f_current f_returned : Int32} {a_blockStart a_blockPhis a_blockItems a_termKind a_termValue a_termFirst a_termSecond a_itemKind a_itemA a_itemB a_itemBlock a_edgeFrom a_edgeTo a_edgeOrder a_edgeArgs a_edgeSets a_edgeBegin a_edgeEnd a_incoming a_dominators a_depth a_parent a_pointBase a_pointBlock a_pointItem a_pointUses a_live a_distance a_neighbours a_colour a_inRegisters a_location a_hint a_taken a_moveSource a_moveReaders a_codeTo a_codeFrom a_codeSwap a_codeBegin a_codeEnd a_outLog a_params a_cells : Nat → Int32} {g_point g_regs : Int32} {b_term b_dist b_val b_reached b_level b_fresh b_key b_colour : Nat → Int32}
theorem ca_run {R M z n : Nat} {us : Int32} {post : Int32 → SX → Prop} (qW : ca_WF P) (qI : ca_IF P) (qP : ca_AP P a_itemKind a_itemBlock a_itemA a_itemB) (qT : ca_TF P (ca_B P)) (qA : ca_AT P (ca_B P) a_termKind a_termValue a_termFirst a_termSecond) (hYT : ca_YT P (ca_B P) b_term a_termValue a_termFirst a_termSecond) (hT : ca_TE P) (hSi : ca_STi P) (hSt : ca_STt P) (hSp : ca_STp P) (hE : ca_AE P a_edgeFrom a_edgeTo a_edgeOrder) (hG : ca_AG P a_edgeBegin a_edgeEnd) (hL : ca_AL P a_pointBase a_pointBlock a_pointItem a_pointUses) (hA : ca_ALC P R M z us a_inRegisters a_location a_codeTo a_codeFrom a_codeSwap a_codeBegin a_codeEnd) (hO : oL ≤ 32) (hO2 : O ≤ oL) (hn : n ≤ 500) (hst : (f_stage = 2 ∧ ca_F3 P f_current g_point a_location a_cells b_val) ∨ f_stage = 3) (K : ∀ st cu rt O' ol cells pt val fr, O' ≤ oL → ((st = 2 ∧ ca_F3 P cu pt a_location cells val) ∨ st = 3) → (∀ postY : Int32 → SY → Prop, postY st ((nI bL), (nI iL), (nI oL), st, (nI (ca_B P)), (nI (ca_N P)), f_open, (nI O'), pt, g_regs, rt, a_itemKind, a_itemBlock, a_itemA, a_itemB, b_term, a_termValue, a_termFirst, a_termSecond, b_dist, a_params, val, ol, b_reached, b_level, fr, b_key, b_colour) → ∃ m, wY_run_25 postY (nI n) m 0 (nI bL) (nI iL) (nI oL) f_stage (nI (ca_B P)) (nI (ca_N P)) f_open (nI O) g_point g_regs f_returned a_itemKind a_itemBlock a_itemA a_itemB b_term a_termValue a_termFirst a_termSecond b_dist a_params b_val a_outLog b_reached b_level b_fresh b_key b_colour) → post st (f_phiKind, f_jumpKind, f_branchKind, f_retKind, f_far, f_registerEnd, f_firstSlot, f_cellEnd, f_edgeCode, (nI bL), (nI iL), (nI oL), st, f_open, (nI (ca_B P)), (nI (ca_N P)), (nI (ca_E P)), (nI (ca_T P)), f_greatestPressure, f_everLive, f_registers, f_usedRegisters, f_placedBlocks, f_codeSize, cu, rt, (nI O'), a_blockStart, a_blockPhis, a_blockItems, a_termKind, a_termValue, a_termFirst, a_termSecond, a_itemKind, a_itemA, a_itemB, a_itemBlock, a_edgeFrom, a_edgeTo, a_edgeOrder, a_edgeArgs, a_edgeSets, a_edgeBegin, a_edgeEnd, a_incoming, a_dominators, a_depth, a_parent, a_pointBase, a_pointBlock, a_pointItem, a_pointUses, a_live, a_distance, a_neighbours, a_colour, a_inRegisters, a_location, a_hint, a_taken, a_moveSource, a_moveReaders, a_codeTo, a_codeFrom, a_codeSwap, a_codeBegin, a_codeEnd, ol, a_params, cells)) : ∃ m, wX_run_12 post (nI n) m 0 f_phiKind f_jumpKind f_branchKind f_retKind f_far f_registerEnd f_firstSlot f_cellEnd f_edgeCode (nI bL) (nI iL) (nI oL) f_stage f_open (nI (ca_B P)) (nI (ca_N P)) (nI (ca_E P)) (nI (ca_T P)) f_greatestPressure f_everLive f_registers f_usedRegisters f_placedBlocks f_codeSize f_current f_returned (nI O) a_blockStart a_blockPhis a_blockItems a_termKind a_termValue a_termFirst a_termSecond a_itemKind a_itemA a_itemB a_itemBlock a_edgeFrom a_edgeTo a_edgeOrder a_edgeArgs a_edgeSets a_edgeBegin a_edgeEnd a_incoming a_dominators a_depth a_parent a_pointBase a_pointBlock a_pointItem a_pointUses a_live a_distance a_neighbours a_colour a_inRegisters a_location a_hint a_taken a_moveSource a_moveReaders a_codeTo a_codeFrom a_codeSwap a_codeBegin a_codeEnd a_outLog a_params a_cells := by
  have hB := ca_wB qW
  have hN := ca_wN qW
  have h40 := ca_T40' qW
  have hLP : ∀ p, p < ca_T P → ca_LP P R M a_location p := fun p hp => (hA.2.2.2.2.1 p hp).1
  have hCD := hA.2.2.2.2.2.2
  refine ca_loop (σ := Int32 × Int32 × Int32 × Int32 × (Nat → Int32) × (Nat → Int32)) (fun m i s => wX_run_12 post (nI n) m (nI i) f_phiKind f_jumpKind f_branchKind f_retKind f_far f_registerEnd f_firstSlot f_cellEnd f_edgeCode (nI bL) (nI iL) (nI oL) s.1 f_open (nI (ca_B P)) (nI (ca_N P)) (nI (ca_E P)) (nI (ca_T P)) f_greatestPressure f_everLive f_registers f_usedRegisters f_placedBlocks f_codeSize s.2.1 s.2.2.1 s.2.2.2.1 a_blockStart a_blockPhis a_blockItems a_termKind a_termValue a_termFirst a_termSecond a_itemKind a_itemA a_itemB a_itemBlock a_edgeFrom a_edgeTo a_edgeOrder a_edgeArgs a_edgeSets a_edgeBegin a_edgeEnd a_incoming a_dominators a_depth a_parent a_pointBase a_pointBlock a_pointItem a_pointUses a_live a_distance a_neighbours a_colour a_inRegisters a_location a_hint a_taken a_moveSource a_moveReaders a_codeTo a_codeFrom a_codeSwap a_codeBegin a_codeEnd s.2.2.2.2.1 a_params s.2.2.2.2.2) (fun i s => ∃ (O' : Nat) (pt : Int32) (val fr : Nat → Int32), O' ≤ oL ∧ s.2.2.2.1 = nI O' ∧ ((s.1 = 2 ∧ ca_F3 P s.2.1 pt a_location s.2.2.2.2.2 val) ∨ s.1 = 3) ∧ (∀ postY : Int32 → SY → Prop, wY_run_25 postY (nI n) (n - i + 1) (nI i) (nI bL) (nI iL) (nI oL) s.1 (nI (ca_B P)) (nI (ca_N P)) f_open (nI O') pt g_regs s.2.2.1 a_itemKind a_itemBlock a_itemA a_itemB b_term a_termValue a_termFirst a_termSecond b_dist a_params val s.2.2.2.2.1 b_reached b_level fr b_key b_colour → wY_run_25 postY (nI n) (n + 1) (nI 0) (nI bL) (nI iL) (nI oL) f_stage (nI (ca_B P)) (nI (ca_N P)) f_open (nI O) g_point g_regs f_returned a_itemKind a_itemBlock a_itemA a_itemB b_term a_termValue a_termFirst a_termSecond b_dist a_params b_val a_outLog b_reached b_level b_fresh b_key b_colour)) 0 n (by omega) (f_stage, f_current, f_returned, nI O, a_outLog, a_cells) ⟨O, g_point, b_val, b_fresh, hO2, rfl, hst, fun postY h => h⟩ ?_ ?_
  · rintro m ⟨st, cu, rt, os, ol, cells⟩ ⟨O', pt, val, fr, h1, h2, h3, h4⟩
    dsimp only at h2 h3 h4 ⊢
    subst h2
    refine br_t (nI_le (Nat.le_refl _) (by omega)) (K st cu rt O' ol cells pt val fr h1 h3 (fun postY hp => ⟨n + 1, h4 postY (br_t (nI_le (Nat.le_refl _) (by omega)) hp)⟩))
  · rintro m i ⟨st, cu, rt, os, ol, cells⟩ _ hi ⟨O', pt, val, fr, h1, h2, h3, h4⟩ ih
    dsimp only at h2 h3 h4 ⊢
    subst h2
    have efu : n - i = n - (i + 1) + 1 := by omega
    have hnle : ¬ nI n ≤ nI i := nI_ge hi (by omega)
    rcases h3 with ⟨s2, u, u1, u2, u3, u4⟩ | s3
    · subst s2 u2 u3
      obtain ⟨s, kk, hs, hk, e⟩ := ca_ptex u1
      subst e
      have hL' := ((hL s hs).2 kk hk).2.1
      have hnm := ca_nmat (P := P) hs hk
      refine br_f hnle (br_t rfl (ca_vi ?_))
      rcases Nat.lt_or_ge kk (ca_ni P s) with hk2 | hk2
      · have hit : ca_pit P s kk = nI (ca_nk P s kk) := by
          rw [ca_nklo hk2]; exact if_pos hk2
        rw [hit] at hL'
        have hq := ca_nkP (k := kk) qW hs
        have hq32 : ca_nk P s kk < 32 ∧ ca_nk P s kk < ca_N P ∧ ca_kd P (ca_nk P s kk) ≠ 8 := by
          rcases hq with q | q
          · exact q
          · have := ca_nklo hk2
            have := ca_wn qW hs
            have hk' := hk2
            unfold ca_ni at hk'
            omega
        have hnx : ca_nx P (ca_nk P s kk) 0 = ca_nm P (ca_pb P s + kk + 1) := by
          rw [ca_nmnx qW hs hk2]
          exact (ca_nmat (k := kk + 1) hs hk2).symm
        have hpT1 : ca_pb P s + kk + 1 < ca_T P := ca_ptlt (P := P) (k := kk + 1) hs hk2
        refine ca_rd hL' (ca_lt0 (xl_stepInstruction qW qI hSi qP hLP hCD hs hk2 hO h1 u4 (fun k7 c hX => ?_) (fun k7 hz c hX => ?_) (fun k7 hz c hX => ?_)))
        · refine ca_in (ih (2, nI (ca_pb P s + kk + 1), rt, nI O', ol, c) ⟨O', nI (ca_nm P (ca_pb P s + kk + 1)), _, fr, h1, rfl, Or.inl ⟨rfl, _, hpT1, rfl, rfl, hX⟩, fun postY hp => h4 postY ?_⟩)
          rw [efu]
          refine br_f hnle (br_t rfl ?_)
          rw [hnm]
          exact yl_stepI qW hT qI qT hYT qP hq32.1 hq32.2.1 hq32.2.2 hO h1 (fun _ => ca_in (by rw [hnx]; exact hp)) (fun z => absurd z k7) (fun z => absurd z k7)
        · refine ca_in (ih (2, nI (ca_pb P s + kk + 1), rt, nI O', ol, c) ⟨O', nI (ca_nm P (ca_pb P s + kk + 1)), _, fr, h1, rfl, Or.inl ⟨rfl, _, hpT1, rfl, rfl, hX⟩, fun postY hp => h4 postY ?_⟩)
          rw [efu]
          refine br_f hnle (br_t rfl ?_)
          rw [hnm]
          exact yl_stepI qW hT qI qT hYT qP hq32.1 hq32.2.1 hq32.2.2 hO h1 (fun z => absurd k7 z) (fun _ _ => ca_in (by rw [hnx]; exact hp)) (fun _ z => absurd hz (by omega))
        · refine ca_in (ih (2, nI (ca_pb P s + kk + 1), rt, nI (O' + 1), upd ol O' (ca_ev P a_itemA a_params val (ca_nk P s kk)), c) ⟨O' + 1, nI (ca_nm P (ca_pb P s + kk + 1)), _, fr, hz, rfl, Or.inl ⟨rfl, _, hpT1, rfl, rfl, hX⟩, fun postY hp => h4 postY ?_⟩)
          rw [efu]
          refine br_f hnle (br_t rfl ?_)
          rw [hnm]
          exact yl_stepI qW hT qI qT hYT qP hq32.1 hq32.2.1 hq32.2.2 hO h1 (fun z => absurd k7 z) (fun _ z => absurd hz (by omega)) (fun _ _ => ca_in (by rw [hnx]; exact hp))
      · have hkk : kk = ca_ni P s := by omega
        subst hkk
        have hit : ca_pit P s (ca_ni P s) = -1 := if_neg (by omega)
        rw [hit] at hL'
        have hnm2 := ca_nmlast (P := P) hs
        refine ca_rd hL' (ca_m0 (xl_stepTerminator qW qI qT hT hSt (ca_STaof hSp) qA hE hG hL hLP hCD hs u4 (fun h2 => ?_) (fun h2 e hch c hX => ?_)))
        · refine ca_in (ih (3, nI (ca_pb P s + ca_ni P s), val (ca_tv P s), nI O', ol, cells) ⟨O', nI (32 + s), val, fr, h1, rfl, Or.inr rfl, fun postY hp => h4 postY ?_⟩)
          rw [efu]
          refine br_f hnle (br_t rfl ?_)
          rw [hnm2]
          exact yl_stepT qW hT qI qT hYT qP hs (fun _ => ca_in hp) (fun z => absurd h2 z)
        · have ht := hT e (ca_chE hs hch).1
          refine ca_in (ih (2, nI (ca_pb P (ca_tg P e)), rt, nI O', ol, c) ⟨O', nI (ca_st P (ca_tg P e)), ca_vn P e val val (ca_N P), ca_vn P e val fr (ca_N P), h1, rfl, Or.inl ⟨rfl, _, ca_pbT ht, rfl, by rw [ca_nmst ht], fun v hv hl => ?_⟩, fun postY hp => h4 postY ?_⟩)
          · rw [show ca_vn P e val val (ca_N P) v = val (ca_src P e v) from if_pos hv]
            exact hX v hv hl
          · rw [efu]
            refine br_f hnle (br_t rfl ?_)
            rw [hnm2]
            exact yl_stepT qW hT qI qT hYT qP hs (fun z => absurd z h2) (fun _ e' hch' => ca_in (by rw [ca_chU hch' hch]; exact hp))
    · subst s3
      exact br_f hnle (br_f (by decide) (K 3 cu rt O' ol cells pt val fr h1 (Or.inr rfl) (fun postY hp => ⟨n + 1, h4 postY (br_f hnle (br_f (by decide) hp))⟩)))
end
theorem i_vc_run {k : Nat} {u : SX} {v : SY} (I : i_Rel k u v) (hk : k + 4 ≤ 2051) (v1 : Int32) : wpX_run (fun r u' => wpY_run (fun r' v' => r' = r ∧ i_Rel (k + 4) u' v') v v1) u v1 := by
  refine ca_el (Q := fun u v => wpX_run (fun r u' => wpY_run (fun r' v' => r' = r ∧ i_Rel (k + 4) u' v') v v1) u v1) ?_ I
  intro f_phiKind f_jumpKind f_branchKind f_retKind f_far f_registerEnd f_firstSlot f_cellEnd f_edgeCode f_stage f_open f_edges f_points f_greatestPressure f_everLive f_registers f_usedRegisters f_placedBlocks f_codeSize f_current f_returned a_blockStart a_blockPhis a_blockItems a_termKind a_termValue a_termFirst a_termSecond a_itemKind a_itemA a_itemB a_itemBlock a_edgeFrom a_edgeTo a_edgeOrder a_edgeArgs a_edgeSets a_edgeBegin a_edgeEnd a_incoming a_dominators a_depth a_parent a_pointBase a_pointBlock a_pointItem a_pointUses a_live a_distance a_neighbours a_colour a_inRegisters a_location a_hint a_taken a_moveSource a_moveReaders a_codeTo a_codeFrom a_codeSwap a_codeBegin a_codeEnd a_outLog a_params a_cells g_point g_regs b_term b_dist b_val b_reached b_level b_fresh b_key b_colour P bL iL oL O c h0 hs
  have same : i_Rel (k + 4) (f_phiKind, f_jumpKind, f_branchKind, f_retKind, f_far, f_registerEnd, f_firstSlot, f_cellEnd, f_edgeCode, (nI bL), (nI iL), (nI oL), f_stage, f_open, (nI (ca_B P)), (nI (ca_N P)), f_edges, f_points, f_greatestPressure, f_everLive, f_registers, f_usedRegisters, f_placedBlocks, f_codeSize, f_current, f_returned, (nI O), a_blockStart, a_blockPhis, a_blockItems, a_termKind, a_termValue, a_termFirst, a_termSecond, a_itemKind, a_itemA, a_itemB, a_itemBlock, a_edgeFrom, a_edgeTo, a_edgeOrder, a_edgeArgs, a_edgeSets, a_edgeBegin, a_edgeEnd, a_incoming, a_dominators, a_depth, a_parent, a_pointBase, a_pointBlock, a_pointItem, a_pointUses, a_live, a_distance, a_neighbours, a_colour, a_inRegisters, a_location, a_hint, a_taken, a_moveSource, a_moveReaders, a_codeTo, a_codeFrom, a_codeSwap, a_codeBegin, a_codeEnd, a_outLog, a_params, a_cells) ((nI bL), (nI iL), (nI oL), f_stage, (nI (ca_B P)), (nI (ca_N P)), f_open, (nI O), g_point, g_regs, f_returned, a_itemKind, a_itemBlock, a_itemA, a_itemB, b_term, a_termValue, a_termFirst, a_termSecond, b_dist, a_params, b_val, a_outLog, b_reached, b_level, b_fresh, b_key, b_colour) := ca_mk (k + 4) h0 hs
  have h0' := h0
  obtain ⟨q1, q2, q3, q4, q5, q6, q7, q8, q9, qW, qI, qo, qP, qb, qT, qA, qY⟩ := h0
  have hB := ca_wB qW
  obtain ⟨n, _, n500, hn⟩ := ca_clmE v1 (lo := 0) (hi := 500) (by omega) (by omega)
  have imm : ¬ f_stage = 2 → wpX_run (fun r u' => wpY_run (fun r' v' => r' = r ∧ i_Rel (k + 4) u' v') ((nI bL), (nI iL), (nI oL), f_stage, (nI (ca_B P)), (nI (ca_N P)), f_open, (nI O), g_point, g_regs, f_returned, a_itemKind, a_itemBlock, a_itemA, a_itemB, b_term, a_termValue, a_termFirst, a_termSecond, b_dist, a_params, b_val, a_outLog, b_reached, b_level, b_fresh, b_key, b_colour) v1) (f_phiKind, f_jumpKind, f_branchKind, f_retKind, f_far, f_registerEnd, f_firstSlot, f_cellEnd, f_edgeCode, (nI bL), (nI iL), (nI oL), f_stage, f_open, (nI (ca_B P)), (nI (ca_N P)), f_edges, f_points, f_greatestPressure, f_everLive, f_registers, f_usedRegisters, f_placedBlocks, f_codeSize, f_current, f_returned, (nI O), a_blockStart, a_blockPhis, a_blockItems, a_termKind, a_termValue, a_termFirst, a_termSecond, a_itemKind, a_itemA, a_itemB, a_itemBlock, a_edgeFrom, a_edgeTo, a_edgeOrder, a_edgeArgs, a_edgeSets, a_edgeBegin, a_edgeEnd, a_incoming, a_dominators, a_depth, a_parent, a_pointBase, a_pointBlock, a_pointItem, a_pointUses, a_live, a_distance, a_neighbours, a_colour, a_inRegisters, a_location, a_hint, a_taken, a_moveSource, a_moveReaders, a_codeTo, a_codeFrom, a_codeSwap, a_codeBegin, a_codeEnd, a_outLog, a_params, a_cells) v1 := by
    intro z
    unfold wpX_run
    refine xl_clamp _ hn ⟨1, ?_⟩
    have fin : wpY_run (fun r' v' => r' = f_stage ∧ i_Rel (k + 4) (f_phiKind, f_jumpKind, f_branchKind, f_retKind, f_far, f_registerEnd, f_firstSlot, f_cellEnd, f_edgeCode, (nI bL), (nI iL), (nI oL), f_stage, f_open, (nI (ca_B P)), (nI (ca_N P)), f_edges, f_points, f_greatestPressure, f_everLive, f_registers, f_usedRegisters, f_placedBlocks, f_codeSize, f_current, f_returned, (nI O), a_blockStart, a_blockPhis, a_blockItems, a_termKind, a_termValue, a_termFirst, a_termSecond, a_itemKind, a_itemA, a_itemB, a_itemBlock, a_edgeFrom, a_edgeTo, a_edgeOrder, a_edgeArgs, a_edgeSets, a_edgeBegin, a_edgeEnd, a_incoming, a_dominators, a_depth, a_parent, a_pointBase, a_pointBlock, a_pointItem, a_pointUses, a_live, a_distance, a_neighbours, a_colour, a_inRegisters, a_location, a_hint, a_taken, a_moveSource, a_moveReaders, a_codeTo, a_codeFrom, a_codeSwap, a_codeBegin, a_codeEnd, a_outLog, a_params, a_cells) v') ((nI bL), (nI iL), (nI oL), f_stage, (nI (ca_B P)), (nI (ca_N P)), f_open, (nI O), g_point, g_regs, f_returned, a_itemKind, a_itemBlock, a_itemA, a_itemB, b_term, a_termValue, a_termFirst, a_termSecond, b_dist, a_params, b_val, a_outLog, b_reached, b_level, b_fresh, b_key, b_colour) v1 := ca_clmB (A := fun r => ∃ m, wY_run_25 _ r m 0 (nI bL) (nI iL) (nI oL) f_stage (nI (ca_B P)) (nI (ca_N P)) f_open (nI O) g_point g_regs f_returned a_itemKind a_itemBlock a_itemA a_itemB b_term a_termValue a_termFirst a_termSecond b_dist a_params b_val a_outLog b_reached b_level b_fresh b_key b_colour) hn ⟨1, br_c (fun _ => ⟨rfl, same⟩) (fun _ => br_f z ⟨rfl, same⟩)⟩
    exact br_c (fun _ => fin) (fun _ => br_f z fin)
  rcases hs with s0 | ⟨hF1, s1 | ⟨⟨R, M, z, e1, e2, hA⟩, hst⟩⟩
  · exact imm (by rw [s0]; decide)
  · exact imm (by rw [s1]; decide)
  have hF1' := hF1
  obtain ⟨r1, r2, r3, r4, r5, r6, r7, r8, r9, r10, r11, r12, r13, r14, r15, r16, r17, r18, r19, r20⟩ := hF1
  subst r7 r8
  have hc := ca_op0 qo r1
  have qT' := qT
  have qA' := qA
  have qY' := qY
  rw [hc] at qT' qA' qY'
  unfold wpX_run
  refine xl_clamp _ hn (ca_run (us := f_usedRegisters) (g_point := g_point) (g_regs := g_regs) (b_term := b_term) (b_dist := b_dist) (b_val := b_val) (b_reached := b_reached) (b_level := b_level) (b_fresh := b_fresh) (b_key := b_key) (b_colour := b_colour) qW qI qP qT' qA' (fun s hs => ⟨qY' s hs, (qA' s hs).2⟩) r3 r4 r5 r6 r9 r10 r13 hA q6 q7 n500 hst (fun st cu rt O2 ol cells pt val fr k1 k2 k3 => ?_))
  refine ca_clmB (A := fun r => ∃ m, wY_run_25 _ r m 0 (nI bL) (nI iL) (nI oL) f_stage (nI (ca_B P)) (nI (ca_N P)) f_open (nI O) g_point g_regs f_returned a_itemKind a_itemBlock a_itemA a_itemB b_term a_termValue a_termFirst a_termSecond b_dist a_params b_val a_outLog b_reached b_level b_fresh b_key b_colour) hn (k3 _ ⟨rfl, ?_⟩)
  exact ca_mk (O := O2) (c := c) (k + 4) ⟨q1, q2, q3, q4, q5, q6, k1, q8, q9, qW, qI, Or.inl ⟨r1, hc⟩, qP, qb, qT, qA, qY⟩ (Or.inr ⟨hF1', Or.inr ⟨⟨R, M, z, e1, e2, hA⟩, k2⟩⟩)
end
section
/-! questions about the point -/
section
variable {P : ca_PG} {bL iL oL O c : Nat}
variable {f_phiKind f_jumpKind f_branchKind f_retKind f_far f_registerEnd f_firstSlot f_cellEnd f_edgeCode f_stage f_open f_edges f_points f_greatestPressure f_everLive f_registers f_usedRegisters f_placedBlocks f_codeSize f_current f_returned : Int32} {a_blockStart a_blockPhis a_blockItems a_termKind a_termValue a_termFirst a_termSecond a_itemKind a_itemA a_itemB a_itemBlock a_edgeFrom a_edgeTo a_edgeOrder a_edgeArgs a_edgeSets a_edgeBegin a_edgeEnd a_incoming a_dominators a_depth a_parent a_pointBase a_pointBlock a_pointItem a_pointUses a_live a_distance a_neighbours a_colour a_inRegisters a_location a_hint a_taken a_moveSource a_moveReaders a_codeTo a_codeFrom a_codeSwap a_codeBegin a_codeEnd a_outLog a_params a_cells : Nat → Int32} {g_point g_regs : Int32} {b_term b_dist b_val b_reached b_level b_fresh b_key b_colour : Nat → Int32}
theorem xl_isItem {post : Int32 → Prop} {v : Int32} (hN : ca_N P ≤ 32) (h1 : ca_nd v (ca_N P) → post 1) (h0 : ¬ ca_nd v (ca_N P) → post 0) : wpX_isItem post (f_phiKind, f_jumpKind, f_branchKind, f_retKind, f_far, f_registerEnd, f_firstSlot, f_cellEnd, f_edgeCode, (nI bL), (nI iL), (nI oL), f_stage, f_open, (nI (ca_B P)), (nI (ca_N P)), f_edges, f_points, f_greatestPressure, f_everLive, f_registers, f_usedRegisters, f_placedBlocks, f_codeSize, f_current, f_returned, (nI O), a_blockStart, a_blockPhis, a_blockItems, a_termKind, a_termValue, a_termFirst, a_termSecond, a_itemKind, a_itemA, a_itemB, a_itemBlock, a_edgeFrom, a_edgeTo, a_edgeOrder, a_edgeArgs, a_edgeSets, a_edgeBegin, a_edgeEnd, a_incoming, a_dominators, a_depth, a_parent, a_pointBase, a_pointBlock, a_pointItem, a_pointUses, a_live, a_distance, a_neighbours, a_colour, a_inRegisters, a_location, a_hint, a_taken, a_moveSource, a_moveReaders, a_codeTo, a_codeFrom, a_codeSwap, a_codeBegin, a_codeEnd, a_outLog, a_params, a_cells) v := ca_ndX (by omega) h1 h0
theorem xl_isLiveNow {post : Int32 → Prop} {v : Int32} {u : Nat} (hW : ca_WF P) (hV : ca_AV P a_live) (hu : u < ca_T P) (h1 : ∀ j, j < ca_N P → v = nI j → ca_Lv P j (ca_nm P u) → post 1) (h0 : ¬ (∃ j, j < ca_N P ∧ v = nI j ∧ ca_Lv P j (ca_nm P u)) → post 0) : wpX_isLiveNow post (f_phiKind, f_jumpKind, f_branchKind, f_retKind, f_far, f_registerEnd, f_firstSlot, f_cellEnd, f_edgeCode, (nI bL), (nI iL), (nI oL), 2, f_open, (nI (ca_B P)), (nI (ca_N P)), f_edges, f_points, f_greatestPressure, f_everLive, f_registers, f_usedRegisters, f_placedBlocks, f_codeSize, (nI u), f_returned, (nI O), a_blockStart, a_blockPhis, a_blockItems, a_termKind, a_termValue, a_termFirst, a_termSecond, a_itemKind, a_itemA, a_itemB, a_itemBlock, a_edgeFrom, a_edgeTo, a_edgeOrder, a_edgeArgs, a_edgeSets, a_edgeBegin, a_edgeEnd, a_incoming, a_dominators, a_depth, a_parent, a_pointBase, a_pointBlock, a_pointItem, a_pointUses, a_live, a_distance, a_neighbours, a_colour, a_inRegisters, a_location, a_hint, a_taken, a_moveSource, a_moveReaders, a_codeTo, a_codeFrom, a_codeSwap, a_codeBegin, a_codeEnd, a_outLog, a_params, a_cells) v := by
  have hN := ca_wN hW
  have h40 := ca_T40' hW
  refine br_t rfl (xl_isItem hN (fun ⟨j, j1, j2⟩ => ?_) (fun h => br_t rfl (h0 fun ⟨j, j1, j2, _⟩ => h ⟨j, j1, j2⟩)))
  subst j2
  refine br_f (by decide) (ca_vi (xl_has _ rfl (by omega) (fun hb => ⟨narrow_b1, ?_⟩) (fun hb => ⟨narrow_b0, ?_⟩)))
  · rw [nI_clamp (n := u) (by omega)] at hb
    exact h1 j j1 rfl ((hV u hu j).mp hb).2
  · rw [nI_clamp (n := u) (by omega)] at hb
    refine h0 fun ⟨i, i1, i2, i3⟩ => ?_
    have := ca_ninj i2 (by omega) (by omega)
    subst this
    exact ca_ff hb ((hV u hu j).mpr ⟨j1, i3⟩)
theorem yl_shown {post : Int32 → Prop} {v : Int32} {u : Nat} (hW : ca_WF P) (hD : ca_YD P b_dist) (hu : u < ca_T P) (h1 : ∀ j, j < ca_N P → v = nI j → ca_Lv P j (ca_nm P u) → post 1) (h0 : ¬ (∃ j, j < ca_N P ∧ v = nI j ∧ ca_Lv P j (ca_nm P u)) → post 0) : wpY_shown post ((nI bL), (nI iL), (nI oL), 2, (nI (ca_B P)), (nI (ca_N P)), f_open, (nI O), (nI (ca_nm P u)), g_regs, f_returned, a_itemKind, a_itemBlock, a_itemA, a_itemB, b_term, a_termValue, a_termFirst, a_termSecond, b_dist, a_params, b_val, a_outLog, b_reached, b_level, b_fresh, b_key, b_colour) v := by
  have hN := ca_wN hW
  have hq := ca_P40 hW (ca_nmP hW hu)
  refine br_t rfl (ca_ndX (by omega) (fun ⟨j, j1, j2⟩ => ?_) (fun h => h0 fun ⟨j, j1, j2, _⟩ => h ⟨j, j1, j2⟩))
  subst j2
  refine yl_live rfl hW hD hq j1 (fun _ hl => br_f (by decide) (h1 j j1 rfl hl)) (fun hl => br_t rfl (h0 fun ⟨i, i1, i2, i3⟩ => ?_))
  have := ca_ninj i2 (by omega) (by omega)
  subst this
  exact hl ⟨ca_nmP hW hu, i3⟩
theorem yl_wh30 {post : Int32 → Prop} {q v b R : Nat} (hW : ca_WF P) (hD : ca_YD P b_dist) (hq : ca_isP P q) (hv : v < ca_N P) (hb : ca_DI P v q b) (hb40 : b ≤ 40) (hR : R ≤ 6) (h1 : ca_rk P q v < R → post 1) (h0 : ¬ ca_rk P q v < R → post 2) : ∃ n, wY_where_30 post (nI v) (nI b) (nI bL) (nI iL) (nI oL) f_stage (nI (ca_B P)) (nI (ca_N P)) f_open (nI O) (nI q) (nI R) f_returned a_itemKind a_itemBlock a_itemA a_itemB b_term a_termValue a_termFirst a_termSecond b_dist a_params b_val a_outLog b_reached b_level b_fresh b_key b_colour n 0 0 := by
  have hN := ca_wN hW
  have hq40 := ca_P40 hW hq
  have hrk : ∀ n, n ≤ ca_N P → ca_cn (fun w => ca_le P q w v) n ≤ 32 := fun n hn => by
    have := ca_cn_le (fun w => ca_le P q w v) n
    omega
  refine ca_loop (σ := Int32) (fun n w x => wY_where_30 post (nI v) (nI b) (nI bL) (nI iL) (nI oL) f_stage (nI (ca_B P)) (nI (ca_N P)) f_open (nI O) (nI q) (nI R) f_returned a_itemKind a_itemBlock a_itemA a_itemB b_term a_termValue a_termFirst a_termSecond b_dist a_params b_val a_outLog b_reached b_level b_fresh b_key b_colour n x (nI w)) (fun w x => x = nI (ca_cn (fun w => ca_le P q w v) w)) 0 (ca_N P) (by omega) 0 rfl ?_ ?_
  · intro n x hx
    subst hx
    have := hrk _ (Nat.le_refl _)
    refine br_t (nI_le (Nat.le_refl _) (by omega)) (pk_le R (ca_rk P q v) (fun z => h0 (by omega)) (fun z => h1 z) rfl rfl (by omega) (by unfold ca_rk; omega))
  · intro n w x _ hw hx ih
    subst hx
    refine br_f (nI_ge hw (by omega)) ?_
    rw [ca_mul32]
    have no : ¬ ca_le P q w v → wY_where_30 post (nI v) (nI b) (nI bL) (nI iL) (nI oL) f_stage (nI (ca_B P)) (nI (ca_N P)) f_open (nI O) (nI q) (nI R) f_returned a_itemKind a_itemBlock a_itemA a_itemB b_term a_termValue a_termFirst a_termSecond b_dist a_params b_val a_outLog b_reached b_level b_fresh b_key b_colour n (nI (ca_cn (fun w => ca_le P q w v) w)) (nI (w + 1)) := fun z => ih _ (by rw [ca_cn_f (P := fun w => ca_le P q w v) z])
    have yes : ca_le P q w v → wY_where_30 post (nI v) (nI b) (nI bL) (nI iL) (nI oL) f_stage (nI (ca_B P)) (nI (ca_N P)) f_open (nI O) (nI q) (nI R) f_returned a_itemKind a_itemBlock a_itemA a_itemB b_term a_termValue a_termFirst a_termSecond b_dist a_params b_val a_outLog b_reached b_level b_fresh b_key b_colour n (nI (ca_cn (fun w => ca_le P q w v) w + 1)) (nI (w + 1)) := fun z => ih _ (by rw [ca_cn_t (P := fun w => ca_le P q w v) z])
    rcases ca_YDlv hW hD hq40 (show w < 32 by omega) with ⟨z1, z2⟩ | ⟨a, a1, a2, a3, a4, a5⟩
    · refine ca_vi (ca_rd z1 (ca_m0 (ca_in (no ?_)))) (by omega)
      rintro ⟨a', b', p1, p2, p3⟩
      exact z2 ⟨hq, hw, a', p1.1⟩
    · refine ca_vi (ca_rd a3 (ca_lt0 (pk_lt a b (fun z => nm_r (nI_1 _) (ca_in (yes ⟨a, b, a2, hb, Or.inl z⟩))) (fun z => pk_eq a b (fun y => pk_le v w (fun x => ca_in (no ?_)) (fun x => nm_r (nI_1 _) (ca_in (yes ⟨a, b, a2, hb, Or.inr ⟨y, x⟩⟩)))) (fun y => ca_in (no ?_)))))) (by omega)
      · rintro ⟨a', b', p1, p2, p3⟩
        have := ca_DIu a2 p1
        have := ca_DIu hb p2
        omega
      · rintro ⟨a', b', p1, p2, p3⟩
        have := ca_DIu a2 p1
        have := ca_DIu hb p2
        omega
theorem ca_cnab (a b : Nat) : ∀ n, ca_cn (fun j => a ≤ j ∧ j < b) n = min n b - a
  | 0 => by rw [ca_cn_z]; omega
  | n + 1 => by
    by_cases h : a ≤ n ∧ n < b
    · rw [ca_cn_t (P := fun j => a ≤ j ∧ j < b) h, ca_cnab a b n]; omega
    · rw [ca_cn_f (P := fun j => a ≤ j ∧ j < b) h, ca_cnab a b n]; omega
theorem yl_he43 {post : Int32 → Prop} {s kk : Nat} (hW : ca_WF P) (hFI : ca_IF P) (hP : ca_AP P a_itemKind a_itemBlock a_itemA a_itemB) (hs : s < ca_B P) (hk : kk ≤ ca_ni P s) (K : post (nI (64 * s + kk))) : ∃ n, wY_here_43 post (nI s) (nI bL) (nI iL) (nI oL) f_stage (nI (ca_B P)) (nI (ca_N P)) f_open (nI O) (nI (ca_nk P s kk)) g_regs f_returned a_itemKind a_itemBlock a_itemA a_itemB b_term a_termValue a_termFirst a_termSecond b_dist a_params b_val a_outLog b_reached b_level b_fresh b_key b_colour n 0 0 := by
  have hN := ca_wN hW
  have hB := ca_wB hW
  have w1 := ca_wn hW hs
  have w2 := ca_wp hW hs
  have hq40 := ca_P40 hW (ca_nkP (k := kk) hW hs)
  have hiff : ∀ j, j < ca_N P → ((ca_bl P j = s ∧ ca_kd P j ≠ 8) ↔ (ca_bs P s + ca_bp P s ≤ j ∧ j < ca_bs P s + ca_bi P s)) := by
    intro j hj
    constructor
    · rintro ⟨a, b⟩
      have h1 := ca_wb hW hj
      rw [a] at h1
      have h2 := ca_wi hW hs h1.2.1 h1.2.2
      refine ⟨?_, h1.2.2⟩
      rcases Nat.lt_or_ge j (ca_bs P s + ca_bp P s) with z | z
      · exact absurd (h2.2.mpr z) b
      · exact z
    · rintro ⟨a, b⟩
      have h2 := ca_wi hW hs (show ca_bs P s ≤ j by omega) b
      exact ⟨h2.1, fun z => by have := h2.2.mp z; omega⟩
  have hcnt : ca_cn (fun j => ca_bl P j = s ∧ ca_kd P j ≠ 8) (min (ca_N P) (ca_nk P s kk)) = kk := by
    rw [ca_cn_eq (Q := fun j => ca_bs P s + ca_bp P s ≤ j ∧ j < ca_bs P s + ca_bi P s) (fun j hj => hiff j (by omega)), ca_cnab]
    unfold ca_ni at hk
    rcases Nat.lt_or_ge kk (ca_ni P s) with z | z
    · rw [ca_nklo z]; unfold ca_ni at z; omega
    · rw [ca_nkhi z]; unfold ca_ni at z; omega
  have fin : ∀ x, x = nI (ca_cn (fun j => ca_bl P j = s ∧ ca_kd P j ≠ 8) (min (ca_N P) (ca_nk P s kk))) → post (64 * nI s + x) := by
    intro x hx
    rw [hx, hcnt, show (64 : Int32) * nI s = nI (64 * s) from pk_mul 64 s, nI_add]
    exact K
  refine ca_loop (σ := Int32) (fun n i x => wY_here_43 post (nI s) (nI bL) (nI iL) (nI oL) f_stage (nI (ca_B P)) (nI (ca_N P)) f_open (nI O) (nI (ca_nk P s kk)) g_regs f_returned a_itemKind a_itemBlock a_itemA a_itemB b_term a_termValue a_termFirst a_termSecond b_dist a_params b_val a_outLog b_reached b_level b_fresh b_key b_colour n x (nI i)) (fun i x => x = nI (ca_cn (fun j => ca_bl P j = s ∧ ca_kd P j ≠ 8) i)) 0 (min (ca_N P) (ca_nk P s kk)) (by omega) 0 rfl ?_ ?_
  · intro n x hx
    refine pk_le (ca_N P) (min (ca_N P) (ca_nk P s kk)) (fun _ => fin x hx) (fun z => pk_le (ca_nk P s kk) (min (ca_N P) (ca_nk P s kk)) (fun _ => fin x hx) (fun y => by omega))
  · intro n i x _ hi hx ih
    subst hx
    have hiN : i < ca_N P := by omega
    have hP' := hP i hiN
    have hkd := (hFI i hiN).1
    have hbl := (ca_wb hW hiN).1
    refine br_f (nI_ge hiN (by omega)) (br_f (nI_ge (by omega) (by omega)) (ca_vi (pk_eq (ca_bl P i) s (fun z => ca_vi (pk_eq (ca_kd P i) 8 (fun y => ca_in (ih _ ?_)) (fun y => nm_r (nI_1 _) (ca_in (ih _ ?_))) (ca_r hP'.1))) (fun z => ca_in (ih _ ?_)) (ca_r hP'.2.1))))
    · rw [ca_cn_f (P := fun j => ca_bl P j = s ∧ ca_kd P j ≠ 8) (fun w => w.2 y)]
    · rw [ca_cn_t (P := fun j => ca_bl P j = s ∧ ca_kd P j ≠ 8) ⟨z, y⟩]
    · rw [ca_cn_f (P := fun j => ca_bl P j = s ∧ ca_kd P j ≠ 8) (fun w => z w.1)]
end
theorem i_vc_poke {k : Nat} {u : SX} {v : SY} (I : i_Rel k u v) (hk : k + 4 ≤ 2051) (v1 : Int32) (v2 : Int32) : wpX_poke (fun r u' => wpY_poke (fun r' v' => r' = r ∧ i_Rel (k + 4) u' v') v v1 v2) u v1 v2 := by
  refine ca_el (Q := fun u v => wpX_poke (fun r u' => wpY_poke (fun r' v' => r' = r ∧ i_Rel (k + 4) u' v') v v1 v2) u v1 v2) ?_ I
  intro f_phiKind f_jumpKind f_branchKind f_retKind f_far f_registerEnd f_firstSlot f_cellEnd f_edgeCode f_stage f_open f_edges f_points f_greatestPressure f_everLive f_registers f_usedRegisters f_placedBlocks f_codeSize f_current f_returned a_blockStart a_blockPhis a_blockItems a_termKind a_termValue a_termFirst a_termSecond a_itemKind a_itemA a_itemB a_itemBlock a_edgeFrom a_edgeTo a_edgeOrder a_edgeArgs a_edgeSets a_edgeBegin a_edgeEnd a_incoming a_dominators a_depth a_parent a_pointBase a_pointBlock a_pointItem a_pointUses a_live a_distance a_neighbours a_colour a_inRegisters a_location a_hint a_taken a_moveSource a_moveReaders a_codeTo a_codeFrom a_codeSwap a_codeBegin a_codeEnd a_outLog a_params a_cells g_point g_regs b_term b_dist b_val b_reached b_level b_fresh b_key b_colour P bL iL oL O c h0 hs
  have same : i_Rel (k + 4) (f_phiKind, f_jumpKind, f_branchKind, f_retKind, f_far, f_registerEnd, f_firstSlot, f_cellEnd, f_edgeCode, (nI bL), (nI iL), (nI oL), f_stage, f_open, (nI (ca_B P)), (nI (ca_N P)), f_edges, f_points, f_greatestPressure, f_everLive, f_registers, f_usedRegisters, f_placedBlocks, f_codeSize, f_current, f_returned, (nI O), a_blockStart, a_blockPhis, a_blockItems, a_termKind, a_termValue, a_termFirst, a_termSecond, a_itemKind, a_itemA, a_itemB, a_itemBlock, a_edgeFrom, a_edgeTo, a_edgeOrder, a_edgeArgs, a_edgeSets, a_edgeBegin, a_edgeEnd, a_incoming, a_dominators, a_depth, a_parent, a_pointBase, a_pointBlock, a_pointItem, a_pointUses, a_live, a_distance, a_neighbours, a_colour, a_inRegisters, a_location, a_hint, a_taken, a_moveSource, a_moveReaders, a_codeTo, a_codeFrom, a_codeSwap, a_codeBegin, a_codeEnd, a_outLog, a_params, a_cells) ((nI bL), (nI iL), (nI oL), f_stage, (nI (ca_B P)), (nI (ca_N P)), f_open, (nI O), g_point, g_regs, f_returned, a_itemKind, a_itemBlock, a_itemA, a_itemB, b_term, a_termValue, a_termFirst, a_termSecond, b_dist, a_params, b_val, a_outLog, b_reached, b_level, b_fresh, b_key, b_colour) := ca_mk (k + 4) h0 hs
  have h0' := h0
  obtain ⟨q1, q2, q3, q4, q5, q6, q7, q8, q9, qW, qI, qo, qP, qb, qT, qA, qY⟩ := h0
  have hB := ca_wB qW
  have hN := ca_wN qW
  have h40 := ca_T40' qW
  have imm : ¬ f_stage = 2 → wpX_poke (fun r u' => wpY_poke (fun r' v' => r' = r ∧ i_Rel (k + 4) u' v') ((nI bL), (nI iL), (nI oL), f_stage, (nI (ca_B P)), (nI (ca_N P)), f_open, (nI O), g_point, g_regs, f_returned, a_itemKind, a_itemBlock, a_itemA, a_itemB, b_term, a_termValue, a_termFirst, a_termSecond, b_dist, a_params, b_val, a_outLog, b_reached, b_level, b_fresh, b_key, b_colour) v1 v2) (f_phiKind, f_jumpKind, f_branchKind, f_retKind, f_far, f_registerEnd, f_firstSlot, f_cellEnd, f_edgeCode, (nI bL), (nI iL), (nI oL), f_stage, f_open, (nI (ca_B P)), (nI (ca_N P)), f_edges, f_points, f_greatestPressure, f_everLive, f_registers, f_usedRegisters, f_placedBlocks, f_codeSize, f_current, f_returned, (nI O), a_blockStart, a_blockPhis, a_blockItems, a_termKind, a_termValue, a_termFirst, a_termSecond, a_itemKind, a_itemA, a_itemB, a_itemBlock, a_edgeFrom, a_edgeTo, a_edgeOrder, a_edgeArgs, a_edgeSets, a_edgeBegin, a_edgeEnd, a_incoming, a_dominators, a_depth, a_parent, a_pointBase, a_pointBlock, a_pointItem, a_pointUses, a_live, a_distance, a_neighbours, a_colour, a_inRegisters, a_location, a_hint, a_taken, a_moveSource, a_moveReaders, a_codeTo, a_codeFrom, a_codeSwap, a_codeBegin, a_codeEnd, a_outLog, a_params, a_cells) v1 v2 := fun z => br_f z (br_f z ⟨rfl, same⟩)
  rcases hs with s0 | ⟨hF1, s1 | ⟨⟨R, M, z, e1, e2, hA⟩, ⟨s2, u, u1, u2, u3, u4⟩ | s3⟩⟩
  · exact imm (by rw [s0]; decide)
  · exact imm (by rw [s1]; decide)
  rotate_left
  · exact imm (by rw [s3]; decide)
  have hF1' := hF1
  obtain ⟨r1, r2, r3, r4, r5, r6, r7, r8, r9, r10, r11, r12, r13, r14, r15, r16, r17, r18, r19, r20⟩ := hF1
  subst r7 r8 s2 u2 u3 e1 e2
  have hc := ca_op0 qo r1
  have hLP : ∀ p, p < ca_T P → ca_LP P R M a_location p := fun p hp => (hA.2.2.2.2.1 p hp).1
  refine br_t rfl (xl_isLiveNow qW r16 u1 (fun j j1 j2 hl => br_f (by decide) ?_) (fun h => br_t rfl (br_t rfl (yl_shown qW r20 u1 (fun j j1 j2 j3 => absurd ⟨j, j1, j2, j3⟩ h) (fun _ => br_t rfl ⟨rfl, same⟩)))))
  subst j2
  obtain ⟨c1, c2⟩ := ca_LPcl (hLP u u1) j1 hl
  rw [ca_mul32]
  refine ca_vi (ca_rd c2 (ca_lt0 (ca_vi (ca_wr ?_)))) (by omega)
  refine br_t rfl (yl_shown qW r20 u1 (fun i i1 i2 _ => br_f (by decide) (ca_vi (ca_wr ⟨rfl, ?_⟩))) (fun h => absurd ⟨j, j1, rfl, hl⟩ h))
  refine ca_mk (c := c) (k + 4) ⟨q1, q2, q3, q4, q5, q6, q7, q8, q9, qW, qI, Or.inl ⟨r1, hc⟩, qP, qb, qT, qA, qY⟩ (Or.inr ⟨hF1', Or.inr ⟨⟨R, M, z, rfl, rfl, hA⟩, Or.inl ⟨rfl, u, u1, rfl, rfl, fun v hv hl2 => ?_⟩⟩⟩)
  by_cases e : v = j
  · subst e; rw [pk_us, pk_us]
  · rw [pk_un e, pk_un (fun y => e (ca_LPinj hN (hLP u u1) hv j1 hl2 hl y))]
    exact u4 v hv hl2
theorem i_vc_peek {k : Nat} {u : SX} {v : SY} (I : i_Rel k u v) (hk : k + 4 ≤ 2051) (v1 : Int32) : wpX_peek (fun r => wpY_peek (fun r' => r' = r ∧ i_Rel (k + 4) u v) v v1) u v1 := by
  refine ca_el (Q := fun u v => wpX_peek (fun r => wpY_peek (fun r' => r' = r ∧ i_Rel (k + 4) u v) v v1) u v1) ?_ I
  intro f_phiKind f_jumpKind f_branchKind f_retKind f_far f_registerEnd f_firstSlot f_cellEnd f_edgeCode f_stage f_open f_edges f_points f_greatestPressure f_everLive f_registers f_usedRegisters f_placedBlocks f_codeSize f_current f_returned a_blockStart a_blockPhis a_blockItems a_termKind a_termValue a_termFirst a_termSecond a_itemKind a_itemA a_itemB a_itemBlock a_edgeFrom a_edgeTo a_edgeOrder a_edgeArgs a_edgeSets a_edgeBegin a_edgeEnd a_incoming a_dominators a_depth a_parent a_pointBase a_pointBlock a_pointItem a_pointUses a_live a_distance a_neighbours a_colour a_inRegisters a_location a_hint a_taken a_moveSource a_moveReaders a_codeTo a_codeFrom a_codeSwap a_codeBegin a_codeEnd a_outLog a_params a_cells g_point g_regs b_term b_dist b_val b_reached b_level b_fresh b_key b_colour P bL iL oL O c h0 hs
  have same : i_Rel (k + 4) (f_phiKind, f_jumpKind, f_branchKind, f_retKind, f_far, f_registerEnd, f_firstSlot, f_cellEnd, f_edgeCode, (nI bL), (nI iL), (nI oL), f_stage, f_open, (nI (ca_B P)), (nI (ca_N P)), f_edges, f_points, f_greatestPressure, f_everLive, f_registers, f_usedRegisters, f_placedBlocks, f_codeSize, f_current, f_returned, (nI O), a_blockStart, a_blockPhis, a_blockItems, a_termKind, a_termValue, a_termFirst, a_termSecond, a_itemKind, a_itemA, a_itemB, a_itemBlock, a_edgeFrom, a_edgeTo, a_edgeOrder, a_edgeArgs, a_edgeSets, a_edgeBegin, a_edgeEnd, a_incoming, a_dominators, a_depth, a_parent, a_pointBase, a_pointBlock, a_pointItem, a_pointUses, a_live, a_distance, a_neighbours, a_colour, a_inRegisters, a_location, a_hint, a_taken, a_moveSource, a_moveReaders, a_codeTo, a_codeFrom, a_codeSwap, a_codeBegin, a_codeEnd, a_outLog, a_params, a_cells) ((nI bL), (nI iL), (nI oL), f_stage, (nI (ca_B P)), (nI (ca_N P)), f_open, (nI O), g_point, g_regs, f_returned, a_itemKind, a_itemBlock, a_itemA, a_itemB, b_term, a_termValue, a_termFirst, a_termSecond, b_dist, a_params, b_val, a_outLog, b_reached, b_level, b_fresh, b_key, b_colour) := ca_mk (k + 4) h0 hs
  have h0' := h0
  obtain ⟨q1, q2, q3, q4, q5, q6, q7, q8, q9, qW, qI, qo, qP, qb, qT, qA, qY⟩ := h0
  have hB := ca_wB qW
  have hN := ca_wN qW
  have h40 := ca_T40' qW
  have imm : ¬ f_stage = 2 → wpX_peek (fun r => wpY_peek (fun r' => r' = r ∧ i_Rel (k + 4) (f_phiKind, f_jumpKind, f_branchKind, f_retKind, f_far, f_registerEnd, f_firstSlot, f_cellEnd, f_edgeCode, (nI bL), (nI iL), (nI oL), f_stage, f_open, (nI (ca_B P)), (nI (ca_N P)), f_edges, f_points, f_greatestPressure, f_everLive, f_registers, f_usedRegisters, f_placedBlocks, f_codeSize, f_current, f_returned, (nI O), a_blockStart, a_blockPhis, a_blockItems, a_termKind, a_termValue, a_termFirst, a_termSecond, a_itemKind, a_itemA, a_itemB, a_itemBlock, a_edgeFrom, a_edgeTo, a_edgeOrder, a_edgeArgs, a_edgeSets, a_edgeBegin, a_edgeEnd, a_incoming, a_dominators, a_depth, a_parent, a_pointBase, a_pointBlock, a_pointItem, a_pointUses, a_live, a_distance, a_neighbours, a_colour, a_inRegisters, a_location, a_hint, a_taken, a_moveSource, a_moveReaders, a_codeTo, a_codeFrom, a_codeSwap, a_codeBegin, a_codeEnd, a_outLog, a_params, a_cells) ((nI bL), (nI iL), (nI oL), f_stage, (nI (ca_B P)), (nI (ca_N P)), f_open, (nI O), g_point, g_regs, f_returned, a_itemKind, a_itemBlock, a_itemA, a_itemB, b_term, a_termValue, a_termFirst, a_termSecond, b_dist, a_params, b_val, a_outLog, b_reached, b_level, b_fresh, b_key, b_colour)) ((nI bL), (nI iL), (nI oL), f_stage, (nI (ca_B P)), (nI (ca_N P)), f_open, (nI O), g_point, g_regs, f_returned, a_itemKind, a_itemBlock, a_itemA, a_itemB, b_term, a_termValue, a_termFirst, a_termSecond, b_dist, a_params, b_val, a_outLog, b_reached, b_level, b_fresh, b_key, b_colour) v1) (f_phiKind, f_jumpKind, f_branchKind, f_retKind, f_far, f_registerEnd, f_firstSlot, f_cellEnd, f_edgeCode, (nI bL), (nI iL), (nI oL), f_stage, f_open, (nI (ca_B P)), (nI (ca_N P)), f_edges, f_points, f_greatestPressure, f_everLive, f_registers, f_usedRegisters, f_placedBlocks, f_codeSize, f_current, f_returned, (nI O), a_blockStart, a_blockPhis, a_blockItems, a_termKind, a_termValue, a_termFirst, a_termSecond, a_itemKind, a_itemA, a_itemB, a_itemBlock, a_edgeFrom, a_edgeTo, a_edgeOrder, a_edgeArgs, a_edgeSets, a_edgeBegin, a_edgeEnd, a_incoming, a_dominators, a_depth, a_parent, a_pointBase, a_pointBlock, a_pointItem, a_pointUses, a_live, a_distance, a_neighbours, a_colour, a_inRegisters, a_location, a_hint, a_taken, a_moveSource, a_moveReaders, a_codeTo, a_codeFrom, a_codeSwap, a_codeBegin, a_codeEnd, a_outLog, a_params, a_cells) v1 := by
    intro z
    unfold wpX_peek
    refine br_f z (br_t rfl ?_)
    unfold wpY_peek
    exact br_f z (br_t rfl ⟨rfl, same⟩)
  rcases hs with s0 | ⟨hF1, s1 | ⟨⟨R, M, z, e1, e2, hA⟩, ⟨s2, u, u1, u2, u3, u4⟩ | s3⟩⟩
  · exact imm (by rw [s0]; decide)
  · exact imm (by rw [s1]; decide)
  rotate_left
  · exact imm (by rw [s3]; decide)
  have hF1' := hF1
  obtain ⟨r1, r2, r3, r4, r5, r6, r7, r8, r9, r10, r11, r12, r13, r14, r15, r16, r17, r18, r19, r20⟩ := hF1
  subst r7 r8 s2 u2 u3 e1 e2
  have hc := ca_op0 qo r1
  have hLP : ∀ p, p < ca_T P → ca_LP P R M a_location p := fun p hp => (hA.2.2.2.2.1 p hp).1
  unfold wpX_peek
  refine xl_isLiveNow qW r16 u1 (fun j j1 j2 hl => br_f (by decide) ?_) (fun h => br_t rfl ?_)
  · subst j2
    obtain ⟨c1, c2⟩ := ca_LPcl (hLP u u1) j1 hl
    refine xl_fetch rfl (by omega) (by omega) c2 c1 ?_
    unfold wpY_peek
    refine yl_shown qW r20 u1 (fun i i1 i2 _ => br_f (by decide) (ca_vi ⟨?_, same⟩)) (fun h => absurd ⟨j, j1, rfl, hl⟩ h)
    rw [nI_clamp (n := j) (by omega)]
    exact (u4 j j1 hl).symm
  · unfold wpY_peek
    exact yl_shown qW r20 u1 (fun j j1 j2 j3 => absurd ⟨j, j1, j2, j3⟩ h) (fun _ => br_t rfl ⟨rfl, same⟩)
theorem i_vc_where {k : Nat} {u : SX} {v : SY} (I : i_Rel k u v) (hk : k + 4 ≤ 2051) (v1 : Int32) : wpX_where (fun r => wpY_where (fun r' => r' = r ∧ i_Rel (k + 4) u v) v v1) u v1 := by
  refine ca_el (Q := fun u v => wpX_where (fun r => wpY_where (fun r' => r' = r ∧ i_Rel (k + 4) u v) v v1) u v1) ?_ I
  intro f_phiKind f_jumpKind f_branchKind f_retKind f_far f_registerEnd f_firstSlot f_cellEnd f_edgeCode f_stage f_open f_edges f_points f_greatestPressure f_everLive f_registers f_usedRegisters f_placedBlocks f_codeSize f_current f_returned a_blockStart a_blockPhis a_blockItems a_termKind a_termValue a_termFirst a_termSecond a_itemKind a_itemA a_itemB a_itemBlock a_edgeFrom a_edgeTo a_edgeOrder a_edgeArgs a_edgeSets a_edgeBegin a_edgeEnd a_incoming a_dominators a_depth a_parent a_pointBase a_pointBlock a_pointItem a_pointUses a_live a_distance a_neighbours a_colour a_inRegisters a_location a_hint a_taken a_moveSource a_moveReaders a_codeTo a_codeFrom a_codeSwap a_codeBegin a_codeEnd a_outLog a_params a_cells g_point g_regs b_term b_dist b_val b_reached b_level b_fresh b_key b_colour P bL iL oL O c h0 hs
  have same : i_Rel (k + 4) (f_phiKind, f_jumpKind, f_branchKind, f_retKind, f_far, f_registerEnd, f_firstSlot, f_cellEnd, f_edgeCode, (nI bL), (nI iL), (nI oL), f_stage, f_open, (nI (ca_B P)), (nI (ca_N P)), f_edges, f_points, f_greatestPressure, f_everLive, f_registers, f_usedRegisters, f_placedBlocks, f_codeSize, f_current, f_returned, (nI O), a_blockStart, a_blockPhis, a_blockItems, a_termKind, a_termValue, a_termFirst, a_termSecond, a_itemKind, a_itemA, a_itemB, a_itemBlock, a_edgeFrom, a_edgeTo, a_edgeOrder, a_edgeArgs, a_edgeSets, a_edgeBegin, a_edgeEnd, a_incoming, a_dominators, a_depth, a_parent, a_pointBase, a_pointBlock, a_pointItem, a_pointUses, a_live, a_distance, a_neighbours, a_colour, a_inRegisters, a_location, a_hint, a_taken, a_moveSource, a_moveReaders, a_codeTo, a_codeFrom, a_codeSwap, a_codeBegin, a_codeEnd, a_outLog, a_params, a_cells) ((nI bL), (nI iL), (nI oL), f_stage, (nI (ca_B P)), (nI (ca_N P)), f_open, (nI O), g_point, g_regs, f_returned, a_itemKind, a_itemBlock, a_itemA, a_itemB, b_term, a_termValue, a_termFirst, a_termSecond, b_dist, a_params, b_val, a_outLog, b_reached, b_level, b_fresh, b_key, b_colour) := ca_mk (k + 4) h0 hs
  have h0' := h0
  obtain ⟨q1, q2, q3, q4, q5, q6, q7, q8, q9, qW, qI, qo, qP, qb, qT, qA, qY⟩ := h0
  have hB := ca_wB qW
  have hN := ca_wN qW
  have h40 := ca_T40' qW
  have imm : ¬ f_stage = 2 → wpX_where (fun r => wpY_where (fun r' => r' = r ∧ i_Rel (k + 4) (f_phiKind, f_jumpKind, f_branchKind, f_retKind, f_far, f_registerEnd, f_firstSlot, f_cellEnd, f_edgeCode, (nI bL), (nI iL), (nI oL), f_stage, f_open, (nI (ca_B P)), (nI (ca_N P)), f_edges, f_points, f_greatestPressure, f_everLive, f_registers, f_usedRegisters, f_placedBlocks, f_codeSize, f_current, f_returned, (nI O), a_blockStart, a_blockPhis, a_blockItems, a_termKind, a_termValue, a_termFirst, a_termSecond, a_itemKind, a_itemA, a_itemB, a_itemBlock, a_edgeFrom, a_edgeTo, a_edgeOrder, a_edgeArgs, a_edgeSets, a_edgeBegin, a_edgeEnd, a_incoming, a_dominators, a_depth, a_parent, a_pointBase, a_pointBlock, a_pointItem, a_pointUses, a_live, a_distance, a_neighbours, a_colour, a_inRegisters, a_location, a_hint, a_taken, a_moveSource, a_moveReaders, a_codeTo, a_codeFrom, a_codeSwap, a_codeBegin, a_codeEnd, a_outLog, a_params, a_cells) ((nI bL), (nI iL), (nI oL), f_stage, (nI (ca_B P)), (nI (ca_N P)), f_open, (nI O), g_point, g_regs, f_returned, a_itemKind, a_itemBlock, a_itemA, a_itemB, b_term, a_termValue, a_termFirst, a_termSecond, b_dist, a_params, b_val, a_outLog, b_reached, b_level, b_fresh, b_key, b_colour)) ((nI bL), (nI iL), (nI oL), f_stage, (nI (ca_B P)), (nI (ca_N P)), f_open, (nI O), g_point, g_regs, f_returned, a_itemKind, a_itemBlock, a_itemA, a_itemB, b_term, a_termValue, a_termFirst, a_termSecond, b_dist, a_params, b_val, a_outLog, b_reached, b_level, b_fresh, b_key, b_colour) v1) (f_phiKind, f_jumpKind, f_branchKind, f_retKind, f_far, f_registerEnd, f_firstSlot, f_cellEnd, f_edgeCode, (nI bL), (nI iL), (nI oL), f_stage, f_open, (nI (ca_B P)), (nI (ca_N P)), f_edges, f_points, f_greatestPressure, f_everLive, f_registers, f_usedRegisters, f_placedBlocks, f_codeSize, f_current, f_returned, (nI O), a_blockStart, a_blockPhis, a_blockItems, a_termKind, a_termValue, a_termFirst, a_termSecond, a_itemKind, a_itemA, a_itemB, a_itemBlock, a_edgeFrom, a_edgeTo, a_edgeOrder, a_edgeArgs, a_edgeSets, a_edgeBegin, a_edgeEnd, a_incoming, a_dominators, a_depth, a_parent, a_pointBase, a_pointBlock, a_pointItem, a_pointUses, a_live, a_distance, a_neighbours, a_colour, a_inRegisters, a_location, a_hint, a_taken, a_moveSource, a_moveReaders, a_codeTo, a_codeFrom, a_codeSwap, a_codeBegin, a_codeEnd, a_outLog, a_params, a_cells) v1 := by
    intro z
    unfold wpX_where
    refine br_f z (br_t rfl ?_)
    unfold wpY_where
    exact br_f z (br_t rfl ⟨rfl, same⟩)
  rcases hs with s0 | ⟨hF1, s1 | ⟨⟨R, M, z, e1, e2, hA⟩, ⟨s2, u, u1, u2, u3, u4⟩ | s3⟩⟩
  · exact imm (by rw [s0]; decide)
  · exact imm (by rw [s1]; decide)
  rotate_left
  · exact imm (by rw [s3]; decide)
  have hF1' := hF1
  obtain ⟨r1, r2, r3, r4, r5, r6, r7, r8, r9, r10, r11, r12, r13, r14, r15, r16, r17, r18, r19, r20⟩ := hF1
  subst r7 r8 s2 u2 u3 e1 e2
  have hc := ca_op0 qo r1
  have hLP : ∀ p, p < ca_T P → ca_LP P R M a_location p := fun p hp => (hA.2.2.2.2.1 p hp).1
  have hM6 : M ≤ 6 := by
    rcases hA.2.2.1.2 with y | ⟨q, _, y⟩
    · omega
    · have y' : min (ca_lc P q) R = M := y
      have := hA.2.1
      omega
  unfold wpX_where
  refine xl_isLiveNow qW r16 u1 (fun j j1 j2 hl => br_f (by decide) ?_) (fun h => br_t rfl ?_)
  · subst j2
    obtain ⟨d, d1, d2, d3, d4⟩ := (hLP u u1).1 j j1 hl
    have hq := ca_nmP qW u1
    have hq40 := ca_P40 qW hq
    have fin : ∀ r : Int32, (ca_rk P (ca_nm P u) j < R → (1 : Int32) = r) → (¬ ca_rk P (ca_nm P u) j < R → (2 : Int32) = r) → wpY_where (fun r' => r' = r ∧ i_Rel (k + 4) (f_phiKind, f_jumpKind, f_branchKind, f_retKind, f_far, f_registerEnd, f_firstSlot, f_cellEnd, f_edgeCode, (nI bL), (nI iL), (nI oL), 2, f_open, (nI (ca_B P)), (nI (ca_N P)), (nI (ca_E P)), (nI (ca_T P)), f_greatestPressure, f_everLive, (nI R), f_usedRegisters, f_placedBlocks, f_codeSize, (nI u), f_returned, (nI O), a_blockStart, a_blockPhis, a_blockItems, a_termKind, a_termValue, a_termFirst, a_termSecond, a_itemKind, a_itemA, a_itemB, a_itemBlock, a_edgeFrom, a_edgeTo, a_edgeOrder, a_edgeArgs, a_edgeSets, a_edgeBegin, a_edgeEnd, a_incoming, a_dominators, a_depth, a_parent, a_pointBase, a_pointBlock, a_pointItem, a_pointUses, a_live, a_distance, a_neighbours, a_colour, a_inRegisters, a_location, a_hint, a_taken, a_moveSource, a_moveReaders, a_codeTo, a_codeFrom, a_codeSwap, a_codeBegin, a_codeEnd, a_outLog, a_params, a_cells) ((nI bL), (nI iL), (nI oL), 2, (nI (ca_B P)), (nI (ca_N P)), f_open, (nI O), (nI (ca_nm P u)), (nI R), f_returned, a_itemKind, a_itemBlock, a_itemA, a_itemB, b_term, a_termValue, a_termFirst, a_termSecond, b_dist, a_params, b_val, a_outLog, b_reached, b_level, b_fresh, b_key, b_colour)) ((nI bL), (nI iL), (nI oL), 2, (nI (ca_B P)), (nI (ca_N P)), f_open, (nI O), (nI (ca_nm P u)), (nI R), f_returned, a_itemKind, a_itemBlock, a_itemA, a_itemB, b_term, a_termValue, a_termFirst, a_termSecond, b_dist, a_params, b_val, a_outLog, b_reached, b_level, b_fresh, b_key, b_colour) (nI j) := by
      intro r h1 h2
      unfold wpY_where
      refine yl_shown qW r20 u1 (fun i i1 i2 _ => br_f (by decide) ?_) (fun h => absurd ⟨j, j1, rfl, hl⟩ h)
      rw [ca_mul32]
      rcases ca_YDlv qW r20 hq40 (show j < 32 by omega) with ⟨_, y⟩ | ⟨b, b1, b2, b3, _, _⟩
      · exact absurd ⟨hq, j1, hl⟩ y
      · exact ca_vi (ca_rd b3 (yl_wh30 qW r20 hq j1 b2 b1 hA.2.1 (fun y => ⟨h1 y, same⟩) (fun y => ⟨h2 y, same⟩))) (by omega)
    rw [ca_mul32]
    refine ca_vi ?_ (by omega)
    rw [nI_clamp (n := u * 32 + j) (by omega), d2]
    refine pk_le 8 d (fun y => fin 2 (fun w => ?_) (fun _ => rfl)) (fun y => fin 1 (fun _ => rfl) (fun w => ?_))
    · have := d3 w; omega
    · have := d4 w; omega
  · unfold wpY_where
    exact yl_shown qW r20 u1 (fun j j1 j2 j3 => absurd ⟨j, j1, j2, j3⟩ h) (fun _ => br_t rfl ⟨rfl, same⟩)
theorem i_vc_here {k : Nat} {u : SX} {v : SY} (I : i_Rel k u v) (hk : k + 4 ≤ 2051) : wpX_here (fun r => wpY_here (fun r' => r' = r ∧ i_Rel (k + 4) u v) v) u := by
  refine ca_el (Q := fun u v => wpX_here (fun r => wpY_here (fun r' => r' = r ∧ i_Rel (k + 4) u v) v) u) ?_ I
  intro f_phiKind f_jumpKind f_branchKind f_retKind f_far f_registerEnd f_firstSlot f_cellEnd f_edgeCode f_stage f_open f_edges f_points f_greatestPressure f_everLive f_registers f_usedRegisters f_placedBlocks f_codeSize f_current f_returned a_blockStart a_blockPhis a_blockItems a_termKind a_termValue a_termFirst a_termSecond a_itemKind a_itemA a_itemB a_itemBlock a_edgeFrom a_edgeTo a_edgeOrder a_edgeArgs a_edgeSets a_edgeBegin a_edgeEnd a_incoming a_dominators a_depth a_parent a_pointBase a_pointBlock a_pointItem a_pointUses a_live a_distance a_neighbours a_colour a_inRegisters a_location a_hint a_taken a_moveSource a_moveReaders a_codeTo a_codeFrom a_codeSwap a_codeBegin a_codeEnd a_outLog a_params a_cells g_point g_regs b_term b_dist b_val b_reached b_level b_fresh b_key b_colour P bL iL oL O c h0 hs
  have same : i_Rel (k + 4) (f_phiKind, f_jumpKind, f_branchKind, f_retKind, f_far, f_registerEnd, f_firstSlot, f_cellEnd, f_edgeCode, (nI bL), (nI iL), (nI oL), f_stage, f_open, (nI (ca_B P)), (nI (ca_N P)), f_edges, f_points, f_greatestPressure, f_everLive, f_registers, f_usedRegisters, f_placedBlocks, f_codeSize, f_current, f_returned, (nI O), a_blockStart, a_blockPhis, a_blockItems, a_termKind, a_termValue, a_termFirst, a_termSecond, a_itemKind, a_itemA, a_itemB, a_itemBlock, a_edgeFrom, a_edgeTo, a_edgeOrder, a_edgeArgs, a_edgeSets, a_edgeBegin, a_edgeEnd, a_incoming, a_dominators, a_depth, a_parent, a_pointBase, a_pointBlock, a_pointItem, a_pointUses, a_live, a_distance, a_neighbours, a_colour, a_inRegisters, a_location, a_hint, a_taken, a_moveSource, a_moveReaders, a_codeTo, a_codeFrom, a_codeSwap, a_codeBegin, a_codeEnd, a_outLog, a_params, a_cells) ((nI bL), (nI iL), (nI oL), f_stage, (nI (ca_B P)), (nI (ca_N P)), f_open, (nI O), g_point, g_regs, f_returned, a_itemKind, a_itemBlock, a_itemA, a_itemB, b_term, a_termValue, a_termFirst, a_termSecond, b_dist, a_params, b_val, a_outLog, b_reached, b_level, b_fresh, b_key, b_colour) := ca_mk (k + 4) h0 hs
  have h0' := h0
  obtain ⟨q1, q2, q3, q4, q5, q6, q7, q8, q9, qW, qI, qo, qP, qb, qT, qA, qY⟩ := h0
  have hB := ca_wB qW
  have hN := ca_wN qW
  have h40 := ca_T40' qW
  have imm : ¬ f_stage = 2 → wpX_here (fun r => wpY_here (fun r' => r' = r ∧ i_Rel (k + 4) (f_phiKind, f_jumpKind, f_branchKind, f_retKind, f_far, f_registerEnd, f_firstSlot, f_cellEnd, f_edgeCode, (nI bL), (nI iL), (nI oL), f_stage, f_open, (nI (ca_B P)), (nI (ca_N P)), f_edges, f_points, f_greatestPressure, f_everLive, f_registers, f_usedRegisters, f_placedBlocks, f_codeSize, f_current, f_returned, (nI O), a_blockStart, a_blockPhis, a_blockItems, a_termKind, a_termValue, a_termFirst, a_termSecond, a_itemKind, a_itemA, a_itemB, a_itemBlock, a_edgeFrom, a_edgeTo, a_edgeOrder, a_edgeArgs, a_edgeSets, a_edgeBegin, a_edgeEnd, a_incoming, a_dominators, a_depth, a_parent, a_pointBase, a_pointBlock, a_pointItem, a_pointUses, a_live, a_distance, a_neighbours, a_colour, a_inRegisters, a_location, a_hint, a_taken, a_moveSource, a_moveReaders, a_codeTo, a_codeFrom, a_codeSwap, a_codeBegin, a_codeEnd, a_outLog, a_params, a_cells) ((nI bL), (nI iL), (nI oL), f_stage, (nI (ca_B P)), (nI (ca_N P)), f_open, (nI O), g_point, g_regs, f_returned, a_itemKind, a_itemBlock, a_itemA, a_itemB, b_term, a_termValue, a_termFirst, a_termSecond, b_dist, a_params, b_val, a_outLog, b_reached, b_level, b_fresh, b_key, b_colour)) ((nI bL), (nI iL), (nI oL), f_stage, (nI (ca_B P)), (nI (ca_N P)), f_open, (nI O), g_point, g_regs, f_returned, a_itemKind, a_itemBlock, a_itemA, a_itemB, b_term, a_termValue, a_termFirst, a_termSecond, b_dist, a_params, b_val, a_outLog, b_reached, b_level, b_fresh, b_key, b_colour)) (f_phiKind, f_jumpKind, f_branchKind, f_retKind, f_far, f_registerEnd, f_firstSlot, f_cellEnd, f_edgeCode, (nI bL), (nI iL), (nI oL), f_stage, f_open, (nI (ca_B P)), (nI (ca_N P)), f_edges, f_points, f_greatestPressure, f_everLive, f_registers, f_usedRegisters, f_placedBlocks, f_codeSize, f_current, f_returned, (nI O), a_blockStart, a_blockPhis, a_blockItems, a_termKind, a_termValue, a_termFirst, a_termSecond, a_itemKind, a_itemA, a_itemB, a_itemBlock, a_edgeFrom, a_edgeTo, a_edgeOrder, a_edgeArgs, a_edgeSets, a_edgeBegin, a_edgeEnd, a_incoming, a_dominators, a_depth, a_parent, a_pointBase, a_pointBlock, a_pointItem, a_pointUses, a_live, a_distance, a_neighbours, a_colour, a_inRegisters, a_location, a_hint, a_taken, a_moveSource, a_moveReaders, a_codeTo, a_codeFrom, a_codeSwap, a_codeBegin, a_codeEnd, a_outLog, a_params, a_cells) := fun z => br_f z (br_f z ⟨rfl, same⟩)
  rcases hs with s0 | ⟨hF1, s1 | ⟨⟨R, M, z, e1, e2, hA⟩, ⟨s2, u, u1, u2, u3, u4⟩ | s3⟩⟩
  · exact imm (by rw [s0]; decide)
  · exact imm (by rw [s1]; decide)
  rotate_left
  · exact imm (by rw [s3]; decide)
  have hF1' := hF1
  obtain ⟨r1, r2, r3, r4, r5, r6, r7, r8, r9, r10, r11, r12, r13, r14, r15, r16, r17, r18, r19, r20⟩ := hF1
  subst r7 r8 s2 u2 u3 e1 e2
  have hc := ca_op0 qo r1
  have hLP : ∀ p, p < ca_T P → ca_LP P R M a_location p := fun p hp => (hA.2.2.2.2.1 p hp).1
  obtain ⟨s, kk, hs, hk, e⟩ := ca_ptex u1
  subst e
  have hL' := (r13 s hs).2 kk hk
  have hnm := ca_nmat (P := P) hs hk
  refine br_t rfl (ca_vi (ca_rd hL'.1 (ca_vi ?_)))
  have ev : 64 * nI s + nI (ca_pb P s + kk) - a_pointBase (nI s).toNatClampNeg = nI (64 * s + kk) := by
    rw [ca_r (r13 s hs).1, show (64 : Int32) * nI s = nI (64 * s) from pk_mul 64 s, nI_add, pk_sub (by omega)]
    congr 1; omega
  rw [ev]
  refine br_t rfl ?_
  have hq := ca_nkP (k := kk) qW hs
  have hq40 := ca_P40 qW hq
  have same' := same
  rw [hnm] at same' ⊢
  rcases Nat.lt_or_ge kk (ca_ni P s) with y | y
  · have hq32 : ca_nk P s kk < 32 ∧ ca_nk P s kk < ca_N P := by
      rcases hq with w | w
      · exact ⟨w.1, w.2.1⟩
      · have := ca_nklo y
        have := ca_wn qW hs
        unfold ca_ni at y
        omega
    have hbl : ca_bl P (ca_nk P s kk) = s := by
      rw [ca_nklo y]
      unfold ca_ni at y
      exact (ca_wi qW hs (by omega) (by omega)).1
    have hPb := (qP _ hq32.2).2.1
    rw [hbl] at hPb
    exact br_f (nI_ge (b := 32) hq32.1 (by decide)) (ca_vi (ca_rd hPb (yl_he43 qW qI qP hs hk ⟨rfl, same'⟩)))
  · have hnk := ca_nkhi y
    refine br_t ?_ (nm_r (e' := nI s) ?_ (yl_he43 qW qI qP hs hk ⟨rfl, same'⟩))
    · rw [hnk]; exact nI_le (a := 32) (by omega) (by omega)
    · rw [hnk, show nI (32 + s) - 32 = nI (32 + s - 32) from pk_sub (b := 32) (by omega), show 32 + s - 32 = s by omega]
end
section
/-! questions about the program -/
theorem ca_MxY {P : ca_PG} (g h : Nat → Nat) {m : Nat} (hW : ca_WF P) (hp : ∀ q, ca_isP P q → g q = h q) (hn : ∀ q, ¬ ca_isP P q → g q = 0) (h1 : ∀ q, q < 40 → g q ≤ m) (h2 : m = 0 ∨ ∃ q, q < 40 ∧ g q = m) : ca_Mx P h m := by
  refine ⟨fun q hq => by rw [← hp q hq]; exact h1 q (ca_P40 hW hq), ?_⟩
  rcases h2 with z | ⟨q, q1, q2⟩
  · exact Or.inl z
  · by_cases hq : ca_isP P q
    · exact Or.inr ⟨q, hq, by rw [← hp q hq]; exact q2⟩
    · exact Or.inl (by rw [← q2]; exact hn q hq)
section
variable {P : ca_PG} {bL iL oL O c : Nat}
variable {f_phiKind f_jumpKind f_branchKind f_retKind f_far f_registerEnd f_firstSlot f_cellEnd f_edgeCode f_stage f_open f_edges f_points f_greatestPressure f_everLive f_registers f_usedRegisters f_placedBlocks f_codeSize f_current f_returned : Int32} {a_blockStart a_blockPhis a_blockItems a_termKind a_termValue a_termFirst a_termSecond a_itemKind a_itemA a_itemB a_itemBlock a_edgeFrom a_edgeTo a_edgeOrder a_edgeArgs a_edgeSets a_edgeBegin a_edgeEnd a_incoming a_dominators a_depth a_parent a_pointBase a_pointBlock a_pointItem a_pointUses a_live a_distance a_neighbours a_colour a_inRegisters a_location a_hint a_taken a_moveSource a_moveReaders a_codeTo a_codeFrom a_codeSwap a_codeBegin a_codeEnd a_outLog a_params a_cells : Nat → Int32} {g_point g_regs : Int32} {b_term b_dist b_val b_reached b_level b_fresh b_key b_colour : Nat → Int32}
theorem yl_pr13 {post : Int32 → Prop} (hW : ca_WF P) (hD : ca_YD P b_dist) (K : ∀ m, ca_Mx P (ca_lc P) m → post (nI m)) : ∃ n, wY_pressure_13 post (nI bL) (nI iL) (nI oL) f_stage (nI (ca_B P)) (nI (ca_N P)) f_open (nI O) g_point g_regs f_returned a_itemKind a_itemBlock a_itemA a_itemB b_term a_termValue a_termFirst a_termSecond b_dist a_params b_val a_outLog b_reached b_level b_fresh b_key b_colour n 0 0 := by
  refine ca_loop (σ := Int32) (fun n q x => wY_pressure_13 post (nI bL) (nI iL) (nI oL) f_stage (nI (ca_B P)) (nI (ca_N P)) f_open (nI O) g_point g_regs f_returned a_itemKind a_itemBlock a_itemA a_itemB b_term a_termValue a_termFirst a_termSecond b_dist a_params b_val a_outLog b_reached b_level b_fresh b_key b_colour n x (nI q)) (fun q x => ∃ m, m ≤ 32 ∧ x = nI m ∧ (∀ p, p < q → ca_lq P p ≤ m) ∧ (m = 0 ∨ ∃ p, p < q ∧ ca_lq P p = m)) 0 40 (by omega) 0 ⟨0, by omega, rfl, fun p hp => by omega, Or.inl rfl⟩ ?_ ?_
  · rintro n x ⟨m, m1, rfl, m3, m4⟩
    exact br_t (nI_le (a := 40) (b := 40) (Nat.le_refl _) (by decide)) (K m (ca_MxY (ca_lq P) (ca_lc P) hW (fun q hq => ca_lqP hq) (fun q hq => ca_lqN hq) m3 m4))
  · rintro n q x _ hq ⟨m, m1, rfl, m3, m4⟩ ih
    have hl := ca_lq32 hW q
    refine br_f (nI_ge (b := 40) hq (by decide)) (yl_liveCount hW hD hq (pk_le (ca_lq P q) m (fun z => ca_in (ih _ ⟨m, m1, rfl, fun p hp => ?_, ?_⟩)) (fun z => ca_in (ih _ ⟨ca_lq P q, hl, rfl, fun p hp => ?_, Or.inr ⟨q, by omega, rfl⟩⟩))))
    · by_cases e : p = q
      · subst e; exact z
      · exact m3 p (by omega)
    · rcases m4 with y | ⟨p, p1, p2⟩
      · exact Or.inl y
      · exact Or.inr ⟨p, by omega, p2⟩
    · by_cases e : p = q
      · subst e; exact Nat.le_refl _
      · have := m3 p (by omega); omega
theorem yl_ru21 {post : Int32 → Prop} {R : Nat} (hR : R ≤ 6) (hW : ca_WF P) (hD : ca_YD P b_dist) (K : ∀ m, ca_Mx P (fun q => min (ca_lc P q) R) m → post (nI m)) : ∃ n, wY_registersUsed_21 post (nI bL) (nI iL) (nI oL) f_stage (nI (ca_B P)) (nI (ca_N P)) f_open (nI O) g_point (nI R) f_returned a_itemKind a_itemBlock a_itemA a_itemB b_term a_termValue a_termFirst a_termSecond b_dist a_params b_val a_outLog b_reached b_level b_fresh b_key b_colour n 0 0 := by
  refine ca_loop (σ := Int32) (fun n q x => wY_registersUsed_21 post (nI bL) (nI iL) (nI oL) f_stage (nI (ca_B P)) (nI (ca_N P)) f_open (nI O) g_point (nI R) f_returned a_itemKind a_itemBlock a_itemA a_itemB b_term a_termValue a_termFirst a_termSecond b_dist a_params b_val a_outLog b_reached b_level b_fresh b_key b_colour n x (nI q)) (fun q x => ∃ m, m ≤ 32 ∧ x = nI m ∧ (∀ p, p < q → min (ca_lq P p) R ≤ m) ∧ (m = 0 ∨ ∃ p, p < q ∧ min (ca_lq P p) R = m)) 0 40 (by omega) 0 ⟨0, by omega, rfl, fun p hp => by omega, Or.inl rfl⟩ ?_ ?_
  · rintro n x ⟨m, m1, rfl, m3, m4⟩
    exact br_t (nI_le (a := 40) (b := 40) (Nat.le_refl _) (by decide)) (K m (ca_MxY (fun q => min (ca_lq P q) R) (fun q => min (ca_lc P q) R) hW (fun q hq => by show min _ _ = min _ _; rw [ca_lqP hq]) (fun q hq => by show min _ _ = 0; rw [ca_lqN hq]; omega) m3 m4))
  · rintro n q x _ hq ⟨m, m1, rfl, m3, m4⟩ ih
    have hl := ca_lq32 hW q
    have fin : ∀ a x3, a = min (ca_lq P q) R → x3 = nI a → wY_registersUsed_46 post (wY_registersUsed_21 post (nI bL) (nI iL) (nI oL) f_stage (nI (ca_B P)) (nI (ca_N P)) f_open (nI O) g_point (nI R) f_returned a_itemKind a_itemBlock a_itemA a_itemB b_term a_termValue a_termFirst a_termSecond b_dist a_params b_val a_outLog b_reached b_level b_fresh b_key b_colour n) (nI m) (nI q) x3 (nI bL) (nI iL) (nI oL) f_stage (nI (ca_B P)) (nI (ca_N P)) f_open (nI O) g_point (nI R) f_returned a_itemKind a_itemBlock a_itemA a_itemB b_term a_termValue a_termFirst a_termSecond b_dist a_params b_val a_outLog b_reached b_level b_fresh b_key b_colour := by
      intro a x3 ha hx
      subst hx
      refine pk_le a m (fun z => ca_in (ih _ ⟨m, m1, rfl, fun p hp => ?_, ?_⟩)) (fun z => ca_in (ih _ ⟨a, by omega, rfl, fun p hp => ?_, Or.inr ⟨q, by omega, ha.symm⟩⟩))
      · by_cases e : p = q
        · subst e; omega
        · exact m3 p (by omega)
      · rcases m4 with y | ⟨p, p1, p2⟩
        · exact Or.inl y
        · exact Or.inr ⟨p, by omega, p2⟩
      · by_cases e : p = q
        · subst e; omega
        · have := m3 p (by omega); omega
    exact br_f (nI_ge (b := 40) hq (by decide)) (yl_liveCount hW hD hq (pk_le (ca_lq P q) R (fun z => fin (ca_lq P q) _ (by omega) rfl) (fun z => fin R _ (by omega) rfl)))
theorem yl_interfere {post : Int32 → Prop} {a b : Nat} {p0 p1 : Int32} (e0 : p0 = nI a) (e1 : p1 = nI b) (s1 : ¬ f_stage = 0) (hW : ca_WF P) (hD : ca_YD P b_dist) (ha : a < ca_N P) (hb : b < ca_N P) (h1 : ca_If P a b → post 1) (h0 : ¬ ca_If P a b → post 0) : wpY_interfere post ((nI bL), (nI iL), (nI oL), f_stage, (nI (ca_B P)), (nI (ca_N P)), f_open, (nI O), g_point, g_regs, f_returned, a_itemKind, a_itemBlock, a_itemA, a_itemB, b_term, a_termValue, a_termFirst, a_termSecond, b_dist, a_params, b_val, a_outLog, b_reached, b_level, b_fresh, b_key, b_colour) p0 p1 := by
  subst e0 e1
  have hN := ca_wN hW
  refine br_f s1 (br_f (nI_pos (by omega)) (br_f (nI_ge ha (by omega)) (br_f (nI_pos (by omega)) (br_f (nI_ge hb (by omega)) (pk_eq a b (fun z => h0 fun y => y.1 z) (fun z => ?_))))))
  refine ca_loop (σ := Unit) (fun n q _ => wY_interfere_42 post (nI a) (nI b) (nI bL) (nI iL) (nI oL) f_stage (nI (ca_B P)) (nI (ca_N P)) f_open (nI O) g_point g_regs f_returned a_itemKind a_itemBlock a_itemA a_itemB b_term a_termValue a_termFirst a_termSecond b_dist a_params b_val a_outLog b_reached b_level b_fresh b_key b_colour n (nI q)) (fun q _ => ∀ p, p < q → ¬ (ca_isP P p ∧ ca_Lv P a p ∧ ca_Lv P b p)) 0 40 (by omega) () (fun p hp => by omega) ?_ ?_
  · intro n _ hI
    refine br_t (nI_le (a := 40) (b := 40) (Nat.le_refl _) (by decide)) (h0 ?_)
    rintro ⟨_, q, q1, q2, q3⟩
    exact hI q (ca_P40 hW q1) ⟨q1, q2, q3⟩
  · intro n q _ _ hq hI ih
    have nxt : ¬ (ca_isP P q ∧ ca_Lv P a q ∧ ca_Lv P b q) → wY_interfere_42 post (nI a) (nI b) (nI bL) (nI iL) (nI oL) f_stage (nI (ca_B P)) (nI (ca_N P)) f_open (nI O) g_point g_regs f_returned a_itemKind a_itemBlock a_itemA a_itemB b_term a_termValue a_termFirst a_termSecond b_dist a_params b_val a_outLog b_reached b_level b_fresh b_key b_colour n (nI (q + 1)) := by
      intro y
      refine ih () fun p hp => ?_
      by_cases e : p = q
      · subst e; exact y
      · exact hI p (by omega)
    exact br_f (nI_ge (b := 40) hq (by decide)) (yl_live rfl hW hD hq ha (fun x1 x2 => br_f (by decide) (yl_live rfl hW hD hq hb (fun _ x3 => br_f (by decide) (h1 ⟨z, q, x1, x2, x3⟩)) (fun y => br_t rfl (ca_in (nxt fun w => y ⟨w.1, w.2.2⟩))))) (fun y => br_t rfl (ca_in (nxt fun w => y ⟨w.1, w.2.1⟩))))
end
theorem i_vc_pressure {k : Nat} {u : SX} {v : SY} (I : i_Rel k u v) (hk : k + 4 ≤ 2051) : wpX_pressure (fun r => wpY_pressure (fun r' => r' = r ∧ i_Rel (k + 4) u v) v) u := by
  refine ca_el (Q := fun u v => wpX_pressure (fun r => wpY_pressure (fun r' => r' = r ∧ i_Rel (k + 4) u v) v) u) ?_ I
  intro f_phiKind f_jumpKind f_branchKind f_retKind f_far f_registerEnd f_firstSlot f_cellEnd f_edgeCode f_stage f_open f_edges f_points f_greatestPressure f_everLive f_registers f_usedRegisters f_placedBlocks f_codeSize f_current f_returned a_blockStart a_blockPhis a_blockItems a_termKind a_termValue a_termFirst a_termSecond a_itemKind a_itemA a_itemB a_itemBlock a_edgeFrom a_edgeTo a_edgeOrder a_edgeArgs a_edgeSets a_edgeBegin a_edgeEnd a_incoming a_dominators a_depth a_parent a_pointBase a_pointBlock a_pointItem a_pointUses a_live a_distance a_neighbours a_colour a_inRegisters a_location a_hint a_taken a_moveSource a_moveReaders a_codeTo a_codeFrom a_codeSwap a_codeBegin a_codeEnd a_outLog a_params a_cells g_point g_regs b_term b_dist b_val b_reached b_level b_fresh b_key b_colour P bL iL oL O c h0 hs
  have same : i_Rel (k + 4) (f_phiKind, f_jumpKind, f_branchKind, f_retKind, f_far, f_registerEnd, f_firstSlot, f_cellEnd, f_edgeCode, (nI bL), (nI iL), (nI oL), f_stage, f_open, (nI (ca_B P)), (nI (ca_N P)), f_edges, f_points, f_greatestPressure, f_everLive, f_registers, f_usedRegisters, f_placedBlocks, f_codeSize, f_current, f_returned, (nI O), a_blockStart, a_blockPhis, a_blockItems, a_termKind, a_termValue, a_termFirst, a_termSecond, a_itemKind, a_itemA, a_itemB, a_itemBlock, a_edgeFrom, a_edgeTo, a_edgeOrder, a_edgeArgs, a_edgeSets, a_edgeBegin, a_edgeEnd, a_incoming, a_dominators, a_depth, a_parent, a_pointBase, a_pointBlock, a_pointItem, a_pointUses, a_live, a_distance, a_neighbours, a_colour, a_inRegisters, a_location, a_hint, a_taken, a_moveSource, a_moveReaders, a_codeTo, a_codeFrom, a_codeSwap, a_codeBegin, a_codeEnd, a_outLog, a_params, a_cells) ((nI bL), (nI iL), (nI oL), f_stage, (nI (ca_B P)), (nI (ca_N P)), f_open, (nI O), g_point, g_regs, f_returned, a_itemKind, a_itemBlock, a_itemA, a_itemB, b_term, a_termValue, a_termFirst, a_termSecond, b_dist, a_params, b_val, a_outLog, b_reached, b_level, b_fresh, b_key, b_colour) := ca_mk (k + 4) h0 hs
  have h0' := h0
  obtain ⟨q1, q2, q3, q4, q5, q6, q7, q8, q9, qW, qI, qo, qP, qb, qT, qA, qY⟩ := h0
  have hB := ca_wB qW
  have hN := ca_wN qW
  have imm : f_stage = 0 → wpX_pressure (fun r => wpY_pressure (fun r' => r' = r ∧ i_Rel (k + 4) (f_phiKind, f_jumpKind, f_branchKind, f_retKind, f_far, f_registerEnd, f_firstSlot, f_cellEnd, f_edgeCode, (nI bL), (nI iL), (nI oL), f_stage, f_open, (nI (ca_B P)), (nI (ca_N P)), f_edges, f_points, f_greatestPressure, f_everLive, f_registers, f_usedRegisters, f_placedBlocks, f_codeSize, f_current, f_returned, (nI O), a_blockStart, a_blockPhis, a_blockItems, a_termKind, a_termValue, a_termFirst, a_termSecond, a_itemKind, a_itemA, a_itemB, a_itemBlock, a_edgeFrom, a_edgeTo, a_edgeOrder, a_edgeArgs, a_edgeSets, a_edgeBegin, a_edgeEnd, a_incoming, a_dominators, a_depth, a_parent, a_pointBase, a_pointBlock, a_pointItem, a_pointUses, a_live, a_distance, a_neighbours, a_colour, a_inRegisters, a_location, a_hint, a_taken, a_moveSource, a_moveReaders, a_codeTo, a_codeFrom, a_codeSwap, a_codeBegin, a_codeEnd, a_outLog, a_params, a_cells) ((nI bL), (nI iL), (nI oL), f_stage, (nI (ca_B P)), (nI (ca_N P)), f_open, (nI O), g_point, g_regs, f_returned, a_itemKind, a_itemBlock, a_itemA, a_itemB, b_term, a_termValue, a_termFirst, a_termSecond, b_dist, a_params, b_val, a_outLog, b_reached, b_level, b_fresh, b_key, b_colour)) ((nI bL), (nI iL), (nI oL), f_stage, (nI (ca_B P)), (nI (ca_N P)), f_open, (nI O), g_point, g_regs, f_returned, a_itemKind, a_itemBlock, a_itemA, a_itemB, b_term, a_termValue, a_termFirst, a_termSecond, b_dist, a_params, b_val, a_outLog, b_reached, b_level, b_fresh, b_key, b_colour)) (f_phiKind, f_jumpKind, f_branchKind, f_retKind, f_far, f_registerEnd, f_firstSlot, f_cellEnd, f_edgeCode, (nI bL), (nI iL), (nI oL), f_stage, f_open, (nI (ca_B P)), (nI (ca_N P)), f_edges, f_points, f_greatestPressure, f_everLive, f_registers, f_usedRegisters, f_placedBlocks, f_codeSize, f_current, f_returned, (nI O), a_blockStart, a_blockPhis, a_blockItems, a_termKind, a_termValue, a_termFirst, a_termSecond, a_itemKind, a_itemA, a_itemB, a_itemBlock, a_edgeFrom, a_edgeTo, a_edgeOrder, a_edgeArgs, a_edgeSets, a_edgeBegin, a_edgeEnd, a_incoming, a_dominators, a_depth, a_parent, a_pointBase, a_pointBlock, a_pointItem, a_pointUses, a_live, a_distance, a_neighbours, a_colour, a_inRegisters, a_location, a_hint, a_taken, a_moveSource, a_moveReaders, a_codeTo, a_codeFrom, a_codeSwap, a_codeBegin, a_codeEnd, a_outLog, a_params, a_cells) := fun z => br_t z (br_t z ⟨rfl, same⟩)
  rcases hs with s0 | ⟨hF1, hst⟩
  · exact imm s0
  have s1 : ¬ f_stage = 0 := by
    rcases hst with z | ⟨_, ⟨z, _⟩ | z⟩ <;> rw [z] <;> decide
  have hF1' := hF1
  obtain ⟨r1, r2, r3, r4, r5, r6, r7, r8, r9, r10, r11, r12, r13, r14, r15, r16, r17, r18, r19, r20⟩ := hF1
  subst r7 r8
  have hc := ca_op0 qo r1
  obtain ⟨g, g1, g2, g3⟩ := r19
  refine br_f s1 (br_f s1 (yl_pr13 qW r20 (fun m hm => ⟨?_, same⟩)))
  rw [g2, ca_MxU hm g3]
theorem i_vc_registersUsed {k : Nat} {u : SX} {v : SY} (I : i_Rel k u v) (hk : k + 4 ≤ 2051) : wpX_registersUsed (fun r => wpY_registersUsed (fun r' => r' = r ∧ i_Rel (k + 4) u v) v) u := by
  refine ca_el (Q := fun u v => wpX_registersUsed (fun r => wpY_registersUsed (fun r' => r' = r ∧ i_Rel (k + 4) u v) v) u) ?_ I
  intro f_phiKind f_jumpKind f_branchKind f_retKind f_far f_registerEnd f_firstSlot f_cellEnd f_edgeCode f_stage f_open f_edges f_points f_greatestPressure f_everLive f_registers f_usedRegisters f_placedBlocks f_codeSize f_current f_returned a_blockStart a_blockPhis a_blockItems a_termKind a_termValue a_termFirst a_termSecond a_itemKind a_itemA a_itemB a_itemBlock a_edgeFrom a_edgeTo a_edgeOrder a_edgeArgs a_edgeSets a_edgeBegin a_edgeEnd a_incoming a_dominators a_depth a_parent a_pointBase a_pointBlock a_pointItem a_pointUses a_live a_distance a_neighbours a_colour a_inRegisters a_location a_hint a_taken a_moveSource a_moveReaders a_codeTo a_codeFrom a_codeSwap a_codeBegin a_codeEnd a_outLog a_params a_cells g_point g_regs b_term b_dist b_val b_reached b_level b_fresh b_key b_colour P bL iL oL O c h0 hs
  have same : i_Rel (k + 4) (f_phiKind, f_jumpKind, f_branchKind, f_retKind, f_far, f_registerEnd, f_firstSlot, f_cellEnd, f_edgeCode, (nI bL), (nI iL), (nI oL), f_stage, f_open, (nI (ca_B P)), (nI (ca_N P)), f_edges, f_points, f_greatestPressure, f_everLive, f_registers, f_usedRegisters, f_placedBlocks, f_codeSize, f_current, f_returned, (nI O), a_blockStart, a_blockPhis, a_blockItems, a_termKind, a_termValue, a_termFirst, a_termSecond, a_itemKind, a_itemA, a_itemB, a_itemBlock, a_edgeFrom, a_edgeTo, a_edgeOrder, a_edgeArgs, a_edgeSets, a_edgeBegin, a_edgeEnd, a_incoming, a_dominators, a_depth, a_parent, a_pointBase, a_pointBlock, a_pointItem, a_pointUses, a_live, a_distance, a_neighbours, a_colour, a_inRegisters, a_location, a_hint, a_taken, a_moveSource, a_moveReaders, a_codeTo, a_codeFrom, a_codeSwap, a_codeBegin, a_codeEnd, a_outLog, a_params, a_cells) ((nI bL), (nI iL), (nI oL), f_stage, (nI (ca_B P)), (nI (ca_N P)), f_open, (nI O), g_point, g_regs, f_returned, a_itemKind, a_itemBlock, a_itemA, a_itemB, b_term, a_termValue, a_termFirst, a_termSecond, b_dist, a_params, b_val, a_outLog, b_reached, b_level, b_fresh, b_key, b_colour) := ca_mk (k + 4) h0 hs
  have h0' := h0
  obtain ⟨q1, q2, q3, q4, q5, q6, q7, q8, q9, qW, qI, qo, qP, qb, qT, qA, qY⟩ := h0
  have hB := ca_wB qW
  have hN := ca_wN qW
  have imm : f_stage = 0 → wpX_registersUsed (fun r => wpY_registersUsed (fun r' => r' = r ∧ i_Rel (k + 4) (f_phiKind, f_jumpKind, f_branchKind, f_retKind, f_far, f_registerEnd, f_firstSlot, f_cellEnd, f_edgeCode, (nI bL), (nI iL), (nI oL), f_stage, f_open, (nI (ca_B P)), (nI (ca_N P)), f_edges, f_points, f_greatestPressure, f_everLive, f_registers, f_usedRegisters, f_placedBlocks, f_codeSize, f_current, f_returned, (nI O), a_blockStart, a_blockPhis, a_blockItems, a_termKind, a_termValue, a_termFirst, a_termSecond, a_itemKind, a_itemA, a_itemB, a_itemBlock, a_edgeFrom, a_edgeTo, a_edgeOrder, a_edgeArgs, a_edgeSets, a_edgeBegin, a_edgeEnd, a_incoming, a_dominators, a_depth, a_parent, a_pointBase, a_pointBlock, a_pointItem, a_pointUses, a_live, a_distance, a_neighbours, a_colour, a_inRegisters, a_location, a_hint, a_taken, a_moveSource, a_moveReaders, a_codeTo, a_codeFrom, a_codeSwap, a_codeBegin, a_codeEnd, a_outLog, a_params, a_cells) ((nI bL), (nI iL), (nI oL), f_stage, (nI (ca_B P)), (nI (ca_N P)), f_open, (nI O), g_point, g_regs, f_returned, a_itemKind, a_itemBlock, a_itemA, a_itemB, b_term, a_termValue, a_termFirst, a_termSecond, b_dist, a_params, b_val, a_outLog, b_reached, b_level, b_fresh, b_key, b_colour)) ((nI bL), (nI iL), (nI oL), f_stage, (nI (ca_B P)), (nI (ca_N P)), f_open, (nI O), g_point, g_regs, f_returned, a_itemKind, a_itemBlock, a_itemA, a_itemB, b_term, a_termValue, a_termFirst, a_termSecond, b_dist, a_params, b_val, a_outLog, b_reached, b_level, b_fresh, b_key, b_colour)) (f_phiKind, f_jumpKind, f_branchKind, f_retKind, f_far, f_registerEnd, f_firstSlot, f_cellEnd, f_edgeCode, (nI bL), (nI iL), (nI oL), f_stage, f_open, (nI (ca_B P)), (nI (ca_N P)), f_edges, f_points, f_greatestPressure, f_everLive, f_registers, f_usedRegisters, f_placedBlocks, f_codeSize, f_current, f_returned, (nI O), a_blockStart, a_blockPhis, a_blockItems, a_termKind, a_termValue, a_termFirst, a_termSecond, a_itemKind, a_itemA, a_itemB, a_itemBlock, a_edgeFrom, a_edgeTo, a_edgeOrder, a_edgeArgs, a_edgeSets, a_edgeBegin, a_edgeEnd, a_incoming, a_dominators, a_depth, a_parent, a_pointBase, a_pointBlock, a_pointItem, a_pointUses, a_live, a_distance, a_neighbours, a_colour, a_inRegisters, a_location, a_hint, a_taken, a_moveSource, a_moveReaders, a_codeTo, a_codeFrom, a_codeSwap, a_codeBegin, a_codeEnd, a_outLog, a_params, a_cells) := fun z => br_t z (br_t z ⟨rfl, same⟩)
  rcases hs with s0 | ⟨hF1, hst⟩
  · exact imm s0
  have s1 : ¬ f_stage = 0 := by
    rcases hst with z | ⟨_, ⟨z, _⟩ | z⟩ <;> rw [z] <;> decide
  have hF1' := hF1
  obtain ⟨r1, r2, r3, r4, r5, r6, r7, r8, r9, r10, r11, r12, r13, r14, r15, r16, r17, r18, r19, r20⟩ := hF1
  subst r7 r8
  have hc := ca_op0 qo r1
  rcases hst with z | ⟨⟨R, M, z, e1, e2, hA⟩, hst⟩
  · exact br_f s1 (br_t z (br_f s1 (br_t z ⟨rfl, same⟩)))
  have s2 : ¬ f_stage = 1 := by
    rcases hst with ⟨z, _⟩ | z <;> rw [z] <;> decide
  subst e1 e2
  refine br_f s1 (br_f s2 (xl_countBits _ (br_f s1 (br_f s2 (yl_ru21 hA.2.1 qW r20 (fun m hm => ⟨?_, same⟩))))))
  rw [ca_used qW hA.2.1 hA.2.2.1 hA.2.2.2.2.1 hA.2.2.2.2.2.1, ca_MxU hm hA.2.2.1]
theorem i_vc_interfere {k : Nat} {u : SX} {v : SY} (I : i_Rel k u v) (hk : k + 4 ≤ 2051) (v1 : Int32) (v2 : Int32) : wpX_interfere (fun r => wpY_interfere (fun r' => r' = r ∧ i_Rel (k + 4) u v) v v1 v2) u v1 v2 := by
  refine ca_el (Q := fun u v => wpX_interfere (fun r => wpY_interfere (fun r' => r' = r ∧ i_Rel (k + 4) u v) v v1 v2) u v1 v2) ?_ I
  intro f_phiKind f_jumpKind f_branchKind f_retKind f_far f_registerEnd f_firstSlot f_cellEnd f_edgeCode f_stage f_open f_edges f_points f_greatestPressure f_everLive f_registers f_usedRegisters f_placedBlocks f_codeSize f_current f_returned a_blockStart a_blockPhis a_blockItems a_termKind a_termValue a_termFirst a_termSecond a_itemKind a_itemA a_itemB a_itemBlock a_edgeFrom a_edgeTo a_edgeOrder a_edgeArgs a_edgeSets a_edgeBegin a_edgeEnd a_incoming a_dominators a_depth a_parent a_pointBase a_pointBlock a_pointItem a_pointUses a_live a_distance a_neighbours a_colour a_inRegisters a_location a_hint a_taken a_moveSource a_moveReaders a_codeTo a_codeFrom a_codeSwap a_codeBegin a_codeEnd a_outLog a_params a_cells g_point g_regs b_term b_dist b_val b_reached b_level b_fresh b_key b_colour P bL iL oL O c h0 hs
  have same : i_Rel (k + 4) (f_phiKind, f_jumpKind, f_branchKind, f_retKind, f_far, f_registerEnd, f_firstSlot, f_cellEnd, f_edgeCode, (nI bL), (nI iL), (nI oL), f_stage, f_open, (nI (ca_B P)), (nI (ca_N P)), f_edges, f_points, f_greatestPressure, f_everLive, f_registers, f_usedRegisters, f_placedBlocks, f_codeSize, f_current, f_returned, (nI O), a_blockStart, a_blockPhis, a_blockItems, a_termKind, a_termValue, a_termFirst, a_termSecond, a_itemKind, a_itemA, a_itemB, a_itemBlock, a_edgeFrom, a_edgeTo, a_edgeOrder, a_edgeArgs, a_edgeSets, a_edgeBegin, a_edgeEnd, a_incoming, a_dominators, a_depth, a_parent, a_pointBase, a_pointBlock, a_pointItem, a_pointUses, a_live, a_distance, a_neighbours, a_colour, a_inRegisters, a_location, a_hint, a_taken, a_moveSource, a_moveReaders, a_codeTo, a_codeFrom, a_codeSwap, a_codeBegin, a_codeEnd, a_outLog, a_params, a_cells) ((nI bL), (nI iL), (nI oL), f_stage, (nI (ca_B P)), (nI (ca_N P)), f_open, (nI O), g_point, g_regs, f_returned, a_itemKind, a_itemBlock, a_itemA, a_itemB, b_term, a_termValue, a_termFirst, a_termSecond, b_dist, a_params, b_val, a_outLog, b_reached, b_level, b_fresh, b_key, b_colour) := ca_mk (k + 4) h0 hs
  have h0' := h0
  obtain ⟨q1, q2, q3, q4, q5, q6, q7, q8, q9, qW, qI, qo, qP, qb, qT, qA, qY⟩ := h0
  have hB := ca_wB qW
  have hN := ca_wN qW
  have imm : f_stage = 0 → wpX_interfere (fun r => wpY_interfere (fun r' => r' = r ∧ i_Rel (k + 4) (f_phiKind, f_jumpKind, f_branchKind, f_retKind, f_far, f_registerEnd, f_firstSlot, f_cellEnd, f_edgeCode, (nI bL), (nI iL), (nI oL), f_stage, f_open, (nI (ca_B P)), (nI (ca_N P)), f_edges, f_points, f_greatestPressure, f_everLive, f_registers, f_usedRegisters, f_placedBlocks, f_codeSize, f_current, f_returned, (nI O), a_blockStart, a_blockPhis, a_blockItems, a_termKind, a_termValue, a_termFirst, a_termSecond, a_itemKind, a_itemA, a_itemB, a_itemBlock, a_edgeFrom, a_edgeTo, a_edgeOrder, a_edgeArgs, a_edgeSets, a_edgeBegin, a_edgeEnd, a_incoming, a_dominators, a_depth, a_parent, a_pointBase, a_pointBlock, a_pointItem, a_pointUses, a_live, a_distance, a_neighbours, a_colour, a_inRegisters, a_location, a_hint, a_taken, a_moveSource, a_moveReaders, a_codeTo, a_codeFrom, a_codeSwap, a_codeBegin, a_codeEnd, a_outLog, a_params, a_cells) ((nI bL), (nI iL), (nI oL), f_stage, (nI (ca_B P)), (nI (ca_N P)), f_open, (nI O), g_point, g_regs, f_returned, a_itemKind, a_itemBlock, a_itemA, a_itemB, b_term, a_termValue, a_termFirst, a_termSecond, b_dist, a_params, b_val, a_outLog, b_reached, b_level, b_fresh, b_key, b_colour)) ((nI bL), (nI iL), (nI oL), f_stage, (nI (ca_B P)), (nI (ca_N P)), f_open, (nI O), g_point, g_regs, f_returned, a_itemKind, a_itemBlock, a_itemA, a_itemB, b_term, a_termValue, a_termFirst, a_termSecond, b_dist, a_params, b_val, a_outLog, b_reached, b_level, b_fresh, b_key, b_colour) v1 v2) (f_phiKind, f_jumpKind, f_branchKind, f_retKind, f_far, f_registerEnd, f_firstSlot, f_cellEnd, f_edgeCode, (nI bL), (nI iL), (nI oL), f_stage, f_open, (nI (ca_B P)), (nI (ca_N P)), f_edges, f_points, f_greatestPressure, f_everLive, f_registers, f_usedRegisters, f_placedBlocks, f_codeSize, f_current, f_returned, (nI O), a_blockStart, a_blockPhis, a_blockItems, a_termKind, a_termValue, a_termFirst, a_termSecond, a_itemKind, a_itemA, a_itemB, a_itemBlock, a_edgeFrom, a_edgeTo, a_edgeOrder, a_edgeArgs, a_edgeSets, a_edgeBegin, a_edgeEnd, a_incoming, a_dominators, a_depth, a_parent, a_pointBase, a_pointBlock, a_pointItem, a_pointUses, a_live, a_distance, a_neighbours, a_colour, a_inRegisters, a_location, a_hint, a_taken, a_moveSource, a_moveReaders, a_codeTo, a_codeFrom, a_codeSwap, a_codeBegin, a_codeEnd, a_outLog, a_params, a_cells) v1 v2 := fun z => br_t z (br_t z ⟨rfl, same⟩)
  rcases hs with s0 | ⟨hF1, hst⟩
  · exact imm s0
  have s1 : ¬ f_stage = 0 := by
    rcases hst with z | ⟨_, ⟨z, _⟩ | z⟩ <;> rw [z] <;> decide
  have hF1' := hF1
  obtain ⟨r1, r2, r3, r4, r5, r6, r7, r8, r9, r10, r11, r12, r13, r14, r15, r16, r17, r18, r19, r20⟩ := hF1
  subst r7 r8
  have hc := ca_op0 qo r1
  have bad : ∀ {A B : Prop} {x : Int32}, ¬ ca_nd x (ca_N P) → A → (x < 0 → A) ∧ (¬ x < 0 → (nI (ca_N P) ≤ x → A) ∧ (¬ nI (ca_N P) ≤ x → B)) := fun {A B x} h a => ca_ndX (by omega) (fun y => absurd y h) (fun _ => a)
  refine br_f s1 (xl_isItem hN (fun h1 => br_f (by decide) ?_) (fun h => br_t rfl (br_f s1 (bad h ⟨rfl, same⟩))))
  obtain ⟨a, a1, a2⟩ := h1
  subst a2
  refine xl_isItem hN (fun h1 => br_f (by decide) ?_) (fun h => br_t rfl (br_f s1 (br_f (nI_pos (by omega)) (br_f (nI_ge a1 (by omega)) (bad h ⟨rfl, same⟩)))))
  obtain ⟨b, b1, b2⟩ := h1
  subst b2
  refine pk_eq a b (fun z => yl_interfere rfl rfl s1 qW r20 a1 b1 (fun y => absurd z y.1) (fun _ => ⟨rfl, same⟩)) (fun z => ca_vi (xl_has _ rfl (by omega) (fun hb => ⟨narrow_b1, yl_interfere rfl rfl s1 qW r20 a1 b1 (fun _ => ⟨rfl, same⟩) (fun y => ?_)⟩) (fun hb => ⟨narrow_b0, yl_interfere rfl rfl s1 qW r20 a1 b1 (fun y => ?_) (fun _ => ⟨rfl, same⟩)⟩)))
  · rw [nI_clamp (n := a) (by omega)] at hb
    exact absurd ((r17 a a1 b).mp hb).2 y
  · rw [nI_clamp (n := a) (by omega)] at hb
    exact absurd ((r17 a a1 b).mpr ⟨b1, y⟩) (ca_ff hb)
end
section
/-! colours, asked of the reference -/
section
variable {P : ca_PG}
theorem ca_CIskip2 {z y : Nat} {c : Nat → Int32} (h : ca_CI P z c) (hzy : z ≤ y) (hk : ∀ x, x < ca_N P → z ≤ ca_key P x → ca_key P x < y → ¬ ca_EL P x) : ca_CI P y c := by
  obtain ⟨h1, h2, h3⟩ := h
  refine ⟨fun w hw hl => ?_, fun w hw hl => h2 w hw (by omega), fun w hw => ?_⟩
  · rcases Nat.lt_or_ge (ca_key P w) z with q | q
    · exact h1 w hw q
    · exact ⟨fun _ => h2 w hw q, fun e => absurd e (hk w hw q hl)⟩
  · rw [ca_cn_eq (P := fun x => ca_key P x < y ∧ ca_EL P x) (Q := fun x => ca_key P x < z ∧ ca_EL P x) (fun x hx => ⟨fun q => ⟨?_, q.2⟩, fun q => ⟨by have := q.1; omega, q.2⟩⟩)]
    · exact h3 w hw
    · rcases Nat.lt_or_ge (ca_key P x) z with p | p
      · exact p
      · exact absurd q.2 (hk x hx p q.1)
theorem ca_keyle (hW : ca_WF P) {w : Nat} (hw : w < ca_N P) : ca_key P w < 4000 := by
  have h1 := ca_dpB (P := P) (ca_bl P w)
  have h2 := (ca_wb hW hw).1
  have h3 := ca_wB hW
  have h4 := ca_wN hW
  unfold ca_key
  omega
theorem ca_keyI (w : Nat) : (nI (ca_dp P (ca_bl P w)) * 8 + nI (ca_bl P w)) * 32 + nI w = nI (ca_key P w) := by
  rw [show (8 : Int32) = nI 8 from rfl, pk_mul, nI_add, ca_mul32]
  rfl
/-- the keys -/
def ca_KY (P : ca_PG) (n : Nat) (ky : Nat → Int32) : Prop := ∀ x, x < n → (ca_EL P x → ky x = nI (ca_key P x)) ∧ (¬ ca_EL P x → ky x = -1)
theorem ca_CIc {z : Nat} {c : Nat → Int32} (h : ca_CI P z c) {x : Nat} (hx : x < ca_N P) (hE : ca_EL P x) : (ca_key P x < z ∧ ∃ k, k < 32 ∧ c x = nI k) ∨ (z ≤ ca_key P x ∧ c x = -1) := by
  rcases Nat.lt_or_ge (ca_key P x) z with q | q
  · obtain ⟨k, k1, k2, _⟩ := (h.1 x hx q).2 hE
    exact Or.inl ⟨q, k, k1, k2⟩
  · exact Or.inr ⟨q, h.2.1 x hx q⟩
end
section
variable {P : ca_PG} {bL iL oL O c : Nat}
variable {f_phiKind f_jumpKind f_branchKind f_retKind f_far f_registerEnd f_firstSlot f_cellEnd f_edgeCode f_stage f_open f_edges f_points f_greatestPressure f_everLive f_registers f_usedRegisters f_placedBlocks f_codeSize f_current f_returned : Int32} {a_blockStart a_blockPhis a_blockItems a_termKind a_termValue a_termFirst a_termSecond a_itemKind a_itemA a_itemB a_itemBlock a_edgeFrom a_edgeTo a_edgeOrder a_edgeArgs a_edgeSets a_edgeBegin a_edgeEnd a_incoming a_dominators a_depth a_parent a_pointBase a_pointBlock a_pointItem a_pointUses a_live a_distance a_neighbours a_colour a_inRegisters a_location a_hint a_taken a_moveSource a_moveReaders a_codeTo a_codeFrom a_codeSwap a_codeBegin a_codeEnd a_outLog a_params a_cells : Nat → Int32} {g_point g_regs : Int32} {b_term b_dist b_val b_reached b_level b_fresh b_key b_colour : Nat → Int32}
theorem yl_co214 {post : Int32 → SY → Prop} {J114 : Int32 → (Nat → Int32) → (Nat → Int32) → (Nat → Int32) → (Nat → Int32) → (Nat → Int32) → (Nat → Int32) → (Nat → Int32) → (Nat → Int32) → (Nat → Int32) → (Nat → Int32) → (Nat → Int32) → (Nat → Int32) → (Nat → Int32) → (Nat → Int32) → (Nat → Int32) → (Nat → Int32) → (Nat → Int32) → Prop} {J188 : Int32 → (Nat → Int32) → (Nat → Int32) → (Nat → Int32) → (Nat → Int32) → (Nat → Int32) → (Nat → Int32) → (Nat → Int32) → (Nat → Int32) → (Nat → Int32) → (Nat → Int32) → (Nat → Int32) → (Nat → Int32) → (Nat → Int32) → (Nat → Int32) → (Nat → Int32) → (Nat → Int32) → (Nat → Int32) → Prop} {x1 x2 : Int32} {w d : Nat} (s1 : ¬ f_stage = 0) (hW : ca_WF P) (hD : ca_YD P b_dist) (hw : w < ca_N P) (hd : d < 32) (hcol : ∀ x, x < ca_N P → b_colour x = -1 ∨ ∃ k, k < 32 ∧ b_colour x = nI k) (K1 : (∀ x, x < ca_N P → ca_If P w x → b_colour x ≠ nI d) → J188 (nI (d + 1)) a_itemKind a_itemBlock a_itemA a_itemB b_term a_termValue a_termFirst a_termSecond b_dist a_params b_val a_outLog b_reached b_level b_fresh b_key (upd b_colour w (nI d))) (K0 : (∃ x, x < ca_N P ∧ ca_If P w x ∧ b_colour x = nI d) → J188 (nI (d + 1)) a_itemKind a_itemBlock a_itemA a_itemB b_term a_termValue a_termFirst a_termSecond b_dist a_params b_val a_outLog b_reached b_level b_fresh b_key b_colour) : ∃ n, wY_colourOf_214 post J114 J188 x1 x2 (nI w) (nI d) (nI bL) (nI iL) (nI oL) f_stage (nI (ca_B P)) (nI (ca_N P)) f_open (nI O) g_point g_regs f_returned a_itemKind a_itemBlock a_itemA a_itemB b_term a_termValue a_termFirst a_termSecond b_dist a_params b_val a_outLog b_reached b_level b_fresh b_key b_colour n 0 0 := by
  have hN := ca_wN hW
  refine ca_loop (σ := Int32) (fun n i x => wY_colourOf_214 post J114 J188 x1 x2 (nI w) (nI d) (nI bL) (nI iL) (nI oL) f_stage (nI (ca_B P)) (nI (ca_N P)) f_open (nI O) g_point g_regs f_returned a_itemKind a_itemBlock a_itemA a_itemB b_term a_termValue a_termFirst a_termSecond b_dist a_params b_val a_outLog b_reached b_level b_fresh b_key b_colour n x (nI i)) (fun i x => (x = 0 ∧ ∀ y, y < i → ca_If P w y → b_colour y ≠ nI d) ∨ (x = 1 ∧ ∃ y, y < ca_N P ∧ ca_If P w y ∧ b_colour y = nI d)) 0 (ca_N P) (by omega) 0 (Or.inl ⟨rfl, fun y hy => by omega⟩) ?_ ?_
  · intro n x hx
    refine br_t (nI_le (Nat.le_refl _) (by omega)) ?_
    rcases hx with ⟨x0, hx⟩ | ⟨x0, hx⟩
    · exact br_t x0 (ca_vi (ca_wr (ca_in (K1 hx))))
    · exact br_f (by rw [x0]; decide) (ca_in (K0 hx))
  · intro n i x _ hi hx ih
    have stay : (ca_If P w i → b_colour i ≠ nI d) → wY_colourOf_214 post J114 J188 x1 x2 (nI w) (nI d) (nI bL) (nI iL) (nI oL) f_stage (nI (ca_B P)) (nI (ca_N P)) f_open (nI O) g_point g_regs f_returned a_itemKind a_itemBlock a_itemA a_itemB b_term a_termValue a_termFirst a_termSecond b_dist a_params b_val a_outLog b_reached b_level b_fresh b_key b_colour n x (nI (i + 1)) := by
      intro z
      refine ih x ?_
      rcases hx with ⟨x0, hx⟩ | hx
      · refine Or.inl ⟨x0, fun y hy hI => ?_⟩
        by_cases e : y = i
        · subst e; exact z hI
        · exact hx y (by omega) hI
      · exact Or.inr hx
    refine br_f (nI_ge hi (by omega)) (ca_vi ?_)
    rw [nI_clamp (n := i) (by omega)]
    refine br_c (fun z => yl_interfere rfl rfl s1 hW hD hi hw (fun h => br_f (by decide) (ca_in (ih 1 (Or.inr ⟨rfl, i, hi, ca_Ifs h, z⟩)))) (fun h => br_t rfl (ca_in (stay fun y => absurd (ca_Ifs y) h)))) (fun z => ca_in (stay fun _ => z))
theorem yl_co188 {post : Int32 → SY → Prop} {J114 : Int32 → (Nat → Int32) → (Nat → Int32) → (Nat → Int32) → (Nat → Int32) → (Nat → Int32) → (Nat → Int32) → (Nat → Int32) → (Nat → Int32) → (Nat → Int32) → (Nat → Int32) → (Nat → Int32) → (Nat → Int32) → (Nat → Int32) → (Nat → Int32) → (Nat → Int32) → (Nat → Int32) → (Nat → Int32) → Prop} {x1 : Int32} {w r : Nat} (s1 : ¬ f_stage = 0) (hW : ca_WF P) (hD : ca_YD P b_dist) (hw : w < ca_N P) (hCI : ca_CI P (ca_key P w) b_colour) (hcol : ∀ x, x < ca_N P → b_colour x = -1 ∨ ∃ k, k < 32 ∧ b_colour x = nI k) (K : ∀ k, (∀ x, x < ca_N P → ca_If P w x → b_colour x ≠ nI k) → (∀ j, j < k → ∃ x, x < ca_N P ∧ ca_If P w x ∧ b_colour x = nI j) → J114 (nI (r + 1)) a_itemKind a_itemBlock a_itemA a_itemB b_term a_termValue a_termFirst a_termSecond b_dist a_params b_val a_outLog b_reached b_level b_fresh b_key (upd b_colour w (nI k))) : ∃ n, wY_colourOf_188 post J114 x1 (nI r) (nI w) (nI bL) (nI iL) (nI oL) f_stage (nI (ca_B P)) (nI (ca_N P)) f_open (nI O) g_point g_regs f_returned n 0 a_itemKind a_itemBlock a_itemA a_itemB b_term a_termValue a_termFirst a_termSecond b_dist a_params b_val a_outLog b_reached b_level b_fresh b_key b_colour := by
  have hN := ca_wN hW
  have hcnt := ca_CIcnt hW hw
  have hw1 := hCI.2.1 w hw (Nat.le_refl _)
  refine ca_loop (σ := Nat → Int32) (fun n d s => wY_colourOf_188 post J114 x1 (nI r) (nI w) (nI bL) (nI iL) (nI oL) f_stage (nI (ca_B P)) (nI (ca_N P)) f_open (nI O) g_point g_regs f_returned n (nI d) a_itemKind a_itemBlock a_itemA a_itemB b_term a_termValue a_termFirst a_termSecond b_dist a_params b_val a_outLog b_reached b_level b_fresh b_key s) (fun d s => (s = b_colour ∧ ∀ j, j < d → ∃ x, x < ca_N P ∧ ca_If P w x ∧ b_colour x = nI j) ∨ (∃ k, k < 32 ∧ s = upd b_colour w (nI k) ∧ (∀ x, x < ca_N P → ca_If P w x → b_colour x ≠ nI k) ∧ (∀ j, j < k → ∃ x, x < ca_N P ∧ ca_If P w x ∧ b_colour x = nI j))) 0 32 (by omega) b_colour (Or.inl ⟨rfl, fun j hj => by omega⟩) ?_ ?_
  · rintro n s (⟨e, h⟩ | ⟨k, k0, e, k1, k2⟩)
    · obtain ⟨x, xa, xb, xc⟩ := h 31 (by omega)
      rcases hCI.2.2 x xa with z | ⟨j, j1, j2⟩
      · rw [xc] at z; exact absurd z (ca_nm1 (by omega))
      · rw [xc] at j2
        have := ca_ninj j2 (by omega) (by omega)
        omega
    · subst e
      exact br_t (nI_le (a := 32) (b := 32) (Nat.le_refl _) (by decide)) (ca_in (K k k1 k2))
  · rintro n d s _ hd (⟨e, h⟩ | ⟨k, k0, e, k1, k2⟩) ih
    · subst e
      refine br_f (nI_ge (b := 32) hd (by decide)) (ca_lt0 (ca_vi ?_))
      rw [nI_clamp (n := w) (by omega)]
      refine br_f (by rw [hw1]; decide) (yl_co214 s1 hW hD hw hd hcol (fun hn => ih _ (Or.inr ⟨d, hd, rfl, hn, h⟩)) (fun hy => ih s (Or.inl ⟨rfl, fun j hj => ?_⟩)))
      by_cases e : j = d
      · subst e; exact hy
      · exact h j (by omega)
    · subst e
      refine br_f (nI_ge (b := 32) hd (by decide)) (ca_lt0 (ca_vi ?_))
      rw [nI_clamp (n := w) (by omega), pk_us]
      exact br_t (nI_pos' (by omega)) (ca_in (K k k1 k2))
theorem yl_co127 {post : Int32 → SY → Prop} {J114 : Int32 → (Nat → Int32) → (Nat → Int32) → (Nat → Int32) → (Nat → Int32) → (Nat → Int32) → (Nat → Int32) → (Nat → Int32) → (Nat → Int32) → (Nat → Int32) → (Nat → Int32) → (Nat → Int32) → (Nat → Int32) → (Nat → Int32) → (Nat → Int32) → (Nat → Int32) → (Nat → Int32) → (Nat → Int32) → Prop} {x1 : Int32} {z r : Nat} (s1 : ¬ f_stage = 0) (hW : ca_WF P) (hD : ca_YD P b_dist) (hky : ca_KY P (ca_N P) b_key) (hCI : ca_CI P z b_colour) (K0 : (∀ x, x < ca_N P → ca_EL P x → ca_key P x < z) → J114 (nI (r + 1)) a_itemKind a_itemBlock a_itemA a_itemB b_term a_termValue a_termFirst a_termSecond b_dist a_params b_val a_outLog b_reached b_level b_fresh b_key b_colour) (K1 : ∀ w k, w < ca_N P → ca_EL P w → ca_CI P (ca_key P w + 1) (upd b_colour w (nI k)) → z ≤ ca_key P w → (∀ x, x < ca_N P → z ≤ ca_key P x → ca_key P x < ca_key P w → ¬ ca_EL P x) → J114 (nI (r + 1)) a_itemKind a_itemBlock a_itemA a_itemB b_term a_termValue a_termFirst a_termSecond b_dist a_params b_val a_outLog b_reached b_level b_fresh b_key (upd b_colour w (nI k))) : ∃ n, wY_colourOf_127 post J114 x1 (nI r) (nI bL) (nI iL) (nI oL) f_stage (nI (ca_B P)) (nI (ca_N P)) f_open (nI O) g_point g_regs f_returned a_itemKind a_itemBlock a_itemA a_itemB b_term a_termValue a_termFirst a_termSecond b_dist a_params b_val a_outLog b_reached b_level b_fresh b_key b_colour n (-1) 0 := by
  have hN := ca_wN hW
  refine ca_loop (σ := Int32) (fun n i x => wY_colourOf_127 post J114 x1 (nI r) (nI bL) (nI iL) (nI oL) f_stage (nI (ca_B P)) (nI (ca_N P)) f_open (nI O) g_point g_regs f_returned a_itemKind a_itemBlock a_itemA a_itemB b_term a_termValue a_termFirst a_termSecond b_dist a_params b_val a_outLog b_reached b_level b_fresh b_key b_colour n x (nI i)) (fun i x => (x = -1 ∧ ∀ y, y < i → ca_EL P y → ca_key P y < z) ∨ (∃ w, w < ca_N P ∧ x = nI w ∧ ca_EL P w ∧ z ≤ ca_key P w ∧ ∀ y, y < i → ca_EL P y → z ≤ ca_key P y → ca_key P w ≤ ca_key P y)) 0 (ca_N P) (by omega) (-1) (Or.inl ⟨rfl, fun y hy => by omega⟩) ?_ ?_
  · rintro n x (⟨e, h⟩ | ⟨w, w1, e, w2, w3, w4⟩)
    · subst e
      refine br_t (nI_le (Nat.le_refl _) (by omega)) ⟨1, ?_⟩
      exact br_f (nI_ge (a := 0) (b := 32) (by omega) (by decide)) (ca_m0 (ca_in (K0 h)))
    · subst e
      have hmin : ∀ x, x < ca_N P → z ≤ ca_key P x → ca_key P x < ca_key P w → ¬ ca_EL P x := fun x hx h1 h2 h3 => by
        have := w4 x hx h3 h1
        omega
      have hCI2 := ca_CIskip2 hCI w3 hmin
      have hcnt := ca_CIcnt hW w1
      refine br_t (nI_le (Nat.le_refl _) (by omega)) (yl_co188 s1 hW hD w1 hCI2 (fun x hx => ?_) (fun k k1 k2 => K1 w k w1 w2 (ca_CIstep hW hCI2 w1 w2 k1 k2) w3 hmin))
      rcases hCI2.2.2 x hx with q | ⟨j, j1, j2⟩
      · exact Or.inl q
      · exact Or.inr ⟨j, by omega, j2⟩
  · intro n i x _ hi hx ih
    have hk4 := ca_keyle hW hi
    have skip : (ca_EL P i → ca_key P i < z) → wY_colourOf_127 post J114 x1 (nI r) (nI bL) (nI iL) (nI oL) f_stage (nI (ca_B P)) (nI (ca_N P)) f_open (nI O) g_point g_regs f_returned a_itemKind a_itemBlock a_itemA a_itemB b_term a_termValue a_termFirst a_termSecond b_dist a_params b_val a_outLog b_reached b_level b_fresh b_key b_colour n x (nI (i + 1)) := by
      intro q
      refine ih x ?_
      rcases hx with ⟨e, h⟩ | ⟨w, w1, e, w2, w3, w4⟩
      · refine Or.inl ⟨e, fun y hy hE => ?_⟩
        by_cases e2 : y = i
        · subst e2; exact q hE
        · exact h y (by omega) hE
      · refine Or.inr ⟨w, w1, e, w2, w3, fun y hy hE hz => ?_⟩
        by_cases e2 : y = i
        · subst e2; have := q hE; omega
        · exact w4 y (by omega) hE hz
    refine br_f (nI_ge hi (by omega)) (ca_vi ?_)
    rw [nI_clamp (n := i) (by omega)]
    by_cases hE : ca_EL P i
    · rw [(hky i hi).1 hE]
      refine ca_lt0 (ca_vi ?_)
      rcases ca_CIc hCI hi hE with ⟨c1, k, c2, c3⟩ | ⟨c1, c2⟩
      · rw [c3]
        exact br_t (nI_pos' (by omega)) (ca_in (skip fun _ => c1))
      · rw [c2]
        refine br_f (by decide) ?_
        rcases hx with ⟨e, h⟩ | ⟨w, w1, e, w2, w3, w4⟩
        · subst e
          refine ca_m0 (ca_in (ih (nI i) (Or.inr ⟨i, hi, rfl, hE, c1, fun y hy hEy hz => ?_⟩)))
          by_cases e2 : y = i
          · subst e2; exact Nat.le_refl _
          · have := h y (by omega) hEy; omega
        · subst e
          have hkw := ca_keyle hW w1
          refine ca_lt0 (ca_vi (ca_vi ?_))
          refine pk_le (ca_key P w) (ca_key P i) (fun q => ?_) (fun q => ?_) (ca_r ((hky w w1).1 w2)) rfl
          · refine ca_in (ih (nI w) (Or.inr ⟨w, w1, rfl, w2, w3, fun y hy hEy hz => ?_⟩))
            by_cases e2 : y = i
            · subst e2; exact q
            · exact w4 y (by omega) hEy hz
          · refine ca_in (ih (nI i) (Or.inr ⟨i, hi, rfl, hE, c1, fun y hy hEy hz => ?_⟩))
            by_cases e2 : y = i
            · subst e2; exact Nat.le_refl _
            · have := w4 y (by omega) hEy hz; omega
    · rw [(hky i hi).2 hE]
      exact ca_m0 (ca_in (skip fun q => absurd q hE))
theorem yl_co114 {post : Int32 → SY → Prop} {v : Nat} (s1 : ¬ f_stage = 0) (hW : ca_WF P) (hD : ca_YD P b_dist) (hv : v < ca_N P) (hky : ca_KY P (ca_N P) b_key) (hcol : ∀ x, x < ca_N P → b_colour x = -1) (K : ∀ col, ca_Sol P col → post (col v) ((nI bL), (nI iL), (nI oL), f_stage, (nI (ca_B P)), (nI (ca_N P)), f_open, (nI O), g_point, g_regs, f_returned, a_itemKind, a_itemBlock, a_itemA, a_itemB, b_term, a_termValue, a_termFirst, a_termSecond, b_dist, a_params, b_val, a_outLog, b_reached, b_level, b_fresh, b_key, col)) : ∃ n, wY_colourOf_114 post (nI v) (nI bL) (nI iL) (nI oL) f_stage (nI (ca_B P)) (nI (ca_N P)) f_open (nI O) g_point g_regs f_returned n 0 a_itemKind a_itemBlock a_itemA a_itemB b_term a_termValue a_termFirst a_termSecond b_dist a_params b_val a_outLog b_reached b_level b_fresh b_key b_colour := by
  have hN := ca_wN hW
  refine ca_loop (σ := Nat → Int32) (fun n r s => wY_colourOf_114 post (nI v) (nI bL) (nI iL) (nI oL) f_stage (nI (ca_B P)) (nI (ca_N P)) f_open (nI O) g_point g_regs f_returned n (nI r) a_itemKind a_itemBlock a_itemA a_itemB b_term a_termValue a_termFirst a_termSecond b_dist a_params b_val a_outLog b_reached b_level b_fresh b_key s) (fun r s => ∃ z, ca_CI P z s ∧ (r ≤ ca_cn (fun x => ca_key P x < z ∧ ca_EL P x) (ca_N P) ∨ ∀ x, x < ca_N P → ca_EL P x → ca_key P x < z)) 0 (ca_N P) (by omega) b_colour ⟨0, ⟨fun w _ h => by omega, fun w hw _ => hcol w hw, fun w hw => Or.inl (hcol w hw)⟩, Or.inl (by omega)⟩ ?_ ?_
  · rintro n s ⟨z, hCI, hz⟩
    have hall : ∀ x, x < ca_N P → ca_EL P x → ca_key P x < z := by
      rcases hz with q | q
      · intro x hx _
        rcases Nat.lt_or_ge (ca_key P x) z with p | p
        · exact p
        · have a2 := ca_cn_lt (P := fun x => ca_key P x < z ∧ ca_EL P x) (Q := fun _ => True) (a := x) (fun y => by have := y.1; omega) trivial (N := ca_N P) (fun _ _ _ => trivial) hx
          rw [ca_cn_all (P := fun _ => True) (fun _ _ => trivial)] at a2
          omega
      · exact q
    refine br_t (nI_le (Nat.le_refl _) (by omega)) (ca_vi ?_)
    rw [nI_clamp (n := v) (by omega)]
    refine K s fun w hw => ⟨fun h => ?_, fun h => (hCI.1 w hw (hall w hw h)).2 h⟩
    rcases Nat.lt_or_ge (ca_key P w) z with p | p
    · exact (hCI.1 w hw p).1 h
    · exact hCI.2.1 w hw p
  · rintro n r s _ hr ⟨z, hCI, hz⟩ ih
    refine br_f (nI_ge hr (by omega)) (yl_co127 s1 hW hD hky hCI (fun h => ih s ⟨z, hCI, Or.inr h⟩) (fun w k w1 w2 hC w3 w4 => ih _ ⟨ca_key P w + 1, hC, ?_⟩))
    rcases hz with q | q
    · refine Or.inl ?_
      have hcs : ca_cn (fun x => ca_key P x < z ∧ ca_EL P x) (ca_N P) < ca_cn (fun x => ca_key P x < ca_key P w + 1 ∧ ca_EL P x) (ca_N P) := ca_cn_lt (a := w) (fun y => by have := y.1; omega) ⟨by omega, w2⟩ (fun x _ y => ⟨by have := y.1; omega, y.2⟩) w1
      omega
    · have := q w w1 w2; omega
theorem yl_colourOf {post : Int32 → SY → Prop} {v : Nat} (s1 : ¬ f_stage = 0) (hW : ca_WF P) (hB0 : 0 < ca_B P) (hT : ca_TE P) (hF : ca_TF P (ca_B P)) (hY : ca_YT P (ca_B P) b_term a_termValue a_termFirst a_termSecond) (hP : ca_AP P a_itemKind a_itemBlock a_itemA a_itemB) (hD : ca_YD P b_dist) (hv : v < ca_N P) (K : ∀ ρ ky col, ca_Sol P col → post (col v) ((nI bL), (nI iL), (nI oL), f_stage, (nI (ca_B P)), (nI (ca_N P)), f_open, (nI O), g_point, g_regs, f_returned, a_itemKind, a_itemBlock, a_itemA, a_itemB, b_term, a_termValue, a_termFirst, a_termSecond, b_dist, a_params, b_val, a_outLog, ρ, b_level, b_fresh, ky, col)) : ∃ n, wY_colourOf_25 post (nI v) n 0 (nI bL) (nI iL) (nI oL) f_stage (nI (ca_B P)) (nI (ca_N P)) f_open (nI O) g_point g_regs f_returned a_itemKind a_itemBlock a_itemA a_itemB b_term a_termValue a_termFirst a_termSecond b_dist a_params b_val a_outLog b_reached b_level b_fresh b_key b_colour := by
  have hN := ca_wN hW
  have hB := ca_wB hW
  refine ca_loop (σ := (Nat → Int32) × (Nat → Int32) × (Nat → Int32)) (fun n w s => wY_colourOf_25 post (nI v) n (nI w) (nI bL) (nI iL) (nI oL) f_stage (nI (ca_B P)) (nI (ca_N P)) f_open (nI O) g_point g_regs f_returned a_itemKind a_itemBlock a_itemA a_itemB b_term a_termValue a_termFirst a_termSecond b_dist a_params b_val a_outLog s.1 b_level b_fresh s.2.1 s.2.2) (fun w s => ca_KY P w s.2.1 ∧ ∀ x, x < w → s.2.2 x = -1) 0 (ca_N P) (by omega) (b_reached, b_key, b_colour) ⟨fun x hx => by omega, fun x hx => by omega⟩ ?_ ?_
  · rintro n ⟨ρ, ky, col⟩ ⟨h1, h2⟩
    exact br_t (nI_le (Nat.le_refl _) (by omega)) (yl_co114 s1 hW hD hv h1 h2 (fun col hc => K ρ ky col hc))
  · rintro n w ⟨ρ, ky, col⟩ _ hw ⟨h1, h2⟩ ih
    dsimp only at h1 h2 ⊢
    have hP' := hP w hw
    have hbl := (ca_wb hW hw).1
    refine br_f (nI_ge hw (by omega)) (ca_vi (ca_wr (ca_vi (ca_wr (ca_vi (yl_dominators (ca_r hP'.2.1) (by omega) hW hB0 hT hF hY (fun ρ => ?_)))))))
    refine ca_loop (σ := Nat → Int32) (fun m q s => wY_colourOf_61 post (wY_colourOf_25 post (nI v) n) (nI v) (nI w) (nI (ca_dp P (ca_bl P w))) (nI bL) (nI iL) (nI oL) f_stage (nI (ca_B P)) (nI (ca_N P)) f_open (nI O) g_point g_regs f_returned m (nI q) a_itemKind a_itemBlock a_itemA a_itemB b_term a_termValue a_termFirst a_termSecond b_dist a_params b_val a_outLog ρ b_level b_fresh s (upd col w (-1))) (fun q s => (∀ x, x ≠ w → s x = ky x) ∧ ((s w = -1 ∧ ∀ p, p < q → ¬ (ca_isP P p ∧ ca_Lv P w p)) ∨ (s w = nI (ca_key P w) ∧ ca_EL P w))) 0 40 (by omega) (upd ky w (-1)) ⟨fun x hx => pk_un hx, Or.inl ⟨pk_us, fun p hp => by omega⟩⟩ ?_ ?_
    · rintro m s ⟨g1, g2⟩
      refine br_t (nI_le (a := 40) (b := 40) (Nat.le_refl _) (by decide)) (ca_in (ih (ρ, s, upd col w (-1)) ⟨fun x hx => ?_, fun x hx => ?_⟩))
      · show (ca_EL P x → s x = _) ∧ (¬ ca_EL P x → s x = _)
        by_cases e : x = w
        · subst e
          rcases g2 with ⟨q1, q2⟩ | ⟨q1, q2⟩
          · exact ⟨fun ⟨q, a, b⟩ => absurd ⟨a, b⟩ (q2 q (ca_P40 hW a)), fun _ => q1⟩
          · exact ⟨fun _ => q1, fun z => absurd q2 z⟩
        · rw [g1 x e]; exact h1 x (by omega)
      · show upd col w (-1) x = -1
        by_cases e : x = w
        · subst e; exact pk_us
        · rw [pk_un e]; exact h2 x (by omega)
    · rintro m q s _ hq ⟨g1, g2⟩ ih2
      refine br_f (nI_ge (b := 40) hq (by decide)) (yl_live rfl hW hD hq hw (fun a b => br_f (by decide) (ca_vi (ca_vi (ca_wx w rfl (w := nI (ca_key P w)) ?_ (ca_in (ih2 _ ⟨fun x hx => ?_, Or.inr ⟨pk_us, q, a, b⟩⟩)))))) (fun h => br_t rfl (ca_in (ih2 s ⟨g1, ?_⟩))))
      · rw [ca_r hP'.2.1]; exact ca_keyI w
      · rw [pk_un hx]; exact g1 x hx
      · rcases g2 with ⟨q1, q2⟩ | g2
        · refine Or.inl ⟨q1, fun p hp => ?_⟩
          by_cases e : p = q
          · subst e; exact h
          · exact q2 p (by omega)
        · exact Or.inr g2
end
theorem i_vc_colourOf {k : Nat} {u : SX} {v : SY} (I : i_Rel k u v) (hk : k + 4 ≤ 2051) (v1 : Int32) : wpX_colourOf (fun r => wpY_colourOf (fun r' v' => r' = r ∧ i_Rel (k + 4) u v') v v1) u v1 := by
  refine ca_el (Q := fun u v => wpX_colourOf (fun r => wpY_colourOf (fun r' v' => r' = r ∧ i_Rel (k + 4) u v') v v1) u v1) ?_ I
  intro f_phiKind f_jumpKind f_branchKind f_retKind f_far f_registerEnd f_firstSlot f_cellEnd f_edgeCode f_stage f_open f_edges f_points f_greatestPressure f_everLive f_registers f_usedRegisters f_placedBlocks f_codeSize f_current f_returned a_blockStart a_blockPhis a_blockItems a_termKind a_termValue a_termFirst a_termSecond a_itemKind a_itemA a_itemB a_itemBlock a_edgeFrom a_edgeTo a_edgeOrder a_edgeArgs a_edgeSets a_edgeBegin a_edgeEnd a_incoming a_dominators a_depth a_parent a_pointBase a_pointBlock a_pointItem a_pointUses a_live a_distance a_neighbours a_colour a_inRegisters a_location a_hint a_taken a_moveSource a_moveReaders a_codeTo a_codeFrom a_codeSwap a_codeBegin a_codeEnd a_outLog a_params a_cells g_point g_regs b_term b_dist b_val b_reached b_level b_fresh b_key b_colour P bL iL oL O c h0 hs
  have same : i_Rel (k + 4) (f_phiKind, f_jumpKind, f_branchKind, f_retKind, f_far, f_registerEnd, f_firstSlot, f_cellEnd, f_edgeCode, (nI bL), (nI iL), (nI oL), f_stage, f_open, (nI (ca_B P)), (nI (ca_N P)), f_edges, f_points, f_greatestPressure, f_everLive, f_registers, f_usedRegisters, f_placedBlocks, f_codeSize, f_current, f_returned, (nI O), a_blockStart, a_blockPhis, a_blockItems, a_termKind, a_termValue, a_termFirst, a_termSecond, a_itemKind, a_itemA, a_itemB, a_itemBlock, a_edgeFrom, a_edgeTo, a_edgeOrder, a_edgeArgs, a_edgeSets, a_edgeBegin, a_edgeEnd, a_incoming, a_dominators, a_depth, a_parent, a_pointBase, a_pointBlock, a_pointItem, a_pointUses, a_live, a_distance, a_neighbours, a_colour, a_inRegisters, a_location, a_hint, a_taken, a_moveSource, a_moveReaders, a_codeTo, a_codeFrom, a_codeSwap, a_codeBegin, a_codeEnd, a_outLog, a_params, a_cells) ((nI bL), (nI iL), (nI oL), f_stage, (nI (ca_B P)), (nI (ca_N P)), f_open, (nI O), g_point, g_regs, f_returned, a_itemKind, a_itemBlock, a_itemA, a_itemB, b_term, a_termValue, a_termFirst, a_termSecond, b_dist, a_params, b_val, a_outLog, b_reached, b_level, b_fresh, b_key, b_colour) := ca_mk (k + 4) h0 hs
  have h0' := h0
  obtain ⟨q1, q2, q3, q4, q5, q6, q7, q8, q9, qW, qI, qo, qP, qb, qT, qA, qY⟩ := h0
  have hB := ca_wB qW
  have hN := ca_wN qW
  rcases hs with s0 | ⟨hF1, hst⟩
  · exact br_t s0 (br_t s0 ⟨rfl, same⟩)
  have s1 : ¬ f_stage = 0 := by
    rcases hst with z | ⟨_, ⟨z, _⟩ | z⟩ <;> rw [z] <;> decide
  have hF1' := hF1
  obtain ⟨r1, r2, r3, r4, r5, r6, r7, r8, r9, r10, r11, r12, r13, r14, r15, r16, r17, r18, r19, r20⟩ := hF1
  subst r7 r8
  have hc := ca_op0 qo r1
  have qT' := qT
  have qA' := qA
  have qY' := qY
  rw [hc] at qT' qA' qY'
  refine br_f s1 (xl_isItem hN (fun h => br_f (by decide) ?_) (fun h => br_t rfl (br_f s1 (ca_ndY (by omega) (fun y => absurd y h) (fun _ => ⟨rfl, same⟩)))))
  obtain ⟨j, j1, j2⟩ := h
  subst j2
  refine ca_vi ?_
  rw [nI_clamp (n := j) (by omega)]
  refine br_f s1 (br_f (nI_pos (by omega)) (br_t (nI_lt j1 (by omega)) (yl_colourOf s1 qW r2 r3 qT' (fun s hs => ⟨qY' s hs, (qA' s hs).2⟩) qP r20 j1 (fun ρ ky col hcol => ⟨ca_SolU hcol r18 j j1, ?_⟩))))
  exact ca_mk (c := c) (k + 4) h0' (Or.inr ⟨hF1', hst⟩)
end
