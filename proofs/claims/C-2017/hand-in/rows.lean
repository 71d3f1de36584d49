section
theorem pk_us {f : Nat → Int32} {k : Nat} {x : Int32} : upd f k x k = x := if_pos rfl
theorem pk_un {f : Nat → Int32} {k j : Nat} {x : Int32} (h : j ≠ k) : upd f k x j = f j := if_neg h
theorem pk_sub {a b : Nat} (h : b ≤ a) : nI a - nI b = nI (a - b) := by
  obtain ⟨c, rfl⟩ : ∃ c, a = c + b := ⟨a - b, by omega⟩
  rw [← nI_add, Int32.add_sub_cancel, Nat.add_sub_cancel]
theorem pk_m1 (n : Nat) : nI (n + 1) + (-1) = nI n := by
  rw [← nI_1, Int32.add_assoc, show (1 : Int32) + (-1) = 0 from rfl, Int32.add_zero]
theorem pk_mul (a b : Nat) : nI a * nI b = nI (a * b) := (Int32.ofNat_mul a b).symm
theorem pk_div {a d : Nat} (ha : a < 2 ^ 31) (h0 : 0 < d) (hd : d < 2 ^ 31) : nI a / nI d = nI (a / d) := by
  apply Int32.toInt_inj.mp
  rw [lg_idiv_nonneg (by rw [nI_toInt ha]; omega) (by rw [nI_toInt hd]; omega), nI_toInt ha, nI_toInt hd, nI_toInt (Nat.lt_of_le_of_lt (Nat.div_le_self a d) ha)]
  first | rfl | exact (Int.natCast_ediv _ _).symm
theorem pk_rem {a d : Nat} (ha : a < 2 ^ 31) (h0 : 0 < d) (hd : d < 2 ^ 31) : nI a - nI a / nI d * nI d = nI (a % d) := by
  rw [pk_div ha h0 hd, pk_mul, pk_sub (Nat.div_mul_le_self a d)]
  exact congrArg nI (by have := Nat.div_add_mod' a d; omega)
theorem pk_sub_toInt {a b : Nat} (ha : a < 2 ^ 30) (hb : b < 2 ^ 30) : (nI a - nI b).toInt = (a : Int) - b := by
  rw [Int32.toInt_sub, nI_toInt (by omega), nI_toInt (by omega)]
  exact Int.bmod_eq_of_le (by omega) (by omega)
theorem pk_sneg {a b : Nat} (hb : b < 2 ^ 30) (h : a < b) : nI a - nI b < 0 := by
  rw [Int32.lt_iff_toInt_lt, pk_sub_toInt (by omega) hb, show (0 : Int32).toInt = 0 from by decide]
  omega
theorem pk_ix (x : Int32) {n : Nat} (hn : n < 2 ^ 31) : x < 0 ∨ nI n ≤ x ∨ ∃ j : Nat, j < n ∧ x = nI j := by
  by_cases h : x < 0
  · exact Or.inl h
  · obtain ⟨j, hj, rfl⟩ := nI_of h
    by_cases h2 : j < n
    · exact Or.inr (Or.inr ⟨j, h2, rfl⟩)
    · exact Or.inr (Or.inl (nI_le (by omega) hj))
theorem pk_le {x y : Int32} {A B : Prop} (a b : Nat) (f : a ≤ b → A) (g : b < a → B) (hx : x = nI a := by rfl) (hy : y = nI b := by rfl) (ha : a < 2 ^ 31 := by omega) (hb : b < 2 ^ 31 := by omega) : (x ≤ y → A) ∧ (¬ x ≤ y → B) := by
  subst hx hy
  rw [nI_leI ha hb]
  exact ⟨f, fun z => g (by omega)⟩
theorem pk_lt {x y : Int32} {A B : Prop} (a b : Nat) (f : a < b → A) (g : b ≤ a → B) (hx : x = nI a := by rfl) (hy : y = nI b := by rfl) (ha : a < 2 ^ 31 := by omega) (hb : b < 2 ^ 31 := by omega) : (x < y → A) ∧ (¬ x < y → B) := by
  subst hx hy
  rw [nI_ltI ha hb]
  exact ⟨f, fun z => g (by omega)⟩
theorem pk_eq {x y : Int32} {A B : Prop} (a b : Nat) (f : a = b → A) (g : a ≠ b → B) (hx : x = nI a := by rfl) (hy : y = nI b := by rfl) (ha : a < 2 ^ 31 := by omega) (hb : b < 2 ^ 31 := by omega) : (x = y → A) ∧ (¬ x = y → B) := by
  subst hx hy
  rw [nI_eq ha hb]
  exact ⟨f, g⟩
theorem pk_in {x : Int32} (n N : Nat) (h : n < N) (hx : x = nI n := by rfl) (hN : N < 2 ^ 31 := by omega) : vp_in x N := by
  subst hx
  exact vp_in_nI h hN
theorem pk_cl {x : Int32} (n : Nat) (hx : x = nI n := by rfl) (h : n < 2 ^ 31 := by omega) : x.toNatClampNeg = n := by
  subst hx
  exact nI_clamp h
theorem pk_tn {n : Nat} (h : n < 2 ^ 32) : (nI n).toBitVec.toNat = n := Nat.mod_eq_of_lt h
theorem pk_and (x : Int32) {m : Int32} (k : Nat) (hm : m.toBitVec.toNat = 2 ^ k - 1) : x &&& m = nI (x.toBitVec.toNat % 2 ^ k) := by
  apply Int32.toBitVec_inj.mp
  apply BitVec.eq_of_toNat_eq
  rw [Int32.toBitVec_and, BitVec.toNat_and, hm, Nat.and_two_pow_sub_one_eq_mod]
  show _ = (BitVec.ofNat 32 _).toNat
  rw [BitVec.toNat_ofNat]
  exact (Nat.mod_eq_of_lt (Nat.lt_of_le_of_lt (Nat.mod_le _ _) x.toBitVec.isLt)).symm
theorem pk_andN {n : Nat} (h : n < 2 ^ 32) {m : Int32} (k : Nat) (hm : m.toBitVec.toNat = 2 ^ k - 1) : nI n &&& m = nI (n % 2 ^ k) := by
  rw [pk_and _ k hm, pk_tn h]
theorem pk_andE (x : Int32) {m : Int32} (k : Nat) (hm : m.toBitVec.toNat = 2 ^ k - 1) : ∃ j : Nat, j < 2 ^ k ∧ x &&& m = nI j := ⟨_, Nat.mod_lt _ (Nat.two_pow_pos k), pk_and x k hm⟩
theorem pk_andIn (x : Int32) {m : Int32} (k : Nat) (hm : m.toBitVec.toNat = 2 ^ k - 1) (hk : k ≤ 30) : vp_in (x &&& m) (2 ^ k) := by
  obtain ⟨j, hj, e⟩ := pk_andE x k hm
  rw [e]
  exact vp_in_nI hj (Nat.lt_of_le_of_lt (Nat.pow_le_pow_right (by decide) hk) (by decide))
theorem pk_shl (a s : Int32) (k : Nat) (hs : (s.toBitVec.smod 32).toNat = k) : (a <<< s).toBitVec.toNat = a.toBitVec.toNat * 2 ^ k % 2 ^ 32 := by
  show (a.toBitVec <<< (s.toBitVec.smod 32).toNat).toNat = _
  rw [hs, BitVec.toNat_shiftLeft, Nat.shiftLeft_eq]
theorem pk_shlN {n : Nat} (s : Int32) (k : Nat) (hs : (s.toBitVec.smod 32).toNat = k) (h : n * 2 ^ k < 2 ^ 32) : nI n <<< s = nI (n * 2 ^ k) := by
  apply Int32.toBitVec_inj.mp
  apply BitVec.eq_of_toNat_eq
  have hn : n < 2 ^ 32 := Nat.lt_of_le_of_lt (Nat.le_mul_of_pos_right n (Nat.two_pow_pos k)) h
  rw [pk_shl _ _ k hs, pk_tn hn, pk_tn h, Nat.mod_eq_of_lt h]
theorem pk_shr (a s : Int32) (k : Nat) (hs : (s.toBitVec.smod 32).toNat = k) : (a >>> s).toInt = a.toInt >>> k := by
  show (a.toBitVec.sshiftRight (s.toBitVec.smod 32).toNat).toInt = _
  rw [hs, BitVec.toInt_sshiftRight]
  rfl
theorem pk_shrN {n : Nat} (h : n < 2 ^ 31) (s : Int32) (k : Nat) (hs : (s.toBitVec.smod 32).toNat = k) : nI n >>> s = nI (n / 2 ^ k) := by
  apply Int32.toInt_inj.mp
  have h2 : n / 2 ^ k ≤ n := Nat.div_le_self _ _
  rw [pk_shr _ _ k hs, nI_toInt h, nI_toInt (by omega), Int.shiftRight_eq_div_pow]
  rfl
theorem pk_ushr (x s : Int32) (k : Nat) (hs : ((s.toUInt32 &&& Int32.toUInt32 31).toBitVec % 32).toNat = k) : (x.toUInt32 >>> (s.toUInt32 &&& Int32.toUInt32 31)).toInt32.toBitVec.toNat = x.toBitVec.toNat / 2 ^ k := by
  have e : (x.toUInt32 >>> (s.toUInt32 &&& Int32.toUInt32 31)).toInt32.toBitVec = x.toBitVec >>> k := by
    rw [← hs]
    exact UInt32.toBitVec_shiftRight _ _
  rw [e, BitVec.toNat_ushiftRight, Nat.shiftRight_eq_div_pow]
theorem pk_ushrN {n : Nat} (hn : n < 2 ^ 32) (s : Int32) (k : Nat) (hs : ((s.toUInt32 &&& Int32.toUInt32 31).toBitVec % 32).toNat = k) : ((nI n).toUInt32 >>> (s.toUInt32 &&& Int32.toUInt32 31)).toInt32 = nI (n / 2 ^ k) := by
  apply Int32.toBitVec_inj.mp
  apply BitVec.eq_of_toNat_eq
  rw [pk_ushr _ s k hs, pk_tn hn, pk_tn (Nat.lt_of_le_of_lt (Nat.div_le_self _ _) hn)]
/-! ===== Int32 by its bits: bt x i ===== -/
def bt (x : Int32) (i : Nat) : Bool := x.toBitVec.getLsbD i
theorem b_ext {x y : Int32} (h : ∀ i, i < 32 → bt x i = bt y i) : x = y := Int32.toBitVec_inj.mp (BitVec.eq_of_getLsbD_eq (fun i hi => h i hi))
theorem b_or (x y : Int32) (i : Nat) : bt (x ||| y) i = (bt x i || bt y i) := by unfold bt; rw [Int32.toBitVec_or, BitVec.getLsbD_or]
theorem b_and (x y : Int32) (i : Nat) : bt (x &&& y) i = (bt x i && bt y i) := by unfold bt; rw [Int32.toBitVec_and, BitVec.getLsbD_and]
theorem b_xor (x y : Int32) (i : Nat) : bt (x ^^^ y) i = (bt x i ^^ bt y i) := by unfold bt; rw [Int32.toBitVec_xor, BitVec.getLsbD_xor]
theorem b_big {x : Int32} {i : Nat} (h : 32 ≤ i) : bt x i = false := BitVec.getLsbD_of_ge _ _ h
theorem b_255 (i : Nat) : bt 255 i = decide (i < 8) := by
  rcases Nat.lt_or_ge i 32 with h | h
  · exact (by decide +kernel : ∀ i, i < 32 → bt 255 i = decide (i < 8)) i h
  · rw [b_big h, decide_eq_false (by omega)]
theorem b_65535 (i : Nat) : bt 65535 i = decide (i < 16) := by
  rcases Nat.lt_or_ge i 32 with h | h
  · exact (by decide +kernel : ∀ i, i < 32 → bt 65535 i = decide (i < 16)) i h
  · rw [b_big h, decide_eq_false (by omega)]
theorem b_m1 : ∀ i, i < 32 → bt (-1) i = true := by decide +kernel
theorem b_0 (i : Nat) : bt 0 i = false := BitVec.getLsbD_zero
theorem s_l : ∀ n, n < 32 → ((nI n &&& 31).toBitVec.smod 32).toNat = n := by decide +kernel
theorem s_u : ∀ n, n < 32 → (((nI n).toUInt32 &&& Int32.toUInt32 31).toBitVec % 32).toNat = n := by decide +kernel
theorem b_shl (n : Nat) (hn : n < 32) (x : Int32) {i : Nat} (hi : i < 32) : bt (x <<< (nI n &&& 31)) i = (decide (n ≤ i) && bt x (i - n)) := by
  unfold bt
  rw [Int32.toBitVec_shiftLeft]
  show (x.toBitVec <<< ((nI n &&& 31).toBitVec.smod 32).toNat).getLsbD i = _
  rw [s_l n hn, BitVec.getLsbD_shiftLeft]
  rcases Nat.lt_or_ge i n with h | h
  · simp [h, Nat.not_le.mpr h]
  · simp [hi, h, Nat.not_lt.mpr h]
theorem b_ushr (n : Nat) (hn : n < 32) (x : Int32) (i : Nat) : bt ((x.toUInt32 >>> ((nI n).toUInt32 &&& Int32.toUInt32 31)).toInt32) i = bt x (n + i) := by
  show (x.toUInt32 >>> ((nI n).toUInt32 &&& Int32.toUInt32 31)).toBitVec.getLsbD i = x.toUInt32.toBitVec.getLsbD (n + i)
  rw [UInt32.toBitVec_shiftRight]
  show (x.toUInt32.toBitVec >>> (((nI n).toUInt32 &&& Int32.toUInt32 31).toBitVec % 32).toNat).getLsbD i = _
  rw [s_u n hn, BitVec.getLsbD_ushiftRight]
theorem b_sshr (n : Nat) (hn : n < 32) (x : Int32) {i : Nat} (hi : i < 32) : bt (x >>> (nI n &&& 31)) i = if n + i < 32 then bt x (n + i) else bt x 31 := by
  unfold bt
  rw [Int32.toBitVec_shiftRight]
  show (x.toBitVec.sshiftRight ((nI n &&& 31).toBitVec.smod 32).toNat).getLsbD i = _
  rw [s_l n hn, BitVec.getLsbD_sshiftRight, BitVec.msb_eq_getLsbD_last]
  simp [hi]
end
section
/-! counts, contents, bits by naturals -/
def cv_ob : Bool → Int32 → Option Int32
  | true, v => some v
  | false, _ => none
def cv_bi : Bool → Int32
  | true => 1
  | false => 0
theorem cv_bi0 {b : Bool} : cv_bi b = 0 ↔ b = false := by
  cases b
  · exact ⟨fun _ => rfl, fun _ => rfl⟩
  · exact ⟨fun h => absurd h (by decide), fun h => (nomatch h)⟩
theorem cv_bi1 {b : Bool} : cv_bi b = 1 ↔ b = true := by
  cases b
  · exact ⟨fun h => absurd h (by decide), fun h => (nomatch h)⟩
  · exact ⟨fun _ => rfl, fun _ => rfl⟩
def cv_cn (p : Nat → Bool) : Nat → Nat
  | 0 => 0
  | n + 1 => cv_cn p n + (if p n = true then 1 else 0)
theorem cv_cn_z (p : Nat → Bool) : cv_cn p 0 = 0 := rfl
theorem cv_cn_s (p : Nat → Bool) (n : Nat) : cv_cn p (n + 1) = cv_cn p n + (if p n = true then 1 else 0) := rfl
theorem cv_cn_t {p : Nat → Bool} {n : Nat} (h : p n = true) : cv_cn p (n + 1) = cv_cn p n + 1 := by
  rw [cv_cn_s, if_pos h]
theorem cv_cn_f {p : Nat → Bool} {n : Nat} (h : p n = false) : cv_cn p (n + 1) = cv_cn p n := by
  rw [cv_cn_s, if_neg (by rw [h]; exact Bool.false_ne_true), Nat.add_zero]
theorem cv_cn_bi (p : Nat → Bool) (n : Nat) : nI (cv_cn p n) + cv_bi (p n) = nI (cv_cn p (n + 1)) := by
  cases h : p n
  · rw [cv_cn_f h]; exact Int32.add_zero _
  · rw [cv_cn_t h]; exact nI_1 _
theorem cv_cn_add (p : Nat → Bool) (a : Nat) : ∀ b, cv_cn p (a + b) = cv_cn p a + cv_cn (fun k => p (a + k)) b := by
  intro b
  induction b with
  | zero => rfl
  | succ b ih =>
    rw [← Nat.add_assoc, cv_cn_s, cv_cn_s, ih, Nat.add_assoc]
theorem cv_cn_le (p : Nat → Bool) : ∀ n, cv_cn p n ≤ n := by
  intro n
  induction n with
  | zero => exact Nat.le_refl _
  | succ n ih =>
    rw [cv_cn_s]
    split <;> omega
theorem cv_cn_cg {p q : Nat → Bool} : ∀ {n : Nat}, (∀ k, k < n → p k = q k) → cv_cn p n = cv_cn q n := by
  intro n
  induction n with
  | zero => intro _; rfl
  | succ n ih =>
    intro h
    rw [cv_cn_s, cv_cn_s, ih (fun k hk => h k (by omega)), h n (by omega)]
theorem cv_cn_0 {p : Nat → Bool} : ∀ {n : Nat}, (∀ k, k < n → p k = false) → cv_cn p n = 0 := by
  intro n
  induction n with
  | zero => intro _; rfl
  | succ n ih =>
    intro h
    rw [cv_cn_f (h n (by omega)), ih (fun k hk => h k (by omega))]
theorem cv_cn_n0 {p : Nat → Bool} : ∀ {n : Nat}, cv_cn p n = 0 → ∀ k, k < n → p k = false := by
  intro n
  induction n with
  | zero => intro _ k hk; omega
  | succ n ih =>
    intro h k hk
    cases e : p n
    · rw [cv_cn_f e] at h
      rcases Nat.lt_or_ge k n with z | z
      · exact ih h k z
      · have : k = n := by omega
        rw [this]; exact e
    · rw [cv_cn_t e] at h
      omega
/-- differing keys of two maps -/
def cv_ne (A B : Nat → Option Int32) (k : Nat) : Bool := !decide (A k = B k)
def cv_df (A B : Nat → Option Int32) : Nat := cv_cn (cv_ne A B) 64
theorem cv_ne_f {A B : Nat → Option Int32} {k : Nat} : cv_ne A B k = false ↔ A k = B k := by
  unfold cv_ne
  by_cases h : A k = B k
  · rw [decide_eq_true h]; exact ⟨fun _ => h, fun _ => rfl⟩
  · rw [decide_eq_false h]; exact ⟨fun z => (nomatch z), fun z => absurd z h⟩
theorem cv_ne_t {A B : Nat → Option Int32} {k : Nat} : cv_ne A B k = true ↔ ¬ A k = B k := by
  unfold cv_ne
  by_cases h : A k = B k
  · rw [decide_eq_true h]; exact ⟨fun z => (nomatch z), fun z => absurd h z⟩
  · rw [decide_eq_false h]; exact ⟨fun _ => h, fun _ => rfl⟩
/-- a clash of two maps over a base -/
def cv_cl (O A B : Nat → Option Int32) (k : Nat) : Bool := cv_ne A B k && cv_ne A O k && cv_ne B O k
/-- the joined map -/
def cv_th (O A B : Nat → Option Int32) (s : Int32) (k : Nat) : Bool := (cv_ne A B k && !cv_ne A O k) || (cv_cl O A B k && decide (s = 1))
def cv_mg (O A B : Nat → Option Int32) (s : Int32) (k : Nat) : Option Int32 := if cv_th O A B s k = true then B k else A k
/-- the first n keys of one map, the rest of another -/
def cv_mx (A B : Nat → Option Int32) (n k : Nat) : Option Int32 := if k < n then A k else B k
theorem cv_mx_l {A B : Nat → Option Int32} {n k : Nat} (h : k < n) : cv_mx A B n k = A k := if_pos h
theorem cv_mx_r {A B : Nat → Option Int32} {n k : Nat} (h : n ≤ k) : cv_mx A B n k = B k := if_neg (Nat.not_lt.mpr h)
def cv_wp (W : Nat → Option Int32) (i : Nat) (o : Option Int32) (k : Nat) : Option Int32 := if k = i then o else W k
theorem cv_wp_s {W : Nat → Option Int32} {i : Nat} {o : Option Int32} : cv_wp W i o i = o := if_pos rfl
theorem cv_wp_n {W : Nat → Option Int32} {i k : Nat} {o : Option Int32} (h : k ≠ i) : cv_wp W i o k = W k := if_neg h
def cv_ms (M : Nat → Nat → Option Int32) (i : Nat) (W : Nat → Option Int32) (c : Nat) : Nat → Option Int32 := if c = i then W else M c
theorem cv_ms_s {M : Nat → Nat → Option Int32} {i : Nat} {W : Nat → Option Int32} : cv_ms M i W i = W := if_pos rfl
theorem cv_ms_n {M : Nat → Nat → Option Int32} {i c : Nat} {W : Nat → Option Int32} (h : c ≠ i) : cv_ms M i W c = M c := if_neg h
theorem cv_ob_eq {b b' : Bool} {v v' : Int32} (h : b = false → v = 0) (h' : b' = false → v' = 0) : cv_ob b v = cv_ob b' v' ↔ b = b' ∧ v = v' := by
  cases b <;> cases b'
  · exact ⟨fun _ => ⟨rfl, (h rfl).trans (h' rfl).symm⟩, fun _ => rfl⟩
  · exact ⟨fun z => (nomatch z), fun z => (nomatch z.1)⟩
  · exact ⟨fun z => (nomatch z), fun z => (nomatch z.1)⟩
  · exact ⟨fun z => ⟨rfl, Option.some.inj z⟩, fun z => congrArg some z.2⟩
theorem cv_ob_n {b : Bool} {v : Int32} : cv_ob b v = none ↔ b = false := by
  cases b
  · exact ⟨fun _ => rfl, fun _ => rfl⟩
  · exact ⟨fun z => (nomatch z), fun z => (nomatch z)⟩
/-! bits -/
theorem cv_b1 : ∀ i, i < 32 → bt 1 i = decide (i = 0) := by decide +kernel
theorem cv_shb (x : Int32) {k : Nat} (hk : k < 32) : (x >>> (nI k &&& 31)) &&& 1 = cv_bi (bt x k) := by
  apply b_ext
  intro i hi
  rw [b_and, b_sshr k hk x hi, cv_b1 i hi]
  by_cases h : i = 0
  · subst h
    rw [Nat.add_zero, if_pos hk]
    cases bt x k
    · exact (b_0 0).symm
    · exact (cv_b1 0 hi).symm
  · rw [decide_eq_false h, Bool.and_false]
    cases bt x k
    · exact (b_0 i).symm
    · show false = bt 1 i
      rw [cv_b1 i hi, decide_eq_false h]
theorem cv_1sh {k i : Nat} (hk : k < 32) (hi : i < 32) : bt ((1 : Int32) <<< (nI k &&& 31)) i = decide (i = k) := by
  rw [b_shl k hk 1 hi, cv_b1 (i - k) (by omega), Bool.eq_iff_iff]
  simp only [Bool.and_eq_true, decide_eq_true_eq]
  omega
theorem cv_and0 (x : Int32) {k : Nat} (hk : k < 32) : (x &&& ((1 : Int32) <<< (nI k &&& 31))) = 0 ↔ bt x k = false := by
  constructor
  · intro h
    have e : bt (x &&& ((1 : Int32) <<< (nI k &&& 31))) k = bt 0 k := by rw [h]
    rw [b_and, cv_1sh hk hk, b_0, decide_eq_true rfl, Bool.and_true] at e
    exact e
  · intro h
    apply b_ext
    intro i hi
    rw [b_and, cv_1sh hk hi, b_0]
    by_cases e : i = k
    · rw [e, h, Bool.false_and]
    · rw [decide_eq_false e, Bool.and_false]
theorem cv_not (x : Int32) {i : Nat} (hi : i < 32) : bt (x ^^^ (-1)) i = !bt x i := by
  rw [b_xor, b_m1 i hi]
  cases bt x i <;> rfl
/-! numbers -/
theorem cv_m8 (c : Nat) : (8 : Int32) * nI c = nI (8 * c) := pk_mul 8 c
theorem cv_m64 (c : Nat) : (64 : Int32) * nI c = nI (64 * c) := pk_mul 64 c
theorem cv_a1280 (k : Nat) : (1280 : Int32) + nI k = nI (1280 + k) := nI_add 1280 k
theorem cv_a1344 (k : Nat) : (1344 : Int32) + nI k = nI (1344 + k) := nI_add 1344 k
theorem cv_in {n N : Nat} (hn : n < 2 ^ 31) : vp_in (nI n) N = (n < N) := by
  apply propext
  rw [vp_in_iff, nI_toInt hn]
  omega
theorem cv_k3 {k : Nat} (hk : k < 64) : nI k >>> ((3 : Int32) &&& 31) = nI (k / 8) := pk_shrN (by omega) _ 3 (by decide)
theorem cv_k7 {k : Nat} (hk : k < 64) : nI k &&& 7 = nI (k % 8) := pk_andN (by omega) 3 (by decide)
theorem cv_n1 {n : Nat} (h : n < 2 ^ 31) : ¬ nI n = -1 := by
  intro e
  have := congrArg Int32.toInt e
  rw [nI_toInt h, show (-1 : Int32).toInt = -1 from by decide] at this
  omega
theorem cv_lt0 : (-1 : Int32) < 0 := by decide
theorem cv_lp (e : Nat) (W : Nat → Nat → Prop) (I : Nat → Prop) (h0 : I 0) (hx : ∀ n, I e → W (n + 1) e) (hs : ∀ n i, i < e → I i → (I (i + 1) → W n (i + 1)) → W (n + 1) i) : ∃ n, W n 0 :=
  loop_0 (σ := Unit) (fun n i _ => W n i) (fun i _ => I i) e () h0 (fun n _ h => hx n h) (fun n i _ hi h k => hs n i hi h (fun h' => k () h'))
theorem cv_lq (e : Nat) (W : Nat → Nat → Prop) (hx : ∀ n, W (n + 1) e) (hs : ∀ n i, i < e → W n (i + 1) → W (n + 1) i) : ∃ n, W n 0 :=
  cv_lp e W (fun _ => True) trivial (fun n _ => hx n) (fun n i hi _ k => hs n i hi (k trivial))
end
section
/-! the relation -/
theorem cv_ob_d {b b' : Bool} {v v' : Int32} (h : b = false → v = 0) (h' : b' = false → v' = 0) : (!decide (cv_ob b v = cv_ob b' v')) = ((b ^^ b') || !decide (v = v')) := by
  by_cases e : cv_ob b v = cv_ob b' v'
  · obtain ⟨e1, e2⟩ := (cv_ob_eq h h').mp e
    rw [decide_eq_true e, decide_eq_true e2, e1]
    cases b' <;> rfl
  · rw [decide_eq_false e]
    by_cases e2 : v = v'
    · rw [decide_eq_true e2]
      have hne : b ≠ b' := fun z => e ((cv_ob_eq h h').mpr ⟨z, e2⟩)
      cases b <;> cases b'
      · exact absurd rfl hne
      · rfl
      · rfl
      · exact absurd rfl hne
    · rw [decide_eq_false e2]
      cases b <;> cases b' <;> rfl
/-- chunk r of a store, key k of eight -/
def cv_cc (ms cs : Nat → Int32) (r k : Nat) : Option Int32 := cv_ob (bt (ms r) k) (cs (8 * r + k))
/-- absent keys hold 0 -/
def cv_Z (ms cs : Nat → Int32) (r : Nat) : Prop := ∀ k, k < 8 → bt (ms r) k = false → cs (8 * r + k) = 0
theorem cv_ne_cc {ms cs ms' cs' : Nat → Int32} {a b k : Nat} (ha : cv_Z ms cs a) (hb : cv_Z ms' cs' b) (hk : k < 8) : cv_ne (cv_cc ms cs a) (cv_cc ms' cs' b) k = ((bt (ms a) k ^^ bt (ms' b) k) || !decide (cs (8 * a + k) = cs' (8 * b + k))) :=
  cv_ob_d (ha k hk) (hb k hk)
theorem cv_ne_cg {A B A' B' : Nat → Option Int32} {k k' : Nat} (a : A k = A' k') (b : B k = B' k') : cv_ne A B k = cv_ne A' B' k' := by
  unfold cv_ne; rw [a, b]
theorem cv_cl_cg {O A B O' A' B' : Nat → Option Int32} {k k' : Nat} (o : O k = O' k') (a : A k = A' k') (b : B k = B' k') : cv_cl O A B k = cv_cl O' A' B' k' := by
  unfold cv_cl; rw [cv_ne_cg a b, cv_ne_cg a o, cv_ne_cg b o]
theorem cv_th_cg {O A B O' A' B' : Nat → Option Int32} {s : Int32} {k k' : Nat} (o : O k = O' k') (a : A k = A' k') (b : B k = B' k') : cv_th O A B s k = cv_th O' A' B' s k' := by
  unfold cv_th; rw [cv_ne_cg a b, cv_ne_cg a o, cv_cl_cg o a b]
theorem cv_mg_cg {O A B O' A' B' : Nat → Option Int32} {s : Int32} {k k' : Nat} (o : O k = O' k') (a : A k = A' k') (b : B k = B' k') : cv_mg O A B s k = cv_mg O' A' B' s k' := by
  unfold cv_mg; rw [cv_th_cg o a b, a, b]
/-- -1, or a number below n -/
def cv_pt (n : Nat) (x : Int32) : Prop := x = -1 ∨ ∃ i, i < n ∧ x = nI i
theorem cv_pt_mono {n m : Nat} {x : Int32} (h : n ≤ m) (hp : cv_pt n x) : cv_pt m x :=
  hp.elim Or.inl (fun ⟨i, hi, e⟩ => Or.inr ⟨i, Nat.lt_of_lt_of_le hi h, e⟩)
/-- the store of kept chunks -/
def cv_St (st : Nat) (ms cs ch bu : Nat → Int32) : Prop :=
  (∀ r, r < st → cv_Z ms cs r) ∧ (∀ r, r < st → cv_pt st (ch r)) ∧ (∀ b, b < 32 → cv_pt st (bu b))
/-- x is the number of a kept chunk that holds chunk j of the map A -/
def cv_ro (st : Nat) (ms cs : Nat → Int32) (x : Int32) (A : Nat → Option Int32) (j : Nat) : Prop :=
  ∃ r, r < st ∧ x = nI r ∧ ∀ k, k < 8 → cv_cc ms cs r k = A (8 * j + k)
/-- the row of commit c holds the map A -/
def cv_Ro (st : Nat) (ms cs ro : Nat → Int32) (c : Nat) (A : Nat → Option Int32) : Prop :=
  ∀ j, j < 8 → cv_ro st ms cs (ro (8 * c + j)) A j
def cv_Rw (ct st : Nat) (ms cs ro : Nat → Int32) (M : Nat → Nat → Option Int32) : Prop :=
  ∀ c, c < ct → cv_Ro st ms cs ro c (M c)
/-- the working map -/
def cv_Wk (st : Nat) (ms cs wm wl wk : Nat → Int32) (W : Nat → Option Int32) : Prop :=
  ∀ j, j < 8 → cv_Z wm wl j ∧ (∀ k, k < 8 → cv_cc wm wl j k = W (8 * j + k)) ∧ (wk j = -1 ∨ cv_ro st ms cs (wk j) W j)
/-- a store goes on -/
def cv_Ex (st : Nat) (ms cs : Nat → Int32) (st' : Nat) (ms' cs' : Nat → Int32) : Prop :=
  st ≤ st' ∧ ∀ r, r < st → ∀ k, k < 8 → cv_cc ms' cs' r k = cv_cc ms cs r k
theorem cv_Ex_r {st : Nat} {ms cs : Nat → Int32} : cv_Ex st ms cs st ms cs := ⟨Nat.le_refl _, fun _ _ _ _ => rfl⟩
theorem cv_Ex_t {st st' st'' : Nat} {ms cs ms' cs' ms'' cs'' : Nat → Int32} (h : cv_Ex st ms cs st' ms' cs') (h' : cv_Ex st' ms' cs' st'' ms'' cs'') : cv_Ex st ms cs st'' ms'' cs'' :=
  ⟨Nat.le_trans h.1 h'.1, fun r hr k hk => (h'.2 r (Nat.lt_of_lt_of_le hr h.1) k hk).trans (h.2 r hr k hk)⟩
theorem cv_ro_ex {st st' j : Nat} {ms cs ms' cs' : Nat → Int32} {x : Int32} {A : Nat → Option Int32} (h : cv_Ex st ms cs st' ms' cs') (hr : cv_ro st ms cs x A j) : cv_ro st' ms' cs' x A j := by
  obtain ⟨r, h1, h2, h3⟩ := hr
  exact ⟨r, Nat.lt_of_lt_of_le h1 h.1, h2, fun k hk => (h.2 r h1 k hk).trans (h3 k hk)⟩
theorem cv_ro_cg {st j : Nat} {ms cs : Nat → Int32} {x : Int32} {A B : Nat → Option Int32} (h : ∀ k, k < 8 → A (8 * j + k) = B (8 * j + k)) (hr : cv_ro st ms cs x A j) : cv_ro st ms cs x B j := by
  obtain ⟨r, h1, h2, h3⟩ := hr
  exact ⟨r, h1, h2, fun k hk => (h3 k hk).trans (h k hk)⟩
theorem cv_Ro_ex {st st' c : Nat} {ms cs ms' cs' ro : Nat → Int32} {A : Nat → Option Int32} (h : cv_Ex st ms cs st' ms' cs') (hr : cv_Ro st ms cs ro c A) : cv_Ro st' ms' cs' ro c A :=
  fun j hj => cv_ro_ex h (hr j hj)
theorem cv_Rw_ex {ct st st' : Nat} {ms cs ms' cs' ro : Nat → Int32} {M : Nat → Nat → Option Int32} (h : cv_Ex st ms cs st' ms' cs') (hr : cv_Rw ct st ms cs ro M) : cv_Rw ct st' ms' cs' ro M :=
  fun c hc => cv_Ro_ex h (hr c hc)
theorem cv_Wk_ex {st st' : Nat} {ms cs ms' cs' wm wl wk : Nat → Int32} {W : Nat → Option Int32} (h : cv_Ex st ms cs st' ms' cs') (hr : cv_Wk st ms cs wm wl wk W) : cv_Wk st' ms' cs' wm wl wk W :=
  fun j hj => ⟨(hr j hj).1, (hr j hj).2.1, (hr j hj).2.2.elim Or.inl (fun z => Or.inr (cv_ro_ex h z))⟩
theorem cv_Wk_cg {st : Nat} {ms cs wm wl wk : Nat → Int32} {W W' : Nat → Option Int32} (h : ∀ k, k < 64 → W k = W' k) (hr : cv_Wk st ms cs wm wl wk W) : cv_Wk st ms cs wm wl wk W' :=
  fun j hj => ⟨(hr j hj).1, fun k hk => ((hr j hj).2.1 k hk).trans (h _ (by omega)), (hr j hj).2.2.elim Or.inl (fun z => Or.inr (cv_ro_cg (fun k hk => h _ (by omega)) z))⟩
/-- the history: heads, parents, known ancestors -/
def cv_Hi (ct bn : Nat) (fp sp kn hd : Nat → Int32) : Prop :=
  (1 ≤ ct ∧ ct ≤ 20 ∧ bn < 4) ∧ (∀ b, b < 4 → ∃ h, h < ct ∧ hd b = nI h) ∧ (∀ c, c < ct → cv_pt c (fp c)) ∧ (∀ c, c < ct → cv_pt c (sp c)) ∧
  (∀ c, c < ct → ∀ i, i < 32 → (bt (kn c) i = true ↔ i = c ∨ (∃ p, p < c ∧ fp c = nI p ∧ bt (kn p) i = true) ∨ (∃ p, p < c ∧ sp c = nI p ∧ bt (kn p) i = true)))
/-- what the component holds beside the history -/
def cv_FX (ct st : Nat) (ms cs ch bu ro wm wl wk : Nat → Int32) (M : Nat → Nat → Option Int32) (W : Nat → Option Int32) : Prop :=
  st ≤ 8 * ct ∧ cv_St st ms cs ch bu ∧ cv_Rw ct st ms cs ro M ∧ cv_Wk st ms cs wm wl wk W
def cv_RX (fc ct bn : Nat) (cl : Int32) (fp sp kn hd : Nat → Int32) (M : Nat → Nat → Option Int32) (W : Nat → Option Int32) (u : SX) : Prop :=
  ∃ (dm : Int32) (st : Nat) (ms cs ch bu ro wm wl wk dr : Nat → Int32), u = (dm, nI st, nI fc, nI bn, cl, ms, cs, ch, bu, ro, fp, sp, kn, hd, wm, wl, wk, dr) ∧ cv_FX ct st ms cs ch bu ro wm wl wk M W
theorem cv_RX_i {fc ct bn : Nat} {fp sp kn hd : Nat → Int32} {M : Nat → Nat → Option Int32} {W : Nat → Option Int32} {dm cl : Int32} {st : Nat} {ms cs ch bu ro wm wl wk dr : Nat → Int32} (h : cv_FX ct st ms cs ch bu ro wm wl wk M W) : cv_RX fc ct bn cl fp sp kn hd M W (dm, nI st, nI fc, nI bn, cl, ms, cs, ch, bu, ro, fp, sp, kn, hd, wm, wl, wk, dr) :=
  ⟨dm, st, ms, cs, ch, bu, ro, wm, wl, wk, dr, rfl, h⟩
theorem cv_RX_e {fc ct bn : Nat} {cl : Int32} {fp sp kn hd : Nat → Int32} {M : Nat → Nat → Option Int32} {W : Nat → Option Int32} {P : SX → Prop} (h : ∀ (dm : Int32) (st : Nat) (ms cs ch bu ro wm wl wk dr : Nat → Int32), cv_FX ct st ms cs ch bu ro wm wl wk M W → P (dm, nI st, nI fc, nI bn, cl, ms, cs, ch, bu, ro, fp, sp, kn, hd, wm, wl, wk, dr)) {u : SX} (I : cv_RX fc ct bn cl fp sp kn hd M W u) : P u := by
  obtain ⟨dm, st, ms, cs, ch, bu, ro, wm, wl, wk, dr, rfl, F⟩ := I
  exact h dm st ms cs ch bu ro wm wl wk dr F
/-- what the reference holds -/
def cv_cy (th wo : Nat → Int32) (q : Nat) : Option Int32 := cv_ob (!decide (th q = 0)) (wo q)
def cv_FY (ct : Nat) (th wo : Nat → Int32) (M : Nat → Nat → Option Int32) (W : Nat → Option Int32) : Prop :=
  (∀ q, th q = 0 ∨ th q = 1) ∧ (∀ c, c < ct → ∀ k, k < 64 → cv_cy th wo (64 * c + k) = M c k) ∧ (∀ k, k < 64 → cv_cy th wo (1280 + k) = W k)
def cv_RY (ct bn : Nat) (fp sp hd : Nat → Int32) (M : Nat → Nat → Option Int32) (W : Nat → Option Int32) (v : SY) : Prop :=
  ∃ (th wo : Nat → Int32), v = (nI ct, nI bn, th, wo, fp, sp, hd) ∧ cv_FY ct th wo M W
theorem cv_RY_i {ct bn : Nat} {fp sp hd : Nat → Int32} {M : Nat → Nat → Option Int32} {W : Nat → Option Int32} {th wo : Nat → Int32} (h : cv_FY ct th wo M W) : cv_RY ct bn fp sp hd M W (nI ct, nI bn, th, wo, fp, sp, hd) := ⟨th, wo, rfl, h⟩
theorem cv_RY_e {ct bn : Nat} {fp sp hd : Nat → Int32} {M : Nat → Nat → Option Int32} {W : Nat → Option Int32} {P : SY → Prop} (h : ∀ (th wo : Nat → Int32), cv_FY ct th wo M W → P (nI ct, nI bn, th, wo, fp, sp, hd)) {v : SY} (I : cv_RY ct bn fp sp hd M W v) : P v := by
  obtain ⟨th, wo, rfl, F⟩ := I
  exact h th wo F
end
section
/-! the component's readers -/
section
variable {dm cl : Int32} {st fc bn : Nat} {ms cs ch bu ro fp sp kn hd wm wl wk dr : Nat → Int32}
theorem cv_xIsKey {post : Int32 → Prop} {k : Nat} (hk : k < 64) (h : post 1) : wpX_isKey post (nI k) :=
  br_f (nI_pos (by omega)) (pk_le 64 k (fun z => absurd z (by omega)) (fun _ => h))
theorem cv_xNoKey {post : Int32 → Prop} {x : Int32} (hx : x < 0 ∨ nI 64 ≤ x) (h : post 0) : wpX_isKey post x := by
  by_cases z : x < 0
  · exact br_t z h
  · exact br_f z (br_t (hx.resolve_left z) h)
theorem cv_xIsBr {post : Int32 → Prop} {k : Nat} (hk : k < 4) (h : post 1) : wpX_isBranch post (nI k) :=
  br_f (nI_pos (by omega)) (pk_le 4 k (fun z => absurd z (by omega)) (fun _ => h))
theorem cv_xNoBr {post : Int32 → Prop} {x : Int32} (hx : x < 0 ∨ nI 4 ≤ x) (h : post 0) : wpX_isBranch post x := by
  by_cases z : x < 0
  · exact br_t z h
  · exact br_f z (br_t (hx.resolve_left z) h)
theorem cv_xIsCo {post : Int32 → Prop} {c : Nat} (hc : c < fc) (hf : fc ≤ 20) (h : post 1) : wpX_isCommit post (dm, nI st, nI fc, nI bn, cl, ms, cs, ch, bu, ro, fp, sp, kn, hd, wm, wl, wk, dr) (nI c) :=
  br_f (nI_pos (by omega)) (pk_le fc c (fun z => absurd z (by omega)) (fun _ => h))
theorem cv_xNoCo {post : Int32 → Prop} {x : Int32} (hx : x < 0 ∨ nI fc ≤ x) (h : post 0) : wpX_isCommit post (dm, nI st, nI fc, nI bn, cl, ms, cs, ch, bu, ro, fp, sp, kn, hd, wm, wl, wk, dr) x := by
  by_cases z : x < 0
  · exact br_t z h
  · exact br_f z (br_t (hx.resolve_left z) h)
theorem cv_xOnes {post : Int32 → Prop} {x : Int32} (h : post (nI (cv_cn (bt x) 8))) : wpX_ones post x := by
  refine cv_lq 8 (fun n i => wX_ones_4 post x n (nI (cv_cn (bt x) i)) (nI i)) ?_ ?_
  · intro n
    exact pk_le 8 8 (fun _ => h) (fun z => absurd z (by omega))
  · intro n i hi H
    refine pk_le 8 i (fun z => absurd z (by omega)) (fun _ => ?_)
    refine nm_r (e' := nI (cv_cn (bt x) (i + 1))) ?_ ?_
    · rw [cv_shb x (by omega)]; exact cv_cn_bi _ _
    · exact nm_r (nI_1 i) H
theorem cv_xIsDraft {post : Int32 → Prop} {r : Nat} (hr : r < 168) (h1 : ms r = dm → (∀ k, k < 8 → cs (8 * r + k) = dr k) → post 1) (h0 : post 0) : wpX_isDraft post (dm, nI st, nI fc, nI bn, cl, ms, cs, ch, bu, ro, fp, sp, kn, hd, wm, wl, wk, dr) (nI r) := by
  refine And.intro (vp_in_nI hr (by omega)) ?_
  rw [nI_clamp (by omega)]
  refine br_c (fun e => ?_) (fun _ => h0)
  refine cv_lp 8 (fun n i => wX_isDraft_17 post (nI r) dm (nI st) (nI fc) (nI bn) cl ms cs ch bu ro fp sp kn hd wm wl wk dr n (nI i)) (fun i => ∀ k, k < i → cs (8 * r + k) = dr k) (fun k hk => absurd hk (by omega)) ?_ ?_
  · intro n hI
    exact pk_le 8 8 (fun _ => h1 e hI) (fun z => absurd z (by omega))
  · intro n i hi hI H
    refine pk_le 8 i (fun z => absurd z (by omega)) (fun _ => ?_)
    simp (disch := omega) only [forall_eq, cv_m8, cv_m64, cv_a1280, cv_a1344, nI_add, nI_1, cv_in, nI_clamp]
    refine ⟨by omega, hi, fun e => H ?_, fun _ => h0⟩
    intro k hk
    rcases Nat.lt_or_ge k i with z | z
    · exact hI k z
    · obtain rfl : k = i := by omega
      exact e
theorem cv_xDiff {post : Int32 → Prop} {a b : Nat} (ha : a < 168) (hb : b < 168) (za : cv_Z ms cs a) (zb : cv_Z ms cs b) (h : ∀ x, (∀ k, k < 8 → bt x k = cv_ne (cv_cc ms cs a) (cv_cc ms cs b) k) → post x) : wpX_difference post (dm, nI st, nI fc, nI bn, cl, ms, cs, ch, bu, ro, fp, sp, kn, hd, wm, wl, wk, dr) (nI a) (nI b) := by
  refine br_c (fun e => h 0 ?_) (fun _ => ?_)
  · intro k hk
    obtain rfl : a = b := (nI_eq (by omega) (by omega)).mp e
    rw [b_0]
    exact (cv_ne_f.mpr rfl).symm
  · simp (disch := omega) only [forall_eq, cv_m8, cv_m64, cv_a1280, cv_a1344, nI_add, nI_1, cv_in, nI_clamp]
    refine ⟨ha, hb, ?_⟩
    refine loop_0 (fun n i s => wX_difference_24 post (nI a) (nI b) dm (nI st) (nI fc) (nI bn) cl ms cs ch bu ro fp sp kn hd wm wl wk dr n s (nI i)) (fun i s => (∀ k, k < i → bt s k = cv_ne (cv_cc ms cs a) (cv_cc ms cs b) k) ∧ (∀ k, i ≤ k → k < 8 → bt s k = (bt (ms a) k ^^ bt (ms b) k))) 8 (ms a ^^^ ms b) ⟨fun k hk => absurd hk (by omega), fun k _ _ => b_xor _ _ _⟩ ?_ ?_
    · intro n s I
      exact pk_le 8 8 (fun _ => h s I.1) (fun z => absurd z (by omega))
    · intro n i s hi I H
      refine pk_le 8 i (fun z => absurd z (by omega)) (fun _ => ?_)
      simp (disch := omega) only [forall_eq, cv_m8, cv_m64, cv_a1280, cv_a1344, nI_add, nI_1, cv_in, nI_clamp]
      refine ⟨by omega, by omega, fun e => H s ⟨?_, fun k h1 h2 => I.2 k (by omega) h2⟩, fun e => H _ ⟨?_, ?_⟩⟩
      · intro k hk
        rcases Nat.lt_or_ge k i with z | z
        · exact I.1 k z
        · obtain rfl : k = i := by omega
          rw [I.2 k (Nat.le_refl _) hi, cv_ne_cc za zb hi, decide_eq_true e]
          exact (Bool.or_false _).symm
      · intro k hk
        rw [b_or, cv_1sh (by omega) (by omega)]
        rcases Nat.lt_or_ge k i with z | z
        · rw [I.1 k z, decide_eq_false (by omega), Bool.or_false]
        · obtain rfl : k = i := by omega
          rw [cv_ne_cc za zb hi, decide_eq_false e, decide_eq_true rfl, Bool.or_true]
          exact (Bool.or_true _).symm
      · intro k h1 h2
        rw [b_or, cv_1sh (by omega) (by omega), decide_eq_false (by omega), Bool.or_false]
        exact I.2 k (by omega) h2
theorem cv_xClIn {post : Int32 → Prop} {o a b : Nat} (ho : o < 168) (ha : a < 168) (hb : b < 168) (zo : cv_Z ms cs o) (za : cv_Z ms cs a) (zb : cv_Z ms cs b) (h : ∀ x, (∀ k, k < 8 → bt x k = cv_cl (cv_cc ms cs o) (cv_cc ms cs a) (cv_cc ms cs b) k) → post x) : wpX_clashesIn post (dm, nI st, nI fc, nI bn, cl, ms, cs, ch, bu, ro, fp, sp, kn, hd, wm, wl, wk, dr) (nI o) (nI a) (nI b) := by
  unfold wpX_clashesIn
  refine cv_xDiff ha hb za zb fun x hx => ?_
  refine cv_xDiff ha ho za zo fun y hy => ?_
  refine cv_xDiff hb ho zb zo fun z hz => h _ fun k hk => ?_
  rw [b_and, b_and, hx k hk, hy k hk, hz k hk]
  rfl
theorem cv_xDfW {post : Int32 → Prop} {j r : Nat} (hj : j < 8) (hr : r < 168) (zj : cv_Z wm wl j) (zr : cv_Z ms cs r) (h : post (nI (cv_cn (cv_ne (cv_cc wm wl j) (cv_cc ms cs r)) 8))) : wpX_differsFromWork post (dm, nI st, nI fc, nI bn, cl, ms, cs, ch, bu, ro, fp, sp, kn, hd, wm, wl, wk, dr) (nI j) (nI r) := by
  refine cv_lq 8 (fun n i => wX_differsFromWork_5 post (nI j) (nI r) dm (nI st) (nI fc) (nI bn) cl ms cs ch bu ro fp sp kn hd wm wl wk dr n (nI (cv_cn (cv_ne (cv_cc wm wl j) (cv_cc ms cs r)) i)) (nI i)) ?_ ?_
  · intro n
    exact pk_le 8 8 (fun _ => h) (fun z => absurd z (by omega))
  · intro n i hi H
    have e := cv_ne_cc zj zr hi
    refine pk_le 8 i (fun z => absurd z (by omega)) (fun _ => ⟨vp_in_nI hj (by omega), vp_in_nI hr (by omega), ?_⟩)
    rw [nI_clamp (by omega), nI_clamp (by omega), cv_shb _ (by omega), cv_bi1]
    refine br_c (fun b => br_f (by decide) ?_) (fun b => br_t rfl ?_)
    · rw [b_xor] at b
      rw [b, Bool.true_or] at e
      refine nm_r (e' := nI (cv_cn (cv_ne (cv_cc wm wl j) (cv_cc ms cs r)) (i + 1))) ?_ (nm_r (nI_1 i) H)
      rw [cv_cn_t e]
      exact nI_1 _
    · rw [b_xor, Bool.not_eq_true] at b
      rw [b, Bool.false_or] at e
      simp (disch := omega) only [forall_eq, cv_m8, cv_m64, cv_a1280, cv_a1344, nI_add, nI_1, cv_in, nI_clamp]
      refine ⟨by omega, by omega, fun q => ?_, fun q => ?_⟩
      · rw [decide_eq_true q] at e
        rw [Int32.add_zero, ← cv_cn_f e]
        exact H
      · rw [decide_eq_false q] at e
        rw [← cv_cn_t e]
        exact H
/-- a working chunk that is named by a kept one has its content -/
theorem cv_same {st i r : Nat} {ms cs wm wl wk : Nat → Int32} {W : Nat → Option Int32} (hs : st ≤ 160) (hr : r < 168) (hw : cv_Wk st ms cs wm wl wk W) (hi : i < 8) (e : wk i = nI r) : ∀ k, k < 8 → W (8 * i + k) = cv_cc ms cs r k := by
  rcases (hw i hi).2.2 with z | ⟨q, hq, e2, h⟩
  · exact absurd (e.symm.trans z) (cv_n1 (by omega))
  · obtain rfl : q = r := (nI_eq (by omega) (by omega)).mp (e2.symm.trans e)
    exact fun k hk => (h k hk).symm
theorem cv_xClean {post : Int32 → Prop} {h : Nat} {A W : Nat → Option Int32} (hs : st ≤ 160) (hS : cv_St st ms cs ch bu) (hh : h < 20) (hA : cv_Ro st ms cs ro h A) (hW : cv_Wk st ms cs wm wl wk W) (hb : bn < 4) (eh : hd bn = nI h) (h1 : cv_df W A = 0 → post 1) (h0 : ¬ cv_df W A = 0 → post 0) : wpX_isClean post (dm, nI st, nI fc, nI bn, cl, ms, cs, ch, bu, ro, fp, sp, kn, hd, wm, wl, wk, dr) := by
  refine And.intro (vp_in_nI hb (by omega)) ?_
  rw [nI_clamp (by omega)]
  refine nm_r eh ?_
  refine cv_lp 8 (fun n i => wX_isClean_12 post (nI h) dm (nI st) (nI fc) (nI bn) cl ms cs ch bu ro fp sp kn hd wm wl wk dr n (nI i)) (fun i => ∀ k, k < 8 * i → cv_ne W A k = false) (fun k hk => absurd hk (by omega)) ?_ ?_
  · intro n I
    exact pk_le 8 8 (fun _ => h1 (cv_cn_0 I)) (fun z => absurd z (by omega))
  · intro n i hi I H
    obtain ⟨r, hr, er, cr⟩ := hA i hi
    refine pk_le 8 i (fun z => absurd z (by omega)) (fun _ => ?_)
    simp (disch := omega) only [forall_eq, cv_m8, cv_m64, cv_a1280, cv_a1344, nI_add, nI_1, cv_in, nI_clamp]
    rw [er]
    have st1 : (∀ k, k < 8 → W (8 * i + k) = cv_cc ms cs r k) → ∀ k, k < 8 * (i + 1) → cv_ne W A k = false := by
      intro g k hk
      rcases Nat.lt_or_ge k (8 * i) with z | z
      · exact I k z
      · obtain ⟨k', rfl⟩ : ∃ k', k = 8 * i + k' := ⟨k - 8 * i, by omega⟩
        exact cv_ne_f.mpr ((g k' (by omega)).trans (cr k' (by omega)))
    refine ⟨by omega, hi, fun e => H (st1 (cv_same hs (by omega) hW hi e)), fun _ => ?_⟩
    refine cv_xDfW hi (by omega) (hW i hi).1 (hS.1 r hr) ?_
    refine pk_le _ 0 (fun z => H (st1 ?_)) (fun z => h0 ?_) rfl rfl (Nat.lt_of_le_of_lt (cv_cn_le _ _) (by omega)) (by omega)
    · intro k hk
      rw [← (hW i hi).2.1 k hk]
      exact cv_ne_f.mp (cv_cn_n0 (Nat.le_zero.mp z) k hk)
    · intro z2
      have z3 : cv_cn (cv_ne (cv_cc wm wl i) (cv_cc ms cs r)) 8 = 0 := by
        refine cv_cn_0 fun k hk => ?_
        rw [cv_ne_cg ((hW i hi).2.1 k hk) (cr k hk)]
        exact cv_cn_n0 z2 _ (by omega)
      omega
end
end
section
/-! the component's readers over rows -/
/-- the highest place up to n with p, or 0 -/
def cv_bs (p : Nat → Bool) : Nat → Nat
  | 0 => 0
  | n + 1 => if p (n + 1) = true then n + 1 else cv_bs p n
theorem cv_bs_le (p : Nat → Bool) : ∀ n, cv_bs p n ≤ n := by
  intro n
  induction n with
  | zero => exact Nat.le_refl _
  | succ n ih =>
    show (if p (n + 1) = true then n + 1 else cv_bs p n) ≤ n + 1
    split <;> omega
theorem cv_bs_t {p : Nat → Bool} {n : Nat} (h : p (n + 1) = true) : cv_bs p (n + 1) = n + 1 := if_pos h
theorem cv_bs_f {p : Nat → Bool} {n : Nat} (h : p (n + 1) = false) : cv_bs p (n + 1) = cv_bs p n := if_neg (by rw [h]; exact Bool.false_ne_true)
theorem cv_bs_hi {p : Nat → Bool} {m : Nat} : ∀ n, m ≤ n → (∀ i, m < i → i ≤ n → p i = false) → cv_bs p n = cv_bs p m := by
  intro n
  induction n with
  | zero => intro h _; obtain rfl : m = 0 := by omega
            rfl
  | succ n ih =>
    intro h g
    rcases Nat.lt_or_ge n m with z | z
    · obtain rfl : m = n + 1 := by omega
      rfl
    · rw [cv_bs_f (g (n + 1) (by omega) (Nat.le_refl _))]
      exact ih z (fun i h1 h2 => g i h1 (by omega))
/-- the bits of a commit's known set are not above it -/
theorem cv_kn_le {ct bn : Nat} {fp sp kn hd : Nat → Int32} (H : cv_Hi ct bn fp sp kn hd) : ∀ c, c < ct → ∀ i, bt (kn c) i = true → i ≤ c := by
  intro c
  induction c using Nat.strongRecOn with
  | ind c ih =>
    intro hc i hb
    have hi : i < 32 := by
      rcases Nat.lt_or_ge i 32 with z | z
      · exact z
      · rw [b_big z] at hb
        exact absurd hb Bool.false_ne_true
    rcases (H.2.2.2.2 c hc i hi).mp hb with e | ⟨p, hp, _, g⟩ | ⟨p, hp, _, g⟩
    · omega
    · have := ih p hp (by omega) i g
      omega
    · have := ih p hp (by omega) i g
      omega
/-- the base of two commits -/
def cv_ba (kn : Nat → Int32) (a b : Nat) : Nat := cv_bs (bt (kn a &&& kn b)) 19
theorem cv_ba_eq {ct bn a b : Nat} {fp sp kn hd : Nat → Int32} (H : cv_Hi ct bn fp sp kn hd) (ha : a < ct) (hb : b < ct) : cv_ba kn a b = cv_bs (bt (kn a &&& kn b)) (min a b) := by
  have := H.1.2.1
  refine cv_bs_hi 19 (by omega) (fun i h1 h2 => ?_)
  rw [b_and]
  cases ea : bt (kn a) i
  · rfl
  · cases eb : bt (kn b) i
    · rfl
    · have := cv_kn_le H a ha i ea
      have := cv_kn_le H b hb i eb
      omega
theorem cv_ba_lt {ct bn a b : Nat} {fp sp kn hd : Nat → Int32} (H : cv_Hi ct bn fp sp kn hd) (ha : a < ct) (hb : b < ct) : cv_ba kn a b < ct := by
  rw [cv_ba_eq H ha hb]
  have := cv_bs_le (bt (kn a &&& kn b)) (min a b)
  omega
/-- the first key behind f on which two maps differ, or -2 -/
def cv_nx (A B : Nat → Option Int32) (f r : Int32) : Prop :=
  (∃ q, q < 64 ∧ r = nI q ∧ cv_ne A B q = true ∧ f < nI q ∧ ∀ k, k < q → ¬ (cv_ne A B k = true ∧ f < nI k)) ∨ (r = -2 ∧ ∀ k, k < 64 → ¬ (cv_ne A B k = true ∧ f < nI k))
theorem cv_nx_un {A B : Nat → Option Int32} {f r r' : Int32} (h : cv_nx A B f r) (h' : cv_nx A B f r') : r = r' := by
  rcases h with ⟨q, hq, e, n1, l1, g⟩ | ⟨e, g⟩ <;> rcases h' with ⟨q', hq', e', n1', l1', g'⟩ | ⟨e', g'⟩
  · rcases Nat.lt_trichotomy q q' with z | z | z
    · exact absurd ⟨n1, l1⟩ (g' q z)
    · rw [e, e', z]
    · exact absurd ⟨n1', l1'⟩ (g q' z)
  · exact absurd ⟨n1, l1⟩ (g' q hq)
  · exact absurd ⟨n1', l1'⟩ (g q' hq')
  · rw [e, e']
theorem cv_nx_cg {A B : Nat → Option Int32} {f f' r : Int32} (e : ∀ k, k < 64 → (f < nI k ↔ f' < nI k)) (h : cv_nx A B f r) : cv_nx A B f' r := by
  rcases h with ⟨q, hq, e1, n1, l1, g⟩ | ⟨e1, g⟩
  · exact Or.inl ⟨q, hq, e1, n1, (e q hq).mp l1, fun k hk z => g k hk ⟨z.1, (e k (by omega)).mpr z.2⟩⟩
  · exact Or.inr ⟨e1, fun k hk z => g k hk ⟨z.1, (e k hk).mpr z.2⟩⟩
section
variable {dm cl : Int32} {st fc bn : Nat} {ms cs ch bu ro fp sp kn hd wm wl wk dr : Nat → Int32}
theorem cv_xBase26 {post : Int32 → Prop} {x : Int32} : ∀ m, m < 32 → post (nI (cv_bs (bt x) m)) → wX_baseOf_26 post x dm (nI st) (nI fc) (nI bn) cl ms cs ch bu ro fp sp kn hd wm wl wk dr (m + 1) (nI m) := by
  intro m
  induction m with
  | zero =>
    intro _ h
    exact pk_le 0 0 (fun _ => h) (fun z => absurd z (by omega))
  | succ m ih =>
    intro hm h
    refine pk_le (m + 1) 0 (fun z => absurd z (by omega)) (fun _ => ?_)
    rw [cv_shb x hm, cv_bi0]
    refine br_c (fun z => nm_r (pk_m1 m) (ih (by omega) ?_)) (fun z => ?_)
    · rw [cv_bs_f z] at h
      exact h
    · rw [Bool.not_eq_false] at z
      rw [cv_bs_t z] at h
      exact h
theorem cv_xBase {post : Int32 → Prop} {ct a b : Nat} (H : cv_Hi ct bn fp sp kn hd) (ha : a < ct) (hb : b < ct) (h : post (nI (cv_ba kn a b))) : wpX_baseOf post (dm, nI st, nI fc, nI bn, cl, ms, cs, ch, bu, ro, fp, sp, kn, hd, wm, wl, wk, dr) (nI a) (nI b) := by
  have h20 := H.1.2.1
  rw [cv_ba_eq H ha hb] at h
  refine And.intro (vp_in_nI (by omega) (by omega)) ⟨vp_in_nI (by omega) (by omega), ?_⟩
  rw [nI_clamp (by omega), nI_clamp (by omega)]
  refine nm_e (pk_le b a (fun z => ⟨b + 1, cv_xBase26 b (by omega) ?_⟩) (fun z => ⟨a + 1, cv_xBase26 a (by omega) ?_⟩))
  · rw [Nat.min_eq_right z] at h
    exact h
  · rw [Nat.min_eq_left (by omega)] at h
    exact h
theorem cv_cn8 (p q : Nat → Bool) (i : Nat) (h : ∀ k, k < 8 → q k = p (8 * i + k)) : nI (cv_cn p (8 * i)) + nI (cv_cn q 8) = nI (cv_cn p (8 * (i + 1))) := by
  rw [nI_add, Nat.mul_add, cv_cn_add, cv_cn_cg h]
theorem cv_xCClash {post : Int32 → Prop} {o a b : Nat} {O A B : Nat → Option Int32} (hs : st ≤ 160) (hS : cv_St st ms cs ch bu) (ho : o < 20) (ha : a < 20) (hb : b < 20) (hO : cv_Ro st ms cs ro o O) (hA : cv_Ro st ms cs ro a A) (hB : cv_Ro st ms cs ro b B) (h : post (nI (cv_cn (cv_cl O A B) 64))) : wpX_countClashes post (dm, nI st, nI fc, nI bn, cl, ms, cs, ch, bu, ro, fp, sp, kn, hd, wm, wl, wk, dr) (nI o) (nI a) (nI b) := by
  refine cv_lq 8 (fun n i => wX_countClashes_6 post (nI o) (nI a) (nI b) dm (nI st) (nI fc) (nI bn) cl ms cs ch bu ro fp sp kn hd wm wl wk dr n (nI (cv_cn (cv_cl O A B) (8 * i))) (nI i)) ?_ ?_
  · intro n
    exact pk_le 8 8 (fun _ => h) (fun z => absurd z (by omega))
  · intro n i hi H
    obtain ⟨ro', hro, ero, cro⟩ := hO i hi
    obtain ⟨ra, hra, era, cra⟩ := hA i hi
    obtain ⟨rb, hrb, erb, crb⟩ := hB i hi
    refine pk_le 8 i (fun z => absurd z (by omega)) (fun _ => ?_)
    simp (disch := omega) only [cv_m8, nI_add, cv_in, nI_clamp]
    rw [ero, era, erb]
    refine ⟨by omega, by omega, by omega, ?_⟩
    refine cv_xClIn (by omega) (by omega) (by omega) (hS.1 _ hro) (hS.1 _ hra) (hS.1 _ hrb) fun x hx => cv_xOnes ?_
    refine nm_r (cv_cn8 _ _ i fun k hk => ?_) (nm_r (nI_1 i) H)
    rw [hx k hk]
    exact cv_cl_cg (cro k hk) (cra k hk) (crb k hk)
/-- present keys -/
def cv_so (A : Nat → Option Int32) (k : Nat) : Bool := (A k).isSome
theorem cv_so_cc {ms cs : Nat → Int32} {r k : Nat} : (cv_cc ms cs r k).isSome = bt (ms r) k := by
  unfold cv_cc
  cases bt (ms r) k <;> rfl
theorem cv_xSize {post : Int32 → Prop} {a : Nat} {A : Nat → Option Int32} (hs : st ≤ 160) (ha : a < 20) (hA : cv_Ro st ms cs ro a A) (h : post (nI (cv_cn (cv_so A) 64))) : ∃ n, wX_size_14 post (nI a) dm (nI st) (nI fc) (nI bn) cl ms cs ch bu ro fp sp kn hd wm wl wk dr n 0 0 := by
  refine cv_lq 8 (fun n i => wX_size_14 post (nI a) dm (nI st) (nI fc) (nI bn) cl ms cs ch bu ro fp sp kn hd wm wl wk dr n (nI (cv_cn (cv_so A) (8 * i))) (nI i)) ?_ ?_
  · intro n
    exact pk_le 8 8 (fun _ => h) (fun z => absurd z (by omega))
  · intro n i hi H
    obtain ⟨ra, hra, era, cra⟩ := hA i hi
    refine pk_le 8 i (fun z => absurd z (by omega)) (fun _ => ?_)
    simp (disch := omega) only [cv_m8, nI_add, cv_in, nI_clamp]
    rw [era]
    refine ⟨by omega, vp_in_nI (by omega) (by omega), ?_⟩
    rw [nI_clamp (by omega)]
    refine cv_xOnes (nm_r (cv_cn8 _ _ i fun k hk => ?_) (nm_r (nI_1 i) H))
    rw [← cv_so_cc (cs := cs), cra k hk]
    rfl
theorem cv_xDiffering {post : Int32 → Prop} {a b : Nat} {A B : Nat → Option Int32} (hs : st ≤ 160) (hS : cv_St st ms cs ch bu) (ha : a < 20) (hb : b < 20) (hA : cv_Ro st ms cs ro a A) (hB : cv_Ro st ms cs ro b B) (h : post (nI (cv_df A B))) : ∃ n, wX_differing_23 post (nI a) (nI b) dm (nI st) (nI fc) (nI bn) cl ms cs ch bu ro fp sp kn hd wm wl wk dr n 0 0 := by
  refine cv_lq 8 (fun n i => wX_differing_23 post (nI a) (nI b) dm (nI st) (nI fc) (nI bn) cl ms cs ch bu ro fp sp kn hd wm wl wk dr n (nI (cv_cn (cv_ne A B) (8 * i))) (nI i)) ?_ ?_
  · intro n
    exact pk_le 8 8 (fun _ => h) (fun z => absurd z (by omega))
  · intro n i hi H
    obtain ⟨ra, hra, era, cra⟩ := hA i hi
    obtain ⟨rb, hrb, erb, crb⟩ := hB i hi
    refine pk_le 8 i (fun z => absurd z (by omega)) (fun _ => ?_)
    simp (disch := omega) only [cv_m8, nI_add, cv_in, nI_clamp]
    rw [era, erb]
    refine ⟨by omega, by omega, ?_⟩
    refine cv_xDiff (by omega) (by omega) (hS.1 _ hra) (hS.1 _ hrb) fun x hx => cv_xOnes ?_
    refine nm_r (cv_cn8 _ _ i fun k hk => ?_) (nm_r (nI_1 i) H)
    rw [hx k hk]
    exact cv_ne_cg (cra k hk) (crb k hk)
theorem cv_xNext73 {post : Int32 → Prop} {J : Int32 → Prop} {x1 x2 x6 f : Int32} {c : Nat} {p : Nat → Bool} (hc : c < 8) (hx : ∀ k, k < 8 → bt x6 k = p (8 * c + k)) (h1 : ∀ q, q < 64 → p q = true → f < nI q → (∀ k, k < q → ¬ (p k = true ∧ f < nI k)) → post (nI q)) (I : ∀ k, k < 8 * c → ¬ (p k = true ∧ f < nI k)) (hJ : (∀ k, k < 8 * (c + 1) → ¬ (p k = true ∧ f < nI k)) → J (nI (c + 1))) : ∃ n, wX_nextDifference_73 post J x1 x2 f (nI c) x6 dm (nI st) (nI fc) (nI bn) cl ms cs ch bu ro fp sp kn hd wm wl wk dr n 0 := by
  refine cv_lp 8 (fun n i => wX_nextDifference_73 post J x1 x2 f (nI c) x6 dm (nI st) (nI fc) (nI bn) cl ms cs ch bu ro fp sp kn hd wm wl wk dr n (nI i)) (fun i => ∀ k, k < 8 * c + i → ¬ (p k = true ∧ f < nI k)) I ?_ ?_
  · intro n I
    exact pk_le 8 8 (fun _ => nm_r (nI_1 c) (hJ I)) (fun z => absurd z (by omega))
  · intro n i hi I H
    have st1 : ¬ (p (8 * c + i) = true ∧ f < nI (8 * c + i)) → ∀ k, k < 8 * c + (i + 1) → ¬ (p k = true ∧ f < nI k) := by
      intro g k hk
      rcases Nat.lt_or_ge k (8 * c + i) with z | z
      · exact I k z
      · obtain rfl : k = 8 * c + i := by omega
        exact g
    refine pk_le 8 i (fun z => absurd z (by omega)) (fun _ => ?_)
    rw [cv_shb x6 (by omega), cv_bi1, hx i hi, cv_m8, nI_add]
    refine br_c (fun z => br_c (fun y => nm_r (nI_1 i) (H (st1 fun g => ?_))) (fun y => ?_)) (fun z => nm_r (nI_1 i) (H (st1 fun g => z g.1)))
    · exact absurd g.2 (Int32.not_lt.mpr y)
    · exact h1 _ (by omega) z (Int32.not_le.mp y) I
theorem cv_xNext {post : Int32 → Prop} {a b : Nat} {f : Int32} {A B : Nat → Option Int32} (hs : st ≤ 160) (hS : cv_St st ms cs ch bu) (ha : a < 20) (hb : b < 20) (hA : cv_Ro st ms cs ro a A) (hB : cv_Ro st ms cs ro b B) (h : ∀ r, cv_nx A B f r → post r) : ∃ n, wX_nextDifference_33 post (nI a) (nI b) f dm (nI st) (nI fc) (nI bn) cl ms cs ch bu ro fp sp kn hd wm wl wk dr n 0 := by
  refine cv_lp 8 (fun n i => wX_nextDifference_33 post (nI a) (nI b) f dm (nI st) (nI fc) (nI bn) cl ms cs ch bu ro fp sp kn hd wm wl wk dr n (nI i)) (fun i => ∀ k, k < 8 * i → ¬ (cv_ne A B k = true ∧ f < nI k)) (fun k hk => absurd hk (by omega)) ?_ ?_
  · intro n I
    exact pk_le 8 8 (fun _ => h _ (Or.inr ⟨rfl, I⟩)) (fun z => absurd z (by omega))
  · intro n i hi I H
    obtain ⟨ra, hra, era, cra⟩ := hA i hi
    obtain ⟨rb, hrb, erb, crb⟩ := hB i hi
    refine pk_le 8 i (fun z => absurd z (by omega)) (fun _ => ?_)
    simp (disch := omega) only [cv_m8, nI_add, cv_in, nI_clamp]
    rw [era, erb]
    refine ⟨by omega, by omega, ?_⟩
    refine cv_xDiff (by omega) (by omega) (hS.1 _ hra) (hS.1 _ hrb) fun x hx => ?_
    refine cv_xNext73 (p := cv_ne A B) hi (fun k hk => ?_) (fun q hq n1 l1 g => h _ (Or.inl ⟨q, hq, rfl, n1, l1, g⟩)) I H
    rw [hx k hk]
    exact cv_ne_cg (cra k hk) (crb k hk)
theorem cv_xAnc {post : Int32 → Prop} {c : Nat} (hc : c < 20) (h : post (nI (cv_cn (bt (kn c)) 20))) : ∃ n, wX_ancestors_14 post (nI c) dm (nI st) (nI fc) (nI bn) cl ms cs ch bu ro fp sp kn hd wm wl wk dr n 0 0 := by
  refine cv_lq 20 (fun n i => wX_ancestors_14 post (nI c) dm (nI st) (nI fc) (nI bn) cl ms cs ch bu ro fp sp kn hd wm wl wk dr n (nI (cv_cn (bt (kn c)) i)) (nI i)) ?_ ?_
  · intro n
    exact pk_le 20 20 (fun _ => h) (fun z => absurd z (by omega))
  · intro n i hi H
    refine pk_le 20 i (fun z => absurd z (by omega)) (fun _ => ⟨vp_in_nI hc (by omega), ?_⟩)
    rw [nI_clamp (by omega), cv_shb _ (by omega), cv_cn_bi]
    exact nm_e (nm_r (nI_1 i) H)
end
end
section
/-! put, delete, intern -/
theorem cv_Wk_set {st k : Nat} {ms cs wm wl wk : Nat → Int32} {W : Nat → Option Int32} {b : Bool} {m v : Int32} (hW : cv_Wk st ms cs wm wl wk W) (hm : ∀ i, i < 8 → bt m i = if i = k % 8 then b else bt (wm (k / 8)) i) (hv : b = false → v = 0) : cv_Wk st ms cs (upd wm (k / 8) m) (upd wl k v) (upd wk (k / 8) (-1)) (cv_wp W k (cv_ob b v)) := by
  intro j hj
  obtain ⟨z, c, w⟩ := hW j hj
  by_cases e : j = k / 8
  · subst e
    have hb : ∀ i, i < 8 → bt (upd wm (k / 8) m (k / 8)) i = if i = k % 8 then b else bt (wm (k / 8)) i := by
      intro i hi
      rw [pk_us]
      exact hm i hi
    refine ⟨?_, ?_, Or.inl pk_us⟩
    · intro i hi
      rw [hb i hi]
      by_cases ei : i = k % 8
      · rw [if_pos ei]
        have : 8 * (k / 8) + i = k := by omega
        rw [this, pk_us]
        exact hv
      · rw [if_neg ei, pk_un (by omega)]
        exact z i hi
    · intro i hi
      unfold cv_cc
      rw [hb i hi]
      by_cases ei : i = k % 8
      · have : 8 * (k / 8) + i = k := by omega
        rw [if_pos ei, this, pk_us, cv_wp_s]
      · rw [if_neg ei, pk_un (by omega), cv_wp_n (by omega)]
        exact c i hi
  · have hk : ∀ i, i < 8 → 8 * j + i ≠ k := by
      intro i hi
      omega
    refine ⟨?_, ?_, ?_⟩
    · intro i hi
      rw [pk_un e, pk_un (hk i hi)]
      exact z i hi
    · intro i hi
      unfold cv_cc
      rw [pk_un e, pk_un (hk i hi), cv_wp_n (hk i hi)]
      exact c i hi
    · rw [pk_un e]
      exact w.elim Or.inl (fun q => Or.inr (cv_ro_cg (fun i hi => (cv_wp_n (hk i hi)).symm) q))
theorem cv_Wk_at {st k : Nat} {ms cs wm wl wk : Nat → Int32} {W : Nat → Option Int32} (hk : k < 64) (hW : cv_Wk st ms cs wm wl wk W) : W k = cv_ob (bt (wm (k / 8)) (k % 8)) (wl k) := by
  have h := (hW (k / 8) (by omega)).2.1 (k % 8) (by omega)
  have e : 8 * (k / 8) + k % 8 = k := by omega
  unfold cv_cc at h
  rw [e] at h
  exact h.symm
section
variable {dm cl : Int32} {st fc bn : Nat} {ms cs ch bu ro fp sp kn hd wm wl wk dr : Nat → Int32}
variable {ct : Nat} {M : Nat → Nat → Option Int32} {W : Nat → Option Int32}
theorem cv_xPut {post : Int32 → SX → Prop} {k : Nat} {v : Int32} (hk : k < 64) (F : cv_FX ct st ms cs ch bu ro wm wl wk M W) (K : ∀ u', cv_RX fc ct bn cl fp sp kn hd M (cv_wp W k (some v)) u' → post (cv_bi (W k).isNone) u') : wpX_put post (dm, nI st, nI fc, nI bn, cl, ms, cs, ch, bu, ro, fp, sp, kn, hd, wm, wl, wk, dr) (nI k) v := by
  have e := cv_Wk_at hk F.2.2.2
  have KK : ∀ z, z = cv_bi (W k).isNone → wX_put_38 post (nI k) v (nI (k / 8)) ((1 : Int32) <<< (nI (k % 8) &&& 31)) z dm (nI st) (nI fc) (nI bn) cl ms cs ch bu ro fp sp kn hd wm wl wk dr := by
    intro z ez
    subst ez
    unfold wX_put_38
    simp (disch := omega) only [forall_eq, cv_m8, cv_m64, cv_a1280, cv_a1344, nI_add, nI_1, cv_in, nI_clamp]
    refine ⟨by omega, by omega, by omega, by omega, K _ (cv_RX_i ⟨F.1, F.2.1, F.2.2.1, ?_⟩)⟩
    refine cv_Wk_set (b := true) F.2.2.2 (fun i hi => ?_) (fun z => nomatch z)
    rw [b_or, cv_1sh (by omega) (by omega)]
    by_cases ei : i = k % 8
    · rw [decide_eq_true ei, if_pos ei, Bool.or_true]
    · rw [decide_eq_false ei, if_neg ei, Bool.or_false]
  unfold wpX_put
  refine cv_xIsKey hk (br_f (by decide) (nm_r (cv_k3 hk) ?_))
  rw [cv_k7 hk]
  refine nm_e ⟨vp_in_nI (by omega) (by omega), ?_⟩
  rw [nI_clamp (by omega), cv_and0 _ (by omega)]
  refine br_c (fun z => KK 1 ?_) (fun z => KK 0 ?_)
  · rw [e, z]
    rfl
  · rw [Bool.not_eq_false] at z
    rw [e, z]
    rfl
theorem cv_xDel {post : Int32 → SX → Prop} {k : Nat} (hk : k < 64) (F : cv_FX ct st ms cs ch bu ro wm wl wk M W) (K : ∀ u', cv_RX fc ct bn cl fp sp kn hd M (cv_wp W k none) u' → post (cv_bi (W k).isSome) u') : wpX_delete post (dm, nI st, nI fc, nI bn, cl, ms, cs, ch, bu, ro, fp, sp, kn, hd, wm, wl, wk, dr) (nI k) := by
  have e := cv_Wk_at hk F.2.2.2
  unfold wpX_delete
  refine cv_xIsKey hk (br_f (by decide) (nm_r (cv_k3 hk) ?_))
  rw [cv_k7 hk]
  refine nm_e ⟨vp_in_nI (by omega) (by omega), ?_⟩
  simp (disch := omega) only [forall_eq, cv_m8, cv_m64, cv_a1280, cv_a1344, nI_add, nI_1, cv_in, nI_clamp]
  rw [cv_and0 _ (by omega)]
  refine br_c (fun z => ?_) (fun z => ?_)
  · rw [z] at e
    rw [e] at K
    refine K _ (cv_RX_i ⟨F.1, F.2.1, F.2.2.1, cv_Wk_cg (fun i hi => ?_) F.2.2.2⟩)
    by_cases ei : i = k
    · rw [ei, cv_wp_s]
      exact e
    · rw [cv_wp_n ei]
  · rw [Bool.not_eq_false] at z
    rw [z] at e
    rw [e] at K
    refine ⟨by omega, by omega, by omega, by omega, K _ (cv_RX_i ⟨F.1, F.2.1, F.2.2.1, ?_⟩)⟩
    refine cv_Wk_set (b := false) F.2.2.2 (fun i hi => ?_) (fun _ => rfl)
    rw [b_and, cv_not _ (by omega), cv_1sh (by omega) (by omega)]
    by_cases ei : i = k % 8
    · rw [decide_eq_true ei, if_pos ei]
      exact Bool.and_false _
    · rw [decide_eq_false ei, if_neg ei]
      exact Bool.and_true _
theorem cv_xInt108 {post : Int32 → SX → Prop} {b : Nat} (hb : b < 32) (hs : st < 168) (hS : cv_St st ms cs ch bu) (hz : ∀ k, k < 8 → bt dm k = false → dr k = 0) (K : ∀ r st' ms' cs' ch' bu', r < st' → st' ≤ st + 1 → cv_St st' ms' cs' ch' bu' → cv_Ex st ms cs st' ms' cs' → (∀ k, k < 8 → cv_cc ms' cs' r k = cv_ob (bt dm k) (dr k)) → post (nI r) (dm, nI st', nI fc, nI bn, cl, ms', cs', ch', bu', ro, fp, sp, kn, hd, wm, wl, wk, dr)) : wX_intern_92 post (nI b) dm (nI st) (nI fc) (nI bn) cl ms cs ch bu ro fp sp kn hd wm wl wk dr := by
  unfold wX_intern_92
  refine ⟨vp_in_nI hs (by omega), ?_⟩
  rw [nI_clamp (by omega)]
  refine nm_e ?_
  refine loop_0 (fun n i s => wX_intern_108 post (nI b) dm (nI st) (nI fc) (nI bn) cl n (nI i) (upd ms st dm) s ch bu ro fp sp kn hd wm wl wk dr) (fun i s => (∀ k, k < i → s (8 * st + k) = dr k) ∧ (∀ q, q < 8 * st → s q = cs q)) 8 cs ⟨fun k hk => absurd hk (by omega), fun _ _ => rfl⟩ ?_ ?_
  · intro n s I
    refine pk_le 8 8 (fun _ => ?_) (fun z => absurd z (by omega))
    simp (disch := omega) only [forall_eq, cv_m8, cv_m64, cv_a1280, cv_a1344, nI_add, nI_1, cv_in, nI_clamp, nI_pred]
    refine ⟨hb, hs, hb, K st (st + 1) _ _ _ _ (by omega) (by omega) ⟨?_, ?_, ?_⟩ ⟨by omega, ?_⟩ ?_⟩
    · intro r hr k hk
      rcases Nat.lt_or_ge r st with z | z
      · rw [pk_un (by omega), I.2 _ (by omega)]
        exact hS.1 r z k hk
      · obtain rfl : r = st := by omega
        rw [pk_us, I.1 k hk]
        exact hz k hk
    · intro r hr
      rcases Nat.lt_or_ge r st with z | z
      · rw [pk_un (by omega)]
        exact cv_pt_mono (by omega) (hS.2.1 r z)
      · obtain rfl : r = st := by omega
        rw [pk_us]
        exact cv_pt_mono (by omega) (hS.2.2 b hb)
    · intro q hq
      by_cases e : q = b
      · rw [e, pk_us]
        exact Or.inr ⟨st, by omega, rfl⟩
      · rw [pk_un e]
        exact cv_pt_mono (by omega) (hS.2.2 q hq)
    · intro r hr k hk
      unfold cv_cc
      rw [pk_un (by omega), I.2 _ (by omega)]
    · intro k hk
      unfold cv_cc
      rw [pk_us, I.1 k hk]
  · intro n i s hi I H
    refine pk_le 8 i (fun z => absurd z (by omega)) (fun _ => ?_)
    simp (disch := omega) only [forall_eq, cv_m8, cv_m64, cv_a1280, cv_a1344, nI_add, nI_1, cv_in, nI_clamp]
    refine ⟨hi, by omega, H _ ⟨?_, ?_⟩⟩
    · intro k hk
      rcases Nat.lt_or_ge k i with z | z
      · rw [pk_un (by omega)]
        exact I.1 k z
      · obtain rfl : k = i := by omega
        exact pk_us
    · intro q hq
      rw [pk_un (by omega)]
      exact I.2 q hq
theorem cv_xIntern {post : Int32 → SX → Prop} (hs : st < 168) (hS : cv_St st ms cs ch bu) (hz : ∀ k, k < 8 → bt dm k = false → dr k = 0) (K : ∀ r st' ms' cs' ch' bu', r < st' → st' ≤ st + 1 → cv_St st' ms' cs' ch' bu' → cv_Ex st ms cs st' ms' cs' → (∀ k, k < 8 → cv_cc ms' cs' r k = cv_ob (bt dm k) (dr k)) → post (nI r) (dm, nI st', nI fc, nI bn, cl, ms', cs', ch', bu', ro, fp, sp, kn, hd, wm, wl, wk, dr)) : wpX_intern post (dm, nI st, nI fc, nI bn, cl, ms, cs, ch, bu, ro, fp, sp, kn, hd, wm, wl, wk, dr) := by
  refine loop_0 (fun n i s => wX_intern_7 post dm (nI st) (nI fc) (nI bn) cl ms cs ch bu ro fp sp kn hd wm wl wk dr n s (nI i)) (fun _ _ => True) 8 dm trivial ?_ ?_
  · intro n s _
    refine pk_le 8 8 (fun _ => ?_) (fun z => absurd z (by omega))
    obtain ⟨b, hb, eb⟩ := pk_andE ((s ^^^ ((s.toUInt32 >>> ((7 : Int32).toUInt32 &&& Int32.toUInt32 31)).toInt32)) ^^^ ((s.toUInt32 >>> ((19 : Int32).toUInt32 &&& Int32.toUInt32 31)).toInt32)) (m := 31) 5 (by decide)
    have hb' : b < 32 := hb
    refine nm_r eb ⟨vp_in_nI hb' (by omega), ?_⟩
    rw [nI_clamp (by omega)]
    refine nm_e ?_
    have z92 := cv_xInt108 (post := post) (fc := fc) (bn := bn) (cl := cl) (ro := ro) (fp := fp) (sp := sp) (kn := kn) (hd := hd) (wm := wm) (wl := wl) (wk := wk) hb' hs hS hz K
    refine loop_0 (fun n i s => wX_intern_56 post (nI b) dm (nI st) (nI fc) (nI bn) cl ms cs ch bu ro fp sp kn hd wm wl wk dr n s (nI i)) (fun _ s => cv_pt st s) 168 (bu b) (hS.2.2 b hb') ?_ ?_
    · intro n s I
      exact pk_le 168 168 (fun _ => z92) (fun z => absurd z (by omega))
    · intro n i s hi I H
      refine pk_le 168 i (fun z => absurd z (by omega)) (fun _ => br_c (fun _ => z92) (fun z => ?_))
      obtain ⟨q, hq, rfl⟩ := I.resolve_left z
      refine cv_xIsDraft (by omega) (fun e1 e2 => br_f (by decide) ?_) (br_t rfl ?_)
      · refine K q st ms cs ch bu hq (by omega) hS cv_Ex_r (fun k hk => ?_)
        unfold cv_cc
        rw [e1, e2 k hk]
      · refine ⟨vp_in_nI (by omega) (by omega), ?_⟩
        rw [nI_clamp (by omega)]
        exact nm_e (nm_r (nI_1 i) (H _ (hS.2.1 q hq)))
  · intro n i s hi _ H
    refine pk_le 8 i (fun z => absurd z (by omega)) (fun _ => ⟨vp_in_nI hi (by omega), ?_⟩)
    exact nm_e (nm_r (nI_1 i) (H _ trivial))
end
end
section
/-! settleWork, enter, takeChunk, checkout, commit -/
theorem cv_Hi_new {ct bn h : Nat} {fp sp kn kn' hd : Nat → Int32} {x : Int32} (H : cv_Hi ct bn fp sp kn hd) (hf : ct < 20) (hh : h < ct) (hx : cv_pt ct x) (k0 : ∀ c, c < ct → kn' c = kn c) (k1 : ∀ i, i < 32 → (bt (kn' ct) i = true ↔ i = ct ∨ bt (kn h) i = true ∨ (∃ p, p < ct ∧ x = nI p ∧ bt (kn p) i = true))) : cv_Hi (ct + 1) bn (upd fp ct (nI h)) (upd sp ct x) kn' (upd hd bn (nI ct)) := by
  obtain ⟨⟨h1, h2, h3⟩, h4, h5, h6, h7⟩ := H
  refine ⟨⟨by omega, by omega, h3⟩, ?_, ?_, ?_, ?_⟩
  · intro b hb
    by_cases e : b = bn
    · rw [e, pk_us]
      exact ⟨ct, by omega, rfl⟩
    · rw [pk_un e]
      obtain ⟨q, hq, eq⟩ := h4 b hb
      exact ⟨q, by omega, eq⟩
  · intro c hc
    by_cases e : c = ct
    · rw [e, pk_us]
      exact Or.inr ⟨h, hh, rfl⟩
    · rw [pk_un e]
      exact h5 c (by omega)
  · intro c hc
    by_cases e : c = ct
    · rw [e, pk_us]
      exact hx
    · rw [pk_un e]
      exact h6 c (by omega)
  · intro c hc i hi
    by_cases e : c = ct
    · subst e
      rw [pk_us, pk_us, k1 i hi]
      constructor
      · rintro (z | z | ⟨p, hp, ep, z⟩)
        · exact Or.inl z
        · refine Or.inr (Or.inl ⟨h, hh, rfl, ?_⟩)
          rw [k0 h hh]
          exact z
        · refine Or.inr (Or.inr ⟨p, hp, ep, ?_⟩)
          rw [k0 p hp]
          exact z
      · rintro (z | ⟨p, hp, ep, z⟩ | ⟨p, hp, ep, z⟩)
        · exact Or.inl z
        · obtain rfl : h = p := (nI_eq (by omega) (by omega)).mp ep
          rw [k0 h hh] at z
          exact Or.inr (Or.inl z)
        · rw [k0 p hp] at z
          exact Or.inr (Or.inr ⟨p, hp, ep, z⟩)
    · rw [pk_un e, pk_un e, k0 c (by omega), h7 c (by omega) i hi]
      constructor
      · rintro (z | ⟨p, hp, ep, z⟩ | ⟨p, hp, ep, z⟩)
        · exact Or.inl z
        · refine Or.inr (Or.inl ⟨p, hp, ep, ?_⟩)
          rw [k0 p (by omega)]
          exact z
        · refine Or.inr (Or.inr ⟨p, hp, ep, ?_⟩)
          rw [k0 p (by omega)]
          exact z
      · rintro (z | ⟨p, hp, ep, z⟩ | ⟨p, hp, ep, z⟩)
        · exact Or.inl z
        · rw [k0 p (by omega)] at z
          exact Or.inr (Or.inl ⟨p, hp, ep, z⟩)
        · rw [k0 p (by omega)] at z
          exact Or.inr (Or.inr ⟨p, hp, ep, z⟩)
section
variable {dm cl : Int32} {st fc bn : Nat} {ms cs ch bu ro fp sp kn hd wm wl wk dr : Nat → Int32}
theorem cv_xTake {post : SX → Prop} {j r : Nat} (hj : j < 8) (hr : r < 168) (K : ∀ wl', (∀ k, k < 8 → wl' (8 * j + k) = cs (8 * r + k)) → (∀ q, (q < 8 * j ∨ 8 * j + 8 ≤ q) → wl' q = wl q) → post (dm, nI st, nI fc, nI bn, cl, ms, cs, ch, bu, ro, fp, sp, kn, hd, upd wm j (ms r), wl', upd wk j (nI r), dr)) : wpX_takeChunk post (dm, nI st, nI fc, nI bn, cl, ms, cs, ch, bu, ro, fp, sp, kn, hd, wm, wl, wk, dr) (nI j) (nI r) := by
  refine And.intro (vp_in_nI hr (by omega)) ⟨vp_in_nI hj (by omega), ?_⟩
  rw [nI_clamp (by omega), nI_clamp (by omega)]
  refine nm_e ?_
  refine loop_0 (fun n i s => wX_takeChunk_14 post (nI j) (nI r) dm (nI st) (nI fc) (nI bn) cl n (nI i) ms cs ch bu ro fp sp kn hd (upd wm j (ms r)) s wk dr) (fun i s => (∀ k, k < i → s (8 * j + k) = cs (8 * r + k)) ∧ (∀ q, (q < 8 * j ∨ 8 * j + 8 ≤ q) → s q = wl q)) 8 wl ⟨fun k hk => absurd hk (by omega), fun _ _ => rfl⟩ ?_ ?_
  · intro n s I
    refine pk_le 8 8 (fun _ => ⟨vp_in_nI hj (by omega), ?_⟩) (fun z => absurd z (by omega))
    rw [nI_clamp (by omega)]
    exact nm_e (K s I.1 I.2)
  · intro n i s hi I H
    refine pk_le 8 i (fun z => absurd z (by omega)) (fun _ => ?_)
    simp (disch := omega) only [forall_eq, cv_m8, cv_m64, cv_a1280, cv_a1344, nI_add, nI_1, cv_in, nI_clamp]
    refine ⟨by omega, by omega, H _ ⟨?_, ?_⟩⟩
    · intro k hk
      rcases Nat.lt_or_ge k i with z | z
      · rw [pk_un (by omega)]
        exact I.1 k z
      · obtain rfl : k = i := by omega
        exact pk_us
    · intro q hq
      rw [pk_un (by omega)]
      exact I.2 q hq
theorem cv_Wk_take {st j r : Nat} {ms cs wm wl wk wl' : Nat → Int32} {W W' : Nat → Option Int32} (hW : cv_Wk st ms cs wm wl wk W) (hr : r < st) (zr : cv_Z ms cs r) (e1 : ∀ k, k < 8 → wl' (8 * j + k) = cs (8 * r + k)) (e2 : ∀ q, (q < 8 * j ∨ 8 * j + 8 ≤ q) → wl' q = wl q) (w1 : ∀ k, k < 8 → cv_cc ms cs r k = W' (8 * j + k)) (w2 : ∀ q, (q < 8 * j ∨ 8 * j + 8 ≤ q) → W q = W' q) : cv_Wk st ms cs (upd wm j (ms r)) wl' (upd wk j (nI r)) W' := by
  intro i hi
  by_cases e : i = j
  · subst e
    have c : ∀ k, k < 8 → cv_cc (upd wm i (ms r)) wl' i k = cv_cc ms cs r k := by
      intro k hk
      unfold cv_cc
      rw [pk_us, e1 k hk]
    refine ⟨?_, fun k hk => (c k hk).trans (w1 k hk), Or.inr ⟨r, hr, pk_us, w1⟩⟩
    intro k hk
    rw [pk_us, e1 k hk]
    exact zr k hk
  · obtain ⟨z, c, w⟩ := hW i hi
    have g : ∀ k, k < 8 → 8 * i + k < 8 * j ∨ 8 * j + 8 ≤ 8 * i + k := by
      intro k hk
      omega
    refine ⟨?_, ?_, ?_⟩
    · intro k hk
      rw [pk_un e, e2 _ (g k hk)]
      exact z k hk
    · intro k hk
      unfold cv_cc
      rw [pk_un e, e2 _ (g k hk), ← w2 _ (g k hk)]
      exact c k hk
    · rw [pk_un e]
      exact w.elim Or.inl (fun q => Or.inr (cv_ro_cg (fun k hk => w2 _ (g k hk)) q))
variable {ct : Nat} {M : Nat → Nat → Option Int32} {W : Nat → Option Int32}
theorem cv_xCheck {post : Int32 → SX → Prop} {c : Nat} (hf : fc ≤ 20) (hc : c < fc) (hct : c < ct) (ht : ct ≤ 20) (F : cv_FX ct st ms cs ch bu ro wm wl wk M W) (K : ∀ u', cv_RX fc ct bn cl fp sp kn hd M (M c) u' → post (nI (cv_df W (M c))) u') : wpX_checkout post (dm, nI st, nI fc, nI bn, cl, ms, cs, ch, bu, ro, fp, sp, kn, hd, wm, wl, wk, dr) (nI c) := by
  obtain ⟨hs, hS, hR, hW⟩ := F
  have hA := hR c hct
  unfold wpX_checkout
  refine cv_xIsCo hc hf (br_f (by decide) ?_)
  refine loop_0 (fun n i s => wX_checkout_14 post (nI c) n (nI (cv_cn (cv_ne W (M c)) (8 * i))) (nI i) dm (nI st) (nI fc) (nI bn) cl ms cs ch bu ro fp sp kn hd s.1 s.2.1 s.2.2 dr) (fun i s => cv_Wk st ms cs s.1 s.2.1 s.2.2 (cv_mx (M c) W (8 * i))) 8 (wm, wl, wk) (cv_Wk_cg (fun k hk => (cv_mx_r (by omega)).symm) hW) ?_ ?_
  · intro n s I
    refine pk_le 8 8 (fun _ => K _ (cv_RX_i ⟨hs, hS, hR, cv_Wk_cg (fun k hk => cv_mx_l (by omega)) I⟩)) (fun z => absurd z (by omega))
  · intro n i s hi I H
    obtain ⟨wm', wl', wk'⟩ := s
    obtain ⟨r, hr, er, cr⟩ := hA i hi
    have hr168 : r < 168 := by omega
    have hs160 : st ≤ 160 := by omega
    have hmr : ∀ k, k < 8 → cv_mx (M c) W (8 * i) (8 * i + k) = W (8 * i + k) := fun k hk => cv_mx_r (by omega)
    have hml : ∀ q, (q < 8 * i ∨ 8 * i + 8 ≤ q) → cv_mx (M c) W (8 * i) q = cv_mx (M c) W (8 * (i + 1)) q := by
      intro q hq
      rcases hq with hq | hq
      · rw [cv_mx_l hq, cv_mx_l (by omega)]
      · rw [cv_mx_r (by omega), cv_mx_r (by omega)]
    refine pk_le 8 i (fun z => absurd z (by omega)) (fun _ => ?_)
    dsimp only at I H ⊢
    rw [cv_m8, nI_add, nI_clamp (by omega), er]
    refine ⟨vp_in_nI (by omega) (by omega), nm_e ⟨vp_in_nI hi (by omega), ?_⟩⟩
    rw [nI_clamp (by omega)]
    refine br_c (fun e => nm_r (nI_1 i) ?_) (fun _ => ?_)
    · have hsame := cv_same hs160 hr168 I hi e
      have e0 : cv_cn (cv_ne W (M c)) (8 * (i + 1)) = cv_cn (cv_ne W (M c)) (8 * i) := by
        rw [Nat.mul_add, cv_cn_add, cv_cn_0 (n := 8 * 1), Nat.add_zero]
        intro k hk
        refine cv_ne_f.mpr ?_
        rw [← hmr k hk, hsame k hk]
        exact cr k hk
      have H' := H (wm', wl', wk')
      rw [e0] at H'
      refine H' (cv_Wk_cg (fun q hq => ?_) I)
      rcases Nat.lt_or_ge q (8 * i) with z | z
      · exact hml q (Or.inl z)
      · rcases Nat.lt_or_ge q (8 * i + 8) with z2 | z2
        · obtain ⟨k, rfl⟩ : ∃ k, q = 8 * i + k := ⟨q - 8 * i, by omega⟩
          rw [hsame k (by omega), cr k (by omega), cv_mx_l (by omega)]
        · exact hml q (Or.inr z2)
    · refine cv_xDfW hi hr168 (I i hi).1 (hS.1 r hr) ?_
      refine nm_r (cv_cn8 (cv_ne W (M c)) _ i fun k hk => cv_ne_cg (((I i hi).2.1 k hk).trans (hmr k hk)) (cr k hk)) ?_
      refine cv_xTake hi hr168 fun wl2 e1 e2 => ?_
      refine nm_r (nI_1 i) (H (_, _, _) (cv_Wk_take I hr (hS.1 r hr) e1 e2 (fun k hk => ?_) hml))
      rw [cv_mx_l (by omega)]
      exact cr k hk
theorem cv_xEnter {post : SX → Prop} {h : Nat} {x : Int32} (H : cv_Hi fc bn fp sp kn hd) (hf : fc < 20) (hh : h < fc) (hx : cv_pt fc x) (K : ∀ kn', cv_Hi (fc + 1) bn (upd fp fc (nI h)) (upd sp fc x) kn' (upd hd bn (nI fc)) → post (dm, nI st, nI (fc + 1), nI bn, cl, ms, cs, ch, bu, ro, upd fp fc (nI h), upd sp fc x, kn', upd hd bn (nI fc), wm, wl, wk, dr)) : wpX_enter post (dm, nI st, nI fc, nI bn, cl, ms, cs, ch, bu, ro, fp, sp, kn, hd, wm, wl, wk, dr) (nI h) x := by
  have hb := H.1.2.2
  have vf : vp_in (nI fc) 20 := vp_in_nI hf (by omega)
  have cf : (nI fc).toNatClampNeg = fc := nI_clamp (by omega)
  have b1 : ∀ i, i < 32 → (bt (kn h ||| ((1 : Int32) <<< (nI fc &&& 31))) i = true ↔ i = fc ∨ bt (kn h) i = true) := by
    intro i hi
    rw [b_or, cv_1sh (by omega) hi, Bool.or_eq_true, decide_eq_true_eq]
    exact Or.comm
  refine And.intro vf ?_
  rw [cf]
  refine nm_e ⟨vf, nm_e ⟨vp_in_nI (by omega) (by omega), vf, ?_⟩⟩
  rw [nI_clamp (n := h) (by omega)]
  refine nm_e (br_c (fun e => ?_) (fun e => ?_))
  · refine And.intro (vp_in_nI hb (by omega)) ?_
    rw [nI_clamp (by omega)]
    refine nm_e (nm_r (nI_1 fc) (K _ (cv_Hi_new H hf hh hx (fun c hc => pk_un (by omega)) (fun i hi => ?_))))
    rw [pk_us, b1 i hi]
    constructor
    · rintro (z | z)
      · exact Or.inl z
      · exact Or.inr (Or.inl z)
    · rintro (z | z | ⟨p, hp, ep, z⟩)
      · exact Or.inl z
      · exact Or.inr z
      · exact absurd (ep.symm.trans e) (cv_n1 (by omega))
  · obtain ⟨p, hp, rfl⟩ := hx.resolve_left e
    refine ⟨vf, vp_in_nI (by omega) (by omega), vf, ?_⟩
    rw [nI_clamp (n := p) (by omega)]
    refine nm_e (And.intro (vp_in_nI hb (by omega)) ?_)
    rw [nI_clamp (by omega)]
    refine nm_e (nm_r (nI_1 fc) (K _ (cv_Hi_new H hf hh hx (fun c hc => ?_) (fun i hi => ?_))))
    · rw [pk_un (by omega), pk_un (by omega)]
    · rw [pk_us, pk_us, pk_un (by omega), b_or, Bool.or_eq_true, b1 i hi]
      constructor
      · rintro ((z | z) | z)
        · exact Or.inl z
        · exact Or.inr (Or.inl z)
        · exact Or.inr (Or.inr ⟨p, hp, rfl, z⟩)
      · rintro (z | z | ⟨q, hq, eq, z⟩)
        · exact Or.inl (Or.inl z)
        · exact Or.inl (Or.inr z)
        · obtain rfl : p = q := (nI_eq (by omega) (by omega)).mp eq
          exact Or.inr z
end
end
section
/-! settleWork, commit -/
theorem cv_Rw_new {ct st : Nat} {ms cs ro ro' : Nat → Int32} {M : Nat → Nat → Option Int32} {A : Nat → Option Int32} (hR : cv_Rw ct st ms cs ro M) (e : ∀ q, q < 8 * ct → ro' q = ro q) (hN : cv_Ro st ms cs ro' ct A) : cv_Rw (ct + 1) st ms cs ro' (cv_ms M ct A) := by
  intro c hc
  by_cases ec : c = ct
  · subst ec
    rw [cv_ms_s]
    exact hN
  · rw [cv_ms_n ec]
    intro j hj
    rw [e _ (by omega)]
    exact hR c (by omega) j hj
theorem cv_Wk_name {st st' c r : Nat} {ms cs ms' cs' wm wl wk : Nat → Int32} {W : Nat → Option Int32} (hW : cv_Wk st ms cs wm wl wk W) (hE : cv_Ex st ms cs st' ms' cs') (hr : r < st') (e : ∀ k, k < 8 → cv_cc ms' cs' r k = cv_cc wm wl c k) : cv_Wk st' ms' cs' wm wl (upd wk c (nI r)) W := by
  intro j hj
  obtain ⟨z, g, w⟩ := hW j hj
  refine ⟨z, g, ?_⟩
  by_cases ej : j = c
  · subst ej
    rw [pk_us]
    exact Or.inr ⟨r, hr, rfl, fun k hk => (e k hk).trans (g k hk)⟩
  · rw [pk_un ej]
    exact w.elim Or.inl (fun q => Or.inr (cv_ro_ex hE q))
section
variable {dm cl : Int32} {st fc bn : Nat} {ms cs ch bu ro fp sp kn hd wm wl wk dr : Nat → Int32}
theorem cv_xSet30 {post : SX → Prop} {J : Int32 → Int32 → Int32 → Int32 → Int32 → Int32 → (Nat → Int32) → (Nat → Int32) → (Nat → Int32) → (Nat → Int32) → (Nat → Int32) → (Nat → Int32) → (Nat → Int32) → (Nat → Int32) → (Nat → Int32) → (Nat → Int32) → (Nat → Int32) → (Nat → Int32) → (Nat → Int32) → Prop} {c : Nat} (hc : c < 8) (hs : st < 168) (hS : cv_St st ms cs ch bu) (zc : cv_Z wm wl c) (K : ∀ r st' ms' cs' ch' bu' dr', r < st' → st' ≤ st + 1 → cv_St st' ms' cs' ch' bu' → cv_Ex st ms cs st' ms' cs' → (∀ k, k < 8 → cv_cc ms' cs' r k = cv_cc wm wl c k) → J (nI (c + 1)) (wm c) (nI st') (nI fc) (nI bn) cl ms' cs' ch' bu' ro fp sp kn hd wm wl (upd wk c (nI r)) dr') : ∃ n, wX_settleWork_30 post J (nI c) (wm c) (nI st) (nI fc) (nI bn) cl n 0 ms cs ch bu ro fp sp kn hd wm wl wk dr := by
  refine loop_0 (fun n i s => wX_settleWork_30 post J (nI c) (wm c) (nI st) (nI fc) (nI bn) cl n (nI i) ms cs ch bu ro fp sp kn hd wm wl wk s) (fun i s => ∀ k, k < i → s k = wl (8 * c + k)) 8 dr (fun k hk => absurd hk (by omega)) ?_ ?_
  · intro n s I
    refine pk_le 8 8 (fun _ => ?_) (fun z => absurd z (by omega))
    refine cv_xIntern hs hS (fun k hk => ?_) (fun r st' ms' cs' ch' bu' hr hst hS' hE hc' => ?_)
    · rw [I k hk]
      exact zc k hk
    · refine And.intro (vp_in_nI hc (by omega)) ?_
      rw [nI_clamp (by omega)]
      refine nm_e (nm_r (nI_1 c) (K r st' ms' cs' ch' bu' s hr hst hS' hE (fun k hk => ?_)))
      rw [hc' k hk, I k hk]
      rfl
  · intro n i s hi I H
    refine pk_le 8 i (fun z => absurd z (by omega)) (fun _ => ?_)
    simp (disch := omega) only [forall_eq, cv_m8, cv_m64, cv_a1280, cv_a1344, nI_add, nI_1, cv_in, nI_clamp]
    refine ⟨by omega, hi, H _ fun k hk => ?_⟩
    rcases Nat.lt_or_ge k i with z | z
    · rw [pk_un (by omega)]
      exact I k z
    · obtain rfl : k = i := by omega
      exact pk_us
theorem cv_xSet2 {post : SX → Prop} {B : Nat} {W : Nat → Option Int32} (hB : B ≤ 160) (K : ∀ dm' st' ms' cs' ch' bu' wk' dr', st' ≤ B → cv_St st' ms' cs' ch' bu' → cv_Ex st ms cs st' ms' cs' → cv_Wk st' ms' cs' wm wl wk' W → (∀ j, j < 8 → cv_ro st' ms' cs' (wk' j) W j) → post (dm', nI st', nI fc, nI bn, cl, ms', cs', ch', bu', ro, fp, sp, kn, hd, wm, wl, wk', dr')) : ∀ d c, c + d = 8 → ∀ dm1 st1 ms1 cs1 ch1 bu1 wk1 dr1, st1 + d ≤ B → cv_St st1 ms1 cs1 ch1 bu1 → cv_Ex st ms cs st1 ms1 cs1 → cv_Wk st1 ms1 cs1 wm wl wk1 W → (∀ j, j < c → cv_ro st1 ms1 cs1 (wk1 j) W j) → wX_settleWork_2 post (d + 1) (nI c) dm1 (nI st1) (nI fc) (nI bn) cl ms1 cs1 ch1 bu1 ro fp sp kn hd wm wl wk1 dr1 := by
  intro d
  induction d with
  | zero =>
    intro c hc dm1 st1 ms1 cs1 ch1 bu1 wk1 dr1 h1 hS hE hW hN
    exact pk_le 8 c (fun _ => K _ _ _ _ _ _ _ _ h1 hS hE hW (fun j hj => hN j (by omega))) (fun z => absurd z (by omega))
  | succ d ih =>
    intro c hc dm1 st1 ms1 cs1 ch1 bu1 wk1 dr1 h1 hS hE hW hN
    refine pk_le 8 c (fun z => absurd z (by omega)) (fun _ => And.intro (vp_in_nI (by omega) (by omega)) ?_)
    rw [nI_clamp (by omega)]
    refine br_c (fun e => ⟨vp_in_nI (by omega) (by omega), ?_⟩) (fun e => nm_r (nI_1 c) (ih (c + 1) (by omega) _ _ _ _ _ _ _ _ (by omega) hS hE hW (fun j hj => ?_)))
    · refine nm_e (cv_xSet30 (by omega) (by omega) hS (hW c (by omega)).1 fun r st' ms' cs' ch' bu' dr' hr hst hS' hE' hc' => ?_)
      have hW' := cv_Wk_name hW hE' hr hc'
      refine ih (c + 1) (by omega) _ _ _ _ _ _ _ _ (by omega) hS' (cv_Ex_t hE hE') hW' (fun j hj => ?_)
      by_cases ej : j = c
      · rw [ej, pk_us]
        exact ⟨r, hr, rfl, fun k hk => (hc' k hk).trans ((hW c (by omega)).2.1 k hk)⟩
      · rw [pk_un ej]
        exact cv_ro_ex hE' (hN j (by omega))
    · rcases Nat.lt_or_ge j c with z | z
      · exact hN j z
      · obtain rfl : j = c := by omega
        exact (hW j (by omega)).2.2.resolve_left e
theorem cv_xSettle {post : SX → Prop} {B : Nat} {W : Nat → Option Int32} (hB : B ≤ 160) (hs : st + 8 ≤ B) (hS : cv_St st ms cs ch bu) (hW : cv_Wk st ms cs wm wl wk W) (K : ∀ dm' st' ms' cs' ch' bu' wk' dr', st' ≤ B → cv_St st' ms' cs' ch' bu' → cv_Ex st ms cs st' ms' cs' → cv_Wk st' ms' cs' wm wl wk' W → (∀ j, j < 8 → cv_ro st' ms' cs' (wk' j) W j) → post (dm', nI st', nI fc, nI bn, cl, ms', cs', ch', bu', ro, fp, sp, kn, hd, wm, wl, wk', dr')) : wpX_settleWork post (dm, nI st, nI fc, nI bn, cl, ms, cs, ch, bu, ro, fp, sp, kn, hd, wm, wl, wk, dr) :=
  Exists.intro (8 + 1) (cv_xSet2 hB K 8 0 rfl dm st ms cs ch bu wk dr hs hS cv_Ex_r hW (fun j hj => absurd hj (by omega)))
theorem cv_xCommit {post : Int32 → SX → Prop} {h : Nat} {M : Nat → Nat → Option Int32} {W : Nat → Option Int32} (H : cv_Hi fc bn fp sp kn hd) (hf : fc < 20) (hh : h < fc) (eh : hd bn = nI h) (F : cv_FX fc st ms cs ch bu ro wm wl wk M W) (K : ∀ kn' u', cv_Hi (fc + 1) bn (upd fp fc (nI h)) (upd sp fc (-1)) kn' (upd hd bn (nI fc)) → cv_RX (fc + 1) (fc + 1) bn cl (upd fp fc (nI h)) (upd sp fc (-1)) kn' (upd hd bn (nI fc)) (cv_ms M fc W) W u' → post (nI fc) u') : wpX_commit post (dm, nI st, nI fc, nI bn, cl, ms, cs, ch, bu, ro, fp, sp, kn, hd, wm, wl, wk, dr) := by
  have hb := H.1.2.2
  obtain ⟨hs, hS, hR, hW⟩ := F
  refine pk_eq fc 20 (fun z => absurd z (by omega)) (fun _ => ?_)
  refine cv_xSettle (B := 8 * fc + 8) (by omega) (by omega) hS hW fun dm' st' ms' cs' ch' bu' wk' dr' hst hS' hE hW' hN => ?_
  refine loop_0 (fun n i s => wX_commit_17 post dm' (nI st') (nI fc) (nI bn) cl n (nI i) ms' cs' ch' bu' s fp sp kn hd wm wl wk' dr') (fun i s => (∀ j, j < i → s (8 * fc + j) = wk' j) ∧ (∀ q, q < 8 * fc → s q = ro q)) 8 ro ⟨fun k hk => absurd hk (by omega), fun _ _ => rfl⟩ ?_ ?_
  · intro n s I
    refine pk_le 8 8 (fun _ => And.intro (vp_in_nI hb (by omega)) ?_) (fun z => absurd z (by omega))
    rw [nI_clamp (by omega), eh]
    refine cv_xEnter H hf hh (Or.inl rfl) fun kn' H' => ?_
    show post (nI (fc + 1) - 1) _
    rw [nI_pred]
    refine K kn' _ H' (cv_RX_i ⟨by omega, hS', cv_Rw_new (cv_Rw_ex hE hR) I.2 (fun j hj => ?_), hW'⟩)
    rw [I.1 j hj]
    exact hN j hj
  · intro n i s hi I G
    refine pk_le 8 i (fun z => absurd z (by omega)) (fun _ => ?_)
    simp (disch := omega) only [forall_eq, cv_m8, cv_m64, cv_a1280, cv_a1344, nI_add, nI_1, cv_in, nI_clamp]
    refine ⟨hi, by omega, G _ ⟨?_, ?_⟩⟩
    · intro k hk
      rcases Nat.lt_or_ge k i with z | z
      · rw [pk_un (by omega)]
        exact I.1 k z
      · obtain rfl : k = i := by omega
        exact pk_us
    · intro q hq
      rw [pk_un (by omega)]
      exact I.2 q hq
end
end
section
/-! joinChunks, join -/
theorem cv_mg1 {O A B : Nat → Option Int32} {s : Int32} {k : Nat} (h : A k = O k) : cv_mg O A B s k = B k ∧ cv_cl O A B k = false := by
  have e : cv_ne A O k = false := cv_ne_f.mpr h
  have c : cv_cl O A B k = false := by
    unfold cv_cl
    rw [e, Bool.and_false, Bool.false_and]
  refine ⟨?_, c⟩
  unfold cv_mg cv_th
  rw [e, c, Bool.false_and, Bool.or_false, Bool.not_false, Bool.and_true]
  cases n : cv_ne A B k
  · exact cv_ne_f.mp n
  · rfl
theorem cv_mg2 {O A B : Nat → Option Int32} {s : Int32} {k : Nat} (h : B k = O k) : cv_mg O A B s k = A k ∧ cv_cl O A B k = false := by
  have e : cv_ne B O k = false := cv_ne_f.mpr h
  have c : cv_cl O A B k = false := by
    unfold cv_cl
    rw [e, Bool.and_false]
  refine ⟨?_, c⟩
  unfold cv_mg cv_th
  rw [c, Bool.false_and, Bool.or_false, cv_ne_cg (B' := O) (k' := k) rfl h]
  cases cv_ne A O k <;> rfl
theorem cv_mg3 {O A B : Nat → Option Int32} {s : Int32} {k : Nat} (h : B k = A k) : cv_mg O A B s k = A k ∧ cv_cl O A B k = false := by
  have e : cv_ne A B k = false := cv_ne_f.mpr h.symm
  have c : cv_cl O A B k = false := by
    unfold cv_cl
    rw [e, Bool.false_and, Bool.false_and]
  refine ⟨?_, c⟩
  unfold cv_mg cv_th
  rw [c, e, Bool.false_and, Bool.false_and]
  rfl
theorem cv_chg {O A B : Nat → Option Int32} {k : Nat} : (cv_ne B O k && !cv_ne A O k) = (cv_ne A B k && !cv_ne A O k) := by
  cases e : cv_ne A O k
  · have h := cv_ne_f.mp e
    rw [Bool.not_false, Bool.and_true, Bool.and_true]
    unfold cv_ne
    rw [h]
    exact congrArg not (decide_eq_decide.mpr eq_comm)
  · rw [Bool.not_true, Bool.and_false, Bool.and_false]
section
variable {dm cl : Int32} {st fc bn : Nat} {ms cs ch bu ro fp sp kn hd wm wl wk dr : Nat → Int32}
theorem cv_xJC86 {post : Int32 → SX → Prop} {a b : Nat} {x7 : Int32} (ha : a < 168) (hb : b < 168) (hs : st < 168) (hS : cv_St st ms cs ch bu) (hz : ∀ k, k < 8 → bt dm k = false → (if bt x7 k = true then cs (8 * b + k) else cs (8 * a + k)) = 0) (K : ∀ r st' ms' cs' ch' bu' dr', r < st' → st' ≤ st + 1 → cv_St st' ms' cs' ch' bu' → cv_Ex st ms cs st' ms' cs' → (∀ k, k < 8 → cv_cc ms' cs' r k = cv_ob (bt dm k) (if bt x7 k = true then cs (8 * b + k) else cs (8 * a + k))) → post (nI r) (dm, nI st', nI fc, nI bn, cl, ms', cs', ch', bu', ro, fp, sp, kn, hd, wm, wl, wk, dr')) : ∃ n, wX_joinChunks_86 post (nI a) (nI b) x7 dm (nI st) (nI fc) (nI bn) cl n 0 ms cs ch bu ro fp sp kn hd wm wl wk dr := by
  refine loop_0 (fun n i s => wX_joinChunks_86 post (nI a) (nI b) x7 dm (nI st) (nI fc) (nI bn) cl n (nI i) ms cs ch bu ro fp sp kn hd wm wl wk s) (fun i s => ∀ k, k < i → s k = if bt x7 k = true then cs (8 * b + k) else cs (8 * a + k)) 8 dr (fun k hk => absurd hk (by omega)) ?_ ?_
  · intro n s I
    refine pk_le 8 8 (fun _ => ?_) (fun z => absurd z (by omega))
    refine cv_xIntern hs hS (fun k hk => ?_) (fun r st' ms' cs' ch' bu' hr hst hS' hE hc' => K r st' ms' cs' ch' bu' s hr hst hS' hE (fun k hk => ?_))
    · rw [I k hk]
      exact hz k hk
    · rw [hc' k hk, I k hk]
  · intro n i s hi I H
    refine pk_le 8 i (fun z => absurd z (by omega)) (fun _ => ?_)
    have G : ∀ v, (v = if bt x7 i = true then cs (8 * b + i) else cs (8 * a + i)) → ∀ k, k < i + 1 → upd s i v k = if bt x7 k = true then cs (8 * b + k) else cs (8 * a + k) := by
      intro v ev k hk
      rcases Nat.lt_or_ge k i with z | z
      · rw [pk_un (by omega)]
        exact I k z
      · obtain rfl : k = i := by omega
        rw [pk_us]
        exact ev
    rw [cv_shb _ (by omega), cv_bi1]
    refine br_c (fun e => br_f (by decide) ?_) (fun e => br_t rfl ?_)
    · simp (disch := omega) only [forall_eq, cv_m8, cv_m64, cv_a1280, cv_a1344, nI_add, nI_1, cv_in, nI_clamp]
      exact ⟨by omega, hi, H _ (G _ (if_pos e).symm)⟩
    · simp (disch := omega) only [forall_eq, cv_m8, cv_m64, cv_a1280, cv_a1344, nI_add, nI_1, cv_in, nI_clamp]
      exact ⟨by omega, hi, H _ (G _ (if_neg e).symm)⟩
theorem cv_xJC42 {post : Int32 → SX → Prop} {a b : Nat} {x5 z0 : Int32} (ha : a < 168) (hb : b < 168) (hs : st < 168) (hS : cv_St st ms cs ch bu) (za : cv_Z ms cs a) (zb : cv_Z ms cs b) (K : ∀ r st' ms' cs' ch' bu' dm' dr', r < st' → st' ≤ st + 1 → cv_St st' ms' cs' ch' bu' → cv_Ex st ms cs st' ms' cs' → (∀ k, k < 8 → cv_cc ms' cs' r k = if bt z0 k = true then cv_cc ms cs b k else cv_cc ms cs a k) → post (nI r) (dm', nI st', nI fc, nI bn, cl + nI (cv_cn (bt x5) 8), ms', cs', ch', bu', ro, fp, sp, kn, hd, wm, wl, wk, dr')) : wX_joinChunks_42 post (nI a) (nI b) x5 z0 dm (nI st) (nI fc) (nI bn) cl ms cs ch bu ro fp sp kn hd wm wl wk dr := by
  have hbit : ∀ k, k < 8 → bt ((ms a &&& (z0 ^^^ (-1))) ||| (ms b &&& z0)) k = if bt z0 k = true then bt (ms b) k else bt (ms a) k := by
    intro k hk
    rw [b_or, b_and, b_and, cv_not _ (by omega)]
    cases bt z0 k
    · rw [Bool.not_false, Bool.and_true, Bool.and_false, Bool.or_false]
      rfl
    · rw [Bool.not_true, Bool.and_false, Bool.and_true, Bool.false_or]
      rfl
  unfold wX_joinChunks_42
  refine cv_xOnes (nm_e ⟨vp_in_nI ha (by omega), vp_in_nI hb (by omega), ?_⟩)
  rw [nI_clamp (by omega), nI_clamp (by omega)]
  refine nm_e (cv_xJC86 ha hb hs hS (fun k hk => ?_) (fun r st' ms' cs' ch' bu' dr' hr hst hS' hE hc => K r st' ms' cs' ch' bu' _ dr' hr hst hS' hE (fun k hk => ?_)))
  · rw [hbit k hk]
    cases bt z0 k
    · exact za k hk
    · exact zb k hk
  · rw [hc k hk, hbit k hk]
    cases bt z0 k <;> rfl
theorem cv_xJC {post : Int32 → SX → Prop} {o a b : Nat} {s : Int32} (ho : o < 168) (ha : a < 168) (hb : b < 168) (hs : st < 168) (hS : cv_St st ms cs ch bu) (zo : cv_Z ms cs o) (za : cv_Z ms cs a) (zb : cv_Z ms cs b) (K : ∀ r st' ms' cs' ch' bu' dm' dr', r < st' → st' ≤ st + 1 → cv_St st' ms' cs' ch' bu' → cv_Ex st ms cs st' ms' cs' → (∀ k, k < 8 → cv_cc ms' cs' r k = cv_mg (cv_cc ms cs o) (cv_cc ms cs a) (cv_cc ms cs b) s k) → post (nI r) (dm', nI st', nI fc, nI bn, cl + nI (cv_cn (cv_cl (cv_cc ms cs o) (cv_cc ms cs a) (cv_cc ms cs b)) 8), ms', cs', ch', bu', ro, fp, sp, kn, hd, wm, wl, wk, dr')) : wpX_joinChunks post (dm, nI st, nI fc, nI bn, cl, ms, cs, ch, bu, ro, fp, sp, kn, hd, wm, wl, wk, dr) (nI o) (nI a) (nI b) s := by
  unfold wpX_joinChunks
  refine cv_xClIn ho ha hb zo za zb fun x hx => ?_
  refine cv_xDiff hb ho zb zo fun y hy => ?_
  refine cv_xDiff ha ho za zo fun z hz => ?_
  have ec : cv_cn (bt x) 8 = cv_cn (cv_cl (cv_cc ms cs o) (cv_cc ms cs a) (cv_cc ms cs b)) 8 := cv_cn_cg hx
  have e6 : ∀ k, k < 8 → bt (y &&& (z ^^^ (-1))) k = (cv_ne (cv_cc ms cs a) (cv_cc ms cs b) k && !cv_ne (cv_cc ms cs a) (cv_cc ms cs o) k) := by
    intro k hk
    rw [b_and, cv_not _ (by omega), hy k hk, hz k hk]
    exact cv_chg
  rw [← ec] at K
  refine nm_e (br_c (fun e => ?_) (fun e => ?_))
  · refine cv_xJC42 ha hb hs hS za zb fun r st' ms' cs' ch' bu' dm' dr' hr hst hS' hE hc => K r st' ms' cs' ch' bu' dm' dr' hr hst hS' hE (fun k hk => ?_)
    rw [hc k hk, b_or, e6 k hk, hx k hk]
    unfold cv_mg cv_th
    rw [decide_eq_true e, Bool.and_true]
  · refine cv_xJC42 ha hb hs hS za zb fun r st' ms' cs' ch' bu' dm' dr' hr hst hS' hE hc => K r st' ms' cs' ch' bu' dm' dr' hr hst hS' hE (fun k hk => ?_)
    rw [hc k hk, e6 k hk]
    unfold cv_mg cv_th
    rw [decide_eq_false e, Bool.and_false, Bool.or_false]
theorem cv_xJoin8 {post : SX → Prop} {Bd o a b : Nat} {s : Int32} {O A B : Nat → Option Int32} (hf : fc < 20) (ho : o < fc) (ha : a < fc) (hb : b < fc) (hB : Bd ≤ 160) (hO : cv_Ro st ms cs ro o O) (hA : cv_Ro st ms cs ro a A) (hC : cv_Ro st ms cs ro b B) (K : ∀ dm' st' ms' cs' ch' bu' ro' dr', st' ≤ Bd → cv_St st' ms' cs' ch' bu' → cv_Ex st ms cs st' ms' cs' → (∀ q, q < 8 * fc → ro' q = ro q) → cv_Ro st' ms' cs' ro' fc (cv_mg O A B s) → post (dm', nI st', nI fc, nI bn, nI (cv_cn (cv_cl O A B) 64), ms', cs', ch', bu', ro', fp, sp, kn, hd, wm, wl, wk, dr')) : ∀ d j, j + d = 8 → ∀ dm1 st1 ms1 cs1 ch1 bu1 ro1 dr1, st1 + d ≤ Bd → cv_St st1 ms1 cs1 ch1 bu1 → cv_Ex st ms cs st1 ms1 cs1 → (∀ q, q < 8 * fc → ro1 q = ro q) → (∀ i, i < j → cv_ro st1 ms1 cs1 (ro1 (8 * fc + i)) (cv_mg O A B s) i) → wX_join_8 post (nI o) (nI a) (nI b) s (d + 1) (nI j) dm1 (nI st1) (nI fc) (nI bn) (nI (cv_cn (cv_cl O A B) (8 * j))) ms1 cs1 ch1 bu1 ro1 fp sp kn hd wm wl wk dr1 := by
  intro d
  induction d with
  | zero =>
    intro j hj dm1 st1 ms1 cs1 ch1 bu1 ro1 dr1 h1 hS hE hR hN
    obtain rfl : j = 8 := by omega
    exact pk_le 8 8 (fun _ => K _ _ _ _ _ _ _ _ h1 hS hE hR hN) (fun z => absurd z (by omega))
  | succ d ih =>
    intro j hj dm1 st1 ms1 cs1 ch1 bu1 ro1 dr1 h1 hS hE hR hN
    obtain ⟨qo, hqo, eo, co⟩ := cv_ro_ex hE (hO j (by omega))
    obtain ⟨qa, hqa, ea, ca⟩ := cv_ro_ex hE (hA j (by omega))
    obtain ⟨qb, hqb, eb, cb⟩ := cv_ro_ex hE (hC j (by omega))
    have ST : ∀ (x : Int32) (dm2 : Int32) (st2 : Nat) (ms2 cs2 ch2 bu2 dr2 : Nat → Int32) (q : Nat), q < st2 → st2 + d ≤ Bd → cv_St st2 ms2 cs2 ch2 bu2 → cv_Ex st1 ms1 cs1 st2 ms2 cs2 → (∀ k, k < 8 → cv_cc ms2 cs2 q k = cv_mg O A B s (8 * j + k)) → x = nI (cv_cn (cv_cl O A B) (8 * (j + 1))) → wX_join_103 post (wX_join_8 post (nI o) (nI a) (nI b) s (d + 1)) (nI o) (nI a) (nI b) s (nI j) (nI q) dm2 (nI st2) (nI fc) (nI bn) x ms2 cs2 ch2 bu2 ro1 fp sp kn hd wm wl wk dr2 := by
      intro x dm2 st2 ms2 cs2 ch2 bu2 dr2 q hq h2 hS2 hE2 hc hx
      subst hx
      unfold wX_join_103
      rw [cv_m8, nI_add, nI_clamp (by omega)]
      refine ⟨vp_in_nI (by omega) (by omega), nm_e (nm_r (nI_1 j) (ih (j + 1) (by omega) _ _ _ _ _ _ _ _ h2 hS2 (cv_Ex_t hE hE2) (fun p hp => ?_) (fun i hi => ?_)))⟩
      · rw [pk_un (by omega)]
        exact hR p hp
      · by_cases e : i = j
        · rw [e, pk_us]
          exact ⟨q, hq, rfl, hc⟩
        · rw [pk_un (by omega)]
          exact cv_ro_ex hE2 (hN i (by omega))
    have Z0 : (∀ k, k < 8 → cv_cl O A B (8 * j + k) = false) → nI (cv_cn (cv_cl O A B) (8 * j)) = nI (cv_cn (cv_cl O A B) (8 * (j + 1))) := by
      intro z
      rw [Nat.mul_add, cv_cn_add, cv_cn_0 (n := 8 * 1) z, Nat.add_zero]
    refine pk_le 8 j (fun z => absurd z (by omega)) (fun _ => ?_)
    rw [cv_m8, cv_m8, cv_m8, nI_add, nI_add, nI_add, nI_clamp (by omega), nI_clamp (by omega), nI_clamp (by omega), hR _ (by omega), hR _ (by omega), hR _ (by omega), eo, ea, eb]
    refine ⟨vp_in_nI (by omega) (by omega), nm_e ⟨vp_in_nI (by omega) (by omega), nm_e ⟨vp_in_nI (by omega) (by omega), nm_e ?_⟩⟩⟩
    refine pk_eq qa qo (fun e => ?_) (fun _ => pk_eq qb qo (fun e => ?_) (fun _ => pk_eq qb qa (fun e => ?_) (fun _ => ?_)))
    · have g : ∀ k, k < 8 → A (8 * j + k) = O (8 * j + k) := fun k hk => by rw [← ca k hk, ← co k hk, e]
      exact ST _ _ _ _ _ _ _ _ qb hqb (by omega) hS cv_Ex_r (fun k hk => (cb k hk).trans (cv_mg1 (g k hk)).1.symm) (Z0 fun k hk => (cv_mg1 (s := s) (g k hk)).2)
    · have g : ∀ k, k < 8 → B (8 * j + k) = O (8 * j + k) := fun k hk => by rw [← cb k hk, ← co k hk, e]
      exact ST _ _ _ _ _ _ _ _ qa hqa (by omega) hS cv_Ex_r (fun k hk => (ca k hk).trans (cv_mg2 (g k hk)).1.symm) (Z0 fun k hk => (cv_mg2 (s := s) (g k hk)).2)
    · have g : ∀ k, k < 8 → B (8 * j + k) = A (8 * j + k) := fun k hk => by rw [← cb k hk, ← ca k hk, e]
      exact ST _ _ _ _ _ _ _ _ qa hqa (by omega) hS cv_Ex_r (fun k hk => (ca k hk).trans (cv_mg3 (g k hk)).1.symm) (Z0 fun k hk => (cv_mg3 (s := s) (g k hk)).2)
    · refine cv_xJC (by omega) (by omega) (by omega) (by omega) hS (hS.1 _ hqo) (hS.1 _ hqa) (hS.1 _ hqb) fun r st' ms' cs' ch' bu' dm' dr' hr hst hS' hE' hc => ?_
      refine ST _ _ _ _ _ _ _ _ r hr (by omega) hS' hE' (fun k hk => (hc k hk).trans (cv_mg_cg (co k hk) (ca k hk) (cb k hk))) ?_
      exact cv_cn8 _ _ j fun k hk => cv_cl_cg (co k hk) (ca k hk) (cb k hk)
theorem cv_xJoin {post : SX → Prop} {o a b : Nat} {s : Int32} {M : Nat → Nat → Option Int32} {W : Nat → Option Int32} (hf : fc < 20) (ho : o < fc) (ha : a < fc) (hb : b < fc) (F : cv_FX fc st ms cs ch bu ro wm wl wk M W) (K : ∀ dm' st' ms' cs' ch' bu' ro' dr', cv_FX (fc + 1) st' ms' cs' ch' bu' ro' wm wl wk (cv_ms M fc (cv_mg (M o) (M a) (M b) s)) W → post (dm', nI st', nI fc, nI bn, nI (cv_cn (cv_cl (M o) (M a) (M b)) 64), ms', cs', ch', bu', ro', fp, sp, kn, hd, wm, wl, wk, dr')) : wpX_join post (dm, nI st, nI fc, nI bn, cl, ms, cs, ch, bu, ro, fp, sp, kn, hd, wm, wl, wk, dr) (nI o) (nI a) (nI b) s := by
  obtain ⟨hs, hS, hR, hW⟩ := F
  refine Exists.intro (8 + 1) (cv_xJoin8 (Bd := 8 * fc + 8) hf ho ha hb (by omega) (hR o ho) (hR a ha) (hR b hb) (fun dm' st' ms' cs' ch' bu' ro' dr' h1 hS' hE hro hN => K dm' st' ms' cs' ch' bu' ro' dr' ⟨by omega, hS', cv_Rw_new (cv_Rw_ex hE hR) hro hN, cv_Wk_ex hE hW⟩) 8 0 rfl dm st ms cs ch bu ro dr (by omega) hS cv_Ex_r (fun _ _ => rfl) (fun i hi => absurd hi (by omega)))
end
end
section
/-! the reference's readers -/
theorem cv_cy_iff {th wo : Nat → Int32} (hT : ∀ q, th q = 0 ∨ th q = 1) (p q : Nat) : cv_cy th wo p = cv_cy th wo q ↔ th p = th q ∧ (th p = 0 ∨ wo p = wo q) := by
  unfold cv_cy
  have h01 : ¬ (0 : Int32) = 1 := by decide
  have h10 : ¬ (1 : Int32) = 0 := by decide
  rcases hT p with e1 | e1 <;> rcases hT q with e2 | e2 <;> rw [e1, e2]
  · exact ⟨fun _ => ⟨rfl, Or.inl rfl⟩, fun _ => rfl⟩
  · exact ⟨fun z => (nomatch z), fun z => absurd z.1 h01⟩
  · exact ⟨fun z => (nomatch z), fun z => absurd z.1 h10⟩
  · exact ⟨fun z => ⟨rfl, Or.inr (Option.some.inj z)⟩, fun z => congrArg some (z.2.resolve_left h10)⟩
theorem cv_cy_so {th wo : Nat → Int32} {q : Nat} : (cv_cy th wo q).isSome = !decide (th q = 0) := by
  unfold cv_cy
  cases (!decide (th q = 0)) <;> rfl
section
variable {ct bn : Nat} {th wo fp sp hd : Nat → Int32}
theorem cv_yKey {post : Int32 → Prop} {k : Nat} (hk : k < 64) (h : post 0) : wpY_badKey post (nI ct, nI bn, th, wo, fp, sp, hd) (nI k) :=
  br_f (nI_pos (by omega)) (pk_le k 63 (fun _ => h) (fun z => absurd z (by omega)))
theorem cv_yNoKey {post : Int32 → Prop} {x : Int32} (hx : x < 0 ∨ nI 64 ≤ x) (h : post 1) : wpY_badKey post (nI ct, nI bn, th, wo, fp, sp, hd) x := by
  by_cases z : x < 0
  · exact br_t z h
  · exact br_f z (br_f (fun y => nI_ge (a := 63) (b := 64) (by decide) (by decide) (Int32.le_trans (hx.resolve_left z) y)) h)
theorem cv_yBr {post : Int32 → Prop} {k : Nat} (hk : k < 4) (h : post 0) : wpY_badBranch post (nI ct, nI bn, th, wo, fp, sp, hd) (nI k) :=
  br_f (nI_pos (by omega)) (pk_le k 3 (fun _ => h) (fun z => absurd z (by omega)))
theorem cv_yNoBr {post : Int32 → Prop} {x : Int32} (hx : x < 0 ∨ nI 4 ≤ x) (h : post 1) : wpY_badBranch post (nI ct, nI bn, th, wo, fp, sp, hd) x := by
  by_cases z : x < 0
  · exact br_t z h
  · exact br_f z (br_f (fun y => nI_ge (a := 3) (b := 4) (by decide) (by decide) (Int32.le_trans (hx.resolve_left z) y)) h)
theorem cv_yCo {post : Int32 → Prop} {c : Nat} (hc : c < ct) (hf : ct ≤ 20) (h : post 0) : wpY_bad post (nI ct, nI bn, th, wo, fp, sp, hd) (nI c) :=
  br_f (nI_pos (by omega)) (pk_le ct c (fun z => absurd z (by omega)) (fun _ => pk_le c 19 (fun _ => h) (fun z => absurd z (by omega))))
theorem cv_yNoCo {post : Int32 → Prop} {x : Int32} (hx : x < 0 ∨ nI ct ≤ x) (h : post 1) : wpY_bad post (nI ct, nI bn, th, wo, fp, sp, hd) x := by
  by_cases z : x < 0
  · exact br_t z h
  · exact br_f z (br_t (hx.resolve_left z) h)
theorem cv_yMine {post : Int32 → Prop} {h : Nat} (hb : bn < 4) (eh : hd bn = nI h) (k : post (nI h)) : wpY_mine post (nI ct, nI bn, th, wo, fp, sp, hd) := by
  refine And.intro (vp_in_nI hb (by omega)) ?_
  rw [nI_clamp (by omega), eh]
  exact k
theorem cv_yAgree {post : Int32 → Prop} {a b k : Nat} {A B : Nat → Option Int32} (ha : a ≤ 21) (hb : b ≤ 21) (hk : k < 64) (hT : ∀ q, th q = 0 ∨ th q = 1) (eA : cv_cy th wo (64 * a + k) = A k) (eB : cv_cy th wo (64 * b + k) = B k) (h : post (cv_bi (!cv_ne A B k))) : wpY_agree post (nI ct, nI bn, th, wo, fp, sp, hd) (nI a) (nI b) (nI k) := by
  have hi := cv_cy_iff (wo := wo) hT (64 * a + k) (64 * b + k)
  rw [eA, eB] at hi
  have h1 : A k = B k → post 1 := by
    intro e
    rw [cv_ne_f.mpr e] at h
    exact h
  have h0 : ¬ A k = B k → post 0 := by
    intro e
    rw [cv_ne_t.mpr e] at h
    exact h
  unfold wpY_agree
  simp (disch := omega) only [forall_eq, cv_m8, cv_m64, cv_a1280, cv_a1344, nI_add, nI_1, cv_in, nI_clamp]
  refine ⟨by omega, by omega, fun e1 => ⟨by omega, fun e2 => h1 (hi.mpr ⟨e1, Or.inl e2⟩), fun e2 => ⟨by omega, by omega, fun e3 => h1 (hi.mpr ⟨e1, Or.inr e3⟩), fun e3 => h0 (fun z => ?_)⟩⟩, fun e1 => h0 (fun z => e1 (hi.mp z).1)⟩
  exact (hi.mp z).2.elim e2 e3
theorem cv_yApart {post : Int32 → Prop} {a b : Nat} {A B : Nat → Option Int32} (ha : a ≤ 21) (hb : b ≤ 21) (hT : ∀ q, th q = 0 ∨ th q = 1) (eA : ∀ k, k < 64 → cv_cy th wo (64 * a + k) = A k) (eB : ∀ k, k < 64 → cv_cy th wo (64 * b + k) = B k) (h : post (nI (cv_df A B))) : wpY_apart post (nI ct, nI bn, th, wo, fp, sp, hd) (nI a) (nI b) := by
  refine cv_lq 64 (fun n i => wY_apart_5 post (nI a) (nI b) (nI ct) (nI bn) th wo fp sp hd n (nI (cv_cn (cv_ne A B) i)) (nI i)) ?_ ?_
  · intro n
    exact pk_le 64 64 (fun _ => h) (fun z => absurd z (by omega))
  · intro n i hi H
    refine pk_le 64 i (fun z => absurd z (by omega)) (fun _ => cv_yAgree ha hb hi hT (eA i hi) (eB i hi) ?_)
    cases e : cv_ne A B i
    · rw [cv_cn_f e] at H
      exact br_f (by decide) (nm_r (nI_1 i) H)
    · rw [cv_cn_t e] at H
      exact br_t rfl (nm_r (nI_1 _) (nm_r (nI_1 i) H))
theorem cv_yClash {post : Int32 → Prop} {o a b k : Nat} {O A B : Nat → Option Int32} (ho : o ≤ 21) (ha : a ≤ 21) (hb : b ≤ 21) (hk : k < 64) (hT : ∀ q, th q = 0 ∨ th q = 1) (eO : cv_cy th wo (64 * o + k) = O k) (eA : cv_cy th wo (64 * a + k) = A k) (eB : cv_cy th wo (64 * b + k) = B k) (h : post (cv_bi (cv_cl O A B k))) : wpY_clash post (nI ct, nI bn, th, wo, fp, sp, hd) (nI o) (nI a) (nI b) (nI k) := by
  unfold cv_cl at h
  unfold wpY_clash
  refine cv_yAgree ha hb hk hT eA eB ?_
  cases e1 : cv_ne A B k
  · rw [e1] at h
    exact br_f (by decide) h
  · rw [e1, Bool.true_and] at h
    refine br_t rfl (cv_yAgree ha ho hk hT eA eO ?_)
    cases e2 : cv_ne A O k
    · rw [e2] at h
      exact br_f (by decide) h
    · rw [e2, Bool.true_and] at h
      refine br_t rfl (cv_yAgree hb ho hk hT eB eO ?_)
      cases e3 : cv_ne B O k
      · rw [e3] at h
        exact br_f (by decide) h
      · rw [e3] at h
        exact br_t rfl h
theorem cv_yClashes {post : Int32 → Prop} {o a b : Nat} {O A B : Nat → Option Int32} (ho : o ≤ 21) (ha : a ≤ 21) (hb : b ≤ 21) (hT : ∀ q, th q = 0 ∨ th q = 1) (eO : ∀ k, k < 64 → cv_cy th wo (64 * o + k) = O k) (eA : ∀ k, k < 64 → cv_cy th wo (64 * a + k) = A k) (eB : ∀ k, k < 64 → cv_cy th wo (64 * b + k) = B k) (h : post (nI (cv_cn (cv_cl O A B) 64))) : wpY_clashes post (nI ct, nI bn, th, wo, fp, sp, hd) (nI o) (nI a) (nI b) := by
  refine cv_lq 64 (fun n i => wY_clashes_6 post (nI o) (nI a) (nI b) (nI ct) (nI bn) th wo fp sp hd n (nI (cv_cn (cv_cl O A B) i)) (nI i)) ?_ ?_
  · intro n
    exact pk_le 64 64 (fun _ => h) (fun z => absurd z (by omega))
  · intro n i hi H
    refine pk_le 64 i (fun z => absurd z (by omega)) (fun _ => cv_yClash ho ha hb hi hT (eO i hi) (eA i hi) (eB i hi) ?_)
    cases e : cv_cl O A B i
    · rw [cv_cn_f e] at H
      exact br_t rfl (nm_r (nI_1 i) H)
    · rw [cv_cn_t e] at H
      exact br_f (by decide) (nm_r (nI_1 _) (nm_r (nI_1 i) H))
theorem cv_yClean {post : Int32 → Prop} {h : Nat} {A W : Nat → Option Int32} (hh : h < 20) (hT : ∀ q, th q = 0 ∨ th q = 1) (eA : ∀ k, k < 64 → cv_cy th wo (64 * h + k) = A k) (eW : ∀ k, k < 64 → cv_cy th wo (1280 + k) = W k) (hb : bn < 4) (eh : hd bn = nI h) (h1 : cv_df W A = 0 → post 1) (h0 : ¬ cv_df W A = 0 → post 0) : wpY_isClean post (nI ct, nI bn, th, wo, fp, sp, hd) := by
  unfold wpY_isClean
  refine cv_yMine hb eh ?_
  refine cv_yApart (a := 20) (b := h) (by omega) (by omega) hT eW eA ?_
  exact pk_eq (cv_df W A) 0 h1 h0 rfl rfl (Nat.lt_of_le_of_lt (cv_cn_le _ _) (by omega)) (by omega)
theorem cv_ySize {post : Int32 → Prop} {a : Nat} {A : Nat → Option Int32} (ha : a < 20) (eA : ∀ k, k < 64 → cv_cy th wo (64 * a + k) = A k) (h : post (nI (cv_cn (cv_so A) 64))) : ∃ n, wY_size_14 post (nI a) (nI ct) (nI bn) th wo fp sp hd n 0 0 := by
  refine cv_lq 64 (fun n i => wY_size_14 post (nI a) (nI ct) (nI bn) th wo fp sp hd n (nI (cv_cn (cv_so A) i)) (nI i)) ?_ ?_
  · intro n
    exact pk_le 64 64 (fun _ => h) (fun z => absurd z (by omega))
  · intro n i hi H
    have es : cv_so A i = !decide (th (64 * a + i) = 0) := by
      unfold cv_so
      rw [← eA i hi, cv_cy_so]
    refine pk_le 64 i (fun z => absurd z (by omega)) (fun _ => ?_)
    simp (disch := omega) only [forall_eq, cv_m8, cv_m64, cv_a1280, cv_a1344, nI_add, nI_1, cv_in, nI_clamp]
    refine ⟨by omega, fun e => ?_, fun e => ?_⟩
    · rw [decide_eq_true e] at es
      rw [cv_cn_f es] at H
      exact H
    · rw [decide_eq_false e] at es
      rw [cv_cn_t es] at H
      exact H
theorem cv_yNext {post : Int32 → Prop} {a b : Nat} {f : Int32} {A B : Nat → Option Int32} (ha : a ≤ 21) (hb : b ≤ 21) (hT : ∀ q, th q = 0 ∨ th q = 1) (eA : ∀ k, k < 64 → cv_cy th wo (64 * a + k) = A k) (eB : ∀ k, k < 64 → cv_cy th wo (64 * b + k) = B k) (h : ∀ r, cv_nx A B f r → post r) : ∃ n, wY_nextDifference_21 post (nI a) (nI b) f (nI ct) (nI bn) th wo fp sp hd n 0 := by
  refine cv_lp 64 (fun n i => wY_nextDifference_21 post (nI a) (nI b) f (nI ct) (nI bn) th wo fp sp hd n (nI i)) (fun i => ∀ k, k < i → ¬ (cv_ne A B k = true ∧ f < nI k)) (fun k hk => absurd hk (by omega)) ?_ ?_
  · intro n I
    exact pk_le 64 64 (fun _ => h _ (Or.inr ⟨rfl, I⟩)) (fun z => absurd z (by omega))
  · intro n i hi I H
    have st1 : ¬ (cv_ne A B i = true ∧ f < nI i) → ∀ k, k < i + 1 → ¬ (cv_ne A B k = true ∧ f < nI k) := by
      intro g k hk
      rcases Nat.lt_or_ge k i with z | z
      · exact I k z
      · obtain rfl : k = i := by omega
        exact g
    refine pk_le 64 i (fun z => absurd z (by omega)) (fun _ => br_c (fun y => nm_r (nI_1 i) (H (st1 fun g => absurd g.2 (Int32.not_lt.mpr y)))) (fun y => ?_))
    refine cv_yAgree ha hb hi hT (eA i hi) (eB i hi) ?_
    cases e : cv_ne A B i
    · refine br_f (by decide) (nm_r (nI_1 i) (H (st1 fun g => ?_)))
      rw [e] at g
      exact absurd g.1 Bool.false_ne_true
    · exact br_t rfl (h _ (Or.inl ⟨i, hi, rfl, e, Int32.not_le.mp y, I⟩))
end
end
section
/-! the reference's lines of ancestors -/
theorem cv_kn_self {ct bn : Nat} {fp sp kn hd : Nat → Int32} (H : cv_Hi ct bn fp sp kn hd) {c : Nat} (hc : c < ct) : bt (kn c) c = true := by
  have := H.1.2.1
  exact (H.2.2.2.2 c hc c (by omega)).mpr (Or.inl rfl)
theorem cv_kn_tr {ct bn : Nat} {fp sp kn hd : Nat → Int32} (H : cv_Hi ct bn fp sp kn hd) : ∀ c, c < ct → ∀ d, d < 32 → bt (kn c) d = true → ∀ i, i < 32 → bt (kn d) i = true → bt (kn c) i = true := by
  intro c
  induction c using Nat.strongRecOn with
  | ind c ih =>
    intro hc d hd' hb i hi hbi
    rcases (H.2.2.2.2 c hc d hd').mp hb with e | ⟨p, hp, ep, g⟩ | ⟨p, hp, ep, g⟩
    · rw [← e]
      exact hbi
    · exact (H.2.2.2.2 c hc i hi).mpr (Or.inr (Or.inl ⟨p, hp, ep, ih p hp (by omega) d hd' g i hi hbi⟩))
    · exact (H.2.2.2.2 c hc i hi).mpr (Or.inr (Or.inr ⟨p, hp, ep, ih p hp (by omega) d hd' g i hi hbi⟩))
def cv_Ln (fp sp kn : Nat → Int32) (c e : Nat) (S : Int32) : Prop :=
  (∀ i, i < 32 → bt S i = true → bt (kn c) i = true) ∧ bt S c = true ∧ (∀ d, e ≤ d → d ≤ c → bt S d = true → ∀ p, p < d → (fp d = nI p ∨ sp d = nI p) → bt S p = true)
theorem cv_Ln_0 {ct bn c : Nat} {fp sp kn hd : Nat → Int32} (H : cv_Hi ct bn fp sp kn hd) (hc : c < ct) : cv_Ln fp sp kn c (c + 1) ((1 : Int32) <<< (nI c &&& 31)) := by
  have h20 := H.1.2.1
  refine ⟨fun i hi h => ?_, ?_, fun d h1 h2 => absurd h1 (by omega)⟩
  · rw [cv_1sh (by omega) hi, decide_eq_true_eq] at h
    rw [h]
    exact cv_kn_self H hc
  · rw [cv_1sh (by omega) (by omega), decide_eq_true_eq]
theorem cv_Ln_n {c e : Nat} {fp sp kn : Nat → Int32} {S : Int32} (L : cv_Ln fp sp kn c (e + 1) S) (hb : bt S e = false) : cv_Ln fp sp kn c e S := by
  refine ⟨L.1, L.2.1, fun d h1 h2 h3 => ?_⟩
  rcases Nat.lt_or_ge e d with z | z
  · exact L.2.2 d z h2 h3
  · obtain rfl : d = e := by omega
    rw [hb] at h3
    exact absurd h3 Bool.false_ne_true
theorem cv_Ln_y {ct bn c e : Nat} {fp sp kn hd : Nat → Int32} {S S' : Int32} (H : cv_Hi ct bn fp sp kn hd) (hc : c < ct) (he : e ≤ c) (L : cv_Ln fp sp kn c (e + 1) S) (hb : bt S e = true) (hS : ∀ i, i < 32 → (bt S' i = true ↔ bt S i = true ∨ (i < e ∧ (fp e = nI i ∨ sp e = nI i)))) : cv_Ln fp sp kn c e S' := by
  have h20 := H.1.2.1
  refine ⟨fun i hi h => ?_, (hS c (by omega)).mpr (Or.inl L.2.1), fun d h1 h2 h3 p hp hq => ?_⟩
  · rcases (hS i hi).mp h with z | ⟨z1, z2⟩
    · exact L.1 i hi z
    · have hs := cv_kn_self H (c := i) (by omega)
      refine cv_kn_tr H c hc e (by omega) (L.1 e (by omega) hb) i hi ?_
      rcases z2 with z2 | z2
      · exact (H.2.2.2.2 e (by omega) i hi).mpr (Or.inr (Or.inl ⟨i, z1, z2, hs⟩))
      · exact (H.2.2.2.2 e (by omega) i hi).mpr (Or.inr (Or.inr ⟨i, z1, z2, hs⟩))
  · rcases Nat.lt_or_ge e d with z | z
    · have h3' : bt S d = true := by
        rcases (hS d (by omega)).mp h3 with y | y
        · exact y
        · omega
      exact (hS p (by omega)).mpr (Or.inl (L.2.2 d z h2 h3' p hp hq))
    · obtain rfl : d = e := by omega
      exact (hS p (by omega)).mpr (Or.inr ⟨hp, hq⟩)
theorem cv_Ln_e {ct bn c : Nat} {fp sp kn hd : Nat → Int32} {S : Int32} (H : cv_Hi ct bn fp sp kn hd) (hc : c < ct) (L : cv_Ln fp sp kn c 0 S) : S = kn c := by
  have h20 := H.1.2.1
  have key : ∀ d, d ≤ c → bt S d = true → ∀ i, i < 32 → bt (kn d) i = true → bt S i = true := by
    intro d
    induction d using Nat.strongRecOn with
    | ind d ih =>
      intro hd' hb i hi h
      rcases (H.2.2.2.2 d (by omega) i hi).mp h with e | ⟨p, hp, ep, g⟩ | ⟨p, hp, ep, g⟩
      · rw [e]
        exact hb
      · exact ih p hp (by omega) (L.2.2 d (by omega) hd' hb p hp (Or.inl ep)) i hi g
      · exact ih p hp (by omega) (L.2.2 d (by omega) hd' hb p hp (Or.inr ep)) i hi g
  refine b_ext fun i hi => ?_
  rw [Bool.eq_iff_iff]
  exact ⟨L.1 i hi, key c (Nat.le_refl _) L.2.1 i hi⟩
section
variable {ct bn : Nat} {th wo fp sp hd : Nat → Int32}
theorem cv_yLine6 {post : Int32 → Prop} {c : Nat} {kn : Nat → Int32} (H : cv_Hi ct bn fp sp kn hd) (hc : c < ct) (h : post (kn c)) : ∀ e, e ≤ c + 1 → ∀ S, cv_Ln fp sp kn c e S → wY_line_6 post (nI ct) (nI bn) th wo fp sp hd (e + 1) S (nI e + (-1)) := by
  have h20 := H.1.2.1
  intro e
  induction e with
  | zero =>
    intro _ S L
    refine br_t (by decide) ?_
    rw [cv_Ln_e H hc L]
    exact h
  | succ e ih =>
    intro he S L
    have T : ∀ S1, (∀ i, i < 32 → (bt S1 i = true ↔ bt S i = true ∨ (i < e ∧ fp e = nI i))) → bt S e = true → wY_line_39 post (wY_line_6 post (nI ct) (nI bn) th wo fp sp hd (e + 1)) S1 (nI e) (nI ct) (nI bn) th wo fp sp hd := by
      intro S1 hS1 hb
      unfold wY_line_39
      rw [nI_clamp (by omega)]
      refine ⟨vp_in_nI (by omega) (by omega), ?_⟩
      rcases H.2.2.2.1 e (by omega) with es | ⟨p, hp, es⟩
      · rw [es]
        refine br_t (by decide) (nm_e (ih (by omega) S1 (cv_Ln_y H hc (by omega) L hb fun i hi => ?_)))
        rw [hS1 i hi]
        constructor
        · rintro (z | z)
          · exact Or.inl z
          · exact Or.inr ⟨z.1, Or.inl z.2⟩
        · rintro (z | ⟨z1, z2 | z2⟩)
          · exact Or.inl z
          · exact Or.inr ⟨z1, z2⟩
          · exact absurd (z2.symm.trans es) (cv_n1 (by omega))
      · rw [es]
        refine br_f (nI_pos (by omega)) ⟨vp_in_nI (by omega) (by omega), nm_e (nm_e (ih (by omega) _ (cv_Ln_y H hc (by omega) L hb fun i hi => ?_)))⟩
        rw [b_or, cv_1sh (by omega) hi, Bool.or_eq_true, decide_eq_true_eq, hS1 i hi]
        constructor
        · rintro ((z | z) | z)
          · exact Or.inl z
          · exact Or.inr ⟨z.1, Or.inl z.2⟩
          · rw [z]
            exact Or.inr ⟨hp, Or.inr es⟩
        · rintro (z | ⟨z1, z2 | z2⟩)
          · exact Or.inl (Or.inl z)
          · exact Or.inl (Or.inr ⟨z1, z2⟩)
          · exact Or.inr ((nI_eq (by omega) (by omega)).mp (z2.symm.trans es))
    rw [pk_m1]
    refine br_f (nI_pos (by omega)) ?_
    rw [cv_shb _ (by omega), cv_bi1]
    refine br_c (fun hb => ⟨vp_in_nI (by omega) (by omega), ?_⟩) (fun hb => nm_e (ih (by omega) S (cv_Ln_n L (Bool.not_eq_true _ ▸ hb))))
    rw [nI_clamp (by omega)]
    rcases H.2.2.1 e (by omega) with es | ⟨p, hp, es⟩
    · rw [es]
      refine br_t (by decide) (T S (fun i hi => ?_) hb)
      constructor
      · exact Or.inl
      · rintro (z | z)
        · exact z
        · exact absurd (z.2.symm.trans es) (cv_n1 (by omega))
    · rw [es]
      refine br_f (nI_pos (by omega)) ⟨vp_in_nI (by omega) (by omega), nm_e (T _ (fun i hi => ?_) hb)⟩
      rw [b_or, cv_1sh (by omega) hi, Bool.or_eq_true, decide_eq_true_eq]
      constructor
      · rintro (z | z)
        · exact Or.inl z
        · rw [z]
          exact Or.inr ⟨hp, es⟩
      · rintro (z | z)
        · exact Or.inl z
        · exact Or.inr ((nI_eq (by omega) (by omega)).mp (z.2.symm.trans es))
theorem cv_yLine {post : Int32 → Prop} {c : Nat} {kn : Nat → Int32} (H : cv_Hi ct bn fp sp kn hd) (hc : c < ct) (h : post (kn c)) : wpY_line post (nI ct, nI bn, th, wo, fp, sp, hd) (nI c) := by
  have h20 := H.1.2.1
  have G := cv_yLine6 (th := th) (wo := wo) H hc h (c + 1) (Nat.le_refl _) _ (cv_Ln_0 H hc)
  rw [pk_m1] at G
  exact nm_e ⟨_, G⟩
theorem cv_yShared {post : Int32 → Prop} {a b : Nat} {kn : Nat → Int32} (H : cv_Hi ct bn fp sp kn hd) (ha : a < ct) (hb : b < ct) (h : post (nI (cv_ba kn a b))) : wpY_shared post (nI ct, nI bn, th, wo, fp, sp, hd) (nI a) (nI b) := by
  have h20 := H.1.2.1
  unfold wpY_shared
  refine cv_yLine H ha (cv_yLine H hb (nm_e ?_))
  refine cv_lq 20 (fun n i => wY_shared_25 post (kn a &&& kn b) (nI ct) (nI bn) th wo fp sp hd n (nI (cv_bs (bt (kn a &&& kn b)) (i - 1))) (nI i)) ?_ ?_
  · intro n
    exact pk_le 20 20 (fun _ => h) (fun z => absurd z (by omega))
  · intro n i hi G
    refine pk_le 20 i (fun z => absurd z (by omega)) (fun _ => ?_)
    rw [cv_shb _ (by omega), cv_bi1]
    rw [Nat.add_sub_cancel] at G
    refine br_c (fun z => nm_r (nI_1 i) ?_) (fun z => nm_r (nI_1 i) ?_)
    · have e : cv_bs (bt (kn a &&& kn b)) i = i := by
        cases i with
        | zero => rfl
        | succ i => exact cv_bs_t z
      rw [e] at G
      exact G
    · have e : cv_bs (bt (kn a &&& kn b)) i = cv_bs (bt (kn a &&& kn b)) (i - 1) := by
        cases i with
        | zero => rfl
        | succ i => exact cv_bs_f (Bool.not_eq_true _ ▸ z)
      rw [e] at G
      exact G
theorem cv_yAnc {post : Int32 → Prop} {x : Int32} (h : post (nI (cv_cn (bt x) 20))) : ∃ n, wY_ancestors_21 post x (nI ct) (nI bn) th wo fp sp hd n 0 0 := by
  refine cv_lq 20 (fun n i => wY_ancestors_21 post x (nI ct) (nI bn) th wo fp sp hd n (nI (cv_cn (bt x) i)) (nI i)) ?_ ?_
  · intro n
    exact pk_le 20 20 (fun _ => h) (fun z => absurd z (by omega))
  · intro n i hi H
    refine pk_le 20 i (fun z => absurd z (by omega)) (fun _ => ?_)
    rw [cv_shb _ (by omega), cv_cn_bi]
    exact nm_e (nm_r (nI_1 i) H)
end
end
section
/-! the reference's writers -/
theorem cv_nb {x : Int32} (h : x = 0 ∨ x = 1) : vp_nar .boolean x = x := by
  rcases h with h | h <;> rw [h] <;> rfl
theorem cv_cy_cg {th wo th' wo' : Nat → Int32} {p q : Nat} (h : th' p = th q) (h' : wo' p = wo q) : cv_cy th' wo' p = cv_cy th wo q := by
  unfold cv_cy
  rw [h, h']
theorem cv_01u {th : Nat → Int32} {k : Nat} {x : Int32} (hT : ∀ q, th q = 0 ∨ th q = 1) (h : x = 0 ∨ x = 1) : ∀ q, upd th k x q = 0 ∨ upd th k x q = 1 := by
  intro q
  by_cases e : q = k
  · rw [e, pk_us]
    exact h
  · rw [pk_un e]
    exact hT q
section
variable {ct bn : Nat} {th wo fp sp hd : Nat → Int32}
theorem cv_yCopy {post : SY → Prop} {a b : Nat} (ha : a ≤ 21) (hb : b ≤ 21) (hab : a ≠ b) (hT : ∀ q, th q = 0 ∨ th q = 1) (K : ∀ th' wo', (∀ q, th' q = 0 ∨ th' q = 1) → (∀ k, k < 64 → cv_cy th' wo' (64 * b + k) = cv_cy th wo (64 * a + k)) → (∀ q, (q < 64 * b ∨ 64 * b + 64 ≤ q) → cv_cy th' wo' q = cv_cy th wo q) → post (nI ct, nI bn, th', wo', fp, sp, hd)) : wpY_copy post (nI ct, nI bn, th, wo, fp, sp, hd) (nI a) (nI b) := by
  refine loop_0 (fun n i s => wY_copy_2 post (nI a) (nI b) (nI ct) (nI bn) n (nI i) s.1 s.2 fp sp hd) (fun i s => (∀ q, s.1 q = 0 ∨ s.1 q = 1) ∧ (∀ k, k < i → s.1 (64 * b + k) = th (64 * a + k) ∧ s.2 (64 * b + k) = wo (64 * a + k)) ∧ (∀ q, (q < 64 * b ∨ 64 * b + i ≤ q) → s.1 q = th q ∧ s.2 q = wo q)) 64 (th, wo) ⟨hT, fun k hk => absurd hk (by omega), fun _ _ => ⟨rfl, rfl⟩⟩ ?_ ?_
  · intro n s I
    exact pk_le 64 64 (fun _ => K _ _ I.1 (fun k hk => cv_cy_cg (I.2.1 k hk).1 (I.2.1 k hk).2) (fun q hq => cv_cy_cg (I.2.2 q hq).1 (I.2.2 q hq).2)) (fun z => absurd z (by omega))
  · intro n i s hi I H
    obtain ⟨t, w⟩ := s
    obtain ⟨I1, I2, I3⟩ := I
    dsimp only at I1 I2 I3 H ⊢
    have er := I3 (64 * a + i) (by omega)
    refine pk_le 64 i (fun z => absurd z (by omega)) (fun _ => ?_)
    simp (disch := omega) only [forall_eq, cv_m8, cv_m64, cv_a1280, cv_a1344, nI_add, nI_1, cv_in, nI_clamp]
    rw [cv_nb (I1 _)]
    refine ⟨by omega, by omega, by omega, by omega, H (upd t (64 * b + i) (t (64 * a + i)), upd w (64 * b + i) (w (64 * a + i))) ⟨cv_01u I1 (I1 _), fun k hk => ?_, fun q hq => ?_⟩⟩
    · dsimp only
      rcases Nat.lt_or_ge k i with z | z
      · rw [pk_un (by omega), pk_un (by omega)]
        exact I2 k z
      · obtain rfl : k = i := by omega
        rw [pk_us, pk_us]
        exact er
    · dsimp only
      rw [pk_un (by omega), pk_un (by omega)]
      exact I3 q (by omega)
variable {M : Nat → Nat → Option Int32} {W : Nat → Option Int32}
theorem cv_yPut {post : Int32 → SY → Prop} {k : Nat} {v : Int32} (hk : k < 64) (hc : ct ≤ 20) (F : cv_FY ct th wo M W) (K : ∀ v', cv_RY ct bn fp sp hd M (cv_wp W k (some v)) v' → post (cv_bi (W k).isNone) v') : wpY_put post (nI ct, nI bn, th, wo, fp, sp, hd) (nI k) v := by
  obtain ⟨hT, hM, hW⟩ := F
  have e : (W k).isNone = decide (th (1280 + k) = 0) := by
    rw [← hW k hk]
    unfold cv_cy
    cases decide (th (1280 + k) = 0) <;> rfl
  have KK : ∀ z, z = cv_bi (W k).isNone → wY_put_28 post (nI k) v z (nI ct) (nI bn) th wo fp sp hd := by
    intro z ez
    subst ez
    unfold wY_put_28
    simp (disch := omega) only [forall_eq, cv_m8, cv_m64, cv_a1280, cv_a1344, nI_add, nI_1, cv_in, nI_clamp]
    rw [cv_nb (Or.inr rfl)]
    refine ⟨by omega, by omega, K _ (cv_RY_i ⟨cv_01u hT (Or.inr rfl), fun c hc' j hj => ?_, fun j hj => ?_⟩)⟩
    · rw [← hM c hc' j hj]
      exact cv_cy_cg (pk_un (by omega)) (pk_un (by omega))
    · by_cases ej : j = k
      · rw [ej, cv_wp_s]
        unfold cv_cy
        rw [pk_us, pk_us]
        rfl
      · rw [cv_wp_n ej, ← hW j hj]
        exact cv_cy_cg (pk_un (by omega)) (pk_un (by omega))
  unfold wpY_put
  refine cv_yKey hk (br_t rfl ?_)
  rw [cv_a1280, nI_clamp (by omega)]
  refine ⟨vp_in_nI (by omega) (by omega), br_c (fun z => KK 1 ?_) (fun z => KK 0 ?_)⟩
  · rw [e, decide_eq_true z]
    rfl
  · rw [e, decide_eq_false z]
    rfl
theorem cv_yDel {post : Int32 → SY → Prop} {k : Nat} (hk : k < 64) (hc : ct ≤ 20) (F : cv_FY ct th wo M W) (K : ∀ v', cv_RY ct bn fp sp hd M (cv_wp W k none) v' → post (cv_bi (W k).isSome) v') : wpY_delete post (nI ct, nI bn, th, wo, fp, sp, hd) (nI k) := by
  obtain ⟨hT, hM, hW⟩ := F
  have e : (W k).isSome = !decide (th (1280 + k) = 0) := by
    rw [← hW k hk]
    exact cv_cy_so
  have KK : ∀ z, z = cv_bi (W k).isSome → wY_delete_28 post (nI k) z (nI ct) (nI bn) th wo fp sp hd := by
    intro z ez
    subst ez
    unfold wY_delete_28
    simp (disch := omega) only [forall_eq, cv_m8, cv_m64, cv_a1280, cv_a1344, nI_add, nI_1, cv_in, nI_clamp]
    rw [cv_nb (Or.inl rfl)]
    refine ⟨by omega, K _ (cv_RY_i ⟨cv_01u hT (Or.inl rfl), fun c hc' j hj => ?_, fun j hj => ?_⟩)⟩
    · rw [← hM c hc' j hj]
      exact cv_cy_cg (pk_un (by omega)) rfl
    · by_cases ej : j = k
      · rw [ej, cv_wp_s]
        unfold cv_cy
        rw [pk_us]
        rfl
      · rw [cv_wp_n ej, ← hW j hj]
        exact cv_cy_cg (pk_un (by omega)) rfl
  unfold wpY_delete
  refine cv_yKey hk (br_t rfl ?_)
  rw [cv_a1280, nI_clamp (by omega)]
  refine ⟨vp_in_nI (by omega) (by omega), br_c (fun z => KK 0 ?_) (fun z => KK 1 ?_)⟩
  · rw [e, decide_eq_true z]
    rfl
  · rw [e, decide_eq_false z]
    rfl
theorem cv_yShow {post : Int32 → SY → Prop} {c : Nat} (hc : c < ct) (h20 : ct ≤ 20) (F : cv_FY ct th wo M W) (K : ∀ v', cv_RY ct bn fp sp hd M (M c) v' → post (nI (cv_df W (M c))) v') : wpY_show post (nI ct, nI bn, th, wo, fp, sp, hd) (nI c) := by
  obtain ⟨hT, hM, hW⟩ := F
  unfold wpY_show
  refine cv_yApart (a := 20) (b := c) (by omega) (by omega) hT hW (hM c hc) ?_
  refine cv_yCopy (a := c) (b := 20) (by omega) (by omega) (by omega) hT fun th' wo' hT' e1 e2 => K _ (cv_RY_i ⟨hT', fun d hd' k hk => ?_, fun k hk => ?_⟩)
  · rw [e2 _ (by omega)]
    exact hM d hd' k hk
  · exact (e1 k hk).trans (hM c hc k hk)
theorem cv_yMake {post : Int32 → SY → Prop} {p0 p1 : Int32} (hf : ct < 20) (hb : bn < 4) (F : cv_FY ct th wo M W) (K : ∀ v', cv_RY (ct + 1) bn (upd fp ct p0) (upd sp ct p1) (upd hd bn (nI ct)) (cv_ms M ct W) W v' → post (nI ct) v') : wpY_make post (nI ct, nI bn, th, wo, fp, sp, hd) p0 p1 := by
  obtain ⟨hT, hM, hW⟩ := F
  refine pk_le ct 19 (fun _ => ?_) (fun z => absurd z (by omega))
  refine cv_yCopy (a := 20) (b := ct) (by omega) (by omega) (by omega) hT fun th' wo' hT' e1 e2 => ?_
  have vf : vp_in (nI ct) 20 := vp_in_nI hf (by omega)
  refine And.intro vf ?_
  rw [nI_clamp (by omega)]
  refine nm_e ⟨vf, nm_e (nm_r (nI_1 ct) ⟨vp_in_nI hb (by omega), ?_⟩)⟩
  rw [nI_clamp (by omega)]
  refine nm_e (K _ (cv_RY_i ⟨hT', fun d hd' k hk => ?_, fun k hk => ?_⟩))
  · by_cases ed : d = ct
    · rw [ed, cv_ms_s, e1 k hk]
      exact hW k hk
    · rw [cv_ms_n ed, e2 _ (by omega)]
      exact hM d (by omega) k hk
  · rw [e2 _ (by omega)]
    exact hW k hk
theorem cv_yBl67 {post : SY → Prop} {J : Int32 → (Nat → Int32) → (Nat → Int32) → (Nat → Int32) → (Nat → Int32) → (Nat → Int32) → Prop} {x1 x2 x3 x4 : Int32} {k z : Nat} (hk : k < 64) (hz : z < 20) (hT : ∀ q, th q = 0 ∨ th q = 1) (h : J (nI (k + 1)) (upd th (1344 + k) (th (64 * z + k))) (upd wo (1344 + k) (wo (64 * z + k))) fp sp hd) : wY_blend_67 post J x1 x2 x3 x4 (nI k) (nI z) (nI ct) (nI bn) th wo fp sp hd := by
  unfold wY_blend_67
  simp (disch := omega) only [forall_eq, cv_m8, cv_m64, cv_a1280, cv_a1344, nI_add, nI_1, cv_in, nI_clamp]
  rw [cv_nb (hT _)]
  exact ⟨by omega, by omega, by omega, by omega, h⟩
theorem cv_yBlend {post : SY → Prop} {o a b : Nat} {s : Int32} (hc : ct ≤ 20) (ho : o < ct) (ha : a < ct) (hb : b < ct) (F : cv_FY ct th wo M W) (K : ∀ th' wo', cv_FY ct th' wo' M (cv_mg (M o) (M a) (M b) s) → post (nI ct, nI bn, th', wo', fp, sp, hd)) : wpY_blend post (nI ct, nI bn, th, wo, fp, sp, hd) (nI o) (nI a) (nI b) s := by
  obtain ⟨hT, hM, hW⟩ := F
  refine loop_0 (fun n i s' => wY_blend_3 post (nI o) (nI a) (nI b) s (nI ct) (nI bn) n (nI i) s'.1 s'.2 fp sp hd) (fun i s' => (∀ q, s'.1 q = 0 ∨ s'.1 q = 1) ∧ (∀ k, k < i → cv_cy s'.1 s'.2 (1344 + k) = cv_mg (M o) (M a) (M b) s k) ∧ (∀ q, q < 1344 → cv_cy s'.1 s'.2 q = cv_cy th wo q)) 64 (th, wo) ⟨hT, fun k hk => absurd hk (by omega), fun _ _ => rfl⟩ ?_ ?_
  · intro n s' I
    obtain ⟨t, w⟩ := s'
    obtain ⟨I1, I2, I3⟩ := I
    dsimp only at I1 I2 I3 ⊢
    refine pk_le 64 64 (fun _ => ?_) (fun z => absurd z (by omega))
    refine cv_yCopy (a := 21) (b := 20) (by omega) (by omega) (by omega) I1 fun th' wo' hT' e1 e2 => K _ _ ⟨hT', fun d hd' k hk => ?_, fun k hk => ?_⟩
    · rw [e2 _ (by omega), I3 _ (by omega)]
      exact hM d hd' k hk
    · exact (e1 k hk).trans (I2 k hk)
  · intro n i s' hi I H
    obtain ⟨t, w⟩ := s'
    obtain ⟨I1, I2, I3⟩ := I
    dsimp only at I1 I2 I3 H ⊢
    have eO : cv_cy t w (64 * o + i) = M o i := (I3 _ (by omega)).trans (hM o ho i hi)
    have eA : cv_cy t w (64 * a + i) = M a i := (I3 _ (by omega)).trans (hM a ha i hi)
    have eB : cv_cy t w (64 * b + i) = M b i := (I3 _ (by omega)).trans (hM b hb i hi)
    have H2 : ∀ z, z < 20 → cv_cy t w (64 * z + i) = cv_mg (M o) (M a) (M b) s i → wY_blend_67 post (wY_blend_3 post (nI o) (nI a) (nI b) s (nI ct) (nI bn) n) (nI o) (nI a) (nI b) s (nI i) (nI z) (nI ct) (nI bn) t w fp sp hd := by
      intro z hz ez
      refine cv_yBl67 hi hz I1 (H (upd t (1344 + i) (t (64 * z + i)), upd w (1344 + i) (w (64 * z + i))) ⟨cv_01u I1 (I1 _), fun k hk => ?_, fun q hq => ?_⟩)
      · dsimp only
        rcases Nat.lt_or_ge k i with y | y
        · rw [← I2 k y]
          exact cv_cy_cg (pk_un (by omega)) (pk_un (by omega))
        · obtain rfl : k = i := by omega
          rw [← ez]
          exact cv_cy_cg pk_us pk_us
      · dsimp only
        rw [← I3 q hq]
        exact cv_cy_cg (pk_un (by omega)) (pk_un (by omega))
    have Hb : cv_th (M o) (M a) (M b) s i = true → wY_blend_50 post (wY_blend_3 post (nI o) (nI a) (nI b) s (nI ct) (nI bn) n) (nI o) (nI a) (nI b) s (nI i) (nI ct) (nI bn) t w fp sp hd := by
      intro e
      unfold wY_blend_50 wY_blend_55
      exact br_f (by decide) (H2 b (by omega) (eB.trans (if_pos e).symm))
    have Ha : cv_th (M o) (M a) (M b) s i = false → wY_blend_54 post (wY_blend_3 post (nI o) (nI a) (nI b) s (nI ct) (nI bn) n) (nI o) (nI a) (nI b) s (nI i) (nI ct) (nI bn) t w fp sp hd := by
      intro e
      unfold wY_blend_54 wY_blend_55
      exact br_t rfl (H2 a (by omega) (eA.trans (if_neg (by rw [e]; exact Bool.false_ne_true)).symm))
    have Hc : (cv_ne (M a) (M b) i && !cv_ne (M a) (M o) i) = false → wY_blend_32 post (wY_blend_3 post (nI o) (nI a) (nI b) s (nI ct) (nI bn) n) (nI o) (nI a) (nI b) s (nI i) (nI ct) (nI bn) t w fp sp hd := by
      intro e
      unfold wY_blend_32
      refine cv_yClash (by omega) (by omega) (by omega) hi I1 eO eA eB ?_
      cases ec : cv_cl (M o) (M a) (M b) i
      · refine br_t rfl (Ha ?_)
        unfold cv_th
        rw [e, ec, Bool.false_and]
        rfl
      · refine br_f (by decide) (br_c (fun es => Hb ?_) (fun es => Ha ?_))
        · unfold cv_th
          rw [e, ec, decide_eq_true es]
          rfl
        · unfold cv_th
          rw [e, ec, decide_eq_false es]
          rfl
    refine pk_le 64 i (fun z => absurd z (by omega)) (fun _ => cv_yAgree (by omega) (by omega) hi I1 eA eB ?_)
    cases e1 : cv_ne (M a) (M b) i
    · rw [e1] at Hc
      exact br_f (by decide) (Hc rfl)
    · refine br_t rfl (cv_yAgree (by omega) (by omega) hi I1 eA eO ?_)
      cases e2 : cv_ne (M a) (M o) i
      · refine br_f (by decide) (Hb ?_)
        unfold cv_th
        rw [e1, e2]
        rfl
      · rw [e1, e2] at Hc
        exact br_t rfl (Hc rfl)
end
end
section
/-! spread, merge's and pick's tails, constructor -/
theorem cv_bx (x : Int32) {n : Nat} (hn : n < 2 ^ 31) : (x < 0 ∨ nI n ≤ x) ∨ ∃ j : Nat, j < n ∧ x = nI j := by
  rcases pk_ix x hn with z | z | z
  · exact Or.inl (Or.inl z)
  · exact Or.inl (Or.inr z)
  · exact Or.inr z
theorem cv_Hi_hd {ct bn b t : Nat} {fp sp kn hd : Nat → Int32} (H : cv_Hi ct bn fp sp kn hd) (ht : t < ct) : cv_Hi ct bn fp sp kn (upd hd b (nI t)) := by
  refine ⟨H.1, fun q hq => ?_, H.2.2⟩
  by_cases e : q = b
  · rw [e, pk_us]
    exact ⟨t, ht, rfl⟩
  · rw [pk_un e]
    exact H.2.1 q hq
theorem cv_Hi_bn {ct bn b : Nat} {fp sp kn hd : Nat → Int32} (H : cv_Hi ct bn fp sp kn hd) (hb : b < 4) : cv_Hi ct b fp sp kn hd :=
  ⟨⟨H.1.1, H.1.2.1, hb⟩, H.2⟩
def cv_sp (W : Nat → Option Int32) (f s : Nat) (v : Int32) : Nat → Nat → Option Int32
  | 0 => W
  | i + 1 => cv_wp (cv_sp W f s v i) (f + i * s) (some (v + nI i))
theorem cv_spN (f s : Nat) : ∀ m, ∃ N, N ≤ m ∧ (∀ i, i < N → f + i * s < 64) ∧ (N = m ∨ 64 ≤ f + N * s) := by
  intro m
  induction m with
  | zero => exact ⟨0, Nat.le_refl _, fun i hi => absurd hi (by omega), Or.inl rfl⟩
  | succ m ih =>
    obtain ⟨N, h1, h2, h3⟩ := ih
    rcases Nat.lt_or_ge (f + N * s) 64 with z | z
    · have h4 : N = m := by
        rcases h3 with h3 | h3
        · exact h3
        · omega
      subst h4
      refine ⟨N + 1, Nat.le_refl _, fun i hi => ?_, Or.inl rfl⟩
      rcases Nat.lt_or_ge i N with y | y
      · exact h2 i y
      · obtain rfl : i = N := by omega
        exact z
    · exact ⟨N, by omega, h2, Or.inr z⟩
section
variable {dm cl : Int32} {st fc bn : Nat} {ms cs ch bu ro fp sp kn hd wm wl wk dr : Nat → Int32}
variable {ct : Nat} {M : Nat → Nat → Option Int32} {W : Nat → Option Int32}
theorem cv_xSp49 {post : Int32 → SX → Prop} {f s m N : Nat} {v : Int32} (hf : f < 64) (hs : s ≤ 16) (hm : m ≤ 64) (h1 : N ≤ m) (h2 : ∀ i, i < N → f + i * s < 64) (h3 : N = m ∨ 64 ≤ f + N * s) (K : ∀ u', cv_RX fc ct bn cl fp sp kn hd M (cv_sp W f s v N) u' → post (nI N) u') : ∀ d i x7, i + d = N → x7 = nI (f + i * s) → ∀ dm st ms cs ch bu ro wm wl wk dr, cv_FX ct st ms cs ch bu ro wm wl wk M (cv_sp W f s v i) → wX_spread_49 post v (nI s) (nI m) (d + 1) (nI i) x7 dm (nI st) (nI fc) (nI bn) cl ms cs ch bu ro fp sp kn hd wm wl wk dr := by
  intro d
  have hNs : ∀ i, i ≤ N → f + i * s < 2 ^ 31 := by
    intro i hi
    have : i * s ≤ 64 * 16 := Nat.mul_le_mul (by omega) hs
    omega
  induction d with
  | zero =>
    intro i x7 hi e7 dm st ms cs ch bu ro wm wl wk dr F
    subst e7
    obtain rfl : i = N := by omega
    have hb := hNs i (Nat.le_refl _)
    exact pk_le m i (fun _ => K _ (cv_RX_i F)) (fun z => pk_le 64 (f + i * s) (fun _ => K _ (cv_RX_i F)) (fun y => absurd y (by omega)))
  | succ d ih =>
    intro i x7 hi e7 dm st ms cs ch bu ro wm wl wk dr F
    subst e7
    have hb := hNs i (by omega)
    have h64 := h2 i (by omega)
    refine pk_le m i (fun z => absurd z (by omega)) (fun _ => pk_le 64 (f + i * s) (fun z => absurd z (by omega)) (fun _ => cv_xPut h64 F fun u' hu => ?_))
    obtain ⟨dm', st', ms', cs', ch', bu', ro', wm', wl', wk', dr', rfl, F'⟩ := hu
    refine nm_e (nm_r (nI_1 i) (ih (i + 1) _ (by omega) ?_ _ _ _ _ _ _ _ _ _ _ _ F'))
    rw [nI_add, Nat.succ_mul, Nat.add_assoc]
theorem cv_xM129 {post : Int32 → SX → Prop} {o a b : Nat} {s : Int32} (H : cv_Hi fc bn fp sp kn hd) (hf : fc < 20) (ho : o < fc) (ha : a < fc) (hb : b < fc) (F : cv_FX fc st ms cs ch bu ro wm wl wk M W) (K : ∀ kn' u', cv_Hi (fc + 1) bn (upd fp fc (nI a)) (upd sp fc (nI b)) kn' (upd hd bn (nI fc)) → cv_RX (fc + 1) (fc + 1) bn (nI (cv_cn (cv_cl (M o) (M a) (M b)) 64)) (upd fp fc (nI a)) (upd sp fc (nI b)) kn' (upd hd bn (nI fc)) (cv_ms M fc (cv_mg (M o) (M a) (M b) s)) (cv_mg (M o) (M a) (M b) s) u' → post (nI (cv_cn (cv_cl (M o) (M a) (M b)) 64)) u') : wX_merge_129 post s (nI a) (nI b) (nI o) dm (nI st) (nI fc) (nI bn) cl ms cs ch bu ro fp sp kn hd wm wl wk dr := by
  unfold wX_merge_129
  refine cv_xJoin hf ho ha hb F fun dm' st' ms' cs' ch' bu' ro' dr' F' => ?_
  refine cv_xEnter H hf ha (Or.inr ⟨b, hb, rfl⟩) fun kn' H' => ?_
  dsimp only
  rw [nI_pred]
  refine cv_xCheck (by omega) (by omega) (by omega) (by omega) F' fun u' hu => ?_
  rw [cv_ms_s] at hu
  have hu2 := hu
  obtain ⟨dm2, st2, ms2, cs2, ch2, bu2, ro2, wm2, wl2, wk2, dr2, rfl, F2⟩ := hu
  exact K kn' _ H' hu2
theorem cv_xP90 {post : Int32 → SX → Prop} {o a c : Nat} {s : Int32} (H : cv_Hi fc bn fp sp kn hd) (hf : fc < 20) (ho : o < fc) (ha : a < fc) (hc : c < fc) (eo : fp c = nI o) (F : cv_FX fc st ms cs ch bu ro wm wl wk M W) (K : ∀ kn' u', cv_Hi (fc + 1) bn (upd fp fc (nI a)) (upd sp fc (-1)) kn' (upd hd bn (nI fc)) → cv_RX (fc + 1) (fc + 1) bn (nI (cv_cn (cv_cl (M o) (M a) (M c)) 64)) (upd fp fc (nI a)) (upd sp fc (-1)) kn' (upd hd bn (nI fc)) (cv_ms M fc (cv_mg (M o) (M a) (M c) s)) (cv_mg (M o) (M a) (M c) s) u' → post (nI (cv_cn (cv_cl (M o) (M a) (M c)) 64)) u') : wX_pick_90 post (nI c) s (nI a) dm (nI st) (nI fc) (nI bn) cl ms cs ch bu ro fp sp kn hd wm wl wk dr := by
  unfold wX_pick_90
  refine ⟨vp_in_nI (by omega) (by omega), ?_⟩
  rw [nI_clamp (by omega), eo]
  refine cv_xJoin hf ho ha hc F fun dm' st' ms' cs' ch' bu' ro' dr' F' => ?_
  refine cv_xEnter H hf ha (Or.inl rfl) fun kn' H' => ?_
  dsimp only
  rw [nI_pred]
  refine cv_xCheck (by omega) (by omega) (by omega) (by omega) F' fun u' hu => ?_
  rw [cv_ms_s] at hu
  have hu2 := hu
  obtain ⟨dm2, st2, ms2, cs2, ch2, bu2, ro2, wm2, wl2, wk2, dr2, rfl, F2⟩ := hu
  exact K kn' _ H' hu2
end
section
variable {ct bn : Nat} {th wo fp sp hd : Nat → Int32}
variable {M : Nat → Nat → Option Int32} {W : Nat → Option Int32}
theorem cv_ySp34 {post : Int32 → SY → Prop} {f p N : Nat} {v : Int32} (hc : ct ≤ 20) (hf : f < 64) (hp : p < 2 ^ 31) (hs : p / 64 ≤ 16) (h1 : N ≤ p % 64 + 1) (h2 : ∀ i, i < N → f + i * (p / 64) < 64) (h3 : N = p % 64 + 1 ∨ 64 ≤ f + N * (p / 64)) (K : ∀ v', cv_RY ct bn fp sp hd M (cv_sp W f (p / 64) v N) v' → post (nI N) v') : ∀ d i x4, i + d = p % 64 + 1 → x4 = nI (min i N) → ∀ th wo, cv_FY ct th wo M (cv_sp W f (p / 64) v (min i N)) → wY_spread_34 post (nI f) (nI p) v (d + 1) x4 (nI i) (nI ct) (nI bn) th wo fp sp hd := by
  intro d
  have e1 : nI p - nI p / 64 * 64 = nI (p % 64) := pk_rem (d := 64) hp (by decide) (by decide)
  have e2 : nI p / 64 = nI (p / 64) := pk_div (d := 64) hp (by decide) (by decide)
  have h640 : ¬ (64 : Int32) = 0 := by decide
  induction d with
  | zero =>
    intro i x4 hi e4 th wo F
    subst e4
    refine And.intro h640 ?_
    rw [e1]
    refine pk_lt (p % 64) i (fun _ => ?_) (fun z => absurd z (by omega))
    rw [Nat.min_eq_right (by omega)] at F ⊢
    exact K _ (cv_RY_i F)
  | succ d ih =>
    intro i x4 hi e4 th wo F
    subst e4
    have hm : i * (p / 64) ≤ 64 * 16 := Nat.mul_le_mul (by omega) hs
    refine And.intro h640 ?_
    rw [e1]
    refine pk_lt (p % 64) i (fun z => absurd z (by omega)) (fun _ => ⟨h640, ?_⟩)
    rw [e2]
    refine nm_r (e' := nI (f + i * (p / 64))) (by rw [pk_mul, nI_add]) ?_
    rcases Nat.lt_or_ge i N with z | z
    · have h64 := h2 i z
      rw [Nat.min_eq_left (by omega)] at F ⊢
      refine pk_le 64 (f + i * (p / 64)) (fun y => absurd y (by omega)) (fun _ => cv_yPut h64 hc F fun v' hv => ?_)
      obtain ⟨th', wo', rfl, F'⟩ := hv
      have G := ih (i + 1) (nI (i + 1)) (by omega)
      rw [Nat.min_eq_left (by omega)] at G
      exact nm_r (nI_1 i) (nm_r (nI_1 i) (G rfl th' wo' F'))
    · have hN : 64 ≤ f + N * (p / 64) := by
        rcases h3 with h3 | h3
        · omega
        · exact h3
      have hmo : N * (p / 64) ≤ i * (p / 64) := Nat.mul_le_mul_right _ z
      have G := ih (i + 1) (nI N) (by omega)
      rw [Nat.min_eq_right (by omega)] at F ⊢
      rw [Nat.min_eq_right (by omega)] at G
      exact pk_le 64 (f + i * (p / 64)) (fun _ => nm_r (nI_1 i) (G rfl th wo F)) (fun y => absurd y (by omega))
end
end
section
/-! the constructors -/
def i_Rel (k : Nat) (u : SX) (v : SY) : Prop :=
  ∃ (ct bn : Nat) (cl : Int32) (fp sp kn hd : Nat → Int32) (M : Nat → Nat → Option Int32) (W : Nat → Option Int32), cv_Hi ct bn fp sp kn hd ∧ cv_RX ct ct bn cl fp sp kn hd M W u ∧ cv_RY ct bn fp sp hd M W v
theorem i_up {k : Nat} {u : SX} {v : SY} (h : i_Rel k u v) : i_Rel (k + 4) u v := h
theorem cv_el {k : Nat} {P : SX → SY → Prop} (h : ∀ (ct bn : Nat) (cl : Int32) (fp sp kn hd : Nat → Int32) (M : Nat → Nat → Option Int32) (W : Nat → Option Int32), cv_Hi ct bn fp sp kn hd → ∀ (dm : Int32) (st : Nat) (ms cs ch bu ro wm wl wk dr : Nat → Int32), cv_FX ct st ms cs ch bu ro wm wl wk M W → ∀ (th wo : Nat → Int32), cv_FY ct th wo M W → P (dm, nI st, nI ct, nI bn, cl, ms, cs, ch, bu, ro, fp, sp, kn, hd, wm, wl, wk, dr) (nI ct, nI bn, th, wo, fp, sp, hd)) {u : SX} {v : SY} (I : i_Rel k u v) : P u v := by
  obtain ⟨ct, bn, cl, fp, sp, kn, hd, M, W, H, hX, hY⟩ := I
  refine cv_RX_e (P := fun u => P u v) (fun dm st ms cs ch bu ro wm wl wk dr F => ?_) hX
  exact cv_RY_e (P := fun v => P (dm, nI st, nI ct, nI bn, cl, ms, cs, ch, bu, ro, fp, sp, kn, hd, wm, wl, wk, dr) v) (fun th wo G => h ct bn cl fp sp kn hd M W H dm st ms cs ch bu ro wm wl wk dr F th wo G) hY
theorem cv_rl {k ct bn : Nat} {cl : Int32} {fp sp kn hd : Nat → Int32} {M : Nat → Nat → Option Int32} {W : Nat → Option Int32} {u : SX} {v : SY} (H : cv_Hi ct bn fp sp kn hd) (hX : cv_RX ct ct bn cl fp sp kn hd M W u) (hY : cv_RY ct bn fp sp hd M W v) : i_Rel k u v :=
  ⟨ct, bn, cl, fp, sp, kn, hd, M, W, H, hX, hY⟩
theorem cv_Hi_1 : cv_Hi 1 0 (upd (fun _ => 0) 0 (-1)) (upd (fun _ => 0) 0 (-1)) (upd (fun _ => 0) 0 1) (fun _ => 0) := by
  refine ⟨⟨by omega, by omega, by omega⟩, fun b _ => ⟨0, by omega, rfl⟩, fun c hc => ?_, fun c hc => ?_, fun c hc i hi => ?_⟩
  · obtain rfl : c = 0 := by omega
    exact Or.inl pk_us
  · obtain rfl : c = 0 := by omega
    exact Or.inl pk_us
  · obtain rfl : c = 0 := by omega
    rw [pk_us, cv_b1 i hi, decide_eq_true_eq]
    constructor
    · exact Or.inl
    · rintro (z | ⟨p, hp, _⟩ | ⟨p, hp, _⟩)
      · exact z
      · omega
      · omega
theorem cv_cc0 (j k : Nat) : cv_cc (fun _ => 0) (fun _ => 0) j k = none := by
  unfold cv_cc
  rw [b_0]
  rfl
theorem cv_x139 {post : SX → Prop} {dm cl : Int32} {st r : Nat} {ms cs ch bu dr : Nat → Int32} (hr : r < st) (hs : st ≤ 8) (hS : cv_St st ms cs ch bu) (hc : ∀ k, k < 8 → cv_cc ms cs r k = none) (K : ∀ u', cv_RX 1 1 0 cl (upd (fun _ => 0) 0 (-1)) (upd (fun _ => 0) 0 (-1)) (upd (fun _ => 0) 0 1) (fun _ => 0) (fun _ _ => none) (fun _ => none) u' → post u') : ∃ n, wX_init_139 post (nI r) dm (nI st) (nI 0) (nI 0) cl n 0 ms cs ch bu (fun _ => 0) (fun _ => 0) (fun _ => 0) (fun _ => 0) (fun _ => 0) (fun _ => 0) (fun _ => 0) (fun _ => 0) dr := by
  refine loop_0 (fun n i s => wX_init_139 post (nI r) dm (nI st) (nI 0) (nI 0) cl n (nI i) ms cs ch bu s.1 (fun _ => 0) (fun _ => 0) (fun _ => 0) (fun _ => 0) (fun _ => 0) (fun _ => 0) s.2 dr) (fun i s => ∀ j, j < i → s.1 j = nI r ∧ s.2 j = nI r) 8 ((fun _ => 0), (fun _ => 0)) (fun j hj => absurd hj (by omega)) ?_ ?_
  · intro n s I
    refine pk_le 8 8 (fun _ => nm_e (nm_e (nm_e (K _ ?_)))) (fun z => absurd z (by omega))
    refine cv_RX_i (fc := 1) (bn := 0) ⟨by omega, hS, fun c hc' j hj => ?_, fun j hj => ⟨fun _ _ _ => rfl, fun k _ => cv_cc0 j k, Or.inr ⟨r, hr, (I j hj).2, hc⟩⟩⟩
    obtain rfl : c = 0 := by omega
    refine ⟨r, hr, ?_, hc⟩
    rw [Nat.mul_zero, Nat.zero_add]
    exact (I j hj).1
  · intro n i s hi I H
    obtain ⟨a, b⟩ := s
    dsimp only at I H ⊢
    refine pk_le 8 i (fun z => absurd z (by omega)) (fun _ => ?_)
    simp (disch := omega) only [forall_eq, cv_m8, cv_m64, cv_a1280, cv_a1344, nI_add, nI_1, cv_in, nI_clamp]
    refine ⟨by omega, hi, H (upd a i (nI r), upd b i (nI r)) fun j hj => ?_⟩
    dsimp only
    by_cases e : j = i
    · rw [e, pk_us, pk_us]
      exact ⟨rfl, rfl⟩
    · rw [pk_un e, pk_un e]
      exact I j (by omega)
theorem cv_xInit {post : SX → Prop} (K : ∀ u', cv_RX 1 1 0 0 (upd (fun _ => 0) 0 (-1)) (upd (fun _ => 0) 0 (-1)) (upd (fun _ => 0) 0 1) (fun _ => 0) (fun _ _ => none) (fun _ => none) u' → post u') : wpX_init post := by
  refine loop_0 (fun n i s => wX_init_113 post 0 0 0 0 0 n (nI i) (fun _ => 0) (fun _ => 0) (fun _ => 0) s (fun _ => 0) (fun _ => 0) (fun _ => 0) (fun _ => 0) (fun _ => 0) (fun _ => 0) (fun _ => 0) (fun _ => 0) (fun _ => 0)) (fun i s => ∀ b, b < i → s b = -1) 32 (fun _ => 0) (fun b hb => absurd hb (by omega)) ?_ ?_
  · intro n s I
    refine pk_le 32 32 (fun _ => ?_) (fun z => absurd z (by omega))
    refine cv_xIntern (st := 0) (fc := 0) (bn := 0) (by omega) ⟨fun r hr => absurd hr (by omega), fun r hr => absurd hr (by omega), fun b hb => Or.inl (I b hb)⟩ (fun _ _ _ => rfl) fun r st' ms' cs' ch' bu' hr hst hS hE hc => ?_
    refine cv_x139 hr (by omega) hS (fun k hk => ?_) K
    rw [hc k hk, b_0]
    rfl
  · intro n i s hi I H
    refine pk_le 32 i (fun z => absurd z (by omega)) (fun _ => ?_)
    simp (disch := omega) only [forall_eq, cv_m8, cv_m64, cv_a1280, cv_a1344, nI_add, nI_1, cv_in, nI_clamp]
    refine ⟨hi, H _ fun b hb => ?_⟩
    by_cases e : b = i
    · rw [e, pk_us]
    · rw [pk_un e]
      exact I b (by omega)
theorem i_vc0 : wpX_init (fun u => wpY_init (fun v => i_Rel 0 u v)) := by
  refine cv_xInit fun u' hu => ?_
  refine nm_e (nm_e (cv_rl cv_Hi_1 hu (cv_RY_i (ct := 1) (bn := 0) ⟨fun _ => Or.inl rfl, fun _ _ _ _ => rfl, fun _ _ => rfl⟩)))
end
section
/-! what is owed: the writers -/
theorem cv_ob_b {b b' : Bool} {v v' : Int32} (h : cv_ob b v = cv_ob b' v') : b = b' := by
  cases b <;> cases b'
  · rfl
  · exact nomatch h
  · exact nomatch h
  · rfl
theorem i_vc_put {k : Nat} {u : SX} {v : SY} (I : i_Rel k u v) (hk : k + 4 ≤ 2048) (v1 : Int32) (v2 : Int32) : wpX_put (fun r u' => wpY_put (fun r' v' => r' = r ∧ i_Rel (k + 4) u' v') v v1 v2) u v1 v2 := by
  refine cv_el (P := fun u v => wpX_put (fun r u' => wpY_put (fun r' v' => r' = r ∧ i_Rel (k + 4) u' v') v v1 v2) u v1 v2) ?_ I
  intro ct bn cl fp sp kn hd M W H dm st ms cs ch bu ro wm wl wk dr FX th wo FY
  have R : i_Rel (k + 4) (dm, nI st, nI ct, nI bn, cl, ms, cs, ch, bu, ro, fp, sp, kn, hd, wm, wl, wk, dr) (nI ct, nI bn, th, wo, fp, sp, hd) := cv_rl H (cv_RX_i FX) (cv_RY_i FY)
  have h20 : ct ≤ 20 := H.1.2.1
  have hbn : bn < 4 := H.1.2.2
  have hs160 : st ≤ 160 := by have := FX.1; omega
  obtain ⟨h, hh, eh⟩ := H.2.1 bn hbn
  try dsimp only
  rcases cv_bx v1 (n := 64) (by omega) with hx | ⟨q, hq, rfl⟩
  · unfold wpX_put
    refine cv_xNoKey hx (br_t rfl ?_)
    unfold wpY_put
    exact cv_yNoKey hx (br_f (by decide) ⟨rfl, R⟩)
  · exact cv_xPut hq FX fun u' hu => cv_yPut hq h20 FY fun v' hv => ⟨rfl, cv_rl H hu hv⟩
theorem i_vc_delete {k : Nat} {u : SX} {v : SY} (I : i_Rel k u v) (hk : k + 4 ≤ 2048) (v1 : Int32) : wpX_delete (fun r u' => wpY_delete (fun r' v' => r' = r ∧ i_Rel (k + 4) u' v') v v1) u v1 := by
  refine cv_el (P := fun u v => wpX_delete (fun r u' => wpY_delete (fun r' v' => r' = r ∧ i_Rel (k + 4) u' v') v v1) u v1) ?_ I
  intro ct bn cl fp sp kn hd M W H dm st ms cs ch bu ro wm wl wk dr FX th wo FY
  have R : i_Rel (k + 4) (dm, nI st, nI ct, nI bn, cl, ms, cs, ch, bu, ro, fp, sp, kn, hd, wm, wl, wk, dr) (nI ct, nI bn, th, wo, fp, sp, hd) := cv_rl H (cv_RX_i FX) (cv_RY_i FY)
  have h20 : ct ≤ 20 := H.1.2.1
  have hbn : bn < 4 := H.1.2.2
  have hs160 : st ≤ 160 := by have := FX.1; omega
  obtain ⟨h, hh, eh⟩ := H.2.1 bn hbn
  try dsimp only
  rcases cv_bx v1 (n := 64) (by omega) with hx | ⟨q, hq, rfl⟩
  · unfold wpX_delete
    refine cv_xNoKey hx (br_t rfl ?_)
    unfold wpY_delete
    exact cv_yNoKey hx (br_f (by decide) ⟨rfl, R⟩)
  · exact cv_xDel hq FX fun u' hu => cv_yDel hq h20 FY fun v' hv => ⟨rfl, cv_rl H hu hv⟩
theorem i_vc_spread {k : Nat} {u : SX} {v : SY} (I : i_Rel k u v) (hk : k + 4 ≤ 2048) (v1 : Int32) (v2 : Int32) (v3 : Int32) : wpX_spread (fun r u' => wpY_spread (fun r' v' => r' = r ∧ i_Rel (k + 4) u' v') v v1 v2 v3) u v1 v2 v3 := by
  refine cv_el (P := fun u v => wpX_spread (fun r u' => wpY_spread (fun r' v' => r' = r ∧ i_Rel (k + 4) u' v') v v1 v2 v3) u v1 v2 v3) ?_ I
  intro ct bn cl fp sp kn hd M W H dm st ms cs ch bu ro wm wl wk dr FX th wo FY
  have R : i_Rel (k + 4) (dm, nI st, nI ct, nI bn, cl, ms, cs, ch, bu, ro, fp, sp, kn, hd, wm, wl, wk, dr) (nI ct, nI bn, th, wo, fp, sp, hd) := cv_rl H (cv_RX_i FX) (cv_RY_i FY)
  have h20 : ct ≤ 20 := H.1.2.1
  have hbn : bn < 4 := H.1.2.2
  have hs160 : st ≤ 160 := by have := FX.1; omega
  obtain ⟨h, hh, eh⟩ := H.2.1 bn hbn
  try dsimp only
  rcases cv_bx v1 (n := 64) (by omega) with hx | ⟨f, hf, rfl⟩
  · unfold wpX_spread
    refine cv_xNoKey hx (br_t rfl ?_)
    unfold wpY_spread
    exact cv_yNoKey hx (br_f (by decide) ⟨rfl, R⟩)
  · unfold wpX_spread
    refine cv_xIsKey hf (br_f (by decide) ?_)
    by_cases s0 : v2 < 0
    · refine nm_e (nm_e (br_t s0 ?_))
      unfold wpY_spread
      exact cv_yKey hf (br_t rfl (br_t (Int32.lt_trans s0 (by decide)) ⟨rfl, R⟩))
    · obtain ⟨p, hp, rfl⟩ := nI_of s0
      have ed : nI p / 64 = nI (p / 64) := pk_div (d := 64) hp (by decide) (by decide)
      refine nm_r (e' := nI (p / 64)) (pk_shrN hp _ 6 (by decide)) (nm_r (e' := nI (p % 64 + 1)) ?_ (br_f s0 ?_))
      · rw [pk_andN (by omega) 6 (by decide), nI_1]
      · refine pk_lt (p / 64) 1 (fun z => ?_) (fun z => pk_le (p / 64) 16 (fun z2 => ?_) (fun z2 => ?_))
        · unfold wpY_spread
          exact cv_yKey hf (br_t rfl (pk_lt p 64 (fun _ => ⟨rfl, R⟩) (fun y => absurd y (by omega))))
        · obtain ⟨N, h1, h2, h3⟩ := cv_spN f (p / 64) (p % 64 + 1)
          refine ⟨_, cv_xSp49 (W := W) hf z2 (by omega) h1 h2 h3 (fun u' hu => ?_) N 0 _ (by omega) (by rw [Nat.zero_mul, Nat.add_zero]) dm st ms cs ch bu ro wm wl wk dr FX⟩
          unfold wpY_spread
          refine cv_yKey hf (br_t rfl (pk_lt p 64 (fun y => absurd y (by omega)) (fun _ => ⟨by decide, ?_⟩)))
          rw [ed]
          refine pk_le (p / 64) 16 (fun _ => ⟨_, cv_ySp34 (W := W) h20 hf hp z2 h1 h2 h3 (fun v' hv => ⟨rfl, cv_rl H hu hv⟩) (p % 64 + 1) 0 0 (by omega) (by rw [Nat.zero_min]; rfl) th wo ?_⟩) (fun y => absurd z2 (by omega))
          rw [Nat.zero_min]
          exact FY
        · unfold wpY_spread
          refine cv_yKey hf (br_t rfl (pk_lt p 64 (fun y => absurd y (by omega)) (fun _ => ⟨by decide, ?_⟩)))
          rw [ed]
          exact pk_le (p / 64) 16 (fun y => absurd y (by omega)) (fun _ => ⟨rfl, R⟩)
theorem i_vc_commit {k : Nat} {u : SX} {v : SY} (I : i_Rel k u v) (hk : k + 4 ≤ 2048) : wpX_commit (fun r u' => wpY_commit (fun r' v' => r' = r ∧ i_Rel (k + 4) u' v') v) u := by
  refine cv_el (P := fun u v => wpX_commit (fun r u' => wpY_commit (fun r' v' => r' = r ∧ i_Rel (k + 4) u' v') v) u) ?_ I
  intro ct bn cl fp sp kn hd M W H dm st ms cs ch bu ro wm wl wk dr FX th wo FY
  have R : i_Rel (k + 4) (dm, nI st, nI ct, nI bn, cl, ms, cs, ch, bu, ro, fp, sp, kn, hd, wm, wl, wk, dr) (nI ct, nI bn, th, wo, fp, sp, hd) := cv_rl H (cv_RX_i FX) (cv_RY_i FY)
  have h20 : ct ≤ 20 := H.1.2.1
  have hbn : bn < 4 := H.1.2.2
  have hs160 : st ≤ 160 := by have := FX.1; omega
  obtain ⟨h, hh, eh⟩ := H.2.1 bn hbn
  try dsimp only
  by_cases hc : ct = 20
  · refine pk_eq ct 20 (fun _ => ?_) (fun z => absurd hc z)
    unfold wpY_commit
    refine cv_yMine hbn eh ?_
    exact pk_le ct 19 (fun z => absurd z (by omega)) (fun _ => ⟨rfl, R⟩)
  · refine cv_xCommit H (by omega) hh eh FX fun kn' u' H' hu => ?_
    unfold wpY_commit
    refine cv_yMine hbn eh (cv_yMake (by omega) hbn FY fun v' hv => ?_)
    obtain ⟨th', wo', rfl, F'⟩ := hv
    exact ⟨rfl, cv_rl H' hu (cv_RY_i F')⟩
theorem i_vc_reset {k : Nat} {u : SX} {v : SY} (I : i_Rel k u v) (hk : k + 4 ≤ 2048) : wpX_reset (fun r u' => wpY_reset (fun r' v' => r' = r ∧ i_Rel (k + 4) u' v') v) u := by
  refine cv_el (P := fun u v => wpX_reset (fun r u' => wpY_reset (fun r' v' => r' = r ∧ i_Rel (k + 4) u' v') v) u) ?_ I
  intro ct bn cl fp sp kn hd M W H dm st ms cs ch bu ro wm wl wk dr FX th wo FY
  have R : i_Rel (k + 4) (dm, nI st, nI ct, nI bn, cl, ms, cs, ch, bu, ro, fp, sp, kn, hd, wm, wl, wk, dr) (nI ct, nI bn, th, wo, fp, sp, hd) := cv_rl H (cv_RX_i FX) (cv_RY_i FY)
  have h20 : ct ≤ 20 := H.1.2.1
  have hbn : bn < 4 := H.1.2.2
  have hs160 : st ≤ 160 := by have := FX.1; omega
  obtain ⟨h, hh, eh⟩ := H.2.1 bn hbn
  try dsimp only
  refine And.intro (vp_in_nI hbn (by omega)) ?_
  rw [nI_clamp (by omega), eh]
  refine cv_xCheck h20 hh hh h20 FX fun u' hu => ?_
  have hu2 := hu
  obtain ⟨dm2, st2, ms2, cs2, ch2, bu2, ro2, wm2, wl2, wk2, dr2, rfl, F2⟩ := hu
  unfold wpY_reset
  refine cv_yMine hbn eh (cv_yShow hh h20 FY fun v' hv => ?_)
  obtain ⟨th', wo', rfl, F'⟩ := hv
  exact ⟨rfl, cv_rl H hu2 (cv_RY_i F')⟩
theorem i_vc_checkout {k : Nat} {u : SX} {v : SY} (I : i_Rel k u v) (hk : k + 4 ≤ 2048) (v1 : Int32) : wpX_checkout (fun r u' => wpY_checkout (fun r' v' => r' = r ∧ i_Rel (k + 4) u' v') v v1) u v1 := by
  refine cv_el (P := fun u v => wpX_checkout (fun r u' => wpY_checkout (fun r' v' => r' = r ∧ i_Rel (k + 4) u' v') v v1) u v1) ?_ I
  intro ct bn cl fp sp kn hd M W H dm st ms cs ch bu ro wm wl wk dr FX th wo FY
  have R : i_Rel (k + 4) (dm, nI st, nI ct, nI bn, cl, ms, cs, ch, bu, ro, fp, sp, kn, hd, wm, wl, wk, dr) (nI ct, nI bn, th, wo, fp, sp, hd) := cv_rl H (cv_RX_i FX) (cv_RY_i FY)
  have h20 : ct ≤ 20 := H.1.2.1
  have hbn : bn < 4 := H.1.2.2
  have hs160 : st ≤ 160 := by have := FX.1; omega
  obtain ⟨h, hh, eh⟩ := H.2.1 bn hbn
  try dsimp only
  rcases cv_bx v1 (n := ct) (by omega) with hx | ⟨c, hc, rfl⟩
  · unfold wpX_checkout
    refine cv_xNoCo hx (br_t rfl ?_)
    unfold wpY_checkout
    exact cv_yNoCo hx (br_f (by decide) ⟨rfl, R⟩)
  · refine cv_xCheck h20 hc hc h20 FX fun u' hu => ?_
    unfold wpY_checkout
    refine cv_yCo hc h20 (br_t rfl (cv_yShow hc h20 FY fun v' hv => ?_))
    obtain ⟨th', wo', rfl, F'⟩ := hv
    exact ⟨rfl, cv_rl H hu (cv_RY_i F')⟩
theorem i_vc_change {k : Nat} {u : SX} {v : SY} (I : i_Rel k u v) (hk : k + 4 ≤ 2048) (v1 : Int32) : wpX_change (fun r u' => wpY_change (fun r' v' => r' = r ∧ i_Rel (k + 4) u' v') v v1) u v1 := by
  refine cv_el (P := fun u v => wpX_change (fun r u' => wpY_change (fun r' v' => r' = r ∧ i_Rel (k + 4) u' v') v v1) u v1) ?_ I
  intro ct bn cl fp sp kn hd M W H dm st ms cs ch bu ro wm wl wk dr FX th wo FY
  have R : i_Rel (k + 4) (dm, nI st, nI ct, nI bn, cl, ms, cs, ch, bu, ro, fp, sp, kn, hd, wm, wl, wk, dr) (nI ct, nI bn, th, wo, fp, sp, hd) := cv_rl H (cv_RX_i FX) (cv_RY_i FY)
  have h20 : ct ≤ 20 := H.1.2.1
  have hbn : bn < 4 := H.1.2.2
  have hs160 : st ≤ 160 := by have := FX.1; omega
  obtain ⟨h, hh, eh⟩ := H.2.1 bn hbn
  try dsimp only
  rcases cv_bx v1 (n := 4) (by omega) with hx | ⟨b, hb, rfl⟩
  · unfold wpX_change
    refine cv_xNoBr hx (br_t rfl ?_)
    unfold wpY_change
    exact cv_yNoBr hx (br_f (by decide) ⟨rfl, R⟩)
  · obtain ⟨t, ht, et⟩ := H.2.1 b hb
    unfold wpX_change
    refine cv_xIsBr hb (br_f (by decide) (cv_xClean hs160 FX.2.1 (by omega) (FX.2.2.1 h hh) FX.2.2.2 hbn eh (fun hcl => ?_) (fun hcl => ?_)))
    · refine br_f (by decide) ⟨vp_in_nI hb (by omega), ?_⟩
      rw [nI_clamp (by omega), et]
      refine cv_xCheck h20 ht ht h20 FX fun u' hu => ?_
      have hu2 := hu
      obtain ⟨dm2, st2, ms2, cs2, ch2, bu2, ro2, wm2, wl2, wk2, dr2, rfl, F2⟩ := hu
      refine And.intro (vp_in_nI hb (by omega)) ?_
      unfold wpY_change
      refine cv_yBr hb (br_t rfl (cv_yClean (by omega) FY.1 (FY.2.1 h hh) FY.2.2 hbn eh (fun _ => br_f (by decide) ⟨vp_in_nI hb (by omega), ?_⟩) (fun z => absurd hcl z)))
      rw [nI_clamp (by omega), et]
      refine cv_yShow ht h20 FY fun v' hv => ?_
      obtain ⟨th', wo', rfl, F'⟩ := hv
      exact And.intro (vp_in_nI hb (by omega)) ⟨et, cv_rl (cv_Hi_bn H hb) hu2 (cv_RY_i F')⟩
    · refine br_t rfl ?_
      unfold wpY_change
      exact cv_yBr hb (br_t rfl (cv_yClean (by omega) FY.1 (FY.2.1 h hh) FY.2.2 hbn eh (fun z => absurd z hcl) (fun _ => br_t rfl ⟨rfl, R⟩)))
theorem i_vc_branch {k : Nat} {u : SX} {v : SY} (I : i_Rel k u v) (hk : k + 4 ≤ 2048) (v1 : Int32) : wpX_branch (fun r u' => wpY_branch (fun r' v' => r' = r ∧ i_Rel (k + 4) u' v') v v1) u v1 := by
  refine cv_el (P := fun u v => wpX_branch (fun r u' => wpY_branch (fun r' v' => r' = r ∧ i_Rel (k + 4) u' v') v v1) u v1) ?_ I
  intro ct bn cl fp sp kn hd M W H dm st ms cs ch bu ro wm wl wk dr FX th wo FY
  have R : i_Rel (k + 4) (dm, nI st, nI ct, nI bn, cl, ms, cs, ch, bu, ro, fp, sp, kn, hd, wm, wl, wk, dr) (nI ct, nI bn, th, wo, fp, sp, hd) := cv_rl H (cv_RX_i FX) (cv_RY_i FY)
  have h20 : ct ≤ 20 := H.1.2.1
  have hbn : bn < 4 := H.1.2.2
  have hs160 : st ≤ 160 := by have := FX.1; omega
  obtain ⟨h, hh, eh⟩ := H.2.1 bn hbn
  try dsimp only
  rcases cv_bx v1 (n := 4) (by omega) with hx | ⟨b, hb, rfl⟩
  · unfold wpX_branch
    refine cv_xNoBr hx (br_t rfl ?_)
    unfold wpY_branch
    exact cv_yNoBr hx (br_f (by decide) ⟨rfl, R⟩)
  · unfold wpX_branch
    refine cv_xIsBr hb (br_f (by decide) (pk_eq b bn (fun e => ?_) (fun e => ⟨vp_in_nI hb (by omega), ?_⟩)))
    · unfold wpY_branch
      exact cv_yBr hb (br_t rfl (pk_eq b bn (fun _ => ⟨rfl, R⟩) (fun z => absurd e z)))
    · rw [nI_clamp (n := b) (by omega), nI_clamp (n := bn) (by omega), eh]
      refine nm_e ⟨vp_in_nI hbn (by omega), vp_in_nI hb (by omega), nm_e ?_⟩
      unfold wpY_branch
      refine cv_yBr hb (br_t rfl (pk_eq b bn (fun z => absurd z e) (fun _ => ⟨vp_in_nI hb (by omega), ?_⟩)))
      rw [nI_clamp (n := b) (by omega), nI_clamp (n := bn) (by omega), eh]
      exact nm_e ⟨vp_in_nI hbn (by omega), vp_in_nI hb (by omega), nm_e ⟨rfl, cv_rl (cv_Hi_hd H hh) (cv_RX_i FX) (cv_RY_i FY)⟩⟩
end
section
/-! what is owed: merge, pick -/
theorem i_vc_merge {k : Nat} {u : SX} {v : SY} (I : i_Rel k u v) (hk : k + 4 ≤ 2048) (v1 : Int32) (v2 : Int32) : wpX_merge (fun r u' => wpY_merge (fun r' v' => r' = r ∧ i_Rel (k + 4) u' v') v v1 v2) u v1 v2 := by
  refine cv_el (P := fun u v => wpX_merge (fun r u' => wpY_merge (fun r' v' => r' = r ∧ i_Rel (k + 4) u' v') v v1 v2) u v1 v2) ?_ I
  intro ct bn cl fp sp kn hd M W H dm st ms cs ch bu ro wm wl wk dr FX th wo FY
  have R : i_Rel (k + 4) (dm, nI st, nI ct, nI bn, cl, ms, cs, ch, bu, ro, fp, sp, kn, hd, wm, wl, wk, dr) (nI ct, nI bn, th, wo, fp, sp, hd) := cv_rl H (cv_RX_i FX) (cv_RY_i FY)
  have h20 : ct ≤ 20 := H.1.2.1
  have hbn : bn < 4 := H.1.2.2
  have hs160 : st ≤ 160 := by have := FX.1; omega
  obtain ⟨h, hh, eh⟩ := H.2.1 bn hbn
  try dsimp only
  rcases cv_bx v1 (n := 4) (by omega) with hx | ⟨b, hb, rfl⟩
  · unfold wpX_merge
    refine cv_xNoBr hx (br_t rfl ?_)
    unfold wpY_merge
    exact cv_yNoBr hx (br_f (by decide) ⟨rfl, R⟩)
  obtain ⟨t, ht, et⟩ := H.2.1 b hb
  unfold wpX_merge
  refine cv_xIsBr hb (br_f (by decide) (br_c (fun s0 => ?_) (fun s0 => br_c (fun s2 => ?_) (fun s2 => ?_))))
  · unfold wpY_merge
    exact cv_yBr hb (br_t rfl (br_t s0 ⟨rfl, R⟩))
  rotate_left
  · unfold wpY_merge
    exact cv_yBr hb (br_t rfl (br_f s0 (br_f s2 ⟨rfl, R⟩)))
  refine cv_xClean hs160 FX.2.1 (by omega) (FX.2.2.1 h hh) FX.2.2.2 hbn eh (fun hcl => ?_) (fun hcl => ?_)
  rotate_left
  · refine br_t rfl ?_
    unfold wpY_merge
    exact cv_yBr hb (br_t rfl (br_f s0 (br_t s2 (cv_yClean (by omega) FY.1 (FY.2.1 h hh) FY.2.2 hbn eh (fun z => absurd z hcl) (fun _ => br_t rfl ⟨rfl, R⟩)))))
  refine br_f (by decide) ⟨vp_in_nI hbn (by omega), ?_⟩
  rw [nI_clamp (n := bn) (by omega), nI_clamp (n := b) (by omega), eh, et]
  refine nm_e ⟨vp_in_nI hb (by omega), nm_e (cv_xBase H hh ht ?_)⟩
  have hba := cv_ba_lt H hh ht
  generalize eba : cv_ba kn h t = o at hba
  refine pk_eq o t (fun e1 => ?_) (fun e1 => pk_eq o h (fun e2 => ⟨vp_in_nI hbn (by omega), ?_⟩) (fun e2 => pk_eq ct 20 (fun e3 => ?_) (fun e3 => ?_)))
  · unfold wpY_merge
    refine cv_yBr hb (br_t rfl (br_f s0 (br_t s2 (cv_yClean (by omega) FY.1 (FY.2.1 h hh) FY.2.2 hbn eh (fun _ => br_f (by decide) (cv_yMine hbn eh ⟨vp_in_nI hb (by omega), ?_⟩)) (fun z => absurd hcl z)))))
    rw [nI_clamp (n := b) (by omega), et]
    refine nm_e (cv_yShared H hh ht ?_)
    rw [eba]
    exact pk_eq o t (fun _ => ⟨rfl, R⟩) (fun z => absurd e1 z)
  · refine nm_e (cv_xCheck h20 ht ht h20 FX fun u' hu => ?_)
    have hu2 := hu
    obtain ⟨dm2, st2, ms2, cs2, ch2, bu2, ro2, wm2, wl2, wk2, dr2, rfl, F2⟩ := hu
    unfold wpY_merge
    refine cv_yBr hb (br_t rfl (br_f s0 (br_t s2 (cv_yClean (by omega) FY.1 (FY.2.1 h hh) FY.2.2 hbn eh (fun _ => br_f (by decide) (cv_yMine hbn eh ⟨vp_in_nI hb (by omega), ?_⟩)) (fun z => absurd hcl z)))))
    rw [nI_clamp (n := b) (by omega), et]
    refine nm_e (cv_yShared H hh ht ?_)
    rw [eba]
    refine pk_eq o t (fun z => absurd z e1) (fun _ => pk_eq o h (fun _ => ⟨vp_in_nI hbn (by omega), ?_⟩) (fun z => absurd e2 z))
    rw [nI_clamp (n := bn) (by omega)]
    refine nm_e (cv_yCopy (a := t) (b := 20) (by omega) (by omega) (by omega) FY.1 fun th' wo' hT' g1 g2 => ?_)
    refine And.intro rfl (cv_rl (cv_Hi_hd H ht) hu2 (cv_RY_i ⟨hT', fun d hd' k hk => ?_, fun k hk => ?_⟩))
    · rw [g2 _ (by omega)]
      exact FY.2.1 d hd' k hk
    · exact (g1 k hk).trans (FY.2.1 t ht k hk)
  · unfold wpY_merge
    refine cv_yBr hb (br_t rfl (br_f s0 (br_t s2 (cv_yClean (by omega) FY.1 (FY.2.1 h hh) FY.2.2 hbn eh (fun _ => br_f (by decide) (cv_yMine hbn eh ⟨vp_in_nI hb (by omega), ?_⟩)) (fun z => absurd hcl z)))))
    rw [nI_clamp (n := b) (by omega), et]
    refine nm_e (cv_yShared H hh ht ?_)
    rw [eba]
    exact pk_eq o t (fun z => absurd z e1) (fun _ => pk_eq o h (fun z => absurd z e2) (fun _ => pk_le ct 19 (fun z => absurd z (by omega)) (fun _ => ⟨rfl, R⟩)))
  · have hlt : ct < 20 := by omega
    have YT : ∀ kn' u', cv_Hi (ct + 1) bn (upd fp ct (nI h)) (upd sp ct (nI t)) kn' (upd hd bn (nI ct)) → cv_RX (ct + 1) (ct + 1) bn (nI (cv_cn (cv_cl (M o) (M h) (M t)) 64)) (upd fp ct (nI h)) (upd sp ct (nI t)) kn' (upd hd bn (nI ct)) (cv_ms M ct (cv_mg (M o) (M h) (M t) v2)) (cv_mg (M o) (M h) (M t) v2) u' → wY_merge_130 (fun r' v' => r' = nI (cv_cn (cv_cl (M o) (M h) (M t)) 64) ∧ i_Rel (k + 4) u' v') v2 (nI h) (nI t) (nI o) (nI (cv_cn (cv_cl (M o) (M h) (M t)) 64)) (nI ct) (nI bn) th wo fp sp hd := by
      intro kn' u' H' hu
      unfold wY_merge_130
      refine cv_yBlend h20 hba hh ht FY fun th' wo' F' => ?_
      refine cv_yMake hlt hbn F' fun v' hv => ?_
      obtain ⟨th2, wo2, rfl, F2⟩ := hv
      exact And.intro rfl (cv_rl H' hu (cv_RY_i F2))
    have hcn := cv_cn_le (cv_cl (M o) (M h) (M t)) 64
    refine br_c (fun e4 => ?_) (fun e4 => ?_)
    · refine cv_xCClash hs160 FX.2.1 (by omega) (by omega) (by omega) (FX.2.2.1 o hba) (FX.2.2.1 h hh) (FX.2.2.1 t ht) ?_
      refine pk_le (cv_cn (cv_cl (M o) (M h) (M t)) 64) 0 (fun e5 => ?_) (fun e5 => ?_)
      · refine cv_xM129 H hlt hba hh ht FX fun kn' u' H' hu => ?_
        unfold wpY_merge
        refine cv_yBr hb (br_t rfl (br_f s0 (br_t s2 (cv_yClean (by omega) FY.1 (FY.2.1 h hh) FY.2.2 hbn eh (fun _ => br_f (by decide) (cv_yMine hbn eh ⟨vp_in_nI hb (by omega), ?_⟩)) (fun z => absurd hcl z)))))
        rw [nI_clamp (n := b) (by omega), et]
        refine nm_e (cv_yShared H hh ht ?_)
        rw [eba]
        refine pk_eq o t (fun z => absurd z e1) (fun _ => pk_eq o h (fun z => absurd z e2) (fun _ => pk_le ct 19 (fun _ => ?_) (fun z => absurd z (by omega))))
        refine cv_yClashes (by omega) (by omega) (by omega) FY.1 (FY.2.1 o hba) (FY.2.1 h hh) (FY.2.1 t ht) ?_
        exact br_t e4 (pk_le (cv_cn (cv_cl (M o) (M h) (M t)) 64) 0 (fun _ => YT kn' u' H' hu) (fun z => absurd z (by omega)))
      · unfold wpY_merge
        refine cv_yBr hb (br_t rfl (br_f s0 (br_t s2 (cv_yClean (by omega) FY.1 (FY.2.1 h hh) FY.2.2 hbn eh (fun _ => br_f (by decide) (cv_yMine hbn eh ⟨vp_in_nI hb (by omega), ?_⟩)) (fun z => absurd hcl z)))))
        rw [nI_clamp (n := b) (by omega), et]
        refine nm_e (cv_yShared H hh ht ?_)
        rw [eba]
        refine pk_eq o t (fun z => absurd z e1) (fun _ => pk_eq o h (fun z => absurd z e2) (fun _ => pk_le ct 19 (fun _ => ?_) (fun z => absurd z (by omega))))
        refine cv_yClashes (by omega) (by omega) (by omega) FY.1 (FY.2.1 o hba) (FY.2.1 h hh) (FY.2.1 t ht) ?_
        exact br_t e4 (pk_le (cv_cn (cv_cl (M o) (M h) (M t)) 64) 0 (fun z => absurd z (by omega)) (fun _ => ⟨rfl, R⟩))
    · refine cv_xM129 H hlt hba hh ht FX fun kn' u' H' hu => ?_
      unfold wpY_merge
      refine cv_yBr hb (br_t rfl (br_f s0 (br_t s2 (cv_yClean (by omega) FY.1 (FY.2.1 h hh) FY.2.2 hbn eh (fun _ => br_f (by decide) (cv_yMine hbn eh ⟨vp_in_nI hb (by omega), ?_⟩)) (fun z => absurd hcl z)))))
      rw [nI_clamp (n := b) (by omega), et]
      refine nm_e (cv_yShared H hh ht ?_)
      rw [eba]
      refine pk_eq o t (fun z => absurd z e1) (fun _ => pk_eq o h (fun z => absurd z e2) (fun _ => pk_le ct 19 (fun _ => ?_) (fun z => absurd z (by omega))))
      refine cv_yClashes (by omega) (by omega) (by omega) FY.1 (FY.2.1 o hba) (FY.2.1 h hh) (FY.2.1 t ht) ?_
      exact br_f e4 (YT kn' u' H' hu)
theorem i_vc_pick {k : Nat} {u : SX} {v : SY} (I : i_Rel k u v) (hk : k + 4 ≤ 2048) (v1 : Int32) (v2 : Int32) : wpX_pick (fun r u' => wpY_pick (fun r' v' => r' = r ∧ i_Rel (k + 4) u' v') v v1 v2) u v1 v2 := by
  refine cv_el (P := fun u v => wpX_pick (fun r u' => wpY_pick (fun r' v' => r' = r ∧ i_Rel (k + 4) u' v') v v1 v2) u v1 v2) ?_ I
  intro ct bn cl fp sp kn hd M W H dm st ms cs ch bu ro wm wl wk dr FX th wo FY
  have R : i_Rel (k + 4) (dm, nI st, nI ct, nI bn, cl, ms, cs, ch, bu, ro, fp, sp, kn, hd, wm, wl, wk, dr) (nI ct, nI bn, th, wo, fp, sp, hd) := cv_rl H (cv_RX_i FX) (cv_RY_i FY)
  have h20 : ct ≤ 20 := H.1.2.1
  have hbn : bn < 4 := H.1.2.2
  have hs160 : st ≤ 160 := by have := FX.1; omega
  obtain ⟨h, hh, eh⟩ := H.2.1 bn hbn
  try dsimp only
  rcases cv_bx v1 (n := ct) (by omega) with hx | ⟨c, hc, rfl⟩
  · unfold wpX_pick
    refine cv_xNoCo hx (br_t rfl ?_)
    unfold wpY_pick
    exact cv_yNoCo hx (br_f (by decide) ⟨rfl, R⟩)
  unfold wpX_pick
  refine cv_xIsCo hc h20 (br_f (by decide) (br_c (fun s0 => ?_) (fun s0 => br_c (fun s2 => ?_) (fun s2 => ?_))))
  · unfold wpY_pick
    exact cv_yCo hc h20 (br_t rfl (br_t s0 ⟨rfl, R⟩))
  rotate_left
  · unfold wpY_pick
    exact cv_yCo hc h20 (br_t rfl (br_f s0 (br_f s2 ⟨rfl, R⟩)))
  refine cv_xClean hs160 FX.2.1 (by omega) (FX.2.2.1 h hh) FX.2.2.2 hbn eh (fun hcl => ?_) (fun hcl => ?_)
  rotate_left
  · refine br_t rfl ?_
    unfold wpY_pick
    exact cv_yCo hc h20 (br_t rfl (br_f s0 (br_t s2 (cv_yClean (by omega) FY.1 (FY.2.1 h hh) FY.2.2 hbn eh (fun z => absurd z hcl) (fun _ => br_t rfl ⟨rfl, R⟩)))))
  refine br_f (by decide) (pk_eq ct 20 (fun e3 => ?_) (fun e3 => ⟨vp_in_nI (by omega) (by omega), ?_⟩))
  · unfold wpY_pick
    refine cv_yCo hc h20 (br_t rfl (br_f s0 (br_t s2 (cv_yClean (by omega) FY.1 (FY.2.1 h hh) FY.2.2 hbn eh (fun _ => br_f (by decide) ?_) (fun z => absurd hcl z)))))
    exact pk_le ct 19 (fun z => absurd z (by omega)) (fun _ => ⟨rfl, R⟩)
  have hlt : ct < 20 := by omega
  rw [nI_clamp (n := c) (by omega)]
  rcases H.2.2.1 c hc with eo | ⟨o, ho, eo⟩
  · rw [eo]
    refine br_t rfl ?_
    unfold wpY_pick
    refine cv_yCo hc h20 (br_t rfl (br_f s0 (br_t s2 (cv_yClean (by omega) FY.1 (FY.2.1 h hh) FY.2.2 hbn eh (fun _ => br_f (by decide) ?_) (fun z => absurd hcl z)))))
    refine pk_le ct 19 (fun _ => ⟨vp_in_nI (by omega) (by omega), ?_⟩) (fun z => absurd z (by omega))
    rw [nI_clamp (n := c) (by omega), eo]
    exact nm_e (br_f (by decide) ⟨rfl, R⟩)
  · have hba : o < ct := by omega
    rw [eo]
    refine br_f (cv_n1 (by omega)) ⟨vp_in_nI hbn (by omega), ?_⟩
    rw [nI_clamp (n := bn) (by omega), eh]
    have YT : ∀ kn' u', cv_Hi (ct + 1) bn (upd fp ct (nI h)) (upd sp ct (-1)) kn' (upd hd bn (nI ct)) → cv_RX (ct + 1) (ct + 1) bn (nI (cv_cn (cv_cl (M o) (M h) (M c)) 64)) (upd fp ct (nI h)) (upd sp ct (-1)) kn' (upd hd bn (nI ct)) (cv_ms M ct (cv_mg (M o) (M h) (M c) v2)) (cv_mg (M o) (M h) (M c) v2) u' → wY_pick_87 (fun r' v' => r' = nI (cv_cn (cv_cl (M o) (M h) (M c)) 64) ∧ i_Rel (k + 4) u' v') (nI c) v2 (nI o) (nI h) (nI (cv_cn (cv_cl (M o) (M h) (M c)) 64)) (nI ct) (nI bn) th wo fp sp hd := by
      intro kn' u' H' hu
      unfold wY_pick_87
      refine cv_yBlend h20 hba hh hc FY fun th' wo' F' => ?_
      refine cv_yMake hlt hbn F' fun v' hv => ?_
      obtain ⟨th2, wo2, rfl, F2⟩ := hv
      exact And.intro rfl (cv_rl H' hu (cv_RY_i F2))
    have hcn := cv_cn_le (cv_cl (M o) (M h) (M c)) 64
    refine nm_e (br_c (fun e4 => ⟨vp_in_nI (by omega) (by omega), ?_⟩) (fun e4 => ?_))
    · refine cv_xCClash hs160 FX.2.1 (by omega) (by omega) (by omega) (FX.2.2.1 o hba) (FX.2.2.1 h hh) (FX.2.2.1 c hc) ?_
      refine pk_le (cv_cn (cv_cl (M o) (M h) (M c)) 64) 0 (fun e5 => ?_) (fun e5 => ?_)
      · refine cv_xP90 H hlt hba hh hc eo FX fun kn' u' H' hu => ?_
        unfold wpY_pick
        refine cv_yCo hc h20 (br_t rfl (br_f s0 (br_t s2 (cv_yClean (by omega) FY.1 (FY.2.1 h hh) FY.2.2 hbn eh (fun _ => br_f (by decide) ?_) (fun z => absurd hcl z)))))
        refine pk_le ct 19 (fun _ => ⟨vp_in_nI (by omega) (by omega), ?_⟩) (fun z => absurd z (by omega))
        rw [nI_clamp (n := c) (by omega), eo]
        refine nm_e (br_t (nI_pos' (by omega)) (cv_yMine hbn eh ?_))
        refine cv_yClashes (by omega) (by omega) (by omega) FY.1 (FY.2.1 o hba) (FY.2.1 h hh) (FY.2.1 c hc) ?_
        exact br_t e4 (pk_le (cv_cn (cv_cl (M o) (M h) (M c)) 64) 0 (fun _ => YT kn' u' H' hu) (fun z => absurd z (by omega)))
      · unfold wpY_pick
        refine cv_yCo hc h20 (br_t rfl (br_f s0 (br_t s2 (cv_yClean (by omega) FY.1 (FY.2.1 h hh) FY.2.2 hbn eh (fun _ => br_f (by decide) ?_) (fun z => absurd hcl z)))))
        refine pk_le ct 19 (fun _ => ⟨vp_in_nI (by omega) (by omega), ?_⟩) (fun z => absurd z (by omega))
        rw [nI_clamp (n := c) (by omega), eo]
        refine nm_e (br_t (nI_pos' (by omega)) (cv_yMine hbn eh ?_))
        refine cv_yClashes (by omega) (by omega) (by omega) FY.1 (FY.2.1 o hba) (FY.2.1 h hh) (FY.2.1 c hc) ?_
        exact br_t e4 (pk_le (cv_cn (cv_cl (M o) (M h) (M c)) 64) 0 (fun z => absurd z (by omega)) (fun _ => ⟨rfl, R⟩))
    · refine cv_xP90 H hlt hba hh hc eo FX fun kn' u' H' hu => ?_
      unfold wpY_pick
      refine cv_yCo hc h20 (br_t rfl (br_f s0 (br_t s2 (cv_yClean (by omega) FY.1 (FY.2.1 h hh) FY.2.2 hbn eh (fun _ => br_f (by decide) ?_) (fun z => absurd hcl z)))))
      refine pk_le ct 19 (fun _ => ⟨vp_in_nI (by omega) (by omega), ?_⟩) (fun z => absurd z (by omega))
      rw [nI_clamp (n := c) (by omega), eo]
      refine nm_e (br_t (nI_pos' (by omega)) (cv_yMine hbn eh ?_))
      refine cv_yClashes (by omega) (by omega) (by omega) FY.1 (FY.2.1 o hba) (FY.2.1 h hh) (FY.2.1 c hc) ?_
      exact br_f e4 (YT kn' u' H' hu)
end
section
/-! what is owed: the readers -/
theorem cv_m1f {v : Int32} {k : Nat} (h : ¬ (-1 : Int32) ≤ v) (hk : k < 64) : (-1 : Int32) < nI k ↔ v < nI k := by
  have h0 : (-1 : Int32) < nI k := Int32.lt_of_lt_of_le (by decide) (nI_pos' (by omega))
  exact ⟨fun _ => Int32.lt_trans (Int32.not_le.mp h) h0, fun _ => h0⟩
theorem cv_Ro_at {st c k : Nat} {ms cs ro : Nat → Int32} {A : Nat → Option Int32} (hk : k < 64) (hA : cv_Ro st ms cs ro c A) : ∃ r, r < st ∧ ro (8 * c + k / 8) = nI r ∧ A k = cv_ob (bt (ms r) (k % 8)) (cs (8 * r + k % 8)) := by
  obtain ⟨r, h1, h2, h3⟩ := hA (k / 8) (by omega)
  have e : 8 * (k / 8) + k % 8 = k := by omega
  have h4 := h3 (k % 8) (by omega)
  rw [e] at h4
  exact ⟨r, h1, h2, h4.symm⟩
theorem i_vc_commits {k : Nat} {u : SX} {v : SY} (I : i_Rel k u v) (hk : k + 4 ≤ 2048) : wpX_commits (fun r => wpY_commits (fun r' => r' = r ∧ i_Rel (k + 4) u v) v) u := by
  refine cv_el (P := fun u v => wpX_commits (fun r => wpY_commits (fun r' => r' = r ∧ i_Rel (k + 4) u v) v) u) ?_ I
  intro ct bn cl fp sp kn hd M W H dm st ms cs ch bu ro wm wl wk dr FX th wo FY
  have R : i_Rel (k + 4) (dm, nI st, nI ct, nI bn, cl, ms, cs, ch, bu, ro, fp, sp, kn, hd, wm, wl, wk, dr) (nI ct, nI bn, th, wo, fp, sp, hd) := cv_rl H (cv_RX_i FX) (cv_RY_i FY)
  have h20 : ct ≤ 20 := H.1.2.1
  have hbn : bn < 4 := H.1.2.2
  have hs160 : st ≤ 160 := by have := FX.1; omega
  obtain ⟨h, hh, eh⟩ := H.2.1 bn hbn
  try dsimp only
  exact And.intro rfl R
theorem i_vc_current {k : Nat} {u : SX} {v : SY} (I : i_Rel k u v) (hk : k + 4 ≤ 2048) : wpX_current (fun r => wpY_current (fun r' => r' = r ∧ i_Rel (k + 4) u v) v) u := by
  refine cv_el (P := fun u v => wpX_current (fun r => wpY_current (fun r' => r' = r ∧ i_Rel (k + 4) u v) v) u) ?_ I
  intro ct bn cl fp sp kn hd M W H dm st ms cs ch bu ro wm wl wk dr FX th wo FY
  have R : i_Rel (k + 4) (dm, nI st, nI ct, nI bn, cl, ms, cs, ch, bu, ro, fp, sp, kn, hd, wm, wl, wk, dr) (nI ct, nI bn, th, wo, fp, sp, hd) := cv_rl H (cv_RX_i FX) (cv_RY_i FY)
  have h20 : ct ≤ 20 := H.1.2.1
  have hbn : bn < 4 := H.1.2.2
  have hs160 : st ≤ 160 := by have := FX.1; omega
  obtain ⟨h, hh, eh⟩ := H.2.1 bn hbn
  try dsimp only
  exact And.intro rfl R
theorem i_vc_head {k : Nat} {u : SX} {v : SY} (I : i_Rel k u v) (hk : k + 4 ≤ 2048) (v1 : Int32) : wpX_head (fun r => wpY_head (fun r' => r' = r ∧ i_Rel (k + 4) u v) v v1) u v1 := by
  refine cv_el (P := fun u v => wpX_head (fun r => wpY_head (fun r' => r' = r ∧ i_Rel (k + 4) u v) v v1) u v1) ?_ I
  intro ct bn cl fp sp kn hd M W H dm st ms cs ch bu ro wm wl wk dr FX th wo FY
  have R : i_Rel (k + 4) (dm, nI st, nI ct, nI bn, cl, ms, cs, ch, bu, ro, fp, sp, kn, hd, wm, wl, wk, dr) (nI ct, nI bn, th, wo, fp, sp, hd) := cv_rl H (cv_RX_i FX) (cv_RY_i FY)
  have h20 : ct ≤ 20 := H.1.2.1
  have hbn : bn < 4 := H.1.2.2
  have hs160 : st ≤ 160 := by have := FX.1; omega
  obtain ⟨h, hh, eh⟩ := H.2.1 bn hbn
  try dsimp only
  rcases cv_bx v1 (n := 4) (by omega) with hx | ⟨b, hb, rfl⟩
  · unfold wpX_head
    refine cv_xNoBr hx (br_t rfl ?_)
    unfold wpY_head
    exact cv_yNoBr hx (br_f (by decide) ⟨rfl, R⟩)
  · unfold wpX_head
    refine cv_xIsBr hb (br_f (by decide) ⟨vp_in_nI hb (by omega), ?_⟩)
    unfold wpY_head
    exact cv_yBr hb (br_t rfl ⟨vp_in_nI hb (by omega), rfl, R⟩)
theorem i_vc_parent {k : Nat} {u : SX} {v : SY} (I : i_Rel k u v) (hk : k + 4 ≤ 2048) (v1 : Int32) (v2 : Int32) : wpX_parent (fun r => wpY_parent (fun r' => r' = r ∧ i_Rel (k + 4) u v) v v1 v2) u v1 v2 := by
  refine cv_el (P := fun u v => wpX_parent (fun r => wpY_parent (fun r' => r' = r ∧ i_Rel (k + 4) u v) v v1 v2) u v1 v2) ?_ I
  intro ct bn cl fp sp kn hd M W H dm st ms cs ch bu ro wm wl wk dr FX th wo FY
  have R : i_Rel (k + 4) (dm, nI st, nI ct, nI bn, cl, ms, cs, ch, bu, ro, fp, sp, kn, hd, wm, wl, wk, dr) (nI ct, nI bn, th, wo, fp, sp, hd) := cv_rl H (cv_RX_i FX) (cv_RY_i FY)
  have h20 : ct ≤ 20 := H.1.2.1
  have hbn : bn < 4 := H.1.2.2
  have hs160 : st ≤ 160 := by have := FX.1; omega
  obtain ⟨h, hh, eh⟩ := H.2.1 bn hbn
  try dsimp only
  rcases cv_bx v1 (n := ct) (by omega) with hx | ⟨c, hc, rfl⟩
  · unfold wpX_parent
    refine cv_xNoCo hx (br_t rfl ?_)
    unfold wpY_parent
    exact cv_yNoCo hx (br_f (by decide) ⟨rfl, R⟩)
  · have vc : vp_in (nI c) 20 := vp_in_nI (by omega) (by omega)
    unfold wpX_parent
    refine cv_xIsCo hc h20 (br_f (by decide) (br_c (fun e => ⟨vc, ?_⟩) (fun e => ⟨vc, ?_⟩)))
    · rw [nI_clamp (by omega)]
      rcases H.2.2.1 c hc with z | ⟨p, hp, z⟩
      · rw [z]
        refine br_t rfl ?_
        unfold wpY_parent
        refine cv_yCo hc h20 (br_t rfl (br_t e ⟨vc, ?_⟩))
        rw [nI_clamp (by omega), z]
        exact br_f (by decide) ⟨rfl, R⟩
      · rw [z]
        refine br_f (cv_n1 (by omega)) ?_
        unfold wpY_parent
        refine cv_yCo hc h20 (br_t rfl (br_t e ⟨vc, ?_⟩))
        rw [nI_clamp (by omega), z]
        exact br_t (nI_pos' (by omega)) ⟨rfl, R⟩
    · rw [nI_clamp (by omega)]
      rcases H.2.2.2.1 c hc with z | ⟨p, hp, z⟩
      · rw [z]
        refine br_t rfl ?_
        unfold wpY_parent
        refine cv_yCo hc h20 (br_t rfl (br_f e ⟨vc, ?_⟩))
        rw [nI_clamp (by omega), z]
        exact br_f (by decide) ⟨rfl, R⟩
      · rw [z]
        refine br_f (cv_n1 (by omega)) ?_
        unfold wpY_parent
        refine cv_yCo hc h20 (br_t rfl (br_f e ⟨vc, ?_⟩))
        rw [nI_clamp (by omega), z]
        exact br_t (nI_pos' (by omega)) ⟨rfl, R⟩
theorem i_vc_clean {k : Nat} {u : SX} {v : SY} (I : i_Rel k u v) (hk : k + 4 ≤ 2048) : wpX_clean (fun r => wpY_clean (fun r' => r' = r ∧ i_Rel (k + 4) u v) v) u := by
  refine cv_el (P := fun u v => wpX_clean (fun r => wpY_clean (fun r' => r' = r ∧ i_Rel (k + 4) u v) v) u) ?_ I
  intro ct bn cl fp sp kn hd M W H dm st ms cs ch bu ro wm wl wk dr FX th wo FY
  have R : i_Rel (k + 4) (dm, nI st, nI ct, nI bn, cl, ms, cs, ch, bu, ro, fp, sp, kn, hd, wm, wl, wk, dr) (nI ct, nI bn, th, wo, fp, sp, hd) := cv_rl H (cv_RX_i FX) (cv_RY_i FY)
  have h20 : ct ≤ 20 := H.1.2.1
  have hbn : bn < 4 := H.1.2.2
  have hs160 : st ≤ 160 := by have := FX.1; omega
  obtain ⟨h, hh, eh⟩ := H.2.1 bn hbn
  try dsimp only
  unfold wpX_clean
  refine cv_xClean hs160 FX.2.1 (by omega) (FX.2.2.1 h hh) FX.2.2.2 hbn eh (fun hcl => br_f (by decide) ?_) (fun hcl => br_t rfl ?_)
  · unfold wpY_clean
    exact cv_yClean (by omega) FY.1 (FY.2.1 h hh) FY.2.2 hbn eh (fun _ => br_f (by decide) ⟨rfl, R⟩) (fun z => absurd hcl z)
  · unfold wpY_clean
    exact cv_yClean (by omega) FY.1 (FY.2.1 h hh) FY.2.2 hbn eh (fun z => absurd z hcl) (fun _ => br_t rfl ⟨rfl, R⟩)
theorem i_vc_has {k : Nat} {u : SX} {v : SY} (I : i_Rel k u v) (hk : k + 4 ≤ 2048) (v1 : Int32) : wpX_has (fun r => wpY_has (fun r' => r' = r ∧ i_Rel (k + 4) u v) v v1) u v1 := by
  refine cv_el (P := fun u v => wpX_has (fun r => wpY_has (fun r' => r' = r ∧ i_Rel (k + 4) u v) v v1) u v1) ?_ I
  intro ct bn cl fp sp kn hd M W H dm st ms cs ch bu ro wm wl wk dr FX th wo FY
  have R : i_Rel (k + 4) (dm, nI st, nI ct, nI bn, cl, ms, cs, ch, bu, ro, fp, sp, kn, hd, wm, wl, wk, dr) (nI ct, nI bn, th, wo, fp, sp, hd) := cv_rl H (cv_RX_i FX) (cv_RY_i FY)
  have h20 : ct ≤ 20 := H.1.2.1
  have hbn : bn < 4 := H.1.2.2
  have hs160 : st ≤ 160 := by have := FX.1; omega
  obtain ⟨h, hh, eh⟩ := H.2.1 bn hbn
  try dsimp only
  rcases cv_bx v1 (n := 64) (by omega) with hx | ⟨q, hq, rfl⟩
  · unfold wpX_has
    refine cv_xNoKey hx (br_t rfl ?_)
    unfold wpY_has
    exact cv_yNoKey hx (br_f (by decide) ⟨rfl, R⟩)
  · have e := cv_ob_b ((cv_Wk_at hq FX.2.2.2).symm.trans (FY.2.2 q hq).symm)
    unfold wpX_has
    refine cv_xIsKey hq (br_f (by decide) ?_)
    rw [cv_k3 hq, cv_k7 hq, nI_clamp (by omega), cv_shb _ (by omega), e]
    refine ⟨vp_in_nI (by omega) (by omega), ?_⟩
    unfold wpY_has
    refine cv_yKey hq (br_t rfl ?_)
    rw [cv_a1280, nI_clamp (by omega)]
    refine ⟨vp_in_nI (by omega) (by omega), br_c (fun z => ⟨?_, R⟩) (fun z => ⟨?_, R⟩)⟩
    · rw [decide_eq_true z]
      rfl
    · rw [decide_eq_false z]
      rfl
theorem i_vc_value {k : Nat} {u : SX} {v : SY} (I : i_Rel k u v) (hk : k + 4 ≤ 2048) (v1 : Int32) : wpX_value (fun r => wpY_value (fun r' => r' = r ∧ i_Rel (k + 4) u v) v v1) u v1 := by
  refine cv_el (P := fun u v => wpX_value (fun r => wpY_value (fun r' => r' = r ∧ i_Rel (k + 4) u v) v v1) u v1) ?_ I
  intro ct bn cl fp sp kn hd M W H dm st ms cs ch bu ro wm wl wk dr FX th wo FY
  have R : i_Rel (k + 4) (dm, nI st, nI ct, nI bn, cl, ms, cs, ch, bu, ro, fp, sp, kn, hd, wm, wl, wk, dr) (nI ct, nI bn, th, wo, fp, sp, hd) := cv_rl H (cv_RX_i FX) (cv_RY_i FY)
  have h20 : ct ≤ 20 := H.1.2.1
  have hbn : bn < 4 := H.1.2.2
  have hs160 : st ≤ 160 := by have := FX.1; omega
  obtain ⟨h, hh, eh⟩ := H.2.1 bn hbn
  try dsimp only
  rcases cv_bx v1 (n := 64) (by omega) with hx | ⟨q, hq, rfl⟩
  · unfold wpX_value
    refine cv_xNoKey hx (br_t rfl ?_)
    unfold wpY_value
    exact cv_yNoKey hx (br_f (by decide) ⟨rfl, R⟩)
  · have e0 := (cv_Wk_at hq FX.2.2.2).symm.trans (FY.2.2 q hq).symm
    have z0 := (FX.2.2.2 (q / 8) (by omega)).1 (q % 8) (by omega)
    rw [show 8 * (q / 8) + q % 8 = q from by omega, cv_ob_b e0] at z0
    rw [cv_ob_b e0] at e0
    unfold wpX_value
    refine cv_xIsKey hq (br_f (by decide) ⟨vp_in_nI hq (by omega), ?_⟩)
    rw [nI_clamp (by omega)]
    unfold wpY_value
    refine cv_yKey hq (br_t rfl ?_)
    rw [cv_a1280, nI_clamp (by omega)]
    have v0 : vp_in (nI (1280 + q)) 1408 := vp_in_nI (by omega) (by omega)
    refine ⟨v0, br_c (fun z => ⟨?_, R⟩) (fun z => ⟨v0, ?_, R⟩)⟩
    · rw [decide_eq_true z] at z0
      exact (z0 rfl).symm
    · unfold cv_cy at e0
      rw [decide_eq_false z] at e0
      exact (Option.some.inj e0).symm
theorem i_vc_hasIn {k : Nat} {u : SX} {v : SY} (I : i_Rel k u v) (hk : k + 4 ≤ 2048) (v1 : Int32) (v2 : Int32) : wpX_hasIn (fun r => wpY_hasIn (fun r' => r' = r ∧ i_Rel (k + 4) u v) v v1 v2) u v1 v2 := by
  refine cv_el (P := fun u v => wpX_hasIn (fun r => wpY_hasIn (fun r' => r' = r ∧ i_Rel (k + 4) u v) v v1 v2) u v1 v2) ?_ I
  intro ct bn cl fp sp kn hd M W H dm st ms cs ch bu ro wm wl wk dr FX th wo FY
  have R : i_Rel (k + 4) (dm, nI st, nI ct, nI bn, cl, ms, cs, ch, bu, ro, fp, sp, kn, hd, wm, wl, wk, dr) (nI ct, nI bn, th, wo, fp, sp, hd) := cv_rl H (cv_RX_i FX) (cv_RY_i FY)
  have h20 : ct ≤ 20 := H.1.2.1
  have hbn : bn < 4 := H.1.2.2
  have hs160 : st ≤ 160 := by have := FX.1; omega
  obtain ⟨h, hh, eh⟩ := H.2.1 bn hbn
  try dsimp only
  rcases cv_bx v1 (n := ct) (by omega) with hx | ⟨c, hc, rfl⟩
  · unfold wpX_hasIn
    refine cv_xNoCo hx (br_t rfl ?_)
    unfold wpY_hasIn
    exact cv_yNoCo hx (br_f (by decide) ⟨rfl, R⟩)
  rcases cv_bx v2 (n := 64) (by omega) with hx | ⟨q, hq, rfl⟩
  · unfold wpX_hasIn
    refine cv_xIsCo hc h20 (br_f (by decide) (cv_xNoKey hx (br_t rfl ?_)))
    unfold wpY_hasIn
    exact cv_yCo hc h20 (br_t rfl (cv_yNoKey hx (br_f (by decide) ⟨rfl, R⟩)))
  · obtain ⟨r, hr, er, ec⟩ := cv_Ro_at hq (FX.2.2.1 c hc)
    have e := cv_ob_b (ec.symm.trans (FY.2.1 c hc q hq).symm)
    unfold wpX_hasIn
    refine cv_xIsCo hc h20 (br_f (by decide) (cv_xIsKey hq (br_f (by decide) ?_)))
    rw [cv_k3 hq, cv_k7 hq, cv_m8, nI_add, nI_clamp (by omega), er]
    refine ⟨vp_in_nI (by omega) (by omega), nm_e ⟨vp_in_nI (by omega) (by omega), ?_⟩⟩
    rw [nI_clamp (by omega), cv_shb _ (by omega), e]
    unfold wpY_hasIn
    refine cv_yCo hc h20 (br_t rfl (cv_yKey hq (br_t rfl ?_)))
    rw [cv_m64, nI_add, nI_clamp (by omega)]
    refine ⟨vp_in_nI (by omega) (by omega), br_c (fun z => ⟨?_, R⟩) (fun z => ⟨?_, R⟩)⟩
    · rw [decide_eq_true z]
      rfl
    · rw [decide_eq_false z]
      rfl
theorem i_vc_valueIn {k : Nat} {u : SX} {v : SY} (I : i_Rel k u v) (hk : k + 4 ≤ 2048) (v1 : Int32) (v2 : Int32) : wpX_valueIn (fun r => wpY_valueIn (fun r' => r' = r ∧ i_Rel (k + 4) u v) v v1 v2) u v1 v2 := by
  refine cv_el (P := fun u v => wpX_valueIn (fun r => wpY_valueIn (fun r' => r' = r ∧ i_Rel (k + 4) u v) v v1 v2) u v1 v2) ?_ I
  intro ct bn cl fp sp kn hd M W H dm st ms cs ch bu ro wm wl wk dr FX th wo FY
  have R : i_Rel (k + 4) (dm, nI st, nI ct, nI bn, cl, ms, cs, ch, bu, ro, fp, sp, kn, hd, wm, wl, wk, dr) (nI ct, nI bn, th, wo, fp, sp, hd) := cv_rl H (cv_RX_i FX) (cv_RY_i FY)
  have h20 : ct ≤ 20 := H.1.2.1
  have hbn : bn < 4 := H.1.2.2
  have hs160 : st ≤ 160 := by have := FX.1; omega
  obtain ⟨h, hh, eh⟩ := H.2.1 bn hbn
  try dsimp only
  rcases cv_bx v1 (n := ct) (by omega) with hx | ⟨c, hc, rfl⟩
  · unfold wpX_valueIn
    refine cv_xNoCo hx (br_t rfl ?_)
    unfold wpY_valueIn
    exact cv_yNoCo hx (br_f (by decide) ⟨rfl, R⟩)
  rcases cv_bx v2 (n := 64) (by omega) with hx | ⟨q, hq, rfl⟩
  · unfold wpX_valueIn
    refine cv_xIsCo hc h20 (br_f (by decide) (cv_xNoKey hx (br_t rfl ?_)))
    unfold wpY_valueIn
    exact cv_yCo hc h20 (br_t rfl (cv_yNoKey hx (br_f (by decide) ⟨rfl, R⟩)))
  · obtain ⟨r, hr, er, ec⟩ := cv_Ro_at hq (FX.2.2.1 c hc)
    have e0 := ec.symm.trans (FY.2.1 c hc q hq).symm
    have z0 := FX.2.1.1 r hr (q % 8) (by omega)
    rw [cv_ob_b e0] at z0 e0
    unfold wpX_valueIn
    refine cv_xIsCo hc h20 (br_f (by decide) (cv_xIsKey hq (br_f (by decide) ?_)))
    rw [cv_k3 hq, cv_k7 hq, cv_m8, nI_add, nI_clamp (by omega), er]
    refine ⟨vp_in_nI (by omega) (by omega), nm_e ?_⟩
    rw [cv_m8, nI_add, nI_clamp (by omega)]
    refine ⟨vp_in_nI (by omega) (by omega), ?_⟩
    unfold wpY_valueIn
    refine cv_yCo hc h20 (br_t rfl (cv_yKey hq (br_t rfl ?_)))
    rw [cv_m64, nI_add, nI_clamp (by omega)]
    have v0 : vp_in (nI (64 * c + q)) 1408 := vp_in_nI (by omega) (by omega)
    refine ⟨v0, br_c (fun z => ⟨?_, R⟩) (fun z => ⟨v0, ?_, R⟩)⟩
    · rw [decide_eq_true z] at z0
      exact (z0 rfl).symm
    · unfold cv_cy at e0
      rw [decide_eq_false z] at e0
      exact (Option.some.inj e0).symm
theorem i_vc_size {k : Nat} {u : SX} {v : SY} (I : i_Rel k u v) (hk : k + 4 ≤ 2048) (v1 : Int32) : wpX_size (fun r => wpY_size (fun r' => r' = r ∧ i_Rel (k + 4) u v) v v1) u v1 := by
  refine cv_el (P := fun u v => wpX_size (fun r => wpY_size (fun r' => r' = r ∧ i_Rel (k + 4) u v) v v1) u v1) ?_ I
  intro ct bn cl fp sp kn hd M W H dm st ms cs ch bu ro wm wl wk dr FX th wo FY
  have R : i_Rel (k + 4) (dm, nI st, nI ct, nI bn, cl, ms, cs, ch, bu, ro, fp, sp, kn, hd, wm, wl, wk, dr) (nI ct, nI bn, th, wo, fp, sp, hd) := cv_rl H (cv_RX_i FX) (cv_RY_i FY)
  have h20 : ct ≤ 20 := H.1.2.1
  have hbn : bn < 4 := H.1.2.2
  have hs160 : st ≤ 160 := by have := FX.1; omega
  obtain ⟨h, hh, eh⟩ := H.2.1 bn hbn
  try dsimp only
  rcases cv_bx v1 (n := ct) (by omega) with hx | ⟨c, hc, rfl⟩
  · unfold wpX_size
    refine cv_xNoCo hx (br_t rfl ?_)
    unfold wpY_size
    exact cv_yNoCo hx (br_f (by decide) ⟨rfl, R⟩)
  · unfold wpX_size
    refine cv_xIsCo hc h20 (br_f (by decide) (cv_xSize hs160 (by omega) (FX.2.2.1 c hc) ?_))
    unfold wpY_size
    exact cv_yCo hc h20 (br_t rfl (cv_ySize (by omega) (FY.2.1 c hc) ⟨rfl, R⟩))
theorem i_vc_differing {k : Nat} {u : SX} {v : SY} (I : i_Rel k u v) (hk : k + 4 ≤ 2048) (v1 : Int32) (v2 : Int32) : wpX_differing (fun r => wpY_differing (fun r' => r' = r ∧ i_Rel (k + 4) u v) v v1 v2) u v1 v2 := by
  refine cv_el (P := fun u v => wpX_differing (fun r => wpY_differing (fun r' => r' = r ∧ i_Rel (k + 4) u v) v v1 v2) u v1 v2) ?_ I
  intro ct bn cl fp sp kn hd M W H dm st ms cs ch bu ro wm wl wk dr FX th wo FY
  have R : i_Rel (k + 4) (dm, nI st, nI ct, nI bn, cl, ms, cs, ch, bu, ro, fp, sp, kn, hd, wm, wl, wk, dr) (nI ct, nI bn, th, wo, fp, sp, hd) := cv_rl H (cv_RX_i FX) (cv_RY_i FY)
  have h20 : ct ≤ 20 := H.1.2.1
  have hbn : bn < 4 := H.1.2.2
  have hs160 : st ≤ 160 := by have := FX.1; omega
  obtain ⟨h, hh, eh⟩ := H.2.1 bn hbn
  try dsimp only
  rcases cv_bx v1 (n := ct) (by omega) with hx | ⟨c, hc, rfl⟩
  · unfold wpX_differing
    refine cv_xNoCo hx (br_t rfl ?_)
    unfold wpY_differing
    exact cv_yNoCo hx (br_f (by decide) ⟨rfl, R⟩)
  rcases cv_bx v2 (n := ct) (by omega) with hx | ⟨d, hd', rfl⟩
  · unfold wpX_differing
    refine cv_xIsCo hc h20 (br_f (by decide) (cv_xNoCo hx (br_t rfl ?_)))
    unfold wpY_differing
    exact cv_yCo hc h20 (br_t rfl (cv_yNoCo hx (br_f (by decide) ⟨rfl, R⟩)))
  · unfold wpX_differing
    refine cv_xIsCo hc h20 (br_f (by decide) (cv_xIsCo hd' h20 (br_f (by decide) (cv_xDiffering hs160 FX.2.1 (by omega) (by omega) (FX.2.2.1 c hc) (FX.2.2.1 d hd') ?_))))
    unfold wpY_differing
    exact cv_yCo hc h20 (br_t rfl (cv_yCo hd' h20 (br_t rfl (cv_yApart (by omega) (by omega) FY.1 (FY.2.1 c hc) (FY.2.1 d hd') ⟨rfl, R⟩))))
theorem i_vc_nextDifference {k : Nat} {u : SX} {v : SY} (I : i_Rel k u v) (hk : k + 4 ≤ 2048) (v1 : Int32) (v2 : Int32) (v3 : Int32) : wpX_nextDifference (fun r => wpY_nextDifference (fun r' => r' = r ∧ i_Rel (k + 4) u v) v v1 v2 v3) u v1 v2 v3 := by
  refine cv_el (P := fun u v => wpX_nextDifference (fun r => wpY_nextDifference (fun r' => r' = r ∧ i_Rel (k + 4) u v) v v1 v2 v3) u v1 v2 v3) ?_ I
  intro ct bn cl fp sp kn hd M W H dm st ms cs ch bu ro wm wl wk dr FX th wo FY
  have R : i_Rel (k + 4) (dm, nI st, nI ct, nI bn, cl, ms, cs, ch, bu, ro, fp, sp, kn, hd, wm, wl, wk, dr) (nI ct, nI bn, th, wo, fp, sp, hd) := cv_rl H (cv_RX_i FX) (cv_RY_i FY)
  have h20 : ct ≤ 20 := H.1.2.1
  have hbn : bn < 4 := H.1.2.2
  have hs160 : st ≤ 160 := by have := FX.1; omega
  obtain ⟨h, hh, eh⟩ := H.2.1 bn hbn
  try dsimp only
  rcases cv_bx v1 (n := ct) (by omega) with hx | ⟨c, hc, rfl⟩
  · unfold wpX_nextDifference
    refine cv_xNoCo hx (br_t rfl ?_)
    unfold wpY_nextDifference
    exact cv_yNoCo hx (br_f (by decide) ⟨rfl, R⟩)
  rcases cv_bx v2 (n := ct) (by omega) with hx | ⟨d, hd', rfl⟩
  · unfold wpX_nextDifference
    refine cv_xIsCo hc h20 (br_f (by decide) (cv_xNoCo hx (br_t rfl ?_)))
    unfold wpY_nextDifference
    exact cv_yCo hc h20 (br_t rfl (cv_yNoCo hx (br_f (by decide) ⟨rfl, R⟩)))
  · unfold wpX_nextDifference
    refine cv_xIsCo hc h20 (br_f (by decide) (cv_xIsCo hd' h20 (br_f (by decide) (br_c (fun e => ?_) (fun e => ?_)))))
    · refine cv_xNext hs160 FX.2.1 (by omega) (by omega) (FX.2.2.1 c hc) (FX.2.2.1 d hd') fun r hr => ?_
      unfold wpY_nextDifference
      exact cv_yCo hc h20 (br_t rfl (cv_yCo hd' h20 (br_t rfl (cv_yNext (by omega) (by omega) FY.1 (FY.2.1 c hc) (FY.2.1 d hd') fun r' hr' => ⟨cv_nx_un hr' hr, R⟩))))
    · refine cv_xNext hs160 FX.2.1 (by omega) (by omega) (FX.2.2.1 c hc) (FX.2.2.1 d hd') fun r hr => ?_
      have hr2 := cv_nx_cg (fun q hq => cv_m1f e hq) hr
      unfold wpY_nextDifference
      exact cv_yCo hc h20 (br_t rfl (cv_yCo hd' h20 (br_t rfl (cv_yNext (by omega) (by omega) FY.1 (FY.2.1 c hc) (FY.2.1 d hd') fun r' hr' => ⟨cv_nx_un hr' hr2, R⟩))))
theorem i_vc_base {k : Nat} {u : SX} {v : SY} (I : i_Rel k u v) (hk : k + 4 ≤ 2048) (v1 : Int32) (v2 : Int32) : wpX_base (fun r => wpY_base (fun r' => r' = r ∧ i_Rel (k + 4) u v) v v1 v2) u v1 v2 := by
  refine cv_el (P := fun u v => wpX_base (fun r => wpY_base (fun r' => r' = r ∧ i_Rel (k + 4) u v) v v1 v2) u v1 v2) ?_ I
  intro ct bn cl fp sp kn hd M W H dm st ms cs ch bu ro wm wl wk dr FX th wo FY
  have R : i_Rel (k + 4) (dm, nI st, nI ct, nI bn, cl, ms, cs, ch, bu, ro, fp, sp, kn, hd, wm, wl, wk, dr) (nI ct, nI bn, th, wo, fp, sp, hd) := cv_rl H (cv_RX_i FX) (cv_RY_i FY)
  have h20 : ct ≤ 20 := H.1.2.1
  have hbn : bn < 4 := H.1.2.2
  have hs160 : st ≤ 160 := by have := FX.1; omega
  obtain ⟨h, hh, eh⟩ := H.2.1 bn hbn
  try dsimp only
  rcases cv_bx v1 (n := ct) (by omega) with hx | ⟨c, hc, rfl⟩
  · unfold wpX_base
    refine cv_xNoCo hx (br_t rfl ?_)
    unfold wpY_base
    exact cv_yNoCo hx (br_f (by decide) ⟨rfl, R⟩)
  rcases cv_bx v2 (n := ct) (by omega) with hx | ⟨d, hd', rfl⟩
  · unfold wpX_base
    refine cv_xIsCo hc h20 (br_f (by decide) (cv_xNoCo hx (br_t rfl ?_)))
    unfold wpY_base
    exact cv_yCo hc h20 (br_t rfl (cv_yNoCo hx (br_f (by decide) ⟨rfl, R⟩)))
  · unfold wpX_base
    refine cv_xIsCo hc h20 (br_f (by decide) (cv_xIsCo hd' h20 (br_f (by decide) (cv_xBase H hc hd' ?_))))
    unfold wpY_base
    exact cv_yCo hc h20 (br_t rfl (cv_yCo hd' h20 (br_t rfl (cv_yShared H hc hd' ⟨rfl, R⟩))))
theorem i_vc_ancestors {k : Nat} {u : SX} {v : SY} (I : i_Rel k u v) (hk : k + 4 ≤ 2048) (v1 : Int32) : wpX_ancestors (fun r => wpY_ancestors (fun r' => r' = r ∧ i_Rel (k + 4) u v) v v1) u v1 := by
  refine cv_el (P := fun u v => wpX_ancestors (fun r => wpY_ancestors (fun r' => r' = r ∧ i_Rel (k + 4) u v) v v1) u v1) ?_ I
  intro ct bn cl fp sp kn hd M W H dm st ms cs ch bu ro wm wl wk dr FX th wo FY
  have R : i_Rel (k + 4) (dm, nI st, nI ct, nI bn, cl, ms, cs, ch, bu, ro, fp, sp, kn, hd, wm, wl, wk, dr) (nI ct, nI bn, th, wo, fp, sp, hd) := cv_rl H (cv_RX_i FX) (cv_RY_i FY)
  have h20 : ct ≤ 20 := H.1.2.1
  have hbn : bn < 4 := H.1.2.2
  have hs160 : st ≤ 160 := by have := FX.1; omega
  obtain ⟨h, hh, eh⟩ := H.2.1 bn hbn
  try dsimp only
  rcases cv_bx v1 (n := ct) (by omega) with hx | ⟨c, hc, rfl⟩
  · unfold wpX_ancestors
    refine cv_xNoCo hx (br_t rfl ?_)
    unfold wpY_ancestors
    exact cv_yNoCo hx (br_f (by decide) ⟨rfl, R⟩)
  · unfold wpX_ancestors
    refine cv_xIsCo hc h20 (br_f (by decide) (cv_xAnc (by omega) ?_))
    unfold wpY_ancestors
    exact cv_yCo hc h20 (br_t rfl (cv_yLine H hc (cv_yAnc ⟨rfl, R⟩)))
theorem i_vc_conflicts {k : Nat} {u : SX} {v : SY} (I : i_Rel k u v) (hk : k + 4 ≤ 2048) (v1 : Int32) (v2 : Int32) : wpX_conflicts (fun r => wpY_conflicts (fun r' => r' = r ∧ i_Rel (k + 4) u v) v v1 v2) u v1 v2 := by
  refine cv_el (P := fun u v => wpX_conflicts (fun r => wpY_conflicts (fun r' => r' = r ∧ i_Rel (k + 4) u v) v v1 v2) u v1 v2) ?_ I
  intro ct bn cl fp sp kn hd M W H dm st ms cs ch bu ro wm wl wk dr FX th wo FY
  have R : i_Rel (k + 4) (dm, nI st, nI ct, nI bn, cl, ms, cs, ch, bu, ro, fp, sp, kn, hd, wm, wl, wk, dr) (nI ct, nI bn, th, wo, fp, sp, hd) := cv_rl H (cv_RX_i FX) (cv_RY_i FY)
  have h20 : ct ≤ 20 := H.1.2.1
  have hbn : bn < 4 := H.1.2.2
  have hs160 : st ≤ 160 := by have := FX.1; omega
  obtain ⟨h, hh, eh⟩ := H.2.1 bn hbn
  try dsimp only
  rcases cv_bx v1 (n := ct) (by omega) with hx | ⟨c, hc, rfl⟩
  · unfold wpX_conflicts
    refine cv_xNoCo hx (br_t rfl ?_)
    unfold wpY_conflicts
    exact cv_yNoCo hx (br_f (by decide) ⟨rfl, R⟩)
  rcases cv_bx v2 (n := ct) (by omega) with hx | ⟨d, hd', rfl⟩
  · unfold wpX_conflicts
    refine cv_xIsCo hc h20 (br_f (by decide) (cv_xNoCo hx (br_t rfl ?_)))
    unfold wpY_conflicts
    exact cv_yCo hc h20 (br_t rfl (cv_yNoCo hx (br_f (by decide) ⟨rfl, R⟩)))
  · have hba := cv_ba_lt H hc hd'
    unfold wpX_conflicts
    refine cv_xIsCo hc h20 (br_f (by decide) (cv_xIsCo hd' h20 (br_f (by decide) (cv_xBase H hc hd' (cv_xCClash hs160 FX.2.1 (by omega) (by omega) (by omega) (FX.2.2.1 _ hba) (FX.2.2.1 c hc) (FX.2.2.1 d hd') ?_)))))
    unfold wpY_conflicts
    exact cv_yCo hc h20 (br_t rfl (cv_yCo hd' h20 (br_t rfl (cv_yShared H hc hd' (cv_yClashes (by omega) (by omega) (by omega) FY.1 (FY.2.1 _ hba) (FY.2.1 c hc) (FY.2.1 d hd') ⟨rfl, R⟩)))))
end
