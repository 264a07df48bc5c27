section
theorem pk_us {f : Nat → Int32} {k : Nat} {x : Int32} : upd f k x k = x := if_pos rfl
theorem pk_un {f : Nat → Int32} {k j : Nat} {x : Int32} (h : j ≠ k) : upd f k x j = f j := if_neg h
theorem pk_sub {a b : Nat} (h : b ≤ a) : nI a - nI b = nI (a - b) := by
  obtain ⟨c, rfl⟩ : ∃ c, a = c + b := ⟨a - b, by omega⟩
  rw [← nI_add, Int32.add_sub_cancel, Nat.add_sub_cancel]
theorem pk_m1 (n : Nat) : nI (n + 1) + (-1) = nI n := by
  rw [← nI_1, Int32.add_assoc, show (1 : Int32) + (-1) = 0 from rfl, Int32.add_zero]
theorem pk_mul (a b : Nat) : nI a * nI b = nI (a * b) := (Int32.ofNat_mul a b).symm
theorem pk_div {a d : Nat} (ha : a < 2 ^ 31) (h0 : 0 < d) (hd : d < 2 ^ 31) : nI a / nI d = nI (a / d) := by
  apply Int32.toInt_inj.mp
  rw [lg_idiv_nonneg (by rw [nI_toInt ha]; omega) (by rw [nI_toInt hd]; omega), nI_toInt ha, nI_toInt hd, nI_toInt (Nat.lt_of_le_of_lt (Nat.div_le_self a d) ha)]
  first | rfl | exact (Int.natCast_ediv _ _).symm
theorem pk_rem {a d : Nat} (ha : a < 2 ^ 31) (h0 : 0 < d) (hd : d < 2 ^ 31) : nI a - nI a / nI d * nI d = nI (a % d) := by
  rw [pk_div ha h0 hd, pk_mul, pk_sub (Nat.div_mul_le_self a d)]
  exact congrArg nI (by have := Nat.div_add_mod' a d; omega)
theorem pk_sub_toInt {a b : Nat} (ha : a < 2 ^ 30) (hb : b < 2 ^ 30) : (nI a - nI b).toInt = (a : Int) - b := by
  rw [Int32.toInt_sub, nI_toInt (by omega), nI_toInt (by omega)]
  exact Int.bmod_eq_of_le (by omega) (by omega)
theorem pk_sneg {a b : Nat} (hb : b < 2 ^ 30) (h : a < b) : nI a - nI b < 0 := by
  rw [Int32.lt_iff_toInt_lt, pk_sub_toInt (by omega) hb, show (0 : Int32).toInt = 0 from by decide]
  omega
theorem pk_ix (x : Int32) {n : Nat} (hn : n < 2 ^ 31) : x < 0 ∨ nI n ≤ x ∨ ∃ j : Nat, j < n ∧ x = nI j := by
  by_cases h : x < 0
  · exact Or.inl h
  · obtain ⟨j, hj, rfl⟩ := nI_of h
    by_cases h2 : j < n
    · exact Or.inr (Or.inr ⟨j, h2, rfl⟩)
    · exact Or.inr (Or.inl (nI_le (by omega) hj))
theorem pk_le {x y : Int32} {A B : Prop} (a b : Nat) (f : a ≤ b → A) (g : b < a → B) (hx : x = nI a := by rfl) (hy : y = nI b := by rfl) (ha : a < 2 ^ 31 := by omega) (hb : b < 2 ^ 31 := by omega) : (x ≤ y → A) ∧ (¬ x ≤ y → B) := by
  subst hx hy
  rw [nI_leI ha hb]
  exact ⟨f, fun z => g (by omega)⟩
theorem pk_lt {x y : Int32} {A B : Prop} (a b : Nat) (f : a < b → A) (g : b ≤ a → B) (hx : x = nI a := by rfl) (hy : y = nI b := by rfl) (ha : a < 2 ^ 31 := by omega) (hb : b < 2 ^ 31 := by omega) : (x < y → A) ∧ (¬ x < y → B) := by
  subst hx hy
  rw [nI_ltI ha hb]
  exact ⟨f, fun z => g (by omega)⟩
theorem pk_eq {x y : Int32} {A B : Prop} (a b : Nat) (f : a = b → A) (g : a ≠ b → B) (hx : x = nI a := by rfl) (hy : y = nI b := by rfl) (ha : a < 2 ^ 31 := by omega) (hb : b < 2 ^ 31 := by omega) : (x = y → A) ∧ (¬ x = y → B) := by
  subst hx hy
  rw [nI_eq ha hb]
  exact ⟨f, g⟩
theorem pk_in {x : Int32} (n N : Nat) (h : n < N) (hx : x = nI n := by rfl) (hN : N < 2 ^ 31 := by omega) : vp_in x N := by
  subst hx
  exact vp_in_nI h hN
theorem pk_cl {x : Int32} (n : Nat) (hx : x = nI n := by rfl) (h : n < 2 ^ 31 := by omega) : x.toNatClampNeg = n := by
  subst hx
  exact nI_clamp h
theorem pk_tn {n : Nat} (h : n < 2 ^ 32) : (nI n).toBitVec.toNat = n := Nat.mod_eq_of_lt h
theorem pk_and (x : Int32) {m : Int32} (k : Nat) (hm : m.toBitVec.toNat = 2 ^ k - 1) : x &&& m = nI (x.toBitVec.toNat % 2 ^ k) := by
  apply Int32.toBitVec_inj.mp
  apply BitVec.eq_of_toNat_eq
  rw [Int32.toBitVec_and, BitVec.toNat_and, hm, Nat.and_two_pow_sub_one_eq_mod]
  show _ = (BitVec.ofNat 32 _).toNat
  rw [BitVec.toNat_ofNat]
  exact (Nat.mod_eq_of_lt (Nat.lt_of_le_of_lt (Nat.mod_le _ _) x.toBitVec.isLt)).symm
theorem pk_andN {n : Nat} (h : n < 2 ^ 32) {m : Int32} (k : Nat) (hm : m.toBitVec.toNat = 2 ^ k - 1) : nI n &&& m = nI (n % 2 ^ k) := by
  rw [pk_and _ k hm, pk_tn h]
theorem pk_andE (x : Int32) {m : Int32} (k : Nat) (hm : m.toBitVec.toNat = 2 ^ k - 1) : ∃ j : Nat, j < 2 ^ k ∧ x &&& m = nI j := ⟨_, Nat.mod_lt _ (Nat.two_pow_pos k), pk_and x k hm⟩
theorem pk_andIn (x : Int32) {m : Int32} (k : Nat) (hm : m.toBitVec.toNat = 2 ^ k - 1) (hk : k ≤ 30) : vp_in (x &&& m) (2 ^ k) := by
  obtain ⟨j, hj, e⟩ := pk_andE x k hm
  rw [e]
  exact vp_in_nI hj (Nat.lt_of_le_of_lt (Nat.pow_le_pow_right (by decide) hk) (by decide))
theorem pk_shl (a s : Int32) (k : Nat) (hs : (s.toBitVec.smod 32).toNat = k) : (a <<< s).toBitVec.toNat = a.toBitVec.toNat * 2 ^ k % 2 ^ 32 := by
  show (a.toBitVec <<< (s.toBitVec.smod 32).toNat).toNat = _
  rw [hs, BitVec.toNat_shiftLeft, Nat.shiftLeft_eq]
theorem pk_shlN {n : Nat} (s : Int32) (k : Nat) (hs : (s.toBitVec.smod 32).toNat = k) (h : n * 2 ^ k < 2 ^ 32) : nI n <<< s = nI (n * 2 ^ k) := by
  apply Int32.toBitVec_inj.mp
  apply BitVec.eq_of_toNat_eq
  have hn : n < 2 ^ 32 := Nat.lt_of_le_of_lt (Nat.le_mul_of_pos_right n (Nat.two_pow_pos k)) h
  rw [pk_shl _ _ k hs, pk_tn hn, pk_tn h, Nat.mod_eq_of_lt h]
theorem pk_shr (a s : Int32) (k : Nat) (hs : (s.toBitVec.smod 32).toNat = k) : (a >>> s).toInt = a.toInt >>> k := by
  show (a.toBitVec.sshiftRight (s.toBitVec.smod 32).toNat).toInt = _
  rw [hs, BitVec.toInt_sshiftRight]
  rfl
theorem pk_shrN {n : Nat} (h : n < 2 ^ 31) (s : Int32) (k : Nat) (hs : (s.toBitVec.smod 32).toNat = k) : nI n >>> s = nI (n / 2 ^ k) := by
  apply Int32.toInt_inj.mp
  have h2 : n / 2 ^ k ≤ n := Nat.div_le_self _ _
  rw [pk_shr _ _ k hs, nI_toInt h, nI_toInt (by omega), Int.shiftRight_eq_div_pow]
  rfl
def bt (x : Int32) (i : Nat) : Bool := x.toBitVec.getLsbD i
theorem b_ext {x y : Int32} (h : ∀ i, i < 32 → bt x i = bt y i) : x = y := Int32.toBitVec_inj.mp (BitVec.eq_of_getLsbD_eq (fun i hi => h i hi))
theorem b_or (x y : Int32) (i : Nat) : bt (x ||| y) i = (bt x i || bt y i) := by unfold bt; rw [Int32.toBitVec_or, BitVec.getLsbD_or]
theorem b_and (x y : Int32) (i : Nat) : bt (x &&& y) i = (bt x i && bt y i) := by unfold bt; rw [Int32.toBitVec_and, BitVec.getLsbD_and]
theorem b_xor (x y : Int32) (i : Nat) : bt (x ^^^ y) i = (bt x i ^^ bt y i) := by unfold bt; rw [Int32.toBitVec_xor, BitVec.getLsbD_xor]
theorem b_big {x : Int32} {i : Nat} (h : 32 ≤ i) : bt x i = false := BitVec.getLsbD_of_ge _ _ h
theorem b_255 (i : Nat) : bt 255 i = decide (i < 8) := by
  rcases Nat.lt_or_ge i 32 with h | h
  · exact (by decide +kernel : ∀ i, i < 32 → bt 255 i = decide (i < 8)) i h
  · rw [b_big h, decide_eq_false (by omega)]
theorem b_65535 (i : Nat) : bt 65535 i = decide (i < 16) := by
  rcases Nat.lt_or_ge i 32 with h | h
  · exact (by decide +kernel : ∀ i, i < 32 → bt 65535 i = decide (i < 16)) i h
  · rw [b_big h, decide_eq_false (by omega)]
theorem b_m1 : ∀ i, i < 32 → bt (-1) i = true := by decide +kernel
theorem b_0 (i : Nat) : bt 0 i = false := BitVec.getLsbD_zero
theorem s_l : ∀ n, n < 32 → ((nI n &&& 31).toBitVec.smod 32).toNat = n := by decide +kernel
theorem s_u : ∀ n, n < 32 → (((nI n).toUInt32 &&& Int32.toUInt32 31).toBitVec % 32).toNat = n := by decide +kernel
theorem b_shl (n : Nat) (hn : n < 32) (x : Int32) {i : Nat} (hi : i < 32) : bt (x <<< (nI n &&& 31)) i = (decide (n ≤ i) && bt x (i - n)) := by
  unfold bt
  rw [Int32.toBitVec_shiftLeft]
  show (x.toBitVec <<< ((nI n &&& 31).toBitVec.smod 32).toNat).getLsbD i = _
  rw [s_l n hn, BitVec.getLsbD_shiftLeft]
  rcases Nat.lt_or_ge i n with h | h
  · simp [h, Nat.not_le.mpr h]
  · simp [hi, h, Nat.not_lt.mpr h]
theorem b_ushr (n : Nat) (hn : n < 32) (x : Int32) (i : Nat) : bt ((x.toUInt32 >>> ((nI n).toUInt32 &&& Int32.toUInt32 31)).toInt32) i = bt x (n + i) := by
  show (x.toUInt32 >>> ((nI n).toUInt32 &&& Int32.toUInt32 31)).toBitVec.getLsbD i = x.toUInt32.toBitVec.getLsbD (n + i)
  rw [UInt32.toBitVec_shiftRight]
  show (x.toUInt32.toBitVec >>> (((nI n).toUInt32 &&& Int32.toUInt32 31).toBitVec % 32).toNat).getLsbD i = _
  rw [s_u n hn, BitVec.getLsbD_ushiftRight]
theorem b_sshr (n : Nat) (hn : n < 32) (x : Int32) {i : Nat} (hi : i < 32) : bt (x >>> (nI n &&& 31)) i = if n + i < 32 then bt x (n + i) else bt x 31 := by
  unfold bt
  rw [Int32.toBitVec_shiftRight]
  show (x.toBitVec.sshiftRight ((nI n &&& 31).toBitVec.smod 32).toNat).getLsbD i = _
  rw [s_l n hn, BitVec.getLsbD_sshiftRight, BitVec.msb_eq_getLsbD_last]
  simp [hi]
end
section
/-! sums of naturals: aj_s f n = f 0 + .. + f (n - 1) -/
def aj_s (f : Nat → Nat) : Nat → Nat
  | 0 => 0
  | n + 1 => aj_s f n + f n
theorem aj_s0 (f : Nat → Nat) : aj_s f 0 = 0 := rfl
theorem aj_s1 (f : Nat → Nat) (n : Nat) : aj_s f (n + 1) = aj_s f n + f n := rfl
theorem aj_sc {f g : Nat → Nat} {n : Nat} (h : ∀ i, i < n → f i = g i) : aj_s f n = aj_s g n := by
  induction n with
  | zero => rfl
  | succ n ih => rw [aj_s1, aj_s1, ih (fun i hi => h i (by omega)), h n (by omega)]
theorem aj_sadd (f g : Nat → Nat) (n : Nat) : aj_s (fun i => f i + g i) n = aj_s f n + aj_s g n := by
  induction n with
  | zero => rfl
  | succ n ih => simp only [aj_s1, ih]; omega
theorem aj_smul (c : Nat) (f : Nat → Nat) (n : Nat) : aj_s (fun i => c * f i) n = c * aj_s f n := by
  induction n with
  | zero => rfl
  | succ n ih => simp only [aj_s1, ih, Nat.mul_add]
theorem aj_smulr (c : Nat) (f : Nat → Nat) (n : Nat) : aj_s (fun i => f i * c) n = aj_s f n * c := by
  induction n with
  | zero => exact (Nat.zero_mul c).symm
  | succ n ih => simp only [aj_s1, ih, Nat.add_mul]
theorem aj_sz (n : Nat) : aj_s (fun _ => 0) n = 0 := by
  induction n with
  | zero => rfl
  | succ n ih => simp only [aj_s1, ih]
theorem aj_scomm (f : Nat → Nat → Nat) (m n : Nat) : aj_s (fun i => aj_s (fun j => f i j) m) n = aj_s (fun j => aj_s (fun i => f i j) n) m := by
  induction n with
  | zero => exact (aj_sz m).symm
  | succ n ih =>
    have e := aj_sadd (fun j => aj_s (fun i => f i j) n) (fun j => f n j) m
    exact (congrArg (fun x => x + aj_s (fun j => f n j) m) ih).trans e.symm
theorem aj_sapp (f : Nat → Nat) (m n : Nat) : aj_s f (m + n) = aj_s f m + aj_s (fun j => f (m + j)) n := by
  induction n with
  | zero => rfl
  | succ n ih =>
    have e : aj_s f (m + (n + 1)) = aj_s f (m + n) + f (m + n) := rfl
    rw [e, ih, aj_s1, Nat.add_assoc]
theorem aj_sblk (f : Nat → Nat) (k m : Nat) : aj_s f (k * m) = aj_s (fun i => aj_s (fun j => f (k * i + j)) k) m := by
  induction m with
  | zero => rfl
  | succ m ih => rw [Nat.mul_succ, aj_sapp, ih, aj_s1]
theorem aj_sle {f : Nat → Nat} {c n : Nat} (h : ∀ i, i < n → f i ≤ c) : aj_s f n ≤ n * c := by
  induction n with
  | zero => exact Nat.zero_le _
  | succ n ih =>
    have h1 := ih (fun i hi => h i (by omega))
    have h2 := h n (by omega)
    rw [aj_s1, Nat.succ_mul]
    omega
theorem aj_smono (f : Nat → Nat) {m n : Nat} (h : m ≤ n) : aj_s f m ≤ aj_s f n := by
  obtain ⟨k, rfl⟩ : ∃ k, n = m + k := ⟨n - m, by omega⟩
  rw [aj_sapp]
  exact Nat.le_add_right _ _
theorem aj_slt (f : Nat → Nat) {m n : Nat} (h : m < n) (hf : 0 < f m) : aj_s f m < aj_s f n := by
  have h1 := aj_smono f (show m + 1 ≤ n from h)
  rw [aj_s1] at h1
  omega
theorem aj_spos {f : Nat → Nat} {n : Nat} : 0 < aj_s f n ↔ ∃ i, i < n ∧ 0 < f i := by
  induction n with
  | zero => exact ⟨fun h => absurd h (Nat.lt_irrefl 0), fun ⟨i, h, _⟩ => absurd h (Nat.not_lt_zero i)⟩
  | succ n ih =>
    rw [aj_s1]
    constructor
    · intro h
      rcases Nat.eq_zero_or_pos (f n) with z | z
      · obtain ⟨i, hi, h2⟩ := ih.mp (by omega)
        exact ⟨i, by omega, h2⟩
      · exact ⟨n, by omega, z⟩
    · intro ⟨i, hi, h2⟩
      rcases Nat.eq_or_lt_of_le (Nat.le_of_lt_succ hi) with e | e
      · rw [e] at h2
        omega
      · have := ih.mpr ⟨i, e, h2⟩
        omega
theorem aj_spick (f : Nat → Nat) (v n : Nat) (h : v < n) : aj_s (fun i => if i = v then f i else 0) n = f v := by
  induction n with
  | zero => omega
  | succ n ih =>
    rw [aj_s1]
    rcases Nat.eq_or_lt_of_le (Nat.le_of_lt_succ h) with e | e
    · rw [if_pos e.symm, aj_sc (g := fun _ => 0) (fun i hi => if_neg (by omega)), aj_sz, Nat.zero_add, e]
    · rw [ih e, if_neg (by omega), Nat.add_zero]
/-- one place alone counts: the factor is zero elsewhere -/
theorem aj_sone {f : Nat → Nat} {n : Nat} (v : Nat) (h : v < n) (hz : ∀ i, i < n → i ≠ v → f i = 0) : aj_s f n = f v := by
  rw [← aj_spick f v n h]
  refine aj_sc fun i hi => ?_
  by_cases e : i = v
  · rw [if_pos e]
  · rw [if_neg e, hz i hi e]
theorem aj_sb8 (f : Nat → Nat) (m t : Nat) : aj_s f (8 * m + t) = aj_s (fun i => aj_s (fun j => f (8 * i + j)) 8) m + aj_s (fun j => f (8 * m + j)) t := by
  rw [aj_sapp, aj_sblk]
end
section
/-! joins: four tables A p q, B q r, C r s, D q t with numbers as entries; combination n has p = n / 4096, q = n / 512 % 8, .. -/
def aj_F (A B C D : Nat → Nat → Nat) (n : Nat) : Nat := A (n / 4096) (n / 512 % 8) * (B (n / 512 % 8) (n / 64 % 8) * (C (n / 64 % 8) (n / 8 % 8) * D (n / 512 % 8) (n % 8)))
def aj_r (M : Nat → Nat → Nat) (x : Nat) : Nat := aj_s (fun y => M x y) 8
def aj_q (B C : Nat → Nat → Nat) (q : Nat) : Nat := aj_s (fun r => B q r * aj_r C r) 8
def aj_u (A : Nat → Nat → Nat) (q : Nat) : Nat := aj_s (fun p => A p q) 8
def aj_v (A B D : Nat → Nat → Nat) (r : Nat) : Nat := aj_s (fun q => B q r * (aj_u A q * aj_r D q)) 8
section
variable (A B C D : Nat → Nat → Nat)
theorem aj_F5 (p : Nat) {q r s t : Nat} (hq : q < 8) (hr : r < 8) (hs : s < 8) (ht : t < 8) :
    aj_F A B C D (8 * (8 * (8 * (8 * p + q) + r) + s) + t) = A p q * (B q r * (C r s * D q t)) := by
  unfold aj_F
  have e1 : (8 * (8 * (8 * (8 * p + q) + r) + s) + t) / 4096 = p := by omega
  have e2 : (8 * (8 * (8 * (8 * p + q) + r) + s) + t) / 512 % 8 = q := by omega
  have e3 : (8 * (8 * (8 * (8 * p + q) + r) + s) + t) / 64 % 8 = r := by omega
  have e4 : (8 * (8 * (8 * (8 * p + q) + r) + s) + t) / 8 % 8 = s := by omega
  have e5 : (8 * (8 * (8 * (8 * p + q) + r) + s) + t) % 8 = t := by omega
  rw [e1, e2, e3, e4, e5]
theorem aj_F1 (p : Nat) {q r s m : Nat} (hq : q < 8) (hr : r < 8) (hs : s < 8) (hm : m ≤ 8) :
    aj_s (fun t => aj_F A B C D (8 * (8 * (8 * (8 * p + q) + r) + s) + t)) m = A p q * (B q r * (C r s * aj_s (fun t => D q t) m)) := by
  rw [aj_sc (g := fun t => A p q * (B q r * (C r s * D q t))) (fun t ht => aj_F5 A B C D p hq hr hs (by omega)), aj_smul, aj_smul, aj_smul]
theorem aj_F2 (p : Nat) {q r m : Nat} (hq : q < 8) (hr : r < 8) (hm : m ≤ 8) :
    aj_s (fun s => aj_s (fun t => aj_F A B C D (8 * (8 * (8 * (8 * p + q) + r) + s) + t)) 8) m = A p q * (B q r * (aj_s (fun s => C r s) m * aj_r D q)) := by
  rw [aj_sc (g := fun s => A p q * (B q r * (C r s * aj_r D q))) (fun s hs => aj_F1 A B C D p hq hr (by omega) (Nat.le_refl 8)), aj_smul, aj_smul, aj_smulr]
theorem aj_F3 (p : Nat) {q m : Nat} (hq : q < 8) (hm : m ≤ 8) :
    aj_s (fun r => aj_s (fun s => aj_s (fun t => aj_F A B C D (8 * (8 * (8 * (8 * p + q) + r) + s) + t)) 8) 8) m = A p q * (aj_s (fun r => B q r * aj_r C r) m * aj_r D q) := by
  rw [aj_sc (g := fun r => A p q * ((B q r * aj_r C r) * aj_r D q)) (fun r hr => (aj_F2 A B C D p hq (by omega) (Nat.le_refl 8)).trans (by rw [Nat.mul_assoc (B q r)]; rfl)), aj_smul, aj_smulr]
theorem aj_F4 (p : Nat) {m : Nat} (hm : m ≤ 8) :
    aj_s (fun q => aj_s (fun r => aj_s (fun s => aj_s (fun t => aj_F A B C D (8 * (8 * (8 * (8 * p + q) + r) + s) + t)) 8) 8) 8) m = aj_s (fun q => A p q * (aj_q B C q * aj_r D q)) m :=
  aj_sc fun q hq => aj_F3 A B C D p (by omega) (Nat.le_refl 8)
theorem aj_rank (p : Nat) {q r s t : Nat} (hq : q < 8) (hr : r < 8) (hs : s < 8) (ht : t ≤ 8) :
    aj_s (aj_F A B C D) (8 * (8 * (8 * (8 * p + q) + r) + s) + t) =
      aj_s (fun p' => aj_s (fun q' => A p' q' * (aj_q B C q' * aj_r D q')) 8) p
      + aj_s (fun q' => A p q' * (aj_q B C q' * aj_r D q')) q
      + A p q * (aj_s (fun r' => B q r' * aj_r C r') r * aj_r D q)
      + A p q * (B q r * (aj_s (fun s' => C r s') s * aj_r D q))
      + A p q * (B q r * (C r s * aj_s (fun t' => D q t') t)) := by
  rw [aj_sb8 _ _ t, aj_sb8 _ _ s, aj_sb8 _ _ r, aj_sb8 _ _ q, aj_F1 A B C D p hq hr hs ht, aj_F2 A B C D p hq hr (by omega), aj_F3 A B C D p hq (by omega), aj_F4 A B C D p (by omega)]
  rw [aj_sc (n := p) (fun p' _ => aj_F4 A B C D p' (Nat.le_refl 8))]
theorem aj_Z1 : aj_s (aj_F A B C D) 32768 = aj_s (fun p => aj_s (fun q => A p q * (aj_q B C q * aj_r D q)) 8) 8 := by
  have h := aj_rank A B C D 8 (q := 0) (r := 0) (s := 0) (t := 0) (by omega) (by omega) (by omega) (by omega)
  rw [show 8 * (8 * (8 * (8 * 8 + 0) + 0) + 0) + 0 = 32768 from rfl] at h
  rw [h]
  simp only [aj_s0, Nat.zero_mul, Nat.mul_zero, Nat.add_zero]
theorem aj_Z2 : aj_s (aj_F A B C D) 32768 = aj_s (fun q => aj_u A q * (aj_q B C q * aj_r D q)) 8 := by
  rw [aj_Z1, aj_scomm]
  exact aj_sc fun q _ => aj_smulr (aj_q B C q * aj_r D q) (fun p => A p q) 8
theorem aj_Z3 : aj_s (aj_F A B C D) 32768 = aj_s (fun r => aj_r C r * aj_v A B D r) 8 := by
  have e : ∀ q, q < 8 → aj_u A q * (aj_q B C q * aj_r D q) = aj_s (fun r => aj_r C r * (B q r * (aj_u A q * aj_r D q))) 8 := by
    intro q _
    unfold aj_q
    rw [← aj_smulr, ← aj_smul]
    exact aj_sc fun r _ => by ac_rfl
  rw [aj_Z2, aj_sc e, aj_scomm]
  exact aj_sc fun r _ => aj_smul (aj_r C r) (fun q => B q r * (aj_u A q * aj_r D q)) 8
end
/-! a table with one entry kept, one row kept, one column kept -/
def aj_o (M : Nat → Nat → Nat) (a b : Nat) : Nat → Nat → Nat := fun x y => if x = a ∧ y = b then M x y else 0
def aj_k1 (M : Nat → Nat → Nat) (v : Nat) : Nat → Nat → Nat := fun x y => if x = v then M x y else 0
def aj_k2 (M : Nat → Nat → Nat) (v : Nat) : Nat → Nat → Nat := fun x y => if y = v then M x y else 0
theorem aj_o1 (M : Nat → Nat → Nat) (a b : Nat) : aj_o M a b a b = M a b := if_pos ⟨rfl, rfl⟩
theorem aj_o0 (M : Nat → Nat → Nat) {a b x y : Nat} (h : ¬ (x = a ∧ y = b)) : aj_o M a b x y = 0 := if_neg h
theorem aj_or (M : Nat → Nat → Nat) (a : Nat) {b : Nat} (hb : b < 8) (x : Nat) : aj_r (aj_o M a b) x = if x = a then M a b else 0 := by
  unfold aj_r
  by_cases e : x = a
  · rw [if_pos e, aj_sone b hb (fun y _ hn => aj_o0 M (fun h => hn h.2)), e, aj_o1]
  · rw [if_neg e, aj_sc (g := fun _ => 0) (fun y _ => aj_o0 M (fun h => e h.1)), aj_sz]
theorem aj_oc (M : Nat → Nat → Nat) {a : Nat} (ha : a < 8) (b : Nat) (y : Nat) : aj_u (aj_o M a b) y = if y = b then M a b else 0 := by
  unfold aj_u
  by_cases e : y = b
  · rw [if_pos e, aj_sone a ha (fun x _ hn => aj_o0 M (fun h => hn h.1)), e, aj_o1]
  · rw [if_neg e, aj_sc (g := fun _ => 0) (fun x _ => aj_o0 M (fun h => e h.2)), aj_sz]
theorem aj_oq (M C : Nat → Nat → Nat) (a : Nat) {b : Nat} (hb : b < 8) (x : Nat) : aj_q (aj_o M a b) C x = if x = a then M a b * aj_r C b else 0 := by
  unfold aj_q
  by_cases e : x = a
  · rw [if_pos e, aj_sone b hb (fun y _ hn => by rw [aj_o0 M (fun h => hn h.2), Nat.zero_mul]), e, aj_o1]
  · rw [if_neg e, aj_sc (g := fun _ => 0) (fun y _ => by rw [aj_o0 M (fun h => e h.1), Nat.zero_mul]), aj_sz]
theorem aj_k2r (M : Nat → Nat → Nat) {v : Nat} (hv : v < 8) (x : Nat) : aj_r (aj_k2 M v) x = M x v := aj_spick (fun y => M x y) v 8 hv
theorem aj_k1c (M : Nat → Nat → Nat) {v : Nat} (hv : v < 8) (y : Nat) : aj_u (aj_k1 M v) y = M v y := aj_spick (fun x => M x y) v 8 hv
theorem aj_k2c (M : Nat → Nat → Nat) (v y : Nat) : aj_u (aj_k2 M v) y = if y = v then aj_u M v else 0 := by
  by_cases e : y = v
  · rw [if_pos e, e]
    exact aj_sc fun x _ => if_pos rfl
  · rw [if_neg e]
    exact (aj_sc (g := fun _ => 0) (fun x _ => if_neg e)).trans (aj_sz 8)
theorem aj_k2q (M C : Nat → Nat → Nat) {v : Nat} (hv : v < 8) (x : Nat) : aj_q (aj_k2 M v) C x = M x v * aj_r C v := by
  unfold aj_q
  rw [aj_sone v hv (fun y _ hn => by rw [show aj_k2 M v x y = 0 from if_neg hn, Nat.zero_mul]), show aj_k2 M v x v = M x v from if_pos rfl]
section
variable (A B C D : Nat → Nat → Nat)
theorem aj_W0 {a b : Nat} (ha : a < 8) (hb : b < 8) : aj_s (aj_F (aj_o A a b) B C D) 32768 = A a b * (aj_q B C b * aj_r D b) := by
  rw [aj_Z2, aj_sone b hb (fun q _ hn => by rw [aj_oc A ha, if_neg hn, Nat.zero_mul]), aj_oc A ha, if_pos rfl]
theorem aj_W1 {a b : Nat} (ha : a < 8) (hb : b < 8) : aj_s (aj_F A (aj_o B a b) C D) 32768 = aj_u A a * (B a b * aj_r C b * aj_r D a) := by
  rw [aj_Z2, aj_sone a ha (fun q _ hn => by rw [aj_oq B C a hb, if_neg hn, Nat.zero_mul, Nat.mul_zero]), aj_oq B C a hb, if_pos rfl]
theorem aj_W2 {a b : Nat} (ha : a < 8) (hb : b < 8) : aj_s (aj_F A B (aj_o C a b) D) 32768 = C a b * aj_v A B D a := by
  rw [aj_Z3, aj_sone a ha (fun q _ hn => by rw [aj_or C a hb, if_neg hn, Nat.zero_mul]), aj_or C a hb, if_pos rfl]
theorem aj_W3 {a b : Nat} (ha : a < 8) (hb : b < 8) : aj_s (aj_F A B C (aj_o D a b)) 32768 = aj_u A a * (aj_q B C a * D a b) := by
  rw [aj_Z2, aj_sone a ha (fun q _ hn => by rw [aj_or D a hb, if_neg hn, Nat.mul_zero, Nat.mul_zero]), aj_or D a hb, if_pos rfl]
theorem aj_C0 {v : Nat} (hv : v < 8) : aj_s (aj_F (aj_k1 A v) B C D) 32768 = aj_s (fun q => A v q * (aj_q B C q * aj_r D q)) 8 := by
  rw [aj_Z2]
  exact aj_sc fun q _ => by rw [aj_k1c A hv]
theorem aj_C1 {v : Nat} (hv : v < 8) : aj_s (aj_F (aj_k2 A v) B C D) 32768 = aj_s (fun x => A x v * (aj_q B C v * aj_r D v)) 8 := by
  rw [aj_Z2, aj_sone v hv (fun q _ hn => by rw [aj_k2c A, if_neg hn, Nat.zero_mul]), aj_k2c A, if_pos rfl, aj_smulr]
  rfl
theorem aj_C2 {v : Nat} (hv : v < 8) : aj_s (aj_F A (aj_k2 B v) C D) 32768 = aj_s (fun q => aj_u A q * (B q v * aj_r C v * aj_r D q)) 8 := by
  rw [aj_Z2]
  exact aj_sc fun q _ => by rw [aj_k2q B C hv]
theorem aj_C3 {v : Nat} (hv : v < 8) : aj_s (aj_F A B (aj_k2 C v) D) 32768 = aj_s (fun r => C r v * aj_v A B D r) 8 := by
  rw [aj_Z3]
  exact aj_sc fun r _ => by rw [aj_k2r C hv]
theorem aj_C4 {v : Nat} (hv : v < 8) : aj_s (aj_F A B C (aj_k2 D v)) 32768 = aj_s (fun q => aj_u A q * (aj_q B C q * D q v)) 8 := by
  rw [aj_Z2]
  exact aj_sc fun q _ => by rw [aj_k2r D hv]
end
end
section
/-! the four tables out of one row of numbers d: table i, row (a, b) at 64 i + 8 a + b -/
def aj_T (d : Nat → Nat) (i a b : Nat) : Nat := d (64 * i + 8 * a + b)
def aj_Fd (d : Nat → Nat) : Nat → Nat := aj_F (aj_T d 0) (aj_T d 1) (aj_T d 2) (aj_T d 3)
def aj_R (d : Nat → Nat) (v : Nat) : Nat := aj_r (aj_T d 2) v
def aj_D (d : Nat → Nat) (v : Nat) : Nat := aj_r (aj_T d 3) v
def aj_Q (d : Nat → Nat) (v : Nat) : Nat := aj_q (aj_T d 1) (aj_T d 2) v
def aj_U (d : Nat → Nat) (v : Nat) : Nat := aj_u (aj_T d 0) v
def aj_V (d : Nat → Nat) (v : Nat) : Nat := aj_v (aj_T d 0) (aj_T d 1) (aj_T d 3) v
def aj_sh (d : Nat → Nat) (i a b : Nat) : Nat := if i = 0 then aj_Q d b * aj_D d b else if i = 1 then aj_U d a * aj_D d a * aj_R d b else if i = 2 then aj_V d a else aj_U d a * aj_Q d a
def aj_vl (n c : Nat) : Nat := n / 2 ^ (12 - 3 * c) % 8
def aj_ro (n i : Nat) : Nat := if i = 0 then 8 * (n / 4096 % 8) + n / 512 % 8 else if i = 1 then 64 + 8 * (n / 512 % 8) + n / 64 % 8 else if i = 2 then 128 + 8 * (n / 64 % 8) + n / 8 % 8 else 192 + 8 * (n / 512 % 8) + n % 8
def aj_ic (d : Nat → Nat) (c v x : Nat) : Nat := if c = 0 then aj_T d 0 v x * aj_sh d 0 v x else if c = 1 then aj_T d 0 x v * aj_sh d 0 x v else if c = 2 then aj_T d 1 x v * aj_sh d 1 x v else if c = 3 then aj_T d 2 x v * aj_sh d 2 x v else aj_T d 3 x v * aj_sh d 3 x v
def aj_kv (d : Nat → Nat) (kd b : Nat) : Nat := if kd = 0 then aj_Q d b * aj_D d b else if kd = 1 then aj_R d b else 1
def aj_g (d : Nat → Nat) (i a sc kd b : Nat) : Nat := aj_T d i a b * (sc * aj_kv d kd b)
theorem aj_mp {a b : Nat} (h : 0 < a * b) : 0 < a ∧ 0 < b := by
  rcases Nat.eq_zero_or_pos a with e | e
  · rw [e, Nat.zero_mul] at h
    omega
  · rcases Nat.eq_zero_or_pos b with f | f
    · rw [f, Nat.mul_zero] at h
      omega
    · exact ⟨e, f⟩
section
variable {d : Nat → Nat} (hd : ∀ j, d j ≤ 1)
theorem aj_T01 (hd : ∀ j, d j ≤ 1) (i a b : Nat) : aj_T d i a b = 0 ∨ aj_T d i a b = 1 := by
  have h := hd (64 * i + 8 * a + b)
  unfold aj_T
  omega
theorem aj_Rle (hd : ∀ j, d j ≤ 1) (v : Nat) : aj_R d v ≤ 8 := aj_sle (c := 1) fun i _ => hd _
theorem aj_Dle (hd : ∀ j, d j ≤ 1) (v : Nat) : aj_D d v ≤ 8 := aj_sle (c := 1) fun i _ => hd _
theorem aj_Ule (hd : ∀ j, d j ≤ 1) (v : Nat) : aj_U d v ≤ 8 := aj_sle (c := 1) fun i _ => hd _
theorem aj_Qle (hd : ∀ j, d j ≤ 1) (v : Nat) : aj_Q d v ≤ 64 := aj_sle (c := 8) fun r _ => Nat.mul_le_mul (hd _) (aj_Rle hd r)
theorem aj_Vle (hd : ∀ j, d j ≤ 1) (v : Nat) : aj_V d v ≤ 512 := aj_sle (c := 64) fun q _ => Nat.mul_le_mul (hd _) (Nat.mul_le_mul (aj_Ule hd q) (aj_Dle hd q))
theorem aj_Fle (hd : ∀ j, d j ≤ 1) (n : Nat) : aj_Fd d n ≤ 1 := Nat.mul_le_mul (hd _) (Nat.mul_le_mul (hd _) (Nat.mul_le_mul (hd _) (hd _)))
theorem aj_F01 (hd : ∀ j, d j ≤ 1) (n : Nat) : aj_Fd d n = 0 ∨ aj_Fd d n = 1 := by
  have h := aj_Fle hd n
  omega
theorem aj_shle (hd : ∀ j, d j ≤ 1) (i a b : Nat) : aj_sh d i a b ≤ 512 := by
  unfold aj_sh
  have h1 : aj_Q d b * aj_D d b ≤ 64 * 8 := Nat.mul_le_mul (aj_Qle hd b) (aj_Dle hd b)
  have h2 : aj_U d a * aj_D d a * aj_R d b ≤ 8 * 8 * 8 := Nat.mul_le_mul (Nat.mul_le_mul (aj_Ule hd a) (aj_Dle hd a)) (aj_Rle hd b)
  have h3 := aj_Vle hd a
  have h4 : aj_U d a * aj_Q d a ≤ 8 * 64 := Nat.mul_le_mul (aj_Ule hd a) (aj_Qle hd a)
  split
  · exact h1
  · split
    · exact h2
    · split
      · exact h3
      · exact h4
theorem aj_kvle (hd : ∀ j, d j ≤ 1) (kd b : Nat) : aj_kv d kd b ≤ 512 := by
  unfold aj_kv
  have h1 : aj_Q d b * aj_D d b ≤ 64 * 8 := Nat.mul_le_mul (aj_Qle hd b) (aj_Dle hd b)
  have h3 := aj_Rle hd b
  split
  · exact h1
  · split
    · omega
    · omega
theorem aj_icle (hd : ∀ j, d j ≤ 1) (c v x : Nat) : aj_ic d c v x ≤ 512 := by
  have h : ∀ i a b, aj_T d i a b * aj_sh d i a b ≤ 1 * 512 := fun i a b => Nat.mul_le_mul (hd _) (aj_shle hd i a b)
  unfold aj_ic
  split
  · exact h _ _ _
  · split
    · exact h _ _ _
    · split
      · exact h _ _ _
      · split
        · exact h _ _ _
        · exact h _ _ _
end
/-- in how many answers a row is -/
theorem aj_cw (d : Nat → Nat) {i a b : Nat} (hi : i < 4) (ha : a < 8) (hb : b < 8) :
    aj_s (fun n => if aj_ro n i = 64 * i + 8 * a + b then aj_Fd d n else 0) 32768 = aj_T d i a b * aj_sh d i a b := by
  rcases (by omega : i = 0 ∨ i = 1 ∨ i = 2 ∨ i = 3) with e | e | e | e
  · subst e
    refine (aj_sc fun n hn => ?_).trans (aj_W0 (aj_T d 0) (aj_T d 1) (aj_T d 2) (aj_T d 3) ha hb)
    have e : aj_ro n 0 = 8 * (n / 4096 % 8) + n / 512 % 8 := rfl
    by_cases h : n / 4096 = a ∧ n / 512 % 8 = b
    · rw [if_pos (by omega)]
      unfold aj_Fd aj_F
      rw [h.1, h.2, aj_o1]
    · rw [if_neg (by omega)]
      unfold aj_F
      rw [aj_o0 _ h, Nat.zero_mul]
  · subst e
    refine (aj_sc fun n hn => ?_).trans ((aj_W1 (aj_T d 0) (aj_T d 1) (aj_T d 2) (aj_T d 3) ha hb).trans ?_)
    · have e : aj_ro n 1 = 64 + 8 * (n / 512 % 8) + n / 64 % 8 := rfl
      by_cases h : n / 512 % 8 = a ∧ n / 64 % 8 = b
      · rw [if_pos (by omega)]
        unfold aj_Fd aj_F
        rw [h.1, h.2, aj_o1]
      · rw [if_neg (by omega)]
        unfold aj_F
        rw [aj_o0 _ h, Nat.zero_mul, Nat.mul_zero]
    · show aj_U d a * (aj_T d 1 a b * aj_R d b * aj_D d a) = aj_T d 1 a b * (aj_U d a * aj_D d a * aj_R d b)
      ac_rfl
  · subst e
    refine (aj_sc fun n hn => ?_).trans (aj_W2 (aj_T d 0) (aj_T d 1) (aj_T d 2) (aj_T d 3) ha hb)
    have e : aj_ro n 2 = 128 + 8 * (n / 64 % 8) + n / 8 % 8 := rfl
    by_cases h : n / 64 % 8 = a ∧ n / 8 % 8 = b
    · rw [if_pos (by omega)]
      unfold aj_Fd aj_F
      rw [h.1, h.2, aj_o1]
    · rw [if_neg (by omega)]
      unfold aj_F
      rw [aj_o0 _ h, Nat.zero_mul, Nat.mul_zero, Nat.mul_zero]
  · subst e
    refine (aj_sc fun n hn => ?_).trans ((aj_W3 (aj_T d 0) (aj_T d 1) (aj_T d 2) (aj_T d 3) ha hb).trans ?_)
    · have e : aj_ro n 3 = 192 + 8 * (n / 512 % 8) + n % 8 := rfl
      by_cases h : n / 512 % 8 = a ∧ n % 8 = b
      · rw [if_pos (by omega)]
        unfold aj_Fd aj_F
        rw [h.1, h.2, aj_o1]
      · rw [if_neg (by omega)]
        unfold aj_F
        rw [aj_o0 _ h, Nat.mul_zero, Nat.mul_zero, Nat.mul_zero]
    · show aj_U d a * (aj_Q d a * aj_T d 3 a b) = aj_T d 3 a b * (aj_U d a * aj_Q d a)
      ac_rfl
/-- in how many answers a column has a value -/
theorem aj_cv (d : Nat → Nat) {c v : Nat} (hc : c < 5) (hv : v < 8) :
    aj_s (fun n => if aj_vl n c = v then aj_Fd d n else 0) 32768 = aj_s (aj_ic d c v) 8 := by
  rcases (by omega : c = 0 ∨ c = 1 ∨ c = 2 ∨ c = 3 ∨ c = 4) with e | e | e | e | e
  · subst e
    refine (aj_sc fun n hn => ?_).trans (aj_C0 (aj_T d 0) (aj_T d 1) (aj_T d 2) (aj_T d 3) hv)
    have e : aj_vl n 0 = n / 4096 % 8 := rfl
    by_cases h : n / 4096 = v
    · rw [if_pos (by omega)]
      unfold aj_Fd aj_F
      rw [show aj_k1 (aj_T d 0) v (n / 4096) (n / 512 % 8) = aj_T d 0 (n / 4096) (n / 512 % 8) from if_pos h]
    · rw [if_neg (by omega)]
      unfold aj_F
      rw [show aj_k1 (aj_T d 0) v (n / 4096) (n / 512 % 8) = 0 from if_neg h, Nat.zero_mul]
  · subst e
    refine (aj_sc fun n hn => ?_).trans (aj_C1 (aj_T d 0) (aj_T d 1) (aj_T d 2) (aj_T d 3) hv)
    have e : aj_vl n 1 = n / 512 % 8 := rfl
    by_cases h : n / 512 % 8 = v
    · rw [if_pos (by omega)]
      unfold aj_Fd aj_F
      rw [show aj_k2 (aj_T d 0) v (n / 4096) (n / 512 % 8) = aj_T d 0 (n / 4096) (n / 512 % 8) from if_pos h]
    · rw [if_neg (by omega)]
      unfold aj_F
      rw [show aj_k2 (aj_T d 0) v (n / 4096) (n / 512 % 8) = 0 from if_neg h, Nat.zero_mul]
  · subst e
    refine (aj_sc fun n hn => ?_).trans ((aj_C2 (aj_T d 0) (aj_T d 1) (aj_T d 2) (aj_T d 3) hv).trans (aj_sc fun x _ => ?_))
    · have e : aj_vl n 2 = n / 64 % 8 := rfl
      by_cases h : n / 64 % 8 = v
      · rw [if_pos (by omega)]
        unfold aj_Fd aj_F
        rw [show aj_k2 (aj_T d 1) v (n / 512 % 8) (n / 64 % 8) = aj_T d 1 (n / 512 % 8) (n / 64 % 8) from if_pos h]
      · rw [if_neg (by omega)]
        unfold aj_F
        rw [show aj_k2 (aj_T d 1) v (n / 512 % 8) (n / 64 % 8) = 0 from if_neg h, Nat.zero_mul, Nat.mul_zero]
    · show aj_U d x * (aj_T d 1 x v * aj_R d v * aj_D d x) = aj_T d 1 x v * (aj_U d x * aj_D d x * aj_R d v)
      ac_rfl
  · subst e
    refine (aj_sc fun n hn => ?_).trans (aj_C3 (aj_T d 0) (aj_T d 1) (aj_T d 2) (aj_T d 3) hv)
    have e : aj_vl n 3 = n / 8 % 8 := rfl
    by_cases h : n / 8 % 8 = v
    · rw [if_pos (by omega)]
      unfold aj_Fd aj_F
      rw [show aj_k2 (aj_T d 2) v (n / 64 % 8) (n / 8 % 8) = aj_T d 2 (n / 64 % 8) (n / 8 % 8) from if_pos h]
    · rw [if_neg (by omega)]
      unfold aj_F
      rw [show aj_k2 (aj_T d 2) v (n / 64 % 8) (n / 8 % 8) = 0 from if_neg h, Nat.zero_mul, Nat.mul_zero, Nat.mul_zero]
  · subst e
    refine (aj_sc fun n hn => ?_).trans ((aj_C4 (aj_T d 0) (aj_T d 1) (aj_T d 2) (aj_T d 3) hv).trans (aj_sc fun x _ => ?_))
    · have e : aj_vl n 4 = n / 1 % 8 := rfl
      by_cases h : n % 8 = v
      · rw [if_pos (by omega)]
        unfold aj_Fd aj_F
        rw [show aj_k2 (aj_T d 3) v (n / 512 % 8) (n % 8) = aj_T d 3 (n / 512 % 8) (n % 8) from if_pos h]
      · rw [if_neg (by omega)]
        unfold aj_F
        rw [show aj_k2 (aj_T d 3) v (n / 512 % 8) (n % 8) = 0 from if_neg h, Nat.mul_zero, Nat.mul_zero, Nat.mul_zero]
    · show aj_U d x * (aj_Q d x * aj_T d 3 x v) = aj_T d 3 x v * (aj_U d x * aj_Q d x)
      ac_rfl
theorem aj_vl8 (n c : Nat) : aj_vl n c < 8 := Nat.mod_lt _ (by omega)
/-- the sum of the last two columns over all answers -/
theorem aj_sm (d : Nat → Nat) : aj_s (fun n => aj_Fd d n * (aj_vl n 3 + aj_vl n 4)) 32768 = aj_s (fun v => v * (aj_s (aj_ic d 3 v) 8 + aj_s (aj_ic d 4 v) 8)) 8 := by
  have key : ∀ c, c < 5 → aj_s (fun n => aj_Fd d n * aj_vl n c) 32768 = aj_s (fun v => v * aj_s (aj_ic d c v) 8) 8 := by
    intro c hc
    have e : ∀ n, n < 32768 → aj_Fd d n * aj_vl n c = aj_s (fun v => v * (if aj_vl n c = v then aj_Fd d n else 0)) 8 := by
      intro n _
      rw [aj_sone (aj_vl n c) (aj_vl8 n c) (fun v _ hn => by rw [if_neg (Ne.symm hn), Nat.mul_zero]), if_pos rfl, Nat.mul_comm]
    rw [aj_sc e, aj_scomm]
    exact aj_sc fun v hv => by rw [aj_smul, aj_cv d hc hv]
  rw [aj_sc (g := fun n => aj_Fd d n * aj_vl n 3 + aj_Fd d n * aj_vl n 4) (fun n _ => Nat.mul_add _ _ _), aj_sadd, key 3 (by omega), key 4 (by omega), ← aj_sadd]
  exact aj_sc fun v _ => (Nat.mul_add _ _ _).symm
/-- whether some answer has p and s -/
theorem aj_en (d : Nat → Nat) {p s : Nat} (hp : p < 8) (hs : s < 8) :
    0 < aj_s (fun n => if 8 * aj_vl n 0 + aj_vl n 3 = 8 * p + s then aj_Fd d n else 0) 32768 ↔
      ∃ q r, q < 8 ∧ r < 8 ∧ 0 < aj_T d 0 p q ∧ 0 < aj_D d q ∧ 0 < aj_T d 1 q r ∧ 0 < aj_T d 2 r s := by
  rw [aj_spos]
  constructor
  · intro ⟨n, hn, h⟩
    have e0 : aj_vl n 0 = n / 4096 % 8 := rfl
    have e3 : aj_vl n 3 = n / 8 % 8 := rfl
    by_cases c : 8 * aj_vl n 0 + aj_vl n 3 = 8 * p + s
    · rw [if_pos c] at h
      unfold aj_Fd aj_F at h
      obtain ⟨h1, h⟩ := aj_mp h
      obtain ⟨h2, h⟩ := aj_mp h
      obtain ⟨h3, h4⟩ := aj_mp h
      have ep : n / 4096 = p := by omega
      have es : n / 8 % 8 = s := by omega
      rw [ep] at h1
      rw [es] at h3
      exact ⟨n / 512 % 8, n / 64 % 8, by omega, by omega, h1, aj_spos.mpr ⟨n % 8, by omega, h4⟩, h2, h3⟩
    · rw [if_neg c] at h
      omega
  · intro ⟨q, r, hq, hr, h1, h2, h3, h4⟩
    obtain ⟨t, ht, h5⟩ := aj_spos.mp (show 0 < aj_s (fun t => aj_T d 3 q t) 8 from h2)
    refine ⟨8 * (8 * (8 * (8 * p + q) + r) + s) + t, by omega, ?_⟩
    have e0 : aj_vl (8 * (8 * (8 * (8 * p + q) + r) + s) + t) 0 = p := by
      show (8 * (8 * (8 * (8 * p + q) + r) + s) + t) / 4096 % 8 = p
      omega
    have e3 : aj_vl (8 * (8 * (8 * (8 * p + q) + r) + s) + t) 3 = s := by
      show (8 * (8 * (8 * (8 * p + q) + r) + s) + t) / 8 % 8 = s
      omega
    rw [e0, e3, if_pos rfl]
    unfold aj_Fd
    rw [aj_F5 _ _ _ _ p hq hr hs ht]
    exact Nat.mul_pos h1 (Nat.mul_pos h3 (Nat.mul_pos h4 h5))
/-- how many answers come before a combination -/
theorem aj_rk (d : Nat → Nat) (p : Nat) {q r s t : Nat} (hq : q < 8) (hr : r < 8) (hs : s < 8) (ht : t ≤ 8) :
    aj_s (aj_Fd d) (8 * (8 * (8 * (8 * p + q) + r) + s) + t) =
      aj_s (fun a => aj_s (aj_g d 0 a 1 0) 8) p + aj_s (aj_g d 0 p 1 0) q
      + aj_T d 0 p q * (aj_s (aj_g d 1 q (aj_D d q) 1) r + aj_T d 1 q r * (aj_s (aj_g d 2 r (aj_D d q) 2) s + aj_T d 2 r s * aj_s (aj_g d 3 q 1 2) t)) := by
  have e1 : ∀ a m, aj_s (aj_g d 0 a 1 0) m = aj_s (fun q' => aj_T d 0 a q' * (aj_q (aj_T d 1) (aj_T d 2) q' * aj_r (aj_T d 3) q')) m := fun a m => aj_sc fun b _ => by
    show aj_T d 0 a b * (1 * (aj_Q d b * aj_D d b)) = aj_T d 0 a b * (aj_Q d b * aj_D d b)
    rw [Nat.one_mul]
  have e2 : aj_s (aj_g d 1 q (aj_D d q) 1) r = aj_s (fun r' => aj_T d 1 q r' * aj_r (aj_T d 2) r') r * aj_r (aj_T d 3) q := by
    rw [← aj_smulr]
    exact aj_sc fun b _ => by
      show aj_T d 1 q b * (aj_D d q * aj_R d b) = aj_T d 1 q b * aj_R d b * aj_D d q
      ac_rfl
  have e3 : aj_s (aj_g d 2 r (aj_D d q) 2) s = aj_s (fun s' => aj_T d 2 r s') s * aj_r (aj_T d 3) q := by
    rw [← aj_smulr]
    exact aj_sc fun b _ => by
      show aj_T d 2 r b * (aj_D d q * 1) = aj_T d 2 r b * aj_D d q
      rw [Nat.mul_one]
  have e4 : aj_s (aj_g d 3 q 1 2) t = aj_s (fun t' => aj_T d 3 q t') t := aj_sc fun b _ => by
    show aj_T d 3 q b * (1 * 1) = aj_T d 3 q b
    rw [Nat.mul_one]
  have h := aj_rank (aj_T d 0) (aj_T d 1) (aj_T d 2) (aj_T d 3) p hq hr hs ht
  rw [aj_sc (n := p) (fun a _ => e1 a 8), e1, e2, e3, e4]
  refine h.trans ?_
  simp only [Nat.mul_add, Nat.add_assoc]
theorem aj_ct (d : Nat → Nat) : aj_s (aj_Fd d) 32768 = aj_s (fun q => aj_U d q * (aj_Q d q * aj_D d q)) 8 := aj_Z2 _ _ _ _
theorem aj_ct1 (d : Nat → Nat) : aj_s (aj_Fd d) 32768 = aj_s (fun a => aj_s (aj_g d 0 a 1 0) 8) 8 := by
  refine (aj_Z1 (aj_T d 0) (aj_T d 1) (aj_T d 2) (aj_T d 3)).trans (aj_sc fun a _ => aj_sc fun b _ => ?_)
  show aj_T d 0 a b * (aj_Q d b * aj_D d b) = aj_T d 0 a b * (1 * (aj_Q d b * aj_D d b))
  rw [Nat.one_mul]
/-- a row's share doesn't read the row's own table -/
theorem aj_shc {d e : Nat → Nat} {i a b : Nat} (ha : a < 8) (hb : b < 8) (h : ∀ j, ¬ (64 * i ≤ j ∧ j < 64 * i + 64) → e j = d j) : aj_sh e i a b = aj_sh d i a b := by
  have hT : ∀ k, k ≠ i → ∀ x y, x < 8 → y < 8 → aj_T e k x y = aj_T d k x y := fun k hk x y hx hy => h _ (by omega)
  have hR : 2 ≠ i → ∀ v, v < 8 → aj_R e v = aj_R d v := fun hk v hv => aj_sc fun y hy => hT 2 hk v y hv hy
  have hD : 3 ≠ i → ∀ v, v < 8 → aj_D e v = aj_D d v := fun hk v hv => aj_sc fun y hy => hT 3 hk v y hv hy
  have hU : 0 ≠ i → ∀ v, v < 8 → aj_U e v = aj_U d v := fun hk v hv => aj_sc fun y hy => hT 0 hk y v hy hv
  have hQ : 1 ≠ i → 2 ≠ i → ∀ v, v < 8 → aj_Q e v = aj_Q d v := fun hk hk2 v hv => aj_sc fun y hy => by
    show aj_T e 1 v y * aj_R e y = aj_T d 1 v y * aj_R d y
    rw [hT 1 hk v y hv hy, hR hk2 y hy]
  have hV : 0 ≠ i → 1 ≠ i → 3 ≠ i → ∀ v, v < 8 → aj_V e v = aj_V d v := fun hk hk1 hk3 v hv => aj_sc fun y hy => by
    show aj_T e 1 y v * (aj_U e y * aj_D e y) = aj_T d 1 y v * (aj_U d y * aj_D d y)
    rw [hT 1 hk1 y v hy hv, hU hk y hy, hD hk3 y hy]
  unfold aj_sh
  by_cases c0 : i = 0
  · rw [if_pos c0, if_pos c0, hQ (by omega) (by omega) b hb, hD (by omega) b hb]
  · rw [if_neg c0, if_neg c0]
    by_cases c1 : i = 1
    · rw [if_pos c1, if_pos c1, hU (by omega) a ha, hD (by omega) a ha, hR (by omega) b hb]
    · rw [if_neg c1, if_neg c1]
      by_cases c2 : i = 2
      · rw [if_pos c2, if_pos c2, hV (by omega) (by omega) (by omega) a ha]
      · rw [if_neg c2, if_neg c2, hU (by omega) a ha, hQ (by omega) (by omega) a ha]
end
section
/-! bits of an int, by numbers -/
theorem aj_b1 : ∀ i, i < 32 → bt 1 i = decide (i = 0) := by decide +kernel
theorem aj_bit (x : Int32) {b : Nat} (hb : b < 32) : (x >>> (nI b &&& 31)) &&& 1 = nI (bt x b).toNat := by
  apply b_ext
  intro i hi
  rw [b_and, b_sshr b hb x hi, aj_b1 i hi]
  rcases Nat.eq_zero_or_pos i with e | e
  · subst e
    rw [Nat.add_zero, if_pos hb]
    cases bt x b
    · decide +kernel
    · decide +kernel
  · rw [decide_eq_false (by omega), Bool.and_false]
    cases bt x b
    · exact (b_0 i).symm
    · exact ((aj_b1 i hi).trans (decide_eq_false (by omega))).symm
theorem aj_bset (x : Int32) {b c : Nat} (hb : b < 32) (hc : c < 32) : bt (x ||| ((1 : Int32) <<< (nI b &&& 31))) c = (bt x c || decide (c = b)) := by
  rw [b_or, b_shl b hb 1 hc, aj_b1 (c - b) (by omega)]
  congr 1
  by_cases h : c = b
  · rw [decide_eq_true (by omega : b ≤ c), decide_eq_true (by omega : c - b = 0), decide_eq_true h]
    rfl
  · rw [decide_eq_false h]
    by_cases h2 : b ≤ c
    · rw [decide_eq_false (by omega : ¬ c - b = 0), Bool.and_false]
    · rw [decide_eq_false h2, Bool.false_and]
theorem aj_bclr (x : Int32) {b c : Nat} (hb : b < 32) (hc : c < 32) : bt (x &&& (((1 : Int32) <<< (nI b &&& 31)) ^^^ (-1))) c = (bt x c && !decide (c = b)) := by
  rw [b_and, b_xor, b_shl b hb 1 hc, aj_b1 (c - b) (by omega), b_m1 c hc, Bool.xor_true]
  congr 1
  by_cases h : c = b
  · rw [decide_eq_true (by omega : b ≤ c), decide_eq_true (by omega : c - b = 0), decide_eq_true h]
    rfl
  · rw [decide_eq_false h]
    by_cases h2 : b ≤ c
    · rw [decide_eq_false (by omega : ¬ c - b = 0), Bool.and_false]
    · rw [decide_eq_false h2, Bool.false_and]
/-- the sets of second values hold the rows -/
def aj_N (d : Nat → Nat) (nx : Nat → Int32) : Prop := ∀ j, j < 32 → ∀ b, b < 8 → (bt (nx j) b).toNat = d (8 * j + b)
def aj_put (d : Nat → Nat) (k x : Nat) : Nat → Nat := fun j => if j = k then x else d j
theorem aj_Nset {d : Nat → Nat} {nx : Nat → Int32} (h : aj_N d nx) {j b : Nat} (hj : j < 32) (hb : b < 8) : aj_N (aj_put d (8 * j + b) 1) (upd nx j (nx j ||| ((1 : Int32) <<< (nI b &&& 31)))) := by
  intro k hk c hc
  unfold aj_put upd
  by_cases e : k = j
  · subst e
    rw [if_pos rfl, aj_bset _ (by omega) (by omega)]
    by_cases f : c = b
    · rw [if_pos (by omega), decide_eq_true f, Bool.or_true]
      rfl
    · rw [if_neg (by omega), decide_eq_false f, Bool.or_false]
      exact h k hk c hc
  · rw [if_neg e, if_neg (by omega)]
    exact h k hk c hc
theorem aj_Nclr {d : Nat → Nat} {nx : Nat → Int32} (h : aj_N d nx) {j b : Nat} (hj : j < 32) (hb : b < 8) : aj_N (aj_put d (8 * j + b) 0) (upd nx j (nx j &&& (((1 : Int32) <<< (nI b &&& 31)) ^^^ (-1)))) := by
  intro k hk c hc
  unfold aj_put upd
  by_cases e : k = j
  · subst e
    rw [if_pos rfl, aj_bclr _ (by omega) (by omega)]
    by_cases f : c = b
    · rw [if_pos (by omega), decide_eq_true f]
      exact congrArg Bool.toNat (Bool.and_false _)
    · rw [if_neg (by omega), decide_eq_false f]
      exact (congrArg Bool.toNat (Bool.and_true _)).trans (h k hk c hc)
  · rw [if_neg e, if_neg (by omega)]
    exact h k hk c hc
theorem aj_put1 {d : Nat → Nat} (hd : ∀ j, d j ≤ 1) {k x : Nat} (hx : x ≤ 1) : ∀ j, aj_put d k x j ≤ 1 := by
  intro j
  unfold aj_put
  split
  · exact hx
  · exact hd j
theorem aj_mul8 (i a : Nat) : nI i * 8 + nI a = nI (8 * i + a) := by
  rw [show (8 : Int32) = nI 8 from rfl, pk_mul, nI_add, Nat.mul_comm]
theorem aj_pl (i a b : Nat) : 64 * nI i + 8 * nI a + nI b = nI (64 * i + 8 * a + b) := by
  rw [show (64 : Int32) = nI 64 from rfl, show (8 : Int32) = nI 8 from rfl, pk_mul, pk_mul, nI_add, nI_add]
theorem aj_88 : (8 : Int32) ≤ nI 8 := by decide +kernel
theorem aj_n8 {i : Nat} (h : i < 8) : ¬ (8 : Int32) ≤ nI i := nI_ge (b := 8) h (by decide)
theorem aj_in8 {i : Nat} (h : i < 8) : vp_in (nI i) 8 := vp_in_nI h (by decide)
/-- a loop that adds: from c at count i0, f i in turn i -/
theorem aj_lp (W : Nat → Int32 → Int32 → Prop) (f : Nat → Nat) (c e i0 : Nat) (hx : ∀ n, W (n + 1) (nI (c + aj_s f e)) (nI (i0 + e)))
    (hs : ∀ n i, i < e → W n (nI (c + aj_s f i + f i)) (nI (i0 + i + 1)) → W (n + 1) (nI (c + aj_s f i)) (nI (i0 + i))) :
    ∀ k i n, i + k = e → k < n → W n (nI (c + aj_s f i)) (nI (i0 + i)) := by
  intro k
  induction k with
  | zero =>
    intro i n hi hn
    obtain ⟨m, rfl⟩ : ∃ m, n = m + 1 := ⟨n - 1, by omega⟩
    have e1 : i = e := by omega
    rw [e1]
    exact hx m
  | succ k ih =>
    intro i n hi hn
    obtain ⟨m, rfl⟩ : ∃ m, n = m + 1 := ⟨n - 1, by omega⟩
    have h := ih (i + 1) m (by omega) (by omega)
    rw [show c + aj_s f (i + 1) = c + aj_s f i + f i from (Nat.add_assoc _ _ _).symm] at h
    exact hs m i (by omega) h
theorem aj_lc (W : Nat → Int32 → Int32 → Prop) (f : Nat → Nat) (c e : Nat) (hx : ∀ n, W (n + 1) (nI (c + aj_s f e)) (nI e))
    (hs : ∀ n i, i < e → W n (nI (c + aj_s f i + f i)) (nI (i + 1)) → W (n + 1) (nI (c + aj_s f i)) (nI i)) : ∃ n, W n (nI c) 0 := by
  have h := aj_lp W f c e 0 (fun n => by rw [Nat.zero_add]; exact hx n) (fun n i hi h => by rw [Nat.zero_add] at h ⊢; exact hs n i hi h) e 0 (e + 1) (by omega) (by omega)
  exact ⟨e + 1, h⟩
theorem aj_l0 (W : Nat → Int32 → Int32 → Prop) (f : Nat → Nat) (e : Nat) (hx : ∀ n, W (n + 1) (nI (aj_s f e)) (nI e))
    (hs : ∀ n i, i < e → W n (nI (aj_s f i + f i)) (nI (i + 1)) → W (n + 1) (nI (aj_s f i)) (nI i)) : ∃ n, W n 0 0 :=
  aj_lc W f 0 e (fun n => by rw [Nat.zero_add]; exact hx n) (fun n i hi h => by rw [Nat.zero_add] at h ⊢; exact hs n i hi h)
theorem aj_li (W : Nat → Int32 → Int32 → Prop) (f : Nat → Nat) (e i0 : Nat) (hx : ∀ n, W (n + 1) (nI (aj_s f e)) (nI (i0 + e)))
    (hs : ∀ n i, i < e → W n (nI (aj_s f i + f i)) (nI (i0 + i + 1)) → W (n + 1) (nI (aj_s f i)) (nI (i0 + i))) : ∃ n, W n 0 (nI i0) := by
  have h := aj_lp W f 0 e i0 (fun n => by rw [Nat.zero_add]; exact hx n) (fun n i hi h => by rw [Nat.zero_add] at h ⊢; exact hs n i hi h) e 0 (e + 1) (by omega) (by omega)
  exact ⟨e + 1, h⟩
end
section
/-! the component's small methods -/
def aj_P (d : Nat → Nat) (dR dT dQ uQ uR : Nat → Int32) : Prop := ∀ v, v < 8 → dR v = nI (aj_R d v) ∧ dT v = nI (aj_D d v) ∧ dQ v = nI (aj_Q d v) ∧ uQ v = nI (aj_U d v) ∧ uR v = nI (aj_V d v)
theorem aj_at {P : Int32 → Prop} {x y : Int32} (e : x = y) (h : P y) : P x := e ▸ h
theorem aj_rd {f : Nat → Int32} {v : Nat} {x : Int32} (hv : v < 8) (e : f v = x) : f (nI v).toNatClampNeg = x := by
  rw [nI_clamp (by omega)]
  exact e
section
variable {fp fr : Int32} {nx sz dR dT dQ uQ uR : Nat → Int32} {d : Nat → Nat}
theorem aj_th {A B : Prop} (hd : ∀ j, d j ≤ 1) (hn : aj_N d nx) (i a b : Nat) (hi : i < 4) (ha : a < 8) (hb : b < 8) (h0 : aj_T d i a b = 0 → A) (h1 : aj_T d i a b = 1 → B) :
    wpX_there (fun r => (r = 0 → A) ∧ (¬ r = 0 → B)) (fp, fr, nx, sz, dR, dT, dQ, uQ, uR) (nI i) (nI a) (nI b) := by
  have e2 : d (8 * (8 * i + a) + b) = aj_T d i a b := congrArg d (by omega)
  have e3 : (nx (nI i * 8 + nI a).toNatClampNeg >>> (nI b &&& 31)) &&& 1 = nI (aj_T d i a b) := by
    rw [aj_mul8, nI_clamp (by omega), aj_bit _ (by omega), hn _ (by omega) _ hb, e2]
  have e4 : vp_in (nI i * 8 + nI a) 32 := by
    rw [aj_mul8]
    exact vp_in_nI (by omega) (by decide)
  rcases aj_T01 hd i a b with e | e
  · rw [e] at e3
    exact And.intro e4 (br_f (by rw [e3]; decide) (br_t rfl (h0 e)))
  · rw [e] at e3
    exact And.intro e4 (br_t (by rw [e3]; decide) (br_f (by decide) (h1 e)))
theorem aj_bh {post : Int32 → Prop} (hP : aj_P d dR dT dQ uQ uR) {b : Nat} (hb : b < 8) (h : post (nI (aj_Q d b * aj_D d b))) : wpX_behind post (fp, fr, nx, sz, dR, dT, dQ, uQ, uR) (nI b) := by
  have e : dQ (nI b).toNatClampNeg * dT (nI b).toNatClampNeg = nI (aj_Q d b * aj_D d b) := by
    rw [aj_rd hb (hP b hb).2.2.1, aj_rd hb (hP b hb).2.1, pk_mul]
  exact And.intro (aj_in8 hb) (And.intro (aj_in8 hb) (aj_at (P := post) e h))
theorem aj_so {post : Int32 → Prop} (set : Int32) (h : post (nI (aj_s (fun b => (bt set b).toNat) 8))) : wpX_sizeOf post (fp, fr, nx, sz, dR, dT, dQ, uQ, uR) set :=
  aj_l0 (fun n a i => wX_sizeOf_4 post set fp fr nx sz dR dT dQ uQ uR n a i) (fun b => (bt set b).toNat) 8
    (fun n => br_t aj_88 h)
    (fun n i hi H => br_f (aj_n8 hi) (nm_r (by rw [aj_bit _ (by omega), nI_add]) (nm_r (nI_1 i) H)))
theorem aj_share {post : Int32 → Prop} (hP : aj_P d dR dT dQ uQ uR) (i a b : Nat) (hi : i < 4) (ha : a < 8) (hb : b < 8) (h : post (nI (aj_sh d i a b))) : wpX_share post (fp, fr, nx, sz, dR, dT, dQ, uQ, uR) (nI i) (nI a) (nI b) := by
  have eU := aj_rd ha (hP a ha).2.2.2.1
  have eD := aj_rd ha (hP a ha).2.1
  have eQ := aj_rd ha (hP a ha).2.2.1
  have eV := aj_rd ha (hP a ha).2.2.2.2
  have eR := aj_rd hb (hP b hb).1
  rcases (by omega : i = 0 ∨ i = 1 ∨ i = 2 ∨ i = 3) with e | e | e | e
  · subst e
    exact br_t rfl (aj_bh hP hb h)
  · subst e
    exact br_f (by decide) (br_t rfl (And.intro (aj_in8 ha) (And.intro (aj_in8 ha) (And.intro (aj_in8 hb) (aj_at (P := post) (by rw [eU, eD, eR, pk_mul, pk_mul]; rfl) h)))))
  · subst e
    exact br_f (by decide) (br_f (by decide) (br_t rfl (And.intro (aj_in8 ha) (aj_at (P := post) eV h))))
  · subst e
    exact br_f (by decide) (br_f (by decide) (br_f (by decide) (And.intro (aj_in8 ha) (And.intro (aj_in8 ha) (aj_at (P := post) (by rw [eU, eQ, pk_mul]; rfl) h)))))
theorem aj_badRow {post : Int32 → Prop} {i a b : Nat} (hi : i < 4) (ha : a < 8) (hb : b < 8) (h : post 0) : wpX_badRow post (fp, fr, nx, sz, dR, dT, dQ, uQ, uR) (nI i) (nI a) (nI b) :=
  br_f (nI_pos (by omega)) (br_f (nI_ge (b := 4) hi (by decide)) (br_f (nI_pos (by omega)) (br_f (aj_n8 ha) (br_f (nI_pos (by omega)) (br_t (nI_lt (b := 8) hb (by decide)) h)))))
theorem aj_badCode {post : Int32 → Prop} {c : Nat} (hc : c < 32768) (h : post 0) : wpX_badCode post (fp, fr, nx, sz, dR, dT, dQ, uQ, uR) (nI c) :=
  br_f (nI_pos (by omega)) (br_t (nI_le (b := 32767) (by omega) (by decide)) h)
end
section
variable {yr yc ys : Nat → Int32}
theorem aj_isValue {post : Int32 → Prop} {a : Nat} (ha : a < 8) (h : post 1) : wpY_isValue post (yr, yc, ys) (nI a) :=
  br_f (nI_pos (by omega)) (br_f (nI_nlt (a := 7) (b := a) (by omega) (by decide)) h)
end
end
section
/-! the component's pass -/
section
variable {post : SX → Prop} {fp fr : Int32} {nx sz dR dT dQ uQ uR : Nat → Int32} {d : Nat → Nat}
theorem aj_soR {k v : Nat} (hn : aj_N d nx) (hk : k < 4) (hv : v < 8) : aj_s (fun b => (bt (nx (8 * k + v)) b).toNat) 8 = aj_r (aj_T d k) v :=
  aj_sc fun b hb => (hn (8 * k + v) (by omega) b hb).trans (congrArg d (by omega))
theorem aj_p10 (hn : aj_N d nx)
    (hJ : ∀ dR dT uQ uR : Nat → Int32, (∀ v, v < 8 → dR v = nI (aj_R d v) ∧ dT v = nI (aj_D d v) ∧ uQ v = nI 0 ∧ uR v = nI 0) → ∃ n, wX_pass_76 post fp fr n 0 nx sz dR dT dQ uQ uR) :
    ∀ k i n, i + k = 8 → k < n → ∀ dR dT uQ uR : Nat → Int32, (∀ v, v < i → dR v = nI (aj_R d v) ∧ dT v = nI (aj_D d v) ∧ uQ v = nI 0 ∧ uR v = nI 0) →
      wX_pass_10 post fp fr n (nI i) nx sz dR dT dQ uQ uR := by
  intro k
  induction k with
  | zero =>
    intro i n hi hk dR dT uQ uR h
    obtain ⟨m, rfl⟩ : ∃ m, n = m + 1 := ⟨n - 1, by omega⟩
    have e : i = 8 := by omega
    subst e
    exact br_t aj_88 (hJ dR dT uQ uR h)
  | succ k ih =>
    intro i n hi hk dR dT uQ uR h
    obtain ⟨m, rfl⟩ : ∃ m, n = m + 1 := ⟨n - 1, by omega⟩
    have hi8 : i < 8 := by omega
    have c : (nI i).toNatClampNeg = i := nI_clamp (by omega)
    have e1 : (16 : Int32) + nI i = nI (16 + i) := nI_add 16 i
    have e2 : (24 : Int32) + nI i = nI (24 + i) := nI_add 24 i
    have c1 : ((16 : Int32) + nI i).toNatClampNeg = 16 + i := by rw [e1]; exact nI_clamp (by omega)
    have c2 : ((24 : Int32) + nI i).toNatClampNeg = 24 + i := by rw [e2]; exact nI_clamp (by omega)
    refine br_f (aj_n8 hi8) (And.intro (by rw [e1]; exact vp_in_nI (by omega) (by decide)) (aj_so _ (And.intro (aj_in8 hi8) ?_)))
    intro dR' eR
    refine And.intro (by rw [e2]; exact vp_in_nI (by omega) (by decide)) (aj_so _ (And.intro (aj_in8 hi8) ?_))
    intro dT' eT
    refine And.intro (aj_in8 hi8) ?_
    intro uQ' eQ
    refine And.intro (aj_in8 hi8) ?_
    intro uR' eU
    refine nm_r (nI_1 i) ?_
    refine ih (i + 1) m (by omega) (by omega) dR' dT' uQ' uR' ?_
    have f1 := aj_soR (k := 2) (v := i) hn (by omega) hi8
    have f2 := aj_soR (k := 3) (v := i) hn (by omega) hi8
    rw [c, c1] at eR
    rw [c, c2] at eT
    rw [c] at eQ eU
    subst eR eT eQ eU
    intro v hv
    by_cases e : v = i
    · subst e
      rw [pk_us, pk_us, pk_us, pk_us]
      exact ⟨congrArg nI f1, congrArg nI f2, rfl, rfl⟩
    · rw [pk_un e, pk_un e, pk_un e, pk_un e]
      exact h v (by omega)
theorem aj_p126 {J76 J91 : Int32 → (Nat → Int32) → (Nat → Int32) → (Nat → Int32) → (Nat → Int32) → (Nat → Int32) → (Nat → Int32) → (Nat → Int32) → Prop}
    (hd : ∀ j, d j ≤ 1) (hn : aj_N d nx) {q v : Nat} (hq : q < 8) (hv : v < 8) (hu : uQ q = nI (aj_s (fun p => aj_T d 0 p q) v))
    (K : ∀ uQ' : Nat → Int32, (∀ w, w ≠ q → uQ' w = uQ w) → uQ' q = nI (aj_s (fun p => aj_T d 0 p q) (v + 1)) → J91 (nI (v + 1)) nx sz dR dT dQ uQ' uR) :
    wX_pass_126 post J76 J91 (nI q) (nI v) fp fr nx sz dR dT dQ uQ uR := by
  have c : (nI q).toNatClampNeg = q := nI_clamp (by omega)
  refine aj_th hd hn 0 v q (by omega) hv hq (fun e => nm_r (nI_1 v) (K uQ (fun w _ => rfl) ?_)) (fun e => And.intro (aj_in8 hq) (And.intro (aj_in8 hq) ?_))
  · rw [aj_s1, e]
    exact hu
  · intro uQ' eQ
    refine nm_r (nI_1 v) (K uQ' ?_ ?_)
    · intro w hw
      rw [eQ, c, pk_un hw]
    · rw [eQ, c, pk_us, hu, aj_s1, e]
      exact nI_1 _
def aj_I91 (d : Nat → Nat) (q v : Nat) (dQ uQ : Nat → Int32) : Prop :=
  (∀ w, w < q → dQ w = nI (aj_Q d w) ∧ uQ w = nI (aj_U d w)) ∧ dQ q = nI (aj_s (fun r => aj_T d 1 q r * aj_R d r) v) ∧ uQ q = nI (aj_s (fun p => aj_T d 0 p q) v) ∧ (∀ w, q < w → w < 8 → uQ w = nI 0)
theorem aj_p91 {J76 : Int32 → (Nat → Int32) → (Nat → Int32) → (Nat → Int32) → (Nat → Int32) → (Nat → Int32) → (Nat → Int32) → (Nat → Int32) → Prop}
    (hd : ∀ j, d j ≤ 1) (hn : aj_N d nx) (hR : ∀ v, v < 8 → dR v = nI (aj_R d v)) {q : Nat} (hq : q < 8)
    (hJ : ∀ dQ uQ : Nat → Int32, aj_I91 d q 8 dQ uQ → J76 (nI (q + 1)) nx sz dR dT dQ uQ uR) :
    ∀ k v n, v + k = 8 → k < n → ∀ dQ uQ : Nat → Int32, aj_I91 d q v dQ uQ → wX_pass_91 post J76 (nI q) fp fr n (nI v) nx sz dR dT dQ uQ uR := by
  intro k
  induction k with
  | zero =>
    intro v n hi hk dQ uQ h
    obtain ⟨m, rfl⟩ : ∃ m, n = m + 1 := ⟨n - 1, by omega⟩
    have e : v = 8 := by omega
    subst e
    exact br_t aj_88 (nm_r (nI_1 q) (hJ dQ uQ h))
  | succ k ih =>
    intro v n hi hk dQ uQ h
    obtain ⟨m, rfl⟩ : ∃ m, n = m + 1 := ⟨n - 1, by omega⟩
    have hv : v < 8 := by omega
    have c : (nI q).toNatClampNeg = q := nI_clamp (by omega)
    have cv : (nI v).toNatClampNeg = v := nI_clamp (by omega)
    obtain ⟨h1, h2, h3, h4⟩ := h
    refine br_f (aj_n8 hv) (aj_th hd hn 1 q v (by omega) hq hv (fun e => ?_) (fun e => And.intro (aj_in8 hq) (And.intro (aj_in8 hv) (And.intro (aj_in8 hq) ?_))))
    · refine aj_p126 hd hn hq hv h3 ?_
      intro uQ' g1 g2
      refine ih (v + 1) m (by omega) (by omega) dQ uQ' ⟨fun w hw => ?_, ?_, g2, fun w hw hw8 => ?_⟩
      · rw [g1 w (by omega)]
        exact h1 w hw
      · rw [aj_s1, e, Nat.zero_mul]
        exact h2
      · rw [g1 w (by omega)]
        exact h4 w hw hw8
    · intro dQ' eQ
      rw [c, cv] at eQ
      refine aj_p126 hd hn hq hv h3 ?_
      intro uQ' g1 g2
      refine ih (v + 1) m (by omega) (by omega) dQ' uQ' ⟨fun w hw => ?_, ?_, g2, fun w hw hw8 => ?_⟩
      · rw [g1 w (by omega), eQ, pk_un (by omega)]
        exact h1 w hw
      · rw [eQ, pk_us, h2, hR v hv, nI_add, aj_s1, e, Nat.one_mul]
      · rw [g1 w (by omega)]
        exact h4 w hw hw8
theorem aj_p76 (hd : ∀ j, d j ≤ 1) (hn : aj_N d nx) (hR : ∀ v, v < 8 → dR v = nI (aj_R d v))
    (hJ : ∀ dQ uQ : Nat → Int32, (∀ w, w < 8 → dQ w = nI (aj_Q d w) ∧ uQ w = nI (aj_U d w)) → ∃ n, wX_pass_164 post fp fr n 0 nx sz dR dT dQ uQ uR) :
    ∀ k q n, q + k = 8 → k < n → ∀ dQ uQ : Nat → Int32, (∀ w, w < q → dQ w = nI (aj_Q d w) ∧ uQ w = nI (aj_U d w)) → (∀ w, q ≤ w → w < 8 → uQ w = nI 0) →
      wX_pass_76 post fp fr n (nI q) nx sz dR dT dQ uQ uR := by
  intro k
  induction k with
  | zero =>
    intro q n hi hk dQ uQ h _
    obtain ⟨m, rfl⟩ : ∃ m, n = m + 1 := ⟨n - 1, by omega⟩
    have e : q = 8 := by omega
    subst e
    exact br_t aj_88 (hJ dQ uQ h)
  | succ k ih =>
    intro q n hi hk dQ uQ h h0
    obtain ⟨m, rfl⟩ : ∃ m, n = m + 1 := ⟨n - 1, by omega⟩
    have hq : q < 8 := by omega
    have c : (nI q).toNatClampNeg = q := nI_clamp (by omega)
    refine br_f (aj_n8 hq) (And.intro (aj_in8 hq) ?_)
    intro dQ' eQ
    rw [c] at eQ
    refine ⟨9, aj_p91 hd hn hR hq ?_ 8 0 9 (by omega) (by omega) dQ' uQ ⟨fun w hw => ?_, ?_, h0 q (by omega) hq, fun w hw hw8 => h0 w (by omega) hw8⟩⟩
    · intro dQ uQ ⟨g1, g2, g3, g4⟩
      refine ih (q + 1) m (by omega) (by omega) dQ uQ (fun w hw => ?_) (fun w hw hw8 => g4 w (by omega) hw8)
      by_cases e : w = q
      · subst e
        exact ⟨g2, g3⟩
      · exact g1 w (by omega)
    · rw [eQ, pk_un (by omega)]
      exact h w hw
    · rw [eQ, pk_us]
      rfl
theorem aj_p172 {J164 : Int32 → (Nat → Int32) → (Nat → Int32) → (Nat → Int32) → (Nat → Int32) → (Nat → Int32) → (Nat → Int32) → (Nat → Int32) → Prop}
    (hd : ∀ j, d j ≤ 1) (hn : aj_N d nx) (hT : ∀ v, v < 8 → dT v = nI (aj_D d v)) (hU : ∀ v, v < 8 → uQ v = nI (aj_U d v)) {q : Nat} (hq : q < 8)
    (hJ : ∀ uR : Nat → Int32, (∀ w, w < 8 → uR w = nI (aj_s (fun q => aj_T d 1 q w * (aj_U d q * aj_D d q)) (q + 1))) → J164 (nI (q + 1)) nx sz dR dT dQ uQ uR) :
    ∀ k r n, r + k = 8 → k < n → ∀ uR : Nat → Int32, (∀ w, w < 8 → uR w = nI (aj_s (fun q => aj_T d 1 q w * (aj_U d q * aj_D d q)) (if w < r then q + 1 else q))) →
      wX_pass_172 post J164 (nI q) fp fr n (nI r) nx sz dR dT dQ uQ uR := by
  intro k
  induction k with
  | zero =>
    intro r n hi hk uR h
    obtain ⟨m, rfl⟩ : ∃ m, n = m + 1 := ⟨n - 1, by omega⟩
    have e : r = 8 := by omega
    subst e
    refine br_t aj_88 (nm_r (nI_1 q) (hJ uR fun w hw => ?_))
    have g := h w hw
    rw [if_pos hw] at g
    exact g
  | succ k ih =>
    intro r n hi hk uR h
    obtain ⟨m, rfl⟩ : ∃ m, n = m + 1 := ⟨n - 1, by omega⟩
    have hr : r < 8 := by omega
    have c : (nI q).toNatClampNeg = q := nI_clamp (by omega)
    have cr : (nI r).toNatClampNeg = r := nI_clamp (by omega)
    refine br_f (aj_n8 hr) (aj_th hd hn 1 q r (by omega) hq hr (fun e => nm_r (nI_1 r) (ih (r + 1) m (by omega) (by omega) uR fun w hw => ?_)) (fun e => And.intro (aj_in8 hr) (And.intro (aj_in8 hq) (And.intro (aj_in8 hq) (And.intro (aj_in8 hr) ?_)))))
    · have g := h w hw
      by_cases f : w = r
      · subst f
        rw [if_neg (by omega)] at g
        rw [if_pos (by omega), aj_s1, e, Nat.zero_mul]
        exact g
      · by_cases f2 : w < r
        · rw [if_pos f2] at g
          rw [if_pos (by omega)]
          exact g
        · rw [if_neg f2] at g
          rw [if_neg (by omega)]
          exact g
    · intro uR' eU
      rw [c, cr] at eU
      refine nm_r (nI_1 r) (ih (r + 1) m (by omega) (by omega) uR' fun w hw => ?_)
      have g := h w hw
      by_cases f : w = r
      · subst f
        rw [if_neg (by omega)] at g
        rw [if_pos (by omega), aj_s1, e, Nat.one_mul, eU, pk_us, g, hU q hq, hT q hq, pk_mul, nI_add]
      · rw [eU, pk_un f]
        by_cases f2 : w < r
        · rw [if_pos f2] at g
          rw [if_pos (by omega)]
          exact g
        · rw [if_neg f2] at g
          rw [if_neg (by omega)]
          exact g
theorem aj_p164 (hd : ∀ j, d j ≤ 1) (hn : aj_N d nx) (hT : ∀ v, v < 8 → dT v = nI (aj_D d v)) (hU : ∀ v, v < 8 → uQ v = nI (aj_U d v))
    (hJ : ∀ uR : Nat → Int32, (∀ w, w < 8 → uR w = nI (aj_V d w)) → post (1, fr, nx, sz, dR, dT, dQ, uQ, uR)) :
    ∀ k q n, q + k = 8 → k < n → ∀ uR : Nat → Int32, (∀ w, w < 8 → uR w = nI (aj_s (fun q => aj_T d 1 q w * (aj_U d q * aj_D d q)) q)) →
      wX_pass_164 post fp fr n (nI q) nx sz dR dT dQ uQ uR := by
  intro k
  induction k with
  | zero =>
    intro q n hi hk uR h
    obtain ⟨m, rfl⟩ : ∃ m, n = m + 1 := ⟨n - 1, by omega⟩
    have e : q = 8 := by omega
    subst e
    exact br_t aj_88 (hJ uR h)
  | succ k ih =>
    intro q n hi hk uR h
    obtain ⟨m, rfl⟩ : ∃ m, n = m + 1 := ⟨n - 1, by omega⟩
    have hq : q < 8 := by omega
    exact br_f (aj_n8 hq) ⟨9, aj_p172 hd hn hT hU hq (fun uR g => ih (q + 1) m (by omega) (by omega) uR g) 8 0 9 (by omega) (by omega) uR (fun w hw => by
      rw [if_neg (by omega)]
      exact h w hw)⟩
theorem aj_pass (hd : ∀ j, d j ≤ 1) (hn : aj_N d nx) (hp : ¬ fp = 0 → aj_P d dR dT dQ uQ uR)
    (h : ∀ (fp : Int32) (dR dT dQ uQ uR : Nat → Int32), aj_P d dR dT dQ uQ uR → post (fp, fr, nx, sz, dR, dT, dQ, uQ, uR)) : wpX_pass post (fp, fr, nx, sz, dR, dT, dQ, uQ, uR) := by
  refine br_c (fun _ => ⟨9, aj_p10 hn ?_ 8 0 9 (by omega) (by omega) dR dT uQ uR (fun v hv => absurd hv (Nat.not_lt_zero v))⟩) (fun e => h _ _ _ _ _ _ (hp e))
  intro dR dT uQ uR h1
  refine ⟨9, aj_p76 hd hn (fun v hv => (h1 v hv).1) ?_ 8 0 9 (by omega) (by omega) dQ uQ (fun w hw => absurd hw (Nat.not_lt_zero w)) (fun w _ hw => (h1 w hw).2.2.1)⟩
  intro dQ uQ h2
  refine ⟨9, aj_p164 hd hn (fun v hv => (h1 v hv).2.1) (fun v hv => (h2 v hv).2) ?_ 8 0 9 (by omega) (by omega) uR (fun w hw => (h1 w hw).2.2.2)⟩
  intro uR h3
  exact h 1 dR dT dQ uQ uR fun v hv => ⟨(h1 v hv).1, (h1 v hv).2.1, (h2 v hv).1, (h2 v hv).2, h3 v hv⟩
end
end
section
/-! the component's loops behind the pass -/
section
variable {fp fr : Int32} {nx sz dR dT dQ uQ uR : Nat → Int32} {d : Nat → Nat}
theorem aj_x1 {n : Nat} (h : n < 2 ^ 31) {A B : Prop} (f : 0 < n → B) (g : n = 0 → A) : (nI n ≤ 0 → A) ∧ (¬ nI n ≤ 0 → B) :=
  pk_le n 0 (fun e => g (by omega)) f rfl rfl h (by decide)
theorem aj_count {post : Int32 → SX → Prop} (hd : ∀ j, d j ≤ 1) (hn : aj_N d nx) (hp : ¬ fp = 0 → aj_P d dR dT dQ uQ uR)
    (h : ∀ (fp : Int32) (dR dT dQ uQ uR : Nat → Int32), aj_P d dR dT dQ uQ uR → post (nI (aj_s (aj_Fd d) 32768)) (fp, fr, nx, sz, dR, dT, dQ, uQ, uR)) : wpX_count post (fp, fr, nx, sz, dR, dT, dQ, uQ, uR) := by
  unfold wpX_count
  refine aj_pass hd hn hp ?_
  intro fp dR dT dQ uQ uR hP
  have h2 := h fp dR dT dQ uQ uR hP
  rw [aj_ct] at h2
  exact aj_l0 (fun n a i => wX_count_8 post fp fr nx sz dR dT dQ uQ uR n a i) (fun q => aj_U d q * (aj_Q d q * aj_D d q)) 8
    (fun n => br_t aj_88 h2)
    (fun n q hq H => br_f (aj_n8 hq) (And.intro (aj_in8 hq) (aj_bh hP hq (nm_r (by rw [aj_rd hq (hP q hq).2.2.2.1, pk_mul, nI_add]) (nm_r (nI_1 q) H)))))
theorem aj_kd {K : Int32 → Prop} (hP : aj_P d dR dT dQ uQ uR) {kd b : Nat} (hkd : kd < 3) (hb : b < 8) (h : K (nI (aj_kv d kd b))) :
    (nI kd = 0 → wpX_behind (fun r => K r) (fp, fr, nx, sz, dR, dT, dQ, uQ, uR) (nI b)) ∧ (¬ nI kd = 0 → ((nI kd = 1 → vp_in (nI b) 8 ∧ K (dR (nI b).toNatClampNeg)) ∧ (¬ nI kd = 1 → K 1))) := by
  rcases (by omega : kd = 0 ∨ kd = 1 ∨ kd = 2) with e | e | e
  · subst e
    exact br_t rfl (aj_bh hP hb h)
  · subst e
    exact br_f (by decide) (br_t rfl (And.intro (aj_in8 hb) (aj_at (P := K) (aj_rd hb (hP b hb).1) h)))
  · subst e
    exact br_f (by decide) (br_f (by decide) h)
theorem aj_w53 {post : Int32 → SX → Prop} {J3 : Int32 → Int32 → Prop} {x1 x2 x3 x4 : Int32} {b z c m : Nat} (hz : c * z < 2 ^ 31) (hm : m < 2 ^ 31)
    (hle : c * z ≤ m → J3 (nI (b + 1)) (nI (m - c * z))) (hlt : m < c * z → post (nI b) (fp, nI m, nx, sz, dR, dT, dQ, uQ, uR)) :
    wX_walk_53 post J3 x1 x2 x3 x4 (nI b) (nI z) (nI c) fp (nI m) nx sz dR dT dQ uQ uR :=
  nm_r (pk_mul c z) (pk_le (c * z) m (fun h => nm_r (pk_sub h) (nm_r (nI_1 b) (hle h))) hlt rfl rfl hz hm)
theorem aj_wk {post : Int32 → SX → Prop} (hd : ∀ j, d j ≤ 1) (hn : aj_N d nx) (hP : aj_P d dR dT dQ uQ uR) {i a sc kd k0 : Nat} (hi : i < 4) (ha : a < 8) (hsc : sc ≤ 8) (hkd : kd < 3) (hk0 : k0 < 2 ^ 31)
    (hF : ∀ b, b < 8 → aj_T d i a b = 1 → aj_s (aj_g d i a sc kd) b ≤ k0 → k0 - aj_s (aj_g d i a sc kd) b < sc * aj_kv d kd b → post (nI b) (fp, nI (k0 - aj_s (aj_g d i a sc kd) b), nx, sz, dR, dT, dQ, uQ, uR))
    (hN : aj_s (aj_g d i a sc kd) 8 ≤ k0 → post (-4) (fp, nI (k0 - aj_s (aj_g d i a sc kd) 8), nx, sz, dR, dT, dQ, uQ, uR)) :
    ∀ k b n, b + k = 8 → k < n → aj_s (aj_g d i a sc kd) b ≤ k0 → wX_walk_3 post (nI i) (nI a) (nI sc) (nI kd) fp nx sz dR dT dQ uQ uR n (nI b) (nI (k0 - aj_s (aj_g d i a sc kd) b)) := by
  intro k
  induction k with
  | zero =>
    intro b n hb hk h
    obtain ⟨m, rfl⟩ : ∃ m, n = m + 1 := ⟨n - 1, by omega⟩
    have e : b = 8 := by omega
    subst e
    exact br_t aj_88 (hN h)
  | succ k ih =>
    intro b n hbk hk h
    obtain ⟨m, rfl⟩ : ∃ m, n = m + 1 := ⟨n - 1, by omega⟩
    have hb : b < 8 := by omega
    have hz : sc * aj_kv d kd b ≤ 8 * 512 := Nat.mul_le_mul hsc (aj_kvle hd kd b)
    refine br_f (aj_n8 hb) (aj_th hd hn i a b hi ha hb (fun e => nm_r (nI_1 b) ?_) (fun e => aj_kd (K := fun z => wX_walk_53 post (wX_walk_3 post (nI i) (nI a) (nI sc) (nI kd) fp nx sz dR dT dQ uQ uR m) (nI i) (nI a) (nI sc) (nI kd) (nI b) z (nI sc) fp (nI (k0 - aj_s (aj_g d i a sc kd) b)) nx sz dR dT dQ uQ uR) hP hkd hb ?_))
    · have g := ih (b + 1) m (by omega) (by omega)
      have e1 : aj_g d i a sc kd b = 0 := by
        unfold aj_g
        rw [e, Nat.zero_mul]
      rw [aj_s1, e1, Nat.add_zero] at g
      exact g h
    · have g := ih (b + 1) m (by omega) (by omega)
      have e1 : aj_g d i a sc kd b = sc * aj_kv d kd b := by
        unfold aj_g
        rw [e, Nat.one_mul]
      rw [aj_s1, e1, Nat.sub_add_eq] at g
      exact aj_w53 (by omega) (by omega) (fun h2 => g (by omega)) (fun h2 => hF b hb e h h2)
theorem aj_walk {post : Int32 → SX → Prop} (hd : ∀ j, d j ≤ 1) (hn : aj_N d nx) (hP : aj_P d dR dT dQ uQ uR) {i a sc kd k0 : Nat} (hi : i < 4) (ha : a < 8) (hsc : sc ≤ 8) (hkd : kd < 3) (hk0 : k0 < 2 ^ 31)
    (hF : ∀ b, b < 8 → aj_T d i a b = 1 → aj_s (aj_g d i a sc kd) b ≤ k0 → k0 - aj_s (aj_g d i a sc kd) b < sc * aj_kv d kd b → post (nI b) (fp, nI (k0 - aj_s (aj_g d i a sc kd) b), nx, sz, dR, dT, dQ, uQ, uR))
    (hN : aj_s (aj_g d i a sc kd) 8 ≤ k0 → post (-4) (fp, nI (k0 - aj_s (aj_g d i a sc kd) 8), nx, sz, dR, dT, dQ, uQ, uR)) :
    wpX_walk post (fp, nI k0, nx, sz, dR, dT, dQ, uQ, uR) (nI i) (nI a) (nI sc) (nI kd) :=
  ⟨9, aj_wk hd hn hP hi ha hsc hkd hk0 hF hN 8 0 9 (by omega) (by omega) (Nat.zero_le _)⟩
theorem aj_below {post : Int32 → Prop} (hd : ∀ j, d j ≤ 1) (hn : aj_N d nx) (hP : aj_P d dR dT dQ uQ uR) {i a m sc kd : Nat} (hi : i < 4) (ha : a < 8) (hm : m ≤ 8) (hkd : kd < 3)
    (h : post (nI (aj_s (aj_g d i a sc kd) m))) : wpX_below post (fp, fr, nx, sz, dR, dT, dQ, uQ, uR) (nI i) (nI a) (nI m) (nI sc) (nI kd) :=
  aj_l0 (fun n x y => wX_below_6 post (nI i) (nI a) (nI m) (nI sc) (nI kd) fp fr nx sz dR dT dQ uQ uR n x y) (aj_g d i a sc kd) m
    (fun n => br_t (nI_le (Nat.le_refl m) (by omega)) h)
    (fun n b hb H => br_f (nI_ge hb (by omega)) (aj_th hd hn i a b hi ha (by omega)
      (fun e => nm_r (nI_1 b) (by
        have e1 : aj_g d i a sc kd b = 0 := by
          unfold aj_g
          rw [e, Nat.zero_mul]
        rw [e1, Nat.add_zero] at H
        exact H))
      (fun e => aj_kd (K := fun z => ∀ y : Int32, y = nI (aj_s (aj_g d i a sc kd) b) + nI sc * z → ∀ x : Int32, x = nI b + 1 → wX_below_6 post (nI i) (nI a) (nI m) (nI sc) (nI kd) fp fr nx sz dR dT dQ uQ uR n y x) hP hkd (by omega)
        (nm_r (by
          have e1 : aj_g d i a sc kd b = sc * aj_kv d kd b := by
            unfold aj_g
            rw [e, Nat.one_mul]
          rw [e1, pk_mul, nI_add]) (nm_r (nI_1 b) H)))))
theorem aj_ts {K : Int32 → Prop} (hd : ∀ j, d j ≤ 1) (hn : aj_N d nx) (hP : aj_P d dR dT dQ uQ uR) (i a b x : Nat) (hi : i < 4) (ha : a < 8) (hb : b < 8) (h : K (nI (x + aj_T d i a b * aj_sh d i a b))) :
    wpX_there (fun r => (r = 0 → K (nI x)) ∧ (¬ r = 0 → wpX_share (fun r' => ∀ y, y = nI x + r' → K y) (fp, fr, nx, sz, dR, dT, dQ, uQ, uR) (nI i) (nI a) (nI b))) (fp, fr, nx, sz, dR, dT, dQ, uQ, uR) (nI i) (nI a) (nI b) := by
  refine aj_th hd hn i a b hi ha hb (fun e => ?_) (fun e => aj_share hP i a b hi ha hb (nm_r (nI_add _ _) ?_))
  · rw [e, Nat.zero_mul] at h
    exact h
  · rw [e, Nat.one_mul] at h
    exact h
theorem aj_inc {post : Int32 → Prop} (hd : ∀ j, d j ≤ 1) (hn : aj_N d nx) (hP : aj_P d dR dT dQ uQ uR) {c v : Nat} (hc : c < 5) (hv : v < 8)
    (h : post (nI (aj_s (aj_ic d c v) 8))) : wpX_inColumn post (fp, fr, nx, sz, dR, dT, dQ, uQ, uR) (nI c) (nI v) := by
  refine aj_l0 (fun n a i => wX_inColumn_5 post (nI c) (nI v) fp fr nx sz dR dT dQ uQ uR n a i) (aj_ic d c v) 8 (fun n => br_t aj_88 h) (fun n x hx H => br_f (aj_n8 hx) ?_)
  clear h
  rcases (by omega : c = 0 ∨ c = 1 ∨ c = 2 ∨ c = 3 ∨ c = 4) with e | e | e | e | e
  · subst e
    refine br_t rfl (aj_ts (K := fun y => wX_inColumn_38 post (wX_inColumn_5 post (nI 0) (nI v) fp fr nx sz dR dT dQ uQ uR n) (nI 0) (nI v) y (nI x) fp fr nx sz dR dT dQ uQ uR) hd hn hP 0 v x _ (by omega) hv hx ?_)
    exact br_f (by decide) (br_f (by decide) (br_f (by decide) (br_f (by decide) (nm_r (nI_1 x) H))))
  · subst e
    refine br_f (by decide) (br_t rfl (aj_ts (K := fun y => wX_inColumn_65 post (wX_inColumn_5 post (nI 1) (nI v) fp fr nx sz dR dT dQ uQ uR n) (nI 1) (nI v) y (nI x) fp fr nx sz dR dT dQ uQ uR) hd hn hP 0 x v _ (by omega) hx hv ?_))
    exact br_f (by decide) (br_f (by decide) (br_f (by decide) (nm_r (nI_1 x) H)))
  · subst e
    refine br_f (by decide) (br_f (by decide) (br_t rfl (aj_ts (K := fun y => wX_inColumn_92 post (wX_inColumn_5 post (nI 2) (nI v) fp fr nx sz dR dT dQ uQ uR n) (nI 2) (nI v) y (nI x) fp fr nx sz dR dT dQ uQ uR) hd hn hP 1 x v _ (by omega) hx hv ?_)))
    exact br_f (by decide) (br_f (by decide) (nm_r (nI_1 x) H))
  · subst e
    refine br_f (by decide) (br_f (by decide) (br_f (by decide) (br_t rfl (aj_ts (K := fun y => wX_inColumn_119 post (wX_inColumn_5 post (nI 3) (nI v) fp fr nx sz dR dT dQ uQ uR n) (nI 3) (nI v) y (nI x) fp fr nx sz dR dT dQ uQ uR) hd hn hP 2 x v _ (by omega) hx hv ?_))))
    exact br_f (by decide) (nm_r (nI_1 x) H)
  · subst e
    refine br_f (by decide) (br_f (by decide) (br_f (by decide) (br_f (by decide) (br_t rfl (aj_ts (K := fun y => ∀ z : Int32, z = nI x + 1 → wX_inColumn_5 post (nI 4) (nI v) fp fr nx sz dR dT dQ uQ uR n y z) hd hn hP 3 x v _ (by omega) hx hv ?_)))))
    exact nm_r (nI_1 x) H
end
end
section
/-! the component's methods behind the pass: what each answers -/
section
variable {fp fr : Int32} {nx sz dR dT dQ uQ uR : Nat → Int32} {d : Nat → Nat}
theorem aj_xuse {post : Int32 → SX → Prop} (hd : ∀ j, d j ≤ 1) (hn : aj_N d nx) (hP : aj_P d dR dT dQ uQ uR) {i : Nat} (hi : i < 4)
    (h : post (nI (aj_s (fun a => aj_s (fun b => if 0 < aj_T d i a b * aj_sh d i a b then 1 else 0) 8) 8)) (fp, fr, nx, sz, dR, dT, dQ, uQ, uR)) : ∃ n, wX_useful_19 post (nI i) fp fr nx sz dR dT dQ uQ uR n 0 0 := by
  refine aj_l0 (fun n x y => wX_useful_19 post (nI i) fp fr nx sz dR dT dQ uQ uR n x y) (fun a => aj_s (fun b => if 0 < aj_T d i a b * aj_sh d i a b then 1 else 0) 8) 8 (fun n => br_t aj_88 h) (fun n a ha H => br_f (aj_n8 ha) ?_)
  refine aj_lc (fun m x y => wX_useful_28 post (wX_useful_19 post (nI i) fp fr nx sz dR dT dQ uQ uR n) (nI i) (nI a) fp fr nx sz dR dT dQ uQ uR m x y) (fun b => if 0 < aj_T d i a b * aj_sh d i a b then 1 else 0) _ 8 (fun m => br_t aj_88 (nm_r (nI_1 a) H)) ?_
  clear h H
  intro m b hb G
  have hs := aj_shle hd i a b
  have G0 : ¬ 0 < aj_T d i a b * aj_sh d i a b → wX_useful_61 post (wX_useful_19 post (nI i) fp fr nx sz dR dT dQ uQ uR n) (wX_useful_28 post (wX_useful_19 post (nI i) fp fr nx sz dR dT dQ uQ uR n) (nI i) (nI a) fp fr nx sz dR dT dQ uQ uR m) (nI i) (nI (aj_s (fun a => aj_s (fun b => if 0 < aj_T d i a b * aj_sh d i a b then 1 else 0) 8) a + aj_s (fun b => if 0 < aj_T d i a b * aj_sh d i a b then 1 else 0) b)) (nI a) (nI b) fp fr nx sz dR dT dQ uQ uR := by
    intro z
    rw [if_neg z, Nat.add_zero] at G
    exact br_t rfl (nm_r (nI_1 b) G)
  refine br_f (aj_n8 hb) (aj_th hd hn i a b hi ha hb (fun e => G0 (by rw [e, Nat.zero_mul]; omega)) (fun e => aj_share hP i a b hi ha hb (aj_x1 (by omega) (fun z => ?_) (fun z => G0 (by rw [z, Nat.mul_zero]; omega)))))
  rw [if_pos (by rw [e, Nat.one_mul]; exact z)] at G
  exact br_f (by decide) (nm_r (nI_1 _) (nm_r (nI_1 b) G))
theorem aj_xval {post : Int32 → SX → Prop} (hd : ∀ j, d j ≤ 1) (hn : aj_N d nx) (hP : aj_P d dR dT dQ uQ uR) {c : Nat} (hc : c < 5)
    (h : post (nI (aj_s (fun v => if 0 < aj_s (aj_ic d c v) 8 then 1 else 0) 8)) (fp, fr, nx, sz, dR, dT, dQ, uQ, uR)) : ∃ n, wX_values_19 post (nI c) fp fr nx sz dR dT dQ uQ uR n 0 0 := by
  refine aj_l0 (fun n x y => wX_values_19 post (nI c) fp fr nx sz dR dT dQ uQ uR n x y) (fun v => if 0 < aj_s (aj_ic d c v) 8 then 1 else 0) 8 (fun n => br_t aj_88 h) (fun n v hv G => br_f (aj_n8 hv) (aj_inc hd hn hP hc hv ?_))
  have hs : aj_s (aj_ic d c v) 8 ≤ 8 * 512 := aj_sle fun x _ => aj_icle hd c v x
  refine aj_x1 (by omega) (fun z => ?_) (fun z => ?_)
  · rw [if_pos z] at G
    exact nm_r (nI_1 _) (nm_r (nI_1 v) G)
  · rw [if_neg (by omega), Nat.add_zero] at G
    exact nm_r (nI_1 v) G
theorem aj_xsum {post : Int32 → SX → Prop} (hd : ∀ j, d j ≤ 1) (hn : aj_N d nx) (hP : aj_P d dR dT dQ uQ uR)
    (h : post (nI (aj_s (fun v => v * (aj_s (aj_ic d 3 v) 8 + aj_s (aj_ic d 4 v) 8)) 8)) (fp, fr, nx, sz, dR, dT, dQ, uQ, uR)) : ∃ n, wX_sum_8 post fp fr nx sz dR dT dQ uQ uR n 0 0 :=
  aj_l0 (fun n x y => wX_sum_8 post fp fr nx sz dR dT dQ uQ uR n x y) (fun v => v * (aj_s (aj_ic d 3 v) 8 + aj_s (aj_ic d 4 v) 8)) 8 (fun n => br_t aj_88 h)
    (fun n v hv G => br_f (aj_n8 hv) (aj_inc (c := 3) hd hn hP (by omega) hv (aj_inc (c := 4) hd hn hP (by omega) hv (nm_r (by rw [nI_add, pk_mul, nI_add]) (nm_r (nI_1 v) G)))))
/-! the sets of ends -/
def aj_IE (d : Nat → Nat) (p q r : Nat) (set : Int32) : Prop :=
  ∀ c, c < 8 → (bt set c = true ↔ ∃ q' r', q' < 8 ∧ r' < 8 ∧ (q' < q ∨ (q' = q ∧ r' < r)) ∧ 0 < aj_T d 0 p q' ∧ 0 < aj_D d q' ∧ 0 < aj_T d 1 q' r' ∧ 0 < aj_T d 2 r' c)
def aj_E (d : Nat → Nat) (p c : Nat) : Nat := if 0 < aj_s (fun n => if 8 * aj_vl n 0 + aj_vl n 3 = 8 * p + c then aj_Fd d n else 0) 32768 then 1 else 0
theorem aj_IE0 (p : Nat) : aj_IE d p 0 0 0 := by
  intro c _
  rw [b_0]
  constructor
  · intro h
    exact absurd h (by decide)
  · intro ⟨q', r', _, _, h, _⟩
    omega
theorem aj_IEn {p q : Nat} {set : Int32} (h : aj_IE d p q 8 set) : aj_IE d p (q + 1) 0 set := by
  intro c hc
  rw [h c hc]
  constructor
  · intro ⟨q', r', h1, h2, h3, h4⟩
    exact ⟨q', r', h1, h2, by omega, h4⟩
  · intro ⟨q', r', h1, h2, h3, h4⟩
    exact ⟨q', r', h1, h2, by omega, h4⟩
theorem aj_IEs {p q r : Nat} {set : Int32} (h : aj_IE d p q r set) (hf : ¬ (0 < aj_T d 0 p q ∧ 0 < aj_D d q ∧ 0 < aj_T d 1 q r)) : aj_IE d p q (r + 1) set := by
  intro c hc
  rw [h c hc]
  constructor
  · intro ⟨q', r', h1, h2, h3, h4⟩
    exact ⟨q', r', h1, h2, by omega, h4⟩
  · intro ⟨q', r', h1, h2, h3, h4, h5, h6, h7⟩
    refine ⟨q', r', h1, h2, ?_, h4, h5, h6, h7⟩
    rcases h3 with e | ⟨e, f⟩
    · exact Or.inl e
    · subst e
      rcases Nat.eq_or_lt_of_le (Nat.le_of_lt_succ f) with g | g
      · subst g
        exact absurd ⟨h4, h5, h6⟩ hf
      · exact Or.inr ⟨rfl, g⟩
theorem aj_IEh {p q r : Nat} {set s2 : Int32} (h : aj_IE d p q r set) (hq : q < 8) (hr : r < 8) (h0 : 0 < aj_T d 0 p q) (hD : 0 < aj_D d q) (h1 : 0 < aj_T d 1 q r) (hs : ∀ c, c < 8 → (bt s2 c = true ↔ 0 < aj_T d 2 r c)) : aj_IE d p q (r + 1) (set ||| s2) := by
  intro c hc
  rw [b_or, Bool.or_eq_true, h c hc, hs c hc]
  constructor
  · intro z
    rcases z with ⟨q', r', h1, h2, h3, h4⟩ | z
    · exact ⟨q', r', h1, h2, by omega, h4⟩
    · exact ⟨q, r, hq, hr, by omega, h0, hD, h1, z⟩
  · intro ⟨q', r', g1, g2, g3, g4, g5, g6, g7⟩
    rcases g3 with e | ⟨e, f⟩
    · exact Or.inl ⟨q', r', g1, g2, Or.inl e, g4, g5, g6, g7⟩
    · rcases Nat.eq_or_lt_of_le (Nat.le_of_lt_succ f) with g | g
      · subst g
        exact Or.inr g7
      · exact Or.inl ⟨q', r', g1, g2, Or.inr ⟨e, g⟩, g4, g5, g6, g7⟩
theorem aj_IEf {p : Nat} (hp : p < 8) {set : Int32} (h : aj_IE d p 8 0 set) {c : Nat} (hc : c < 8) : (bt set c).toNat = aj_E d p c := by
  have h1 := h c hc
  have h2 := aj_en d hp hc
  unfold aj_E
  by_cases e : bt set c = true
  · obtain ⟨q', r', g1, g2, g3, g4⟩ := h1.mp e
    rw [if_pos (h2.mpr ⟨q', r', g1, g2, g4⟩), e]
    rfl
  · rw [if_neg (fun z => ?_), Bool.not_eq_true _ |>.mp e]
    · rfl
    · obtain ⟨q', r', g1, g2, g4⟩ := h2.mp z
      exact e (h1.mpr ⟨q', r', g1, g2, by omega, g4⟩)
theorem aj_e13 {post : Int32 → Prop} {J4 : Int32 → Int32 → Prop} (hd : ∀ j, d j ≤ 1) (hn : aj_N d nx) (hP : aj_P d dR dT dQ uQ uR) {p q : Nat} (hp : p < 8) (hq : q < 8)
    (hJ : ∀ set : Int32, aj_IE d p q 8 set → J4 set (nI (q + 1))) :
    ∀ k r n, r + k = 8 → k < n → ∀ set : Int32, aj_IE d p q r set → wX_endsOf_13 post J4 (nI p) (nI q) fp fr nx sz dR dT dQ uQ uR n set (nI r) := by
  intro k
  induction k with
  | zero =>
    intro r n hr hk set h
    obtain ⟨m, rfl⟩ : ∃ m, n = m + 1 := ⟨n - 1, by omega⟩
    have e : r = 8 := by omega
    subst e
    exact br_t aj_88 (nm_r (nI_1 q) (hJ set h))
  | succ k ih =>
    intro r n hrk hk set h
    obtain ⟨m, rfl⟩ : ∃ m, n = m + 1 := ⟨n - 1, by omega⟩
    have hr : r < 8 := by omega
    have hD := aj_Dle hd q
    have eD := aj_rd hq (hP q hq).2.1
    have e1 : (16 : Int32) + nI r = nI (16 + r) := nI_add 16 r
    have c1 : ((16 : Int32) + nI r).toNatClampNeg = 16 + r := by rw [e1]; exact nI_clamp (by omega)
    have S : ¬ (0 < aj_T d 0 p q ∧ 0 < aj_D d q ∧ 0 < aj_T d 1 q r) → wX_endsOf_13 post J4 (nI p) (nI q) fp fr nx sz dR dT dQ uQ uR m set (nI (r + 1)) := fun z => ih (r + 1) m (by omega) (by omega) set (aj_IEs h z)
    refine br_f (aj_n8 hr) (aj_th hd hn 0 p q (by omega) hp hq (fun e => nm_r (nI_1 r) (S (by omega))) (fun e => And.intro (aj_in8 hq) ?_))
    rw [eD]
    refine aj_x1 (by omega) (fun z => ?_) (fun z => nm_r (nI_1 r) (S (by omega)))
    refine aj_th hd hn 1 q r (by omega) hq hr (fun f => nm_r (nI_1 r) (S (by omega))) (fun f => And.intro (by rw [e1]; exact vp_in_nI (by omega) (by decide)) ?_)
    intro set' es
    rw [c1] at es
    subst es
    refine nm_r (nI_1 r) (ih (r + 1) m (by omega) (by omega) _ (aj_IEh h hq hr (by omega) z (by omega) fun c hc => ?_))
    have g := hn (16 + r) (by omega) c hc
    have g2 : d (8 * (16 + r) + c) = aj_T d 2 r c := congrArg d (by omega)
    rw [← g2, ← g]
    cases bt (nx (16 + r)) c
    · decide
    · decide
theorem aj_e4 {post : Int32 → Prop} (hd : ∀ j, d j ≤ 1) (hn : aj_N d nx) (hP : aj_P d dR dT dQ uQ uR) {p : Nat} (hp : p < 8) (h : ∀ set : Int32, aj_IE d p 8 0 set → post set) :
    ∀ k q n, q + k = 8 → k < n → ∀ set : Int32, aj_IE d p q 0 set → wX_endsOf_4 post (nI p) fp fr nx sz dR dT dQ uQ uR n set (nI q) := by
  intro k
  induction k with
  | zero =>
    intro q n hr hk set g
    obtain ⟨m, rfl⟩ : ∃ m, n = m + 1 := ⟨n - 1, by omega⟩
    have e : q = 8 := by omega
    subst e
    exact br_t aj_88 (h set g)
  | succ k ih =>
    intro q n hrk hk set g
    obtain ⟨m, rfl⟩ : ∃ m, n = m + 1 := ⟨n - 1, by omega⟩
    have hq : q < 8 := by omega
    exact br_f (aj_n8 hq) ⟨9, aj_e13 hd hn hP hp hq (fun set' g' => ih (q + 1) m (by omega) (by omega) set' (aj_IEn g')) 8 0 9 (by omega) (by omega) set g⟩
theorem aj_xends {post : Int32 → SX → Prop} (hd : ∀ j, d j ≤ 1) (hn : aj_N d nx) (hP : aj_P d dR dT dQ uQ uR)
    (h : post (nI (aj_s (fun p => aj_s (aj_E d p) 8) 8)) (fp, fr, nx, sz, dR, dT, dQ, uQ, uR)) : ∃ n, wX_ends_8 post fp fr nx sz dR dT dQ uQ uR n 0 0 := by
  refine aj_l0 (fun n x y => wX_ends_8 post fp fr nx sz dR dT dQ uQ uR n x y) (fun p => aj_s (aj_E d p) 8) 8 (fun n => br_t aj_88 h) (fun n p hp G => br_f (aj_n8 hp) ?_)
  refine ⟨9, aj_e4 hd hn hP hp ?_ 8 0 9 (by omega) (by omega) 0 (aj_IE0 p)⟩
  intro set g
  refine aj_so set (nm_r ?_ (nm_r (nI_1 p) G))
  rw [aj_sc (fun c hc => aj_IEf hp g hc), nI_add]
end
end
section
/-! the component's rank and answer -/
section
variable {fp fr : Int32} {nx sz dR dT dQ uQ uR : Nat → Int32} {d : Nat → Nat}
theorem aj_xrank {post : Int32 → SX → Prop} (hd : ∀ j, d j ≤ 1) (hn : aj_N d nx) (hP : aj_P d dR dT dQ uQ uR) {p q r s t : Nat} (hp : p < 8) (hq : q < 8) (hr : r < 8) (hs : s < 8) (ht : t < 8)
    (h : post (nI (aj_s (aj_Fd d) (8 * (8 * (8 * (8 * p + q) + r) + s) + t))) (fp, fr, nx, sz, dR, dT, dQ, uQ, uR)) : ∃ n, wX_rank_56 post (nI p) (nI q) (nI r) (nI s) (nI t) fp fr nx sz dR dT dQ uQ uR n 0 0 := by
  have eD := aj_rd hq (hP q hq).2.1
  rw [aj_rk d p hq hr hs (by omega)] at h
  refine aj_l0 (fun n x y => wX_rank_56 post (nI p) (nI q) (nI r) (nI s) (nI t) fp fr nx sz dR dT dQ uQ uR n x y) (fun a => aj_s (aj_g d 0 a 1 0) 8) p (fun n => br_t (nI_le (Nat.le_refl p) (by omega)) ?_)
    (fun n a ha H => br_f (nI_ge ha (by omega)) (aj_below (i := 0) (a := a) (m := 8) (sc := 1) (kd := 0) hd hn hP (by omega) (by omega) (by omega) (by omega) (nm_r (nI_add _ _) (nm_r (nI_1 a) H))))
  refine aj_below (i := 0) (a := p) (m := q) (sc := 1) (kd := 0) hd hn hP (by omega) hp (by omega) (by omega) (nm_r (nI_add _ _) ?_)
  refine aj_th hd hn 0 p q (by omega) hp hq (fun e => ?_) (fun e => And.intro (aj_in8 hq) ?_)
  · rw [e, Nat.zero_mul, Nat.add_zero] at h
    exact h
  rw [e, Nat.one_mul] at h
  rw [eD]
  refine aj_below (i := 1) (a := q) (m := r) (sc := aj_D d q) (kd := 1) hd hn hP (by omega) hq (by omega) (by omega) (nm_r (nI_add _ _) ?_)
  refine aj_th hd hn 1 q r (by omega) hq hr (fun e => ?_) (fun e => And.intro (aj_in8 hq) ?_)
  · rw [e, Nat.zero_mul, Nat.add_zero] at h
    exact h
  rw [e, Nat.one_mul] at h
  refine aj_below (i := 2) (a := r) (m := s) (sc := aj_D d q) (kd := 2) hd hn hP (by omega) hr (by omega) (by omega) (nm_r (nI_add _ _) ?_)
  refine aj_th hd hn 2 r s (by omega) hr hs (fun e => ?_) (fun e => ?_)
  · rw [e, Nat.zero_mul, Nat.add_zero, ← Nat.add_assoc] at h
    exact h
  rw [e, Nat.one_mul, ← Nat.add_assoc, ← Nat.add_assoc] at h
  exact aj_below (i := 3) (a := q) (m := t) (sc := 1) (kd := 2) hd hn hP (by omega) hq (by omega) (by omega) (nm_r (nI_add _ _) h)
theorem aj_G1 (q : Nat) : aj_s (aj_g d 1 q (aj_D d q) 1) 8 = aj_Q d q * aj_D d q := by
  unfold aj_Q aj_q
  rw [← aj_smulr]
  refine aj_sc fun b _ => ?_
  show aj_T d 1 q b * (aj_D d q * aj_R d b) = aj_T d 1 q b * aj_R d b * aj_D d q
  ac_rfl
theorem aj_G2 (q r : Nat) : aj_s (aj_g d 2 r (aj_D d q) 2) 8 = aj_R d r * aj_D d q := by
  unfold aj_R aj_r
  rw [← aj_smulr]
  refine aj_sc fun b _ => ?_
  show aj_T d 2 r b * (aj_D d q * 1) = aj_T d 2 r b * aj_D d q
  rw [Nat.mul_one]
theorem aj_G3 (q : Nat) : aj_s (aj_g d 3 q 1 2) 8 = aj_D d q := by
  refine aj_sc fun b _ => ?_
  show aj_T d 3 q b * (1 * 1) = aj_T d 3 q b
  rw [Nat.mul_one]
theorem aj_code (p q r s t : Nat) : nI p + 8 * nI q + 64 * nI r + 512 * nI s + 4096 * nI t = nI (p + 8 * q + 64 * r + 512 * s + 4096 * t) := by
  rw [show (8 : Int32) = nI 8 from rfl, show (64 : Int32) = nI 64 from rfl, show (512 : Int32) = nI 512 from rfl, show (4096 : Int32) = nI 4096 from rfl, pk_mul, pk_mul, pk_mul, pk_mul, nI_add, nI_add, nI_add, nI_add]
theorem aj_a63 {post : Int32 → SX → Prop} (hd : ∀ j, d j ≤ 1) (hn : aj_N d nx) (hP : aj_P d dR dT dQ uQ uR) {p q m : Nat} (hq : q < 8) (hm : m < aj_Q d q * aj_D d q)
    (h : ∀ (r s t : Nat) (fr : Int32), r < 8 → s < 8 → t < 8 → aj_T d 1 q r = 1 → aj_T d 2 r s = 1 → aj_T d 3 q t = 1 → m = aj_s (aj_g d 1 q (aj_D d q) 1) r + (aj_s (aj_g d 2 r (aj_D d q) 2) s + aj_s (aj_g d 3 q 1 2) t) → post (nI (p + 8 * q + 64 * r + 512 * s + 4096 * t)) (fp, fr, nx, sz, dR, dT, dQ, uQ, uR)) :
    wX_answer_63 post (nI p) (nI q) fp (nI m) nx sz dR dT dQ uQ uR := by
  have eD := aj_rd hq (hP q hq).2.1
  have hQD : aj_Q d q * aj_D d q ≤ 64 * 8 := Nat.mul_le_mul (aj_Qle hd q) (aj_Dle hd q)
  refine And.intro (aj_in8 hq) ?_
  rw [eD]
  refine aj_walk (i := 1) (a := q) (sc := aj_D d q) (kd := 1) (k0 := m) hd hn hP (by omega) hq (aj_Dle hd q) (by omega) (by omega) ?_ ?_
  rotate_left
  · intro z
    rw [aj_G1] at z
    omega
  intro r hr e1 l1 u1
  refine And.intro (aj_in8 hq) ?_
  rw [eD]
  have v1 : aj_D d q * aj_kv d 1 r = aj_R d r * aj_D d q := Nat.mul_comm _ _
  rw [v1] at u1
  refine aj_walk (i := 2) (a := r) (sc := aj_D d q) (kd := 2) (k0 := m - aj_s (aj_g d 1 q (aj_D d q) 1) r) hd hn hP (by omega) hr (aj_Dle hd q) (by omega) (by omega) ?_ ?_
  rotate_left
  · intro z
    rw [aj_G2] at z
    omega
  intro s hs e2 l2 u2
  have v2 : aj_D d q * aj_kv d 2 s = aj_D d q := Nat.mul_one _
  rw [v2] at u2
  refine aj_walk (i := 3) (a := q) (sc := 1) (kd := 2) (k0 := m - aj_s (aj_g d 1 q (aj_D d q) 1) r - aj_s (aj_g d 2 r (aj_D d q) 2) s) hd hn hP (by omega) hq (by omega) (by omega) (by omega) ?_ ?_
  rotate_left
  · intro z
    rw [aj_G3] at z
    omega
  intro t ht e3 l3 u3
  have v3 : 1 * aj_kv d 2 t = 1 := rfl
  rw [v3] at u3
  have g := h r s t (nI (m - aj_s (aj_g d 1 q (aj_D d q) 1) r - aj_s (aj_g d 2 r (aj_D d q) 2) s - aj_s (aj_g d 3 q 1 2) t)) hr hs ht e1 e2 e3 (by omega)
  rw [← aj_code] at g
  exact g
theorem aj_a31 {post : Int32 → SX → Prop} (hd : ∀ j, d j ≤ 1) (hn : aj_N d nx) (hP : aj_P d dR dT dQ uQ uR) {k0 : Nat} (hk0 : k0 < aj_s (aj_Fd d) 32768) (hk1 : k0 < 2 ^ 31)
    (h : ∀ (p q r s t : Nat) (fr : Int32), p < 8 → q < 8 → r < 8 → s < 8 → t < 8 → aj_Fd d (8 * (8 * (8 * (8 * p + q) + r) + s) + t) = 1 → aj_s (aj_Fd d) (8 * (8 * (8 * (8 * p + q) + r) + s) + t) = k0 → post (nI (p + 8 * q + 64 * r + 512 * s + 4096 * t)) (fp, fr, nx, sz, dR, dT, dQ, uQ, uR)) :
    ∀ k a n, a + k = 8 → k + 1 < n → aj_s (fun a => aj_s (aj_g d 0 a 1 0) 8) a ≤ k0 → ∀ x3 : Int32, wX_answer_31 post n x3 (-4) (nI a) fp (nI (k0 - aj_s (fun a => aj_s (aj_g d 0 a 1 0) 8) a)) nx sz dR dT dQ uQ uR := by
  intro k
  induction k with
  | zero =>
    intro a n ha hk g x3
    have e : a = 8 := by omega
    subst e
    rw [aj_ct1] at hk0
    omega
  | succ k ih =>
    intro p n hpk hk g x3
    obtain ⟨m, rfl⟩ : ∃ m, n = m + 1 + 1 := ⟨n - 2, by omega⟩
    have hp : p < 8 := by omega
    refine br_f (aj_n8 hp) (br_f (by decide) ?_)
    refine aj_walk (i := 0) (a := p) (sc := 1) (kd := 0) (k0 := k0 - aj_s (fun a => aj_s (aj_g d 0 a 1 0) 8) p) hd hn hP (by omega) hp (by omega) (by omega) (by omega) ?_ ?_
    · intro q hq e0 l0 u0
      have v0 : 1 * aj_kv d 0 q = aj_Q d q * aj_D d q := Nat.one_mul _
      rw [v0] at u0
      have K : wX_answer_63 post (nI p) (nI q) fp (nI (k0 - aj_s (fun a => aj_s (aj_g d 0 a 1 0) 8) p - aj_s (aj_g d 0 p 1 0) q)) nx sz dR dT dQ uQ uR := by
        refine aj_a63 hd hn hP hq u0 ?_
        intro r s t fr hr hs ht e1 e2 e3 em
        refine h p q r s t fr hp hq hr hs ht ?_ ?_
        · unfold aj_Fd
          rw [aj_F5 _ _ _ _ p hq hr hs ht, e0, e1, e2, e3]
        · rw [aj_rk d p hq hr hs (by omega), e0, e1, e2, Nat.one_mul, Nat.one_mul, Nat.one_mul]
          omega
      refine nm_r (nI_1 p) ?_
      exact br_c (fun _ => K) (fun _ => br_t (nI_pos' (by omega)) K)
    · intro z
      refine nm_r (nI_1 p) ?_
      have i1 := ih (p + 1) (m + 1) (by omega) (by omega)
      rw [aj_s1, Nat.sub_add_eq] at i1
      exact i1 (by omega) (nI p)
end
end
section
/-! the reference's small methods -/
theorem aj_vs : ∀ c, c < 5 → (((12 - 3 * nI c) &&& 31 : Int32).toBitVec.smod 32).toNat = 12 - 3 * c := by decide +kernel
theorem aj_vs3 : ∀ c, c < 5 → (((3 * nI c) &&& 31 : Int32).toBitVec.smod 32).toNat = 3 * c := by decide +kernel
theorem aj_s6 : (((6 : Int32) &&& 31).toBitVec.smod 32).toNat = 6 := by decide +kernel
theorem aj_s9 : (((9 : Int32) &&& 31).toBitVec.smod 32).toNat = 9 := by decide +kernel
theorem aj_s3 : (((3 : Int32) &&& 31).toBitVec.smod 32).toNat = 3 := by decide +kernel
theorem aj_s12 : (((12 : Int32) &&& 31).toBitVec.smod 32).toNat = 12 := by decide +kernel
theorem aj_m7 : (7 : Int32).toBitVec.toNat = 2 ^ 3 - 1 := by decide +kernel
theorem aj_m63 : (63 : Int32).toBitVec.toNat = 2 ^ 6 - 1 := by decide +kernel
theorem aj_shm {n : Nat} (h : n < 2 ^ 31) (s : Int32) (k : Nat) (hs : (s.toBitVec.smod 32).toNat = k) : (nI n >>> s) &&& 7 = nI (n / 2 ^ k % 8) := by
  rw [pk_shrN h s k hs, pk_andN (Nat.lt_of_le_of_lt (Nat.div_le_self _ _) (by omega)) 3 aj_m7]
theorem aj_shm6 {n : Nat} (h : n < 2 ^ 31) (s : Int32) (k : Nat) (hs : (s.toBitVec.smod 32).toNat = k) : (nI n >>> s) &&& 63 = nI (n / 2 ^ k % 64) := by
  rw [pk_shrN h s k hs, pk_andN (Nat.lt_of_le_of_lt (Nat.div_le_self _ _) (by omega)) 6 aj_m63]
section
variable {yr yc ys : Nat → Int32} {d : Nat → Nat}
theorem aj_vi {post : Int32 → Prop} (n c : Nat) (hn : n < 32768) (hc : c < 5) (h : post (nI (aj_vl n c))) : wpY_valueIn post (yr, yc, ys) (nI n) (nI c) :=
  aj_at (P := post) (aj_shm (by omega) _ _ (aj_vs c hc)) h
theorem aj_r46 {post : Int32 → Prop} (n x c e : Nat) (hn : n < 32768) (hc : c < 5) (he : e < 5) (h : post (nI (64 * x + 8 * aj_vl n c + aj_vl n e))) : wY_rowOf_46 post (nI n) (nI x) (nI c) (nI e) yr yc ys :=
  aj_vi n c hn hc (aj_vi n e hn he (aj_at (P := post) (aj_pl x (aj_vl n c) (aj_vl n e)) h))
theorem aj_rowOf {post : Int32 → Prop} (n i : Nat) (hn : n < 32768) (hi : i < 4) (h : post (nI (aj_ro n i))) : wpY_rowOf post (yr, yc, ys) (nI n) (nI i) := by
  have v0 : aj_vl n 0 = n / 4096 % 8 := rfl
  have v1 : aj_vl n 1 = n / 512 % 8 := rfl
  have v2 : aj_vl n 2 = n / 64 % 8 := rfl
  have v3 : aj_vl n 3 = n / 8 % 8 := rfl
  have v4 : aj_vl n 4 = n % 8 := congrArg (fun x => x % 8) (Nat.div_one n)
  rcases (by omega : i = 0 ∨ i = 1 ∨ i = 2 ∨ i = 3) with e | e | e | e
  · subst e
    have g : 64 * 0 + 8 * aj_vl n 0 + aj_vl n 1 = aj_ro n 0 := by
      show _ = 8 * (n / 4096 % 8) + n / 512 % 8
      omega
    exact br_t rfl (br_t rfl (aj_r46 n 0 0 1 hn (by omega) (by omega) (by rw [g]; exact h)))
  · subst e
    have g : 64 * 1 + 8 * aj_vl n 1 + aj_vl n 2 = aj_ro n 1 := by
      show _ = 64 + 8 * (n / 512 % 8) + n / 64 % 8
      omega
    exact br_f (by decide) (br_f (by decide) (br_f (by decide) (br_t rfl (aj_r46 n 1 1 2 hn (by omega) (by omega) (by rw [g]; exact h)))))
  · subst e
    have g : 64 * 2 + 8 * aj_vl n 2 + aj_vl n 3 = aj_ro n 2 := by
      show _ = 128 + 8 * (n / 64 % 8) + n / 8 % 8
      omega
    exact br_f (by decide) (br_t rfl (br_f (by decide) (br_f (by decide) (br_t rfl (aj_r46 n 2 2 3 hn (by omega) (by omega) (by rw [g]; exact h))))))
  · subst e
    have g : 64 * 3 + 8 * aj_vl n 1 + aj_vl n 4 = aj_ro n 3 := by
      show _ = 192 + 8 * (n / 512 % 8) + n % 8
      omega
    exact br_f (by decide) (br_f (by decide) (br_f (by decide) (br_f (by decide) (br_f (by decide) (aj_r46 n 3 1 4 hn (by omega) (by omega) (by rw [g]; exact h))))))
theorem aj_rdy (hy : ∀ j, j < 256 → yr j = nI (d j)) {x : Int32} {j : Nat} (e : x = nI j) (hj : j < 256) : yr x.toNatClampNeg = nI (d j) := by
  rw [e, nI_clamp (by omega)]
  exact hy j hj
theorem aj_ia {post : Int32 → Prop} (hd : ∀ j, d j ≤ 1) (hy : ∀ j, j < 256 → yr j = nI (d j)) {n : Nat} (hn : n < 32768) (h0 : aj_Fd d n = 0 → post 0) (h1 : aj_Fd d n = 1 → post 1) : wpY_isAnswer post (yr, yc, ys) (nI n) := by
  have e1 : (64 : Int32) + ((nI n >>> ((6 : Int32) &&& 31)) &&& 63) = nI (64 + n / 64 % 64) := by
    rw [aj_shm6 (by omega) _ 6 aj_s6]
    exact nI_add 64 _
  have e2 : nI n >>> ((9 : Int32) &&& 31) = nI (n / 512) := pk_shrN (by omega) _ 9 aj_s9
  have e3 : (128 : Int32) + ((nI n >>> ((3 : Int32) &&& 31)) &&& 63) = nI (128 + n / 8 % 64) := by
    rw [aj_shm6 (by omega) _ 3 aj_s3]
    exact nI_add 128 _
  have t1 : d (64 + n / 64 % 64) = aj_T d 1 (n / 512 % 8) (n / 64 % 8) := congrArg d (by omega)
  have t2 : d (n / 512) = aj_T d 0 (n / 4096) (n / 512 % 8) := congrArg d (by omega)
  have t3 : d (128 + n / 8 % 64) = aj_T d 2 (n / 64 % 8) (n / 8 % 8) := congrArg d (by omega)
  have t4 : d (aj_ro n 3) = aj_T d 3 (n / 512 % 8) (n % 8) := congrArg d (by
    show 192 + 8 * (n / 512 % 8) + n % 8 = _
    omega)
  have l4 : aj_ro n 3 < 256 := by
    show 192 + 8 * (n / 512 % 8) + n % 8 < 256
    omega
  have a1 := aj_rdy hy e1 (by omega)
  have a2 := aj_rdy hy e2 (by omega)
  have a3 := aj_rdy hy e3 (by omega)
  have a4 := aj_rdy hy (rfl : nI (aj_ro n 3) = nI (aj_ro n 3)) l4
  have i1 : vp_in ((64 : Int32) + ((nI n >>> ((6 : Int32) &&& 31)) &&& 63)) 256 := by rw [e1]; exact vp_in_nI (by omega) (by decide)
  have i2 : vp_in (nI n >>> ((9 : Int32) &&& 31)) 256 := by rw [e2]; exact vp_in_nI (by omega) (by decide)
  have i3 : vp_in ((128 : Int32) + ((nI n >>> ((3 : Int32) &&& 31)) &&& 63)) 256 := by rw [e3]; exact vp_in_nI (by omega) (by decide)
  have i4 : vp_in (nI (aj_ro n 3)) 256 := vp_in_nI l4 (by decide)
  rw [t1] at a1
  rw [t2] at a2
  rw [t3] at a3
  rw [t4] at a4
  have F : aj_Fd d n = aj_T d 0 (n / 4096) (n / 512 % 8) * (aj_T d 1 (n / 512 % 8) (n / 64 % 8) * (aj_T d 2 (n / 64 % 8) (n / 8 % 8) * aj_T d 3 (n / 512 % 8) (n % 8))) := rfl
  rw [F] at h0 h1
  rcases aj_T01 hd 1 (n / 512 % 8) (n / 64 % 8) with z | z
  · rw [z] at a1 h0
    exact And.intro i1 (br_t a1 (h0 (by rw [Nat.zero_mul, Nat.mul_zero])))
  · rw [z] at a1 h0 h1
    refine And.intro i1 (br_f (by rw [a1]; decide) (And.intro i2 ?_))
    rcases aj_T01 hd 0 (n / 4096) (n / 512 % 8) with z | z
    · rw [z] at a2 h0
      exact br_t a2 (h0 (by rw [Nat.zero_mul]))
    · rw [z] at a2 h0 h1
      refine br_f (by rw [a2]; decide) (And.intro i3 ?_)
      rcases aj_T01 hd 2 (n / 64 % 8) (n / 8 % 8) with z | z
      · rw [z] at a3 h0
        exact br_t a3 (h0 (by rw [Nat.zero_mul]))
      · rw [z] at a3 h0 h1
        refine br_f (by rw [a3]; decide) (aj_rowOf n 3 hn (by omega) (And.intro i4 ?_))
        rcases aj_T01 hd 3 (n / 512 % 8) (n % 8) with z | z
        · rw [z] at a4 h0
          exact br_t a4 (h0 rfl)
        · rw [z] at a4 h1
          exact br_f (by rw [a4]; decide) (h1 rfl)
theorem aj_iai {A B : Prop} (hd : ∀ j, d j ≤ 1) (hy : ∀ j, j < 256 → yr j = nI (d j)) {n : Nat} (hn : n < 32768) (h0 : aj_Fd d n = 0 → A) (h1 : aj_Fd d n = 1 → B) : wpY_isAnswer (fun r => (r = 0 → A) ∧ (¬ r = 0 → B)) (yr, yc, ys) (nI n) :=
  aj_ia hd hy hn (fun e => br_t rfl (h0 e)) (fun e => br_f (by decide) (h1 e))
theorem aj_32 : (32768 : Int32) ≤ nI 32768 := nI_le (a := 32768) (b := 32768) (Nat.le_refl _) (by decide)
theorem aj_n32 {n : Nat} (h : n < 32768) : ¬ (32768 : Int32) ≤ nI n := nI_ge (b := 32768) h (by decide)
theorem aj_isRow {post : Int32 → Prop} {i a b : Nat} (hi : i < 4) (ha : a < 8) (hb : b < 8) (h : post 1) : wpY_isRow post (yr, yc, ys) (nI i) (nI a) (nI b) :=
  br_f (nI_pos (by omega)) (br_f (nI_nlt (a := 3) (b := i) (by omega) (by decide)) (aj_isValue ha (br_f (by decide) (aj_isValue hb (br_f (by decide) h)))))
theorem aj_isCode {post : Int32 → Prop} {c : Nat} (hc : c < 32768) (h : post 1) : wpY_isCode post (yr, yc, ys) (nI c) :=
  br_f (nI_pos (by omega)) (br_f (nI_nlt (a := 32767) (b := c) (by omega) (by decide)) h)
/-! code, number -/
theorem aj_cs {post : Int32 → Prop} {n m c x : Nat} (hn : n < 32768) (hc : c + 1 < 5) (H : wY_code_4 post (nI n) yr yc ys m (nI (8 * x + aj_vl n (c + 1))) (nI c)) : wY_code_4 post (nI n) yr yc ys (m + 1) (nI x) (nI (c + 1)) :=
  br_f (nI_pos (by omega)) (aj_vi n (c + 1) hn hc (nm_r (by rw [show (8 : Int32) = nI 8 from rfl, pk_mul, nI_add]) (nm_r (pk_m1 c) H)))
theorem aj_ycode {post : Int32 → Prop} {n : Nat} (hn : n < 32768) (h : post (nI (8 * (8 * (8 * (8 * (8 * 0 + aj_vl n 4) + aj_vl n 3) + aj_vl n 2) + aj_vl n 1) + aj_vl n 0))) : wpY_code post (yr, yc, ys) (nI n) :=
  ⟨6, aj_cs (c := 3) (x := 0) hn (by omega) (aj_cs (c := 2) hn (by omega) (aj_cs (c := 1) hn (by omega) (aj_cs (c := 0) hn (by omega)
    (br_f (nI_pos (by omega)) (aj_vi n 0 hn (by omega) (nm_r (by rw [show (8 : Int32) = nI 8 from rfl, pk_mul, nI_add]) (nm_e (br_t (by decide) h))))))))⟩
theorem aj_ns {post : Int32 → Prop} {k m c x : Nat} (hk : k < 32768) (hc : c < 5) (H : wY_number_4 post (nI k) yr yc ys m (nI (8 * x + k / 2 ^ (3 * c) % 8)) (nI (c + 1))) : wY_number_4 post (nI k) yr yc ys (m + 1) (nI x) (nI c) :=
  br_f (nI_ge (b := 5) hc (by decide)) (nm_r (by rw [aj_shm (by omega) _ _ (aj_vs3 c hc), show (8 : Int32) = nI 8 from rfl, pk_mul, nI_add]) (nm_r (nI_1 c) H))
theorem aj_ynumber {post : Int32 → Prop} {k : Nat} (hk : k < 32768) (h : post (nI (8 * (8 * (8 * (8 * (k % 8) + k / 8 % 8) + k / 64 % 8) + k / 512 % 8) + k / 4096))) : wpY_number post (yr, yc, ys) (nI k) := by
  have e : 8 * (8 * (8 * (8 * (k % 8) + k / 8 % 8) + k / 64 % 8) + k / 512 % 8) + k / 4096 = 8 * (8 * (8 * (8 * (8 * 0 + k / 2 ^ (3 * 0) % 8) + k / 2 ^ (3 * 1) % 8) + k / 2 ^ (3 * 2) % 8) + k / 2 ^ (3 * 3) % 8) + k / 2 ^ (3 * 4) % 8 := by
    show _ = 8 * (8 * (8 * (8 * (8 * 0 + k / 1 % 8) + k / 8 % 8) + k / 64 % 8) + k / 512 % 8) + k / 4096 % 8
    omega
  rw [e] at h
  exact ⟨6, aj_ns (c := 0) (x := 0) hk (by omega) (aj_ns (c := 1) hk (by omega) (aj_ns (c := 2) hk (by omega) (aj_ns (c := 3) hk (by omega) (aj_ns (c := 4) hk (by omega) (br_t (by decide) h)))))⟩
end
end
section
/-! the reference's loops over all combinations -/
section
variable {yr yc ys : Nat → Int32} {d : Nat → Nat}
theorem aj_ycount {post : Int32 → Prop} (hd : ∀ j, d j ≤ 1) (hy : ∀ j, j < 256 → yr j = nI (d j)) (h : post (nI (aj_s (aj_Fd d) 32768))) : wpY_count post (yr, yc, ys) := by
  refine aj_l0 (fun n x y => wY_count_4 post yr yc ys n x y) (aj_Fd d) 32768 (fun n => br_t aj_32 h) (fun n i hi H => br_f (aj_n32 hi) (aj_iai hd hy hi (fun e => ?_) (fun e => ?_)))
  · rw [e, Nat.add_zero] at H
    exact nm_r (nI_1 i) H
  · rw [e] at H
    exact nm_r (nI_1 _) (nm_r (nI_1 i) H)
theorem aj_yrank {post : Int32 → Prop} (hd : ∀ j, d j ≤ 1) (hy : ∀ j, j < 256 → yr j = nI (d j)) {m : Nat} (hm : m ≤ 32768) (h : post (nI (aj_s (aj_Fd d) m))) : ∃ n, wY_rank_21 post (nI m) yr yc ys n 0 0 := by
  refine aj_l0 (fun n x y => wY_rank_21 post (nI m) yr yc ys n x y) (aj_Fd d) m (fun n => br_t (nI_le (Nat.le_refl m) (by omega)) h) (fun n i hi H => br_f (nI_ge hi (by omega)) (aj_iai hd hy (by omega) (fun e => ?_) (fun e => ?_)))
  · rw [e, Nat.add_zero] at H
    exact nm_r (nI_1 i) H
  · rw [e] at H
    exact nm_r (nI_1 _) (nm_r (nI_1 i) H)
theorem aj_ycw {post : Int32 → Prop} (hd : ∀ j, d j ≤ 1) (hy : ∀ j, j < 256 → yr j = nI (d j)) {i a b : Nat} (hi : i < 4) (ha : a < 8) (hb : b < 8)
    (h : post (nI (aj_T d i a b * aj_sh d i a b))) : wpY_countWith post (yr, yc, ys) (nI (64 * i + 8 * a + b)) := by
  rw [← aj_cw d hi ha hb] at h
  have ex : nI (64 * i + 8 * a + b) / 64 = nI i := (pk_div (d := 64) (by omega) (by decide) (by decide)).trans (congrArg nI (by omega))
  refine aj_l0 (fun n x y => wY_countWith_4 post (nI (64 * i + 8 * a + b)) yr yc ys n x y) (fun n => if aj_ro n i = 64 * i + 8 * a + b then aj_Fd d n else 0) 32768 (fun n => br_t aj_32 h) (fun n k hk H => br_f (aj_n32 hk) (aj_iai hd hy hk (fun e => ?_) (fun e => And.intro (by decide) ?_)))
  · rw [e, ite_self, Nat.add_zero] at H
    exact nm_r (nI_1 k) H
  · rw [ex]
    have hro : aj_ro k i < 256 := by
      unfold aj_ro
      split
      · omega
      · split
        · omega
        · split
          · omega
          · omega
    refine aj_rowOf k i hk hi (pk_eq (aj_ro k i) (64 * i + 8 * a + b) (fun z => ?_) (fun z => ?_))
    · rw [if_pos z, e] at H
      exact nm_r (nI_1 _) (nm_r (nI_1 k) H)
    · rw [if_neg z, Nat.add_zero] at H
      exact nm_r (nI_1 k) H
theorem aj_ycv {post : Int32 → Prop} (hd : ∀ j, d j ≤ 1) (hy : ∀ j, j < 256 → yr j = nI (d j)) {c v : Nat} (hc : c < 5) (hv : v < 8)
    (h : post (nI (aj_s (aj_ic d c v) 8))) : wpY_countValue post (yr, yc, ys) (nI c) (nI v) := by
  rw [← aj_cv d hc hv] at h
  refine aj_l0 (fun n x y => wY_countValue_5 post (nI c) (nI v) yr yc ys n x y) (fun n => if aj_vl n c = v then aj_Fd d n else 0) 32768 (fun n => br_t aj_32 h) (fun n k hk H => br_f (aj_n32 hk) (aj_vi k c hk hc ?_))
  have hl := aj_vl8 k c
  refine pk_eq (aj_vl k c) v (fun z => aj_iai hd hy hk (fun e => ?_) (fun e => ?_)) (fun z => ?_)
  · rw [e, ite_self, Nat.add_zero] at H
    exact nm_r (nI_1 k) H
  · rw [if_pos z, e] at H
    exact nm_r (nI_1 _) (nm_r (nI_1 k) H)
  · rw [if_neg z, Nat.add_zero] at H
    exact nm_r (nI_1 k) H
theorem aj_yuse {post : Int32 → Prop} (hd : ∀ j, d j ≤ 1) (hy : ∀ j, j < 256 → yr j = nI (d j)) {i : Nat} (hi : i < 4)
    (h : post (nI (aj_s (fun a => aj_s (fun b => if 0 < aj_T d i a b * aj_sh d i a b then 1 else 0) 8) 8))) : ∃ n, wY_useful_18 post (nI i) yr yc ys n 0 (nI (64 * i)) := by
  have e64 : (64 : Int32) * nI i + 64 = nI (64 * i + 64) := by
    rw [show (64 : Int32) = nI 64 from rfl, pk_mul, nI_add]
  have hs : aj_s (fun a => aj_s (fun b => if 0 < aj_T d i a b * aj_sh d i a b then 1 else 0) 8) 8 = aj_s (fun j => if 0 < aj_T d i (j / 8) (j % 8) * aj_sh d i (j / 8) (j % 8) then 1 else 0) 64 := by
    rw [show 64 = 8 * 8 from rfl, aj_sblk]
    refine aj_sc fun a _ => aj_sc fun b hb => ?_
    rw [show (8 * a + b) / 8 = a from by omega, show (8 * a + b) % 8 = b from by omega]
  rw [hs] at h
  refine aj_li (fun n x y => wY_useful_18 post (nI i) yr yc ys n x y) (fun j => if 0 < aj_T d i (j / 8) (j % 8) * aj_sh d i (j / 8) (j % 8) then 1 else 0) 64 (64 * i)
    (fun n => br_t (by rw [e64]; exact nI_le (Nat.le_refl _) (by omega)) h) (fun n j hj H => br_f (by rw [e64]; exact nI_ge (by omega) (by omega)) (And.intro (vp_in_nI (by omega) (by decide)) ?_))
  have hb : aj_T d i (j / 8) (j % 8) * aj_sh d i (j / 8) (j % 8) ≤ 1 * 512 := Nat.mul_le_mul (hd _) (aj_shle hd _ _ _)
  have ej : 64 * i + j = 64 * i + 8 * (j / 8) + j % 8 := by omega
  have er : yr (nI (64 * i + j)).toNatClampNeg = nI (aj_T d i (j / 8) (j % 8)) := (aj_rdy hy rfl (by omega)).trans (congrArg (fun x => nI (d x)) ej)
  have S : aj_T d i (j / 8) (j % 8) * aj_sh d i (j / 8) (j % 8) = 0 → ∀ x : Int32, x = nI (64 * i + j) + 1 → wY_useful_18 post (nI i) yr yc ys n (nI (aj_s (fun j => if 0 < aj_T d i (j / 8) (j % 8) * aj_sh d i (j / 8) (j % 8) then 1 else 0) j)) x := by
    intro z
    rw [if_neg (by omega), Nat.add_zero] at H
    exact nm_r (nI_1 _) H
  rw [er]
  rcases aj_T01 hd i (j / 8) (j % 8) with e | e
  · rw [e] at S ⊢
    exact br_t rfl (S (Nat.zero_mul _))
  · refine br_f (by rw [e]; decide) ?_
    have ec : nI (64 * i + j) = nI (64 * i + 8 * (j / 8) + j % 8) := congrArg nI ej
    refine ec ▸ aj_ycw hd hy hi (show j / 8 < 8 by omega) (show j % 8 < 8 by omega) ?_
    rw [← ec]
    refine aj_x1 (by omega) (fun z => ?_) S
    rw [if_pos z] at H
    exact nm_r (nI_1 _) (nm_r (nI_1 _) H)
theorem aj_yval {post : Int32 → Prop} (hd : ∀ j, d j ≤ 1) (hy : ∀ j, j < 256 → yr j = nI (d j)) {c : Nat} (hc : c < 5)
    (h : post (nI (aj_s (fun v => if 0 < aj_s (aj_ic d c v) 8 then 1 else 0) 8))) : ∃ n, wY_values_15 post (nI c) yr yc ys n 0 0 := by
  refine aj_l0 (fun n x y => wY_values_15 post (nI c) yr yc ys n x y) (fun v => if 0 < aj_s (aj_ic d c v) 8 then 1 else 0) 8 (fun n => br_t aj_88 h) (fun n v hv G => br_f (aj_n8 hv) (aj_ycv hd hy hc hv ?_))
  have hs : aj_s (aj_ic d c v) 8 ≤ 8 * 512 := aj_sle fun x _ => aj_icle hd c v x
  refine aj_x1 (by omega) (fun z => ?_) (fun z => ?_)
  · rw [if_pos z] at G
    exact nm_r (nI_1 _) (nm_r (nI_1 v) G)
  · rw [if_neg (by omega), Nat.add_zero] at G
    exact nm_r (nI_1 v) G
theorem aj_ysum {post : Int32 → Prop} (hd : ∀ j, d j ≤ 1) (hy : ∀ j, j < 256 → yr j = nI (d j))
    (h : post (nI (aj_s (fun v => v * (aj_s (aj_ic d 3 v) 8 + aj_s (aj_ic d 4 v) 8)) 8))) : wpY_sum post (yr, yc, ys) := by
  rw [← aj_sm] at h
  refine aj_l0 (fun n x y => wY_sum_4 post yr yc ys n x y) (fun n => aj_Fd d n * (aj_vl n 3 + aj_vl n 4)) 32768 (fun n => br_t aj_32 h) (fun n i hi H => br_f (aj_n32 hi) (aj_iai hd hy hi (fun e => ?_) (fun e => aj_vi i 3 hi (by omega) (aj_vi i 4 hi (by omega) ?_))))
  · rw [e, Nat.zero_mul, Nat.add_zero] at H
    exact nm_r (nI_1 i) H
  · rw [e, Nat.one_mul, ← Nat.add_assoc] at H
    exact nm_r (by rw [nI_add, nI_add]) (nm_r (nI_1 i) H)
theorem aj_Fsle (hd : ∀ j, d j ≤ 1) (n : Nat) : aj_s (aj_Fd d) n ≤ n := by
  have h : aj_s (aj_Fd d) n ≤ n * 1 := aj_sle fun i _ => aj_Fle hd i
  omega
theorem aj_yans1 {post : Int32 → Prop} (hd : ∀ j, d j ≤ 1) (hy : ∀ j, j < 256 → yr j = nI (d j)) {N k0 : Nat} (hN : N < 32768) (hF : aj_Fd d N = 1) (hk : aj_s (aj_Fd d) N = k0)
    (h : post (nI (8 * (8 * (8 * (8 * (8 * 0 + aj_vl N 4) + aj_vl N 3) + aj_vl N 2) + aj_vl N 1) + aj_vl N 0))) :
    ∀ k m n, m + k = N → k < n → wY_answer_4 post (nI k0) yr yc ys n (nI (aj_s (aj_Fd d) m)) (nI m) := by
  intro k
  induction k with
  | zero =>
    intro m n hm hk
    obtain ⟨n, rfl⟩ : ∃ m, n = m + 1 := ⟨n - 1, by omega⟩
    have e : m = N := by omega
    subst e
    exact br_f (aj_n32 hN) (aj_iai hd hy hN (fun e => absurd (e.symm.trans hF) (by decide)) (fun _ => br_t (congrArg nI hk) (aj_ycode hN h)))
  | succ k ih =>
    intro m n hm hk
    obtain ⟨n, rfl⟩ : ∃ m, n = m + 1 := ⟨n - 1, by omega⟩
    have i1 := ih (m + 1) n (by omega) (by omega)
    rw [aj_s1] at i1
    refine br_f (aj_n32 (by omega)) (aj_iai hd hy (by omega) (fun e => ?_) (fun e => br_f (fun z => ?_) ?_))
    · rw [e, Nat.add_zero] at i1
      exact nm_r (nI_1 m) i1
    · have l := aj_slt (aj_Fd d) (show m < N by omega) (by omega)
      have l2 := aj_Fsle hd N
      rw [nI_eq (by omega) (by omega)] at z
      omega
    · rw [e] at i1
      exact nm_r (nI_1 _) (nm_r (nI_1 m) i1)
theorem aj_yansY {post : Int32 → Prop} (hd : ∀ j, d j ≤ 1) (hy : ∀ j, j < 256 → yr j = nI (d j)) {N k0 : Nat} (hN : N < 32768) (hF : aj_Fd d N = 1) (hk : aj_s (aj_Fd d) N = k0)
    (h : post (nI (8 * (8 * (8 * (8 * (8 * 0 + aj_vl N 4) + aj_vl N 3) + aj_vl N 2) + aj_vl N 1) + aj_vl N 0))) : wpY_answer post (yr, yc, ys) (nI k0) :=
  ⟨N + 1, aj_yans1 hd hy hN hF hk h N 0 (N + 1) (by omega) (by omega)⟩
theorem aj_yansN {post : Int32 → Prop} (hd : ∀ j, d j ≤ 1) (hy : ∀ j, j < 256 → yr j = nI (d j)) {v1 : Int32} (hv : ∀ m, m < 32768 → aj_Fd d m = 1 → ¬ nI (aj_s (aj_Fd d) m) = v1) (h : post (-4)) : wpY_answer post (yr, yc, ys) v1 := by
  refine aj_l0 (fun n x y => wY_answer_4 post v1 yr yc ys n x y) (aj_Fd d) 32768 (fun n => br_t aj_32 h) (fun n i hi H => br_f (aj_n32 hi) (aj_iai hd hy hi (fun e => ?_) (fun e => br_f (hv i hi e) ?_)))
  · rw [e, Nat.add_zero] at H
    exact nm_r (nI_1 i) H
  · rw [e] at H
    exact nm_r (nI_1 _) (nm_r (nI_1 i) H)
/-! ends: what has been seen before combination n -/
def aj_cn (d : Nat → Nat) (n j : Nat) : Nat := aj_s (fun m => if 8 * aj_vl m 0 + aj_vl m 3 = j then aj_Fd d m else 0) n
def aj_m (d : Nat → Nat) (n j : Nat) : Nat := if 0 < aj_cn d n j then 1 else 0
theorem aj_cn1 (n j : Nat) : aj_cn d (n + 1) j = aj_cn d n j + (if 8 * aj_vl n 0 + aj_vl n 3 = j then aj_Fd d n else 0) := rfl
theorem aj_ms {n : Nat} (h : aj_m d n (8 * aj_vl n 0 + aj_vl n 3) = 1 ∨ aj_Fd d n = 0) (j : Nat) : aj_m d (n + 1) j = aj_m d n j := by
  unfold aj_m at h ⊢
  rw [aj_cn1]
  by_cases e : 8 * aj_vl n 0 + aj_vl n 3 = j
  · rw [if_pos e]
    rw [e] at h
    by_cases f : 0 < aj_cn d n j
    · rw [if_pos f, if_pos (by omega)]
    · rw [if_neg f] at h
      rw [if_neg f, if_neg (by omega)]
  · rw [if_neg e, Nat.add_zero]
theorem aj_mn {n : Nat} (h : aj_m d n (8 * aj_vl n 0 + aj_vl n 3) = 0) (hF : aj_Fd d n = 1) (j : Nat) : aj_m d (n + 1) j = aj_m d n j + (if j = 8 * aj_vl n 0 + aj_vl n 3 then 1 else 0) := by
  unfold aj_m at h ⊢
  rw [aj_cn1]
  by_cases e : 8 * aj_vl n 0 + aj_vl n 3 = j
  · rw [if_pos e, if_pos e.symm]
    rw [e] at h
    by_cases f : 0 < aj_cn d n j
    · rw [if_pos f] at h
      omega
    · rw [if_neg f, if_pos (by omega)]
  · rw [if_neg e, Nat.add_zero, if_neg (c := j = 8 * aj_vl n 0 + aj_vl n 3) (fun z => e z.symm), Nat.add_zero]
theorem aj_ye25 {post : Int32 → SY → Prop} (hd : ∀ j, d j ≤ 1) (hy : ∀ j, j < 256 → yr j = nI (d j)) (h : ∀ ys : Nat → Int32, post (nI (aj_s (aj_m d 32768) 64)) (yr, yc, ys)) :
    ∀ k i n, i + k = 32768 → k < n → ∀ ys : Nat → Int32, (∀ j, j < 64 → ys j = nI (aj_m d i j)) → wY_ends_25 post n (nI (aj_s (aj_m d i) 64)) (nI i) yr yc ys := by
  intro k
  induction k with
  | zero =>
    intro i n hi hk ys g
    obtain ⟨m, rfl⟩ : ∃ m, n = m + 1 := ⟨n - 1, by omega⟩
    have e : i = 32768 := by omega
    rw [e]
    exact br_t aj_32 (h ys)
  | succ k ih =>
    intro i n hik hk ys g
    obtain ⟨m, rfl⟩ : ∃ m, n = m + 1 := ⟨n - 1, by omega⟩
    have hi : i < 32768 := by omega
    have l0 := aj_vl8 i 0
    have l3 := aj_vl8 i 3
    have c : (nI (8 * aj_vl i 0 + aj_vl i 3)).toNatClampNeg = 8 * aj_vl i 0 + aj_vl i 3 := nI_clamp (by omega)
    have S : (aj_m d i (8 * aj_vl i 0 + aj_vl i 3) = 1 ∨ aj_Fd d i = 0) → ∀ x : Int32, x = nI i + 1 → wY_ends_25 post m (nI (aj_s (aj_m d i) 64)) x yr yc ys := by
      intro z
      have i1 := ih (i + 1) m (by omega) (by omega) ys (fun j hj => by rw [aj_ms z]; exact g j hj)
      rw [aj_sc (fun j _ => aj_ms z j)] at i1
      exact nm_r (nI_1 i) i1
    refine br_f (aj_n32 hi) (aj_vi i 0 hi (by omega) (aj_vi i 3 hi (by omega) (nm_r (e' := nI (8 * aj_vl i 0 + aj_vl i 3)) (by rw [show (8 : Int32) = nI 8 from rfl, pk_mul, nI_add]) (And.intro (vp_in_nI (by omega) (by decide)) ?_))))
    rw [c, g _ (by omega)]
    have m01 : aj_m d i (8 * aj_vl i 0 + aj_vl i 3) = 0 ∨ aj_m d i (8 * aj_vl i 0 + aj_vl i 3) = 1 := by
      unfold aj_m
      split
      · exact Or.inr rfl
      · exact Or.inl rfl
    rcases m01 with z | z
    · refine br_t (by rw [z]; rfl) (aj_iai hd hy hi (fun e => S (Or.inr e)) (fun e => And.intro (vp_in_nI (by omega) (by decide)) ?_))
      intro ys' es
      rw [show vp_nar .boolean 1 = 1 from rfl] at es
      have i1 := ih (i + 1) m (by omega) (by omega) ys' (fun j hj => by
        rw [aj_mn z e, es]
        by_cases f : j = 8 * aj_vl i 0 + aj_vl i 3
        · rw [if_pos f, f, pk_us, z]
          rfl
        · rw [if_neg f, pk_un f, Nat.add_zero]
          exact g j hj)
      rw [aj_sc (fun j _ => aj_mn z e j), aj_sadd, aj_spick (fun _ => 1) (8 * aj_vl i 0 + aj_vl i 3) 64 (by omega)] at i1
      exact nm_r (nI_1 _) (nm_r (nI_1 i) i1)
    · exact br_f (by rw [z]; decide) (S (Or.inl z))
theorem aj_ye2 {post : Int32 → SY → Prop} (hJ : ∀ ys : Nat → Int32, (∀ j, j < 64 → ys j = nI 0) → ∃ n, wY_ends_25 post n 0 0 yr yc ys) :
    ∀ k i n, i + k = 64 → k < n → ∀ ys : Nat → Int32, (∀ j, j < i → ys j = nI 0) → wY_ends_2 post n (nI i) yr yc ys := by
  intro k
  induction k with
  | zero =>
    intro i n hi hk ys g
    obtain ⟨m, rfl⟩ : ∃ m, n = m + 1 := ⟨n - 1, by omega⟩
    have e : i = 64 := by omega
    subst e
    exact br_t (nI_le (a := 64) (b := 64) (Nat.le_refl _) (by decide)) (hJ ys g)
  | succ k ih =>
    intro i n hik hk ys g
    obtain ⟨m, rfl⟩ : ∃ m, n = m + 1 := ⟨n - 1, by omega⟩
    refine br_f (nI_ge (b := 64) (by omega) (by decide)) (And.intro (vp_in_nI (by omega) (by decide)) ?_)
    intro ys' es
    rw [show vp_nar .boolean 0 = 0 from rfl, nI_clamp (by omega)] at es
    refine nm_r (nI_1 i) (ih (i + 1) m (by omega) (by omega) ys' fun j hj => ?_)
    rw [es]
    by_cases f : j = i
    · rw [f, pk_us]
      rfl
    · rw [pk_un f]
      exact g j (by omega)
theorem aj_yends {post : Int32 → SY → Prop} (hd : ∀ j, d j ≤ 1) (hy : ∀ j, j < 256 → yr j = nI (d j)) (h : ∀ ys : Nat → Int32, post (nI (aj_s (fun p => aj_s (aj_E d p) 8) 8)) (yr, yc, ys)) : wpY_ends post (yr, yc, ys) := by
  have hs : aj_s (fun p => aj_s (aj_E d p) 8) 8 = aj_s (aj_m d 32768) 64 := by
    rw [show 64 = 8 * 8 from rfl, aj_sblk]
    exact aj_sc fun p _ => aj_sc fun c _ => rfl
  rw [hs] at h
  refine ⟨65, aj_ye2 ?_ 64 0 65 (by omega) (by omega) ys (fun j hj => absurd hj (Nat.not_lt_zero j))⟩
  intro ys g
  have z : ∀ j, aj_m d 0 j = 0 := fun j => if_neg (by show ¬ 0 < 0; omega)
  have k := aj_ye25 hd hy h 32768 0 32769 (by omega) (by omega) ys (fun j hj => by rw [z]; exact g j hj)
  rw [aj_sc (fun j _ => z j), aj_sz] at k
  exact ⟨32769, k⟩
end
end
section
/-! arguments, the relation -/
section
variable {fp fr : Int32} {nx sz dR dT dQ uQ uR : Nat → Int32} {yr yc ys : Nat → Int32} {d : Nat → Nat}
theorem aj_isValue0 {post : Int32 → Prop} {v : Int32} (h : v < 0 ∨ ∃ j, 8 ≤ j ∧ j < 2 ^ 31 ∧ v = nI j) (hp : post 0) : wpY_isValue post (yr, yc, ys) v := by
  rcases h with h | ⟨j, h8, hj, rfl⟩
  · exact br_t h hp
  · exact br_f (nI_pos hj) (br_t (nI_lt (a := 7) (b := j) (by omega) hj) hp)
theorem aj_row (v1 v2 v3 : Int32) : (∃ i a b, i < 4 ∧ a < 8 ∧ b < 8 ∧ v1 = nI i ∧ v2 = nI a ∧ v3 = nI b) ∨
    ((∀ post : Int32 → Prop, post 1 → wpX_badRow post (fp, fr, nx, sz, dR, dT, dQ, uQ, uR) v1 v2 v3) ∧ (∀ post : Int32 → Prop, post 0 → wpY_isRow post (yr, yc, ys) v1 v2 v3)) := by
  by_cases h1 : v1 < 0
  · exact Or.inr ⟨fun _ hp => br_t h1 hp, fun _ hp => br_t h1 hp⟩
  · obtain ⟨i, hi, rfl⟩ := nI_of h1
    by_cases hi4 : i < 4
    · have x1 : ¬ (4 : Int32) ≤ nI i := nI_ge (b := 4) hi4 (by decide)
      have y1 : ¬ (3 : Int32) < nI i := nI_nlt (a := 3) (b := i) (by omega) (by decide)
      by_cases h2 : v2 < 0
      · exact Or.inr ⟨fun _ hp => br_f h1 (br_f x1 (br_t h2 hp)), fun _ hp => br_f h1 (br_f y1 (aj_isValue0 (Or.inl h2) (br_t rfl hp)))⟩
      · obtain ⟨a, ha, rfl⟩ := nI_of h2
        by_cases ha8 : a < 8
        · by_cases h3 : v3 < 0
          · exact Or.inr ⟨fun _ hp => br_f h1 (br_f x1 (br_f h2 (br_f (aj_n8 ha8) (br_t h3 hp)))), fun _ hp => br_f h1 (br_f y1 (aj_isValue ha8 (br_f (by decide) (aj_isValue0 (Or.inl h3) (br_t rfl hp)))))⟩
          · obtain ⟨b, hb, rfl⟩ := nI_of h3
            by_cases hb8 : b < 8
            · exact Or.inl ⟨i, a, b, hi4, ha8, hb8, rfl, rfl, rfl⟩
            · exact Or.inr ⟨fun _ hp => br_f h1 (br_f x1 (br_f h2 (br_f (aj_n8 ha8) (br_f h3 (br_f (nI_nlt (a := b) (b := 8) (by omega) hb) hp))))), fun _ hp => br_f h1 (br_f y1 (aj_isValue ha8 (br_f (by decide) (aj_isValue0 (Or.inr ⟨b, by omega, hb, rfl⟩) (br_t rfl hp)))))⟩
        · exact Or.inr ⟨fun _ hp => br_f h1 (br_f x1 (br_f h2 (br_t (nI_le (a := 8) (b := a) (by omega) ha) hp))), fun _ hp => br_f h1 (br_f y1 (aj_isValue0 (Or.inr ⟨a, by omega, ha, rfl⟩) (br_t rfl hp)))⟩
    · exact Or.inr ⟨fun _ hp => br_f h1 (br_t (nI_le (a := 4) (b := i) (by omega) hi) hp), fun _ hp => br_f h1 (br_t (nI_lt (a := 3) (b := i) (by omega) hi) hp)⟩
theorem aj_cd (v1 : Int32) : (∃ c, c < 32768 ∧ v1 = nI c) ∨ ((∀ post : Int32 → Prop, post 1 → wpX_badCode post (fp, fr, nx, sz, dR, dT, dQ, uQ, uR) v1) ∧ (∀ post : Int32 → Prop, post 0 → wpY_isCode post (yr, yc, ys) v1)) := by
  by_cases h1 : v1 < 0
  · exact Or.inr ⟨fun _ hp => br_t h1 hp, fun _ hp => br_t h1 hp⟩
  · obtain ⟨c, hc, rfl⟩ := nI_of h1
    by_cases h : c < 32768
    · exact Or.inl ⟨c, h, rfl⟩
    · exact Or.inr ⟨fun _ hp => br_f h1 (br_f (nI_ge (a := 32767) (b := c) (by omega) hc) hp), fun _ hp => br_f h1 (br_t (nI_lt (a := 32767) (b := c) (by omega) hc) hp)⟩
theorem aj_xhas {post : Int32 → Prop} (hd : ∀ j, d j ≤ 1) (hn : aj_N d nx) {c : Nat} (hc : c < 32768)
    (h0 : aj_Fd d (8 * (8 * (8 * (8 * (c % 8) + c / 8 % 8) + c / 64 % 8) + c / 512 % 8) + c / 4096) = 0 → post 0)
    (h1 : aj_Fd d (8 * (8 * (8 * (8 * (c % 8) + c / 8 % 8) + c / 64 % 8) + c / 512 % 8) + c / 4096) = 1 → post 1) : wpX_has post (fp, fr, nx, sz, dR, dT, dQ, uQ, uR) (nI c) := by
  have hp : c % 8 < 8 := by omega
  have hq : c / 8 % 8 < 8 := by omega
  have hr : c / 64 % 8 < 8 := by omega
  have hs : c / 512 % 8 < 8 := by omega
  have ht : c / 4096 < 8 := by omega
  unfold aj_Fd at h0 h1
  rw [aj_F5 _ _ _ _ _ hq hr hs ht] at h0 h1
  unfold wpX_has
  refine aj_badCode hc (br_t rfl (nm_r (pk_andN (by omega) 3 aj_m7) (nm_r (aj_shm (by omega) _ 3 aj_s3) (nm_r (aj_shm (by omega) _ 6 aj_s6) (nm_r (aj_shm (by omega) _ 9 aj_s9) (nm_r (pk_shrN (by omega) _ 12 aj_s12) ?_))))))
  refine aj_th hd hn 0 (c % 8) (c / 8 % 8) (by omega) hp hq (fun e => h0 (by rw [e, Nat.zero_mul])) (fun e => ?_)
  rw [e, Nat.one_mul] at h0 h1
  refine aj_th hd hn 1 (c / 8 % 8) (c / 64 % 8) (by omega) hq hr (fun e => h0 (by rw [e, Nat.zero_mul])) (fun e => ?_)
  rw [e, Nat.one_mul] at h0 h1
  refine aj_th hd hn 2 (c / 64 % 8) (c / 512 % 8) (by omega) hr hs (fun e => h0 (by rw [e, Nat.zero_mul])) (fun e => ?_)
  rw [e, Nat.one_mul] at h0 h1
  exact aj_th hd hn 3 (c / 8 % 8) (c / 4096) (by omega) hq ht h0 h1
/-! clear -/
def aj_zap (d : Nat → Nat) (i : Nat) : Nat → Nat := fun j => if 64 * i ≤ j ∧ j < 64 * i + 64 then 0 else d j
theorem aj_x20 {post : Int32 → SX → Prop} {x2 : Int32} {i : Nat} (hi : i < 4)
    (h : ∀ nx' : Nat → Int32, (∀ j, nx' j = if 8 * i ≤ j ∧ j < 8 * i + 8 then 0 else nx j) → post x2 (0, fr, nx', upd sz i 0, dR, dT, dQ, uQ, uR)) :
    ∀ k a n, a + k = 8 → k < n → ∀ nx' : Nat → Int32, (∀ j, nx' j = if 8 * i ≤ j ∧ j < 8 * i + a then 0 else nx j) → wX_clear_20 post (nI i) x2 fp fr n (nI a) nx' sz dR dT dQ uQ uR := by
  intro k
  induction k with
  | zero =>
    intro a n ha hk nx' g
    obtain ⟨m, rfl⟩ : ∃ m, n = m + 1 := ⟨n - 1, by omega⟩
    have e : a = 8 := by omega
    subst e
    exact br_t aj_88 (And.intro (vp_in_nI hi (by decide)) (nm_r (e' := upd sz i 0) (by rw [nI_clamp (by omega)]) (h nx' g)))
  | succ k ih =>
    intro a n hak hk nx' g
    obtain ⟨m, rfl⟩ : ∃ m, n = m + 1 := ⟨n - 1, by omega⟩
    have ha : a < 8 := by omega
    refine br_f (aj_n8 ha) (And.intro (by rw [aj_mul8]; exact vp_in_nI (by omega) (by decide)) ?_)
    intro nx2 e2
    rw [aj_mul8, nI_clamp (by omega)] at e2
    refine nm_r (nI_1 a) (ih (a + 1) m (by omega) (by omega) nx2 fun j => ?_)
    rw [e2]
    by_cases e : j = 8 * i + a
    · rw [e, pk_us, if_pos (by omega)]
    · rw [pk_un e, g j]
      by_cases f : 8 * i ≤ j ∧ j < 8 * i + a
      · rw [if_pos f, if_pos (by omega)]
      · rw [if_neg f, if_neg (by omega)]
theorem aj_y30 {post : Int32 → SY → Prop} {x2 : Int32} {i : Nat} (hi : i < 4)
    (h : ∀ yr' : Nat → Int32, (∀ j, yr' j = if 64 * i ≤ j ∧ j < 64 * i + 64 then 0 else yr j) → post x2 (yr', yc, ys)) :
    ∀ k a n, a + k = 64 → k < n → ∀ yr' : Nat → Int32, (∀ j, yr' j = if 64 * i ≤ j ∧ j < 64 * i + a then 0 else yr j) → wY_clear_30 post (nI i) x2 n (nI (64 * i + a)) yr' yc ys := by
  have e64 : (64 : Int32) * nI i + 64 = nI (64 * i + 64) := by
    rw [show (64 : Int32) = nI 64 from rfl, pk_mul, nI_add]
  intro k
  induction k with
  | zero =>
    intro a n ha hk yr' g
    obtain ⟨m, rfl⟩ : ∃ m, n = m + 1 := ⟨n - 1, by omega⟩
    have e : a = 64 := by omega
    subst e
    exact br_t (by rw [e64]; exact nI_le (Nat.le_refl _) (by omega)) (h yr' g)
  | succ k ih =>
    intro a n hak hk yr' g
    obtain ⟨m, rfl⟩ : ∃ m, n = m + 1 := ⟨n - 1, by omega⟩
    refine br_f (by rw [e64]; exact nI_ge (by omega) (by omega)) (And.intro (vp_in_nI (by omega) (by decide)) ?_)
    intro yr2 e2
    rw [nI_clamp (by omega), show vp_nar .boolean 0 = 0 from rfl] at e2
    refine nm_r (nI_1 (64 * i + a)) (ih (a + 1) m (by omega) (by omega) yr2 fun j => ?_)
    rw [e2]
    by_cases e : j = 64 * i + a
    · rw [e, pk_us, if_pos (by omega)]
    · rw [pk_un e, g j]
      by_cases f : 64 * i ≤ j ∧ j < 64 * i + a
      · rw [if_pos f, if_pos (by omega)]
      · rw [if_neg f, if_neg (by omega)]
end
/-- the relation: one row of zeros and ones for both -/
def i_Rel (_ : Nat) (u : SX) (v : SY) : Prop :=
  match u, v with
  | (fp, _, nx, sz, dR, dT, dQ, uQ, uR), (yr, yc, _) =>
    ∃ d : Nat → Nat, (∀ j, d j ≤ 1) ∧ (∀ j, j < 256 → yr j = nI (d j)) ∧ (∀ i, i < 4 → yc i = sz i) ∧ aj_N d nx ∧ (¬ fp = 0 → aj_P d dR dT dQ uQ uR)
theorem i_up {k : Nat} {u : SX} {v : SY} (h : i_Rel k u v) : i_Rel (k + 4) u v := h
theorem i_vc0 : wpX_init (fun u => wpY_init (fun v => i_Rel 0 u v)) :=
  ⟨fun _ => 0, fun _ => Nat.zero_le 1, fun _ _ => rfl, fun _ _ => rfl, fun j _ b _ => by
    show (bt 0 b).toNat = 0
    rw [b_0]
    rfl, fun h => absurd rfl h⟩
end
section
/-! what is owed: the methods one by one -/
theorem i_vc_put {k : Nat} {u : SX} {v : SY} (I : i_Rel k u v) (hk : k + 4 ≤ 2048) (v1 : Int32) (v2 : Int32) (v3 : Int32) : wpX_put (fun r u' => wpY_put (fun r' v' => r' = r ∧ i_Rel (k + 4) u' v') v v1 v2 v3) u v1 v2 v3 := by
  obtain ⟨fp, fr, nx, sz, dR, dT, dQ, uQ, uR⟩ := u
  obtain ⟨yr, yc, ys⟩ := v
  obtain ⟨d, hd, hy, hz, hn, hp⟩ := I
  rcases aj_row (fp := fp) (fr := fr) (nx := nx) (sz := sz) (dR := dR) (dT := dT) (dQ := dQ) (uQ := uQ) (uR := uR) (yr := yr) (yc := yc) (ys := ys) v1 v2 v3 with ⟨i, a, b, hi, ha, hb, rfl, rfl, rfl⟩ | ⟨bX, bY⟩
  · have er := aj_rdy hy (aj_pl i a b) (by omega)
    have ip : vp_in (64 * nI i + 8 * nI a + nI b) 256 := by
      rw [aj_pl]
      exact vp_in_nI (by omega) (by decide)
    have i4 : vp_in (nI i) 4 := vp_in_nI hi (by decide)
    have ix : vp_in (nI i * 8 + nI a) 32 := by
      rw [aj_mul8]
      exact vp_in_nI (by omega) (by decide)
    have ci : (nI i).toNatClampNeg = i := nI_clamp (by omega)
    unfold wpX_put
    refine aj_badRow hi ha hb (br_t rfl (aj_th hd hn i a b hi ha hb (fun e => And.intro i4 (br_c (fun f => ?_) (fun f => And.intro ix (And.intro ix ?_)))) (fun e => ?_)))
    · unfold wpY_put
      refine aj_isRow hi ha hb (br_f (by decide) (And.intro ip (br_t (er.trans (congrArg nI e)) (And.intro i4 (br_t ?_ ⟨rfl, d, hd, hy, hz, hn, hp⟩)))))
      rw [ci] at f ⊢
      rw [hz i hi]
      exact f
    · intro nx' en
      refine And.intro i4 (And.intro i4 ?_)
      intro sz' es
      refine And.intro i4 ?_
      unfold wpY_put
      refine aj_isRow hi ha hb (br_f (by decide) (And.intro ip (br_t (er.trans (congrArg nI e)) (And.intro i4 (br_f ?_ (And.intro ip ?_))))))
      · rw [ci] at f ⊢
        rw [hz i hi]
        exact f
      · intro yr' ey
        refine And.intro i4 (And.intro i4 ?_)
        intro yc' ec
        refine And.intro i4 ?_
        rw [ci] at es ec ⊢
        rw [aj_mul8, nI_clamp (by omega)] at en
        rw [aj_pl, nI_clamp (by omega), show vp_nar .boolean 1 = 1 from rfl] at ey
        have hs : ∀ j, j < 4 → yc' j = sz' j := by
          intro j hj
          rw [es, ec]
          by_cases g : j = i
          · rw [g, pk_us, pk_us, hz i hi]
          · rw [pk_un g, pk_un g, hz j hj]
        refine ⟨hs i hi, aj_put d (64 * i + 8 * a + b) 1, aj_put1 hd (by omega), fun j hj => ?_, hs, ?_, fun z => absurd rfl z⟩
        · rw [ey]
          unfold aj_put
          by_cases g : j = 64 * i + 8 * a + b
          · rw [if_pos g, g, pk_us]
            rfl
          · rw [if_neg g, pk_un g]
            exact hy j hj
        · rw [en]
          have g := aj_Nset hn (j := 8 * i + a) (b := b) (by omega) hb
          rw [show 8 * (8 * i + a) + b = 64 * i + 8 * a + b by omega] at g
          exact g
    · unfold wpY_put
      exact aj_isRow hi ha hb (br_f (by decide) (And.intro ip (br_f (by rw [er, show d (64 * i + 8 * a + b) = 1 from e]; decide) ⟨rfl, d, hd, hy, hz, hn, hp⟩)))
  · unfold wpX_put
    refine bX _ (br_f (by decide) ?_)
    unfold wpY_put
    exact bY _ (br_t rfl ⟨rfl, d, hd, hy, hz, hn, hp⟩)
theorem i_vc_drop {k : Nat} {u : SX} {v : SY} (I : i_Rel k u v) (hk : k + 4 ≤ 2048) (v1 : Int32) (v2 : Int32) (v3 : Int32) : wpX_drop (fun r u' => wpY_drop (fun r' v' => r' = r ∧ i_Rel (k + 4) u' v') v v1 v2 v3) u v1 v2 v3 := by
  obtain ⟨fp, fr, nx, sz, dR, dT, dQ, uQ, uR⟩ := u
  obtain ⟨yr, yc, ys⟩ := v
  obtain ⟨d, hd, hy, hz, hn, hp⟩ := I
  rcases aj_row (fp := fp) (fr := fr) (nx := nx) (sz := sz) (dR := dR) (dT := dT) (dQ := dQ) (uQ := uQ) (uR := uR) (yr := yr) (yc := yc) (ys := ys) v1 v2 v3 with ⟨i, a, b, hi, ha, hb, rfl, rfl, rfl⟩ | ⟨bX, bY⟩
  · have er := aj_rdy hy (aj_pl i a b) (by omega)
    have ip : vp_in (64 * nI i + 8 * nI a + nI b) 256 := by
      rw [aj_pl]
      exact vp_in_nI (by omega) (by decide)
    have i4 : vp_in (nI i) 4 := vp_in_nI hi (by decide)
    have ix : vp_in (nI i * 8 + nI a) 32 := by
      rw [aj_mul8]
      exact vp_in_nI (by omega) (by decide)
    have ci : (nI i).toNatClampNeg = i := nI_clamp (by omega)
    unfold wpX_drop
    refine aj_badRow hi ha hb (br_t rfl (aj_th hd hn i a b hi ha hb (fun e => ?_) (fun e => And.intro ix (And.intro ix ?_))))
    · unfold wpY_drop
      exact aj_isRow hi ha hb (br_f (by decide) (And.intro ip (br_t (er.trans (congrArg nI e)) ⟨rfl, d, hd, hy, hz, hn, hp⟩)))
    · intro nx' en
      refine And.intro i4 (And.intro i4 ?_)
      intro sz' es
      refine And.intro i4 ?_
      unfold wpY_drop
      refine aj_isRow hi ha hb (br_f (by decide) (And.intro ip (br_f (by rw [er, show d (64 * i + 8 * a + b) = 1 from e]; decide) (And.intro ip ?_))))
      intro yr' ey
      refine And.intro i4 (And.intro i4 ?_)
      intro yc' ec
      refine And.intro i4 ?_
      rw [ci] at es ec ⊢
      rw [aj_mul8, nI_clamp (by omega)] at en
      rw [aj_pl, nI_clamp (by omega), show vp_nar .boolean 0 = 0 from rfl] at ey
      have hs : ∀ j, j < 4 → yc' j = sz' j := by
        intro j hj
        rw [es, ec]
        by_cases g : j = i
        · rw [g, pk_us, pk_us, hz i hi]
        · rw [pk_un g, pk_un g, hz j hj]
      refine ⟨hs i hi, aj_put d (64 * i + 8 * a + b) 0, aj_put1 hd (by omega), fun j hj => ?_, hs, ?_, fun z => absurd rfl z⟩
      · rw [ey]
        unfold aj_put
        by_cases g : j = 64 * i + 8 * a + b
        · rw [if_pos g, g, pk_us]
          rfl
        · rw [if_neg g, pk_un g]
          exact hy j hj
      · rw [en]
        have g := aj_Nclr hn (j := 8 * i + a) (b := b) (by omega) hb
        rw [show 8 * (8 * i + a) + b = 64 * i + 8 * a + b by omega] at g
        exact g
  · unfold wpX_drop
    refine bX _ (br_f (by decide) ?_)
    unfold wpY_drop
    exact bY _ (br_t rfl ⟨rfl, d, hd, hy, hz, hn, hp⟩)
theorem i_vc_clear {k : Nat} {u : SX} {v : SY} (I : i_Rel k u v) (hk : k + 4 ≤ 2048) (v1 : Int32) : wpX_clear (fun r u' => wpY_clear (fun r' v' => r' = r ∧ i_Rel (k + 4) u' v') v v1) u v1 := by
  obtain ⟨fp, fr, nx, sz, dR, dT, dQ, uQ, uR⟩ := u
  obtain ⟨yr, yc, ys⟩ := v
  obtain ⟨d, hd, hy, hz, hn, hp⟩ := I
  by_cases h1 : v1 < 0
  · exact br_t h1 (br_t h1 ⟨rfl, d, hd, hy, hz, hn, hp⟩)
  · obtain ⟨i, hi, rfl⟩ := nI_of h1
    by_cases hi4 : i < 4
    · have i4 : vp_in (nI i) 4 := vp_in_nI hi4 (by decide)
      have ci : (nI i).toNatClampNeg = i := nI_clamp (by omega)
      refine br_f h1 (br_t (nI_lt (b := 4) hi4 (by decide)) (And.intro i4 ?_))
      intro x2 ex
      refine ⟨9, aj_x20 hi4 ?_ 8 0 9 (by omega) (by omega) nx (fun j => by rw [if_neg (by omega)])⟩
      intro nx' en
      refine br_f h1 (br_t (nI_le (b := 3) (by omega) (by decide)) (And.intro i4 ?_))
      intro y2 ey
      refine And.intro i4 ?_
      intro yc' ec
      refine nm_r (e' := nI (64 * i + 0)) (pk_mul 64 i) ?_
      refine ⟨65, aj_y30 hi4 ?_ 64 0 65 (by omega) (by omega) yr (fun j => by rw [if_neg (by omega)])⟩
      intro yr' er
      rw [ci] at ex ey ec
      refine ⟨by rw [ex, ey, hz i hi4], aj_zap d i, fun j => ?_, fun j hj => ?_, fun j hj => ?_, fun j hj b hb => ?_, fun z => absurd rfl z⟩
      · unfold aj_zap
        split
        · omega
        · exact hd j
      · rw [er j]
        unfold aj_zap
        split
        · rfl
        · exact hy j hj
      · rw [ec]
        by_cases g : j = i
        · rw [g, pk_us, pk_us]
        · rw [pk_un g, pk_un g, hz j hj]
      · rw [en j]
        unfold aj_zap
        by_cases g : 8 * i ≤ j ∧ j < 8 * i + 8
        · rw [if_pos g, if_pos (by omega), b_0]
          rfl
        · rw [if_neg g, if_neg (by omega)]
          exact hn j hj b hb
    · exact br_f h1 (br_f (nI_nlt (a := i) (b := 4) (by omega) hi) (br_f h1 (br_f (nI_ge (a := 3) (b := i) (by omega) hi) ⟨rfl, d, hd, hy, hz, hn, hp⟩)))
theorem i_vc_rows {k : Nat} {u : SX} {v : SY} (I : i_Rel k u v) (hk : k + 4 ≤ 2048) (v1 : Int32) : wpX_rows (fun r => wpY_rows (fun r' => r' = r ∧ i_Rel (k + 4) u v) v v1) u v1 := by
  obtain ⟨fp, fr, nx, sz, dR, dT, dQ, uQ, uR⟩ := u
  obtain ⟨yr, yc, ys⟩ := v
  have J := I
  obtain ⟨d, hd, hy, hz, hn, hp⟩ := I
  by_cases h1 : v1 < 0
  · exact br_t h1 (br_t h1 ⟨rfl, J⟩)
  · obtain ⟨i, hi, rfl⟩ := nI_of h1
    by_cases hi4 : i < 4
    · have i4 : vp_in (nI i) 4 := vp_in_nI hi4 (by decide)
      refine br_f h1 (br_t (nI_lt (b := 4) hi4 (by decide)) (And.intro i4 (br_f h1 (br_t (nI_le (b := 3) (by omega) (by decide)) (And.intro i4 ⟨?_, J⟩)))))
      rw [nI_clamp (by omega)]
      exact hz i hi4
    · exact br_f h1 (br_f (nI_nlt (a := i) (b := 4) (by omega) hi) (br_f h1 (br_f (nI_ge (a := 3) (b := i) (by omega) hi) ⟨rfl, J⟩)))
end
section
/-! what is owed: the methods that pass -/
theorem i_vc_count {k : Nat} {u : SX} {v : SY} (I : i_Rel k u v) (hk : k + 4 ≤ 2048) : wpX_count (fun r u' => wpY_count (fun r' => r' = r ∧ i_Rel (k + 4) u' v) v) u := by
  obtain ⟨fp, fr, nx, sz, dR, dT, dQ, uQ, uR⟩ := u
  obtain ⟨yr, yc, ys⟩ := v
  obtain ⟨d, hd, hy, hz, hn, hp⟩ := I
  refine aj_count hd hn hp ?_
  intro fp dR dT dQ uQ uR hP
  exact aj_ycount hd hy ⟨rfl, d, hd, hy, hz, hn, fun _ => hP⟩
theorem i_vc_answer {k : Nat} {u : SX} {v : SY} (I : i_Rel k u v) (hk : k + 4 ≤ 2048) (v1 : Int32) : wpX_answer (fun r u' => wpY_answer (fun r' => r' = r ∧ i_Rel (k + 4) u' v) v v1) u v1 := by
  obtain ⟨fp, fr, nx, sz, dR, dT, dQ, uQ, uR⟩ := u
  obtain ⟨yr, yc, ys⟩ := v
  obtain ⟨d, hd, hy, hz, hn, hp⟩ := I
  unfold wpX_answer
  refine aj_count hd hn hp ?_
  intro fp dR dT dQ uQ uR hP
  have tl := aj_Fsle hd 32768
  by_cases h1 : v1 < 0
  · refine br_t h1 (aj_yansN hd hy (fun m hm _ z => ?_) ⟨rfl, d, hd, hy, hz, hn, fun _ => hP⟩)
    have l := aj_Fsle hd m
    rw [← z] at h1
    exact nI_pos (by omega) h1
  · obtain ⟨k0, hk0, rfl⟩ := nI_of h1
    by_cases hlt : k0 < aj_s (aj_Fd d) 32768
    · refine br_f h1 (br_t (nI_lt hlt (by omega)) ⟨10, aj_a31 hd hn hP hlt hk0 ?_ 8 0 10 (by omega) (by omega) (Nat.zero_le _) 0⟩)
      intro p q r s t fr hp8 hq hr hs ht hF hk
      refine aj_yansY hd hy (by omega) hF hk ⟨congrArg nI ?_, d, hd, hy, hz, hn, fun _ => hP⟩
      have v0 : aj_vl (8 * (8 * (8 * (8 * p + q) + r) + s) + t) 0 = p := by
        show (8 * (8 * (8 * (8 * p + q) + r) + s) + t) / 4096 % 8 = p
        omega
      have v1 : aj_vl (8 * (8 * (8 * (8 * p + q) + r) + s) + t) 1 = q := by
        show (8 * (8 * (8 * (8 * p + q) + r) + s) + t) / 512 % 8 = q
        omega
      have v2 : aj_vl (8 * (8 * (8 * (8 * p + q) + r) + s) + t) 2 = r := by
        show (8 * (8 * (8 * (8 * p + q) + r) + s) + t) / 64 % 8 = r
        omega
      have v3 : aj_vl (8 * (8 * (8 * (8 * p + q) + r) + s) + t) 3 = s := by
        show (8 * (8 * (8 * (8 * p + q) + r) + s) + t) / 8 % 8 = s
        omega
      have v4 : aj_vl (8 * (8 * (8 * (8 * p + q) + r) + s) + t) 4 = t := by
        show (8 * (8 * (8 * (8 * p + q) + r) + s) + t) / 1 % 8 = t
        omega
      rw [v0, v1, v2, v3, v4]
      omega
    · refine br_f h1 (br_f (nI_nlt (by omega) hk0) (aj_yansN hd hy (fun m hm e z => ?_) ⟨rfl, d, hd, hy, hz, hn, fun _ => hP⟩))
      have l := aj_slt (aj_Fd d) hm (by omega)
      rw [nI_eq (by omega) hk0] at z
      omega
theorem i_vc_has {k : Nat} {u : SX} {v : SY} (I : i_Rel k u v) (hk : k + 4 ≤ 2048) (v1 : Int32) : wpX_has (fun r => wpY_has (fun r' => r' = r ∧ i_Rel (k + 4) u v) v v1) u v1 := by
  obtain ⟨fp, fr, nx, sz, dR, dT, dQ, uQ, uR⟩ := u
  obtain ⟨yr, yc, ys⟩ := v
  have J := I
  obtain ⟨d, hd, hy, hz, hn, hp⟩ := I
  rcases aj_cd (fp := fp) (fr := fr) (nx := nx) (sz := sz) (dR := dR) (dT := dT) (dQ := dQ) (uQ := uQ) (uR := uR) (yr := yr) (yc := yc) (ys := ys) v1 with ⟨c, hc, rfl⟩ | ⟨bX, bY⟩
  · refine aj_xhas hd hn hc (fun e => ?_) (fun e => ?_)
    · unfold wpY_has
      exact aj_isCode hc (br_f (by decide) (aj_ynumber hc (aj_ia hd hy (by omega) (fun _ => And.intro rfl ⟨rfl, J⟩) (fun f => absurd (e.symm.trans f) (by decide)))))
    · unfold wpY_has
      exact aj_isCode hc (br_f (by decide) (aj_ynumber hc (aj_ia hd hy (by omega) (fun f => absurd (f.symm.trans e) (by decide)) (fun _ => And.intro rfl ⟨rfl, J⟩))))
  · unfold wpX_has
    refine bX _ (br_f (by decide) ?_)
    unfold wpY_has
    exact bY _ (br_t rfl ⟨rfl, J⟩)
theorem i_vc_rank {k : Nat} {u : SX} {v : SY} (I : i_Rel k u v) (hk : k + 4 ≤ 2048) (v1 : Int32) : wpX_rank (fun r u' => wpY_rank (fun r' => r' = r ∧ i_Rel (k + 4) u' v) v v1) u v1 := by
  obtain ⟨fp, fr, nx, sz, dR, dT, dQ, uQ, uR⟩ := u
  obtain ⟨yr, yc, ys⟩ := v
  obtain ⟨d, hd, hy, hz, hn, hp⟩ := I
  rcases aj_cd (fp := fp) (fr := fr) (nx := nx) (sz := sz) (dR := dR) (dT := dT) (dQ := dQ) (uQ := uQ) (uR := uR) (yr := yr) (yc := yc) (ys := ys) v1 with ⟨c, hc, rfl⟩ | ⟨bX, bY⟩
  · unfold wpX_rank
    refine aj_badCode hc (br_t rfl (aj_pass hd hn hp ?_))
    intro fp dR dT dQ uQ uR hP
    refine nm_r (pk_andN (by omega) 3 aj_m7) (nm_r (aj_shm (by omega) _ 3 aj_s3) (nm_r (aj_shm (by omega) _ 6 aj_s6) (nm_r (aj_shm (by omega) _ 9 aj_s9) (nm_r (pk_shrN (by omega) _ 12 aj_s12) ?_))))
    refine aj_xrank (p := c % 8) (q := c / 8 % 8) (r := c / 64 % 8) (s := c / 512 % 8) (t := c / 4096) hd hn hP (by omega) (by omega) (by omega) (by omega) (by omega) ?_
    unfold wpY_rank
    exact aj_isCode hc (br_f (by decide) (aj_ynumber hc (aj_yrank hd hy (by omega) ⟨rfl, d, hd, hy, hz, hn, fun _ => hP⟩)))
  · unfold wpX_rank
    refine bX _ (br_f (by decide) ?_)
    unfold wpY_rank
    exact bY _ (br_t rfl ⟨rfl, d, hd, hy, hz, hn, hp⟩)
theorem i_vc_useful {k : Nat} {u : SX} {v : SY} (I : i_Rel k u v) (hk : k + 4 ≤ 2048) (v1 : Int32) : wpX_useful (fun r u' => wpY_useful (fun r' => r' = r ∧ i_Rel (k + 4) u' v) v v1) u v1 := by
  obtain ⟨fp, fr, nx, sz, dR, dT, dQ, uQ, uR⟩ := u
  obtain ⟨yr, yc, ys⟩ := v
  obtain ⟨d, hd, hy, hz, hn, hp⟩ := I
  by_cases h1 : v1 < 0
  · exact br_t h1 (br_t h1 ⟨rfl, d, hd, hy, hz, hn, hp⟩)
  · obtain ⟨i, hi, rfl⟩ := nI_of h1
    by_cases hi4 : i < 4
    · refine br_f h1 (br_t (nI_lt (b := 4) hi4 (by decide)) (aj_pass hd hn hp ?_))
      intro fp dR dT dQ uQ uR hP
      refine aj_xuse hd hn hP hi4 ?_
      exact br_f h1 (br_t (nI_le (b := 3) (by omega) (by decide)) (nm_r (pk_mul 64 i) (aj_yuse hd hy hi4 ⟨rfl, d, hd, hy, hz, hn, fun _ => hP⟩)))
    · exact br_f h1 (br_f (nI_nlt (a := i) (b := 4) (by omega) hi) (br_f h1 (br_f (nI_ge (a := 3) (b := i) (by omega) hi) ⟨rfl, d, hd, hy, hz, hn, hp⟩)))
theorem i_vc_weight {k : Nat} {u : SX} {v : SY} (I : i_Rel k u v) (hk : k + 4 ≤ 2048) (v1 : Int32) (v2 : Int32) (v3 : Int32) : wpX_weight (fun r u' => wpY_weight (fun r' => r' = r ∧ i_Rel (k + 4) u' v) v v1 v2 v3) u v1 v2 v3 := by
  obtain ⟨fp, fr, nx, sz, dR, dT, dQ, uQ, uR⟩ := u
  obtain ⟨yr, yc, ys⟩ := v
  obtain ⟨d, hd, hy, hz, hn, hp⟩ := I
  rcases aj_row (fp := fp) (fr := fr) (nx := nx) (sz := sz) (dR := dR) (dT := dT) (dQ := dQ) (uQ := uQ) (uR := uR) (yr := yr) (yc := yc) (ys := ys) v1 v2 v3 with ⟨i, a, b, hi, ha, hb, rfl, rfl, rfl⟩ | ⟨bX, bY⟩
  · unfold wpX_weight
    refine aj_badRow hi ha hb (br_t rfl (aj_th hd hn i a b hi ha hb (fun e => ?_) (fun e => aj_pass hd hn hp ?_)))
    · unfold wpY_weight
      refine aj_isRow hi ha hb (br_f (by decide) ?_)
      rw [aj_pl]
      refine aj_ycw hd hy hi ha hb ⟨?_, d, hd, hy, hz, hn, hp⟩
      rw [e, Nat.zero_mul]
      rfl
    · intro fp dR dT dQ uQ uR hP
      refine aj_share hP i a b hi ha hb ?_
      unfold wpY_weight
      refine aj_isRow hi ha hb (br_f (by decide) ?_)
      rw [aj_pl]
      refine aj_ycw hd hy hi ha hb ⟨?_, d, hd, hy, hz, hn, fun _ => hP⟩
      rw [e, Nat.one_mul]
  · unfold wpX_weight
    refine bX _ (br_f (by decide) ?_)
    unfold wpY_weight
    exact bY _ (br_t rfl ⟨rfl, d, hd, hy, hz, hn, hp⟩)
theorem i_vc_gain {k : Nat} {u : SX} {v : SY} (I : i_Rel k u v) (hk : k + 4 ≤ 2048) (v1 : Int32) (v2 : Int32) (v3 : Int32) : wpX_gain (fun r u' => wpY_gain (fun r' v' => r' = r ∧ i_Rel (k + 4) u' v') v v1 v2 v3) u v1 v2 v3 := by
  obtain ⟨fp, fr, nx, sz, dR, dT, dQ, uQ, uR⟩ := u
  obtain ⟨yr, yc, ys⟩ := v
  obtain ⟨d, hd, hy, hz, hn, hp⟩ := I
  rcases aj_row (fp := fp) (fr := fr) (nx := nx) (sz := sz) (dR := dR) (dT := dT) (dQ := dQ) (uQ := uQ) (uR := uR) (yr := yr) (yc := yc) (ys := ys) v1 v2 v3 with ⟨i, a, b, hi, ha, hb, rfl, rfl, rfl⟩ | ⟨bX, bY⟩
  · have ip : vp_in (nI (64 * i + 8 * a + b)) 256 := vp_in_nI (by omega) (by decide)
    have er : yr (nI (64 * i + 8 * a + b)).toNatClampNeg = nI (aj_T d i a b) := aj_rdy hy rfl (by omega)
    have ci : (nI (64 * i + 8 * a + b)).toNatClampNeg = 64 * i + 8 * a + b := nI_clamp (by omega)
    unfold wpX_gain
    refine aj_badRow hi ha hb (br_t rfl (aj_th hd hn i a b hi ha hb (fun e => aj_pass hd hn hp ?_) (fun e => ?_)))
    · intro fp dR dT dQ uQ uR hP
      refine aj_share hP i a b hi ha hb ?_
      unfold wpY_gain
      refine aj_isRow hi ha hb (br_f (by decide) (nm_r (aj_pl i a b) (And.intro ip (br_t (by rw [er, e]; rfl) (And.intro ip ?_)))))
      intro yr' ey
      rw [ci, show vp_nar .boolean 1 = 1 from rfl] at ey
      have hy' : ∀ j, j < 256 → yr' j = nI (aj_put d (64 * i + 8 * a + b) 1 j) := by
        intro j hj
        rw [ey]
        unfold aj_put
        by_cases g : j = 64 * i + 8 * a + b
        · rw [if_pos g, g, pk_us]
          rfl
        · rw [if_neg g, pk_un g]
          exact hy j hj
      refine aj_ycw (aj_put1 hd (by omega)) hy' hi ha hb (And.intro ip ?_)
      intro yr2 ey2
      rw [ci, show vp_nar .boolean 0 = 0 from rfl] at ey2
      have e1 : aj_T (aj_put d (64 * i + 8 * a + b) 1) i a b = 1 := if_pos rfl
      have e2 : aj_sh (aj_put d (64 * i + 8 * a + b) 1) i a b = aj_sh d i a b := aj_shc ha hb fun j hj => if_neg (by omega)
      refine ⟨by rw [e1, e2, Nat.one_mul], d, hd, fun j hj => ?_, hz, hn, fun _ => hP⟩
      rw [ey2, ey]
      by_cases g : j = 64 * i + 8 * a + b
      · rw [g, pk_us, show d (64 * i + 8 * a + b) = 0 from e]
        rfl
      · rw [pk_un g, pk_un g]
        exact hy j hj
    · unfold wpY_gain
      exact aj_isRow hi ha hb (br_f (by decide) (nm_r (aj_pl i a b) (And.intro ip (br_f (by rw [er, e]; decide) ⟨rfl, d, hd, hy, hz, hn, hp⟩))))
  · unfold wpX_gain
    refine bX _ (br_f (by decide) ?_)
    unfold wpY_gain
    exact bY _ (br_t rfl ⟨rfl, d, hd, hy, hz, hn, hp⟩)
theorem i_vc_values {k : Nat} {u : SX} {v : SY} (I : i_Rel k u v) (hk : k + 4 ≤ 2048) (v1 : Int32) : wpX_values (fun r u' => wpY_values (fun r' => r' = r ∧ i_Rel (k + 4) u' v) v v1) u v1 := by
  obtain ⟨fp, fr, nx, sz, dR, dT, dQ, uQ, uR⟩ := u
  obtain ⟨yr, yc, ys⟩ := v
  obtain ⟨d, hd, hy, hz, hn, hp⟩ := I
  by_cases h1 : v1 < 0
  · exact br_t h1 (br_t h1 ⟨rfl, d, hd, hy, hz, hn, hp⟩)
  · obtain ⟨c, hc, rfl⟩ := nI_of h1
    by_cases hc5 : c < 5
    · have l : nI c ≤ (4 : Int32) := nI_le (b := 4) (by omega) (by decide)
      refine br_f h1 (br_t l (aj_pass hd hn hp ?_))
      intro fp dR dT dQ uQ uR hP
      refine aj_xval hd hn hP hc5 ?_
      exact br_f h1 (br_t l (aj_yval hd hy hc5 ⟨rfl, d, hd, hy, hz, hn, fun _ => hP⟩))
    · have l : ¬ nI c ≤ (4 : Int32) := nI_ge (a := 4) (b := c) (by omega) hc
      exact br_f h1 (br_f l (br_f h1 (br_f l ⟨rfl, d, hd, hy, hz, hn, hp⟩)))
theorem i_vc_with {k : Nat} {u : SX} {v : SY} (I : i_Rel k u v) (hk : k + 4 ≤ 2048) (v1 : Int32) (v2 : Int32) : wpX_with (fun r u' => wpY_with (fun r' => r' = r ∧ i_Rel (k + 4) u' v) v v1 v2) u v1 v2 := by
  obtain ⟨fp, fr, nx, sz, dR, dT, dQ, uQ, uR⟩ := u
  obtain ⟨yr, yc, ys⟩ := v
  obtain ⟨d, hd, hy, hz, hn, hp⟩ := I
  by_cases h1 : v1 < 0
  · exact br_t h1 (br_t h1 ⟨rfl, d, hd, hy, hz, hn, hp⟩)
  · obtain ⟨c, hc, rfl⟩ := nI_of h1
    by_cases hc5 : c < 5
    · have l : ¬ (4 : Int32) < nI c := nI_nlt (a := 4) (b := c) (by omega) (by decide)
      by_cases h2 : v2 < 0
      · exact br_f h1 (br_f l (br_t h2 (br_f h1 (br_f l (aj_isValue0 (Or.inl h2) (br_t rfl ⟨rfl, d, hd, hy, hz, hn, hp⟩))))))
      · obtain ⟨w, hw, rfl⟩ := nI_of h2
        by_cases hw8 : w < 8
        · refine br_f h1 (br_f l (br_f h2 (br_t (nI_lt (b := 8) hw8 (by decide)) (aj_pass hd hn hp ?_))))
          intro fp dR dT dQ uQ uR hP
          refine aj_inc hd hn hP hc5 hw8 ?_
          exact br_f h1 (br_f l (aj_isValue hw8 (br_f (by decide) (aj_ycv hd hy hc5 hw8 ⟨rfl, d, hd, hy, hz, hn, fun _ => hP⟩))))
        · exact br_f h1 (br_f l (br_f h2 (br_f (nI_nlt (a := w) (b := 8) (by omega) hw) (br_f h1 (br_f l (aj_isValue0 (Or.inr ⟨w, by omega, hw, rfl⟩) (br_t rfl ⟨rfl, d, hd, hy, hz, hn, hp⟩)))))))
    · have l : (4 : Int32) < nI c := nI_lt (a := 4) (b := c) (by omega) hc
      exact br_f h1 (br_t l (br_f h1 (br_t l ⟨rfl, d, hd, hy, hz, hn, hp⟩)))
theorem i_vc_ends {k : Nat} {u : SX} {v : SY} (I : i_Rel k u v) (hk : k + 4 ≤ 2048) : wpX_ends (fun r u' => wpY_ends (fun r' v' => r' = r ∧ i_Rel (k + 4) u' v') v) u := by
  obtain ⟨fp, fr, nx, sz, dR, dT, dQ, uQ, uR⟩ := u
  obtain ⟨yr, yc, ys⟩ := v
  obtain ⟨d, hd, hy, hz, hn, hp⟩ := I
  unfold wpX_ends
  refine aj_pass hd hn hp ?_
  intro fp dR dT dQ uQ uR hP
  refine aj_xends hd hn hP ?_
  exact aj_yends hd hy (fun _ => ⟨rfl, d, hd, hy, hz, hn, fun _ => hP⟩)
theorem i_vc_sum {k : Nat} {u : SX} {v : SY} (I : i_Rel k u v) (hk : k + 4 ≤ 2048) : wpX_sum (fun r u' => wpY_sum (fun r' => r' = r ∧ i_Rel (k + 4) u' v) v) u := by
  obtain ⟨fp, fr, nx, sz, dR, dT, dQ, uQ, uR⟩ := u
  obtain ⟨yr, yc, ys⟩ := v
  obtain ⟨d, hd, hy, hz, hn, hp⟩ := I
  unfold wpX_sum
  refine aj_pass hd hn hp ?_
  intro fp dR dT dQ uQ uR hP
  refine aj_xsum hd hn hP ?_
  exact aj_ysum hd hy ⟨rfl, d, hd, hy, hz, hn, fun _ => hP⟩
end
