section
/-! part 01: numbers, bits, the packed row (pasted of BITS.to-paste: s_l wb_tb wb_inj wb_c wb_sm wb_shl u_tn g_or g_or' pf_lI pf_shr, renamed rs_..) -/
theorem rs_b8 : ∀ v, v < 128 → (nI v).toInt8.toInt32 = nI v := by decide +kernel
theorem rs_nar {v : Nat} (h : v < 128) : vp_nar .byte (nI v) = nI v := by rw [vp_nar_byte, rs_b8 v h]
theorem rs_sl : ∀ n, n < 32 → ((nI n &&& 31).toBitVec.smod 32).toNat = n := by decide +kernel
theorem rs_sL : ∀ k, k < 64 → (((nI k).toInt64 &&& 63).toBitVec.smod 64).toNat = k := by decide +kernel
theorem rs_tb (n : Nat) : (lN n).toBitVec = BitVec.ofNat 64 n := rfl
theorem rs_inj {a b : Int64} (h : a.toBitVec = b.toBitVec) : a = b := Int64.toBitVec_inj.mp h
theorem rs_c : ∀ k, k < 64 → ((nI k).toInt64 &&& 63) = lN k := by decide +kernel
theorem rs_sm : ∀ k, k < 64 → (BitVec.ofNat 64 k).smod 64 = BitVec.ofNat 64 k := by decide +kernel
theorem rs_shl (n : Nat) {k : Nat} (hk : k < 64) : lN n <<< ((nI k).toInt64 &&& 63) = lN (n * 2 ^ k) := by
  rw [rs_c k hk]
  apply rs_inj
  rw [Int64.toBitVec_shiftLeft, rs_tb, rs_tb, rs_tb, rs_sm k hk]
  apply BitVec.eq_of_toNat_eq
  rw [BitVec.shiftLeft_eq', BitVec.toNat_shiftLeft, BitVec.toNat_ofNat, BitVec.toNat_ofNat, BitVec.toNat_ofNat, Nat.mod_eq_of_lt (show k < 2 ^ 64 by omega), Nat.shiftLeft_eq, Nat.mul_mod, Nat.mod_mod, ← Nat.mul_mod]
theorem rs_utn {n : Nat} (h : n < 2 ^ 64) : (UInt64.ofNat n).toNat = n := Nat.mod_eq_of_lt h
theorem rs_lor {k p a b : Nat} (hp : 2 ^ k = p) (ha : a < p) (h : b * p + a < 2 ^ 64) : lN (b * p) ||| lN a = lN (b * p + a) := by
  subst hp
  have h1 : b * 2 ^ k ||| a = b * 2 ^ k + a := by rw [← Nat.shiftLeft_eq, Nat.shiftLeft_add_eq_or_of_lt ha]
  have h3 : UInt64.ofNat (b * 2 ^ k) ||| UInt64.ofNat a = UInt64.ofNat (b * 2 ^ k + a) := UInt64.toNat_inj.mp (by rw [UInt64.toNat_or, rs_utn (by omega), rs_utn (by omega), rs_utn h, h1])
  have h2 := congrArg UInt64.toInt64 h3
  exact h2
theorem rs_lor' {k p a b : Nat} (hp : 2 ^ k = p) (ha : a < p) (h : a + b * p < 2 ^ 64) : lN a ||| lN (b * p) = lN (a + b * p) := by
  rw [Int64.or_comm, rs_lor hp ha (by omega), Nat.add_comm]
theorem rs_lI {a : Nat} (h : a < 2 ^ 63) : (lN a).toInt = (a : Int) := lg_ofNat_toInt h
theorem rs_lshr {a d : Nat} {D : Int64} (hD : (D.toBitVec.smod 64).toNat = d) (h : a < 2 ^ 62) : lN a >>> D = lN (a / 2 ^ d) := by
  have hd : a / 2 ^ d ≤ a := Nat.div_le_self _ _
  apply Int64.toInt_inj.mp
  have e : (lN a >>> D).toInt = (lN a).toInt >>> d := by
    rw [← hD]
    exact BitVec.toInt_sshiftRight ..
  rw [e, Int.shiftRight_eq_div_pow, rs_lI (by omega), rs_lI (by omega)]
  rfl
/-! ints -/
theorem rs_and3 (q : Nat) : nI q &&& 3 = nI (q % 4) := by
  rw [pk_and (nI q) 2 (by decide)]
  have e : (nI q).toBitVec.toNat = q % 2 ^ 32 := rfl
  rw [e]
  exact congrArg nI (by omega)
theorem rs_or (a b : Nat) : nI a ||| nI b = nI (a ||| b) := by
  apply Int32.toBitVec_inj.1
  show BitVec.ofNat 32 a ||| BitVec.ofNat 32 b = BitVec.ofNat 32 (a ||| b)
  apply BitVec.eq_of_getLsbD_eq
  intro i hi
  simp [hi]
theorem rs_nm1 {p : Nat} (h : p < 2 ^ 31) : ¬ nI p = -1 := by
  intro e
  have h2 := nI_pos h
  rw [e] at h2
  exact h2 (by decide)
theorem rs_bit {d j : Nat} (hd : d < 2 ^ 31) (hj : j < 32) : ((nI d >>> (nI j &&& 31)) &&& 1) = 0 ↔ d.testBit j = false := by
  have h2 : d / 2 ^ j ≤ d := Nat.div_le_self _ _
  rw [pk_shrN hd _ j (rs_sl j hj), pk_andN (by omega) 1 (by decide), ← nI_0, nI_eq (by omega) (by omega), Nat.testBit_eq_decide_div_mod_eq, decide_eq_false_iff_not]
  generalize d / 2 ^ j = z
  omega
theorem rs_one {i : Nat} (h : i < 31) : (1 : Int32) <<< (nI i &&& 31) = nI (2 ^ i) := by
  have h1 : 2 ^ i < 2 ^ 32 := Nat.pow_lt_pow_right (by decide) (by omega)
  have e : nI 1 <<< (nI i &&& 31) = nI (1 * 2 ^ i) := pk_shlN _ i (rs_sl i (by omega)) (by omega)
  rw [Nat.one_mul] at e
  exact e
theorem rs_setbit (d : Nat) {i : Nat} (h : i < 31) : nI d ||| ((1 : Int32) <<< (nI i &&& 31)) = nI (d ||| 2 ^ i) := by
  rw [rs_one h, rs_or]
theorem rs_full {n : Nat} (h : n < 31) : ((1 : Int32) <<< (nI n &&& 31)) - 1 = nI (2 ^ n - 1) := by
  rw [rs_one h]
  exact pk_sub (b := 1) (Nat.one_le_two_pow)
theorem rs_all {d n : Nat} (hd : d < 2 ^ n) : d = 2 ^ n - 1 ↔ ∀ i, i < n → d.testBit i = true := by
  constructor
  · intro e i hi
    rw [e, Nat.testBit_two_pow_sub_one, decide_eq_true hi]
  · intro h
    apply Nat.eq_of_testBit_eq
    intro i
    rw [Nat.testBit_two_pow_sub_one]
    by_cases hi : i < n
    · rw [h i hi, decide_eq_true hi]
    · rw [decide_eq_false hi]
      exact Nat.testBit_lt_two_pow (Nat.lt_of_lt_of_le hd (Nat.pow_le_pow_right (by decide) (by omega)))
theorem rs_orlt {d n i : Nat} (hd : d < 2 ^ n) (hi : i < n) : d ||| 2 ^ i < 2 ^ n :=
  Nat.or_lt_two_pow hd (Nat.pow_lt_pow_right (by decide) hi)
theorem rs_ortb (d i j : Nat) : (d ||| 2 ^ i).testBit j = (d.testBit j || decide (i = j)) := by
  rw [Nat.testBit_or, Nat.testBit_two_pow]
/-! the tokens -/
theorem rs_tk : ∀ r, r < 4 → ∀ s, s < 4 → r ≠ s → (nI (1 + r + 4 * s) ≤ 16 ∧ ¬ nI (1 + r + 4 * s) = 0 ∧ ¬ nI (1 + r + 4 * s) < 1 ∧ ¬ 32 < nI (1 + r + 4 * s) ∧ ¬ ((nI (1 + r + 4 * s) - 1) &&& 3) = ((nI (1 + r + 4 * s) - 1) >>> ((2 : Int32) &&& 31))) := by decide +kernel
theorem rs_tks : ∀ r, r < 4 → ∀ s, s < 4 → ((nI (1 + r + 4 * s) - 1) &&& 3) = nI r ∧ ((nI (1 + r + 4 * s) - 1) >>> ((2 : Int32) &&& 31)) = nI s := by decide +kernel
theorem rs_pack : ∀ r, r < 4 → ∀ s, s < 4 → (nI r ||| (nI s <<< ((2 : Int32) &&& 31))) = nI (r + 4 * s) := by decide +kernel
/-- the messages that the script writes -/
theorem rs_FG (xs : Nat → Int32) : ∃ F G : Nat → Nat, ∀ k, F k < 4 ∧ G k < 4 ∧ F k ≠ G k ∧ xs k &&& 3 = nI (F k) ∧ ((xs k &&& 3) + 1 + (((xs k >>> ((2 : Int32) &&& 31)) &&& 255) - ((xs k >>> ((2 : Int32) &&& 31)) &&& 255) / 3 * 3)) &&& 3 = nI (G k) := by
  refine ⟨fun k => (xs k).toBitVec.toNat % 4, fun k => ((xs k).toBitVec.toNat % 4 + 1 + ((xs k >>> ((2 : Int32) &&& 31)).toBitVec.toNat % 256) % 3) % 4, fun k => ?_⟩
  dsimp only
  have e1 : xs k &&& 3 = nI ((xs k).toBitVec.toNat % 4) := pk_and (xs k) 2 (by decide)
  have e2 : (xs k >>> ((2 : Int32) &&& 31)) &&& 255 = nI ((xs k >>> ((2 : Int32) &&& 31)).toBitVec.toNat % 256) := pk_and _ 8 (by decide)
  rw [e1, e2]
  generalize (xs k).toBitVec.toNat = u
  generalize (xs k >>> ((2 : Int32) &&& 31)).toBitVec.toNat = v
  have e3 : nI (v % 256) - nI (v % 256) / 3 * 3 = nI (v % 256 % 3) := pk_rem (a := v % 256) (d := 3) (by omega) (by decide) (by decide)
  rw [e3, nI_1, nI_add, rs_and3]
  refine ⟨by omega, by omega, ?_, rfl, rfl⟩
  omega
/-! the packed row -/
def rs_M (F G : Nat → Nat) : Nat → Nat
  | 0 => 0
  | k + 1 => rs_M F G k + (F k + 4 * G k) * 16 ^ k
theorem rs_Mlt {F G : Nat → Nat} (h : ∀ k, F k < 4 ∧ G k < 4) : ∀ n, rs_M F G n < 16 ^ n
  | 0 => Nat.one_pos
  | n + 1 => by
    have ih := rs_Mlt h n
    have hv : F n + 4 * G n ≤ 15 := by have := h n; omega
    have h2 : (F n + 4 * G n) * 16 ^ n ≤ 15 * 16 ^ n := Nat.mul_le_mul_right _ hv
    show rs_M F G n + (F n + 4 * G n) * 16 ^ n < 16 ^ (n + 1)
    rw [Nat.pow_succ]
    omega
theorem rs_Mdig {F G : Nat → Nat} (h : ∀ k, F k < 4 ∧ G k < 4) : ∀ n i, i < n → rs_M F G n / 16 ^ i % 16 = F i + 4 * G i
  | 0, i, hi => absurd hi (by omega)
  | n + 1, i, hi => by
    show (rs_M F G n + (F n + 4 * G n) * 16 ^ n) / 16 ^ i % 16 = _
    have hv : F n + 4 * G n ≤ 15 := by have := h n; omega
    by_cases e : i = n
    · subst e
      rw [Nat.add_mul_div_right _ _ (Nat.pow_pos (by decide)), Nat.div_eq_of_lt (rs_Mlt h i)]
      omega
    · have hi' : i < n := by omega
      have ep : 16 ^ n = 16 ^ (n - i - 1) * 16 * 16 ^ i := by
        rw [← Nat.pow_succ, ← Nat.pow_add]
        congr 1
        omega
      rw [ep, ← Nat.mul_assoc, Nat.add_mul_div_right _ _ (Nat.pow_pos (by decide)), ← Nat.mul_assoc, Nat.add_mul_mod_self_right]
      exact rs_Mdig h n i hi'
/-- what the law reads off its row -/
def rs_R (row : Int64) (F G : Nat → Nat) (n : Nat) : Prop := ∀ i, i < n → ((row >>> ((4 * nI i).toInt64 &&& 63)).toInt32) &&& 3 = nI (F i) ∧ ((row >>> (((4 * nI i) + 2).toInt64 &&& 63)).toInt32) &&& 3 = nI (G i)
theorem rs_p16 (i : Nat) : 2 ^ (4 * i) = 16 ^ i := by rw [Nat.pow_mul]
theorem rs_RM {F G : Nat → Nat} (h : ∀ k, F k < 4 ∧ G k < 4) {n : Nat} (hn : n ≤ 12) : rs_R (lN (rs_M F G n)) F G n := by
  intro i hi
  have h1 := rs_Mlt h n
  have h2 : 16 ^ n ≤ 16 ^ 12 := Nat.pow_le_pow_right (by decide) hn
  have h3 : rs_M F G n < 2 ^ 62 := by omega
  have hd := rs_Mdig h n i hi
  have hf := h i
  have e : (4 : Int32) * nI i = nI (4 * i) := pk_mul 4 i
  have e2 : nI (4 * i) + 2 = nI (4 * i + 2) := nI_add (4 * i) 2
  constructor
  · rw [e, rs_lshr (rs_sL (4 * i) (by omega)) h3, lN_i, rs_and3, rs_p16]
    generalize rs_M F G n / 16 ^ i = z at hd
    exact congrArg nI (by omega)
  · rw [e, e2, rs_lshr (rs_sL (4 * i + 2) (by omega)) h3, lN_i, rs_and3, Nat.pow_add, rs_p16, ← Nat.div_div_eq_div_mul]
    generalize rs_M F G n / 16 ^ i = z at hd
    exact congrArg nI (by omega)
theorem rs_Mput {F G : Nat → Nat} (h : ∀ k, F k < 4 ∧ G k < 4) {n : Nat} (hn : n < 12) : lN (rs_M F G n) ||| (((nI (F n) ||| (nI (G n) <<< ((2 : Int32) &&& 31))).toInt64) <<< ((4 * nI n).toInt64 &&& 63)) = lN (rs_M F G (n + 1)) := by
  have h1 := rs_Mlt h n
  have h2 : 16 ^ (n + 1) ≤ 16 ^ 12 := Nat.pow_le_pow_right (by decide) (by omega)
  have h3 := rs_Mlt h (n + 1)
  have hf := h n
  have e : (4 : Int32) * nI n = nI (4 * n) := pk_mul 4 n
  rw [rs_pack _ hf.1 _ hf.2, nI_l (by omega), e, rs_shl _ (by omega), rs_p16]
  exact rs_lor' (k := 4 * n) (rs_p16 n) h1 (by show rs_M F G (n + 1) < _; omega)
end
section
/-! part 02: the pure picture. F i, G i: who sends and who receives message i of n; P i x: the part of role x from message i on; d: the set of messages done; q x: the next message of role x -/
def rs_ct (p : Nat → Bool) : Nat → Nat
  | 0 => 0
  | k + 1 => rs_ct p k + (if p k = true then 1 else 0)
theorem rs_ct_congr {p q : Nat → Bool} : ∀ n, (∀ j, j < n → p j = q j) → rs_ct p n = rs_ct q n
  | 0, _ => rfl
  | n + 1, h => by
    show rs_ct p n + (if p n = true then 1 else 0) = rs_ct q n + (if q n = true then 1 else 0)
    rw [rs_ct_congr n (fun j hj => h j (by omega)), h n (by omega)]
theorem rs_ct_0 {p : Nat → Bool} : ∀ n, (∀ j, j < n → p j = false) → rs_ct p n = 0
  | 0, _ => rfl
  | n + 1, h => by
    show rs_ct p n + (if p n = true then 1 else 0) = 0
    rw [rs_ct_0 n (fun j hj => h j (by omega)), h n (by omega)]
    rfl
/-- how many of the messages from i on role x has a share in -/
def rs_cf (F G : Nat → Nat) (x i n : Nat) : Nat := rs_ct (fun j => decide (i ≤ j) && decide (F j = x ∨ G j = x)) n
theorem rs_cf_n (F G : Nat → Nat) (x n : Nat) : rs_cf F G x n n = 0 :=
  rs_ct_0 n (fun j hj => by rw [decide_eq_false (show ¬ n ≤ j by omega), Bool.false_and])
theorem rs_cf_s (F G : Nat → Nat) (x i : Nat) : ∀ n, i < n → rs_cf F G x i n = (if F i = x ∨ G i = x then 1 else 0) + rs_cf F G x (i + 1) n
  | 0, h => absurd h (by omega)
  | n + 1, h => by
    by_cases e : i = n
    · subst e
      rw [rs_cf_n]
      show rs_cf F G x i i + (if (decide (i ≤ i) && decide (F i = x ∨ G i = x)) = true then 1 else 0) = _
      rw [rs_cf_n, decide_eq_true (Nat.le_refl i), Bool.true_and]
      by_cases g : F i = x ∨ G i = x
      · simp [g]
      · simp [g]
    · have ih := rs_cf_s F G x i n (by omega)
      show rs_cf F G x i n + (if (decide (i ≤ n) && decide (F n = x ∨ G n = x)) = true then 1 else 0) = _ + (rs_cf F G x (i + 1) n + (if (decide (i + 1 ≤ n) && decide (F n = x ∨ G n = x)) = true then 1 else 0))
      rw [ih, decide_eq_true (show i ≤ n by omega), decide_eq_true (show i + 1 ≤ n by omega), Nat.add_assoc]
/-- the first message from i on in which role x has a share, or n -/
theorem rs_ex (F G : Nat → Nat) (x n : Nat) : ∀ c i, i + c = n → ∃ k, i ≤ k ∧ k ≤ n ∧ (∀ j, i ≤ j → j < k → ¬ (F j = x ∨ G j = x)) ∧ (k < n → F k = x ∨ G k = x)
  | 0, i, h => ⟨i, Nat.le_refl i, by omega, fun j h1 h2 => absurd h2 (by omega), fun h2 => absurd h2 (by omega)⟩
  | c + 1, i, h => by
    by_cases g : F i = x ∨ G i = x
    · exact ⟨i, Nat.le_refl i, by omega, fun j h1 h2 => absurd h2 (by omega), fun _ => g⟩
    · obtain ⟨k, k1, k2, k3, k4⟩ := rs_ex F G x n c (i + 1) (by omega)
      refine ⟨k, by omega, k2, fun j h1 h2 => ?_, k4⟩
      by_cases e : j = i
      · rw [e]; exact g
      · exact k3 j (by omega) h2
/-! the table of parts -/
def rs_ok (a4 a5 a6 a7 : Nat → Int32) (p dt f : Nat) : Prop := 1 ≤ p ∧ a4 p = nI dt ∧ a5 p = nI 1 ∧ a6 (2 * p) = nI f ∧ a7 p = 1 + a7 f
def rs_st (F G : Nat → Nat) (a4 a5 a6 a7 : Nat → Int32) (i x p f : Nat) : Prop := (F i = x → rs_ok a4 a5 a6 a7 p (1 + G i) f) ∧ (G i = x → rs_ok a4 a5 a6 a7 p (5 + F i) f) ∧ (¬ (F i = x ∨ G i = x) → p = f)
def rs_K (n : Nat) (F G : Nat → Nat) (P : Nat → Nat → Nat) (a3 a4 a5 a6 a7 : Nat → Int32) : Prop :=
  (∀ i x, i ≤ n → x < 4 → P i x < 48 ∧ a3 (i * 4 + x) = nI (P i x)) ∧ (∀ x, x < 4 → P n x = 0) ∧ a7 0 = 0 ∧ (∀ i x, i < n → x < 4 → rs_st F G a4 a5 a6 a7 i x (P i x) (P (i + 1) x))
/-- the run -/
def rs_V (n : Nat) (F G : Nat → Nat) (P : Nat → Nat → Nat) (d : Nat) (q : Nat → Nat) (a8 : Nat → Int32) : Prop :=
  d < 2 ^ n ∧ ∀ x, x < 4 → (q x ≤ n ∧ (∀ j, j < q x → (F j = x ∨ G j = x) → d.testBit j = true) ∧ (∀ j, q x ≤ j → j < n → (F j = x ∨ G j = x) → d.testBit j = false) ∧ (q x < n → F (q x) = x ∨ G (q x) = x) ∧ a8 x = nI (P (q x) x))
def rs_N (F G : Nat → Nat) (n d x i : Nat) : Prop := i ≤ n ∧ (∀ j, j < i → ¬ (d.testBit j = false ∧ (F j = x ∨ G j = x))) ∧ (i < n → d.testBit i = false ∧ (F i = x ∨ G i = x))
def rs_dv (F G : Nat → Nat) (n x i : Nat) : Nat := if i = n then 0 else if F i = x then 1 + G i else 5 + F i
def rs_Due (F G q : Nat → Nat) (n r s : Nat) : Prop := q r < n ∧ F (q r) = r ∧ G (q r) = s ∧ q s = q r
section
variable {n : Nat} {F G : Nat → Nat} {P : Nat → Nat → Nat} {a3 a4 a5 a6 a7 a8 : Nat → Int32} {d : Nat} {q : Nat → Nat}
theorem rs_Kskip (K : rs_K n F G P a3 a4 a5 a6 a7) {x : Nat} (hx : x < 4) : ∀ c i k, i + c = k → k ≤ n → (∀ j, i ≤ j → j < k → ¬ (F j = x ∨ G j = x)) → P i x = P k x
  | 0, i, k, h, _, _ => by rw [show i = k by omega]
  | c + 1, i, k, h, hk, g => by
    rw [(K.2.2.2 i x (by omega) hx).2.2 (g i (by omega) (by omega))]
    exact rs_Kskip K hx c (i + 1) k (by omega) hk (fun j h1 h2 => g j (by omega) h2)
theorem rs_Ksize (K : rs_K n F G P a3 a4 a5 a6 a7) {x : Nat} (hx : x < 4) : ∀ c i, i + c = n → a7 (P i x) = nI (rs_cf F G x i n)
  | 0, i, h => by
    have e : i = n := by omega
    subst e
    rw [K.2.1 x hx, K.2.2.1, rs_cf_n, nI_0]
  | c + 1, i, h => by
    have ih := rs_Ksize K hx c (i + 1) (by omega)
    obtain ⟨s1, s2, s3⟩ := K.2.2.2 i x (by omega) hx
    rw [rs_cf_s F G x i n (by omega)]
    have e1 : ∀ z, 1 + nI z = nI (1 + z) := fun z => nI_add 1 z
    by_cases g1 : F i = x
    · rw [(s1 g1).2.2.2.2, ih, if_pos (Or.inl g1), e1]
    · by_cases g2 : G i = x
      · rw [(s2 g2).2.2.2.2, ih, if_pos (Or.inr g2), e1]
      · have g : ¬ (F i = x ∨ G i = x) := fun z => z.elim g1 g2
        rw [s3 g, ih, if_neg g, Nat.zero_add]
theorem rs_Vnext (V : rs_V n F G P d q a8) {x : Nat} (hx : x < 4) : rs_N F G n d x (q x) := by
  obtain ⟨v1, v2, v3, v4, _⟩ := V.2 x hx
  refine ⟨v1, fun j hj z => ?_, fun h => ⟨v3 _ (Nat.le_refl _) h (v4 h), v4 h⟩⟩
  have t := v2 j hj z.2
  rw [z.1] at t
  exact absurd t (by decide)
theorem rs_Vleft (V : rs_V n F G P d q a8) {x : Nat} (hx : x < 4) : rs_ct (fun j => !d.testBit j && decide (F j = x ∨ G j = x)) n = rs_cf F G x (q x) n := by
  obtain ⟨v1, v2, v3, v4, _⟩ := V.2 x hx
  refine rs_ct_congr n (fun j hj => ?_)
  by_cases g : F j = x ∨ G j = x
  · by_cases h : j < q x
    · rw [v2 j h g, decide_eq_false (show ¬ q x ≤ j by omega)]
      rfl
    · rw [v3 j (by omega) hj g, decide_eq_true (show q x ≤ j by omega)]
      rfl
  · rw [decide_eq_false g, Bool.and_false, Bool.and_false]
theorem rs_Vend (K : rs_K n F G P a3 a4 a5 a6 a7) (V : rs_V n F G P d q a8) {x : Nat} (hx : x < 4) (h : q x = n) : a8 x = nI 0 := by
  rw [(V.2 x hx).2.2.2.2, h, K.2.1 x hx]
theorem rs_Vok (K : rs_K n F G P a3 a4 a5 a6 a7) (V : rs_V n F G P d q a8) {x : Nat} (hx : x < 4) (h : q x < n) :
    ∃ p, 1 ≤ p ∧ p < 48 ∧ p = P (q x) x ∧ a8 x = nI p ∧ a4 p = nI (rs_dv F G n x (q x)) ∧ a5 p = nI 1 ∧ a6 (2 * p) = nI (P (q x + 1) x) := by
  obtain ⟨v1, v2, v3, v4, v5⟩ := V.2 x hx
  obtain ⟨s1, s2, s3⟩ := K.2.2.2 (q x) x h hx
  have hp := (K.1 (q x) x (by omega) hx).1
  unfold rs_dv
  rw [if_neg (show ¬ q x = n by omega)]
  by_cases g : F (q x) = x
  · obtain ⟨k1, k2, k3, k4, _⟩ := s1 g
    rw [if_pos g]
    exact ⟨_, k1, hp, rfl, v5, k2, k3, k4⟩
  · obtain ⟨k1, k2, k3, k4, _⟩ := s2 ((v4 h).resolve_left g)
    rw [if_neg g]
    exact ⟨_, k1, hp, rfl, v5, k2, k3, k4⟩
theorem rs_Vsize (K : rs_K n F G P a3 a4 a5 a6 a7) (V : rs_V n F G P d q a8) {x : Nat} (hx : x < 4) :
    ∃ p, p < 48 ∧ a8 x = nI p ∧ a7 p = nI (rs_ct (fun j => !d.testBit j && decide (F j = x ∨ G j = x)) n) := by
  obtain ⟨v1, v2, v3, v4, v5⟩ := V.2 x hx
  refine ⟨P (q x) x, (K.1 (q x) x v1 hx).1, v5, ?_⟩
  rw [rs_Vleft V hx]
  exact rs_Ksize K hx (n - q x) (q x) (by omega)
/-- two roles that stand at messages from r to s stand at the same one -/
theorem rs_meet (V : rs_V n F G P d q a8) {r s : Nat} (hr : r < 4) (hs : s < 4) (h1 : q r < n) (h2 : q s < n) (g1 : G (q r) = s) (g2 : F (q s) = r) : q s = q r := by
  obtain ⟨_, r2, r3, r4, _⟩ := V.2 r hr
  obtain ⟨_, s2, s3, s4, _⟩ := V.2 s hs
  have f1 := r3 _ (Nat.le_refl _) h1 (r4 h1)
  have f2 := s3 _ (Nat.le_refl _) h2 (s4 h2)
  rcases Nat.lt_trichotomy (q s) (q r) with c | c | c
  · have t := r2 _ c (Or.inl g2)
    rw [f2] at t
    exact absurd t (by decide)
  · exact c
  · have t := s2 _ c (Or.inr g1)
    rw [f1] at t
    exact absurd t (by decide)
theorem rs_Vover (hFG : ∀ k, F k < 4 ∧ G k < 4 ∧ F k ≠ G k) (V : rs_V n F G P d q a8) : (∀ x, x < 4 → q x = n) ↔ d = 2 ^ n - 1 := by
  rw [rs_all V.1]
  constructor
  · intro h i hi
    exact (V.2 (F i) (hFG i).1).2.1 i (by rw [h (F i) (hFG i).1]; exact hi) (Or.inl rfl)
  · intro h x hx
    obtain ⟨v1, v2, v3, v4, v5⟩ := V.2 x hx
    rcases Nat.lt_or_ge (q x) n with c | c
    · have t := v3 _ (Nat.le_refl _) c (v4 c)
      rw [h _ c] at t
      exact absurd t (by decide)
    · omega
theorem rs_Vsend (hFG : ∀ k, F k < 4 ∧ G k < 4 ∧ F k ≠ G k) (K : rs_K n F G P a3 a4 a5 a6 a7) (V : rs_V n F G P d q a8) {r s : Nat} (hr : r < 4) (hs : s < 4) (D : rs_Due F G q n r s) :
    ∃ q', rs_V n F G P (d ||| 2 ^ (q r)) q' (upd (upd a8 r (nI (P (q r + 1) r))) s (nI (P (q s + 1) s))) := by
  obtain ⟨d1, d2, d3, d4⟩ := D
  have hrs : r ≠ s := fun e => (hFG (q r)).2.2 (by rw [d2, d3, e])
  have key : ∀ x, x < 4 → q x = q r → (F (q r) = x ∨ G (q r) = x) → ∃ k, (k ≤ n ∧ (∀ j, j < k → (F j = x ∨ G j = x) → (d ||| 2 ^ (q r)).testBit j = true) ∧ (∀ j, k ≤ j → j < n → (F j = x ∨ G j = x) → (d ||| 2 ^ (q r)).testBit j = false) ∧ (k < n → F k = x ∨ G k = x)) ∧ P (q r + 1) x = P k x := by
    intro x hx e g
    obtain ⟨v1, v2, v3, v4, v5⟩ := V.2 x hx
    rw [e] at v2 v3
    obtain ⟨k, k1, k2, k3, k4⟩ := rs_ex F G x n (n - (q r + 1)) (q r + 1) (by omega)
    refine ⟨k, ⟨k2, fun j hj gj => ?_, fun j hj hn gj => ?_, k4⟩, rs_Kskip K hx (k - (q r + 1)) _ _ (by omega) k2 k3⟩
    · rw [rs_ortb]
      rcases Nat.lt_trichotomy j (q r) with c | c | c
      · rw [v2 j c gj, Bool.true_or]
      · rw [decide_eq_true c.symm, Bool.or_true]
      · exact absurd gj (k3 j c hj)
    · rw [rs_ortb, v3 j (by omega) hn gj, decide_eq_false (show ¬ q r = j by omega)]
      rfl
  obtain ⟨kr, er, pr⟩ := key r hr rfl (Or.inl d2)
  obtain ⟨ks, es, ps⟩ := key s hs d4 (Or.inr d3)
  refine ⟨fun x => if x = r then kr else if x = s then ks else q x, rs_orlt V.1 d1, fun x hx => ?_⟩
  dsimp only
  by_cases e1 : x = r
  · subst e1
    rw [if_pos rfl]
    refine ⟨er.1, er.2.1, er.2.2.1, er.2.2.2, ?_⟩
    rw [pk_un hrs, pk_us, pr]
  · rw [if_neg e1]
    by_cases e2 : x = s
    · subst e2
      rw [if_pos rfl]
      refine ⟨es.1, es.2.1, es.2.2.1, es.2.2.2, ?_⟩
      rw [pk_us, d4, ps]
    · rw [if_neg e2]
      obtain ⟨v1, v2, v3, v4, v5⟩ := V.2 x hx
      refine ⟨v1, fun j hj gj => ?_, fun j hj hn gj => ?_, v4, ?_⟩
      · rw [rs_ortb, v2 j hj gj, Bool.true_or]
      · have hne : ¬ q r = j := by
          intro e
          rw [← e, d2, d3] at gj
          exact gj.elim (fun z => e1 z.symm) (fun z => e2 z.symm)
        rw [rs_ortb, v3 j hj hn gj, decide_eq_false hne]
        rfl
      · rw [pk_un e2, pk_un e1, v5]
theorem rs_V0 (K : rs_K n F G P a3 a4 a5 a6 a7) (h : ∀ x, x < 4 → a8 x = nI (P 0 x)) : ∃ q, rs_V n F G P 0 q a8 := by
  obtain ⟨q, hq⟩ := Classical.axiomOfChoice (fun x : Nat => rs_ex F G x n n 0 (by omega))
  refine ⟨q, Nat.two_pow_pos n, fun x hx => ?_⟩
  obtain ⟨_, k2, k3, k4⟩ := hq x
  refine ⟨k2, fun j hj g => absurd g (k3 j (by omega) hj), fun j _ _ _ => Nat.zero_testBit j, k4, ?_⟩
  rw [h x hx, rs_Kskip K hx (q x) 0 (q x) (by omega) k2 k3]
end
end
section
/-! part 03: the law's own methods, and the class's methods that only read -/
section
variable {post : Int32 → Prop} {row : Int64} {n : Nat} {F G : Nat → Nat}
theorem rs_from (R : rs_R row F G n) {j : Nat} (hj : j < n) (h : post (nI (F j))) : wpL_from post () row (nI j) := by
  unfold wpL_from
  rw [(R j hj).1]
  exact h
theorem rs_to (R : rs_R row F G n) {j : Nat} (hj : j < n) (h : post (nI (G j))) : wpL_to post () row (nI j) := by
  unfold wpL_to
  rw [(R j hj).2]
  exact h
theorem rs_d31 {d n : Nat} (hn : n ≤ 12) (hd : d < 2 ^ n) : d < 2 ^ 31 := Nat.lt_of_lt_of_le hd (Nat.pow_le_pow_right (by decide) (by omega))
theorem rs_next (hFG : ∀ k, F k < 4 ∧ G k < 4 ∧ F k ≠ G k) (R : rs_R row F G n) (hn : n ≤ 12) {d x i : Nat} (hd : d < 2 ^ n) (hx : x < 4) (N : rs_N F G n d x i) (h : post (nI i)) : wpL_next post () row (nI n) (nI d) (nI x) := by
  have hd' := rs_d31 hn hd
  obtain ⟨n1, n2, n3⟩ := N
  unfold wpL_next
  refine pk_loop (σ := Unit) (fun fu j _ => wL_next_3 post row (nI n) (nI d) (nI x) fu (nI j)) (fun _ _ => True) i 0 () (by omega) trivial ?_ ?_
  · intro fu _ _
    refine pk_le n i (fun z => ?_) (fun z => ?_)
    · have e : i = n := by omega
      subst e
      exact h
    · obtain ⟨b, g⟩ := n3 z
      have hf := hFG i
      refine br_t ((rs_bit hd' (by omega)).mpr b) (rs_from R z ?_)
      refine pk_eq (F i) x (fun _ => h) (fun g1 => rs_to R z ?_)
      exact pk_eq (G i) x (fun _ => h) (fun g2 => absurd g (fun g => g.elim g1 g2))
  · intro fu j _ hj _ hw
    have hf := hFG j
    refine pk_le n j (fun z => absurd z (by omega)) (fun z => ?_)
    by_cases b : d.testBit j = false
    · have g : ¬ (F j = x ∨ G j = x) := fun g => n2 j hj ⟨b, g⟩
      refine br_t ((rs_bit hd' (by omega)).mpr b) (rs_from R z ?_)
      refine pk_eq (F j) x (fun e => absurd (Or.inl e) g) (fun _ => rs_to R z ?_)
      exact pk_eq (G j) x (fun e => absurd (Or.inr e) g) (fun _ => nm_r (nI_1 j) (hw () trivial))
    · exact br_f (fun e => b ((rs_bit hd' (by omega)).mp e)) (nm_r (nI_1 j) (hw () trivial))
theorem rs_left (hFG : ∀ k, F k < 4 ∧ G k < 4 ∧ F k ≠ G k) (R : rs_R row F G n) (hn : n ≤ 12) {d x : Nat} (hd : d < 2 ^ n) (hx : x < 4) (h : post (nI (rs_ct (fun j => !d.testBit j && decide (F j = x ∨ G j = x)) n))) : wpL_left post () row (nI n) (nI d) (nI x) := by
  have hd' := rs_d31 hn hd
  unfold wpL_left
  refine pk_loop (σ := Unit) (fun fu j _ => wL_left_6 post row (nI n) (nI d) (nI x) fu (nI (rs_ct (fun j => !d.testBit j && decide (F j = x ∨ G j = x)) j)) (nI j)) (fun _ _ => True) n 0 () (by omega) trivial ?_ ?_
  · intro fu _ _
    exact pk_le n n (fun _ => h) (fun z => absurd z (by omega))
  · intro fu j _ hj _ hw
    have hf := hFG j
    have hw2 : wL_left_6 post row (nI n) (nI d) (nI x) fu (nI (rs_ct (fun j => !d.testBit j && decide (F j = x ∨ G j = x)) j + (if (!d.testBit j && decide (F j = x ∨ G j = x)) = true then 1 else 0))) (nI (j + 1)) := hw () trivial
    refine pk_le n j (fun z => absurd z (by omega)) (fun z => ?_)
    by_cases b : d.testBit j = false
    · rw [b] at hw2
      refine br_t ((rs_bit hd' (by omega)).mpr b) (rs_from R z ?_)
      by_cases g : F j = x ∨ G j = x
      · rw [decide_eq_true g] at hw2
        have J : ∀ J6 : Int32 → Int32 → Prop, J6 = wL_left_6 post row (nI n) (nI d) (nI x) fu → wL_left_43 post J6 row (nI n) (nI d) (nI x) (nI (rs_ct (fun j => !d.testBit j && decide (F j = x ∨ G j = x)) j)) (nI j) := by
          intro J6 e
          subst e
          exact br_f (by decide) (nm_r (nI_1 _) (nm_r (nI_1 j) hw2))
        refine pk_eq (F j) x (fun e => J _ rfl) (fun g1 => rs_to R z ?_)
        exact pk_eq (G j) x (fun e => J _ rfl) (fun g2 => absurd g (fun g => g.elim g1 g2))
      · rw [decide_eq_false g] at hw2
        refine pk_eq (F j) x (fun e => absurd (Or.inl e) g) (fun g1 => rs_to R z ?_)
        exact pk_eq (G j) x (fun e => absurd (Or.inr e) g) (fun g2 => br_t rfl (nm_r (nI_1 j) hw2))
    · have b' : d.testBit j = true := by
        revert b
        cases d.testBit j
        · exact fun z => absurd rfl z
        · exact fun _ => rfl
      rw [b'] at hw2
      exact br_f (fun e => b ((rs_bit hd' (by omega)).mp e)) (br_t rfl (nm_r (nI_1 j) hw2))
end
theorem rs_role {post : Int32 → Prop} {x : Nat} (hx : x < 4) (h : post 1) : wpX_isRole post () (nI x) :=
  br_f (nI_pos (by omega)) (br_f (nI_ge (b := 4) hx (by decide)) h)
section
variable {n : Nat} {F G : Nat → Nat} {P : Nat → Nat → Nat} {cn kn pc sc : Int32} {a1 a2 a3 a4 a5 a6 a7 a8 : Nat → Int32} {d : Nat} {q : Nat → Nat} {post : Int32 → Prop}
theorem rs_dvb (hFG : ∀ k, F k < 4 ∧ G k < 4 ∧ F k ≠ G k) (x i : Nat) : rs_dv F G n x i ≤ 8 := by
  have h := hFG i
  unfold rs_dv
  by_cases g : i = n
  · rw [if_pos g]; omega
  · rw [if_neg g]
    by_cases f : F i = x
    · rw [if_pos f]; omega
    · rw [if_neg f]; omega
/-- the part at which role x stands -/
theorem rs_Vc (K : rs_K n F G P a3 a4 a5 a6 a7) (V : rs_V n F G P d q a8) {x : Nat} (hx : x < 4) :
    ∃ p, p < 48 ∧ a8 x = nI p ∧ (q x = n → p = 0) ∧ (q x < n → 1 ≤ p ∧ a4 p = nI (rs_dv F G n x (q x)) ∧ a5 p = nI 1 ∧ a6 (2 * p) = nI (P (q x + 1) x)) := by
  rcases Nat.lt_or_ge (q x) n with c | c
  · obtain ⟨p, p1, p2, _, p3, p4, p5, p6⟩ := rs_Vok K V hx c
    exact ⟨p, p2, p3, fun e => absurd e (by omega), fun _ => ⟨p1, p4, p5, p6⟩⟩
  · have e : q x = n := by have := (V.2 x hx).1; omega
    exact ⟨0, by decide, rs_Vend K V hx e, fun _ => rfl, fun h => absurd h (by omega)⟩
theorem rs_poss (hFG : ∀ k, F k < 4 ∧ G k < 4 ∧ F k ≠ G k) (K : rs_K n F G P a3 a4 a5 a6 a7) (V : rs_V n F G P d q a8) {r s lb : Nat} (hr : r < 4) (hs : s < 4) (hlb : lb < 2)
    (h1 : lb = 0 → rs_Due F G q n r s → post 1) (h0 : ¬ (lb = 0 ∧ rs_Due F G q n r s) → post 0) : wpX_possible post (cn, kn, pc, 1, sc, a1, a2, a3, a4, a5, a6, a7, a8) (nI r) (nI s) (nI lb) := by
  obtain ⟨p, p1, p2, p3, p4⟩ := rs_Vc K V hr
  obtain ⟨t, t1, t2, t3, t4⟩ := rs_Vc K V hs
  have qr := (V.2 r hr).1
  have qs := (V.2 s hs).1
  have br := rs_dvb (n := n) hFG r (q r)
  have bs := rs_dvb (n := n) hFG s (q s)
  have e8r : a8 (nI r).toNatClampNeg = nI p := by rw [nI_clamp (by omega)]; exact p2
  have e8s : a8 (nI s).toNatClampNeg = nI t := by rw [nI_clamp (by omega)]; exact t2
  unfold wpX_possible
  refine br_f (by decide) (rs_role hr (br_f (by decide) (rs_role hs (br_f (by decide) (br_t (nI_pos' (by omega)) ⟨pk_in r 4 hr, nm_r e8r ⟨pk_in s 4 hs, nm_r e8s ?_⟩⟩)))))
  refine pk_eq p 0 (fun e => br_t rfl (h0 (fun z => ?_))) (fun e => ⟨pk_in p 48 p1, ?_⟩)
  · have := (p4 z.2.1).1
    omega
  · have cr : q r < n := by
      rcases Nat.lt_or_ge (q r) n with c | c
      · exact c
      · exact absurd (p3 (by omega)) e
    obtain ⟨k1, k2, k3, k4⟩ := p4 cr
    refine pk_eq (rs_dv F G n r (q r)) (1 + s) (fun e2 => ?_) (fun e2 => br_t rfl (h0 (fun z => e2 ?_))) (hx := by rw [nI_clamp (by omega)]; exact k2) (hy := nI_add 1 s)
    · have hd : F (q r) = r ∧ G (q r) = s := by
        unfold rs_dv at e2
        rw [if_neg (show ¬ q r = n by omega)] at e2
        by_cases g : F (q r) = r
        · rw [if_pos g] at e2
          exact ⟨g, by omega⟩
        · rw [if_neg g] at e2
          omega
      refine pk_eq t 0 (fun f => br_t rfl (h0 (fun z => ?_))) (fun f => ⟨pk_in t 48 t1, ?_⟩)
      · have := (t4 (by rw [z.2.2.2.2]; exact cr)).1
        omega
      · have cs : q s < n := by
          rcases Nat.lt_or_ge (q s) n with c | c
          · exact c
          · exact absurd (t3 (by omega)) f
        obtain ⟨l1, l2, l3, l4⟩ := t4 cs
        refine pk_eq (rs_dv F G n s (q s)) (5 + r) (fun f2 => ?_) (fun f2 => br_t rfl (h0 (fun z => f2 ?_))) (hx := by rw [nI_clamp (by omega)]; exact l2) (hy := nI_add 5 r)
        · have hf := hFG (q s)
          have hd2 : F (q s) = r := by
            unfold rs_dv at f2
            rw [if_neg (show ¬ q s = n by omega)] at f2
            by_cases g : F (q s) = s
            · rw [if_pos g] at f2
              omega
            · rw [if_neg g] at f2
              omega
          have D : rs_Due F G q n r s := ⟨cr, hd.1, hd.2, rs_meet V hr hs cr cs hd.2 hd2⟩
          refine br_f (by decide) ⟨pk_in p 48 p1, pk_le 1 lb (fun z => h0 (fun y => by omega)) (fun z => ⟨pk_in t 48 t1, pk_le 1 lb (fun y => absurd y (by omega)) (fun _ => h1 (by omega) D) (hx := by rw [nI_clamp (by omega)]; exact l3)⟩) (hx := by rw [nI_clamp (by omega)]; exact k3)⟩
        · obtain ⟨_, _, z2, z3, z4⟩ := z
          have hf := hFG (q r)
          unfold rs_dv
          rw [if_neg (show ¬ q s = n by omega), z4, z2, if_neg (show ¬ r = s by omega)]
    · obtain ⟨_, _, z2, z3, z4⟩ := z
      unfold rs_dv
      rw [if_neg (show ¬ q r = n by omega), if_pos z2, z3]
theorem rs_send {post : Int32 → St1 → Prop} (hFG : ∀ k, F k < 4 ∧ G k < 4 ∧ F k ≠ G k) (K : rs_K n F G P a3 a4 a5 a6 a7) (V : rs_V n F G P d q a8) {r s lb : Nat} (hr : r < 4) (hs : s < 4) (hlb : lb < 2)
    (h1 : lb = 0 → rs_Due F G q n r s → ∀ b8 q', rs_V n F G P (d ||| 2 ^ (q r)) q' b8 → post 1 (cn, kn, pc, 1, sc + 1, a1, a2, a3, a4, a5, a6, a7, b8))
    (h0 : ¬ (lb = 0 ∧ rs_Due F G q n r s) → post 0 (cn, kn, pc, 1, sc, a1, a2, a3, a4, a5, a6, a7, a8)) : wpX_send post (cn, kn, pc, 1, sc, a1, a2, a3, a4, a5, a6, a7, a8) (nI r) (nI s) (nI lb) := by
  unfold wpX_send
  refine rs_poss hFG K V hr hs hlb (fun l D => br_f (by decide) ?_) (fun h => br_t rfl (h0 h))
  subst l
  have D' := D
  obtain ⟨d1, d2, d3, d4⟩ := D'
  obtain ⟨p, p1, p2, p3, p4⟩ := rs_Vc K V hr
  obtain ⟨t, t1, t2, t3, t4⟩ := rs_Vc K V hs
  obtain ⟨k1, k2, k3, k4⟩ := p4 d1
  obtain ⟨l1, l2, l3, l4⟩ := t4 (by rw [d4]; exact d1)
  have hf := hFG (q r)
  have hrs : s ≠ r := by omega
  have e0 : ∀ z, (2 : Int32) * nI z + nI 0 = nI (2 * z) := fun z => by
    have e : (2 : Int32) * nI z = nI (2 * z) := pk_mul 2 z
    rw [e, nI_add, Nat.add_zero]
  have e1 : (2 : Int32) * a8 (nI r).toNatClampNeg + nI 0 = nI (2 * p) := by rw [nI_clamp (by omega), p2, e0]
  have b1 := (K.1 (q r + 1) r (by omega) hr).1
  have b2 := (K.1 (q s + 1) s (by omega) hs).1
  refine ⟨pk_in r 4 hr, pk_in (2 * p) 96 (by omega) e1, pk_in r 4 hr, fun b eb => ?_⟩
  rw [e1, nI_clamp (by omega), nI_clamp (by omega), k4, rs_nar (by omega)] at eb
  have e2 : (2 : Int32) * b (nI s).toNatClampNeg + nI 0 = nI (2 * t) := by rw [nI_clamp (by omega), eb, pk_un hrs, t2, e0]
  refine ⟨pk_in s 4 hs, pk_in (2 * t) 96 (by omega) e2, pk_in s 4 hs, fun c ec => nm_e ?_⟩
  rw [e2, nI_clamp (by omega), nI_clamp (by omega), l4, rs_nar (by omega), eb] at ec
  obtain ⟨q', hq⟩ := rs_Vsend hFG K V hr hs D
  refine h1 rfl D c q' ?_
  rw [ec]
  exact hq
theorem rs_duty (K : rs_K n F G P a3 a4 a5 a6 a7) (V : rs_V n F G P d q a8) {x : Nat} (hx : x < 4) (h : post (nI (rs_dv F G n x (q x)))) : wpX_duty post (cn, kn, pc, 1, sc, a1, a2, a3, a4, a5, a6, a7, a8) (nI x) := by
  obtain ⟨p, p1, p2, p3, p4⟩ := rs_Vc K V hx
  have e8 : a8 (nI x).toNatClampNeg = nI p := by rw [nI_clamp (by omega)]; exact p2
  have qx := (V.2 x hx).1
  unfold wpX_duty
  refine br_f (by decide) (rs_role hx (br_f (by decide) ⟨pk_in x 4 hx, ?_⟩))
  refine pk_eq p 0 (fun e => ?_) (fun e => ?_) (hx := e8)
  · have c : q x = n := by
      rcases Nat.lt_or_ge (q x) n with c | c
      · exact absurd (p4 c).1 (by omega)
      · omega
    unfold rs_dv at h
    rw [if_pos c] at h
    exact h
  · have c : q x < n := by
      rcases Nat.lt_or_ge (q x) n with c | c
      · exact c
      · exact absurd (p3 (by omega)) e
    refine ⟨pk_in x 4 hx, pk_in p 48 p1 e8, ?_⟩
    rw [e8, nI_clamp (by omega), (p4 c).2.1]
    exact h
theorem rs_labels (K : rs_K n F G P a3 a4 a5 a6 a7) (V : rs_V n F G P d q a8) {x : Nat} (hx : x < 4) (h : post (nI (if q x = n then 0 else 1))) : wpX_labels post (cn, kn, pc, 1, sc, a1, a2, a3, a4, a5, a6, a7, a8) (nI x) := by
  obtain ⟨p, p1, p2, p3, p4⟩ := rs_Vc K V hx
  have e8 : a8 (nI x).toNatClampNeg = nI p := by rw [nI_clamp (by omega)]; exact p2
  have qx := (V.2 x hx).1
  unfold wpX_labels
  refine br_f (by decide) (rs_role hx (br_f (by decide) ⟨pk_in x 4 hx, ?_⟩))
  refine pk_eq p 0 (fun e => ?_) (fun e => ?_) (hx := e8)
  · have c : q x = n := by
      rcases Nat.lt_or_ge (q x) n with c | c
      · exact absurd (p4 c).1 (by omega)
      · omega
    rw [if_pos c] at h
    exact h
  · have c : q x < n := by
      rcases Nat.lt_or_ge (q x) n with c | c
      · exact c
      · exact absurd (p3 (by omega)) e
    refine ⟨pk_in x 4 hx, pk_in p 48 p1 e8, ?_⟩
    rw [e8, nI_clamp (by omega), (p4 c).2.2.1]
    rw [if_neg (show ¬ q x = n by omega)] at h
    exact h
theorem rs_rest (K : rs_K n F G P a3 a4 a5 a6 a7) (V : rs_V n F G P d q a8) {x : Nat} (hx : x < 4) (h : post (nI (rs_ct (fun j => !d.testBit j && decide (F j = x ∨ G j = x)) n))) : wpX_rest post (cn, kn, pc, 1, sc, a1, a2, a3, a4, a5, a6, a7, a8) (nI x) := by
  obtain ⟨p, p1, p2, p3⟩ := rs_Vsize K V hx
  have e8 : a8 (nI x).toNatClampNeg = nI p := by rw [nI_clamp (by omega)]; exact p2
  unfold wpX_rest
  refine br_f (by decide) (rs_role hx (br_f (by decide) ⟨pk_in x 4 hx, pk_in p 48 p1 e8, ?_⟩))
  rw [e8, nI_clamp (by omega), p3]
  exact h
theorem rs_over (K : rs_K n F G P a3 a4 a5 a6 a7) (V : rs_V n F G P d q a8) (h1 : (∀ x, x < 4 → q x = n) → post 1) (h0 : ¬ (∀ x, x < 4 → q x = n) → post 0) : wpX_over post (cn, kn, pc, 1, sc, a1, a2, a3, a4, a5, a6, a7, a8) := by
  unfold wpX_over
  refine br_f (by decide) ?_
  refine pk_loop (σ := Unit) (fun fu x _ => wX_over_11 post cn kn pc 1 sc a1 a2 a3 a4 a5 a6 a7 a8 fu (nI x)) (fun x _ => ∀ y, y < x → q y = n) 4 0 () (by omega) (fun y hy => absurd hy (by omega)) ?_ ?_
  · intro fu _ h
    exact br_t (by decide) (h1 h)
  · intro fu x _ hx h hw
    obtain ⟨p, p1, p2, p3, p4⟩ := rs_Vc K V hx
    have e8 : a8 (nI x).toNatClampNeg = nI p := by rw [nI_clamp (by omega)]; exact p2
    have qx := (V.2 x hx).1
    refine br_f (nI_ge (b := 4) hx (by decide)) ⟨pk_in x 4 hx, pk_eq p 0 (fun e => ?_) (fun e => h0 (fun z => e (p3 (z x hx)))) (hx := e8)⟩
    have c : q x = n := by
      rcases Nat.lt_or_ge (q x) n with c | c
      · exact absurd (p4 c).1 (by omega)
      · omega
    exact nm_r (nI_1 x) (hw () (lt_s h c))
def rs_fst (F G q : Nat → Nat) (n : Nat) (y : Nat) : Bool := decide (q y < n ∧ F (q y) = y ∧ q (G (q y)) = q y)
theorem rs_fstD {F G q : Nat → Nat} {n r s : Nat} : rs_Due F G q n r s ↔ rs_fst F G q n r = true ∧ G (q r) = s := by
  unfold rs_fst rs_Due
  rw [decide_eq_true_eq]
  constructor
  · rintro ⟨h1, h2, h3, h4⟩
    exact ⟨⟨h1, h2, by rw [h3]; exact h4⟩, h3⟩
  · rintro ⟨⟨h1, h2, h3⟩, h4⟩
    exact ⟨h1, h2, h4, by rw [← h4]; exact h3⟩
theorem rs_ch32 (hFG : ∀ k, F k < 4 ∧ G k < 4 ∧ F k ≠ G k) (K : rs_K n F G P a3 a4 a5 a6 a7) (V : rs_V n F G P d q a8) {J4 J11 : Int32 → Int32 → Prop} {r s : Nat} (hr : r < 4) (hs : s < 4) {v z : Nat} (h : J11 (nI (v + z)) (nI (s + 1))) :
    wX_choices_32 post J4 J11 (nI r) (nI s) (nI z) (nI v) cn kn pc 1 sc a1 a2 a3 a4 a5 a6 a7 a8 := by
  unfold wX_choices_32
  exact nm_r (nI_add v z) (rs_poss (lb := 1) hFG K V hr hs (by decide) (fun l => absurd l (by decide)) (fun _ => br_t rfl (nm_r (Int32.add_zero _) (nm_r (nI_1 s) h))))
theorem rs_ch11 (hFG : ∀ k, F k < 4 ∧ G k < 4 ∧ F k ≠ G k) (K : rs_K n F G P a3 a4 a5 a6 a7) (V : rs_V n F G P d q a8) {J4 : Int32 → Int32 → Prop} {r c : Nat} (hr : r < 4) (h : J4 (nI (c + (if rs_fst F G q n r = true then 1 else 0))) (nI (r + 1))) :
    ∃ fu, wX_choices_11 post J4 (nI r) cn kn pc 1 sc a1 a2 a3 a4 a5 a6 a7 a8 fu (nI c) 0 := by
  refine Exists.elim (pk_loop (σ := Unit) (fun fu s _ => wX_choices_11 post J4 (nI r) cn kn pc 1 sc a1 a2 a3 a4 a5 a6 a7 a8 fu (nI (c + (if rs_fst F G q n r = true ∧ G (q r) < s then 1 else 0))) (nI s)) (fun _ _ => True) 4 0 () (by omega) trivial ?_ ?_) (fun fu hfu => ?_)
  · intro fu _ _
    refine br_t (show (4 : Int32) ≤ nI 4 by decide) (nm_r (nI_1 r) ?_)
    have e : (if rs_fst F G q n r = true ∧ G (q r) < 4 then 1 else 0) = (if rs_fst F G q n r = true then 1 else 0) := by
      by_cases g : rs_fst F G q n r = true
      · rw [if_pos g, if_pos ⟨g, (hFG (q r)).2.1⟩]
      · rw [if_neg g, if_neg (fun z => g z.1)]
    rw [e]
    exact h
  · intro fu s _ hs _ hw
    have hw2 : wX_choices_11 post J4 (nI r) cn kn pc 1 sc a1 a2 a3 a4 a5 a6 a7 a8 fu (nI (c + (if rs_fst F G q n r = true ∧ G (q r) < s + 1 then 1 else 0))) (nI (s + 1)) := hw () trivial
    refine br_f (nI_ge (b := 4) hs (by decide)) (rs_poss (lb := 0) hFG K V hr hs (by decide) (fun _ D => br_f (by decide) ?_) (fun D => br_t rfl ?_))
    · refine rs_ch32 (z := 1) hFG K V hr hs ?_
      obtain ⟨f1, f2⟩ := rs_fstD.mp D
      rw [if_neg (fun z => by omega)]
      rw [if_pos ⟨f1, by omega⟩] at hw2
      exact hw2
    · refine rs_ch32 (z := 0) hFG K V hr hs ?_
      have e : (if rs_fst F G q n r = true ∧ G (q r) < s + 1 then 1 else 0) = (if rs_fst F G q n r = true ∧ G (q r) < s then 1 else 0) := by
        by_cases g : rs_fst F G q n r = true
        · have hne : G (q r) ≠ s := fun z => D ⟨rfl, rs_fstD.mpr ⟨g, z⟩⟩
          by_cases l : G (q r) < s
          · rw [if_pos ⟨g, (show G (q r) < s + 1 by omega)⟩, if_pos ⟨g, l⟩]
          · rw [if_neg (fun z => absurd z.2 (by omega)), if_neg (fun z => l z.2)]
        · rw [if_neg (fun z => g z.1), if_neg (fun z => g z.1)]
      rw [e] at hw2
      rw [Nat.add_zero]
      exact hw2
  · have hfu' : wX_choices_11 post J4 (nI r) cn kn pc 1 sc a1 a2 a3 a4 a5 a6 a7 a8 fu (nI (c + (if rs_fst F G q n r = true ∧ G (q r) < 0 then 1 else 0))) (nI 0) := hfu
    rw [if_neg (fun z => by omega), Nat.add_zero] at hfu'
    exact ⟨fu, hfu'⟩
theorem rs_choices (hFG : ∀ k, F k < 4 ∧ G k < 4 ∧ F k ≠ G k) (K : rs_K n F G P a3 a4 a5 a6 a7) (V : rs_V n F G P d q a8) (h : post (nI (rs_ct (rs_fst F G q n) 4))) : wpX_choices post (cn, kn, pc, 1, sc, a1, a2, a3, a4, a5, a6, a7, a8) := by
  unfold wpX_choices
  refine pk_loop (σ := Unit) (fun fu r _ => wX_choices_4 post cn kn pc 1 sc a1 a2 a3 a4 a5 a6 a7 a8 fu (nI (rs_ct (rs_fst F G q n) r)) (nI r)) (fun _ _ => True) 4 0 () (by omega) trivial ?_ ?_
  · intro fu _ _
    exact br_t (by decide) h
  · intro fu r _ hr _ hw
    exact br_f (nI_ge (b := 4) hr (by decide)) (rs_ch11 hFG K V hr (hw () trivial))
end
end
section
/-! part 04: shows -/
section
variable {post : Int32 → Prop} {row : Int64} {n : Nat} {F G : Nat → Nat} {P : Nat → Nat → Nat} {cn kn pc sc : Int32} {a1 a2 a3 a4 a5 a6 a7 a8 : Nat → Int32} {d : Nat} {q : Nat → Nat}
theorem rs_s127 (hFG : ∀ k, F k < 4 ∧ G k < 4 ∧ F k ≠ G k) (R : rs_R row F G n) (hn : n ≤ 12) (V : rs_V n F G P d q a8) {J9 : Int32 → Int32 → Int32 → Prop} {x c : Nat} (hx : x < 4)
    (h : J9 (nI (c + (if rs_fst F G q n x = true then 1 else 0))) 1 (nI (x + 1))) :
    wL_shows_127 post J9 row (nI n) (nI d) (nI c) (nI x) (nI (q x)) 1 cn kn pc 1 sc a1 a2 a3 a4 a5 a6 a7 a8 := by
  have qx := (V.2 x hx).1
  have hf := hFG (q x)
  have qg := (V.2 (G (q x)) hf.2.1).1
  have no : ¬ (q x < n ∧ F (q x) = x ∧ q (G (q x)) = q x) → J9 (nI c) 1 (nI (x + 1)) := fun z => by
    unfold rs_fst at h
    rw [decide_eq_false z] at h
    exact h
  have yes : (q x < n ∧ F (q x) = x ∧ q (G (q x)) = q x) → J9 (nI (c + 1)) 1 (nI (x + 1)) := fun z => by
    unfold rs_fst at h
    rw [decide_eq_true z] at h
    exact h
  unfold wL_shows_127
  refine pk_le n (q x) (fun z => br_t rfl (nm_r (nI_1 x) (no (fun y => by omega)))) (fun z => rs_from R z ?_)
  refine pk_eq (F (q x)) x (fun e => rs_to R z (rs_next hFG R hn V.1 hf.2.1 (rs_Vnext V hf.2.1) ?_)) (fun e => br_t rfl (nm_r (nI_1 x) (no (fun y => e y.2.1))))
  exact pk_eq (q (G (q x))) (q x) (fun f => br_f (by decide) (nm_r (nI_1 c) (nm_r (nI_1 x) (yes ⟨z, e, f⟩)))) (fun f => br_t rfl (nm_r (nI_1 x) (no (fun y => f y.2.2))))
theorem rs_s66 (hFG : ∀ k, F k < 4 ∧ G k < 4 ∧ F k ≠ G k) (R : rs_R row F G n) (hn : n ≤ 12) (K : rs_K n F G P a3 a4 a5 a6 a7) (V : rs_V n F G P d q a8) {J9 : Int32 → Int32 → Int32 → Prop} {x c : Nat} {z0 : Int32} (hx : x < 4) (hz : nI (rs_dv F G n x (q x)) = z0)
    (h : J9 (nI (c + (if rs_fst F G q n x = true then 1 else 0))) 1 (nI (x + 1))) :
    wL_shows_66 post J9 row (nI n) (nI d) (nI c) 1 (nI x) (nI (q x)) z0 cn kn pc 1 sc a1 a2 a3 a4 a5 a6 a7 a8 := by
  have qx := (V.2 x hx).1
  unfold wL_shows_66
  refine br_f (by decide) (rs_duty K V hx (br_t hz (rs_rest K V hx (rs_left hFG R hn V.1 hx (br_t rfl (rs_labels K V hx ?_))))))
  exact pk_eq (q x) n (fun e => br_t ((congrArg nI (if_pos e)).trans nI_0) (rs_s127 hFG R hn V hx h)) (fun e => br_t ((congrArg nI (if_neg e)).trans rfl) (rs_s127 hFG R hn V hx h))
theorem rs_shows (hFG : ∀ k, F k < 4 ∧ G k < 4 ∧ F k ≠ G k) (R : rs_R row F G n) (hn : n ≤ 12) (K : rs_K n F G P a3 a4 a5 a6 a7) (V : rs_V n F G P d q a8) (h : post 1) :
    wpL_shows post (cn, kn, pc, 1, sc, a1, a2, a3, a4, a5, a6, a7, a8) row (nI n) (nI d) := by
  have hd := rs_d31 hn V.1
  have hm : 2 ^ n - 1 < 2 ^ 31 := by
    have := Nat.pow_le_pow_right (show 0 < 2 by decide) (show n ≤ 30 by omega)
    omega
  unfold wpL_shows
  refine pk_loop (σ := Unit) (fun fu x _ => wL_shows_9 post row (nI n) (nI d) cn kn pc 1 sc a1 a2 a3 a4 a5 a6 a7 a8 fu (nI (rs_ct (rs_fst F G q n) x)) 1 (nI x)) (fun _ _ => True) 4 0 () (by omega) trivial ?_ ?_
  · intro fu _ _
    refine br_t (by decide) (br_f (by decide) (rs_choices hFG K V (br_t rfl (rs_over K V (fun ho => ?_) (fun ho => ?_)))))
    · exact pk_eq d (2 ^ n - 1) (fun _ => br_t rfl h) (fun e => absurd ((rs_Vover hFG V).mp ho) e) (hy := rs_full (by omega))
    · exact pk_eq d (2 ^ n - 1) (fun e => absurd ((rs_Vover hFG V).mpr e) ho) (fun _ => br_t rfl h) (hy := rs_full (by omega))
  · intro fu x _ hx _ hw
    have qx := (V.2 x hx).1
    have hf := hFG (q x)
    refine br_f (nI_ge (b := 4) hx (by decide)) (rs_next hFG R hn V.1 hx (rs_Vnext V hx) ?_)
    refine pk_eq (q x) n (fun e => rs_s66 hFG R hn K V hx ?_ (hw () trivial)) (fun e => rs_from R (by omega) ?_)
    · unfold rs_dv
      rw [if_pos e]
      exact nI_0
    · refine pk_eq (F (q x)) x (fun f => rs_to R (by omega) (rs_s66 hFG R hn K V hx ?_ (hw () trivial))) (fun f => rs_from R (by omega) (rs_s66 hFG R hn K V hx ?_ (hw () trivial)))
      · unfold rs_dv
        rw [if_neg e, if_pos f]
        exact (nI_add 1 _).symm
      · unfold rs_dv
        rw [if_neg e, if_neg f]
        exact (nI_add 5 _).symm
end
end
section
/-! part 05: tokens, missing, complete, write -/
def rs_Tok (F G : Nat → Nat) (n : Nat) (a1 : Nat → Int32) : Prop := ∀ i, i < n → a1 i = nI (1 + F i + 4 * G i)
theorem rs_lab1 {post : Int32 → Prop} {a : Int32} {v : Nat} (ha : a = nI v) (h1 : 1 ≤ v) (h2 : v ≤ 16) (h : post 1) : wpX_labelsOf post () a := by
  subst ha
  exact br_f (nI_ne0 (by omega) (by omega)) (br_t (nI_le (b := 16) h2 (by decide)) h)
theorem rs_lab0 {post : Int32 → Prop} {a : Int32} (ha : a = 0) (h : post 0) : wpX_labelsOf post () a := by
  subst ha
  exact br_t rfl h
theorem rs_sender {post : Int32 → Prop} {a : Int32} {r s : Nat} (hr : r < 4) (hs : s < 4) (ha : a = nI (1 + r + 4 * s)) (h : post (nI r)) : wpX_senderOf post () a := by
  subst ha
  refine br_t (nI_le (b := 16) (by omega) (by decide)) ?_
  rw [(rs_tks r hr s hs).1]
  exact h
theorem rs_receiver {post : Int32 → Prop} {a : Int32} {r s : Nat} (hr : r < 4) (hs : s < 4) (ha : a = nI (1 + r + 4 * s)) (h : post (nI s)) : wpX_receiverOf post () a := by
  subst ha
  refine br_t (nI_le (b := 16) (by omega) (by decide)) ?_
  rw [(rs_tks r hr s hs).2]
  exact h
theorem rs_isTok {post : Int32 → Prop} {r s : Nat} (hr : r < 4) (hs : s < 4) (hrs : r ≠ s) (h : post 1) : wpX_isToken post () (nI (1 + r + 4 * s)) := by
  obtain ⟨t1, t2, t3, t4, t5⟩ := rs_tk r hr s hs hrs
  exact br_t t1 (br_f t2 (br_f t3 (br_f t4 (br_f t5 h))))
theorem rs_isTok0 {post : Int32 → Prop} (h : post 1) : wpX_isToken post () 0 := br_t (by decide) (br_t rfl h)
section
variable {n : Nat} {F G : Nat → Nat} {kn pc rn sc : Int32} {a1 a2 a3 a4 a5 a6 a7 a8 : Nat → Int32}
theorem rs_comp0 {post : Int32 → Prop} (hFG : ∀ k, F k < 4 ∧ G k < 4 ∧ F k ≠ G k) (hn : n ≤ 12) (T : rs_Tok F G n a1) (h : post 0) : wpX_complete post (nI n, kn, pc, rn, sc, a1, a2, a3, a4, a5, a6, a7, a8) := by
  unfold wpX_complete wpX_missing
  refine pk_loop (σ := Unit) (fun fu i _ => wX_missing_4 (fun r_1 => (r_1 = 0 → post 1) ∧ (¬ r_1 = 0 → post 0)) (nI n) kn pc rn sc a1 a2 a3 a4 a5 a6 a7 a8 fu 1 (nI i)) (fun _ _ => True) n 0 () (by omega) trivial ?_ ?_
  · intro fu _ _
    exact pk_le n n (fun _ => br_f (by decide) h) (fun z => absurd z (by omega))
  · intro fu i _ hi _ hw
    have hf := hFG i
    exact pk_le n i (fun z => absurd z (by omega)) (fun z => ⟨pk_in i 21 (by omega), rs_lab1 (v := 1 + F i + 4 * G i) (by rw [nI_clamp (by omega)]; exact T i z) (by omega) (by omega) (nm_r (show (1 : Int32) + (1 - 1) = 1 by decide) (nm_r (nI_1 i) (hw () trivial)))⟩)
theorem rs_comp1 {post : Int32 → Prop} (hFG : ∀ k, F k < 4 ∧ G k < 4 ∧ F k ≠ G k) (hn : n ≤ 12) (T : rs_Tok F G n a1) (T0 : a1 n = 0) (h : post 1) : wpX_complete post (nI (n + 1), kn, pc, rn, sc, a1, a2, a3, a4, a5, a6, a7, a8) := by
  unfold wpX_complete wpX_missing
  refine Exists.elim (pk_loop (σ := Unit) (fun fu i _ => wX_missing_4 (fun r_1 => (r_1 = 0 → post 1) ∧ (¬ r_1 = 0 → post 0)) (nI (n + 1)) kn pc rn sc a1 a2 a3 a4 a5 a6 a7 a8 fu (if i ≤ n then 1 else 0) (nI i)) (fun _ _ => True) (n + 1) 0 () (by omega) trivial ?_ ?_) (fun fu hfu => ?_)
  · intro fu _ _
    show wX_missing_4 (fun r_1 => (r_1 = 0 → post 1) ∧ (¬ r_1 = 0 → post 0)) (nI (n + 1)) kn pc rn sc a1 a2 a3 a4 a5 a6 a7 a8 (fu + 1) (if n + 1 ≤ n then 1 else 0) (nI (n + 1))
    rw [if_neg (by omega)]
    exact pk_le (n + 1) (n + 1) (fun _ => br_t rfl h) (fun z => absurd z (by omega))
  · intro fu i _ hi _ hw
    have hf := hFG i
    have hw2 : wX_missing_4 (fun r_1 => (r_1 = 0 → post 1) ∧ (¬ r_1 = 0 → post 0)) (nI (n + 1)) kn pc rn sc a1 a2 a3 a4 a5 a6 a7 a8 fu (if i + 1 ≤ n then 1 else 0) (nI (i + 1)) := hw () trivial
    show wX_missing_4 (fun r_1 => (r_1 = 0 → post 1) ∧ (¬ r_1 = 0 → post 0)) (nI (n + 1)) kn pc rn sc a1 a2 a3 a4 a5 a6 a7 a8 (fu + 1) (if i ≤ n then 1 else 0) (nI i)
    rw [if_pos (by omega)]
    refine pk_le (n + 1) i (fun z => absurd z (by omega)) (fun z => ⟨pk_in i 21 (by omega), ?_⟩)
    by_cases e : i = n
    · subst e
      rw [if_neg (by omega)] at hw2
      exact rs_lab0 (by rw [nI_clamp (by omega)]; exact T0) (nm_r (show (1 : Int32) + (0 - 1) = 0 by decide) (nm_r (nI_1 i) hw2))
    · rw [if_pos (by omega)] at hw2
      exact rs_lab1 (v := 1 + F i + 4 * G i) (by rw [nI_clamp (by omega)]; exact T i (by omega)) (by omega) (by omega) (nm_r (show (1 : Int32) + (1 - 1) = 1 by decide) (nm_r (nI_1 i) hw2))
  · have hfu' : wX_missing_4 (fun r_1 => (r_1 = 0 → post 1) ∧ (¬ r_1 = 0 → post 0)) (nI (n + 1)) kn pc rn sc a1 a2 a3 a4 a5 a6 a7 a8 fu (if 0 ≤ n then 1 else 0) (nI 0) := hfu
    rw [if_pos (by omega)] at hfu'
    exact ⟨fu, hfu'⟩
theorem rs_write {post : Int32 → St1 → Prop} (hFG : ∀ k, F k < 4 ∧ G k < 4 ∧ F k ≠ G k) (hn : n ≤ 12) (T : rs_Tok F G n a1) {tk : Int32} (hk : ∀ Q : Int32 → Prop, Q 1 → wpX_isToken Q () tk) (hb : tk.toInt8.toInt32 = tk)
    (h : post (nI (n + 1)) (nI (n + 1), 0, pc, 0, sc, upd a1 n tk, a2, a3, a4, a5, a6, a7, a8)) : wpX_write post (nI n, kn, pc, rn, sc, a1, a2, a3, a4, a5, a6, a7, a8) tk := by
  unfold wpX_write
  refine hk _ (br_f (by decide) (rs_comp0 hFG hn T (br_t rfl (br_t (nI_lt (b := 21) (by omega) (by decide)) ⟨pk_in n 21 (by omega), fun b eb => nm_r (nI_1 n) ?_⟩))))
  rw [nI_clamp (by omega), hb] at eb
  subst eb
  exact h
theorem rs_TokS (T : rs_Tok F G n a1) : rs_Tok F G (n + 1) (upd a1 n (nI (1 + F n + 4 * G n))) := by
  intro i hi
  by_cases e : i = n
  · subst e
    exact pk_us
  · rw [pk_un e]
    exact T i (by omega)
theorem rs_TokE (T : rs_Tok F G n a1) (v : Int32) : rs_Tok F G n (upd a1 n v) := by
  intro i hi
  rw [pk_un (by omega)]
  exact T i hi
end
end
section
/-! part 06: partFor, project, learn, fixed, fit, start -/
def rs_TB (pc : Nat) (a4 a5 a6 a7 : Nat → Int32) : Prop := 1 ≤ pc ∧ a7 0 = 0 ∧ ∀ p, 1 ≤ p → p < pc → ∃ f g, f < p ∧ g < p ∧ a6 (2 * p) = nI f ∧ a6 (2 * p + 1) = nI g ∧ a7 p = (1 + a7 f) + a7 g
def rs_kp (pc : Nat) (a4 a5 a6 a7 b4 b5 b6 b7 : Nat → Int32) : Prop := ∀ p, p < pc → b4 p = a4 p ∧ b5 p = a5 p ∧ b6 (2 * p) = a6 (2 * p) ∧ b7 p = a7 p
theorem rs_kp0 {pc : Nat} {a4 a5 a6 a7 : Nat → Int32} : rs_kp pc a4 a5 a6 a7 a4 a5 a6 a7 := fun _ _ => ⟨rfl, rfl, rfl, rfl⟩
theorem rs_okK {pc p dt f : Nat} {a4 a5 a6 a7 b4 b5 b6 b7 : Nat → Int32} (k : rs_kp pc a4 a5 a6 a7 b4 b5 b6 b7) (hp : p < pc) (hf : f < pc) (h : rs_ok a4 a5 a6 a7 p dt f) : rs_ok b4 b5 b6 b7 p dt f := by
  obtain ⟨h1, h2, h3, h4, h5⟩ := h
  obtain ⟨k1, k2, k3, k4⟩ := k p hp
  exact ⟨h1, by rw [k1, h2], by rw [k2, h3], by rw [k3, h4], by rw [k4, h5, (k f hf).2.2.2]⟩
section
variable {post : Int32 → St1 → Prop} {cn kn rn sc : Int32} {a1 a2 a3 a4 a5 a6 a7 a8 : Nat → Int32}
theorem rs_partFor {pc dt f : Nat} {D : Int32} (T : rs_TB pc a4 a5 a6 a7) (hpc : pc < 48) (hD : D = nI dt) (hdt : dt < 128) (hf : f < pc)
    (H : ∀ p pc' b4 b5 b6 b7, p < pc' → pc ≤ pc' → pc' ≤ pc + 1 → rs_TB pc' b4 b5 b6 b7 → rs_kp pc a4 a5 a6 a7 b4 b5 b6 b7 → rs_ok b4 b5 b6 b7 p dt f → post (nI p) (cn, kn, nI pc', rn, sc, a1, a2, a3, b4, b5, b6, b7, a8)) :
    wpX_partFor post (cn, kn, nI pc, rn, sc, a1, a2, a3, a4, a5, a6, a7, a8) D (nI 1) (nI f) (nI 0) := by
  subst hD
  unfold wpX_partFor
  refine pk_loop (σ := Unit) (fun fu p _ => wX_partFor_3 post (nI dt) (nI 1) (nI f) (nI 0) cn kn (nI pc) rn sc a1 a2 a3 a4 a5 a6 a7 a8 fu (nI p)) (fun p _ => 1 ≤ p) pc 1 () T.1 (Nat.le_refl 1) ?_ ?_
  · intro fu _ _
    refine pk_le pc pc (fun _ => ?_) (fun z => absurd z (by omega))
    have e2 : (2 : Int32) * nI pc = nI (2 * pc) := pk_mul 2 pc
    have e3 : (2 : Int32) * nI pc + 1 = nI (2 * pc + 1) := by rw [e2, nI_1]
    refine ⟨pk_in pc 48 hpc, fun b4 eb4 => ⟨pk_in pc 48 hpc, fun b5 eb5 => ⟨pk_in (2 * pc) 96 (by omega) e2, fun b6 eb6 => ⟨pk_in (2 * pc + 1) 96 (by omega) e3, fun c6 ec6 => ⟨pk_in f 48 (by omega), pk_in 0 48 (by omega), pk_in pc 48 hpc, fun b7 eb7 => nm_r (nI_1 pc) ?_⟩⟩⟩⟩⟩
    rw [nI_clamp (by omega), rs_b8 dt hdt] at eb4
    rw [nI_clamp (by omega), rs_b8 1 (by decide)] at eb5
    rw [e2, nI_clamp (by omega), rs_b8 f (by omega)] at eb6
    rw [e3, nI_clamp (by omega), rs_b8 0 (by decide)] at ec6
    rw [nI_clamp (by omega), nI_clamp (by omega), nI_clamp (by omega), T.2.1, Int32.add_zero] at eb7
    have T1 := T.1
    have v4 : b4 pc = nI dt := by rw [eb4, pk_us]
    have v5 : b5 pc = nI 1 := by rw [eb5, pk_us]
    have v6 : c6 (2 * pc) = nI f := by rw [ec6, pk_un (by omega), eb6, pk_us]
    have v6' : c6 (2 * pc + 1) = nI 0 := by rw [ec6, pk_us]
    have v7 : ∀ j, j < pc → b7 j = a7 j := fun j hj => by rw [eb7, pk_un (by omega)]
    have v7' : b7 pc = 1 + a7 f := by rw [eb7, pk_us]
    have w6 : ∀ j, j < 2 * pc → c6 j = a6 j := fun j hj => by rw [ec6, pk_un (by omega), eb6, pk_un (by omega)]
    refine H pc (pc + 1) b4 b5 c6 b7 (by omega) (by omega) (by omega) ⟨by omega, ?_, ?_⟩ ?_ ⟨T1, v4, v5, v6, ?_⟩
    · rw [v7 0 T1]
      exact T.2.1
    · intro p hp1 hp2
      by_cases e : p = pc
      · subst e
        exact ⟨f, 0, hf, T1, v6, v6', by rw [v7', v7 f hf, v7 0 T1, T.2.1, Int32.add_zero]⟩
      · obtain ⟨f', g', t1, t2, t3, t4, t5⟩ := T.2.2 p hp1 (by omega)
        exact ⟨f', g', t1, t2, by rw [w6 _ (by omega), t3], by rw [w6 _ (by omega), t4], by rw [v7 p (by omega), v7 f' (by omega), v7 g' (by omega), t5]⟩
    · intro p hp
      exact ⟨by rw [eb4, pk_un (by omega)], by rw [eb5, pk_un (by omega)], w6 _ (by omega), v7 p hp⟩
    · rw [v7', v7 f hf]
  · intro fu p _ hp hp1 hw
    have go : wX_partFor_3 post (nI dt) (nI 1) (nI f) (nI 0) cn kn (nI pc) rn sc a1 a2 a3 a4 a5 a6 a7 a8 fu (nI (p + 1)) := hw () (by omega)
    have no : wX_partFor_38 post (wX_partFor_3 post (nI dt) (nI 1) (nI f) (nI 0) cn kn (nI pc) rn sc a1 a2 a3 a4 a5 a6 a7 a8 fu) (nI dt) (nI 1) (nI f) (nI 0) (nI p) cn kn (nI pc) rn sc a1 a2 a3 a4 a5 a6 a7 a8 := br_t rfl (nm_r (nI_1 p) go)
    have e2 : (2 : Int32) * nI p = nI (2 * p) := pk_mul 2 p
    have e3 : (2 : Int32) * nI p + 1 = nI (2 * p + 1) := by rw [e2, nI_1]
    refine pk_le pc p (fun z => absurd z (by omega)) (fun z => ⟨pk_in p 48 (by omega), br_c (fun e4 => ⟨pk_in p 48 (by omega), br_c (fun e5 => br_f (by decide) ⟨pk_in (2 * p) 96 (by omega) e2, br_c (fun e6 => ⟨pk_in (2 * p + 1) 96 (by omega) e3, br_c (fun e7 => ?_) (fun _ => nm_r (nI_1 p) go)⟩) (fun _ => nm_r (nI_1 p) go)⟩) (fun _ => no)⟩) (fun _ => no)⟩)
    rw [nI_clamp (by omega)] at e4
    rw [nI_clamp (by omega)] at e5
    rw [e2, nI_clamp (by omega)] at e6
    rw [e3, nI_clamp (by omega)] at e7
    refine H p pc a4 a5 a6 a7 hp (Nat.le_refl _) (by omega) T rs_kp0 ⟨hp1, e4, e5, e6, ?_⟩
    obtain ⟨f', g', t1, t2, t3, t4, t5⟩ := T.2.2 p hp1 hp
    have ef : f' = f := (nI_eq (by omega) (by omega)).mp (t3.symm.trans e6)
    have eg : g' = 0 := (nI_eq (by omega) (by omega)).mp (t4.symm.trans e7)
    rw [t5, ef, eg, T.2.1, Int32.add_zero]
end
section
variable {n : Nat} {F G : Nat → Nat} {post : Int32 → St1 → Prop} {cn kn rn sc : Int32} {a1 a2 a3 a4 a5 a6 a7 a8 : Nat → Int32}
theorem rs_project (hFG : ∀ k, F k < 4 ∧ G k < 4 ∧ F k ≠ G k) (hn : n ≤ 12) (Tk : rs_Tok F G n a1) {i x f pc : Nat} (hi : i < n) (hx : x < 4) (T : rs_TB pc a4 a5 a6 a7) (hpc : pc < 48) (hf : f < pc) (hc : a3 ((i + 1) * 4 + x) = nI f)
    (H : ∀ p pc' b4 b5 b6 b7, p < pc' → pc ≤ pc' → pc' ≤ pc + (if F i = x ∨ G i = x then 1 else 0) → rs_TB pc' b4 b5 b6 b7 → rs_kp pc a4 a5 a6 a7 b4 b5 b6 b7 → rs_st F G b4 b5 b6 b7 i x p f → post (nI p) (cn, kn, nI pc', rn, sc, a1, a2, a3, b4, b5, b6, b7, a8)) :
    wpX_project post (cn, kn, nI pc, rn, sc, a1, a2, a3, a4, a5, a6, a7, a8) (nI i) (nI 1) (nI x) := by
  have hf' := hFG i
  have e : ((nI i + 1) * 4) + nI x = nI ((i + 1) * 4 + x) := by
    have e4 : nI (i + 1) * 4 = nI ((i + 1) * 4) := pk_mul (i + 1) 4
    rw [nI_1, e4, nI_add]
  have ec : a3 (((nI i + 1) * 4) + nI x).toNatClampNeg = nI f := by rw [e, nI_clamp (by omega)]; exact hc
  have ea : a1 (nI i).toNatClampNeg = nI (1 + F i + 4 * G i) := by rw [nI_clamp (by omega)]; exact Tk i hi
  unfold wpX_project
  refine br_f (by decide) ⟨pk_in ((i + 1) * 4 + x) 84 (by omega) e, nm_r ec (br_t (by decide) ?_)⟩
  unfold wX_project_50
  refine br_f (rs_nm1 (by omega)) (br_f (by decide) ⟨pk_in i 21 (by omega), rs_sender hf'.1 hf'.2.1 ea ⟨pk_in i 21 (by omega), rs_receiver hf'.1 hf'.2.1 ea ?_⟩⟩)
  refine pk_eq x (F i) (fun g => ?_) (fun g => pk_eq x (G i) (fun g2 => ?_) (fun g2 => br_t rfl ?_))
  · refine rs_partFor (dt := 1 + G i) T hpc (nI_add 1 _) (by omega) hf (fun p pc' b4 b5 b6 b7 h1 h2 h3 h4 h5 h6 => ?_)
    exact H p pc' b4 b5 b6 b7 h1 h2 (by rw [if_pos (Or.inl g.symm)]; exact h3) h4 h5 ⟨fun _ => h6, fun z => absurd (g.symm.trans z.symm) hf'.2.2, fun z => absurd (Or.inl g.symm) z⟩
  · refine rs_partFor (dt := 5 + F i) T hpc (nI_add 5 _) (by omega) hf (fun p pc' b4 b5 b6 b7 h1 h2 h3 h4 h5 h6 => ?_)
    exact H p pc' b4 b5 b6 b7 h1 h2 (by rw [if_pos (Or.inr g2.symm)]; exact h3) h4 h5 ⟨fun z => absurd z.symm g, fun _ => h6, fun z => absurd (Or.inr g2.symm) z⟩
  · exact H f pc a4 a5 a6 a7 hf (Nat.le_refl _) (by omega) T rs_kp0 ⟨fun z => absurd z.symm g, fun z => absurd z.symm g2, fun _ => rfl⟩
def rs_bd (a b x : Nat) : Nat := (if a < x then 1 else 0) + (if b < x then 1 else 0)
theorem rs_bd0 (a b : Nat) : rs_bd a b 0 = 0 := rfl
theorem rs_bd2 (a b x : Nat) : rs_bd a b x ≤ 2 := by
  unfold rs_bd
  by_cases h1 : a < x
  · by_cases h2 : b < x
    · rw [if_pos h1, if_pos h2]; omega
    · rw [if_pos h1, if_neg h2]; omega
  · by_cases h2 : b < x
    · rw [if_neg h1, if_pos h2]; omega
    · rw [if_neg h1, if_neg h2]; omega
theorem rs_bds {a b x : Nat} (h : a ≠ b) : rs_bd a b x + (if a = x ∨ b = x then 1 else 0) ≤ rs_bd a b (x + 1) := by
  unfold rs_bd
  by_cases h1 : a < x
  · rw [if_pos h1, if_pos (show a < x + 1 by omega)]
    by_cases h2 : b < x
    · rw [if_pos h2, if_pos (show b < x + 1 by omega), if_neg (by omega)]; omega
    · by_cases h3 : b = x
      · rw [if_neg h2, if_pos (show b < x + 1 by omega), if_pos (by omega)]; omega
      · rw [if_neg h2, if_neg (show ¬ b < x + 1 by omega), if_neg (by omega)]; omega
  · rw [if_neg h1]
    by_cases h4 : a = x
    · rw [if_pos (show a < x + 1 by omega), if_pos (Or.inl h4)]
      by_cases h2 : b < x
      · rw [if_pos h2, if_pos (show b < x + 1 by omega)]; omega
      · rw [if_neg h2, if_neg (show ¬ b < x + 1 by omega)]; omega
    · rw [if_neg (show ¬ a < x + 1 by omega)]
      by_cases h2 : b < x
      · rw [if_pos h2, if_pos (show b < x + 1 by omega), if_neg (by omega)]; omega
      · by_cases h3 : b = x
        · rw [if_neg h2, if_pos (show b < x + 1 by omega), if_pos (by omega)]; omega
        · rw [if_neg h2, if_neg (show ¬ b < x + 1 by omega), if_neg (by omega)]; omega
/-- cell (i, x) of parts is right -/
def rs_S (F G : Nat → Nat) (pc : Nat) (a3 a4 a5 a6 a7 : Nat → Int32) (i x : Nat) : Prop := ∃ p f, p < pc ∧ f < pc ∧ a3 (i * 4 + x) = nI p ∧ a3 ((i + 1) * 4 + x) = nI f ∧ rs_st F G a4 a5 a6 a7 i x p f
theorem rs_SK {pc pc' i x : Nat} {b3 b4 b5 b6 b7 : Nat → Int32} (h : rs_S F G pc a3 a4 a5 a6 a7 i x) (hpc : pc ≤ pc') (k : rs_kp pc a4 a5 a6 a7 b4 b5 b6 b7) (e1 : b3 (i * 4 + x) = a3 (i * 4 + x)) (e2 : b3 ((i + 1) * 4 + x) = a3 ((i + 1) * 4 + x)) : rs_S F G pc' b3 b4 b5 b6 b7 i x := by
  obtain ⟨p, f, h1, h2, h3, h4, s1, s2, s3⟩ := h
  exact ⟨p, f, by omega, by omega, by rw [e1, h3], by rw [e2, h4], fun z => rs_okK k h1 h2 (s1 z), fun z => rs_okK k h1 h2 (s2 z), s3⟩
theorem rs_l103 (hFG : ∀ k, F k < 4 ∧ G k < 4 ∧ F k ≠ G k) (hn : n ≤ 12) (Tk : rs_Tok F G n a1) {i : Nat} (hi : i < n) {J : Int32 → Int32 → Int32 → Int32 → Int32 → Int32 → (Nat → Int32) → (Nat → Int32) → (Nat → Int32) → (Nat → Int32) → (Nat → Int32) → (Nat → Int32) → (Nat → Int32) → (Nat → Int32) → Prop}
    (HJ : ∀ pc b3 b4 b5 b6 b7, rs_TB pc b4 b5 b6 b7 → pc ≤ 1 + 2 * (n - i) → (∀ y, y < 4 → b3 (n * 4 + y) = nI 0) → (∀ j y, i ≤ j → j < n → y < 4 → rs_S F G pc b3 b4 b5 b6 b7 j y) → J (nI i + (-1)) cn kn (nI pc) rn sc a1 a2 b3 b4 b5 b6 b7 a8) :
    ∀ (c x pc : Nat) (a3 a4 a5 a6 a7 : Nat → Int32), x + c = 4 → rs_TB pc a4 a5 a6 a7 → pc ≤ 1 + 2 * (n - 1 - i) + rs_bd (F i) (G i) x → (∀ y, y < 4 → a3 (n * 4 + y) = nI 0) → (∀ j y, i < j → j < n → y < 4 → rs_S F G pc a3 a4 a5 a6 a7 j y) → (∀ y, y < x → rs_S F G pc a3 a4 a5 a6 a7 i y) →
      wX_learn_103 post J (nI i) (nI 1) (c + 1) (nI x) cn kn (nI pc) rn sc a1 a2 a3 a4 a5 a6 a7 a8
  | 0, x, pc, a3, a4, a5, a6, a7, hc, T, hpc, hb, hS, hS2 => by
    have e : x = 4 := by omega
    subst e
    have h2 := rs_bd2 (F i) (G i) 4
    refine br_t (by decide) (nm_e (HJ pc a3 a4 a5 a6 a7 T (by omega) hb (fun j y h1 h2 h3 => ?_)))
    by_cases e : j = i
    · subst e
      exact hS2 y h3
    · exact hS j y (by omega) h2 h3
  | c + 1, x, pc, a3, a4, a5, a6, a7, hc, T, hpc, hb, hS, hS2 => by
    have hx : x < 4 := by omega
    have h2 := rs_bd2 (F i) (G i) x
    have hcell : ∃ f, f < pc ∧ a3 ((i + 1) * 4 + x) = nI f := by
      by_cases e : i + 1 = n
      · rw [e]
        exact ⟨0, T.1, hb x hx⟩
      · obtain ⟨p, f, h1, _, h3, _⟩ := hS (i + 1) x (by omega) (by omega) hx
        exact ⟨p, h1, h3⟩
    obtain ⟨f, hf, ef⟩ := hcell
    refine br_f (nI_ge (b := 4) hx (by decide)) (rs_project hFG hn Tk hi hx T (by omega) hf ef (fun p pc' b4 b5 b6 b7 g1 g2 g3 g4 g5 g6 => ?_))
    have e : (nI i * 4) + nI x = nI (i * 4 + x) := by
      have e4 : nI i * 4 = nI (i * 4) := pk_mul i 4
      rw [e4, nI_add]
    have h3 := rs_bds (x := x) (hFG i).2.2
    have h4 := rs_bd2 (F i) (G i) (x + 1)
    refine ⟨pk_in (i * 4 + x) 84 (by omega) e, fun b3 eb3 => nm_r (nI_1 x) ?_⟩
    rw [e, nI_clamp (by omega), rs_b8 p (by omega)] at eb3
    have u : ∀ j, j ≠ i * 4 + x → b3 j = a3 j := fun j hj => by rw [eb3, pk_un hj]
    refine rs_l103 hFG hn Tk hi HJ c (x + 1) pc' b3 b4 b5 b6 b7 (by omega) g4 (by omega) (fun y hy => ?_) (fun j y j1 j2 hy => ?_) (fun y hy => ?_)
    · rw [u _ (by omega)]
      exact hb y hy
    · exact rs_SK (hS j y j1 j2 hy) g2 g5 (u _ (by omega)) (u _ (by omega))
    · by_cases ey : y = x
      · subst ey
        exact ⟨p, f, g1, by omega, by rw [eb3, pk_us], by rw [u _ (by omega), ef], g6⟩
      · exact rs_SK (hS2 y (by omega)) g2 g5 (u _ (by omega)) (u _ (by omega))
theorem rs_l35 (hFG : ∀ k, F k < 4 ∧ G k < 4 ∧ F k ≠ G k) (hn : n ≤ 12) (Tk : rs_Tok F G n a1)
    (H : ∀ pc b2 b3 b4 b5 b6 b7, rs_TB pc b4 b5 b6 b7 → pc ≤ 25 → (∀ y, y < 4 → b3 (n * 4 + y) = nI 0) → (∀ j y, j < n → y < 4 → rs_S F G pc b3 b4 b5 b6 b7 j y) → post 1 (cn, kn, nI pc, rn, sc, a1, b2, b3, b4, b5, b6, b7, a8)) :
    ∀ (c pc : Nat) (a2 a3 a4 a5 a6 a7 : Nat → Int32), c ≤ n → rs_TB pc a4 a5 a6 a7 → pc ≤ 1 + 2 * (n - c) → (∀ y, y < 4 → a3 (n * 4 + y) = nI 0) → (∀ j y, c ≤ j → j < n → y < 4 → rs_S F G pc a3 a4 a5 a6 a7 j y) →
      wX_learn_35 post (c + 1) (nI c + (-1)) cn kn (nI pc) rn sc a1 a2 a3 a4 a5 a6 a7 a8
  | 0, pc, a2, a3, a4, a5, a6, a7, hc, T, hpc, hb, hS => br_t (by decide) (H pc a2 a3 a4 a5 a6 a7 T (by omega) hb (fun j y h1 h2 => hS j y (by omega) h1 h2))
  | i + 1, pc, a2, a3, a4, a5, a6, a7, hc, T, hpc, hb, hS => by
    have hf := hFG i
    have ea : a1 (nI i).toNatClampNeg = nI (1 + F i + 4 * G i) := by rw [nI_clamp (by omega)]; exact Tk i (by omega)
    rw [pk_m1]
    refine br_f (nI_pos (by omega)) ⟨pk_in i 21 (by omega), rs_lab1 ea (by omega) (by omega) (br_f (by decide) ⟨pk_in (i + 1) 21 (by omega) (nI_1 i), br_t (by decide) ⟨pk_in i 21 (by omega), fun b2 _ => ⟨5, ?_⟩⟩⟩)⟩
    refine rs_l103 hFG hn Tk (show i < n by omega) (fun pc' b3 b4 b5 b6 b7 g1 g2 g3 g4 => ?_) 4 0 pc a3 a4 a5 a6 a7 rfl T (by rw [rs_bd0]; omega) hb (fun j y h1 h2 h3 => hS j y (by omega) h2 h3) (fun y hy => absurd hy (by omega))
    exact rs_l35 hFG hn Tk H i pc' b2 b3 b4 b5 b6 b7 (by omega) g1 g2 g3 g4
theorem rs_l103z (hn : n ≤ 12) {pc : Int32} {J : Int32 → Int32 → Int32 → Int32 → Int32 → Int32 → (Nat → Int32) → (Nat → Int32) → (Nat → Int32) → (Nat → Int32) → (Nat → Int32) → (Nat → Int32) → (Nat → Int32) → (Nat → Int32) → Prop}
    (HJ : ∀ b3, (∀ y, y < 4 → b3 (n * 4 + y) = nI 0) → J (nI n + (-1)) cn kn pc rn sc a1 a2 b3 a4 a5 a6 a7 a8) :
    ∀ (c x : Nat) (a3 : Nat → Int32), x + c = 4 → (∀ y, y < x → a3 (n * 4 + y) = nI 0) → wX_learn_103 post J (nI n) 0 (c + 1) (nI x) cn kn pc rn sc a1 a2 a3 a4 a5 a6 a7 a8
  | 0, x, a3, hc, hb => by
    have e : x = 4 := by omega
    subst e
    exact br_t (by decide) (nm_e (HJ a3 hb))
  | c + 1, x, a3, hc, hb => by
    have e : (nI n * 4) + nI x = nI (n * 4 + x) := by
      have e4 : nI n * 4 = nI (n * 4) := pk_mul n 4
      rw [e4, nI_add]
    refine br_f (nI_ge (b := 4) (show x < 4 by omega) (by decide)) (br_t rfl ⟨pk_in (n * 4 + x) 84 (by omega) e, fun b3 eb3 => nm_r (nI_1 x) ?_⟩)
    rw [e, nI_clamp (by omega)] at eb3
    refine rs_l103z hn HJ c (x + 1) b3 (by omega) (fun y hy => ?_)
    by_cases ey : y = x
    · subst ey
      rw [eb3, pk_us]
      decide
    · rw [eb3, pk_un (by omega)]
      exact hb y (by omega)
/-- the whole static picture: tokens and parts -/
def rs_W (n : Nat) (F G : Nat → Nat) (P : Nat → Nat → Nat) (a1 a3 a4 a5 a6 a7 : Nat → Int32) : Prop := rs_Tok F G n a1 ∧ a1 n = 0 ∧ rs_K n F G P a3 a4 a5 a6 a7
theorem rs_mkK {pc : Nat} (T : rs_TB pc a4 a5 a6 a7) (hpc : pc ≤ 25) (hb : ∀ y, y < 4 → a3 (n * 4 + y) = nI 0) (hS : ∀ j y, j < n → y < 4 → rs_S F G pc a3 a4 a5 a6 a7 j y) : rs_K n F G (fun i x => (a3 (i * 4 + x)).toNatClampNeg) a3 a4 a5 a6 a7 := by
  refine ⟨fun i x hi hx => ?_, fun x hx => ?_, T.2.1, fun i x hi hx => ?_⟩
  · dsimp only
    by_cases e : i = n
    · subst e
      rw [hb x hx, nI_clamp (by omega)]
      exact ⟨by omega, rfl⟩
    · obtain ⟨p, f, h1, h2, h3, h4, h5⟩ := hS i x (by omega) hx
      rw [h3, nI_clamp (by omega)]
      exact ⟨by omega, rfl⟩
  · dsimp only
    rw [hb x hx, nI_clamp (by omega)]
  · dsimp only
    obtain ⟨p, f, h1, h2, h3, h4, h5⟩ := hS i x hi hx
    rw [h3, h4, nI_clamp (by omega), nI_clamp (by omega)]
    exact h5
theorem rs_learn (hFG : ∀ k, F k < 4 ∧ G k < 4 ∧ F k ≠ G k) (hn : n ≤ 12) (Tk : rs_Tok F G n a1) (T0 : a1 n = 0) (h7 : a7 0 = 0) {pc0 : Int32}
    (H : ∀ P pc b2 b3 b4 b5 b6 b7, rs_W n F G P a1 b3 b4 b5 b6 b7 → post 1 (nI (n + 1), 1, pc, rn, sc, a1, b2, b3, b4, b5, b6, b7, a8)) : wpX_learn post (nI (n + 1), 0, pc0, rn, sc, a1, a2, a3, a4, a5, a6, a7, a8) := by
  have ea : a1 (nI n).toNatClampNeg = 0 := by rw [nI_clamp (by omega)]; exact T0
  unfold wpX_learn
  refine rs_comp1 hFG hn Tk T0 (br_f (by decide) (br_t rfl (nm_r (nI_pred n) ⟨n + 2, ?_⟩)))
  refine br_f (nI_pos (by omega)) ⟨pk_in n 21 (by omega), rs_lab0 ea (br_t (by decide) (br_t (by decide) ⟨pk_in n 21 (by omega), fun b2 _ => ⟨5, ?_⟩⟩))⟩
  refine rs_l103z hn (fun b3 hb => ?_) 4 0 a3 rfl (fun y hy => absurd hy (by omega))
  refine rs_l35 hFG hn Tk (fun pc b2 b3 b4 b5 b6 b7 g1 g2 g3 g4 => H _ _ _ _ _ _ _ _ ⟨Tk, T0, rs_mkK g1 g2 g3 g4⟩) n 1 b2 b3 a4 a5 a6 a7 (Nat.le_refl n) ⟨Nat.le_refl 1, h7, fun p h1 h2 => absurd h2 (by omega)⟩ (by omega) hb (fun j y h1 h2 _ => absurd h1 (by omega))
theorem rs_learnK {P : Nat → Nat → Nat} {pc : Int32} (hFG : ∀ k, F k < 4 ∧ G k < 4 ∧ F k ≠ G k) (hn : n ≤ 12) (W : rs_W n F G P a1 a3 a4 a5 a6 a7) (h : post 1 (nI (n + 1), 1, pc, rn, sc, a1, a2, a3, a4, a5, a6, a7, a8)) : wpX_learn post (nI (n + 1), 1, pc, rn, sc, a1, a2, a3, a4, a5, a6, a7, a8) := by
  unfold wpX_learn
  exact rs_comp1 hFG hn W.1 W.2.1 (br_f (by decide) (br_f (by decide) h))
theorem rs_cell0 {P : Nat → Nat → Nat} (K : rs_K n F G P a3 a4 a5 a6 a7) {x : Nat} (hx : x < 4) : P 0 x < 48 ∧ a3 x = nI (P 0 x) := by
  have h := K.1 0 x (by omega) hx
  rw [Nat.zero_mul, Nat.zero_add] at h
  exact h
theorem rs_fix0 (hFG : ∀ k, F k < 4 ∧ G k < 4 ∧ F k ≠ G k) (hn : n ≤ 12) (Tk : rs_Tok F G n a1) (T0 : a1 n = 0) (h7 : a7 0 = 0) {pc0 : Int32} {x : Nat} (hx : x < 4)
    (H : ∀ P pc b2 b3 b4 b5 b6 b7, rs_W n F G P a1 b3 b4 b5 b6 b7 → post 1 (nI (n + 1), 1, pc, rn, sc, a1, b2, b3, b4, b5, b6, b7, a8)) : wpX_fixed post (nI (n + 1), 0, pc0, rn, sc, a1, a2, a3, a4, a5, a6, a7, a8) (nI x) := by
  unfold wpX_fixed
  refine rs_role hx (br_f (by decide) (rs_learn hFG hn Tk T0 h7 (fun P pc b2 b3 b4 b5 b6 b7 W => br_f (by decide) ⟨pk_in x 84 (by omega), br_f ?_ (H P pc b2 b3 b4 b5 b6 b7 W)⟩)))
  obtain ⟨c1, c2⟩ := rs_cell0 W.2.2 hx
  rw [nI_clamp (by omega), c2]
  exact rs_nm1 (by omega)
theorem rs_fixK {P : Nat → Nat → Nat} {pc : Int32} (hFG : ∀ k, F k < 4 ∧ G k < 4 ∧ F k ≠ G k) (hn : n ≤ 12) (W : rs_W n F G P a1 a3 a4 a5 a6 a7) {x : Nat} (hx : x < 4) (h : post 1 (nI (n + 1), 1, pc, rn, sc, a1, a2, a3, a4, a5, a6, a7, a8)) : wpX_fixed post (nI (n + 1), 1, pc, rn, sc, a1, a2, a3, a4, a5, a6, a7, a8) (nI x) := by
  unfold wpX_fixed
  refine rs_role hx (br_f (by decide) (rs_learnK hFG hn W (br_f (by decide) ⟨pk_in x 84 (by omega), br_f ?_ h⟩)))
  obtain ⟨c1, c2⟩ := rs_cell0 W.2.2 hx
  rw [nI_clamp (by omega), c2]
  exact rs_nm1 (by omega)
theorem rs_fit0 (hFG : ∀ k, F k < 4 ∧ G k < 4 ∧ F k ≠ G k) (hn : n ≤ 12) (Tk : rs_Tok F G n a1) (T0 : a1 n = 0) (h7 : a7 0 = 0) {pc0 : Int32}
    (H : ∀ P pc b2 b3 b4 b5 b6 b7, rs_W n F G P a1 b3 b4 b5 b6 b7 → post 1 (nI (n + 1), 1, pc, rn, sc, a1, b2, b3, b4, b5, b6, b7, a8)) : wpX_fit post (nI (n + 1), 0, pc0, rn, sc, a1, a2, a3, a4, a5, a6, a7, a8) := by
  unfold wpX_fit
  refine rs_fix0 (x := 0) hFG hn Tk T0 h7 (by decide) (fun P pc b2 b3 b4 b5 b6 b7 W => br_f (by decide) ?_)
  exact rs_fixK (x := 1) hFG hn W (by decide) (br_f (by decide) (rs_fixK (x := 2) hFG hn W (by decide) (br_f (by decide) (rs_fixK (x := 3) hFG hn W (by decide) (br_f (by decide) (H P pc b2 b3 b4 b5 b6 b7 W))))))
theorem rs_fitK {P : Nat → Nat → Nat} {pc : Int32} (hFG : ∀ k, F k < 4 ∧ G k < 4 ∧ F k ≠ G k) (hn : n ≤ 12) (W : rs_W n F G P a1 a3 a4 a5 a6 a7) (h : post 1 (nI (n + 1), 1, pc, rn, sc, a1, a2, a3, a4, a5, a6, a7, a8)) : wpX_fit post (nI (n + 1), 1, pc, rn, sc, a1, a2, a3, a4, a5, a6, a7, a8) := by
  unfold wpX_fit
  exact rs_fixK (x := 0) hFG hn W (by decide) (br_f (by decide) (rs_fixK (x := 1) hFG hn W (by decide) (br_f (by decide) (rs_fixK (x := 2) hFG hn W (by decide) (br_f (by decide) (rs_fixK (x := 3) hFG hn W (by decide) (br_f (by decide) h)))))))
theorem rs_size {P : Nat → Nat → Nat} {pc : Int32} (hFG : ∀ k, F k < 4 ∧ G k < 4 ∧ F k ≠ G k) (hn : n ≤ 12) (W : rs_W n F G P a1 a3 a4 a5 a6 a7) {x : Nat} (hx : x < 4) (h : post (nI (rs_cf F G x 0 n)) (nI (n + 1), 1, pc, rn, sc, a1, a2, a3, a4, a5, a6, a7, a8)) : wpX_size post (nI (n + 1), 1, pc, rn, sc, a1, a2, a3, a4, a5, a6, a7, a8) (nI x) := by
  obtain ⟨c1, c2⟩ := rs_cell0 W.2.2 hx
  have e3 : a3 (nI x).toNatClampNeg = nI (P 0 x) := by rw [nI_clamp (by omega)]; exact c2
  unfold wpX_size
  refine rs_fixK hFG hn W hx (br_f (by decide) ⟨pk_in x 84 (by omega), pk_in (P 0 x) 48 c1 e3, ?_⟩)
  rw [e3, nI_clamp (by omega), rs_Ksize W.2.2 hx n 0 (by omega)]
  exact h
theorem rs_start (hFG : ∀ k, F k < 4 ∧ G k < 4 ∧ F k ≠ G k) (hn : n ≤ 12) (Tk : rs_Tok F G n a1) (T0 : a1 n = 0) (h7 : a7 0 = 0) {pc0 : Int32}
    (H : ∀ P pc b2 b3 b4 b5 b6 b7 b8, rs_W n F G P a1 b3 b4 b5 b6 b7 → (∀ x, x < 4 → b8 x = nI (P 0 x)) → post 1 (nI (n + 1), 1, pc, 1, 0, a1, b2, b3, b4, b5, b6, b7, b8)) : wpX_start post (nI (n + 1), 0, pc0, rn, sc, a1, a2, a3, a4, a5, a6, a7, a8) := by
  unfold wpX_start
  refine rs_fit0 hFG hn Tk T0 h7 (fun P pc b2 b3 b4 b5 b6 b7 W => br_f (by decide) ?_)
  refine pk_loop (fun fu x b8 => wX_start_21 post (nI (n + 1)) 1 pc 1 0 fu (nI x) a1 b2 b3 b4 b5 b6 b7 b8) (fun x b8 => ∀ y, y < x → b8 y = nI (P 0 y)) 4 0 a8 (by omega) (fun y hy => absurd hy (by omega)) ?_ ?_
  · intro fu b8 h
    exact br_t (by decide) (H P pc b2 b3 b4 b5 b6 b7 b8 W h)
  · intro fu x b8 hx h hw
    obtain ⟨c1, c2⟩ := rs_cell0 W.2.2 hx
    refine br_f (nI_ge (b := 4) hx (by decide)) ⟨pk_in x 84 (by omega), pk_in x 4 hx, fun c8 e8 => nm_r (nI_1 x) (hw c8 (fun y hy => ?_))⟩
    rw [nI_clamp (by omega), c2, rs_nar (by omega)] at e8
    by_cases ey : y = x
    · subst ey
      rw [e8, pk_us]
    · rw [e8, pk_un ey]
      exact h y (by omega)
end
end
section
/-! part 07: the law's own loops -/
section
variable {L : Nat} {xs : Nat → Int32} {row : Int64} {n : Nat} {F G : Nat → Nat} {P : Nat → Nat → Nat} {kc ks : Nat} {pc rn sc sn : Int32} {a1 a2 a3 a4 a5 a6 a7 a8 : Nat → Int32}
theorem rs_395 (hFG : ∀ k, F k < 4 ∧ G k < 4 ∧ F k ≠ G k) (R : rs_R row F G n) (hn : n ≤ 12) (W : rs_W n F G P a1 a3 a4 a5 a6 a7) : ∃ fu, wL_law_395 (fun r => r = 1) L xs row (nI n) kc ks fu 0 (nI (n + 1)) 1 pc rn sc a1 a2 a3 a4 a5 a6 a7 a8 := by
  refine pk_loop (σ := Unit) (fun fu x _ => wL_law_395 (fun r => r = 1) L xs row (nI n) kc ks fu (nI x) (nI (n + 1)) 1 pc rn sc a1 a2 a3 a4 a5 a6 a7 a8) (fun _ _ => True) 4 0 () (by omega) trivial ?_ ?_
  · intro fu _ _
    exact br_t (by decide) rfl
  · intro fu x _ hx _ hw
    refine br_f (nI_ge (b := 4) hx (by decide)) (rs_size hFG hn W hx (rs_left (d := 0) hFG R hn (Nat.two_pow_pos n) hx (br_t ?_ (nm_r (nI_1 x) (hw () trivial)))))
    refine congrArg nI (rs_ct_congr n (fun j _ => ?_))
    rw [Nat.zero_testBit, decide_eq_true (Nat.zero_le j)]
    rfl
section
variable {J : Int32 → Int32 → Int32 → Int32 → Int32 → Int32 → Int32 → Int32 → (Nat → Int32) → (Nat → Int32) → (Nat → Int32) → (Nat → Int32) → (Nat → Int32) → (Nat → Int32) → (Nat → Int32) → (Nat → Int32) → Prop}
theorem rs_347 (hFG : ∀ k, F k < 4 ∧ G k < 4 ∧ F k ≠ G k) (R : rs_R row F G n) (hn : n ≤ 12) (K : rs_K n F G P a3 a4 a5 a6 a7) {d k : Nat} {q : Nat → Nat} (V : rs_V n F G P d q a8) {dn b : Int32} (hdn : dn = nI d)
    (HJ : J (nI d) sn (nI (k + 1)) (nI (n + 1)) 1 pc 1 sn a1 a2 a3 a4 a5 a6 a7 a8) : wL_law_347 (fun r => r = 1) L xs J row (nI n) dn (nI k) b b b sn kc ks (nI (n + 1)) 1 pc 1 sn a1 a2 a3 a4 a5 a6 a7 a8 := by
  subst hdn
  unfold wL_law_347
  refine br_t rfl (br_t rfl ?_)
  unfold wpX_sent
  exact br_f (by decide) (br_t rfl (rs_shows hFG R hn K V (br_f (by decide) (nm_r (nI_1 k) HJ))))
theorem rs_288n (hFG : ∀ k, F k < 4 ∧ G k < 4 ∧ F k ≠ G k) (R : rs_R row F G n) (hn : n ≤ 12) (K : rs_K n F G P a3 a4 a5 a6 a7) {d k r s lb : Nat} {q : Nat → Nat} (V : rs_V n F G P d q a8) (hr : r < 4) (hs : s < 4) (hlb : lb < 2) (no : ¬ (lb = 0 ∧ rs_Due F G q n r s)) {x14 : Int32}
    (HJ : ∀ d q sn a8, rs_V n F G P d q a8 → J (nI d) sn (nI (k + 1)) (nI (n + 1)) 1 pc 1 sn a1 a2 a3 a4 a5 a6 a7 a8) : wL_law_288 (fun r => r = 1) L xs J row (nI n) (nI d) sn (nI k) (nI r) (nI s) (nI lb) x14 0 kc ks (nI (n + 1)) 1 pc 1 sn a1 a2 a3 a4 a5 a6 a7 a8 := by
  unfold wL_law_288
  refine rs_poss hFG K V hr hs hlb (fun l D => absurd ⟨l, D⟩ no) (fun _ => rs_send hFG K V hr hs hlb (fun l D => absurd ⟨l, D⟩ no) (fun _ => br_t rfl (br_t rfl ?_)))
  exact rs_347 hFG R hn K V rfl (HJ d q sn a8 V)
theorem rs_288y (hFG : ∀ k, F k < 4 ∧ G k < 4 ∧ F k ≠ G k) (R : rs_R row F G n) (hn : n ≤ 12) (K : rs_K n F G P a3 a4 a5 a6 a7) {d k r s lb : Nat} {q : Nat → Nat} (V : rs_V n F G P d q a8) (hr : r < 4) (hs : s < 4) (hlb : lb = 0) (D : rs_Due F G q n r s)
    (HJ : ∀ d q sn a8, rs_V n F G P d q a8 → J (nI d) sn (nI (k + 1)) (nI (n + 1)) 1 pc 1 sn a1 a2 a3 a4 a5 a6 a7 a8) : wL_law_288 (fun r => r = 1) L xs J row (nI n) (nI d) sn (nI k) (nI r) (nI s) (nI lb) (nI (q r)) 1 kc ks (nI (n + 1)) 1 pc 1 sn a1 a2 a3 a4 a5 a6 a7 a8 := by
  have hq := D.1
  unfold wL_law_288
  refine rs_poss hFG K V hr hs (by omega) (fun _ _ => rs_send hFG K V hr hs (by omega) (fun _ _ b8 q' V' => br_f (by decide) (br_f (by decide) ?_)) (fun z => absurd ⟨hlb, D⟩ z)) (fun z => absurd ⟨hlb, D⟩ z)
  exact rs_347 hFG R hn K V' (rs_setbit d (by omega)) (HJ _ _ _ _ V')
theorem rs_220 (hFG : ∀ k, F k < 4 ∧ G k < 4 ∧ F k ≠ G k) (R : rs_R row F G n) (hn : n ≤ 12) (K : rs_K n F G P a3 a4 a5 a6 a7) {d k r s lb : Nat} {q : Nat → Nat} (V : rs_V n F G P d q a8) (hr : r < 4) (hs : s < 4) (hlb : lb < 2)
    (HJ : ∀ d q sn a8, rs_V n F G P d q a8 → J (nI d) sn (nI (k + 1)) (nI (n + 1)) 1 pc 1 sn a1 a2 a3 a4 a5 a6 a7 a8) : wL_law_220 (fun r => r = 1) L xs J row (nI n) (nI d) sn (nI k) (nI r) (nI s) (nI lb) kc ks (nI (n + 1)) 1 pc 1 sn a1 a2 a3 a4 a5 a6 a7 a8 := by
  have qr := (V.2 r hr).1
  have qs := (V.2 s hs).1
  have hf := hFG (q r)
  have no : ¬ (lb = 0 ∧ rs_Due F G q n r s) → wL_law_287 (fun r => r = 1) L xs J row (nI n) (nI d) sn (nI k) (nI r) (nI s) (nI lb) (nI (q r)) kc ks (nI (n + 1)) 1 pc 1 sn a1 a2 a3 a4 a5 a6 a7 a8 := fun z => rs_288n hFG R hn K V hr hs hlb z HJ
  unfold wL_law_220
  refine rs_next hFG R hn V.1 hr (rs_Vnext V hr) ?_
  refine pk_eq lb 0 (fun e => pk_le n (q r) (fun z => no (fun y => absurd y.2.1 (by omega))) (fun z => rs_from R z ?_)) (fun e => no (fun y => e y.1))
  refine pk_eq (F (q r)) r (fun f => rs_to R z ?_) (fun f => no (fun y => f y.2.2.1))
  refine pk_eq (G (q r)) s (fun g => rs_next hFG R hn V.1 hs (rs_Vnext V hs) ?_) (fun g => no (fun y => g y.2.2.2.1))
  exact pk_eq (q s) (q r) (fun h => rs_288y hFG R hn K V hr hs e ⟨z, f, g, h⟩ HJ) (fun h => no (fun y => h y.2.2.2.2))
end
theorem rs_163 (hFG : ∀ k, F k < 4 ∧ G k < 4 ∧ F k ≠ G k) (R : rs_R row F G n) (hn : n ≤ 12) (hL : L ≤ 260) (W : rs_W n F G P a1 a3 a4 a5 a6 a7) :
    ∀ (c k d : Nat) (q : Nat → Nat) (sn : Int32) (a8 : Nat → Int32), k + c = 4 * L → rs_V n F G P d q a8 → wL_law_163 (fun r => r = 1) L xs row (nI n) kc ks (c + 1) (nI d) sn (nI k) (nI (n + 1)) 1 pc 1 sn a1 a2 a3 a4 a5 a6 a7 a8
  | 0, k, d, q, sn, a8, hk, V => pk_le (4 * L) k (fun _ => rs_395 hFG R hn W) (fun z => absurd z (by omega)) (hx := pk_mul 4 L)
  | c + 1, k, d, q, sn, a8, hk, V => by
    have HJ : ∀ d q sn a8, rs_V n F G P d q a8 → wL_law_163 (fun r => r = 1) L xs row (nI n) kc ks (c + 1) (nI d) sn (nI (k + 1)) (nI (n + 1)) 1 pc 1 sn a1 a2 a3 a4 a5 a6 a7 a8 := fun d q sn a8 V => rs_163 hFG R hn hL W c (k + 1) d q sn a8 (by omega) V
    refine pk_le (4 * L) k (fun z => absurd z (by omega)) (fun z => ⟨by decide, pk_in (k / 4) L (by omega) (pk_div (a := k) (d := 4) (by omega) (by decide) (by decide)), by decide, fun x10 _ => ?_⟩) (hx := pk_mul 4 L)
    obtain ⟨r, hr, er⟩ := pk_andE x10 (m := 3) 2 (by decide)
    obtain ⟨s, hs, es⟩ := pk_andE (x10 >>> ((2 : Int32) &&& 31)) (m := 3) 2 (by decide)
    exact nm_r er (nm_r es (br_c (fun _ => rs_220 (lb := 1) hFG R hn W.2.2 V hr hs (by decide) HJ) (fun _ => rs_220 (lb := 0) hFG R hn W.2.2 V hr hs (by decide) HJ)))
theorem rs_118 {kn : Int32} (hFG : ∀ k, F k < 4 ∧ G k < 4 ∧ F k ≠ G k) (hn : n ≤ 12) (hL : L ≤ 260) (T : rs_Tok F G n a1) (h7 : a7 0 = 0) : wL_law_118 (fun r => r = 1) L xs (lN (rs_M F G n)) (nI n) kc ks (nI n) kn pc rn sc a1 a2 a3 a4 a5 a6 a7 a8 := by
  unfold wL_law_118
  refine rs_write hFG hn T (fun Q h => rs_isTok0 h) (by decide) ?_
  refine rs_start hFG hn (rs_TokE T 0) pk_us h7 (fun P pc b2 b3 b4 b5 b6 b7 b8 W h8 => ?_)
  refine br_t (nI_1 n).symm (br_f (by decide) (rs_fitK hFG hn W (br_f (by decide) ?_)))
  obtain ⟨q, V⟩ := rs_V0 W.2.2 h8
  exact ⟨4 * L + 1, rs_163 hFG (rs_RM (fun k => ⟨(hFG k).1, (hFG k).2.1⟩) hn) hn hL W (4 * L) 0 0 q 0 b8 (by omega) V⟩
end
theorem i_vc (xs : Nat → Int32) (L : Nat) (hL : L ≤ 260) : wpL_law (fun r => r = 1) L xs := by
  obtain ⟨F, G, hx⟩ := rs_FG xs
  have hFG : ∀ k, F k < 4 ∧ G k < 4 ∧ F k ≠ G k := fun k => ⟨(hx k).1, (hx k).2.1, (hx k).2.2.1⟩
  have hFG' : ∀ k, F k < 4 ∧ G k < 4 := fun k => ⟨(hx k).1, (hx k).2.1⟩
  refine ⟨8, 370, by decide, by decide, by decide, by decide, by decide, by decide, by decide, by decide, by decide, by decide, by decide, by decide, by decide, by decide, by decide, by decide, by decide, by decide, ?_⟩
  obtain ⟨e, he⟩ : ∃ e, e = min L 12 := ⟨_, rfl⟩
  refine pk_loop (fun fu i a1 => wL_law_16 (fun r => r = 1) L xs (1 + 8) (13 + 370) fu (lN (rs_M F G i)) (nI i) (nI i) (nI i) 0 0 0 0 a1 (fun _ => 0) (fun _ => 0) (fun _ => 0) (fun _ => 0) (fun _ => 0) (fun _ => 0) (fun _ => 0)) (fun i a1 => rs_Tok F G i a1) e 0 (fun _ => 0) (by omega) (fun i hi => absurd hi (by omega)) ?_ ?_
  · intro fu a1 T
    exact pk_le L e (fun z => rs_118 hFG (by omega) hL T rfl) (fun z => pk_le 12 e (fun y => rs_118 hFG (by omega) hL T rfl) (fun y => absurd y (by omega)))
  · intro fu i a1 hi T hw
    have hf := hFG i
    have ei : (nI i).toNatClampNeg = i := nI_clamp (by omega)
    have er : xs (nI i).toNatClampNeg &&& 3 = nI (F i) := by rw [ei]; exact (hx i).2.2.2.1
    have es : ((nI (F i) + 1) + (((xs (nI i).toNatClampNeg >>> ((2 : Int32) &&& 31)) &&& 255) - ((xs (nI i).toNatClampNeg >>> ((2 : Int32) &&& 31)) &&& 255) / 3 * 3)) &&& 3 = nI (G i) := by
      rw [ei, ← (hx i).2.2.2.1]
      exact (hx i).2.2.2.2
    have et : ((1 : Int32) + nI (F i)) + (4 * nI (G i)) = nI (1 + F i + 4 * G i) := by
      have e1 : (1 : Int32) + nI (F i) = nI (1 + F i) := nI_add 1 _
      have e4 : (4 : Int32) * nI (G i) = nI (4 * G i) := pk_mul 4 _
      rw [e1, e4, nI_add]
    refine pk_le L i (fun z => absurd z (by omega)) (fun z => pk_le 12 i (fun y => absurd y (by omega)) (fun y => ⟨pk_in i L z, nm_r er ⟨pk_in i L z, by decide, nm_r es ?_⟩⟩))
    rw [et]
    refine rs_write hFG (by omega) T (fun Q h => rs_isTok hf.1 hf.2.1 hf.2.2 h) (rs_b8 _ (by omega)) ?_
    exact nm_r (rs_Mput hFG' (by omega)) (nm_r (nI_1 i) (br_t rfl (rs_comp0 hFG (by omega) (rs_TokS T) (br_t rfl (nm_r (nI_1 i) (hw _ (rs_TokS T)))))))
end
