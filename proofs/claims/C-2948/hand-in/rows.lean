section
theorem pk_us {f : Nat → Int32} {k : Nat} {x : Int32} : upd f k x k = x := if_pos rfl
theorem pk_un {f : Nat → Int32} {k j : Nat} {x : Int32} (h : j ≠ k) : upd f k x j = f j := if_neg h
theorem pk_sub {a b : Nat} (h : b ≤ a) : nI a - nI b = nI (a - b) := by
  obtain ⟨c, rfl⟩ : ∃ c, a = c + b := ⟨a - b, by omega⟩
  rw [← nI_add, Int32.add_sub_cancel, Nat.add_sub_cancel]
theorem pk_m1 (n : Nat) : nI (n + 1) + (-1) = nI n := by
  rw [← nI_1, Int32.add_assoc, show (1 : Int32) + (-1) = 0 from rfl, Int32.add_zero]
theorem pk_mul (a b : Nat) : nI a * nI b = nI (a * b) := (Int32.ofNat_mul a b).symm
theorem pk_ix (x : Int32) {n : Nat} (hn : n < 2 ^ 31) : x < 0 ∨ nI n ≤ x ∨ ∃ j : Nat, j < n ∧ x = nI j := by
  by_cases h : x < 0
  · exact Or.inl h
  · obtain ⟨j, hj, rfl⟩ := nI_of h
    by_cases h2 : j < n
    · exact Or.inr (Or.inr ⟨j, h2, rfl⟩)
    · exact Or.inr (Or.inl (nI_le (by omega) hj))
theorem pk_le {x y : Int32} {A B : Prop} (a b : Nat) (f : a ≤ b → A) (g : b < a → B) (hx : x = nI a := by rfl) (hy : y = nI b := by rfl) (ha : a < 2 ^ 31 := by omega) (hb : b < 2 ^ 31 := by omega) : (x ≤ y → A) ∧ (¬ x ≤ y → B) := by
  subst hx hy
  rw [nI_leI ha hb]
  exact ⟨f, fun z => g (by omega)⟩
theorem pk_lt {x y : Int32} {A B : Prop} (a b : Nat) (f : a < b → A) (g : b ≤ a → B) (hx : x = nI a := by rfl) (hy : y = nI b := by rfl) (ha : a < 2 ^ 31 := by omega) (hb : b < 2 ^ 31 := by omega) : (x < y → A) ∧ (¬ x < y → B) := by
  subst hx hy
  rw [nI_ltI ha hb]
  exact ⟨f, fun z => g (by omega)⟩
theorem pk_eq {x y : Int32} {A B : Prop} (a b : Nat) (f : a = b → A) (g : a ≠ b → B) (hx : x = nI a := by rfl) (hy : y = nI b := by rfl) (ha : a < 2 ^ 31 := by omega) (hb : b < 2 ^ 31 := by omega) : (x = y → A) ∧ (¬ x = y → B) := by
  subst hx hy
  rw [nI_eq ha hb]
  exact ⟨f, g⟩
theorem pk_in {x : Int32} (n N : Nat) (h : n < N) (hx : x = nI n := by rfl) (hN : N < 2 ^ 31 := by omega) : vp_in x N := by
  subst hx
  exact vp_in_nI h hN
theorem pk_cl {x : Int32} (n : Nat) (hx : x = nI n := by rfl) (h : n < 2 ^ 31 := by omega) : x.toNatClampNeg = n := by
  subst hx
  exact nI_clamp h
theorem pk_tn {n : Nat} (h : n < 2 ^ 32) : (nI n).toBitVec.toNat = n := Nat.mod_eq_of_lt h
theorem pk_and (x : Int32) {m : Int32} (k : Nat) (hm : m.toBitVec.toNat = 2 ^ k - 1) : x &&& m = nI (x.toBitVec.toNat % 2 ^ k) := by
  apply Int32.toBitVec_inj.mp
  apply BitVec.eq_of_toNat_eq
  rw [Int32.toBitVec_and, BitVec.toNat_and, hm, Nat.and_two_pow_sub_one_eq_mod]
  show _ = (BitVec.ofNat 32 _).toNat
  rw [BitVec.toNat_ofNat]
  exact (Nat.mod_eq_of_lt (Nat.lt_of_le_of_lt (Nat.mod_le _ _) x.toBitVec.isLt)).symm
theorem pk_andN {n : Nat} (h : n < 2 ^ 32) {m : Int32} (k : Nat) (hm : m.toBitVec.toNat = 2 ^ k - 1) : nI n &&& m = nI (n % 2 ^ k) := by
  rw [pk_and _ k hm, pk_tn h]
theorem pk_andE (x : Int32) {m : Int32} (k : Nat) (hm : m.toBitVec.toNat = 2 ^ k - 1) : ∃ j : Nat, j < 2 ^ k ∧ x &&& m = nI j := ⟨_, Nat.mod_lt _ (Nat.two_pow_pos k), pk_and x k hm⟩
theorem pk_andIn (x : Int32) {m : Int32} (k : Nat) (hm : m.toBitVec.toNat = 2 ^ k - 1) (hk : k ≤ 30) : vp_in (x &&& m) (2 ^ k) := by
  obtain ⟨j, hj, e⟩ := pk_andE x k hm
  rw [e]
  exact vp_in_nI hj (Nat.lt_of_le_of_lt (Nat.pow_le_pow_right (by decide) hk) (by decide))
theorem pk_shl (a s : Int32) (k : Nat) (hs : (s.toBitVec.smod 32).toNat = k) : (a <<< s).toBitVec.toNat = a.toBitVec.toNat * 2 ^ k % 2 ^ 32 := by
  show (a.toBitVec <<< (s.toBitVec.smod 32).toNat).toNat = _
  rw [hs, BitVec.toNat_shiftLeft, Nat.shiftLeft_eq]
theorem pk_shlN {n : Nat} (s : Int32) (k : Nat) (hs : (s.toBitVec.smod 32).toNat = k) (h : n * 2 ^ k < 2 ^ 32) : nI n <<< s = nI (n * 2 ^ k) := by
  apply Int32.toBitVec_inj.mp
  apply BitVec.eq_of_toNat_eq
  have hn : n < 2 ^ 32 := Nat.lt_of_le_of_lt (Nat.le_mul_of_pos_right n (Nat.two_pow_pos k)) h
  rw [pk_shl _ _ k hs, pk_tn hn, pk_tn h, Nat.mod_eq_of_lt h]
theorem pk_shr (a s : Int32) (k : Nat) (hs : (s.toBitVec.smod 32).toNat = k) : (a >>> s).toInt = a.toInt >>> k := by
  show (a.toBitVec.sshiftRight (s.toBitVec.smod 32).toNat).toInt = _
  rw [hs, BitVec.toInt_sshiftRight]
  rfl
theorem pk_shrN {n : Nat} (h : n < 2 ^ 31) (s : Int32) (k : Nat) (hs : (s.toBitVec.smod 32).toNat = k) : nI n >>> s = nI (n / 2 ^ k) := by
  apply Int32.toInt_inj.mp
  have h2 : n / 2 ^ k ≤ n := Nat.div_le_self _ _
  rw [pk_shr _ _ k hs, nI_toInt h, nI_toInt (by omega), Int.shiftRight_eq_div_pow]
  rfl
theorem pk_vb (z : Int32) : vp_nar .byte z.toInt8.toInt32 = z.toInt8.toInt32 := by rw [vp_nar_byte]; simp
theorem pk_vs (z : Int32) : vp_nar .short z.toInt16.toInt32 = z.toInt16.toInt32 := by rw [vp_nar_short]; simp
theorem pk_least (P : Nat → Prop) (h : ∃ k, P k) : ∃ k, P k ∧ ∀ j, j < k → ¬ P j := by
  obtain ⟨k, hk⟩ := h
  induction k using Nat.strongRecOn with
  | ind k ih =>
    by_cases e : ∃ j, j < k ∧ P j
    · obtain ⟨j, hj, pj⟩ := e
      exact ih j hj pj
    · exact ⟨k, hk, fun j hj pj => e ⟨j, hj, pj⟩⟩
def bt (x : Int32) (i : Nat) : Bool := x.toBitVec.getLsbD i
theorem b_ext {x y : Int32} (h : ∀ i, i < 32 → bt x i = bt y i) : x = y := Int32.toBitVec_inj.mp (BitVec.eq_of_getLsbD_eq (fun i hi => h i hi))
theorem b_or (x y : Int32) (i : Nat) : bt (x ||| y) i = (bt x i || bt y i) := by unfold bt; rw [Int32.toBitVec_or, BitVec.getLsbD_or]
theorem b_and (x y : Int32) (i : Nat) : bt (x &&& y) i = (bt x i && bt y i) := by unfold bt; rw [Int32.toBitVec_and, BitVec.getLsbD_and]
theorem b_xor (x y : Int32) (i : Nat) : bt (x ^^^ y) i = (bt x i ^^ bt y i) := by unfold bt; rw [Int32.toBitVec_xor, BitVec.getLsbD_xor]
theorem b_big {x : Int32} {i : Nat} (h : 32 ≤ i) : bt x i = false := BitVec.getLsbD_of_ge _ _ h
theorem b_m1 : ∀ i, i < 32 → bt (-1) i = true := by decide +kernel
theorem b_0 (i : Nat) : bt 0 i = false := BitVec.getLsbD_zero
theorem s_l : ∀ n, n < 32 → ((nI n &&& 31).toBitVec.smod 32).toNat = n := by decide +kernel
theorem b_shl (n : Nat) (hn : n < 32) (x : Int32) {i : Nat} (hi : i < 32) : bt (x <<< (nI n &&& 31)) i = (decide (n ≤ i) && bt x (i - n)) := by
  unfold bt
  rw [Int32.toBitVec_shiftLeft]
  show (x.toBitVec <<< ((nI n &&& 31).toBitVec.smod 32).toNat).getLsbD i = _
  rw [s_l n hn, BitVec.getLsbD_shiftLeft]
  rcases Nat.lt_or_ge i n with h | h
  · simp [h, Nat.not_le.mpr h]
  · simp [hi, h, Nat.not_lt.mpr h]
theorem b_sshr (n : Nat) (hn : n < 32) (x : Int32) {i : Nat} (hi : i < 32) : bt (x >>> (nI n &&& 31)) i = if n + i < 32 then bt x (n + i) else bt x 31 := by
  unfold bt
  rw [Int32.toBitVec_shiftRight]
  show (x.toBitVec.sshiftRight ((nI n &&& 31).toBitVec.smod 32).toNat).getLsbD i = _
  rw [s_l n hn, BitVec.getLsbD_sshiftRight, BitVec.msb_eq_getLsbD_last]
  simp [hi]
end
section
/-! numbers, narrowing, bits, the decoding of a word -/
theorem bm_tm1 : (-1 : Int32).toInt = -1 := by decide
theorem bm_t0 : (0 : Int32).toInt = 0 := by decide
theorem bm_b8 {v : Nat} (h : v < 128) : (nI v).toInt8.toInt32 = nI v :=
  lg_i2b_small (by rw [nI_toInt (by omega)]; omega) (by rw [nI_toInt (by omega)]; omega)
theorem bm_nb {v : Nat} (h : v < 128) : vp_nar .byte (nI v).toInt8.toInt32 = nI v := by rw [pk_vb, bm_b8 h]
theorem bm_nb' {v : Nat} (h : v < 128) : vp_nar .byte (nI v) = nI v := by rw [vp_nar_byte, bm_b8 h]
theorem bm_s16 {v : Nat} (h : v < 32768) : (nI v).toInt16.toInt32 = nI v :=
  lg_i2s_small (by rw [nI_toInt (by omega)]; omega) (by rw [nI_toInt (by omega)]; omega)
theorem bm_ns {v : Nat} (h : v < 32768) : vp_nar .short (nI v).toInt16.toInt32 = nI v := by rw [pk_vs, bm_s16 h]
theorem bm_ns' {v : Nat} (h : v < 32768) : vp_nar .short (nI v) = nI v := by rw [vp_nar_short, bm_s16 h]
theorem bm_nsm : vp_nar .short (-1) = -1 := by rw [vp_nar_short]; decide
theorem bm_nb0 : vp_nar .byte 0 = 0 := by rw [vp_nar_byte]; decide
theorem bm_inj {a b : Nat} (h : nI a = nI b) (ha : a < 2 ^ 31) (hb : b < 2 ^ 31) : a = b := (nI_eq ha hb).mp h
theorem bm_ne1 {a : Nat} (h : a < 2 ^ 31) : ¬ nI a = -1 := by
  intro e
  have h1 := nI_toInt h
  rw [e, bm_tm1] at h1
  omega
theorem bm_nlm1 : ¬ (0 : Int32) ≤ -1 := by decide
/-- an array of small numbers -/
def bm_c (a : Nat → Int32) (k : Nat) : Nat := (a k).toNatClampNeg
def bm_B (b : Nat) (a : Nat → Int32) (n : Nat) : Prop := ∀ k, k < n → ∃ j, j < b ∧ a k = nI j
theorem bm_Bc {b n k : Nat} {a : Nat → Int32} (h : bm_B b a n) (hk : k < n) (hb : b ≤ 1000 := by omega) : a k = nI (bm_c a k) ∧ bm_c a k < b := by
  obtain ⟨j, hj, e⟩ := h k hk
  have : bm_c a k = j := by unfold bm_c; rw [e, nI_clamp (by omega)]
  rw [this]; exact ⟨e, hj⟩
theorem bm_B_up {b n j : Nat} {a : Nat → Int32} (h : bm_B b a n) (hj : j < b) : bm_B b (upd a n (nI j)) (n + 1) := by
  intro k hk
  by_cases e : k = n
  · subst e; exact ⟨j, hj, pk_us⟩
  · obtain ⟨i, hi, ei⟩ := h k (by omega)
    exact ⟨i, hi, by rw [pk_un e, ei]⟩
theorem bm_B_le {b n m : Nat} {a : Nat → Int32} (h : bm_B b a n) (hm : m ≤ n) : bm_B b a m := fun k hk => h k (by omega)
theorem bm_cu {a : Nat → Int32} {k j : Nat} (hj : j < 2 ^ 31) : bm_c (upd a k (nI j)) k = j := by
  unfold bm_c; rw [pk_us, nI_clamp hj]
theorem bm_cn {a : Nat → Int32} {k i : Nat} {x : Int32} (h : i ≠ k) : bm_c (upd a k x) i = bm_c a i := by
  unfold bm_c; rw [pk_un h]
/-! bits -/
theorem bm_bt (n : Nat) {i : Nat} (h : i < 32) : bt (nI n) i = n.testBit i := by
  show (BitVec.ofNat 32 n).getLsbD i = _
  rw [BitVec.getLsbD_ofNat, decide_eq_true h, Bool.true_and]
theorem bm_b1 : ∀ i, i < 32 → bt 1 i = decide (i = 0) := by decide +kernel
theorem bm_b30 : ∀ i, i < 32 → bt 1073741824 i = decide (i = 30) := by decide +kernel
theorem bm_b31 : ∀ i, i < 32 → bt (-2147483648) i = decide (i = 31) := by decide +kernel
theorem bm_one : ∀ n, n < 32 → ∀ i, i < 32 → bt ((1 : Int32) <<< (nI n &&& 31)) i = decide (i = n) := by decide +kernel
theorem bm_bv (x : Int32) {n : Nat} (hn : n < 32) : ((x >>> (nI n &&& 31)) &&& 1) = if bt x n = true then 1 else 0 := by
  apply b_ext
  intro i hi
  rw [b_and, b_sshr n hn x hi, bm_b1 i hi]
  by_cases e : i = 0
  · subst e
    rw [if_pos (by omega), Nat.add_zero]
    cases hb : bt x n
    · rw [if_neg (by decide), b_0]; rfl
    · rw [if_pos rfl, bm_b1 0 (by omega)]; rfl
  · rw [decide_eq_false e, Bool.and_false]
    cases hb : bt x n
    · rw [if_neg (by decide), b_0]
    · rw [if_pos rfl, bm_b1 i hi, decide_eq_false e]
theorem bm_bit (x : Int32) {n : Nat} (hn : n < 32) : ((x >>> (nI n &&& 31)) &&& 1) = 0 ↔ bt x n = false := by
  rw [bm_bv x hn]
  cases hb : bt x n
  · rw [if_neg (by decide)]; exact ⟨fun _ => rfl, fun _ => rfl⟩
  · rw [if_pos rfl]; exact ⟨fun z => absurd z (by decide), fun z => absurd z (by decide)⟩
theorem bm_au (x : Int32) {u : Nat} (hu : u < 32) : (x &&& ((1 : Int32) <<< (nI u &&& 31))) = 0 ↔ bt x u = false := by
  constructor
  · intro h
    have h2 : bt (x &&& ((1 : Int32) <<< (nI u &&& 31))) u = bt 0 u := by rw [h]
    rw [b_and, bm_one u hu u hu, b_0] at h2
    simpa using h2
  · intro h
    apply b_ext
    intro i hi
    rw [b_and, bm_one u hu i hi, b_0]
    by_cases e : i = u
    · subst e; rw [h]; rfl
    · rw [decide_eq_false e, Bool.and_false]
theorem bm_lt0 (x : Int32) : x < 0 ↔ bt x 31 = true := by
  rw [Int32.lt_iff_toInt_lt, bm_t0]
  have h : x.toBitVec.msb = decide (x.toBitVec.toInt < 0) := BitVec.msb_eq_toInt
  rw [BitVec.msb_eq_getLsbD_last] at h
  have h2 : bt x 31 = decide (x.toInt < 0) := h
  rw [h2, decide_eq_true_eq]
theorem bm_tb {v b i : Nat} (h : v < 2 ^ b) (hi : b ≤ i) : v.testBit i = false :=
  Nat.testBit_lt_two_pow (Nat.lt_of_lt_of_le h (Nat.pow_le_pow_right (by decide) hi))
theorem bm_fld (w : Int32) (s b v : Nat) (hs : s + b ≤ 32) (hs2 : s < 32) (hv : v < 2 ^ b) (h : ∀ i, i < b → bt w (s + i) = v.testBit i) :
    (w >>> (nI s &&& 31)) &&& nI (2 ^ b - 1) = nI v := by
  apply b_ext
  intro i hi
  rw [b_and, b_sshr s hs2 w hi, bm_bt _ hi, bm_bt _ hi, Nat.testBit_two_pow_sub_one]
  by_cases e : i < b
  · rw [if_pos (by omega), h i e, decide_eq_true e, Bool.and_true]
  · rw [decide_eq_false e, Bool.and_false, bm_tb hv (by omega)]
theorem bm_fl0 (w : Int32) (b v : Nat) (hv : v < 2 ^ b) (h : ∀ i, i < b → bt w i = v.testBit i) (hb : b ≤ 32) :
    w &&& nI (2 ^ b - 1) = nI v := by
  apply b_ext
  intro i hi
  rw [b_and, bm_bt _ hi, bm_bt _ hi, Nat.testBit_two_pow_sub_one]
  by_cases e : i < b
  · rw [h i e, decide_eq_true e, Bool.and_true]
  · rw [decide_eq_false e, Bool.and_false, bm_tb hv (by omega)]
/-! the word of an operation -/
def bm_E (o t l r m : Int32) : Int32 := ((((o ||| (t <<< ((4 : Int32) &&& 31))) ||| (l <<< ((8 : Int32) &&& 31))) ||| (r <<< ((12 : Int32) &&& 31))) ||| (m <<< ((16 : Int32) &&& 31))) ||| 1073741824
theorem bm_Eb (o t l r m : Nat) {i : Nat} (hi : i < 32) : bt (bm_E (nI o) (nI t) (nI l) (nI r) (nI m)) i =
    (((((o.testBit i || (decide (4 ≤ i) && t.testBit (i - 4))) || (decide (8 ≤ i) && l.testBit (i - 8))) || (decide (12 ≤ i) && r.testBit (i - 12))) || (decide (16 ≤ i) && m.testBit (i - 16))) || decide (i = 30)) := by
  unfold bm_E
  rw [b_or, b_or, b_or, b_or, b_or, bm_b30 i hi]
  have e4 : bt (nI t <<< ((4 : Int32) &&& 31)) i = (decide (4 ≤ i) && t.testBit (i - 4)) := by
    rw [← bm_bt t (show i - 4 < 32 by omega)]; exact b_shl 4 (by omega) (nI t) hi
  have e8 : bt (nI l <<< ((8 : Int32) &&& 31)) i = (decide (8 ≤ i) && l.testBit (i - 8)) := by
    rw [← bm_bt l (show i - 8 < 32 by omega)]; exact b_shl 8 (by omega) (nI l) hi
  have e12 : bt (nI r <<< ((12 : Int32) &&& 31)) i = (decide (12 ≤ i) && r.testBit (i - 12)) := by
    rw [← bm_bt r (show i - 12 < 32 by omega)]; exact b_shl 12 (by omega) (nI r) hi
  have e16 : bt (nI m <<< ((16 : Int32) &&& 31)) i = (decide (16 ≤ i) && m.testBit (i - 16)) := by
    rw [← bm_bt m (show i - 16 < 32 by omega)]; exact b_shl 16 (by omega) (nI m) hi
  rw [e4, e8, e12, e16, bm_bt o hi]
/-- w is the word of the operation (o t l r m), with or without its stop bit s -/
def bm_Wd (w : Int32) (o t l r m : Nat) (s : Bool) : Prop := ∀ i, i < 32 → bt w i = if i = 31 then s else bt (bm_E (nI o) (nI t) (nI l) (nI r) (nI m)) i
theorem bm_E31 {o t l r m : Nat} (ho : o < 16) (ht : t < 16) (hl : l < 16) (hr : r < 16) (hm : m < 32) : bt (bm_E (nI o) (nI t) (nI l) (nI r) (nI m)) 31 = false := by
  rw [bm_Eb o t l r m (by omega), bm_tb (b := 4) ho (by omega), bm_tb (b := 4) ht (by omega), bm_tb (b := 4) hl (by omega), bm_tb (b := 4) hr (by omega), bm_tb (b := 5) hm (by omega)]
  decide
theorem bm_Wd0 {o t l r m : Nat} (ho : o < 16) (ht : t < 16) (hl : l < 16) (hr : r < 16) (hm : m < 32) : bm_Wd (bm_E (nI o) (nI t) (nI l) (nI r) (nI m)) o t l r m false := by
  intro i hi
  by_cases e : i = 31
  · subst e; rw [if_pos rfl, bm_E31 ho ht hl hr hm]
  · rw [if_neg e]
theorem bm_Wd1 {o t l r m : Nat} : bm_Wd (bm_E (nI o) (nI t) (nI l) (nI r) (nI m) ||| (-2147483648)) o t l r m true := by
  intro i hi
  rw [b_or, bm_b31 i hi]
  by_cases e : i = 31
  · rw [if_pos e, decide_eq_true e, Bool.or_true]
  · rw [if_neg e, decide_eq_false e, Bool.or_false]
theorem bm_Wd_neg {w : Int32} {o t l r m : Nat} {s : Bool} (h : bm_Wd w o t l r m s) : w < 0 ↔ s = true := by
  rw [bm_lt0, h 31 (by omega), if_pos rfl]
theorem bm_Wd_30 {w : Int32} {o t l r m : Nat} {s : Bool} (h : bm_Wd w o t l r m s) : ¬ ((w >>> ((30 : Int32) &&& 31)) &&& 1) = 0 := by
  intro z
  have z2 := (bm_bit w (n := 30) (by omega)).mp z
  rw [h 30 (by omega), if_neg (by omega), bm_Eb o t l r m (by omega), decide_eq_true (show 30 = 30 from rfl), Bool.or_true] at z2
  exact absurd z2 (by decide)
theorem bm_Wd_o {w : Int32} {o t l r m : Nat} {s : Bool} (h : bm_Wd w o t l r m s) (ho : o < 16) : w &&& 15 = nI o := by
  refine bm_fl0 w 4 o ho (fun i hi => ?_) (by omega)
  rw [h i (by omega), if_neg (by omega), bm_Eb o t l r m (by omega), decide_eq_false (show ¬ 4 ≤ i by omega), decide_eq_false (show ¬ 8 ≤ i by omega), decide_eq_false (show ¬ 12 ≤ i by omega), decide_eq_false (show ¬ 16 ≤ i by omega), decide_eq_false (show ¬ i = 30 by omega)]
  simp only [Bool.false_and, Bool.or_false]
theorem bm_Wd_t {w : Int32} {o t l r m : Nat} {s : Bool} (h : bm_Wd w o t l r m s) (ho : o < 16) (ht : t < 16) : (w >>> ((4 : Int32) &&& 31)) &&& 15 = nI t := by
  refine bm_fld w 4 4 t (by omega) (by omega) ht (fun i hi => ?_)
  rw [h (4 + i) (by omega), if_neg (by omega), bm_Eb o t l r m (by omega), bm_tb (b := 4) (i := 4 + i) ho (by omega), decide_eq_true (show 4 ≤ 4 + i by omega), decide_eq_false (show ¬ 8 ≤ 4 + i by omega), decide_eq_false (show ¬ 12 ≤ 4 + i by omega), decide_eq_false (show ¬ 16 ≤ 4 + i by omega), decide_eq_false (show ¬ 4 + i = 30 by omega)]
  simp only [Bool.false_and, Bool.or_false, Bool.true_and, Bool.false_or, Nat.add_sub_cancel_left]
theorem bm_Wd_l {w : Int32} {o t l r m : Nat} {s : Bool} (h : bm_Wd w o t l r m s) (ho : o < 16) (ht : t < 16) (hl : l < 16) : (w >>> ((8 : Int32) &&& 31)) &&& 15 = nI l := by
  refine bm_fld w 8 4 l (by omega) (by omega) hl (fun i hi => ?_)
  rw [h (8 + i) (by omega), if_neg (by omega), bm_Eb o t l r m (by omega), bm_tb (b := 4) (i := 8 + i) ho (by omega), bm_tb (b := 4) (i := 8 + i - 4) ht (by omega), decide_eq_true (show 4 ≤ 8 + i by omega), decide_eq_true (show 8 ≤ 8 + i by omega), decide_eq_false (show ¬ 12 ≤ 8 + i by omega), decide_eq_false (show ¬ 16 ≤ 8 + i by omega), decide_eq_false (show ¬ 8 + i = 30 by omega)]
  simp only [Bool.false_and, Bool.or_false, Bool.true_and, Bool.false_or, Nat.add_sub_cancel_left]
theorem bm_Wd_r {w : Int32} {o t l r m : Nat} {s : Bool} (h : bm_Wd w o t l r m s) (ho : o < 16) (ht : t < 16) (hl : l < 16) (hr : r < 16) : (w >>> ((12 : Int32) &&& 31)) &&& 15 = nI r := by
  refine bm_fld w 12 4 r (by omega) (by omega) hr (fun i hi => ?_)
  rw [h (12 + i) (by omega), if_neg (by omega), bm_Eb o t l r m (by omega), bm_tb (b := 4) (i := 12 + i) ho (by omega), bm_tb (b := 4) (i := 12 + i - 4) ht (by omega), bm_tb (b := 4) (i := 12 + i - 8) hl (by omega), decide_eq_true (show 12 ≤ 12 + i by omega), decide_eq_false (show ¬ 16 ≤ 12 + i by omega), decide_eq_false (show ¬ 12 + i = 30 by omega)]
  simp only [Bool.false_and, Bool.and_false, Bool.or_false, Bool.true_and, Bool.false_or, Nat.add_sub_cancel_left]
theorem bm_Wd_m {w : Int32} {o t l r m : Nat} {s : Bool} (h : bm_Wd w o t l r m s) (ho : o < 16) (ht : t < 16) (hl : l < 16) (hr : r < 16) (hm : m < 32) : (w >>> ((16 : Int32) &&& 31)) &&& 31 = nI m := by
  refine bm_fld w 16 5 m (by omega) (by omega) hm (fun i hi => ?_)
  rw [h (16 + i) (by omega), if_neg (by omega), bm_Eb o t l r m (by omega), bm_tb (b := 4) (i := 16 + i) ho (by omega), bm_tb (b := 4) (i := 16 + i - 4) ht (by omega), bm_tb (b := 4) (i := 16 + i - 8) hl (by omega), bm_tb (b := 4) (i := 16 + i - 12) hr (by omega), decide_eq_true (show 16 ≤ 16 + i by omega), decide_eq_false (show ¬ 16 + i = 30 by omega)]
  simp only [Bool.false_and, Bool.and_false, Bool.or_false, Bool.true_and, Bool.false_or, Nat.add_sub_cancel_left]
end
section
/-! the machine's memory as 32 places (registers 0..15, cells 16..31), one operation, operations one after the other -/
def bm_tm (o : Nat) : Nat := if o = 2 then 3 else if o = 7 then 2 else 1
theorem bm_tm_r (o : Nat) : 1 ≤ bm_tm o ∧ bm_tm o ≤ 3 := by unfold bm_tm; split; omega; split <;> omega
theorem bm_tm8 : bm_tm 8 = 1 := rfl
def bm_ad (x : Int32) : Nat := 16 + (x &&& 15).toNatClampNeg
theorem bm_ad_n (x : Int32) : ∃ j, j < 16 ∧ x &&& 15 = nI j ∧ bm_ad x = 16 + j := by
  obtain ⟨j, hj, e⟩ := pk_andE x (m := 15) 4 (by decide)
  refine ⟨j, hj, e, ?_⟩
  unfold bm_ad; rw [e, nI_clamp (by omega)]
theorem bm_ad_r (x : Int32) : 16 ≤ bm_ad x ∧ bm_ad x < 32 := by
  obtain ⟨j, hj, -, e⟩ := bm_ad_n x
  omega
def bm_cb (o : Nat) (p q : Int32) : Int32 := if o = 0 then p + q else if o = 1 then p - q else if o = 2 then p * q else if o = 3 then p ^^^ q else if q ≤ p then 0 else 1
def bm_vl (o t l r : Nat) (nv : Int32) (m : Nat → Int32) : Int32 :=
  if o = 8 then m t else if o = 7 then m (bm_ad (m l + nv)) else if o = 5 then (if m t = 0 then m r else m l) else if o = 6 then m l + nv else if o = 9 then m l else bm_cb o (m l) (m r)
def bm_lc (o t l : Nat) (nv : Int32) (m : Nat → Int32) : Nat := if o = 8 then bm_ad (m l + nv) else t
def bm_st (o t l r : Nat) (nv : Int32) (m : Nat → Int32) : Nat → Int32 := upd m (bm_lc o t l nv m) (bm_vl o t l r nv m)
def bm_S (o t l r : Nat → Nat) (nv m0 : Nat → Int32) : Nat → Nat → Int32
  | 0 => m0
  | k + 1 => bm_st (o k) (t k) (l k) (r k) (nv k) (bm_S o t l r nv m0 k)
theorem bm_lc_r {o t l : Nat} {nv : Int32} {m : Nat → Int32} (ht : t < 16) : bm_lc o t l nv m < 32 := by
  unfold bm_lc; split
  · exact (bm_ad_r _).2
  · omega
/-- the sequence depends on the operations below k alone -/
theorem bm_S_cong {o t l r o' t' l' r' : Nat → Nat} {nv nv' m0 : Nat → Int32} : ∀ k, (∀ i, i < k → o' i = o i ∧ t' i = t i ∧ l' i = l i ∧ r' i = r i ∧ nv' i = nv i) → bm_S o' t' l' r' nv' m0 k = bm_S o t l r nv m0 k := by
  intro k
  induction k with
  | zero => intro _; rfl
  | succ k ih =>
    intro h
    obtain ⟨a, b, c, d, e⟩ := h k (by omega)
    show bm_st (o' k) (t' k) (l' k) (r' k) (nv' k) (bm_S o' t' l' r' nv' m0 k) = bm_st (o k) (t k) (l k) (r k) (nv k) (bm_S o t l r nv m0 k)
    rw [ih (fun i hi => h i (by omega)), a, b, c, d, e]
def bm_ag (m m' : Nat → Int32) : Prop := ∀ x, (x < 8 ∨ (16 ≤ x ∧ x < 32)) → m x = m' x
/-- a copy into a register 8..15 keeps the agreement -/
theorem bm_ag_mv {m m' : Nat → Int32} {z : Nat} {v : Int32} (h : bm_ag m m') (hz : 8 ≤ z ∧ z < 16) : bm_ag (upd m z v) m' := by
  intro x hx
  rw [pk_un (by omega)]; exact h x hx
theorem bm_st9 {t l r : Nat} {nv : Int32} {m : Nat → Int32} : bm_st 9 t l r nv m = upd m t (m l) := rfl
theorem bm_ag_op {m m' : Nat → Int32} {o d la lb a b : Nat} {nv : Int32} (h : bm_ag m m') (hd : d < 8) (ho : o ≤ 8) (ha : m la = m' a) (hb : o ≤ 5 → m lb = m' b) :
    bm_ag (bm_st o d la lb nv m) (bm_st o d a b nv m') := by
  have e1 : bm_lc o d la nv m = bm_lc o d a nv m' := by unfold bm_lc; rw [ha]
  have e2 : bm_vl o d la lb nv m = bm_vl o d a b nv m' := by
    unfold bm_vl
    rw [ha, h d (Or.inl hd), h (bm_ad (m' a + nv)) (Or.inr (bm_ad_r _))]
    by_cases h8 : o = 8
    · rw [if_pos h8, if_pos h8]
    rw [if_neg h8, if_neg h8]
    by_cases h7 : o = 7
    · rw [if_pos h7, if_pos h7]
    rw [if_neg h7, if_neg h7]
    by_cases h6 : o = 6
    · rw [if_neg (show ¬ o = 5 by omega), if_neg (show ¬ o = 5 by omega), if_pos h6, if_pos h6]
    rw [hb (by omega)]
  intro x hx
  unfold bm_st
  rw [e1, e2]
  unfold upd
  by_cases e : x = bm_lc o d a nv m'
  · rw [if_pos e, if_pos e]
  · rw [if_neg e, if_neg e]; exact h x hx
/-! the last write among a set of operations -/
def bm_W (L : Nat → Nat) (V m0 : Nat → Int32) (P : Nat → Bool) : Nat → Nat → Int32
  | 0, x => m0 x
  | k + 1, x => if P k = true ∧ L k = x then V k else bm_W L V m0 P k x
theorem bm_W_s {L : Nat → Nat} {V m0 : Nat → Int32} {P : Nat → Bool} {k x : Nat} : bm_W L V m0 P (k + 1) x = if P k = true ∧ L k = x then V k else bm_W L V m0 P k x := rfl
theorem bm_W_hi {L : Nat → Nat} {V m0 : Nat → Int32} {P : Nat → Bool} {x j : Nat} : ∀ n, j ≤ n → (∀ k, j ≤ k → k < n → P k = true → ¬ L k = x) → bm_W L V m0 P n x = bm_W L V m0 P j x := by
  intro n
  induction n with
  | zero => intro hj _; rw [show j = 0 by omega]
  | succ n ih =>
    intro hj h
    by_cases e : j = n + 1
    · rw [e]
    · rw [bm_W_s, if_neg (fun z => h n (by omega) (by omega) z.1 z.2)]
      exact ih (by omega) (fun k h1 h2 => h k h1 (by omega))
theorem bm_W_cong {L : Nat → Nat} {V m0 : Nat → Int32} {P Q : Nat → Bool} {x : Nat} : ∀ n, (∀ k, k < n → L k = x → P k = Q k) → bm_W L V m0 P n x = bm_W L V m0 Q n x := by
  intro n
  induction n with
  | zero => intro _; rfl
  | succ n ih =>
    intro h
    rw [bm_W_s, bm_W_s, ih (fun k hk => h k (by omega))]
    by_cases e : L n = x
    · rw [h n (by omega) e]
    · rw [if_neg (fun z => e z.2), if_neg (fun z => e z.2)]
theorem bm_W_add {L : Nat → Nat} {V m0 : Nat → Int32} {P Q : Nat → Bool} {k x : Nat} : ∀ n, k < n → (∀ i, i < n → i ≠ k → Q i = P i) → Q k = true → (∀ i, k < i → i < n → P i = true → ¬ L i = L k) →
    bm_W L V m0 Q n x = upd (bm_W L V m0 P n) (L k) (V k) x := by
  intro n
  induction n with
  | zero => intro hk; omega
  | succ n ih =>
    intro hk hq hqk hp
    unfold upd
    by_cases e : k = n
    · subst e
      rw [bm_W_s, bm_W_s, bm_W_cong k (fun i hi _ => hq i (by omega) (by omega))]
      by_cases ex : x = L k
      · rw [if_pos ⟨hqk, ex.symm⟩, if_pos ex]
      · rw [if_neg (fun z => ex z.2.symm), if_neg ex, if_neg (fun z => ex z.2.symm)]
    · have ih2 := ih (by omega) (fun i hi => hq i (by omega)) hqk (fun i h1 h2 => hp i h1 (by omega))
      unfold upd at ih2
      rw [bm_W_s, bm_W_s, hq n (by omega) (by omega), ih2]
      by_cases ex : x = L k
      · rw [if_pos ex, if_pos ex, if_neg (fun z => hp n (by omega) (by omega) z.1 (z.2.trans ex))]
      · rw [if_neg ex, if_neg ex]
section SEQ
variable (o t l r : Nat → Nat) (nv m0 : Nat → Int32)
/-- where operation k writes, and what, in the sequence -/
def bm_L (k : Nat) : Nat := bm_lc (o k) (t k) (l k) (nv k) (bm_S o t l r nv m0 k)
def bm_V (k : Nat) : Int32 := bm_vl (o k) (t k) (l k) (r k) (nv k) (bm_S o t l r nv m0 k)
theorem bm_S_W : ∀ k x, bm_S o t l r nv m0 k x = bm_W (bm_L o t l r nv m0) (bm_V o t l r nv m0) m0 (fun _ => true) k x := by
  intro k
  induction k with
  | zero => intro x; rfl
  | succ k ih =>
    intro x
    rw [bm_W_s, ← ih x]
    show upd (bm_S o t l r nv m0 k) (bm_L o t l r nv m0 k) (bm_V o t l r nv m0 k) x = _
    unfold upd
    by_cases e : x = bm_L o t l r nv m0 k
    · rw [if_pos e, if_pos ⟨rfl, e.symm⟩]
    · rw [if_neg e, if_neg (fun z => e z.2.symm)]
theorem bm_L_reg {k x : Nat} (hx : x < 16) (h : bm_L o t l r nv m0 k = x) : o k ≠ 8 ∧ t k = x := by
  unfold bm_L bm_lc at h
  by_cases e : o k = 8
  · rw [if_pos e] at h
    have := (bm_ad_r (bm_S o t l r nv m0 k (l k) + nv k)).1
    omega
  · rw [if_neg e] at h; exact ⟨e, h⟩
theorem bm_L_mem {k x : Nat} (hx : 16 ≤ x) (ht : t k < 16) (h : bm_L o t l r nv m0 k = x) : o k = 8 := by
  unfold bm_L bm_lc at h
  by_cases e : o k = 8
  · exact e
  · rw [if_neg e] at h; omega
def bm_rd (k x : Nat) : Prop := l k = x ∨ r k = x ∨ ((o k = 5 ∨ o k = 8) ∧ t k = x)
/-- the cycles keep all that the operations ask of each other -/
def bm_D (N : Nat) (cy : Nat → Nat) : Prop := ∀ i j, i < j → j < N →
  (o i ≠ 8 → bm_rd o t l r j (t i) → cy i + bm_tm (o i) ≤ cy j) ∧
  (o j ≠ 8 → bm_rd o t l r i (t j) → cy i ≤ cy j) ∧
  (o i ≠ 8 → o j ≠ 8 → t i = t j → cy i + bm_tm (o i) < cy j + bm_tm (o j)) ∧
  (o i = 8 → (o j = 7 ∨ o j = 8) → cy i < cy j) ∧
  (o i = 7 → o j = 8 → cy i ≤ cy j)
variable {o t l r nv m0}
variable {N : Nat} {cy : Nat → Nat}
/-- writes to one place land in order -/
theorem bm_D_L (hD : bm_D o t l r N cy) (ht : ∀ k, k < N → t k < 16) {i j : Nat} (hij : i < j) (hj : j < N) (e : bm_L o t l r nv m0 j = bm_L o t l r nv m0 i) : cy i + bm_tm (o i) < cy j + bm_tm (o j) := by
  obtain ⟨-, -, h3, h4, -⟩ := hD i j hij hj
  by_cases hx : bm_L o t l r nv m0 i < 16
  · obtain ⟨a1, a2⟩ := bm_L_reg o t l r nv m0 hx rfl
    obtain ⟨b1, b2⟩ := bm_L_reg o t l r nv m0 hx e
    exact h3 a1 b1 (by omega)
  · have a := bm_L_mem o t l r nv m0 (x := bm_L o t l r nv m0 i) (by omega) (ht i (by omega)) rfl
    have b := bm_L_mem o t l r nv m0 (x := bm_L o t l r nv m0 i) (by omega) (ht j hj) e
    have := h4 a (Or.inr b)
    rw [a, b]; omega
/-- what operation j reads in its cycle is what the sequence has for it: a register -/
theorem bm_D_reg (hD : bm_D o t l r N cy) {j x : Nat} (hj : j < N) (hx : x < 16) (hr : bm_rd o t l r j x) :
    bm_W (bm_L o t l r nv m0) (bm_V o t l r nv m0) m0 (fun k => decide (cy k + bm_tm (o k) ≤ cy j)) N x = bm_S o t l r nv m0 j x := by
  rw [bm_S_W, bm_W_hi (j := j) N (by omega)]
  · apply bm_W_cong
    intro k hk e
    obtain ⟨a1, a2⟩ := bm_L_reg o t l r nv m0 hx e
    exact decide_eq_true ((hD k j hk hj).1 a1 (by rw [a2]; exact hr))
  · intro k h1 h2 hp e
    have hp := of_decide_eq_true hp
    have := (bm_tm_r (o k)).1
    obtain ⟨a1, a2⟩ := bm_L_reg o t l r nv m0 hx e
    by_cases ek : k = j
    · subst ek; omega
    · have := (hD j k (by omega) h2).2.1 a1 (by rw [a2]; exact hr)
      omega
theorem bm_D_mem (hD : bm_D o t l r N cy) (ht : ∀ k, k < N → t k < 16) {j x : Nat} (hj : j < N) (hx : 16 ≤ x) (h7 : o j = 7) :
    bm_W (bm_L o t l r nv m0) (bm_V o t l r nv m0) m0 (fun k => decide (cy k + bm_tm (o k) ≤ cy j)) N x = bm_S o t l r nv m0 j x := by
  rw [bm_S_W, bm_W_hi (j := j) N (by omega)]
  · apply bm_W_cong
    intro k hk e
    have a1 := bm_L_mem o t l r nv m0 hx (ht k (by omega)) e
    have := (hD k j hk hj).2.2.2.1 a1 (Or.inl h7)
    exact decide_eq_true (by rw [a1, bm_tm8]; omega)
  · intro k h1 h2 hp e
    have hp := of_decide_eq_true hp
    have := (bm_tm_r (o k)).1
    have a1 := bm_L_mem o t l r nv m0 hx (ht k h2) e
    by_cases ek : k = j
    · subst ek; omega
    · have := (hD j k (by omega) h2).2.2.2.2 h7 a1
      omega
/-- an operation issued on a memory that holds what has landed writes what the sequence writes -/
theorem bm_D_is (hD : bm_D o t l r N cy) (ht : ∀ k, k < N → t k < 16) (hl : ∀ k, k < N → l k < 16) (hr : ∀ k, k < N → r k < 16) {j : Nat} (hj : j < N) {m : Nat → Int32}
    (hm : ∀ x, x < 32 → m x = bm_W (bm_L o t l r nv m0) (bm_V o t l r nv m0) m0 (fun k => decide (cy k + bm_tm (o k) ≤ cy j)) N x) :
    bm_lc (o j) (t j) (l j) (nv j) m = bm_L o t l r nv m0 j ∧ bm_vl (o j) (t j) (l j) (r j) (nv j) m = bm_V o t l r nv m0 j := by
  have el : m (l j) = bm_S o t l r nv m0 j (l j) := by
    rw [hm _ (by have := hl j hj; omega)]; exact bm_D_reg hD hj (hl j hj) (Or.inl rfl)
  have er : m (r j) = bm_S o t l r nv m0 j (r j) := by
    rw [hm _ (by have := hr j hj; omega)]; exact bm_D_reg hD hj (hr j hj) (Or.inr (Or.inl rfl))
  have et : (o j = 5 ∨ o j = 8) → m (t j) = bm_S o t l r nv m0 j (t j) := by
    intro h
    rw [hm _ (by have := ht j hj; omega)]; exact bm_D_reg hD hj (ht j hj) (Or.inr (Or.inr ⟨h, rfl⟩))
  have ea : o j = 7 → ∀ y, m (bm_ad y) = bm_S o t l r nv m0 j (bm_ad y) := by
    intro h y
    rw [hm _ (bm_ad_r y).2]; exact bm_D_mem hD ht hj (bm_ad_r y).1 h
  constructor
  · unfold bm_L bm_lc; rw [el]
  · unfold bm_V bm_vl
    by_cases h8 : o j = 8
    · rw [if_pos h8, if_pos h8, et (Or.inr h8)]
    rw [if_neg h8, if_neg h8]
    by_cases h7 : o j = 7
    · rw [if_pos h7, if_pos h7, ea h7, el]
    rw [if_neg h7, if_neg h7]
    by_cases h5 : o j = 5
    · rw [if_pos h5, if_pos h5, et (Or.inl h5), el, er]
    rw [if_neg h5, if_neg h5, el, er]
end SEQ
/-- different numbers below n are at most n -/
theorem bm_pig : ∀ (n : Nat) (L : List Nat), L.Nodup → (∀ x, x ∈ L → x < n) → L.length ≤ n
  | 0, L, _, h => by
    cases L with
    | nil => exact Nat.le_refl 0
    | cons a L => exact absurd (h a List.mem_cons_self) (by omega)
  | n + 1, L, hd, h => by
    by_cases hn : n ∈ L
    · have h2 : ∀ x, x ∈ L.erase n → x < n := fun x hx => by
        have hx1 := h x (List.mem_of_mem_erase hx)
        have hx2 : x ≠ n := fun e => by rw [e] at hx; exact (List.Nodup.not_mem_erase hd) hx
        omega
      have h3 := bm_pig n (L.erase n) (hd.erase n) h2
      rw [List.length_erase_of_mem hn] at h3
      omega
    · have h2 : ∀ x, x ∈ L → x < n := fun x hx => by
        have hx1 := h x hx
        have hx2 : x ≠ n := fun e => by rw [e] at hx; exact hn hx
        omega
      have := bm_pig n L hd h2
      omega
/-- the same for a list whose members have different keys below n -/
theorem bm_pigK (f : Nat → Nat) (n : Nat) : ∀ (L : List Nat), L.Nodup → (∀ x, x ∈ L → f x < n) → (∀ x y, x ∈ L → y ∈ L → f x = f y → x = y) → L.length ≤ n := by
  intro L hd h1 h2
  have hm : (L.map f).Nodup := by
    induction L with
    | nil => exact List.nodup_nil
    | cons a L ih =>
      rw [List.map_cons, List.nodup_cons]
      rw [List.nodup_cons] at hd
      refine ⟨fun z => ?_, ih hd.2 (fun x hx => h1 x (List.mem_cons_of_mem _ hx)) (fun x y hx hy => h2 x y (List.mem_cons_of_mem _ hx) (List.mem_cons_of_mem _ hy))⟩
      obtain ⟨y, hy, e⟩ := List.mem_map.mp z
      have := h2 y a (List.mem_cons_of_mem _ hy) List.mem_cons_self e
      rw [this] at hy
      exact hd.1 hy
  have := bm_pig n (L.map f) hm (fun x hx => by obtain ⟨y, hy, e⟩ := List.mem_map.mp hx; rw [← e]; exact h1 y hy)
  rwa [List.length_map] at this
end
section
/-! small methods of X: time, cluster, one more operation, a copy; then separation -/
theorem bm_bnf {x : Bool} (h : ¬ x = false) : x = true := by cases x; exact absurd rfl h; rfl
theorem bm_cle : ∀ r, r < 16 → (nI r >>> ((2 : Int32) &&& 31)) &&& 1 = nI (r / 4 % 2) := by decide +kernel
theorem bm_ub {f : Nat → Int32} {K o : Nat} (hK : K < 96) (ho : o < 128) : upd f (nI K).toNatClampNeg (vp_nar .byte (nI o).toInt8.toInt32) = upd f K (nI o) := by
  rw [nI_clamp (by omega), bm_nb ho]
/-- a separation as a number: 0 for none, one more than the cycles otherwise -/
def bm_sv (d : Nat) : Int32 := if d = 0 then -1 else nI (d - 1)
theorem bm_sv0 : bm_sv 0 = -1 := rfl
theorem bm_svs (a : Nat) : bm_sv (a + 1) = nI a := rfl
theorem bm_svt {d : Nat} (h : d < 1000) : (bm_sv d).toInt = (d : Int) - 1 := by
  unfold bm_sv
  by_cases e : d = 0
  · rw [if_pos e, bm_tm1, e]; rfl
  · rw [if_neg e, nI_toInt (by omega)]; omega
theorem bm_sv_lt {d : Nat} (h : d < 1000) : bm_sv d < 0 ↔ d = 0 := by
  rw [Int32.lt_iff_toInt_lt, bm_svt h, bm_t0]; omega
theorem bm_sv_le {d z : Nat} (h : d < 1000) (hz : z < 1000) : nI z ≤ bm_sv d ↔ z + 1 ≤ d := by
  rw [Int32.le_iff_toInt_le, bm_svt h, nI_toInt (by omega)]; omega
def bm_mx (a b : Nat) : Nat := if a ≤ b then b else a
theorem bm_mx_le (a b c : Nat) : bm_mx a b ≤ c ↔ a ≤ c ∧ b ≤ c := by unfold bm_mx; split <;> omega
theorem bm_le_mx (a b c : Nat) : c ≤ bm_mx a b ↔ c ≤ a ∨ c ≤ b := by unfold bm_mx; split <;> omega
def bm_rb (o t l r x : Nat) : Bool := (decide (l = x) || decide (r = x)) || (decide (o = 5 ∨ o = 8) && decide (t = x))
def bm_rs (o t l r : Nat) : Int32 := if o = 5 ∨ o = 8 then (((1 : Int32) <<< (nI l &&& 31)) ||| ((1 : Int32) <<< (nI r &&& 31))) ||| ((1 : Int32) <<< (nI t &&& 31)) else ((1 : Int32) <<< (nI l &&& 31)) ||| ((1 : Int32) <<< (nI r &&& 31))
theorem bm_rsb {o t l r x : Nat} (ht : t < 16) (hl : l < 16) (hr : r < 16) (hx : x < 16) : bt (bm_rs o t l r) x = bm_rb o t l r x := by
  have e : ∀ a, a < 16 → bt ((1 : Int32) <<< (nI a &&& 31)) x = decide (a = x) := fun a ha => by
    rw [bm_one a (by omega) x (by omega)]
    by_cases h : x = a
    · rw [decide_eq_true h, decide_eq_true h.symm]
    · rw [decide_eq_false h, decide_eq_false (fun z => h z.symm)]
  unfold bm_rs bm_rb
  by_cases h : o = 5 ∨ o = 8
  · rw [if_pos h, b_or, b_or, e l hl, e r hr, e t ht, decide_eq_true h, Bool.true_and]
  · rw [if_neg h, b_or, e l hl, e r hr, decide_eq_false h, Bool.false_and, Bool.or_false]
def bm_g1 (oi : Nat) (rj : Bool) : Nat := if oi = 8 then 0 else if rj = true then bm_tm oi + 1 else 0
def bm_g2 (oj : Nat) (ri : Bool) (d : Nat) : Nat := if oj = 8 then d else if ri = true then (if d = 0 then 1 else d) else d
def bm_g3 (oi oj ti tj d : Nat) : Nat := if oi = 8 then d else if oj = 8 then d else if ti = tj then bm_mx d (bm_tm oi + 1 - bm_tm oj + 1) else d
def bm_g4 (oi oj d : Nat) : Nat := if (oi = 7 ∨ oi = 8) ∧ (oj = 7 ∨ oj = 8) ∧ (oi = 8 ∨ oj = 8) then bm_mx d (if oi = 8 then 2 else 1) else d
def bm_sp (o t l r : Nat → Nat) (i j : Nat) : Nat :=
  bm_g4 (o i) (o j) (bm_g3 (o i) (o j) (t i) (t j) (bm_g2 (o j) (bm_rb (o i) (t i) (l i) (r i) (t j)) (bm_g1 (o i) (bm_rb (o j) (t j) (l j) (r j) (t i)))))
theorem bm_g1_r (oi : Nat) (rj : Bool) : bm_g1 oi rj ≤ 4 := by
  have := bm_tm_r oi
  unfold bm_g1; split
  · omega
  · split <;> omega
theorem bm_g2_r {oj d : Nat} {ri : Bool} : d ≤ bm_g2 oj ri d ∧ (d ≤ 4 → bm_g2 oj ri d ≤ 4) := by
  unfold bm_g2; split
  · omega
  · split
    · split <;> omega
    · omega
theorem bm_g3_r {oi oj ti tj d : Nat} : d ≤ bm_g3 oi oj ti tj d ∧ (d ≤ 4 → bm_g3 oi oj ti tj d ≤ 4) := by
  have := bm_tm_r oi
  have := bm_tm_r oj
  unfold bm_g3 bm_mx; split
  · omega
  · split
    · omega
    · split
      · split <;> omega
      · omega
theorem bm_g4_r {oi oj d : Nat} : d ≤ bm_g4 oi oj d ∧ (d ≤ 4 → bm_g4 oi oj d ≤ 4) := by
  unfold bm_g4 bm_mx; split
  · split
    · split <;> omega
    · split <;> omega
  · omega
theorem bm_sp_r (o t l r : Nat → Nat) (i j : Nat) : bm_sp o t l r i j ≤ 4 := bm_g4_r.2 (bm_g3_r.2 (bm_g2_r.2 (bm_g1_r _ _)))
theorem bm_rb_rd {o t l r : Nat → Nat} {k x : Nat} (h : bm_rd o t l r k x) : bm_rb (o k) (t k) (l k) (r k) x = true := by
  unfold bm_rd at h; unfold bm_rb
  rcases h with h | h | ⟨h, h2⟩
  · rw [decide_eq_true h]; rfl
  · rw [decide_eq_true h, Bool.or_true]; rfl
  · rw [decide_eq_true h, decide_eq_true h2]; simp
/-- cycles that keep the separations keep all that is asked -/
theorem bm_sp_D {o t l r : Nat → Nat} {N : Nat} {cy : Nat → Nat} (h : ∀ i j, i < j → j < N → bm_sp o t l r i j ≠ 0 → cy i + bm_sp o t l r i j ≤ cy j + 1) : bm_D o t l r N cy := by
  intro i j hij hj
  have H : ∀ a, 1 ≤ a → a ≤ bm_sp o t l r i j → cy i + a ≤ cy j + 1 := fun a h1 ha => by
    have := h i j hij hj (by omega)
    omega
  have t1 := bm_tm_r (o i)
  have t2 := bm_tm_r (o j)
  refine ⟨fun h1 h2 => ?_, fun h1 h2 => ?_, fun h1 h2 h3 => ?_, fun h1 h2 => ?_, fun h1 h2 => ?_⟩
  · have e : bm_tm (o i) + 1 ≤ bm_g1 (o i) (bm_rb (o j) (t j) (l j) (r j) (t i)) := by
      unfold bm_g1; rw [if_neg h1, if_pos (bm_rb_rd h2)]; omega
    have := H _ (by omega) (Nat.le_trans e (Nat.le_trans bm_g2_r.1 (Nat.le_trans bm_g3_r.1 bm_g4_r.1)))
    omega
  · have e : 1 ≤ bm_g2 (o j) (bm_rb (o i) (t i) (l i) (r i) (t j)) (bm_g1 (o i) (bm_rb (o j) (t j) (l j) (r j) (t i))) := by
      unfold bm_g2; rw [if_neg h1, if_pos (bm_rb_rd h2)]; split <;> omega
    have := H _ (by omega) (Nat.le_trans e (Nat.le_trans bm_g3_r.1 bm_g4_r.1))
    omega
  · have e : bm_tm (o i) + 1 - bm_tm (o j) + 1 ≤ bm_g3 (o i) (o j) (t i) (t j) (bm_g2 (o j) (bm_rb (o i) (t i) (l i) (r i) (t j)) (bm_g1 (o i) (bm_rb (o j) (t j) (l j) (r j) (t i)))) := by
      unfold bm_g3; rw [if_neg h1, if_neg h2, if_pos h3, bm_le_mx]; exact Or.inr (Nat.le_refl _)
    have := H _ (by omega) (Nat.le_trans e bm_g4_r.1)
    omega
  · have e : 2 ≤ bm_sp o t l r i j := by
      unfold bm_sp bm_g4
      rw [if_pos ⟨Or.inr h1, h2, Or.inl h1⟩, bm_le_mx, if_pos h1]; exact Or.inr (Nat.le_refl _)
    have := H 2 (by omega) e
    omega
  · have e : 1 ≤ bm_sp o t l r i j := by
      unfold bm_sp bm_g4
      rw [if_pos ⟨Or.inl h1, Or.inr h2, Or.inr h2⟩, bm_le_mx]; right; split <;> omega
    have := H 1 (by omega) e
    omega
section SEP
variable {eL eP eO eC eN eF : Int32} {vO vD vA vB mO mT mL mR mN nC uR cY bU cD rG cE fT fV fL : Nat → Int32}
theorem bm_xt {post : Int32 → Prop} {o : Nat} (ho : o < 16) (h : post (nI (bm_tm o))) : wpX_timeOf post (eL, eP, eO, eC, eN, eF, vO, vD, vA, vB, mO, mT, mL, mR, mN, nC, uR, cY, bU, cD, rG, cE, fT, fV, fL) (nI o) := by
  unfold bm_tm at h
  unfold wpX_timeOf
  refine pk_eq o 2 (fun e => ?_) (fun e => pk_eq o 7 (fun e2 => ?_) (fun e2 => ?_))
  · rw [if_pos e] at h; exact h
  · rw [if_neg e, if_pos e2] at h; exact h
  · rw [if_neg e, if_neg e2] at h; exact h
theorem bm_xc {post : Int32 → Prop} {r : Nat} (hr : r < 16) (h : post (nI (r / 4 % 2))) : wpX_clusterOf post (eL, eP, eO, eC, eN, eF, vO, vD, vA, vB, mO, mT, mL, mR, mN, nC, uR, cY, bU, cD, rG, cE, fT, fV, fL) (nI r) := by
  unfold wpX_clusterOf
  rw [← bm_cle r hr] at h
  exact h
theorem bm_xa {post : SX → Prop} {K o d a b n : Nat} (hK : K < 96) (ho : o < 128) (hd : d < 128) (ha : a < 128) (hb : b < 128) (hn : n < 128)
    (h : post (eL, eP, nI (K + 1), eC, eN, eF, vO, vD, vA, vB, upd mO K (nI o), upd mT K (nI d), upd mL K (nI a), upd mR K (nI b), upd mN K (nI n), nC, uR, cY, bU, cD, rG, cE, fT, fV, fL)) : wpX_addOp post (eL, eP, nI K, eC, eN, eF, vO, vD, vA, vB, mO, mT, mL, mR, mN, nC, uR, cY, bU, cD, rG, cE, fT, fV, fL) (nI o) (nI d) (nI a) (nI b) (nI n) := by
  have hi : vp_in (nI K) 96 := vp_in_nI hK (by omega)
  unfold wpX_addOp
  exact ⟨hi, nm_r (bm_ub hK ho) ⟨hi, nm_r (bm_ub hK hd) ⟨hi, nm_r (bm_ub hK ha) ⟨hi, nm_r (bm_ub hK hb) ⟨hi, nm_r (bm_ub hK hn) (nm_r (nI_1 K) h)⟩⟩⟩⟩⟩
theorem bm_xl {post : Int32 → SX → Prop} {K x c q : Nat} (hK : K < 96) (hx : x < 8) (hc : c < 2) (hq : nC c = nI q) (hq4 : q < 4)
    (h1 : x / 4 % 2 = c → post (nI x) (eL, eP, nI K, eC, eN, eF, vO, vD, vA, vB, mO, mT, mL, mR, mN, nC, uR, cY, bU, cD, rG, cE, fT, fV, fL))
    (h2 : x / 4 % 2 ≠ c → post (nI (8 + 4 * c + q)) (eL, eP, nI (K + 1), eC, eN, eF, vO, vD, vA, vB, upd mO K (nI 9), upd mT K (nI (8 + 4 * c + q)), upd mL K (nI x), upd mR K (nI x), upd mN K (nI 0), upd nC c (nI ((q + 1) % 4)), uR, cY, bU, cD, rG, cE, fT, fV, fL)) :
    wpX_localCopy post (eL, eP, nI K, eC, eN, eF, vO, vD, vA, vB, mO, mT, mL, mR, mN, nC, uR, cY, bU, cD, rG, cE, fT, fV, fL) (nI x) (nI c) := by
  have hi : vp_in (nI c) 2 := vp_in_nI hc (by omega)
  have e1 : (8 + (4 * nI c)) + (nC (nI c).toNatClampNeg) = nI (8 + 4 * c + q) := by
    rw [nI_clamp (by omega), hq, show (8 : Int32) + 4 * nI c = nI 8 + nI 4 * nI c from rfl, pk_mul, nI_add, nI_add]
  have e2 : upd nC (nI c).toNatClampNeg (vp_nar .byte ((((nC (nI c).toNatClampNeg) + 1) &&& 3).toInt8.toInt32)) = upd nC c (nI ((q + 1) % 4)) := by
    rw [nI_clamp (by omega), hq, nI_1, pk_andN (n := q + 1) (m := 3) (by omega) 2 (by decide), bm_nb (by omega)]
  unfold wpX_localCopy
  refine bm_xc (by omega) (pk_eq (x / 4 % 2) c h1 (fun e => ⟨hi, nm_r e1 ⟨hi, hi, nm_r e2 ?_⟩⟩))
  exact bm_xa (o := 9) (n := 0) hK (by omega) (by omega) (by omega) (by omega) (by omega) (h2 e)
theorem bm_xm {post : Int32 → Prop} {i o : Nat} (hi : i < 96) (e : mO i = nI o) (ho : o < 16) (h1 : (o = 7 ∨ o = 8) → post 1) (h0 : ¬ (o = 7 ∨ o = 8) → post 0) : wpX_touchesMemory post (eL, eP, eO, eC, eN, eF, vO, vD, vA, vB, mO, mT, mL, mR, mN, nC, uR, cY, bU, cD, rG, cE, fT, fV, fL) (nI i) := by
  have hin : vp_in (nI i) 96 := vp_in_nI hi (by omega)
  have e' : mO (nI i).toNatClampNeg = nI o := by rw [nI_clamp (by omega)]; exact e
  unfold wpX_touchesMemory
  exact ⟨hin, pk_eq o 7 (fun a => h1 (Or.inl a)) (fun a => ⟨hin, pk_eq o 8 (fun b => h1 (Or.inr b)) (fun b => h0 (by omega)) e'⟩) e'⟩
def bm_At (mO mT mL mR : Nat → Int32) (i o t l r : Nat) : Prop := (mO i = nI o ∧ mT i = nI t ∧ mL i = nI l ∧ mR i = nI r) ∧ o < 16 ∧ t < 16 ∧ l < 16 ∧ r < 16 ∧ i < 96
theorem bm_xr {post : Int32 → Prop} {i o t l r : Nat} (A : bm_At mO mT mL mR i o t l r) (h : post (bm_rs o t l r)) : wpX_readSet post (eL, eP, eO, eC, eN, eF, vO, vD, vA, vB, mO, mT, mL, mR, mN, nC, uR, cY, bU, cD, rG, cE, fT, fV, fL) (nI i) := by
  obtain ⟨⟨e1, e2, e3, e4⟩, ho, ht, hl, hr, hi⟩ := A
  have hin : vp_in (nI i) 96 := vp_in_nI hi (by omega)
  have c : (nI i).toNatClampNeg = i := nI_clamp (by omega)
  have e' : mO (nI i).toNatClampNeg = nI o := by rw [c]; exact e1
  have es : ((1 : Int32) <<< ((mL (nI i).toNatClampNeg) &&& 31)) ||| ((1 : Int32) <<< ((mR (nI i).toNatClampNeg) &&& 31)) = ((1 : Int32) <<< (nI l &&& 31)) ||| ((1 : Int32) <<< (nI r &&& 31)) := by rw [c, e3, e4]
  unfold bm_rs at h
  have k : (o = 5 ∨ o = 8) → wX_readSet_39 post (nI i) (((1 : Int32) <<< (nI l &&& 31)) ||| ((1 : Int32) <<< (nI r &&& 31))) eL eP eO eC eN eF vO vD vA vB mO mT mL mR mN nC uR cY bU cD rG cE fT fV fL := by
    intro z
    rw [if_pos z] at h
    unfold wX_readSet_39
    rw [c, e2]
    exact ⟨hin, h⟩
  unfold wpX_readSet
  refine ⟨hin, hin, nm_r es ⟨hin, pk_eq o 5 (fun a => k (Or.inl a)) (fun a => ⟨hin, pk_eq o 8 (fun b => k (Or.inr b)) (fun b => ?_) e'⟩) e'⟩⟩
  rw [if_neg (by omega)] at h
  exact h
section SEP2
variable {post : Int32 → Prop} {i j oi ti li ri oj tj lj rj d : Nat}
theorem bm_s220 {z : Nat} (hz : z < 900) (hd : d < 900) (h : post (bm_sv (bm_mx d (z + 1)))) : wX_separation_220 post (bm_sv d) (nI z) eL eP eO eC eN eF vO vD vA vB mO mT mL mR mN nC uR cY bU cD rG cE fT fV fL := by
  unfold wX_separation_220
  unfold bm_mx at h
  refine br_c (fun a => ?_) (fun a => ?_)
  · rw [bm_sv_le (by omega) (by omega)] at a
    by_cases e : d = z + 1
    · rw [e, if_pos (Nat.le_refl _)] at h; rw [e]; exact h
    · rw [if_neg (by omega)] at h; exact h
  · rw [bm_sv_le (by omega) (by omega)] at a
    rw [if_pos (by omega), bm_svs] at h; exact h
theorem bm_s166 (A : bm_At mO mT mL mR i oi ti li ri) (B : bm_At mO mT mL mR j oj tj lj rj) (hd : d < 900) (h : post (bm_sv (bm_g4 oi oj d))) : wX_separation_166 post (nI i) (nI j) (bm_sv d) eL eP eO eC eN eF vO vD vA vB mO mT mL mR mN nC uR cY bU cD rG cE fT fV fL := by
  obtain ⟨⟨e1, -, -, -⟩, ho, -, -, -, hi⟩ := A
  obtain ⟨⟨f1, -, -, -⟩, ho', -, -, -, hj⟩ := B
  have hin : vp_in (nI i) 96 := vp_in_nI hi (by omega)
  have hjn : vp_in (nI j) 96 := vp_in_nI hj (by omega)
  have e' : mO (nI i).toNatClampNeg = nI oi := by rw [nI_clamp (by omega)]; exact e1
  have f' : mO (nI j).toNatClampNeg = nI oj := by rw [nI_clamp (by omega)]; exact f1
  unfold bm_g4 at h
  have k : ((oi = 7 ∨ oi = 8) ∧ (oj = 7 ∨ oj = 8) ∧ (oi = 8 ∨ oj = 8)) → wX_separation_204 post (nI i) (bm_sv d) eL eP eO eC eN eF vO vD vA vB mO mT mL mR mN nC uR cY bU cD rG cE fT fV fL := by
    intro z
    rw [if_pos z] at h
    unfold wX_separation_204
    refine ⟨hin, pk_eq oi 8 (fun a => ?_) (fun a => ?_) e'⟩
    · rw [if_pos a] at h; exact bm_s220 (z := 1) (by omega) hd h
    · rw [if_neg a] at h; exact bm_s220 (z := 0) (by omega) hd h
  unfold wX_separation_166
  refine bm_xm hi e1 ho (fun a => br_f (by decide) ?_) (fun a => br_t rfl ?_)
  · refine bm_xm hj f1 ho' (fun b => br_f (by decide) ⟨hin, pk_eq oi 8 (fun z => k ⟨a, b, Or.inl z⟩) (fun z => ⟨hjn, pk_eq oj 8 (fun y => k ⟨a, b, Or.inr y⟩) (fun y => ?_) f'⟩) e'⟩) (fun b => br_t rfl ?_)
    · rw [if_neg (by omega)] at h; exact h
    · rw [if_neg (by omega)] at h; exact h
  · rw [if_neg (by omega)] at h; exact h
theorem bm_s157 {a : Nat} (A : bm_At mO mT mL mR i oi ti li ri) (B : bm_At mO mT mL mR j oj tj lj rj) (hd : d < 800) (ha : a < 800) (h : post (bm_sv (bm_g4 oi oj (bm_mx d (a + 1))))) : wX_separation_157 post (nI i) (nI j) (bm_sv d) (nI a) eL eP eO eC eN eF vO vD vA vB mO mT mL mR mN nC uR cY bU cD rG cE fT fV fL := by
  unfold wX_separation_157
  unfold bm_mx at h
  refine br_c (fun z => ?_) (fun z => ?_)
  · rw [bm_sv_le (by omega) (by omega)] at z
    by_cases e : d = a + 1
    · rw [e, if_pos (Nat.le_refl _)] at h; rw [e]; exact bm_s166 A B (by omega) h
    · rw [if_neg (by omega)] at h; exact bm_s166 A B (by omega) h
  · rw [bm_sv_le (by omega) (by omega)] at z
    rw [if_pos (by omega)] at h; exact bm_s166 (d := a + 1) A B (by omega) h
theorem bm_s99 {x4 x5 : Int32} (A : bm_At mO mT mL mR i oi ti li ri) (B : bm_At mO mT mL mR j oj tj lj rj) (hd : d < 800) (h4 : x4 = 0 ↔ oi = 8) (h5 : x5 = 0 ↔ oj = 8)
    (h : post (bm_sv (bm_g4 oi oj (bm_g3 oi oj ti tj d)))) : wX_separation_99 post (nI i) (nI j) (bm_sv d) x4 x5 eL eP eO eC eN eF vO vD vA vB mO mT mL mR mN nC uR cY bU cD rG cE fT fV fL := by
  obtain ⟨⟨e1, e2, -, -⟩, ho, ht, -, -, hi⟩ := id A
  obtain ⟨⟨f1, f2, -, -⟩, ho', ht', -, -, hj⟩ := id B
  have hin : vp_in (nI i) 96 := vp_in_nI hi (by omega)
  have hjn : vp_in (nI j) 96 := vp_in_nI hj (by omega)
  have ci : (nI i).toNatClampNeg = i := nI_clamp (by omega)
  have cj : (nI j).toNatClampNeg = j := nI_clamp (by omega)
  have t1 := bm_tm_r oi
  have t2 := bm_tm_r oj
  unfold bm_g3 at h
  unfold wX_separation_99
  refine br_c (fun a => ?_) (fun a => br_c (fun b => ?_) (fun b => ⟨hin, hjn, ?_⟩))
  · rw [if_pos (h4.mp a)] at h; exact bm_s166 A B (by omega) h
  · rw [if_neg (fun z => a (h4.mpr z)), if_pos (h5.mp b)] at h; exact bm_s166 A B (by omega) h
  · rw [if_neg (fun z => a (h4.mpr z)), if_neg (fun z => b (h5.mpr z))] at h
    rw [ci, cj, e2, f2, e1, f1]
    refine pk_eq ti tj (fun z => ⟨hin, bm_xt ho ⟨hjn, bm_xt ho' ?_⟩⟩) (fun z => ?_)
    · rw [if_pos z] at h
      have e : ((nI (bm_tm oi) - nI (bm_tm oj)) + 1).toInt = (bm_tm oi : Int) - bm_tm oj + 1 := by
        have s1 : (nI (bm_tm oi) - nI (bm_tm oj)).toInt = (bm_tm oi : Int) - bm_tm oj := by
          rw [Jvm.Kit.i32_sub] <;> rw [nI_toInt (by omega), nI_toInt (by omega)] <;> omega
        have o1 : (1 : Int32).toInt = 1 := by decide
        rw [Jvm.Kit.i32_add] <;> rw [s1, o1] <;> omega
      refine nm_e (br_c (fun y => ?_) (fun y => ?_))
      · rw [Int32.le_iff_toInt_le, e, bm_t0] at y
        have e3 : (nI (bm_tm oi) - nI (bm_tm oj)) + 1 = nI (bm_tm oi + 1 - bm_tm oj) := by
          apply Int32.toInt_inj.mp; rw [e, nI_toInt (by omega)]; omega
        rw [e3]
        exact bm_s157 A B hd (by omega) h
      · rw [Int32.le_iff_toInt_le, e, bm_t0] at y
        rw [show bm_tm oi + 1 - bm_tm oj = 0 by omega] at h
        exact bm_s157 (a := 0) A B hd (by omega) h
    · rw [if_neg z] at h; exact bm_s166 A B (by omega) h
theorem bm_s69 {x4 x5 : Int32} (A : bm_At mO mT mL mR i oi ti li ri) (B : bm_At mO mT mL mR j oj tj lj rj) (hd : d < 700) (h4 : x4 = 0 ↔ oi = 8) (h5 : x5 = 0 ↔ oj = 8)
    (h : post (bm_sv (bm_g4 oi oj (bm_g3 oi oj ti tj (bm_g2 oj (bm_rb oi ti li ri tj) d))))) : wX_separation_69 post (nI i) (nI j) (bm_sv d) x4 x5 eL eP eO eC eN eF vO vD vA vB mO mT mL mR mN nC uR cY bU cD rG cE fT fV fL := by
  obtain ⟨⟨e1, e2, -, -⟩, ho, ht, hl, hr, hi⟩ := id A
  obtain ⟨⟨f1, f2, -, -⟩, ho', ht', -, -, hj⟩ := id B
  have hjn : vp_in (nI j) 96 := vp_in_nI hj (by omega)
  have cj : (nI j).toNatClampNeg = j := nI_clamp (by omega)
  unfold bm_g2 at h
  unfold wX_separation_69
  refine br_c (fun a => ?_) (fun a => bm_xr A ⟨hjn, ?_⟩)
  · rw [if_pos (h5.mp a)] at h; exact bm_s99 A B (by omega) h4 h5 h
  · rw [if_neg (fun z => a (h5.mpr z))] at h
    rw [cj, f2]
    refine br_c (fun b => ?_) (fun b => br_c (fun c => ?_) (fun c => ?_))
    · rw [bm_bit _ (by omega), bm_rsb ht hl hr ht'] at b
      rw [b, if_neg (by decide)] at h; exact bm_s99 A B (by omega) h4 h5 h
    · rw [bm_bit _ (by omega), bm_rsb ht hl hr ht'] at b
      have c2 := (bm_sv_le (d := d) (z := 0) (by omega) (by omega)).mp c
      rw [if_pos (bm_bnf b), if_neg (by omega)] at h
      exact bm_s99 A B (by omega) h4 h5 h
    · rw [bm_bit _ (by omega), bm_rsb ht hl hr ht'] at b
      have c2 : d = 0 := Classical.byContradiction (fun z => c ((bm_sv_le (d := d) (z := 0) (by omega) (by omega)).mpr (by omega)))
      rw [if_pos (bm_bnf b), if_pos c2] at h
      exact bm_s99 (d := 1) A B (by omega) h4 h5 h
theorem bm_s53 {x4 : Int32} (A : bm_At mO mT mL mR i oi ti li ri) (B : bm_At mO mT mL mR j oj tj lj rj) (hd : d < 700) (h4 : x4 = 0 ↔ oi = 8)
    (h : post (bm_sv (bm_g4 oi oj (bm_g3 oi oj ti tj (bm_g2 oj (bm_rb oi ti li ri tj) d))))) : wX_separation_53 post (nI i) (nI j) (bm_sv d) x4 eL eP eO eC eN eF vO vD vA vB mO mT mL mR mN nC uR cY bU cD rG cE fT fV fL := by
  obtain ⟨⟨f1, f2, -, -⟩, ho', ht', -, -, hj⟩ := id B
  have hjn : vp_in (nI j) 96 := vp_in_nI hj (by omega)
  have f' : mO (nI j).toNatClampNeg = nI oj := by rw [nI_clamp (by omega)]; exact f1
  unfold wX_separation_53
  exact ⟨hjn, pk_eq oj 8 (fun a => bm_s69 A B hd h4 ⟨fun _ => a, fun _ => rfl⟩ h) (fun a => bm_s69 A B hd h4 ⟨fun z => absurd z (by decide), fun z => absurd z a⟩ h) f'⟩
theorem bm_s18 {x4 : Int32} (A : bm_At mO mT mL mR i oi ti li ri) (B : bm_At mO mT mL mR j oj tj lj rj) (h4 : x4 = 0 ↔ oi = 8)
    (h : post (bm_sv (bm_g4 oi oj (bm_g3 oi oj ti tj (bm_g2 oj (bm_rb oi ti li ri tj) (bm_g1 oi (bm_rb oj tj lj rj ti))))))) : wX_separation_18 post (nI i) (nI j) (-1) x4 eL eP eO eC eN eF vO vD vA vB mO mT mL mR mN nC uR cY bU cD rG cE fT fV fL := by
  obtain ⟨⟨e1, e2, -, -⟩, ho, ht, hl, hr, hi⟩ := id A
  obtain ⟨⟨f1, f2, -, -⟩, ho', ht', hl', hr', hj⟩ := id B
  have hin : vp_in (nI i) 96 := vp_in_nI hi (by omega)
  have ci : (nI i).toNatClampNeg = i := nI_clamp (by omega)
  have t1 := bm_tm_r oi
  unfold bm_g1 at h
  unfold wX_separation_18
  refine br_c (fun a => ?_) (fun a => bm_xr B ⟨hin, ?_⟩)
  · rw [if_pos (h4.mp a)] at h; exact bm_s53 (d := 0) A B (by omega) h4 h
  · rw [if_neg (fun z => a (h4.mpr z))] at h
    rw [ci, e2, e1]
    refine br_c (fun b => ?_) (fun b => ⟨hin, bm_xt ho ?_⟩)
    · rw [bm_bit _ (by omega), bm_rsb ht' hl' hr' ht] at b
      rw [b, if_neg (by decide)] at h; exact bm_s53 (d := 0) A B (by omega) h4 h
    · rw [bm_bit _ (by omega), bm_rsb ht' hl' hr' ht] at b
      rw [if_pos (bm_bnf b)] at h
      exact bm_s53 (d := bm_tm oi + 1) A B (by omega) h4 h
theorem bm_xs0 (A : bm_At mO mT mL mR i oi ti li ri) (B : bm_At mO mT mL mR j oj tj lj rj)
    (h : post (bm_sv (bm_g4 oi oj (bm_g3 oi oj ti tj (bm_g2 oj (bm_rb oi ti li ri tj) (bm_g1 oi (bm_rb oj tj lj rj ti))))))) : wpX_separation post (eL, eP, eO, eC, eN, eF, vO, vD, vA, vB, mO, mT, mL, mR, mN, nC, uR, cY, bU, cD, rG, cE, fT, fV, fL) (nI i) (nI j) := by
  obtain ⟨⟨e1, e2, -, -⟩, ho, ht, hl, hr, hi⟩ := id A
  have hin : vp_in (nI i) 96 := vp_in_nI hi (by omega)
  have e' : mO (nI i).toNatClampNeg = nI oi := by rw [nI_clamp (by omega)]; exact e1
  unfold wpX_separation
  exact ⟨hin, pk_eq oi 8 (fun a => bm_s18 A B ⟨fun _ => a, fun _ => rfl⟩ h) (fun a => bm_s18 A B ⟨fun z => absurd z (by decide), fun z => absurd z a⟩ h) e'⟩
end SEP2
/-- the ranges of the operations laid so far -/
def bm_R (mO mT mL mR mN : Nat → Int32) (N : Nat) : Prop := bm_B 10 mO N ∧ bm_B 16 mT N ∧ bm_B 16 mL N ∧ bm_B 16 mR N ∧ bm_B 24 mN N
theorem bm_R_at {mO mT mL mR mN : Nat → Int32} {N i : Nat} (h : bm_R mO mT mL mR mN N) (hN : N ≤ 96) (hi : i < N) : bm_At mO mT mL mR i (bm_c mO i) (bm_c mT i) (bm_c mL i) (bm_c mR i) := by
  obtain ⟨h1, h2, h3, h4, -⟩ := h
  obtain ⟨a1, b1⟩ := bm_Bc h1 hi
  obtain ⟨a2, b2⟩ := bm_Bc h2 hi
  obtain ⟨a3, b3⟩ := bm_Bc h3 hi
  obtain ⟨a4, b4⟩ := bm_Bc h4 hi
  exact ⟨⟨a1, a2, a3, a4⟩, by omega, b2, b3, b4, by omega⟩
def bm_sq (mO mT mL mR : Nat → Int32) (i j : Nat) : Nat := bm_sp (bm_c mO) (bm_c mT) (bm_c mL) (bm_c mR) i j
theorem bm_sq_r (mO mT mL mR : Nat → Int32) (i j : Nat) : bm_sq mO mT mL mR i j ≤ 4 := bm_sp_r _ _ _ _ _ _
theorem bm_xs {post : Int32 → Prop} {N i j : Nat} (hR : bm_R mO mT mL mR mN N) (hN : N ≤ 96) (hi : i < N) (hj : j < N) (h : post (bm_sv (bm_sq mO mT mL mR i j))) : wpX_separation post (eL, eP, eO, eC, eN, eF, vO, vD, vA, vB, mO, mT, mL, mR, mN, nC, uR, cY, bU, cD, rG, cE, fT, fV, fL) (nI i) (nI j) :=
  bm_xs0 (bm_R_at hR hN hi) (bm_R_at hR hN hj) h
end SEP
end
section
/-! lowering: the operations laid so far do what the instructions so far do -/
def bm_XS (mO mT mL mR mN vB m0 : Nat → Int32) (K : Nat) : Nat → Int32 := bm_S (bm_c mO) (bm_c mT) (bm_c mL) (bm_c mR) (fun k => vB (bm_c mN k)) m0 K
def bm_YS (vO vD vA vB m0 : Nat → Int32) (i : Nat) : Nat → Int32 := bm_S (bm_c vO) (bm_c vD) (bm_c vA) (bm_c vB) vB m0 i
theorem bm_YS_s (vO vD vA vB m0 : Nat → Int32) (i : Nat) : bm_YS vO vD vA vB m0 (i + 1) = bm_st (bm_c vO i) (bm_c vD i) (bm_c vA i) (bm_c vB i) (vB i) (bm_YS vO vD vA vB m0 i) := rfl
def bm_Q (K : Nat) (mO mT mL mR mN vB : Nat → Int32) (F : (Nat → Int32) → (Nat → Int32) → Prop) : Prop := bm_R mO mT mL mR mN K ∧ ∀ m0, F m0 (bm_XS mO mT mL mR mN vB m0 K)
theorem bm_Q_mono {K : Nat} {mO mT mL mR mN vB : Nat → Int32} {F F' : (Nat → Int32) → (Nat → Int32) → Prop} (h : bm_Q K mO mT mL mR mN vB F) (hF : ∀ m0 m, F m0 m → F' m0 m) : bm_Q K mO mT mL mR mN vB F' :=
  ⟨h.1, fun m0 => hF m0 _ (h.2 m0)⟩
theorem bm_Q_push {K o t l r n : Nat} {mO mT mL mR mN vB : Nat → Int32} {F F' : (Nat → Int32) → (Nat → Int32) → Prop} (h : bm_Q K mO mT mL mR mN vB F) (ho : o < 10) (ht : t < 16) (hl : l < 16) (hr : r < 16) (hn : n < 24)
    (hF : ∀ m0 m, F m0 m → F' m0 (bm_st o t l r (vB n) m)) : bm_Q (K + 1) (upd mO K (nI o)) (upd mT K (nI t)) (upd mL K (nI l)) (upd mR K (nI r)) (upd mN K (nI n)) vB F' := by
  obtain ⟨⟨h1, h2, h3, h4, h5⟩, hS⟩ := h
  refine ⟨⟨bm_B_up h1 ho, bm_B_up h2 ht, bm_B_up h3 hl, bm_B_up h4 hr, bm_B_up h5 hn⟩, fun m0 => ?_⟩
  have e : bm_XS (upd mO K (nI o)) (upd mT K (nI t)) (upd mL K (nI l)) (upd mR K (nI r)) (upd mN K (nI n)) vB m0 (K + 1) = bm_st o t l r (vB n) (bm_XS mO mT mL mR mN vB m0 K) := by
    have e1 : bm_XS (upd mO K (nI o)) (upd mT K (nI t)) (upd mL K (nI l)) (upd mR K (nI r)) (upd mN K (nI n)) vB m0 K = bm_XS mO mT mL mR mN vB m0 K := by
      unfold bm_XS
      apply bm_S_cong
      intro i hi
      have hne : i ≠ K := by omega
      exact ⟨bm_cn hne, bm_cn hne, bm_cn hne, bm_cn hne, congrArg vB (bm_cn hne)⟩
    show bm_st (bm_c (upd mO K (nI o)) K) (bm_c (upd mT K (nI t)) K) (bm_c (upd mL K (nI l)) K) (bm_c (upd mR K (nI r)) K) (vB (bm_c (upd mN K (nI n)) K)) (bm_XS (upd mO K (nI o)) (upd mT K (nI t)) (upd mL K (nI l)) (upd mR K (nI r)) (upd mN K (nI n)) vB m0 K) = _
    rw [e1, bm_cu (by omega), bm_cu (by omega), bm_cu (by omega), bm_cu (by omega), bm_cu (by omega)]
  rw [e]
  exact hF m0 _ (hS m0)
def bm_Src (n : Nat) (vO vD vA vB : Nat → Int32) : Prop := bm_B 9 vO n ∧ bm_B 8 vD n ∧ bm_B 8 vA n ∧ ∀ i, i < n → bm_c vO i ≤ 5 → ∃ j, j < 8 ∧ vB i = nI j
section LOW
variable {eL eP eO eC eN eF : Int32} {vO vD vA vB mO mT mL mR mN nC uR cY bU cD rG cE fT fV fL : Nat → Int32}
theorem bm_xl2 {post : Int32 → SX → Prop} {K x c q z w : Nat} {Y : (Nat → Int32) → (Nat → Int32)} (hK : K < 96) (hx : x < 8) (hc : c < 2) (hq : nC c = nI q) (hq4 : q < 4) (hz : z ≠ 8 + 4 * c + q)
    (hQ : bm_Q K mO mT mL mR mN vB (fun m0 m => bm_ag m (Y m0) ∧ m z = Y m0 w))
    (k : ∀ (la K' : Nat) (mO' mT' mL' mR' mN' nC' : Nat → Int32), K' ≤ K + 1 → la < 16 → (∃ q', nC' c = nI q' ∧ q' < 4 ∧ la ≠ 8 + 4 * c + q') → (∀ c', c' ≠ c → nC' c' = nC c') →
      bm_Q K' mO' mT' mL' mR' mN' vB (fun m0 m => bm_ag m (Y m0) ∧ m z = Y m0 w ∧ m la = Y m0 x) → post (nI la) (eL, eP, nI K', eC, eN, eF, vO, vD, vA, vB, mO', mT', mL', mR', mN', nC', uR, cY, bU, cD, rG, cE, fT, fV, fL)) :
    wpX_localCopy post (eL, eP, nI K, eC, eN, eF, vO, vD, vA, vB, mO, mT, mL, mR, mN, nC, uR, cY, bU, cD, rG, cE, fT, fV, fL) (nI x) (nI c) := by
  refine bm_xl hK hx hc hq hq4 (fun e => ?_) (fun e => ?_)
  · exact k x K mO mT mL mR mN nC (by omega) (by omega) ⟨q, hq, hq4, by omega⟩ (fun _ _ => rfl) (bm_Q_mono hQ (fun m0 m h => ⟨h.1, h.2, h.1 x (Or.inl hx)⟩))
  · refine k (8 + 4 * c + q) (K + 1) _ _ _ _ _ _ (by omega) (by omega) ⟨(q + 1) % 4, pk_us, by omega, by omega⟩ (fun c' hc' => pk_un hc') (bm_Q_push hQ (by omega) (by omega) (by omega) (by omega) (by omega) (fun m0 m h => ?_))
    rw [bm_st9]
    exact ⟨bm_ag_mv h.1 (by omega), by rw [pk_un hz]; exact h.2, by rw [pk_us]; exact h.1 x (Or.inl hx)⟩
theorem bm_l81 {post : SX → Prop} {J : Int32 → Int32 → Int32 → Int32 → Int32 → Int32 → Int32 → (Nat → Int32) → (Nat → Int32) → (Nat → Int32) → (Nat → Int32) → (Nat → Int32) → (Nat → Int32) → (Nat → Int32) → (Nat → Int32) → (Nat → Int32) → (Nat → Int32) → (Nat → Int32) → (Nat → Int32) → (Nat → Int32) → (Nat → Int32) → (Nat → Int32) → (Nat → Int32) → (Nat → Int32) → (Nat → Int32) → (Nat → Int32) → Prop} {i o d la lb K : Nat}
    (hi : i < 24) (eo : vO i = nI o) (ho : o < 9) (hd : d < 16) (ha : la < 16) (hb : lb < 16) (hK : K < 96)
    (h : J (nI (i + 1)) eL eP (nI (K + 1)) eC eN eF vO vD vA vB (upd mO K (nI o)) (upd mT K (nI d)) (upd mL K (nI la)) (upd mR K (nI lb)) (upd mN K (nI i)) nC uR cY bU cD rG cE fT fV fL) : wX_lower_81 post J (nI i) (nI d) (nI la) (nI lb) eL eP (nI K) eC eN eF vO vD vA vB mO mT mL mR mN nC uR cY bU cD rG cE fT fV fL := by
  unfold wX_lower_81
  refine ⟨vp_in_nI hi (by omega), ?_⟩
  rw [nI_clamp (by omega), eo]
  exact bm_xa hK (by omega) (by omega) (by omega) (by omega) (by omega) (nm_r (nI_1 i) h)
theorem bm_xlow {post : SX → Prop} {nn : Nat} (hn : nn ≤ 24) (hS : bm_Src nn vO vD vA vB)
    (hp : ∀ (N : Nat) (mO mT mL mR mN nC : Nat → Int32), N ≤ 3 * nn → bm_Q N mO mT mL mR mN vB (fun m0 m => bm_ag m (bm_YS vO vD vA vB m0 nn)) → post (nI nn, eP, nI N, eC, eN, eF, vO, vD, vA, vB, mO, mT, mL, mR, mN, nC, uR, cY, bU, cD, rG, cE, fT, fV, fL)) :
    ∀ (d i K n : Nat) (mO mT mL mR mN nC : Nat → Int32), i + d = nn → d < n → K ≤ 3 * i → (∀ c, c < 2 → ∃ q, nC c = nI q ∧ q < 4) → bm_Q K mO mT mL mR mN vB (fun m0 m => bm_ag m (bm_YS vO vD vA vB m0 i)) →
      wX_lower_21 post n (nI i) (nI nn) eP (nI K) eC eN eF vO vD vA vB mO mT mL mR mN nC uR cY bU cD rG cE fT fV fL := by
  intro d
  induction d with
  | zero =>
    intro i K n mO mT mL mR mN nC hi hf hK hC hQ
    obtain ⟨n, rfl⟩ : ∃ m, n = m + 1 := ⟨n - 1, by omega⟩
    obtain rfl : i = nn := by omega
    rw [wX_lower_21]
    exact br_t (nI_le (Nat.le_refl _) (by omega)) (hp K mO mT mL mR mN nC hK hQ)
  | succ d ih =>
    intro i K n mO mT mL mR mN nC hi hf hK hC hQ
    obtain ⟨n, rfl⟩ : ∃ m, n = m + 1 := ⟨n - 1, by omega⟩
    have hin : vp_in (nI i) 24 := vp_in_nI (by omega) (by omega)
    have ci : (nI i).toNatClampNeg = i := nI_clamp (by omega)
    obtain ⟨s1, s2, s3, s4⟩ := id hS
    obtain ⟨eo, ho⟩ := bm_Bc s1 (show i < nn by omega)
    obtain ⟨ed, hd⟩ := bm_Bc s2 (show i < nn by omega)
    obtain ⟨ea, ha⟩ := bm_Bc s3 (show i < nn by omega)
    have hcl : bm_c vD i / 4 % 2 < 2 := by omega
    obtain ⟨q, hq, hq4⟩ := hC _ hcl
    rw [wX_lower_21]
    refine br_f (nI_ge (by omega) (by omega)) ⟨hin, nm_r (e' := nI (bm_c vD i)) (by rw [ci]; exact ed) (bm_xc (by omega) ⟨hin, ?_⟩)⟩
    rw [ci, ea]
    refine bm_xl2 (Y := fun m0 => bm_YS vO vD vA vB m0 i) (z := 0) (w := 0) (by omega) ha hcl hq hq4 (by omega) (bm_Q_mono hQ (fun m0 m h => ⟨h, h 0 (Or.inl (by omega))⟩)) ?_
    intro la K1 mO1 mT1 mL1 mR1 mN1 nC1 hK1 hla hq1 hC1 hQ1
    refine And.intro hin (pk_lt 5 (bm_c vO i) (fun h5 => ?_) (fun h5 => And.intro hin ?_) rfl eo)
    · refine bm_l81 (by omega) eo ho (by omega) hla hla (by omega) ?_
      refine ih (i + 1) (K1 + 1) n _ _ _ _ _ nC1 (by omega) (by omega) (by omega) ?_ ?_
      · intro c hc
        by_cases e : c = bm_c vD i / 4 % 2
        · obtain ⟨q', a, b, -⟩ := hq1; rw [e]; exact ⟨q', a, b⟩
        · rw [hC1 c e]; exact hC c hc
      · refine bm_Q_push hQ1 (by omega) (by omega) hla hla (by omega) (fun m0 m h => ?_)
        rw [bm_YS_s]
        exact bm_ag_op h.1 hd (by omega) h.2.2 (fun z => by omega)
    · obtain ⟨jb, hjb, eb⟩ := s4 i (by omega) h5
      have ecb : bm_c vB i = jb := by unfold bm_c; rw [eb, nI_clamp (by omega)]
      obtain ⟨q', hq', hq4', hne⟩ := hq1
      rw [eb]
      refine bm_xl2 (Y := fun m0 => bm_YS vO vD vA vB m0 i) (z := la) (w := bm_c vA i) (by omega) hjb hcl hq' hq4' hne (bm_Q_mono hQ1 (fun m0 m h => ⟨h.1, h.2.2⟩)) ?_
      intro lb K2 mO2 mT2 mL2 mR2 mN2 nC2 hK2 hlb hq2 hC2 hQ2
      refine bm_l81 (by omega) eo ho (by omega) hla hlb (by omega) ?_
      refine ih (i + 1) (K2 + 1) n _ _ _ _ _ nC2 (by omega) (by omega) (by omega) ?_ ?_
      · intro c hc
        by_cases e : c = bm_c vD i / 4 % 2
        · obtain ⟨q', a, b, -⟩ := hq2; rw [e]; exact ⟨q', a, b⟩
        · rw [hC2 c e, hC1 c e]; exact hC c hc
      · refine bm_Q_push hQ2 (by omega) (by omega) hla hlb (by omega) (fun m0 m h => ?_)
        rw [bm_YS_s, ecb]
        exact bm_ag_op h.1 hd (by omega) h.2.1 (fun _ => h.2.2)
theorem bm_xlower {post : SX → Prop} {nn : Nat} (hn : nn ≤ 24) (hS : bm_Src nn vO vD vA vB)
    (hp : ∀ (N : Nat) (mO mT mL mR mN nC : Nat → Int32), N ≤ 3 * nn → bm_Q N mO mT mL mR mN vB (fun m0 m => bm_ag m (bm_YS vO vD vA vB m0 nn)) → post (nI nn, eP, nI N, eC, eN, eF, vO, vD, vA, vB, mO, mT, mL, mR, mN, nC, uR, cY, bU, cD, rG, cE, fT, fV, fL)) :
    wpX_lower post (nI nn, eP, eO, eC, eN, eF, vO, vD, vA, vB, mO, mT, mL, mR, mN, nC, uR, cY, bU, cD, rG, cE, fT, fV, fL) := by
  unfold wpX_lower
  refine nm_e (nm_e ⟨nn + 1, ?_⟩)
  refine bm_xlow hn hS hp nn 0 0 (nn + 1) mO mT mL mR mN _ (by omega) (by omega) (by omega) ?_ ?_
  · intro c hc
    rw [bm_nb0]
    by_cases e : c = 1
    · subst e; exact ⟨0, pk_us, by omega⟩
    · have e0 : c = 0 := by omega
      subst e0; exact ⟨0, by rw [pk_un (by omega), pk_us]; rfl, by omega⟩
  · exact ⟨⟨fun k h => by omega, fun k h => by omega, fun k h => by omega, fun k h => by omega, fun k h => by omega⟩, fun m0 x _ => rfl⟩
end LOW
end
section
/-! the urgencies (any will do), the choice, the schedule -/
section URG
variable {eL eP eO eC eN eF : Int32} {vO vD vA vB mO mT mL mR mN nC uR cY bU cD rG cE fT fV fL : Nat → Int32}
theorem bm_u26 {post : SX → Prop} {J : Int32 → (Nat → Int32) → (Nat → Int32) → (Nat → Int32) → (Nat → Int32) → (Nat → Int32) → (Nat → Int32) → (Nat → Int32) → (Nat → Int32) → (Nat → Int32) → (Nat → Int32) → (Nat → Int32) → (Nat → Int32) → (Nat → Int32) → (Nat → Int32) → (Nat → Int32) → (Nat → Int32) → (Nat → Int32) → (Nat → Int32) → (Nat → Int32) → Prop} {N i : Nat}
    (hR : bm_R mO mT mL mR mN N) (hN : N ≤ 96) (hi : i < N) (hJ : ∀ uR, J (nI i + (-1)) vO vD vA vB mO mT mL mR mN nC uR cY bU cD rG cE fT fV fL) :
    ∀ (d j n : Nat) (x2 : Int32), j + d = N → d < n → wX_findUrgency_26 post J (nI i) eL eP (nI N) eC eN eF vO vD vA vB mO mT mL mR mN nC uR cY bU cD rG cE fT fV fL n x2 (nI j) := by
  intro d
  induction d with
  | zero =>
    intro j n x2 hj hf
    obtain ⟨n, rfl⟩ : ∃ m, n = m + 1 := ⟨n - 1, by omega⟩
    rw [wX_findUrgency_26]
    exact br_t (nI_le (by omega) (by omega)) ⟨vp_in_nI (by omega) (by omega), nm_e (nm_e (hJ _))⟩
  | succ d ih =>
    intro j n x2 hj hf
    obtain ⟨n, rfl⟩ : ∃ m, n = m + 1 := ⟨n - 1, by omega⟩
    have hjn : vp_in (nI j) 96 := vp_in_nI (by omega) (by omega)
    have ih2 := fun y => ih (j + 1) n y (by omega) (by omega)
    rw [wX_findUrgency_26]
    exact br_f (nI_ge (by omega) (by omega)) (bm_xs hR hN hi (by omega) (br_c (fun _ => nm_r (nI_1 j) (ih2 _)) (fun _ => ⟨hjn, br_c (fun _ => nm_r (nI_1 j) (ih2 _)) (fun _ => ⟨hjn, nm_e (nm_r (nI_1 j) (ih2 _))⟩)⟩)))
theorem bm_u7 {post : SX → Prop} {N : Nat} (hR : bm_R mO mT mL mR mN N) (hN : N ≤ 96) (hp : ∀ uR, post (eL, eP, nI N, eC, eN, eF, vO, vD, vA, vB, mO, mT, mL, mR, mN, nC, uR, cY, bU, cD, rG, cE, fT, fV, fL)) :
    ∀ (i n : Nat) (uR : Nat → Int32), i ≤ N → i < n → wX_findUrgency_7 post eL eP (nI N) eC eN eF n (nI i + (-1)) vO vD vA vB mO mT mL mR mN nC uR cY bU cD rG cE fT fV fL := by
  intro i
  induction i with
  | zero =>
    intro n uR hi hf
    obtain ⟨n, rfl⟩ : ∃ m, n = m + 1 := ⟨n - 1, by omega⟩
    rw [wX_findUrgency_7]
    exact br_t (by decide) (hp uR)
  | succ i ih =>
    intro n uR hi hf
    obtain ⟨n, rfl⟩ : ∃ m, n = m + 1 := ⟨n - 1, by omega⟩
    obtain ⟨eo, ho⟩ := bm_Bc hR.1 (show i < N by omega)
    rw [wX_findUrgency_7, pk_m1]
    refine br_f (nI_pos (by omega)) ⟨vp_in_nI (by omega) (by omega), ?_⟩
    rw [nI_clamp (by omega), eo]
    refine bm_xt (by omega) (nm_r (nI_1 i) ⟨N + 1, ?_⟩)
    exact bm_u26 hR hN (by omega) (fun uR => ih n uR (by omega) (by omega)) (N - (i + 1)) (i + 1) (N + 1) _ (by omega) (by omega)
theorem bm_xfu {post : SX → Prop} {N : Nat} (hR : bm_R mO mT mL mR mN N) (hN : N ≤ 96) (hp : ∀ uR, post (eL, eP, nI N, eC, eN, eF, vO, vD, vA, vB, mO, mT, mL, mR, mN, nC, uR, cY, bU, cD, rG, cE, fT, fV, fL)) : wpX_findUrgency post (eL, eP, nI N, eC, eN, eF, vO, vD, vA, vB, mO, mT, mL, mR, mN, nC, uR, cY, bU, cD, rG, cE, fT, fV, fL) := by
  unfold wpX_findUrgency
  exact nm_r (Int32.sub_eq_add_neg (nI N) 1) ⟨N + 1, bm_u7 hR hN hp N (N + 1) uR (by omega) (by omega)⟩
end URG
/-! free, most urgent, earliest, unit -/
section PICK
variable {eL eP eO eC eN eF : Int32} {vO vD vA vB mO mT mL mR mN nC uR cY bU cD rG cE fT fV fL : Nat → Int32}
def bm_fr (mO mT mL mR cY : Nat → Int32) (k : Nat) : Prop := ∀ i, i < k → cY i = -1 → bm_sq mO mT mL mR i k = 0
def bm_cyR (cY : Nat → Int32) (N M : Nat) : Prop := ∀ k, k < N → cY k ≠ -1 → cY k = nI (bm_c cY k) ∧ bm_c cY k + 3 ≤ M
theorem bm_cy0 {N M k : Nat} (h : bm_cyR cY N M) (hM : M ≤ 1000) (hk : k < N) : 0 ≤ cY k ↔ cY k ≠ -1 := by
  constructor
  · intro a e; rw [e] at a; exact bm_nlm1 a
  · intro a
    obtain ⟨e, h2⟩ := h k hk a
    rw [e]; exact nI_pos' (by omega)
theorem bm_xif {post : Int32 → Prop} {N M k : Nat} (hR : bm_R mO mT mL mR mN N) (hN : N ≤ 96) (hk : k < N) (hM : M ≤ 1000) (hc : bm_cyR cY N M)
    (h1 : bm_fr mO mT mL mR cY k → post 1) (h0 : ¬ bm_fr mO mT mL mR cY k → post 0) :
    ∀ (d x n : Nat), x + d = k → d < n → (∀ i, i < x → cY i = -1 → bm_sq mO mT mL mR i k = 0) → wX_isFree_2 post (nI k) eL eP eO eC eN eF vO vD vA vB mO mT mL mR mN nC uR cY bU cD rG cE fT fV fL n (nI x) := by
  intro d
  induction d with
  | zero =>
    intro x n hx hf hs
    obtain ⟨n, rfl⟩ : ∃ m, n = m + 1 := ⟨n - 1, by omega⟩
    obtain rfl : x = k := by omega
    rw [wX_isFree_2]
    exact br_t (nI_le (by omega) (by omega)) (h1 hs)
  | succ d ih =>
    intro x n hx hf hs
    obtain ⟨n, rfl⟩ : ∃ m, n = m + 1 := ⟨n - 1, by omega⟩
    have c : (nI x).toNatClampNeg = x := nI_clamp (by omega)
    have hr := bm_sq_r mO mT mL mR x k
    have go : (cY x = -1 → bm_sq mO mT mL mR x k = 0) → ∀ i, i < x + 1 → cY i = -1 → bm_sq mO mT mL mR i k = 0 := fun z i hi hc => by
      by_cases e : i = x
      · rw [e]; rw [e] at hc; exact z hc
      · exact hs i (by omega) hc
    rw [wX_isFree_2]
    refine br_f (nI_ge (by omega) (by omega)) ⟨vp_in_nI (by omega) (by omega), ?_⟩
    rw [c]
    refine br_c (fun a => ?_) (fun a => ?_)
    · exact nm_r (nI_1 x) (ih (x + 1) n (by omega) (by omega) (go (fun z => absurd z ((bm_cy0 hc hM (by omega)).mp a))))
    · refine bm_xs hR hN (by omega) hk (br_c (fun b => ?_) (fun b => ?_))
      · rw [bm_sv_lt (by omega)] at b
        exact nm_r (nI_1 x) (ih (x + 1) n (by omega) (by omega) (go (fun _ => b)))
      · rw [bm_sv_lt (by omega)] at b
        refine h0 (fun z => b (z x (by omega) ?_))
        exact Classical.byContradiction (fun y => a ((bm_cy0 hc hM (by omega)).mpr y))
theorem bm_m4 {post : Int32 → Prop} {N M : Nat} (hR : bm_R mO mT mL mR mN N) (hN : N ≤ 96) (hM : M ≤ 1000) (hc : bm_cyR cY N M)
    (hex : ∃ k, k < N ∧ cY k = -1)
    (h : ∀ b, b < N → cY b = -1 → bm_fr mO mT mL mR cY b → post (nI b)) :
    ∀ (d x n : Nat) (x1 : Int32), x + d = N → d < n → ((x1 = -1 ∧ ∀ k, k < x → cY k = -1 → ¬ bm_fr mO mT mL mR cY k) ∨ (∃ b, b < N ∧ x1 = nI b ∧ cY b = -1 ∧ bm_fr mO mT mL mR cY b)) →
      wX_mostUrgent_4 post eL eP (nI N) eC eN eF vO vD vA vB mO mT mL mR mN nC uR cY bU cD rG cE fT fV fL n x1 (nI x) := by
  intro d
  induction d with
  | zero =>
    intro x n x1 hx hf hs
    obtain ⟨n, rfl⟩ : ∃ m, n = m + 1 := ⟨n - 1, by omega⟩
    rw [wX_mostUrgent_4]
    refine br_t (nI_le (by omega) (by omega)) ?_
    rcases hs with ⟨-, hs⟩ | ⟨b, hb, rfl, h2, h3⟩
    · obtain ⟨k, ⟨hk, ek⟩, hl⟩ := pk_least (fun k => k < N ∧ cY k = -1) hex
      exact absurd (fun i hi e => absurd ⟨by omega, e⟩ (hl i hi)) (hs k (by omega) ek)
    · exact h b hb h2 h3
  | succ d ih =>
    intro x n x1 hx hf hs
    obtain ⟨n, rfl⟩ : ∃ m, n = m + 1 := ⟨n - 1, by omega⟩
    have c : (nI x).toNatClampNeg = x := nI_clamp (by omega)
    have hin : vp_in (nI x) 96 := vp_in_nI (by omega) (by omega)
    have skip : ((cY x = -1 → ¬ bm_fr mO mT mL mR cY x) ∨ ∃ b, b < N ∧ x1 = nI b ∧ cY b = -1 ∧ bm_fr mO mT mL mR cY b) → wX_mostUrgent_4 post eL eP (nI N) eC eN eF vO vD vA vB mO mT mL mR mN nC uR cY bU cD rG cE fT fV fL n x1 (nI (x + 1)) := by
      intro z
      refine ih (x + 1) n x1 (by omega) (by omega) ?_
      rcases hs with ⟨h1, h2⟩ | h2
      · rcases z with z | z
        · left
          refine ⟨h1, fun k hk ek => ?_⟩
          by_cases e : k = x
          · rw [e]; rw [e] at ek; exact z ek
          · exact h2 k (by omega) ek
        · exact Or.inr z
      · exact Or.inr h2
    have take : cY x = -1 → bm_fr mO mT mL mR cY x → wX_mostUrgent_4 post eL eP (nI N) eC eN eF vO vD vA vB mO mT mL mR mN nC uR cY bU cD rG cE fT fV fL n (nI x) (nI (x + 1)) := fun a b =>
      ih (x + 1) n (nI x) (by omega) (by omega) (Or.inr ⟨x, by omega, rfl, a, b⟩)
    rw [wX_mostUrgent_4]
    refine br_f (nI_ge (by omega) (by omega)) ⟨hin, ?_⟩
    rw [c]
    refine br_c (fun a => ?_) (fun a => ?_)
    · exact nm_r (nI_1 x) (skip (Or.inl (fun z => absurd z ((bm_cy0 hc hM (by omega)).mp a))))
    · have ex : cY x = -1 := Classical.byContradiction (fun y => a ((bm_cy0 hc hM (by omega)).mpr y))
      unfold wpX_isFree
      refine ⟨x + 1, ?_⟩
      refine bm_xif hR hN (by omega) hM hc (fun z => ?_) (fun z => ?_) x 0 (x + 1) (by omega) (by omega) (fun i hi => by omega)
      · refine br_f (by decide) (br_c (fun b => nm_r (nI_1 x) (take ex z)) (fun b => ?_))
        rcases hs with ⟨h1, h2⟩ | ⟨q, hq, eq, h3⟩
        · rw [h1] at b; exact absurd (by decide) b
        · have hq1 : vp_in x1 96 := by rw [eq]; exact vp_in_nI (by omega) (by omega)
          exact ⟨hin, hq1, br_c (fun _ => nm_r (nI_1 x) (skip (Or.inr ⟨q, hq, eq, h3⟩))) (fun _ => nm_r (nI_1 x) (take ex z))⟩
      · exact br_t rfl (nm_r (nI_1 x) (skip (Or.inl (fun _ => z))))
theorem bm_xmu {post : Int32 → Prop} {N M : Nat} (hR : bm_R mO mT mL mR mN N) (hN : N ≤ 96) (hM : M ≤ 1000) (hc : bm_cyR cY N M)
    (hex : ∃ k, k < N ∧ cY k = -1) (h : ∀ b, b < N → cY b = -1 → bm_fr mO mT mL mR cY b → post (nI b)) : wpX_mostUrgent post (eL, eP, nI N, eC, eN, eF, vO, vD, vA, vB, mO, mT, mL, mR, mN, nC, uR, cY, bU, cD, rG, cE, fT, fV, fL) := by
  unfold wpX_mostUrgent
  exact ⟨N + 1, bm_m4 hR hN hM hc hex h N 0 (N + 1) (-1) (by omega) (by omega) (Or.inl ⟨rfl, fun k hk => by omega⟩)⟩
theorem bm_e4 {post : Int32 → Prop} {N M k : Nat} (hR : bm_R mO mT mL mR mN N) (hN : N ≤ 96) (hk : k < N) (hM : M ≤ 1000) (hc : bm_cyR cY N M) (hfr : bm_fr mO mT mL mR cY k)
    (h : ∀ e, e ≤ M → (∀ i, i < k → bm_sq mO mT mL mR i k ≠ 0 → cY i ≠ -1 ∧ bm_c cY i + bm_sq mO mT mL mR i k ≤ e + 1) → post (nI e)) :
    ∀ (d x n e : Nat), x + d = k → d < n → e ≤ M → (∀ i, i < x → bm_sq mO mT mL mR i k ≠ 0 → cY i ≠ -1 ∧ bm_c cY i + bm_sq mO mT mL mR i k ≤ e + 1) → wX_earliest_4 post (nI k) eL eP eO eC eN eF vO vD vA vB mO mT mL mR mN nC uR cY bU cD rG cE fT fV fL n (nI e) (nI x) := by
  intro d
  induction d with
  | zero =>
    intro x n e hx hf he hs
    obtain ⟨n, rfl⟩ : ∃ m, n = m + 1 := ⟨n - 1, by omega⟩
    obtain rfl : x = k := by omega
    rw [wX_earliest_4]
    exact br_t (nI_le (by omega) (by omega)) (h e he hs)
  | succ d ih =>
    intro x n e hx hf he hs
    obtain ⟨n, rfl⟩ : ∃ m, n = m + 1 := ⟨n - 1, by omega⟩
    have c : (nI x).toNatClampNeg = x := nI_clamp (by omega)
    have hin : vp_in (nI x) 96 := vp_in_nI (by omega) (by omega)
    have hr := bm_sq_r mO mT mL mR x k
    have go : ∀ e', e ≤ e' → (bm_sq mO mT mL mR x k ≠ 0 → cY x ≠ -1 ∧ bm_c cY x + bm_sq mO mT mL mR x k ≤ e' + 1) → ∀ i, i < x + 1 → bm_sq mO mT mL mR i k ≠ 0 → cY i ≠ -1 ∧ bm_c cY i + bm_sq mO mT mL mR i k ≤ e' + 1 := by
      intro e' hee hz i hi hq
      by_cases ei : i = x
      · rw [ei]; rw [ei] at hq; exact hz hq
      · obtain ⟨a, b⟩ := hs i (by omega) hq
        exact ⟨a, by omega⟩
    rw [wX_earliest_4]
    refine br_f (nI_ge (by omega) (by omega)) (bm_xs hR hN (by omega) hk (br_c (fun b => ?_) (fun b => ⟨hin, ?_⟩)))
    · rw [bm_sv_lt (by omega)] at b
      exact nm_r (nI_1 x) (ih (x + 1) n e (by omega) (by omega) he (go e (by omega) (fun z => absurd b z)))
    · rw [bm_sv_lt (by omega)] at b
      have hx1 : cY x ≠ -1 := fun z => b (hfr x (by omega) z)
      obtain ⟨ex, hxM⟩ := hc x (by omega) hx1
      obtain ⟨s, es⟩ : ∃ s, bm_sq mO mT mL mR x k = s + 1 := ⟨bm_sq mO mT mL mR x k - 1, by omega⟩
      have ev : cY (nI x).toNatClampNeg + bm_sv (bm_sq mO mT mL mR x k) = nI (bm_c cY x + s) := by
        rw [c, es, bm_svs, ex, nI_add]
      rw [ev]
      refine pk_le (bm_c cY x + s) e (fun z => ?_) (fun z => ⟨hin, nm_e (nm_r (nI_1 x) ?_)⟩)
      · exact nm_r (nI_1 x) (ih (x + 1) n e (by omega) (by omega) he (go e (by omega) (fun _ => ⟨hx1, by omega⟩)))
      · exact ih (x + 1) n (bm_c cY x + s) (by omega) (by omega) (by omega) (go _ (by omega) (fun _ => ⟨hx1, by omega⟩))
theorem bm_xe {post : Int32 → Prop} {N M k : Nat} (hR : bm_R mO mT mL mR mN N) (hN : N ≤ 96) (hk : k < N) (hM : M ≤ 1000) (hc : bm_cyR cY N M) (hfr : bm_fr mO mT mL mR cY k)
    (h : ∀ e, e ≤ M → (∀ i, i < k → bm_sq mO mT mL mR i k ≠ 0 → cY i ≠ -1 ∧ bm_c cY i + bm_sq mO mT mL mR i k ≤ e + 1) → post (nI e)) : wpX_earliest post (eL, eP, eO, eC, eN, eF, vO, vD, vA, vB, mO, mT, mL, mR, mN, nC, uR, cY, bU, cD, rG, cE, fT, fV, fL) (nI k) := by
  unfold wpX_earliest
  exact ⟨k + 1, bm_e4 hR hN hk hM hc hfr h k 0 (k + 1) 0 (by omega) (by omega) (by omega) (fun i hi => by omega)⟩
def bm_un (o t : Nat) : Nat := if o = 9 then 6 else 3 * (t / 4 % 2) + (if o = 7 ∨ o = 8 then 0 else if o = 2 then 1 else 2)
theorem bm_un_r (o t : Nat) : bm_un o t < 7 := by
  unfold bm_un; split
  · omega
  · split
    · omega
    · split <;> omega
def bm_ub1 (o t : Nat) : Int32 := (1 : Int32) <<< (nI (bm_un o t) &&& 31)
theorem bm_un41 {post : Int32 → Prop} {k t z : Nat} (hk : k < 96) (e : mT k = nI t) (ht : t < 16) (hz : z < 3) (h : post ((1 : Int32) <<< (nI (3 * (t / 4 % 2) + z) &&& 31))) : wX_unitOf_41 post (nI k) (nI z) eL eP eO eC eN eF vO vD vA vB mO mT mL mR mN nC uR cY bU cD rG cE fT fV fL := by
  unfold wX_unitOf_41
  refine ⟨vp_in_nI hk (by omega), ?_⟩
  rw [nI_clamp (by omega), e]
  refine bm_xc ht ?_
  rw [show (3 : Int32) * nI (t / 4 % 2) = nI 3 * nI (t / 4 % 2) from rfl, pk_mul, nI_add]
  exact h
theorem bm_xu {post : Int32 → Prop} {k o t l r : Nat} (A : bm_At mO mT mL mR k o t l r) (h : post (bm_ub1 o t)) : wpX_unitOf post (eL, eP, eO, eC, eN, eF, vO, vD, vA, vB, mO, mT, mL, mR, mN, nC, uR, cY, bU, cD, rG, cE, fT, fV, fL) (nI k) := by
  obtain ⟨⟨e1, e2, -, -⟩, ho, ht, -, -, hk⟩ := A
  have hin : vp_in (nI k) 96 := vp_in_nI hk (by omega)
  have e' : mO (nI k).toNatClampNeg = nI o := by rw [nI_clamp (by omega)]; exact e1
  unfold bm_ub1 bm_un at h
  unfold wpX_unitOf
  refine ⟨hin, pk_eq o 9 (fun a => ?_) (fun a => bm_xm hk e1 ho (fun b => br_f (by decide) ?_) (fun b => br_t rfl ⟨hin, pk_eq o 2 (fun c => ?_) (fun c => ?_) e'⟩)) e'⟩
  · rw [if_pos a] at h
    rw [show (1 : Int32) <<< (nI 6 &&& 31) = 64 from by decide] at h
    exact h
  · rw [if_neg a, if_pos b] at h; exact bm_un41 (z := 0) hk e2 ht (by omega) h
  · rw [if_neg a, if_neg b, if_pos c] at h; exact bm_un41 (z := 1) hk e2 ht (by omega) h
  · rw [if_neg a, if_neg b, if_neg c] at h; exact bm_un41 (z := 2) hk e2 ht (by omega) h
end PICK
end
section
/-! the schedule -/
def bm_ct (f : Nat → Int32) : Nat → Nat
  | 0 => 0
  | k + 1 => bm_ct f k + (if f k = -1 then 0 else 1)
theorem bm_ct_s {f : Nat → Int32} {k : Nat} : bm_ct f (k + 1) = bm_ct f k + (if f k = -1 then 0 else 1) := rfl
theorem bm_ct_le (f : Nat → Int32) : ∀ n, bm_ct f n ≤ n := by
  intro n
  induction n with
  | zero => exact Nat.le_refl 0
  | succ n ih => rw [bm_ct_s]; split <;> omega
theorem bm_ct_ex {f : Nat → Int32} : ∀ n, bm_ct f n < n → ∃ k, k < n ∧ f k = -1 := by
  intro n
  induction n with
  | zero => intro h; omega
  | succ n ih =>
    intro h
    rw [bm_ct_s] at h
    by_cases e : f n = -1
    · exact ⟨n, by omega, e⟩
    · rw [if_neg e] at h
      obtain ⟨k, hk, ek⟩ := ih (by omega)
      exact ⟨k, by omega, ek⟩
theorem bm_ct_all {f : Nat → Int32} : ∀ n, bm_ct f n = n → ∀ k, k < n → f k ≠ -1 := by
  intro n
  induction n with
  | zero => intro _ k hk; omega
  | succ n ih =>
    intro h k hk
    rw [bm_ct_s] at h
    have := bm_ct_le f n
    by_cases e : f n = -1
    · rw [if_pos e] at h; omega
    · rw [if_neg e] at h
      by_cases ek : k = n
      · rw [ek]; exact e
      · exact ih (by omega) k (by omega)
theorem bm_ct_0 {f : Nat → Int32} : ∀ n, (∀ k, k < n → f k = -1) → bm_ct f n = 0 := by
  intro n
  induction n with
  | zero => intro _; rfl
  | succ n ih => intro h; rw [bm_ct_s, ih (fun k hk => h k (by omega)), if_pos (h n (by omega))]
theorem bm_ct_cong {f g : Nat → Int32} : ∀ n, (∀ k, k < n → f k = g k) → bm_ct f n = bm_ct g n := by
  intro n
  induction n with
  | zero => intro _; rfl
  | succ n ih => intro h; rw [bm_ct_s, bm_ct_s, ih (fun k hk => h k (by omega)), h n (by omega)]
theorem bm_ct_up {f : Nat → Int32} {b : Nat} {v : Int32} (hf : f b = -1) (hv : v ≠ -1) : ∀ n, b < n → bm_ct (upd f b v) n = bm_ct f n + 1 := by
  intro n
  induction n with
  | zero => intro h; omega
  | succ n ih =>
    intro h
    rw [bm_ct_s, bm_ct_s]
    by_cases e : b = n
    · subst e
      rw [pk_us, if_neg hv, hf, if_pos rfl, bm_ct_cong b (fun k hk => pk_un (show k ≠ b by omega))]
    · rw [ih (by omega), pk_un (show n ≠ b by omega)]; omega
/-- the state of the schedule after dn operations -/
def bm_SI (mO mT mL mR cY bU : Nat → Int32) (N dn : Nat) : Prop :=
  bm_ct cY N = dn ∧ bm_cyR cY N (3 * dn) ∧ (∀ c, 3 * dn ≤ c → c < 400 → bU c = 0) ∧
  (∀ k, k < N → cY k ≠ -1 → bt (bU (bm_c cY k)) (bm_un (bm_c mO k) (bm_c mT k)) = true) ∧
  (∀ i j, i < N → j < N → i ≠ j → cY i ≠ -1 → cY j ≠ -1 → bm_c cY i = bm_c cY j → bm_un (bm_c mO i) (bm_c mT i) ≠ bm_un (bm_c mO j) (bm_c mT j)) ∧
  (∀ i j, i < j → j < N → cY j ≠ -1 → bm_sq mO mT mL mR i j ≠ 0 → cY i ≠ -1 ∧ bm_c cY i + bm_sq mO mT mL mR i j ≤ bm_c cY j + 1)
theorem bm_SI_0 {mO mT mL mR cY bU : Nat → Int32} {N : Nat} (hc : ∀ k, k < N → cY k = -1) (hb : ∀ c, c < 400 → bU c = 0) : bm_SI mO mT mL mR cY bU N 0 :=
  ⟨bm_ct_0 N hc, fun k hk h => absurd (hc k hk) h, fun c _ h => hb c h, fun k hk h => absurd (hc k hk) h, fun i j hi hj _ h => absurd (hc i hi) h, fun i j hij hj h => absurd (hc j hj) h⟩
theorem bm_SI_s {mO mT mL mR cY bU : Nat → Int32} {N dn b c : Nat} (h : bm_SI mO mT mL mR cY bU N dn) (hb : b < N) (eb : cY b = -1) (hdn : dn < 96)
    (hc : c ≤ 3 * dn) (hfree : bt (bU c) (bm_un (bm_c mO b) (bm_c mT b)) = false)
    (he : ∀ i, i < b → bm_sq mO mT mL mR i b ≠ 0 → cY i ≠ -1 ∧ bm_c cY i + bm_sq mO mT mL mR i b ≤ c + 1) :
    bm_SI mO mT mL mR (upd cY b (nI c)) (upd bU c (bU c ||| bm_ub1 (bm_c mO b) (bm_c mT b))) N (dn + 1) := by
  obtain ⟨h1, h2, h3, h4, h5, h6⟩ := h
  have hcn : nI c ≠ -1 := bm_ne1 (by omega)
  have cs : bm_c (upd cY b (nI c)) b = c := bm_cu (by omega)
  have cn : ∀ k, k ≠ b → bm_c (upd cY b (nI c)) k = bm_c cY k := fun k hk => bm_cn hk
  have un : ∀ k, k ≠ b → upd cY b (nI c) k = cY k := fun k hk => pk_un hk
  refine ⟨by rw [bm_ct_up eb hcn N hb, h1], fun k hk hne => ?_, fun c' h7 h8 => ?_, fun k hk hne => ?_, fun i j hi hj hij hni hnj e => ?_, fun i j hij hj hnj hs => ?_⟩
  · by_cases e : k = b
    · subst e; rw [cs, pk_us]; exact ⟨rfl, by omega⟩
    · rw [cn k e, un k e]; rw [un k e] at hne
      obtain ⟨a, d⟩ := h2 k hk hne
      exact ⟨a, by omega⟩
  · rw [pk_un (by omega)]; exact h3 c' (by omega) h8
  · have hu := bm_un_r (bm_c mO k) (bm_c mT k)
    by_cases e : k = b
    · subst e
      rw [cs, pk_us, b_or]
      unfold bm_ub1
      rw [bm_one _ (by omega) _ (by omega), decide_eq_true rfl, Bool.or_true]
    · rw [cn k e]; rw [un k e] at hne
      by_cases ec : bm_c cY k = c
      · rw [ec, pk_us, b_or]
        have := h4 k hk hne
        rw [ec] at this
        rw [this, Bool.true_or]
      · rw [pk_un ec]; exact h4 k hk hne
  · by_cases ei : i = b
    · subst ei
      rw [cs, cn j (by omega)] at e
      rw [un j (by omega)] at hnj
      intro z
      have := h4 j hj hnj
      rw [← e, ← z, hfree] at this
      exact absurd this (by decide)
    · by_cases ej : j = b
      · subst ej
        rw [cs, cn i ei] at e
        rw [un i ei] at hni
        intro z
        have := h4 i hi hni
        rw [e, z, hfree] at this
        exact absurd this (by decide)
      · rw [cn i ei, cn j ej] at e
        rw [un i ei] at hni
        rw [un j ej] at hnj
        exact h5 i j hi hj hij hni hnj e
  · by_cases ej : j = b
    · subst ej
      rw [cs, cn i (by omega), un i (by omega)]
      exact he i hij hs
    · rw [un j ej] at hnj
      obtain ⟨a, d⟩ := h6 i j hij hj hnj hs
      have ei : i ≠ b := fun z => a (by rw [z]; exact eb)
      rw [cn i ei, cn j ej, un i ei]
      exact ⟨a, d⟩
section SCH
variable {eL eP eO eC eN eF : Int32} {vO vD vA vB mO mT mL mR mN nC uR cY bU cD rG cE fT fV fL : Nat → Int32}
theorem bm_73 {post : SX → Prop} {J : Int32 → (Nat → Int32) → (Nat → Int32) → (Nat → Int32) → (Nat → Int32) → (Nat → Int32) → (Nat → Int32) → (Nat → Int32) → (Nat → Int32) → (Nat → Int32) → (Nat → Int32) → (Nat → Int32) → (Nat → Int32) → (Nat → Int32) → (Nat → Int32) → (Nat → Int32) → (Nat → Int32) → (Nat → Int32) → (Nat → Int32) → (Nat → Int32) → Prop} {dn b u e M : Nat}
    (hb : b < 96) (hM : M < 400) (hz : bU M = 0) (hu : u < 32)
    (h : ∀ c, e ≤ c → c ≤ M → bt (bU c) u = false → J (nI (dn + 1)) vO vD vA vB mO mT mL mR mN nC uR (upd cY b (nI c)) (upd bU c (bU c ||| ((1 : Int32) <<< (nI u &&& 31)))) cD rG cE fT fV fL) :
    ∀ (d c n : Nat), c + d = M → d < n → e ≤ c → wX_schedule_73 post J (nI dn) (nI b) ((1 : Int32) <<< (nI u &&& 31)) eL eP eO eC eN eF vO vD vA vB mO mT mL mR mN nC uR cY bU cD rG cE fT fV fL n (nI c) := by
  intro d
  induction d with
  | zero =>
    intro c n hc hf he
    obtain ⟨n, rfl⟩ : ∃ m, n = m + 1 := ⟨n - 1, by omega⟩
    obtain rfl : c = M := by omega
    have hin : vp_in (nI c) 400 := vp_in_nI (by omega) (by omega)
    rw [wX_schedule_73]
    refine ⟨hin, ?_⟩
    rw [nI_clamp (by omega), hz]
    have hf0 : bt (0 : Int32) u = false := b_0 u
    refine br_t ((bm_au 0 hu).mpr hf0) ⟨hin, hin, ?_⟩
    have h2 := h c he (Nat.le_refl _) (by rw [hz]; exact hf0)
    rw [hz] at h2
    exact nm_e ⟨vp_in_nI hb (by omega), nm_r (e' := upd cY b (nI c)) (by rw [nI_clamp (by omega), bm_ns (by omega)]) (nm_r (nI_1 dn) h2)⟩
  | succ d ih =>
    intro c n hc hf he
    obtain ⟨n, rfl⟩ : ∃ m, n = m + 1 := ⟨n - 1, by omega⟩
    have hin : vp_in (nI c) 400 := vp_in_nI (by omega) (by omega)
    rw [wX_schedule_73]
    refine ⟨hin, ?_⟩
    rw [nI_clamp (by omega)]
    refine br_c (fun a => ⟨hin, hin, ?_⟩) (fun a => nm_r (nI_1 c) (ih (c + 1) n (by omega) (by omega) (by omega)))
    have h2 := h c he (by omega) ((bm_au _ hu).mp a)
    exact nm_e ⟨vp_in_nI hb (by omega), nm_r (e' := upd cY b (nI c)) (by rw [nI_clamp (by omega), bm_ns (by omega)]) (nm_r (nI_1 dn) h2)⟩
theorem bm_47 {post : SX → Prop} {N : Nat} (hR : bm_R mO mT mL mR mN N) (hN : N ≤ 96) (hp : ∀ cY bU, bm_SI mO mT mL mR cY bU N N → post (eL, eP, nI N, eC, eN, eF, vO, vD, vA, vB, mO, mT, mL, mR, mN, nC, uR, cY, bU, cD, rG, cE, fT, fV, fL)) :
    ∀ (d dn n : Nat) (cY bU : Nat → Int32), dn + d = N → d < n → bm_SI mO mT mL mR cY bU N dn → wX_schedule_47 post eL eP (nI N) eC eN eF n (nI dn) vO vD vA vB mO mT mL mR mN nC uR cY bU cD rG cE fT fV fL := by
  intro d
  induction d with
  | zero =>
    intro dn n cY bU hd hf hS
    obtain ⟨n, rfl⟩ : ∃ m, n = m + 1 := ⟨n - 1, by omega⟩
    obtain rfl : dn = N := by omega
    rw [wX_schedule_47]
    exact br_t (nI_le (by omega) (by omega)) (hp cY bU hS)
  | succ d ih =>
    intro dn n cY bU hd hf hS
    obtain ⟨n, rfl⟩ : ∃ m, n = m + 1 := ⟨n - 1, by omega⟩
    obtain ⟨h1, h2, h3, -, -, -⟩ := id hS
    rw [wX_schedule_47]
    refine br_f (nI_ge (by omega) (by omega)) (bm_xmu hR hN (M := 3 * dn) (by omega) h2 (bm_ct_ex N (by omega)) (fun b hb eb hfr => ?_))
    refine bm_xe hR hN hb (M := 3 * dn) (by omega) h2 hfr (fun e he hs => ?_)
    refine bm_xu (bm_R_at hR hN hb) ⟨400, ?_⟩
    have hu := bm_un_r (bm_c mO b) (bm_c mT b)
    refine bm_73 (e := e) (M := 3 * dn) (u := bm_un (bm_c mO b) (bm_c mT b)) (by omega) (by omega) (h3 _ (Nat.le_refl _) (by omega)) (by omega) (fun c h7 h8 h9 => ?_) (3 * dn - e) e 400 (by omega) (by omega) (Nat.le_refl _)
    refine ih (dn + 1) n _ _ (by omega) (by omega) (bm_SI_s hS hb eb (by omega) h8 h9 (fun i hi hq => ?_))
    obtain ⟨x, y⟩ := hs i hi hq
    exact ⟨x, by omega⟩
theorem bm_24 {post : SX → Prop} {N : Nat} (hN : N ≤ 96) (hp : ∀ cY, (∀ k, k < N → cY k = -1) → ∃ n47, wX_schedule_47 post eL eP (nI N) eC eN eF n47 0 vO vD vA vB mO mT mL mR mN nC uR cY bU cD rG cE fT fV fL) :
    ∀ (d k n : Nat) (cY : Nat → Int32), k + d = N → d < n → (∀ i, i < k → cY i = -1) → wX_schedule_24 post eL eP (nI N) eC eN eF n (nI k) vO vD vA vB mO mT mL mR mN nC uR cY bU cD rG cE fT fV fL := by
  intro d
  induction d with
  | zero =>
    intro k n cY hd hf hS
    obtain ⟨n, rfl⟩ : ∃ m, n = m + 1 := ⟨n - 1, by omega⟩
    obtain rfl : k = N := by omega
    rw [wX_schedule_24]
    exact br_t (nI_le (by omega) (by omega)) (hp cY hS)
  | succ d ih =>
    intro k n cY hd hf hS
    obtain ⟨n, rfl⟩ : ∃ m, n = m + 1 := ⟨n - 1, by omega⟩
    rw [wX_schedule_24]
    refine br_f (nI_ge (by omega) (by omega)) ⟨vp_in_nI (by omega) (by omega), nm_r (e' := upd cY k (-1)) (by rw [nI_clamp (by omega), bm_nsm]) (nm_r (nI_1 k) ?_)⟩
    refine ih (k + 1) n _ (by omega) (by omega) (fun i hi => ?_)
    by_cases e : i = k
    · rw [e, pk_us]
    · rw [pk_un e]; exact hS i (by omega)
theorem bm_2 {post : SX → Prop} (hp : ∀ bU, (∀ c, c < 400 → bU c = 0) → ∃ n24, wX_schedule_24 post eL eP eO eC eN eF n24 0 vO vD vA vB mO mT mL mR mN nC uR cY bU cD rG cE fT fV fL) :
    ∀ (d k n : Nat) (bU : Nat → Int32), k + d = 400 → d < n → (∀ i, i < k → bU i = 0) → wX_schedule_2 post eL eP eO eC eN eF n (nI k) vO vD vA vB mO mT mL mR mN nC uR cY bU cD rG cE fT fV fL := by
  intro d
  induction d with
  | zero =>
    intro k n bU hd hf hS
    obtain ⟨n, rfl⟩ : ∃ m, n = m + 1 := ⟨n - 1, by omega⟩
    obtain rfl : k = 400 := by omega
    rw [wX_schedule_2]
    exact br_t (nI_le (a := 400) (b := 400) (by omega) (by omega)) (hp bU hS)
  | succ d ih =>
    intro k n bU hd hf hS
    obtain ⟨n, rfl⟩ : ∃ m, n = m + 1 := ⟨n - 1, by omega⟩
    rw [wX_schedule_2]
    refine br_f (nI_ge (a := k) (b := 400) (by omega) (by omega)) ⟨vp_in_nI (by omega) (by omega), nm_r (e' := upd bU k 0) (by rw [nI_clamp (by omega)]) (nm_r (nI_1 k) ?_)⟩
    refine ih (k + 1) n _ (by omega) (by omega) (fun i hi => ?_)
    by_cases e : i = k
    · rw [e, pk_us]
    · rw [pk_un e]; exact hS i (by omega)
theorem bm_xsch {post : SX → Prop} {N : Nat} (hR : bm_R mO mT mL mR mN N) (hN : N ≤ 96) (hp : ∀ cY bU, bm_SI mO mT mL mR cY bU N N → post (eL, eP, nI N, eC, eN, eF, vO, vD, vA, vB, mO, mT, mL, mR, mN, nC, uR, cY, bU, cD, rG, cE, fT, fV, fL)) : wpX_schedule post (eL, eP, nI N, eC, eN, eF, vO, vD, vA, vB, mO, mT, mL, mR, mN, nC, uR, cY, bU, cD, rG, cE, fT, fV, fL) := by
  unfold wpX_schedule
  refine ⟨401, bm_2 (fun bU hb => ⟨N + 1, ?_⟩) 400 0 401 bU (by omega) (by omega) (fun i hi => by omega)⟩
  refine bm_24 hN (fun cY hc => ⟨N + 1, ?_⟩) N 0 (N + 1) cY (by omega) (by omega) (fun i hi => by omega)
  exact bm_47 hR hN hp N 0 (N + 1) cY bU (by omega) (by omega) (bm_SI_0 hc hb)
end SCH
end
section
/-! the layout of the code: bundle c begins at bm_s c, its operations by their number -/
def bm_n (cy : Nat → Nat) (c : Nat) : Nat → Nat
  | 0 => 0
  | k + 1 => bm_n cy c k + (if cy k = c then 1 else 0)
theorem bm_n_s {cy : Nat → Nat} {c k : Nat} : bm_n cy c (k + 1) = bm_n cy c k + (if cy k = c then 1 else 0) := rfl
theorem bm_n_y {cy : Nat → Nat} {c k : Nat} (h : cy k = c) : bm_n cy c (k + 1) = bm_n cy c k + 1 := by rw [bm_n_s, if_pos h]
theorem bm_n_x {cy : Nat → Nat} {c k : Nat} (h : cy k ≠ c) : bm_n cy c (k + 1) = bm_n cy c k := by rw [bm_n_s, if_neg h]; rfl
theorem bm_n_mono {cy : Nat → Nat} {c : Nat} {j : Nat} : ∀ k, j ≤ k → bm_n cy c j ≤ bm_n cy c k := by
  intro k
  induction k with
  | zero => intro h; rw [show j = 0 by omega]; exact Nat.le_refl _
  | succ k ih =>
    intro h
    by_cases e : j = k + 1
    · rw [e]; exact Nat.le_refl _
    · have := ih (by omega)
      rw [bm_n_s]; omega
theorem bm_n_lt {cy : Nat → Nat} {c j k : Nat} (h : j < k) (e : cy j = c) : bm_n cy c j < bm_n cy c k := by
  have := bm_n_mono (cy := cy) (c := c) (j := j + 1) k (by omega)
  rw [bm_n_y e] at this
  omega
def bm_l (cy : Nat → Nat) (c : Nat) : Nat → Nat
  | 0 => 0
  | k + 1 => bm_l cy c k + (if cy k < c then 1 else 0)
theorem bm_l_s {cy : Nat → Nat} {c k : Nat} : bm_l cy c (k + 1) = bm_l cy c k + (if cy k < c then 1 else 0) := rfl
theorem bm_l_le {cy : Nat → Nat} {c : Nat} : ∀ k, bm_l cy c k ≤ k := by
  intro k
  induction k with
  | zero => exact Nat.le_refl 0
  | succ k ih => rw [bm_l_s]; split <;> omega
theorem bm_l_n {cy : Nat → Nat} {c : Nat} : ∀ k, bm_l cy (c + 1) k = bm_l cy c k + bm_n cy c k := by
  intro k
  induction k with
  | zero => rfl
  | succ k ih =>
    rw [bm_l_s, bm_l_s, bm_n_s, ih]
    by_cases h1 : cy k < c
    · rw [if_pos (by omega), if_pos h1, if_neg (by omega)]; omega
    · by_cases h2 : cy k = c
      · rw [if_pos (by omega), if_neg h1, if_pos h2]; omega
      · rw [if_neg (by omega), if_neg h1, if_neg h2]; omega
def bm_w (cy : Nat → Nat) (N c : Nat) : Nat := if bm_n cy c N = 0 then 1 else bm_n cy c N
theorem bm_w_r {cy : Nat → Nat} {N c : Nat} : bm_n cy c N ≤ bm_w cy N c ∧ 1 ≤ bm_w cy N c ∧ bm_w cy N c ≤ bm_n cy c N + 1 := by unfold bm_w; split <;> omega
def bm_s (cy : Nat → Nat) (N : Nat) : Nat → Nat
  | 0 => 0
  | c + 1 => bm_s cy N c + bm_w cy N c
theorem bm_s_s {cy : Nat → Nat} {N c : Nat} : bm_s cy N (c + 1) = bm_s cy N c + bm_w cy N c := rfl
theorem bm_s_le {cy : Nat → Nat} {N : Nat} : ∀ c, bm_s cy N c ≤ c + bm_l cy c N := by
  intro c
  induction c with
  | zero => exact Nat.zero_le _
  | succ c ih =>
    have := bm_w_r (cy := cy) (N := N) (c := c)
    rw [bm_s_s, bm_l_n]; omega
theorem bm_s_b {cy : Nat → Nat} {N c : Nat} : bm_s cy N c + bm_n cy c N ≤ c + N := by
  have h1 := bm_s_le (cy := cy) (N := N) c
  have h2 := bm_l_n (cy := cy) (c := c) N
  have h3 := bm_l_le (cy := cy) (c := c + 1) N
  omega
theorem bm_s_mono {cy : Nat → Nat} {N j : Nat} : ∀ c, j ≤ c → bm_s cy N j ≤ bm_s cy N c := by
  intro c
  induction c with
  | zero => intro h; rw [show j = 0 by omega]; exact Nat.le_refl _
  | succ c ih =>
    intro h
    by_cases e : j = c + 1
    · rw [e]; exact Nat.le_refl _
    · have := ih (by omega)
      rw [bm_s_s]; omega
def bm_Ly (N C : Nat) (cy : Nat → Nat) (E cd : Nat → Int32) : Prop := ∀ c, c < C →
  (∀ k, k < N → cy k = c → cd (bm_s cy N c + bm_n cy c k) = if bm_n cy c (k + 1) = bm_n cy c N then E k ||| (-2147483648) else E k) ∧ (bm_n cy c N = 0 → cd (bm_s cy N c) = -2147483648)
theorem bm_Ly_keep {N C : Nat} {cy : Nat → Nat} {E cd cd' : Nat → Int32} (h : bm_Ly N C cy E cd) (hk : ∀ p, p < bm_s cy N C → cd' p = cd p) : bm_Ly N C cy E cd' := by
  intro c hc
  have h1 := bm_s_mono (cy := cy) (N := N) (j := c + 1) C (by omega)
  have h2 := bm_w_r (cy := cy) (N := N) (c := c)
  rw [bm_s_s] at h1
  refine ⟨fun k hkN e => ?_, fun e => ?_⟩
  · have := bm_n_lt (cy := cy) (c := c) hkN e
    rw [hk _ (by omega)]; exact (h c hc).1 k hkN e
  · rw [hk _ (by omega)]; exact (h c hc).2 e
theorem bm_Ly_s {N C : Nat} {cy : Nat → Nat} {E cd : Nat → Int32} (h : bm_Ly N C cy E cd)
    (h1 : ∀ k, k < N → cy k = C → cd (bm_s cy N C + bm_n cy C k) = if bm_n cy C (k + 1) = bm_n cy C N then E k ||| (-2147483648) else E k) (h2 : bm_n cy C N = 0 → cd (bm_s cy N C) = -2147483648) : bm_Ly N (C + 1) cy E cd := by
  intro c hc
  by_cases e : c = C
  · subst e; exact ⟨h1, h2⟩
  · exact h c (by omega)
def bm_EE (mO mT mL mR mN : Nat → Int32) (k : Nat) : Int32 := bm_E (mO k) (mT k) (mL k) (mR k) (mN k)
section ENC
variable {eL eP eO eC eN eF : Int32} {vO vD vA vB mO mT mL mR mN nC uR cY bU cD rG cE fT fV fL : Nat → Int32}
theorem bm_xen {post : Int32 → Prop} {k : Nat} (hk : k < 96) (h : post (bm_EE mO mT mL mR mN k)) : wpX_encoded post (eL, eP, eO, eC, eN, eF, vO, vD, vA, vB, mO, mT, mL, mR, mN, nC, uR, cY, bU, cD, rG, cE, fT, fV, fL) (nI k) := by
  have hin : vp_in (nI k) 96 := vp_in_nI hk (by omega)
  unfold wpX_encoded
  rw [nI_clamp (by omega)]
  exact ⟨hin, hin, hin, hin, hin, h⟩
section ENC2
variable {post : SX → Prop} {J : Int32 → Int32 → (Nat → Int32) → (Nat → Int32) → (Nat → Int32) → (Nat → Int32) → (Nat → Int32) → (Nat → Int32) → (Nat → Int32) → (Nat → Int32) → (Nat → Int32) → (Nat → Int32) → (Nat → Int32) → (Nat → Int32) → (Nat → Int32) → (Nat → Int32) → (Nat → Int32) → (Nat → Int32) → (Nat → Int32) → (Nat → Int32) → (Nat → Int32) → Prop} {N c p : Nat} {x1 : Int32}
theorem bm_137 (hp : p < 500) (h : J (nI (c + 1)) (nI (p + 1)) vO vD vA vB mO mT mL mR mN nC uR cY bU (upd cD p (cD p ||| (-2147483648))) rG cE fT fV fL) : wX_encode_137 post J x1 (nI c) eL eP eO (nI (p + 1)) eN eF vO vD vA vB mO mT mL mR mN nC uR cY bU cD rG cE fT fV fL := by
  unfold wX_encode_137
  rw [nI_pred]
  have hin : vp_in (nI p) 500 := vp_in_nI hp (by omega)
  rw [nI_clamp (by omega)]
  exact ⟨hin, hin, nm_e (nm_r (nI_1 c) h)⟩
theorem bm_55 (hN : N ≤ 96) (hc : c < 300) (hcY : ∀ k, k < N → cY k = nI (bm_c cY k) ∧ bm_c cY k < 300)
    (hJ : ∀ cD, bm_Ly N (c + 1) (bm_c cY) (bm_EE mO mT mL mR mN) cD → J (nI (c + 1)) (nI (bm_s (bm_c cY) N (c + 1))) vO vD vA vB mO mT mL mR mN nC uR cY bU cD rG cE fT fV fL) :
    ∀ (d k n : Nat) (cD : Nat → Int32), k + d = N → d < n → bm_Ly N c (bm_c cY) (bm_EE mO mT mL mR mN) cD → (∀ i, i < k → bm_c cY i = c → cD (bm_s (bm_c cY) N c + bm_n (bm_c cY) c i) = bm_EE mO mT mL mR mN i) →
      wX_encode_55 post J x1 (nI c) (nI (bm_s (bm_c cY) N c)) eL eP (nI N) eN eF n (nI k) (nI (bm_s (bm_c cY) N c + bm_n (bm_c cY) c k)) vO vD vA vB mO mT mL mR mN nC uR cY bU cD rG cE fT fV fL := by
  have hB := bm_s_b (cy := bm_c cY) (N := N) (c := c)
  intro d
  induction d with
  | zero =>
    intro k n cD hd hf hL hS
    obtain ⟨n, rfl⟩ : ∃ m, n = m + 1 := ⟨n - 1, by omega⟩
    obtain rfl : k = N := by omega
    rw [wX_encode_55]
    refine br_t (nI_le (by omega) (by omega)) (pk_eq (bm_s (bm_c cY) k c + bm_n (bm_c cY) c k) (bm_s (bm_c cY) k c) (fun e => ?_) (fun e => ?_))
    · have e0 : bm_n (bm_c cY) c k = 0 := by omega
      rw [e0, Nat.add_zero]
      have es : bm_s (bm_c cY) k (c + 1) = bm_s (bm_c cY) k c + 1 := by rw [bm_s_s]; unfold bm_w; rw [if_pos e0]
      refine ⟨vp_in_nI (by omega) (by omega), nm_r (e' := upd cD (bm_s (bm_c cY) k c) 0) (by rw [nI_clamp (by omega)]) (nm_r (nI_1 _) (bm_137 (by omega) ?_))⟩
      rw [← es]
      refine hJ _ (bm_Ly_s (bm_Ly_keep hL (fun p hp => by rw [pk_un (by omega), pk_un (by omega)])) (fun i hi ei => ?_) (fun _ => ?_))
      · have := bm_n_lt (cy := bm_c cY) (c := c) hi ei
        omega
      · rw [pk_us, pk_us]; rfl
    · have es : bm_s (bm_c cY) k (c + 1) = bm_s (bm_c cY) k c + bm_n (bm_c cY) c k := by rw [bm_s_s]; unfold bm_w; rw [if_neg (by omega)]
      obtain ⟨q, eq⟩ : ∃ q, bm_s (bm_c cY) k c + bm_n (bm_c cY) c k = q + 1 := ⟨bm_s (bm_c cY) k c + bm_n (bm_c cY) c k - 1, by omega⟩
      rw [eq]
      refine bm_137 (by omega) ?_
      rw [← eq, ← es]
      refine hJ _ (bm_Ly_s (bm_Ly_keep hL (fun p hp => pk_un (by omega))) (fun i hi ei => ?_) (fun z => by omega))
      have h1 := bm_n_y (cy := bm_c cY) ei
      by_cases el : bm_n (bm_c cY) c (i + 1) = bm_n (bm_c cY) c k
      · rw [if_pos el, show bm_s (bm_c cY) k c + bm_n (bm_c cY) c i = q by omega, pk_us, ← hS i hi ei, show bm_s (bm_c cY) k c + bm_n (bm_c cY) c i = q by omega]
      · rw [if_neg el, pk_un (by omega)]; exact hS i hi ei
  | succ d ih =>
    intro k n cD hd hf hL hS
    obtain ⟨n, rfl⟩ : ∃ m, n = m + 1 := ⟨n - 1, by omega⟩
    have hin : vp_in (nI k) 96 := vp_in_nI (by omega) (by omega)
    obtain ⟨ek, hk⟩ := hcY k (by omega)
    have h2 := bm_n_mono (cy := bm_c cY) (c := c) (j := k + 1) N (by omega)
    rw [wX_encode_55]
    refine br_f (nI_ge (by omega) (by omega)) ⟨hin, pk_eq (bm_c cY k) c (fun e => bm_xen (by omega) ⟨vp_in_nI ?_ (by omega), nm_r (e' := upd cD (bm_s (bm_c cY) N c + bm_n (bm_c cY) c k) (bm_EE mO mT mL mR mN k)) ?_ (nm_r (nI_1 _) (nm_r (nI_1 k) ?_))⟩) (fun e => nm_r (nI_1 k) ?_) (by rw [nI_clamp (by omega)]; exact ek)⟩
    · have := bm_n_lt (cy := bm_c cY) (c := c) (show k < N by omega) e
      omega
    · rw [nI_clamp (by have := bm_n_mono (cy := bm_c cY) (c := c) (j := k) N (by omega); omega)]
    · rw [Nat.add_assoc, ← bm_n_y e]
      refine ih (k + 1) n _ (by omega) (by omega) (bm_Ly_keep hL (fun p hp => pk_un (by omega))) (fun i hi ei => ?_)
      by_cases eik : i = k
      · subst eik; rw [pk_us]
      · have := bm_n_lt (cy := bm_c cY) (c := c) (show i < k by omega) ei
        rw [pk_un (by omega)]; exact hS i (by omega) ei
    · rw [← bm_n_x e]
      refine ih (k + 1) n _ (by omega) (by omega) hL (fun i hi ei => hS i ?_ ei)
      have : i ≠ k := fun z => e (by rw [← z]; exact ei)
      omega
theorem bm_42 {L : Nat} (hN : N ≤ 96) (hL : L ≤ 300) (hcY : ∀ k, k < N → cY k = nI (bm_c cY k) ∧ bm_c cY k < 300)
    (hp : ∀ cD, bm_Ly N L (bm_c cY) (bm_EE mO mT mL mR mN) cD → post (eL, eP, nI N, nI (bm_s (bm_c cY) N L), eN, eF, vO, vD, vA, vB, mO, mT, mL, mR, mN, nC, uR, cY, bU, cD, rG, cE, fT, fV, fL)) :
    ∀ (d c n : Nat) (cD : Nat → Int32), c + d = L → d < n → bm_Ly N c (bm_c cY) (bm_EE mO mT mL mR mN) cD → wX_encode_42 post (bm_sv L) eL eP (nI N) eN eF n (nI c) (nI (bm_s (bm_c cY) N c)) vO vD vA vB mO mT mL mR mN nC uR cY bU cD rG cE fT fV fL := by
  have hlt : ∀ c, c < 900 → (bm_sv L < nI c ↔ L ≤ c) := fun c h => by
    rw [Int32.lt_iff_toInt_lt, bm_svt (by omega), nI_toInt (by omega)]; omega
  intro d
  induction d with
  | zero =>
    intro c n cD hd hf hLy
    obtain ⟨n, rfl⟩ : ∃ m, n = m + 1 := ⟨n - 1, by omega⟩
    obtain rfl : c = L := by omega
    rw [wX_encode_42]
    exact br_t ((hlt c (by omega)).mpr (Nat.le_refl _)) (hp cD hLy)
  | succ d ih =>
    intro c n cD hd hf hLy
    obtain ⟨n, rfl⟩ : ∃ m, n = m + 1 := ⟨n - 1, by omega⟩
    rw [wX_encode_42]
    refine br_f (fun z => by have := (hlt c (by omega)).mp z; omega) ⟨N + 1, ?_⟩
    exact bm_55 (c := c) hN (by omega) hcY (fun cD h => ih (c + 1) n cD (by omega) (by omega) h) N 0 (N + 1) cD (by omega) (by omega) hLy (fun i hi => by omega)
theorem bm_en4 {M : Nat} (hN : N ≤ 96) (hM : M ≤ 300) (hcY : ∀ k, k < N → cY k = nI (bm_c cY k) ∧ bm_c cY k < M)
    (hp : ∀ L, L ≤ M → (∀ k, k < N → bm_c cY k < L) → ∃ n42, wX_encode_42 post (bm_sv L) eL eP (nI N) eN eF n42 0 0 vO vD vA vB mO mT mL mR mN nC uR cY bU cD rG cE fT fV fL) :
    ∀ (d k n L : Nat), k + d = N → d < n → L ≤ M → (∀ i, i < k → bm_c cY i < L) → wX_encode_4 post eL eP (nI N) eC eN eF vO vD vA vB mO mT mL mR mN nC uR cY bU cD rG cE fT fV fL n (bm_sv L) (nI k) := by
  intro d
  induction d with
  | zero =>
    intro k n L hd hf hL hS
    obtain ⟨n, rfl⟩ : ∃ m, n = m + 1 := ⟨n - 1, by omega⟩
    obtain rfl : k = N := by omega
    rw [wX_encode_4]
    exact br_t (nI_le (by omega) (by omega)) (hp L hL hS)
  | succ d ih =>
    intro k n L hd hf hL hS
    obtain ⟨n, rfl⟩ : ∃ m, n = m + 1 := ⟨n - 1, by omega⟩
    have hin : vp_in (nI k) 96 := vp_in_nI (by omega) (by omega)
    obtain ⟨ek, hk⟩ := hcY k (by omega)
    have ek' : cY (nI k).toNatClampNeg = nI (bm_c cY k) := by rw [nI_clamp (by omega)]; exact ek
    rw [wX_encode_4]
    refine br_f (nI_ge (by omega) (by omega)) ⟨hin, ?_⟩
    rw [ek']
    refine br_c (fun a => nm_r (nI_1 k) ?_) (fun a => ⟨hin, nm_e (nm_r (nI_1 k) ?_)⟩)
    · rw [bm_sv_le (by omega) (by omega)] at a
      refine ih (k + 1) n L (by omega) (by omega) hL (fun i hi => ?_)
      by_cases e : i = k
      · rw [e]; omega
      · exact hS i (by omega)
    · rw [bm_sv_le (by omega) (by omega)] at a
      refine ih (k + 1) n (bm_c cY k + 1) (by omega) (by omega) (by omega) (fun i hi => ?_)
      by_cases e : i = k
      · rw [e]; omega
      · have := hS i (by omega); omega
theorem bm_xenc {M : Nat} (hN : N ≤ 96) (hM : M ≤ 300) (hcY : ∀ k, k < N → cY k = nI (bm_c cY k) ∧ bm_c cY k < M)
    (hp : ∀ L cD, L ≤ M → (∀ k, k < N → bm_c cY k < L) → bm_Ly N L (bm_c cY) (bm_EE mO mT mL mR mN) cD → post (eL, eP, nI N, nI (bm_s (bm_c cY) N L), eN, eF, vO, vD, vA, vB, mO, mT, mL, mR, mN, nC, uR, cY, bU, cD, rG, cE, fT, fV, fL)) : wpX_encode post (eL, eP, nI N, eC, eN, eF, vO, vD, vA, vB, mO, mT, mL, mR, mN, nC, uR, cY, bU, cD, rG, cE, fT, fV, fL) := by
  unfold wpX_encode
  refine ⟨N + 1, bm_en4 hN hM hcY (fun L hL hS => ⟨L + 1, ?_⟩) N 0 (N + 1) 0 (by omega) (by omega) (by omega) (fun i hi => by omega)⟩
  exact bm_42 hN (by omega) (fun k hk => ⟨(hcY k hk).1, by have := (hcY k hk).2; omega⟩) (fun cD h => hp L cD hL hS h) L 0 (L + 1) cD (by omega) (by omega) (fun c hc => by omega)
end ENC2
end ENC
end
section
/-! the machine: results that land, operations that are issued -/
def bm_mm (rG cE : Nat → Int32) (x : Nat) : Int32 := if x < 16 then rG x else cE (x - 16)
theorem bm_mm_r {rG cE : Nat → Int32} {x : Nat} (h : x < 16) : bm_mm rG cE x = rG x := if_pos h
theorem bm_mm_c {rG cE : Nat → Int32} {x : Nat} (h : ¬ x < 16) : bm_mm rG cE x = cE (x - 16) := if_neg h
theorem bm_mm_ur {rG cE : Nat → Int32} {y : Nat} {v : Int32} (hy : y < 16) (x : Nat) : bm_mm (upd rG y v) cE x = upd (bm_mm rG cE) y v x := by
  unfold upd
  by_cases h : x < 16
  · rw [bm_mm_r h, bm_mm_r h]
  · rw [bm_mm_c h, bm_mm_c h, if_neg (by omega)]
theorem bm_mm_uc {rG cE : Nat → Int32} {y : Nat} {v : Int32} (hy : ¬ y < 16) (x : Nat) : bm_mm rG (upd cE (y - 16) v) x = upd (bm_mm rG cE) y v x := by
  unfold upd
  by_cases h : x < 16
  · rw [bm_mm_r h, bm_mm_r h, if_neg (by omega)]
  · rw [bm_mm_c h, bm_mm_c h]
    by_cases e : x = y
    · rw [if_pos e, if_pos (by omega)]
    · rw [if_neg e, if_neg (by omega)]
section FLY
variable (fT fV fL : Nat → Int32) (Lf : Nat → Nat) (Vf : Nat → Int32) (ld : Nat → Nat)
/-- the results in flight from place s on are those of the operations of the list -/
def bm_H (s : Nat) (K : List Nat) : Prop := ∀ p k, K[p]? = some k → fT (s + p) = nI (Lf k) ∧ fV (s + p) = Vf k ∧ fL (s + p) = nI (ld k)
variable {fT fV fL Lf Vf ld}
theorem bm_H_c {s k : Nat} {K : List Nat} (h : bm_H fT fV fL Lf Vf ld s (k :: K)) : (fT s = nI (Lf k) ∧ fV s = Vf k ∧ fL s = nI (ld k)) ∧ bm_H fT fV fL Lf Vf ld (s + 1) K := by
  constructor
  · exact h 0 k rfl
  · intro p q e
    have := h (p + 1) q e
    rw [show s + (p + 1) = s + 1 + p by omega] at this
    exact this
theorem bm_H_k {fT' fV' fL' : Nat → Int32} {s : Nat} {K : List Nat} (h : bm_H fT fV fL Lf Vf ld s K) (e : ∀ p, p < K.length → fT' (s + p) = fT (s + p) ∧ fV' (s + p) = fV (s + p) ∧ fL' (s + p) = fL (s + p)) : bm_H fT' fV' fL' Lf Vf ld s K := by
  intro p k hk
  obtain ⟨hp, -⟩ := List.getElem?_eq_some_iff.mp hk
  obtain ⟨a, b, c⟩ := e p hp
  rw [a, b, c]
  exact h p k hk
theorem bm_H_a {K : List Nat} {k : Nat} {a b c : Int32} (h : bm_H fT fV fL Lf Vf ld 0 K) (ha : a = nI (Lf k)) (hb : b = Vf k) (hc : c = nI (ld k)) : bm_H (upd fT K.length a) (upd fV K.length b) (upd fL K.length c) Lf Vf ld 0 (K ++ [k]) := by
  intro p q hq
  rw [Nat.zero_add]
  by_cases e : p < K.length
  · rw [List.getElem?_append_left e] at hq
    have := h p q hq
    rw [Nat.zero_add] at this
    rw [pk_un (by omega), pk_un (by omega), pk_un (by omega)]
    exact this
  · obtain ⟨hp, -⟩ := List.getElem?_eq_some_iff.mp hq
    rw [List.length_append, List.length_singleton] at hp
    obtain rfl : p = K.length := by omega
    rw [List.getElem?_concat_length] at hq
    obtain rfl : k = q := Option.some.inj hq
    rw [pk_us, pk_us, pk_us]
    exact ⟨ha, hb, hc⟩
end FLY
section LAND
variable {eL eP eO eC eN eF : Int32} {vO vD vA vB mO mT mL mR mN nC uR cY bU cD rG cE fT fV fL : Nat → Int32}
theorem bm_ld4 {post : SX → Prop} {Lf : Nat → Nat} {Vf m0 : Nat → Int32} {ld : Nat → Nat} {N C F : Nat} (hLf : ∀ k, k < N → Lf k < 32) (hld : ∀ k, k < N → ld k < 1000) (hC : C < 1000) (hF : F ≤ 32)
    (hW : ∀ i j, i < j → j < N → Lf j = Lf i → ld i < ld j) :
    ∀ (rest K : List Nat) (P : Nat → Bool) (n i : Nat) (rG cE fT fV fL : Nat → Int32), rest.length < n → i + rest.length = F → K.length ≤ i → (K ++ rest).Nodup → (∀ k, k ∈ rest → k < N ∧ C ≤ ld k) → (∀ k, P k = true → ld k ≤ C) →
      bm_H fT fV fL Lf Vf ld 0 K → bm_H fT fV fL Lf Vf ld i rest → (∀ x, x < 32 → bm_mm rG cE x = bm_W Lf Vf m0 P N x) →
      (∀ (K' : List Nat) (P' : Nat → Bool) (rG cE fT fV fL : Nat → Int32), K'.Nodup → (∀ k, k ∈ K' ↔ k ∈ K ∨ (k ∈ rest ∧ C < ld k)) → (∀ k, P' k = true ↔ P k = true ∨ (k ∈ rest ∧ ld k ≤ C)) →
        bm_H fT fV fL Lf Vf ld 0 K' → (∀ x, x < 32 → bm_mm rG cE x = bm_W Lf Vf m0 P' N x) → post (eL, eP, eO, eC, nI C, nI K'.length, vO, vD, vA, vB, mO, mT, mL, mR, mN, nC, uR, cY, bU, cD, rG, cE, fT, fV, fL)) →
      wX_landResults_4 post eL eP eO eC (nI C) (nI F) n (nI K.length) (nI i) vO vD vA vB mO mT mL mR mN nC uR cY bU cD rG cE fT fV fL := by
  intro rest
  induction rest with
  | nil =>
    intro K P n i rG cE fT fV fL hn hi hK hnd hr hP hH hHr hm hp
    obtain ⟨n, rfl⟩ : ∃ m, n = m + 1 := ⟨n - 1, by omega⟩
    rw [List.length_nil] at hi
    rw [wX_landResults_4]
    refine br_t (nI_le (by omega) (by omega)) (hp K P rG cE fT fV fL ?_ (fun k => ?_) (fun k => ?_) hH hm)
    · rwa [List.append_nil] at hnd
    · simp
    · simp
  | cons k rest ih =>
    intro K P n i rG cE fT fV fL hn hi hK hnd hr hP hH hHr hm hp
    obtain ⟨n, rfl⟩ : ∃ m, n = m + 1 := ⟨n - 1, by omega⟩
    rw [List.length_cons] at hn hi
    have hin : vp_in (nI i) 32 := vp_in_nI (by omega) (by omega)
    have ci : (nI i).toNatClampNeg = i := nI_clamp (by omega)
    have cK : (nI K.length).toNatClampNeg = K.length := nI_clamp (by omega)
    have hKn : vp_in (nI K.length) 32 := vp_in_nI (by omega) (by omega)
    obtain ⟨⟨qT, qV, qL⟩, hHr'⟩ := bm_H_c hHr
    obtain ⟨hkN, hkC⟩ := hr k List.mem_cons_self
    have hlk := hLf k hkN
    have hdk := hld k hkN
    have hr' : ∀ k, k ∈ rest → k < N ∧ C ≤ ld k := fun q hq => hr q (List.mem_cons_of_mem _ hq)
    rw [wX_landResults_4]
    refine br_f (nI_ge (by omega) (by omega)) ⟨hin, ?_⟩
    rw [ci, qL, qT, qV]
    refine pk_le (ld k) C (fun hle => ⟨hin, ?_⟩) (fun hgt => ?_)
    · have hnd' : (K ++ rest).Nodup := by
        refine List.Nodup.sublist ?_ hnd
        exact List.Sublist.append_left (List.sublist_cons_self k rest) K
      have hP1 : ∀ q, (P q || decide (q = k)) = true → ld q ≤ C := fun q hq => by
        rw [Bool.or_eq_true, decide_eq_true_eq] at hq
        rcases hq with hq | hq
        · exact hP q hq
        · rw [hq]; exact hle
      have hWk : ∀ x, bm_W Lf Vf m0 (fun q => P q || decide (q = k)) N x = upd (bm_W Lf Vf m0 P N) (Lf k) (Vf k) x := fun x => by
        refine bm_W_add N hkN (fun q _ hq => ?_) ?_ (fun q h1 h2 h3 h4 => ?_)
        · rw [decide_eq_false hq, Bool.or_false]
        · rw [decide_eq_true rfl, Bool.or_true]
        · have := hW k q h1 h2 h4
          have := hP q h3
          omega
      have hk1 : ∀ (K' : List Nat) (P' : Nat → Bool) (rG cE fT fV fL : Nat → Int32), K'.Nodup → (∀ q, q ∈ K' ↔ q ∈ K ∨ (q ∈ rest ∧ C < ld q)) → (∀ q, P' q = true ↔ (P q || decide (q = k)) = true ∨ (q ∈ rest ∧ ld q ≤ C)) →
          bm_H fT fV fL Lf Vf ld 0 K' → (∀ x, x < 32 → bm_mm rG cE x = bm_W Lf Vf m0 P' N x) → post (eL, eP, eO, eC, nI C, nI K'.length, vO, vD, vA, vB, mO, mT, mL, mR, mN, nC, uR, cY, bU, cD, rG, cE, fT, fV, fL) := by
        intro K' P' rG cE fT fV fL a1 a2 a3 a4 a5
        refine hp K' P' rG cE fT fV fL a1 (fun q => ?_) (fun q => ?_) a4 a5
        · rw [a2 q, List.mem_cons]
          constructor
          · rintro (b | ⟨b, c⟩)
            · exact Or.inl b
            · exact Or.inr ⟨Or.inr b, c⟩
          · rintro (b | ⟨b | b, c⟩)
            · exact Or.inl b
            · rw [b] at c; omega
            · exact Or.inr ⟨b, c⟩
        · rw [a3 q, List.mem_cons, Bool.or_eq_true, decide_eq_true_eq]
          constructor
          · rintro ((b | b) | ⟨b, c⟩)
            · exact Or.inl b
            · exact Or.inr ⟨Or.inl b, by rw [b]; exact hle⟩
            · exact Or.inr ⟨Or.inr b, c⟩
          · rintro (b | ⟨b | b, c⟩)
            · exact Or.inl (Or.inl b)
            · exact Or.inl (Or.inr b)
            · exact Or.inr ⟨b, c⟩
      refine pk_lt (Lf k) 16 (fun h16 => ⟨hin, hin, vp_in_nI h16 (by omega), nm_r (e' := upd rG (Lf k) (Vf k)) (by rw [nI_clamp (by omega)]) (nm_r (nI_1 i) ?_)⟩) (fun h16 => ⟨hin, hin, ?_⟩)
      · refine ih K (fun q => P q || decide (q = k)) n (i + 1) _ cE fT fV fL (by omega) (by omega) (by omega) hnd' hr' hP1 hH hHr' (fun x hx => ?_) hk1
        rw [bm_mm_ur h16, hWk]
        unfold upd
        rw [hm x hx]
      · have e16 : nI (Lf k) - 16 = nI (Lf k - 16) := pk_sub (b := 16) h16
        rw [e16]
        refine ⟨vp_in_nI (by omega) (by omega), nm_r (e' := upd cE (Lf k - 16) (Vf k)) (by rw [nI_clamp (by omega)]) (nm_r (nI_1 i) ?_)⟩
        refine ih K (fun q => P q || decide (q = k)) n (i + 1) rG _ fT fV fL (by omega) (by omega) (by omega) hnd' hr' hP1 hH hHr' (fun x hx => ?_) hk1
        rw [bm_mm_uc (by omega), hWk]
        unfold upd
        rw [hm x hx]
    · have e1 : upd fT (nI K.length).toNatClampNeg (vp_nar .byte (nI (Lf k))) = upd fT K.length (nI (Lf k)) := by rw [cK, bm_nb' (by omega)]
      have e2 : upd fV (nI K.length).toNatClampNeg (Vf k) = upd fV K.length (Vf k) := by rw [cK]
      have e3 : upd fL (nI K.length).toNatClampNeg (vp_nar .short (nI (ld k))) = upd fL K.length (nI (ld k)) := by rw [cK, bm_ns' (by omega)]
      refine ⟨hin, hKn, nm_r e1 ⟨hin, hKn, nm_r e2 ⟨hin, hKn, nm_r e3 (nm_r (e' := nI (K ++ [k]).length) ?_ (nm_r (nI_1 i) ?_))⟩⟩⟩
      · rw [List.length_append, List.length_singleton, nI_1]
      · refine ih (K ++ [k]) P n (i + 1) rG cE _ _ _ (by omega) (by omega) (by rw [List.length_append, List.length_singleton]; omega) (by rw [List.append_assoc]; exact hnd) hr' hP (bm_H_a hH rfl rfl rfl) ?_ hm ?_
        · exact bm_H_k hHr' (fun p _ => ⟨pk_un (by omega), pk_un (by omega), pk_un (by omega)⟩)
        · intro K' P' rG cE fT fV fL a1 a2 a3 a4 a5
          refine hp K' P' rG cE fT fV fL a1 (fun q => ?_) (fun q => ?_) a4 a5
          · rw [a2 q, List.mem_cons, List.mem_append, List.mem_singleton]
            constructor
            · rintro ((b | b) | ⟨b, c⟩)
              · exact Or.inl b
              · exact Or.inr ⟨Or.inl b, by rw [b]; exact hgt⟩
              · exact Or.inr ⟨Or.inr b, c⟩
            · rintro (b | ⟨b | b, c⟩)
              · exact Or.inl (Or.inl b)
              · exact Or.inl (Or.inr b)
              · exact Or.inr ⟨b, c⟩
          · rw [a3 q, List.mem_cons]
            constructor
            · rintro (b | ⟨b, c⟩)
              · exact Or.inl b
              · exact Or.inr ⟨Or.inr b, c⟩
            · rintro (b | ⟨b | b, c⟩)
              · exact Or.inl b
              · rw [b] at c; omega
              · exact Or.inr ⟨b, c⟩
theorem bm_xfly {post : SX → Prop} {F C a d : Nat} {v : Int32} (hF : F < 32) (ha : a < 128) (hC : C + d < 1100)
    (h : post (eL, eP, eO, eC, nI C, nI (F + 1), vO, vD, vA, vB, mO, mT, mL, mR, mN, nC, uR, cY, bU, cD, rG, cE, upd fT F (nI a), upd fV F v, upd fL F (nI (C + d)))) : wpX_fly post (eL, eP, eO, eC, nI C, nI F, vO, vD, vA, vB, mO, mT, mL, mR, mN, nC, uR, cY, bU, cD, rG, cE, fT, fV, fL) (nI a) v (nI d) := by
  have hin : vp_in (nI F) 32 := vp_in_nI hF (by omega)
  have c : (nI F).toNatClampNeg = F := nI_clamp (by omega)
  unfold wpX_fly
  exact ⟨hin, nm_r (e' := upd fT F (nI a)) (by rw [c, bm_nb ha]) ⟨hin, nm_r (e' := upd fV F v) (by rw [c]) ⟨hin, nm_r (e' := upd fL F (nI (C + d))) (by rw [c, nI_add, bm_ns (by omega)]) (nm_r (nI_1 F) h)⟩⟩⟩
theorem bm_xcb {post : Int32 → Prop} {o : Nat} {p q : Int32} (ho : o < 16) (h : post (bm_cb o p q)) : wpX_combined post (eL, eP, eO, eC, eN, eF, vO, vD, vA, vB, mO, mT, mL, mR, mN, nC, uR, cY, bU, cD, rG, cE, fT, fV, fL) (nI o) p q := by
  unfold bm_cb at h
  unfold wpX_combined
  refine pk_eq o 0 (fun a => ?_) (fun a => pk_eq o 1 (fun b => ?_) (fun b => pk_eq o 2 (fun c => ?_) (fun c => pk_eq o 3 (fun d => ?_) (fun d => br_c (fun e => ?_) (fun e => ?_)))))
  · rw [if_pos a] at h; exact h
  · rw [if_neg a, if_pos b] at h; exact h
  · rw [if_neg a, if_neg b, if_pos c] at h; exact h
  · rw [if_neg a, if_neg b, if_neg c, if_pos d] at h; exact h
  · rw [if_neg a, if_neg b, if_neg c, if_neg d, if_pos e] at h; exact h
  · rw [if_neg a, if_neg b, if_neg c, if_neg d, if_neg e] at h; exact h
theorem bm_170 {post : SX → Prop} {F C o t : Nat} {v : Int32} (hF : F < 32) (ho : o < 16) (ht : t < 16) (hC : C < 1000)
    (h : post (eL, eP, eO, eC, nI C, nI (F + 1), vO, vD, vA, vB, mO, mT, mL, mR, mN, nC, uR, cY, bU, cD, rG, cE, upd fT F (nI t), upd fV F v, upd fL F (nI (C + bm_tm o)))) : wX_issue_170 post (nI o) (nI t) v eL eP eO eC (nI C) (nI F) vO vD vA vB mO mT mL mR mN nC uR cY bU cD rG cE fT fV fL := by
  have := bm_tm_r o
  unfold wX_issue_170
  exact bm_xt ho (bm_xfly hF (by omega) (by omega) h)
theorem bm_xis {post : SX → Prop} {F C o t l r m : Nat} {w : Int32} {s : Bool} (W : bm_Wd w o t l r m s) (hF : F < 32) (ho : o < 10) (ht : t < 16) (hl : l < 16) (hr : r < 16) (hm : m < 24) (hC : C < 1000)
    (h : post (eL, eP, eO, eC, nI C, nI (F + 1), vO, vD, vA, vB, mO, mT, mL, mR, mN, nC, uR, cY, bU, cD, rG, cE, upd fT F (nI (bm_lc o t l (vB m) (bm_mm rG cE))), upd fV F (bm_vl o t l r (vB m) (bm_mm rG cE)), upd fL F (nI (C + bm_tm o)))) : wpX_issue post (eL, eP, eO, eC, nI C, nI F, vO, vD, vA, vB, mO, mT, mL, mR, mN, nC, uR, cY, bU, cD, rG, cE, fT, fV, fL) w := by
  have t16 : vp_in (nI t) 16 := vp_in_nI ht (by omega)
  have ct : (nI t).toNatClampNeg = t := nI_clamp (by omega)
  unfold bm_lc bm_vl at h
  rw [bm_mm_r hl, bm_mm_r hr, bm_mm_r ht] at h
  unfold wpX_issue
  rw [bm_Wd_o W (by omega), bm_Wd_t W (by omega) ht, bm_Wd_l W (by omega) ht hl, bm_Wd_r W (by omega) ht hl hr, bm_Wd_m W (by omega) ht hl hr (by omega)]
  refine nm_e (nm_e ⟨vp_in_nI hl (by omega), nm_r (e' := rG l) (by rw [nI_clamp (by omega)]) ⟨vp_in_nI hr (by omega), nm_r (e' := rG r) (by rw [nI_clamp (by omega)]) ⟨vp_in_nI hm (by omega), nm_r (e' := vB m) (by rw [nI_clamp (by omega)]) ?_⟩⟩⟩)
  obtain ⟨j, hj, ej, ea⟩ := bm_ad_n (rG l + vB m)
  refine pk_eq o 8 (fun h8 => ⟨t16, ?_⟩) (fun h8 => pk_eq o 7 (fun h7 => ⟨by rw [ej]; exact vp_in_nI hj (by omega), nm_r (e' := cE j) (by rw [ej, nI_clamp (by omega)]) ?_⟩) (fun h7 => pk_eq o 5 (fun h5 => ⟨t16, ?_⟩) (fun h5 => pk_eq o 6 (fun h6 => nm_e ?_) (fun h6 => pk_eq o 9 (fun h9 => ?_) (fun h9 => bm_xcb (by omega) ?_)))))
  · rw [if_pos h8, if_pos h8, ea] at h
    subst h8
    rw [ej, ct, show (16 : Int32) + nI j = nI (16 + j) from nI_add 16 j]
    exact bm_xfly (d := 1) hF (by omega) (by omega) h
  · rw [if_neg h8, if_neg h8, if_pos h7, ea, bm_mm_c (by omega), Nat.add_sub_cancel_left] at h
    exact bm_170 hF (by omega) ht hC h
  · rw [if_neg h8, if_neg h8, if_neg h7, if_pos h5] at h
    rw [ct]
    unfold wX_issue_132
    refine br_c (fun z => ?_) (fun z => ?_)
    · rw [if_pos z] at h; exact bm_170 hF (by omega) ht hC h
    · rw [if_neg z] at h; exact bm_170 hF (by omega) ht hC h
  · rw [if_neg h8, if_neg h8, if_neg h7, if_neg h5, if_pos h6] at h
    exact bm_170 hF (by omega) ht hC h
  · rw [if_neg h8, if_neg h8, if_neg h7, if_neg h5, if_neg h6, if_pos h9] at h
    exact bm_170 hF (by omega) ht hC h
  · rw [if_neg h8, if_neg h8, if_neg h7, if_neg h5, if_neg h6, if_neg h9] at h
    exact bm_170 hF (by omega) ht hC h
end LAND
end
section
/-! the execution, bundle by bundle -/
def bm_XL (mO mT mL mR mN vB m0 : Nat → Int32) : Nat → Nat := bm_L (bm_c mO) (bm_c mT) (bm_c mL) (bm_c mR) (fun k => vB (bm_c mN k)) m0
def bm_XV (mO mT mL mR mN vB m0 : Nat → Int32) : Nat → Int32 := bm_V (bm_c mO) (bm_c mT) (bm_c mL) (bm_c mR) (fun k => vB (bm_c mN k)) m0
def bm_ld (mO cY : Nat → Int32) (k : Nat) : Nat := bm_c cY k + bm_tm (bm_c mO k)
/-- the compiled program: N operations in L bundles -/
def bm_K (N L : Nat) (mO mT mL mR mN cY cD : Nat → Int32) : Prop :=
  N ≤ 96 ∧ L ≤ 300 ∧ bm_R mO mT mL mR mN N ∧ (∀ k, k < N → bm_c cY k < L) ∧ bm_D (bm_c mO) (bm_c mT) (bm_c mL) (bm_c mR) N (bm_c cY) ∧
  (∀ i j, i < N → j < N → i ≠ j → bm_c cY i = bm_c cY j → bm_un (bm_c mO i) (bm_c mT i) ≠ bm_un (bm_c mO j) (bm_c mT j)) ∧
  bm_Ly N L (bm_c cY) (bm_EE mO mT mL mR mN) cD
/-- at the start of cycle C -/
def bm_G (N C : Nat) (mO mT mL mR mN vB cY m0 rG cE fT fV fL : Nat → Int32) (eF : Int32) : Prop := ∃ K : List Nat, eF = nI K.length ∧ K.length ≤ 32 ∧ K.Nodup ∧
  (∀ i, i ∈ K ↔ i < N ∧ bm_c cY i < C ∧ C ≤ bm_ld mO cY i) ∧ bm_H fT fV fL (bm_XL mO mT mL mR mN vB m0) (bm_XV mO mT mL mR mN vB m0) (bm_ld mO cY) 0 K ∧
  ∀ x, x < 32 → bm_mm rG cE x = bm_W (bm_XL mO mT mL mR mN vB m0) (bm_XV mO mT mL mR mN vB m0) m0 (fun k => decide (bm_ld mO cY k < C)) N x
/-- in cycle C, results landed, the operations below k issued -/
def bm_G' (N C k : Nat) (mO mT mL mR mN vB cY m0 rG cE fT fV fL : Nat → Int32) (eF : Int32) : Prop := ∃ K : List Nat, eF = nI K.length ∧ K.length ≤ 32 ∧ K.Nodup ∧
  (∀ i, i ∈ K ↔ i < N ∧ (bm_c cY i < C ∨ (bm_c cY i = C ∧ i < k)) ∧ C < bm_ld mO cY i) ∧ bm_H fT fV fL (bm_XL mO mT mL mR mN vB m0) (bm_XV mO mT mL mR mN vB m0) (bm_ld mO cY) 0 K ∧
  ∀ x, x < 32 → bm_mm rG cE x = bm_W (bm_XL mO mT mL mR mN vB m0) (bm_XV mO mT mL mR mN vB m0) m0 (fun k => decide (bm_ld mO cY k ≤ C)) N x
section EXE0
variable {N L C k : Nat} {mO mT mL mR mN vB cY cD m0 rG cE fT fV fL : Nat → Int32} {eF : Int32}
theorem bm_K_len (hK : bm_K N L mO mT mL mR mN cY cD) {K : List Nat} (hd : K.Nodup) (hm : ∀ i, i ∈ K → i < N ∧ bm_c cY i ≤ C ∧ C < bm_ld mO cY i) : K.length ≤ 21 := by
  obtain ⟨-, -, -, -, -, hU, -⟩ := hK
  refine bm_pigK (fun i => (C - bm_c cY i) * 7 + bm_un (bm_c mO i) (bm_c mT i)) 21 K hd (fun x hx => ?_) (fun x y hx hy e => ?_)
  · obtain ⟨-, h2, h3⟩ := hm x hx
    have h4 := bm_un_r (bm_c mO x) (bm_c mT x)
    have h5 := bm_tm_r (bm_c mO x)
    unfold bm_ld at h3
    show (C - bm_c cY x) * 7 + bm_un (bm_c mO x) (bm_c mT x) < 21
    omega
  · obtain ⟨a1, a2, a3⟩ := hm x hx
    obtain ⟨b1, b2, b3⟩ := hm y hy
    have h4 := bm_un_r (bm_c mO x) (bm_c mT x)
    have h5 := bm_un_r (bm_c mO y) (bm_c mT y)
    have e : (C - bm_c cY x) * 7 + bm_un (bm_c mO x) (bm_c mT x) = (C - bm_c cY y) * 7 + bm_un (bm_c mO y) (bm_c mT y) := e
    refine Classical.byContradiction (fun z => ?_)
    exact hU x y a1 b1 z (by omega) (by omega)
theorem bm_G'_x (h : bm_G' N C k mO mT mL mR mN vB cY m0 rG cE fT fV fL eF) (e : bm_c cY k ≠ C) : bm_G' N C (k + 1) mO mT mL mR mN vB cY m0 rG cE fT fV fL eF := by
  obtain ⟨K, h1, h2, h3, h4, h5⟩ := h
  refine ⟨K, h1, h2, h3, fun i => ?_, h5⟩
  rw [h4 i]
  constructor
  · rintro ⟨a, b, c⟩
    exact ⟨a, by omega, c⟩
  · rintro ⟨a, b, c⟩
    refine ⟨a, ?_, c⟩
    rcases b with b | ⟨b, d⟩
    · exact Or.inl b
    · have : i ≠ k := fun z => e (by rw [← z]; exact b)
      exact Or.inr ⟨b, by omega⟩
/-- a bundle is done -/
theorem bm_G'_G (h : bm_G' N C k mO mT mL mR mN vB cY m0 rG cE fT fV fL eF) (e : ∀ i, k ≤ i → i < N → bm_c cY i ≠ C) : bm_G N (C + 1) mO mT mL mR mN vB cY m0 rG cE fT fV fL eF := by
  obtain ⟨K, h1, h2, h3, h4, h5, h6⟩ := h
  refine ⟨K, h1, h2, h3, fun i => ?_, h5, fun x hx => ?_⟩
  · rw [h4 i]
    constructor
    · rintro ⟨a, b, c⟩
      exact ⟨a, by omega, by omega⟩
    · rintro ⟨a, b, c⟩
      refine ⟨a, ?_, by omega⟩
      by_cases z : bm_c cY i = C
      · refine Or.inr ⟨z, ?_⟩
        exact Classical.byContradiction (fun y => e i (by omega) a z)
      · exact Or.inl (by omega)
  · rw [h6 x hx]
    apply bm_W_cong
    intro q _ _
    by_cases z : bm_ld mO cY q ≤ C
    · rw [decide_eq_true z, decide_eq_true (by omega)]
    · rw [decide_eq_false z, decide_eq_false (by omega)]
theorem bm_G'_y (hK : bm_K N L mO mT mL mR mN cY cD) (hk : k < N) (ek : bm_c cY k = C) (h : bm_G' N C k mO mT mL mR mN vB cY m0 rG cE fT fV fL eF) :
    ∃ F, F < 32 ∧ eF = nI F ∧ bm_G' N C (k + 1) mO mT mL mR mN vB cY m0 rG cE
      (upd fT F (nI (bm_lc (bm_c mO k) (bm_c mT k) (bm_c mL k) (vB (bm_c mN k)) (bm_mm rG cE)))) (upd fV F (bm_vl (bm_c mO k) (bm_c mT k) (bm_c mL k) (bm_c mR k) (vB (bm_c mN k)) (bm_mm rG cE))) (upd fL F (nI (C + bm_tm (bm_c mO k)))) (nI (F + 1)) := by
  obtain ⟨K, h1, h2, h3, h4, h5, h6⟩ := h
  obtain ⟨hN, hL, hR, hcy, hD, hU, hLy⟩ := id hK
  have hl1 := bm_K_len hK h3 (C := C) (fun i hi => by
    obtain ⟨a, b, c⟩ := (h4 i).mp hi
    exact ⟨a, by omega, c⟩)
  have hA := fun i (hi : i < N) => bm_R_at hR hN hi
  obtain ⟨e1, e2⟩ := bm_D_is (nv := fun k => vB (bm_c mN k)) (m0 := m0) hD (fun i hi => (hA i hi).2.2.1) (fun i hi => (hA i hi).2.2.2.1) (fun i hi => (hA i hi).2.2.2.2.1) hk (m := bm_mm rG cE) (by
    intro x hx
    rw [h6 x hx, ek]
    rfl)
  refine ⟨K.length, by omega, h1, K ++ [k], by rw [List.length_append, List.length_singleton], by rw [List.length_append, List.length_singleton]; omega, ?_, fun i => ?_, ?_, h6⟩
  · rw [List.nodup_append]
    refine ⟨h3, by simp, fun a ha b hb => ?_⟩
    rw [List.mem_singleton] at hb
    intro z
    rw [z, hb] at ha
    have := (h4 k).mp ha
    omega
  · rw [List.mem_append, List.mem_singleton, h4 i]
    have := bm_tm_r (bm_c mO k)
    constructor
    · rintro (⟨a, b, c⟩ | z)
      · exact ⟨a, by omega, c⟩
      · subst z; exact ⟨hk, Or.inr ⟨ek, by omega⟩, by unfold bm_ld; omega⟩
    · rintro ⟨a, b, c⟩
      by_cases z : i = k
      · exact Or.inr z
      · exact Or.inl ⟨a, by omega, c⟩
  · refine bm_H_a h5 (congrArg nI e1) e2 ?_
    unfold bm_ld
    rw [ek]
end EXE0
/-! the words -/
theorem bm_n_ex {cy : Nat → Nat} {c q : Nat} : ∀ N, bm_n cy c N = q + 1 → ∃ k, k < N ∧ cy k = c ∧ bm_n cy c k = q := by
  intro N
  induction N with
  | zero => intro h; exact absurd h (by show ¬ 0 = q + 1; omega)
  | succ N ih =>
    intro h
    by_cases e : cy N = c
    · rw [bm_n_y e] at h
      exact ⟨N, by omega, e, by omega⟩
    · rw [bm_n_x e] at h
      obtain ⟨k, a, b, d⟩ := ih h
      exact ⟨k, by omega, b, d⟩
theorem bm_n_no {cy : Nat → Nat} {c k N : Nat} (h : bm_n cy c k = bm_n cy c N) : ∀ i, k ≤ i → i < N → cy i ≠ c := by
  intro i h1 h2 e
  have a := bm_n_lt (cy := cy) (c := c) h2 e
  have b := bm_n_mono (cy := cy) (c := c) (j := k) i h1
  omega
theorem bm_min_lt : (-2147483648 : Int32) < 0 := by decide
theorem bm_min_30 : (((-2147483648 : Int32) >>> ((30 : Int32) &&& 31)) &&& 1) = 0 := by decide
section EXE1
variable {N L c : Nat} {mO mT mL mR mN vB cY cD : Nat → Int32}
theorem bm_K_wd (hK : bm_K N L mO mT mL mR mN cY cD) {k : Nat} (hk : k < N) (hc : c < L) (e : bm_c cY k = c) :
    bm_Wd (cD (bm_s (bm_c cY) N c + bm_n (bm_c cY) c k)) (bm_c mO k) (bm_c mT k) (bm_c mL k) (bm_c mR k) (bm_c mN k) (decide (bm_n (bm_c cY) c (k + 1) = bm_n (bm_c cY) c N)) := by
  obtain ⟨hN, hL, hR, hcy, hD, hU, hLy⟩ := hK
  obtain ⟨⟨a1, a2, a3, a4⟩, b1, b2, b3, b4, -⟩ := bm_R_at hR hN hk
  obtain ⟨a5, b5⟩ := bm_Bc hR.2.2.2.2 hk
  rw [(hLy c hc).1 k hk e]
  unfold bm_EE
  rw [a1, a2, a3, a4, a5]
  have cc : ∀ x, x < 2 ^ 31 → (nI x).toNatClampNeg = x := fun x h => nI_clamp h
  by_cases z : bm_n (bm_c cY) c (k + 1) = bm_n (bm_c cY) c N
  · rw [if_pos z, decide_eq_true z]; exact bm_Wd1
  · rw [if_neg z, decide_eq_false z]; exact bm_Wd0 b1 b2 b3 b4 (by omega)
/-- the word ahead of a bundle ends one -/
theorem bm_K_end (hK : bm_K N L mO mT mL mR mN cY cD) (hc : c < L) : ∃ p, bm_s (bm_c cY) N (c + 1) = p + 1 ∧ cD p < 0 := by
  obtain ⟨hN, hL, hR, hcy, hD, hU, hLy⟩ := id hK
  by_cases z : bm_n (bm_c cY) c N = 0
  · refine ⟨bm_s (bm_c cY) N c, ?_, ?_⟩
    · rw [bm_s_s]; unfold bm_w; rw [if_pos z]
    · rw [(hLy c hc).2 z]; exact bm_min_lt
  · obtain ⟨q, eq⟩ : ∃ q, bm_n (bm_c cY) c N = q + 1 := ⟨bm_n (bm_c cY) c N - 1, by omega⟩
    obtain ⟨k, h1, h2, h3⟩ := bm_n_ex N eq
    have hw := bm_K_wd hK h1 hc h2
    have h4 := bm_n_y h2
    refine ⟨bm_s (bm_c cY) N c + bm_n (bm_c cY) c k, ?_, ?_⟩
    · rw [bm_s_s]; unfold bm_w; rw [if_neg z]; omega
    · rw [bm_Wd_neg hw, decide_eq_true_eq]; omega
theorem bm_s_ge (cy : Nat → Nat) (N : Nat) : ∀ c, c ≤ bm_s cy N c := by
  intro c
  induction c with
  | zero => exact Nat.zero_le _
  | succ c ih =>
    have := bm_w_r (cy := cy) (N := N) (c := c)
    rw [bm_s_s]; omega
end EXE1
section EXE
variable {eL eP eO eC eN eF : Int32} {vO vD vA vB mO mT mL mR mN nC uR cY bU cD rG cE fT fV fL : Nat → Int32}
variable {post : SX → Prop} {N L CE : Nat} {m0 : Nat → Int32}
theorem bm_xland {C : Nat} (hK : bm_K N L mO mT mL mR mN cY cD) (hC : C < 900) (hG : bm_G N C mO mT mL mR mN vB cY m0 rG cE fT fV fL eF)
    (h : ∀ rG cE fT fV fL eF, bm_G' N C 0 mO mT mL mR mN vB cY m0 rG cE fT fV fL eF → post (eL, eP, eO, eC, nI C, eF, vO, vD, vA, vB, mO, mT, mL, mR, mN, nC, uR, cY, bU, cD, rG, cE, fT, fV, fL)) : wpX_landResults post (eL, eP, eO, eC, nI C, eF, vO, vD, vA, vB, mO, mT, mL, mR, mN, nC, uR, cY, bU, cD, rG, cE, fT, fV, fL) := by
  obtain ⟨K, rfl, h2, h3, h4, h5, h6⟩ := hG
  obtain ⟨hN, hL, hR, hcy, hD, hU, hLy⟩ := id hK
  have hA := fun i (hi : i < N) => bm_R_at hR hN hi
  unfold wpX_landResults
  refine ⟨K.length + 1, ?_⟩
  refine bm_ld4 (Lf := bm_XL mO mT mL mR mN vB m0) (Vf := bm_XV mO mT mL mR mN vB m0) (m0 := m0) (ld := bm_ld mO cY) (N := N) (C := C) (F := K.length) ?_ ?_ (by omega) h2 ?_ K [] (fun k => decide (bm_ld mO cY k < C)) (K.length + 1) 0 rG cE fT fV fL (by omega) (by omega) (Nat.le_refl _) h3 ?_ ?_ ?_ h5 h6 ?_
  · intro k hk; exact bm_lc_r (hA k hk).2.2.1
  · intro k hk
    have := hcy k hk
    have := bm_tm_r (bm_c mO k)
    unfold bm_ld; omega
  · intro i j hij hj e
    exact bm_D_L hD (fun i hi => (hA i hi).2.2.1) hij hj e
  · intro k hk
    have := (h4 k).mp hk
    exact ⟨this.1, this.2.2⟩
  · intro k hk
    have := of_decide_eq_true hk
    omega
  · intro p k hk; exact absurd hk (by simp)
  · intro K' P' rG cE fT fV fL a1 a2 a3 a4 a5
    have hmem : ∀ i, i ∈ K' ↔ i < N ∧ (bm_c cY i < C ∨ (bm_c cY i = C ∧ i < 0)) ∧ C < bm_ld mO cY i := by
      intro i
      rw [a2 i, h4 i]
      constructor
      · rintro (z | ⟨⟨b, c, d⟩, e⟩)
        · exact absurd z (by simp)
        · exact ⟨b, Or.inl c, e⟩
      · rintro ⟨b, c, d⟩
        exact Or.inr ⟨⟨b, by omega, by omega⟩, d⟩
    refine h rG cE fT fV fL (nI K'.length) ⟨K', rfl, ?_, a1, hmem, a4, fun x hx => ?_⟩
    · have := bm_K_len hK a1 (C := C) (fun i hi => by
        obtain ⟨b, c, d⟩ := (hmem i).mp hi
        exact ⟨b, by omega, d⟩)
      omega
    · rw [a5 x hx]
      apply bm_W_cong
      intro k hk _
      have e := a3 k
      rw [decide_eq_true_eq, h4 k] at e
      have htm := bm_tm_r (bm_c mO k)
      by_cases z : bm_ld mO cY k ≤ C
      · rw [decide_eq_true z, e]
        by_cases y : bm_ld mO cY k < C
        · exact Or.inl y
        · exact Or.inr ⟨⟨hk, by unfold bm_ld at z; omega, by omega⟩, z⟩
      · rw [decide_eq_false z]
        cases hb : P' k
        · rfl
        · rcases e.mp hb with y | ⟨-, y⟩ <;> omega
theorem bm_ex49 {c : Nat} (hK : bm_K N L mO mT mL mR mN cY cD) (hc : c < L) (hCE : CE = bm_s (bm_c cY) N L)
    (hnext : ∀ n rG cE fT fV fL eF, CE < n + bm_s (bm_c cY) N (c + 1) → bm_G N (c + 1) mO mT mL mR mN vB cY m0 rG cE fT fV fL eF → wX_execute_12 post n (nI (bm_s (bm_c cY) N (c + 1))) eL eP eO (nI CE) (nI (c + 1)) eF vO vD vA vB mO mT mL mR mN nC uR cY bU cD rG cE fT fV fL) :
    ∀ (d k n : Nat) (rG cE fT fV fL : Nat → Int32) (eF : Int32), k + d = N → bm_n (bm_c cY) c k < bm_n (bm_c cY) c N → CE ≤ n + (bm_s (bm_c cY) N c + bm_n (bm_c cY) c k) → bm_G' N c k mO mT mL mR mN vB cY m0 rG cE fT fV fL eF →
      wX_execute_49 post (wX_execute_12 post n) (nI (bm_s (bm_c cY) N c + bm_n (bm_c cY) c k)) eL eP eO (nI CE) (nI c) eF vO vD vA vB mO mT mL mR mN nC uR cY bU cD rG cE fT fV fL := by
  obtain ⟨hN, hL, hR, hcy, hD, hU, hLy⟩ := id hK
  have hB := bm_s_b (cy := bm_c cY) (N := N) (c := c)
  have hM := bm_s_mono (cy := bm_c cY) (N := N) (j := c + 1) L (by omega)
  have hBL := bm_s_b (cy := bm_c cY) (N := N) (c := L)
  have hw := bm_w_r (cy := bm_c cY) (N := N) (c := c)
  have hs := bm_s_s (cy := bm_c cY) (N := N) (c := c)
  intro d
  induction d with
  | zero => intro k n rG cE fT fV fL eF hk hlt; rw [show k = N by omega] at hlt; omega
  | succ d ih =>
    intro k n rG cE fT fV fL eF hk hlt hn hG
    by_cases e : bm_c cY k = c
    · obtain ⟨F, hF, rfl, hG2⟩ := bm_G'_y hK (by omega) e hG
      have hW := bm_K_wd hK (show k < N by omega) hc e
      have hy := bm_n_y e
      have hp : vp_in (nI (bm_s (bm_c cY) N c + bm_n (bm_c cY) c k)) 500 := vp_in_nI (by omega) (by omega)
      have cp : (nI (bm_s (bm_c cY) N c + bm_n (bm_c cY) c k)).toNatClampNeg = bm_s (bm_c cY) N c + bm_n (bm_c cY) c k := nI_clamp (by omega)
      obtain ⟨-, b1, b2, b3, b4, -⟩ := bm_R_at hR hN (show k < N by omega)
      obtain ⟨-, b1'⟩ := bm_Bc hR.1 (show k < N by omega)
      obtain ⟨-, b5⟩ := bm_Bc hR.2.2.2.2 (show k < N by omega)
      unfold wX_execute_49
      rw [cp]
      refine ⟨hp, br_f (bm_Wd_30 hW) ⟨hp, bm_xis hW hF b1' b2 b3 b4 b5 (by omega) ?_⟩⟩
      show wX_execute_73 post (wX_execute_12 post n) (nI (bm_s (bm_c cY) N c + bm_n (bm_c cY) c k)) _ _ _ _ _ _ _ _ _ _ _ _ _ _ _ _ _ _ _ _ _ _ _ _ _
      unfold wX_execute_73
      rw [cp]
      by_cases z : bm_n (bm_c cY) c (k + 1) = bm_n (bm_c cY) c N
      · have hneg : cD (bm_s (bm_c cY) N c + bm_n (bm_c cY) c k) < 0 := (bm_Wd_neg hW).mpr (decide_eq_true z)
        have es : bm_s (bm_c cY) N c + bm_n (bm_c cY) c k + 1 = bm_s (bm_c cY) N (c + 1) := by rw [bm_s_s]; unfold bm_w; rw [if_neg (by omega)]; omega
        refine ⟨hp, br_f (Int32.not_le.mpr hneg) (nm_r (nI_1 c) (nm_r (e' := nI (bm_s (bm_c cY) N (c + 1))) (by rw [nI_1, es]) ?_))⟩
        exact hnext n _ _ _ _ _ _ (by omega) (bm_G'_G hG2 (bm_n_no z))
      · have hpos : ¬ cD (bm_s (bm_c cY) N c + bm_n (bm_c cY) c k) < 0 := fun y => z (of_decide_eq_true ((bm_Wd_neg hW).mp y))
        have hmono := bm_n_mono (cy := bm_c cY) (c := c) (j := k + 1) N (by omega)
        have e1 : nI (bm_s (bm_c cY) N c + bm_n (bm_c cY) c k) + 1 = nI (bm_s (bm_c cY) N c + bm_n (bm_c cY) c (k + 1)) := by rw [nI_1, hy]; rfl
        refine ⟨hp, br_t (Int32.not_lt.mp hpos) (nm_r e1 ?_)⟩
        obtain ⟨n, rfl⟩ : ∃ m, n = m + 1 := ⟨n - 1, by omega⟩
        rw [wX_execute_12]
        refine br_f (nI_ge (by omega) (by omega)) (br_f (nI_ne0 (by omega) (by omega)) ?_)
        have e2 : nI (bm_s (bm_c cY) N c + bm_n (bm_c cY) c (k + 1)) - 1 = nI (bm_s (bm_c cY) N c + bm_n (bm_c cY) c k) := by rw [← e1, Int32.add_sub_cancel]
        rw [e2, cp]
        refine ⟨hp, br_t (Int32.not_lt.mp hpos) ?_⟩
        unfold wX_execute_40
        refine br_t rfl ?_
        exact ih (k + 1) n _ _ _ _ _ _ (by omega) (by omega) (by omega) hG2
    · rw [← bm_n_x e]
      rw [← bm_n_x e] at hlt hn
      exact ih (k + 1) n rG cE fT fV fL eF (by omega) hlt hn (bm_G'_x hG e)
theorem bm_ex12 (hK : bm_K N L mO mT mL mR mN cY cD) (hCE : CE = bm_s (bm_c cY) N L)
    (hend : ∀ rG cE fT fV fL eF, bm_G N L mO mT mL mR mN vB cY m0 rG cE fT fV fL eF → ∃ n, wX_execute_100 post n 0 eL eP eO (nI CE) (nI L) eF vO vD vA vB mO mT mL mR mN nC uR cY bU cD rG cE fT fV fL) :
    ∀ (d c n : Nat) (rG cE fT fV fL : Nat → Int32) (eF : Int32), c + d = L → CE < n + bm_s (bm_c cY) N c → bm_G N c mO mT mL mR mN vB cY m0 rG cE fT fV fL eF →
      wX_execute_12 post n (nI (bm_s (bm_c cY) N c)) eL eP eO (nI CE) (nI c) eF vO vD vA vB mO mT mL mR mN nC uR cY bU cD rG cE fT fV fL := by
  obtain ⟨hN, hL, hR, hcy, hD, hU, hLy⟩ := id hK
  have hBL := bm_s_b (cy := bm_c cY) (N := N) (c := L)
  intro d
  induction d with
  | zero =>
    intro c n rG cE fT fV fL eF hc hn hG
    obtain rfl : c = L := by omega
    obtain ⟨n, rfl⟩ : ∃ m, n = m + 1 := ⟨n - 1, by omega⟩
    rw [wX_execute_12]
    exact br_t (by rw [hCE]; exact nI_le (Nat.le_refl _) (by omega)) (hend rG cE fT fV fL eF hG)
  | succ d ih =>
    intro c n rG cE fT fV fL eF hc hn hG
    have hM := bm_s_mono (cy := bm_c cY) (N := N) (j := c + 1) L (by omega)
    have hw := bm_w_r (cy := bm_c cY) (N := N) (c := c)
    have hs := bm_s_s (cy := bm_c cY) (N := N) (c := c)
    have hp : vp_in (nI (bm_s (bm_c cY) N c)) 500 := vp_in_nI (by omega) (by omega)
    have cp : (nI (bm_s (bm_c cY) N c)).toNatClampNeg = bm_s (bm_c cY) N c := nI_clamp (by omega)
    obtain ⟨n, rfl⟩ : ∃ m, n = m + 1 := ⟨n - 1, by omega⟩
    have go : wX_execute_35 post (wX_execute_12 post n) (nI (bm_s (bm_c cY) N c)) eL eP eO (nI CE) (nI c) eF vO vD vA vB mO mT mL mR mN nC uR cY bU cD rG cE fT fV fL := by
      unfold wX_execute_35 wX_execute_40
      refine br_f (by decide) (bm_xland hK (by omega) hG (fun rG cE fT fV fL eF hG2 => ?_))
      by_cases z : bm_n (bm_c cY) c N = 0
      · show wX_execute_49 post (wX_execute_12 post n) (nI (bm_s (bm_c cY) N c)) _ _ _ _ _ _ _ _ _ _ _ _ _ _ _ _ _ _ _ _ _ _ _ _ _
        unfold wX_execute_49
        rw [cp, (hLy c (by omega)).2 z]
        refine ⟨hp, br_t bm_min_30 ?_⟩
        unfold wX_execute_73
        rw [cp, (hLy c (by omega)).2 z]
        have es : bm_s (bm_c cY) N c + 1 = bm_s (bm_c cY) N (c + 1) := by rw [bm_s_s]; unfold bm_w; rw [if_pos z]
        refine ⟨hp, br_f (Int32.not_le.mpr bm_min_lt) (nm_r (nI_1 c) (nm_r (e' := nI (bm_s (bm_c cY) N (c + 1))) (by rw [nI_1, es]) ?_))⟩
        exact ih (c + 1) n _ _ _ _ _ _ (by omega) (by omega) (bm_G'_G hG2 (bm_n_no (k := 0) z.symm))
      · have h49 := bm_ex49 (vB := vB) (m0 := m0) (post := post) (eL := eL) (eP := eP) (eO := eO) (vO := vO) (vD := vD) (vA := vA) (nC := nC) (uR := uR) (bU := bU) hK (show c < L by omega) hCE (fun n rG cE fT fV fL eF h1 h2 => ih (c + 1) n rG cE fT fV fL eF (by omega) h1 h2) N 0 n rG cE fT fV fL eF (by omega) (by show 0 < _; omega) (by show CE ≤ n + (_ + 0); omega) hG2
        exact h49
    rw [wX_execute_12]
    refine br_f (nI_ge (by omega) (by omega)) (br_c (fun _ => go) (fun z => ?_))
    cases c with
    | zero => exact absurd rfl z
    | succ c =>
      obtain ⟨p, ep, hneg⟩ := bm_K_end hK (show c < L by omega)
      rw [ep, nI_pred, nI_clamp (by omega)]
      rw [ep] at go
      exact ⟨vp_in_nI (by omega) (by omega), br_f (Int32.not_le.mpr hneg) go⟩
theorem bm_ex100 (hK : bm_K N L mO mT mL mR mN cY cD)
    (hp : ∀ rG cE fT fV fL eN eF, (∀ x, x < 32 → bm_mm rG cE x = bm_XS mO mT mL mR mN vB m0 N x) → post (eL, eP, eO, eC, eN, eF, vO, vD, vA, vB, mO, mT, mL, mR, mN, nC, uR, cY, bU, cD, rG, cE, fT, fV, fL)) :
    ∀ (d j n : Nat) (rG cE fT fV fL : Nat → Int32) (eF : Int32), j + d = 4 → d < n → bm_G N (L + j) mO mT mL mR mN vB cY m0 rG cE fT fV fL eF → wX_execute_100 post n (nI j) eL eP eO eC (nI (L + j)) eF vO vD vA vB mO mT mL mR mN nC uR cY bU cD rG cE fT fV fL := by
  obtain ⟨hN, hL, hR, hcy, hD, hU, hLy⟩ := id hK
  intro d
  induction d with
  | zero =>
    intro j n rG cE fT fV fL eF hj hn hG
    obtain ⟨n, rfl⟩ : ∃ m, n = m + 1 := ⟨n - 1, by omega⟩
    obtain rfl : j = 4 := by omega
    rw [wX_execute_100]
    refine br_t (nI_le (a := 4) (b := 4) (by omega) (by omega)) (hp _ _ _ _ _ _ _ ?_)
    obtain ⟨K, -, -, -, -, -, h6⟩ := hG
    intro x hx
    rw [h6 x hx]
    unfold bm_XS
    rw [bm_S_W]
    apply bm_W_cong
    intro k hk _
    have h1 := hcy k hk
    have h2 := bm_tm_r (bm_c mO k)
    exact decide_eq_true (by unfold bm_ld; omega)
  | succ d ih =>
    intro j n rG cE fT fV fL eF hj hn hG
    obtain ⟨n, rfl⟩ : ∃ m, n = m + 1 := ⟨n - 1, by omega⟩
    rw [wX_execute_100]
    refine br_f (nI_ge (a := j) (b := 4) (by omega) (by omega)) (bm_xland hK (by omega) hG (fun rG cE fT fV fL eF hG2 => nm_r (nI_1 (L + j)) (nm_r (nI_1 j) ?_)))
    exact ih (j + 1) n rG cE fT fV fL eF (by omega) (by omega) (bm_G'_G (C := L + j) hG2 (fun i _ hi => by have := hcy i hi; omega))
theorem bm_xexe (hK : bm_K N L mO mT mL mR mN cY cD) (hCE : CE = bm_s (bm_c cY) N L)
    (hp : ∀ rG' cE' fT fV fL eN eF, (∀ x, x < 32 → bm_mm rG' cE' x = bm_XS mO mT mL mR mN vB (bm_mm rG cE) N x) → post (eL, eP, eO, nI CE, eN, eF, vO, vD, vA, vB, mO, mT, mL, mR, mN, nC, uR, cY, bU, cD, rG', cE', fT, fV, fL)) : wpX_execute post (eL, eP, eO, nI CE, eN, eF, vO, vD, vA, vB, mO, mT, mL, mR, mN, nC, uR, cY, bU, cD, rG, cE, fT, fV, fL) := by
  unfold wpX_execute
  refine ⟨CE + 1, ?_⟩
  refine bm_ex12 (m0 := bm_mm rG cE) hK hCE (fun rG cE fT fV fL eF hG => ⟨5, ?_⟩) L 0 (CE + 1) rG cE fT fV fL 0 (by omega) (by omega) ?_
  · exact bm_ex100 hK (fun rG cE fT fV fL eN eF h => hp rG cE fT fV fL eN eF h) 4 0 5 rG cE fT fV fL eF (by omega) (by omega) hG
  · refine ⟨[], rfl, by simp, by simp, fun i => ?_, ?_, fun x hx => ?_⟩
    · constructor
      · intro z; exact absurd z (by simp)
      · rintro ⟨a, b, c⟩; omega
    · intro p k hk; exact absurd hk (by simp)
    · rw [bm_W_hi (j := 0) N (Nat.zero_le _) (fun k _ _ hk => absurd (of_decide_eq_true hk) (by omega))]
      rfl
end EXE
end
section
/-! Y: one instruction after the other -/
theorem bm_ne {a b : Nat} (h : a ≠ b) (ha : a < 100) (hb : b < 100) : ¬ nI a = nI b := fun z => h (bm_inj z (by omega) (by omega))
def bm_yv (o : Nat) (p q nv c t : Int32) : Int32 := if o = 7 then c else if o = 5 then (if t = 0 then q else p) else if o = 6 then p + nv else bm_cb o p q
section YEX
variable {eL : Int32} {vO vD vA vB gR gC gW : Nat → Int32}
variable {post : SY → Prop} {i o d j : Nat} {p q x4 : Int32}
theorem bm_y276s (hi : i < 24) (e : vO i = nI o) (ho : o < 8) (h : post (eL, vO, vD, vA, vB, gR, gC, gW)) : wY_execute_276 post (nI i) x4 eL vO vD vA vB gR gC gW := by
  unfold wY_execute_276
  rw [nI_clamp (by omega), e]
  exact ⟨vp_in_nI hi (by omega), br_f (bm_ne (b := 8) (by omega) (by omega) (by omega)) h⟩
theorem bm_y247s (hi : i < 24) (e : vO i = nI o) (ho : o < 7) (h : post (eL, vO, vD, vA, vB, gR, gC, gW)) : wY_execute_247 post (nI i) x4 eL vO vD vA vB gR gC gW := by
  unfold wY_execute_247
  rw [nI_clamp (by omega), e]
  exact ⟨vp_in_nI hi (by omega), br_f (bm_ne (b := 7) (by omega) (by omega) (by omega)) (bm_y276s hi e (by omega) h)⟩
theorem bm_y217s (hi : i < 24) (e : vO i = nI o) (ho : o < 6) (h : post (eL, vO, vD, vA, vB, gR, gC, gW)) : wY_execute_217 post (nI i) p x4 eL vO vD vA vB gR gC gW := by
  unfold wY_execute_217
  rw [nI_clamp (by omega), e]
  exact ⟨vp_in_nI hi (by omega), br_f (bm_ne (b := 6) (by omega) (by omega) (by omega)) (bm_y247s hi e (by omega) h)⟩
theorem bm_y177s (hi : i < 24) (e : vO i = nI o) (ho : o < 5) (h : post (eL, vO, vD, vA, vB, gR, gC, gW)) : wY_execute_177 post (nI i) p q x4 eL vO vD vA vB gR gC gW := by
  unfold wY_execute_177
  rw [nI_clamp (by omega), e]
  exact ⟨vp_in_nI hi (by omega), br_f (bm_ne (b := 5) (by omega) (by omega) (by omega)) (bm_y217s hi e (by omega) h)⟩
theorem bm_y146s (hi : i < 24) (e : vO i = nI o) (ho : o < 4) (h : post (eL, vO, vD, vA, vB, gR, gC, gW)) : wY_execute_146 post (nI i) p q x4 eL vO vD vA vB gR gC gW := by
  unfold wY_execute_146
  rw [nI_clamp (by omega), e]
  exact ⟨vp_in_nI hi (by omega), br_f (bm_ne (b := 4) (by omega) (by omega) (by omega)) (bm_y177s hi e (by omega) h)⟩
theorem bm_y122s (hi : i < 24) (e : vO i = nI o) (ho : o < 3) (h : post (eL, vO, vD, vA, vB, gR, gC, gW)) : wY_execute_122 post (nI i) p q x4 eL vO vD vA vB gR gC gW := by
  unfold wY_execute_122
  rw [nI_clamp (by omega), e]
  exact ⟨vp_in_nI hi (by omega), br_f (bm_ne (b := 3) (by omega) (by omega) (by omega)) (bm_y146s hi e (by omega) h)⟩
theorem bm_y98s (hi : i < 24) (e : vO i = nI o) (ho : o < 2) (h : post (eL, vO, vD, vA, vB, gR, gC, gW)) : wY_execute_98 post (nI i) p q x4 eL vO vD vA vB gR gC gW := by
  unfold wY_execute_98
  rw [nI_clamp (by omega), e]
  exact ⟨vp_in_nI hi (by omega), br_f (bm_ne (b := 2) (by omega) (by omega) (by omega)) (bm_y122s hi e (by omega) h)⟩
theorem bm_y74s (hi : i < 24) (e : vO i = nI o) (ho : o < 1) (h : post (eL, vO, vD, vA, vB, gR, gC, gW)) : wY_execute_74 post (nI i) p q x4 eL vO vD vA vB gR gC gW := by
  unfold wY_execute_74
  rw [nI_clamp (by omega), e]
  exact ⟨vp_in_nI hi (by omega), br_f (bm_ne (b := 1) (by omega) (by omega) (by omega)) (bm_y98s hi e (by omega) h)⟩
/-- the rows of one instruction: what it needs and what it gives -/
def bm_YH (i o d j : Nat) (vO vD : Nat → Int32) : Prop := i < 24 ∧ vO i = nI o ∧ o ≤ 8 ∧ vD i = nI d ∧ d < 8 ∧ j < 16
theorem bm_y276 (A : bm_YH i o d j vO vD) (h8 : post (eL, vO, vD, vA, vB, gR, upd gC j (gR d), gW)) (ho : o = 8) : wY_execute_276 post (nI i) (nI j) eL vO vD vA vB gR gC gW := by
  obtain ⟨hi, e, ho8, ed, hd, hj⟩ := A
  have hin : vp_in (nI i) 24 := vp_in_nI hi (by omega)
  unfold wY_execute_276
  rw [nI_clamp (by omega), e, ed, ho]
  exact ⟨hin, br_t rfl ⟨hin, vp_in_nI hd (by omega), vp_in_nI hj (by omega), nm_r (e' := upd gC j (gR d)) (by rw [nI_clamp (by omega), nI_clamp (by omega)]) h8⟩⟩
theorem bm_y247 (A : bm_YH i o d j vO vD) (h8 : o = 8 → post (eL, vO, vD, vA, vB, gR, upd gC j (gR d), gW)) (hr : o ≠ 8 → post (eL, vO, vD, vA, vB, upd gR d (bm_yv o p q (vB i) (gC j) (gR d)), gC, gW)) (ho : 7 ≤ o) : wY_execute_247 post (nI i) (nI j) eL vO vD vA vB gR gC gW := by
  obtain ⟨hi, e, ho8, ed, hd, hj⟩ := id A
  have hin : vp_in (nI i) 24 := vp_in_nI hi (by omega)
  unfold wY_execute_247
  rw [nI_clamp (by omega), e, ed]
  refine ⟨hin, pk_eq o 7 (fun z => ⟨hin, vp_in_nI hj (by omega), vp_in_nI hd (by omega), nm_r (e' := upd gR d (gC j)) (by rw [nI_clamp (by omega), nI_clamp (by omega)]) ?_⟩) (fun z => bm_y276 A (h8 (by omega)) (by omega))⟩
  have := hr (by omega)
  unfold bm_yv at this
  rw [if_pos z] at this
  exact bm_y276s hi e (by omega) this
theorem bm_y217 (A : bm_YH i o d j vO vD) (h8 : o = 8 → post (eL, vO, vD, vA, vB, gR, upd gC j (gR d), gW)) (hr : o ≠ 8 → post (eL, vO, vD, vA, vB, upd gR d (bm_yv o p q (vB i) (gC j) (gR d)), gC, gW)) (ho : 6 ≤ o) : wY_execute_217 post (nI i) p (nI j) eL vO vD vA vB gR gC gW := by
  obtain ⟨hi, e, ho8, ed, hd, hj⟩ := id A
  have hin : vp_in (nI i) 24 := vp_in_nI hi (by omega)
  unfold wY_execute_217
  rw [nI_clamp (by omega), e, ed]
  refine ⟨hin, pk_eq o 6 (fun z => ⟨hin, hin, vp_in_nI hd (by omega), nm_r (e' := upd gR d (p + vB i)) (by rw [nI_clamp (by omega)]) ?_⟩) (fun z => bm_y247 A h8 hr (by omega))⟩
  have := hr (by omega)
  unfold bm_yv at this
  rw [if_neg (by omega), if_neg (by omega), if_pos z] at this
  exact bm_y247s hi e (by omega) this
theorem bm_y177 (A : bm_YH i o d j vO vD) (h8 : o = 8 → post (eL, vO, vD, vA, vB, gR, upd gC j (gR d), gW)) (hr : o ≠ 8 → post (eL, vO, vD, vA, vB, upd gR d (bm_yv o p q (vB i) (gC j) (gR d)), gC, gW)) (ho : 5 ≤ o) : wY_execute_177 post (nI i) p q (nI j) eL vO vD vA vB gR gC gW := by
  obtain ⟨hi, e, ho8, ed, hd, hj⟩ := id A
  have hin : vp_in (nI i) 24 := vp_in_nI hi (by omega)
  have hdn : vp_in (nI d) 8 := vp_in_nI hd (by omega)
  have cd : (nI d).toNatClampNeg = d := nI_clamp (by omega)
  unfold wY_execute_177
  rw [nI_clamp (show i < 2 ^ 31 by omega), e, ed, cd]
  refine ⟨hin, pk_eq o 5 (fun z => ⟨hin, hin, hdn, br_c (fun y => ?_) (fun y => ?_)⟩) (fun z => bm_y217 A h8 hr (by omega))⟩
  · have := hr (by omega)
    unfold bm_yv at this
    rw [if_neg (by omega), if_pos z, if_pos y] at this
    unfold wY_execute_216
    rw [cd]
    exact ⟨hdn, nm_e (bm_y217s hi e (by omega) this)⟩
  · have := hr (by omega)
    unfold bm_yv at this
    rw [if_neg (by omega), if_pos z, if_neg y] at this
    unfold wY_execute_216
    rw [cd]
    exact ⟨hdn, nm_e (bm_y217s hi e (by omega) this)⟩
theorem bm_yvc (ho : o < 5) {nv c t : Int32} : bm_yv o p q nv c t = bm_cb o p q := by
  unfold bm_yv; rw [if_neg (by omega), if_neg (by omega), if_neg (by omega)]
theorem bm_y146 (A : bm_YH i o d j vO vD) (h8 : o = 8 → post (eL, vO, vD, vA, vB, gR, upd gC j (gR d), gW)) (hr : o ≠ 8 → post (eL, vO, vD, vA, vB, upd gR d (bm_yv o p q (vB i) (gC j) (gR d)), gC, gW)) (ho : 4 ≤ o) : wY_execute_146 post (nI i) p q (nI j) eL vO vD vA vB gR gC gW := by
  obtain ⟨hi, e, ho8, ed, hd, hj⟩ := id A
  have hin : vp_in (nI i) 24 := vp_in_nI hi (by omega)
  have hdn : vp_in (nI d) 8 := vp_in_nI hd (by omega)
  have cd : (nI d).toNatClampNeg = d := nI_clamp (by omega)
  unfold wY_execute_146
  rw [nI_clamp (show i < 2 ^ 31 by omega), e, ed]
  refine ⟨hin, pk_eq o 4 (fun z => ⟨hin, br_c (fun y => ?_) (fun y => ?_)⟩) (fun z => bm_y177 A h8 hr (by omega))⟩
  · have := hr (by omega)
    rw [bm_yvc (by omega)] at this
    unfold bm_cb at this
    rw [if_neg (by omega), if_neg (by omega), if_neg (by omega), if_neg (by omega), if_pos y] at this
    unfold wY_execute_176
    rw [cd]
    exact ⟨hdn, nm_e (bm_y177s hi e (by omega) this)⟩
  · have := hr (by omega)
    rw [bm_yvc (by omega)] at this
    unfold bm_cb at this
    rw [if_neg (by omega), if_neg (by omega), if_neg (by omega), if_neg (by omega), if_neg y] at this
    unfold wY_execute_176
    rw [cd]
    exact ⟨hdn, nm_e (bm_y177s hi e (by omega) this)⟩
theorem bm_y122 (A : bm_YH i o d j vO vD) (h8 : o = 8 → post (eL, vO, vD, vA, vB, gR, upd gC j (gR d), gW)) (hr : o ≠ 8 → post (eL, vO, vD, vA, vB, upd gR d (bm_yv o p q (vB i) (gC j) (gR d)), gC, gW)) (ho : 3 ≤ o) : wY_execute_122 post (nI i) p q (nI j) eL vO vD vA vB gR gC gW := by
  obtain ⟨hi, e, ho8, ed, hd, hj⟩ := id A
  have hin : vp_in (nI i) 24 := vp_in_nI hi (by omega)
  unfold wY_execute_122
  rw [nI_clamp (show i < 2 ^ 31 by omega), e, ed, nI_clamp (show d < 2 ^ 31 by omega)]
  refine ⟨hin, pk_eq o 3 (fun z => ⟨hin, vp_in_nI hd (by omega), nm_e ?_⟩) (fun z => bm_y146 A h8 hr (by omega))⟩
  have := hr (by omega)
  rw [bm_yvc (by omega)] at this
  unfold bm_cb at this
  rw [if_neg (by omega), if_neg (by omega), if_neg (by omega), if_pos z] at this
  exact bm_y146s hi e (by omega) this
theorem bm_y98 (A : bm_YH i o d j vO vD) (h8 : o = 8 → post (eL, vO, vD, vA, vB, gR, upd gC j (gR d), gW)) (hr : o ≠ 8 → post (eL, vO, vD, vA, vB, upd gR d (bm_yv o p q (vB i) (gC j) (gR d)), gC, gW)) (ho : 2 ≤ o) : wY_execute_98 post (nI i) p q (nI j) eL vO vD vA vB gR gC gW := by
  obtain ⟨hi, e, ho8, ed, hd, hj⟩ := id A
  have hin : vp_in (nI i) 24 := vp_in_nI hi (by omega)
  unfold wY_execute_98
  rw [nI_clamp (show i < 2 ^ 31 by omega), e, ed, nI_clamp (show d < 2 ^ 31 by omega)]
  refine ⟨hin, pk_eq o 2 (fun z => ⟨hin, vp_in_nI hd (by omega), nm_e ?_⟩) (fun z => bm_y122 A h8 hr (by omega))⟩
  have := hr (by omega)
  rw [bm_yvc (by omega)] at this
  unfold bm_cb at this
  rw [if_neg (by omega), if_neg (by omega), if_pos z] at this
  exact bm_y122s hi e (by omega) this
theorem bm_y74 (A : bm_YH i o d j vO vD) (h8 : o = 8 → post (eL, vO, vD, vA, vB, gR, upd gC j (gR d), gW)) (hr : o ≠ 8 → post (eL, vO, vD, vA, vB, upd gR d (bm_yv o p q (vB i) (gC j) (gR d)), gC, gW)) (ho : 1 ≤ o) : wY_execute_74 post (nI i) p q (nI j) eL vO vD vA vB gR gC gW := by
  obtain ⟨hi, e, ho8, ed, hd, hj⟩ := id A
  have hin : vp_in (nI i) 24 := vp_in_nI hi (by omega)
  unfold wY_execute_74
  rw [nI_clamp (show i < 2 ^ 31 by omega), e, ed, nI_clamp (show d < 2 ^ 31 by omega)]
  refine ⟨hin, pk_eq o 1 (fun z => ⟨hin, vp_in_nI hd (by omega), nm_e ?_⟩) (fun z => bm_y98 A h8 hr (by omega))⟩
  have := hr (by omega)
  rw [bm_yvc (by omega)] at this
  unfold bm_cb at this
  rw [if_neg (by omega), if_pos z] at this
  exact bm_y98s hi e (by omega) this
theorem bm_y37 (A : bm_YH i o d j vO vD) (ej : (p + vB i) &&& 15 = nI j) (h8 : o = 8 → post (eL, vO, vD, vA, vB, gR, upd gC j (gR d), gW)) (hr : o ≠ 8 → post (eL, vO, vD, vA, vB, upd gR d (bm_yv o p q (vB i) (gC j) (gR d)), gC, gW)) : wY_execute_37 post (nI i) p q eL vO vD vA vB gR gC gW := by
  obtain ⟨hi, e, ho8, ed, hd, hj⟩ := id A
  have hin : vp_in (nI i) 24 := vp_in_nI hi (by omega)
  unfold wY_execute_37
  rw [nI_clamp (show i < 2 ^ 31 by omega), e, ed, nI_clamp (show d < 2 ^ 31 by omega), ej]
  refine ⟨hin, nm_e ⟨hin, pk_eq o 0 (fun z => ⟨hin, vp_in_nI hd (by omega), nm_e ?_⟩) (fun z => bm_y74 A h8 hr (by omega))⟩⟩
  have := hr (by omega)
  rw [bm_yvc (by omega)] at this
  unfold bm_cb at this
  rw [if_pos z] at this
  exact bm_y74s hi e (by omega) this
theorem bm_ye {n : Nat} (hn : n ≤ 24) (hS : bm_Src n vO vD vA vB) (hi : i < n)
    (h : ∀ gR' gC', (∀ x, (x < 8 ∨ (16 ≤ x ∧ x < 32)) → bm_mm gR' gC' x = bm_st (bm_c vO i) (bm_c vD i) (bm_c vA i) (bm_c vB i) (vB i) (bm_mm gR gC) x) → post (eL, vO, vD, vA, vB, gR', gC', gW)) : wpY_execute post (eL, vO, vD, vA, vB, gR, gC, gW) (nI i) := by
  have hin : vp_in (nI i) 24 := vp_in_nI (by omega) (by omega)
  obtain ⟨s1, s2, s3, s4⟩ := hS
  obtain ⟨eo, ho⟩ := bm_Bc s1 hi
  obtain ⟨ed, hd⟩ := bm_Bc s2 hi
  obtain ⟨ea, ha⟩ := bm_Bc s3 hi
  have ci : (nI i).toNatClampNeg = i := nI_clamp (by omega)
  have ca : (nI (bm_c vA i)).toNatClampNeg = bm_c vA i := nI_clamp (by omega)
  obtain ⟨j, hj, ej, ead⟩ := bm_ad_n (gR (bm_c vA i) + vB i)
  have A : bm_YH i (bm_c vO i) (bm_c vD i) j vO vD := ⟨by omega, eo, by omega, ed, hd, hj⟩
  have key : ∀ q : Int32, (bm_c vO i ≤ 5 → q = gR (bm_c vB i) ∧ bm_c vB i < 8) → wY_execute_37 post (nI i) (gR (bm_c vA i)) q eL vO vD vA vB gR gC gW := by
    intro q hq
    refine bm_y37 A ej (fun z => h _ _ (fun x hx => ?_)) (fun z => h _ _ (fun x hx => ?_))
    · unfold bm_st bm_lc bm_vl
      rw [if_pos z, if_pos z, bm_mm_r (show bm_c vA i < 16 by omega), bm_mm_r (show bm_c vD i < 16 by omega), ead]
      have := bm_mm_uc (rG := gR) (cE := gC) (y := 16 + j) (v := gR (bm_c vD i)) (by omega) x
      rw [Nat.add_sub_cancel_left] at this
      exact this
    · unfold bm_st bm_lc
      rw [if_neg z, bm_mm_ur (show bm_c vD i < 16 by omega)]
      have ev : bm_yv (bm_c vO i) (gR (bm_c vA i)) q (vB i) (gC j) (gR (bm_c vD i)) = bm_vl (bm_c vO i) (bm_c vD i) (bm_c vA i) (bm_c vB i) (vB i) (bm_mm gR gC) := by
        unfold bm_yv bm_vl
        rw [if_neg z, bm_mm_r (show bm_c vA i < 16 by omega), bm_mm_r (show bm_c vD i < 16 by omega), ead, bm_mm_c (show ¬ 16 + j < 16 by omega), Nat.add_sub_cancel_left]
        by_cases h7 : bm_c vO i = 7
        · rw [if_pos h7, if_pos h7]
        rw [if_neg h7, if_neg h7]
        by_cases h6 : bm_c vO i = 6
        · rw [if_neg (show ¬ bm_c vO i = 5 by omega), if_neg (show ¬ bm_c vO i = 5 by omega), if_pos h6, if_pos h6]
        obtain ⟨eq, hb⟩ := hq (by omega)
        rw [eq, bm_mm_r (show bm_c vB i < 16 by omega), if_neg (show ¬ bm_c vO i = 9 by omega)]
      rw [ev]
  unfold wpY_execute
  dsimp only
  rw [ci, ea, ca]
  refine ⟨hin, vp_in_nI ha (by omega), nm_e ⟨hin, pk_lt 5 (bm_c vO i) (fun h5 => key 0 (fun z => by omega)) (fun h5 => ?_) rfl eo⟩⟩
  obtain ⟨b, hb, eb⟩ := s4 i hi h5
  have ecb : bm_c vB i = b := by unfold bm_c; rw [eb, nI_clamp (by omega)]
  rw [eb, nI_clamp (by omega)]
  exact ⟨hin, vp_in_nI hb (by omega), key _ (fun _ => ⟨by rw [ecb], by omega⟩)⟩
end YEX
section YRUN
variable {eL : Int32} {vO vD vA vB gR gC gW : Nat → Int32}
theorem bm_yr {post : Int32 → SY → Prop} {nn : Nat} {m0 : Nat → Int32} (hn : nn ≤ 24) (hS : bm_Src nn vO vD vA vB)
    (hp : ∀ gR gC, bm_ag (bm_mm gR gC) (bm_YS vO vD vA vB m0 nn) → post (nI nn) (nI nn, vO, vD, vA, vB, gR, gC, gW)) :
    ∀ (d i n : Nat) (gR gC : Nat → Int32), i + d = nn → d < n → bm_ag (bm_mm gR gC) (bm_YS vO vD vA vB m0 i) → wY_run_2 post n (nI i) (nI nn) vO vD vA vB gR gC gW := by
  intro d
  induction d with
  | zero =>
    intro i n gR gC hi hf hA
    obtain ⟨n, rfl⟩ : ∃ m, n = m + 1 := ⟨n - 1, by omega⟩
    obtain rfl : i = nn := by omega
    rw [wY_run_2]
    exact br_t (nI_le (Nat.le_refl _) (by omega)) (hp gR gC hA)
  | succ d ih =>
    intro i n gR gC hi hf hA
    obtain ⟨n, rfl⟩ : ∃ m, n = m + 1 := ⟨n - 1, by omega⟩
    obtain ⟨s1, s2, s3, s4⟩ := id hS
    obtain ⟨eo, ho⟩ := bm_Bc s1 (show i < nn by omega)
    obtain ⟨ed, hd⟩ := bm_Bc s2 (show i < nn by omega)
    obtain ⟨ea, ha⟩ := bm_Bc s3 (show i < nn by omega)
    rw [wY_run_2]
    refine br_f (nI_ge (by omega) (by omega)) (bm_ye hn hS (by omega) (fun gR' gC' hs => nm_r (nI_1 i) ?_))
    refine ih (i + 1) n gR' gC' (by omega) (by omega) (fun x hx => ?_)
    rw [hs x hx, bm_YS_s]
    refine bm_ag_op hA hd (by omega) (hA _ (Or.inl ha)) (fun h5 => hA _ (Or.inl ?_)) x hx
    obtain ⟨b, hb, eb⟩ := s4 i (by omega) h5
    unfold bm_c; rw [eb, nI_clamp (by omega)]; exact hb
theorem bm_yrun {post : Int32 → SY → Prop} {nn : Nat} {m0 : Nat → Int32} (hn : nn ≤ 24) (hS : bm_Src nn vO vD vA vB) (hA : bm_ag (bm_mm gR gC) m0)
    (hp : ∀ gR gC, bm_ag (bm_mm gR gC) (bm_YS vO vD vA vB m0 nn) → post (nI nn) (nI nn, vO, vD, vA, vB, gR, gC, gW)) : wpY_run post (nI nn, vO, vD, vA, vB, gR, gC, gW) := by
  unfold wpY_run
  exact ⟨nn + 1, bm_yr hn hS hp nn 0 (nn + 1) gR gC (by omega) (by omega) hA⟩
end YRUN
end
section
/-! which instruction hangs on which: pure, then Y's walk, then X's -/
def bm_wr (vO vD : Nat → Int32) (i r : Nat) : Bool := !(decide (bm_c vO i = 8)) && decide (bm_c vD i = r)
def bm_rq (vO vD vA vB : Nat → Int32) (j r : Nat) : Bool := (decide (bm_c vA j = r) || (decide (bm_c vO j ≤ 5) && decide (bm_c vB j = r))) || (decide (bm_c vO j = 5 ∨ bm_c vO j = 8) && decide (bm_c vD j = r))
def bm_nw (vO vD : Nat → Int32) (r i j : Nat) : Bool := (List.range j).all (fun k => decide (k < i) || !(bm_wr vO vD k r))
theorem bm_nw_i {vO vD : Nat → Int32} {r i j : Nat} : bm_nw vO vD r i j = true ↔ ∀ k, i ≤ k → k < j → bm_wr vO vD k r = false := by
  unfold bm_nw
  rw [List.all_eq_true]
  constructor
  · intro h k h1 h2
    have := h k (List.mem_range.mpr h2)
    rw [decide_eq_false (by omega), Bool.false_or] at this
    simpa using this
  · intro h k hk
    by_cases e : k < i
    · rw [decide_eq_true e, Bool.true_or]
    · rw [h k (by omega) (List.mem_range.mp hk)]; simp
theorem bm_nw_s {vO vD : Nat → Int32} {r m j : Nat} (h : m < j) : bm_nw vO vD r m j = (bm_nw vO vD r (m + 1) j && !(bm_wr vO vD m r)) := by
  rw [Bool.eq_iff_iff, Bool.and_eq_true, bm_nw_i, bm_nw_i]
  constructor
  · intro a
    exact ⟨fun k h1 h2 => a k (by omega) h2, by rw [a m (Nat.le_refl _) h]; rfl⟩
  · rintro ⟨a, b⟩ k h1 h2
    by_cases e : k = m
    · rw [e]; simpa using b
    · exact a k (by omega) h2
def bm_hg (vO vD vA vB : Nat → Int32) (j i : Nat) : Bool := (bm_wr vO vD i (bm_c vD i) && bm_rq vO vD vA vB j (bm_c vD i)) && bm_nw vO vD (bm_c vD i) (i + 1) j
/-- the rows of instruction j -/
theorem bm_Src_at {n j : Nat} {vO vD vA vB : Nat → Int32} (h : bm_Src n vO vD vA vB) (hj : j < n) : vO j = nI (bm_c vO j) ∧ bm_c vO j < 9 ∧ vD j = nI (bm_c vD j) ∧ bm_c vD j < 8 ∧ vA j = nI (bm_c vA j) ∧ bm_c vA j < 8 ∧ (bm_c vO j ≤ 5 → vB j = nI (bm_c vB j) ∧ bm_c vB j < 8) := by
  obtain ⟨s1, s2, s3, s4⟩ := h
  obtain ⟨a1, a2⟩ := bm_Bc s1 hj
  obtain ⟨b1, b2⟩ := bm_Bc s2 hj
  obtain ⟨c1, c2⟩ := bm_Bc s3 hj
  refine ⟨a1, a2, b1, b2, c1, c2, fun h5 => ?_⟩
  obtain ⟨b, hb, eb⟩ := s4 j hj h5
  have ecb : bm_c vB j = b := by unfold bm_c; rw [eb, nI_clamp (by omega)]
  rw [ecb]
  exact ⟨eb, hb⟩
section YHG
variable {eL : Int32} {vO vD vA vB gR gC gW : Nat → Int32}
variable {post : Int32 → Prop} {n i j r : Nat}
theorem bm_yw (hn : n ≤ 24) (hS : bm_Src n vO vD vA vB) (hi : i < n) (hr : r < 8) (h1 : bm_wr vO vD i r = true → post 1) (h0 : bm_wr vO vD i r = false → post 0) : wpY_writes post (eL, vO, vD, vA, vB, gR, gC, gW) (nI i) (nI r) := by
  obtain ⟨eo, ho, ed, hd, -, -, -⟩ := bm_Src_at hS hi
  have hin : vp_in (nI i) 24 := vp_in_nI (by omega) (by omega)
  unfold bm_wr at h1 h0
  unfold wpY_writes
  dsimp only
  rw [nI_clamp (by omega), eo, ed]
  refine ⟨hin, pk_eq (bm_c vO i) 8 (fun a => h0 ?_) (fun a => ⟨hin, pk_eq (bm_c vD i) r (fun b => h1 ?_) (fun b => h0 ?_)⟩)⟩
  · rw [decide_eq_true a]; rfl
  · rw [decide_eq_false a, decide_eq_true b]; rfl
  · rw [decide_eq_false b, Bool.and_false]
theorem bm_yrd (hn : n ≤ 24) (hS : bm_Src n vO vD vA vB) (hj : j < n) (hr : r < 8) (h1 : bm_rq vO vD vA vB j r = true → post 1) (h0 : bm_rq vO vD vA vB j r = false → post 0) : wpY_reads post (eL, vO, vD, vA, vB, gR, gC, gW) (nI j) (nI r) := by
  obtain ⟨eo, ho, ed, hd, ea, ha, hb⟩ := bm_Src_at hS hj
  have hin : vp_in (nI j) 24 := vp_in_nI (by omega) (by omega)
  have cj : (nI j).toNatClampNeg = j := nI_clamp (by omega)
  unfold bm_rq at h1 h0
  have k53 : (bm_c vO j = 5 ∨ bm_c vO j = 8) → (¬ bm_c vA j = r) → (bm_c vO j ≤ 5 → ¬ bm_c vB j = r) → wY_reads_53 post (nI j) (nI r) eL vO vD vA vB gR gC gW := by
    intro z y x
    unfold wY_reads_53
    rw [cj, ed]
    refine ⟨hin, pk_eq (bm_c vD j) r (fun b => h1 ?_) (fun b => h0 ?_)⟩
    · rw [decide_eq_true z, decide_eq_true b]; simp
    · rw [decide_eq_false b, decide_eq_false y]
      by_cases h5 : bm_c vO j ≤ 5
      · rw [decide_eq_false (x h5)]; simp
      · rw [decide_eq_false h5]; simp
  have k32 : (¬ bm_c vA j = r) → (bm_c vO j ≤ 5 → ¬ bm_c vB j = r) → wY_reads_32 post (nI j) (nI r) eL vO vD vA vB gR gC gW := by
    intro y x
    unfold wY_reads_32
    rw [cj, eo]
    refine ⟨hin, pk_eq (bm_c vO j) 5 (fun a => k53 (Or.inl a) y x) (fun a => ⟨hin, pk_eq (bm_c vO j) 8 (fun b => k53 (Or.inr b) y x) (fun b => h0 ?_)⟩)⟩
    rw [decide_eq_false y, decide_eq_false (show ¬ (bm_c vO j = 5 ∨ bm_c vO j = 8) by omega)]
    by_cases h5 : bm_c vO j ≤ 5
    · rw [decide_eq_false (x h5)]; simp
    · rw [decide_eq_false h5]; simp
  unfold wpY_reads
  dsimp only
  rw [cj, ea, eo]
  refine ⟨hin, pk_eq (bm_c vA j) r (fun a => h1 ?_) (fun a => ⟨hin, pk_lt 5 (bm_c vO j) (fun b => k32 a (fun z => by omega)) (fun b => ⟨hin, ?_⟩)⟩)⟩
  · rw [decide_eq_true a]; simp
  · rw [(hb b).1]
    have := (hb b).2
    refine pk_eq (bm_c vB j) r (fun c => h1 ?_) (fun c => k32 a (fun _ => c))
    rw [decide_eq_true b, decide_eq_true c]; simp
theorem bm_yh32 (hn : n ≤ 24) (hS : bm_Src n vO vD vA vB) (hj : j < n) (hr : r < 8) {i0 : Nat} (h1 : bm_nw vO vD r i0 j = true → post 1) (h0 : bm_nw vO vD r i0 j = false → post 0) :
    ∀ (d k m : Nat), k + d = j → d < m → i0 ≤ k → (∀ q, i0 ≤ q → q < k → bm_wr vO vD q r = false) → wY_hangs_32 post (nI j) (nI r) eL vO vD vA vB gR gC gW m (nI k) := by
  intro d
  induction d with
  | zero =>
    intro k m hk hm hi hs
    obtain ⟨m, rfl⟩ : ∃ q, m = q + 1 := ⟨m - 1, by omega⟩
    obtain rfl : k = j := by omega
    rw [wY_hangs_32]
    exact br_t (nI_le (Nat.le_refl _) (by omega)) (h1 (bm_nw_i.mpr hs))
  | succ d ih =>
    intro k m hk hm hi hs
    obtain ⟨m, rfl⟩ : ∃ q, m = q + 1 := ⟨m - 1, by omega⟩
    rw [wY_hangs_32]
    refine br_f (nI_ge (by omega) (by omega)) (bm_yw hn hS (by omega) hr (fun z => br_f (by decide) (h0 ?_)) (fun z => br_t rfl (nm_r (nI_1 k) ?_)))
    · cases hb : bm_nw vO vD r i0 j
      · rfl
      · have := bm_nw_i.mp hb k hi (by omega)
        rw [z] at this
        exact absurd this (by decide)
    · refine ih (k + 1) m (by omega) (by omega) (by omega) (fun q h2 h3 => ?_)
      by_cases e : q = k
      · rw [e]; exact z
      · exact hs q h2 (by omega)
theorem bm_yh (hn : n ≤ 24) (hS : bm_Src n vO vD vA vB) (hj : j < n) (hi : i < j) (h1 : bm_hg vO vD vA vB j i = true → post 1) (h0 : bm_hg vO vD vA vB j i = false → post 0) : wpY_hangs post (eL, vO, vD, vA, vB, gR, gC, gW) (nI j) (nI i) := by
  obtain ⟨eo, ho, ed, hd, -, -, -⟩ := bm_Src_at hS (show i < n by omega)
  have hin : vp_in (nI i) 24 := vp_in_nI (by omega) (by omega)
  unfold bm_hg at h1 h0
  unfold wpY_hangs
  refine ⟨hin, nm_r (e' := nI (bm_c vD i)) (by rw [nI_clamp (by omega)]; exact ed) ?_⟩
  refine bm_yw hn hS (by omega) hd (fun a => br_f (by decide) ?_) (fun a => br_t rfl (h0 (by rw [a]; rfl)))
  refine bm_yrd hn hS hj hd (fun b => br_f (by decide) (nm_r (nI_1 i) ⟨j + 1, ?_⟩)) (fun b => br_t rfl (h0 (by rw [b, Bool.and_false]; rfl)))
  rw [a, b] at h1 h0
  exact bm_yh32 hn hS hj hd (i0 := i + 1) h1 h0 (j - (i + 1)) (i + 1) (j + 1) (by omega) (by omega) (Nat.le_refl _) (fun q h2 h3 => by omega)
end YHG
section XHG
variable {eL eP eO eC eN eF : Int32} {vO vD vA vB mO mT mL mR mN nC uR cY bU cD rG cE fT fV fL : Nat → Int32}
variable {post : Int32 → Prop} {n j : Nat}
theorem bm_xrb (hn : n ≤ 24) (hS : bm_Src n vO vD vA vB) (hj : j < n) (h : ∀ w, (∀ r, r < 32 → bt w r = bm_rq vO vD vA vB j r) → post w) : wpX_readBySource post (eL, eP, eO, eC, eN, eF, vO, vD, vA, vB, mO, mT, mL, mR, mN, nC, uR, cY, bU, cD, rG, cE, fT, fV, fL) (nI j) := by
  obtain ⟨eo, ho, ed, hd, ea, ha, hb⟩ := bm_Src_at hS hj
  have hin : vp_in (nI j) 24 := vp_in_nI (by omega) (by omega)
  have cj : (nI j).toNatClampNeg = j := nI_clamp (by omega)
  have one : ∀ a, a < 8 → ∀ r, r < 32 → bt ((1 : Int32) <<< (nI a &&& 31)) r = decide (a = r) := fun a h1 r h2 => by
    rw [bm_one a (by omega) r h2]
    by_cases z : r = a
    · rw [decide_eq_true z, decide_eq_true z.symm]
    · rw [decide_eq_false z, decide_eq_false (fun y => z y.symm)]
  have k51 : ∀ w : Int32, (bm_c vO j = 5 ∨ bm_c vO j = 8) → (∀ r, r < 32 → bt w r = (decide (bm_c vA j = r) || (decide (bm_c vO j ≤ 5) && decide (bm_c vB j = r)))) → wX_readBySource_51 post (nI j) w eL eP eO eC eN eF vO vD vA vB mO mT mL mR mN nC uR cY bU cD rG cE fT fV fL := by
    intro w z hw
    unfold wX_readBySource_51
    rw [cj, ed]
    refine ⟨hin, nm_e (h _ (fun r hr => ?_))⟩
    rw [b_or, hw r hr, one _ hd r hr]
    unfold bm_rq
    rw [decide_eq_true z, Bool.true_and]
  have k30 : ∀ w : Int32, (∀ r, r < 32 → bt w r = (decide (bm_c vA j = r) || (decide (bm_c vO j ≤ 5) && decide (bm_c vB j = r)))) → wX_readBySource_30 post (nI j) w eL eP eO eC eN eF vO vD vA vB mO mT mL mR mN nC uR cY bU cD rG cE fT fV fL := by
    intro w hw
    unfold wX_readBySource_30
    rw [cj, eo]
    refine ⟨hin, pk_eq (bm_c vO j) 5 (fun a => k51 w (Or.inl a) hw) (fun a => ⟨hin, pk_eq (bm_c vO j) 8 (fun b => k51 w (Or.inr b) hw) (fun b => h w (fun r hr => ?_))⟩)⟩
    rw [hw r hr]
    unfold bm_rq
    rw [decide_eq_false (show ¬ (bm_c vO j = 5 ∨ bm_c vO j = 8) by omega), Bool.false_and, Bool.or_false]
  unfold wpX_readBySource
  dsimp only
  rw [cj, ea, eo]
  refine ⟨hin, nm_e ⟨hin, pk_lt 5 (bm_c vO j) (fun a => k30 _ (fun r hr => ?_)) (fun a => ⟨hin, nm_e (k30 _ (fun r hr => ?_))⟩)⟩⟩
  · rw [one _ ha r hr, decide_eq_false (show ¬ bm_c vO j ≤ 5 by omega), Bool.false_and, Bool.or_false]
  · rw [(hb a).1, b_or, one _ ha r hr, one _ (hb a).2 r hr, decide_eq_true a, Bool.true_and]
theorem bm_xh13 (hn : n ≤ 24) (hS : bm_Src n vO vD vA vB) (hj : j < n) (h : ∀ w, (∀ k, k < 32 → bt w k = (decide (k < j) && bm_hg vO vD vA vB j k)) → post w) :
    ∀ (i m : Nat) (x2 x3 : Int32), i ≤ j → i < m → (∀ r, r < 8 → bt x2 r = (bm_rq vO vD vA vB j r && bm_nw vO vD r i j)) → (∀ k, k < 32 → bt x3 k = (decide (i ≤ k ∧ k < j) && bm_hg vO vD vA vB j k)) →
      wX_hangsOn_13 post eL eP eO eC eN eF vO vD vA vB mO mT mL mR mN nC uR cY bU cD rG cE fT fV fL m x2 x3 (nI i + (-1)) := by
  intro i
  induction i with
  | zero =>
    intro m x2 x3 hi hm h2 h3
    obtain ⟨m, rfl⟩ : ∃ q, m = q + 1 := ⟨m - 1, by omega⟩
    rw [wX_hangsOn_13]
    refine br_t (by decide) (h x3 (fun k hk => ?_))
    rw [h3 k hk]
    by_cases e : k < j
    · rw [decide_eq_true e, decide_eq_true ⟨Nat.zero_le _, e⟩]
    · rw [decide_eq_false e, decide_eq_false (fun z => e z.2)]
  | succ i ih =>
    intro m x2 x3 hi hm h2 h3
    obtain ⟨m, rfl⟩ : ∃ q, m = q + 1 := ⟨m - 1, by omega⟩
    obtain ⟨eo, ho, ed, hd, -, -, -⟩ := bm_Src_at hS (show i < n by omega)
    have hin : vp_in (nI i) 24 := vp_in_nI (by omega) (by omega)
    have ci : (nI i).toNatClampNeg = i := nI_clamp (by omega)
    have skip : bm_hg vO vD vA vB j i = false → (∀ r, r < 8 → bt x2 r = (bm_rq vO vD vA vB j r && bm_nw vO vD r i j)) → wX_hangsOn_13 post eL eP eO eC eN eF vO vD vA vB mO mT mL mR mN nC uR cY bU cD rG cE fT fV fL m x2 x3 (nI i + (-1)) := by
      intro a b
      refine ih m x2 x3 (by omega) (by omega) b (fun k hk => ?_)
      rw [h3 k hk]
      by_cases e : k = i
      · rw [e, a, Bool.and_false, Bool.and_false]
      · by_cases e2 : i ≤ k ∧ k < j
        · rw [decide_eq_true e2, decide_eq_true (show i + 1 ≤ k ∧ k < j by omega)]
        · rw [decide_eq_false e2, decide_eq_false (show ¬ (i + 1 ≤ k ∧ k < j) by omega)]
    rw [wX_hangsOn_13, pk_m1]
    dsimp only
    rw [ci, eo, ed]
    refine br_f (nI_pos (by omega)) ⟨hin, pk_eq (bm_c vO i) 8 (fun a => nm_e (skip ?_ (fun r hr => ?_))) (fun a => ⟨hin, br_c (fun b => nm_e (skip ?_ (fun r hr => ?_))) (fun b => nm_e ⟨hin, nm_e (nm_e ?_)⟩)⟩)⟩
    · unfold bm_hg bm_wr; rw [decide_eq_true a]; rfl
    · rw [h2 r hr, bm_nw_s (m := i) (by omega)]
      have : bm_wr vO vD i r = false := by unfold bm_wr; rw [decide_eq_true a]; rfl
      rw [this]; simp
    · rw [bm_bit x2 (show bm_c vD i < 32 by omega), h2 _ hd] at b
      unfold bm_hg; rw [Bool.and_assoc, b, Bool.and_false]
    · rw [bm_bit x2 (show bm_c vD i < 32 by omega), h2 _ hd] at b
      rw [h2 r hr, bm_nw_s (m := i) (by omega)]
      by_cases e : bm_c vD i = r
      · rw [← e, ← Bool.and_assoc, b]; rfl
      · have : bm_wr vO vD i r = false := by unfold bm_wr; rw [decide_eq_false e, Bool.and_false]
        rw [this]; simp
    · rw [bm_bit x2 (show bm_c vD i < 32 by omega), h2 _ hd] at b
      have b := bm_bnf b
      have hw : bm_wr vO vD i (bm_c vD i) = true := by unfold bm_wr; rw [decide_eq_false a, decide_eq_true rfl]; rfl
      have hg : bm_hg vO vD vA vB j i = true := by unfold bm_hg; rw [Bool.and_assoc, b, hw]; rfl
      refine ih m _ _ (by omega) (by omega) (fun r hr => ?_) (fun k hk => ?_)
      · rw [b_and, b_xor, b_m1 r (by omega), bm_one _ (by omega) r (by omega), h2 r hr, bm_nw_s (m := i) (by omega)]
        by_cases e : r = bm_c vD i
        · rw [e, hw, decide_eq_true rfl]; simp
        · have : bm_wr vO vD i r = false := by unfold bm_wr; rw [decide_eq_false (show ¬ bm_c vD i = r from fun z => e z.symm), Bool.and_false]
          rw [this, decide_eq_false e]; simp
      · rw [b_or, h3 k hk, bm_one i (by omega) k hk]
        by_cases e : k = i
        · rw [e, hg, decide_eq_true rfl, decide_eq_true (show i ≤ i ∧ i < j by omega), Bool.or_true]; rfl
        · rw [decide_eq_false e, Bool.or_false]
          by_cases e2 : i ≤ k ∧ k < j
          · rw [decide_eq_true e2, decide_eq_true (show i + 1 ≤ k ∧ k < j by omega)]
          · rw [decide_eq_false e2, decide_eq_false (show ¬ (i + 1 ≤ k ∧ k < j) by omega)]
theorem bm_xh (hn : n ≤ 24) (hS : bm_Src n vO vD vA vB) (hj : j < n) (h : ∀ w, (∀ k, k < 32 → bt w k = (decide (k < j) && bm_hg vO vD vA vB j k)) → post w) : wpX_hangsOn post (eL, eP, eO, eC, eN, eF, vO, vD, vA, vB, mO, mT, mL, mR, mN, nC, uR, cY, bU, cD, rG, cE, fT, fV, fL) (nI j) := by
  unfold wpX_hangsOn
  refine bm_xrb hn hS hj (fun w hw => nm_r (Int32.sub_eq_add_neg (nI j) 1) ⟨j + 1, ?_⟩)
  refine bm_xh13 hn hS hj h j (j + 1) w 0 (Nat.le_refl _) (by omega) (fun r hr => ?_) (fun k hk => ?_)
  · rw [hw r (by omega), bm_nw_i.mpr (fun k h1 h2 => by omega), Bool.and_true]
  · rw [b_0, decide_eq_false (by omega), Bool.false_and]
end XHG
end
section
/-! weights, the heaviest, links -/
def bm_mw (hb : Nat → Bool) (W : Nat → Nat) : Nat → Nat
  | 0 => 0
  | i + 1 => if hb i = true ∧ bm_mw hb W i < W i then W i else bm_mw hb W i
theorem bm_mw_s {hb : Nat → Bool} {W : Nat → Nat} {i : Nat} : bm_mw hb W (i + 1) = if hb i = true ∧ bm_mw hb W i < W i then W i else bm_mw hb W i := rfl
theorem bm_mw_r {hb : Nat → Bool} {W : Nat → Nat} {M : Nat} (h : ∀ i, W i ≤ M) : ∀ i, bm_mw hb W i ≤ M := by
  intro i
  induction i with
  | zero => exact Nat.zero_le _
  | succ i ih =>
    have := h i
    rw [bm_mw_s]; split <;> omega
def bm_wt (vO vD vA vB : Nat → Int32) : Nat → Nat → Nat
  | 0, _ => 0
  | j + 1, i => if i = j then bm_mw (bm_hg vO vD vA vB j) (bm_wt vO vD vA vB j) j + bm_tm (bm_c vO j) else bm_wt vO vD vA vB j i
theorem bm_wt_s {vO vD vA vB : Nat → Int32} {j i : Nat} : bm_wt vO vD vA vB (j + 1) i = if i = j then bm_mw (bm_hg vO vD vA vB j) (bm_wt vO vD vA vB j) j + bm_tm (bm_c vO j) else bm_wt vO vD vA vB j i := rfl
theorem bm_wt_r {vO vD vA vB : Nat → Int32} : ∀ j i, bm_wt vO vD vA vB j i ≤ 3 * j := by
  intro j
  induction j with
  | zero => intro i; exact Nat.le_refl 0
  | succ j ih =>
    intro i
    have h1 := bm_mw_r (hb := bm_hg vO vD vA vB j) ih j
    have h2 := bm_tm_r (bm_c vO j)
    have h3 := ih i
    rw [bm_wt_s]; split <;> omega
def bm_ck (hb : Nat → Bool) : Nat → Nat
  | 0 => 0
  | i + 1 => bm_ck hb i + (if hb i = true then 1 else 0)
def bm_lk (vO vD vA vB : Nat → Int32) : Nat → Nat
  | 0 => 0
  | j + 1 => bm_lk vO vD vA vB j + bm_ck (bm_hg vO vD vA vB j) j
section XW
variable {eL eP eO eC eN eF : Int32} {vO vD vA vB mO mT mL mR mN nC uR cY bU cD rG cE fT fV fL : Nat → Int32}
variable {n : Nat}
theorem bm_x26 {post : SX → Prop} {J : Int32 → (Nat → Int32) → (Nat → Int32) → (Nat → Int32) → (Nat → Int32) → (Nat → Int32) → (Nat → Int32) → (Nat → Int32) → (Nat → Int32) → (Nat → Int32) → (Nat → Int32) → (Nat → Int32) → (Nat → Int32) → (Nat → Int32) → (Nat → Int32) → (Nat → Int32) → (Nat → Int32) → (Nat → Int32) → (Nat → Int32) → (Nat → Int32) → Prop} {j : Nat} {w : Int32}
    (hn : n ≤ 24) (hS : bm_Src n vO vD vA vB) (hj : j < n) (hw : ∀ k, k < 32 → bt w k = (decide (k < j) && bm_hg vO vD vA vB j k)) (hu : ∀ i, i < j → uR i = nI (bm_wt vO vD vA vB j i))
    (h : J (nI (j + 1)) vO vD vA vB mO mT mL mR mN nC (upd uR j (nI (bm_mw (bm_hg vO vD vA vB j) (bm_wt vO vD vA vB j) j + bm_tm (bm_c vO j)))) cY bU cD rG cE fT fV fL) :
    ∀ (d i m : Nat), i + d = j → d < m → wX_weigh_26 post J (nI j) w eL eP eO eC eN eF vO vD vA vB mO mT mL mR mN nC uR cY bU cD rG cE fT fV fL m (nI (bm_mw (bm_hg vO vD vA vB j) (bm_wt vO vD vA vB j) i)) (nI i) := by
  have hr := fun i => bm_mw_r (hb := bm_hg vO vD vA vB j) (bm_wt_r (vO := vO) (vD := vD) (vA := vA) (vB := vB) j) i
  have htm := bm_tm_r (bm_c vO j)
  obtain ⟨eo, ho, -, -, -, -, -⟩ := bm_Src_at hS hj
  intro d
  induction d with
  | zero =>
    intro i m hi hm
    obtain ⟨m, rfl⟩ : ∃ q, m = q + 1 := ⟨m - 1, by omega⟩
    obtain rfl : i = j := by omega
    have := hr i
    rw [wX_weigh_26]
    dsimp only
    rw [nI_clamp (by omega), eo]
    exact br_t (nI_le (Nat.le_refl _) (by omega)) ⟨vp_in_nI (by omega) (by omega), bm_xt (by omega) ⟨vp_in_nI (by omega) (by omega), nm_r (by rw [nI_add, bm_ns (by omega)]) (nm_r (nI_1 i) h)⟩⟩
  | succ d ih =>
    intro i m hi hm
    obtain ⟨m, rfl⟩ : ∃ q, m = q + 1 := ⟨m - 1, by omega⟩
    have h1 := hr i
    have h2 := bm_wt_r (vO := vO) (vD := vD) (vA := vA) (vB := vB) j i
    have hin : vp_in (nI i) 96 := vp_in_nI (by omega) (by omega)
    have hb := hw i (by omega)
    rw [decide_eq_true (show i < j by omega), Bool.true_and] at hb
    have same : ¬ (bm_hg vO vD vA vB j i = true ∧ bm_mw (bm_hg vO vD vA vB j) (bm_wt vO vD vA vB j) i < bm_wt vO vD vA vB j i) → wX_weigh_26 post J (nI j) w eL eP eO eC eN eF vO vD vA vB mO mT mL mR mN nC uR cY bU cD rG cE fT fV fL m (nI (bm_mw (bm_hg vO vD vA vB j) (bm_wt vO vD vA vB j) i)) (nI (i + 1)) := by
      intro z
      have := ih (i + 1) m (by omega) (by omega)
      rw [bm_mw_s, if_neg z] at this
      exact this
    rw [wX_weigh_26]
    dsimp only
    rw [nI_clamp (show i < 2 ^ 31 by omega), hu i (by omega)]
    refine br_f (nI_ge (by omega) (by omega)) (br_c (fun a => nm_r (nI_1 i) (same ?_)) (fun a => ⟨hin, pk_le (bm_wt vO vD vA vB j i) (bm_mw (bm_hg vO vD vA vB j) (bm_wt vO vD vA vB j) i) (fun b => nm_r (nI_1 i) (same (fun z => by omega))) (fun b => ⟨hin, nm_e (nm_r (nI_1 i) ?_)⟩)⟩))
    · rw [bm_bit w (by omega), hb] at a
      intro z
      rw [a] at z
      exact absurd z.1 (by decide)
    · rw [bm_bit w (by omega), hb] at a
      have := ih (i + 1) m (by omega) (by omega)
      rw [bm_mw_s, if_pos ⟨bm_bnf a, b⟩] at this
      exact this
theorem bm_x7 {post : SX → Prop} (hn : n ≤ 24) (hS : bm_Src n vO vD vA vB) (h : ∀ uR, (∀ i, i < n → uR i = nI (bm_wt vO vD vA vB n i)) → post (nI n, eP, eO, eC, eN, eF, vO, vD, vA, vB, mO, mT, mL, mR, mN, nC, uR, cY, bU, cD, rG, cE, fT, fV, fL)) :
    ∀ (d j m : Nat) (uR : Nat → Int32), j + d = n → d < m → (∀ i, i < j → uR i = nI (bm_wt vO vD vA vB j i)) → wX_weigh_7 post (nI n) eP eO eC eN eF m (nI j) vO vD vA vB mO mT mL mR mN nC uR cY bU cD rG cE fT fV fL := by
  intro d
  induction d with
  | zero =>
    intro j m uR hj hm hu
    obtain ⟨m, rfl⟩ : ∃ q, m = q + 1 := ⟨m - 1, by omega⟩
    obtain rfl : j = n := by omega
    rw [wX_weigh_7]
    exact br_t (nI_le (Nat.le_refl _) (by omega)) (h uR hu)
  | succ d ih =>
    intro j m uR hj hm hu
    obtain ⟨m, rfl⟩ : ∃ q, m = q + 1 := ⟨m - 1, by omega⟩
    rw [wX_weigh_7]
    refine br_f (nI_ge (by omega) (by omega)) (bm_xh hn hS (show j < n by omega) (fun w hw => ⟨j + 1, ?_⟩))
    refine bm_x26 hn hS (show j < n by omega) hw hu ?_ j 0 (j + 1) (by omega) (by omega)
    refine ih (j + 1) m _ (by omega) (by omega) (fun i hi => ?_)
    rw [bm_wt_s]
    by_cases e : i = j
    · rw [e, pk_us, if_pos rfl]
    · rw [pk_un e, if_neg e]; exact hu i (by omega)
theorem bm_xw {post : SX → Prop} (hn : n ≤ 24) (hS : bm_Src n vO vD vA vB) (h : ∀ uR, (∀ i, i < n → uR i = nI (bm_wt vO vD vA vB n i)) → post (nI n, 0, eO, eC, eN, eF, vO, vD, vA, vB, mO, mT, mL, mR, mN, nC, uR, cY, bU, cD, rG, cE, fT, fV, fL)) : wpX_weigh post (nI n, eP, eO, eC, eN, eF, vO, vD, vA, vB, mO, mT, mL, mR, mN, nC, uR, cY, bU, cD, rG, cE, fT, fV, fL) := by
  unfold wpX_weigh
  exact ⟨n + 1, bm_x7 hn hS h n 0 (n + 1) uR (by omega) (by omega) (fun i hi => by omega)⟩
theorem bm_x8 {post : Int32 → SX → Prop} (hn : n ≤ 24) (hu : ∀ i, i < n → uR i = nI (bm_wt vO vD vA vB n i)) (h : post (nI (bm_mw (fun _ => true) (bm_wt vO vD vA vB n) n)) (nI n, eP, eO, eC, eN, eF, vO, vD, vA, vB, mO, mT, mL, mR, mN, nC, uR, cY, bU, cD, rG, cE, fT, fV, fL)) :
    ∀ (d i m : Nat), i + d = n → d < m → wX_heaviest_8 post (nI n) eP eO eC eN eF vO vD vA vB mO mT mL mR mN nC uR cY bU cD rG cE fT fV fL m (nI (bm_mw (fun _ => true) (bm_wt vO vD vA vB n) i)) (nI i) := by
  intro d
  induction d with
  | zero =>
    intro i m hi hm
    obtain ⟨m, rfl⟩ : ∃ q, m = q + 1 := ⟨m - 1, by omega⟩
    obtain rfl : i = n := by omega
    rw [wX_heaviest_8]
    exact br_t (nI_le (Nat.le_refl _) (by omega)) h
  | succ d ih =>
    intro i m hi hm
    obtain ⟨m, rfl⟩ : ∃ q, m = q + 1 := ⟨m - 1, by omega⟩
    have h1 := bm_mw_r (hb := fun _ => true) (bm_wt_r (vO := vO) (vD := vD) (vA := vA) (vB := vB) n) i
    have h2 := bm_wt_r (vO := vO) (vD := vD) (vA := vA) (vB := vB) n i
    have hin : vp_in (nI i) 96 := vp_in_nI (by omega) (by omega)
    have ih2 := ih (i + 1) m (by omega) (by omega)
    rw [bm_mw_s] at ih2
    rw [wX_heaviest_8]
    dsimp only
    rw [nI_clamp (show i < 2 ^ 31 by omega), hu i (by omega)]
    refine br_f (nI_ge (by omega) (by omega)) ⟨hin, pk_le (bm_wt vO vD vA vB n i) (bm_mw (fun _ => true) (bm_wt vO vD vA vB n) i) (fun b => nm_r (nI_1 i) ?_) (fun b => ⟨hin, nm_e (nm_r (nI_1 i) ?_)⟩)⟩
    · rw [if_neg (by omega)] at ih2; exact ih2
    · rw [if_pos ⟨rfl, b⟩] at ih2; exact ih2
theorem bm_x21 {post : Int32 → Prop} {J : Int32 → Int32 → Prop} {j t : Nat} {w : Int32} (hj : j < 24) (hw : ∀ k, k < 32 → bt w k = (decide (k < j) && bm_hg vO vD vA vB j k))
    (h : J (nI (t + bm_ck (bm_hg vO vD vA vB j) j)) (nI (j + 1))) : ∀ (d i m : Nat), i + d = j → d < m → wX_links_21 post J (nI j) w eL eP eO eC eN eF vO vD vA vB mO mT mL mR mN nC uR cY bU cD rG cE fT fV fL m (nI (t + bm_ck (bm_hg vO vD vA vB j) i)) (nI i) := by
  intro d
  induction d with
  | zero =>
    intro i m hi hm
    obtain ⟨m, rfl⟩ : ∃ q, m = q + 1 := ⟨m - 1, by omega⟩
    obtain rfl : i = j := by omega
    rw [wX_links_21]
    exact br_t (nI_le (Nat.le_refl _) (by omega)) (nm_r (nI_1 i) h)
  | succ d ih =>
    intro i m hi hm
    obtain ⟨m, rfl⟩ : ∃ q, m = q + 1 := ⟨m - 1, by omega⟩
    have hb := hw i (by omega)
    rw [decide_eq_true (show i < j by omega), Bool.true_and] at hb
    rw [wX_links_21]
    refine br_f (nI_ge (by omega) (by omega)) (nm_r (e' := nI (t + bm_ck (bm_hg vO vD vA vB j) (i + 1))) ?_ (nm_r (nI_1 i) (ih (i + 1) m (by omega) (by omega))))
    rw [bm_bv w (by omega), hb]
    show _ = nI (t + (bm_ck (bm_hg vO vD vA vB j) i + (if bm_hg vO vD vA vB j i = true then 1 else 0)))
    cases bm_hg vO vD vA vB j i
    · rw [if_neg (by decide), if_neg (by decide)]; exact Int32.add_zero _
    · rw [if_pos rfl, if_pos rfl, nI_1]; rfl
theorem bm_x4 {post : Int32 → Prop} (hn : n ≤ 24) (hS : bm_Src n vO vD vA vB) (h : post (nI (bm_lk vO vD vA vB n))) :
    ∀ (d j m : Nat), j + d = n → d < m → wX_links_4 post (nI n) eP eO eC eN eF vO vD vA vB mO mT mL mR mN nC uR cY bU cD rG cE fT fV fL m (nI (bm_lk vO vD vA vB j)) (nI j) := by
  intro d
  induction d with
  | zero =>
    intro j m hj hm
    obtain ⟨m, rfl⟩ : ∃ q, m = q + 1 := ⟨m - 1, by omega⟩
    obtain rfl : j = n := by omega
    rw [wX_links_4]
    exact br_t (nI_le (Nat.le_refl _) (by omega)) h
  | succ d ih =>
    intro j m hj hm
    obtain ⟨m, rfl⟩ : ∃ q, m = q + 1 := ⟨m - 1, by omega⟩
    rw [wX_links_4]
    refine br_f (nI_ge (by omega) (by omega)) (bm_xh hn hS (show j < n by omega) (fun w hw => ⟨j + 1, ?_⟩))
    exact bm_x21 (t := bm_lk vO vD vA vB j) (by omega) hw (ih (j + 1) m (by omega) (by omega)) j 0 (j + 1) (by omega) (by omega)
theorem bm_xlk {post : Int32 → Prop} (hn : n ≤ 24) (hS : bm_Src n vO vD vA vB) (h : post (nI (bm_lk vO vD vA vB n))) : wpX_links post (nI n, eP, eO, eC, eN, eF, vO, vD, vA, vB, mO, mT, mL, mR, mN, nC, uR, cY, bU, cD, rG, cE, fT, fV, fL) := by
  unfold wpX_links
  exact ⟨n + 1, bm_x4 hn hS h n 0 (n + 1) (by omega) (by omega)⟩
theorem bm_xhv {post : Int32 → SX → Prop} (hn : n ≤ 24) (hS : bm_Src n vO vD vA vB) (h : ∀ uR, post (nI (bm_mw (fun _ => true) (bm_wt vO vD vA vB n) n)) (nI n, 0, eO, eC, eN, eF, vO, vD, vA, vB, mO, mT, mL, mR, mN, nC, uR, cY, bU, cD, rG, cE, fT, fV, fL)) : wpX_heaviest post (nI n, eP, eO, eC, eN, eF, vO, vD, vA, vB, mO, mT, mL, mR, mN, nC, uR, cY, bU, cD, rG, cE, fT, fV, fL) := by
  unfold wpX_heaviest
  exact bm_xw hn hS (fun uR hu => ⟨n + 1, bm_x8 hn hu (h uR) n 0 (n + 1) (by omega) (by omega)⟩)
end XW
section YW
variable {eL : Int32} {vO vD vA vB gR gC gW : Nat → Int32}
variable {n : Nat}
theorem bm_y14 {post : SY → Prop} {J : Int32 → (Nat → Int32) → (Nat → Int32) → (Nat → Int32) → (Nat → Int32) → (Nat → Int32) → (Nat → Int32) → (Nat → Int32) → Prop} {j : Nat}
    (hn : n ≤ 24) (hS : bm_Src n vO vD vA vB) (hj : j < n) (hu : ∀ i, i < j → gW i = nI (bm_wt vO vD vA vB j i))
    (h : J (nI (j + 1)) vO vD vA vB gR gC (upd gW j (nI (bm_mw (bm_hg vO vD vA vB j) (bm_wt vO vD vA vB j) j + bm_tm (bm_c vO j))))) :
    ∀ (d i m : Nat), i + d = j → d < m → wY_weighAll_14 post J (nI j) eL vO vD vA vB gR gC gW m (nI (bm_mw (bm_hg vO vD vA vB j) (bm_wt vO vD vA vB j) i)) (nI i) := by
  have hr := fun i => bm_mw_r (hb := bm_hg vO vD vA vB j) (bm_wt_r (vO := vO) (vD := vD) (vA := vA) (vB := vB) j) i
  obtain ⟨eo, ho, -, -, -, -, -⟩ := bm_Src_at hS hj
  intro d
  induction d with
  | zero =>
    intro i m hi hm
    obtain ⟨m, rfl⟩ : ∃ q, m = q + 1 := ⟨m - 1, by omega⟩
    obtain rfl : i = j := by omega
    have hin : vp_in (nI i) 24 := vp_in_nI (by omega) (by omega)
    rw [wY_weighAll_14]
    dsimp only
    rw [nI_clamp (by omega), eo]
    unfold bm_tm at h
    refine br_t (nI_le (Nat.le_refl _) (by omega)) ⟨hin, pk_eq (bm_c vO i) 2 (fun a => ⟨hin, nm_r (e' := upd gW i (nI (bm_mw (bm_hg vO vD vA vB i) (bm_wt vO vD vA vB i) i + 3))) ?_ (nm_r (nI_1 i) ?_)⟩) (fun a => ⟨hin, pk_eq (bm_c vO i) 7 (fun b => ⟨hin, nm_r (e' := upd gW i (nI (bm_mw (bm_hg vO vD vA vB i) (bm_wt vO vD vA vB i) i + 2))) ?_ (nm_r (nI_1 i) ?_)⟩) (fun b => ⟨hin, nm_r (e' := upd gW i (nI (bm_mw (bm_hg vO vD vA vB i) (bm_wt vO vD vA vB i) i + 1))) ?_ (nm_r (nI_1 i) ?_)⟩)⟩)⟩
    · rw [← nI_add]; rfl
    · rw [if_pos a] at h; exact h
    · rw [← nI_add]; rfl
    · rw [if_neg a, if_pos b] at h; exact h
    · rw [← nI_add]; rfl
    · rw [if_neg a, if_neg b] at h; exact h
  | succ d ih =>
    intro i m hi hm
    obtain ⟨m, rfl⟩ : ∃ q, m = q + 1 := ⟨m - 1, by omega⟩
    have h1 := hr i
    have h2 := bm_wt_r (vO := vO) (vD := vD) (vA := vA) (vB := vB) j i
    have hin : vp_in (nI i) 24 := vp_in_nI (by omega) (by omega)
    have ih2 := ih (i + 1) m (by omega) (by omega)
    rw [bm_mw_s] at ih2
    rw [wY_weighAll_14]
    dsimp only
    rw [nI_clamp (show i < 2 ^ 31 by omega), hu i (by omega)]
    refine br_f (nI_ge (by omega) (by omega)) (bm_yh hn hS hj (by omega) (fun a => br_f (by decide) ⟨hin, pk_le (bm_wt vO vD vA vB j i) (bm_mw (bm_hg vO vD vA vB j) (bm_wt vO vD vA vB j) i) (fun b => nm_r (nI_1 i) ?_) (fun b => ⟨hin, nm_e (nm_r (nI_1 i) ?_)⟩)⟩) (fun a => br_t rfl (nm_r (nI_1 i) ?_)))
    · rw [if_neg (by omega)] at ih2; exact ih2
    · rw [if_pos ⟨a, b⟩] at ih2; exact ih2
    · rw [if_neg (fun z => by rw [a] at z; exact absurd z.1 (by decide))] at ih2; exact ih2
theorem bm_y2 {post : SY → Prop} (hn : n ≤ 24) (hS : bm_Src n vO vD vA vB) (h : ∀ gW, (∀ i, i < n → gW i = nI (bm_wt vO vD vA vB n i)) → post (nI n, vO, vD, vA, vB, gR, gC, gW)) :
    ∀ (d j m : Nat) (gW : Nat → Int32), j + d = n → d < m → (∀ i, i < j → gW i = nI (bm_wt vO vD vA vB j i)) → wY_weighAll_2 post (nI n) m (nI j) vO vD vA vB gR gC gW := by
  intro d
  induction d with
  | zero =>
    intro j m gW hj hm hu
    obtain ⟨m, rfl⟩ : ∃ q, m = q + 1 := ⟨m - 1, by omega⟩
    obtain rfl : j = n := by omega
    rw [wY_weighAll_2]
    exact br_t (nI_le (Nat.le_refl _) (by omega)) (h gW hu)
  | succ d ih =>
    intro j m gW hj hm hu
    obtain ⟨m, rfl⟩ : ∃ q, m = q + 1 := ⟨m - 1, by omega⟩
    rw [wY_weighAll_2]
    refine br_f (nI_ge (by omega) (by omega)) ⟨j + 1, ?_⟩
    refine bm_y14 hn hS (show j < n by omega) hu ?_ j 0 (j + 1) (by omega) (by omega)
    refine ih (j + 1) m _ (by omega) (by omega) (fun i hi => ?_)
    rw [bm_wt_s]
    by_cases e : i = j
    · rw [e, pk_us, if_pos rfl]
    · rw [pk_un e, if_neg e]; exact hu i (by omega)
theorem bm_ywa {post : SY → Prop} (hn : n ≤ 24) (hS : bm_Src n vO vD vA vB) (h : ∀ gW, (∀ i, i < n → gW i = nI (bm_wt vO vD vA vB n i)) → post (nI n, vO, vD, vA, vB, gR, gC, gW)) : wpY_weighAll post (nI n, vO, vD, vA, vB, gR, gC, gW) := by
  unfold wpY_weighAll
  exact ⟨n + 1, bm_y2 hn hS h n 0 (n + 1) gW (by omega) (by omega) (fun i hi => by omega)⟩
theorem bm_y8 {post : Int32 → SY → Prop} (hn : n ≤ 24) (hu : ∀ i, i < n → gW i = nI (bm_wt vO vD vA vB n i)) (h : post (nI (bm_mw (fun _ => true) (bm_wt vO vD vA vB n) n)) (nI n, vO, vD, vA, vB, gR, gC, gW)) :
    ∀ (d i m : Nat), i + d = n → d < m → wY_heaviest_8 post (nI n) vO vD vA vB gR gC gW m (nI (bm_mw (fun _ => true) (bm_wt vO vD vA vB n) i)) (nI i) := by
  intro d
  induction d with
  | zero =>
    intro i m hi hm
    obtain ⟨m, rfl⟩ : ∃ q, m = q + 1 := ⟨m - 1, by omega⟩
    obtain rfl : i = n := by omega
    rw [wY_heaviest_8]
    exact br_t (nI_le (Nat.le_refl _) (by omega)) h
  | succ d ih =>
    intro i m hi hm
    obtain ⟨m, rfl⟩ : ∃ q, m = q + 1 := ⟨m - 1, by omega⟩
    have h1 := bm_mw_r (hb := fun _ => true) (bm_wt_r (vO := vO) (vD := vD) (vA := vA) (vB := vB) n) i
    have h2 := bm_wt_r (vO := vO) (vD := vD) (vA := vA) (vB := vB) n i
    have hin : vp_in (nI i) 24 := vp_in_nI (by omega) (by omega)
    have ih2 := ih (i + 1) m (by omega) (by omega)
    rw [bm_mw_s] at ih2
    rw [wY_heaviest_8]
    dsimp only
    rw [nI_clamp (show i < 2 ^ 31 by omega), hu i (by omega)]
    refine br_f (nI_ge (by omega) (by omega)) ⟨hin, pk_le (bm_wt vO vD vA vB n i) (bm_mw (fun _ => true) (bm_wt vO vD vA vB n) i) (fun b => nm_r (nI_1 i) ?_) (fun b => ⟨hin, nm_e (nm_r (nI_1 i) ?_)⟩)⟩
    · rw [if_neg (by omega)] at ih2; exact ih2
    · rw [if_pos ⟨rfl, b⟩] at ih2; exact ih2
theorem bm_yhv {post : Int32 → SY → Prop} (hn : n ≤ 24) (hS : bm_Src n vO vD vA vB) (h : ∀ gW, post (nI (bm_mw (fun _ => true) (bm_wt vO vD vA vB n) n)) (nI n, vO, vD, vA, vB, gR, gC, gW)) : wpY_heaviest post (nI n, vO, vD, vA, vB, gR, gC, gW) := by
  unfold wpY_heaviest
  exact bm_ywa hn hS (fun gW hu => ⟨n + 1, bm_y8 hn hu (h gW) n 0 (n + 1) (by omega) (by omega)⟩)
theorem bm_yl14 {post : Int32 → Prop} {J : Int32 → Int32 → Prop} {j t : Nat} (hn : n ≤ 24) (hS : bm_Src n vO vD vA vB) (hj : j < n)
    (h : J (nI (t + bm_ck (bm_hg vO vD vA vB j) j)) (nI (j + 1))) : ∀ (d i m : Nat), i + d = j → d < m → wY_links_14 post J (nI j) eL vO vD vA vB gR gC gW m (nI (t + bm_ck (bm_hg vO vD vA vB j) i)) (nI i) := by
  intro d
  induction d with
  | zero =>
    intro i m hi hm
    obtain ⟨m, rfl⟩ : ∃ q, m = q + 1 := ⟨m - 1, by omega⟩
    obtain rfl : i = j := by omega
    rw [wY_links_14]
    exact br_t (nI_le (Nat.le_refl _) (by omega)) (nm_r (nI_1 i) h)
  | succ d ih =>
    intro i m hi hm
    obtain ⟨m, rfl⟩ : ∃ q, m = q + 1 := ⟨m - 1, by omega⟩
    have ih2 := ih (i + 1) m (by omega) (by omega)
    have es : bm_ck (bm_hg vO vD vA vB j) (i + 1) = bm_ck (bm_hg vO vD vA vB j) i + (if bm_hg vO vD vA vB j i = true then 1 else 0) := rfl
    rw [es] at ih2
    rw [wY_links_14]
    refine br_f (nI_ge (by omega) (by omega)) (bm_yh hn hS hj (by omega) (fun a => br_f (by decide) (nm_r (nI_1 _) (nm_r (nI_1 i) ?_))) (fun a => br_t rfl (nm_r (nI_1 i) ?_)))
    · rw [if_pos a] at ih2; exact ih2
    · rw [a, if_neg (by decide)] at ih2; exact ih2
theorem bm_yl4 {post : Int32 → Prop} (hn : n ≤ 24) (hS : bm_Src n vO vD vA vB) (h : post (nI (bm_lk vO vD vA vB n))) :
    ∀ (d j m : Nat), j + d = n → d < m → wY_links_4 post (nI n) vO vD vA vB gR gC gW m (nI (bm_lk vO vD vA vB j)) (nI j) := by
  intro d
  induction d with
  | zero =>
    intro j m hj hm
    obtain ⟨m, rfl⟩ : ∃ q, m = q + 1 := ⟨m - 1, by omega⟩
    obtain rfl : j = n := by omega
    rw [wY_links_4]
    exact br_t (nI_le (Nat.le_refl _) (by omega)) h
  | succ d ih =>
    intro j m hj hm
    obtain ⟨m, rfl⟩ : ∃ q, m = q + 1 := ⟨m - 1, by omega⟩
    rw [wY_links_4]
    exact br_f (nI_ge (by omega) (by omega)) ⟨j + 1, bm_yl14 (t := bm_lk vO vD vA vB j) hn hS (show j < n by omega) (ih (j + 1) m (by omega) (by omega)) j 0 (j + 1) (by omega) (by omega)⟩
theorem bm_ylk {post : Int32 → Prop} (hn : n ≤ 24) (hS : bm_Src n vO vD vA vB) (h : post (nI (bm_lk vO vD vA vB n))) : wpY_links post (nI n, vO, vD, vA, vB, gR, gC, gW) := by
  unfold wpY_links
  exact ⟨n + 1, bm_yl4 hn hS h n 0 (n + 1) (by omega) (by omega)⟩
end YW
end
section
/-! the relation; packing; the checks of emit -/
def bm_P (n : Nat) (eO eC : Int32) (vO vD vA vB mO mT mL mR mN cY cD : Nat → Int32) : Prop := ∃ N L, bm_K N L mO mT mL mR mN cY cD ∧ eO = nI N ∧ eC = nI (bm_s (bm_c cY) N L) ∧ ∀ m0, bm_ag (bm_XS mO mT mL mR mN vB m0 N) (bm_YS vO vD vA vB m0 n)
def bm_F (n : Nat) (eP eO eC : Int32) (vO vD vA vB mO mT mL mR mN cY cD rG cE gR gC : Nat → Int32) : Prop :=
  n ≤ 24 ∧ bm_Src n vO vD vA vB ∧ (∀ r, r < 8 → rG r = gR r) ∧ (∀ c, c < 16 → cE c = gC c) ∧ (eP = 0 ∨ bm_P n eO eC vO vD vA vB mO mT mL mR mN cY cD)
/-- the relation: the same program, registers 0 to 7 and cells; if packed, the code is that of the program -/
def i_Rel (k : Nat) (u : SX) (v : SY) : Prop := match u with
  | (eL, eP, eO, eC, eN, eF, vO, vD, vA, vB, mO, mT, mL, mR, mN, nC, uR, cY, bU, cD, rG, cE, fT, fV, fL) => match v with
    | (fn, wO, wD, wA, wB, gR, gC, gW) => ∃ n, eL = nI n ∧ fn = nI n ∧ wO = vO ∧ wD = vD ∧ wA = vA ∧ wB = vB ∧ bm_F n eP eO eC vO vD vA vB mO mT mL mR mN cY cD rG cE gR gC
section REL
variable {eL eP eO eC eN eF : Int32} {vO vD vA vB mO mT mL mR mN nC uR cY bU cD rG cE fT fV fL : Nat → Int32}
variable {gR gC gW : Nat → Int32}
variable {k n : Nat}
theorem bm_el {P : SX → SY → Prop} {u : SX} {v : SY} (h : ∀ (n : Nat) (eP eO eC eN eF : Int32) (vO vD vA vB mO mT mL mR mN nC uR cY bU cD rG cE fT fV fL gR gC gW : Nat → Int32), bm_F n eP eO eC vO vD vA vB mO mT mL mR mN cY cD rG cE gR gC → P (nI n, eP, eO, eC, eN, eF, vO, vD, vA, vB, mO, mT, mL, mR, mN, nC, uR, cY, bU, cD, rG, cE, fT, fV, fL) (nI n, vO, vD, vA, vB, gR, gC, gW)) (I : i_Rel k u v) : P u v := by
  obtain ⟨eL, eP, eO, eC, eN, eF, vO, vD, vA, vB, mO, mT, mL, mR, mN, nC, uR, cY, bU, cD, rG, cE, fT, fV, fL⟩ := u
  obtain ⟨fn, wO, wD, wA, wB, gR, gC, gW⟩ := v
  obtain ⟨n, rfl, rfl, rfl, rfl, rfl, rfl, hF⟩ := I
  exact h n eP eO eC eN eF _ _ _ _ mO mT mL mR mN nC uR cY bU cD rG cE fT fV fL gR gC gW hF
theorem bm_mk {fn : Int32} (h1 : eL = nI n) (h2 : fn = nI n) (h : bm_F n eP eO eC vO vD vA vB mO mT mL mR mN cY cD rG cE gR gC) : i_Rel k (eL, eP, eO, eC, eN, eF, vO, vD, vA, vB, mO, mT, mL, mR, mN, nC, uR, cY, bU, cD, rG, cE, fT, fV, fL) (fn, vO, vD, vA, vB, gR, gC, gW) :=
  ⟨n, h1, h2, rfl, rfl, rfl, rfl, h⟩
theorem bm_xpack {post : SX → Prop} (hn : n ≤ 24) (hS : bm_Src n vO vD vA vB) (hP : eP = 0 ∨ bm_P n eO eC vO vD vA vB mO mT mL mR mN cY cD)
    (h : ∀ eP eO eC mO mT mL mR mN nC uR cY bU cD, bm_P n eO eC vO vD vA vB mO mT mL mR mN cY cD → post (nI n, eP, eO, eC, eN, eF, vO, vD, vA, vB, mO, mT, mL, mR, mN, nC, uR, cY, bU, cD, rG, cE, fT, fV, fL)) : wpX_pack post (nI n, eP, eO, eC, eN, eF, vO, vD, vA, vB, mO, mT, mL, mR, mN, nC, uR, cY, bU, cD, rG, cE, fT, fV, fL) := by
  unfold wpX_pack
  refine br_c (fun a => ?_) (fun a => ?_)
  · refine bm_xlower hn hS (fun N mO mT mL mR mN nC hN hQ => ?_)
    refine bm_xfu hQ.1 (by omega) (fun uR => ?_)
    refine bm_xsch hQ.1 (by omega) (fun cY bU hSI => ?_)
    obtain ⟨h1, h2, h3, h4, h5, h6⟩ := hSI
    have hall := bm_ct_all N h1
    refine bm_xenc (M := 3 * N) (by omega) (by omega) (fun k hk => ?_) (fun L cD hL hlt hLy => ?_)
    · obtain ⟨x, y⟩ := h2 k hk (hall k hk)
      exact ⟨x, by omega⟩
    · refine h 1 (nI N) (nI (bm_s (bm_c cY) N L)) mO mT mL mR mN nC uR cY bU cD ⟨N, L, ⟨by omega, by omega, hQ.1, hlt, ?_, ?_, hLy⟩, rfl, rfl, hQ.2⟩
      · exact bm_sp_D (fun i j hij hj hne => (h6 i j hij hj (hall j hj) hne).2)
      · exact fun i j hi hj hij e => h5 i j hi hj hij (hall i hi) (hall j hj) e
  · rcases hP with hP | hP
    · exact absurd hP a
    · exact h eP eO eC mO mT mL mR mN nC uR cY bU cD hP
theorem bm_xir {post : Int32 → Prop} {r : Int32} (h0 : (r < 0 ∨ 7 < r) → post 0) (h1 : ¬ (r < 0 ∨ 7 < r) → post 1) : wpX_isRegister post (eL, eP, eO, eC, eN, eF, vO, vD, vA, vB, mO, mT, mL, mR, mN, nC, uR, cY, bU, cD, rG, cE, fT, fV, fL) r := by
  unfold wpX_isRegister
  exact br_c (fun a => h0 (Or.inl a)) (fun a => br_c (fun b => h0 (Or.inr b)) (fun b => h1 (fun z => z.elim a b)))
theorem bm_yir {post : Int32 → Prop} {r : Int32} (h0 : (r < 0 ∨ 7 < r) → post 0) (h1 : ¬ (r < 0 ∨ 7 < r) → post 1) : wpY_isRegister post (eL, vO, vD, vA, vB, gR, gC, gW) r := by
  unfold wpY_isRegister
  exact br_c (fun a => h0 (Or.inl a)) (fun a => br_c (fun b => h0 (Or.inr b)) (fun b => h1 (fun z => z.elim a b)))
/-- an int is out of 0 .. m or a number of it -/
theorem bm_rg {x M : Int32} {m : Nat} (hM : M = nI m) (hm : m < 2 ^ 31) (h : ¬ (x < 0 ∨ M < x)) : ∃ j, j ≤ m ∧ x = nI j := by
  obtain ⟨j, hj, rfl⟩ := nI_of (x := x) (fun z => h (Or.inl z))
  refine ⟨j, ?_, rfl⟩
  refine Classical.byContradiction (fun z => h (Or.inr ?_))
  rw [hM]
  exact nI_lt (by omega) hj
theorem bm_rg8 {x : Int32} (h : ¬ (x < 0 ∨ 7 < x)) : ∃ j, j < 8 ∧ x = nI j := by
  obtain ⟨j, hj, e⟩ := bm_rg (m := 7) rfl (by omega) h
  exact ⟨j, by omega, e⟩
theorem bm_nrg {j m : Nat} {M : Int32} (hM : M = nI m) (hm : m < 2 ^ 31) (h : j ≤ m) : ¬ (nI j < 0 ∨ M < nI j) := by
  rintro (z | z)
  · exact nI_pos (by omega) z
  · rw [hM] at z; exact nI_nlt h hm z
variable {v1 v2 v3 v4 : Int32}
theorem bm_xbad {post : Int32 → SX → Prop} (hn : n < 24) (hb : ((v1 < 0 ∨ 8 < v1) ∨ (v2 < 0 ∨ 7 < v2)) ∨ ((v3 < 0 ∨ 7 < v3) ∨ (¬ 5 < v1 ∧ (v4 < 0 ∨ 7 < v4)))) (h : post (-1) (nI n, eP, eO, eC, eN, eF, vO, vD, vA, vB, mO, mT, mL, mR, mN, nC, uR, cY, bU, cD, rG, cE, fT, fV, fL)) : wpX_emit post (nI n, eP, eO, eC, eN, eF, vO, vD, vA, vB, mO, mT, mL, mR, mN, nC, uR, cY, bU, cD, rG, cE, fT, fV, fL) v1 v2 v3 v4 := by
  unfold wpX_emit
  refine br_t (nI_lt (b := 24) hn (by omega)) (br_c (fun _ => h) (fun a => br_c (fun _ => h) (fun b => bm_xir (fun _ => br_t rfl h) (fun c => br_f (by decide) (bm_xir (fun _ => br_t rfl h) (fun d => br_f (by decide) (br_c (fun e => absurd hb ?_) (fun e => bm_xir (fun _ => br_t rfl h) (fun f => absurd hb ?_)))))))))
  · rintro (((z | z) | z) | (z | z))
    · exact a z
    · exact b z
    · exact c z
    · exact d z
    · exact z.1 e
  · rintro (((z | z) | z) | (z | z))
    · exact a z
    · exact b z
    · exact c z
    · exact d z
    · exact f z.2
theorem bm_ybad {post : Int32 → SY → Prop} (hn : n < 24) (hb : ((v1 < 0 ∨ 8 < v1) ∨ (v2 < 0 ∨ 7 < v2)) ∨ ((v3 < 0 ∨ 7 < v3) ∨ (¬ 5 < v1 ∧ (v4 < 0 ∨ 7 < v4)))) (h : post (-1) (nI n, vO, vD, vA, vB, gR, gC, gW)) : wpY_emit post (nI n, vO, vD, vA, vB, gR, gC, gW) v1 v2 v3 v4 := by
  unfold wpY_emit
  refine br_f (bm_ne (b := 24) (by omega) (by omega) (by omega)) (br_c (fun _ => h) (fun a => br_c (fun _ => h) (fun b => bm_yir (fun _ => br_t rfl h) (fun c => br_f (by decide) (bm_yir (fun _ => br_t rfl h) (fun d => br_f (by decide) (br_c (fun e => absurd hb ?_) (fun e => bm_yir (fun _ => br_t rfl h) (fun f => absurd hb ?_)))))))))
  · rintro (((z | z) | z) | (z | z))
    · exact a z
    · exact b z
    · exact c z
    · exact d z
    · exact z.1 e
  · rintro (((z | z) | z) | (z | z))
    · exact a z
    · exact b z
    · exact c z
    · exact d z
    · exact f z.2
theorem bm_xok {post : Int32 → SX → Prop} {o d a : Nat} (hn : n < 24) (ho : o ≤ 8) (hd : d < 8) (ha : a < 8) (hb : o ≤ 5 → ∃ b, b < 8 ∧ v4 = nI b)
    (h : post (nI (n + 1)) (nI (n + 1), 0, eO, eC, eN, eF, upd vO n (nI o), upd vD n (nI d), upd vA n (nI a), upd vB n v4, mO, mT, mL, mR, mN, nC, uR, cY, bU, cD, rG, cE, fT, fV, fL)) : wpX_emit post (nI n, eP, eO, eC, eN, eF, vO, vD, vA, vB, mO, mT, mL, mR, mN, nC, uR, cY, bU, cD, rG, cE, fT, fV, fL) (nI o) (nI d) (nI a) v4 := by
  have hin : vp_in (nI n) 24 := vp_in_nI hn (by omega)
  have cn : (nI n).toNatClampNeg = n := nI_clamp (by omega)
  have k56 : wX_emit_56 post (nI o) (nI d) (nI a) v4 (nI n) eP eO eC eN eF vO vD vA vB mO mT mL mR mN nC uR cY bU cD rG cE fT fV fL := by
    unfold wX_emit_56
    exact ⟨hin, nm_r (bm_ub (by omega) (by omega)) ⟨hin, nm_r (bm_ub (by omega) (by omega)) ⟨hin, nm_r (bm_ub (by omega) (by omega)) ⟨hin, nm_r (e' := upd vB n v4) (by rw [cn]) (nm_r (nI_1 n) h)⟩⟩⟩⟩
  unfold wpX_emit
  refine br_t (nI_lt (b := 24) hn (by omega)) (br_f (nI_pos (by omega)) (br_f (nI_nlt (a := 8) ho (by omega)) (bm_xir (fun z => absurd z (bm_nrg (m := 7) rfl (by omega) (by omega))) (fun _ => br_f (by decide) (bm_xir (fun z => absurd z (bm_nrg (m := 7) rfl (by omega) (by omega))) (fun _ => br_f (by decide) (pk_lt 5 o (fun _ => k56) (fun h5 => ?_))))))))
  obtain ⟨b, hb8, rfl⟩ := hb h5
  exact bm_xir (fun z => absurd z (bm_nrg (m := 7) rfl (by omega) (by omega))) (fun _ => br_f (by decide) k56)
theorem bm_yok {post : Int32 → SY → Prop} {o d a : Nat} (hn : n < 24) (ho : o ≤ 8) (hd : d < 8) (ha : a < 8) (hb : o ≤ 5 → ∃ b, b < 8 ∧ v4 = nI b)
    (h : post (nI (n + 1)) (nI (n + 1), upd vO n (nI o), upd vD n (nI d), upd vA n (nI a), upd vB n v4, gR, gC, gW)) : wpY_emit post (nI n, vO, vD, vA, vB, gR, gC, gW) (nI o) (nI d) (nI a) v4 := by
  have hin : vp_in (nI n) 24 := vp_in_nI hn (by omega)
  have cn : (nI n).toNatClampNeg = n := nI_clamp (by omega)
  have k54 : wY_emit_54 post (nI o) (nI d) (nI a) v4 (nI n) vO vD vA vB gR gC gW := by
    unfold wY_emit_54
    rw [cn]
    exact ⟨hin, nm_e ⟨hin, nm_e ⟨hin, nm_e ⟨hin, nm_e (nm_r (nI_1 n) h)⟩⟩⟩⟩
  unfold wpY_emit
  refine br_f (bm_ne (b := 24) (by omega) (by omega) (by omega)) (br_f (nI_pos (by omega)) (br_f (nI_nlt (a := 8) ho (by omega)) (bm_yir (fun z => absurd z (bm_nrg (m := 7) rfl (by omega) (by omega))) (fun _ => br_f (by decide) (bm_yir (fun z => absurd z (bm_nrg (m := 7) rfl (by omega) (by omega))) (fun _ => br_f (by decide) (pk_lt 5 o (fun _ => k54) (fun h5 => ?_))))))))
  obtain ⟨b, hb8, rfl⟩ := hb h5
  exact bm_yir (fun z => absurd z (bm_nrg (m := 7) rfl (by omega) (by omega))) (fun _ => br_f (by decide) k54)
theorem bm_Src_up {o d a : Nat} (hS : bm_Src n vO vD vA vB) (hn : n < 24) (ho : o ≤ 8) (hd : d < 8) (ha : a < 8) (hb : o ≤ 5 → ∃ b, b < 8 ∧ v4 = nI b) : bm_Src (n + 1) (upd vO n (nI o)) (upd vD n (nI d)) (upd vA n (nI a)) (upd vB n v4) := by
  obtain ⟨s1, s2, s3, s4⟩ := hS
  refine ⟨bm_B_up s1 (by omega), bm_B_up s2 hd, bm_B_up s3 ha, fun i hi h5 => ?_⟩
  by_cases e : i = n
  · subst e
    rw [bm_cu (by omega)] at h5
    rw [pk_us]
    exact hb h5
  · rw [bm_cn e] at h5
    rw [pk_un e]
    exact s4 i (by omega) h5
theorem bm_Src_le {m : Nat} (hS : bm_Src n vO vD vA vB) (hm : m ≤ n) : bm_Src m vO vD vA vB := by
  obtain ⟨s1, s2, s3, s4⟩ := hS
  exact ⟨bm_B_le s1 hm, bm_B_le s2 hm, bm_B_le s3 hm, fun i hi => s4 i (by omega)⟩
end REL
end
section
/-! what is owed -/
theorem i_up {k : Nat} {u : SX} {v : SY} (h : i_Rel k u v) : i_Rel (k + 5) u v := h
theorem i_vc0 : wpX_init (fun u => wpY_init (fun v => i_Rel 0 u v)) := by
  unfold wpX_init wpY_init
  exact bm_mk (n := 0) nI_0.symm nI_0.symm ⟨by omega, ⟨fun k h => by omega, fun k h => by omega, fun k h => by omega, fun k h => by omega⟩, fun _ _ => rfl, fun _ _ => rfl, Or.inl rfl⟩
theorem i_vc_emit {k : Nat} {u : SX} {v : SY} (I : i_Rel k u v) (hk : k + 5 ≤ 2560) (v1 : Int32) (v2 : Int32) (v3 : Int32) (v4 : Int32) : wpX_emit (fun r u' => wpY_emit (fun r' v' => r' = r ∧ i_Rel (k + 5) u' v') v v1 v2 v3 v4) u v1 v2 v3 v4 := by
  refine bm_el (P := fun u v => wpX_emit (fun r u' => wpY_emit (fun r' v' => r' = r ∧ i_Rel (k + 5) u' v') v v1 v2 v3 v4) u v1 v2 v3 v4) ?_ I
  intro n eP eO eC eN eF vO vD vA vB mO mT mL mR mN nC uR cY bU cD rG cE fT fV fL gR gC gW hF
  obtain ⟨hn, hS, hr, hc, hP⟩ := id hF
  by_cases h24 : n = 24
  · subst h24
    show wpX_emit _ _ _ _ _ _
    unfold wpX_emit
    refine br_f (nI_nlt (a := 24) (b := 24) (by omega) (by omega)) ?_
    unfold wpY_emit
    exact br_t rfl ⟨rfl, bm_mk rfl rfl hF⟩
  by_cases hb : ((v1 < 0 ∨ 8 < v1) ∨ (v2 < 0 ∨ 7 < v2)) ∨ ((v3 < 0 ∨ 7 < v3) ∨ (¬ 5 < v1 ∧ (v4 < 0 ∨ 7 < v4)))
  · exact bm_xbad (by omega) hb (bm_ybad (by omega) hb ⟨rfl, bm_mk rfl rfl hF⟩)
  · obtain ⟨o, ho, rfl⟩ := bm_rg (x := v1) (m := 8) rfl (by omega) (fun z => hb (Or.inl (Or.inl z)))
    obtain ⟨d, hd, rfl⟩ := bm_rg8 (x := v2) (fun z => hb (Or.inl (Or.inr z)))
    obtain ⟨a, ha, rfl⟩ := bm_rg8 (x := v3) (fun z => hb (Or.inr (Or.inl z)))
    have hb4 : o ≤ 5 → ∃ b, b < 8 ∧ v4 = nI b := fun h5 => bm_rg8 (fun z => hb (Or.inr (Or.inr ⟨nI_nlt (a := 5) h5 (by omega), z⟩)))
    exact bm_xok (by omega) ho hd ha hb4 (bm_yok (by omega) ho hd ha hb4 ⟨rfl, bm_mk rfl rfl ⟨by omega, bm_Src_up hS (by omega) ho hd ha hb4, hr, hc, Or.inl rfl⟩⟩)
theorem i_vc_retract {k : Nat} {u : SX} {v : SY} (I : i_Rel k u v) (hk : k + 5 ≤ 2560) : wpX_retract (fun r u' => wpY_retract (fun r' v' => r' = r ∧ i_Rel (k + 5) u' v') v) u := by
  refine bm_el (P := fun u v => wpX_retract (fun r u' => wpY_retract (fun r' v' => r' = r ∧ i_Rel (k + 5) u' v') v) u) ?_ I
  intro n eP eO eC eN eF vO vD vA vB mO mT mL mR mN nC uR cY bU cD rG cE fT fV fL gR gC gW hF
  obtain ⟨hn, hS, hr, hc, hP⟩ := id hF
  show wpX_retract _ _
  unfold wpX_retract wpY_retract
  refine pk_eq n 0 (fun a => ?_) (fun a => ?_)
  · exact br_t (by rw [a]; rfl) ⟨rfl, bm_mk rfl rfl hF⟩
  · obtain ⟨m, rfl⟩ : ∃ m, n = m + 1 := ⟨n - 1, by omega⟩
    exact nm_r (nI_pred m) (br_f (bm_ne (b := 0) (by omega) (by omega) (by omega)) (nm_r (nI_pred m) ⟨rfl, bm_mk rfl rfl ⟨by omega, bm_Src_le hS (by omega), hr, hc, Or.inl rfl⟩⟩))
theorem i_vc_drop {k : Nat} {u : SX} {v : SY} (I : i_Rel k u v) (hk : k + 5 ≤ 2560) : wpX_drop (fun r u' => wpY_drop (fun r' v' => r' = r ∧ i_Rel (k + 5) u' v') v) u := by
  refine bm_el (P := fun u v => wpX_drop (fun r u' => wpY_drop (fun r' v' => r' = r ∧ i_Rel (k + 5) u' v') v) u) ?_ I
  intro n eP eO eC eN eF vO vD vA vB mO mT mL mR mN nC uR cY bU cD rG cE fT fV fL gR gC gW hF
  obtain ⟨hn, hS, hr, hc, hP⟩ := id hF
  show wpX_drop _ _
  unfold wpX_drop wpY_drop
  exact ⟨rfl, bm_mk (n := 0) nI_0.symm nI_0.symm ⟨by omega, bm_Src_le hS (by omega), hr, hc, Or.inl rfl⟩⟩
theorem i_vc_run {k : Nat} {u : SX} {v : SY} (I : i_Rel k u v) (hk : k + 5 ≤ 2560) : wpX_run (fun r u' => wpY_run (fun r' v' => r' = r ∧ i_Rel (k + 5) u' v') v) u := by
  refine bm_el (P := fun u v => wpX_run (fun r u' => wpY_run (fun r' v' => r' = r ∧ i_Rel (k + 5) u' v') v) u) ?_ I
  intro n eP eO eC eN eF vO vD vA vB mO mT mL mR mN nC uR cY bU cD rG cE fT fV fL gR gC gW hF
  obtain ⟨hn, hS, hr, hc, hP⟩ := id hF
  show wpX_run _ _
  unfold wpX_run
  refine bm_xpack hn hS hP (fun eP eO eC mO mT mL mR mN nC uR cY bU cD hP2 => ?_)
  obtain ⟨N, L, hK, rfl, rfl, hag⟩ := id hP2
  refine bm_xexe hK rfl (fun rG' cE' fT fV fL eN eF hx => ?_)
  refine bm_yrun (m0 := bm_mm rG cE) hn hS (fun x hx2 => ?_) (fun gR' gC' hy => ⟨rfl, bm_mk rfl rfl ⟨hn, hS, fun r h8 => ?_, fun c h16 => ?_, Or.inr hP2⟩⟩)
  · rcases hx2 with h8 | ⟨h1, h2⟩
    · rw [bm_mm_r (by omega), bm_mm_r (by omega), hr x h8]
    · rw [bm_mm_c (by omega), bm_mm_c (by omega), hc (x - 16) (by omega)]
  · have e1 := hx r (by omega)
    have e2 := hag (bm_mm rG cE) r (Or.inl h8)
    have e3 := hy r (Or.inl h8)
    rw [bm_mm_r (by omega)] at e1 e3
    rw [e1, e2, e3]
  · have e1 := hx (16 + c) (by omega)
    have e2 := hag (bm_mm rG cE) (16 + c) (Or.inr (by omega))
    have e3 := hy (16 + c) (Or.inr (by omega))
    rw [bm_mm_c (by omega), Nat.add_sub_cancel_left] at e1 e3
    rw [e1, e2, e3]
theorem i_vc_register {k : Nat} {u : SX} {v : SY} (I : i_Rel k u v) (hk : k + 5 ≤ 2560) (v1 : Int32) : wpX_register (fun r => wpY_register (fun r' => r' = r ∧ i_Rel (k + 5) u v) v v1) u v1 := by
  refine bm_el (P := fun u v => wpX_register (fun r => wpY_register (fun r' => r' = r ∧ i_Rel (k + 5) u v) v v1) u v1) ?_ I
  intro n eP eO eC eN eF vO vD vA vB mO mT mL mR mN nC uR cY bU cD rG cE fT fV fL gR gC gW hF
  obtain ⟨hn, hS, hr, hc, hP⟩ := id hF
  show wpX_register _ _ _
  unfold wpX_register wpY_register
  refine bm_xir (fun a => br_t rfl (bm_yir (fun _ => br_t rfl ⟨rfl, bm_mk rfl rfl hF⟩) (fun z => absurd a z))) (fun a => br_f (by decide) ?_)
  obtain ⟨j, hj, rfl⟩ := bm_rg8 a
  refine ⟨vp_in_nI (by omega) (by omega), bm_yir (fun z => absurd z a) (fun _ => br_f (by decide) ⟨vp_in_nI hj (by omega), ?_, bm_mk rfl rfl hF⟩)⟩
  rw [nI_clamp (by omega), hr j hj]
theorem i_vc_setRegister {k : Nat} {u : SX} {v : SY} (I : i_Rel k u v) (hk : k + 5 ≤ 2560) (v1 : Int32) (v2 : Int32) : wpX_setRegister (fun r u' => wpY_setRegister (fun r' v' => r' = r ∧ i_Rel (k + 5) u' v') v v1 v2) u v1 v2 := by
  refine bm_el (P := fun u v => wpX_setRegister (fun r u' => wpY_setRegister (fun r' v' => r' = r ∧ i_Rel (k + 5) u' v') v v1 v2) u v1 v2) ?_ I
  intro n eP eO eC eN eF vO vD vA vB mO mT mL mR mN nC uR cY bU cD rG cE fT fV fL gR gC gW hF
  obtain ⟨hn, hS, hr, hc, hP⟩ := id hF
  show wpX_setRegister _ _ _ _
  unfold wpX_setRegister wpY_setRegister
  refine bm_xir (fun a => br_t rfl (bm_yir (fun _ => br_t rfl ⟨rfl, bm_mk rfl rfl hF⟩) (fun z => absurd a z))) (fun a => br_f (by decide) ?_)
  obtain ⟨j, hj, rfl⟩ := bm_rg8 a
  have cj : (nI j).toNatClampNeg = j := nI_clamp (by omega)
  refine ⟨vp_in_nI (by omega) (by omega), nm_r (e' := upd rG j v2) (by rw [cj]) (bm_yir (fun z => absurd z a) (fun _ => br_f (by decide) ⟨vp_in_nI hj (by omega), nm_r (e' := upd gR j v2) (by rw [cj]) ⟨rfl, bm_mk rfl rfl ⟨hn, hS, fun r h8 => ?_, hc, hP⟩⟩⟩))⟩
  by_cases e : r = j
  · rw [e, pk_us, pk_us]
  · rw [pk_un e, pk_un e, hr r h8]
theorem i_vc_memory {k : Nat} {u : SX} {v : SY} (I : i_Rel k u v) (hk : k + 5 ≤ 2560) (v1 : Int32) : wpX_memory (fun r => wpY_memory (fun r' => r' = r ∧ i_Rel (k + 5) u v) v v1) u v1 := by
  refine bm_el (P := fun u v => wpX_memory (fun r => wpY_memory (fun r' => r' = r ∧ i_Rel (k + 5) u v) v v1) u v1) ?_ I
  intro n eP eO eC eN eF vO vD vA vB mO mT mL mR mN nC uR cY bU cD rG cE fT fV fL gR gC gW hF
  obtain ⟨hn, hS, hr, hc, hP⟩ := id hF
  show wpX_memory _ _ _
  unfold wpX_memory wpY_memory
  refine br_c (fun a => br_t a ⟨rfl, bm_mk rfl rfl hF⟩) (fun a => br_c (fun b => ?_) (fun b => br_f a (br_t (Int32.not_le.mp b) ⟨rfl, bm_mk rfl rfl hF⟩)))
  have b' : ¬ (15 : Int32) < v1 := Int32.not_lt.mpr b
  obtain ⟨j, hj, rfl⟩ := bm_rg (x := v1) (m := 15) rfl (by omega) (fun z => z.elim a b')
  refine ⟨vp_in_nI (by omega) (by omega), br_f a (br_f b' ⟨vp_in_nI (by omega) (by omega), ?_, bm_mk rfl rfl hF⟩)⟩
  rw [nI_clamp (by omega), hc j (by omega)]
theorem i_vc_setMemory {k : Nat} {u : SX} {v : SY} (I : i_Rel k u v) (hk : k + 5 ≤ 2560) (v1 : Int32) (v2 : Int32) : wpX_setMemory (fun r u' => wpY_setMemory (fun r' v' => r' = r ∧ i_Rel (k + 5) u' v') v v1 v2) u v1 v2 := by
  refine bm_el (P := fun u v => wpX_setMemory (fun r u' => wpY_setMemory (fun r' v' => r' = r ∧ i_Rel (k + 5) u' v') v v1 v2) u v1 v2) ?_ I
  intro n eP eO eC eN eF vO vD vA vB mO mT mL mR mN nC uR cY bU cD rG cE fT fV fL gR gC gW hF
  obtain ⟨hn, hS, hr, hc, hP⟩ := id hF
  show wpX_setMemory _ _ _ _
  unfold wpX_setMemory wpY_setMemory
  refine br_c (fun a => br_t a ⟨rfl, bm_mk rfl rfl hF⟩) (fun a => br_c (fun b => ?_) (fun b => br_f a (br_f b ⟨rfl, bm_mk rfl rfl hF⟩)))
  obtain ⟨j, hj, rfl⟩ := bm_rg (x := v1) (m := 15) rfl (by omega) (fun z => z.elim a (Int32.not_lt.mpr b))
  have cj : (nI j).toNatClampNeg = j := nI_clamp (by omega)
  refine ⟨vp_in_nI (by omega) (by omega), nm_r (e' := upd cE j v2) (by rw [cj]) (br_f a (br_t b ⟨vp_in_nI (by omega) (by omega), nm_r (e' := upd gC j v2) (by rw [cj]) ⟨rfl, bm_mk rfl rfl ⟨hn, hS, hr, fun c h16 => ?_, hP⟩⟩⟩))⟩
  by_cases e : c = j
  · rw [e, pk_us, pk_us]
  · rw [pk_un e, pk_un e, hc c h16]
theorem i_vc_weight {k : Nat} {u : SX} {v : SY} (I : i_Rel k u v) (hk : k + 5 ≤ 2560) (v1 : Int32) : wpX_weight (fun r u' => wpY_weight (fun r' v' => r' = r ∧ i_Rel (k + 5) u' v') v v1) u v1 := by
  refine bm_el (P := fun u v => wpX_weight (fun r u' => wpY_weight (fun r' v' => r' = r ∧ i_Rel (k + 5) u' v') v v1) u v1) ?_ I
  intro n eP eO eC eN eF vO vD vA vB mO mT mL mR mN nC uR cY bU cD rG cE fT fV fL gR gC gW hF
  obtain ⟨hn, hS, hr, hc, hP⟩ := id hF
  show wpX_weight _ _ _
  unfold wpX_weight wpY_weight
  refine br_c (fun a => br_t a ⟨rfl, bm_mk rfl rfl hF⟩) (fun a => br_c (fun b => ?_) (fun b => br_f a (br_f b ⟨rfl, bm_mk rfl rfl hF⟩)))
  obtain ⟨j, hj, rfl⟩ := nI_of a
  have hjn : j < n := (nI_ltI hj (by omega)).mp b
  refine bm_xw hn hS (fun uR hu => And.intro (vp_in_nI (by omega) (by omega)) (br_f a (br_t b (bm_ywa hn hS (fun gW hw => And.intro (vp_in_nI (by omega) (by omega)) ⟨?_, bm_mk rfl rfl ⟨hn, hS, hr, hc, Or.inl rfl⟩⟩)))))
  rw [nI_clamp (by omega), hw j hjn, hu j hjn]
theorem i_vc_heaviest {k : Nat} {u : SX} {v : SY} (I : i_Rel k u v) (hk : k + 5 ≤ 2560) : wpX_heaviest (fun r u' => wpY_heaviest (fun r' v' => r' = r ∧ i_Rel (k + 5) u' v') v) u := by
  refine bm_el (P := fun u v => wpX_heaviest (fun r u' => wpY_heaviest (fun r' v' => r' = r ∧ i_Rel (k + 5) u' v') v) u) ?_ I
  intro n eP eO eC eN eF vO vD vA vB mO mT mL mR mN nC uR cY bU cD rG cE fT fV fL gR gC gW hF
  obtain ⟨hn, hS, hr, hc, hP⟩ := id hF
  exact bm_xhv hn hS (fun uR => bm_yhv hn hS (fun gW => ⟨rfl, bm_mk rfl rfl ⟨hn, hS, hr, hc, Or.inl rfl⟩⟩))
theorem i_vc_links {k : Nat} {u : SX} {v : SY} (I : i_Rel k u v) (hk : k + 5 ≤ 2560) : wpX_links (fun r => wpY_links (fun r' => r' = r ∧ i_Rel (k + 5) u v) v) u := by
  refine bm_el (P := fun u v => wpX_links (fun r => wpY_links (fun r' => r' = r ∧ i_Rel (k + 5) u v) v) u) ?_ I
  intro n eP eO eC eN eF vO vD vA vB mO mT mL mR mN nC uR cY bU cD rG cE fT fV fL gR gC gW hF
  obtain ⟨hn, hS, hr, hc, hP⟩ := id hF
  exact bm_xlk hn hS (bm_ylk hn hS ⟨rfl, bm_mk rfl rfl hF⟩)
end
