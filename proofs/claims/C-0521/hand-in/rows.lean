section
theorem pk_us {f : Nat → Int32} {k : Nat} {x : Int32} : upd f k x k = x := if_pos rfl
theorem pk_un {f : Nat → Int32} {k j : Nat} {x : Int32} (h : j ≠ k) : upd f k x j = f j := if_neg h
theorem pk_uLs {f : Nat → Int64} {k : Nat} {x : Int64} : vp_updL f k x k = x := if_pos rfl
theorem pk_uLn {f : Nat → Int64} {k j : Nat} {x : Int64} (h : j ≠ k) : vp_updL f k x j = f j := if_neg h
theorem pk_sub {a b : Nat} (h : b ≤ a) : nI a - nI b = nI (a - b) := by
  obtain ⟨c, rfl⟩ : ∃ c, a = c + b := ⟨a - b, by omega⟩
  rw [← nI_add, Int32.add_sub_cancel, Nat.add_sub_cancel]
theorem pk_m1 (n : Nat) : nI (n + 1) + (-1) = nI n := by
  rw [← nI_1, Int32.add_assoc, show (1 : Int32) + (-1) = 0 from rfl, Int32.add_zero]
theorem pk_mul (a b : Nat) : nI a * nI b = nI (a * b) := (Int32.ofNat_mul a b).symm
theorem pk_div {a d : Nat} (ha : a < 2 ^ 31) (h0 : 0 < d) (hd : d < 2 ^ 31) : nI a / nI d = nI (a / d) := by
  apply Int32.toInt_inj.mp
  rw [lg_idiv_nonneg (by rw [nI_toInt ha]; omega) (by rw [nI_toInt hd]; omega), nI_toInt ha, nI_toInt hd, nI_toInt (Nat.lt_of_le_of_lt (Nat.div_le_self a d) ha)]
  first | rfl | exact (Int.natCast_ediv _ _).symm
theorem pk_rem {a d : Nat} (ha : a < 2 ^ 31) (h0 : 0 < d) (hd : d < 2 ^ 31) : nI a - nI a / nI d * nI d = nI (a % d) := by
  rw [pk_div ha h0 hd, pk_mul, pk_sub (Nat.div_mul_le_self a d)]
  exact congrArg nI (by have := Nat.div_add_mod' a d; omega)
theorem pk_sub_toInt {a b : Nat} (ha : a < 2 ^ 30) (hb : b < 2 ^ 30) : (nI a - nI b).toInt = (a : Int) - b := by
  rw [Int32.toInt_sub, nI_toInt (by omega), nI_toInt (by omega)]
  exact Int.bmod_eq_of_le (by omega) (by omega)
theorem pk_sneg {a b : Nat} (hb : b < 2 ^ 30) (h : a < b) : nI a - nI b < 0 := by
  rw [Int32.lt_iff_toInt_lt, pk_sub_toInt (by omega) hb, show (0 : Int32).toInt = 0 from by decide]
  omega
theorem pk_le {x y : Int32} {A B : Prop} (a b : Nat) (f : a ≤ b → A) (g : b < a → B) (hx : x = nI a := by rfl) (hy : y = nI b := by rfl) (ha : a < 2 ^ 31 := by omega) (hb : b < 2 ^ 31 := by omega) : (x ≤ y → A) ∧ (¬ x ≤ y → B) := by
  subst hx hy
  rw [nI_leI ha hb]
  exact ⟨f, fun z => g (by omega)⟩
theorem pk_lt {x y : Int32} {A B : Prop} (a b : Nat) (f : a < b → A) (g : b ≤ a → B) (hx : x = nI a := by rfl) (hy : y = nI b := by rfl) (ha : a < 2 ^ 31 := by omega) (hb : b < 2 ^ 31 := by omega) : (x < y → A) ∧ (¬ x < y → B) := by
  subst hx hy
  rw [nI_ltI ha hb]
  exact ⟨f, fun z => g (by omega)⟩
theorem pk_eq {x y : Int32} {A B : Prop} (a b : Nat) (f : a = b → A) (g : a ≠ b → B) (hx : x = nI a := by rfl) (hy : y = nI b := by rfl) (ha : a < 2 ^ 31 := by omega) (hb : b < 2 ^ 31 := by omega) : (x = y → A) ∧ (¬ x = y → B) := by
  subst hx hy
  rw [nI_eq ha hb]
  exact ⟨f, g⟩
theorem pk_in {x : Int32} (n N : Nat) (h : n < N) (hx : x = nI n := by rfl) (hN : N < 2 ^ 31 := by omega) : vp_in x N := by
  subst hx
  exact vp_in_nI h hN
theorem pk_cl {x : Int32} (n : Nat) (hx : x = nI n := by rfl) (h : n < 2 ^ 31 := by omega) : x.toNatClampNeg = n := by
  subst hx
  exact nI_clamp h
theorem pk_tn {n : Nat} (h : n < 2 ^ 32) : (nI n).toBitVec.toNat = n := Nat.mod_eq_of_lt h
theorem pk_and (x : Int32) {m : Int32} (k : Nat) (hm : m.toBitVec.toNat = 2 ^ k - 1) : x &&& m = nI (x.toBitVec.toNat % 2 ^ k) := by
  apply Int32.toBitVec_inj.mp
  apply BitVec.eq_of_toNat_eq
  rw [Int32.toBitVec_and, BitVec.toNat_and, hm, Nat.and_two_pow_sub_one_eq_mod]
  show _ = (BitVec.ofNat 32 _).toNat
  rw [BitVec.toNat_ofNat]
  exact (Nat.mod_eq_of_lt (Nat.lt_of_le_of_lt (Nat.mod_le _ _) x.toBitVec.isLt)).symm
theorem pk_andN {n : Nat} (h : n < 2 ^ 32) {m : Int32} (k : Nat) (hm : m.toBitVec.toNat = 2 ^ k - 1) : nI n &&& m = nI (n % 2 ^ k) := by
  rw [pk_and _ k hm, pk_tn h]
theorem pk_andE (x : Int32) {m : Int32} (k : Nat) (hm : m.toBitVec.toNat = 2 ^ k - 1) : ∃ j : Nat, j < 2 ^ k ∧ x &&& m = nI j := ⟨_, Nat.mod_lt _ (Nat.two_pow_pos k), pk_and x k hm⟩
theorem pk_andIn (x : Int32) {m : Int32} (k : Nat) (hm : m.toBitVec.toNat = 2 ^ k - 1) (hk : k ≤ 30) : vp_in (x &&& m) (2 ^ k) := by
  obtain ⟨j, hj, e⟩ := pk_andE x k hm
  rw [e]
  exact vp_in_nI hj (Nat.lt_of_le_of_lt (Nat.pow_le_pow_right (by decide) hk) (by decide))
theorem pk_ushr (x s : Int32) (k : Nat) (hs : ((s.toUInt32 &&& Int32.toUInt32 31).toBitVec % 32).toNat = k) : (x.toUInt32 >>> (s.toUInt32 &&& Int32.toUInt32 31)).toInt32.toBitVec.toNat = x.toBitVec.toNat / 2 ^ k := by
  have e : (x.toUInt32 >>> (s.toUInt32 &&& Int32.toUInt32 31)).toInt32.toBitVec = x.toBitVec >>> k := by
    rw [← hs]
    exact UInt32.toBitVec_shiftRight _ _
  rw [e, BitVec.toNat_ushiftRight, Nat.shiftRight_eq_div_pow]
theorem pk_ushrN {n : Nat} (hn : n < 2 ^ 32) (s : Int32) (k : Nat) (hs : ((s.toUInt32 &&& Int32.toUInt32 31).toBitVec % 32).toNat = k) : ((nI n).toUInt32 >>> (s.toUInt32 &&& Int32.toUInt32 31)).toInt32 = nI (n / 2 ^ k) := by
  apply Int32.toBitVec_inj.mp
  apply BitVec.eq_of_toNat_eq
  rw [pk_ushr _ s k hs, pk_tn hn, pk_tn (Nat.lt_of_le_of_lt (Nat.div_le_self _ _) hn)]
theorem pk_lT {n : Nat} (h : n < 2 ^ 63) : (lN n).toInt = (n : Int) := lg_ofNat_toInt h
theorem pk_lEQ {a b : Nat} (ha : a < 2 ^ 63) (hb : b < 2 ^ 63) : lN a = lN b ↔ a = b := by
  rw [← Int64.toInt_inj, pk_lT ha, pk_lT hb]; omega
theorem pk_loop {σ : Type} (W : Nat → Nat → σ → Prop) (I : Nat → σ → Prop) (e i0 : Nat) (s : σ) (hi : i0 ≤ e) (h0 : I i0 s) (hx : ∀ n s, I e s → W (n + 1) e s)
    (hs : ∀ n i s, i < e → I i s → (∀ s', I (i + 1) s' → W n (i + 1) s') → W (n + 1) i s) : ∃ n, W n i0 s :=
  ⟨e + 1, loop_i W I e hx hs (e + 1) i0 s hi (by omega) h0⟩
theorem pk_loopD {σ : Type} (W : Nat → Nat → σ → Prop) (I : Nat → σ → Prop) (hx : ∀ n s, I 0 s → W (n + 1) 0 s)
    (hs : ∀ n i s, I (i + 1) s → (∀ s', I i s' → W n i s') → W (n + 1) (i + 1) s) : ∀ (e : Nat) (s : σ), I e s → W (e + 1) e s := by
  intro e
  induction e with
  | zero => exact fun s h => hx 0 s h
  | succ e ih => exact fun s h => hs (e + 1) e s h (fun s' h' => ih s' h')
theorem s_u : ∀ n, n < 32 → (((nI n).toUInt32 &&& Int32.toUInt32 31).toBitVec % 32).toNat = n := by decide +kernel
theorem nx_and (a b : Nat) : nI a &&& nI b = nI (a &&& b) := by
  apply Int32.toBitVec_inj.1
  show BitVec.ofNat 32 a &&& BitVec.ofNat 32 b = BitVec.ofNat 32 (a &&& b)
  apply BitVec.eq_of_getLsbD_eq
  intro i hi
  simp [hi]
theorem nx_xor (a b : Nat) : nI a ^^^ nI b = nI (a ^^^ b) := by
  apply Int32.toBitVec_inj.1
  show BitVec.ofNat 32 a ^^^ BitVec.ofNat 32 b = BitVec.ofNat 32 (a ^^^ b)
  apply BitVec.eq_of_getLsbD_eq
  intro i hi
  simp [hi]
theorem ts_nf {x : Bool} (h : ¬ x = false) : x = true := by cases x <;> first | rfl | exact absurd rfl h
theorem ts_nt {x : Bool} (h : ¬ x = true) : x = false := by cases x <;> first | rfl | exact absurd rfl h
theorem ts_bit {w : Int64} {s : UInt64} {j : Nat} (hj : j < 64) (hs : s.toNat = j) : ((w.toUInt64 >>> s).toInt64 &&& 1) = 0 ↔ w.toBitVec.getLsbD j = false := by
  have e : (w.toUInt64 >>> s).toInt64.toBitVec = w.toBitVec >>> j := by
    apply BitVec.eq_of_toNat_eq
    show (w.toUInt64 >>> s).toNat = _
    rw [UInt64.toNat_shiftRight, hs, Nat.mod_eq_of_lt hj, BitVec.toNat_ushiftRight]
    rfl
  rw [← Int64.toBitVec_inj, Int64.toBitVec_and, e]
  show w.toBitVec >>> j &&& 1#64 = 0#64 ↔ _
  constructor
  · intro h
    have t := congrArg (fun x => x.getLsbD 0) h
    simpa using t
  · intro h
    apply BitVec.eq_of_getLsbD_eq
    intro i hi
    cases i with
    | zero => simp [h]
    | succ i => simp
theorem wb_tb (n : Nat) : (lN n).toBitVec = BitVec.ofNat 64 n := rfl
theorem wb_inj {a b : Int64} (h : a.toBitVec = b.toBitVec) : a = b := Int64.toBitVec_inj.mp h
theorem wb_tn {n : Nat} (h : n < 2 ^ 64) : (lN n).toBitVec.toNat = n := by rw [wb_tb, BitVec.toNat_ofNat, Nat.mod_eq_of_lt h]
theorem wb_of (x : Int64) : ∃ n, n < 2 ^ 64 ∧ x = lN n := ⟨x.toBitVec.toNat, x.toBitVec.isLt, wb_inj (by rw [wb_tb]; simp)⟩
theorem wb_of32 (x : Int32) : ∃ n, n < 2 ^ 32 ∧ x = nI n := ⟨x.toBitVec.toNat, x.toBitVec.isLt, Int32.toBitVec_inj.mp (by show _ = BitVec.ofNat 32 _; simp)⟩
theorem wb_c : ∀ k, k < 64 → ((nI k).toInt64 &&& 63) = lN k := by decide +kernel
theorem wb_cu : ∀ k, k < 64 → ((nI k).toInt64.toUInt64 &&& Int64.toUInt64 63) = UInt64.ofNat k := by decide +kernel
theorem wb_sm : ∀ k, k < 64 → (BitVec.ofNat 64 k).smod 64 = BitVec.ofNat 64 k := by decide +kernel
theorem wb_pw {a b : Nat} (h : a ≤ b) : 2 ^ b = 2 ^ a * 2 ^ (b - a) := by rw [← Nat.pow_add]; congr 1; omega
theorem wb_lt2 {a b : Nat} (h : a < b) : 2 ^ a < 2 ^ b := Nat.pow_lt_pow_right (by decide) h
theorem wb_mod (n : Nat) : lN n = lN (n % 2 ^ 64) := wb_inj (by rw [wb_tb, wb_tb]; apply BitVec.eq_of_toNat_eq; rw [BitVec.toNat_ofNat, BitVec.toNat_ofNat, Nat.mod_mod])
theorem wb_shr {n k : Nat} (hn : n < 2 ^ 64) (hk : k < 64) : ((lN n).toUInt64 >>> ((nI k).toInt64.toUInt64 &&& Int64.toUInt64 63)).toInt64 = lN (n / 2 ^ k) := by
  rw [wb_cu k hk]
  apply wb_inj
  apply BitVec.eq_of_toNat_eq
  show ((lN n).toUInt64 >>> UInt64.ofNat k).toNat = (BitVec.ofNat 64 _).toNat
  have h1 : (UInt64.ofNat k).toNat = k := by
    show (BitVec.ofNat 64 k).toNat = k
    rw [BitVec.toNat_ofNat, Nat.mod_eq_of_lt (by omega)]
  have h2 : (lN n).toUInt64.toNat = n := wb_tn hn
  rw [UInt64.toNat_shiftRight, h1, h2, Nat.mod_eq_of_lt hk, Nat.shiftRight_eq_div_pow, BitVec.toNat_ofNat, Nat.mod_eq_of_lt (Nat.lt_of_le_of_lt (Nat.div_le_self _ _) hn)]
theorem wb_shl (n : Nat) {k : Nat} (hk : k < 64) : lN n <<< ((nI k).toInt64 &&& 63) = lN (n * 2 ^ k) := by
  rw [wb_c k hk]
  apply wb_inj
  rw [Int64.toBitVec_shiftLeft, wb_tb, wb_tb, wb_tb, wb_sm k hk]
  apply BitVec.eq_of_toNat_eq
  rw [BitVec.shiftLeft_eq', BitVec.toNat_shiftLeft, BitVec.toNat_ofNat, BitVec.toNat_ofNat, BitVec.toNat_ofNat, Nat.mod_eq_of_lt (show k < 2 ^ 64 by omega), Nat.shiftLeft_eq, Nat.mul_mod, Nat.mod_mod, ← Nat.mul_mod]
theorem wb_and {a b : Nat} (ha : a < 2 ^ 64) (hb : b < 2 ^ 64) : lN a &&& lN b = lN (a &&& b) := by
  apply wb_inj
  rw [Int64.toBitVec_and, wb_tb, wb_tb, wb_tb]
  apply BitVec.eq_of_toNat_eq
  rw [BitVec.toNat_and, BitVec.toNat_ofNat, BitVec.toNat_ofNat, BitVec.toNat_ofNat, Nat.mod_eq_of_lt ha, Nat.mod_eq_of_lt hb, Nat.mod_eq_of_lt (Nat.and_lt_two_pow _ hb)]
theorem wb_or {a b : Nat} (ha : a < 2 ^ 64) (hb : b < 2 ^ 64) : lN a ||| lN b = lN (a ||| b) := by
  apply wb_inj
  rw [Int64.toBitVec_or, wb_tb, wb_tb, wb_tb]
  apply BitVec.eq_of_toNat_eq
  rw [BitVec.toNat_or, BitVec.toNat_ofNat, BitVec.toNat_ofNat, BitVec.toNat_ofNat, Nat.mod_eq_of_lt ha, Nat.mod_eq_of_lt hb, Nat.mod_eq_of_lt (Nat.or_lt_two_pow ha hb)]
theorem wb_mask {n k : Nat} (hn : n < 2 ^ 64) (hk : k < 64) : lN n &&& lN (2 ^ k - 1) = lN (n % 2 ^ k) := by
  rw [wb_and hn (by have := wb_lt2 hk; omega), Nat.and_two_pow_sub_one_eq_mod]
theorem wb_a1 {n : Nat} (hn : n < 2 ^ 64) : lN n &&& 1 = lN (n % 2) := wb_mask (k := 1) hn (by decide)
theorem wb_bit {n k : Nat} (hn : n < 2 ^ 64) (hk : k < 64) : ((lN n).toUInt64 >>> ((nI k).toInt64.toUInt64 &&& Int64.toUInt64 63)).toInt64 &&& 1 = lN (n / 2 ^ k % 2) := by
  rw [wb_shr hn hk, wb_a1 (Nat.lt_of_le_of_lt (Nat.div_le_self _ _) hn)]
theorem u_tn {n : Nat} (h : n < 2 ^ 64) : (UInt64.ofNat n).toNat = n := Nat.mod_eq_of_lt h
theorem g_or {k p a b : Nat} (hp : 2 ^ k = p) (ha : a < p) (h : b * p + a < 2 ^ 64) : lN (b * p) ||| lN a = lN (b * p + a) := by
  subst hp
  have h1 : b * 2 ^ k ||| a = b * 2 ^ k + a := by rw [← Nat.shiftLeft_eq, Nat.shiftLeft_add_eq_or_of_lt ha]
  have h3 : UInt64.ofNat (b * 2 ^ k) ||| UInt64.ofNat a = UInt64.ofNat (b * 2 ^ k + a) := UInt64.toNat_inj.mp (by rw [UInt64.toNat_or, u_tn (by omega), u_tn (by omega), u_tn h, h1])
  have h2 := congrArg UInt64.toInt64 h3
  exact h2
end
section
/-! ===== bits of a word ===== -/
def lm_b (x : Int64) (s : Nat) : Bool := x.toBitVec.getLsbD s
theorem lm_b_and (x y : Int64) (s : Nat) : lm_b (x &&& y) s = (lm_b x s && lm_b y s) := by unfold lm_b; rw [Int64.toBitVec_and, BitVec.getLsbD_and]
theorem lm_b_or (x y : Int64) (s : Nat) : lm_b (x ||| y) s = (lm_b x s || lm_b y s) := by unfold lm_b; rw [Int64.toBitVec_or, BitVec.getLsbD_or]
theorem lm_b_xor (x y : Int64) (s : Nat) : lm_b (x ^^^ y) s = (lm_b x s ^^ lm_b y s) := by unfold lm_b; rw [Int64.toBitVec_xor, BitVec.getLsbD_xor]
theorem lm_b_m1 : ∀ s, s < 64 → lm_b (-1) s = true := by decide +kernel
theorem lm_b_0 (s : Nat) : lm_b 0 s = false := BitVec.getLsbD_zero
theorem lm_b_not (x : Int64) {s : Nat} (h : s < 64) : lm_b (x ^^^ (-1)) s = !lm_b x s := by rw [lm_b_xor, lm_b_m1 s h, Bool.xor_true]
theorem lm_b_lN {n s : Nat} (h : s < 64) : lm_b (lN n) s = n.testBit s := by
  unfold lm_b; rw [wb_tb, BitVec.getLsbD_ofNat]; simp [h]
theorem lm_bit0 (x : Int64) {s : Nat} (h : s < 64) : (((x.toUInt64 >>> ((nI s).toInt64.toUInt64 &&& Int64.toUInt64 63)).toInt64) &&& 1) = 0 ↔ lm_b x s = false := by
  rw [wb_cu s h]; exact ts_bit h (u_tn (by omega))
theorem lm_bitN (x : Int64) {s : Nat} (h : s < 64) : (((x.toUInt64 >>> ((nI s).toInt64.toUInt64 &&& Int64.toUInt64 63)).toInt64) &&& 1).toInt32 = nI (lm_b x s).toNat := by
  obtain ⟨n, hn, rfl⟩ := wb_of x
  rw [wb_bit hn h, lN_i, lm_b_lN h, Nat.testBit_eq_decide_div_mod_eq]
  rcases Nat.mod_two_eq_zero_or_one (n / 2 ^ s) with e | e <;> rw [e] <;> rfl
theorem lm_ibit (b : Int32) {k : Nat} (hk : k < 32) : ((b.toUInt32 >>> ((nI k).toUInt32 &&& Int32.toUInt32 31)).toInt32 &&& 1) = nI (b.toBitVec.getLsbD k).toNat := by
  rw [pk_and _ 1 (by decide), pk_ushr b (nI k) k (s_u k hk)]
  show nI (b.toBitVec.toNat / 2 ^ k % 2 ^ 1) = nI (b.toBitVec.toNat.testBit k).toNat
  rw [Nat.testBit_eq_decide_div_mod_eq, Nat.pow_one]
  rcases Nat.mod_two_eq_zero_or_one (b.toBitVec.toNat / 2 ^ k) with e | e <;> rw [e] <;> rfl
theorem lm_ibit0 (b : Int32) {k : Nat} (hk : k < 32) : ((b.toUInt32 >>> ((nI k).toUInt32 &&& Int32.toUInt32 31)).toInt32 &&& 1) = 0 ↔ b.toBitVec.getLsbD k = false := by
  rw [lm_ibit b hk]
  cases b.toBitVec.getLsbD k <;> decide
/-! ===== sums and products of bytes by their bits ===== -/
theorem lm_mj : ∀ p q r : Bool, ((p && q) || ((p ^^ q) && r)) = Bool.atLeastTwo p q r := by decide
theorem lm_mb : ∀ p q c : Bool, ((!p && q) || (!(p ^^ q) && !c)) = !Bool.atLeastTwo p (!q) c := by decide
theorem lm_mx : ∀ p q c : Bool, ((p ^^ q) ^^ !c) = (p ^^ (!q ^^ c)) := by decide
theorem lm_addB (x y : BitVec 8) {k : Nat} (hk : k < 8) : ((x.getLsbD k ^^ y.getLsbD k) ^^ BitVec.carry k x y false) = (x + y).getLsbD k := by
  rw [BitVec.getLsbD_add hk, Bool.xor_assoc]
theorem lm_addC (x y : BitVec 8) (k : Nat) : ((x.getLsbD k && y.getLsbD k) || ((x.getLsbD k ^^ y.getLsbD k) && BitVec.carry k x y false)) = BitVec.carry (k + 1) x y false := by
  rw [BitVec.carry_succ, lm_mj]
theorem lm_subB (x y : BitVec 8) {k : Nat} (hk : k < 8) : ((x.getLsbD k ^^ y.getLsbD k) ^^ !BitVec.carry k x (~~~y) true) = (x - y).getLsbD k := by
  have e : x - y = x + ~~~y + BitVec.setWidth 8 (BitVec.ofBool true) := by
    rw [BitVec.sub_eq_add_neg, BitVec.neg_eq_not_add, ← BitVec.add_assoc]; rfl
  rw [e, BitVec.getLsbD_add_add_bool hk, BitVec.getLsbD_not, decide_eq_true hk, Bool.true_and, lm_mx]
theorem lm_subC (x y : BitVec 8) {k : Nat} (hk : k < 8) : ((!x.getLsbD k && y.getLsbD k) || (!(x.getLsbD k ^^ y.getLsbD k) && !BitVec.carry k x (~~~y) true)) = !BitVec.carry (k + 1) x (~~~y) true := by
  rw [BitVec.carry_succ, BitVec.getLsbD_not, decide_eq_true hk, Bool.true_and, lm_mb]
theorem lm_carry0 (x y : BitVec 8) : ∀ k, (∀ i, i < k → y.getLsbD i = false) → BitVec.carry k x y false = false := by
  intro k
  induction k with
  | zero => intro _; exact BitVec.carry_zero
  | succ k ih =>
    intro h
    rw [BitVec.carry_succ, h k (by omega), ih (fun i hi => h i (by omega))]
    cases x.getLsbD k <;> rfl
def lm_mu (x y : BitVec 8) : Nat → BitVec 8
  | 0 => 0#8
  | j + 1 => lm_mu x y j + (if y.getLsbD j then x <<< j else 0#8)
theorem lm_mu_rec (x y : BitVec 8) : ∀ j, lm_mu x y (j + 1) = BitVec.mulRec x y j := by
  intro j
  induction j with
  | zero =>
    show 0#8 + _ = _
    rw [BitVec.zero_add]; rfl
  | succ j ih =>
    show lm_mu x y (j + 1) + _ = _
    rw [ih]; rfl
theorem lm_mu_8 (x y : BitVec 8) : lm_mu x y 8 = x * y := by
  rw [lm_mu_rec x y 7, BitVec.mulRec_eq_mul_signExtend_setWidth]; simp
theorem lm_z8 {x : BitVec 8} (h : ∀ k, k < 8 → x.getLsbD k = false) : x = 0#8 :=
  BitVec.eq_of_getLsbD_eq (fun i hi => by rw [h i hi, BitVec.getLsbD_zero])
/-! ===== the model: one secret ===== -/
def lm_ub {α : Type} (f : Nat → α) (k : Nat) (x : α) : Nat → α := fun j => if j = k then x else f j
theorem lm_us {α : Type} {f : Nat → α} {k : Nat} {x : α} : lm_ub f k x k = x := if_pos rfl
theorem lm_un {α : Type} {f : Nat → α} {k j : Nat} {x : α} (h : j ≠ k) : lm_ub f k x j = f j := if_neg h
def lm_ix (a : Int32) : Nat := a.toBitVec.toNat % 4
def lm_sx (a : Int32) : Nat := a.toBitVec.toNat % 64
theorem lm_ix_lt (a : Int32) : lm_ix a < 4 := Nat.mod_lt _ (by decide)
theorem lm_sx_lt (a : Int32) : lm_sx a < 64 := Nat.mod_lt _ (by decide)
theorem lm_ix_eq (a : Int32) : a &&& 3 = nI (lm_ix a) := pk_and a 2 (by decide)
theorem lm_sx_eq (a : Int32) : a &&& 63 = nI (lm_sx a) := pk_and a 6 (by decide)
def lm_val (c : Int32) (x y : BitVec 8) (b : Int32) : BitVec 8 :=
  if c = 0 then BitVec.setWidth 8 b.toBitVec
  else if c = 1 then y
  else if c = 2 then x + y
  else if c = 3 then x - y
  else if c = 4 then x * y
  else if c = 5 then x &&& y
  else if c = 6 then x ||| y
  else if c = 7 then x ^^^ y
  else if c = 8 then x <<< (b.toBitVec.toNat % 8)
  else if c = 9 then x >>> (b.toBitVec.toNat % 8)
  else if c = 10 then (if x.ult y then 1#8 else 0#8)
  else (if x = y then 1#8 else 0#8)
theorem lm_val_0 (x y : BitVec 8) (b : Int32) : lm_val 0 x y b = BitVec.setWidth 8 b.toBitVec := by
  unfold lm_val; rw [if_pos rfl]
theorem lm_val_1 (x y : BitVec 8) (b : Int32) : lm_val 1 x y b = y := by
  unfold lm_val; rw [if_neg (show ¬ (1 : Int32) = 0 by decide), if_pos rfl]
theorem lm_val_2 (x y : BitVec 8) (b : Int32) : lm_val 2 x y b = x + y := by
  unfold lm_val; rw [if_neg (show ¬ (2 : Int32) = 0 by decide), if_neg (show ¬ (2 : Int32) = 1 by decide), if_pos rfl]
theorem lm_val_3 (x y : BitVec 8) (b : Int32) : lm_val 3 x y b = x - y := by
  unfold lm_val; rw [if_neg (show ¬ (3 : Int32) = 0 by decide), if_neg (show ¬ (3 : Int32) = 1 by decide), if_neg (show ¬ (3 : Int32) = 2 by decide), if_pos rfl]
theorem lm_val_4 (x y : BitVec 8) (b : Int32) : lm_val 4 x y b = x * y := by
  unfold lm_val; rw [if_neg (show ¬ (4 : Int32) = 0 by decide), if_neg (show ¬ (4 : Int32) = 1 by decide), if_neg (show ¬ (4 : Int32) = 2 by decide), if_neg (show ¬ (4 : Int32) = 3 by decide), if_pos rfl]
theorem lm_val_5 (x y : BitVec 8) (b : Int32) : lm_val 5 x y b = x &&& y := by
  unfold lm_val; rw [if_neg (show ¬ (5 : Int32) = 0 by decide), if_neg (show ¬ (5 : Int32) = 1 by decide), if_neg (show ¬ (5 : Int32) = 2 by decide), if_neg (show ¬ (5 : Int32) = 3 by decide), if_neg (show ¬ (5 : Int32) = 4 by decide), if_pos rfl]
theorem lm_val_6 (x y : BitVec 8) (b : Int32) : lm_val 6 x y b = x ||| y := by
  unfold lm_val; rw [if_neg (show ¬ (6 : Int32) = 0 by decide), if_neg (show ¬ (6 : Int32) = 1 by decide), if_neg (show ¬ (6 : Int32) = 2 by decide), if_neg (show ¬ (6 : Int32) = 3 by decide), if_neg (show ¬ (6 : Int32) = 4 by decide), if_neg (show ¬ (6 : Int32) = 5 by decide), if_pos rfl]
theorem lm_val_7 (x y : BitVec 8) (b : Int32) : lm_val 7 x y b = x ^^^ y := by
  unfold lm_val; rw [if_neg (show ¬ (7 : Int32) = 0 by decide), if_neg (show ¬ (7 : Int32) = 1 by decide), if_neg (show ¬ (7 : Int32) = 2 by decide), if_neg (show ¬ (7 : Int32) = 3 by decide), if_neg (show ¬ (7 : Int32) = 4 by decide), if_neg (show ¬ (7 : Int32) = 5 by decide), if_neg (show ¬ (7 : Int32) = 6 by decide), if_pos rfl]
theorem lm_val_8 (x y : BitVec 8) (b : Int32) : lm_val 8 x y b = x <<< (b.toBitVec.toNat % 8) := by
  unfold lm_val; rw [if_neg (show ¬ (8 : Int32) = 0 by decide), if_neg (show ¬ (8 : Int32) = 1 by decide), if_neg (show ¬ (8 : Int32) = 2 by decide), if_neg (show ¬ (8 : Int32) = 3 by decide), if_neg (show ¬ (8 : Int32) = 4 by decide), if_neg (show ¬ (8 : Int32) = 5 by decide), if_neg (show ¬ (8 : Int32) = 6 by decide), if_neg (show ¬ (8 : Int32) = 7 by decide), if_pos rfl]
theorem lm_val_9 (x y : BitVec 8) (b : Int32) : lm_val 9 x y b = x >>> (b.toBitVec.toNat % 8) := by
  unfold lm_val; rw [if_neg (show ¬ (9 : Int32) = 0 by decide), if_neg (show ¬ (9 : Int32) = 1 by decide), if_neg (show ¬ (9 : Int32) = 2 by decide), if_neg (show ¬ (9 : Int32) = 3 by decide), if_neg (show ¬ (9 : Int32) = 4 by decide), if_neg (show ¬ (9 : Int32) = 5 by decide), if_neg (show ¬ (9 : Int32) = 6 by decide), if_neg (show ¬ (9 : Int32) = 7 by decide), if_neg (show ¬ (9 : Int32) = 8 by decide), if_pos rfl]
theorem lm_val_10 (x y : BitVec 8) (b : Int32) : lm_val 10 x y b = (if x.ult y then 1#8 else 0#8) := by
  unfold lm_val; rw [if_neg (show ¬ (10 : Int32) = 0 by decide), if_neg (show ¬ (10 : Int32) = 1 by decide), if_neg (show ¬ (10 : Int32) = 2 by decide), if_neg (show ¬ (10 : Int32) = 3 by decide), if_neg (show ¬ (10 : Int32) = 4 by decide), if_neg (show ¬ (10 : Int32) = 5 by decide), if_neg (show ¬ (10 : Int32) = 6 by decide), if_neg (show ¬ (10 : Int32) = 7 by decide), if_neg (show ¬ (10 : Int32) = 8 by decide), if_neg (show ¬ (10 : Int32) = 9 by decide), if_pos rfl]
theorem lm_val_11 (x y : BitVec 8) (b : Int32) : lm_val 11 x y b = (if x = y then 1#8 else 0#8) := by
  unfold lm_val; rw [if_neg (show ¬ (11 : Int32) = 0 by decide), if_neg (show ¬ (11 : Int32) = 1 by decide), if_neg (show ¬ (11 : Int32) = 2 by decide), if_neg (show ¬ (11 : Int32) = 3 by decide), if_neg (show ¬ (11 : Int32) = 4 by decide), if_neg (show ¬ (11 : Int32) = 5 by decide), if_neg (show ¬ (11 : Int32) = 6 by decide), if_neg (show ¬ (11 : Int32) = 7 by decide), if_neg (show ¬ (11 : Int32) = 8 by decide), if_neg (show ¬ (11 : Int32) = 9 by decide), if_neg (show ¬ (11 : Int32) = 10 by decide)]
theorem lm_codes {c : Int32} (h0 : ¬ c < 0) (h15 : ¬ 15 < c) : (c = 0 ∨ c = 1 ∨ c = 2 ∨ c = 3 ∨ c = 4 ∨ c = 5 ∨ c = 6 ∨ c = 7 ∨ c = 8 ∨ c = 9 ∨ c = 10 ∨ c = 11) ∨ c = 12 ∨ c = 13 ∨ c = 14 ∨ c = 15 := by
  obtain ⟨j, hj, rfl⟩ := nI_of2 (x := c) (M := 15) (n := 15) (by decide) h0 (Int32.not_lt.mp h15)
  have hk : j = 0 ∨ j = 1 ∨ j = 2 ∨ j = 3 ∨ j = 4 ∨ j = 5 ∨ j = 6 ∨ j = 7 ∨ j = 8 ∨ j = 9 ∨ j = 10 ∨ j = 11 ∨ j = 12 ∨ j = 13 ∨ j = 14 ∨ j = 15 := by omega
  rcases hk with rfl | rfl | rfl | rfl | rfl | rfl | rfl | rfl | rfl | rfl | rfl | rfl | rfl | rfl | rfl | rfl <;> decide
/-- a secret's state: on the way, those before, those for the ELSE, the variables, the view -/
abbrev lm_S : Type := Bool × (Nat → Bool) × (Nat → Bool) × (Nat → BitVec 8) × Nat × Nat
abbrev lm_A (q : lm_S) : Bool := q.1
abbrev lm_R (q : lm_S) : Nat → Bool := q.2.1
abbrev lm_O (q : lm_S) : Nat → Bool := q.2.2.1
abbrev lm_V (q : lm_S) : Nat → BitVec 8 := q.2.2.2.1
abbrev lm_W (q : lm_S) : Nat × Nat := q.2.2.2.2
def lm_out (a : Bool) (x : Nat) (w : Nat × Nat) : Nat × Nat := if a = true ∧ w.1 < 7 then (w.1 + 1, w.2 * 256 + x) else w
def lm_put (a : Bool) (v : Nat → BitVec 8) (i : Nat) (x : BitVec 8) : Nat → BitVec 8 := if a = true then lm_ub v i x else v
def lm_step (c a b : Int32) (d : Nat) (q : lm_S) : lm_S :=
  if c = 13 then (q.1 && !decide (q.2.2.2.1 (lm_ix a) = 0#8), lm_ub q.2.1 d q.1, lm_ub q.2.2.1 d (q.1 && decide (q.2.2.2.1 (lm_ix a) = 0#8)), q.2.2.2.1, q.2.2.2.2)
  else if c = 14 then (q.2.2.1 (d - 1), q.2.1, q.2.2.1, q.2.2.2.1, q.2.2.2.2)
  else if c = 15 then (q.2.1 (d - 1), q.2.1, q.2.2.1, q.2.2.2.1, q.2.2.2.2)
  else if c = 12 then (q.1, q.2.1, q.2.2.1, q.2.2.2.1, lm_out q.1 (q.2.2.2.1 (lm_ix a)).toNat q.2.2.2.2)
  else (q.1, q.2.1, q.2.2.1, lm_put q.1 q.2.2.2.1 (lm_ix a) (lm_val c (q.2.2.2.1 (lm_ix a)) (q.2.2.2.1 (lm_ix b)) b), q.2.2.2.2)
theorem lm_step13 (a b : Int32) (d : Nat) (q : lm_S) : lm_step 13 a b d q = (q.1 && !decide (q.2.2.2.1 (lm_ix a) = 0#8), lm_ub q.2.1 d q.1, lm_ub q.2.2.1 d (q.1 && decide (q.2.2.2.1 (lm_ix a) = 0#8)), q.2.2.2.1, q.2.2.2.2) := by
  unfold lm_step; rw [if_pos rfl]
theorem lm_step14 (a b : Int32) (d : Nat) (q : lm_S) : lm_step 14 a b d q = (q.2.2.1 (d - 1), q.2.1, q.2.2.1, q.2.2.2.1, q.2.2.2.2) := by
  unfold lm_step; rw [if_neg (show ¬ (14 : Int32) = 13 by decide), if_pos rfl]
theorem lm_step15 (a b : Int32) (d : Nat) (q : lm_S) : lm_step 15 a b d q = (q.2.1 (d - 1), q.2.1, q.2.2.1, q.2.2.2.1, q.2.2.2.2) := by
  unfold lm_step; rw [if_neg (show ¬ (15 : Int32) = 13 by decide), if_neg (show ¬ (15 : Int32) = 14 by decide), if_pos rfl]
theorem lm_step12 (a b : Int32) (d : Nat) (q : lm_S) : lm_step 12 a b d q = (q.1, q.2.1, q.2.2.1, q.2.2.2.1, lm_out q.1 (q.2.2.2.1 (lm_ix a)).toNat q.2.2.2.2) := by
  unfold lm_step; rw [if_neg (show ¬ (12 : Int32) = 13 by decide), if_neg (show ¬ (12 : Int32) = 14 by decide), if_neg (show ¬ (12 : Int32) = 15 by decide), if_pos rfl]
theorem lm_stepv {c : Int32} (h2 : c ≠ 12) (h3 : c ≠ 13) (h4 : c ≠ 14) (h5 : c ≠ 15) (a b : Int32) (d : Nat) (q : lm_S) : lm_step c a b d q = (q.1, q.2.1, q.2.2.1, lm_put q.1 q.2.2.2.1 (lm_ix a) (lm_val c (q.2.2.2.1 (lm_ix a)) (q.2.2.2.1 (lm_ix b)) b), q.2.2.2.2) := by
  unfold lm_step; rw [if_neg h3, if_neg h4, if_neg h5, if_neg h2]
/-! the program's own structure: its depth, and which open parts have an ELSE -/
def lm_ds (c : Int32) (d : Nat) : Nat := if c = 13 then d + 1 else if c = 15 then d - 1 else d
def lm_hs (c : Int32) (d : Nat) (h : Nat → Bool) : Nat → Bool := if c = 13 then lm_ub h d false else if c = 14 then lm_ub h (d - 1) true else h
def lm_d (cd : Nat → Int32) : Nat → Nat
  | 0 => 0
  | n + 1 => lm_ds (cd n) (lm_d cd n)
def lm_h (cd : Nat → Int32) : Nat → Nat → Bool
  | 0 => fun _ => false
  | n + 1 => lm_hs (cd n) (lm_d cd n) (lm_h cd n)
def lm_0 (s : Nat) : lm_S := (true, fun _ => false, fun _ => false, fun i => if i = 0 then BitVec.ofNat 8 s else 0#8, 0, 0)
def lm_L (cd lf rt : Nat → Int32) (s : Nat) : Nat → lm_S
  | 0 => lm_0 s
  | n + 1 => lm_step (cd n) (lf n) (rt n) (lm_d cd n) (lm_L cd lf rt s n)
def lm_WF (cd : Nat → Int32) (n : Nat) : Prop := ∀ p, p < n → (¬ cd p < 0 ∧ ¬ 15 < cd p) ∧ (cd p = 13 → lm_d cd p < 4) ∧ (cd p = 14 → 0 < lm_d cd p ∧ lm_h cd p (lm_d cd p - 1) = false) ∧ (cd p = 15 → 0 < lm_d cd p)
theorem lm_d_cg {cd cd' : Nat → Int32} : ∀ n, (∀ i, i < n → cd' i = cd i) → lm_d cd' n = lm_d cd n := by
  intro n
  induction n with
  | zero => intro _; rfl
  | succ n ih =>
    intro h
    show lm_ds (cd' n) (lm_d cd' n) = lm_ds (cd n) (lm_d cd n)
    rw [h n (by omega), ih (fun i hi => h i (by omega))]
theorem lm_h_cg {cd cd' : Nat → Int32} : ∀ n, (∀ i, i < n → cd' i = cd i) → lm_h cd' n = lm_h cd n := by
  intro n
  induction n with
  | zero => intro _; rfl
  | succ n ih =>
    intro h
    show lm_hs (cd' n) (lm_d cd' n) (lm_h cd' n) = lm_hs (cd n) (lm_d cd n) (lm_h cd n)
    rw [h n (by omega), ih (fun i hi => h i (by omega)), lm_d_cg n (fun i hi => h i (by omega))]
theorem lm_L_cg {cd cd' lf lf' rt rt' : Nat → Int32} (s : Nat) : ∀ n, (∀ i, i < n → cd' i = cd i ∧ lf' i = lf i ∧ rt' i = rt i) → lm_L cd' lf' rt' s n = lm_L cd lf rt s n := by
  intro n
  induction n with
  | zero => intro _; rfl
  | succ n ih =>
    intro h
    show lm_step (cd' n) (lf' n) (rt' n) (lm_d cd' n) (lm_L cd' lf' rt' s n) = lm_step (cd n) (lf n) (rt n) (lm_d cd n) (lm_L cd lf rt s n)
    rw [(h n (by omega)).1, (h n (by omega)).2.1, (h n (by omega)).2.2, ih (fun i hi => h i (by omega)), lm_d_cg n (fun i hi => (h i (by omega)).1)]
theorem lm_WF_cg {cd cd' : Nat → Int32} {n : Nat} (h : ∀ i, i < n → cd' i = cd i) (w : lm_WF cd n) : lm_WF cd' n := by
  intro p hp
  rw [h p hp, lm_d_cg p (fun i hi => h i (by omega)), lm_h_cg p (fun i hi => h i (by omega))]
  exact w p hp
theorem lm_WF_le {cd : Nat → Int32} {n m : Nat} (h : m ≤ n) (w : lm_WF cd n) : lm_WF cd m := fun p hp => w p (by omega)
theorem lm_ds13 (d : Nat) : lm_ds 13 d = d + 1 := if_pos rfl
theorem lm_ds15 (d : Nat) : lm_ds 15 d = d - 1 := by unfold lm_ds; rw [if_neg (show ¬ (15 : Int32) = 13 by decide), if_pos rfl]
theorem lm_dsn {c : Int32} (h3 : c ≠ 13) (h5 : c ≠ 15) (d : Nat) : lm_ds c d = d := by unfold lm_ds; rw [if_neg h3, if_neg h5]
theorem lm_hs13 (d : Nat) (h : Nat → Bool) : lm_hs 13 d h = lm_ub h d false := if_pos rfl
theorem lm_hs14 (d : Nat) (h : Nat → Bool) : lm_hs 14 d h = lm_ub h (d - 1) true := by unfold lm_hs; rw [if_neg (show ¬ (14 : Int32) = 13 by decide), if_pos rfl]
theorem lm_hsn {c : Int32} (h3 : c ≠ 13) (h4 : c ≠ 14) (d : Nat) (h : Nat → Bool) : lm_hs c d h = h := by unfold lm_hs; rw [if_neg h3, if_neg h4]
theorem lm_d4 {cd : Nat → Int32} : ∀ n, lm_WF cd n → lm_d cd n ≤ 4 := by
  intro n
  induction n with
  | zero => intro _; exact Nat.zero_le _
  | succ n ih =>
    intro w
    have h := ih (lm_WF_le (by omega) w)
    show lm_ds (cd n) (lm_d cd n) ≤ 4
    by_cases h3 : cd n = 13
    · have := (w n (by omega)).2.1 h3
      rw [h3, lm_ds13]; omega
    · by_cases h5 : cd n = 15
      · rw [h5, lm_ds15]; omega
      · rw [lm_dsn h3 h5]; exact h
/-! the view's size -/
theorem lm_out_b {a : Bool} {x : Nat} {w : Nat × Nat} (hx : x < 256) (h : w.1 ≤ 7 ∧ w.2 < 256 ^ w.1) : (lm_out a x w).1 ≤ 7 ∧ (lm_out a x w).2 < 256 ^ (lm_out a x w).1 := by
  unfold lm_out
  by_cases c : a = true ∧ w.1 < 7
  · rw [if_pos c]
    refine ⟨by have := c.2; show w.1 + 1 ≤ 7; omega, ?_⟩
    show w.2 * 256 + x < 256 ^ (w.1 + 1)
    rw [Nat.pow_succ]
    have := h.2
    generalize 256 ^ w.1 = P at *
    omega
  · rw [if_neg c]; exact h
theorem lm_Wb (cd lf rt : Nat → Int32) (s : Nat) : ∀ n, (lm_L cd lf rt s n).2.2.2.2.1 ≤ 7 ∧ (lm_L cd lf rt s n).2.2.2.2.2 < 256 ^ (lm_L cd lf rt s n).2.2.2.2.1 := by
  intro n
  induction n with
  | zero => exact ⟨(by decide : 0 ≤ 7), (by decide : 0 < 256 ^ 0)⟩
  | succ n ih =>
    show (lm_step (cd n) (lf n) (rt n) (lm_d cd n) (lm_L cd lf rt s n)).2.2.2.2.1 ≤ 7 ∧ (lm_step (cd n) (lf n) (rt n) (lm_d cd n) (lm_L cd lf rt s n)).2.2.2.2.2 < 256 ^ (lm_step (cd n) (lf n) (rt n) (lm_d cd n) (lm_L cd lf rt s n)).2.2.2.2.1
    generalize cd n = c
    by_cases h3 : c = 13
    · subst h3; rw [lm_step13]; exact ih
    by_cases h4 : c = 14
    · subst h4; rw [lm_step14]; exact ih
    by_cases h5 : c = 15
    · subst h5; rw [lm_step15]; exact ih
    by_cases h2 : c = 12
    · subst h2; rw [lm_step12]; exact lm_out_b (BitVec.isLt _) ih
    · rw [lm_stepv h2 h3 h4 h5]; exact ih
end
section
/-! ===== what a secret's stack says ===== -/
def lm_in (d : Nat) (q : lm_S) (i : Nat) : Bool := if i + 1 < d then q.2.1 (i + 1) else q.1
def lm_J (d : Nat) (h : Nat → Bool) (q : lm_S) : Prop := ∀ i, i < d → (q.2.2.1 i = true → q.2.1 i = true) ∧ (lm_in d q i = true → q.2.1 i = true ∧ (h i = false → q.2.2.1 i = false))
theorem lm_J_step {c : Int32} (a b : Int32) {d : Nat} {h : Nat → Bool} {q : lm_S} (hJ : lm_J d h q) (h14 : c = 14 → 0 < d ∧ h (d - 1) = false) (h15 : c = 15 → 0 < d) : lm_J (lm_ds c d) (lm_hs c d h) (lm_step c a b d q) := by
  by_cases h3 : c = 13
  · subst h3
    rw [lm_ds13, lm_hs13, lm_step13]
    intro i hi
    unfold lm_in
    dsimp only
    by_cases e : i = d
    · subst e
      rw [lm_us, lm_us, lm_us, if_neg (by omega)]
      cases q.1 <;> cases decide (q.2.2.2.1 (lm_ix a) = 0#8) <;> simp
    · have hJi := hJ i (by omega)
      unfold lm_in at hJi
      rw [lm_un e, lm_un e, lm_un e, if_pos (by omega)]
      by_cases e2 : i + 1 = d
      · subst e2
        rw [lm_us]
        rw [if_neg (by omega)] at hJi
        exact hJi
      · rw [lm_un e2]
        rw [if_pos (by omega)] at hJi
        exact hJi
  by_cases h4 : c = 14
  · subst h4
    obtain ⟨d0, hd⟩ := h14 rfl
    rw [lm_dsn (by decide) (by decide), lm_hs14, lm_step14]
    intro i hi
    have hJi := hJ i hi
    unfold lm_in at hJi ⊢
    dsimp only
    refine ⟨hJi.1, ?_⟩
    by_cases e : i + 1 < d
    · rw [if_pos e] at hJi ⊢
      rw [lm_un (by omega)]
      exact hJi.2
    · rw [if_neg e]
      have e2 : i = d - 1 := by omega
      subst e2
      intro z
      refine ⟨hJi.1 z, ?_⟩
      rw [lm_us]
      intro z2
      exact absurd z2 (by decide)
  by_cases h5 : c = 15
  · subst h5
    have d0 := h15 rfl
    rw [lm_ds15, lm_hsn (by decide) (by decide), lm_step15]
    intro i hi
    have hJi := hJ i (by omega)
    unfold lm_in at hJi ⊢
    dsimp only
    rw [if_pos (by omega)] at hJi
    by_cases e : i + 1 < d - 1
    · rw [if_pos e]; exact hJi
    · rw [if_neg e]
      have e2 : d - 1 = i + 1 := by omega
      rw [e2]; exact hJi
  rw [lm_dsn h3 h5, lm_hsn h3 h4]
  by_cases h2 : c = 12
  · subst h2; rw [lm_step12]; exact hJ
  · rw [lm_stepv h2 h3 h4 h5]; exact hJ
theorem lm_J_L {cd : Nat → Int32} (lf rt : Nat → Int32) (s : Nat) : ∀ n, lm_WF cd n → lm_J (lm_d cd n) (lm_h cd n) (lm_L cd lf rt s n) := by
  intro n
  induction n with
  | zero => intro _ i hi; exact absurd hi (Nat.not_lt_zero i)
  | succ n ih =>
    intro w
    have wn := w n (by omega)
    exact lm_J_step (lf n) (rt n) (ih (lm_WF_le (by omega) w)) wn.2.2.1 wn.2.2.2
/-- a secret that is not on the way since the part D - 1 was left; r: its state there -/
def lm_K (D o : Nat) (e : Bool) (r q : lm_S) : Prop := q.1 = false ∧ q.2.1 (D - 1) = true ∧ q.2.2.1 (D - 1) = e ∧ (∀ i, D ≤ i → i < D + o → q.2.1 i = false ∧ q.2.2.1 i = false) ∧ q.2.2.2 = r.2.2.2
theorem lm_K13 {D o : Nat} {e : Bool} {r q : lm_S} (hD : 0 < D) (h : lm_K D o e r q) (a b : Int32) : lm_K D (o + 1) e r (lm_step 13 a b (D + o) q) := by
  obtain ⟨h1, h2, h3, h4, h5⟩ := h
  rw [lm_step13]
  refine ⟨?_, ?_, ?_, ?_, ?_⟩
  · show (q.1 && _) = false
    rw [h1]; rfl
  · show lm_ub q.2.1 (D + o) q.1 (D - 1) = true
    rw [lm_un (by omega)]; exact h2
  · show lm_ub q.2.2.1 (D + o) _ (D - 1) = e
    rw [lm_un (by omega)]; exact h3
  · intro i hi hj
    show lm_ub q.2.1 (D + o) q.1 i = false ∧ lm_ub q.2.2.1 (D + o) _ i = false
    by_cases z : i = D + o
    · subst z; rw [lm_us, lm_us, h1]; exact ⟨rfl, rfl⟩
    · rw [lm_un z, lm_un z]; exact h4 i hi (by omega)
  · exact h5
theorem lm_K14 {D o : Nat} {e : Bool} {r q : lm_S} (h : lm_K D o e r q) (ho : 0 < o ∨ e = false) (a b : Int32) : lm_K D o e r (lm_step 14 a b (D + o) q) := by
  obtain ⟨h1, h2, h3, h4, h5⟩ := h
  rw [lm_step14]
  refine ⟨?_, h2, h3, h4, h5⟩
  show q.2.2.1 (D + o - 1) = false
  by_cases z : 0 < o
  · exact (h4 (D + o - 1) (by omega) (by omega)).2
  · have e0 : o = 0 := by omega
    subst e0
    rcases ho with ho | ho
    · exact absurd ho z
    · rw [← ho]; exact h3
theorem lm_K15 {D o : Nat} {e : Bool} {r q : lm_S} (h : lm_K D (o + 1) e r q) (a b : Int32) : lm_K D o e r (lm_step 15 a b (D + (o + 1)) q) := by
  obtain ⟨h1, h2, h3, h4, h5⟩ := h
  rw [lm_step15]
  refine ⟨?_, h2, h3, fun i hi hj => h4 i hi (by omega), h5⟩
  show q.2.1 (D + (o + 1) - 1) = false
  exact (h4 (D + (o + 1) - 1) (by omega) (by omega)).1
theorem lm_Kn {D o : Nat} {e : Bool} {r q : lm_S} (h : lm_K D o e r q) {c : Int32} (h3 : c ≠ 13) (h4 : c ≠ 14) (h5 : c ≠ 15) (a b : Int32) (d : Nat) : lm_K D o e r (lm_step c a b d q) := by
  obtain ⟨k1, k2, k3, k4, k5⟩ := h
  by_cases h2 : c = 12
  · subst h2
    rw [lm_step12]
    refine ⟨k1, k2, k3, k4, ?_⟩
    show (q.2.2.2.1, lm_out q.1 _ q.2.2.2.2) = r.2.2.2
    rw [k1]
    unfold lm_out
    rw [if_neg (fun z => absurd z.1 (by decide))]
    exact k5
  · rw [lm_stepv h2 h3 h4 h5]
    refine ⟨k1, k2, k3, k4, ?_⟩
    show (lm_put q.1 q.2.2.2.1 _ _, q.2.2.2.2) = r.2.2.2
    rw [k1]
    unfold lm_put
    rw [if_neg (by decide)]
    exact k5
theorem lm_K15r {D : Nat} {e : Bool} {r q : lm_S} (h : lm_K D 0 e r q) (a b : Int32) : (lm_step 15 a b D q).1 = true ∧ (lm_step 15 a b D q).2.2.2 = r.2.2.2 := by
  rw [lm_step15]; exact ⟨h.2.1, h.2.2.2.2⟩
theorem lm_K14r {D : Nat} {r q : lm_S} (h : lm_K D 0 true r q) (a b : Int32) : (lm_step 14 a b D q).1 = true ∧ (lm_step 14 a b D q).2.2.2 = r.2.2.2 := by
  rw [lm_step14]; exact ⟨h.2.2.1, h.2.2.2.2⟩
/-- an IF whose condition is 0, for a secret on the way -/
theorem lm_K13i {d : Nat} {q : lm_S} {a : Int32} (h1 : q.1 = true) (hz : q.2.2.2.1 (lm_ix a) = 0#8) (b : Int32) : lm_K (d + 1) 0 true q (lm_step 13 a b d q) := by
  rw [lm_step13]
  refine ⟨?_, ?_, ?_, fun i hi hj => by omega, rfl⟩
  · show (q.1 && !decide (q.2.2.2.1 (lm_ix a) = 0#8)) = false
    rw [decide_eq_true hz]; simp
  · show lm_ub q.2.1 d q.1 (d + 1 - 1) = true
    rw [Nat.add_sub_cancel, lm_us]; exact h1
  · show lm_ub q.2.2.1 d (q.1 && decide (q.2.2.2.1 (lm_ix a) = 0#8)) (d + 1 - 1) = true
    rw [Nat.add_sub_cancel, lm_us, h1, decide_eq_true hz]; rfl
/-- an ELSE reached by a secret on the way -/
theorem lm_K14i {d : Nat} {h : Nat → Bool} {q : lm_S} (h1 : q.1 = true) (hJ : lm_J d h q) (d0 : 0 < d) (hh : h (d - 1) = false) (a b : Int32) : lm_K d 0 false q (lm_step 14 a b d q) := by
  have hJi := (hJ (d - 1) (by omega)).2
  unfold lm_in at hJi
  rw [if_neg (by omega)] at hJi
  have k := hJi h1
  rw [lm_step14]
  exact ⟨k.2 hh, k.1, k.2 hh, fun i hi hj => by omega, rfl⟩
/-- an END reached by a secret on the way -/
theorem lm_15i {d : Nat} {h : Nat → Bool} {q : lm_S} (h1 : q.1 = true) (hJ : lm_J d h q) (d0 : 0 < d) (a b : Int32) : (lm_step 15 a b d q).1 = true := by
  have hJi := (hJ (d - 1) (by omega)).2
  unfold lm_in at hJi
  rw [if_neg (by omega)] at hJi
  rw [lm_step15]
  exact (hJi h1).1
/-- an IF whose condition isn't 0, for a secret on the way -/
theorem lm_13i {d : Nat} {q : lm_S} {a : Int32} (h1 : q.1 = true) (hz : q.2.2.2.1 (lm_ix a) ≠ 0#8) (b : Int32) : (lm_step 13 a b d q).1 = true := by
  rw [lm_step13]
  show (q.1 && !decide (q.2.2.2.1 (lm_ix a) = 0#8)) = true
  rw [decide_eq_false hz, h1]; rfl
/-! ===== counting, views ===== -/
def lm_ct (f : Nat → Bool) : Nat → Nat
  | 0 => 0
  | n + 1 => lm_ct f n + (f n).toNat
theorem lm_ct_le (f : Nat → Bool) : ∀ n, lm_ct f n ≤ n := by
  intro n
  induction n with
  | zero => exact Nat.le_refl 0
  | succ n ih =>
    show lm_ct f n + (f n).toNat ≤ n + 1
    have : (f n).toNat ≤ 1 := Bool.toNat_le _
    omega
theorem lm_ct_cg {f g : Nat → Bool} : ∀ n, (∀ i, i < n → f i = g i) → lm_ct f n = lm_ct g n := by
  intro n
  induction n with
  | zero => intro _; rfl
  | succ n ih =>
    intro h
    show lm_ct f n + (f n).toNat = lm_ct g n + (g n).toNat
    rw [h n (by omega), ih (fun i hi => h i (by omega))]
theorem lm_ct_all {f : Nat → Bool} : ∀ n, (∀ i, i < n → f i = true) → lm_ct f n = n := by
  intro n
  induction n with
  | zero => intro _; rfl
  | succ n ih =>
    intro h
    show lm_ct f n + (f n).toNat = n + 1
    rw [h n (by omega), ih (fun i hi => h i (by omega))]; rfl
theorem lm_ct_none {f : Nat → Bool} : ∀ n, (∀ i, i < n → f i = false) → lm_ct f n = 0 := by
  intro n
  induction n with
  | zero => intro _; rfl
  | succ n ih =>
    intro h
    show lm_ct f n + (f n).toNat = 0
    rw [h n (by omega), ih (fun i hi => h i (by omega))]; rfl
/-- one place more -/
theorem lm_ct_one {f g : Nat → Bool} {k : Nat} (h : ∀ i, i ≠ k → g i = f i) : ∀ n, lm_ct g n ≤ lm_ct f n + 1 ∧ (n ≤ k → lm_ct g n ≤ lm_ct f n) := by
  intro n
  induction n with
  | zero => exact ⟨Nat.zero_le _, fun _ => Nat.le_refl _⟩
  | succ n ih =>
    show lm_ct g n + (g n).toNat ≤ lm_ct f n + (f n).toNat + 1 ∧ (n + 1 ≤ k → lm_ct g n + (g n).toNat ≤ lm_ct f n + (f n).toNat)
    by_cases e : n = k
    · have a := ih.2 (by omega)
      have b : (g n).toNat ≤ 1 := Bool.toNat_le _
      exact ⟨by omega, fun z => by omega⟩
    · rw [h n e]
      exact ⟨by have := ih.1; omega, fun z => by have := ih.2 (by omega); omega⟩
/-- the number of secrets among n from lo on whose view isn't met from lo on before them -/
def lm_nw (e : Nat → Nat → Bool) (lo i : Nat) : Bool := decide (∀ t, t < i → e (lo + t) (lo + i) = false)
def lm_cf (e : Nat → Nat → Bool) (lo n : Nat) : Nat := lm_ct (lm_nw e lo) n
def lm_e (w : Nat → Nat × Nat) (s t : Nat) : Bool := decide (w s = w t)
theorem lm_e_r (w : Nat → Nat × Nat) (s : Nat) : lm_e w s s = true := decide_eq_true rfl
theorem lm_e_s (w : Nat → Nat × Nat) (s t : Nat) : lm_e w s t = lm_e w t s := by
  unfold lm_e
  exact decide_eq_decide.mpr ⟨fun h => h.symm, fun h => h.symm⟩
theorem lm_e_t {w : Nat → Nat × Nat} {s t : Nat} (h : lm_e w s t = true) : w s = w t := of_decide_eq_true h
theorem lm_e_c {w : Nat → Nat × Nat} {s t : Nat} (h : lm_e w s t = true) (r : Nat) : lm_e w r s = lm_e w r t := by
  unfold lm_e; rw [lm_e_t h]
theorem lm_e_c' {w : Nat → Nat × Nat} {s t : Nat} (h : lm_e w s t = true) (r : Nat) : lm_e w s r = lm_e w t r := by
  unfold lm_e; rw [lm_e_t h]
/-! the digits of a view -/
def lm_dg (w : Nat × Nat) (k : Nat) : Nat := w.2 / 256 ^ (w.1 - 1 - k) % 256
theorem lm_dg_in {c t x : Nat} (hx : x < 256) : (∀ k, k < c → lm_dg (c + 1, t * 256 + x) k = lm_dg (c, t) k) ∧ lm_dg (c + 1, t * 256 + x) c = x := by
  constructor
  · intro k hk
    show (t * 256 + x) / 256 ^ (c + 1 - 1 - k) % 256 = t / 256 ^ (c - 1 - k) % 256
    have e : c + 1 - 1 - k = (c - 1 - k) + 1 := by omega
    rw [e, Nat.pow_succ, Nat.mul_comm (256 ^ (c - 1 - k)) 256, ← Nat.div_div_eq_div_mul, show (t * 256 + x) / 256 = t by omega]
  · show (t * 256 + x) / 256 ^ (c + 1 - 1 - c) % 256 = x
    have e : c + 1 - 1 - c = 0 := by omega
    rw [e, Nat.pow_zero, Nat.div_one]; omega
theorem lm_dg_eq : ∀ (c t t' : Nat), t < 256 ^ c → t' < 256 ^ c → (∀ k, k < c → lm_dg (c, t) k = lm_dg (c, t') k) → t = t' := by
  intro c
  induction c with
  | zero => intro t t' h h' _; rw [Nat.pow_zero] at h h'; omega
  | succ c ih =>
    intro t t' h h' hk
    rw [Nat.pow_succ] at h h'
    have l := hk c (by omega)
    have a : t = t / 256 * 256 + t % 256 := by omega
    have a' : t' = t' / 256 * 256 + t' % 256 := by omega
    have m : t % 256 < 256 := Nat.mod_lt _ (by decide)
    have m' : t' % 256 < 256 := Nat.mod_lt _ (by decide)
    have b := lm_dg_in (c := c) (t := t / 256) m
    have b' := lm_dg_in (c := c) (t := t' / 256) m'
    rw [← a] at b
    rw [← a'] at b'
    rw [b.2, b'.2] at l
    have hd : t / 256 = t' / 256 := by
      apply ih
      · generalize 256 ^ c = P at *; omega
      · generalize 256 ^ c = P at *; omega
      · intro k hk2
        have := hk k (by omega)
        rw [b.1 k hk2, b'.1 k hk2] at this
        exact this
    omega
theorem lm_dg_lt (w : Nat × Nat) (k : Nat) : lm_dg w k < 256 := Nat.mod_lt _ (by decide)
end
section
/-! ===== the component's planes: what its private methods leave in work and plane ===== -/
theorem lm_pi (v k : Nat) : (8 : Int32) * nI v + nI k = nI (8 * v + k) := by
  rw [show (8 : Int32) = nI 8 from rfl, pk_mul, nI_add]
theorem lm_e8 : (8 : Int32) ≤ nI 8 := nI_le (a := 8) (b := 8) (by omega) (by decide)
theorem lm_n8 {k : Nat} (h : k < 8) : ¬ (8 : Int32) ≤ nI k := nI_ge (b := 8) h (by decide)
def lm_PL (V : Nat → Nat → BitVec 8) (pl : Nat → Int64) : Prop := ∀ s, s < 64 → ∀ v, v < 4 → ∀ k, k < 8 → lm_b (pl (8 * v + k)) s = (V s v).getLsbD k
def lm_WK (R : Nat → BitVec 8) (w : Nat → Int64) (k : Nat) : Prop := ∀ s, s < 64 → ∀ j, j < k → lm_b (w j) s = (R s).getLsbD j
theorem lm_wk0 {R : Nat → BitVec 8} {w : Nat → Int64} : lm_WK R w 0 := fun _ _ j hj => absurd hj (Nat.not_lt_zero j)
theorem lm_wks {R : Nat → BitVec 8} {w : Nat → Int64} {k : Nat} {x : Int64} (h : lm_WK R w k) (hx : ∀ s, s < 64 → lm_b x s = (R s).getLsbD k) : lm_WK R (vp_updL w k x) (k + 1) := by
  intro s hs j hj
  by_cases e : j = k
  · subst e; rw [pk_uLs]; exact hx s hs
  · rw [pk_uLn e]; exact h s hs j (by omega)
section
variable {st : Int32} {pa : Int32} {ac : Int64} {so : Int32} {cc : Int32} {he : Nat → Int32} {pl : Nat → Int64} {wk : Nat → Int64} {ar : Nat → Int64} {ot : Nat → Int64} {co : Nat → Int32} {tr : Nat → Int64} {le : Nat → Int32} {me : Nat → Int32} {ta : Nat → Int32} {mt : Nat → Int32}
theorem lm_x_any {post : Int64 → Prop} {V : Nat → Nat → BitVec 8} (hP : lm_PL V pl) {v : Nat} (hv : v < 4) (H : ∀ y : Int64, (∀ s, s < 64 → lm_b y s = !decide (V s v = 0#8)) → post y) : wpX_anyBit post (st, pa, ac, so, cc, he, pl, wk, ar, ot, co, tr, le, me, ta, mt) (nI v) := by
  show ∃ n, wX_anyBit_5 post (nI v) st pa ac so cc he pl wk ar ot co tr le me ta mt n 0 (nI 0)
  refine pk_loop (fun n k (y : Int64) => wX_anyBit_5 post (nI v) st pa ac so cc he pl wk ar ot co tr le me ta mt n y (nI k)) (fun k y => ∀ s, s < 64 → (lm_b y s = false ↔ ∀ j, j < k → (V s v).getLsbD j = false)) 8 0 0 (by omega) ?_ ?_ ?_
  · intro s hs
    exact ⟨fun _ j hj => absurd hj (Nat.not_lt_zero j), fun _ => lm_b_0 s⟩
  · intro n y hI
    refine br_t lm_e8 (H y (fun s hs => ?_))
    have h := hI s hs
    by_cases z : V s v = 0#8
    · rw [decide_eq_true z, h.mpr (fun j hj => by rw [z]; exact BitVec.getLsbD_zero)]; rfl
    · rw [decide_eq_false z]
      exact ts_nf (fun z2 => z (lm_z8 (h.mp z2)))
  · intro n k y hk hI hn
    refine br_f (lm_n8 hk) ?_
    rw [lm_pi v k, nI_clamp (show 8 * v + k < 2 ^ 31 by omega)]
    refine ⟨vp_in_nI (by omega) (by decide), nm_e (nm_r (nI_1 k) (hn _ ?_))⟩
    intro s hs
    rw [lm_b_or, hP s hs v hv k hk, Bool.or_eq_false_iff, hI s hs]
    constructor
    · intro ⟨a, b⟩ j hj
      by_cases e : j = k
      · subst e; exact b
      · exact a j (by omega)
    · intro h
      exact ⟨fun j hj => h j (by omega), h k (by omega)⟩
theorem lm_x_c0 {post : SX → Prop} {b : Int32} (H : ∀ w, lm_WK (fun _ => BitVec.setWidth 8 b.toBitVec) w 8 → post (st, pa, ac, so, cc, he, pl, w, ar, ot, co, tr, le, me, ta, mt)) : ∃ n, wX_compute_12 post b st pa ac so cc n (nI 0) he pl wk ar ot co tr le me ta mt := by
  refine pk_loop (fun n k (w : Nat → Int64) => wX_compute_12 post b st pa ac so cc n (nI k) he pl w ar ot co tr le me ta mt) (fun k w => lm_WK (fun _ => BitVec.setWidth 8 b.toBitVec) w k) 8 0 wk (by omega) lm_wk0 ?_ ?_
  · intro n w hI
    exact br_t lm_e8 (H w hI)
  · intro n k w hk hI hn
    refine br_f (lm_n8 hk) ?_
    rw [nI_clamp (show k < 2 ^ 31 by omega)]
    have hb : ∀ s : Nat, (BitVec.setWidth 8 b.toBitVec).getLsbD k = b.toBitVec.getLsbD k := fun _ => by rw [BitVec.getLsbD_setWidth, decide_eq_true hk, Bool.true_and]
    refine br_c (fun hz => ⟨vp_in_nI hk (by decide), nm_e (nm_r (nI_1 k) (hn _ (lm_wks hI (fun s hs => ?_))))⟩) (fun hz => ⟨vp_in_nI hk (by decide), nm_e (nm_r (nI_1 k) (hn _ (lm_wks hI (fun s hs => ?_))))⟩)
    · rw [hb s, (lm_ibit0 b (by omega)).mp hz]; exact lm_b_0 s
    · rw [hb s, ts_nf (fun z => hz ((lm_ibit0 b (by omega)).mpr z))]; exact lm_b_m1 s hs
theorem lm_x_c1 {post : SX → Prop} {V : Nat → Nat → BitVec 8} (hP : lm_PL V pl) {v : Nat} (hv : v < 4) (H : ∀ w, lm_WK (fun s => V s v) w 8 → post (st, pa, ac, so, cc, he, pl, w, ar, ot, co, tr, le, me, ta, mt)) : ∃ n, wX_compute_59 post (nI v) st pa ac so cc n (nI 0) he pl wk ar ot co tr le me ta mt := by
  refine pk_loop (fun n k (w : Nat → Int64) => wX_compute_59 post (nI v) st pa ac so cc n (nI k) he pl w ar ot co tr le me ta mt) (fun k w => lm_WK (fun s => V s v) w k) 8 0 wk (by omega) lm_wk0 ?_ ?_
  · intro n w hI
    exact br_t lm_e8 (H w hI)
  · intro n k w hk hI hn
    refine br_f (lm_n8 hk) ?_
    rw [lm_pi v k, nI_clamp (show 8 * v + k < 2 ^ 31 by omega), nI_clamp (show k < 2 ^ 31 by omega)]
    exact ⟨vp_in_nI (by omega) (by decide), vp_in_nI hk (by decide), nm_e (nm_r (nI_1 k) (hn _ (lm_wks hI (fun s hs => hP s hs v hv k hk))))⟩
theorem lm_x_add {post : SX → Prop} {V : Nat → Nat → BitVec 8} (hP : lm_PL V pl) {v1 v2 : Nat} (h1 : v1 < 4) (h2 : v2 < 4) (H : ∀ w, lm_WK (fun s => V s v1 + V s v2) w 8 → post (st, pa, ac, so, cc, he, pl, w, ar, ot, co, tr, le, me, ta, mt)) : wpX_addPlanes post (st, pa, ac, so, cc, he, pl, wk, ar, ot, co, tr, le, me, ta, mt) (nI v1) (nI v2) := by
  show ∃ n, wX_addPlanes_5 post (nI v1) (nI v2) st pa ac so cc n 0 (nI 0) he pl wk ar ot co tr le me ta mt
  refine pk_loop (fun n k (s : Int64 × (Nat → Int64)) => wX_addPlanes_5 post (nI v1) (nI v2) st pa ac so cc n s.1 (nI k) he pl s.2 ar ot co tr le me ta mt) (fun k s => lm_WK (fun t => V t v1 + V t v2) s.2 k ∧ ∀ t, t < 64 → lm_b s.1 t = BitVec.carry k (V t v1) (V t v2) false) 8 0 (0, wk) (by omega) ⟨lm_wk0, fun t _ => by rw [BitVec.carry_zero]; exact lm_b_0 t⟩ ?_ ?_
  · intro n s hI
    exact br_t lm_e8 (H s.2 hI.1)
  · intro n k s hk hI hn
    obtain ⟨c, w⟩ := s
    obtain ⟨hI1, hI2⟩ := hI
    dsimp only at hI1 hI2
    refine br_f (lm_n8 hk) ?_
    dsimp only
    rw [lm_pi v1 k, lm_pi v2 k, nI_clamp (show 8 * v1 + k < 2 ^ 31 by omega), nI_clamp (show 8 * v2 + k < 2 ^ 31 by omega), nI_clamp (show k < 2 ^ 31 by omega)]
    refine ⟨vp_in_nI (by omega) (by decide), nm_e ⟨vp_in_nI (by omega) (by decide), nm_e ⟨vp_in_nI hk (by decide), nm_e (nm_e (nm_r (nI_1 k) (hn (_, _) ⟨lm_wks hI1 (fun s hs => ?_), fun s hs => ?_⟩)))⟩⟩⟩
    · rw [lm_b_xor, lm_b_xor, hP s hs v1 h1 k hk, hP s hs v2 h2 k hk, hI2 s hs]; exact lm_addB _ _ hk
    · rw [lm_b_or, lm_b_and, lm_b_and, lm_b_xor, hP s hs v1 h1 k hk, hP s hs v2 h2 k hk, hI2 s hs]; exact lm_addC _ _ k
theorem lm_x_sub {post : Int64 → SX → Prop} {V : Nat → Nat → BitVec 8} (hP : lm_PL V pl) {v1 v2 : Nat} (h1 : v1 < 4) (h2 : v2 < 4) (H : ∀ c w, (∀ s, s < 64 → lm_b c s = (V s v1).ult (V s v2)) → lm_WK (fun s => V s v1 - V s v2) w 8 → post c (st, pa, ac, so, cc, he, pl, w, ar, ot, co, tr, le, me, ta, mt)) : wpX_subtractPlanes post (st, pa, ac, so, cc, he, pl, wk, ar, ot, co, tr, le, me, ta, mt) (nI v1) (nI v2) := by
  show ∃ n, wX_subtractPlanes_5 post (nI v1) (nI v2) st pa ac so cc n 0 (nI 0) he pl wk ar ot co tr le me ta mt
  refine pk_loop (fun n k (s : Int64 × (Nat → Int64)) => wX_subtractPlanes_5 post (nI v1) (nI v2) st pa ac so cc n s.1 (nI k) he pl s.2 ar ot co tr le me ta mt) (fun k s => lm_WK (fun t => V t v1 - V t v2) s.2 k ∧ ∀ t, t < 64 → lm_b s.1 t = !BitVec.carry k (V t v1) (~~~(V t v2)) true) 8 0 (0, wk) (by omega) ⟨lm_wk0, fun t _ => by rw [BitVec.carry_zero]; exact lm_b_0 t⟩ ?_ ?_
  · intro n s hI
    exact br_t lm_e8 (H s.1 s.2 (fun t ht => by rw [BitVec.ult_eq_not_carry]; exact hI.2 t ht) hI.1)
  · intro n k s hk hI hn
    obtain ⟨c, w⟩ := s
    obtain ⟨hI1, hI2⟩ := hI
    dsimp only at hI1 hI2
    refine br_f (lm_n8 hk) ?_
    dsimp only
    rw [lm_pi v1 k, lm_pi v2 k, nI_clamp (show 8 * v1 + k < 2 ^ 31 by omega), nI_clamp (show 8 * v2 + k < 2 ^ 31 by omega), nI_clamp (show k < 2 ^ 31 by omega)]
    refine ⟨vp_in_nI (by omega) (by decide), nm_e ⟨vp_in_nI (by omega) (by decide), nm_e ⟨vp_in_nI hk (by decide), nm_e (nm_e (nm_r (nI_1 k) (hn (_, _) ⟨lm_wks hI1 (fun s hs => ?_), fun s hs => ?_⟩)))⟩⟩⟩
    · rw [lm_b_xor, lm_b_xor, hP s hs v1 h1 k hk, hP s hs v2 h2 k hk, hI2 s hs]; exact lm_subB _ _ hk
    · rw [lm_b_or, lm_b_and, lm_b_and, lm_b_not _ hs, lm_b_not _ hs, lm_b_xor, hP s hs v1 h1 k hk, hP s hs v2 h2 k hk, hI2 s hs]; exact lm_subC _ _ hk
theorem lm_x_sht {post : SX → Prop} {V : Nat → Nat → BitVec 8} (hP : lm_PL V pl) {v j : Nat} (hv : v < 4) (hj : j < 8) {m : Int64} {B : Nat → BitVec 8} (hB : ∀ s, s < 64 → B s = if lm_b m s then V s v <<< j else 0#8) {A : Nat → BitVec 8} (hA : lm_WK A wk 8) (H : ∀ w, lm_WK (fun s => A s + B s) w 8 → post (st, pa, ac, so, cc, he, pl, w, ar, ot, co, tr, le, me, ta, mt)) : wpX_addShifted post (st, pa, ac, so, cc, he, pl, wk, ar, ot, co, tr, le, me, ta, mt) (nI v) (nI j) m := by
  have hBl : ∀ s, s < 64 → ∀ i, i < j → (B s).getLsbD i = false := by
    intro s hs i hi
    rw [hB s hs]
    cases lm_b m s
    · exact BitVec.getLsbD_zero
    · rw [if_pos rfl, BitVec.getLsbD_shiftLeft]; simp [hi]
  have hBh : ∀ s, s < 64 → ∀ i, j ≤ i → i < 8 → (B s).getLsbD i = ((V s v).getLsbD (i - j) && lm_b m s) := by
    intro s hs i hi hi8
    rw [hB s hs]
    cases lm_b m s
    · rw [Bool.and_false]; exact BitVec.getLsbD_zero
    · rw [if_pos rfl, BitVec.getLsbD_shiftLeft]; simp [hi8, Nat.not_lt.mpr hi]
  show ∃ n, wX_addShifted_6 post (nI v) (nI j) m st pa ac so cc n 0 (nI j) he pl wk ar ot co tr le me ta mt
  refine pk_loop (fun n k (s : Int64 × (Nat → Int64)) => wX_addShifted_6 post (nI v) (nI j) m st pa ac so cc n s.1 (nI k) he pl s.2 ar ot co tr le me ta mt) (fun k s => j ≤ k ∧ lm_WK (fun t => A t + B t) s.2 k ∧ (∀ t, t < 64 → ∀ i, k ≤ i → i < 8 → lm_b (s.2 i) t = (A t).getLsbD i) ∧ ∀ t, t < 64 → lm_b s.1 t = BitVec.carry k (A t) (B t) false) 8 j (0, wk) (by omega) ⟨Nat.le_refl j, ?_, fun t ht i _ hi => hA t ht i hi, ?_⟩ ?_ ?_
  · intro t ht i hi
    show lm_b (wk i) t = (A t + B t).getLsbD i
    rw [hA t ht i (by omega), BitVec.getLsbD_add (by omega), hBl t ht i hi, lm_carry0 _ _ i (fun i2 hi2 => hBl t ht i2 (by omega))]; simp
  · intro t ht
    show lm_b 0 t = _
    rw [lm_carry0 _ _ j (fun i2 hi2 => hBl t ht i2 hi2)]; exact lm_b_0 t
  · intro n s hI
    exact br_t lm_e8 (H s.2 hI.2.1)
  · intro n k s hk hI hn
    obtain ⟨c, w⟩ := s
    obtain ⟨hjk, hI1, hI3, hI2⟩ := hI
    dsimp only at hI1 hI2 hI3
    refine br_f (lm_n8 hk) ?_
    dsimp only
    rw [lm_pi v k, pk_sub (show j ≤ 8 * v + k by omega), nI_clamp (show 8 * v + k - j < 2 ^ 31 by omega), nI_clamp (show k < 2 ^ 31 by omega)]
    have ei : 8 * v + k - j = 8 * v + (k - j) := by omega
    refine ⟨vp_in_nI hk (by decide), nm_e ⟨vp_in_nI (by omega) (by decide), nm_e ⟨vp_in_nI hk (by decide), nm_e (nm_e (nm_r (nI_1 k) (hn (_, _) ⟨by omega, lm_wks hI1 (fun s hs => ?_), fun t ht i hi hi8 => ?_, fun s hs => ?_⟩)))⟩⟩⟩
    · rw [lm_b_xor, lm_b_xor, lm_b_and, ei, hP s hs v hv (k - j) (by omega), hI3 s hs k (by omega) hk, hI2 s hs, ← hBh s hs k hjk hk]; exact lm_addB _ _ hk
    · show lm_b (vp_updL w k _ i) t = _
      rw [pk_uLn (by omega)]; exact hI3 t ht i (by omega) hi8
    · simp only [lm_b_or, lm_b_and, lm_b_xor]
      rw [ei, hP s hs v hv (k - j) (by omega), hI3 s hs k (by omega) hk, hI2 s hs, ← hBh s hs k hjk hk]; exact lm_addC _ _ k
end
section
variable {st : Int32} {pa : Int32} {ac : Int64} {so : Int32} {cc : Int32} {he : Nat → Int32} {pl : Nat → Int64} {wk : Nat → Int64} {ar : Nat → Int64} {ot : Nat → Int64} {co : Nat → Int32} {tr : Nat → Int64} {le : Nat → Int32} {me : Nat → Int32} {ta : Nat → Int32} {mt : Nat → Int32}
theorem lm_x_mul2 {post : SX → Prop} {V : Nat → Nat → BitVec 8} (hP : lm_PL V pl) {v1 v2 : Nat} (h1 : v1 < 4) (h2 : v2 < 4) (hW : lm_WK (fun _ => 0#8) wk 8) (H : ∀ w, lm_WK (fun s => V s v1 * V s v2) w 8 → post (st, pa, ac, so, cc, he, pl, w, ar, ot, co, tr, le, me, ta, mt)) : ∃ n, wX_multiplyPlanes_23 post (nI v1) (nI v2) n (nI 0) st pa ac so cc he pl wk ar ot co tr le me ta mt := by
  refine pk_loop (fun n k (w : Nat → Int64) => wX_multiplyPlanes_23 post (nI v1) (nI v2) n (nI k) st pa ac so cc he pl w ar ot co tr le me ta mt) (fun k w => lm_WK (fun s => lm_mu (V s v1) (V s v2) k) w 8) 8 0 wk (by omega) hW ?_ ?_
  · intro n w hI
    refine br_t lm_e8 (H w ?_)
    intro s hs j hj
    show lm_b (w j) s = (V s v1 * V s v2).getLsbD j
    rw [← lm_mu_8]; exact hI s hs j hj
  · intro n k w hk hI hn
    refine br_f (lm_n8 hk) ?_
    rw [lm_pi v2 k, nI_clamp (show 8 * v2 + k < 2 ^ 31 by omega)]
    refine ⟨vp_in_nI (by omega) (by decide), ?_⟩
    refine lm_x_sht hP h1 hk (B := fun s => if (V s v2).getLsbD k then V s v1 <<< k else 0#8) (fun s hs => ?_) hI (fun w' hw' => ?_)
    · rw [hP s hs v2 h2 k hk]
    · exact nm_r (nI_1 k) (hn w' hw')
theorem lm_x_mul {post : SX → Prop} {V : Nat → Nat → BitVec 8} (hP : lm_PL V pl) {v1 v2 : Nat} (h1 : v1 < 4) (h2 : v2 < 4) (H : ∀ w, lm_WK (fun s => V s v1 * V s v2) w 8 → post (st, pa, ac, so, cc, he, pl, w, ar, ot, co, tr, le, me, ta, mt)) : wpX_multiplyPlanes post (st, pa, ac, so, cc, he, pl, wk, ar, ot, co, tr, le, me, ta, mt) (nI v1) (nI v2) := by
  show ∃ n, wX_multiplyPlanes_2 post (nI v1) (nI v2) st pa ac so cc n (nI 0) he pl wk ar ot co tr le me ta mt
  refine pk_loop (fun n k (w : Nat → Int64) => wX_multiplyPlanes_2 post (nI v1) (nI v2) st pa ac so cc n (nI k) he pl w ar ot co tr le me ta mt) (fun k w => lm_WK (fun _ => 0#8) w k) 8 0 wk (by omega) lm_wk0 ?_ ?_
  · intro n w hI
    exact br_t lm_e8 (lm_x_mul2 hP h1 h2 hI H)
  · intro n k w hk hI hn
    refine br_f (lm_n8 hk) ?_
    rw [nI_clamp (show k < 2 ^ 31 by omega)]
    exact ⟨vp_in_nI hk (by decide), nm_e (nm_r (nI_1 k) (hn _ (lm_wks hI (fun s hs => (lm_b_0 s).trans BitVec.getLsbD_zero.symm))))⟩
theorem lm_x_comb {post : SX → Prop} {V : Nat → Nat → BitVec 8} (hP : lm_PL V pl) {v1 v2 : Nat} (h1 : v1 < 4) (h2 : v2 < 4) {c : Int32} (hc : c = 5 ∨ c = 6 ∨ c = 7) (b : Int32) (H : ∀ w, lm_WK (fun s => lm_val c (V s v1) (V s v2) b) w 8 → post (st, pa, ac, so, cc, he, pl, w, ar, ot, co, tr, le, me, ta, mt)) : wpX_combinePlanes post (st, pa, ac, so, cc, he, pl, wk, ar, ot, co, tr, le, me, ta, mt) c (nI v1) (nI v2) := by
  show ∃ n, wX_combinePlanes_3 post c (nI v1) (nI v2) st pa ac so cc n (nI 0) he pl wk ar ot co tr le me ta mt
  refine pk_loop (fun n k (w : Nat → Int64) => wX_combinePlanes_3 post c (nI v1) (nI v2) st pa ac so cc n (nI k) he pl w ar ot co tr le me ta mt) (fun k w => lm_WK (fun s => lm_val c (V s v1) (V s v2) b) w k) 8 0 wk (by omega) lm_wk0 ?_ ?_
  · intro n w hI
    exact br_t lm_e8 (H w hI)
  · intro n k w hk hI hn
    refine br_f (lm_n8 hk) ?_
    rw [lm_pi v1 k, lm_pi v2 k, nI_clamp (show 8 * v1 + k < 2 ^ 31 by omega), nI_clamp (show 8 * v2 + k < 2 ^ 31 by omega), nI_clamp (show k < 2 ^ 31 by omega)]
    refine ⟨vp_in_nI (by omega) (by decide), nm_e ⟨vp_in_nI (by omega) (by decide), nm_e (br_c (fun h5 => ⟨vp_in_nI hk (by decide), nm_e (nm_r (nI_1 k) (hn _ (lm_wks hI (fun s hs => ?_))))⟩) (fun h5 => br_c (fun h6 => ⟨vp_in_nI hk (by decide), nm_e (nm_r (nI_1 k) (hn _ (lm_wks hI (fun s hs => ?_))))⟩) (fun h6 => ⟨vp_in_nI hk (by decide), nm_e (nm_r (nI_1 k) (hn _ (lm_wks hI (fun s hs => ?_))))⟩)))⟩⟩
    · rw [lm_b_and, hP s hs v1 h1 k hk, hP s hs v2 h2 k hk, h5, lm_val_5, BitVec.getLsbD_and]
    · rw [lm_b_or, hP s hs v1 h1 k hk, hP s hs v2 h2 k hk, h6, lm_val_6, BitVec.getLsbD_or]
    · have h7 : c = 7 := by
        rcases hc with z | z | z
        · exact absurd z h5
        · exact absurd z h6
        · exact z
      rw [lm_b_xor, hP s hs v1 h1 k hk, hP s hs v2 h2 k hk, h7, lm_val_7, BitVec.getLsbD_xor]
theorem lm_x_shl {post : SX → Prop} {V : Nat → Nat → BitVec 8} (hP : lm_PL V pl) {v m : Nat} (hv : v < 4) (hm : m < 8) (H : ∀ w, lm_WK (fun s => V s v <<< m) w 8 → post (st, pa, ac, so, cc, he, pl, w, ar, ot, co, tr, le, me, ta, mt)) : wpX_shiftPlanes post (st, pa, ac, so, cc, he, pl, wk, ar, ot, co, tr, le, me, ta, mt) (nI v) (nI m) := by
  show ∃ n, wX_shiftPlanes_2 post (nI v) (nI m) st pa ac so cc n (nI 0) he pl wk ar ot co tr le me ta mt
  refine pk_loop (fun n k (w : Nat → Int64) => wX_shiftPlanes_2 post (nI v) (nI m) st pa ac so cc n (nI k) he pl w ar ot co tr le me ta mt) (fun k w => lm_WK (fun s => V s v <<< m) w k) 8 0 wk (by omega) lm_wk0 ?_ ?_
  · intro n w hI
    exact br_t lm_e8 (H w hI)
  · intro n k w hk hI hn
    refine br_f (lm_n8 hk) ?_
    by_cases hkm : k < m
    · refine nm_e (br_t (pk_sneg (by omega) hkm) ?_)
      rw [nI_clamp (show k < 2 ^ 31 by omega)]
      refine ⟨vp_in_nI hk (by decide), nm_e (nm_r (nI_1 k) (hn _ (lm_wks hI (fun s hs => ?_))))⟩
      rw [BitVec.getLsbD_shiftLeft, lm_b_0]; simp [hkm]
    · refine nm_r (pk_sub (show m ≤ k by omega)) (br_f (nI_pos (by omega)) (br_f (lm_n8 (by omega)) ?_))
      rw [lm_pi v (k - m), nI_clamp (show 8 * v + (k - m) < 2 ^ 31 by omega), nI_clamp (show k < 2 ^ 31 by omega)]
      refine ⟨vp_in_nI (by omega) (by decide), vp_in_nI hk (by decide), nm_e (nm_r (nI_1 k) (hn _ (lm_wks hI (fun s hs => ?_))))⟩
      rw [BitVec.getLsbD_shiftLeft, hP s hs v hv (k - m) (by omega)]; simp [hk, hkm]
theorem lm_ng (k m : Nat) : nI k - -nI m = nI (k + m) := by
  rw [Int32.sub_neg, nI_add]
theorem lm_x_shr {post : SX → Prop} {V : Nat → Nat → BitVec 8} (hP : lm_PL V pl) {v m : Nat} (hv : v < 4) (hm : m < 8) (H : ∀ w, lm_WK (fun s => V s v >>> m) w 8 → post (st, pa, ac, so, cc, he, pl, w, ar, ot, co, tr, le, me, ta, mt)) : wpX_shiftPlanes post (st, pa, ac, so, cc, he, pl, wk, ar, ot, co, tr, le, me, ta, mt) (nI v) (-nI m) := by
  show ∃ n, wX_shiftPlanes_2 post (nI v) (-nI m) st pa ac so cc n (nI 0) he pl wk ar ot co tr le me ta mt
  refine pk_loop (fun n k (w : Nat → Int64) => wX_shiftPlanes_2 post (nI v) (-nI m) st pa ac so cc n (nI k) he pl w ar ot co tr le me ta mt) (fun k w => lm_WK (fun s => V s v >>> m) w k) 8 0 wk (by omega) lm_wk0 ?_ ?_
  · intro n w hI
    exact br_t lm_e8 (H w hI)
  · intro n k w hk hI hn
    refine br_f (lm_n8 hk) (nm_r (lm_ng k m) (br_f (nI_pos (by omega)) ?_))
    by_cases hkm : k + m < 8
    · refine br_f (lm_n8 hkm) ?_
      rw [lm_pi v (k + m), nI_clamp (show 8 * v + (k + m) < 2 ^ 31 by omega), nI_clamp (show k < 2 ^ 31 by omega)]
      refine ⟨vp_in_nI (by omega) (by decide), vp_in_nI hk (by decide), nm_e (nm_r (nI_1 k) (hn _ (lm_wks hI (fun s hs => ?_))))⟩
      rw [BitVec.getLsbD_ushiftRight, hP s hs v hv (k + m) hkm, Nat.add_comm m k]
    · refine br_t (nI_le (a := 8) (by omega) (by omega)) ?_
      rw [nI_clamp (show k < 2 ^ 31 by omega)]
      refine ⟨vp_in_nI hk (by decide), nm_e (nm_r (nI_1 k) (hn _ (lm_wks hI (fun s hs => ?_))))⟩
      rw [BitVec.getLsbD_ushiftRight, lm_b_0, BitVec.getLsbD_of_ge _ _ (by omega)]
theorem lm_x_truth {post : SX → Prop} {t : Int64} (H : ∀ w, lm_WK (fun s => if lm_b t s then 1#8 else 0#8) w 8 → post (st, pa, ac, so, cc, he, pl, w, ar, ot, co, tr, le, me, ta, mt)) : wpX_setTruth post (st, pa, ac, so, cc, he, pl, wk, ar, ot, co, tr, le, me, ta, mt) t := by
  refine nm_e ?_
  show ∃ n, wX_setTruth_9 post st pa ac so cc n (nI 1) he pl (vp_updL wk 0 t) ar ot co tr le me ta mt
  refine pk_loop (fun n k (w : Nat → Int64) => wX_setTruth_9 post st pa ac so cc n (nI k) he pl w ar ot co tr le me ta mt) (fun k w => 1 ≤ k ∧ lm_WK (fun s => if lm_b t s then 1#8 else 0#8) w k) 8 1 (vp_updL wk 0 t) (by omega) ⟨Nat.le_refl 1, lm_wks lm_wk0 (fun s hs => ?_)⟩ ?_ ?_
  · cases lm_b t s <;> rfl
  · intro n w hI
    exact br_t lm_e8 (H w hI.2)
  · intro n k w hk hI hn
    refine br_f (lm_n8 hk) ?_
    rw [nI_clamp (show k < 2 ^ 31 by omega)]
    refine ⟨vp_in_nI hk (by decide), nm_e (nm_r (nI_1 k) (hn _ ⟨by omega, lm_wks hI.2 (fun s hs => ?_)⟩))⟩
    have hk1 := hI.1
    rw [lm_b_0]
    cases lm_b t s
    · exact BitVec.getLsbD_zero.symm
    · rw [if_pos rfl, BitVec.getLsbD_one, decide_eq_false (show ¬ k = 0 by omega)]; rfl
theorem lm_x_ne {post : SX → Prop} {R : Nat → BitVec 8} (hW : lm_WK R wk 8) (H : ∀ w, lm_WK (fun s => if R s = 0#8 then 1#8 else 0#8) w 8 → post (st, pa, ac, so, cc, he, pl, w, ar, ot, co, tr, le, me, ta, mt)) : ∃ n, wX_compute_229 post st pa ac so cc he pl wk ar ot co tr le me ta mt n 0 (nI 0) := by
  refine pk_loop (fun n k (y : Int64) => wX_compute_229 post st pa ac so cc he pl wk ar ot co tr le me ta mt n y (nI k)) (fun k y => ∀ s, s < 64 → (lm_b y s = false ↔ ∀ j, j < k → (R s).getLsbD j = false)) 8 0 0 (by omega) ?_ ?_ ?_
  · intro s hs
    exact ⟨fun _ j hj => absurd hj (Nat.not_lt_zero j), fun _ => lm_b_0 s⟩
  · intro n y hI
    refine br_t lm_e8 (lm_x_truth (fun w hw => H w (fun s hs j hj => ?_)))
    rw [hw s hs j hj]
    dsimp only
    rw [lm_b_not y hs]
    have h := hI s hs
    by_cases z : R s = 0#8
    · rw [if_pos z, h.mpr (fun j hj => by rw [z]; exact BitVec.getLsbD_zero)]; rfl
    · rw [if_neg z, ts_nf (fun z2 => z (lm_z8 (h.mp z2)))]; rfl
  · intro n k y hk hI hn
    refine br_f (lm_n8 hk) ?_
    rw [nI_clamp (show k < 2 ^ 31 by omega)]
    refine ⟨vp_in_nI hk (by decide), nm_e (nm_r (nI_1 k) (hn _ ?_))⟩
    intro s hs
    rw [lm_b_or, hW s hs k hk, Bool.or_eq_false_iff, hI s hs]
    constructor
    · intro ⟨a, b⟩ j hj
      by_cases e : j = k
      · subst e; exact b
      · exact a j (by omega)
    · intro h
      exact ⟨fun j hj => h j (by omega), h k (by omega)⟩
end
end
section
/-! ===== the component: compute, keepResult, valueFor, putOut, branch, clear ===== -/
theorem lm_b7 (b : Int32) : b &&& 7 = nI (b.toBitVec.toNat % 8) := pk_and b 3 (by decide)
section
variable {st : Int32} {pa : Int32} {ac : Int64} {so : Int32} {cc : Int32} {he : Nat → Int32} {pl : Nat → Int64} {wk : Nat → Int64} {ar : Nat → Int64} {ot : Nat → Int64} {co : Nat → Int32} {tr : Nat → Int64} {le : Nat → Int32} {me : Nat → Int32} {ta : Nat → Int32} {mt : Nat → Int32}
theorem lm_x_comp {post : SX → Prop} {V : Nat → Nat → BitVec 8} (hP : lm_PL V pl) {c : Int32} (hc : c = 0 ∨ c = 1 ∨ c = 2 ∨ c = 3 ∨ c = 4 ∨ c = 5 ∨ c = 6 ∨ c = 7 ∨ c = 8 ∨ c = 9 ∨ c = 10 ∨ c = 11) {v : Nat} (hv : v < 4) (b : Int32) (H : ∀ w, lm_WK (fun s => lm_val c (V s v) (V s (lm_ix b)) b) w 8 → post (st, pa, ac, so, cc, he, pl, w, ar, ot, co, tr, le, me, ta, mt)) : wpX_compute post (st, pa, ac, so, cc, he, pl, wk, ar, ot, co, tr, le, me, ta, mt) c (nI v) b := by
  refine nm_r (lm_ix_eq b) ?_
  have hb := lm_ix_lt b
  rcases hc with rfl | rfl | rfl | rfl | rfl | rfl | rfl | rfl | rfl | rfl | rfl | rfl
  · refine br_t rfl (lm_x_c0 (fun w hw => H w ?_))
    simp only [lm_val_0]; exact hw
  · refine br_f (by decide) (br_t rfl (lm_x_c1 hP hb (fun w hw => H w ?_)))
    simp only [lm_val_1]; exact hw
  · refine br_f (by decide) (br_f (by decide) (br_t rfl (lm_x_add hP hv hb (fun w hw => H w ?_))))
    simp only [lm_val_2]; exact hw
  · refine br_f (by decide) (br_f (by decide) (br_f (by decide) (br_t rfl (lm_x_sub hP hv hb (fun y w hy hw => H w ?_)))))
    simp only [lm_val_3]; exact hw
  · refine br_f (by decide) (br_f (by decide) (br_f (by decide) (br_f (by decide) (br_t rfl (lm_x_mul hP hv hb (fun w hw => H w ?_))))))
    simp only [lm_val_4]; exact hw
  · exact br_f (by decide) (br_f (by decide) (br_f (by decide) (br_f (by decide) (br_f (by decide) (br_f (by decide) (lm_x_comb hP hv hb (Or.inl rfl) b H))))))
  · exact br_f (by decide) (br_f (by decide) (br_f (by decide) (br_f (by decide) (br_f (by decide) (br_f (by decide) (lm_x_comb hP hv hb (Or.inr (Or.inl rfl)) b H))))))
  · exact br_f (by decide) (br_f (by decide) (br_f (by decide) (br_f (by decide) (br_f (by decide) (br_f (by decide) (lm_x_comb hP hv hb (Or.inr (Or.inr rfl)) b H))))))
  · refine br_f (by decide) (br_f (by decide) (br_f (by decide) (br_f (by decide) (br_f (by decide) (br_t (by decide) (br_f (by decide) (br_t rfl ?_)))))))
    unfold wX_compute_184
    rw [lm_b7 b]
    refine lm_x_shl hP hv (Nat.mod_lt _ (by decide)) (fun w hw => H w ?_)
    simp only [lm_val_8]; exact hw
  · refine br_f (by decide) (br_f (by decide) (br_f (by decide) (br_f (by decide) (br_f (by decide) (br_t (by decide) (br_f (by decide) (br_f (by decide) ?_)))))))
    unfold wX_compute_184
    rw [lm_b7 b]
    refine lm_x_shr hP hv (Nat.mod_lt _ (by decide)) (fun w hw => H w ?_)
    simp only [lm_val_9]; exact hw
  · refine br_f (by decide) (br_f (by decide) (br_f (by decide) (br_f (by decide) (br_f (by decide) (br_t (by decide) (br_t (by decide) (br_t rfl (lm_x_sub hP hv hb (fun y w hy hw => lm_x_truth (fun w2 hw2 => H w2 (fun s hs j hj => ?_)))))))))))
    show lm_b (w2 j) s = (lm_val 10 (V s v) (V s (lm_ix b)) b).getLsbD j
    rw [lm_val_10, ← hy s hs]; exact hw2 s hs j hj
  · refine br_f (by decide) (br_f (by decide) (br_f (by decide) (br_f (by decide) (br_f (by decide) (br_t (by decide) (br_t (by decide) (br_f (by decide) (lm_x_comb hP hv hb (Or.inr (Or.inr rfl)) b (fun w hw => lm_x_ne hw (fun w2 hw2 => H w2 (fun s hs j hj => ?_)))))))))))
    show lm_b (w2 j) s = (lm_val 11 (V s v) (V s (lm_ix b)) b).getLsbD j
    rw [lm_val_11, hw2 s hs j hj]
    show (if lm_val 7 (V s v) (V s (lm_ix b)) b = 0#8 then 1#8 else 0#8).getLsbD j = _
    rw [lm_val_7]
    by_cases z : V s v = V s (lm_ix b)
    · rw [if_pos z, if_pos (BitVec.xor_eq_zero_iff.mpr z)]
    · rw [if_neg z, if_neg (fun z2 => z (BitVec.xor_eq_zero_iff.mp z2))]
theorem lm_put_s (a : Bool) (f : Nat → BitVec 8) (i : Nat) (x : BitVec 8) : lm_put a f i x i = if a = true then x else f i := by
  unfold lm_put
  cases a
  · rfl
  · exact lm_us
theorem lm_put_n (a : Bool) (f : Nat → BitVec 8) {i j : Nat} (h : j ≠ i) (x : BitVec 8) : lm_put a f i x j = f j := by
  unfold lm_put
  cases a
  · rfl
  · exact lm_un h
theorem lm_x_keep {post : SX → Prop} {V : Nat → Nat → BitVec 8} (hP : lm_PL V pl) {R : Nat → BitVec 8} (hW : lm_WK R wk 8) {v : Nat} (hv : v < 4) {a : Nat → Bool} (ha : ∀ s, s < 64 → lm_b ac s = a s) (H : ∀ p, lm_PL (fun s => lm_put (a s) (V s) v (R s)) p → post (st, pa, ac, so, cc, he, p, wk, ar, ot, co, tr, le, me, ta, mt)) : wpX_keepResult post (st, pa, ac, so, cc, he, pl, wk, ar, ot, co, tr, le, me, ta, mt) (nI v) := by
  show ∃ n, wX_keepResult_2 post (nI v) st pa ac so cc n (nI 0) he pl wk ar ot co tr le me ta mt
  refine pk_loop (fun n k (p : Nat → Int64) => wX_keepResult_2 post (nI v) st pa ac so cc n (nI k) he p wk ar ot co tr le me ta mt) (fun k p => ∀ s, s < 64 → ∀ i, i < 4 → ∀ j, j < 8 → lm_b (p (8 * i + j)) s = if i = v ∧ j < k then (if a s = true then R s else V s v).getLsbD j else (V s i).getLsbD j) 8 0 pl (by omega) ?_ ?_ ?_
  · intro s hs i hi j hj
    rw [if_neg (by omega)]; exact hP s hs i hi j hj
  · intro n p hI
    refine br_t lm_e8 (H p (fun s hs i hi j hj => ?_))
    rw [hI s hs i hi j hj]
    by_cases e : i = v
    · subst e
      rw [if_pos ⟨rfl, hj⟩]
      show _ = (lm_put (a s) (V s) i (R s) i).getLsbD j
      rw [lm_put_s]
    · rw [if_neg (fun z => e z.1)]
      show _ = (lm_put (a s) (V s) v (R s) i).getLsbD j
      rw [lm_put_n _ _ e]
  · intro n k p hk hI hn
    refine br_f (lm_n8 hk) ?_
    rw [lm_pi v k, nI_clamp (show 8 * v + k < 2 ^ 31 by omega), nI_clamp (show k < 2 ^ 31 by omega)]
    refine ⟨vp_in_nI (by omega) (by decide), vp_in_nI hk (by decide), vp_in_nI (by omega) (by decide), nm_e (nm_r (nI_1 k) (hn _ (fun s hs i hi j hj => ?_)))⟩
    have hI' := hI s hs i hi j hj
    by_cases e : 8 * i + j = 8 * v + k
    · have e1 : i = v := by omega
      have e2 : j = k := by omega
      subst e1; subst e2
      rw [if_neg (by omega)] at hI'
      rw [pk_uLs, if_pos ⟨rfl, Nat.lt_succ_self j⟩, lm_b_or, lm_b_and, lm_b_and, lm_b_not _ hs, hI', hW s hs j hj, ha s hs]
      cases a s <;> simp
    · rw [pk_uLn e, hI']
      by_cases e1 : i = v ∧ j < k
      · rw [if_pos e1, if_pos (show i = v ∧ j < k + 1 from ⟨e1.1, by omega⟩)]
      · rw [if_neg e1, if_neg (by omega)]
theorem lm_x_val {post : Int32 → Prop} {V : Nat → Nat → BitVec 8} (hP : lm_PL V pl) {s v : Nat} (hs : s < 64) (hv : v < 4) (H : post (nI (V s v).toNat)) : wpX_valueFor post (st, pa, ac, so, cc, he, pl, wk, ar, ot, co, tr, le, me, ta, mt) (nI s) (nI v) := by
  have e7 : (7 : Int32) = nI 8 + (-1) := by decide
  show ∃ n, wX_valueFor_6 post (nI s) (nI v) st pa ac so cc he pl wk ar ot co tr le me ta mt n 0 7
  rw [e7]
  refine ⟨9, pk_loopD (fun n i (x : Int32) => wX_valueFor_6 post (nI s) (nI v) st pa ac so cc he pl wk ar ot co tr le me ta mt n x (nI i + (-1))) (fun i x => i ≤ 8 ∧ x = nI ((V s v).toNat / 2 ^ i)) ?_ ?_ 8 0 ⟨by omega, ?_⟩⟩
  · intro n x hx
    refine br_t (show nI 0 + (-1) < 0 by decide) ?_
    rw [hx.2, Nat.pow_zero, Nat.div_one]; exact H
  · intro n i x hx hn
    obtain ⟨hi, hx⟩ := hx
    show wX_valueFor_6 post (nI s) (nI v) st pa ac so cc he pl wk ar ot co tr le me ta mt (n + 1) x (nI (i + 1) + (-1))
    rw [pk_m1]
    refine br_f (nI_pos (by omega)) ?_
    rw [lm_pi v i, nI_clamp (show 8 * v + i < 2 ^ 31 by omega), lm_bitN _ hs, hP s hs v hv i (by omega)]
    refine ⟨vp_in_nI (by omega) (by decide), nm_e (nm_e (hn _ ⟨by omega, ?_⟩))⟩
    rw [hx, show (2 : Int32) = nI 2 from rfl, pk_mul, nI_add]
    have e1 : ((V s v).getLsbD i).toNat = (V s v).toNat / 2 ^ i % 2 := Nat.toNat_testBit _ _
    have e2 : (V s v).toNat / 2 ^ (i + 1) = (V s v).toNat / 2 ^ i / 2 := by rw [Nat.pow_succ, Nat.div_div_eq_div_mul]
    rw [e1, e2]
    exact congrArg nI (by omega)
  · rw [Nat.div_eq_of_lt (V s v).isLt]; rfl
theorem lm_sh8 {n x : Nat} (hx : x < 256) (h : n * 256 + x < 2 ^ 64) : (lN n <<< ((8 : Int32).toInt64 &&& 63)) ||| (nI x).toInt64 = lN (n * 256 + x) := by
  have e : lN n <<< ((8 : Int32).toInt64 &&& 63) = lN (n * 2 ^ 8) := wb_shl n (k := 8) (by decide)
  rw [e, nI_l (by omega)]
  exact g_or (k := 8) (p := 2 ^ 8) rfl hx h
theorem lm_pw {c t : Nat} (hc : c < 7) (ht : t < 256 ^ c) : t < 2 ^ 48 := Nat.lt_of_lt_of_le ht (Nat.le_trans (Nat.pow_le_pow_right (by decide) (show c ≤ 6 by omega)) (by decide))
theorem lm_x_put {post : SX → Prop} {V : Nat → Nat → BitVec 8} (hP : lm_PL V pl) {v : Nat} (hv : v < 4) {a : Nat → Bool} (ha : ∀ s, s < 64 → lm_b ac s = a s) {w : Nat → Nat × Nat} (hw : ∀ s, s < 64 → co s = nI (w s).1 ∧ tr s = lN (w s).2) (hb : ∀ s, s < 64 → (w s).1 ≤ 7 ∧ (w s).2 < 256 ^ (w s).1) (H : ∀ c t, (∀ s, s < 64 → c s = nI (lm_out (a s) (V s v).toNat (w s)).1 ∧ t s = lN (lm_out (a s) (V s v).toNat (w s)).2) → post (st, pa, ac, 0, cc, he, pl, wk, ar, ot, c, t, le, me, ta, mt)) : wpX_putOut post (st, pa, ac, so, cc, he, pl, wk, ar, ot, co, tr, le, me, ta, mt) (nI v) := by
  show ∃ n, wX_putOut_7 post (nI v) st pa ac 0 cc n (nI 0) he pl wk ar ot co tr le me ta mt
  refine pk_loop (fun n k (s : (Nat → Int32) × (Nat → Int64)) => wX_putOut_7 post (nI v) st pa ac 0 cc n (nI k) he pl wk ar ot s.1 s.2 le me ta mt) (fun k s => ∀ i, i < 64 → (i < k → s.1 i = nI (lm_out (a i) (V i v).toNat (w i)).1 ∧ s.2 i = lN (lm_out (a i) (V i v).toNat (w i)).2) ∧ (k ≤ i → s.1 i = nI (w i).1 ∧ s.2 i = lN (w i).2)) 64 0 (co, tr) (by omega) (fun i hi => ⟨fun z => absurd z (Nat.not_lt_zero i), fun _ => hw i hi⟩) ?_ ?_
  · intro n s hI
    exact br_t (nI_le (a := 64) (b := 64) (by omega) (by decide)) (H s.1 s.2 (fun i hi => (hI i hi).1 hi))
  · intro n k s hk hI hn
    obtain ⟨c, t⟩ := s
    dsimp only at hI
    have hIk := (hI k hk).2 (Nat.le_refl k)
    have ec : c (nI k).toNatClampNeg = nI (w k).1 := by rw [nI_clamp (by omega)]; exact hIk.1
    have hbk := hb k hk
    refine br_f (nI_ge (b := 64) hk (by decide)) ?_
    by_cases hz : a k = true
    · have z1 : ¬ (((ac.toUInt64 >>> ((nI k).toInt64.toUInt64 &&& Int64.toUInt64 63)).toInt64) &&& 1) = 0 := by
        rw [lm_bit0 ac hk, ha k hk, hz]; decide
      refine br_f z1 ⟨vp_in_nI hk (by decide), ?_⟩
      by_cases h7 : (w k).1 < 7
      · have z2 : ¬ (7 : Int32) ≤ c (nI k).toNatClampNeg := by rw [ec]; exact nI_ge (b := 7) h7 (by decide)
        refine br_f z2 (lm_x_val hP hk hv ?_)
        rw [nI_clamp (show k < 2 ^ 31 by omega)]
        refine ⟨vp_in_nI hk (by decide), vp_in_nI hk (by decide), nm_e ⟨vp_in_nI hk (by decide), vp_in_nI hk (by decide), nm_e (nm_r (nI_1 k) (hn (upd c k (c k + 1), vp_updL t k ((t k <<< ((8 : Int32).toInt64 &&& 63)) ||| (nI (V k v).toNat).toInt64)) (fun i hi => ?_)))⟩⟩
        dsimp only
        by_cases e : i = k
        · subst e
          refine ⟨fun _ => ?_, fun z => by omega⟩
          rw [pk_us, pk_uLs, hIk.1, hIk.2, nI_1, lm_sh8 (V i v).isLt (by have := lm_pw h7 hbk.2; have := (V i v).isLt; omega)]
          unfold lm_out
          rw [if_pos ⟨hz, h7⟩]
          exact ⟨rfl, rfl⟩
        · rw [pk_un e, pk_uLn e]
          exact ⟨fun z => (hI i hi).1 (by omega), fun z => (hI i hi).2 (by omega)⟩
      · have z2 : (7 : Int32) ≤ c (nI k).toNatClampNeg := by rw [ec]; exact nI_le (a := 7) (by omega) (by omega)
        refine br_t z2 (nm_r (nI_1 k) (hn (c, t) (fun i hi => ⟨fun z => ?_, fun z => (hI i hi).2 (by omega)⟩)))
        by_cases e : i = k
        · subst e
          unfold lm_out
          rw [if_neg (fun z => h7 z.2)]; exact hIk
        · exact (hI i hi).1 (by omega)
    · have z1 : (((ac.toUInt64 >>> ((nI k).toInt64.toUInt64 &&& Int64.toUInt64 63)).toInt64) &&& 1) = 0 := by
        rw [lm_bit0 ac hk, ha k hk]; exact ts_nt hz
      refine br_t z1 (nm_r (nI_1 k) (hn (c, t) (fun i hi => ⟨fun z => ?_, fun z => (hI i hi).2 (by omega)⟩)))
      by_cases e : i = k
      · subst e
        unfold lm_out
        rw [if_neg (fun z => hz z.1)]; exact hIk
      · exact (hI i hi).1 (by omega)
/-! clear -/
theorem lm_b_one {k s : Nat} (hs : s < 64) (p : Bool) : lm_b (lN (p.toNat * 2 ^ k)) s = (decide (s = k) && p) := by
  rw [lm_b_lN hs]
  cases p
  · simp
  · rw [Bool.and_true]
    show (1 * 2 ^ k).testBit s = _
    rw [Nat.one_mul, Nat.testBit_two_pow]
    exact decide_eq_decide.mpr ⟨fun h => h.symm, fun h => h.symm⟩
theorem lm_x_clear67 {post : SX → Prop} {J : Int32 → (Nat → Int32) → (Nat → Int64) → (Nat → Int64) → (Nat → Int64) → (Nat → Int64) → (Nat → Int32) → (Nat → Int64) → (Nat → Int32) → (Nat → Int32) → (Nat → Int32) → (Nat → Int32) → Prop} {k : Nat} (hk : k < 64) (h0 : ∀ s, s < 64 → ∀ v, v < 4 → ∀ j, j < 8 → lm_b (pl (8 * v + j)) s = (decide (v = 0) && decide (s < k) && s.testBit j)) (H : ∀ p, (∀ s, s < 64 → ∀ v, v < 4 → ∀ j, j < 8 → lm_b (p (8 * v + j)) s = (decide (v = 0) && decide (s < k + 1) && s.testBit j)) → J (nI (k + 1)) he p wk ar ot co tr le me ta mt) : ∃ n, wX_clear_67 post J (nI k) st pa ac so cc n (nI 0) he pl wk ar ot co tr le me ta mt := by
  refine pk_loop (fun n b (p : Nat → Int64) => wX_clear_67 post J (nI k) st pa ac so cc n (nI b) he p wk ar ot co tr le me ta mt) (fun b p => ∀ s, s < 64 → ∀ v, v < 4 → ∀ j, j < 8 → lm_b (p (8 * v + j)) s = (decide (v = 0) && (decide (s < k) || (decide (s = k) && decide (j < b))) && s.testBit j)) 6 0 pl (by omega) ?_ ?_ ?_
  · intro s hs v hv j hj
    rw [h0 s hs v hv j hj]; simp
  · intro n p hI
    refine br_t (nI_le (a := 6) (b := 6) (by omega) (by decide)) (nm_r (nI_1 k) (H p (fun s hs v hv j hj => ?_)))
    rw [hI s hs v hv j hj]
    by_cases e : s = k
    · subst e
      by_cases hj6 : j < 6
      · simp [hj6]
      · have hb : s.testBit j = false := Nat.testBit_lt_two_pow (Nat.lt_of_lt_of_le hs (Nat.le_trans (show 64 ≤ 2 ^ 6 by decide) (Nat.pow_le_pow_right (by decide) (by omega))))
        rw [hb]; simp
    · have e2 : decide (s < k + 1) = decide (s < k) := decide_eq_decide.mpr ⟨fun h => by omega, fun h => by omega⟩
      rw [e2, decide_eq_false e]; simp
  · intro n b p hb hI hn
    refine br_f (nI_ge (b := 6) hb (by decide)) ?_
    rw [nI_clamp (show b < 2 ^ 31 by omega), lm_ibit (nI k) (by omega), nI_l (Nat.lt_of_le_of_lt (Bool.toNat_le _) (by decide)), wb_shl _ hk]
    refine ⟨vp_in_nI (by omega) (by decide), vp_in_nI (by omega) (by decide), nm_e (nm_r (nI_1 b) (hn _ (fun s hs v hv j hj => ?_)))⟩
    have hI' := hI s hs v hv j hj
    have ek : (nI k).toBitVec.getLsbD b = k.testBit b := by
      show (nI k).toBitVec.toNat.testBit b = _
      rw [pk_tn (by omega)]
    by_cases e : 8 * v + j = b
    · have e1 : v = 0 := by omega
      have e2 : j = b := by omega
      subst e1; subst e2
      rw [show 8 * 0 + j = j by omega] at hI' ⊢
      rw [pk_uLs, lm_b_or, hI', lm_b_one hs, ek]
      by_cases e3 : s = k
      · subst e3; simp
      · simp [e3]
    · rw [pk_uLn e, hI']
      by_cases e3 : v = 0
      · subst e3
        have e2 : decide (j < b + 1) = decide (j < b) := decide_eq_decide.mpr ⟨fun h => by omega, fun h => by omega⟩
        rw [e2]
      · rw [decide_eq_false e3]; simp
theorem lm_x_clear45 {post : SX → Prop} (h0 : ∀ i, i < 32 → pl i = 0) (H : ∀ p c t, lm_PL (fun s => (lm_0 s).2.2.2.1) p → (∀ s, s < 64 → c s = nI 0 ∧ t s = lN 0) → post (st, pa, ac, so, cc, he, p, wk, ar, ot, c, t, le, me, ta, mt)) : ∃ n, wX_clear_45 post st pa ac so cc n (nI 0) he pl wk ar ot co tr le me ta mt := by
  refine pk_loop (fun n k (s : (Nat → Int64) × (Nat → Int32) × (Nat → Int64)) => wX_clear_45 post st pa ac so cc n (nI k) he s.1 wk ar ot s.2.1 s.2.2 le me ta mt) (fun k s => (∀ i, i < 64 → ∀ v, v < 4 → ∀ j, j < 8 → lm_b (s.1 (8 * v + j)) i = (decide (v = 0) && decide (i < k) && i.testBit j)) ∧ ∀ i, i < k → s.2.1 i = nI 0 ∧ s.2.2 i = lN 0) 64 0 (pl, co, tr) (by omega) ⟨?_, fun i hi => absurd hi (Nat.not_lt_zero i)⟩ ?_ ?_
  · intro i hi v hv j hj
    show lm_b (pl (8 * v + j)) i = _
    rw [h0 _ (by omega), lm_b_0]; simp
  · intro n s hI
    refine br_t (nI_le (a := 64) (b := 64) (by omega) (by decide)) (H s.1 s.2.1 s.2.2 (fun i hi v hv j hj => ?_) hI.2)
    rw [hI.1 i hi v hv j hj]
    show _ = (if v = 0 then BitVec.ofNat 8 i else 0#8).getLsbD j
    by_cases e : v = 0
    · rw [if_pos e, BitVec.getLsbD_ofNat]; simp [e, hi, hj]
    · rw [if_neg e, BitVec.getLsbD_zero]; simp [e]
  · intro n k s hk hI hn
    obtain ⟨p, c, t⟩ := s
    obtain ⟨hI1, hI2⟩ := hI
    dsimp only at hI1 hI2
    refine br_f (nI_ge (b := 64) hk (by decide)) ?_
    rw [nI_clamp (show k < 2 ^ 31 by omega)]
    refine ⟨vp_in_nI hk (by decide), nm_e ⟨vp_in_nI hk (by decide), nm_e (lm_x_clear67 hk hI1 (fun p' hp' => hn (p', upd c k 0, vp_updL t k 0) ⟨hp', fun i hi => ?_⟩))⟩⟩
    show upd c k 0 i = nI 0 ∧ vp_updL t k 0 i = lN 0
    by_cases e : i = k
    · subst e; rw [pk_us, pk_uLs]; exact ⟨rfl, rfl⟩
    · rw [pk_un e, pk_uLn e]; exact hI2 i (by omega)
theorem lm_x_clear {post : SX → Prop} (H : ∀ p c t, lm_PL (fun s => (lm_0 s).2.2.2.1) p → (∀ s, s < 64 → c s = nI 0 ∧ t s = lN 0) → post (0, 0, -1, 0, cc, he, p, wk, ar, ot, c, t, le, me, ta, mt)) : wpX_clear post (st, pa, ac, so, cc, he, pl, wk, ar, ot, co, tr, le, me, ta, mt) := by
  show ∃ n, wX_clear_24 post 0 0 (-1) 0 cc n (nI 0) he pl wk ar ot co tr le me ta mt
  refine pk_loop (fun n k (p : Nat → Int64) => wX_clear_24 post 0 0 (-1) 0 cc n (nI k) he p wk ar ot co tr le me ta mt) (fun k p => ∀ i, i < k → p i = 0) 32 0 pl (by omega) (fun i hi => absurd hi (Nat.not_lt_zero i)) ?_ ?_
  · intro n p hI
    exact br_t (nI_le (a := 32) (b := 32) (by omega) (by decide)) (lm_x_clear45 hI H)
  · intro n k p hk hI hn
    refine br_f (nI_ge (b := 32) hk (by decide)) ?_
    rw [nI_clamp (show k < 2 ^ 31 by omega)]
    refine ⟨vp_in_nI hk (by decide), nm_e (nm_r (nI_1 k) (hn _ (fun i hi => ?_)))⟩
    by_cases e : i = k
    · subst e; exact pk_uLs
    · rw [pk_uLn e]; exact hI i (by omega)
end
end
section
/-! ===== the component holds the 64 states; a statement more ===== -/
def lm_PK (q : Nat → lm_S) (d : Nat) (h : Nat → Bool) (ac : Int64) (he : Nat → Int32) (pl ar ot : Nat → Int64) (co : Nat → Int32) (tr : Nat → Int64) : Prop :=
  (∀ s, s < 64 → lm_b ac s = (q s).1) ∧ (∀ i, i < d → he i = if h i = true then 1 else 0) ∧ (∀ s, s < 64 → ∀ i, i < d → lm_b (ar i) s = (q s).2.1 i ∧ lm_b (ot i) s = (q s).2.2.1 i) ∧ lm_PL (fun s => (q s).2.2.2.1) pl ∧ (∀ s, s < 64 → co s = nI (q s).2.2.2.2.1 ∧ tr s = lN (q s).2.2.2.2.2)
/-- the statement may be added -/
def lm_ok (c : Int32) (n d : Nat) (h : Nat → Bool) : Prop := ¬ c < 0 ∧ ¬ 15 < c ∧ n < 40 ∧ (c = 13 → d < 4) ∧ (c = 14 → 0 < d ∧ h (d - 1) = false) ∧ (c = 15 → 0 < d)
section
variable {st : Int32} {pa : Int32} {ac : Int64} {so : Int32} {cc : Int32} {he : Nat → Int32} {pl : Nat → Int64} {wk : Nat → Int64} {ar : Nat → Int64} {ot : Nat → Int64} {co : Nat → Int32} {tr : Nat → Int64} {le : Nat → Int32} {me : Nat → Int32} {ta : Nat → Int32} {mt : Nat → Int32}
theorem lm_x_80v {post : Int32 → SX → Prop} {q : Nat → lm_S} {d : Nat} {h : Nat → Bool} (hK : lm_PK q d h ac he pl ar ot co tr) (hpa : pa = nI d) {c a b : Int32} (hc : c = 0 ∨ c = 1 ∨ c = 2 ∨ c = 3 ∨ c = 4 ∨ c = 5 ∨ c = 6 ∨ c = 7 ∨ c = 8 ∨ c = 9 ∨ c = 10 ∨ c = 11) (H : ∀ pa' ac' so' he' pl' wk' ar' ot' co' tr', pa' = nI (lm_ds c d) → lm_PK (fun s => lm_step c a b d (q s)) (lm_ds c d) (lm_hs c d h) ac' he' pl' ar' ot' co' tr' → (so' = 0 ∨ (so' = so ∧ c ≠ 12)) → post (st + 1) (st + 1, pa', ac', so', cc, he', pl', wk', ar', ot', co', tr', le, me, ta, mt)) : wX_add_80 post c a b st pa ac so cc he pl wk ar ot co tr le me ta mt := by
  obtain ⟨k1, k2, k3, k4, k5⟩ := hK
  have hn : c < 13 ∧ c ≠ 12 ∧ c ≠ 13 ∧ c ≠ 14 ∧ c ≠ 15 := by
    rcases hc with rfl | rfl | rfl | rfl | rfl | rfl | rfl | rfl | rfl | rfl | rfl | rfl <;> decide
  obtain ⟨n1, n2, n3, n4, n5⟩ := hn
  unfold wX_add_80
  rw [lm_ix_eq a]
  refine nm_e (br_t n1 (br_f n2 (lm_x_comp k4 hc (lm_ix_lt a) b (fun w hw => lm_x_keep k4 hw (lm_ix_lt a) k1 (fun p hp => ?_)))))
  refine H pa ac so he p w ar ot co tr (by rw [lm_dsn n3 n5]; exact hpa) ?_ (Or.inr ⟨rfl, n2⟩)
  have e : (fun s => lm_step c a b d (q s)) = fun s => ((q s).1, (q s).2.1, (q s).2.2.1, lm_put (q s).1 (q s).2.2.2.1 (lm_ix a) (lm_val c ((q s).2.2.2.1 (lm_ix a)) ((q s).2.2.2.1 (lm_ix b)) b), (q s).2.2.2.2) := funext (fun s => lm_stepv n2 n3 n4 n5 a b d (q s))
  rw [e, lm_dsn n3 n5, lm_hsn n3 n4]
  exact ⟨k1, k2, k3, hp, k5⟩
theorem lm_x_80o {post : Int32 → SX → Prop} {q : Nat → lm_S} {d : Nat} {h : Nat → Bool} (hK : lm_PK q d h ac he pl ar ot co tr) (hb : ∀ s, s < 64 → (q s).2.2.2.2.1 ≤ 7 ∧ (q s).2.2.2.2.2 < 256 ^ (q s).2.2.2.2.1) (hpa : pa = nI d) {a b : Int32} (H : ∀ pa' ac' so' he' pl' wk' ar' ot' co' tr', pa' = nI (lm_ds 12 d) → lm_PK (fun s => lm_step 12 a b d (q s)) (lm_ds 12 d) (lm_hs 12 d h) ac' he' pl' ar' ot' co' tr' → (so' = 0 ∨ (so' = so ∧ (12 : Int32) ≠ 12)) → post (st + 1) (st + 1, pa', ac', so', cc, he', pl', wk', ar', ot', co', tr', le, me, ta, mt)) : wX_add_80 post 12 a b st pa ac so cc he pl wk ar ot co tr le me ta mt := by
  obtain ⟨k1, k2, k3, k4, k5⟩ := hK
  unfold wX_add_80
  rw [lm_ix_eq a]
  refine nm_e (br_t (by decide) (br_t rfl (lm_x_put k4 (lm_ix_lt a) k1 (w := fun s => (q s).2.2.2.2) k5 hb (fun c t hct => ?_))))
  refine H pa ac 0 he pl wk ar ot c t (by rw [lm_dsn (by decide) (by decide)]; exact hpa) ?_ (Or.inl rfl)
  have e : (fun s => lm_step 12 a b d (q s)) = fun s => ((q s).1, (q s).2.1, (q s).2.2.1, (q s).2.2.2.1, lm_out (q s).1 ((q s).2.2.2.1 (lm_ix a)).toNat (q s).2.2.2.2) := funext (fun s => lm_step12 a b d (q s))
  rw [e, lm_dsn (by decide) (by decide), lm_hsn (by decide) (by decide)]
  exact ⟨k1, k2, k3, k4, hct⟩
theorem lm_x_80i {post : Int32 → SX → Prop} {q : Nat → lm_S} {d : Nat} {h : Nat → Bool} (hK : lm_PK q d h ac he pl ar ot co tr) (hpa : pa = nI d) (hd : d < 4) {a b : Int32} (H : ∀ pa' ac' so' he' pl' wk' ar' ot' co' tr', pa' = nI (lm_ds 13 d) → lm_PK (fun s => lm_step 13 a b d (q s)) (lm_ds 13 d) (lm_hs 13 d h) ac' he' pl' ar' ot' co' tr' → (so' = 0 ∨ (so' = so ∧ (13 : Int32) ≠ 12)) → post (st + 1) (st + 1, pa', ac', so', cc, he', pl', wk', ar', ot', co', tr', le, me, ta, mt)) : wX_add_80 post 13 a b st pa ac so cc he pl wk ar ot co tr le me ta mt := by
  obtain ⟨k1, k2, k3, k4, k5⟩ := hK
  subst hpa
  unfold wX_add_80
  rw [lm_ix_eq a]
  refine nm_e (br_f (by decide) (br_t rfl (lm_x_any k4 (lm_ix_lt a) (fun y hy => ?_))))
  rw [nI_clamp (show d < 2 ^ 31 by omega)]
  refine ⟨vp_in_nI hd (by decide), nm_e ⟨vp_in_nI hd (by decide), nm_e ⟨vp_in_nI hd (by decide), nm_e (nm_e (nm_r (nI_1 d) (H (nI (d + 1)) (ac &&& y) so (upd he d (vp_nar .boolean 0)) pl wk (vp_updL ar d ac) (vp_updL ot d (ac &&& (y ^^^ (-1)))) co tr (by rw [lm_ds13]) ?_ (Or.inr ⟨rfl, by decide⟩))))⟩⟩⟩
  have e : (fun s => lm_step 13 a b d (q s)) = fun s => ((q s).1 && !decide ((q s).2.2.2.1 (lm_ix a) = 0#8), lm_ub (q s).2.1 d (q s).1, lm_ub (q s).2.2.1 d ((q s).1 && decide ((q s).2.2.2.1 (lm_ix a) = 0#8)), (q s).2.2.2.1, (q s).2.2.2.2) := funext (fun s => lm_step13 a b d (q s))
  rw [e, lm_ds13, lm_hs13]
  refine ⟨fun s hs => ?_, fun i hi => ?_, fun s hs i hi => ?_, k4, k5⟩
  · show _ = ((q s).1 && !decide ((q s).2.2.2.1 (lm_ix a) = 0#8))
    rw [lm_b_and, k1 s hs, hy s hs]
  · by_cases e : i = d
    · subst e; rw [pk_us, lm_us]; rfl
    · rw [pk_un e, lm_un e]; exact k2 i (by omega)
  · show lm_b (vp_updL ar d ac i) s = lm_ub (q s).2.1 d (q s).1 i ∧ lm_b (vp_updL ot d (ac &&& (y ^^^ (-1))) i) s = lm_ub (q s).2.2.1 d ((q s).1 && decide ((q s).2.2.2.1 (lm_ix a) = 0#8)) i
    by_cases e : i = d
    · subst e
      rw [pk_uLs, pk_uLs, lm_us, lm_us, lm_b_and, lm_b_not _ hs, k1 s hs, hy s hs, Bool.not_not]
      exact ⟨rfl, rfl⟩
    · rw [pk_uLn e, pk_uLn e, lm_un e, lm_un e]; exact k3 s hs i (by omega)
theorem lm_x_80e {post : Int32 → SX → Prop} {q : Nat → lm_S} {d : Nat} {h : Nat → Bool} (hK : lm_PK q d h ac he pl ar ot co tr) (hpa : pa = nI d) (hd : d ≤ 4) (d0 : 0 < d) {a b : Int32} (H : ∀ pa' ac' so' he' pl' wk' ar' ot' co' tr', pa' = nI (lm_ds 14 d) → lm_PK (fun s => lm_step 14 a b d (q s)) (lm_ds 14 d) (lm_hs 14 d h) ac' he' pl' ar' ot' co' tr' → (so' = 0 ∨ (so' = so ∧ (14 : Int32) ≠ 12)) → post (st + 1) (st + 1, pa', ac', so', cc, he', pl', wk', ar', ot', co', tr', le, me, ta, mt)) : wX_add_80 post 14 a b st pa ac so cc he pl wk ar ot co tr le me ta mt := by
  obtain ⟨k1, k2, k3, k4, k5⟩ := hK
  subst hpa
  obtain ⟨m, rfl⟩ : ∃ m, d = m + 1 := ⟨d - 1, by omega⟩
  unfold wX_add_80
  refine nm_e (br_f (by decide) (br_f (by decide) (br_t rfl ?_)))
  rw [nI_pred, nI_clamp (show m < 2 ^ 31 by omega)]
  refine ⟨vp_in_nI (by omega) (by decide), nm_e ⟨vp_in_nI (by omega) (by decide), nm_e (H (nI (m + 1)) (ot m) so (upd he m (vp_nar .boolean 1)) pl wk ar ot co tr (by rw [lm_dsn (by decide) (by decide)]) ?_ (Or.inr ⟨rfl, by decide⟩))⟩⟩
  have e : (fun s => lm_step 14 a b (m + 1) (q s)) = fun s => ((q s).2.2.1 m, (q s).2.1, (q s).2.2.1, (q s).2.2.2.1, (q s).2.2.2.2) := funext (fun s => lm_step14 a b (m + 1) (q s))
  rw [e, lm_dsn (by decide) (by decide), lm_hs14, Nat.add_sub_cancel]
  refine ⟨fun s hs => (k3 s hs m (by omega)).2, fun i hi => ?_, k3, k4, k5⟩
  by_cases e : i = m
  · subst e; rw [pk_us, lm_us]; rfl
  · rw [pk_un e, lm_un e]; exact k2 i hi
theorem lm_x_80n {post : Int32 → SX → Prop} {q : Nat → lm_S} {d : Nat} {h : Nat → Bool} (hK : lm_PK q d h ac he pl ar ot co tr) (hpa : pa = nI d) (hd : d ≤ 4) (d0 : 0 < d) {a b : Int32} (H : ∀ pa' ac' so' he' pl' wk' ar' ot' co' tr', pa' = nI (lm_ds 15 d) → lm_PK (fun s => lm_step 15 a b d (q s)) (lm_ds 15 d) (lm_hs 15 d h) ac' he' pl' ar' ot' co' tr' → (so' = 0 ∨ (so' = so ∧ (15 : Int32) ≠ 12)) → post (st + 1) (st + 1, pa', ac', so', cc, he', pl', wk', ar', ot', co', tr', le, me, ta, mt)) : wX_add_80 post 15 a b st pa ac so cc he pl wk ar ot co tr le me ta mt := by
  obtain ⟨k1, k2, k3, k4, k5⟩ := hK
  subst hpa
  obtain ⟨m, rfl⟩ : ∃ m, d = m + 1 := ⟨d - 1, by omega⟩
  unfold wX_add_80
  refine nm_e (br_f (by decide) (br_f (by decide) (br_f (by decide) (nm_r (nI_pred m) ?_))))
  rw [nI_clamp (show m < 2 ^ 31 by omega)]
  refine ⟨vp_in_nI (by omega) (by decide), nm_e (H (nI m) (ar m) so he pl wk ar ot co tr (by rw [lm_ds15, Nat.add_sub_cancel]) ?_ (Or.inr ⟨rfl, by decide⟩))⟩
  have e : (fun s => lm_step 15 a b (m + 1) (q s)) = fun s => ((q s).2.1 m, (q s).2.1, (q s).2.2.1, (q s).2.2.2.1, (q s).2.2.2.2) := funext (fun s => lm_step15 a b (m + 1) (q s))
  rw [e, lm_ds15, lm_hsn (by decide) (by decide), Nat.add_sub_cancel]
  exact ⟨fun s hs => (k3 s hs m (by omega)).1, fun i hi => k2 i (by omega), fun s hs i hi => k3 s hs i (by omega), k4, k5⟩
theorem lm_x_80 {post : Int32 → SX → Prop} {q : Nat → lm_S} {d n : Nat} {h : Nat → Bool} (hK : lm_PK q d h ac he pl ar ot co tr) (hb : ∀ s, s < 64 → (q s).2.2.2.2.1 ≤ 7 ∧ (q s).2.2.2.2.2 < 256 ^ (q s).2.2.2.2.1) (hpa : pa = nI d) (hd : d ≤ 4) {c a b : Int32} (hok : lm_ok c n d h) (H : ∀ pa' ac' so' he' pl' wk' ar' ot' co' tr', pa' = nI (lm_ds c d) → lm_PK (fun s => lm_step c a b d (q s)) (lm_ds c d) (lm_hs c d h) ac' he' pl' ar' ot' co' tr' → (so' = 0 ∨ (so' = so ∧ c ≠ 12)) → post (st + 1) (st + 1, pa', ac', so', cc, he', pl', wk', ar', ot', co', tr', le, me, ta, mt)) : wX_add_80 post c a b st pa ac so cc he pl wk ar ot co tr le me ta mt := by
  obtain ⟨o1, o2, o3, o4, o5, o6⟩ := hok
  rcases lm_codes o1 o2 with hc | rfl | rfl | rfl | rfl
  · exact lm_x_80v hK hpa hc H
  · exact lm_x_80o hK hb hpa H
  · exact lm_x_80i hK hpa (o4 rfl) H
  · exact lm_x_80e hK hpa hd (o5 rfl).1 H
  · exact lm_x_80n hK hpa hd (o6 rfl) H
theorem lm_x_58 {post : Int32 → SX → Prop} {d : Nat} {h : Nat → Bool} (hh : ∀ i, i < d → he i = if h i = true then 1 else 0) (hpa : pa = nI d) (hd : d ≤ 4) {c a b : Int32} (h4 : c = 14 → 0 < d) (H : (c = 14 → h (d - 1) = false) → wX_add_80 post c a b st pa ac so cc he pl wk ar ot co tr le me ta mt) (N : c = 14 → h (d - 1) = true → post (-1) (st, pa, ac, so, cc, he, pl, wk, ar, ot, co, tr, le, me, ta, mt)) : wX_add_58 post c a b st pa ac so cc he pl wk ar ot co tr le me ta mt := by
  subst hpa
  refine br_c (fun e => ?_) (fun e => H (fun z => absurd z e))
  have d0 := h4 e
  obtain ⟨m, rfl⟩ : ∃ m, d = m + 1 := ⟨d - 1, by omega⟩
  rw [nI_pred, nI_clamp (show m < 2 ^ 31 by omega), hh m (by omega)]
  refine ⟨vp_in_nI (by omega) (by decide), ?_⟩
  by_cases z : h m = true
  · rw [if_pos z]
    exact br_f (by decide) (N e z)
  · rw [if_neg z]
    exact br_t rfl (H (fun _ => ts_nt z))
theorem lm_x_addc {post : Int32 → SX → Prop} {d n : Nat} {h : Nat → Bool} (hh : ∀ i, i < d → he i = if h i = true then 1 else 0) (hst : st = nI n) (hn : n ≤ 40) (hpa : pa = nI d) (hd : d ≤ 4) {c a b : Int32} (H : lm_ok c n d h → wX_add_80 post c a b st pa ac so cc he pl wk ar ot co tr le me ta mt) (N : ¬ lm_ok c n d h → post (-1) (st, pa, ac, so, cc, he, pl, wk, ar, ot, co, tr, le, me, ta, mt)) : wpX_add post (st, pa, ac, so, cc, he, pl, wk, ar, ot, co, tr, le, me, ta, mt) c a b := by
  have K58 : ¬ c < 0 → ¬ 15 < c → n < 40 → (c = 13 → d < 4) → (c = 14 → 0 < d) → (c = 15 → 0 < d) → wX_add_58 post c a b st pa ac so cc he pl wk ar ot co tr le me ta mt := fun a1 a2 a3 a4 a5 a6 =>
    lm_x_58 hh hpa hd a5 (fun z => H ⟨a1, a2, a3, a4, fun e => ⟨a5 e, z e⟩, a6⟩) (fun e z => N (fun o => by rw [(o.2.2.2.2.1 e).2] at z; exact absurd z (by decide)))
  have K49 : ¬ c < 0 → ¬ 15 < c → n < 40 → (c = 13 → d < 4) → (c = 14 ∨ c = 15) → wX_add_49 post c a b st pa ac so cc he pl wk ar ot co tr le me ta mt := fun a1 a2 a3 a4 a5 => by
    by_cases d0 : d = 0
    · refine br_t (by rw [hpa, d0]; rfl) (N (fun o => ?_))
      rcases a5 with e | e
      · have := (o.2.2.2.2.1 e).1; omega
      · have := o.2.2.2.2.2 e; omega
    · exact br_f (by rw [hpa]; exact nI_ne0 (by omega) (by omega)) (K58 a1 a2 a3 a4 (fun _ => by omega) (fun _ => by omega))
  have K37 : ¬ c < 0 → ¬ 15 < c → n < 40 → (c = 13 → d < 4) → wX_add_37 post c a b st pa ac so cc he pl wk ar ot co tr le me ta mt := fun a1 a2 a3 a4 =>
    br_c (fun e => K49 a1 a2 a3 a4 (Or.inl e)) (fun e4 => br_c (fun e => K49 a1 a2 a3 a4 (Or.inr e)) (fun e5 => K58 a1 a2 a3 a4 (fun z => absurd z e4) (fun z => absurd z e5)))
  refine br_c (fun z => N (fun o => o.1 z)) (fun a1 => br_c (fun z => N (fun o => o.2.1 z)) (fun a2 => ?_))
  by_cases a3 : n < 40
  · refine br_t (by rw [hst]; exact nI_lt (b := 40) a3 (by decide)) (br_c (fun e => ?_) (fun e => K37 a1 a2 a3 (fun z => absurd z e)))
    by_cases a4 : d < 4
    · exact br_t (by rw [hpa]; exact nI_lt (b := 4) a4 (by decide)) (K37 a1 a2 a3 (fun _ => a4))
    · exact br_f (by rw [hpa]; exact nI_nlt (b := 4) (by omega) (by omega)) (N (fun o => a4 (o.2.2.2.1 e)))
  · exact br_f (by rw [hst]; exact nI_nlt (b := 40) (by omega) (by omega)) (N (fun o => a3 o.2.2.1))
end
end
section
/-! ===== the component: the table of views, the classes ===== -/
def lm_hv (T : Int64) (C : Int32) : Nat := ((((T * 31) + (C.toInt64)) ^^^ ((((T * 31) + (C.toInt64)).toUInt64 >>> ((17 : Int32).toInt64.toUInt64 &&& Int64.toUInt64 63)).toInt64)) ^^^ ((((T * 31) + (C.toInt64)).toUInt64 >>> ((37 : Int32).toInt64.toUInt64 &&& Int64.toUInt64 63)).toInt64)).toInt32.toBitVec.toNat % 128
theorem lm_hv_lt (T : Int64) (C : Int32) : lm_hv T C < 128 := Nat.mod_lt _ (by decide)
/-- the views of all secrets as the component keeps them -/
def lm_VC (w : Nat → Nat × Nat) (co : Nat → Int32) (tr : Nat → Int64) : Prop := ∀ s, s < 64 → co s = nI (w s).1 ∧ tr s = lN (w s).2 ∧ (w s).1 ≤ 7 ∧ (w s).2 < 256 ^ (w s).1
theorem lm_pw7 {c t : Nat} (hc : c ≤ 7) (ht : t < 256 ^ c) : t < 2 ^ 63 := Nat.lt_of_lt_of_le ht (Nat.le_trans (Nat.pow_le_pow_right (by decide) hc) (by decide))
theorem lm_vc_e {w : Nat → Nat × Nat} {co : Nat → Int32} {tr : Nat → Int64} (h : lm_VC w co tr) {s t : Nat} (hs : s < 64) (ht : t < 64) : lm_e w s t = true ↔ tr s = tr t ∧ co s = co t := by
  obtain ⟨a1, a2, a3, a4⟩ := h s hs
  obtain ⟨b1, b2, b3, b4⟩ := h t ht
  rw [a1, a2, b1, b2, pk_lEQ (lm_pw7 a3 a4) (lm_pw7 b3 b4), nI_eq (by omega) (by omega)]
  unfold lm_e
  rw [decide_eq_true_iff]
  constructor
  · intro z; rw [z]; exact ⟨rfl, rfl⟩
  · intro z; exact Prod.ext z.2 z.1
section
variable {st : Int32} {pa : Int32} {ac : Int64} {so : Int32} {cc : Int32} {he : Nat → Int32} {pl : Nat → Int64} {wk : Nat → Int64} {ar : Nat → Int64} {ot : Nat → Int64} {co : Nat → Int32} {tr : Nat → Int64} {le : Nat → Int32} {me : Nat → Int32} {ta : Nat → Int32} {mt : Nat → Int32}
theorem lm_x_97 {post : Int32 → Prop} {J : Int32 → Int32 → Prop} {x : Int32} {h d : Nat} (H : J (nI ((h + (d + 1)) % 128)) (nI (d + 1))) : wX_placeInTable_97 post J x (nI ((h + d) % 128)) (nI d) st pa ac so cc he pl wk ar ot co tr le me ta mt := by
  unfold wX_placeInTable_97
  refine nm_r (e' := nI ((h + (d + 1)) % 128)) ?_ (nm_r (nI_1 d) H)
  rw [nI_1, pk_andN (by omega) 7 (by decide)]
  exact congrArg nI (by omega)
theorem lm_x_probe {post : Int32 → Prop} {w : Nat → Nat × Nat} (hw : lm_VC w co tr) {s : Nat} (hs : s < 64) (hT : ∀ i, i < 128 → ta i = -1 ∨ ∃ t, t < 64 ∧ ta i = nI t) (hE : ∃ i, i < 128 ∧ ta i = -1) {h : Nat} (hh : h < 128) (H : ∀ d, d < 128 → (∀ d', d' < d → ∃ t, t < 64 ∧ ta ((h + d') % 128) = nI t ∧ lm_e w t s = false) → (ta ((h + d) % 128) = -1 ∨ ∃ t, t < 64 ∧ ta ((h + d) % 128) = nI t ∧ lm_e w t s = true) → post (nI ((h + d) % 128))) : ∃ n, wX_placeInTable_39 post (nI s) st pa ac so cc he pl wk ar ot co tr le me ta mt n (nI ((h + 0) % 128)) (nI 0) := by
  refine pk_loop (fun n d (_ : Unit) => wX_placeInTable_39 post (nI s) st pa ac so cc he pl wk ar ot co tr le me ta mt n (nI ((h + d) % 128)) (nI d)) (fun d _ => ∀ d', d' < d → ∃ t, t < 64 ∧ ta ((h + d') % 128) = nI t ∧ lm_e w t s = false) 128 0 () (by omega) (fun d' hd' => absurd hd' (Nat.not_lt_zero d')) ?_ ?_
  · intro n _ hI
    obtain ⟨i, hi, ei⟩ := hE
    obtain ⟨t, ht, et, _⟩ := hI ((i + 128 - h) % 128) (by omega)
    rw [show (h + (i + 128 - h) % 128) % 128 = i by omega, ei] at et
    have hp := nI_pos (n := t) (by omega)
    rw [← et] at hp
    exact absurd (by decide) hp
  · intro n d _ hd hI hn
    have hm : (h + d) % 128 < 128 := Nat.mod_lt _ (by decide)
    refine br_f (nI_ge (b := 128) hd (by decide)) ⟨vp_in_nI hm (by decide), nm_r (e' := ta ((h + d) % 128)) (by rw [nI_clamp (by omega)]) ?_⟩
    rcases hT ((h + d) % 128) hm with e | ⟨t, ht, e⟩
    · rw [e]
      exact br_t (by decide) (H d hd hI (Or.inl e))
    · rw [e, nI_clamp (show t < 2 ^ 31 by omega), nI_clamp (show s < 2 ^ 31 by omega)]
      have hx := lm_vc_e hw ht hs
      refine br_f (nI_pos (by omega)) ⟨vp_in_nI ht (by decide), vp_in_nI hs (by decide), ?_⟩
      by_cases hk : lm_e w t s = true
      · exact br_t (hx.mp hk).1 ⟨vp_in_nI ht (by decide), vp_in_nI hs (by decide), br_t (hx.mp hk).2 (H d hd hI (Or.inr ⟨t, ht, e, hk⟩))⟩
      · have hI' : ∀ d', d' < d + 1 → ∃ t, t < 64 ∧ ta ((h + d') % 128) = nI t ∧ lm_e w t s = false := by
          intro d' hd'
          by_cases z : d' = d
          · subst z; exact ⟨t, ht, e, ts_nt hk⟩
          · exact hI d' (by omega)
        exact br_c (fun z => ⟨vp_in_nI ht (by decide), vp_in_nI hs (by decide), br_f (fun z2 => hk (hx.mpr ⟨z, z2⟩)) (lm_x_97 (hn () hI'))⟩) (fun z => lm_x_97 (hn () hI'))
theorem lm_x_place {post : Int32 → Prop} {w : Nat → Nat × Nat} (hw : lm_VC w co tr) {s : Nat} (hs : s < 64) (hT : ∀ i, i < 128 → ta i = -1 ∨ ∃ t, t < 64 ∧ ta i = nI t) (hE : ∃ i, i < 128 ∧ ta i = -1) (H : ∀ d, d < 128 → (∀ d', d' < d → ∃ t, t < 64 ∧ ta ((lm_hv (tr s) (co s) + d') % 128) = nI t ∧ lm_e w t s = false) → (ta ((lm_hv (tr s) (co s) + d) % 128) = -1 ∨ ∃ t, t < 64 ∧ ta ((lm_hv (tr s) (co s) + d) % 128) = nI t ∧ lm_e w t s = true) → post (nI ((lm_hv (tr s) (co s) + d) % 128))) : wpX_placeInTable post (st, pa, ac, so, cc, he, pl, wk, ar, ot, co, tr, le, me, ta, mt) (nI s) := by
  refine And.intro (vp_in_nI hs (by decide)) (And.intro (vp_in_nI hs (by decide)) ?_)
  rw [nI_clamp (show s < 2 ^ 31 by omega)]
  refine nm_e (nm_r (pk_and _ 7 (by decide)) ?_)
  have hp := lm_x_probe (st := st) (pa := pa) (ac := ac) (so := so) (cc := cc) (he := he) (pl := pl) (wk := wk) (ar := ar) (ot := ot) (co := co) (tr := tr) (le := le) (me := me) (ta := ta) (mt := mt) hw hs hT hE (lm_hv_lt (tr s) (co s)) H
  rw [Nat.add_zero, Nat.mod_eq_of_lt (lm_hv_lt (tr s) (co s))] at hp
  exact hp
/-- t's leader -/
def lm_LD (e : Nat → Nat → Bool) (le : Nat → Int32) (t : Nat) : Prop := ∃ l, le t = nI l ∧ l ≤ t ∧ e l t = true ∧ ∀ t', t' < l → e t' t = false
def lm_ME (e : Nat → Nat → Bool) (me : Nat → Int32) (k : Nat) : Prop := ∀ l, l < k → (∀ t', t' < l → e t' l = false) → me l = nI (lm_ct (fun t' => e t' l) k)
def lm_TB (e : Nat → Nat → Bool) (hf : Nat → Nat) (k : Nat) (ta : Nat → Int32) : Prop :=
  (∀ i, i < 128 → ta i = -1 ∨ ∃ t, t < k ∧ ta i = nI t ∧ ∀ t', t' < t → e t' t = false) ∧
  (∀ t, t < k → ∃ d, d < 128 ∧ (∃ t', t' < k ∧ ta ((hf t + d) % 128) = nI t' ∧ e t' t = true) ∧ ∀ d', d' < d → ta ((hf t + d') % 128) ≠ -1) ∧
  lm_ct (fun i => decide (ta i ≠ -1)) 128 ≤ k
def lm_SV (e : Nat → Nat → Bool) (cc : Int32) (le me : Nat → Int32) (k : Nat) : Prop := cc = nI (lm_cf e 0 k) ∧ (∀ t, t < k → lm_LD e le t) ∧ lm_ME e me k
theorem lm_nIn1 {n : Nat} (h : n < 2 ^ 31) : nI n ≠ -1 := by
  intro z
  have hp := nI_pos h
  rw [z] at hp
  exact absurd (by decide) hp
theorem lm_tb_free {e : Nat → Nat → Bool} {hf : Nat → Nat} {k : Nat} {ta : Nat → Int32} (hk : k < 128) (h : lm_TB e hf k ta) : ∃ i, i < 128 ∧ ta i = -1 := by
  apply Classical.byContradiction
  intro hz
  have : lm_ct (fun i => decide (ta i ≠ -1)) 128 = 128 := lm_ct_all 128 (fun i hi => decide_eq_true (fun z => hz ⟨i, hi, z⟩))
  have := h.2.2
  omega
theorem lm_cf_s (e : Nat → Nat → Bool) (k : Nat) : lm_cf e 0 (k + 1) = lm_cf e 0 k + (lm_nw e 0 k).toNat := rfl
/-- a new view at the place r -/
theorem lm_sv_new {w : Nat → Nat × Nat} {hf : Nat → Nat} (hh : ∀ s t, lm_e w s t = true → s < 64 → t < 64 → hf s = hf t) {k : Nat} (hk : k < 64) {cc : Int32} {le me ta : Nat → Int32} (hS : lm_SV (lm_e w) cc le me k) (hT : lm_TB (lm_e w) hf k ta) {d : Nat} (hd : d < 128) (hb : ∀ d', d' < d → ∃ t, t < 64 ∧ ta ((hf k + d') % 128) = nI t ∧ lm_e w t k = false) (hf1 : ta ((hf k + d) % 128) = -1) : lm_SV (lm_e w) (cc + 1) (upd le k (nI k)) (upd (upd me k 0) k (upd me k 0 k + 1)) (k + 1) ∧ lm_TB (lm_e w) hf (k + 1) (upd ta ((hf k + d) % 128) (nI k)) := by
  obtain ⟨s1, s2, s3⟩ := hS
  obtain ⟨t1, t2, t3⟩ := hT
  have hnew : ∀ t, t < k → lm_e w t k = false := by
    intro t ht
    apply ts_nt
    intro z
    obtain ⟨d0, hd0, ⟨t', ht', et', ee⟩, hbe⟩ := t2 t ht
    rw [hh t k z (by omega) hk] at et' hbe
    rcases Nat.lt_trichotomy d d0 with x | x | x
    · exact hbe d x hf1
    · subst x; rw [hf1] at et'; exact lm_nIn1 (by omega) et'.symm
    · obtain ⟨t3, ht3, et3, e3⟩ := hb d0 x
      have : t3 = t' := (nI_eq (by omega) (by omega)).mp (et3.symm.trans et')
      subst this
      rw [lm_e_c' ee k, z] at e3
      exact absurd e3 (by decide)
  refine ⟨⟨?_, ?_, ?_⟩, ?_, ?_, ?_⟩
  · rw [lm_cf_s, s1, nI_1, show lm_nw (lm_e w) 0 k = true from decide_eq_true (fun t ht => by rw [Nat.zero_add, Nat.zero_add]; exact hnew t ht)]
    rfl
  · intro t ht
    by_cases z : t = k
    · subst z; exact ⟨t, pk_us, Nat.le_refl t, lm_e_r w t, hnew⟩
    · have := s2 t (by omega)
      unfold lm_LD at this ⊢
      rw [pk_un z]; exact this
  · intro l hl hle
    by_cases z : l = k
    · subst z
      rw [pk_us, pk_us]
      show (0 : Int32) + 1 = nI (lm_ct (fun t' => lm_e w t' l) l + (lm_e w l l).toNat)
      rw [lm_ct_none l (fun i hi => hnew i hi), lm_e_r]; rfl
    · rw [pk_un z, pk_un z, s3 l (by omega) hle]
      show _ = nI (lm_ct (fun t' => lm_e w t' l) k + (lm_e w k l).toNat)
      rw [lm_e_s, hnew l (by omega)]; rfl
  · intro i hi
    by_cases z : i = (hf k + d) % 128
    · subst z; exact Or.inr ⟨k, by omega, pk_us, hnew⟩
    · rw [pk_un z]
      rcases t1 i hi with x | ⟨t, ht, et, hl⟩
      · exact Or.inl x
      · exact Or.inr ⟨t, by omega, et, hl⟩
  · have hne : ∀ i, ta i ≠ -1 → upd ta ((hf k + d) % 128) (nI k) i ≠ -1 := by
      intro i h1
      by_cases z : i = (hf k + d) % 128
      · rw [z, pk_us]; exact lm_nIn1 (by omega)
      · rw [pk_un z]; exact h1
    intro t ht
    by_cases z : t = k
    · subst z
      refine ⟨d, hd, ⟨t, by omega, pk_us, lm_e_r w t⟩, fun d' hd' => hne _ ?_⟩
      obtain ⟨t3, ht3, et3, _⟩ := hb d' hd'
      rw [et3]; exact lm_nIn1 (by omega)
    · obtain ⟨d0, hd0, ⟨t', ht', et', ee⟩, hbe⟩ := t2 t (by omega)
      refine ⟨d0, hd0, ⟨t', by omega, ?_, ee⟩, fun d' hd' => hne _ (hbe d' hd')⟩
      rw [pk_un (fun x => ?_)]
      · exact et'
      · rw [x, hf1] at et'; exact lm_nIn1 (by omega) et'.symm
  · have := (lm_ct_one (f := fun i => decide (ta i ≠ -1)) (g := fun i => decide (upd ta ((hf k + d) % 128) (nI k) i ≠ -1)) (k := (hf k + d) % 128) (fun i hi => by rw [pk_un hi]) 128).1
    omega
/-- a view met before, at the place r -/
theorem lm_sv_old {w : Nat → Nat × Nat} {hf : Nat → Nat} {k : Nat} (hk : k < 64) {cc : Int32} {le me ta : Nat → Int32} (hS : lm_SV (lm_e w) cc le me k) (hT : lm_TB (lm_e w) hf k ta) {d : Nat} (hd : d < 128) (hb : ∀ d', d' < d → ∃ t, t < 64 ∧ ta ((hf k + d') % 128) = nI t ∧ lm_e w t k = false) {t : Nat} (ht : t < 64) (hf1 : ta ((hf k + d) % 128) = nI t) (he : lm_e w t k = true) : lm_SV (lm_e w) cc (upd le k (nI t)) (upd (upd me k 0) t (upd me k 0 t + 1)) (k + 1) ∧ lm_TB (lm_e w) hf (k + 1) ta := by
  obtain ⟨s1, s2, s3⟩ := hS
  obtain ⟨t1, t2, t3⟩ := hT
  have hx : t < k ∧ ∀ t', t' < t → lm_e w t' t = false := by
    rcases t1 ((hf k + d) % 128) (Nat.mod_lt _ (by decide)) with x | ⟨t', ht', et', hl⟩
    · rw [hf1] at x; exact absurd x (lm_nIn1 (by omega))
    · have : t = t' := (nI_eq (by omega) (by omega)).mp (hf1.symm.trans et')
      subst this; exact ⟨ht', hl⟩
  obtain ⟨htk, hlead⟩ := hx
  refine ⟨⟨?_, ?_, ?_⟩, ?_, ?_, by omega⟩
  · rw [lm_cf_s, s1, show lm_nw (lm_e w) 0 k = false from decide_eq_false (fun z => by have := z t htk; rw [Nat.zero_add, Nat.zero_add, he] at this; exact absurd this (by decide))]
    rfl
  · intro i hi
    by_cases z : i = k
    · subst z; exact ⟨t, pk_us, by omega, he, fun t' h' => by rw [← lm_e_c he]; exact hlead t' h'⟩
    · have := s2 i (by omega)
      unfold lm_LD at this ⊢
      rw [pk_un z]; exact this
  · intro l hl hle
    by_cases z : l = k
    · subst z
      rw [hle t htk] at he
      exact absurd he (by decide)
    · show _ = nI (lm_ct (fun t' => lm_e w t' l) k + (lm_e w k l).toNat)
      by_cases z2 : l = t
      · subst z2
        rw [pk_us, pk_un z, s3 l (by omega) hle, lm_e_s w k l, he, nI_1]; rfl
      · rw [pk_un z2, pk_un z, s3 l (by omega) hle]
        have : lm_e w k l = false := by
          apply ts_nt
          intro y
          rw [← lm_e_c' he l] at y
          rcases Nat.lt_trichotomy t l with x | x | x
          · rw [hle t x] at y; exact absurd y (by decide)
          · exact z2 x.symm
          · rw [lm_e_s, hlead l x] at y; exact absurd y (by decide)
        rw [this]; rfl
  · intro i hi
    rcases t1 i hi with x | ⟨t', ht', et', hl⟩
    · exact Or.inl x
    · exact Or.inr ⟨t', by omega, et', hl⟩
  · intro i hi
    by_cases z : i = k
    · subst z
      refine ⟨d, hd, ⟨t, by omega, hf1, he⟩, fun d' hd' => ?_⟩
      obtain ⟨t3, ht3, et3, _⟩ := hb d' hd'
      rw [et3]; exact lm_nIn1 (by omega)
    · obtain ⟨d0, hd0, ⟨t', ht', et', ee⟩, hbe⟩ := t2 i (by omega)
      exact ⟨d0, hd0, ⟨t', by omega, et', ee⟩, hbe⟩
theorem lm_x_87 {post : SX → Prop} {J : Int32 → Int32 → (Nat → Int32) → (Nat → Int64) → (Nat → Int64) → (Nat → Int64) → (Nat → Int64) → (Nat → Int32) → (Nat → Int64) → (Nat → Int32) → (Nat → Int32) → (Nat → Int32) → (Nat → Int32) → Prop} {s r l : Nat} (hs : s < 64) (hr : r < 128) (hl : l < 64) (ht : ta r = nI l) (H : J (nI (s + 1)) cc he pl wk ar ot co tr (upd le s (nI l)) (upd me l (me l + 1)) ta mt) : wX_sortViews_87 post J (nI s) (nI r) st pa ac so cc he pl wk ar ot co tr le me ta mt := by
  unfold wX_sortViews_87
  rw [nI_clamp (show r < 2 ^ 31 by omega), nI_clamp (show s < 2 ^ 31 by omega), ht, nI_clamp (show l < 2 ^ 31 by omega)]
  exact ⟨vp_in_nI hr (by decide), vp_in_nI hs (by decide), nm_e ⟨vp_in_nI hr (by decide), vp_in_nI hl (by decide), vp_in_nI hl (by decide), nm_e (nm_r (nI_1 s) H)⟩⟩
theorem lm_x_42 {post : SX → Prop} {w : Nat → Nat × Nat} (hw : lm_VC w co tr) (h0 : cc = nI 0) (hT : ∀ i, i < 128 → ta i = -1) (H : ∀ cc' le' me' ta', lm_SV (lm_e w) cc' le' me' 64 → post (st, pa, ac, so, cc', he, pl, wk, ar, ot, co, tr, le', me', ta', mt)) : ∃ n, wX_sortViews_42 post st pa ac so n (nI 0) cc he pl wk ar ot co tr le me ta mt := by
  have hh : ∀ s t, lm_e w s t = true → s < 64 → t < 64 → lm_hv (tr s) (co s) = lm_hv (tr t) (co t) := by
    intro s t z hs ht
    have := (lm_vc_e hw hs ht).mp z
    rw [this.1, this.2]
  refine pk_loop (fun n k (s : Int32 × (Nat → Int32) × (Nat → Int32) × (Nat → Int32)) => wX_sortViews_42 post st pa ac so n (nI k) s.1 he pl wk ar ot co tr s.2.1 s.2.2.1 s.2.2.2 mt) (fun k s => lm_SV (lm_e w) s.1 s.2.1 s.2.2.1 k ∧ lm_TB (lm_e w) (fun t => lm_hv (tr t) (co t)) k s.2.2.2) 64 0 (cc, le, me, ta) (by omega) ?_ ?_ ?_
  · exact ⟨⟨h0, fun t ht => absurd ht (Nat.not_lt_zero t), fun t ht => absurd ht (Nat.not_lt_zero t)⟩, fun i hi => Or.inl (hT i hi), fun t ht => absurd ht (Nat.not_lt_zero t), Nat.le_of_eq (lm_ct_none 128 (fun i hi => decide_eq_false (fun z => z (hT i hi))))⟩
  · intro n s hI
    exact br_t (nI_le (a := 64) (b := 64) (by omega) (by decide)) (H s.1 s.2.1 s.2.2.1 s.2.2.2 hI.1)
  · intro n k s hk hI hn
    obtain ⟨c, l, m, t⟩ := s
    obtain ⟨hS, hB⟩ := hI
    dsimp only at hS hB
    refine br_f (nI_ge (b := 64) hk (by decide)) ⟨vp_in_nI hk (by decide), ?_⟩
    rw [nI_clamp (show k < 2 ^ 31 by omega)]
    refine nm_e (lm_x_place hw hk (fun i hi => ?_) (lm_tb_free (by omega) hB) (fun d hd hb hf => ?_))
    · rcases hB.1 i hi with x | ⟨t', ht', et', _⟩
      · exact Or.inl x
      · exact Or.inr ⟨t', by omega, et'⟩
    · have hr : (lm_hv (tr k) (co k) + d) % 128 < 128 := Nat.mod_lt _ (by decide)
      rw [nI_clamp (show (lm_hv (tr k) (co k) + d) % 128 < 2 ^ 31 by omega)]
      refine ⟨vp_in_nI hr (by decide), ?_⟩
      rcases hf with hf | ⟨t', ht', hf, he⟩
      · have N := lm_sv_new (hf := fun t => lm_hv (tr t) (co t)) hh hk hS hB hd hb hf
        refine br_f (by rw [hf]; decide) ⟨vp_in_nI hr (by decide), nm_e (nm_e (lm_x_87 hk hr hk pk_us (hn (_, _, _, _) N)))⟩
      · have N := lm_sv_old (hf := fun t => lm_hv (tr t) (co t)) hk hS hB hd hb ht' hf he
        refine br_t (by rw [hf]; exact nI_pos' (by omega)) (lm_x_87 hk hr ht' hf (hn (_, _, _, _) N))
theorem lm_x_sort {post : SX → Prop} {w : Nat → Nat × Nat} (hw : lm_VC w co tr) (hS : so ≠ 0 → lm_SV (lm_e w) cc le me 64) (H : ∀ so' cc' le' me' ta', lm_SV (lm_e w) cc' le' me' 64 → post (st, pa, ac, so', cc', he, pl, wk, ar, ot, co, tr, le', me', ta', mt)) : wpX_sortViews post (st, pa, ac, so, cc, he, pl, wk, ar, ot, co, tr, le, me, ta, mt) := by
  refine br_c (fun _ => ?_) (fun z => H so cc le me ta (hS z))
  show ∃ n, wX_sortViews_20 post st pa ac 1 0 n (nI 0) he pl wk ar ot co tr le me ta mt
  refine pk_loop (fun n k (t : Nat → Int32) => wX_sortViews_20 post st pa ac 1 0 n (nI k) he pl wk ar ot co tr le me t mt) (fun k t => ∀ i, i < k → t i = -1) 128 0 ta (by omega) (fun i hi => absurd hi (Nat.not_lt_zero i)) ?_ ?_
  · intro n t hI
    exact br_t (nI_le (a := 128) (b := 128) (by omega) (by decide)) (lm_x_42 hw rfl hI (fun c l m t2 h => H 1 c l m t2 h))
  · intro n k t hk hI hn
    refine br_f (nI_ge (b := 128) hk (by decide)) ?_
    rw [nI_clamp (show k < 2 ^ 31 by omega)]
    refine ⟨vp_in_nI hk (by decide), nm_e (nm_r (nI_1 k) (hn _ (fun i hi => ?_)))⟩
    by_cases e : i = k
    · subst e; exact pk_us
    · rw [pk_un e]; exact hI i (by omega)
end
end
section
/-! ===== the reference: open, hasElse, behind, worked, run ===== -/
theorem lm_or (a b : Nat) : nI a ||| nI b = nI (a ||| b) := by
  apply Int32.toBitVec_inj.1
  show BitVec.ofNat 32 a ||| BitVec.ofNat 32 b = BitVec.ofNat 32 (a ||| b)
  apply BitVec.eq_of_getLsbD_eq
  intro i hi
  simp [hi]
section
variable {yn : Int32} {pu : Int32} {cd : Nat → Int32} {lf : Nat → Int32} {rt : Nat → Int32} {va : Nat → Int32} {ou : Nat → Int32} {vi : Nat → Int32}
theorem lm_y_open {post : Int32 → Prop} {n : Nat} (hn : n ≤ 40) (w : lm_WF cd n) (H : post (nI (lm_d cd n))) : wpY_open post (nI n, pu, cd, lf, rt, va, ou, vi) := by
  show ∃ m, wY_open_4 post (nI n) pu cd lf rt va ou vi m (nI (lm_d cd 0)) (nI 0)
  refine pk_loop (fun m p (_ : Unit) => wY_open_4 post (nI n) pu cd lf rt va ou vi m (nI (lm_d cd p)) (nI p)) (fun _ _ => True) n 0 () (by omega) trivial ?_ ?_
  · intro m _ _
    exact br_t (nI_le (Nat.le_refl n) (by omega)) H
  · intro m p _ hp _ hN
    have e1 : cd (nI p).toNatClampNeg = cd p := by rw [nI_clamp (by omega)]
    have hN' : wY_open_4 post (nI n) pu cd lf rt va ou vi m (nI (lm_ds (cd p) (lm_d cd p))) (nI (p + 1)) := hN () trivial
    have v40 : vp_in (nI p) 40 := vp_in_nI (by omega) (by decide)
    refine br_f (nI_ge hp (by omega)) ⟨v40, ?_⟩
    by_cases h3 : cd p = 13
    · rw [h3, lm_ds13] at hN'
      exact br_t (e1.trans h3) (nm_r (nI_1 _) (And.intro v40 (br_f (fun z => absurd (h3.symm.trans (e1.symm.trans z)) (by decide)) (nm_r (nI_1 p) hN'))))
    · refine br_f (fun z => h3 (e1.symm.trans z)) (And.intro v40 ?_)
      by_cases h5 : cd p = 15
      · have d0 := (w p hp).2.2.2 h5
        rw [h5, lm_ds15] at hN'
        obtain ⟨e, he⟩ : ∃ e, lm_d cd p = e + 1 := ⟨lm_d cd p - 1, by omega⟩
        rw [he, Nat.add_sub_cancel] at hN'
        rw [he]
        exact br_t (e1.trans h5) (nm_r (pk_m1 e) (nm_r (nI_1 p) hN'))
      · rw [lm_dsn h3 h5] at hN'
        exact br_f (fun z => h5 (e1.symm.trans z)) (nm_r (nI_1 p) hN')
theorem lm_y_else {post : Int32 → Prop} {n : Nat} (hn : n ≤ 40) (w : lm_WF cd n) (hD : 0 < lm_d cd n) (H : post (nI (lm_h cd n (lm_d cd n - 1)).toNat)) : wpY_hasElse post (nI n, pu, cd, lf, rt, va, ou, vi) := by
  have n0 : 0 < n := by
    cases n with
    | zero => exact absurd hD (Nat.lt_irrefl 0)
    | succ n => exact Nat.succ_pos n
  obtain ⟨D, eD⟩ : ∃ D, lm_d cd n = D := ⟨_, rfl⟩
  rw [eD] at H hD
  obtain ⟨B, eB⟩ : ∃ B, lm_h cd n (D - 1) = B := ⟨_, rfl⟩
  rw [eB] at H
  have h4 := lm_d4 n w
  have e0 : nI n - 1 = nI n + (-1) := by rw [Int32.sub_eq_add_neg]
  refine nm_r e0 ⟨n + 1, ?_⟩
  refine pk_loopD (fun m i (c : Nat) => wY_hasElse_9 post (nI n) pu cd lf rt va ou vi m (nI c) (nI i + (-1))) (fun i c => i ≤ n ∧ c ≤ 4 ∧ lm_d cd i = D + c ∧ lm_h cd i (D - 1) = B) ?_ ?_ n 0 ⟨Nat.le_refl n, by omega, eD, eB⟩
  · intro m c hc
    have := hc.2.2.1
    have : lm_d cd 0 = 0 := rfl
    omega
  · intro m i c hc hN
    obtain ⟨hi, hc4, hd, hh⟩ := hc
    show wY_hasElse_9 post (nI n) pu cd lf rt va ou vi (m + 1) (nI c) (nI (i + 1) + (-1))
    rw [pk_m1]
    have e1 : cd (nI i).toNatClampNeg = cd i := by rw [nI_clamp (by omega)]
    have v40 : vp_in (nI i) 40 := vp_in_nI (by omega) (by decide)
    have w40 := lm_d4 i (lm_WF_le (by omega) w)
    have wi := w i (by omega)
    have hd' : lm_ds (cd i) (lm_d cd i) = D + c := hd
    have hh' : lm_hs (cd i) (lm_d cd i) (lm_h cd i) (D - 1) = B := hh
    have c0 : c ≠ 0 → ¬ nI c = 0 := fun z => nI_ne0 (by omega) (by omega)
    have toK47 : (c = 0 → cd i ≠ 14 ∧ cd i ≠ 13) → wY_hasElse_47 post (wY_hasElse_9 post (nI n) pu cd lf rt va ou vi m) (nI c) (nI i) (nI n) pu cd lf rt va ou vi → wY_hasElse_9 post (nI n) pu cd lf rt va ou vi (m + 1) (nI c) (nI i) := by
      intro hx k47
      refine br_f (nI_pos (by omega)) ?_
      by_cases z : c = 0
      · subst z
        exact br_t rfl ⟨v40, br_f (fun y => (hx rfl).1 (e1.symm.trans y)) (br_t rfl ⟨v40, br_f (fun y => (hx rfl).2 (e1.symm.trans y)) k47⟩)⟩
      · exact br_f (c0 z) (br_f (c0 z) k47)
    by_cases h3 : cd i = 13
    · rw [h3, lm_ds13] at hd'
      rw [h3, lm_hs13] at hh'
      cases c with
      | zero =>
        have e : D - 1 = lm_d cd i := by omega
        rw [e, lm_us] at hh'
        subst hh'
        exact br_f (nI_pos (by omega)) (br_t rfl ⟨v40, br_f (fun y => absurd (h3.symm.trans (e1.symm.trans y)) (by decide)) (br_t rfl ⟨v40, br_t (e1.trans h3) H⟩)⟩)
      | succ c =>
        rw [lm_un (by omega)] at hh'
        exact toK47 (fun z => absurd z (Nat.succ_ne_zero c)) (And.intro v40 (br_f (fun y => absurd (h3.symm.trans (e1.symm.trans y)) (by decide)) (And.intro v40 (br_t (e1.trans h3) (nm_r (pk_m1 c) (nm_e (hN c ⟨by omega, by omega, by omega, hh'⟩)))))))
    by_cases h4 : cd i = 14
    · rw [h4, lm_dsn (by decide) (by decide)] at hd'
      rw [h4, lm_hs14] at hh'
      by_cases z : c = 0
      · subst z
        have e : D - 1 = lm_d cd i - 1 := by omega
        rw [e, lm_us] at hh'
        subst hh'
        exact br_f (nI_pos (by omega)) (br_t rfl ⟨v40, br_t (e1.trans h4) H⟩)
      · rw [lm_un (by omega)] at hh'
        exact toK47 (fun y => absurd y z) (And.intro v40 (br_f (fun y => absurd (h4.symm.trans (e1.symm.trans y)) (by decide)) (And.intro v40 (br_f (fun y => h3 (e1.symm.trans y)) (nm_e (hN c ⟨by omega, by omega, by omega, hh'⟩))))))
    rw [lm_hsn h3 h4] at hh'
    by_cases h5 : cd i = 15
    · have d0 := wi.2.2.2 h5
      rw [h5, lm_ds15] at hd'
      exact toK47 (fun _ => ⟨h4, h3⟩) (And.intro v40 (br_t (e1.trans h5) (nm_r (nI_1 c) (And.intro v40 (br_f (fun y => h3 (e1.symm.trans y)) (nm_e (hN (c + 1) ⟨by omega, by omega, by omega, hh'⟩)))))))
    · rw [lm_dsn h3 h5] at hd'
      exact toK47 (fun _ => ⟨h4, h3⟩) (And.intro v40 (br_f (fun y => h5 (e1.symm.trans y)) (And.intro v40 (br_f (fun y => h3 (e1.symm.trans y)) (nm_e (hN c ⟨by omega, by omega, by omega, hh'⟩))))))
theorem lm_y_beh {post : Int32 → Prop} {n s p0 D : Nat} (hn : n ≤ 40) (w : lm_WF cd n) (e : Bool) (hD : 0 < D) (r : lm_S) (H : ∀ q, p0 < q → q ≤ n → ((lm_L cd lf rt s q).1 = true ∨ q = n) → (lm_L cd lf rt s q).2.2.2 = r.2.2.2 → post (nI q)) : ∀ m q o, q + m = n → p0 < q → lm_d cd q = D + o → lm_K D o e r (lm_L cd lf rt s q) → wY_behind_7 post (nI e.toNat) (nI n) pu cd lf rt va ou vi (m + 1) (nI o) (nI q) := by
  intro m
  induction m with
  | zero =>
    intro q o hq hp hd hK
    have : q = n := by omega
    subst this
    exact br_t (nI_le (Nat.le_refl q) (by omega)) (H q hp (Nat.le_refl q) (Or.inr rfl) hK.2.2.2.2)
  | succ m ih =>
    intro q o hq hp hd hK
    have hqn : q < n := by omega
    have e1 : cd (nI q).toNatClampNeg = cd q := by rw [nI_clamp (by omega)]
    have v40 : vp_in (nI q) 40 := vp_in_nI (by omega) (by decide)
    have w40 := lm_d4 q (lm_WF_le (by omega) w)
    have wq := w q hqn
    have c0 : o ≠ 0 → ¬ nI o = 0 := fun z => nI_ne0 (by omega) (by omega)
    have toK53 : (o = 0 → cd q ≠ 15 ∧ (e = true → cd q ≠ 14)) → wY_behind_53 post (wY_behind_7 post (nI e.toNat) (nI n) pu cd lf rt va ou vi (m + 1)) (nI e.toNat) (nI o) (nI q) (nI n) pu cd lf rt va ou vi → wY_behind_7 post (nI e.toNat) (nI n) pu cd lf rt va ou vi (m + 1 + 1) (nI o) (nI q) := by
      intro hx k53
      refine br_f (nI_ge hqn (by omega)) ?_
      by_cases z : o = 0
      · subst z
        refine br_t rfl ⟨v40, br_f (fun y => (hx rfl).1 (e1.symm.trans y)) ?_⟩
        cases e with
        | false => exact br_t rfl k53
        | true => exact br_f (by decide) ⟨v40, br_f (fun y => (hx rfl).2 rfl (e1.symm.trans y)) k53⟩
      · exact br_f (c0 z) k53
    have hL : lm_L cd lf rt s (q + 1) = lm_step (cd q) (lf q) (rt q) (D + o) (lm_L cd lf rt s q) := by
      show lm_step (cd q) (lf q) (rt q) (lm_d cd q) _ = _
      rw [hd]
    have hd1 : lm_d cd (q + 1) = lm_ds (cd q) (D + o) := by
      show lm_ds (cd q) (lm_d cd q) = _
      rw [hd]
    by_cases h3 : cd q = 13
    · rw [h3] at hL hd1
      rw [lm_ds13] at hd1
      refine toK53 (fun _ => ⟨fun z => absurd (h3.symm.trans z) (by decide), fun _ z => absurd (h3.symm.trans z) (by decide)⟩) (And.intro v40 (br_t (e1.trans h3) (nm_r (nI_1 o) (And.intro v40 (br_f (fun y => absurd (h3.symm.trans (e1.symm.trans y)) (by decide)) (nm_r (nI_1 q) (ih (q + 1) (o + 1) (by omega) (by omega) (by omega) ?_)))))))
      rw [hL]; exact lm_K13 hD hK _ _
    by_cases h5 : cd q = 15
    · rw [h5] at hL hd1
      rw [lm_ds15] at hd1
      cases o with
      | zero =>
        refine br_f (nI_ge hqn (by omega)) (br_t rfl ⟨v40, br_t (e1.trans h5) ?_⟩)
        rw [nI_1]
        have k := lm_K15r hK (lf q) (rt q)
        rw [Nat.add_zero] at hL
        exact H (q + 1) (by omega) (by omega) (Or.inl (by rw [hL]; exact k.1)) (by rw [hL]; exact k.2)
      | succ o =>
        refine toK53 (fun z => absurd z (Nat.succ_ne_zero o)) (And.intro v40 (br_f (fun y => h3 (e1.symm.trans y)) (And.intro v40 (br_t (e1.trans h5) (nm_r (pk_m1 o) (nm_r (nI_1 q) (ih (q + 1) o (by omega) (by omega) (by omega) ?_)))))))
        rw [hL]; exact lm_K15 hK _ _
    rw [lm_dsn h3 h5] at hd1
    by_cases h4 : cd q = 14
    · rw [h4] at hL
      by_cases z : 0 < o ∨ e = false
      · refine toK53 (fun y => ⟨h5, fun y2 => ?_⟩) (And.intro v40 (br_f (fun y => h3 (e1.symm.trans y)) (And.intro v40 (br_f (fun y => h5 (e1.symm.trans y)) (nm_r (nI_1 q) (ih (q + 1) o (by omega) (by omega) (by omega) ?_))))))
        · rcases z with z | z
          · omega
          · rw [z] at y2; exact absurd y2 (by decide)
        · rw [hL]; exact lm_K14 hK z _ _
      · have z1 : o = 0 := by
          by_cases y : o = 0
          · exact y
          · exact absurd (Or.inl (by omega)) z
        have z2 : e = true := ts_nf (fun y => z (Or.inr y))
        subst z1; subst z2
        refine br_f (nI_ge hqn (by omega)) (br_t rfl ⟨v40, br_f (fun y => h5 (e1.symm.trans y)) (br_f (by decide) ⟨v40, br_t (e1.trans h4) ?_⟩)⟩)
        rw [nI_1]
        have k := lm_K14r hK (lf q) (rt q)
        rw [Nat.add_zero] at hL
        exact H (q + 1) (by omega) (by omega) (Or.inl (by rw [hL]; exact k.1)) (by rw [hL]; exact k.2)
    · refine toK53 (fun y => ⟨h5, fun _ => h4⟩) (And.intro v40 (br_f (fun y => h3 (e1.symm.trans y)) (And.intro v40 (br_f (fun y => h5 (e1.symm.trans y)) (nm_r (nI_1 q) (ih (q + 1) o (by omega) (by omega) (by omega) ?_))))))
      rw [hL]; exact lm_Kn hK h3 h4 h5 _ _ _
theorem lm_y_behind {post : Int32 → Prop} {n s p D : Nat} (hn : n ≤ 40) (w : lm_WF cd n) (e : Bool) (hD : 0 < D) (r : lm_S) (hp : p < n) (hd : lm_d cd (p + 1) = D) (hK : lm_K D 0 e r (lm_L cd lf rt s (p + 1))) (H : ∀ q, p < q → q ≤ n → ((lm_L cd lf rt s q).1 = true ∨ q = n) → (lm_L cd lf rt s q).2.2.2 = r.2.2.2 → post (nI q)) : wpY_behind post (nI n, pu, cd, lf, rt, va, ou, vi) (nI p) (nI e.toNat) :=
  nm_r (nI_1 p) ⟨n - (p + 1) + 1, lm_y_beh hn w e hD r H (n - (p + 1)) (p + 1) 0 (by omega) (by omega) hd hK⟩
theorem lm_y_power {post : Int32 → Prop} {k : Nat} (hk : k < 8) (H : post (nI (2 ^ k))) : wpY_power post (nI k) := by
  show ∃ m, wY_power_4 post (nI k) m (nI (2 ^ 0)) (nI 0)
  refine pk_loop (fun m i (_ : Unit) => wY_power_4 post (nI k) m (nI (2 ^ i)) (nI i)) (fun _ _ => True) k 0 () (by omega) trivial ?_ ?_
  · intro m _ _
    exact br_t (nI_le (Nat.le_refl k) (by omega)) H
  · intro m i _ hi _ hN
    refine br_f (nI_ge hi (by omega)) (br_f (nI_ge (b := 7) (by omega) (by decide)) (nm_r (e' := nI (2 ^ (i + 1))) ?_ (nm_r (nI_1 i) (hN () trivial))))
    rw [show (2 : Int32) = nI 2 from rfl, pk_mul, Nat.pow_succ]
theorem lm_256 {a : Nat} (h : a < 2 ^ 31) : nI a - nI a / 256 * 256 = nI (a % 256) := pk_rem (d := 256) h (by decide) (by decide)
theorem lm_y_worked {post : Int32 → Prop} {c : Int32} (hc : c = 0 ∨ c = 1 ∨ c = 2 ∨ c = 3 ∨ c = 4 ∨ c = 5 ∨ c = 6 ∨ c = 7 ∨ c = 8 ∨ c = 9 ∨ c = 10 ∨ c = 11) {x y : BitVec 8} (b : Int32) (H : post (nI (lm_val c x y b).toNat)) : wpY_worked post c (nI x.toNat) (nI y.toNat) b := by
  have hx : x.toNat < 256 := x.isLt
  have hy : y.toNat < 256 := y.isLt
  have hk : b.toBitVec.toNat % 8 < 8 := Nat.mod_lt _ (by decide)
  have hp : 2 ^ (b.toBitVec.toNat % 8) ≤ 2 ^ 7 := Nat.pow_le_pow_right (by decide) (by omega)
  have hp0 : 0 < 2 ^ (b.toBitVec.toNat % 8) := Nat.two_pow_pos _
  unfold wpY_worked
  rw [lm_b7 b]
  refine lm_y_power hk ?_
  rcases hc with rfl | rfl | rfl | rfl | rfl | rfl | rfl | rfl | rfl | rfl | rfl | rfl
  · refine br_t rfl ?_
    rw [lm_val_0, BitVec.toNat_setWidth] at H
    rw [pk_and b 8 (by decide)]; exact H
  · refine br_f (by decide) (br_t rfl ?_)
    rw [lm_val_1] at H; exact H
  · refine br_f (by decide) (br_f (by decide) (br_t rfl ⟨by decide, ?_⟩))
    rw [lm_val_2, BitVec.toNat_add] at H
    rw [nI_add, lm_256 (by omega)]; exact H
  · refine br_f (by decide) (br_f (by decide) (br_f (by decide) (br_t rfl ⟨by decide, ?_⟩)))
    rw [lm_val_3, BitVec.toNat_sub] at H
    have e : nI x.toNat - nI y.toNat + 256 = nI (2 ^ 8 - y.toNat + x.toNat) := by
      rw [Int32.sub_eq_add_neg, Int32.add_assoc, Int32.add_comm (-nI y.toNat), ← Int32.add_assoc, ← Int32.sub_eq_add_neg, show (256 : Int32) = nI 256 from rfl, nI_add, pk_sub (by omega)]
      exact congrArg nI (by omega)
    rw [e, lm_256 (by omega)]; exact H
  · refine br_f (by decide) (br_f (by decide) (br_f (by decide) (br_f (by decide) (br_t rfl ⟨by decide, ?_⟩))))
    rw [lm_val_4, BitVec.toNat_mul] at H
    have hm : x.toNat * y.toNat ≤ 256 * 256 := Nat.mul_le_mul (by omega) (by omega)
    rw [pk_mul, lm_256 (by omega)]; exact H
  · refine br_f (by decide) (br_f (by decide) (br_f (by decide) (br_f (by decide) (br_f (by decide) (br_t rfl ?_)))))
    rw [lm_val_5, BitVec.toNat_and] at H
    rw [nx_and]; exact H
  · refine br_f (by decide) (br_f (by decide) (br_f (by decide) (br_f (by decide) (br_f (by decide) (br_f (by decide) (br_t rfl ?_))))))
    rw [lm_val_6, BitVec.toNat_or] at H
    rw [lm_or]; exact H
  · refine br_f (by decide) (br_f (by decide) (br_f (by decide) (br_f (by decide) (br_f (by decide) (br_f (by decide) (br_f (by decide) (br_t rfl ?_)))))))
    rw [lm_val_7, BitVec.toNat_xor] at H
    rw [nx_xor]; exact H
  · refine br_f (by decide) (br_f (by decide) (br_f (by decide) (br_f (by decide) (br_f (by decide) (br_f (by decide) (br_f (by decide) (br_f (by decide) (br_t rfl ⟨by decide, ?_⟩))))))))
    rw [lm_val_8, BitVec.toNat_shiftLeft, Nat.shiftLeft_eq] at H
    have hm : x.toNat * 2 ^ (b.toBitVec.toNat % 8) ≤ 256 * 2 ^ 7 := Nat.mul_le_mul (by omega) hp
    rw [pk_mul, lm_256 (by omega)]; exact H
  · refine br_f (by decide) (br_f (by decide) (br_f (by decide) (br_f (by decide) (br_f (by decide) (br_f (by decide) (br_f (by decide) (br_f (by decide) (br_f (by decide) (br_t rfl (br_f (nI_nle hp0 (by omega)) ⟨nI_ne0 hp0 (by omega), ?_⟩))))))))))
    rw [lm_val_9, BitVec.toNat_ushiftRight, Nat.shiftRight_eq_div_pow] at H
    rw [pk_div (by omega) hp0 (by omega)]; exact H
  · refine br_f (by decide) (br_f (by decide) (br_f (by decide) (br_f (by decide) (br_f (by decide) (br_f (by decide) (br_f (by decide) (br_f (by decide) (br_f (by decide) (br_f (by decide) (br_t rfl ?_))))))))))
    rw [lm_val_10, BitVec.ult_eq_decide] at H
    by_cases z : x.toNat < y.toNat
    · rw [decide_eq_true z] at H
      exact br_f (nI_ge z (by omega)) H
    · rw [decide_eq_false z] at H
      exact br_t (nI_le (by omega) (by omega)) H
  · refine br_f (by decide) (br_f (by decide) (br_f (by decide) (br_f (by decide) (br_f (by decide) (br_f (by decide) (br_f (by decide) (br_f (by decide) (br_f (by decide) (br_f (by decide) (br_f (by decide) ?_))))))))))
    rw [lm_val_11] at H
    by_cases z : x = y
    · rw [if_pos z] at H
      exact br_t (by rw [z]) H
    · rw [if_neg z] at H
      exact br_f (fun h => z (BitVec.eq_of_toNat_eq ((nI_eq (by omega) (by omega)).mp h))) H
end
end
section
/-! ===== the reference runs the program for a secret ===== -/
def lm_YI (s : Nat) (q : lm_S) (pu : Int32) (va vi : Nat → Int32) : Prop := pu = nI q.2.2.2.2.1 ∧ (∀ i, i < 4 → va i = nI (q.2.2.2.1 i).toNat) ∧ (∀ k, k < q.2.2.2.2.1 → vi (7 * s + k) = nI (lm_dg q.2.2.2.2 k))
theorem lm_YI_eq {s : Nat} {q q' : lm_S} {pu : Int32} {va vi : Nat → Int32} (e : q'.2.2.2 = q.2.2.2) (h : lm_YI s q pu va vi) : lm_YI s q' pu va vi := by
  unfold lm_YI at h ⊢; rw [e]; exact h
def lm_Fr (s : Nat) (vi vi' : Nat → Int32) : Prop := ∀ i, (i < 7 * s ∨ 7 * s + 7 ≤ i) → vi' i = vi i
theorem lm_s7 (s k : Nat) : (7 : Int32) * nI s + nI k = nI (7 * s + k) := by
  rw [show (7 : Int32) = nI 7 from rfl, pk_mul, nI_add]
section
variable {yn : Int32} {pu : Int32} {cd : Nat → Int32} {lf : Nat → Int32} {rt : Nat → Int32} {va : Nat → Int32} {ou : Nat → Int32} {vi : Nat → Int32}
theorem lm_y_128n {post : SY → Prop} {J : Int32 → Int32 → Int32 → Int32 → (Nat → Int32) → (Nat → Int32) → (Nat → Int32) → (Nat → Int32) → (Nat → Int32) → (Nat → Int32) → Prop} {x1 x2 x5 x7 c : Int32} {j : Nat} (h2 : c ≠ 12) (h3 : c ≠ 13) (h4 : c ≠ 14) (H : J x7 (nI (j + 1)) yn pu cd lf rt va ou vi) : wY_run_128 post J x1 x2 (nI j) c x5 x7 yn pu cd lf rt va ou vi :=
  br_f h2 (br_f h3 (br_f h4 (nm_r (nI_1 j) H)))
theorem lm_y_show {post : SY → Prop} {s : Nat} (hs : s < 64) {q : lm_S} (hq : q.2.2.2.2.1 ≤ 7) {x : Nat} (hx : x < 256) (hI : lm_YI s q pu va vi) (ha : q.1 = true) (H : ∀ pu' vi', lm_YI s (q.1, q.2.1, q.2.2.1, q.2.2.2.1, lm_out q.1 x q.2.2.2.2) pu' va vi' → lm_Fr s vi vi' → post (yn, pu', cd, lf, rt, va, ou, vi')) : wpY_show post (yn, pu, cd, lf, rt, va, ou, vi) (nI s) (nI x) := by
  obtain ⟨i1, i2, i3⟩ := hI
  by_cases h7 : q.2.2.2.2.1 < 7
  · have e : lm_out q.1 x q.2.2.2.2 = (q.2.2.2.2.1 + 1, q.2.2.2.2.2 * 256 + x) := if_pos ⟨ha, h7⟩
    rw [e] at H
    subst i1
    refine br_f (nI_ge (b := 7) h7 (by decide)) ?_
    rw [lm_s7, nI_clamp (show 7 * s + q.2.2.2.2.1 < 2 ^ 31 by omega)]
    refine ⟨vp_in_nI (by omega) (by decide), nm_e (nm_r (nI_1 _) (H _ _ ⟨rfl, i2, ?_⟩ ?_))⟩
    · intro k hk
      have d := lm_dg_in (c := q.2.2.2.2.1) (t := q.2.2.2.2.2) hx
      by_cases z : k = q.2.2.2.2.1
      · subst z
        rw [pk_us]
        show _ = nI (lm_dg (q.2.2.2.2.1 + 1, q.2.2.2.2.2 * 256 + x) q.2.2.2.2.1)
        rw [d.2]
      · have hk' : k < q.2.2.2.2.1 + 1 := hk
        rw [pk_un (by omega), i3 k (by omega)]
        show _ = nI (lm_dg (q.2.2.2.2.1 + 1, q.2.2.2.2.2 * 256 + x) k)
        rw [d.1 k (by omega)]
    · intro i hi
      rw [pk_un (by omega)]
  · have e : lm_out q.1 x q.2.2.2.2 = q.2.2.2.2 := if_neg (fun z => h7 z.2)
    rw [e] at H
    refine br_t (by rw [i1]; exact nI_le (a := 7) (by omega) (by omega)) (H pu vi ⟨i1, i2, i3⟩ (fun i _ => rfl))
theorem lm_y_36 {post : SY → Prop} {n s : Nat} (hn : n ≤ 40) (w : lm_WF cd n) (hs : s < 64) {vi0 : Nat → Int32} (H : ∀ pu' va' vi', lm_YI s (lm_L cd lf rt s n) pu' va' vi' → lm_Fr s vi0 vi' → post (nI n, pu', cd, lf, rt, va', upd ou s (nI (lm_L cd lf rt s n).2.2.2.2.1), vi')) : ∀ m p j pu va vi, n - p < m → p ≤ n → j ≤ p → ((lm_L cd lf rt s p).1 = true ∨ p = n) → lm_YI s (lm_L cd lf rt s p) pu va vi → lm_Fr s vi0 vi → wY_run_36 post (nI s) m (nI p) (nI j) (nI n) pu cd lf rt va ou vi := by
  intro m
  induction m with
  | zero => intro p j pu va vi h; exact absurd h (Nat.not_lt_zero _)
  | succ m ih =>
    intro p j pu va vi hm hp hj hA hI hF
    by_cases hpn : p = n
    · subst hpn
      have E : vp_in (nI s) 64 ∧ ∀ o : Nat → Int32, o = upd ou (nI s).toNatClampNeg pu → post (nI p, pu, cd, lf, rt, va, o, vi) := by
        refine ⟨vp_in_nI hs (by decide), nm_r (e' := upd ou s (nI (lm_L cd lf rt s p).2.2.2.2.1)) ?_ (H pu va vi hI hF)⟩
        rw [nI_clamp (by omega), hI.1]
      exact br_c (fun _ => E) (fun _ => br_t (nI_le (Nat.le_refl p) (by omega)) E)
    · have hlt : p < n := by omega
      have hA1 : (lm_L cd lf rt s p).1 = true := by
        rcases hA with z | z
        · exact z
        · exact absurd z hpn
      have hJ := lm_J_L lf rt s p (lm_WF_le hp w)
      have wp := w p hlt
      have v40 : vp_in (nI p) 40 := vp_in_nI (by omega) (by decide)
      have va4 := vp_in_nI (lm_ix_lt (lf p)) (show 4 < 2 ^ 31 by decide)
      have vb4 := vp_in_nI (lm_ix_lt (rt p)) (show 4 < 2 ^ 31 by decide)
      have l4 := lm_ix_lt (lf p)
      have r4 := lm_ix_lt (rt p)
      have hW := lm_Wb cd lf rt s p
      have hL : lm_L cd lf rt s (p + 1) = lm_step (cd p) (lf p) (rt p) (lm_d cd p) (lm_L cd lf rt s p) := rfl
      have hd1 : lm_d cd (p + 1) = lm_ds (cd p) (lm_d cd p) := rfl
      obtain ⟨q, eq⟩ : ∃ q, lm_L cd lf rt s p = q := ⟨_, rfl⟩
      rw [eq] at hA1 hJ hI hL hW
      refine br_f (nI_ge (b := 40) (by omega) (by decide)) (br_f (nI_ge hlt (by omega)) ?_)
      rw [nI_clamp (show p < 2 ^ 31 by omega), lm_ix_eq (lf p), lm_ix_eq (rt p), nI_clamp (show lm_ix (lf p) < 2 ^ 31 by omega), nI_clamp (show lm_ix (rt p) < 2 ^ 31 by omega), hI.2.1 _ l4, hI.2.1 _ r4]
      refine ⟨v40, nm_e ⟨v40, va4, nm_e ⟨v40, vb4, nm_e (nm_r (nI_1 p) ?_)⟩⟩⟩
      rcases lm_codes wp.1.1 wp.1.2 with hc | hc | hc | hc | hc
      · have hx : ¬ 11 < cd p ∧ cd p ≠ 12 ∧ cd p ≠ 13 ∧ cd p ≠ 14 ∧ cd p ≠ 15 := by
          rcases hc with z | z | z | z | z | z | z | z | z | z | z | z <;> rw [z] <;> decide
        obtain ⟨n1, n2, n3, n4, n5⟩ := hx
        rw [lm_stepv n2 n3 n4 n5] at hL
        refine br_f n1 ⟨v40, v40, lm_y_worked hc (rt p) ⟨va4, nm_e (lm_y_128n n2 n3 n4 (ih (p + 1) (j + 1) _ _ _ (by omega) (by omega) (by omega) (Or.inl ?_) ?_ hF))⟩⟩
        · rw [hL]; exact hA1
        · rw [hL]
          refine ⟨hI.1, fun i hi => ?_, hI.2.2⟩
          show _ = nI (lm_put q.1 q.2.2.2.1 (lm_ix (lf p)) _ i).toNat
          by_cases z : i = lm_ix (lf p)
          · rw [z, pk_us, lm_put_s, if_pos hA1]
          · rw [pk_un z, lm_put_n _ _ z]; exact hI.2.1 i hi
      · rw [hc, lm_step12] at hL
        rw [hc]
        refine br_t (by decide) (br_t rfl (lm_y_show hs hW.1 (BitVec.isLt _) hI hA1 (fun pu' vi' hI' hF' => ?_)))
        refine br_f (by decide) (br_f (by decide) (nm_r (nI_1 j) (ih (p + 1) (j + 1) _ _ _ (by omega) (by omega) (by omega) (Or.inl ?_) ?_ (fun i hi => (hF' i hi).trans (hF i hi)))))
        · rw [hL]; exact hA1
        · rw [hL]; exact hI'
      · rw [hc] at hL hd1
        rw [lm_ds13] at hd1
        rw [hc]
        refine br_t (by decide) (br_f (by decide) (br_t rfl ?_))
        by_cases z : q.2.2.2.1 (lm_ix (lf p)) = 0#8
        · have K : lm_K (lm_d cd p + 1) 0 true q (lm_L cd lf rt s (p + 1)) := by rw [hL]; exact lm_K13i hA1 z _
          refine br_t (by rw [z]; rfl) (lm_y_behind hn w true (Nat.succ_pos _) q hlt hd1 K (fun p' h1 h2 h3 h4 => ?_))
          exact br_f (by decide) (nm_r (nI_1 j) (ih p' (j + 1) _ _ _ (by omega) h2 (by omega) h3 (lm_YI_eq h4 hI) hF))
        · have z0 : (q.2.2.2.1 (lm_ix (lf p))).toNat ≠ 0 := fun y => z (BitVec.eq_of_toNat_eq y)
          have zl := (q.2.2.2.1 (lm_ix (lf p))).isLt
          refine br_f (nI_ne0 (by omega) (by omega)) (br_f (by decide) (nm_r (nI_1 j) (ih (p + 1) (j + 1) _ _ _ (by omega) (by omega) (by omega) (Or.inl ?_) ?_ hF)))
          · rw [hL]; exact lm_13i hA1 z _
          · exact lm_YI_eq (by rw [hL, lm_step13]) hI
      · have w4 := wp.2.2.1 hc
        rw [hc] at hL hd1
        rw [lm_dsn (by decide) (by decide)] at hd1
        rw [hc]
        have K : lm_K (lm_d cd p) 0 false q (lm_L cd lf rt s (p + 1)) := by rw [hL]; exact lm_K14i hA1 hJ w4.1 w4.2 _ _
        refine br_t (by decide) (br_f (by decide) (br_f (by decide) (br_t rfl (lm_y_behind hn w false w4.1 q hlt hd1 K (fun p' h1 h2 h3 h4 => ?_)))))
        exact nm_r (nI_1 j) (ih p' (j + 1) _ _ _ (by omega) h2 (by omega) h3 (lm_YI_eq h4 hI) hF)
      · have w5 := wp.2.2.2 hc
        rw [hc] at hL
        rw [hc]
        refine br_t (by decide) (lm_y_128n (by decide) (by decide) (by decide) (ih (p + 1) (j + 1) _ _ _ (by omega) (by omega) (by omega) (Or.inl ?_) ?_ hF))
        · rw [hL]; exact lm_15i hA1 hJ w5 _ _
        · exact lm_YI_eq (by rw [hL, lm_step15]) hI
theorem lm_y_run {post : SY → Prop} {n s : Nat} (hn : n ≤ 40) (w : lm_WF cd n) (hs : s < 64) (H : ∀ pu' va' vi', lm_YI s (lm_L cd lf rt s n) pu' va' vi' → lm_Fr s vi vi' → post (nI n, pu', cd, lf, rt, va', upd ou s (nI (lm_L cd lf rt s n).2.2.2.2.1), vi')) : wpY_run post (nI n, pu, cd, lf, rt, va, ou, vi) (nI s) := by
  refine nm_e ?_
  show ∃ m, wY_run_9 post (nI s) (nI n) pu m (nI 1) cd lf rt (upd va 0 (nI s)) ou vi
  refine pk_loop (fun m k (v : Nat → Int32) => wY_run_9 post (nI s) (nI n) pu m (nI k) cd lf rt v ou vi) (fun k v => 1 ≤ k ∧ v 0 = nI s ∧ ∀ i, 1 ≤ i → i < k → v i = 0) 4 1 (upd va 0 (nI s)) (by omega) ⟨Nat.le_refl 1, pk_us, fun i h1 h2 => by omega⟩ ?_ ?_
  · intro m v hI
    refine br_t (nI_le (a := 4) (b := 4) (by omega) (by decide)) ⟨n + 1, ?_⟩
    refine lm_y_36 hn w hs (vi0 := vi) H (n + 1) 0 0 0 v vi (by omega) (by omega) (by omega) (Or.inl rfl) ⟨rfl, fun i hi => ?_, fun k hk => absurd hk (Nat.not_lt_zero k)⟩ (fun i _ => rfl)
    show v i = nI (if i = 0 then BitVec.ofNat 8 s else 0#8).toNat
    by_cases z : i = 0
    · rw [if_pos z, BitVec.toNat_ofNat, Nat.mod_eq_of_lt (show s < 2 ^ 8 by omega), z]; exact hI.2.1
    · rw [if_neg z, hI.2.2 i (by omega) hi]; rfl
  · intro m k v hk hI hN
    have k1 := hI.1
    refine br_f (nI_ge (b := 4) hk (by decide)) ?_
    rw [nI_clamp (show k < 2 ^ 31 by omega)]
    refine ⟨vp_in_nI hk (by decide), nm_e (nm_r (nI_1 k) (hN _ ⟨by omega, ?_, fun i h1 h2 => ?_⟩))⟩
    · rw [pk_un (by omega)]; exact hI.2.1
    · by_cases z : i = k
      · rw [z, pk_us]
      · rw [pk_un z]; exact hI.2.2 i h1 (by omega)
/-- the views of the first k secrets as the reference keeps them -/
def lm_VY (w : Nat → Nat × Nat) (ou vi : Nat → Int32) (k : Nat) : Prop := ∀ s, s < k → ou s = nI (w s).1 ∧ ∀ j, j < (w s).1 → vi (7 * s + j) = nI (lm_dg (w s) j)
theorem lm_y_all {post : SY → Prop} {n : Nat} (hn : n ≤ 40) (w : lm_WF cd n) (H : ∀ pu' va' ou' vi', lm_VY (fun s => (lm_L cd lf rt s n).2.2.2.2) ou' vi' 64 → post (nI n, pu', cd, lf, rt, va', ou', vi')) : wpY_runAll post (nI n, pu, cd, lf, rt, va, ou, vi) := by
  show ∃ m, wY_runAll_2 post m (nI 0) (nI n) pu cd lf rt va ou vi
  refine pk_loop (fun m k (t : Int32 × (Nat → Int32) × (Nat → Int32) × (Nat → Int32)) => wY_runAll_2 post m (nI k) (nI n) t.1 cd lf rt t.2.1 t.2.2.1 t.2.2.2) (fun k t => lm_VY (fun s => (lm_L cd lf rt s n).2.2.2.2) t.2.2.1 t.2.2.2 k) 64 0 (pu, va, ou, vi) (by omega) (fun s hs => absurd hs (Nat.not_lt_zero s)) ?_ ?_
  · intro m t hI
    exact br_t (nI_le (a := 64) (b := 64) (by omega) (by decide)) (H t.1 t.2.1 t.2.2.1 t.2.2.2 hI)
  · intro m k t hk hI hN
    refine br_f (nI_ge (b := 64) hk (by decide)) (lm_y_run hn w hk (fun pu' va' vi' hY hF => nm_r (nI_1 k) (hN (pu', va', upd t.2.2.1 k (nI (lm_L cd lf rt k n).2.2.2.2.1), vi') (fun s hs => ?_))))
    dsimp only
    by_cases z : s = k
    · subst z; rw [pk_us]; exact ⟨rfl, hY.2.2⟩
    · rw [pk_un z]
      have h := hI s (by omega)
      dsimp only at h
      have h7 := (lm_Wb cd lf rt s n).1
      exact ⟨h.1, fun j hj => by rw [hF _ (by omega)]; exact h.2 j hj⟩
end
end
section
/-! ===== the reference: same, different, least, alike; both: guessed; the reference's add ===== -/
def lm_WB (w : Nat → Nat × Nat) : Prop := ∀ s, (w s).1 ≤ 7 ∧ (w s).2 < 256 ^ (w s).1
section
variable {yn : Int32} {pu : Int32} {cd : Nat → Int32} {lf : Nat → Int32} {rt : Nat → Int32} {va : Nat → Int32} {ou : Nat → Int32} {vi : Nat → Int32}
theorem lm_y_same {post : Int32 → Prop} {w : Nat → Nat × Nat} (hV : lm_VY w ou vi 64) (hb : lm_WB w) {s t : Nat} (hs : s < 64) (ht : t < 64) (H : post (nI (lm_e w s t).toNat)) : wpY_same post (yn, pu, cd, lf, rt, va, ou, vi) (nI s) (nI t) := by
  have s7 := (hb s).1
  have t7 := (hb t).1
  refine And.intro (vp_in_nI hs (by decide)) (And.intro (vp_in_nI ht (by decide)) ?_)
  rw [nI_clamp (show s < 2 ^ 31 by omega), nI_clamp (show t < 2 ^ 31 by omega), (hV s hs).1, (hV t ht).1]
  by_cases hc : (w s).1 = (w t).1
  · refine br_t (by rw [hc]) ?_
    show ∃ m, wY_same_19 post (nI s) (nI t) yn pu cd lf rt va ou vi m (nI 0)
    refine pk_loop (fun m k (_ : Unit) => wY_same_19 post (nI s) (nI t) yn pu cd lf rt va ou vi m (nI k)) (fun k _ => ∀ j, j < k → lm_dg (w s) j = lm_dg (w t) j) (w s).1 0 () (by omega) (fun j hj => absurd hj (Nat.not_lt_zero j)) ?_ ?_
    · intro m _ hI
      have hI' : ∀ j, j < (w s).1 → lm_dg (w s) j = lm_dg (w t) j := hI
      have hd : (w s).2 = (w t).2 := by
        refine lm_dg_eq (w s).1 (w s).2 (w t).2 (hb s).2 (by rw [hc]; exact (hb t).2) (fun k hk => ?_)
        have := hI' k hk
        rw [hc]
        rw [show lm_dg ((w t).1, (w s).2) k = lm_dg (w s) k by rw [← hc]]
        exact this
      have he : lm_e w s t = true := decide_eq_true (Prod.ext hc hd)
      rw [he] at H
      refine And.intro (vp_in_nI hs (by decide)) (br_t ?_ H)
      rw [nI_clamp (show s < 2 ^ 31 by omega), (hV s hs).1]
      exact nI_le (Nat.le_refl _) (by omega)
    · intro m k _ hk hI hN
      have hk' : k < (w s).1 := hk
      refine And.intro (vp_in_nI hs (by decide)) (br_f ?_ ?_)
      · rw [nI_clamp (show s < 2 ^ 31 by omega), (hV s hs).1]
        exact nI_ge hk (by omega)
      rw [lm_s7, lm_s7, nI_clamp (show 7 * s + k < 2 ^ 31 by omega), nI_clamp (show 7 * t + k < 2 ^ 31 by omega), (hV s hs).2 k hk, (hV t ht).2 k (by omega)]
      refine ⟨vp_in_nI (by omega) (by decide), vp_in_nI (by omega) (by decide), ?_⟩
      have l1 := lm_dg_lt (w s) k
      have l2 := lm_dg_lt (w t) k
      by_cases z : lm_dg (w s) k = lm_dg (w t) k
      · refine br_t (by rw [z]) (nm_r (nI_1 k) (hN () (fun j hj => ?_)))
        by_cases y : j = k
        · rw [y]; exact z
        · exact hI j (by omega)
      · have he : lm_e w s t = false := decide_eq_false (fun y => z (by rw [y]))
        rw [he] at H
        exact br_f (fun y => z ((nI_eq (by omega) (by omega)).mp y)) H
  · have he : lm_e w s t = false := decide_eq_false (fun y => hc (by rw [y]))
    rw [he] at H
    exact br_f (fun y => hc ((nI_eq (by omega) (by omega)).mp y)) H
theorem lm_y_17 {post : Int32 → Prop} {J : Int32 → Int32 → Prop} {w : Nat → Nat × Nat} (hV : lm_VY w ou vi 64) (hb : lm_WB w) {lo i c : Nat} {x2 : Int32} (hi : lo + i < 64) (H : J (nI (c + (lm_nw (lm_e w) lo i).toNat)) (nI (lo + (i + 1)))) : ∃ n, wY_different_17 post J (nI lo) x2 (nI c) (nI (lo + i)) yn pu cd lf rt va ou vi n (nI 1) (nI (lo + 0)) := by
  refine pk_loop (fun n j (_ : Unit) => wY_different_17 post J (nI lo) x2 (nI c) (nI (lo + i)) yn pu cd lf rt va ou vi n (nI (decide (∀ t, t < j → lm_e w (lo + t) (lo + i) = false)).toNat) (nI (lo + j))) (fun _ _ => True) i 0 () (by omega) trivial ?_ ?_
  · intro n _ _
    refine br_t (nI_le (Nat.le_refl _) (by omega)) ?_
    show (nI (lm_nw (lm_e w) lo i).toNat = 0 → _) ∧ (¬ nI (lm_nw (lm_e w) lo i).toNat = 0 → _)
    cases hz : lm_nw (lm_e w) lo i
    · rw [hz] at H
      exact br_t rfl (nm_r (nI_1 (lo + i)) H)
    · rw [hz] at H
      exact br_f (by decide) (nm_r (nI_1 c) (nm_r (nI_1 (lo + i)) H))
  · intro n j _ hj _ hN
    have hN' := hN () trivial
    refine br_f (nI_ge (by omega) (by omega)) (lm_y_same hV hb hi (by omega) ?_)
    rw [lm_e_s]
    cases hz : lm_e w (lo + j) (lo + i)
    · have e : decide (∀ t, t < j + 1 → lm_e w (lo + t) (lo + i) = false) = decide (∀ t, t < j → lm_e w (lo + t) (lo + i) = false) := by
        apply decide_eq_decide.mpr
        constructor
        · intro h t ht; exact h t (by omega)
        · intro h t ht
          by_cases y : t = j
          · rw [y]; exact hz
          · exact h t (by omega)
      rw [e] at hN'
      exact br_t rfl (nm_r (nI_1 (lo + j)) hN')
    · have e : decide (∀ t, t < j + 1 → lm_e w (lo + t) (lo + i) = false) = false := decide_eq_false (fun h => by have := h j (by omega); rw [hz] at this; exact absurd this (by decide))
      rw [e] at hN'
      exact br_f (by decide) (nm_r (nI_1 (lo + j)) hN')
theorem lm_y_diff {post : Int32 → Prop} {w : Nat → Nat × Nat} (hV : lm_VY w ou vi 64) (hb : lm_WB w) {lo hi : Nat} (hl : lo ≤ hi) (hh : hi < 64) (H : post (nI (lm_cf (lm_e w) lo (hi + 1 - lo)))) : wpY_different post (yn, pu, cd, lf, rt, va, ou, vi) (nI lo) (nI hi) := by
  show ∃ n, wY_different_5 post (nI lo) (nI hi) yn pu cd lf rt va ou vi n (nI (lm_cf (lm_e w) lo 0)) (nI (lo + 0))
  refine pk_loop (fun n i (_ : Unit) => wY_different_5 post (nI lo) (nI hi) yn pu cd lf rt va ou vi n (nI (lm_cf (lm_e w) lo i)) (nI (lo + i))) (fun _ _ => True) (hi + 1 - lo) 0 () (by omega) trivial ?_ ?_
  · intro n _ _
    exact br_t (nI_lt (by omega) (by omega)) H
  · intro n i _ hi' _ hN
    exact br_f (nI_nlt (by omega) (by omega)) (lm_y_17 hV hb (by omega) (hN () trivial))
theorem lm_y_least {post : Int32 → SY → Prop} {w : Nat → Nat × Nat} (hV : lm_VY w ou vi 64) (hb : lm_WB w) {x : Int32} (H : ∀ l, l ≤ lm_sx x → lm_e w l (lm_sx x) = true → (∀ t, t < l → lm_e w t (lm_sx x) = false) → post (nI l) (yn, pu, cd, lf, rt, va, ou, vi)) : ∃ n, wY_least_6 post x yn pu cd lf rt va ou vi n (nI 0) := by
  have hx := lm_sx_lt x
  refine pk_loop (fun n k (_ : Unit) => wY_least_6 post x yn pu cd lf rt va ou vi n (nI k)) (fun k _ => ∀ t, t < k → lm_e w t (lm_sx x) = false) 64 0 () (by omega) (fun t ht => absurd ht (Nat.not_lt_zero t)) ?_ ?_
  · intro n _ hI
    have := hI (lm_sx x) hx
    rw [lm_e_r] at this
    exact absurd this (by decide)
  · intro n k _ hk hI hN
    refine br_f (nI_ge (b := 64) hk (by decide)) ?_
    rw [lm_sx_eq]
    refine lm_y_same hV hb hk hx ?_
    cases hz : lm_e w k (lm_sx x)
    · refine br_t rfl (nm_r (nI_1 k) (hN () (fun t ht => ?_)))
      by_cases y : t = k
      · rw [y]; exact hz
      · exact hI t (by omega)
    · refine br_f (by decide) (H k ?_ hz hI)
      rcases Nat.lt_or_ge (lm_sx x) k with y | y
      · have := hI (lm_sx x) y
        rw [lm_e_r] at this
        exact absurd this (by decide)
      · exact y
theorem lm_y_alike {post : Int32 → SY → Prop} {w : Nat → Nat × Nat} (hV : lm_VY w ou vi 64) (hb : lm_WB w) {x : Int32} (H : post (nI (lm_ct (fun t => lm_e w t (lm_sx x)) 64)) (yn, pu, cd, lf, rt, va, ou, vi)) : ∃ n, wY_alike_8 post x yn pu cd lf rt va ou vi n (nI 0) (nI 0) := by
  have hx := lm_sx_lt x
  refine pk_loop (fun n k (_ : Unit) => wY_alike_8 post x yn pu cd lf rt va ou vi n (nI (lm_ct (fun t => lm_e w t (lm_sx x)) k)) (nI k)) (fun _ _ => True) 64 0 () (by omega) trivial ?_ ?_
  · intro n _ _
    exact br_t (nI_le (a := 64) (b := 64) (by omega) (by decide)) H
  · intro n k _ hk _ hN
    have hN' : wY_alike_8 post x yn pu cd lf rt va ou vi n (nI (lm_ct (fun t => lm_e w t (lm_sx x)) k + (lm_e w k (lm_sx x)).toNat)) (nI (k + 1)) := hN () trivial
    refine br_f (nI_ge (b := 64) hk (by decide)) ?_
    rw [lm_sx_eq]
    refine lm_y_same hV hb hk hx ?_
    cases hz : lm_e w k (lm_sx x)
    · rw [hz] at hN'
      exact br_t rfl (nm_r (nI_1 k) hN')
    · rw [hz] at hN'
      exact br_f (by decide) (nm_r (nI_1 _) (nm_r (nI_1 k) hN'))
theorem lm_y_addc {post : Int32 → SY → Prop} {n : Nat} (hn : n ≤ 40) (w : lm_WF cd n) {c a b : Int32} (H : lm_ok c n (lm_d cd n) (lm_h cd n) → wY_add_73 post c a b (nI n) pu cd lf rt va ou vi) (N : ¬ lm_ok c n (lm_d cd n) (lm_h cd n) → post (-1) (nI n, pu, cd, lf, rt, va, ou, vi)) : wpY_add post (nI n, pu, cd, lf, rt, va, ou, vi) c a b := by
  have d4 := lm_d4 n w
  have K58 : ¬ c < 0 → ¬ 15 < c → n < 40 → (c = 13 → lm_d cd n < 4) → (c = 14 → 0 < lm_d cd n) → (c = 15 → 0 < lm_d cd n) → wY_add_58 post c a b (nI n) pu cd lf rt va ou vi := fun a1 a2 a3 a4 a5 a6 => by
    refine br_c (fun e => lm_y_else hn w (a5 e) ?_) (fun e => H ⟨a1, a2, a3, a4, fun z => absurd z e, a6⟩)
    cases hz : lm_h cd n (lm_d cd n - 1)
    · exact br_t rfl (H ⟨a1, a2, a3, a4, fun z => ⟨a5 z, hz⟩, a6⟩)
    · exact br_f (by decide) (N (fun o => by have := (o.2.2.2.2.1 e).2; rw [hz] at this; exact absurd this (by decide)))
  have K49 : ¬ c < 0 → ¬ 15 < c → n < 40 → (c = 13 → lm_d cd n < 4) → (c = 14 ∨ c = 15) → wY_add_49 post c a b (nI n) pu cd lf rt va ou vi := fun a1 a2 a3 a4 a5 => by
    refine lm_y_open hn w ?_
    by_cases d0 : lm_d cd n = 0
    · refine br_t (by rw [d0]; rfl) (N (fun o => ?_))
      rcases a5 with e | e
      · have := (o.2.2.2.2.1 e).1; omega
      · have := o.2.2.2.2.2 e; omega
    · exact br_f (nI_ne0 (by omega) (by omega)) (K58 a1 a2 a3 a4 (fun _ => by omega) (fun _ => by omega))
  have K37 : ¬ c < 0 → ¬ 15 < c → n < 40 → (c = 13 → lm_d cd n < 4) → wY_add_37 post c a b (nI n) pu cd lf rt va ou vi := fun a1 a2 a3 a4 =>
    br_c (fun e => K49 a1 a2 a3 a4 (Or.inl e)) (fun e4 => br_c (fun e => K49 a1 a2 a3 a4 (Or.inr e)) (fun e5 => K58 a1 a2 a3 a4 (fun z => absurd z e4) (fun z => absurd z e5)))
  refine br_c (fun z => N (fun o => o.1 z)) (fun a1 => br_c (fun z => N (fun o => o.2.1 z)) (fun a2 => ?_))
  by_cases a3 : n < 40
  · refine br_f (fun z => ?_) (br_c (fun e => lm_y_open hn w ?_) (fun e => K37 a1 a2 a3 (fun z => absurd z e)))
    · have := (nI_eq (b := 40) (by omega) (by omega)).mp z
      omega
    · by_cases a4 : lm_d cd n < 4
      · refine br_f (fun z => ?_) (K37 a1 a2 a3 (fun _ => a4))
        have := (nI_eq (b := 4) (by omega) (by omega)).mp z
        omega
      · have e4 : lm_d cd n = 4 := by omega
        exact br_t (by rw [e4]; rfl) (N (fun o => a4 (o.2.2.2.1 e)))
  · have e40 : n = 40 := by omega
    exact br_t (by rw [e40]; rfl) (N (fun o => a3 o.2.2.1))
end
section
variable {st : Int32} {pa : Int32} {ac : Int64} {so : Int32} {cc : Int32} {he : Nat → Int32} {pl : Nat → Int64} {wk : Nat → Int64} {ar : Nat → Int64} {ot : Nat → Int64} {co : Nat → Int32} {tr : Nat → Int64} {le : Nat → Int32} {me : Nat → Int32} {ta : Nat → Int32} {mt : Nat → Int32}
theorem lm_ld_iff {w : Nat → Nat × Nat} {le : Nat → Int32} (hL : ∀ t, t < 64 → lm_LD (lm_e w) le t) {a b : Nat} (ha : a < 64) (hb : b < 64) : lm_e w a b = true ↔ le a = le b := by
  obtain ⟨la, a1, a2, a3, a4⟩ := hL a ha
  obtain ⟨lb, b1, b2, b3, b4⟩ := hL b hb
  constructor
  · intro z
    have x1 : lm_e w la b = true := by rw [← lm_e_c z]; exact a3
    have x2 : lm_e w lb a = true := by rw [lm_e_c z]; exact b3
    rw [a1, b1]
    rcases Nat.lt_trichotomy la lb with y | y | y
    · rw [b4 la y] at x1; exact absurd x1 (by decide)
    · rw [y]
    · rw [a4 lb y] at x2; exact absurd x2 (by decide)
  · intro z
    rw [a1, b1] at z
    have y := (nI_eq (by omega) (by omega)).mp z
    subst y
    rw [← lm_e_c' a3]; exact b3
theorem lm_x_74 {post : Int32 → SX → Prop} {w : Nat → Nat × Nat} (hL : ∀ t, t < 64 → lm_LD (lm_e w) le t) {lo hi : Nat} (hl : lo ≤ hi) (hh : hi < 64) (hm : ∀ l, l < 64 → mt l = 0) (H : ∀ m, post (nI (lm_cf (lm_e w) lo (hi + 1 - lo))) (st, pa, ac, so, cc, he, pl, wk, ar, ot, co, tr, le, me, ta, m)) : ∃ n, wX_guessed_74 post (nI hi) st pa ac so cc n 0 (nI lo) he pl wk ar ot co tr le me ta mt := by
  show ∃ n, wX_guessed_74 post (nI hi) st pa ac so cc n (nI (lm_cf (lm_e w) lo 0)) (nI (lo + 0)) he pl wk ar ot co tr le me ta mt
  refine pk_loop (fun n i (m : Nat → Int32) => wX_guessed_74 post (nI hi) st pa ac so cc n (nI (lm_cf (lm_e w) lo i)) (nI (lo + i)) he pl wk ar ot co tr le me ta m) (fun i m => ∀ l, l < 64 → (m l = 0 ↔ ∀ t, t < i → le (lo + t) ≠ nI l)) (hi + 1 - lo) 0 mt (by omega) (fun l hl => ⟨fun _ t ht => absurd ht (Nat.not_lt_zero t), fun _ => hm l hl⟩) ?_ ?_
  · intro n m _
    exact br_t (nI_lt (by omega) (by omega)) (H m)
  · intro n i m hi' hI hN
    have hN' : ∀ m', (∀ l, l < 64 → (m' l = 0 ↔ ∀ t, t < i + 1 → le (lo + t) ≠ nI l)) → wX_guessed_74 post (nI hi) st pa ac so cc n (nI (lm_cf (lm_e w) lo i + (lm_nw (lm_e w) lo i).toNat)) (nI (lo + (i + 1))) he pl wk ar ot co tr le me ta m' := hN
    obtain ⟨l, el, hll, ee, hmin⟩ := hL (lo + i) (by omega)
    have hl64 : l < 64 := by omega
    have hIl := hI l hl64
    refine br_f (nI_nlt (by omega) (by omega)) ?_
    rw [nI_clamp (show lo + i < 2 ^ 31 by omega), el, nI_clamp (show l < 2 ^ 31 by omega)]
    refine ⟨vp_in_nI (by omega) (by decide), vp_in_nI hl64 (by decide), ?_⟩
    have key : ∀ t, t < i → (lm_e w (lo + t) (lo + i) = true ↔ le (lo + t) = nI l) := by
      intro t ht
      rw [lm_ld_iff hL (by omega) (by omega), el]
    by_cases z : ∀ t, t < i → le (lo + t) ≠ nI l
    · have en : lm_nw (lm_e w) lo i = true := decide_eq_true (fun t ht => ts_nt (fun y => z t ht ((key t ht).mp y)))
      rw [en] at hN'
      refine br_t (hIl.mpr z) ⟨vp_in_nI (by omega) (by decide), vp_in_nI hl64 (by decide), nm_e (nm_r (nI_1 _) (nm_r (nI_1 (lo + i)) (hN' _ (fun l' hl' => ?_))))⟩
      by_cases y : l' = l
      · subst y
        rw [pk_us]
        constructor
        · intro x; exact absurd x (by decide)
        · intro x; exact absurd el (x i (by omega))
      · rw [pk_un y, hI l' hl']
        constructor
        · intro x t ht
          by_cases t2 : t = i
          · rw [t2, el]
            intro x2
            exact y ((nI_eq (by omega) (by omega)).mp x2).symm
          · exact x t (by omega)
        · intro x t ht; exact x t (by omega)
    · have en : lm_nw (lm_e w) lo i = false := by
        apply ts_nt
        intro y
        have y' := of_decide_eq_true y
        exact z (fun t ht x => by have := (key t ht).mpr x; rw [y' t ht] at this; exact absurd this (by decide))
      rw [en] at hN'
      refine br_f (fun x => z (hIl.mp x)) (nm_r (nI_1 (lo + i)) (hN' m (fun l' hl' => ?_)))
      rw [hI l' hl']
      constructor
      · intro x t ht
        by_cases t2 : t = i
        · rw [t2, el]
          intro x2
          have := (nI_eq (by omega) (by omega)).mp x2
          subst this
          exact z x
        · exact x t (by omega)
      · intro x t ht; exact x t (by omega)
theorem lm_x_46 {post : Int32 → SX → Prop} {w : Nat → Nat × Nat} (hL : ∀ t, t < 64 → lm_LD (lm_e w) le t) {lo hi : Nat} (hl : lo ≤ hi) (hh : hi < 64) (H : ∀ m, post (nI (lm_cf (lm_e w) lo (hi + 1 - lo))) (st, pa, ac, so, cc, he, pl, wk, ar, ot, co, tr, le, me, ta, m)) : ∃ n, wX_guessed_46 post (nI lo) (nI hi) st pa ac so cc n (nI 0) he pl wk ar ot co tr le me ta mt := by
  refine pk_loop (fun n k (m : Nat → Int32) => wX_guessed_46 post (nI lo) (nI hi) st pa ac so cc n (nI k) he pl wk ar ot co tr le me ta m) (fun k m => ∀ l, l < k → m l = 0) 64 0 mt (by omega) (fun l hl => absurd hl (Nat.not_lt_zero l)) ?_ ?_
  · intro n m hI
    exact br_t (nI_le (a := 64) (b := 64) (by omega) (by decide)) (lm_x_74 hL hl hh hI H)
  · intro n k m hk hI hN
    refine br_f (nI_ge (b := 64) hk (by decide)) ?_
    rw [nI_clamp (show k < 2 ^ 31 by omega)]
    refine ⟨vp_in_nI hk (by decide), nm_e (nm_r (nI_1 k) (hN _ (fun l hl' => ?_)))⟩
    by_cases z : l = k
    · rw [z, pk_us]; rfl
    · rw [pk_un z]; exact hI l (by omega)
end
end
section
/-! ===== the relation, and what is owed ===== -/
def lm_RB (st pa : Int32) (ac : Int64) (so cc : Int32) (he : Nat → Int32) (pl ar ot : Nat → Int64) (co : Nat → Int32) (tr : Nat → Int64) (le me : Nat → Int32) (yn : Int32) (cd lf rt : Nat → Int32) : Prop :=
  ∃ n, n ≤ 40 ∧ st = nI n ∧ yn = nI n ∧ lm_WF cd n ∧ pa = nI (lm_d cd n) ∧ lm_PK (fun s => lm_L cd lf rt s n) (lm_d cd n) (lm_h cd n) ac he pl ar ot co tr ∧ (so ≠ 0 → lm_SV (lm_e (fun s => (lm_L cd lf rt s n).2.2.2.2)) cc le me 64)
/-- the relation at the head of a turn: the component holds, packed, the states of the 64 secrets after the reference's program -/
def i_Rel (k : Nat) (u : SX) (v : SY) : Prop := match u, v with
  | (st, pa, ac, so, cc, he, pl, wk, ar, ot, co, tr, le, me, ta, mt), (yn, pu, cd, lf, rt, va, ou, vi) => lm_RB st pa ac so cc he pl ar ot co tr le me yn cd lf rt
theorem i_up {k : Nat} {u : SX} {v : SY} (h : i_Rel k u v) : i_Rel (k + 4) u v := h
theorem lm_PK0 {pl : Nat → Int64} {c : Nat → Int32} {t : Nat → Int64} (hp : lm_PL (fun s => (lm_0 s).2.2.2.1) pl) (hc : ∀ s, s < 64 → c s = nI 0 ∧ t s = lN 0) (cd lf rt he : Nat → Int32) (ar ot : Nat → Int64) : lm_PK (fun s => lm_L cd lf rt s 0) (lm_d cd 0) (lm_h cd 0) (-1) he pl ar ot c t :=
  ⟨fun s hs => lm_b_m1 s hs, fun i hi => absurd hi (Nat.not_lt_zero i), fun _ _ i hi => absurd hi (Nat.not_lt_zero i), hp, hc⟩
theorem lm_RB0 {pl : Nat → Int64} {c : Nat → Int32} {t : Nat → Int64} (hp : lm_PL (fun s => (lm_0 s).2.2.2.1) pl) (hc : ∀ s, s < 64 → c s = nI 0 ∧ t s = lN 0) (cd lf rt he : Nat → Int32) (ar ot : Nat → Int64) (cc : Int32) (le me : Nat → Int32) : lm_RB 0 0 (-1) 0 cc he pl ar ot c t le me 0 cd lf rt :=
  ⟨0, by omega, rfl, rfl, fun p hp => absurd hp (Nat.not_lt_zero p), rfl, lm_PK0 hp hc cd lf rt he ar ot, fun z => absurd rfl z⟩
theorem i_vc0 : wpX_init (fun u => wpY_init (fun v => i_Rel 0 u v)) := by
  unfold wpX_init
  refine lm_x_clear (fun p c t hp hc => ?_)
  show lm_RB 0 0 (-1) 0 0 (fun _ => 0) p (fun _ => 0) (fun _ => 0) c t (fun _ => 0) (fun _ => 0) 0 (fun _ => 0) (fun _ => 0) (fun _ => 0)
  exact lm_RB0 hp hc _ _ _ _ _ _ _ _ _
section
variable {st : Int32} {pa : Int32} {ac : Int64} {so : Int32} {cc : Int32} {he : Nat → Int32} {pl : Nat → Int64} {wk : Nat → Int64} {ar : Nat → Int64} {ot : Nat → Int64} {co : Nat → Int32} {tr : Nat → Int64} {le : Nat → Int32} {me : Nat → Int32} {ta : Nat → Int32} {mt : Nat → Int32} {yn : Int32} {pu : Int32} {cd : Nat → Int32} {lf : Nat → Int32} {rt : Nat → Int32} {va : Nat → Int32} {ou : Nat → Int32} {vi : Nat → Int32}
theorem lm_PKVC {q : Nat → lm_S} {d : Nat} {h : Nat → Bool} (hK : lm_PK q d h ac he pl ar ot co tr) (hb : lm_WB (fun s => (q s).2.2.2.2)) : lm_VC (fun s => (q s).2.2.2.2) co tr :=
  fun s hs => ⟨(hK.2.2.2.2 s hs).1, (hK.2.2.2.2 s hs).2, (hb s).1, (hb s).2⟩
theorem lm_WBL (cd lf rt : Nat → Int32) (n : Nat) : lm_WB (fun s => (lm_L cd lf rt s n).2.2.2.2) := fun s => lm_Wb cd lf rt s n
/-- a statement more keeps the relation -/
theorem lm_RBs {n : Nat} (hn : n < 40) (w : lm_WF cd n) {c a b : Int32} (hok : lm_ok c n (lm_d cd n) (lm_h cd n)) {pa' : Int32} {ac' : Int64} {so' : Int32} {he' : Nat → Int32} {pl' ar' ot' : Nat → Int64} {co' : Nat → Int32} {tr' : Nat → Int64} (hpa : pa' = nI (lm_ds c (lm_d cd n))) (hK : lm_PK (fun s => lm_step c a b (lm_d cd n) (lm_L cd lf rt s n)) (lm_ds c (lm_d cd n)) (lm_hs c (lm_d cd n) (lm_h cd n)) ac' he' pl' ar' ot' co' tr') (hso : so' = 0 ∨ (so' = so ∧ c ≠ 12)) (hS : so ≠ 0 → lm_SV (lm_e (fun s => (lm_L cd lf rt s n).2.2.2.2)) cc le me 64) : lm_RB (nI (n + 1)) pa' ac' so' cc he' pl' ar' ot' co' tr' le me (nI (n + 1)) (upd cd n c) (upd lf n a) (upd rt n b) := by
  have ed : lm_d (upd cd n c) n = lm_d cd n := lm_d_cg n (fun i hi => pk_un (by omega))
  have eh : lm_h (upd cd n c) n = lm_h cd n := lm_h_cg n (fun i hi => pk_un (by omega))
  have eL : ∀ s, lm_L (upd cd n c) (upd lf n a) (upd rt n b) s n = lm_L cd lf rt s n := fun s => lm_L_cg s n (fun i hi => ⟨pk_un (by omega), pk_un (by omega), pk_un (by omega)⟩)
  have ed1 : lm_d (upd cd n c) (n + 1) = lm_ds c (lm_d cd n) := by
    show lm_ds (upd cd n c n) (lm_d (upd cd n c) n) = _
    rw [pk_us, ed]
  have eh1 : lm_h (upd cd n c) (n + 1) = lm_hs c (lm_d cd n) (lm_h cd n) := by
    show lm_hs (upd cd n c n) (lm_d (upd cd n c) n) (lm_h (upd cd n c) n) = _
    rw [pk_us, ed, eh]
  have eL1 : ∀ s, lm_L (upd cd n c) (upd lf n a) (upd rt n b) s (n + 1) = lm_step c a b (lm_d cd n) (lm_L cd lf rt s n) := by
    intro s
    show lm_step (upd cd n c n) (upd lf n a n) (upd rt n b n) (lm_d (upd cd n c) n) (lm_L (upd cd n c) (upd lf n a) (upd rt n b) s n) = _
    rw [pk_us, pk_us, pk_us, ed, eL]
  refine ⟨n + 1, by omega, rfl, rfl, ?_, ?_, ?_, ?_⟩
  · intro p hp
    by_cases z : p = n
    · subst z
      rw [pk_us, ed, eh]
      exact ⟨⟨hok.1, hok.2.1⟩, hok.2.2.2.1, hok.2.2.2.2.1, hok.2.2.2.2.2⟩
    · exact lm_WF_cg (cd := cd) (n := n) (fun i hi => pk_un (by omega)) w p (by omega)
  · rw [ed1]; exact hpa
  · rw [ed1, eh1, show (fun s => lm_L (upd cd n c) (upd lf n a) (upd rt n b) s (n + 1)) = fun s => lm_step c a b (lm_d cd n) (lm_L cd lf rt s n) from funext eL1]
    exact hK
  · intro z
    rcases hso with y | ⟨y, hc⟩
    · exact absurd y z
    · rw [y] at z
      have eW : (fun s => (lm_L (upd cd n c) (upd lf n a) (upd rt n b) s (n + 1)).2.2.2.2) = fun s => (lm_L cd lf rt s n).2.2.2.2 := by
        funext s
        rw [eL1]
        by_cases h3 : c = 13
        · subst h3; rw [lm_step13]
        by_cases h4 : c = 14
        · subst h4; rw [lm_step14]
        by_cases h5 : c = 15
        · subst h5; rw [lm_step15]
        rw [lm_stepv hc h3 h4 h5]
      rw [eW]; exact hS z
end
theorem i_vc_add {k : Nat} {u : SX} {v : SY} (I : i_Rel k u v) (hk : k + 4 ≤ 2048) (v1 : Int32) (v2 : Int32) (v3 : Int32) : wpX_add (fun r u' => wpY_add (fun r' v' => r' = r ∧ i_Rel (k + 4) u' v') v v1 v2 v3) u v1 v2 v3 := by
  obtain ⟨st, pa, ac, so, cc, he, pl, wk, ar, ot, co, tr, le, me, ta, mt⟩ := u
  obtain ⟨yn, pu, cd, lf, rt, va, ou, vi⟩ := v
  have I0 := I
  obtain ⟨n, hn, hst, hyn, w, hpa, hK, hS⟩ := I
  subst hyn
  refine lm_x_addc hK.2.1 hst hn hpa (lm_d4 n w) (fun ok => ?_) (fun no => ?_)
  · refine lm_x_80 hK (fun s _ => lm_Wb cd lf rt s n) hpa (lm_d4 n w) ok (fun pa' ac' so' he' pl' wk' ar' ot' co' tr' h1 h2 h3 => ?_)
    refine lm_y_addc hn w (fun _ => ?_) (fun no => absurd ok no)
    have n40 := ok.2.2.1
    unfold wY_add_73
    rw [nI_clamp (show n < 2 ^ 31 by omega)]
    refine ⟨vp_in_nI n40 (by decide), nm_e ⟨vp_in_nI n40 (by decide), nm_e ⟨vp_in_nI n40 (by decide), nm_e (nm_r (nI_1 n) ⟨?_, ?_⟩)⟩⟩⟩
    · rw [hst, nI_1]
    · show lm_RB (st + 1) pa' ac' so' cc he' pl' ar' ot' co' tr' le me (nI (n + 1)) (upd cd n v1) (upd lf n v2) (upd rt n v3)
      rw [hst, nI_1]
      exact lm_RBs n40 w ok h1 h2 h3 hS
  · exact lm_y_addc hn w (fun ok => absurd ok no) (fun _ => ⟨rfl, I0⟩)
theorem i_vc_clear {k : Nat} {u : SX} {v : SY} (I : i_Rel k u v) (hk : k + 4 ≤ 2048) : wpX_clear (fun u' => wpY_clear (fun v' => i_Rel (k + 4) u' v') v) u := by
  obtain ⟨st, pa, ac, so, cc, he, pl, wk, ar, ot, co, tr, le, me, ta, mt⟩ := u
  obtain ⟨yn, pu, cd, lf, rt, va, ou, vi⟩ := v
  refine lm_x_clear (fun p c t hp hc => ?_)
  show lm_RB 0 0 (-1) 0 cc he p ar ot c t le me 0 cd lf rt
  exact lm_RB0 hp hc _ _ _ _ _ _ _ _ _
theorem i_vc_open {k : Nat} {u : SX} {v : SY} (I : i_Rel k u v) (hk : k + 4 ≤ 2048) : wpX_open (fun r => wpY_open (fun r' => r' = r ∧ i_Rel (k + 4) u v) v) u := by
  obtain ⟨st, pa, ac, so, cc, he, pl, wk, ar, ot, co, tr, le, me, ta, mt⟩ := u
  obtain ⟨yn, pu, cd, lf, rt, va, ou, vi⟩ := v
  have I0 := I
  obtain ⟨n, hn, hst, hyn, w, hpa, hK, hS⟩ := I
  subst hyn
  show wpY_open (fun r' => r' = pa ∧ i_Rel (k + 4) (st, pa, ac, so, cc, he, pl, wk, ar, ot, co, tr, le, me, ta, mt) (nI n, pu, cd, lf, rt, va, ou, vi)) (nI n, pu, cd, lf, rt, va, ou, vi)
  exact lm_y_open hn w ⟨hpa.symm, I0⟩
theorem i_vc_classes {k : Nat} {u : SX} {v : SY} (I : i_Rel k u v) (hk : k + 4 ≤ 2048) : wpX_classes (fun r u' => wpY_classes (fun r' v' => r' = r ∧ i_Rel (k + 4) u' v') v) u := by
  obtain ⟨st, pa, ac, so, cc, he, pl, wk, ar, ot, co, tr, le, me, ta, mt⟩ := u
  obtain ⟨yn, pu, cd, lf, rt, va, ou, vi⟩ := v
  obtain ⟨n, hn, hst, hyn, w, hpa, hK, hS⟩ := I
  subst hyn
  unfold wpX_classes
  refine lm_x_sort (lm_PKVC hK (lm_WBL cd lf rt n)) hS (fun so' cc' le' me' ta' hV => ?_)
  show wpY_classes _ _
  unfold wpY_classes
  refine lm_y_all hn w (fun pu' va' ou' vi' hY => ?_)
  exact lm_y_diff (lo := 0) (hi := 63) hY (lm_WBL cd lf rt n) (by omega) (by omega) ⟨hV.1.symm, n, hn, hst, rfl, w, hpa, hK, fun _ => hV⟩
theorem i_vc_least {k : Nat} {u : SX} {v : SY} (I : i_Rel k u v) (hk : k + 4 ≤ 2048) (v1 : Int32) : wpX_least (fun r u' => wpY_least (fun r' v' => r' = r ∧ i_Rel (k + 4) u' v') v v1) u v1 := by
  obtain ⟨st, pa, ac, so, cc, he, pl, wk, ar, ot, co, tr, le, me, ta, mt⟩ := u
  obtain ⟨yn, pu, cd, lf, rt, va, ou, vi⟩ := v
  obtain ⟨n, hn, hst, hyn, w, hpa, hK, hS⟩ := I
  subst hyn
  have hx := lm_sx_lt v1
  unfold wpX_least
  refine lm_x_sort (lm_PKVC hK (lm_WBL cd lf rt n)) hS (fun so' cc' le' me' ta' hV => ?_)
  dsimp only
  rw [lm_sx_eq v1, nI_clamp (show lm_sx v1 < 2 ^ 31 by omega)]
  refine ⟨vp_in_nI hx (by decide), ?_⟩
  obtain ⟨l, el, hll, ee, hmin⟩ := hV.2.1 (lm_sx v1) hx
  unfold wpY_least
  refine lm_y_all hn w (fun pu' va' ou' vi' hY => ?_)
  refine lm_y_least hY (lm_WBL cd lf rt n) (fun l' h1 h2 h3 => ⟨?_, n, hn, hst, rfl, w, hpa, hK, fun _ => hV⟩)
  rw [el]
  rcases Nat.lt_trichotomy l l' with y | y | y
  · rw [h3 l y] at ee; exact absurd ee (by decide)
  · rw [y]
  · rw [hmin l' y] at h2; exact absurd h2 (by decide)
theorem i_vc_alike {k : Nat} {u : SX} {v : SY} (I : i_Rel k u v) (hk : k + 4 ≤ 2048) (v1 : Int32) : wpX_alike (fun r u' => wpY_alike (fun r' v' => r' = r ∧ i_Rel (k + 4) u' v') v v1) u v1 := by
  obtain ⟨st, pa, ac, so, cc, he, pl, wk, ar, ot, co, tr, le, me, ta, mt⟩ := u
  obtain ⟨yn, pu, cd, lf, rt, va, ou, vi⟩ := v
  obtain ⟨n, hn, hst, hyn, w, hpa, hK, hS⟩ := I
  subst hyn
  have hx := lm_sx_lt v1
  unfold wpX_alike
  refine lm_x_sort (lm_PKVC hK (lm_WBL cd lf rt n)) hS (fun so' cc' le' me' ta' hV => ?_)
  dsimp only
  obtain ⟨l, el, hll, ee, hmin⟩ := hV.2.1 (lm_sx v1) hx
  rw [lm_sx_eq v1, nI_clamp (show lm_sx v1 < 2 ^ 31 by omega), el, nI_clamp (show l < 2 ^ 31 by omega)]
  refine ⟨vp_in_nI hx (by decide), vp_in_nI (by omega) (by decide), ?_⟩
  unfold wpY_alike
  refine lm_y_all hn w (fun pu' va' ou' vi' hY => ?_)
  refine lm_y_alike hY (lm_WBL cd lf rt n) ⟨?_, n, hn, hst, rfl, w, hpa, hK, fun _ => hV⟩
  rw [hV.2.2 l (by omega) (fun t' ht' => by rw [lm_e_c ee]; exact hmin t' ht')]
  exact congrArg nI (lm_ct_cg 64 (fun i _ => (lm_e_c ee i).symm))
theorem i_vc_outputs {k : Nat} {u : SX} {v : SY} (I : i_Rel k u v) (hk : k + 4 ≤ 2048) (v1 : Int32) : wpX_outputs (fun r => wpY_outputs (fun r' v' => r' = r ∧ i_Rel (k + 4) u v') v v1) u v1 := by
  obtain ⟨st, pa, ac, so, cc, he, pl, wk, ar, ot, co, tr, le, me, ta, mt⟩ := u
  obtain ⟨yn, pu, cd, lf, rt, va, ou, vi⟩ := v
  obtain ⟨n, hn, hst, hyn, w, hpa, hK, hS⟩ := I
  subst hyn
  have hx := lm_sx_lt v1
  unfold wpX_outputs
  dsimp only
  rw [lm_sx_eq v1, nI_clamp (show lm_sx v1 < 2 ^ 31 by omega), (hK.2.2.2.2 _ hx).1]
  refine ⟨vp_in_nI hx (by decide), ?_⟩
  unfold wpY_outputs
  dsimp only
  rw [lm_sx_eq v1]
  refine lm_y_run hn w hx (fun pu' va' vi' hY hF => ?_)
  dsimp only
  rw [nI_clamp (show lm_sx v1 < 2 ^ 31 by omega), pk_us]
  exact ⟨vp_in_nI hx (by decide), rfl, n, hn, hst, rfl, w, hpa, hK, hS⟩
theorem i_vc_output {k : Nat} {u : SX} {v : SY} (I : i_Rel k u v) (hk : k + 4 ≤ 2048) (v1 : Int32) (v2 : Int32) : wpX_output (fun r => wpY_output (fun r' v' => r' = r ∧ i_Rel (k + 4) u v') v v1 v2) u v1 v2 := by
  obtain ⟨st, pa, ac, so, cc, he, pl, wk, ar, ot, co, tr, le, me, ta, mt⟩ := u
  obtain ⟨yn, pu, cd, lf, rt, va, ou, vi⟩ := v
  obtain ⟨n, hn, hst, hyn, w, hpa, hK, hS⟩ := I
  subst hyn
  have hx := lm_sx_lt v1
  have hW := lm_Wb cd lf rt (lm_sx v1) n
  have R : lm_RB st pa ac so cc he pl ar ot co tr le me (nI n) cd lf rt := ⟨n, hn, hst, rfl, w, hpa, hK, hS⟩
  unfold wpX_output
  have c1 : co (lm_sx v1) = nI (lm_L cd lf rt (lm_sx v1) n).2.2.2.2.1 := (hK.2.2.2.2 _ hx).1
  have c2 : tr (lm_sx v1) = lN (lm_L cd lf rt (lm_sx v1) n).2.2.2.2.2 := (hK.2.2.2.2 _ hx).2
  refine nm_r (lm_sx_eq v1) ?_
  rw [nI_clamp (show lm_sx v1 < 2 ^ 31 by omega), c1, c2]
  by_cases h0 : v2 < 0
  · refine br_t h0 ?_
    unfold wpY_output
    dsimp only
    rw [lm_sx_eq v1]
    exact lm_y_run hn w hx (fun pu' va' vi' hY hF => br_t h0 ⟨rfl, R⟩)
  · refine br_f h0 ⟨vp_in_nI hx (by decide), ?_⟩
    obtain ⟨j, hj, rfl⟩ := nI_of h0
    by_cases h1 : j < (lm_L cd lf rt (lm_sx v1) n).2.2.2.2.1
    · refine br_t (nI_lt h1 (by omega)) ⟨vp_in_nI hx (by decide), vp_in_nI hx (by decide), ?_⟩
      have ex : (8 : Int32) * (nI (lm_L cd lf rt (lm_sx v1) n).2.2.2.2.1 - 1 - nI j) = nI (8 * ((lm_L cd lf rt (lm_sx v1) n).2.2.2.2.1 - 1 - j)) := by
        rw [show (1 : Int32) = nI 1 from rfl, pk_sub (by omega), pk_sub (by omega), show (8 : Int32) = nI 8 from rfl, pk_mul]
      have tl := lm_pw7 hW.1 hW.2
      have ev : (((((lN (lm_L cd lf rt (lm_sx v1) n).2.2.2.2.2).toUInt64 >>> ((8 * ((nI (lm_L cd lf rt (lm_sx v1) n).2.2.2.2.1 - 1) - nI j)).toInt64.toUInt64 &&& Int64.toUInt64 63)).toInt64).toInt32) &&& 255) = nI (lm_dg (lm_L cd lf rt (lm_sx v1) n).2.2.2.2 j) := by
        rw [ex, wb_shr (by omega) (by omega), lN_i, pk_and _ 8 (by decide)]
        have e2 : ∀ N : Nat, (nI N).toBitVec.toNat % 2 ^ 8 = N % 256 := by
          intro N
          show N % 2 ^ 32 % 2 ^ 8 = N % 256
          omega
        rw [e2, Nat.pow_mul]; rfl
      rw [ev]
      unfold wpY_output
      dsimp only
      rw [lm_sx_eq v1]
      refine lm_y_run hn w hx (fun pu' va' vi' hY hF => ?_)
      dsimp only
      rw [nI_clamp (show lm_sx v1 < 2 ^ 31 by omega), pk_us, lm_s7, nI_clamp (show 7 * lm_sx v1 + j < 2 ^ 31 by omega), hY.2.2 j h1]
      exact br_f h0 ⟨vp_in_nI hx (by decide), br_t (nI_lt h1 (by omega)) ⟨vp_in_nI (by omega) (by decide), rfl, R⟩⟩
    · refine br_f (nI_nlt (by omega) hj) ?_
      unfold wpY_output
      dsimp only
      rw [lm_sx_eq v1]
      refine lm_y_run hn w hx (fun pu' va' vi' hY hF => ?_)
      dsimp only
      rw [nI_clamp (show lm_sx v1 < 2 ^ 31 by omega), pk_us]
      exact br_f h0 ⟨vp_in_nI hx (by decide), br_f (nI_nlt (by omega) hj) ⟨rfl, R⟩⟩
theorem i_vc_end {k : Nat} {u : SX} {v : SY} (I : i_Rel k u v) (hk : k + 4 ≤ 2048) (v1 : Int32) (v2 : Int32) : wpX_end (fun r => wpY_end (fun r' v' => r' = r ∧ i_Rel (k + 4) u v') v v1 v2) u v1 v2 := by
  obtain ⟨st, pa, ac, so, cc, he, pl, wk, ar, ot, co, tr, le, me, ta, mt⟩ := u
  obtain ⟨yn, pu, cd, lf, rt, va, ou, vi⟩ := v
  obtain ⟨n, hn, hst, hyn, w, hpa, hK, hS⟩ := I
  subst hyn
  have hx := lm_sx_lt v1
  have ha := lm_ix_lt v2
  unfold wpX_end
  dsimp only
  rw [lm_sx_eq v1, lm_ix_eq v2]
  refine lm_x_val hK.2.2.2.1 hx ha ?_
  unfold wpY_end
  dsimp only
  rw [lm_sx_eq v1, lm_ix_eq v2]
  refine lm_y_run hn w hx (fun pu' va' vi' hY hF => ?_)
  dsimp only
  rw [nI_clamp (show lm_ix v2 < 2 ^ 31 by omega), hY.2.1 _ ha]
  exact ⟨vp_in_nI ha (by decide), rfl, n, hn, hst, rfl, w, hpa, hK, hS⟩
theorem i_vc_guessed {k : Nat} {u : SX} {v : SY} (I : i_Rel k u v) (hk : k + 4 ≤ 2048) (v1 : Int32) (v2 : Int32) : wpX_guessed (fun r u' => wpY_guessed (fun r' v' => r' = r ∧ i_Rel (k + 4) u' v') v v1 v2) u v1 v2 := by
  obtain ⟨st, pa, ac, so, cc, he, pl, wk, ar, ot, co, tr, le, me, ta, mt⟩ := u
  obtain ⟨yn, pu, cd, lf, rt, va, ou, vi⟩ := v
  obtain ⟨n, hn, hst, hyn, w, hpa, hK, hS⟩ := I
  subst hyn
  have hx := lm_sx_lt v1
  have hy := lm_sx_lt v2
  unfold wpX_guessed
  refine lm_x_sort (lm_PKVC hK (lm_WBL cd lf rt n)) hS (fun so' cc' le' me' ta' hV => ?_)
  refine nm_r (lm_sx_eq v1) (nm_r (lm_sx_eq v2) ?_)
  have R : lm_RB st pa ac so' cc' he pl ar ot co tr le' me' (nI n) cd lf rt := ⟨n, hn, hst, rfl, w, hpa, hK, fun _ => hV⟩
  by_cases z : lm_sx v2 ≤ lm_sx v1
  · have z' := nI_le z (show lm_sx v1 < 2 ^ 31 by omega)
    refine br_t z' (br_t z' (lm_x_46 hV.2.1 z hx (fun m => ?_)))
    unfold wpY_guessed
    refine lm_y_all hn w (fun pu' va' ou' vi' hY => ?_)
    exact nm_r (lm_sx_eq v1) (nm_r (lm_sx_eq v2) (br_t z' (lm_y_diff hY (lm_WBL cd lf rt n) z hx ⟨rfl, R⟩)))
  · have z' := nI_ge (show lm_sx v1 < lm_sx v2 by omega) (show lm_sx v2 < 2 ^ 31 by omega)
    refine br_f z' (br_f z' (lm_x_46 hV.2.1 (show lm_sx v1 ≤ lm_sx v2 by omega) hy (fun m => ?_)))
    unfold wpY_guessed
    refine lm_y_all hn w (fun pu' va' ou' vi' hY => ?_)
    exact nm_r (lm_sx_eq v1) (nm_r (lm_sx_eq v2) (br_f z' (lm_y_diff hY (lm_WBL cd lf rt n) (show lm_sx v1 ≤ lm_sx v2 by omega) hy ⟨rfl, R⟩)))
end
