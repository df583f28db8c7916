section
/-! pure rows to paste: stores, nI and lN arithmetic, masks, shifts, narrowing, branches by naturals (pk_le, pk_lt, pk_eq), loops (lp1 .. lp16: the measure of the state; rp1 ..: recursion), negatives. Take what you need -/
theorem pk_us {f : Nat → Int32} {k : Nat} {x : Int32} : upd f k x k = x := if_pos rfl
theorem pk_un {f : Nat → Int32} {k j : Nat} {x : Int32} (h : j ≠ k) : upd f k x j = f j := if_neg h
theorem pk_uLs {f : Nat → Int64} {k : Nat} {x : Int64} : vp_updL f k x k = x := if_pos rfl
theorem pk_uLn {f : Nat → Int64} {k j : Nat} {x : Int64} (h : j ≠ k) : vp_updL f k x j = f j := if_neg h
theorem pk_sub {a b : Nat} (h : b ≤ a) : nI a - nI b = nI (a - b) := by
  obtain ⟨c, rfl⟩ : ∃ c, a = c + b := ⟨a - b, by omega⟩
  rw [← nI_add, Int32.add_sub_cancel, Nat.add_sub_cancel]
theorem pk_m1 (n : Nat) : nI (n + 1) + (-1) = nI n := by
  rw [← nI_1, Int32.add_assoc, show (1 : Int32) + (-1) = 0 from rfl, Int32.add_zero]
theorem pk_mul (a b : Nat) : nI a * nI b = nI (a * b) := (Int32.ofNat_mul a b).symm
theorem pk_div {a d : Nat} (ha : a < 2 ^ 31) (h0 : 0 < d) (hd : d < 2 ^ 31) : nI a / nI d = nI (a / d) := by
  apply Int32.toInt_inj.mp
  rw [lg_idiv_nonneg (by rw [nI_toInt ha]; omega) (by rw [nI_toInt hd]; omega), nI_toInt ha, nI_toInt hd, nI_toInt (Nat.lt_of_le_of_lt (Nat.div_le_self a d) ha)]
  first | rfl | exact (Int.natCast_ediv _ _).symm
theorem pk_rem {a d : Nat} (ha : a < 2 ^ 31) (h0 : 0 < d) (hd : d < 2 ^ 31) : nI a - nI a / nI d * nI d = nI (a % d) := by
  rw [pk_div ha h0 hd, pk_mul, pk_sub (Nat.div_mul_le_self a d)]
  exact congrArg nI (by have := Nat.div_add_mod' a d; omega)
theorem pk_sub_toInt {a b : Nat} (ha : a < 2 ^ 30) (hb : b < 2 ^ 30) : (nI a - nI b).toInt = (a : Int) - b := by
  rw [Int32.toInt_sub, nI_toInt (by omega), nI_toInt (by omega)]
  exact Int.bmod_eq_of_le (by omega) (by omega)
theorem pk_sneg {a b : Nat} (hb : b < 2 ^ 30) (h : a < b) : nI a - nI b < 0 := by
  rw [Int32.lt_iff_toInt_lt, pk_sub_toInt (by omega) hb, show (0 : Int32).toInt = 0 from by decide]
  omega
theorem pk_ix (x : Int32) {n : Nat} (hn : n < 2 ^ 31) : x < 0 ∨ nI n ≤ x ∨ ∃ j : Nat, j < n ∧ x = nI j := by
  by_cases h : x < 0
  · exact Or.inl h
  · obtain ⟨j, hj, rfl⟩ := nI_of h
    by_cases h2 : j < n
    · exact Or.inr (Or.inr ⟨j, h2, rfl⟩)
    · exact Or.inr (Or.inl (nI_le (by omega) hj))
theorem pk_le {x y : Int32} {A B : Prop} (a b : Nat) (f : a ≤ b → A) (g : b < a → B) (hx : x = nI a := by rfl) (hy : y = nI b := by rfl) (ha : a < 2 ^ 31 := by omega) (hb : b < 2 ^ 31 := by omega) : (x ≤ y → A) ∧ (¬ x ≤ y → B) := by
  subst hx hy
  rw [nI_leI ha hb]
  exact ⟨f, fun z => g (by omega)⟩
theorem pk_lt {x y : Int32} {A B : Prop} (a b : Nat) (f : a < b → A) (g : b ≤ a → B) (hx : x = nI a := by rfl) (hy : y = nI b := by rfl) (ha : a < 2 ^ 31 := by omega) (hb : b < 2 ^ 31 := by omega) : (x < y → A) ∧ (¬ x < y → B) := by
  subst hx hy
  rw [nI_ltI ha hb]
  exact ⟨f, fun z => g (by omega)⟩
theorem pk_eq {x y : Int32} {A B : Prop} (a b : Nat) (f : a = b → A) (g : a ≠ b → B) (hx : x = nI a := by rfl) (hy : y = nI b := by rfl) (ha : a < 2 ^ 31 := by omega) (hb : b < 2 ^ 31 := by omega) : (x = y → A) ∧ (¬ x = y → B) := by
  subst hx hy
  rw [nI_eq ha hb]
  exact ⟨f, g⟩
theorem pk_in {x : Int32} (n N : Nat) (h : n < N) (hx : x = nI n := by rfl) (hN : N < 2 ^ 31 := by omega) : vp_in x N := by
  subst hx
  exact vp_in_nI h hN
theorem pk_cl {x : Int32} (n : Nat) (hx : x = nI n := by rfl) (h : n < 2 ^ 31 := by omega) : x.toNatClampNeg = n := by
  subst hx
  exact nI_clamp h
theorem pk_tn {n : Nat} (h : n < 2 ^ 32) : (nI n).toBitVec.toNat = n := Nat.mod_eq_of_lt h
theorem pk_and (x : Int32) {m : Int32} (k : Nat) (hm : m.toBitVec.toNat = 2 ^ k - 1) : x &&& m = nI (x.toBitVec.toNat % 2 ^ k) := by
  apply Int32.toBitVec_inj.mp
  apply BitVec.eq_of_toNat_eq
  rw [Int32.toBitVec_and, BitVec.toNat_and, hm, Nat.and_two_pow_sub_one_eq_mod]
  show _ = (BitVec.ofNat 32 _).toNat
  rw [BitVec.toNat_ofNat]
  exact (Nat.mod_eq_of_lt (Nat.lt_of_le_of_lt (Nat.mod_le _ _) x.toBitVec.isLt)).symm
theorem pk_andN {n : Nat} (h : n < 2 ^ 32) {m : Int32} (k : Nat) (hm : m.toBitVec.toNat = 2 ^ k - 1) : nI n &&& m = nI (n % 2 ^ k) := by
  rw [pk_and _ k hm, pk_tn h]
theorem pk_andE (x : Int32) {m : Int32} (k : Nat) (hm : m.toBitVec.toNat = 2 ^ k - 1) : ∃ j : Nat, j < 2 ^ k ∧ x &&& m = nI j := ⟨_, Nat.mod_lt _ (Nat.two_pow_pos k), pk_and x k hm⟩
theorem pk_andIn (x : Int32) {m : Int32} (k : Nat) (hm : m.toBitVec.toNat = 2 ^ k - 1) (hk : k ≤ 30) : vp_in (x &&& m) (2 ^ k) := by
  obtain ⟨j, hj, e⟩ := pk_andE x k hm
  rw [e]
  exact vp_in_nI hj (Nat.lt_of_le_of_lt (Nat.pow_le_pow_right (by decide) hk) (by decide))
theorem pk_shl (a s : Int32) (k : Nat) (hs : (s.toBitVec.smod 32).toNat = k) : (a <<< s).toBitVec.toNat = a.toBitVec.toNat * 2 ^ k % 2 ^ 32 := by
  show (a.toBitVec <<< (s.toBitVec.smod 32).toNat).toNat = _
  rw [hs, BitVec.toNat_shiftLeft, Nat.shiftLeft_eq]
theorem pk_shlN {n : Nat} (s : Int32) (k : Nat) (hs : (s.toBitVec.smod 32).toNat = k) (h : n * 2 ^ k < 2 ^ 32) : nI n <<< s = nI (n * 2 ^ k) := by
  apply Int32.toBitVec_inj.mp
  apply BitVec.eq_of_toNat_eq
  have hn : n < 2 ^ 32 := Nat.lt_of_le_of_lt (Nat.le_mul_of_pos_right n (Nat.two_pow_pos k)) h
  rw [pk_shl _ _ k hs, pk_tn hn, pk_tn h, Nat.mod_eq_of_lt h]
theorem pk_shr (a s : Int32) (k : Nat) (hs : (s.toBitVec.smod 32).toNat = k) : (a >>> s).toInt = a.toInt >>> k := by
  show (a.toBitVec.sshiftRight (s.toBitVec.smod 32).toNat).toInt = _
  rw [hs, BitVec.toInt_sshiftRight]
  rfl
theorem pk_shrN {n : Nat} (h : n < 2 ^ 31) (s : Int32) (k : Nat) (hs : (s.toBitVec.smod 32).toNat = k) : nI n >>> s = nI (n / 2 ^ k) := by
  apply Int32.toInt_inj.mp
  have h2 : n / 2 ^ k ≤ n := Nat.div_le_self _ _
  rw [pk_shr _ _ k hs, nI_toInt h, nI_toInt (by omega), Int.shiftRight_eq_div_pow]
  rfl
theorem pk_ushr (x s : Int32) (k : Nat) (hs : ((s.toUInt32 &&& Int32.toUInt32 31).toBitVec % 32).toNat = k) : (x.toUInt32 >>> (s.toUInt32 &&& Int32.toUInt32 31)).toInt32.toBitVec.toNat = x.toBitVec.toNat / 2 ^ k := by
  have e : (x.toUInt32 >>> (s.toUInt32 &&& Int32.toUInt32 31)).toInt32.toBitVec = x.toBitVec >>> k := by
    rw [← hs]
    exact UInt32.toBitVec_shiftRight _ _
  rw [e, BitVec.toNat_ushiftRight, Nat.shiftRight_eq_div_pow]
theorem pk_ushrN {n : Nat} (hn : n < 2 ^ 32) (s : Int32) (k : Nat) (hs : ((s.toUInt32 &&& Int32.toUInt32 31).toBitVec % 32).toNat = k) : ((nI n).toUInt32 >>> (s.toUInt32 &&& Int32.toUInt32 31)).toInt32 = nI (n / 2 ^ k) := by
  apply Int32.toBitVec_inj.mp
  apply BitVec.eq_of_toNat_eq
  rw [pk_ushr _ s k hs, pk_tn hn, pk_tn (Nat.lt_of_le_of_lt (Nat.div_le_self _ _) hn)]
theorem pk_nb (z : Int32) : narrow .byte (.int z.toInt8.toInt32) = .int z.toInt8.toInt32 := congrArg Value.int (by simp)
theorem pk_ns (z : Int32) : narrow .short (.int z.toInt16.toInt32) = .int z.toInt16.toInt32 := congrArg Value.int (by simp)
theorem pk_fb (r : Int32) : fits .byte (.int r.toInt8.toInt32) = true := by
  have ⟨a, b⟩ := lg_i2b_range r
  have h1 : (-128 : Int32).toInt = -128 := by decide
  have h2 : (127 : Int32).toInt = 127 := by decide
  simp only [fits, Bool.and_eq_true, decide_eq_true_eq, Int32.le_iff_toInt_le, h1, h2]
  omega
theorem pk_fs (r : Int32) : fits .short (.int r.toInt16.toInt32) = true := by
  have ⟨a, b⟩ := lg_i2s_range r
  have h1 : (-32768 : Int32).toInt = -32768 := by decide
  have h2 : (32767 : Int32).toInt = 32767 := by decide
  simp only [fits, Bool.and_eq_true, decide_eq_true_eq, Int32.le_iff_toInt_le, h1, h2]
  omega
theorem pk_charN {q : Nat} (hq : q < 65536) : narrow .char (.int (nI q)) = .int (nI q) ∧ fits .char (.int (nI q)) = true := by
  constructor
  · have e : (nI q).toUInt32.toUInt16.toUInt32.toInt32 = nI q := by
      apply Int32.toBitVec_inj.mp
      apply BitVec.eq_of_toNat_eq
      show (nI q).toUInt32.toUInt16.toUInt32.toNat = q % 2 ^ 32
      rw [UInt16.toNat_toUInt32, UInt32.toNat_toUInt16, show (nI q).toUInt32.toNat = q % 2 ^ 32 from rfl]
      omega
    exact congrArg Value.int e
  · have a : (0 : Int32) ≤ nI q := nI_pos' (by omega)
    have b : nI q ≤ 65535 := nI_le (b := 65535) (by omega) (by decide)
    show (decide ((0 : Int32) ≤ nI q) && decide (nI q ≤ 65535)) = true
    rw [decide_eq_true a, decide_eq_true b]
    rfl
theorem pk_char (x : Int32) : (x.toUInt32 % 65536).toInt32 = nI (x.toBitVec.toNat % 65536) := by
  apply Int32.toBitVec_inj.mp
  apply BitVec.eq_of_toNat_eq
  rw [pk_tn (by omega)]
  show (x.toUInt32 % 65536).toNat = _
  rw [UInt32.toNat_mod]
  rfl
theorem pk_nc (x : Int32) : narrow .char (.int (x.toUInt32 % 65536).toInt32) = .int (x.toUInt32 % 65536).toInt32 := by
  rw [pk_char]
  exact (pk_charN (Nat.mod_lt _ (by decide))).1
theorem pk_fc (x : Int32) : fits .char (.int (x.toUInt32 % 65536).toInt32) = true := by
  rw [pk_char]
  exact (pk_charN (Nat.mod_lt _ (by decide))).2
theorem pk_vb (z : Int32) : vp_nar .byte z.toInt8.toInt32 = z.toInt8.toInt32 := by rw [vp_nar_byte]; simp
theorem pk_vs (z : Int32) : vp_nar .short z.toInt16.toInt32 = z.toInt16.toInt32 := by rw [vp_nar_short]; simp
theorem pk_vc (z : Int32) : vp_nar .char (z.toUInt32 % 65536).toInt32 = (z.toUInt32 % 65536).toInt32 := Value.int.inj (pk_nc z)
theorem pk_lT {n : Nat} (h : n < 2 ^ 63) : (lN n).toInt = (n : Int) := lg_ofNat_toInt h
theorem pk_lLT {a b : Nat} (ha : a < 2 ^ 63) (hb : b < 2 ^ 63) : lN a < lN b ↔ a < b := by
  rw [Int64.lt_iff_toInt_lt, pk_lT ha, pk_lT hb]; omega
theorem pk_lLE {a b : Nat} (ha : a < 2 ^ 63) (hb : b < 2 ^ 63) : lN a ≤ lN b ↔ a ≤ b := by
  rw [Int64.le_iff_toInt_le, pk_lT ha, pk_lT hb]; omega
theorem pk_lEQ {a b : Nat} (ha : a < 2 ^ 63) (hb : b < 2 ^ 63) : lN a = lN b ↔ a = b := by
  rw [← Int64.toInt_inj, pk_lT ha, pk_lT hb]; omega
theorem pk_lOf {x : Int64} (h : ¬ x < 0) : ∃ k : Nat, k < 2 ^ 63 ∧ x = lN k := by
  rw [Int64.lt_iff_toInt_lt] at h
  have h0 : (0 : Int64).toInt = 0 := by decide
  have hx := Int64.toInt_lt x
  refine ⟨x.toInt.toNat, by omega, Int64.toInt_inj.mp ?_⟩
  rw [pk_lT (by omega)]
  omega
theorem pk_lDiv {a b : Nat} (ha : a < 2 ^ 63) (h0 : 0 < b) (hb : b < 2 ^ 63) : lN a / lN b = lN (a / b) := by
  apply Int64.toInt_inj.mp
  rw [lg_ldiv_nonneg (by rw [pk_lT ha]; omega) (by rw [pk_lT hb]; omega), pk_lT ha, pk_lT hb, pk_lT (Nat.lt_of_le_of_lt (Nat.div_le_self a b) ha)]
  rfl
theorem pk_lRem {a b : Nat} (ha : a < 2 ^ 63) (h0 : 0 < b) (hb : b < 2 ^ 63) : lN a - lN a / lN b * lN b = lN (a % b) := by
  rw [pk_lDiv ha h0 hb, lN_mul, lN_sub (Nat.div_mul_le_self a b)]
  exact congrArg lN (by have := Nat.div_add_mod' a b; omega)
theorem pk_loop {σ : Type} (W : Nat → Nat → σ → Prop) (I : Nat → σ → Prop) (e i0 : Nat) (s : σ) (hi : i0 ≤ e) (h0 : I i0 s) (hx : ∀ n s, I e s → W (n + 1) e s)
    (hs : ∀ n i s, i < e → I i s → (∀ s', I (i + 1) s' → W n (i + 1) s') → W (n + 1) i s) : ∃ n, W n i0 s :=
  ⟨e + 1, loop_i W I e hx hs (e + 1) i0 s hi (by omega) h0⟩
theorem pk_loopD {σ : Type} (W : Nat → Nat → σ → Prop) (I : Nat → σ → Prop) (hx : ∀ n s, I 0 s → W (n + 1) 0 s)
    (hs : ∀ n i s, I (i + 1) s → (∀ s', I i s' → W n i s') → W (n + 1) (i + 1) s) : ∀ (e : Nat) (s : σ), I e s → W (e + 1) e s := by
  intro e
  induction e with
  | zero => exact fun s h => hx 0 s h
  | succ e ih => exact fun s h => hs (e + 1) e s h (fun s' h' => ih s' h')
theorem lp1 {A1 : Type} (W : Nat → A1 → Prop) (I : A1 → Prop) (μ : A1 → Nat) (hs : ∀ (n : Nat) (a1 : A1), I a1 → (∀ (b1 : A1), I b1 → μ b1 < μ a1 → W n b1) → W (n + 1) a1) (a1 : A1) (h : I a1) : ∃ n, W n a1 :=
  loop_m (σ := A1) (fun n s => W n s) (fun s => I s) (fun s => μ s) (fun n s hI hk => hs n s hI (fun b1 h9 hm => hk b1 h9 hm)) a1 h
theorem lp2 {A1 A2 : Type} (W : Nat → A1 → A2 → Prop) (I : A1 → A2 → Prop) (μ : A1 → A2 → Nat) (hs : ∀ (n : Nat) (a1 : A1) (a2 : A2), I a1 a2 → (∀ (b1 : A1) (b2 : A2), I b1 b2 → μ b1 b2 < μ a1 a2 → W n b1 b2) → W (n + 1) a1 a2) (a1 : A1) (a2 : A2) (h : I a1 a2) : ∃ n, W n a1 a2 :=
  loop_m (σ := A1 × A2) (fun n s => W n s.1 s.2) (fun s => I s.1 s.2) (fun s => μ s.1 s.2) (fun n s hI hk => hs n s.1 s.2 hI (fun b1 b2 h9 hm => hk (b1, b2) h9 hm)) (a1, a2) h
theorem lp3 {A1 A2 A3 : Type} (W : Nat → A1 → A2 → A3 → Prop) (I : A1 → A2 → A3 → Prop) (μ : A1 → A2 → A3 → Nat) (hs : ∀ (n : Nat) (a1 : A1) (a2 : A2) (a3 : A3), I a1 a2 a3 → (∀ (b1 : A1) (b2 : A2) (b3 : A3), I b1 b2 b3 → μ b1 b2 b3 < μ a1 a2 a3 → W n b1 b2 b3) → W (n + 1) a1 a2 a3) (a1 : A1) (a2 : A2) (a3 : A3) (h : I a1 a2 a3) : ∃ n, W n a1 a2 a3 :=
  loop_m (σ := A1 × A2 × A3) (fun n s => W n s.1 s.2.1 s.2.2) (fun s => I s.1 s.2.1 s.2.2) (fun s => μ s.1 s.2.1 s.2.2) (fun n s hI hk => hs n s.1 s.2.1 s.2.2 hI (fun b1 b2 b3 h9 hm => hk (b1, b2, b3) h9 hm)) (a1, a2, a3) h
theorem lp4 {A1 A2 A3 A4 : Type} (W : Nat → A1 → A2 → A3 → A4 → Prop) (I : A1 → A2 → A3 → A4 → Prop) (μ : A1 → A2 → A3 → A4 → Nat) (hs : ∀ (n : Nat) (a1 : A1) (a2 : A2) (a3 : A3) (a4 : A4), I a1 a2 a3 a4 → (∀ (b1 : A1) (b2 : A2) (b3 : A3) (b4 : A4), I b1 b2 b3 b4 → μ b1 b2 b3 b4 < μ a1 a2 a3 a4 → W n b1 b2 b3 b4) → W (n + 1) a1 a2 a3 a4) (a1 : A1) (a2 : A2) (a3 : A3) (a4 : A4) (h : I a1 a2 a3 a4) : ∃ n, W n a1 a2 a3 a4 :=
  loop_m (σ := A1 × A2 × A3 × A4) (fun n s => W n s.1 s.2.1 s.2.2.1 s.2.2.2) (fun s => I s.1 s.2.1 s.2.2.1 s.2.2.2) (fun s => μ s.1 s.2.1 s.2.2.1 s.2.2.2) (fun n s hI hk => hs n s.1 s.2.1 s.2.2.1 s.2.2.2 hI (fun b1 b2 b3 b4 h9 hm => hk (b1, b2, b3, b4) h9 hm)) (a1, a2, a3, a4) h
theorem lp5 {A1 A2 A3 A4 A5 : Type} (W : Nat → A1 → A2 → A3 → A4 → A5 → Prop) (I : A1 → A2 → A3 → A4 → A5 → Prop) (μ : A1 → A2 → A3 → A4 → A5 → Nat) (hs : ∀ (n : Nat) (a1 : A1) (a2 : A2) (a3 : A3) (a4 : A4) (a5 : A5), I a1 a2 a3 a4 a5 → (∀ (b1 : A1) (b2 : A2) (b3 : A3) (b4 : A4) (b5 : A5), I b1 b2 b3 b4 b5 → μ b1 b2 b3 b4 b5 < μ a1 a2 a3 a4 a5 → W n b1 b2 b3 b4 b5) → W (n + 1) a1 a2 a3 a4 a5) (a1 : A1) (a2 : A2) (a3 : A3) (a4 : A4) (a5 : A5) (h : I a1 a2 a3 a4 a5) : ∃ n, W n a1 a2 a3 a4 a5 :=
  loop_m (σ := A1 × A2 × A3 × A4 × A5) (fun n s => W n s.1 s.2.1 s.2.2.1 s.2.2.2.1 s.2.2.2.2) (fun s => I s.1 s.2.1 s.2.2.1 s.2.2.2.1 s.2.2.2.2) (fun s => μ s.1 s.2.1 s.2.2.1 s.2.2.2.1 s.2.2.2.2) (fun n s hI hk => hs n s.1 s.2.1 s.2.2.1 s.2.2.2.1 s.2.2.2.2 hI (fun b1 b2 b3 b4 b5 h9 hm => hk (b1, b2, b3, b4, b5) h9 hm)) (a1, a2, a3, a4, a5) h
theorem lp6 {A1 A2 A3 A4 A5 A6 : Type} (W : Nat → A1 → A2 → A3 → A4 → A5 → A6 → Prop) (I : A1 → A2 → A3 → A4 → A5 → A6 → Prop) (μ : A1 → A2 → A3 → A4 → A5 → A6 → Nat) (hs : ∀ (n : Nat) (a1 : A1) (a2 : A2) (a3 : A3) (a4 : A4) (a5 : A5) (a6 : A6), I a1 a2 a3 a4 a5 a6 → (∀ (b1 : A1) (b2 : A2) (b3 : A3) (b4 : A4) (b5 : A5) (b6 : A6), I b1 b2 b3 b4 b5 b6 → μ b1 b2 b3 b4 b5 b6 < μ a1 a2 a3 a4 a5 a6 → W n b1 b2 b3 b4 b5 b6) → W (n + 1) a1 a2 a3 a4 a5 a6) (a1 : A1) (a2 : A2) (a3 : A3) (a4 : A4) (a5 : A5) (a6 : A6) (h : I a1 a2 a3 a4 a5 a6) : ∃ n, W n a1 a2 a3 a4 a5 a6 :=
  loop_m (σ := A1 × A2 × A3 × A4 × A5 × A6) (fun n s => W n s.1 s.2.1 s.2.2.1 s.2.2.2.1 s.2.2.2.2.1 s.2.2.2.2.2) (fun s => I s.1 s.2.1 s.2.2.1 s.2.2.2.1 s.2.2.2.2.1 s.2.2.2.2.2) (fun s => μ s.1 s.2.1 s.2.2.1 s.2.2.2.1 s.2.2.2.2.1 s.2.2.2.2.2) (fun n s hI hk => hs n s.1 s.2.1 s.2.2.1 s.2.2.2.1 s.2.2.2.2.1 s.2.2.2.2.2 hI (fun b1 b2 b3 b4 b5 b6 h9 hm => hk (b1, b2, b3, b4, b5, b6) h9 hm)) (a1, a2, a3, a4, a5, a6) h
theorem lp7 {A1 A2 A3 A4 A5 A6 A7 : Type} (W : Nat → A1 → A2 → A3 → A4 → A5 → A6 → A7 → Prop) (I : A1 → A2 → A3 → A4 → A5 → A6 → A7 → Prop) (μ : A1 → A2 → A3 → A4 → A5 → A6 → A7 → Nat) (hs : ∀ (n : Nat) (a1 : A1) (a2 : A2) (a3 : A3) (a4 : A4) (a5 : A5) (a6 : A6) (a7 : A7), I a1 a2 a3 a4 a5 a6 a7 → (∀ (b1 : A1) (b2 : A2) (b3 : A3) (b4 : A4) (b5 : A5) (b6 : A6) (b7 : A7), I b1 b2 b3 b4 b5 b6 b7 → μ b1 b2 b3 b4 b5 b6 b7 < μ a1 a2 a3 a4 a5 a6 a7 → W n b1 b2 b3 b4 b5 b6 b7) → W (n + 1) a1 a2 a3 a4 a5 a6 a7) (a1 : A1) (a2 : A2) (a3 : A3) (a4 : A4) (a5 : A5) (a6 : A6) (a7 : A7) (h : I a1 a2 a3 a4 a5 a6 a7) : ∃ n, W n a1 a2 a3 a4 a5 a6 a7 :=
  loop_m (σ := A1 × A2 × A3 × A4 × A5 × A6 × A7) (fun n s => W n s.1 s.2.1 s.2.2.1 s.2.2.2.1 s.2.2.2.2.1 s.2.2.2.2.2.1 s.2.2.2.2.2.2) (fun s => I s.1 s.2.1 s.2.2.1 s.2.2.2.1 s.2.2.2.2.1 s.2.2.2.2.2.1 s.2.2.2.2.2.2) (fun s => μ s.1 s.2.1 s.2.2.1 s.2.2.2.1 s.2.2.2.2.1 s.2.2.2.2.2.1 s.2.2.2.2.2.2) (fun n s hI hk => hs n s.1 s.2.1 s.2.2.1 s.2.2.2.1 s.2.2.2.2.1 s.2.2.2.2.2.1 s.2.2.2.2.2.2 hI (fun b1 b2 b3 b4 b5 b6 b7 h9 hm => hk (b1, b2, b3, b4, b5, b6, b7) h9 hm)) (a1, a2, a3, a4, a5, a6, a7) h
theorem lp8 {A1 A2 A3 A4 A5 A6 A7 A8 : Type} (W : Nat → A1 → A2 → A3 → A4 → A5 → A6 → A7 → A8 → Prop) (I : A1 → A2 → A3 → A4 → A5 → A6 → A7 → A8 → Prop) (μ : A1 → A2 → A3 → A4 → A5 → A6 → A7 → A8 → Nat) (hs : ∀ (n : Nat) (a1 : A1) (a2 : A2) (a3 : A3) (a4 : A4) (a5 : A5) (a6 : A6) (a7 : A7) (a8 : A8), I a1 a2 a3 a4 a5 a6 a7 a8 → (∀ (b1 : A1) (b2 : A2) (b3 : A3) (b4 : A4) (b5 : A5) (b6 : A6) (b7 : A7) (b8 : A8), I b1 b2 b3 b4 b5 b6 b7 b8 → μ b1 b2 b3 b4 b5 b6 b7 b8 < μ a1 a2 a3 a4 a5 a6 a7 a8 → W n b1 b2 b3 b4 b5 b6 b7 b8) → W (n + 1) a1 a2 a3 a4 a5 a6 a7 a8) (a1 : A1) (a2 : A2) (a3 : A3) (a4 : A4) (a5 : A5) (a6 : A6) (a7 : A7) (a8 : A8) (h : I a1 a2 a3 a4 a5 a6 a7 a8) : ∃ n, W n a1 a2 a3 a4 a5 a6 a7 a8 :=
  loop_m (σ := A1 × A2 × A3 × A4 × A5 × A6 × A7 × A8) (fun n s => W n s.1 s.2.1 s.2.2.1 s.2.2.2.1 s.2.2.2.2.1 s.2.2.2.2.2.1 s.2.2.2.2.2.2.1 s.2.2.2.2.2.2.2) (fun s => I s.1 s.2.1 s.2.2.1 s.2.2.2.1 s.2.2.2.2.1 s.2.2.2.2.2.1 s.2.2.2.2.2.2.1 s.2.2.2.2.2.2.2) (fun s => μ s.1 s.2.1 s.2.2.1 s.2.2.2.1 s.2.2.2.2.1 s.2.2.2.2.2.1 s.2.2.2.2.2.2.1 s.2.2.2.2.2.2.2) (fun n s hI hk => hs n s.1 s.2.1 s.2.2.1 s.2.2.2.1 s.2.2.2.2.1 s.2.2.2.2.2.1 s.2.2.2.2.2.2.1 s.2.2.2.2.2.2.2 hI (fun b1 b2 b3 b4 b5 b6 b7 b8 h9 hm => hk (b1, b2, b3, b4, b5, b6, b7, b8) h9 hm)) (a1, a2, a3, a4, a5, a6, a7, a8) h
theorem lp9 {A1 A2 A3 A4 A5 A6 A7 A8 A9 : Type} (W : Nat → A1 → A2 → A3 → A4 → A5 → A6 → A7 → A8 → A9 → Prop) (I : A1 → A2 → A3 → A4 → A5 → A6 → A7 → A8 → A9 → Prop) (μ : A1 → A2 → A3 → A4 → A5 → A6 → A7 → A8 → A9 → Nat) (hs : ∀ (n : Nat) (a1 : A1) (a2 : A2) (a3 : A3) (a4 : A4) (a5 : A5) (a6 : A6) (a7 : A7) (a8 : A8) (a9 : A9), I a1 a2 a3 a4 a5 a6 a7 a8 a9 → (∀ (b1 : A1) (b2 : A2) (b3 : A3) (b4 : A4) (b5 : A5) (b6 : A6) (b7 : A7) (b8 : A8) (b9 : A9), I b1 b2 b3 b4 b5 b6 b7 b8 b9 → μ b1 b2 b3 b4 b5 b6 b7 b8 b9 < μ a1 a2 a3 a4 a5 a6 a7 a8 a9 → W n b1 b2 b3 b4 b5 b6 b7 b8 b9) → W (n + 1) a1 a2 a3 a4 a5 a6 a7 a8 a9) (a1 : A1) (a2 : A2) (a3 : A3) (a4 : A4) (a5 : A5) (a6 : A6) (a7 : A7) (a8 : A8) (a9 : A9) (h : I a1 a2 a3 a4 a5 a6 a7 a8 a9) : ∃ n, W n a1 a2 a3 a4 a5 a6 a7 a8 a9 :=
  loop_m (σ := A1 × A2 × A3 × A4 × A5 × A6 × A7 × A8 × A9) (fun n s => W n s.1 s.2.1 s.2.2.1 s.2.2.2.1 s.2.2.2.2.1 s.2.2.2.2.2.1 s.2.2.2.2.2.2.1 s.2.2.2.2.2.2.2.1 s.2.2.2.2.2.2.2.2) (fun s => I s.1 s.2.1 s.2.2.1 s.2.2.2.1 s.2.2.2.2.1 s.2.2.2.2.2.1 s.2.2.2.2.2.2.1 s.2.2.2.2.2.2.2.1 s.2.2.2.2.2.2.2.2) (fun s => μ s.1 s.2.1 s.2.2.1 s.2.2.2.1 s.2.2.2.2.1 s.2.2.2.2.2.1 s.2.2.2.2.2.2.1 s.2.2.2.2.2.2.2.1 s.2.2.2.2.2.2.2.2) (fun n s hI hk => hs n s.1 s.2.1 s.2.2.1 s.2.2.2.1 s.2.2.2.2.1 s.2.2.2.2.2.1 s.2.2.2.2.2.2.1 s.2.2.2.2.2.2.2.1 s.2.2.2.2.2.2.2.2 hI (fun b1 b2 b3 b4 b5 b6 b7 b8 b9 h9 hm => hk (b1, b2, b3, b4, b5, b6, b7, b8, b9) h9 hm)) (a1, a2, a3, a4, a5, a6, a7, a8, a9) h
theorem lp10 {A1 A2 A3 A4 A5 A6 A7 A8 A9 A10 : Type} (W : Nat → A1 → A2 → A3 → A4 → A5 → A6 → A7 → A8 → A9 → A10 → Prop) (I : A1 → A2 → A3 → A4 → A5 → A6 → A7 → A8 → A9 → A10 → Prop) (μ : A1 → A2 → A3 → A4 → A5 → A6 → A7 → A8 → A9 → A10 → Nat) (hs : ∀ (n : Nat) (a1 : A1) (a2 : A2) (a3 : A3) (a4 : A4) (a5 : A5) (a6 : A6) (a7 : A7) (a8 : A8) (a9 : A9) (a10 : A10), I a1 a2 a3 a4 a5 a6 a7 a8 a9 a10 → (∀ (b1 : A1) (b2 : A2) (b3 : A3) (b4 : A4) (b5 : A5) (b6 : A6) (b7 : A7) (b8 : A8) (b9 : A9) (b10 : A10), I b1 b2 b3 b4 b5 b6 b7 b8 b9 b10 → μ b1 b2 b3 b4 b5 b6 b7 b8 b9 b10 < μ a1 a2 a3 a4 a5 a6 a7 a8 a9 a10 → W n b1 b2 b3 b4 b5 b6 b7 b8 b9 b10) → W (n + 1) a1 a2 a3 a4 a5 a6 a7 a8 a9 a10) (a1 : A1) (a2 : A2) (a3 : A3) (a4 : A4) (a5 : A5) (a6 : A6) (a7 : A7) (a8 : A8) (a9 : A9) (a10 : A10) (h : I a1 a2 a3 a4 a5 a6 a7 a8 a9 a10) : ∃ n, W n a1 a2 a3 a4 a5 a6 a7 a8 a9 a10 :=
  loop_m (σ := A1 × A2 × A3 × A4 × A5 × A6 × A7 × A8 × A9 × A10) (fun n s => W n s.1 s.2.1 s.2.2.1 s.2.2.2.1 s.2.2.2.2.1 s.2.2.2.2.2.1 s.2.2.2.2.2.2.1 s.2.2.2.2.2.2.2.1 s.2.2.2.2.2.2.2.2.1 s.2.2.2.2.2.2.2.2.2) (fun s => I s.1 s.2.1 s.2.2.1 s.2.2.2.1 s.2.2.2.2.1 s.2.2.2.2.2.1 s.2.2.2.2.2.2.1 s.2.2.2.2.2.2.2.1 s.2.2.2.2.2.2.2.2.1 s.2.2.2.2.2.2.2.2.2) (fun s => μ s.1 s.2.1 s.2.2.1 s.2.2.2.1 s.2.2.2.2.1 s.2.2.2.2.2.1 s.2.2.2.2.2.2.1 s.2.2.2.2.2.2.2.1 s.2.2.2.2.2.2.2.2.1 s.2.2.2.2.2.2.2.2.2) (fun n s hI hk => hs n s.1 s.2.1 s.2.2.1 s.2.2.2.1 s.2.2.2.2.1 s.2.2.2.2.2.1 s.2.2.2.2.2.2.1 s.2.2.2.2.2.2.2.1 s.2.2.2.2.2.2.2.2.1 s.2.2.2.2.2.2.2.2.2 hI (fun b1 b2 b3 b4 b5 b6 b7 b8 b9 b10 h9 hm => hk (b1, b2, b3, b4, b5, b6, b7, b8, b9, b10) h9 hm)) (a1, a2, a3, a4, a5, a6, a7, a8, a9, a10) h
theorem lp11 {A1 A2 A3 A4 A5 A6 A7 A8 A9 A10 A11 : Type} (W : Nat → A1 → A2 → A3 → A4 → A5 → A6 → A7 → A8 → A9 → A10 → A11 → Prop) (I : A1 → A2 → A3 → A4 → A5 → A6 → A7 → A8 → A9 → A10 → A11 → Prop) (μ : A1 → A2 → A3 → A4 → A5 → A6 → A7 → A8 → A9 → A10 → A11 → Nat) (hs : ∀ (n : Nat) (a1 : A1) (a2 : A2) (a3 : A3) (a4 : A4) (a5 : A5) (a6 : A6) (a7 : A7) (a8 : A8) (a9 : A9) (a10 : A10) (a11 : A11), I a1 a2 a3 a4 a5 a6 a7 a8 a9 a10 a11 → (∀ (b1 : A1) (b2 : A2) (b3 : A3) (b4 : A4) (b5 : A5) (b6 : A6) (b7 : A7) (b8 : A8) (b9 : A9) (b10 : A10) (b11 : A11), I b1 b2 b3 b4 b5 b6 b7 b8 b9 b10 b11 → μ b1 b2 b3 b4 b5 b6 b7 b8 b9 b10 b11 < μ a1 a2 a3 a4 a5 a6 a7 a8 a9 a10 a11 → W n b1 b2 b3 b4 b5 b6 b7 b8 b9 b10 b11) → W (n + 1) a1 a2 a3 a4 a5 a6 a7 a8 a9 a10 a11) (a1 : A1) (a2 : A2) (a3 : A3) (a4 : A4) (a5 : A5) (a6 : A6) (a7 : A7) (a8 : A8) (a9 : A9) (a10 : A10) (a11 : A11) (h : I a1 a2 a3 a4 a5 a6 a7 a8 a9 a10 a11) : ∃ n, W n a1 a2 a3 a4 a5 a6 a7 a8 a9 a10 a11 :=
  loop_m (σ := A1 × A2 × A3 × A4 × A5 × A6 × A7 × A8 × A9 × A10 × A11) (fun n s => W n s.1 s.2.1 s.2.2.1 s.2.2.2.1 s.2.2.2.2.1 s.2.2.2.2.2.1 s.2.2.2.2.2.2.1 s.2.2.2.2.2.2.2.1 s.2.2.2.2.2.2.2.2.1 s.2.2.2.2.2.2.2.2.2.1 s.2.2.2.2.2.2.2.2.2.2) (fun s => I s.1 s.2.1 s.2.2.1 s.2.2.2.1 s.2.2.2.2.1 s.2.2.2.2.2.1 s.2.2.2.2.2.2.1 s.2.2.2.2.2.2.2.1 s.2.2.2.2.2.2.2.2.1 s.2.2.2.2.2.2.2.2.2.1 s.2.2.2.2.2.2.2.2.2.2) (fun s => μ s.1 s.2.1 s.2.2.1 s.2.2.2.1 s.2.2.2.2.1 s.2.2.2.2.2.1 s.2.2.2.2.2.2.1 s.2.2.2.2.2.2.2.1 s.2.2.2.2.2.2.2.2.1 s.2.2.2.2.2.2.2.2.2.1 s.2.2.2.2.2.2.2.2.2.2) (fun n s hI hk => hs n s.1 s.2.1 s.2.2.1 s.2.2.2.1 s.2.2.2.2.1 s.2.2.2.2.2.1 s.2.2.2.2.2.2.1 s.2.2.2.2.2.2.2.1 s.2.2.2.2.2.2.2.2.1 s.2.2.2.2.2.2.2.2.2.1 s.2.2.2.2.2.2.2.2.2.2 hI (fun b1 b2 b3 b4 b5 b6 b7 b8 b9 b10 b11 h9 hm => hk (b1, b2, b3, b4, b5, b6, b7, b8, b9, b10, b11) h9 hm)) (a1, a2, a3, a4, a5, a6, a7, a8, a9, a10, a11) h
theorem lp12 {A1 A2 A3 A4 A5 A6 A7 A8 A9 A10 A11 A12 : Type} (W : Nat → A1 → A2 → A3 → A4 → A5 → A6 → A7 → A8 → A9 → A10 → A11 → A12 → Prop) (I : A1 → A2 → A3 → A4 → A5 → A6 → A7 → A8 → A9 → A10 → A11 → A12 → Prop) (μ : A1 → A2 → A3 → A4 → A5 → A6 → A7 → A8 → A9 → A10 → A11 → A12 → Nat) (hs : ∀ (n : Nat) (a1 : A1) (a2 : A2) (a3 : A3) (a4 : A4) (a5 : A5) (a6 : A6) (a7 : A7) (a8 : A8) (a9 : A9) (a10 : A10) (a11 : A11) (a12 : A12), I a1 a2 a3 a4 a5 a6 a7 a8 a9 a10 a11 a12 → (∀ (b1 : A1) (b2 : A2) (b3 : A3) (b4 : A4) (b5 : A5) (b6 : A6) (b7 : A7) (b8 : A8) (b9 : A9) (b10 : A10) (b11 : A11) (b12 : A12), I b1 b2 b3 b4 b5 b6 b7 b8 b9 b10 b11 b12 → μ b1 b2 b3 b4 b5 b6 b7 b8 b9 b10 b11 b12 < μ a1 a2 a3 a4 a5 a6 a7 a8 a9 a10 a11 a12 → W n b1 b2 b3 b4 b5 b6 b7 b8 b9 b10 b11 b12) → W (n + 1) a1 a2 a3 a4 a5 a6 a7 a8 a9 a10 a11 a12) (a1 : A1) (a2 : A2) (a3 : A3) (a4 : A4) (a5 : A5) (a6 : A6) (a7 : A7) (a8 : A8) (a9 : A9) (a10 : A10) (a11 : A11) (a12 : A12) (h : I a1 a2 a3 a4 a5 a6 a7 a8 a9 a10 a11 a12) : ∃ n, W n a1 a2 a3 a4 a5 a6 a7 a8 a9 a10 a11 a12 :=
  loop_m (σ := A1 × A2 × A3 × A4 × A5 × A6 × A7 × A8 × A9 × A10 × A11 × A12) (fun n s => W n s.1 s.2.1 s.2.2.1 s.2.2.2.1 s.2.2.2.2.1 s.2.2.2.2.2.1 s.2.2.2.2.2.2.1 s.2.2.2.2.2.2.2.1 s.2.2.2.2.2.2.2.2.1 s.2.2.2.2.2.2.2.2.2.1 s.2.2.2.2.2.2.2.2.2.2.1 s.2.2.2.2.2.2.2.2.2.2.2) (fun s => I s.1 s.2.1 s.2.2.1 s.2.2.2.1 s.2.2.2.2.1 s.2.2.2.2.2.1 s.2.2.2.2.2.2.1 s.2.2.2.2.2.2.2.1 s.2.2.2.2.2.2.2.2.1 s.2.2.2.2.2.2.2.2.2.1 s.2.2.2.2.2.2.2.2.2.2.1 s.2.2.2.2.2.2.2.2.2.2.2) (fun s => μ s.1 s.2.1 s.2.2.1 s.2.2.2.1 s.2.2.2.2.1 s.2.2.2.2.2.1 s.2.2.2.2.2.2.1 s.2.2.2.2.2.2.2.1 s.2.2.2.2.2.2.2.2.1 s.2.2.2.2.2.2.2.2.2.1 s.2.2.2.2.2.2.2.2.2.2.1 s.2.2.2.2.2.2.2.2.2.2.2) (fun n s hI hk => hs n s.1 s.2.1 s.2.2.1 s.2.2.2.1 s.2.2.2.2.1 s.2.2.2.2.2.1 s.2.2.2.2.2.2.1 s.2.2.2.2.2.2.2.1 s.2.2.2.2.2.2.2.2.1 s.2.2.2.2.2.2.2.2.2.1 s.2.2.2.2.2.2.2.2.2.2.1 s.2.2.2.2.2.2.2.2.2.2.2 hI (fun b1 b2 b3 b4 b5 b6 b7 b8 b9 b10 b11 b12 h9 hm => hk (b1, b2, b3, b4, b5, b6, b7, b8, b9, b10, b11, b12) h9 hm)) (a1, a2, a3, a4, a5, a6, a7, a8, a9, a10, a11, a12) h
theorem lp13 {A1 A2 A3 A4 A5 A6 A7 A8 A9 A10 A11 A12 A13 : Type} (W : Nat → A1 → A2 → A3 → A4 → A5 → A6 → A7 → A8 → A9 → A10 → A11 → A12 → A13 → Prop) (I : A1 → A2 → A3 → A4 → A5 → A6 → A7 → A8 → A9 → A10 → A11 → A12 → A13 → Prop) (μ : A1 → A2 → A3 → A4 → A5 → A6 → A7 → A8 → A9 → A10 → A11 → A12 → A13 → Nat) (hs : ∀ (n : Nat) (a1 : A1) (a2 : A2) (a3 : A3) (a4 : A4) (a5 : A5) (a6 : A6) (a7 : A7) (a8 : A8) (a9 : A9) (a10 : A10) (a11 : A11) (a12 : A12) (a13 : A13), I a1 a2 a3 a4 a5 a6 a7 a8 a9 a10 a11 a12 a13 → (∀ (b1 : A1) (b2 : A2) (b3 : A3) (b4 : A4) (b5 : A5) (b6 : A6) (b7 : A7) (b8 : A8) (b9 : A9) (b10 : A10) (b11 : A11) (b12 : A12) (b13 : A13), I b1 b2 b3 b4 b5 b6 b7 b8 b9 b10 b11 b12 b13 → μ b1 b2 b3 b4 b5 b6 b7 b8 b9 b10 b11 b12 b13 < μ a1 a2 a3 a4 a5 a6 a7 a8 a9 a10 a11 a12 a13 → W n b1 b2 b3 b4 b5 b6 b7 b8 b9 b10 b11 b12 b13) → W (n + 1) a1 a2 a3 a4 a5 a6 a7 a8 a9 a10 a11 a12 a13) (a1 : A1) (a2 : A2) (a3 : A3) (a4 : A4) (a5 : A5) (a6 : A6) (a7 : A7) (a8 : A8) (a9 : A9) (a10 : A10) (a11 : A11) (a12 : A12) (a13 : A13) (h : I a1 a2 a3 a4 a5 a6 a7 a8 a9 a10 a11 a12 a13) : ∃ n, W n a1 a2 a3 a4 a5 a6 a7 a8 a9 a10 a11 a12 a13 :=
  loop_m (σ := A1 × A2 × A3 × A4 × A5 × A6 × A7 × A8 × A9 × A10 × A11 × A12 × A13) (fun n s => W n s.1 s.2.1 s.2.2.1 s.2.2.2.1 s.2.2.2.2.1 s.2.2.2.2.2.1 s.2.2.2.2.2.2.1 s.2.2.2.2.2.2.2.1 s.2.2.2.2.2.2.2.2.1 s.2.2.2.2.2.2.2.2.2.1 s.2.2.2.2.2.2.2.2.2.2.1 s.2.2.2.2.2.2.2.2.2.2.2.1 s.2.2.2.2.2.2.2.2.2.2.2.2) (fun s => I s.1 s.2.1 s.2.2.1 s.2.2.2.1 s.2.2.2.2.1 s.2.2.2.2.2.1 s.2.2.2.2.2.2.1 s.2.2.2.2.2.2.2.1 s.2.2.2.2.2.2.2.2.1 s.2.2.2.2.2.2.2.2.2.1 s.2.2.2.2.2.2.2.2.2.2.1 s.2.2.2.2.2.2.2.2.2.2.2.1 s.2.2.2.2.2.2.2.2.2.2.2.2) (fun s => μ s.1 s.2.1 s.2.2.1 s.2.2.2.1 s.2.2.2.2.1 s.2.2.2.2.2.1 s.2.2.2.2.2.2.1 s.2.2.2.2.2.2.2.1 s.2.2.2.2.2.2.2.2.1 s.2.2.2.2.2.2.2.2.2.1 s.2.2.2.2.2.2.2.2.2.2.1 s.2.2.2.2.2.2.2.2.2.2.2.1 s.2.2.2.2.2.2.2.2.2.2.2.2) (fun n s hI hk => hs n s.1 s.2.1 s.2.2.1 s.2.2.2.1 s.2.2.2.2.1 s.2.2.2.2.2.1 s.2.2.2.2.2.2.1 s.2.2.2.2.2.2.2.1 s.2.2.2.2.2.2.2.2.1 s.2.2.2.2.2.2.2.2.2.1 s.2.2.2.2.2.2.2.2.2.2.1 s.2.2.2.2.2.2.2.2.2.2.2.1 s.2.2.2.2.2.2.2.2.2.2.2.2 hI (fun b1 b2 b3 b4 b5 b6 b7 b8 b9 b10 b11 b12 b13 h9 hm => hk (b1, b2, b3, b4, b5, b6, b7, b8, b9, b10, b11, b12, b13) h9 hm)) (a1, a2, a3, a4, a5, a6, a7, a8, a9, a10, a11, a12, a13) h
theorem lp14 {A1 A2 A3 A4 A5 A6 A7 A8 A9 A10 A11 A12 A13 A14 : Type} (W : Nat → A1 → A2 → A3 → A4 → A5 → A6 → A7 → A8 → A9 → A10 → A11 → A12 → A13 → A14 → Prop) (I : A1 → A2 → A3 → A4 → A5 → A6 → A7 → A8 → A9 → A10 → A11 → A12 → A13 → A14 → Prop) (μ : A1 → A2 → A3 → A4 → A5 → A6 → A7 → A8 → A9 → A10 → A11 → A12 → A13 → A14 → Nat) (hs : ∀ (n : Nat) (a1 : A1) (a2 : A2) (a3 : A3) (a4 : A4) (a5 : A5) (a6 : A6) (a7 : A7) (a8 : A8) (a9 : A9) (a10 : A10) (a11 : A11) (a12 : A12) (a13 : A13) (a14 : A14), I a1 a2 a3 a4 a5 a6 a7 a8 a9 a10 a11 a12 a13 a14 → (∀ (b1 : A1) (b2 : A2) (b3 : A3) (b4 : A4) (b5 : A5) (b6 : A6) (b7 : A7) (b8 : A8) (b9 : A9) (b10 : A10) (b11 : A11) (b12 : A12) (b13 : A13) (b14 : A14), I b1 b2 b3 b4 b5 b6 b7 b8 b9 b10 b11 b12 b13 b14 → μ b1 b2 b3 b4 b5 b6 b7 b8 b9 b10 b11 b12 b13 b14 < μ a1 a2 a3 a4 a5 a6 a7 a8 a9 a10 a11 a12 a13 a14 → W n b1 b2 b3 b4 b5 b6 b7 b8 b9 b10 b11 b12 b13 b14) → W (n + 1) a1 a2 a3 a4 a5 a6 a7 a8 a9 a10 a11 a12 a13 a14) (a1 : A1) (a2 : A2) (a3 : A3) (a4 : A4) (a5 : A5) (a6 : A6) (a7 : A7) (a8 : A8) (a9 : A9) (a10 : A10) (a11 : A11) (a12 : A12) (a13 : A13) (a14 : A14) (h : I a1 a2 a3 a4 a5 a6 a7 a8 a9 a10 a11 a12 a13 a14) : ∃ n, W n a1 a2 a3 a4 a5 a6 a7 a8 a9 a10 a11 a12 a13 a14 :=
  loop_m (σ := A1 × A2 × A3 × A4 × A5 × A6 × A7 × A8 × A9 × A10 × A11 × A12 × A13 × A14) (fun n s => W n s.1 s.2.1 s.2.2.1 s.2.2.2.1 s.2.2.2.2.1 s.2.2.2.2.2.1 s.2.2.2.2.2.2.1 s.2.2.2.2.2.2.2.1 s.2.2.2.2.2.2.2.2.1 s.2.2.2.2.2.2.2.2.2.1 s.2.2.2.2.2.2.2.2.2.2.1 s.2.2.2.2.2.2.2.2.2.2.2.1 s.2.2.2.2.2.2.2.2.2.2.2.2.1 s.2.2.2.2.2.2.2.2.2.2.2.2.2) (fun s => I s.1 s.2.1 s.2.2.1 s.2.2.2.1 s.2.2.2.2.1 s.2.2.2.2.2.1 s.2.2.2.2.2.2.1 s.2.2.2.2.2.2.2.1 s.2.2.2.2.2.2.2.2.1 s.2.2.2.2.2.2.2.2.2.1 s.2.2.2.2.2.2.2.2.2.2.1 s.2.2.2.2.2.2.2.2.2.2.2.1 s.2.2.2.2.2.2.2.2.2.2.2.2.1 s.2.2.2.2.2.2.2.2.2.2.2.2.2) (fun s => μ s.1 s.2.1 s.2.2.1 s.2.2.2.1 s.2.2.2.2.1 s.2.2.2.2.2.1 s.2.2.2.2.2.2.1 s.2.2.2.2.2.2.2.1 s.2.2.2.2.2.2.2.2.1 s.2.2.2.2.2.2.2.2.2.1 s.2.2.2.2.2.2.2.2.2.2.1 s.2.2.2.2.2.2.2.2.2.2.2.1 s.2.2.2.2.2.2.2.2.2.2.2.2.1 s.2.2.2.2.2.2.2.2.2.2.2.2.2) (fun n s hI hk => hs n s.1 s.2.1 s.2.2.1 s.2.2.2.1 s.2.2.2.2.1 s.2.2.2.2.2.1 s.2.2.2.2.2.2.1 s.2.2.2.2.2.2.2.1 s.2.2.2.2.2.2.2.2.1 s.2.2.2.2.2.2.2.2.2.1 s.2.2.2.2.2.2.2.2.2.2.1 s.2.2.2.2.2.2.2.2.2.2.2.1 s.2.2.2.2.2.2.2.2.2.2.2.2.1 s.2.2.2.2.2.2.2.2.2.2.2.2.2 hI (fun b1 b2 b3 b4 b5 b6 b7 b8 b9 b10 b11 b12 b13 b14 h9 hm => hk (b1, b2, b3, b4, b5, b6, b7, b8, b9, b10, b11, b12, b13, b14) h9 hm)) (a1, a2, a3, a4, a5, a6, a7, a8, a9, a10, a11, a12, a13, a14) h
theorem lp15 {A1 A2 A3 A4 A5 A6 A7 A8 A9 A10 A11 A12 A13 A14 A15 : Type} (W : Nat → A1 → A2 → A3 → A4 → A5 → A6 → A7 → A8 → A9 → A10 → A11 → A12 → A13 → A14 → A15 → Prop) (I : A1 → A2 → A3 → A4 → A5 → A6 → A7 → A8 → A9 → A10 → A11 → A12 → A13 → A14 → A15 → Prop) (μ : A1 → A2 → A3 → A4 → A5 → A6 → A7 → A8 → A9 → A10 → A11 → A12 → A13 → A14 → A15 → Nat) (hs : ∀ (n : Nat) (a1 : A1) (a2 : A2) (a3 : A3) (a4 : A4) (a5 : A5) (a6 : A6) (a7 : A7) (a8 : A8) (a9 : A9) (a10 : A10) (a11 : A11) (a12 : A12) (a13 : A13) (a14 : A14) (a15 : A15), I a1 a2 a3 a4 a5 a6 a7 a8 a9 a10 a11 a12 a13 a14 a15 → (∀ (b1 : A1) (b2 : A2) (b3 : A3) (b4 : A4) (b5 : A5) (b6 : A6) (b7 : A7) (b8 : A8) (b9 : A9) (b10 : A10) (b11 : A11) (b12 : A12) (b13 : A13) (b14 : A14) (b15 : A15), I b1 b2 b3 b4 b5 b6 b7 b8 b9 b10 b11 b12 b13 b14 b15 → μ b1 b2 b3 b4 b5 b6 b7 b8 b9 b10 b11 b12 b13 b14 b15 < μ a1 a2 a3 a4 a5 a6 a7 a8 a9 a10 a11 a12 a13 a14 a15 → W n b1 b2 b3 b4 b5 b6 b7 b8 b9 b10 b11 b12 b13 b14 b15) → W (n + 1) a1 a2 a3 a4 a5 a6 a7 a8 a9 a10 a11 a12 a13 a14 a15) (a1 : A1) (a2 : A2) (a3 : A3) (a4 : A4) (a5 : A5) (a6 : A6) (a7 : A7) (a8 : A8) (a9 : A9) (a10 : A10) (a11 : A11) (a12 : A12) (a13 : A13) (a14 : A14) (a15 : A15) (h : I a1 a2 a3 a4 a5 a6 a7 a8 a9 a10 a11 a12 a13 a14 a15) : ∃ n, W n a1 a2 a3 a4 a5 a6 a7 a8 a9 a10 a11 a12 a13 a14 a15 :=
  loop_m (σ := A1 × A2 × A3 × A4 × A5 × A6 × A7 × A8 × A9 × A10 × A11 × A12 × A13 × A14 × A15) (fun n s => W n s.1 s.2.1 s.2.2.1 s.2.2.2.1 s.2.2.2.2.1 s.2.2.2.2.2.1 s.2.2.2.2.2.2.1 s.2.2.2.2.2.2.2.1 s.2.2.2.2.2.2.2.2.1 s.2.2.2.2.2.2.2.2.2.1 s.2.2.2.2.2.2.2.2.2.2.1 s.2.2.2.2.2.2.2.2.2.2.2.1 s.2.2.2.2.2.2.2.2.2.2.2.2.1 s.2.2.2.2.2.2.2.2.2.2.2.2.2.1 s.2.2.2.2.2.2.2.2.2.2.2.2.2.2) (fun s => I s.1 s.2.1 s.2.2.1 s.2.2.2.1 s.2.2.2.2.1 s.2.2.2.2.2.1 s.2.2.2.2.2.2.1 s.2.2.2.2.2.2.2.1 s.2.2.2.2.2.2.2.2.1 s.2.2.2.2.2.2.2.2.2.1 s.2.2.2.2.2.2.2.2.2.2.1 s.2.2.2.2.2.2.2.2.2.2.2.1 s.2.2.2.2.2.2.2.2.2.2.2.2.1 s.2.2.2.2.2.2.2.2.2.2.2.2.2.1 s.2.2.2.2.2.2.2.2.2.2.2.2.2.2) (fun s => μ s.1 s.2.1 s.2.2.1 s.2.2.2.1 s.2.2.2.2.1 s.2.2.2.2.2.1 s.2.2.2.2.2.2.1 s.2.2.2.2.2.2.2.1 s.2.2.2.2.2.2.2.2.1 s.2.2.2.2.2.2.2.2.2.1 s.2.2.2.2.2.2.2.2.2.2.1 s.2.2.2.2.2.2.2.2.2.2.2.1 s.2.2.2.2.2.2.2.2.2.2.2.2.1 s.2.2.2.2.2.2.2.2.2.2.2.2.2.1 s.2.2.2.2.2.2.2.2.2.2.2.2.2.2) (fun n s hI hk => hs n s.1 s.2.1 s.2.2.1 s.2.2.2.1 s.2.2.2.2.1 s.2.2.2.2.2.1 s.2.2.2.2.2.2.1 s.2.2.2.2.2.2.2.1 s.2.2.2.2.2.2.2.2.1 s.2.2.2.2.2.2.2.2.2.1 s.2.2.2.2.2.2.2.2.2.2.1 s.2.2.2.2.2.2.2.2.2.2.2.1 s.2.2.2.2.2.2.2.2.2.2.2.2.1 s.2.2.2.2.2.2.2.2.2.2.2.2.2.1 s.2.2.2.2.2.2.2.2.2.2.2.2.2.2 hI (fun b1 b2 b3 b4 b5 b6 b7 b8 b9 b10 b11 b12 b13 b14 b15 h9 hm => hk (b1, b2, b3, b4, b5, b6, b7, b8, b9, b10, b11, b12, b13, b14, b15) h9 hm)) (a1, a2, a3, a4, a5, a6, a7, a8, a9, a10, a11, a12, a13, a14, a15) h
theorem lp16 {A1 A2 A3 A4 A5 A6 A7 A8 A9 A10 A11 A12 A13 A14 A15 A16 : Type} (W : Nat → A1 → A2 → A3 → A4 → A5 → A6 → A7 → A8 → A9 → A10 → A11 → A12 → A13 → A14 → A15 → A16 → Prop) (I : A1 → A2 → A3 → A4 → A5 → A6 → A7 → A8 → A9 → A10 → A11 → A12 → A13 → A14 → A15 → A16 → Prop) (μ : A1 → A2 → A3 → A4 → A5 → A6 → A7 → A8 → A9 → A10 → A11 → A12 → A13 → A14 → A15 → A16 → Nat) (hs : ∀ (n : Nat) (a1 : A1) (a2 : A2) (a3 : A3) (a4 : A4) (a5 : A5) (a6 : A6) (a7 : A7) (a8 : A8) (a9 : A9) (a10 : A10) (a11 : A11) (a12 : A12) (a13 : A13) (a14 : A14) (a15 : A15) (a16 : A16), I a1 a2 a3 a4 a5 a6 a7 a8 a9 a10 a11 a12 a13 a14 a15 a16 → (∀ (b1 : A1) (b2 : A2) (b3 : A3) (b4 : A4) (b5 : A5) (b6 : A6) (b7 : A7) (b8 : A8) (b9 : A9) (b10 : A10) (b11 : A11) (b12 : A12) (b13 : A13) (b14 : A14) (b15 : A15) (b16 : A16), I b1 b2 b3 b4 b5 b6 b7 b8 b9 b10 b11 b12 b13 b14 b15 b16 → μ b1 b2 b3 b4 b5 b6 b7 b8 b9 b10 b11 b12 b13 b14 b15 b16 < μ a1 a2 a3 a4 a5 a6 a7 a8 a9 a10 a11 a12 a13 a14 a15 a16 → W n b1 b2 b3 b4 b5 b6 b7 b8 b9 b10 b11 b12 b13 b14 b15 b16) → W (n + 1) a1 a2 a3 a4 a5 a6 a7 a8 a9 a10 a11 a12 a13 a14 a15 a16) (a1 : A1) (a2 : A2) (a3 : A3) (a4 : A4) (a5 : A5) (a6 : A6) (a7 : A7) (a8 : A8) (a9 : A9) (a10 : A10) (a11 : A11) (a12 : A12) (a13 : A13) (a14 : A14) (a15 : A15) (a16 : A16) (h : I a1 a2 a3 a4 a5 a6 a7 a8 a9 a10 a11 a12 a13 a14 a15 a16) : ∃ n, W n a1 a2 a3 a4 a5 a6 a7 a8 a9 a10 a11 a12 a13 a14 a15 a16 :=
  loop_m (σ := A1 × A2 × A3 × A4 × A5 × A6 × A7 × A8 × A9 × A10 × A11 × A12 × A13 × A14 × A15 × A16) (fun n s => W n s.1 s.2.1 s.2.2.1 s.2.2.2.1 s.2.2.2.2.1 s.2.2.2.2.2.1 s.2.2.2.2.2.2.1 s.2.2.2.2.2.2.2.1 s.2.2.2.2.2.2.2.2.1 s.2.2.2.2.2.2.2.2.2.1 s.2.2.2.2.2.2.2.2.2.2.1 s.2.2.2.2.2.2.2.2.2.2.2.1 s.2.2.2.2.2.2.2.2.2.2.2.2.1 s.2.2.2.2.2.2.2.2.2.2.2.2.2.1 s.2.2.2.2.2.2.2.2.2.2.2.2.2.2.1 s.2.2.2.2.2.2.2.2.2.2.2.2.2.2.2) (fun s => I s.1 s.2.1 s.2.2.1 s.2.2.2.1 s.2.2.2.2.1 s.2.2.2.2.2.1 s.2.2.2.2.2.2.1 s.2.2.2.2.2.2.2.1 s.2.2.2.2.2.2.2.2.1 s.2.2.2.2.2.2.2.2.2.1 s.2.2.2.2.2.2.2.2.2.2.1 s.2.2.2.2.2.2.2.2.2.2.2.1 s.2.2.2.2.2.2.2.2.2.2.2.2.1 s.2.2.2.2.2.2.2.2.2.2.2.2.2.1 s.2.2.2.2.2.2.2.2.2.2.2.2.2.2.1 s.2.2.2.2.2.2.2.2.2.2.2.2.2.2.2) (fun s => μ s.1 s.2.1 s.2.2.1 s.2.2.2.1 s.2.2.2.2.1 s.2.2.2.2.2.1 s.2.2.2.2.2.2.1 s.2.2.2.2.2.2.2.1 s.2.2.2.2.2.2.2.2.1 s.2.2.2.2.2.2.2.2.2.1 s.2.2.2.2.2.2.2.2.2.2.1 s.2.2.2.2.2.2.2.2.2.2.2.1 s.2.2.2.2.2.2.2.2.2.2.2.2.1 s.2.2.2.2.2.2.2.2.2.2.2.2.2.1 s.2.2.2.2.2.2.2.2.2.2.2.2.2.2.1 s.2.2.2.2.2.2.2.2.2.2.2.2.2.2.2) (fun n s hI hk => hs n s.1 s.2.1 s.2.2.1 s.2.2.2.1 s.2.2.2.2.1 s.2.2.2.2.2.1 s.2.2.2.2.2.2.1 s.2.2.2.2.2.2.2.1 s.2.2.2.2.2.2.2.2.1 s.2.2.2.2.2.2.2.2.2.1 s.2.2.2.2.2.2.2.2.2.2.1 s.2.2.2.2.2.2.2.2.2.2.2.1 s.2.2.2.2.2.2.2.2.2.2.2.2.1 s.2.2.2.2.2.2.2.2.2.2.2.2.2.1 s.2.2.2.2.2.2.2.2.2.2.2.2.2.2.1 s.2.2.2.2.2.2.2.2.2.2.2.2.2.2.2 hI (fun b1 b2 b3 b4 b5 b6 b7 b8 b9 b10 b11 b12 b13 b14 b15 b16 h9 hm => hk (b1, b2, b3, b4, b5, b6, b7, b8, b9, b10, b11, b12, b13, b14, b15, b16) h9 hm)) (a1, a2, a3, a4, a5, a6, a7, a8, a9, a10, a11, a12, a13, a14, a15, a16) h
theorem pk_least (P : Nat → Prop) (h : ∃ k, P k) : ∃ k, P k ∧ ∀ j, j < k → ¬ P j := by
  obtain ⟨k, hk⟩ := h
  induction k using Nat.strongRecOn with
  | ind k ih =>
    by_cases e : ∃ j, j < k ∧ P j
    · obtain ⟨j, hj, pj⟩ := e
      exact ih j hj pj
    · exact ⟨k, hk, fun j hj pj => e ⟨j, hj, pj⟩⟩
theorem rp1 {ρ A1 : Type} (W : Nat → (ρ → Prop) → A1 → Prop) (ok : A1 → Prop) (μ : A1 → Nat) (val : A1 → ρ)
    (hs : ∀ (d : Nat) (post : ρ → Prop) (a1 : A1), ok a1 → post (val a1) → (∀ (post' : ρ → Prop) (b1 : A1), ok b1 → μ b1 < μ a1 → post' (val b1) → W d post' b1) → W (d + 1) post a1) :
    ∀ (d : Nat) (post : ρ → Prop) (a1 : A1), ok a1 → μ a1 < d → post (val a1) → W d post a1 := by
  intro d
  induction d with
  | zero => intro post a1 _ h; omega
  | succ d ih =>
    intro post a1 ho hm hp
    exact hs d post a1 ho hp (fun post' b1 ho' hm' hp' => ih post' b1 ho' (by omega) hp')
theorem rp2 {ρ A1 A2 : Type} (W : Nat → (ρ → Prop) → A1 → A2 → Prop) (ok : A1 → A2 → Prop) (μ : A1 → A2 → Nat) (val : A1 → A2 → ρ)
    (hs : ∀ (d : Nat) (post : ρ → Prop) (a1 : A1) (a2 : A2), ok a1 a2 → post (val a1 a2) → (∀ (post' : ρ → Prop) (b1 : A1) (b2 : A2), ok b1 b2 → μ b1 b2 < μ a1 a2 → post' (val b1 b2) → W d post' b1 b2) → W (d + 1) post a1 a2) :
    ∀ (d : Nat) (post : ρ → Prop) (a1 : A1) (a2 : A2), ok a1 a2 → μ a1 a2 < d → post (val a1 a2) → W d post a1 a2 := by
  intro d
  induction d with
  | zero => intro post a1 a2 _ h; omega
  | succ d ih =>
    intro post a1 a2 ho hm hp
    exact hs d post a1 a2 ho hp (fun post' b1 b2 ho' hm' hp' => ih post' b1 b2 ho' (by omega) hp')
theorem rp3 {ρ A1 A2 A3 : Type} (W : Nat → (ρ → Prop) → A1 → A2 → A3 → Prop) (ok : A1 → A2 → A3 → Prop) (μ : A1 → A2 → A3 → Nat) (val : A1 → A2 → A3 → ρ)
    (hs : ∀ (d : Nat) (post : ρ → Prop) (a1 : A1) (a2 : A2) (a3 : A3), ok a1 a2 a3 → post (val a1 a2 a3) → (∀ (post' : ρ → Prop) (b1 : A1) (b2 : A2) (b3 : A3), ok b1 b2 b3 → μ b1 b2 b3 < μ a1 a2 a3 → post' (val b1 b2 b3) → W d post' b1 b2 b3) → W (d + 1) post a1 a2 a3) :
    ∀ (d : Nat) (post : ρ → Prop) (a1 : A1) (a2 : A2) (a3 : A3), ok a1 a2 a3 → μ a1 a2 a3 < d → post (val a1 a2 a3) → W d post a1 a2 a3 := by
  intro d
  induction d with
  | zero => intro post a1 a2 a3 _ h; omega
  | succ d ih =>
    intro post a1 a2 a3 ho hm hp
    exact hs d post a1 a2 a3 ho hp (fun post' b1 b2 b3 ho' hm' hp' => ih post' b1 b2 b3 ho' (by omega) hp')
theorem rp4 {ρ A1 A2 A3 A4 : Type} (W : Nat → (ρ → Prop) → A1 → A2 → A3 → A4 → Prop) (ok : A1 → A2 → A3 → A4 → Prop) (μ : A1 → A2 → A3 → A4 → Nat) (val : A1 → A2 → A3 → A4 → ρ)
    (hs : ∀ (d : Nat) (post : ρ → Prop) (a1 : A1) (a2 : A2) (a3 : A3) (a4 : A4), ok a1 a2 a3 a4 → post (val a1 a2 a3 a4) → (∀ (post' : ρ → Prop) (b1 : A1) (b2 : A2) (b3 : A3) (b4 : A4), ok b1 b2 b3 b4 → μ b1 b2 b3 b4 < μ a1 a2 a3 a4 → post' (val b1 b2 b3 b4) → W d post' b1 b2 b3 b4) → W (d + 1) post a1 a2 a3 a4) :
    ∀ (d : Nat) (post : ρ → Prop) (a1 : A1) (a2 : A2) (a3 : A3) (a4 : A4), ok a1 a2 a3 a4 → μ a1 a2 a3 a4 < d → post (val a1 a2 a3 a4) → W d post a1 a2 a3 a4 := by
  intro d
  induction d with
  | zero => intro post a1 a2 a3 a4 _ h; omega
  | succ d ih =>
    intro post a1 a2 a3 a4 ho hm hp
    exact hs d post a1 a2 a3 a4 ho hp (fun post' b1 b2 b3 b4 ho' hm' hp' => ih post' b1 b2 b3 b4 ho' (by omega) hp')
theorem rp5 {ρ A1 A2 A3 A4 A5 : Type} (W : Nat → (ρ → Prop) → A1 → A2 → A3 → A4 → A5 → Prop) (ok : A1 → A2 → A3 → A4 → A5 → Prop) (μ : A1 → A2 → A3 → A4 → A5 → Nat) (val : A1 → A2 → A3 → A4 → A5 → ρ)
    (hs : ∀ (d : Nat) (post : ρ → Prop) (a1 : A1) (a2 : A2) (a3 : A3) (a4 : A4) (a5 : A5), ok a1 a2 a3 a4 a5 → post (val a1 a2 a3 a4 a5) → (∀ (post' : ρ → Prop) (b1 : A1) (b2 : A2) (b3 : A3) (b4 : A4) (b5 : A5), ok b1 b2 b3 b4 b5 → μ b1 b2 b3 b4 b5 < μ a1 a2 a3 a4 a5 → post' (val b1 b2 b3 b4 b5) → W d post' b1 b2 b3 b4 b5) → W (d + 1) post a1 a2 a3 a4 a5) :
    ∀ (d : Nat) (post : ρ → Prop) (a1 : A1) (a2 : A2) (a3 : A3) (a4 : A4) (a5 : A5), ok a1 a2 a3 a4 a5 → μ a1 a2 a3 a4 a5 < d → post (val a1 a2 a3 a4 a5) → W d post a1 a2 a3 a4 a5 := by
  intro d
  induction d with
  | zero => intro post a1 a2 a3 a4 a5 _ h; omega
  | succ d ih =>
    intro post a1 a2 a3 a4 a5 ho hm hp
    exact hs d post a1 a2 a3 a4 a5 ho hp (fun post' b1 b2 b3 b4 b5 ho' hm' hp' => ih post' b1 b2 b3 b4 b5 ho' (by omega) hp')
theorem rp6 {ρ A1 A2 A3 A4 A5 A6 : Type} (W : Nat → (ρ → Prop) → A1 → A2 → A3 → A4 → A5 → A6 → Prop) (ok : A1 → A2 → A3 → A4 → A5 → A6 → Prop) (μ : A1 → A2 → A3 → A4 → A5 → A6 → Nat) (val : A1 → A2 → A3 → A4 → A5 → A6 → ρ)
    (hs : ∀ (d : Nat) (post : ρ → Prop) (a1 : A1) (a2 : A2) (a3 : A3) (a4 : A4) (a5 : A5) (a6 : A6), ok a1 a2 a3 a4 a5 a6 → post (val a1 a2 a3 a4 a5 a6) → (∀ (post' : ρ → Prop) (b1 : A1) (b2 : A2) (b3 : A3) (b4 : A4) (b5 : A5) (b6 : A6), ok b1 b2 b3 b4 b5 b6 → μ b1 b2 b3 b4 b5 b6 < μ a1 a2 a3 a4 a5 a6 → post' (val b1 b2 b3 b4 b5 b6) → W d post' b1 b2 b3 b4 b5 b6) → W (d + 1) post a1 a2 a3 a4 a5 a6) :
    ∀ (d : Nat) (post : ρ → Prop) (a1 : A1) (a2 : A2) (a3 : A3) (a4 : A4) (a5 : A5) (a6 : A6), ok a1 a2 a3 a4 a5 a6 → μ a1 a2 a3 a4 a5 a6 < d → post (val a1 a2 a3 a4 a5 a6) → W d post a1 a2 a3 a4 a5 a6 := by
  intro d
  induction d with
  | zero => intro post a1 a2 a3 a4 a5 a6 _ h; omega
  | succ d ih =>
    intro post a1 a2 a3 a4 a5 a6 ho hm hp
    exact hs d post a1 a2 a3 a4 a5 a6 ho hp (fun post' b1 b2 b3 b4 b5 b6 ho' hm' hp' => ih post' b1 b2 b3 b4 b5 b6 ho' (by omega) hp')
theorem rec_p {σ ρ : Type} (W : Nat → (ρ → Prop) → σ → Prop) (ok : σ → Prop) (μ : σ → Nat) (val : σ → ρ)
    (hs : ∀ d s post, ok s → post (val s) → (∀ s' post', ok s' → μ s' < μ s → post' (val s') → W d post' s') → W (d + 1) post s) :
    ∀ d s post, ok s → μ s < d → post (val s) → W d post s := by
  intro d
  induction d with
  | zero => intro s post _ h; omega
  | succ d ih =>
    intro s post ho hm hp
    exact hs d s post ho hp (fun s' post' ho' hm' hp' => ih s' post' ho' (by omega) hp')
theorem rec_q {σ ρ : Type} (W : Nat → (ρ → Prop) → σ → Prop) (ok : σ → Prop) (μ : σ → Nat) (Q : σ → ρ → Prop)
    (hs : ∀ d s post, ok s → (∀ r, Q s r → post r) → (∀ s' post', ok s' → μ s' < μ s → (∀ r, Q s' r → post' r) → W d post' s') → W (d + 1) post s) :
    ∀ d s post, ok s → μ s < d → (∀ r, Q s r → post r) → W d post s := by
  intro d
  induction d with
  | zero => intro s post _ h; omega
  | succ d ih =>
    intro s post ho hm hp
    exact hs d s post ho hp (fun s' post' ho' hm' hp' => ih s' post' ho' (by omega) hp')
def bx_sum (f : Nat → Int32) : Nat → Int32
  | 0 => 0
  | n + 1 => bx_sum f n + f n
theorem ek_u {A : Prop} {B : Nat → Prop} {k N : Nat} (hk : k < N) (h : B k) : (some k = none → A) ∧ (∀ y : Nat, some k = some y → (y < N ∧ B y)) :=
  ⟨fun z => absurd z (Option.some_ne_none k), fun _ e => (by cases e; exact ⟨hk, h⟩)⟩
theorem ek_nu {A : Prop} {B : Nat → Prop} (h : A) : ((none : Option Nat) = none → A) ∧ (∀ y : Nat, (none : Option Nat) = some y → B y) :=
  ⟨fun _ => h, fun _ e => (by cases e)⟩
theorem ek_if {c d A B : Prop} (e : c ↔ d) (f : d → A) (g : ¬ d → B) : (c → A) ∧ (¬ c → B) :=
  ⟨fun z => f (e.mp z), fun z => g (fun y => z (e.mpr y))⟩
theorem ek_v {α : Sort _} {P : α → Prop} {a b : α} (e : a = b) (h : P b) : P a := e ▸ h
theorem co_some {x : Option Nat} {A : Prop} {B : Nat → Prop} (i : Nat) (h : B i) (hx : x = some i := by rfl) : (x = none → A) ∧ (∀ y : Nat, x = some y → B y) := by
  subst hx
  exact ⟨fun e => (nomatch e), fun y e => Option.some.inj e ▸ h⟩
theorem co_none {x : Option Nat} {A : Prop} {B : Nat → Prop} (h : A) (hx : x = none := by rfl) : (x = none → A) ∧ (∀ y : Nat, x = some y → B y) := by
  subst hx
  exact ⟨fun _ => h, fun y e => (nomatch e)⟩
theorem co_any {x : Option Nat} {A : Prop} {B : Nat → Prop} (hn : x = none → A) (hs : ∀ i : Nat, x = some i → B i) : (x = none → A) ∧ (∀ y : Nat, x = some y → B y) := ⟨hn, hs⟩
theorem co_2 {P : Nat → Prop} (h0 : P 0) (h1 : P 1) {i : Nat} (hi : i < 2) : P i :=
  match i, hi with
  | 0, _ => h0
  | 1, _ => h1
theorem co_3 {P : Nat → Prop} (h0 : P 0) (h1 : P 1) (h2 : P 2) {i : Nat} (hi : i < 3) : P i :=
  match i, hi with
  | 0, _ => h0
  | 1, _ => h1
  | 2, _ => h2
theorem co_4 {P : Nat → Prop} (h0 : P 0) (h1 : P 1) (h2 : P 2) (h3 : P 3) {i : Nat} (hi : i < 4) : P i :=
  match i, hi with
  | 0, _ => h0
  | 1, _ => h1
  | 2, _ => h2
  | 3, _ => h3
theorem co_dec {N : Nat} {P : Nat → Prop} [DecidablePred P] (h : (List.range N).all (fun i => decide (P i)) = true) {i : Nat} (hi : i < N) : P i := by
  have := List.all_eq_true.mp h i (List.mem_range.mpr hi)
  exact of_decide_eq_true this
theorem co_tab {α : Type} {l : List α} {d : α} {P : α → Prop} (h : ∀ a, a ∈ l → P a) {i : Nat} (hi : i < l.length) : P (l.getD i d) := by
  rw [List.getD_eq_getElem?_getD, List.getElem?_eq_getElem hi]
  exact h _ (List.getElem_mem hi)
theorem pk_mu {x : Int32} {L : Nat} (h0 : ¬ x < 0) (h : ¬ nI L ≤ x) (hL : L < 2 ^ 31) : ∃ j : Nat, j < L ∧ x = nI j ∧ x + 1 = nI (j + 1) ∧ x.toNatClampNeg = j ∧ L - (x + 1).toNatClampNeg < L - x.toNatClampNeg := by
  obtain ⟨j, hj, rfl⟩ := nI_of h0
  have hl : j < L := Nat.not_le.mp fun q => h (nI_le q hj)
  refine ⟨j, hl, rfl, nI_1 j, nI_clamp hj, ?_⟩
  rw [nI_1, nI_clamp (by omega), nI_clamp hj]
  omega
theorem op_s {α : Type} {r : Option α} {A : Prop} {B : α → Prop} {y : α} (h : r = some y) (b : B y) : (r = none → A) ∧ ∀ z, r = some z → B z :=
  ⟨fun e => (by rw [h] at e; cases e), fun z e => (by rw [h] at e; cases e; exact b)⟩
def l_holds {α : Type} (a : Nat → Option Nat) (LP : List Nat) (p : Nat → α) (c : Nat) (b : Nat → α) : Prop :=
  ∀ j, j < c → ∃ y, a j = some y ∧ y ∈ LP ∧ p y = b j
theorem l_holds_0 {α : Type} {a : Nat → Option Nat} {LP : List Nat} {p b : Nat → α} : l_holds a LP p 0 b := fun j h => absurd h (Nat.not_lt_zero j)
theorem l_in_new (LP : List Nat) (q : Nat) : q ∈ LP ++ [q] := List.mem_append.mpr (Or.inr (List.mem_singleton.mpr rfl))
def l_sum (b : Nat → Int32) : Nat → Int32
  | 0 => 0
  | k + 1 => l_sum b k + b k
theorem sb_shr0 (x : Int32) : x >>> ((0 : Int32) &&& 31) = x := by
  rw [show ((0 : Int32) &&& 31) = 0 by decide]
  simp
theorem sb_shl0 (x : Int32) : x <<< ((0 : Int32) &&& 31) = x := by
  rw [show ((0 : Int32) &&& 31) = 0 by decide]
  simp
theorem sb_cl0 : (0 : Int32).toNatClampNeg = 0 := by decide
theorem sb_m1 {p : Nat} (h : 0 < p) : nI p + (-1) = nI (p - 1) := by
  obtain ⟨q, rfl⟩ : ∃ q, p = q + 1 := ⟨p - 1, by omega⟩
  exact pk_m1 q
def sb_b (c : Nat) : Int32 := (nI c).toInt8.toInt32
theorem sb_byte : ∀ c, c < 256 → sb_b c &&& 255 = nI c ∧ ((nI c).toUInt32 % 65536).toInt32 = nI c ∧ nI c ≤ 255 := by decide +kernel
def sb_Fit (a : Nat → Int32) : Prop := ∀ j, fits .byte (.int (a j)) = true
def sb_Lat (t : Nat → Nat) (n : Nat) (a : Nat → Int32) : Prop := ∀ j, j < n → t j < 256 ∧ a j = sb_b (t j)
theorem sb_fitB (c : Nat) : fits .byte (.int (sb_b c)) = true := pk_fb _
theorem sb_fit0 : sb_Fit (fun _ => 0) := fun _ => by
  show fits .byte (.int 0) = true
  decide
theorem sb_fitU {a : Nat → Int32} {k : Nat} {x : Int32} (h : sb_Fit a) (hx : fits .byte (.int x) = true) : sb_Fit (upd a k x) := by
  intro j
  by_cases e : j = k
  · subst e
    rw [pk_us]
    exact hx
  · rw [pk_un e]
    exact h j
def sb_cat (t : Nat → Nat) (n : Nat) (s : Nat → Nat) : Nat → Nat := fun j => if j < n then t j else s (j - n)
theorem sb_cat_lo {t s : Nat → Nat} {n j : Nat} (h : j < n) : sb_cat t n s j = t j := if_pos h
theorem sb_cat_hi {t s : Nat → Nat} {n j : Nat} : sb_cat t n s (n + j) = s j := by
  show (if n + j < n then t (n + j) else s (n + j - n)) = s j
  rw [if_neg (by omega), Nat.add_sub_cancel_left]
theorem sb_latPut {t s : Nat → Nat} {n w : Nat} {a a' : Nat → Int32} (h : sb_Lat t n a) (hk : ∀ j, j < n → a' j = a j) (hs : ∀ i, i < w → s i < 256 ∧ a' (n + i) = sb_b (s i)) : sb_Lat (sb_cat t n s) (n + w) a' := by
  intro j hj
  by_cases e : j < n
  · rw [sb_cat_lo e, hk j e]
    exact h j e
  · obtain ⟨i, rfl⟩ : ∃ i, j = n + i := ⟨j - n, by omega⟩
    rw [sb_cat_hi]
    exact hs i (by omega)
theorem sb_latKeep {t : Nat → Nat} {n : Nat} {a a' : Nat → Int32} (h : sb_Lat t n a) (hk : ∀ j, j < n → a' j = a j) : sb_Lat t n a' := fun j hj => by
  rw [hk j hj]
  exact h j hj
def sb_cap (q m : Nat) : Nat := if q ≤ m then m else if 2 * m + 2 < q then q else 2 * m + 2
def sb_Room (q m mc ms : Nat) : Prop := q ≤ m ∨ (1 ≤ mc ∧ sb_cap q m ≤ ms ∧ sb_cap q m ≤ 65536)
theorem sb_cap_ge (q m : Nat) : q ≤ sb_cap q m := by
  unfold sb_cap
  split
  · omega
  · split <;> omega
theorem sb_cap_gem (q m : Nat) : m ≤ sb_cap q m := by
  unfold sb_cap
  split
  · omega
  · split <;> omega
theorem sb_cap_le {q m mc ms : Nat} (hm : m ≤ 65536) (hr : sb_Room q m mc ms) : sb_cap q m ≤ 65536 := by
  rcases hr with h | h
  · rw [sb_cap, if_pos h]
    exact hm
  · exact h.2.2
theorem sb_at {P : Int32 → Prop} {x y : Int32} (e : x = y) (h : P y) : P x := e ▸ h
def sb_dg (w : Nat) : Nat := if w < 10 then 1 else if w < 100 then 2 else if w < 1000 then 3 else if w < 10000 then 4 else if w < 100000 then 5 else if w < 1000000 then 6 else if w < 10000000 then 7 else if w < 100000000 then 8 else if w < 1000000000 then 9 else 10
def sb_dec (v : Nat) : Nat → Nat := fun i => 48 + v / 10 ^ (sb_dg v - 1 - i) % 10
theorem sb_dg_in (w : Nat) : 1 ≤ sb_dg w ∧ sb_dg w ≤ 10 := by
  unfold sb_dg
  constructor <;> (repeat' split) <;> omega
theorem sb_dg100 {w : Nat} (h : 100 ≤ w) (hw : w < 2 ^ 31) : sb_dg w = sb_dg (w / 100) + 2 := by
  rw [sb_dg, sb_dg, if_neg (show ¬ w < 10 by omega), if_neg (show ¬ w < 100 by omega)]
  by_cases h3 : w < 1000
  · rw [if_pos h3, if_pos (show w / 100 < 10 by omega)]
  rw [if_neg h3, if_neg (show ¬ w / 100 < 10 by omega)]
  by_cases h4 : w < 10000
  · rw [if_pos h4, if_pos (show w / 100 < 100 by omega)]
  rw [if_neg h4, if_neg (show ¬ w / 100 < 100 by omega)]
  by_cases h5 : w < 100000
  · rw [if_pos h5, if_pos (show w / 100 < 1000 by omega)]
  rw [if_neg h5, if_neg (show ¬ w / 100 < 1000 by omega)]
  by_cases h6 : w < 1000000
  · rw [if_pos h6, if_pos (show w / 100 < 10000 by omega)]
  rw [if_neg h6, if_neg (show ¬ w / 100 < 10000 by omega)]
  by_cases h7 : w < 10000000
  · rw [if_pos h7, if_pos (show w / 100 < 100000 by omega)]
  rw [if_neg h7, if_neg (show ¬ w / 100 < 100000 by omega)]
  by_cases h8 : w < 100000000
  · rw [if_pos h8, if_pos (show w / 100 < 1000000 by omega)]
  rw [if_neg h8, if_neg (show ¬ w / 100 < 1000000 by omega)]
  by_cases h9 : w < 1000000000
  · rw [if_pos h9, if_pos (show w / 100 < 10000000 by omega)]
  rw [if_neg h9, if_neg (show ¬ w / 100 < 10000000 by omega)]
  rw [if_pos (show w / 100 < 100000000 by omega)]
theorem sb_negT {w : Nat} (h : w < 2 ^ 31) : (-nI w).toInt = -(w : Int) := by
  rw [Int32.toInt_neg, nI_toInt h]
  exact Int.bmod_eq_of_le (by omega) (by omega)
theorem sb_nle {a b : Nat} (ha : a < 2 ^ 31) (hb : b < 2 ^ 31) : -nI a ≤ -nI b ↔ b ≤ a := by
  rw [Int32.le_iff_toInt_le, sb_negT ha, sb_negT hb]
  omega
theorem sb_nlt {a b : Nat} (ha : a < 2 ^ 31) (hb : b < 2 ^ 31) : -nI a < -nI b ↔ b < a := by
  rw [Int32.lt_iff_toInt_lt, sb_negT ha, sb_negT hb]
  omega
theorem sb_cmp {A B : Prop} {x : Int32} (v c : Nat) (f : c ≤ v → A) (g : v < c → B) (hv : v < 2 ^ 31) (hx : x = -nI c := by rfl) (hc : c < 2 ^ 31 := by omega) : (-nI v ≤ x → A) ∧ (¬ -nI v ≤ x → B) := by
  subst hx
  rw [sb_nle hv hc]
  exact ⟨f, fun z => g (by omega)⟩
theorem sb_ndiv {w : Nat} (hw : w < 2 ^ 31) : (-nI w) / 100 = -nI (w / 100) := by
  apply Int32.toInt_inj.mp
  have h100 : (100 : Int32).toInt = 100 := by decide
  rw [Int32.toInt_div, sb_negT hw, h100, sb_negT (by omega), Int.neg_tdiv, Int.tdiv_eq_ediv_of_nonneg (by omega), Int.bmod_eq_of_le (by omega) (by omega)]
  omega
theorem sb_nrem {w : Nat} (hw : w < 2 ^ 31) : (-nI (w / 100)) * 100 - (-nI w) = nI (w % 100) := by
  have h := pk_rem (a := w) (d := 100) hw (by decide) (by decide)
  rw [pk_div hw (by decide) (by decide)] at h
  rw [← h]
  show (-nI (w / 100)) * nI 100 - (-nI w) = nI w - nI (w / 100) * nI 100
  rw [Int32.neg_mul, Int32.sub_neg, Int32.add_comm, ← Int32.sub_eq_add_neg]
end
section
/-! rows on bits, shifts and unsigned numbers, to paste: each family out of a closed proof of our own, whole with what it rests on; each by itself clean at Lean in its own claim (generation 39, form 5). Take a family whole -/
/-! ===== Int32 by its bits: bt x i ===== -/
def bt (x : Int32) (i : Nat) : Bool := x.toBitVec.getLsbD i
theorem b_ext {x y : Int32} (h : ∀ i, i < 32 → bt x i = bt y i) : x = y := Int32.toBitVec_inj.mp (BitVec.eq_of_getLsbD_eq (fun i hi => h i hi))
theorem b_or (x y : Int32) (i : Nat) : bt (x ||| y) i = (bt x i || bt y i) := by unfold bt; rw [Int32.toBitVec_or, BitVec.getLsbD_or]
theorem b_and (x y : Int32) (i : Nat) : bt (x &&& y) i = (bt x i && bt y i) := by unfold bt; rw [Int32.toBitVec_and, BitVec.getLsbD_and]
theorem b_xor (x y : Int32) (i : Nat) : bt (x ^^^ y) i = (bt x i ^^ bt y i) := by unfold bt; rw [Int32.toBitVec_xor, BitVec.getLsbD_xor]
theorem b_big {x : Int32} {i : Nat} (h : 32 ≤ i) : bt x i = false := BitVec.getLsbD_of_ge _ _ h
theorem b_255 (i : Nat) : bt 255 i = decide (i < 8) := by
  rcases Nat.lt_or_ge i 32 with h | h
  · exact (by decide +kernel : ∀ i, i < 32 → bt 255 i = decide (i < 8)) i h
  · rw [b_big h, decide_eq_false (by omega)]
theorem b_65535 (i : Nat) : bt 65535 i = decide (i < 16) := by
  rcases Nat.lt_or_ge i 32 with h | h
  · exact (by decide +kernel : ∀ i, i < 32 → bt 65535 i = decide (i < 16)) i h
  · rw [b_big h, decide_eq_false (by omega)]
theorem b_m1 : ∀ i, i < 32 → bt (-1) i = true := by decide +kernel
theorem b_0 (i : Nat) : bt 0 i = false := BitVec.getLsbD_zero
theorem s_l : ∀ n, n < 32 → ((nI n &&& 31).toBitVec.smod 32).toNat = n := by decide +kernel
theorem s_u : ∀ n, n < 32 → (((nI n).toUInt32 &&& Int32.toUInt32 31).toBitVec % 32).toNat = n := by decide +kernel
theorem b_shl (n : Nat) (hn : n < 32) (x : Int32) {i : Nat} (hi : i < 32) : bt (x <<< (nI n &&& 31)) i = (decide (n ≤ i) && bt x (i - n)) := by
  unfold bt
  rw [Int32.toBitVec_shiftLeft]
  show (x.toBitVec <<< ((nI n &&& 31).toBitVec.smod 32).toNat).getLsbD i = _
  rw [s_l n hn, BitVec.getLsbD_shiftLeft]
  rcases Nat.lt_or_ge i n with h | h
  · simp [h, Nat.not_le.mpr h]
  · simp [hi, h, Nat.not_lt.mpr h]
theorem b_ushr (n : Nat) (hn : n < 32) (x : Int32) (i : Nat) : bt ((x.toUInt32 >>> ((nI n).toUInt32 &&& Int32.toUInt32 31)).toInt32) i = bt x (n + i) := by
  show (x.toUInt32 >>> ((nI n).toUInt32 &&& Int32.toUInt32 31)).toBitVec.getLsbD i = x.toUInt32.toBitVec.getLsbD (n + i)
  rw [UInt32.toBitVec_shiftRight]
  show (x.toUInt32.toBitVec >>> (((nI n).toUInt32 &&& Int32.toUInt32 31).toBitVec % 32).toNat).getLsbD i = _
  rw [s_u n hn, BitVec.getLsbD_ushiftRight]
theorem b_sshr (n : Nat) (hn : n < 32) (x : Int32) {i : Nat} (hi : i < 32) : bt (x >>> (nI n &&& 31)) i = if n + i < 32 then bt x (n + i) else bt x 31 := by
  unfold bt
  rw [Int32.toBitVec_shiftRight]
  show (x.toBitVec.sshiftRight ((nI n &&& 31).toBitVec.smod 32).toNat).getLsbD i = _
  rw [s_l n hn, BitVec.getLsbD_sshiftRight, BitVec.msb_eq_getLsbD_last]
  simp [hi]
theorem b_shl8 (x : Int32) {i : Nat} (hi : i < 32) : bt (x <<< ((8 : Int32) &&& 31)) i = (decide (8 ≤ i) && bt x (i - 8)) := b_shl 8 (by omega) x hi
theorem b_shl16 (x : Int32) {i : Nat} (hi : i < 32) : bt (x <<< ((16 : Int32) &&& 31)) i = (decide (16 ≤ i) && bt x (i - 16)) := b_shl 16 (by omega) x hi
theorem b_shl24 (x : Int32) {i : Nat} (hi : i < 32) : bt (x <<< ((24 : Int32) &&& 31)) i = (decide (24 ≤ i) && bt x (i - 24)) := b_shl 24 (by omega) x hi
theorem b_sshr8 (x : Int32) {i : Nat} (hi : i < 32) : bt (x >>> ((8 : Int32) &&& 31)) i = if 8 + i < 32 then bt x (8 + i) else bt x 31 := b_sshr 8 (by omega) x hi
/-! ===== nI under and, xor, >>>, one bit, 65535 ===== -/
theorem nx_and (a b : Nat) : nI a &&& nI b = nI (a &&& b) := by
  apply Int32.toBitVec_inj.1
  show BitVec.ofNat 32 a &&& BitVec.ofNat 32 b = BitVec.ofNat 32 (a &&& b)
  apply BitVec.eq_of_getLsbD_eq
  intro i hi
  simp [hi]
theorem nx_xor (a b : Nat) : nI a ^^^ nI b = nI (a ^^^ b) := by
  apply Int32.toBitVec_inj.1
  show BitVec.ofNat 32 a ^^^ BitVec.ofNat 32 b = BitVec.ofNat 32 (a ^^^ b)
  apply BitVec.eq_of_getLsbD_eq
  intro i hi
  simp [hi]
theorem nx_cnt : ∀ j : Fin 32, (UInt32.ofNat j.val &&& Int32.toUInt32 31).toNat % 32 = j.val := by decide +kernel
theorem nx_ush {k j : Nat} (hk : k < 65536) (hj : j < 32) : ((nI k).toUInt32 >>> ((nI j).toUInt32 &&& Int32.toUInt32 31)).toInt32 = nI (k >>> j) := by
  have hs : k >>> j ≤ k := by
    rw [Nat.shiftRight_eq_div_pow]
    exact Nat.div_le_self _ _
  have e2 : UInt32.ofNat k >>> (UInt32.ofNat j &&& Int32.toUInt32 31) = UInt32.ofNat (k >>> j) := by
    apply UInt32.toNat_inj.1
    have h1 : (UInt32.ofNat k).toNat = k := Nat.mod_eq_of_lt (by omega)
    have h2 : (UInt32.ofNat (k >>> j)).toNat = k >>> j := Nat.mod_eq_of_lt (by omega)
    rw [UInt32.toNat_shiftRight, nx_cnt ⟨j, hj⟩, h1, h2]
  show (UInt32.ofNat k >>> (UInt32.ofNat j &&& Int32.toUInt32 31)).toInt32 = _
  rw [e2]
  rfl
theorem nx_bit {k j : Nat} (hk : k < 65536) (hj : j < 16) : (((nI k).toUInt32 >>> ((nI j).toUInt32 &&& Int32.toUInt32 31)).toInt32 &&& 1) = 0 ↔ k.testBit j = false := by
  rw [nx_ush hk (by omega)]
  show nI (k >>> j) &&& nI 1 = 0 ↔ _
  rw [nx_and, Nat.and_one_is_mod, ← nI_0, nI_eq (by omega) (by omega), Nat.testBit_eq_decide_div_mod_eq, Nat.shiftRight_eq_div_pow, decide_eq_false_iff_not]
  generalize k / 2 ^ j = z
  omega
theorem nx_mod (k : Nat) : nI k &&& 65535 = nI (k % 65536) := by
  show nI k &&& nI 65535 = _
  rw [nx_and, show (65535 : Nat) = 2 ^ 16 - 1 from rfl, Nat.and_two_pow_sub_one_eq_mod]
theorem nx_m16 {k : Nat} (h : k < 65536) : nI k &&& 65535 = nI k := by rw [nx_mod, Nat.mod_eq_of_lt h]
theorem nx_mask (x : Int32) : ∃ k, k < 65536 ∧ x &&& 65535 = nI k := by
  have e : x = nI x.toBitVec.toNat := by
    apply Int32.toBitVec_inj.1
    show x.toBitVec = BitVec.ofNat 32 x.toBitVec.toNat
    simp
  refine ⟨x.toBitVec.toNat % 65536, Nat.mod_lt _ (by omega), ?_⟩
  rw [← nx_mod, ← e]
/-! ===== Int32 as a set of bits: test, set ===== -/
def nf_M (m : Int32) : Nat := 4294967296 - m.toBitVec.toNat
theorem nf_sh : ∀ l, l < 32 → ((1 : Int32) <<< (nI l &&& 31)).toBitVec = BitVec.twoPow 32 l := by decide +kernel
theorem nf_sl : ∀ l, l < 32 → (((nI l).toUInt32 &&& Int32.toUInt32 31).toBitVec % 32).toNat = l := by decide +kernel
theorem nf_tp : ∀ l, l < 32 → BitVec.twoPow 32 l ≠ 0#32 := by decide +kernel
theorem nf_bit (m : Int32) (l : Nat) (hl : l < 32) : ((m.toUInt32 >>> ((nI l).toUInt32 &&& Int32.toUInt32 31)).toInt32 &&& 1) = 0 ↔ (m &&& ((1 : Int32) <<< (nI l &&& 31))) = 0 := by
  have e : ((m.toUInt32 >>> ((nI l).toUInt32 &&& Int32.toUInt32 31)).toInt32).toBitVec = m.toBitVec >>> l := by
    show m.toBitVec >>> (((nI l).toUInt32 &&& Int32.toUInt32 31).toBitVec % 32) = m.toBitVec >>> l
    rw [BitVec.ushiftRight_eq', nf_sl l hl]
  rw [← Int32.toBitVec_inj, ← Int32.toBitVec_inj, Int32.toBitVec_and, Int32.toBitVec_and, nf_sh l hl, e, BitVec.and_twoPow]
  show (m.toBitVec >>> l &&& 1#32) = 0#32 ↔ _ = 0#32
  rw [BitVec.and_one_eq_setWidth_ofBool_getLsbD, BitVec.getLsbD_ushiftRight, Nat.add_zero]
  cases hb : m.toBitVec.getLsbD l
  · exact ⟨fun _ => by simp, fun _ => by decide⟩
  · exact ⟨fun z => absurd z (by decide), fun z => absurd ((if_pos rfl).symm.trans z) (nf_tp l hl)⟩
theorem nf_gr (m k : Int32) (h : m &&& k = 0) (hk : k ≠ 0) : nf_M (m ||| k) < nf_M m := by
  have hm := m.toBitVec.isLt
  have hm' := (m ||| k).toBitVec.isLt
  have h1 : m.toBitVec.toNat ≤ (m ||| k).toBitVec.toNat := by
    rw [Int32.toBitVec_or, BitVec.toNat_or]
    exact Nat.left_le_or
  have h2 : m.toBitVec.toNat ≠ (m ||| k).toBitVec.toNat := by
    intro e
    have e2 : m = m ||| k := Int32.toBitVec_inj.mp (BitVec.eq_of_toNat_eq e)
    apply hk
    apply Int32.toBitVec_inj.mp
    show k.toBitVec = 0#32
    apply BitVec.eq_of_getLsbD_eq
    intro i hi
    have a : m.toBitVec.getLsbD i = (m.toBitVec.getLsbD i || k.toBitVec.getLsbD i) := by rw [← BitVec.getLsbD_or, ← Int32.toBitVec_or, ← e2]
    have b : (m.toBitVec.getLsbD i && k.toBitVec.getLsbD i) = false := by
      rw [← BitVec.getLsbD_and, ← Int32.toBitVec_and, h]
      exact BitVec.getLsbD_zero
    rw [BitVec.getLsbD_zero]
    revert a b
    cases m.toBitVec.getLsbD i <;> cases k.toBitVec.getLsbD i <;> simp
  unfold nf_M
  omega
/-! ===== a byte read unsigned ===== -/
theorem bp_b (x : Int32) : x.toInt8.toInt32 &&& 255 = x &&& 255 := by
  apply Int32.toBitVec_inj.mp
  rw [Int32.toBitVec_and, Int32.toBitVec_and, Int8.toBitVec_toInt32, Int32.toBitVec_toInt8]
  apply BitVec.eq_of_getLsbD_eq
  intro i hi
  rw [BitVec.getLsbD_and, BitVec.getLsbD_and]
  have hm : ∀ i < 32, 8 ≤ i → (255 : Int32).toBitVec.getLsbD i = false := by decide
  rcases Nat.lt_or_ge i 8 with z | z
  · rw [BitVec.getLsbD_signExtend, BitVec.getLsbD_signExtend, if_pos z, if_pos hi]
    simp only [z, hi, decide_true, Bool.true_and]
  · rw [hm i hi z]; simp
/-! ===== the char cast and 65535 ===== -/
theorem em_w (v : Int32) : ∃ w : Nat, w < 65536 ∧ (v.toUInt32 % 65536).toInt32 = nI w ∧ v &&& 65535 = nI w := by
  have hr := lw_u16_r v
  have h0 : (0 : Int32).toInt = 0 := by decide
  obtain ⟨w, h1, h2⟩ := nI_of (x := lw_u16 v) (by rw [Int32.lt_iff_toInt_lt]; omega)
  have h3 : (v.toUInt32 % 65536).toInt32 = nI w := h2
  rw [h2, nI_toInt h1] at hr
  exact ⟨w, by omega, h3, by rw [← lg_i2c_mask, ← lg_i2c_nf, h3]⟩
/-! ===== Int64 as a set of bits: test, set, clear ===== -/
theorem ts_nf {x : Bool} (h : ¬ x = false) : x = true := by cases x <;> first | rfl | exact absurd rfl h
theorem ts_nt {x : Bool} (h : ¬ x = true) : x = false := by cases x <;> first | rfl | exact absurd rfl h
theorem ts_bit {w : Int64} {s : UInt64} {j : Nat} (hj : j < 64) (hs : s.toNat = j) : ((w.toUInt64 >>> s).toInt64 &&& 1) = 0 ↔ w.toBitVec.getLsbD j = false := by
  have e : (w.toUInt64 >>> s).toInt64.toBitVec = w.toBitVec >>> j := by
    apply BitVec.eq_of_toNat_eq
    show (w.toUInt64 >>> s).toNat = _
    rw [UInt64.toNat_shiftRight, hs, Nat.mod_eq_of_lt hj, BitVec.toNat_ushiftRight]
    rfl
  rw [← Int64.toBitVec_inj, Int64.toBitVec_and, e]
  show w.toBitVec >>> j &&& 1#64 = 0#64 ↔ _
  constructor
  · intro h
    have t := congrArg (fun x => x.getLsbD 0) h
    simpa using t
  · intro h
    apply BitVec.eq_of_getLsbD_eq
    intro i hi
    cases i with
    | zero => simp [h]
    | succ i => simp
theorem ts_or {w m : Int64} {j : Nat} (hj : j < 64) (hm : m.toBitVec = BitVec.twoPow 64 j) : (w ||| m) = w ↔ w.toBitVec.getLsbD j = true := by
  rw [← Int64.toBitVec_inj, Int64.toBitVec_or, hm]
  constructor
  · intro h
    have t := congrArg (fun x => x.getLsbD j) h
    simp only [BitVec.getLsbD_or, BitVec.getLsbD_twoPow] at t
    simpa [hj] using t.symm
  · intro h
    apply BitVec.eq_of_getLsbD_eq
    intro i hi
    rw [BitVec.getLsbD_or, BitVec.getLsbD_twoPow]
    by_cases e : j = i
    · subst e; rw [h, Bool.true_or]
    · simp [e]
theorem ts_and {w m : Int64} {j : Nat} (hj : j < 64) (hm : m.toBitVec = BitVec.twoPow 64 j) : (w &&& (m ^^^ (-1))) = w ↔ w.toBitVec.getLsbD j = false := by
  have ha : (-1 : Int64).toBitVec = BitVec.allOnes 64 := by decide
  rw [← Int64.toBitVec_inj, Int64.toBitVec_and, Int64.toBitVec_xor, hm, ha]
  constructor
  · intro h
    have t := congrArg (fun x => x.getLsbD j) h
    simp only [BitVec.getLsbD_and, BitVec.getLsbD_xor, BitVec.getLsbD_twoPow, BitVec.getLsbD_allOnes] at t
    simpa [hj] using t.symm
  · intro h
    apply BitVec.eq_of_getLsbD_eq
    intro i hi
    rw [BitVec.getLsbD_and, BitVec.getLsbD_xor, BitVec.getLsbD_twoPow, BitVec.getLsbD_allOnes]
    by_cases e : j = i
    · subst e; rw [h, Bool.false_and]
    · simp [e, hi]
/-! ===== lN n to 2^64: shifts, and, or, masks, one bit ===== -/
theorem wb_tb (n : Nat) : (lN n).toBitVec = BitVec.ofNat 64 n := rfl
theorem wb_inj {a b : Int64} (h : a.toBitVec = b.toBitVec) : a = b := Int64.toBitVec_inj.mp h
theorem wb_tn {n : Nat} (h : n < 2 ^ 64) : (lN n).toBitVec.toNat = n := by rw [wb_tb, BitVec.toNat_ofNat, Nat.mod_eq_of_lt h]
theorem wb_of (x : Int64) : ∃ n, n < 2 ^ 64 ∧ x = lN n := ⟨x.toBitVec.toNat, x.toBitVec.isLt, wb_inj (by rw [wb_tb]; simp)⟩
theorem wb_of32 (x : Int32) : ∃ n, n < 2 ^ 32 ∧ x = nI n := ⟨x.toBitVec.toNat, x.toBitVec.isLt, Int32.toBitVec_inj.mp (by show _ = BitVec.ofNat 32 _; simp)⟩
theorem wb_c : ∀ k, k < 64 → ((nI k).toInt64 &&& 63) = lN k := by decide +kernel
theorem wb_cu : ∀ k, k < 64 → ((nI k).toInt64.toUInt64 &&& Int64.toUInt64 63) = UInt64.ofNat k := by decide +kernel
theorem wb_sm : ∀ k, k < 64 → (BitVec.ofNat 64 k).smod 64 = BitVec.ofNat 64 k := by decide +kernel
theorem wb_pw {a b : Nat} (h : a ≤ b) : 2 ^ b = 2 ^ a * 2 ^ (b - a) := by rw [← Nat.pow_add]; congr 1; omega
theorem wb_lt2 {a b : Nat} (h : a < b) : 2 ^ a < 2 ^ b := Nat.pow_lt_pow_right (by decide) h
theorem wb_mod (n : Nat) : lN n = lN (n % 2 ^ 64) := wb_inj (by rw [wb_tb, wb_tb]; apply BitVec.eq_of_toNat_eq; rw [BitVec.toNat_ofNat, BitVec.toNat_ofNat, Nat.mod_mod])
theorem wb_shr {n k : Nat} (hn : n < 2 ^ 64) (hk : k < 64) : ((lN n).toUInt64 >>> ((nI k).toInt64.toUInt64 &&& Int64.toUInt64 63)).toInt64 = lN (n / 2 ^ k) := by
  rw [wb_cu k hk]
  apply wb_inj
  apply BitVec.eq_of_toNat_eq
  show ((lN n).toUInt64 >>> UInt64.ofNat k).toNat = (BitVec.ofNat 64 _).toNat
  have h1 : (UInt64.ofNat k).toNat = k := by
    show (BitVec.ofNat 64 k).toNat = k
    rw [BitVec.toNat_ofNat, Nat.mod_eq_of_lt (by omega)]
  have h2 : (lN n).toUInt64.toNat = n := wb_tn hn
  rw [UInt64.toNat_shiftRight, h1, h2, Nat.mod_eq_of_lt hk, Nat.shiftRight_eq_div_pow, BitVec.toNat_ofNat, Nat.mod_eq_of_lt (Nat.lt_of_le_of_lt (Nat.div_le_self _ _) hn)]
theorem wb_shl (n : Nat) {k : Nat} (hk : k < 64) : lN n <<< ((nI k).toInt64 &&& 63) = lN (n * 2 ^ k) := by
  rw [wb_c k hk]
  apply wb_inj
  rw [Int64.toBitVec_shiftLeft, wb_tb, wb_tb, wb_tb, wb_sm k hk]
  apply BitVec.eq_of_toNat_eq
  rw [BitVec.shiftLeft_eq', BitVec.toNat_shiftLeft, BitVec.toNat_ofNat, BitVec.toNat_ofNat, BitVec.toNat_ofNat, Nat.mod_eq_of_lt (show k < 2 ^ 64 by omega), Nat.shiftLeft_eq, Nat.mul_mod, Nat.mod_mod, ← Nat.mul_mod]
theorem wb_and {a b : Nat} (ha : a < 2 ^ 64) (hb : b < 2 ^ 64) : lN a &&& lN b = lN (a &&& b) := by
  apply wb_inj
  rw [Int64.toBitVec_and, wb_tb, wb_tb, wb_tb]
  apply BitVec.eq_of_toNat_eq
  rw [BitVec.toNat_and, BitVec.toNat_ofNat, BitVec.toNat_ofNat, BitVec.toNat_ofNat, Nat.mod_eq_of_lt ha, Nat.mod_eq_of_lt hb, Nat.mod_eq_of_lt (Nat.and_lt_two_pow _ hb)]
theorem wb_or {a b : Nat} (ha : a < 2 ^ 64) (hb : b < 2 ^ 64) : lN a ||| lN b = lN (a ||| b) := by
  apply wb_inj
  rw [Int64.toBitVec_or, wb_tb, wb_tb, wb_tb]
  apply BitVec.eq_of_toNat_eq
  rw [BitVec.toNat_or, BitVec.toNat_ofNat, BitVec.toNat_ofNat, BitVec.toNat_ofNat, Nat.mod_eq_of_lt ha, Nat.mod_eq_of_lt hb, Nat.mod_eq_of_lt (Nat.or_lt_two_pow ha hb)]
theorem wb_mask {n k : Nat} (hn : n < 2 ^ 64) (hk : k < 64) : lN n &&& lN (2 ^ k - 1) = lN (n % 2 ^ k) := by
  rw [wb_and hn (by have := wb_lt2 hk; omega), Nat.and_two_pow_sub_one_eq_mod]
theorem wb_a1 {n : Nat} (hn : n < 2 ^ 64) : lN n &&& 1 = lN (n % 2) := wb_mask (k := 1) hn (by decide)
theorem wb_bit {n k : Nat} (hn : n < 2 ^ 64) (hk : k < 64) : ((lN n).toUInt64 >>> ((nI k).toInt64.toUInt64 &&& Int64.toUInt64 63)).toInt64 &&& 1 = lN (n / 2 ^ k % 2) := by
  rw [wb_shr hn hk, wb_a1 (Nat.lt_of_le_of_lt (Nat.div_le_self _ _) hn)]
theorem wb_xor {q k : Nat} (hk : k < 63) (h : 2 ^ k ≤ q) (h2 : q < 2 ^ (k + 1)) : lN q ^^^ lN (2 ^ k) = lN (q - 2 ^ k) := by
  obtain ⟨r, rfl⟩ : ∃ r, q = 2 ^ k + r := ⟨q - 2 ^ k, by omega⟩
  have hr : r < 2 ^ k := by rw [Nat.pow_succ] at h2; omega
  have hx : (2 ^ k + r) ^^^ 2 ^ k = r := by
    apply Nat.eq_of_testBit_eq
    intro i
    rw [Nat.testBit_xor, Nat.testBit_two_pow]
    rcases Nat.lt_trichotomy i k with h | h | h
    · rw [Nat.testBit_two_pow_add_gt h]
      simp [show ¬ k = i by omega]
    · subst h
      rw [Nat.testBit_two_pow_add_eq]
      simp
    · have a1 : 2 ^ (k + 1) ≤ 2 ^ i := Nat.pow_le_pow_right (by decide) h
      rw [Nat.testBit_lt_two_pow (show 2 ^ k + r < 2 ^ i by omega), Nat.testBit_lt_two_pow (show r < 2 ^ i by omega)]
      simp [show ¬ k = i by omega]
  have b1 := wb_lt2 (show k + 1 < 64 by omega)
  have b2 := wb_lt2 (show k < 64 by omega)
  apply wb_inj
  rw [Int64.toBitVec_xor, wb_tb, wb_tb, wb_tb]
  apply BitVec.eq_of_toNat_eq
  rw [BitVec.toNat_xor, BitVec.toNat_ofNat, BitVec.toNat_ofNat, BitVec.toNat_ofNat, Nat.mod_eq_of_lt (by omega : 2 ^ k + r < 2 ^ 64), Nat.mod_eq_of_lt b2, hx, Nat.add_sub_cancel_left, Nat.mod_eq_of_lt (by omega)]
/-! ===== lN: masks, 'or' of parts that don't overlap is a sum ===== -/
theorem u_tn {n : Nat} (h : n < 2 ^ 64) : (UInt64.ofNat n).toNat = n := Nat.mod_eq_of_lt h
theorem g_and {a b c : Nat} (ha : a < 2 ^ 64) (hb : b < 2 ^ 64) (hc : a &&& b = c) : lN a &&& lN b = lN c := by
  subst hc
  have h : UInt64.ofNat a &&& UInt64.ofNat b = UInt64.ofNat (a &&& b) := UInt64.toNat_inj.mp (by rw [UInt64.toNat_and, u_tn ha, u_tn hb, u_tn (Nat.and_lt_two_pow a hb)])
  have h2 := congrArg UInt64.toInt64 h
  exact h2
theorem g_and1 {a : Nat} (ha : a < 2 ^ 64) : lN a &&& 1 = lN (a % 2) := g_and (b := 1) ha (by decide) (Nat.and_two_pow_sub_one_eq_mod a 1)
theorem g_mask {a s p : Nat} (hp : 2 ^ s = p) (hs : s < 64) (ha : a < 2 ^ 64) : lN a &&& lN (p - 1) = lN (a % p) := by
  subst hp
  have := Nat.pow_lt_pow_right (show 1 < 2 by decide) hs
  exact g_and ha (by omega) (Nat.and_two_pow_sub_one_eq_mod a s)
theorem g_or {k p a b : Nat} (hp : 2 ^ k = p) (ha : a < p) (h : b * p + a < 2 ^ 64) : lN (b * p) ||| lN a = lN (b * p + a) := by
  subst hp
  have h1 : b * 2 ^ k ||| a = b * 2 ^ k + a := by rw [← Nat.shiftLeft_eq, Nat.shiftLeft_add_eq_or_of_lt ha]
  have h3 : UInt64.ofNat (b * 2 ^ k) ||| UInt64.ofNat a = UInt64.ofNat (b * 2 ^ k + a) := UInt64.toNat_inj.mp (by rw [UInt64.toNat_or, u_tn (by omega), u_tn (by omega), u_tn h, h1])
  have h2 := congrArg UInt64.toInt64 h3
  exact h2
theorem g_or' {k p a b : Nat} (hp : 2 ^ k = p) (ha : a < p) (h : a + b * p < 2 ^ 64) : lN a ||| lN (b * p) = lN (a + b * p) := by
  rw [Int64.or_comm, g_or hp ha (by omega), Nat.add_comm]
theorem g_ushr {a k p : Nat} {y : UInt64} (hy : y = UInt64.ofNat k) (hk : k < 64) (hp : 2 ^ k = p) (ha : a < 2 ^ 64) : ((lN a).toUInt64 >>> y).toInt64 = lN (a / p) := by
  subst hy hp
  have h : UInt64.ofNat a >>> UInt64.ofNat k = UInt64.ofNat (a / 2 ^ k) := UInt64.toNat_inj.mp (by rw [UInt64.toNat_shiftRight, u_tn ha, u_tn (by omega), u_tn (Nat.lt_of_le_of_lt (Nat.div_le_self _ _) ha), Nat.mod_eq_of_lt hk, Nat.shiftRight_eq_div_pow])
  have h2 := congrArg UInt64.toInt64 h
  exact h2
theorem g_shl {a k p : Nat} {y : Int64} (hy : y.toBitVec.smod 64 = BitVec.ofNat 64 k) (hk : k < 64) (hp : 2 ^ k = p) (ha : a < 2 ^ 64) : lN a <<< y = lN (a * p) := by
  subst hp
  apply Int64.toBitVec_inj.mp
  rw [Int64.toBitVec_shiftLeft, hy]
  apply BitVec.eq_of_toNat_eq
  have hb : (lN a).toBitVec.toNat = a := Nat.mod_eq_of_lt ha
  have hk' : (BitVec.ofNat 64 k).toNat = k := Nat.mod_eq_of_lt (by omega)
  have h : ((lN a).toBitVec <<< BitVec.ofNat 64 k).toNat = (a * 2 ^ k) % 2 ^ 64 := by simp only [BitVec.shiftLeft_eq', BitVec.toNat_shiftLeft, hb, hk', Nat.shiftLeft_eq]
  exact h
/-! ===== lN to 2^62 under >> and >>> ===== -/
theorem pf_lI {a : Nat} (h : a < 2 ^ 63) : (lN a).toInt = (a : Int) := lg_ofNat_toInt h
theorem pf_shr {a d : Nat} {D : Int64} (hD : (D.toBitVec.smod 64).toNat = d) (h : a < 2 ^ 62) : lN a >>> D = lN (a / 2 ^ d) := by
  have hd : a / 2 ^ d ≤ a := Nat.div_le_self _ _
  apply Int64.toInt_inj.mp
  have e : (lN a >>> D).toInt = (lN a).toInt >>> d := by
    rw [← hD]
    exact BitVec.toInt_sshiftRight ..
  rw [e, Int.shiftRight_eq_div_pow, pf_lI (by omega), pf_lI (by omega)]
  rfl
theorem pf_ushr {a d : Nat} {D : UInt64} (hD : D.toNat % 64 = d) (h : a < 2 ^ 62) : ((lN a).toUInt64 >>> D).toInt64 = lN (a / 2 ^ d) := by
  have hd : a / 2 ^ d ≤ a := Nat.div_le_self _ _
  have e : (lN a).toUInt64 >>> D = UInt64.ofNat (a / 2 ^ d) := UInt64.toNat_inj.mp (by
    rw [UInt64.toNat_shiftRight, hD, Nat.shiftRight_eq_div_pow, UInt64.toNat_ofNat']
    show (UInt64.ofNat a).toNat / 2 ^ d = _
    rw [UInt64.toNat_ofNat', Nat.mod_eq_of_lt (by omega), Nat.mod_eq_of_lt (by omega)])
  rw [e]
  rfl
theorem pf_andw (x : Int64) : ∃ m, m < 2 ^ 32 ∧ x &&& 4294967295 = lN m := ⟨x.toBitVec.toNat % 2 ^ 32, Nat.mod_lt _ (by decide), Int64.toBitVec_inj.mp (BitVec.eq_of_toNat_eq (by
  show (x.toBitVec &&& 4294967295#64).toNat = (BitVec.ofNat 64 (x.toBitVec.toNat % 2 ^ 32)).toNat
  rw [BitVec.toNat_and, show (4294967295#64).toNat = 2 ^ 32 - 1 from by decide, Nat.and_two_pow_sub_one_eq_mod, BitVec.toNat_ofNat]
  omega))⟩
/-! ===== Int64 as an unsigned number: uN x ===== -/
def uN (x : Int64) : Nat := x.toUInt64.toNat
theorem uN_lt (x : Int64) : uN x < 18446744073709551616 := x.toUInt64.toNat_lt
theorem uN_inj {x y : Int64} (h : uN x = uN y) : x = y := congrArg UInt64.toInt64 (UInt64.toNat_inj.mp h)
theorem uN_add (x y : Int64) : uN (x + y) = (uN x + uN y) % 18446744073709551616 := by
  show (x.toUInt64 + y.toUInt64).toNat = _
  exact UInt64.toNat_add _ _
theorem uN_mul (x y : Int64) : uN (x * y) = (uN x * uN y) % 18446744073709551616 := by
  show (x.toUInt64 * y.toUInt64).toNat = _
  exact UInt64.toNat_mul _ _
theorem uN_shl (x : Int64) : uN (x <<< ((1 : Int32).toInt64 &&& 63)) = (2 * uN x) % 18446744073709551616 := by
  have h : (((1 : Int32).toInt64 &&& 63).toBitVec.smod 64).toNat = 1 := by decide
  show (x.toBitVec <<< (((1 : Int32).toInt64 &&& 63).toBitVec.smod 64).toNat).toNat = _
  rw [h, BitVec.toNat_shiftLeft, Nat.shiftLeft_eq, Nat.mul_comm]
  rfl
theorem uN_shr (x : Int64) (s : UInt64) : uN (x.toUInt64 >>> s).toInt64 = uN x / 2 ^ (s.toNat % 64) := by
  show (x.toUInt64 >>> s).toNat = _
  rw [UInt64.toNat_shiftRight, Nat.shiftRight_eq_div_pow]
  rfl
theorem uN_s32 (x : Int64) : uN (x.toUInt64 >>> ((32 : Int32).toInt64.toUInt64 &&& Int64.toUInt64 63)).toInt64 = uN x / 4294967296 := by
  have h : ((32 : Int32).toInt64.toUInt64 &&& Int64.toUInt64 63).toNat % 64 = 32 := by decide
  rw [uN_shr, h]
theorem uN_s63 (x : Int64) : uN (x.toUInt64 >>> ((63 : Int32).toInt64.toUInt64 &&& Int64.toUInt64 63)).toInt64 = uN x / 9223372036854775808 := by
  have h : ((63 : Int32).toInt64.toUInt64 &&& Int64.toUInt64 63).toNat % 64 = 63 := by decide
  rw [uN_shr, h]
theorem uN_lo (x : Int64) : uN (x &&& 4294967295) = uN x % 4294967296 := by
  show (x.toUInt64 &&& Int64.toUInt64 4294967295).toNat = _
  rw [UInt64.toNat_and]
  exact Nat.and_two_pow_sub_one_eq_mod _ 32
theorem uN_bit (x : Int64) : (x &&& 1) = 0 ↔ uN x % 2 = 0 := by
  have h : uN (x &&& 1) = uN x % 2 := by
    show (x.toUInt64 &&& Int64.toUInt64 1).toNat = _
    rw [UInt64.toNat_and]
    exact Nat.and_two_pow_sub_one_eq_mod _ 1
  rw [← h]
  exact ⟨fun z => by rw [z]; rfl, fun z => uN_inj (z.trans rfl)⟩
theorem uN_or {x y : Int64} (hy : uN y < 2) : uN ((x <<< ((1 : Int32).toInt64 &&& 63)) ||| y) = (2 * uN x) % 18446744073709551616 + uN y := by
  have h1 : uN ((x <<< ((1 : Int32).toInt64 &&& 63)) ||| y) = uN (x <<< ((1 : Int32).toInt64 &&& 63)) ||| uN y := UInt64.toNat_or _ _
  have h2 : (2 * uN x) % 18446744073709551616 = 2 ^ 1 * (uN x % 9223372036854775808) := by omega
  rw [h1, uN_shl, h2]
  exact (Nat.two_pow_add_eq_or_of_lt (i := 1) hy _).symm
theorem nat_xor {a : Nat} (h : a < 18446744073709551616) : a ^^^ 2 ^ 63 = (a + 9223372036854775808) % 18446744073709551616 := by
  have h1 : (a ^^^ 2 ^ 63) % 2 ^ 63 = a % 2 ^ 63 := by rw [Nat.xor_mod_two_pow, Nat.mod_self, Nat.xor_zero]
  have h2 : (a ^^^ 2 ^ 63) / 2 ^ 63 = (a / 2 ^ 63) ^^^ 1 := by rw [Nat.xor_div_two_pow, Nat.div_self (Nat.two_pow_pos 63)]
  have h3 : a / 2 ^ 63 = 0 ∨ a / 2 ^ 63 = 1 := by omega
  generalize a ^^^ 2 ^ 63 = t at h1 h2
  rcases h3 with h3 | h3
  · rw [h3] at h2
    have h2 : t / 2 ^ 63 = 1 := h2
    omega
  · rw [h3] at h2
    have h2 : t / 2 ^ 63 = 0 := h2
    omega
theorem uN_xor (x : Int64) : uN (x ^^^ (-9223372036854775808)) = (uN x + 9223372036854775808) % 18446744073709551616 := by
  rw [← nat_xor (uN_lt x)]
  exact UInt64.toNat_xor _ _
theorem uN_int (x : Int64) : x.toInt = if 2 * uN x < 18446744073709551616 then (uN x : Int) else (uN x : Int) - 18446744073709551616 := BitVec.toInt_eq_toNat_cond _
theorem uN_le (x y : Int64) : (x ^^^ (-9223372036854775808)) ≤ (y ^^^ (-9223372036854775808)) ↔ uN x ≤ uN y := by
  have hx := uN_lt x
  have hy := uN_lt y
  rw [Int64.le_iff_toInt_le, uN_int, uN_int, uN_xor, uN_xor]
  omega
theorem uN_sk (x : Int64) {k : Nat} (hk : k < 64) : uN (x.toUInt64 >>> ((nI k).toInt64.toUInt64 &&& Int64.toUInt64 63)).toInt64 = uN x / 2 ^ k := by
  have h : ((nI k).toInt64.toUInt64 &&& Int64.toUInt64 63).toNat % 64 = k := by
    rw [nI_l (by omega), UInt64.toNat_and]
    have e : (lN k).toUInt64.toNat = k % 2 ^ 64 := rfl
    have e2 : (Int64.toUInt64 63).toNat = 2 ^ 6 - 1 := by decide
    rw [e, e2, Nat.and_two_pow_sub_one_eq_mod]
    omega
  rw [uN_shr, h]
/-! ===== unsigned comparison by xor with the least ===== -/
theorem lN_bv (n : Nat) : (lN n).toBitVec = BitVec.ofNat 64 n := rfl
theorem lN_nat {n : Nat} (h : n < 2 ^ 64) : (lN n).toBitVec.toNat = n := by rw [lN_bv, BitVec.toNat_ofNat]; exact Nat.mod_eq_of_lt h
theorem lN_xor (a b : Nat) : lN a ^^^ lN b = lN (a ^^^ b) := by
  apply Int64.toBitVec_inj.mp; rw [Int64.toBitVec_xor, lN_bv, lN_bv, lN_bv]; apply BitVec.eq_of_getLsbD_eq; intro i hi; simp [BitVec.getLsbD_ofNat, Nat.testBit_xor, hi]
theorem lN_ti {m : Nat} (h : m < 2 ^ 64) : (lN m).toInt = if m < 2 ^ 63 then (m : Int) else (m : Int) - 2 ^ 64 := by
  have c := BitVec.toInt_eq_toNat_cond (lN m).toBitVec
  rw [lN_nat h] at c
  show (lN m).toBitVec.toInt = _
  rw [c]
  split <;> split <;> omega
theorem xor63 {x : Nat} (h : x < 2 ^ 63) : x ^^^ 2 ^ 63 = 2 ^ 63 + x := by
  apply Nat.eq_of_testBit_eq
  intro i
  rw [Nat.testBit_xor, Nat.testBit_two_pow]
  rcases Nat.lt_trichotomy i 63 with z | z | z
  · rw [Nat.testBit_two_pow_add_gt z, decide_eq_false (by omega)]; simp
  · subst z; rw [Nat.testBit_two_pow_add_eq]; simp
  · have hp : 2 ^ 64 ≤ 2 ^ i := Nat.pow_le_pow_right (by decide) z
    rw [Nat.testBit_lt_two_pow (show x < 2 ^ i by omega), Nat.testBit_lt_two_pow (show 2 ^ 63 + x < 2 ^ i by omega), decide_eq_false (by omega)]; rfl
theorem xorS {a : Nat} (h : a < 2 ^ 64) : (lN a ^^^ (-9223372036854775808)).toInt = (a : Int) - 2 ^ 63 := by
  rw [show (-9223372036854775808 : Int64) = lN (2 ^ 63) from by decide +kernel, lN_xor]
  rcases Nat.lt_or_ge a (2 ^ 63) with z | z
  · rw [xor63 z, lN_ti (by omega), if_neg (by omega)]; omega
  · obtain ⟨x, rfl⟩ : ∃ x, a = 2 ^ 63 + x := ⟨a - 2 ^ 63, by omega⟩
    rw [← xor63 (by omega), Nat.xor_assoc, Nat.xor_self, Nat.xor_zero, lN_ti (by omega), if_pos (by omega), xor63 (by omega)]; omega
theorem ultL {a b : Nat} (ha : a < 2 ^ 64) (hb : b < 2 ^ 64) : ((lN b ^^^ (-9223372036854775808)) ≤ (lN a ^^^ (-9223372036854775808))) ↔ b ≤ a := by
  rw [Int64.le_iff_toInt_le, xorS ha, xorS hb]; omega
/-! ===== Int64 masks of n low bits ===== -/
theorem cr_bits (W U M : BitVec 64) : ((W &&& U) &&& (U &&& (M ^^^ BitVec.allOnes 64))) = 0#64 ↔ (W &&& U) &&& M = W &&& U := by
  constructor
  · intro h
    apply BitVec.eq_of_getLsbD_eq
    intro i hi
    have e := congrArg (fun x => BitVec.getLsbD x i) h
    simp only [BitVec.getLsbD_and, BitVec.getLsbD_xor, BitVec.getLsbD_allOnes, BitVec.getLsbD_zero, hi, decide_true] at e ⊢
    revert e
    cases W.getLsbD i <;> cases U.getLsbD i <;> cases M.getLsbD i <;> decide
  · intro h
    apply BitVec.eq_of_getLsbD_eq
    intro i hi
    have e := congrArg (fun x => BitVec.getLsbD x i) h
    simp only [BitVec.getLsbD_and, BitVec.getLsbD_xor, BitVec.getLsbD_allOnes, BitVec.getLsbD_zero, hi, decide_true] at e ⊢
    revert e
    cases W.getLsbD i <;> cases U.getLsbD i <;> cases M.getLsbD i <;> decide
theorem cr_mask (w U m : Int64) (n : Nat) (hm : m.toBitVec.toNat = 2 ^ n - 1) : ((w &&& U) &&& (U &&& (m ^^^ (-1)))) = 0 ↔ (w &&& U).toBitVec.toNat < 2 ^ n := by
  have e0 : (-1 : Int64).toBitVec = BitVec.allOnes 64 := by decide
  have z0 : (0 : Int64).toBitVec = 0#64 := by decide
  rw [← Int64.toBitVec_inj, z0, Int64.toBitVec_and, Int64.toBitVec_and, Int64.toBitVec_and, Int64.toBitVec_xor, e0, cr_bits]
  generalize w.toBitVec &&& U.toBitVec = T
  rw [← BitVec.toNat_inj, BitVec.toNat_and, hm, Nat.and_two_pow_sub_one_eq_mod]
  constructor
  · intro h
    have t := Nat.mod_lt T.toNat (Nat.two_pow_pos n)
    rw [h] at t
    exact t
  · exact Nat.mod_eq_of_lt
theorem cr_shr (t : Int64) (x : UInt64) (n : Nat) (hx : x.toNat % 64 = n) : (t.toUInt64 >>> x).toInt64 = 0 ↔ t.toBitVec.toNat < 2 ^ n := by
  rw [← Int64.toBitVec_inj, ← BitVec.toNat_inj]
  show (t.toUInt64 >>> x).toNat = 0 ↔ t.toUInt64.toNat < 2 ^ n
  rw [UInt64.toNat_shiftRight, hx, Nat.shiftRight_eq_div_pow]
  constructor
  · intro h
    have d : t.toUInt64.toNat / 2 ^ n < 1 := by
      rw [h]
      decide
    have e := (Nat.div_lt_iff_lt_mul (Nat.two_pow_pos n)).mp d
    rw [Nat.one_mul] at e
    exact e
  · exact Nat.div_eq_of_lt
theorem cr_amt (s : Int64) : ∃ n, n < 64 ∧ s &&& 63 = lN n ∧ (s.toUInt64 &&& Int64.toUInt64 63).toNat % 64 = n := by
  have e : (s.toUInt64 &&& Int64.toUInt64 63).toNat = s.toUInt64.toNat % 2 ^ 6 := by
    rw [UInt64.toNat_and, show (Int64.toUInt64 63).toNat = 2 ^ 6 - 1 from by decide, Nat.and_two_pow_sub_one_eq_mod]
  refine ⟨s.toUInt64.toNat % 2 ^ 6, by omega, ?_, by omega⟩
  rw [← Int64.toBitVec_inj, ← BitVec.toNat_inj]
  show (s.toUInt64 &&& Int64.toUInt64 63).toNat = (BitVec.ofNat 64 (s.toUInt64.toNat % 2 ^ 6)).toNat
  rw [e, BitVec.toNat_ofNat]
  omega
end
section
/-! the program as a stack of open blocks; the reference's scans against it -/
def pg_blk (x : Int32) : Bool := x == 9 || (x == 10 || x == 11)
def pg_mark (i : Nat) : List (Nat × Nat) → List (Nat × Nat)
  | [] => []
  | e :: r => (e.1, i) :: r
def pg_stk (ops : Nat → Int32) : Nat → List (Nat × Nat)
  | 0 => []
  | i + 1 =>
    if pg_blk (ops i) = true then (i, 0) :: pg_stk ops i
    else if ops i = 14 then (pg_stk ops i).tail
    else if ops i = 12 then pg_mark i (pg_stk ops i)
    else pg_stk ops i
theorem pg_blk_iff (x : Int32) : pg_blk x = true ↔ x = 9 ∨ x = 10 ∨ x = 11 := by simp [pg_blk]
theorem pg_blk_f {x : Int32} (h9 : x ≠ 9) (h10 : x ≠ 10) (h11 : x ≠ 11) : pg_blk x = false := by
  simp [pg_blk, h9, h10, h11]
section
variable {ops : Nat → Int32} {i : Nat}
theorem pg_stk_b (h : pg_blk (ops i) = true) : pg_stk ops (i + 1) = (i, 0) :: pg_stk ops i := by
  rw [pg_stk, if_pos h]
theorem pg_stk_e (h : ops i = 14) : pg_stk ops (i + 1) = (pg_stk ops i).tail := by
  rw [pg_stk, if_neg (by rw [h]; decide), if_pos h]
theorem pg_stk_c (h : ops i = 12) : pg_stk ops (i + 1) = pg_mark i (pg_stk ops i) := by
  rw [pg_stk, if_neg (by rw [h]; decide), if_neg (by rw [h]; decide), if_pos h]
theorem pg_stk_o (hb : pg_blk (ops i) = false) (h4 : ops i ≠ 14) (h2 : ops i ≠ 12) : pg_stk ops (i + 1) = pg_stk ops i := by
  rw [pg_stk, if_neg (by rw [hb]; decide), if_neg h4, if_neg h2]
theorem pg_cases (ops : Nat → Int32) (i : Nat) : pg_blk (ops i) = true ∨ ops i = 14 ∨ ops i = 12 ∨ (pg_blk (ops i) = false ∧ ops i ≠ 14 ∧ ops i ≠ 12) := by
  by_cases hb : pg_blk (ops i) = true
  · exact Or.inl hb
  · by_cases h4 : ops i = 14
    · exact Or.inr (Or.inl h4)
    · by_cases h2 : ops i = 12
      · exact Or.inr (Or.inr (Or.inl h2))
      · exact Or.inr (Or.inr (Or.inr ⟨by simpa using hb, h4, h2⟩))
end
theorem pg_congr {ops ops' : Nat → Int32} : ∀ {i : Nat}, (∀ k, k < i → ops' k = ops k) → pg_stk ops' i = pg_stk ops i
  | 0, _ => rfl
  | i + 1, h => by
    have ih := pg_congr (i := i) (fun k hk => h k (by omega))
    rw [pg_stk, pg_stk, ih, h i (by omega)]
def pg_str (ops : Nat → Int32) : List (Nat × Nat) → Prop
  | [] => True
  | e :: r => r = pg_stk ops e.1 ∧ pg_blk (ops e.1) = true ∧ pg_str ops r
theorem pg_str_stk (ops : Nat → Int32) : ∀ i, pg_str ops (pg_stk ops i)
  | 0 => trivial
  | i + 1 => by
    have ih := pg_str_stk ops i
    rcases pg_cases ops i with h | h | h | ⟨h, h4, h2⟩
    · rw [pg_stk_b h]; exact ⟨rfl, h, ih⟩
    · rw [pg_stk_e h]
      cases hs : pg_stk ops i with
      | nil => trivial
      | cons e r => rw [hs] at ih; exact ih.2.2
    · rw [pg_stk_c h]
      cases hs : pg_stk ops i with
      | nil => trivial
      | cons e r => rw [hs] at ih; exact ⟨ih.1, ih.2.1, ih.2.2⟩
    · rw [pg_stk_o h h4 h2]; exact ih
theorem pg_bd (ops : Nat → Int32) : ∀ i, ∀ e ∈ pg_stk ops i, e.1 < i
  | 0, e, h => by cases h
  | i + 1, e, h => by
    have ih := pg_bd ops i
    rcases pg_cases ops i with hb | hb | hb | ⟨hb, h4, h2⟩
    · rw [pg_stk_b hb] at h
      rcases List.mem_cons.mp h with rfl | h
      · exact Nat.lt_succ_self i
      · exact Nat.lt_succ_of_lt (ih e h)
    · rw [pg_stk_e hb] at h
      exact Nat.lt_succ_of_lt (ih e (List.mem_of_mem_tail h))
    · rw [pg_stk_c hb] at h
      cases hs : pg_stk ops i with
      | nil => rw [hs] at h; cases h
      | cons e0 r =>
        rw [hs] at h ih
        rcases List.mem_cons.mp h with rfl | h
        · exact Nat.lt_succ_of_lt (ih e0 (List.mem_cons_self ..))
        · exact Nat.lt_succ_of_lt (ih e (List.mem_cons_of_mem _ h))
    · rw [pg_stk_o hb h4 h2] at h
      exact Nat.lt_succ_of_lt (ih e h)
theorem pg_mem' {ops : Nat → Int32} {b c : Nat} : ∀ l : List (Nat × Nat), pg_str ops l → (b, c) ∈ l → ∃ ext, l = ext ++ (b, c) :: pg_stk ops b ∧ pg_blk (ops b) = true
  | [], _, h => by cases h
  | e :: r, hs, h => by
    rcases List.mem_cons.mp h with rfl | h
    · exact ⟨[], by rw [hs.1]; rfl, hs.2.1⟩
    · obtain ⟨ext, he, hb⟩ := pg_mem' r hs.2.2 h
      exact ⟨e :: ext, by rw [he]; rfl, hb⟩
theorem pg_mem {ops : Nat → Int32} {b c i : Nat} (h : (b, c) ∈ pg_stk ops i) : ∃ ext, pg_stk ops i = ext ++ (b, c) :: pg_stk ops b ∧ pg_blk (ops b) = true :=
  pg_mem' _ (pg_str_stk ops i) h
theorem pg_hd {ops : Nat → Int32} {b c i : Nat} {r : List (Nat × Nat)} (h : pg_stk ops i = (b, c) :: r) : r = pg_stk ops b ∧ pg_blk (ops b) = true ∧ b < i := by
  have hs := pg_str_stk ops i
  rw [h] at hs
  exact ⟨hs.1, hs.2.1, pg_bd ops i (b, c) (by rw [h]; exact List.mem_cons_self ..)⟩
theorem pg_nself {ops : Nat → Int32} {b c : Nat} (h : (b, c) ∈ pg_stk ops b) : False :=
  Nat.lt_irrefl b (pg_bd ops b (b, c) h)
def pg_dec : List (Nat × Nat) → Prop
  | [] => True
  | e :: r => (∀ x ∈ r, x.1 < e.1) ∧ pg_dec r
theorem pg_dec_str {ops : Nat → Int32} : ∀ l, pg_str ops l → pg_dec l
  | [], _ => trivial
  | e :: r, h => ⟨fun x hx => pg_bd ops e.1 x (by rw [← h.1]; exact hx), pg_dec_str r h.2.2⟩
theorem pg_len_in {ops : Nat → Int32} {b c i : Nat} (h : (b, c) ∈ pg_stk ops i) : (pg_stk ops b).length + 1 ≤ (pg_stk ops i).length := by
  obtain ⟨ext, he, _⟩ := pg_mem h
  rw [he, List.length_append, List.length_cons]
  omega
theorem pg_mark_len (i : Nat) (l : List (Nat × Nat)) : (pg_mark i l).length = l.length := by
  cases l <;> rfl
def pg_isT (ops : Nat → Int32) (e : Nat × Nat) : Bool := ops e.1 == 11 && e.2 == 0
def pg_isR (ops : Nat → Int32) (e : Nat × Nat) : Bool := ops e.1 == 10
def pg_any (_ : Nat × Nat) : Bool := true
def pg_sel (p : Nat × Nat → Bool) : List (Nat × Nat) → Int32
  | [] => -1
  | e :: r => if p e = true then nI e.1 else pg_sel p r
def pg_ok1 (ops : Nat → Int32) (i : Nat) : Prop :=
  (∃ m : Nat, m ≤ 14 ∧ ops i = nI m) ∧ (ops i = 0 → pg_stk ops i = []) ∧ (pg_blk (ops i) = true → (pg_stk ops i).length < 3) ∧
  (ops i = 12 → ∃ t r, pg_stk ops i = (t, 0) :: r ∧ ops t = 11) ∧
  (ops i = 13 → ∃ e ∈ pg_stk ops i, ops e.1 = 10) ∧
  (ops i = 14 → ∃ t c r, pg_stk ops i = (t, c) :: r ∧ (ops t = 11 → c ≠ 0))
def pg_ok (ops : Nat → Int32) (n : Nat) : Prop := ∀ i, i < n → pg_ok1 ops i
theorem pg_len3 {ops : Nat → Int32} {n : Nat} (h : pg_ok ops n) : ∀ i, i ≤ n → (pg_stk ops i).length ≤ 3
  | 0, _ => Nat.zero_le _
  | i + 1, hi => by
    have ih := pg_len3 h i (by omega)
    rcases pg_cases ops i with hb | hb | hb | ⟨hb, h4, h2⟩
    · have := (h i (by omega)).2.2.1 hb
      rw [pg_stk_b hb, List.length_cons]; omega
    · rw [pg_stk_e hb, List.length_tail]; omega
    · rw [pg_stk_c hb, pg_mark_len]; exact ih
    · rw [pg_stk_o hb h4 h2]; exact ih
/-- what an entry's catch says -/
theorem pg_ct {ops : Nat → Int32} {n : Nat} (h : pg_ok ops n) : ∀ i, i ≤ n → ∀ b c, (b, c) ∈ pg_stk ops i → c ≠ 0 → b < c ∧ c < i ∧ ops c = 12 ∧ ops b = 11 ∧ pg_stk ops c = (b, 0) :: pg_stk ops b
  | 0, _, b, c, hm, _ => by cases hm
  | i + 1, hi, b, c, hm, hc => by
    have ih := pg_ct h i (by omega) b c
    have up : (b, c) ∈ pg_stk ops i → b < c ∧ c < i + 1 ∧ ops c = 12 ∧ ops b = 11 ∧ pg_stk ops c = (b, 0) :: pg_stk ops b := fun hm => by
      obtain ⟨h1, h2, h3⟩ := ih hm hc
      exact ⟨h1, by omega, h3⟩
    rcases pg_cases ops i with hb | hb | hb | ⟨hb, h4, h2⟩
    · rw [pg_stk_b hb] at hm
      rcases List.mem_cons.mp hm with e | hm
      · cases e; exact absurd rfl hc
      · exact up hm
    · rw [pg_stk_e hb] at hm
      exact up (List.mem_of_mem_tail hm)
    · obtain ⟨t, r, hs, ht⟩ := (h i (by omega)).2.2.2.1 hb
      rw [pg_stk_c hb, hs] at hm
      rcases List.mem_cons.mp hm with e | hm
      · cases e
        have := pg_hd hs
        exact ⟨this.2.2, by omega, hb, ht, by rw [hs, this.1]⟩
      · exact up (by rw [hs]; exact List.mem_cons_of_mem _ hm)
    · rw [pg_stk_o hb h4 h2] at hm
      exact up hm
theorem pg_back {ops : Nat → Int32} {b c k : Nat} (h : (b, c) ∈ pg_stk ops (k + 1)) (hk : b < k) : (b, c) ∈ pg_stk ops k ∨ (c = k ∧ ∃ c0 r, pg_stk ops k = (b, c0) :: r) := by
  rcases pg_cases ops k with hb | hb | hb | ⟨hb, h4, h2⟩
  · rw [pg_stk_b hb] at h
    rcases List.mem_cons.mp h with e | h
    · cases e; omega
    · exact Or.inl h
  · rw [pg_stk_e hb] at h
    exact Or.inl (List.mem_of_mem_tail h)
  · rw [pg_stk_c hb] at h
    cases hs : pg_stk ops k with
    | nil => rw [hs] at h; cases h
    | cons e0 r =>
      rw [hs] at h
      rcases List.mem_cons.mp h with e | h
      · cases e; exact Or.inr ⟨rfl, e0.2, r, rfl⟩
      · exact Or.inl (List.mem_cons_of_mem _ h)
  · rw [pg_stk_o hb h4 h2] at h
    exact Or.inl h
theorem pg_pers {ops : Nat → Int32} {b k : Nat} (hk : b < k) : ∀ d c, (b, c) ∈ pg_stk ops (k + d) → ∃ c', (b, c') ∈ pg_stk ops k
  | 0, c, h => ⟨c, h⟩
  | d + 1, c, h => by
    rcases pg_back (k := k + d) h (by omega) with h | ⟨_, c0, r, hs⟩
    · exact pg_pers hk d c h
    · exact pg_pers hk d c0 (by rw [hs]; exact List.mem_cons_self ..)
theorem pg_pers0 {ops : Nat → Int32} {b k : Nat} (hk : b < k) : ∀ d, (b, 0) ∈ pg_stk ops (k + d) → (b, 0) ∈ pg_stk ops k
  | 0, h => h
  | d + 1, h => by
    rcases pg_back (k := k + d) h (by omega) with h | ⟨h0, c0, r, hs⟩
    · exact pg_pers0 hk d h
    · omega
theorem pg_perI {ops : Nat → Int32} {b k s c : Nat} (h : (b, c) ∈ pg_stk ops s) (hk : b < k) (hs : k ≤ s) : ∃ c', (b, c') ∈ pg_stk ops k :=
  pg_pers hk (s - k) c (by rw [show k + (s - k) = s by omega]; exact h)
theorem pg_perI0 {ops : Nat → Int32} {b k s : Nat} (h : (b, 0) ∈ pg_stk ops s) (hk : b < k) (hs : k ≤ s) : (b, 0) ∈ pg_stk ops k :=
  pg_pers0 hk (s - k) (by rw [show k + (s - k) = s by omega]; exact h)
theorem pg_clos {ops : Nat → Int32} {b : Nat} (hb : pg_blk (ops b) = true) : ∀ s, b < s → (∀ c, (b, c) ∉ pg_stk ops s) → ∃ e c, b < e ∧ e < s ∧ ops e = 14 ∧ pg_stk ops e = (b, c) :: pg_stk ops b
  | 0, h, _ => by omega
  | s + 1, h, hn => by
    by_cases hbs : b = s
    · subst hbs
      exact absurd (by rw [pg_stk_b hb]; exact List.mem_cons_self ..) (hn 0)
    · by_cases hx : ∃ c, (b, c) ∈ pg_stk ops s
      · obtain ⟨c, hc⟩ := hx
        rcases pg_cases ops s with h1 | h1 | h1 | ⟨h1, h4, h2⟩
        · exact absurd (by rw [pg_stk_b h1]; exact List.mem_cons_of_mem _ hc) (hn c)
        · cases hs : pg_stk ops s with
          | nil => rw [hs] at hc; cases hc
          | cons e0 r =>
            rw [hs] at hc
            rcases List.mem_cons.mp hc with e | hc
            · subst e
              exact ⟨s, c, by omega, by omega, h1, by rw [hs, (pg_hd hs).1]⟩
            · exact absurd (by rw [pg_stk_e h1, hs]; exact hc) (hn c)
        · cases hs : pg_stk ops s with
          | nil => rw [hs] at hc; cases hc
          | cons e0 r =>
            rw [hs] at hc
            rcases List.mem_cons.mp hc with e | hc
            · subst e
              exact absurd (by rw [pg_stk_c h1, hs]; exact List.mem_cons_self ..) (hn s)
            · exact absurd (by rw [pg_stk_c h1, hs]; exact List.mem_cons_of_mem _ hc) (hn c)
        · exact absurd (by rw [pg_stk_o h1 h4 h2]; exact hc) (hn c)
      · obtain ⟨e, c, h1, h2, h3, h4⟩ := pg_clos hb s (by omega) (fun c hc => hx ⟨c, hc⟩)
        exact ⟨e, c, h1, by omega, h3, h4⟩
theorem pg_ns14 {ops : Nat → Int32} {b c s k : Nat} (h : (b, c) ∈ pg_stk ops s) (hb : b < k) (hk : k < s) (h14 : ops k = 14) : (pg_stk ops b).length + 1 < (pg_stk ops k).length := by
  obtain ⟨c', hc⟩ := pg_perI (k := k + 1) h (by omega) (by omega)
  have h1 := pg_len_in hc
  rw [pg_stk_e h14] at h1 hc
  cases hs : pg_stk ops k with
  | nil => rw [hs] at hc; cases hc
  | cons e r => rw [hs] at h1; simp only [List.tail_cons, List.length_cons] at h1 ⊢; omega
theorem pg_ns12 {ops : Nat → Int32} {b s k : Nat} (hok : pg_ok1 ops k) (h : (b, 0) ∈ pg_stk ops s) (hb : b < k) (hk : k < s) (h12 : ops k = 12) : (pg_stk ops b).length + 1 < (pg_stk ops k).length := by
  have hc := pg_perI0 (k := k + 1) h (by omega) (by omega)
  obtain ⟨t, r, hs, _⟩ := hok.2.2.2.1 h12
  rw [pg_stk_c h12, hs] at hc
  rcases List.mem_cons.mp hc with e | hc
  · cases e; omega
  · have hr := (pg_hd hs).1
    rw [hr] at hc
    have := pg_len_in hc
    rw [hs, hr, List.length_cons]; omega
end
section
/-! the reference's two scans -/
def pg_cl (ops : Nat → Int32) (n : Nat) (w : Int32) : Nat → Nat → Int32 → Nat
  | 0, _, _ => n
  | d + 1, k, l => if l = 0 ∧ ops k = w then k else pg_cl ops n w d (k + 1) (if pg_blk (ops k) = true then l + 1 else if ops k = 14 then l + (-1) else l + 0)
/-- the scan for w from k0 on -/
def pg_close (ops : Nat → Int32) (n : Nat) (w : Int32) (k0 : Nat) : Nat := pg_cl ops n w (n - k0) k0 0
theorem pg_cl_ge {ops : Nat → Int32} {n : Nat} {w : Int32} : ∀ d k l, k + d = n → k ≤ pg_cl ops n w d k l
  | 0, k, l, h => by rw [pg_cl]; omega
  | d + 1, k, l, h => by
    rw [pg_cl]
    split
    · exact Nat.le_refl k
    · exact Nat.le_trans (by omega) (pg_cl_ge d (k + 1) _ (by omega))
theorem pg_cl_le {ops : Nat → Int32} {n : Nat} {w : Int32} : ∀ d k l, k + d ≤ n → pg_cl ops n w d k l ≤ n
  | 0, k, l, h => by rw [pg_cl]; omega
  | d + 1, k, l, h => by
    rw [pg_cl]
    split
    · omega
    · exact pg_cl_le d (k + 1) _ (by omega)
theorem pg_close_le {ops : Nat → Int32} {n : Nat} {w : Int32} (k0 : Nat) : pg_close ops n w k0 ≤ n := by
  by_cases h : k0 ≤ n
  · exact pg_cl_le _ _ _ (by omega)
  · rw [pg_close, show n - k0 = 0 by omega, pg_cl]; omega
theorem pg_len_le (ops : Nat → Int32) : ∀ i, (pg_stk ops i).length ≤ i
  | 0 => Nat.zero_le _
  | i + 1 => by
    have ih := pg_len_le ops i
    rcases pg_cases ops i with hb | hb | hb | ⟨hb, h4, h2⟩
    · rw [pg_stk_b hb, List.length_cons]; omega
    · rw [pg_stk_e hb, List.length_tail]; omega
    · rw [pg_stk_c hb, pg_mark_len]; omega
    · rw [pg_stk_o hb h4 h2]; omega
theorem pg_lev {ops : Nat → Int32} {k D : Nat} (hD : D ≤ (pg_stk ops k).length) (h14 : ops k = 14 → D < (pg_stk ops k).length) :
    (if pg_blk (ops k) = true then nI ((pg_stk ops k).length - D) + 1 else if ops k = 14 then nI ((pg_stk ops k).length - D) + (-1) else nI ((pg_stk ops k).length - D) + 0) = nI ((pg_stk ops (k + 1)).length - D) ∧ D ≤ (pg_stk ops (k + 1)).length := by
  rcases pg_cases ops k with hb | hb | hb | ⟨hb, h4, h2⟩
  · rw [if_pos hb, pg_stk_b hb, List.length_cons, nI_1]
    exact ⟨congrArg nI (by omega), by omega⟩
  · have := h14 hb
    rw [if_neg (by rw [hb]; decide), if_pos hb, pg_stk_e hb, List.length_tail]
    obtain ⟨m, hm⟩ : ∃ m, (pg_stk ops k).length - D = m + 1 := ⟨(pg_stk ops k).length - D - 1, by omega⟩
    rw [hm, pk_m1]
    exact ⟨congrArg nI (by omega), by omega⟩
  · rw [if_neg (by rw [hb]; decide), if_neg (by rw [hb]; decide), pg_stk_c hb, pg_mark_len, Int32.add_zero]
    exact ⟨rfl, hD⟩
  · rw [if_neg (by rw [hb]; decide), if_neg h4, pg_stk_o hb h4 h2, Int32.add_zero]
    exact ⟨rfl, hD⟩
theorem pg_cl_walk {ops : Nat → Int32} {n D : Nat} {w : Int32} (hn : n < 2 ^ 31) : ∀ m k, k + m ≤ n → (∀ j, k ≤ j → j < k + m → (ops j = 14 → D < (pg_stk ops j).length) ∧ (ops j = w → D < (pg_stk ops j).length)) → D ≤ (pg_stk ops k).length →
    pg_cl ops n w (n - k) k (nI ((pg_stk ops k).length - D)) = pg_cl ops n w (n - (k + m)) (k + m) (nI ((pg_stk ops (k + m)).length - D)) ∧ D ≤ (pg_stk ops (k + m)).length
  | 0, k, _, _, hD => ⟨rfl, hD⟩
  | m + 1, k, hk, hj, hD => by
    have h0 := hj k (Nat.le_refl k) (by omega)
    have hl := pg_lev hD h0.1
    have ih := pg_cl_walk (w := w) hn m (k + 1) (by omega) (fun j h1 h2 => hj j (by omega) (by omega)) hl.2
    rw [show k + 1 + m = k + (m + 1) by omega] at ih
    refine ⟨Eq.trans ?_ ih.1, ih.2⟩
    have hlen := pg_len_le ops k
    rw [show n - k = (n - (k + 1)) + 1 by omega, pg_cl, if_neg (fun z => absurd z.1 (nI_ne0 (by have := h0.2 z.2; omega) (by omega))), hl.1]
theorem pg_close_ge {ops : Nat → Int32} {n D : Nat} {w : Int32} {k0 s : Nat} (hn : n < 2 ^ 31) (h0 : (pg_stk ops k0).length = D) (hk : k0 ≤ s) (hs : s ≤ n) (hj : ∀ j, k0 ≤ j → j < s → (ops j = 14 → D < (pg_stk ops j).length) ∧ (ops j = w → D < (pg_stk ops j).length)) : s ≤ pg_close ops n w k0 := by
  have h := pg_cl_walk (D := D) (w := w) hn (s - k0) k0 (by omega) (fun j h1 h2 => hj j h1 (by omega)) (by omega)
  rw [show k0 + (s - k0) = s by omega, h0, Nat.sub_self, nI_0] at h
  rw [pg_close, h.1]
  exact pg_cl_ge _ _ _ (by omega)
theorem pg_close_at {ops : Nat → Int32} {n D : Nat} {w : Int32} {k0 e : Nat} (hn : n < 2 ^ 31) (h0 : (pg_stk ops k0).length = D) (hk : k0 ≤ e) (he : e < n) (hj : ∀ j, k0 ≤ j → j < e → (ops j = 14 → D < (pg_stk ops j).length) ∧ (ops j = w → D < (pg_stk ops j).length)) (hw : ops e = w) (hl : (pg_stk ops e).length = D) : pg_close ops n w k0 = e := by
  have h := pg_cl_walk (D := D) (w := w) hn (e - k0) k0 (by omega) (fun j h1 h2 => hj j h1 (by omega)) (by omega)
  rw [show k0 + (e - k0) = e by omega, h0, hl, Nat.sub_self, nI_0] at h
  rw [pg_close, h.1, show n - e = (n - (e + 1)) + 1 by omega, pg_cl, if_pos ⟨rfl, hw⟩]
section
variable {ops : Nat → Int32} {n : Nat}
theorem pg_len_b {b : Nat} (hb : pg_blk (ops b) = true) : (pg_stk ops (b + 1)).length = (pg_stk ops b).length + 1 := by
  rw [pg_stk_b hb, List.length_cons]
/-- a block that is open at s closes at s or later -/
theorem pg_E_ge (hn : n < 2 ^ 31) {b c s : Nat} (h : (b, c) ∈ pg_stk ops s) (hs : s ≤ n) : s ≤ pg_close ops n 14 (b + 1) := by
  obtain ⟨_, _, hb⟩ := pg_mem h
  have hbs := pg_bd ops s _ h
  exact pg_close_ge hn (pg_len_b hb) hbs hs (fun j h1 h2 => ⟨fun z => pg_ns14 h h1 h2 z, fun z => pg_ns14 h h1 h2 z⟩)
theorem pg_E_at (hn : n < 2 ^ 31) {b c e : Nat} {r : List (Nat × Nat)} (he : e < n) (h14 : ops e = 14) (h : pg_stk ops e = (b, c) :: r) : pg_close ops n 14 (b + 1) = e := by
  have hh := pg_hd h
  have hm : (b, c) ∈ pg_stk ops e := by rw [h]; exact List.mem_cons_self ..
  exact pg_close_at hn (pg_len_b hh.2.1) hh.2.2 he (fun j h1 h2 => ⟨fun z => pg_ns14 hm h1 h2 z, fun z => pg_ns14 hm h1 h2 z⟩) h14 (by rw [h, hh.1, List.length_cons])
theorem pg_E_c (hok : pg_ok ops n) (hn : n < 2 ^ 31) {t c e : Nat} {r : List (Nat × Nat)} (he : e < n) (h14 : ops e = 14) (h : pg_stk ops e = (t, c) :: r) (hc : c ≠ 0) : pg_close ops n 14 (c + 1) = e := by
  have hh := pg_hd h
  have hm : (t, c) ∈ pg_stk ops e := by rw [h]; exact List.mem_cons_self ..
  obtain ⟨h1, h2, h3, h4, h5⟩ := pg_ct hok e (by omega) t c hm hc
  have h6 : pg_stk ops (c + 1) = (t, c) :: pg_stk ops t := by rw [pg_stk_c h3, h5]; rfl
  exact pg_close_at (D := (pg_stk ops t).length + 1) hn (by rw [h6]; rfl) (by omega) he (fun j g1 g2 => ⟨fun z => pg_ns14 hm (by omega) g2 z, fun z => pg_ns14 hm (by omega) g2 z⟩) h14 (by rw [h, hh.1]; rfl)
theorem pg_C_at (hok : pg_ok ops n) (hn : n < 2 ^ 31) {t c : Nat} {r : List (Nat × Nat)} (hc : c < n) (h12 : ops c = 12) (h : pg_stk ops c = (t, 0) :: r) : pg_close ops n 12 (t + 1) = c := by
  have hh := pg_hd h
  have hm : (t, 0) ∈ pg_stk ops c := by rw [h]; exact List.mem_cons_self ..
  exact pg_close_at hn (pg_len_b hh.2.1) hh.2.2 hc (fun j h1 h2 => ⟨fun z => pg_ns14 hm h1 h2 z, fun z => pg_ns12 (hok j (by omega)) hm h1 h2 z⟩) h12 (by rw [h, hh.1, List.length_cons])
theorem pg_C_ge (hok : pg_ok ops n) (hn : n < 2 ^ 31) {t s : Nat} (h : (t, 0) ∈ pg_stk ops s) (hs : s ≤ n) : s ≤ pg_close ops n 12 (t + 1) := by
  obtain ⟨_, _, hb⟩ := pg_mem h
  have hbs := pg_bd ops s _ h
  exact pg_close_ge hn (pg_len_b hb) hbs hs (fun j h1 h2 => ⟨fun z => pg_ns14 h h1 h2 z, fun z => pg_ns12 (hok j (by omega)) h h1 h2 z⟩)
end
def pg_tst (ops : Nat → Int32) (n s : Nat) (w : Int32) (i : Nat) : Prop :=
  pg_blk (ops i) = true ∧ s ≤ pg_close ops n (if w = 11 then 12 else 14) (i + 1) ∧ (w < 0 ∨ ops i = w)
theorem pg_tstD (ops : Nat → Int32) (n s : Nat) (w : Int32) (i : Nat) : pg_tst ops n s w i ∨ ¬ pg_tst ops n s w i := Classical.em _
noncomputable def pg_op (ops : Nat → Int32) (n s : Nat) (w : Int32) : Nat → Int32
  | 0 => -1
  | i + 1 => @ite Int32 (pg_tst ops n s w i) (Classical.propDecidable _) (nI i) (pg_op ops n s w i)
theorem pg_op_t {ops : Nat → Int32} {n s i : Nat} {w : Int32} (h : pg_tst ops n s w i) : pg_op ops n s w (i + 1) = nI i := by rw [pg_op, if_pos h]
theorem pg_op_f {ops : Nat → Int32} {n s i : Nat} {w : Int32} (h : ¬ pg_tst ops n s w i) : pg_op ops n s w (i + 1) = pg_op ops n s w i := by rw [pg_op, if_neg h]
theorem pg_op_sel {ops : Nat → Int32} {n s : Nat} {w : Int32} (p : Nat × Nat → Bool) : ∀ m l, pg_dec l → (∀ e ∈ l, e.1 < m) → (∀ i, i < m → (pg_tst ops n s w i ↔ ∃ c, (i, c) ∈ l ∧ p (i, c) = true)) → pg_op ops n s w m = pg_sel p l
  | 0, [], _, _, _ => rfl
  | 0, e :: r, _, h, _ => absurd (h e (List.mem_cons_self ..)) (Nat.not_lt_zero _)
  | m + 1, l, hd, hb, ht => by
    have hm := ht m (Nat.lt_succ_self m)
    cases l with
    | nil =>
      rw [pg_op_f (fun z => by obtain ⟨c, hc, _⟩ := hm.mp z; cases hc)]
      exact pg_op_sel p m [] trivial (fun e he => by cases he) (fun i hi => ht i (by omega))
    | cons e r =>
      by_cases hem : e.1 = m
      · obtain ⟨e1, e2⟩ := e
        dsimp only at hem
        subst hem
        by_cases hp : p (e1, e2) = true
        · rw [pg_op_t (hm.mpr ⟨e2, List.mem_cons_self .., hp⟩), pg_sel, if_pos hp]
        · rw [pg_op_f, pg_sel, if_neg hp]
          · refine pg_op_sel p e1 r hd.2 hd.1 (fun i hi => (ht i (by omega)).trans ⟨?_, ?_⟩)
            · rintro ⟨c, hc, hpc⟩
              rcases List.mem_cons.mp hc with z | hc
              · cases z; omega
              · exact ⟨c, hc, hpc⟩
            · rintro ⟨c, hc, hpc⟩
              exact ⟨c, List.mem_cons_of_mem _ hc, hpc⟩
          · intro z
            obtain ⟨c, hc, hpc⟩ := hm.mp z
            rcases List.mem_cons.mp hc with z | hc
            · cases z; exact hp hpc
            · have := hd.1 _ hc
              dsimp only at this; omega
      · have hlt : ∀ x ∈ e :: r, x.1 < m := fun x hx => by
          rcases List.mem_cons.mp hx with rfl | hx
          · have := hb x (List.mem_cons_self ..); omega
          · have := hd.1 x hx
            have := hb e (List.mem_cons_self ..); omega
        rw [pg_op_f]
        · exact pg_op_sel p m (e :: r) hd hlt (fun i hi => ht i (by omega))
        · intro z
          obtain ⟨c, hc, _⟩ := hm.mp z
          have := hlt _ hc
          dsimp only at this; omega
noncomputable def pg_open (ops : Nat → Int32) (n s : Nat) (w : Int32) : Int32 := pg_op ops n s w s
section
variable {ops : Nat → Int32} {n s : Nat}
theorem pg_E_iff (hn : n < 2 ^ 31) (hs : s ≤ n) {i : Nat} (hi : i < s) (hb : pg_blk (ops i) = true) : s ≤ pg_close ops n 14 (i + 1) ↔ ∃ c, (i, c) ∈ pg_stk ops s := by
  constructor
  · intro h
    by_cases hx : ∃ c, (i, c) ∈ pg_stk ops s
    · exact hx
    · obtain ⟨e, c, h1, h2, h3, h4⟩ := pg_clos hb s hi (fun c hc => hx ⟨c, hc⟩)
      rw [pg_E_at hn (by omega) h3 h4] at h; omega
  · rintro ⟨c, hc⟩
    exact pg_E_ge hn hc hs
theorem pg_C_iff (hok : pg_ok ops n) (hn : n < 2 ^ 31) (hs : s ≤ n) {t : Nat} (hi : t < s) (hb : ops t = 11) : s ≤ pg_close ops n 12 (t + 1) ↔ (t, 0) ∈ pg_stk ops s := by
  constructor
  · intro h
    by_cases hx : ∃ c, (t, c) ∈ pg_stk ops s
    · obtain ⟨c, hc⟩ := hx
      by_cases h0 : c = 0
      · subst h0; exact hc
      · obtain ⟨h1, h2, h3, _, h5⟩ := pg_ct hok s hs t c hc h0
        rw [pg_C_at hok hn (by omega) h3 h5] at h; omega
    · obtain ⟨e, c, h1, h2, h3, h4⟩ := pg_clos (by rw [hb]; rfl) s hi (fun c hc => hx ⟨c, hc⟩)
      obtain ⟨t', c', r', hs', hc'⟩ := (hok e (by omega)).2.2.2.2.2 h3
      rw [h4] at hs'
      injection hs' with ha hbb
      injection ha with ha1 ha2
      subst ha1 ha2
      have hm : (t, c) ∈ pg_stk ops e := by rw [h4]; exact List.mem_cons_self ..
      obtain ⟨g1, g2, g3, _, g5⟩ := pg_ct hok e (by omega) t c hm (hc' hb)
      rw [pg_C_at hok hn (by omega) g3 g5] at h; omega
  · intro h
    exact pg_C_ge hok hn h hs
theorem pg_open_any (hn : n < 2 ^ 31) (hs : s ≤ n) : pg_open ops n s (-1) = pg_sel pg_any (pg_stk ops s) := by
  refine pg_op_sel pg_any s _ (pg_dec_str _ (pg_str_stk ops s)) (pg_bd ops s) (fun i hi => ⟨?_, ?_⟩)
  · rintro ⟨h1, h2, _⟩
    obtain ⟨c, hc⟩ := (pg_E_iff hn hs hi h1).mp h2
    exact ⟨c, hc, rfl⟩
  · rintro ⟨c, hc, _⟩
    obtain ⟨_, _, hb⟩ := pg_mem hc
    exact ⟨hb, (pg_E_iff hn hs hi hb).mpr ⟨c, hc⟩, Or.inl (by decide)⟩
theorem pg_open_rep (hn : n < 2 ^ 31) (hs : s ≤ n) : pg_open ops n s 10 = pg_sel (pg_isR ops) (pg_stk ops s) := by
  refine pg_op_sel (pg_isR ops) s _ (pg_dec_str _ (pg_str_stk ops s)) (pg_bd ops s) (fun i hi => ⟨?_, ?_⟩)
  · rintro ⟨h1, h2, h3⟩
    obtain ⟨c, hc⟩ := (pg_E_iff hn hs hi h1).mp h2
    rcases h3 with h3 | h3
    · exact absurd h3 (by decide)
    · exact ⟨c, hc, by rw [pg_isR, h3]; rfl⟩
  · rintro ⟨c, hc, hp⟩
    obtain ⟨_, _, hb⟩ := pg_mem hc
    exact ⟨hb, (pg_E_iff hn hs hi hb).mpr ⟨c, hc⟩, Or.inr (by simpa [pg_isR] using hp)⟩
theorem pg_open_try (hok : pg_ok ops n) (hn : n < 2 ^ 31) (hs : s ≤ n) : pg_open ops n s 11 = pg_sel (pg_isT ops) (pg_stk ops s) := by
  refine pg_op_sel (pg_isT ops) s _ (pg_dec_str _ (pg_str_stk ops s)) (pg_bd ops s) (fun i hi => ⟨?_, ?_⟩)
  · rintro ⟨h1, h2, h3⟩
    rcases h3 with h3 | h3
    · exact absurd h3 (by decide)
    · exact ⟨0, (pg_C_iff hok hn hs hi h3).mp h2, by rw [pg_isT, h3]; rfl⟩
  · rintro ⟨c, hc, hp⟩
    obtain ⟨_, _, hb⟩ := pg_mem hc
    have hp' : ops i = 11 ∧ c = 0 := by simpa [pg_isT] using hp
    obtain ⟨h3, rfl⟩ := hp'
    exact ⟨hb, (pg_C_iff hok hn hs hi h3).mpr hc, Or.inr h3⟩
end
theorem pg_sel_none {p : Nat × Nat → Bool} : ∀ {l : List (Nat × Nat)}, (∀ e ∈ l, ¬ p e = true) → pg_sel p l = -1
  | [], _ => rfl
  | e :: r, h => by
    rw [pg_sel, if_neg (h e (List.mem_cons_self ..))]
    exact pg_sel_none (fun x hx => h x (List.mem_cons_of_mem _ hx))
/-- what the selection finds: none, or the first -/
theorem pg_sel_cases (p : Nat × Nat → Bool) : ∀ l : List (Nat × Nat), ((∀ e ∈ l, ¬ p e = true) ∧ pg_sel p l = -1) ∨ ∃ b c ext r, l = ext ++ (b, c) :: r ∧ p (b, c) = true ∧ pg_sel p l = nI b ∧ ∀ e ∈ ext, ¬ p e = true
  | [] => Or.inl ⟨fun e he => (by cases he), rfl⟩
  | e :: r => by
    by_cases hp : p e = true
    · refine Or.inr ⟨e.1, e.2, [], r, rfl, hp, by rw [pg_sel, if_pos hp], fun x hx => by cases hx⟩
    · rcases pg_sel_cases p r with ⟨h1, h2⟩ | ⟨b, c, ext, r', h1, h2, h3, h4⟩
      · refine Or.inl ⟨fun x hx => ?_, by rw [pg_sel, if_neg hp, h2]⟩
        rcases List.mem_cons.mp hx with rfl | hx
        · exact hp
        · exact h1 x hx
      · refine Or.inr ⟨b, c, e :: ext, r', by rw [h1]; rfl, h2, by rw [pg_sel, if_neg hp, h3], fun x hx => ?_⟩
        rcases List.mem_cons.mp hx with rfl | hx
        · exact hp
        · exact h4 x hx
end
section
/-! the two states in groups -/
abbrev ty_kk : Type := Int32 × Int32 × Int32 × Int32 × Int32 × Int32 × (Nat → Int32) × (Nat → Int32)
abbrev ty_kx : Type := Int32 × (Nat → Int32) × (Nat → Int32) × (Nat → Int32) × (Nat → Int32) × (Nat → Int32) × (Nat → Int32)
abbrev ty_ky : Type := (Nat → Int32)
abbrev ty_ss : Type := Int32 × Int32 × (Nat → Int32) × (Nat → Int32) × (Nat → Int32) × (Nat → Int32) × (Nat → Int32) × (Nat → Int32) × (Nat → Int32)
abbrev ty_gx : Type := (Nat → Int32) × (Nat → Int32) × (Nat → Int32) × (Nat → Int32) × (Nat → Int32) × (Nat → Int32)
abbrev ty_gy : Type := (Nat → Int32) × (Nat → Int32) × (Nat → Int32) × (Nat → Int32)
abbrev ty_px : Type := Int32 × Int32 × Int32 × Int32 × (Nat → Int32) × (Nat → Int32) × (Nat → Int32) × (Nat → Int32) × (Nat → Int32) × (Nat → Int32) × (Nat → Int32) × (Nat → Int32) × (Nat → Int32) × (Nat → Int32)
abbrev ty_py : Type := Int32 × (Nat → Int32) × (Nat → Int32) × (Nat → Int32) × (Nat → Int32) × (Nat → Int32) × (Nat → Int32) × (Nat → Int32) × (Nat → Int32)
def mk_X (kk : ty_kk) (kx : ty_kx) (ss : ty_ss) (gx : ty_gx) (px : ty_px) : SX := (0, 1, 2, 3, 4, kk.1, kk.2.1, kk.2.2.1, kk.2.2.2.1, kk.2.2.2.2.1, kx.1, kk.2.2.2.2.2.1, ss.1, px.1, px.2.1, px.2.2.1, px.2.2.2.1, ss.2.1, kk.2.2.2.2.2.2.1, kx.2.1, kk.2.2.2.2.2.2.2, kx.2.2.1, kx.2.2.2.1, kx.2.2.2.2.1, kx.2.2.2.2.2.1, kx.2.2.2.2.2.2, ss.2.2.1, ss.2.2.2.1, px.2.2.2.2.1, px.2.2.2.2.2.1, px.2.2.2.2.2.2.1, ss.2.2.2.2.1, ss.2.2.2.2.2.1, ss.2.2.2.2.2.2.1, gx.1, gx.2.1, gx.2.2.1, gx.2.2.2.1, gx.2.2.2.2.1, ss.2.2.2.2.2.2.2.1, gx.2.2.2.2.2, px.2.2.2.2.2.2.2.1, px.2.2.2.2.2.2.2.2.1, px.2.2.2.2.2.2.2.2.2.1, px.2.2.2.2.2.2.2.2.2.2.1, px.2.2.2.2.2.2.2.2.2.2.2.1, px.2.2.2.2.2.2.2.2.2.2.2.2.1, px.2.2.2.2.2.2.2.2.2.2.2.2.2, ss.2.2.2.2.2.2.2.2)
def mk_Y (kk : ty_kk) (ky : ty_ky) (ss : ty_ss) (gy : ty_gy) (py : ty_py) : SY := (kk.1, kk.2.1, kk.2.2.1, kk.2.2.2.1, kk.2.2.2.2.1, ss.1, ss.2.1, py.1, kk.2.2.2.2.2.1, kk.2.2.2.2.2.2.1, ky, kk.2.2.2.2.2.2.2, ss.2.2.2.2.2.2.2.2, gy.1, gy.2.1, gy.2.2.1, gy.2.2.2, ss.2.2.1, ss.2.2.2.1, ss.2.2.2.2.2.1, ss.2.2.2.2.2.2.1, ss.2.2.2.2.1, ss.2.2.2.2.2.2.2.1, py.2.1, py.2.2.1, py.2.2.2.1, py.2.2.2.2.1, py.2.2.2.2.2.1, py.2.2.2.2.2.2.1, py.2.2.2.2.2.2.2.1, py.2.2.2.2.2.2.2.2)
end
section
/-! the abstract pool, and the component's pool against it -/
abbrev qe_T : Type := Int32 × Int32 × Int32 × Int32 × Int32 × Int32 × Int32
def qe_at (p : Int32) (e : qe_T) : Bool := e.1 == p
def qe_mv (s v : Int32) (e : qe_T) : qe_T := (-1, e.2.1, e.2.2.1, e.2.2.2.1, e.2.2.2.2.1, s, v)
def qq_conc (Q : List qe_T) (p s v : Int32) : List qe_T := Q.filter (fun e => !qe_at p e) ++ (Q.filter (qe_at p)).map (qe_mv s v)
theorem qe_at_iff {p : Int32} {e : qe_T} : qe_at p e = true ↔ e.1 = p := by simp [qe_at]
theorem qe_at_f {p : Int32} {e : qe_T} (h : e.1 ≠ p) : qe_at p e = false := by simp [qe_at, h]
def xq_lk (nxt : Nat → Int32) : List Nat → Prop
  | [] => True
  | [_] => True
  | a :: b :: r => nxt a = nI b ∧ xq_lk nxt (b :: r)
def xq_hd : List Nat → Int32 → Prop
  | [], _ => True
  | a :: _, x => x = nI a
def xq_ls (l : List Nat) (x : Int32) : Prop := ∀ a, l.getLast? = some a → x = nI a
def xq_LH (nxt : Nat → Int32) (l : List Nat) (h t sz : Int32) : Prop := xq_lk nxt l ∧ xq_hd l h ∧ xq_ls l t ∧ sz = nI l.length
theorem xq_lk_tl {nxt : Nat → Int32} {a : Nat} {r : List Nat} (h : xq_lk nxt (a :: r)) : xq_lk nxt r ∧ xq_hd r (nxt a) := by
  cases r with
  | nil => exact ⟨trivial, trivial⟩
  | cons b r => exact ⟨h.2, h.1⟩
theorem xq_lk_cons {nxt : Nat → Int32} {a : Nat} {r : List Nat} (h : xq_lk nxt r) (hd : xq_hd r (nxt a)) : xq_lk nxt (a :: r) := by
  cases r with
  | nil => trivial
  | cons b r => exact ⟨hd, h⟩
theorem xq_lk_congr {nxt nxt' : Nat → Int32} : ∀ {l : List Nat}, (∀ i ∈ l, nxt' i = nxt i) → xq_lk nxt l → xq_lk nxt' l
  | [], _, _ => trivial
  | [_], _, _ => trivial
  | a :: b :: r, h, hl => ⟨by rw [h a (List.mem_cons_self ..)]; exact hl.1, xq_lk_congr (fun i hi => h i (List.mem_cons_of_mem _ hi)) hl.2⟩
theorem xq_lk_snoc {nxt nxt' : Nat → Int32} {a b : Nat} : ∀ {l : List Nat}, (∀ i ∈ l, nxt' i = nxt i) → nxt' b = nI a → xq_lk nxt (l ++ [b]) → xq_lk nxt' (l ++ [b] ++ [a])
  | [], _, hb, _ => ⟨hb, trivial⟩
  | [c], h, hb, hl => ⟨by rw [h c (List.mem_cons_self ..)]; exact hl.1, hb, trivial⟩
  | c :: d :: r, h, hb, hl => ⟨by rw [h c (List.mem_cons_self ..)]; exact hl.1, xq_lk_snoc (l := d :: r) (fun i hi => h i (List.mem_cons_of_mem _ hi)) hb hl.2⟩
theorem xq_LH_congr {nxt nxt' : Nat → Int32} {l : List Nat} {h t sz : Int32} (hc : ∀ i ∈ l, nxt' i = nxt i) (H : xq_LH nxt l h t sz) : xq_LH nxt' l h t sz :=
  ⟨xq_lk_congr hc H.1, H.2⟩
/-- a node at the end of an empty list -/
theorem xq_LH_0 {nxt : Nat → Int32} {l : List Nat} {h t sz : Int32} {a : Nat} (hl : l = []) (H : xq_LH nxt l h t sz) (nxt' : Nat → Int32) : xq_LH nxt' (l ++ [a]) (nI a) (nI a) (sz + 1) := by
  subst hl
  refine ⟨trivial, rfl, fun b hb => ?_, ?_⟩
  · simp at hb; rw [hb]
  · rw [H.2.2.2, nI_1]; rfl
/-- a node at the end of a list that isn't empty -/
theorem xq_LH_1 {nxt nxt' : Nat → Int32} {l l0 : List Nat} {b : Nat} {h t sz : Int32} {a : Nat} (hl : l = l0 ++ [b]) (H : xq_LH nxt l h t sz) (h0 : ∀ i ∈ l0, nxt' i = nxt i) (hb : nxt' b = nI a) : xq_LH nxt' (l ++ [a]) h (nI a) (sz + 1) := by
  subst hl
  refine ⟨xq_lk_snoc h0 hb H.1, ?_, fun c hc => ?_, ?_⟩
  · cases l0 with
    | nil => exact H.2.1
    | cons d r => exact H.2.1
  · simp at hc; rw [hc]
  · rw [H.2.2.2, nI_1]; simp
theorem xq_LH_t {nxt : Nat → Int32} {l l0 : List Nat} {b : Nat} {h t sz : Int32} (hl : l = l0 ++ [b]) (H : xq_LH nxt l h t sz) : t = nI b :=
  H.2.2.1 b (by rw [hl]; simp)
def xq_sel (XL : List (Nat × qe_T)) (p : Int32) : List Nat := (XL.filter (fun z => qe_at p z.2)).map (·.1)
theorem xq_sel_app (A B : List (Nat × qe_T)) (p : Int32) : xq_sel (A ++ B) p = xq_sel A p ++ xq_sel B p := by
  rw [xq_sel, List.filter_append, List.map_append]; rfl
theorem xq_sel_1 {a : Nat} {e : qe_T} {p : Int32} (h : e.1 = p) : xq_sel [(a, e)] p = [a] := by
  simp [xq_sel, qe_at, h]
theorem xq_sel_0 {a : Nat} {e : qe_T} {p : Int32} (h : e.1 ≠ p) : xq_sel [(a, e)] p = [] := by
  simp [xq_sel, qe_at, h]
theorem xq_sel_mem {XL : List (Nat × qe_T)} {p : Int32} {a : Nat} (h : a ∈ xq_sel XL p) : ∃ e, (a, e) ∈ XL ∧ e.1 = p := by
  obtain ⟨z, hz, rfl⟩ := List.mem_map.mp h
  obtain ⟨h1, h2⟩ := List.mem_filter.mp hz
  exact ⟨z.2, h1, qe_at_iff.mp h2⟩
theorem xq_sel_memN {XL : List (Nat × qe_T)} {p : Int32} {a : Nat} (h : a ∈ xq_sel XL p) : a ∈ XL.map (·.1) := by
  obtain ⟨e, he, _⟩ := xq_sel_mem h
  exact List.mem_map.mpr ⟨_, he, rfl⟩
theorem xq_inj {XL : List (Nat × qe_T)} {a : Nat} {e f : qe_T} (hn : (XL.map (·.1)).Nodup) (h1 : (a, e) ∈ XL) (h2 : (a, f) ∈ XL) : e = f := by
  induction XL with
  | nil => cases h1
  | cons z r ih =>
    rw [List.map_cons, List.nodup_cons] at hn
    rcases List.mem_cons.mp h1 with g1 | g1 <;> rcases List.mem_cons.mp h2 with g2 | g2
    · rw [← g1] at g2; injection g2 with _ g3; exact g3.symm
    · exact absurd (List.mem_map.mpr ⟨_, g2, by rw [← g1]⟩) hn.1
    · exact absurd (List.mem_map.mpr ⟨_, g1, by rw [← g2]⟩) hn.1
    · exact ih hn.2 g1 g2
theorem xq_sel_dis {XL : List (Nat × qe_T)} {p q : Int32} {a : Nat} (hn : (XL.map (·.1)).Nodup) (hpq : p ≠ q) (h1 : a ∈ xq_sel XL p) : a ∉ xq_sel XL q := by
  intro h2
  obtain ⟨e, he, rfl⟩ := xq_sel_mem h1
  obtain ⟨f, hf, rfl⟩ := xq_sel_mem h2
  exact hpq (by rw [xq_inj hn he hf])
/-- held nodes hl; the heads of promise ex are not asserted (16: all are) -/
def xq_R (px : ty_px) (hl : List Nat) (ex : Nat) (Q : List qe_T) : Prop :=
  ∃ (fr : List Nat) (XL : List (Nat × qe_T)), XL.map (·.2) = Q ∧ (hl ++ (fr ++ XL.map (·.1))).Perm (List.range 128) ∧
    xq_hd fr px.1 ∧ xq_lk px.2.2.2.2.2.2.2.2.2.2.2.2.2 fr ∧
    (∀ z ∈ XL, px.2.2.2.2.2.2.2.1 z.1 = z.2.2.1 ∧ px.2.2.2.2.2.2.2.2.1 z.1 = z.2.2.2.1 ∧ px.2.2.2.2.2.2.2.2.2.1 z.1 = z.2.2.2.2.1 ∧ px.2.2.2.2.2.2.2.2.2.2.1 z.1 = z.2.2.2.2.2.1 ∧
      (z.2.1 = -1 → px.2.2.2.2.2.2.2.2.2.2.2.1 z.1 = z.2.2.2.2.2.2.1 ∧ px.2.2.2.2.2.2.2.2.2.2.2.2.1 z.1 = z.2.2.2.2.2.2.2)) ∧
    xq_LH px.2.2.2.2.2.2.2.2.2.2.2.2.2 (xq_sel XL (-1)) px.2.1 px.2.2.1 px.2.2.2.1 ∧
    ∀ p, p < 16 → p ≠ ex → xq_LH px.2.2.2.2.2.2.2.2.2.2.2.2.2 (xq_sel XL (nI p)) (px.2.2.2.2.1 p) (px.2.2.2.2.2.1 p) (px.2.2.2.2.2.2.1 p)
/-- the contents of a node -/
def xq_C (px : ty_px) (a : Nat) (k o x y : Int32) : Prop :=
  px.2.2.2.2.2.2.2.1 a = k ∧ px.2.2.2.2.2.2.2.2.1 a = o ∧ px.2.2.2.2.2.2.2.2.2.1 a = x ∧ px.2.2.2.2.2.2.2.2.2.2.1 a = y
theorem xq_len {px : ty_px} {hl : List Nat} {ex : Nat} {Q : List qe_T} (R : xq_R px hl ex Q) : hl.length + Q.length ≤ 128 := by
  obtain ⟨fr, XL, rfl, hP, _⟩ := R
  have := hP.length_eq
  simp only [List.length_append, List.length_map, List.length_range] at this ⊢
  omega
theorem xq_up {f : Nat → Int32} {a : Nat} {x : Int32} (h : a < 2 ^ 31) : upd f (nI a).toNatClampNeg x = upd f a x := by rw [nI_clamp h]
theorem xq_nd {hl fr : List Nat} {XL : List (Nat × qe_T)} (hP : (hl ++ (fr ++ XL.map (·.1))).Perm (List.range 128)) : (hl ++ (fr ++ XL.map (·.1))).Nodup :=
  hP.nodup_iff.mpr List.nodup_range
theorem xq_m1 : ∀ p, p < 16 → (-1 : Int32) ≠ nI p := by decide
section
variable {kk : ty_kk} {kx : ty_kx} {ss : ty_ss} {gx : ty_gx} {fh qh qt qs : Int32} {fw lw wa nk no nx ny ns nv nxt : Nat → Int32}
theorem xr_new {post : Int32 → SX → Prop} {k o x y : Int32} (hA : vp_in fh 128) (h : post fh (mk_X kk kx ss gx ((nxt fh.toNatClampNeg), qh, qt, qs, fw, lw, wa, (upd nk fh.toNatClampNeg k), (upd no fh.toNatClampNeg o), (upd nx fh.toNatClampNeg x), (upd ny fh.toNatClampNeg y), ns, nv, nxt))) :
    wpX_newNode post (mk_X kk kx ss gx (fh, qh, qt, qs, fw, lw, wa, nk, no, nx, ny, ns, nv, nxt)) k o x y :=
  And.intro hA (nm_e ⟨hA, nm_e ⟨hA, nm_e ⟨hA, nm_e ⟨hA, nm_e h⟩⟩⟩⟩)
theorem xr_enq0 {post : SX → Prop} {A s v : Int32} (hA : vp_in A 128) (hq : qs = 0) (h : post (mk_X kk kx ss gx (fh, (A), (A), (qs + 1), fw, lw, wa, nk, no, nx, ny, (upd ns A.toNatClampNeg s), (upd nv A.toNatClampNeg v), (upd nxt A.toNatClampNeg (-1))))) :
    wpX_enqueue post (mk_X kk kx ss gx (fh, qh, qt, qs, fw, lw, wa, nk, no, nx, ny, ns, nv, nxt)) A s v :=
  And.intro hA (nm_e ⟨hA, nm_e ⟨hA, nm_e (br_t hq (nm_e h))⟩⟩)
theorem xr_enq1 {post : SX → Prop} {A s v : Int32} (hA : vp_in A 128) (hq : ¬ qs = 0) (hT : vp_in qt 128) (h : post (mk_X kk kx ss gx (fh, qh, (A), (qs + 1), fw, lw, wa, nk, no, nx, ny, (upd ns A.toNatClampNeg s), (upd nv A.toNatClampNeg v), (upd (upd nxt A.toNatClampNeg (-1)) qt.toNatClampNeg A)))) :
    wpX_enqueue post (mk_X kk kx ss gx (fh, qh, qt, qs, fw, lw, wa, nk, no, nx, ny, ns, nv, nxt)) A s v :=
  And.intro hA (nm_e ⟨hA, nm_e ⟨hA, nm_e (br_f hq ⟨hT, nm_e (nm_e h)⟩)⟩⟩)
theorem xr_take {post : Int32 → SX → Prop} (hA : vp_in qh 128) (h : post qh (mk_X kk kx ss gx ((qh), (nxt qh.toNatClampNeg), qt, (qs - 1), fw, lw, wa, nk, no, nx, ny, ns, nv, (upd nxt qh.toNatClampNeg fh)))) :
    wpX_takeFirst post (mk_X kk kx ss gx (fh, qh, qt, qs, fw, lw, wa, nk, no, nx, ny, ns, nv, nxt)) :=
  And.intro hA (nm_e (nm_e ⟨hA, nm_e h⟩))
end
section
variable {kk : ty_kk} {kx : ty_kx} {gx : ty_gx} {fh qh qt qs c ou : Int32} {fw lw wa nk no nx ny ns nv nxt st val host kinds masks asleep out : Nat → Int32}
theorem xr_wat2 {post : SX → Prop} {A B : Int32} (hA : vp_in A 16) (h2 : st A.toNatClampNeg = 2 ∨ st A.toNatClampNeg = 3) (h : wpX_enqueue post (mk_X kk kx (c, ou, st, val, host, kinds, masks, asleep, out) gx (fh, qh, qt, qs, fw, lw, wa, nk, no, nx, ny, ns, nv, nxt)) B (st A.toNatClampNeg) (val A.toNatClampNeg)) :
    wpX_watch post (mk_X kk kx (c, ou, st, val, host, kinds, masks, asleep, out) gx (fh, qh, qt, qs, fw, lw, wa, nk, no, nx, ny, ns, nv, nxt)) A B := by
  by_cases h3 : st A.toNatClampNeg = 2
  · exact And.intro hA (br_t h3 (And.intro hA ⟨hA, h⟩))
  · exact And.intro hA (br_f h3 ⟨hA, br_t (h2.resolve_left h3) (And.intro hA ⟨hA, h⟩)⟩)
theorem xr_wat0 {post : SX → Prop} {A B : Int32} (hA : vp_in A 16) (h2 : ¬ st A.toNatClampNeg = 2) (h3 : ¬ st A.toNatClampNeg = 3) (hB : vp_in B 128) (hw : wa A.toNatClampNeg = 0)
    (h : post (mk_X kk kx (c, ou, st, val, host, kinds, masks, asleep, out) gx (fh, qh, qt, qs, (upd fw A.toNatClampNeg B), (upd lw A.toNatClampNeg B), (upd wa A.toNatClampNeg (wa A.toNatClampNeg + 1)), nk, no, nx, ny, ns, nv, (upd nxt B.toNatClampNeg (-1))))) :
    wpX_watch post (mk_X kk kx (c, ou, st, val, host, kinds, masks, asleep, out) gx (fh, qh, qt, qs, fw, lw, wa, nk, no, nx, ny, ns, nv, nxt)) A B :=
  And.intro hA (br_f h2 ⟨hA, br_f h3 ⟨hB, nm_e ⟨hA, br_t hw ⟨hA, nm_e (And.intro hA (nm_e ⟨hA, hA, nm_e h⟩))⟩⟩⟩⟩)
theorem xr_wat1 {post : SX → Prop} {A B : Int32} (hA : vp_in A 16) (h2 : ¬ st A.toNatClampNeg = 2) (h3 : ¬ st A.toNatClampNeg = 3) (hB : vp_in B 128) (hw : ¬ wa A.toNatClampNeg = 0) (hl : vp_in (lw A.toNatClampNeg) 128)
    (h : post (mk_X kk kx (c, ou, st, val, host, kinds, masks, asleep, out) gx (fh, qh, qt, qs, fw, (upd lw A.toNatClampNeg B), (upd wa A.toNatClampNeg (wa A.toNatClampNeg + 1)), nk, no, nx, ny, ns, nv, (upd (upd nxt B.toNatClampNeg (-1)) (lw A.toNatClampNeg).toNatClampNeg B)))) :
    wpX_watch post (mk_X kk kx (c, ou, st, val, host, kinds, masks, asleep, out) gx (fh, qh, qt, qs, fw, lw, wa, nk, no, nx, ny, ns, nv, nxt)) A B :=
  And.intro hA (br_f h2 ⟨hA, br_f h3 ⟨hB, nm_e ⟨hA, br_f hw ⟨hA, hl, nm_e (And.intro hA (nm_e ⟨hA, hA, nm_e h⟩))⟩⟩⟩⟩)
theorem xr_conc {post : SX → Prop} {A s v : Int32} (hA : vp_in A 16) (h : ∃ n, wX_conclude_30 post A s v n (fw A.toNatClampNeg) (wa A.toNatClampNeg) 0 1 2 3 4 kk.1 kk.2.1 kk.2.2.1 kk.2.2.2.1 kk.2.2.2.2.1 kx.1 kk.2.2.2.2.2.1 c fh qh qt qs ou kk.2.2.2.2.2.2.1 kx.2.1 kk.2.2.2.2.2.2.2 kx.2.2.1 kx.2.2.2.1 kx.2.2.2.2.1 kx.2.2.2.2.2.1 kx.2.2.2.2.2.2 (upd st A.toNatClampNeg s) (upd val A.toNatClampNeg v) fw lw wa host kinds masks gx.1 gx.2.1 gx.2.2.1 gx.2.2.2.1 gx.2.2.2.2.1 asleep gx.2.2.2.2.2 nk no nx ny ns nv nxt out) :
    wpX_conclude post (mk_X kk kx (c, ou, st, val, host, kinds, masks, asleep, out) gx (fh, qh, qt, qs, fw, lw, wa, nk, no, nx, ny, ns, nv, nxt)) A s v :=
  And.intro hA (nm_e ⟨hA, nm_e ⟨hA, nm_e ⟨hA, nm_e h⟩⟩⟩)
theorem xr_c30z {post : SX → Prop} {A s v x4 x5 : Int32} {n : Nat} (hA : vp_in A 16) (h5 : x5 ≤ 0) (h : post (mk_X kk kx (c, ou, st, val, host, kinds, masks, asleep, out) gx (fh, qh, qt, qs, (upd fw A.toNatClampNeg (-1)), (upd lw A.toNatClampNeg (-1)), (upd wa A.toNatClampNeg 0), nk, no, nx, ny, ns, nv, nxt))) :
    wX_conclude_30 post A s v (n + 1) x4 x5 0 1 2 3 4 kk.1 kk.2.1 kk.2.2.1 kk.2.2.2.1 kk.2.2.2.2.1 kx.1 kk.2.2.2.2.2.1 c fh qh qt qs ou kk.2.2.2.2.2.2.1 kx.2.1 kk.2.2.2.2.2.2.2 kx.2.2.1 kx.2.2.2.1 kx.2.2.2.2.1 kx.2.2.2.2.2.1 kx.2.2.2.2.2.2 st val fw lw wa host kinds masks gx.1 gx.2.1 gx.2.2.1 gx.2.2.2.1 gx.2.2.2.2.1 asleep gx.2.2.2.2.2 nk no nx ny ns nv nxt out :=
  br_t h5 ⟨hA, nm_e ⟨hA, nm_e ⟨hA, nm_e h⟩⟩⟩
end
end
section
/-! the component's pool operations against the abstract pool -/
theorem xw_new {px : ty_px} {Q : List qe_T} (R : xq_R px [] 16 Q) (hQ : Q.length < 128) (k o x y : Int32) :
    ∃ a px', a < 128 ∧ xq_R px' [a] 16 Q ∧ xq_C px' a k o x y ∧ ∀ kk kx ss gx (post : Int32 → SX → Prop), post (nI a) (mk_X kk kx ss gx px') → wpX_newNode post (mk_X kk kx ss gx px) k o x y := by
  obtain ⟨fh, qh, qt, qs, fw, lw, wa, nk, no, nx, ny, ns, nv, nxt⟩ := px
  obtain ⟨fr, XL, rfl, hP, hf, hlf, hc, hq, hw⟩ := R
  dsimp only at hf hlf hc hq hw
  cases fr with
  | nil =>
    have := hP.length_eq
    simp only [List.nil_append, List.length_map, List.length_range] at this hQ
    omega
  | cons a f =>
    have hnd := xq_nd hP
    have ha : a < 128 := List.mem_range.mp (hP.mem_iff.mp (by simp))
    have hna : a ∉ XL.map (·.1) := by
      intro h
      simp only [List.nil_append, List.cons_append, List.nodup_cons] at hnd
      exact hnd.1 (List.mem_append_right _ h)
    have hne : ∀ z ∈ XL, z.1 ≠ a := fun z hz e => hna (List.mem_map.mpr ⟨z, hz, e⟩)
    have hfa : fh = nI a := hf
    subst hfa
    have e : (nI a).toNatClampNeg = a := nI_clamp (by omega)
    have ht := xq_lk_tl hlf
    refine ⟨a, (nxt a, qh, qt, qs, fw, lw, wa, upd nk a k, upd no a o, upd nx a x, upd ny a y, ns, nv, nxt), ha, ⟨f, XL, rfl, hP, ht.2, ht.1, fun z hz => ?_, hq, hw⟩, ⟨pk_us, pk_us, pk_us, pk_us⟩, fun kk kx ss gx post h => ?_⟩
    · have h1 := hc z hz
      have h2 := hne z hz
      exact ⟨(pk_un h2).trans h1.1, (pk_un h2).trans h1.2.1, (pk_un h2).trans h1.2.2.1, (pk_un h2).trans h1.2.2.2.1, h1.2.2.2.2⟩
    · refine xr_new (vp_in_nI ha (by omega)) ?_
      rw [e]
      exact h
/-- what an enqueueing leaves alone -/
def xq_F (px px' : ty_px) (r : List Nat) : Prop :=
  px'.2.2.2.2.1 = px.2.2.2.2.1 ∧ px'.2.2.2.2.2.1 = px.2.2.2.2.2.1 ∧ px'.2.2.2.2.2.2.1 = px.2.2.2.2.2.2.1 ∧
  px'.2.2.2.2.2.2.2.1 = px.2.2.2.2.2.2.2.1 ∧ px'.2.2.2.2.2.2.2.2.1 = px.2.2.2.2.2.2.2.2.1 ∧ px'.2.2.2.2.2.2.2.2.2.1 = px.2.2.2.2.2.2.2.2.2.1 ∧ px'.2.2.2.2.2.2.2.2.2.2.1 = px.2.2.2.2.2.2.2.2.2.2.1 ∧
  ∀ i ∈ r, px'.2.2.2.2.2.2.2.2.2.2.2.2.2 i = px.2.2.2.2.2.2.2.2.2.2.2.2.2 i
theorem xq_ndp {a : Nat} {r fr : List Nat} {XL : List (Nat × qe_T)} (h : ((a :: r) ++ (fr ++ XL.map (·.1))).Nodup) :
    a ∉ r ∧ a ∉ fr ∧ a ∉ XL.map (·.1) ∧ (XL.map (·.1)).Nodup ∧ (∀ i ∈ XL.map (·.1), i ∉ r ∧ i ∉ fr) := by
  rw [List.cons_append, List.nodup_cons, List.nodup_append, List.nodup_append] at h
  obtain ⟨h1, h2, ⟨h3, h4, h5⟩, h6⟩ := h
  simp only [List.mem_append, not_or] at h1
  exact ⟨h1.1, h1.2.1, h1.2.2, h4, fun i hi => ⟨fun hr => h6 i hr i (List.mem_append_right _ hi) rfl, fun hf => h5 i hf i hi rfl⟩⟩
theorem xw_enq {px : ty_px} {a : Nat} {r : List Nat} {ex : Nat} {Q : List qe_T} {k o x y : Int32} (R : xq_R px (a :: r) ex Q) (C : xq_C px a k o x y) (s v : Int32) :
    ∃ px', xq_R px' r ex (Q ++ [(-1, k, o, x, y, s, v)]) ∧ xq_F px px' r ∧ ∀ kk kx ss gx (post : SX → Prop), post (mk_X kk kx ss gx px') → wpX_enqueue post (mk_X kk kx ss gx px) (nI a) s v := by
  obtain ⟨fh, qh, qt, qs, fw, lw, wa, nk, no, nx, ny, ns, nv, nxt⟩ := px
  obtain ⟨fr, XL, rfl, hP, hf, hlf, hc, hq, hw⟩ := R
  dsimp only at hf hlf hc hq hw
  have hnd := xq_nd hP
  obtain ⟨har, haf, hax, hxn, hxr⟩ := xq_ndp hnd
  have ha : a < 128 := List.mem_range.mp (hP.mem_iff.mp (by simp))
  have hne : ∀ z ∈ XL, z.1 ≠ a := fun z hz e => hax (List.mem_map.mpr ⟨z, hz, e⟩)
  have e : (nI a).toNatClampNeg = a := nI_clamp (by omega)
  have hP' : (r ++ (fr ++ (XL ++ [(a, ((-1 : Int32), k, o, x, y, s, v))]).map (·.1))).Perm (List.range 128) := by
    refine List.Perm.trans ?_ hP
    rw [List.map_append, ← List.append_assoc, ← List.append_assoc]
    exact (List.perm_append_comm (l₁ := r ++ fr ++ XL.map (·.1)) (l₂ := [a])).trans (by rw [List.append_assoc]; exact List.Perm.refl _)
  have hmap : (XL ++ [(a, ((-1 : Int32), k, o, x, y, s, v))]).map (·.2) = XL.map (·.2) ++ [(-1, k, o, x, y, s, v)] := by rw [List.map_append]; rfl
  have hcon : ∀ z ∈ XL ++ [(a, ((-1 : Int32), k, o, x, y, s, v))], nk z.1 = z.2.2.1 ∧ no z.1 = z.2.2.2.1 ∧ nx z.1 = z.2.2.2.2.1 ∧ ny z.1 = z.2.2.2.2.2.1 ∧ (z.2.1 = -1 → upd ns a s z.1 = z.2.2.2.2.2.2.1 ∧ upd nv a v z.1 = z.2.2.2.2.2.2.2) := by
    intro z hz
    rcases List.mem_append.mp hz with hz | hz
    · have h1 := hc z hz
      refine ⟨h1.1, h1.2.1, h1.2.2.1, h1.2.2.2.1, fun h2 => ?_⟩
      have h3 := h1.2.2.2.2 h2
      exact ⟨(pk_un (hne z hz)).trans h3.1, (pk_un (hne z hz)).trans h3.2⟩
    · rw [List.mem_singleton.mp hz]
      exact ⟨C.1, C.2.1, C.2.2.1, C.2.2.2, fun _ => ⟨pk_us, pk_us⟩⟩
  have hsq : xq_sel (XL ++ [(a, ((-1 : Int32), k, o, x, y, s, v))]) (-1) = xq_sel XL (-1) ++ [a] := by rw [xq_sel_app, xq_sel_1 rfl]
  have hsp : ∀ p, p < 16 → xq_sel (XL ++ [(a, ((-1 : Int32), k, o, x, y, s, v))]) (nI p) = xq_sel XL (nI p) := fun p hp => by rw [xq_sel_app, xq_sel_0 (xq_m1 p hp), List.append_nil]
  have hlq : (xq_sel XL (-1)).length < 2 ^ 31 := by
    have h1 : (xq_sel XL (-1)).length ≤ XL.length := by rw [xq_sel, List.length_map]; exact List.length_filter_le _ _
    have h2 := hP.length_eq
    simp only [List.length_append, List.length_map, List.length_range, List.length_cons] at h2
    omega
  rcases List.eq_nil_or_concat (xq_sel XL (-1)) with h0 | ⟨l0, b, hb⟩
  · have hz : qs = 0 := by have := hq.2.2.2; rw [h0] at this; exact this
    have hfr : ∀ i, i ≠ a → upd nxt a (-1) i = nxt i := fun i hi => pk_un hi
    refine ⟨(fh, nI a, nI a, qs + 1, fw, lw, wa, nk, no, nx, ny, upd ns a s, upd nv a v, upd nxt a (-1)), ⟨fr, _, hmap, hP', hf, xq_lk_congr (fun i hi => hfr i (fun z => haf (z ▸ hi))) hlf, hcon, ?_, fun p hp hpe => ?_⟩, ⟨rfl, rfl, rfl, rfl, rfl, rfl, rfl, fun i hi => hfr i (fun z => har (z ▸ hi))⟩, fun kk kx ss gx post h => ?_⟩
    · rw [hsq]; exact xq_LH_0 h0 hq _
    · rw [hsp p hp]; exact xq_LH_congr (fun i hi => hfr i (fun z => hax (z ▸ xq_sel_memN hi))) (hw p hp hpe)
    · refine xr_enq0 (vp_in_nI ha (by omega)) hz ?_
      rw [e]; exact h
  · have hb' : xq_sel XL (-1) = l0 ++ [b] := by rw [hb]; simp
    have hnz : ¬ qs = 0 := by
      rw [hq.2.2.2, hb']
      exact nI_ne0 (by simp) (by rw [← hb']; exact hlq)
    have hbm : b ∈ xq_sel XL (-1) := by rw [hb']; simp
    have hbx := xq_sel_memN hbm
    have hb128 : b < 128 := List.mem_range.mp (hP.mem_iff.mp (List.mem_append_right _ (List.mem_append_right _ hbx)))
    have hba : b ≠ a := fun z => hax (z ▸ hbx)
    have hqt : qt = nI b := xq_LH_t hb' hq
    subst hqt
    have eb : (nI b).toNatClampNeg = b := nI_clamp (by omega)
    have hfr : ∀ i, i ≠ a → i ≠ b → upd (upd nxt a (-1)) b (nI a) i = nxt i := fun i h1 h2 => (pk_un h2).trans (pk_un h1)
    have hsn : (xq_sel XL (-1)).Nodup := List.Nodup.sublist (List.Sublist.map _ List.filter_sublist) hxn
    refine ⟨(fh, qh, nI a, qs + 1, fw, lw, wa, nk, no, nx, ny, upd ns a s, upd nv a v, upd (upd nxt a (-1)) b (nI a)), ⟨fr, _, hmap, hP', hf, xq_lk_congr (fun i hi => hfr i (fun z => haf (z ▸ hi)) (fun z => (hxr b hbx).2 (z ▸ hi))) hlf, hcon, ?_, fun p hp hpe => ?_⟩, ⟨rfl, rfl, rfl, rfl, rfl, rfl, rfl, fun i hi => hfr i (fun z => har (z ▸ hi)) (fun z => (hxr b hbx).1 (z ▸ hi))⟩, fun kk kx ss gx post h => ?_⟩
    · rw [hsq]
      refine xq_LH_1 hb' hq (fun i hi => ?_) pk_us
      have hin : i ∈ xq_sel XL (-1) := by rw [hb']; exact List.mem_append_left _ hi
      refine hfr i (fun z => hax (z ▸ xq_sel_memN hin)) (fun z => ?_)
      rw [hb', List.nodup_append] at hsn
      exact hsn.2.2 i hi b (List.mem_singleton.mpr rfl) z
    · rw [hsp p hp]
      exact xq_LH_congr (fun i hi => hfr i (fun z => hax (z ▸ xq_sel_memN hi)) (fun z => xq_sel_dis hxn (xq_m1 p hp) hbm (z ▸ hi))) (hw p hp hpe)
    · refine xr_enq1 (vp_in_nI ha (by omega)) hnz (vp_in_nI hb128 (by omega)) ?_
      rw [e, eb]; exact h
end
section
/-! the component's pool: waiting, concluding, taking -/
theorem xq_pI : ∀ p, p < 16 → ∀ q, q < 16 → nI p = nI q → p = q := fun p hp q hq h => (nI_eq (by omega) (by omega)).mp h
theorem xw_wat {px : ty_px} {a p : Nat} {Q : List qe_T} {k o x y : Int32} (R : xq_R px [a] 16 Q) (C : xq_C px a k o x y) (hp : p < 16) :
    ∃ px', xq_R px' [] 16 (Q ++ [(nI p, k, o, x, y, 0, 0)]) ∧ ∀ kk kx (ss : ty_ss) gx (post : SX → Prop), ¬ ss.2.2.1 p = 2 → ¬ ss.2.2.1 p = 3 → post (mk_X kk kx ss gx px') → wpX_watch post (mk_X kk kx ss gx px) (nI p) (nI a) := by
  obtain ⟨fh, qh, qt, qs, fw, lw, wa, nk, no, nx, ny, ns, nv, nxt⟩ := px
  obtain ⟨fr, XL, rfl, hP, hf, hlf, hc, hq, hw⟩ := R
  dsimp only at hf hlf hc hq hw
  have hnd := xq_nd hP
  obtain ⟨har, haf, hax, hxn, hxr⟩ := xq_ndp hnd
  have ha : a < 128 := List.mem_range.mp (hP.mem_iff.mp (by simp))
  have hne : ∀ z ∈ XL, z.1 ≠ a := fun z hz e => hax (List.mem_map.mpr ⟨z, hz, e⟩)
  have e : (nI a).toNatClampNeg = a := nI_clamp (by omega)
  have ep : (nI p).toNatClampNeg = p := nI_clamp (by omega)
  have hP' : (([] : List Nat) ++ (fr ++ (XL ++ [(a, (nI p, k, o, x, y, (0 : Int32), (0 : Int32)))]).map (·.1))).Perm (List.range 128) := by
    refine List.Perm.trans ?_ hP
    rw [List.map_append, List.nil_append, ← List.append_assoc]
    exact (List.perm_append_comm (l₁ := fr ++ XL.map (·.1)) (l₂ := [a]))
  have hmap : (XL ++ [(a, (nI p, k, o, x, y, (0 : Int32), (0 : Int32)))]).map (·.2) = XL.map (·.2) ++ [(nI p, k, o, x, y, 0, 0)] := by rw [List.map_append]; rfl
  have hcon : ∀ z ∈ XL ++ [(a, (nI p, k, o, x, y, (0 : Int32), (0 : Int32)))], nk z.1 = z.2.2.1 ∧ no z.1 = z.2.2.2.1 ∧ nx z.1 = z.2.2.2.2.1 ∧ ny z.1 = z.2.2.2.2.2.1 ∧ (z.2.1 = -1 → ns z.1 = z.2.2.2.2.2.2.1 ∧ nv z.1 = z.2.2.2.2.2.2.2) := by
    intro z hz
    rcases List.mem_append.mp hz with hz | hz
    · exact hc z hz
    · rw [List.mem_singleton.mp hz]
      exact ⟨C.1, C.2.1, C.2.2.1, C.2.2.2, fun z => absurd z.symm (xq_m1 p hp)⟩
  have hsq : xq_sel (XL ++ [(a, (nI p, k, o, x, y, (0 : Int32), (0 : Int32)))]) (-1) = xq_sel XL (-1) := by rw [xq_sel_app, xq_sel_0 (xq_m1 p hp).symm, List.append_nil]
  have hsp : xq_sel (XL ++ [(a, (nI p, k, o, x, y, (0 : Int32), (0 : Int32)))]) (nI p) = xq_sel XL (nI p) ++ [a] := by rw [xq_sel_app, xq_sel_1 rfl]
  have hso : ∀ q, q < 16 → q ≠ p → xq_sel (XL ++ [(a, (nI p, k, o, x, y, (0 : Int32), (0 : Int32)))]) (nI q) = xq_sel XL (nI q) := fun q hq hqp => by rw [xq_sel_app, xq_sel_0 (fun z => hqp (xq_pI p hp q hq z).symm), List.append_nil]
  have hlq : (xq_sel XL (nI p)).length < 2 ^ 31 := by
    have h1 : (xq_sel XL (nI p)).length ≤ XL.length := by rw [xq_sel, List.length_map]; exact List.length_filter_le _ _
    have h2 := hP.length_eq
    simp only [List.length_append, List.length_map, List.length_range, List.length_cons, List.length_nil] at h2
    omega
  have hwp := hw p hp (by omega)
  rcases List.eq_nil_or_concat (xq_sel XL (nI p)) with h0 | ⟨l0, b, hb⟩
  · have hz : wa p = 0 := by have := hwp.2.2.2; rw [h0] at this; exact this
    have hfr : ∀ i, i ≠ a → upd nxt a (-1) i = nxt i := fun i hi => pk_un hi
    refine ⟨(fh, qh, qt, qs, upd fw p (nI a), upd lw p (nI a), upd wa p (wa p + 1), nk, no, nx, ny, ns, nv, upd nxt a (-1)), ⟨fr, _, hmap, hP', hf, xq_lk_congr (fun i hi => hfr i (fun z => haf (z ▸ hi))) hlf, hcon, ?_, fun q hq hqe => ?_⟩, fun kk kx ss gx post h2 h3 h => ?_⟩
    · rw [hsq]; exact xq_LH_congr (fun i hi => hfr i (fun z => hax (z ▸ xq_sel_memN hi))) hq
    · by_cases hqp : q = p
      · subst hqp
        rw [hsp]; dsimp only; rw [pk_us, pk_us, pk_us]
        exact xq_LH_0 h0 hwp _
      · rw [hso q hq hqp]; dsimp only; rw [pk_un hqp, pk_un hqp, pk_un hqp]
        exact xq_LH_congr (fun i hi => hfr i (fun z => hax (z ▸ xq_sel_memN hi))) (hw q hq hqe)
    · obtain ⟨c, ou, st, val, host, kinds, masks, asleep, out⟩ := ss
      dsimp only at h2 h3
      refine xr_wat0 (vp_in_nI hp (by omega)) (by rw [ep]; exact h2) (by rw [ep]; exact h3) (vp_in_nI ha (by omega)) (by rw [ep]; exact hz) ?_
      rw [e, ep]; exact h
  · have hb' : xq_sel XL (nI p) = l0 ++ [b] := by rw [hb]; simp
    have hnz : ¬ wa p = 0 := by
      rw [hwp.2.2.2, hb']
      exact nI_ne0 (by simp) (by rw [← hb']; exact hlq)
    have hbm : b ∈ xq_sel XL (nI p) := by rw [hb']; simp
    have hbx := xq_sel_memN hbm
    have hb128 : b < 128 := List.mem_range.mp (hP.mem_iff.mp (List.mem_append_right _ (List.mem_append_right _ hbx)))
    have hlt : lw p = nI b := xq_LH_t hb' hwp
    have eb : (nI b).toNatClampNeg = b := nI_clamp (by omega)
    have hfr : ∀ i, i ≠ a → i ≠ b → upd (upd nxt a (-1)) b (nI a) i = nxt i := fun i h1 h2 => (pk_un h2).trans (pk_un h1)
    have hsn : (xq_sel XL (nI p)).Nodup := List.Nodup.sublist (List.Sublist.map _ List.filter_sublist) hxn
    refine ⟨(fh, qh, qt, qs, fw, upd lw p (nI a), upd wa p (wa p + 1), nk, no, nx, ny, ns, nv, upd (upd nxt a (-1)) b (nI a)), ⟨fr, _, hmap, hP', hf, xq_lk_congr (fun i hi => hfr i (fun z => haf (z ▸ hi)) (fun z => (hxr b hbx).2 (z ▸ hi))) hlf, hcon, ?_, fun q hq hqe => ?_⟩, fun kk kx ss gx post h2 h3 h => ?_⟩
    · rw [hsq]
      exact xq_LH_congr (fun i hi => hfr i (fun z => hax (z ▸ xq_sel_memN hi)) (fun z => xq_sel_dis hxn (xq_m1 p hp).symm hbm (z ▸ hi))) hq
    · by_cases hqp : q = p
      · subst hqp
        rw [hsp]; dsimp only; rw [pk_us, pk_us]
        refine xq_LH_1 hb' hwp (fun i hi => ?_) pk_us
        have hin : i ∈ xq_sel XL (nI q) := by rw [hb']; exact List.mem_append_left _ hi
        refine hfr i (fun z => hax (z ▸ xq_sel_memN hin)) (fun z => ?_)
        rw [hb', List.nodup_append] at hsn
        exact hsn.2.2 i hi b (List.mem_singleton.mpr rfl) z
      · rw [hso q hq hqp]; dsimp only; rw [pk_un hqp, pk_un hqp]
        exact xq_LH_congr (fun i hi => hfr i (fun z => hax (z ▸ xq_sel_memN hi)) (fun z => xq_sel_dis hxn (fun z => hqp (xq_pI p hp q hq z).symm) hbm (z ▸ hi))) (hw q hq hqe)
    · obtain ⟨c, ou, st, val, host, kinds, masks, asleep, out⟩ := ss
      dsimp only at h2 h3
      refine xr_wat1 (vp_in_nI hp (by omega)) (by rw [ep]; exact h2) (by rw [ep]; exact h3) (vp_in_nI ha (by omega)) (by rw [ep]; exact hnz) (by rw [ep, hlt]; exact vp_in_nI hb128 (by omega)) ?_
      rw [e, ep, hlt, eb]; exact h
theorem xw_c30 {p : Nat} (hp : p < 16) (s v : Int32) : ∀ (rs : List (Nat × qe_T)) (px : ty_px) (Q : List qe_T) (x4 : Int32), xq_R px (rs.map (·.1)) p Q → (∀ z ∈ rs, xq_C px z.1 z.2.2.1 z.2.2.2.1 z.2.2.2.2.1 z.2.2.2.2.2.1) → xq_lk px.2.2.2.2.2.2.2.2.2.2.2.2.2 (rs.map (·.1)) → xq_hd (rs.map (·.1)) x4 → (∀ e ∈ Q, e.1 ≠ nI p) →
    ∃ px', xq_R px' [] 16 (Q ++ rs.map (fun z => qe_mv s v z.2)) ∧ ∀ n, rs.length < n → ∀ kk kx ss gx (post : SX → Prop), post (mk_X kk kx ss gx px') → wX_conclude_30 post (nI p) s v n x4 (nI rs.length) 0 1 2 3 4 kk.1 kk.2.1 kk.2.2.1 kk.2.2.2.1 kk.2.2.2.2.1 kx.1 kk.2.2.2.2.2.1 ss.1 px.1 px.2.1 px.2.2.1 px.2.2.2.1 ss.2.1 kk.2.2.2.2.2.2.1 kx.2.1 kk.2.2.2.2.2.2.2 kx.2.2.1 kx.2.2.2.1 kx.2.2.2.2.1 kx.2.2.2.2.2.1 kx.2.2.2.2.2.2 ss.2.2.1 ss.2.2.2.1 px.2.2.2.2.1 px.2.2.2.2.2.1 px.2.2.2.2.2.2.1 ss.2.2.2.2.1 ss.2.2.2.2.2.1 ss.2.2.2.2.2.2.1 gx.1 gx.2.1 gx.2.2.1 gx.2.2.2.1 gx.2.2.2.2.1 ss.2.2.2.2.2.2.2.1 gx.2.2.2.2.2 px.2.2.2.2.2.2.2.1 px.2.2.2.2.2.2.2.2.1 px.2.2.2.2.2.2.2.2.2.1 px.2.2.2.2.2.2.2.2.2.2.1 px.2.2.2.2.2.2.2.2.2.2.2.1 px.2.2.2.2.2.2.2.2.2.2.2.2.1 px.2.2.2.2.2.2.2.2.2.2.2.2.2 ss.2.2.2.2.2.2.2.2
  | [], px, Q, x4, R, _, _, _, hnp => by
    have ep : (nI p).toNatClampNeg = p := nI_clamp (by omega)
    obtain ⟨fh, qh, qt, qs, fw, lw, wa, nk, no, nx, ny, ns, nv, nxt⟩ := px
    obtain ⟨fr, XL, hQ, hP, hf, hlf, hc, hq, hw⟩ := R
    dsimp only at hf hlf hc hq hw
    refine ⟨(fh, qh, qt, qs, upd fw p (-1), upd lw p (-1), upd wa p 0, nk, no, nx, ny, ns, nv, nxt), ⟨fr, XL, by rw [hQ]; simp, hP, hf, hlf, hc, hq, fun q hq hqe => ?_⟩, fun n hn kk kx ss gx post h => ?_⟩
    · by_cases hqp : q = p
      · subst hqp
        dsimp only; rw [pk_us, pk_us, pk_us]
        have h0 : xq_sel XL (nI q) = [] := by
          rw [List.eq_nil_iff_forall_not_mem]
          intro i hi
          obtain ⟨e, he, he1⟩ := xq_sel_mem hi
          exact hnp e (by rw [← hQ]; exact List.mem_map.mpr ⟨_, he, rfl⟩) he1
        rw [h0]
        exact ⟨trivial, trivial, fun a ha => (by cases ha), rfl⟩
      · dsimp only; rw [pk_un hqp, pk_un hqp, pk_un hqp]
        exact hw q hq hqp
    · obtain ⟨m, rfl⟩ : ∃ m, n = m + 1 := ⟨n - 1, by simp at hn; omega⟩
      obtain ⟨c, ou, st, val, host, kinds, masks, asleep, out⟩ := ss
      refine xr_c30z (vp_in_nI hp (by omega)) (by rw [List.length_nil]; decide) ?_
      rw [ep]; exact h
  | z :: rs, px, Q, x4, R, hC, hl, hh, hnp => by
    have hx4 : x4 = nI z.1 := hh
    subst hx4
    have hlen := xq_len R
    rw [List.length_map, List.length_cons] at hlen
    have hz128 : z.1 < 128 := by
      obtain ⟨fr, XL, _, hP, _⟩ := R
      exact List.mem_range.mp (hP.mem_iff.mp (by simp))
    obtain ⟨px1, R1, F1, W1⟩ := xw_enq (r := rs.map (·.1)) R (hC z (List.mem_cons_self ..)) s v
    have hl1 := xq_lk_tl hl
    obtain ⟨f1, f2, f3, f4, f5, f6, f7, f8⟩ := F1
    have ih := xw_c30 hp s v rs px1 (Q ++ [(-1, z.2.2.1, z.2.2.2.1, z.2.2.2.2.1, z.2.2.2.2.2.1, s, v)]) (px.2.2.2.2.2.2.2.2.2.2.2.2.2 z.1) R1
      (fun w hw => by have := hC w (List.mem_cons_of_mem _ hw); rw [xq_C, f4, f5, f6, f7]; exact this)
      (xq_lk_congr f8 hl1.1) hl1.2 (fun e he => by
        rcases List.mem_append.mp he with he | he
        · exact hnp e he
        · rw [List.mem_singleton.mp he]; exact xq_m1 p hp)
    obtain ⟨px', R', W'⟩ := ih
    refine ⟨px', by rw [List.append_assoc] at R'; exact R', fun n hn kk kx ss gx post h => ?_⟩
    obtain ⟨m, rfl⟩ : ∃ m, n = m + 1 := ⟨n - 1, by rw [List.length_cons] at hn; omega⟩
    have hn' : rs.length < m := by rw [List.length_cons] at hn; omega
    refine br_f (nI_nle (by simp) (by rw [List.length_cons]; omega)) ⟨vp_in_nI hz128 (by omega), nm_r (congrArg _ (nI_clamp (by omega))) (W1 _ _ _ _ _ ?_)⟩
    exact nm_r (by rw [List.length_cons, pk_m1]) (W' m hn' kk kx ss gx post h)
theorem xw_conc {px : ty_px} {p : Nat} {Q : List qe_T} (R : xq_R px [] 16 Q) (hp : p < 16) (s v : Int32) :
    ∃ px', xq_R px' [] 16 (qq_conc Q (nI p) s v) ∧ ∀ kk kx c ou st val host kinds masks asleep out gx (post : SX → Prop), post (mk_X kk kx (c, ou, upd st p s, upd val p v, host, kinds, masks, asleep, out) gx px') → wpX_conclude post (mk_X kk kx (c, ou, st, val, host, kinds, masks, asleep, out) gx px) (nI p) s v := by
  obtain ⟨fh, qh, qt, qs, fw, lw, wa, nk, no, nx, ny, ns, nv, nxt⟩ := px
  have R0 := R
  obtain ⟨fr, XL, rfl, hP, hf, hlf, hc, hq, hw⟩ := R
  dsimp only at hf hlf hc hq hw
  have ep : (nI p).toNatClampNeg = p := nI_clamp (by omega)
  have hwp := hw p hp (by omega)
  have hperm : ((XL.filter (fun z => qe_at (nI p) z.2)).map (·.1) ++ (fr ++ (XL.filter (fun z => !qe_at (nI p) z.2)).map (·.1))).Perm (List.range 128) := by
    refine List.Perm.trans ?_ hP
    rw [List.nil_append]
    have h1 : ((XL.filter (fun z => qe_at (nI p) z.2)).map (·.1) ++ (XL.filter (fun z => !qe_at (nI p) z.2)).map (·.1)).Perm (XL.map (·.1)) := by
      rw [← List.map_append]
      exact (List.filter_append_perm _ _).map _
    refine List.Perm.trans ?_ (h1.append_left fr)
    rw [← List.append_assoc, ← List.append_assoc]
    exact List.perm_append_comm.append_right _
  have hsel : ∀ q : Int32, q ≠ nI p → xq_sel (XL.filter (fun z => !qe_at (nI p) z.2)) q = xq_sel XL q := fun q hq => by
    rw [xq_sel, xq_sel, List.filter_filter]
    congr 1
    refine List.filter_congr (fun z _ => ?_)
    by_cases h : z.2.1 = q
    · rw [qe_at_iff.mpr h, qe_at_f (by rw [h]; exact hq)]; rfl
    · rw [qe_at_f h]; rfl
  have hR : xq_R (fh, qh, qt, qs, fw, lw, wa, nk, no, nx, ny, ns, nv, nxt) ((XL.filter (fun z => qe_at (nI p) z.2)).map (·.1)) p ((XL.map (·.2)).filter (fun e => !qe_at (nI p) e)) := by
    refine ⟨fr, XL.filter (fun z => !qe_at (nI p) z.2), ?_, hperm, hf, hlf, fun z hz => hc z (List.mem_filter.mp hz).1, ?_, fun q hq hqp => ?_⟩
    · rw [List.filter_map]; rfl
    · rw [hsel _ (xq_m1 p hp)]; exact hq
    · rw [hsel _ (fun z => hqp (xq_pI q hq p hp z))]; exact hw q hq (by omega)
  obtain ⟨px', R', W'⟩ := xw_c30 hp s v (XL.filter (fun z => qe_at (nI p) z.2)) _ _ (fw p) hR (fun z hz => by
      have := hc z (List.mem_filter.mp hz).1
      exact ⟨this.1, this.2.1, this.2.2.1, this.2.2.2.1⟩) hwp.1 hwp.2.1 (fun e he h => by
        have := (List.mem_filter.mp he).2
        rw [qe_at_iff.mpr h] at this
        exact absurd this (by decide))
  refine ⟨px', ?_, fun kk kx c ou st val host kinds masks asleep out gx post h => ?_⟩
  · have : (XL.filter (fun z => qe_at (nI p) z.2)).map (fun z => qe_mv s v z.2) = ((XL.map (·.2)).filter (qe_at (nI p))).map (qe_mv s v) := by
      rw [List.filter_map, List.map_map]; rfl
    rw [qq_conc, ← this]; exact R'
  · refine xr_conc (vp_in_nI hp (by omega)) ⟨(XL.filter (fun z => qe_at (nI p) z.2)).length + 1, ?_⟩
    have hlen : wa p = nI (XL.filter (fun z => qe_at (nI p) z.2)).length := by
      have := hwp.2.2.2
      rw [xq_sel, List.length_map] at this
      exact this
    rw [ep, hlen]
    exact W' _ (Nat.lt_succ_self _) kk kx _ gx post h
theorem xq_split {XL : List (Nat × qe_T)} {Q1 Q2 : List qe_T} {E : qe_T} (h : XL.map (·.2) = Q1 ++ E :: Q2) : ∃ X1 a X2, XL = X1 ++ (a, E) :: X2 ∧ X1.map (·.2) = Q1 ∧ X2.map (·.2) = Q2 := by
  obtain ⟨l1, l2, rfl, h1, h2⟩ := List.map_eq_append_iff.mp h
  obtain ⟨z, l3, rfl, h3, h4⟩ := List.map_eq_cons_iff.mp h2
  exact ⟨l1, z.1, l3, by rw [← h3], h1, h4⟩
theorem xw_take {px : ty_px} {Q1 Q2 : List qe_T} {k o x y s v : Int32} (R : xq_R px [] 16 (Q1 ++ (-1, k, o, x, y, s, v) :: Q2)) (h1 : ∀ e ∈ Q1, e.1 ≠ -1) :
    ∃ a px', a < 128 ∧ xq_R px' [] 16 (Q1 ++ Q2) ∧ xq_C px' a k o x y ∧ px'.2.2.2.2.2.2.2.2.2.2.2.1 a = s ∧ px'.2.2.2.2.2.2.2.2.2.2.2.2.1 a = v ∧ ∀ kk kx ss gx (post : Int32 → SX → Prop), post (nI a) (mk_X kk kx ss gx px') → wpX_takeFirst post (mk_X kk kx ss gx px) := by
  obtain ⟨fh, qh, qt, qs, fw, lw, wa, nk, no, nx, ny, ns, nv, nxt⟩ := px
  obtain ⟨fr, XL, hQ, hP, hf, hlf, hc, hq, hw⟩ := R
  dsimp only at hf hlf hc hq hw
  obtain ⟨X1, a, X2, rfl, hX1, hX2⟩ := xq_split hQ
  have hs1 : xq_sel X1 (-1) = [] := by
    rw [List.eq_nil_iff_forall_not_mem]
    intro i hi
    obtain ⟨e, he, he1⟩ := xq_sel_mem hi
    exact h1 e (by rw [← hX1]; exact List.mem_map.mpr ⟨_, he, rfl⟩) he1
  have hcc : ∀ p, xq_sel (X1 ++ (a, ((-1 : Int32), k, o, x, y, s, v)) :: X2) p = xq_sel X1 p ++ (xq_sel [(a, ((-1 : Int32), k, o, x, y, s, v))] p ++ xq_sel X2 p) := fun p => by
    rw [xq_sel_app, ← xq_sel_app [_] X2]; rfl
  have hsq : xq_sel (X1 ++ (a, ((-1 : Int32), k, o, x, y, s, v)) :: X2) (-1) = a :: xq_sel X2 (-1) := by
    rw [hcc, hs1, xq_sel_1 rfl]; rfl
  have hsq' : xq_sel (X1 ++ X2) (-1) = xq_sel X2 (-1) := by rw [xq_sel_app, hs1]; rfl
  have hsp : ∀ p, p < 16 → xq_sel (X1 ++ (a, ((-1 : Int32), k, o, x, y, s, v)) :: X2) (nI p) = xq_sel (X1 ++ X2) (nI p) := fun p hp => by
    rw [hcc, xq_sel_0 (xq_m1 p hp), xq_sel_app]; rfl
  rw [hsq] at hq
  have hqh : qh = nI a := hq.2.1
  subst hqh
  have hnd := xq_nd hP
  have hP1 : (([a] ++ (fr ++ (X1 ++ X2).map (·.1)))).Perm (List.range 128) := by
    refine List.Perm.trans ?_ hP
    rw [List.nil_append, List.map_append, List.map_append, List.map_cons]
    have : (a :: (X1.map (·.1) ++ X2.map (·.1))).Perm (X1.map (·.1) ++ a :: X2.map (·.1)) := List.perm_middle.symm
    refine List.Perm.trans ?_ (this.append_left fr)
    rw [List.singleton_append]
    exact List.perm_middle.symm
  have hnd1 := xq_nd hP1
  obtain ⟨har, haf, hax, hxn, hxr⟩ := xq_ndp hnd1
  have ha : a < 128 := List.mem_range.mp (hP1.mem_iff.mp (by simp))
  have e : (nI a).toNatClampNeg = a := nI_clamp (by omega)
  have hca := hc (a, ((-1 : Int32), k, o, x, y, s, v)) (by simp)
  have hfr : ∀ i, i ≠ a → upd nxt a fh i = nxt i := fun i hi => pk_un hi
  have htl := xq_lk_tl hq.1
  have hmemq : ∀ i ∈ xq_sel (X1 ++ X2) (-1), i ≠ a := fun i hi z => hax (z ▸ xq_sel_memN hi)
  refine ⟨a, (nI a, nxt a, qt, qs - 1, fw, lw, wa, nk, no, nx, ny, ns, nv, upd nxt a fh), ha, ⟨a :: fr, X1 ++ X2, ?_, ?_, rfl, ?_, fun z hz => hc z ?_, ?_, fun p hp hpe => ?_⟩, ⟨hca.1, hca.2.1, hca.2.2.1, hca.2.2.2.1⟩, (hca.2.2.2.2 rfl).1, (hca.2.2.2.2 rfl).2, fun kk kx ss gx post h => ?_⟩
  · rw [List.map_append, hX1, hX2]
  · exact hP1
  · refine xq_lk_cons (xq_lk_congr (fun i hi => hfr i (fun z => haf (z ▸ hi))) hlf) ?_
    dsimp only
    rw [pk_us]; exact hf
  · rcases List.mem_append.mp hz with hz | hz
    · exact List.mem_append_left _ hz
    · exact List.mem_append_right _ (List.mem_cons_of_mem _ hz)
  · dsimp only
    refine xq_LH_congr (nxt := nxt) (fun i hi => hfr i (hmemq i hi)) ?_
    rw [hsq']
    refine ⟨htl.1, htl.2, fun b hb => hq.2.2.1 b ?_, ?_⟩
    · rw [List.getLast?_cons, hb]; rfl
    · rw [hq.2.2.2, List.length_cons, nI_pred]
  · rw [← hsp p hp]
    exact xq_LH_congr (fun i hi => hfr i (fun z => hax (by rw [hsp p hp] at hi; exact z ▸ xq_sel_memN hi))) (hw p hp hpe)
  · refine xr_take (vp_in_nI ha (by omega)) ?_
    rw [e]; exact h
end
section
/-! the reference's pool against the abstract pool -/
def yq_L (py : ty_py) (ck : Nat) (YL : List (Nat × qe_T)) : Prop :=
  (YL.map (·.1)).Nodup ∧ py.1 = nI ck ∧
  (∀ z ∈ YL, z.1 < 128 ∧ py.2.1 z.1 ≠ 0 ∧ py.2.1 z.1 = z.2.2.1 + 1 ∧ py.2.2.1 z.1 = z.2.2.2.1 ∧ py.2.2.2.1 z.1 = z.2.2.2.2.1 ∧ py.2.2.2.2.1 z.1 = z.2.2.2.2.2.1 ∧ py.2.2.2.2.2.1 z.1 = z.2.1 ∧
    (z.2.1 = -1 → py.2.2.2.2.2.2.1 z.1 = z.2.2.2.2.2.2.1 ∧ py.2.2.2.2.2.2.2.1 z.1 = z.2.2.2.2.2.2.2)) ∧
  (∀ j, j < 128 → py.2.1 j ≠ 0 → j ∈ YL.map (·.1)) ∧
  YL.Pairwise (fun z w => (py.2.2.2.2.2.2.2.2 z.1).toInt < (py.2.2.2.2.2.2.2.2 w.1).toInt) ∧ ∀ z ∈ YL, (py.2.2.2.2.2.2.2.2 z.1).toInt < (ck : Int)
def yq_R (py : ty_py) (ck : Nat) (Q : List qe_T) : Prop := ∃ YL : List (Nat × qe_T), YL.map (·.2) = Q ∧ yq_L py ck YL
def yq_free (jt : Nat → Int32) : Nat → Nat
  | 0 => 0
  | i + 1 => if jt i = 0 then i else yq_free jt i
theorem yq_free_lt (jt : Nat → Int32) : ∀ i, i ≤ 128 → yq_free jt i < 128
  | 0, _ => by rw [yq_free]; omega
  | i + 1, h => by
    rw [yq_free]
    split
    · omega
    · exact yq_free_lt jt i (by omega)
theorem yq_free_0 (jt : Nat → Int32) : ∀ i j, j < i → jt j = 0 → jt (yq_free jt i) = 0
  | 0, j, h, _ => by omega
  | i + 1, j, h, hj => by
    rw [yq_free]
    split
    · assumption
    · rename_i hi
      exact yq_free_0 jt i j (by rcases Nat.lt_succ_iff_lt_or_eq.mp h with h | h; exact h; exact absurd (h ▸ hj) hi) hj
theorem yq_128 : (128 : Int32) ≤ nI 128 := by decide
theorem yq_n128 {i : Nat} (h : i < 128) : ¬ (128 : Int32) ≤ nI i := nI_ge (b := 128) h (by decide)
theorem yr_put6 {post : SY → Prop} {x1 x2 x3 x4 x5 x6 x7 : Int32} {kk : ty_kk} {ky : ty_ky} {ss : ty_ss} {gy : ty_gy} {py : ty_py}
    (h : ∀ n, wY_put_6 post x1 x2 x3 x4 x5 x6 x7 kk.1 kk.2.1 kk.2.2.1 kk.2.2.2.1 kk.2.2.2.2.1 ss.1 ss.2.1 py.1 kk.2.2.2.2.2.1 kk.2.2.2.2.2.2.1 ky kk.2.2.2.2.2.2.2 ss.2.2.2.2.2.2.2.2 gy.1 gy.2.1 gy.2.2.1 gy.2.2.2 ss.2.2.1 ss.2.2.2.1 ss.2.2.2.2.2.1 ss.2.2.2.2.2.2.1 ss.2.2.2.2.1 ss.2.2.2.2.2.2.2.1 py.2.1 py.2.2.1 py.2.2.2.1 py.2.2.2.2.1 py.2.2.2.2.2.1 py.2.2.2.2.2.2.1 py.2.2.2.2.2.2.2.1 py.2.2.2.2.2.2.2.2 (n + 1) (nI (yq_free py.2.1 128)) (nI 128)) : ∀ d i, i + d = 128 → wY_put_6 post x1 x2 x3 x4 x5 x6 x7 kk.1 kk.2.1 kk.2.2.1 kk.2.2.2.1 kk.2.2.2.2.1 ss.1 ss.2.1 py.1 kk.2.2.2.2.2.1 kk.2.2.2.2.2.2.1 ky kk.2.2.2.2.2.2.2 ss.2.2.2.2.2.2.2.2 gy.1 gy.2.1 gy.2.2.1 gy.2.2.2 ss.2.2.1 ss.2.2.2.1 ss.2.2.2.2.2.1 ss.2.2.2.2.2.2.1 ss.2.2.2.2.1 ss.2.2.2.2.2.2.2.1 py.2.1 py.2.2.1 py.2.2.2.1 py.2.2.2.2.1 py.2.2.2.2.2.1 py.2.2.2.2.2.2.1 py.2.2.2.2.2.2.2.1 py.2.2.2.2.2.2.2.2 (d + 1) (nI (yq_free py.2.1 i)) (nI i)
  | 0, i, hi => by
    have : i = 128 := by omega
    subst this
    exact h 0
  | d + 1, i, hi => by
    have e : (nI i).toNatClampNeg = i := nI_clamp (by omega)
    have ih := yr_put6 h d (i + 1) (by omega)
    refine br_f (yq_n128 (by omega)) ⟨vp_in_nI (by omega) (by omega), ?_⟩
    by_cases hz : py.2.1 i = 0
    · rw [yq_free, if_pos hz] at ih
      exact br_t (by rw [e]; exact hz) (nm_r (nI_1 i) ih)
    · rw [yq_free, if_neg hz] at ih
      exact br_f (by rw [e]; exact hz) (nm_r (nI_1 i) ih)
section
variable {kk : ty_kk} {ky : ty_ky} {ss : ty_ss} {gy : ty_gy} {clk : Int32} {jt jp jx jg jon js jv jwh : Nat → Int32}
theorem yr_put {post : SY → Prop} {x1 x2 x3 x4 x5 x6 x7 : Int32} {j : Nat} (hj : yq_free jt 128 = j)
    (h : post (mk_Y kk ky ss gy ((clk + 1), (upd jt j x1), (upd jp j x2), (upd jx j x3), (upd jg j x4), (upd jon j x5), (upd js j x6), (upd jv j x7), (upd jwh j clk)))) :
    wpY_put post (mk_Y kk ky ss gy (clk, jt, jp, jx, jg, jon, js, jv, jwh)) x1 x2 x3 x4 x5 x6 x7 := by
  have hl := yq_free_lt jt 128 (Nat.le_refl _)
  rw [hj] at hl
  have e : (nI j).toNatClampNeg = j := nI_clamp (by omega)
  have hA : vp_in (nI j) 128 := vp_in_nI hl (by omega)
  refine Exists.intro 129 (yr_put6 (py := (clk, jt, jp, jx, jg, jon, js, jv, jwh)) (fun n => ?_) 128 0 (by omega))
  dsimp only
  rw [hj]
  exact br_t yq_128 ⟨hA, nm_r (xq_up (by omega)) ⟨hA, nm_r (xq_up (by omega)) ⟨hA, nm_r (xq_up (by omega)) ⟨hA, nm_r (xq_up (by omega)) ⟨hA, nm_r (xq_up (by omega)) ⟨hA, nm_r (xq_up (by omega)) ⟨hA, nm_r (xq_up (by omega)) (nm_e ⟨hA, nm_r (xq_up (by omega)) h⟩)⟩⟩⟩⟩⟩⟩⟩
end
theorem yq_bnd {YL : List (Nat × qe_T)} {py : ty_py} {ck : Nat} (R : yq_L py ck YL) (hl : YL.length < 128) : ∃ j, j < 128 ∧ py.2.1 j = 0 := by
  by_cases h : ∃ j, j < 128 ∧ py.2.1 j = 0
  · exact h
  · exfalso
    have hsub : ∀ j ∈ List.range 128, j ∈ YL.map (·.1) := fun j hj => R.2.2.2.1 j (List.mem_range.mp hj) (fun z => h ⟨j, List.mem_range.mp hj, z⟩)
    have := List.Nodup.length_le_of_subset List.nodup_range hsub
    rw [List.length_range, List.length_map] at this
    omega
theorem yw_put {py : ty_py} {ck : Nat} {Q : List qe_T} (R : yq_R py ck Q) (hQ : Q.length < 128) (hck : ck < 2 ^ 30) (w k o x y s v s' v' : Int32) (hk : k + 1 ≠ 0) (hs : w = -1 → s' = s ∧ v' = v) :
    ∃ py', yq_R py' (ck + 1) (Q ++ [(w, k, o, x, y, s', v')]) ∧ ∀ kk ky ss gy (post : SY → Prop), post (mk_Y kk ky ss gy py') → wpY_put post (mk_Y kk ky ss gy py) (k + 1) o x y w s v := by
  obtain ⟨clk, jt, jp, jx, jg, jon, js, jv, jwh⟩ := py
  obtain ⟨YL, rfl, R⟩ := R
  rw [List.length_map] at hQ
  obtain ⟨j0, hj0, hz0⟩ := yq_bnd R hQ
  obtain ⟨h1, h2, h3, h4, h5, h6⟩ := R
  dsimp only at h2 h3 h4 h5 h6 hz0
  have hjl := yq_free_lt jt 128 (Nat.le_refl _)
  have hj0' := yq_free_0 jt 128 j0 hj0 hz0
  obtain ⟨j, hj⟩ : ∃ j, j = yq_free jt 128 := ⟨_, rfl⟩
  rw [← hj] at hjl hj0'
  have hne : ∀ z ∈ YL, z.1 ≠ j := fun z hz e => (h3 z hz).2.1 (by rw [e]; exact hj0')
  subst h2
  refine ⟨(nI ck + 1, upd jt j (k + 1), upd jp j o, upd jx j x, upd jg j y, upd jon j w, upd js j s, upd jv j v, upd jwh j (nI ck)), ⟨YL ++ [(j, (w, k, o, x, y, s', v'))], by rw [List.map_append]; rfl, ?_, ?_, fun z hz => ?_, fun i hi hi0 => ?_, ?_, fun z hz => ?_⟩, fun kk ky ss gy post h => yr_put hj.symm h⟩
  · rw [List.map_append, List.nodup_append]
    refine ⟨h1, by simp, fun a ha b hb => ?_⟩
    obtain ⟨z, hz, rfl⟩ := List.mem_map.mp ha
    simp at hb
    subst hb
    exact hne z hz
  · exact nI_1 ck
  · dsimp only
    rcases List.mem_append.mp hz with hz | hz
    · have g := h3 z hz
      have n := hne z hz
      rw [pk_un n, pk_un n, pk_un n, pk_un n, pk_un n, pk_un n, pk_un n]
      exact g
    · rw [List.mem_singleton.mp hz]
      dsimp only
      rw [pk_us, pk_us, pk_us, pk_us, pk_us, pk_us, pk_us]
      exact ⟨hjl, hk, rfl, rfl, rfl, rfl, rfl, fun z => ⟨(hs z).1.symm, (hs z).2.symm⟩⟩
  · dsimp only at hi0
    rw [List.map_append, List.mem_append]
    by_cases hij : i = j
    · subst hij; right; simp
    · rw [pk_un hij] at hi0
      exact Or.inl (h4 i hi hi0)
  · dsimp only
    rw [List.pairwise_append]
    refine ⟨h5.imp_of_mem (fun {a b} ha hb hab => ?_), List.pairwise_singleton _ _, fun a ha b hb => ?_⟩
    · rw [pk_un (hne a ha), pk_un (hne b hb)]; exact hab
    · rw [List.mem_singleton.mp hb]
      dsimp only
      rw [pk_un (hne a ha), pk_us, nI_toInt (by omega)]
      exact h6 a ha
  · dsimp only
    rcases List.mem_append.mp hz with hz | hz
    · rw [pk_un (hne z hz)]
      have := h6 z hz
      omega
    · rw [List.mem_singleton.mp hz]
      dsimp only
      rw [pk_us, nI_toInt (by omega)]
      omega
end
section
/-! the reference's pool: the earliest record, concluding, counting -/
section
variable {kk : ty_kk} {ky : ty_ky} {ss : ty_ss} {gy : ty_gy} {py : ty_py}
/-- the scan for the earliest record finds j -/
theorem yr_first {post : Int32 → Prop} {w : Int32} {j : Nat} (hj : j < 128) (hj0 : py.2.1 j ≠ 0) (hjw : py.2.2.2.2.2.1 j = w)
    (hmin : ∀ i, i < 128 → py.2.1 i ≠ 0 → py.2.2.2.2.2.1 i = w → i ≠ j → (py.2.2.2.2.2.2.2.2 j).toInt < (py.2.2.2.2.2.2.2.2 i).toInt) (h : post (nI j)) :
    ∀ d i, i + d = 128 → ∀ x2 : Int32, (j < i → x2 = nI j) → (i ≤ j → x2 = -1 ∨ ∃ b, b < 128 ∧ x2 = nI b ∧ py.2.1 b ≠ 0 ∧ py.2.2.2.2.2.1 b = w ∧ b ≠ j) → wY_first_4 post w kk.1 kk.2.1 kk.2.2.1 kk.2.2.2.1 kk.2.2.2.2.1 ss.1 ss.2.1 py.1 kk.2.2.2.2.2.1 kk.2.2.2.2.2.2.1 ky kk.2.2.2.2.2.2.2 ss.2.2.2.2.2.2.2.2 gy.1 gy.2.1 gy.2.2.1 gy.2.2.2 ss.2.2.1 ss.2.2.2.1 ss.2.2.2.2.2.1 ss.2.2.2.2.2.2.1 ss.2.2.2.2.1 ss.2.2.2.2.2.2.2.1 py.2.1 py.2.2.1 py.2.2.2.1 py.2.2.2.2.1 py.2.2.2.2.2.1 py.2.2.2.2.2.2.1 py.2.2.2.2.2.2.2.1 py.2.2.2.2.2.2.2.2 (d + 1) x2 (nI i)
  | 0, i, hi, x2, h1, _ => by
    have : i = 128 := by omega
    subst this
    rw [h1 hj]
    exact br_t yq_128 h
  | d + 1, i, hi, x2, h1, h2 => by
    have e : (nI i).toNatClampNeg = i := nI_clamp (by omega)
    have hin : vp_in (nI i) 128 := vp_in_nI (by omega) (by omega)
    have ih := yr_first hj hj0 hjw hmin h d (i + 1) (by omega)
    refine br_f (yq_n128 (by omega)) ⟨hin, ?_⟩
    by_cases hz : py.2.1 i = 0
    · have hij : i ≠ j := fun z => hj0 (z ▸ hz)
      exact br_t (by rw [e]; exact hz) (nm_r (nI_1 i) (ih x2 (fun z => h1 (by omega)) (fun z => h2 (by omega))))
    · refine br_f (by rw [e]; exact hz) ⟨hin, ?_⟩
      by_cases hw : py.2.2.2.2.2.1 i = w
      · refine br_t (by rw [e]; exact hw) ?_
        by_cases hij : i = j
        · subst hij
          rcases h2 (Nat.le_refl i) with h3 | ⟨b, hb, h3, h4, h5, h6⟩
          · exact br_t (by rw [h3]; decide) (nm_r (nI_1 i) (ih (nI i) (fun _ => rfl) (fun z => by omega)))
          · subst h3
            refine br_f (nI_pos (by omega)) ⟨hin, vp_in_nI hb (by omega), br_f ?_ (nm_r (nI_1 i) (ih (nI i) (fun _ => rfl) (fun z => by omega)))⟩
            rw [e, nI_clamp (by omega), Int32.le_iff_toInt_le]
            have := hmin b hb h4 h5 h6
            omega
        · have hm := hmin i (by omega) hz hw hij
          by_cases hlt : j < i
          · have h3 := h1 hlt
            subst h3
            refine br_f (nI_pos (by omega)) ⟨hin, vp_in_nI hj (by omega), br_t ?_ (nm_r (nI_1 i) (ih (nI j) (fun _ => rfl) (fun z => by omega)))⟩
            rw [e, nI_clamp (by omega), Int32.le_iff_toInt_le]
            omega
          · rcases h2 (by omega) with h3 | ⟨b, hb, h3, h4, h5, h6⟩
            · exact br_t (by rw [h3]; decide) (nm_r (nI_1 i) (ih (nI i) (fun z => by omega) (fun z => Or.inr ⟨i, by omega, rfl, hz, hw, hij⟩)))
            · subst h3
              refine br_f (nI_pos (by omega)) ⟨hin, vp_in_nI hb (by omega), br_c (fun _ => nm_r (nI_1 i) (ih (nI b) (fun z => by omega) (fun z => Or.inr ⟨b, hb, rfl, h4, h5, h6⟩))) (fun _ => nm_r (nI_1 i) (ih (nI i) (fun z => by omega) (fun z => Or.inr ⟨i, by omega, rfl, hz, hw, hij⟩)))⟩
      · have hij : i ≠ j := fun z => hw (z ▸ hjw)
        exact br_f (by rw [e]; exact hw) (nm_r (nI_1 i) (ih x2 (fun z => h1 (by omega)) (fun z => h2 (by omega))))
theorem yr_first0 {post : Int32 → Prop} {w : Int32} (hn : ∀ i, i < 128 → py.2.1 i ≠ 0 → py.2.2.2.2.2.1 i ≠ w) (h : post (-1)) :
    ∀ d i, i + d = 128 → wY_first_4 post w kk.1 kk.2.1 kk.2.2.1 kk.2.2.2.1 kk.2.2.2.2.1 ss.1 ss.2.1 py.1 kk.2.2.2.2.2.1 kk.2.2.2.2.2.2.1 ky kk.2.2.2.2.2.2.2 ss.2.2.2.2.2.2.2.2 gy.1 gy.2.1 gy.2.2.1 gy.2.2.2 ss.2.2.1 ss.2.2.2.1 ss.2.2.2.2.2.1 ss.2.2.2.2.2.2.1 ss.2.2.2.2.1 ss.2.2.2.2.2.2.2.1 py.2.1 py.2.2.1 py.2.2.2.1 py.2.2.2.2.1 py.2.2.2.2.2.1 py.2.2.2.2.2.2.1 py.2.2.2.2.2.2.2.1 py.2.2.2.2.2.2.2.2 (d + 1) (-1) (nI i)
  | 0, i, hi => by
    have : i = 128 := by omega
    subst this
    exact br_t yq_128 h
  | d + 1, i, hi => by
    have e : (nI i).toNatClampNeg = i := nI_clamp (by omega)
    have hin : vp_in (nI i) 128 := vp_in_nI (by omega) (by omega)
    have ih := yr_first0 hn h d (i + 1) (by omega)
    refine br_f (yq_n128 (by omega)) ⟨hin, ?_⟩
    by_cases hz : py.2.1 i = 0
    · exact br_t (by rw [e]; exact hz) (nm_r (nI_1 i) ih)
    · exact br_f (by rw [e]; exact hz) ⟨hin, br_f (by rw [e]; exact hn i (by omega) hz) (nm_r (nI_1 i) ih)⟩
end
theorem yw_first0 {py : ty_py} {ck : Nat} {Q : List qe_T} {w : Int32} (R : yq_R py ck Q) (hn : ∀ e ∈ Q, e.1 ≠ w) {kk ky ss gy} {post : Int32 → Prop} (h : post (-1)) : wpY_first post (mk_Y kk ky ss gy py) w := by
  obtain ⟨YL, rfl, h1, h2, h3, h4, h5, h6⟩ := R
  refine Exists.intro 129 (yr_first0 (fun i hi hi0 hiw => ?_) h 128 0 (by omega))
  obtain ⟨z, hz, rfl⟩ := List.mem_map.mp (h4 i hi hi0)
  exact hn z.2 (List.mem_map.mpr ⟨z, hz, rfl⟩) ((h3 z hz).2.2.2.2.2.2.1.symm.trans hiw)
theorem yw_first1 {py : ty_py} {ck j : Nat} {Y1 Y2 : List (Nat × qe_T)} {E : qe_T} (R : yq_L py ck (Y1 ++ (j, E) :: Y2)) (hn : ∀ z ∈ Y1, z.2.1 ≠ E.1) {kk ky ss gy} {post : Int32 → Prop} (h : post (nI j)) : wpY_first post (mk_Y kk ky ss gy py) E.1 := by
  obtain ⟨h1, h2, h3, h4, h5, h6⟩ := R
  have hm := h3 (j, E) (by simp)
  rw [List.pairwise_append] at h5
  refine Exists.intro 129 (yr_first (j := j) hm.1 hm.2.1 hm.2.2.2.2.2.2.1 (fun i hi hi0 hiw hij => ?_) h 128 0 (by omega) (-1) (fun z => by omega) (fun _ => Or.inl rfl))
  obtain ⟨z, hz, rfl⟩ := List.mem_map.mp (h4 i hi hi0)
  rcases List.mem_append.mp hz with g | g
  · exact absurd ((h3 z hz).2.2.2.2.2.2.1.symm.trans hiw) (hn z g)
  · rcases List.mem_cons.mp g with g | g
    · exact absurd (by rw [g]) hij
    · exact (List.pairwise_cons.mp h5.2.1).1 z g
/-- one record moves to the end -/
theorem yq_mv1 {py : ty_py} {ck j : Nat} {Y1 Y2 : List (Nat × qe_T)} {E : qe_T} (R : yq_L py ck (Y1 ++ (j, E) :: Y2)) (hck : ck < 2 ^ 30) (s v : Int32) :
    yq_L (py.1 + 1, py.2.1, py.2.2.1, py.2.2.2.1, py.2.2.2.2.1, upd py.2.2.2.2.2.1 j (-1), upd py.2.2.2.2.2.2.1 j s, upd py.2.2.2.2.2.2.2.1 j v, upd py.2.2.2.2.2.2.2.2 j py.1) (ck + 1) (Y1 ++ Y2 ++ [(j, qe_mv s v E)]) := by
  obtain ⟨clk, jt, jp, jx, jg, jon, js, jv, jwh⟩ := py
  obtain ⟨h1, h2, h3, h4, h5, h6⟩ := R
  dsimp only at h2 h3 h4 h5 h6 ⊢
  subst h2
  have hm := h3 (j, E) (by simp)
  have hperm : (Y1 ++ Y2 ++ [(j, E)]).Perm (Y1 ++ (j, E) :: Y2) := by
    rw [List.append_assoc]
    exact (List.perm_append_comm (l₁ := Y2) (l₂ := [(j, E)])).append_left Y1
  have hmap : ((Y1 ++ Y2 ++ [(j, qe_mv s v E)]).map (·.1)) = ((Y1 ++ Y2 ++ [(j, E)]).map (·.1)) := by
    rw [List.map_append, List.map_append (l₂ := [(j, E)])]; rfl
  have hnd : ((Y1 ++ Y2 ++ [(j, E)]).map (·.1)).Nodup := ((hperm.map _).nodup_iff).mpr h1
  have hne : ∀ z ∈ Y1 ++ Y2, z.1 ≠ j := fun z hz e => by
    rw [List.map_append, List.nodup_append] at hnd
    exact hnd.2.2 z.1 (List.mem_map.mpr ⟨z, hz, rfl⟩) j (by simp) e
  have hold : ∀ z ∈ Y1 ++ Y2, z ∈ Y1 ++ (j, E) :: Y2 := fun z hz => by
    rcases List.mem_append.mp hz with hz | hz
    · exact List.mem_append_left _ hz
    · exact List.mem_append_right _ (List.mem_cons_of_mem _ hz)
  refine ⟨by rw [hmap]; exact hnd, nI_1 ck, fun z hz => ?_, fun i hi hi0 => ?_, ?_, fun z hz => ?_⟩
  · dsimp only
    rcases List.mem_append.mp hz with hz | hz
    · have g := h3 z (hold z hz)
      have n := hne z hz
      rw [pk_un n, pk_un n, pk_un n]
      exact g
    · rw [List.mem_singleton.mp hz]
      dsimp only
      rw [pk_us, pk_us, pk_us]
      exact ⟨hm.1, hm.2.1, hm.2.2.1, hm.2.2.2.1, hm.2.2.2.2.1, hm.2.2.2.2.2.1, rfl, fun _ => ⟨rfl, rfl⟩⟩
  · rw [hmap]
    exact (hperm.map _).mem_iff.mpr (h4 i hi hi0)
  · dsimp only
    rw [List.pairwise_append]
    refine ⟨?_, List.pairwise_singleton _ _, fun a ha b hb => ?_⟩
    · have hsub : (Y1 ++ Y2).Sublist (Y1 ++ (j, E) :: Y2) := List.Sublist.append (List.Sublist.refl _) (List.sublist_cons_self _ _)
      refine (h5.sublist hsub).imp_of_mem (fun {a b} ha hb hab => ?_)
      rw [pk_un (hne a ha), pk_un (hne b hb)]; exact hab
    · rw [List.mem_singleton.mp hb]
      dsimp only
      rw [pk_un (hne a ha), pk_us, nI_toInt (by omega)]
      exact h6 a (hold a ha)
  · dsimp only
    rcases List.mem_append.mp hz with hz | hz
    · rw [pk_un (hne z hz)]
      have := h6 z (hold z hz)
      omega
    · rw [List.mem_singleton.mp hz]
      dsimp only
      rw [pk_us, nI_toInt (by omega)]
      omega
theorem qq_conc0 {Q : List qe_T} {p : Int32} (s v : Int32) (h : ∀ e ∈ Q, e.1 ≠ p) : qq_conc Q p s v = Q := by
  have h1 : Q.filter (fun e => !qe_at p e) = Q := List.filter_eq_self.mpr (fun e he => by rw [qe_at_f (h e he)]; rfl)
  have h2 : Q.filter (qe_at p) = [] := List.filter_eq_nil_iff.mpr (fun e he => by rw [qe_at_f (h e he)]; decide)
  rw [qq_conc, h1, h2, List.map_nil, List.append_nil]
theorem qq_conc1 {Q1 Q2 : List qe_T} {E : qe_T} {p : Int32} (s v : Int32) (hp : (-1 : Int32) ≠ p) (h : ∀ e ∈ Q1, e.1 ≠ p) (hE : E.1 = p) : qq_conc (Q1 ++ Q2 ++ [qe_mv s v E]) p s v = qq_conc (Q1 ++ E :: Q2) p s v := by
  have h2 : Q1.filter (qe_at p) = [] := List.filter_eq_nil_iff.mpr (fun e he => by rw [qe_at_f (h e he)]; decide)
  have h3 : qe_at p E = true := qe_at_iff.mpr hE
  have h4 : qe_at p (qe_mv s v E) = false := qe_at_f hp
  rw [qq_conc, qq_conc]
  simp [List.filter_append, List.filter_cons, h2, h3, h4]
theorem qq_first (Q : List qe_T) (p : Int32) : (∀ e ∈ Q, e.1 ≠ p) ∨ ∃ Q1 E Q2, Q = Q1 ++ E :: Q2 ∧ (∀ e ∈ Q1, e.1 ≠ p) ∧ E.1 = p := by
  induction Q with
  | nil => exact Or.inl (fun e he => by cases he)
  | cons a r ih =>
    by_cases ha : a.1 = p
    · exact Or.inr ⟨[], a, r, rfl, fun e he => (by cases he), ha⟩
    · rcases ih with h | ⟨Q1, E, Q2, h1, h2, h3⟩
      · refine Or.inl (fun e he => ?_)
        rcases List.mem_cons.mp he with rfl | he
        · exact ha
        · exact h e he
      · refine Or.inr ⟨a :: Q1, E, Q2, by rw [h1]; rfl, fun e he => ?_, h3⟩
        rcases List.mem_cons.mp he with rfl | he
        · exact ha
        · exact h2 e he
theorem yw_f17 {p : Nat} (hp : p < 16) (s v : Int32) : ∀ (m i : Nat), i + m = 128 → ∀ (py : ty_py) (ck : Nat) (Q : List qe_T), yq_R py ck Q → Q.countP (qe_at (nI p)) ≤ m → ck + m < 2 ^ 30 →
    ∃ py' ck', ck' ≤ ck + m ∧ yq_R py' ck' (qq_conc Q (nI p) s v) ∧ ∀ kk ky ss gy (post : SY → Prop), post (mk_Y kk ky ss gy py') → wY_finish_17 post (nI p) s v kk.1 kk.2.1 kk.2.2.1 kk.2.2.2.1 kk.2.2.2.2.1 ss.1 ss.2.1 kk.2.2.2.2.2.1 (m + 1) (nI i) py.1 kk.2.2.2.2.2.2.1 ky kk.2.2.2.2.2.2.2 ss.2.2.2.2.2.2.2.2 gy.1 gy.2.1 gy.2.2.1 gy.2.2.2 ss.2.2.1 ss.2.2.2.1 ss.2.2.2.2.2.1 ss.2.2.2.2.2.2.1 ss.2.2.2.2.1 ss.2.2.2.2.2.2.2.1 py.2.1 py.2.2.1 py.2.2.2.1 py.2.2.2.2.1 py.2.2.2.2.2.1 py.2.2.2.2.2.2.1 py.2.2.2.2.2.2.2.1 py.2.2.2.2.2.2.2.2
  | 0, i, hi, py, ck, Q, R, hc, hck => by
    have : i = 128 := by omega
    subst this
    have h0 : ∀ e ∈ Q, e.1 ≠ nI p := fun e he h => by
      have : 0 < Q.countP (qe_at (nI p)) := List.countP_pos_iff.mpr ⟨e, he, qe_at_iff.mpr h⟩
      omega
    refine ⟨py, ck, by omega, by rw [qq_conc0 s v h0]; exact R, fun kk ky ss gy post h => br_t yq_128 h⟩
  | m + 1, i, hi, py, ck, Q, R, hc, hck => by
    rcases qq_first Q (nI p) with h0 | ⟨Q1, E, Q2, rfl, h1, hE⟩
    · obtain ⟨py', ck', g1, g2, g3⟩ := yw_f17 hp s v m (i + 1) (by omega) py ck Q R (by
        have : Q.countP (qe_at (nI p)) = 0 := List.countP_eq_zero.mpr (fun e he => by rw [qe_at_f (h0 e he)]; decide)
        omega) (by omega)
      refine ⟨py', ck', by omega, g2, fun kk ky ss gy post h => br_f (yq_n128 (by omega)) (yw_first0 R h0 (br_t (by decide) (nm_r (nI_1 i) (g3 kk ky ss gy post h))))⟩
    · obtain ⟨YL, hQ, R⟩ := R
      obtain ⟨Y1, j, Y2, rfl, hY1, hY2⟩ := xq_split hQ
      have hj128 := (R.2.2.1 (j, E) (by simp)).1
      have hn : ∀ z ∈ Y1, z.2.1 ≠ E.1 := fun z hz => by rw [hE]; exact h1 z.2 (by rw [← hY1]; exact List.mem_map.mpr ⟨z, hz, rfl⟩)
      have R1 := yq_mv1 R (by omega) s v
      obtain ⟨py', ck', g1, g2, g3⟩ := yw_f17 hp s v m (i + 1) (by omega) _ (ck + 1) (Q1 ++ Q2 ++ [qe_mv s v E]) ⟨_, by rw [List.map_append, List.map_append, hY1, hY2]; rfl, R1⟩ (by
        have h4 : qe_at (nI p) (qe_mv s v E) = false := qe_at_f (xq_m1 p hp)
        have h3 : qe_at (nI p) E = true := qe_at_iff.mpr hE
        simp only [List.countP_append, List.countP_cons, List.countP_nil, h3, h4] at hc ⊢
        simp at hc ⊢
        omega) (by omega)
      have e : (nI j).toNatClampNeg = j := nI_clamp (by omega)
      have hA : vp_in (nI j) 128 := vp_in_nI hj128 (by omega)
      refine ⟨py', ck', by omega, by rw [← qq_conc1 s v (xq_m1 p hp) h1 hE]; exact g2, fun kk ky ss gy post h => br_f (yq_n128 (by omega)) ?_⟩
      rw [← hE]
      refine yw_first1 R hn (br_f (nI_pos (by omega)) ?_)
      rw [hE]
      exact ⟨hA, nm_r (xq_up (by omega)) ⟨hA, nm_r (xq_up (by omega)) ⟨hA, nm_r (xq_up (by omega)) (nm_e ⟨hA, nm_r (xq_up (by omega)) (nm_r (nI_1 i) (g3 kk ky ss gy post h))⟩)⟩⟩⟩
theorem yw_fin {py : ty_py} {ck p : Nat} {Q : List qe_T} (R : yq_R py ck Q) (hp : p < 16) (hQ : Q.length ≤ 128) (hck : ck + 128 < 2 ^ 30) (s v : Int32) :
    ∃ py' ck', ck' ≤ ck + 128 ∧ yq_R py' ck' (qq_conc Q (nI p) s v) ∧ ∀ kk ky c ou st val host kinds masks asleep out gy (post : SY → Prop), post (mk_Y kk ky (c, ou, upd st p s, upd val p v, host, kinds, masks, asleep, out) gy py') → wpY_finish post (mk_Y kk ky (c, ou, st, val, host, kinds, masks, asleep, out) gy py) (nI p) s v := by
  obtain ⟨py', ck', g1, g2, g3⟩ := yw_f17 hp s v 128 0 (by omega) py ck Q R (Nat.le_trans List.countP_le_length hQ) hck
  refine ⟨py', ck', g1, g2, fun kk ky c ou st val host kinds masks asleep out gy post h => ?_⟩
  have hA : vp_in (nI p) 16 := vp_in_nI hp (by omega)
  exact And.intro hA (nm_r (xq_up (by omega)) ⟨hA, nm_r (xq_up (by omega)) ⟨129, g3 kk ky _ gy post h⟩⟩)
end
section
/-! the reference's counts of records -/
def yq_cnt (h : Nat → Bool) : Nat → Nat
  | 0 => 0
  | i + 1 => yq_cnt h i + (if h i = true then 1 else 0)
theorem yq_cnt_range (h : Nat → Bool) : ∀ i, yq_cnt h i = (List.range i).countP h
  | 0 => rfl
  | i + 1 => by
    rw [List.range_succ, List.countP_append, List.countP_singleton, ← yq_cnt_range h i]; rfl
theorem yq_cnt_le (h : Nat → Bool) : ∀ i, yq_cnt h i ≤ i
  | 0 => Nat.le_refl _
  | i + 1 => by
    have := yq_cnt_le h i
    rw [yq_cnt]
    split <;> omega
theorem yq_cntQ {py : ty_py} {ck : Nat} {YL : List (Nat × qe_T)} (R : yq_L py ck YL) {h : Nat → Bool} {f : qe_T → Bool} (hz : ∀ z ∈ YL, h z.1 = f z.2) (hl : ∀ i, i < 128 → h i = true → py.2.1 i ≠ 0) : yq_cnt h 128 = (YL.map (·.2)).countP f := by
  have h1 : (YL.map (·.2)).countP f = (YL.map (·.1)).countP h := by
    rw [List.countP_map, List.countP_map]
    exact List.countP_congr (fun z hz' => by simp only [Function.comp]; rw [hz z hz'])
  rw [h1, yq_cnt_range, List.countP_eq_length_filter, List.countP_eq_length_filter]
  refine List.Perm.length_eq ((List.perm_ext_iff_of_nodup (List.nodup_range.sublist List.filter_sublist) (R.1.sublist List.filter_sublist)).mpr (fun a => ?_))
  rw [List.mem_filter, List.mem_filter, List.mem_range]
  constructor
  · rintro ⟨ha, hh⟩
    exact ⟨R.2.2.2.1 a ha (hl a ha hh), hh⟩
  · rintro ⟨ha, hh⟩
    obtain ⟨z, hz', rfl⟩ := List.mem_map.mp ha
    exact ⟨(R.2.2.1 z hz').1, hh⟩
section
variable {kk : ty_kk} {ky : ty_ky} {ss : ty_ss} {gy : ty_gy} {py : ty_py}
def yq_hr (py : ty_py) (w : Int32) (i : Nat) : Bool := !(py.2.1 i == 0) && py.2.2.2.2.2.1 i == w
theorem yr_rec {post : Int32 → Prop} {w : Int32} (h : post (nI (yq_cnt (yq_hr py w) 128))) : ∀ d i, i + d = 128 → wY_records_4 post w kk.1 kk.2.1 kk.2.2.1 kk.2.2.2.1 kk.2.2.2.2.1 ss.1 ss.2.1 py.1 kk.2.2.2.2.2.1 kk.2.2.2.2.2.2.1 ky kk.2.2.2.2.2.2.2 ss.2.2.2.2.2.2.2.2 gy.1 gy.2.1 gy.2.2.1 gy.2.2.2 ss.2.2.1 ss.2.2.2.1 ss.2.2.2.2.2.1 ss.2.2.2.2.2.2.1 ss.2.2.2.2.1 ss.2.2.2.2.2.2.2.1 py.2.1 py.2.2.1 py.2.2.2.1 py.2.2.2.2.1 py.2.2.2.2.2.1 py.2.2.2.2.2.2.1 py.2.2.2.2.2.2.2.1 py.2.2.2.2.2.2.2.2 (d + 1) (nI (yq_cnt (yq_hr py w) i)) (nI i)
  | 0, i, hi => by
    have : i = 128 := by omega
    subst this
    exact br_t yq_128 h
  | d + 1, i, hi => by
    have e : (nI i).toNatClampNeg = i := nI_clamp (by omega)
    have hin : vp_in (nI i) 128 := vp_in_nI (by omega) (by omega)
    have ih := yr_rec h d (i + 1) (by omega)
    rw [yq_cnt] at ih
    refine br_f (yq_n128 (by omega)) ⟨hin, ?_⟩
    by_cases hz : py.2.1 i = 0
    · rw [if_neg (by simp [yq_hr, hz])] at ih
      exact br_t (by rw [e]; exact hz) (nm_r (nI_1 i) ih)
    · refine br_f (by rw [e]; exact hz) ⟨hin, ?_⟩
      by_cases hw : py.2.2.2.2.2.1 i = w
      · rw [if_pos (by simp [yq_hr, hz, hw])] at ih
        exact br_t (by rw [e]; exact hw) (nm_r (nI_1 _) (nm_r (nI_1 i) ih))
      · rw [if_neg (by simp [yq_hr, hw])] at ih
        exact br_f (by rw [e]; exact hw) (nm_r (nI_1 i) ih)
end
theorem yw_rec {py : ty_py} {ck : Nat} {Q : List qe_T} (R : yq_R py ck Q) (w : Int32) {kk ky ss gy} {post : Int32 → Prop} (h : post (nI (Q.countP (qe_at w)))) : wpY_records post (mk_Y kk ky ss gy py) w := by
  obtain ⟨YL, rfl, R⟩ := R
  have hc : yq_cnt (yq_hr py w) 128 = (YL.map (·.2)).countP (qe_at w) := yq_cntQ R (fun z hz => by
      have g := R.2.2.1 z hz
      have h0 : (py.2.1 z.1 == 0) = false := by simpa using g.2.1
      rw [yq_hr, h0, g.2.2.2.2.2.2.1]; rfl) (fun i hi hh => by
      intro h0
      rw [yq_hr, h0] at hh
      exact absurd hh (by simp))
  rw [← hc] at h
  exact Exists.intro 129 (yr_rec h 128 0 (by omega))
end
section
/-! the potential of an activation -/
def pt_w : Nat → Nat
  | 0 => 64
  | 1 => 16
  | 2 => 4
  | _ => 1
theorem pt_w1 (d : Nat) : 1 ≤ pt_w d := by
  rcases d with _ | _ | _ | d
  · decide
  · decide
  · decide
  · exact Nat.le_refl 1
theorem pt_wm (d : Nat) : pt_w (d + 1) ≤ pt_w d := by
  rcases d with _ | _ | _ | d
  · decide
  · decide
  · decide
  · exact Nat.le_refl 1
theorem pt_w4 {d : Nat} (h : d < 3) : pt_w d = 4 * pt_w (d + 1) := by
  rcases d with _ | _ | _ | d
  · decide
  · decide
  · decide
  · omega
def pt_E (ops : Nat → Int32) (n b : Nat) : Nat := pg_close ops n 14 (b + 1)
def pt (ops : Nat → Int32) (n : Nat) (cn : Nat → Nat → Nat) : List (Nat × Nat) → Nat → Nat
  | [], E => 64 * (n - E)
  | e :: r, E => pt_w (r.length + 1) * ((pt_E ops n e.1 + 1 - E) + (cn e.1 r.length - 1) * (pt_E ops n e.1 - e.1)) + pt ops n cn r (pt_E ops n e.1 + 1)
def pt_ok (ops : Nat → Int32) (n : Nat) : List (Nat × Nat) → Nat → Prop
  | [], E => E ≤ n
  | e :: r, E => E ≤ pt_E ops n e.1 ∧ pt_ok ops n r (pt_E ops n e.1 + 1)
def pt_bd (ops : Nat → Int32) (n : Nat) : List (Nat × Nat) → Nat → Prop
  | [], E => E ≤ n
  | e :: _, E => E ≤ pt_E ops n e.1 + 1
section
variable {ops : Nat → Int32} {n : Nat}
theorem pt_congr {cn cn' : Nat → Nat → Nat} : ∀ {l : List (Nat × Nat)} {E : Nat}, (∀ b d, d < l.length → cn' b d = cn b d) → pt ops n cn' l E = pt ops n cn l E
  | [], _, _ => rfl
  | e :: r, E, h => by
    rw [pt, pt, h e.1 r.length (by rw [List.length_cons]; omega), pt_congr (l := r) (fun b d hd => h b d (by rw [List.length_cons]; omega))]
theorem pt_fwd {cn : Nat → Nat → Nat} {l : List (Nat × Nat)} {p q : Nat} (h : p ≤ q) (hb : pt_bd ops n l q) : pt ops n cn l p = pt ops n cn l q + pt_w l.length * (q - p) := by
  cases l with
  | nil =>
    have hb' : q ≤ n := hb
    rw [pt, pt, List.length_nil, show pt_w 0 = 64 from rfl]
    omega
  | cons e r =>
    have hb' : q ≤ pt_E ops n e.1 + 1 := hb
    rw [pt, pt, List.length_cons]
    rw [show pt_E ops n e.1 + 1 - p = (pt_E ops n e.1 + 1 - q) + (q - p) by omega]
    generalize (cn e.1 r.length - 1) * (pt_E ops n e.1 - e.1) = B
    generalize pt_E ops n e.1 + 1 - q = A
    generalize q - p = D
    rw [show A + D + B = (A + B) + D by omega, Nat.mul_add]
    omega
/-- one forward step on a level -/
theorem pt_f1 {cn : Nat → Nat → Nat} {l : List (Nat × Nat)} {p q : Nat} (h : p < q) (hb : pt_bd ops n l q) : pt ops n cn l q + 1 ≤ pt ops n cn l p := by
  rw [pt_fwd (Nat.le_of_lt h) hb]
  have := Nat.mul_le_mul (pt_w1 l.length) (show 1 ≤ q - p by omega)
  omega
/-- into a block whose body is gone through k times -/
theorem pt_in {cn cn' : Nat → Nat → Nat} {l : List (Nat × Nat)} {b k x : Nat} (hE : b < pt_E ops n b) (hb : pt_bd ops n l (pt_E ops n b + 1)) (hk : cn' b l.length = k) (hc : ∀ b d, d < l.length → cn' b d = cn b d) (h1 : 1 ≤ k) (h4 : k ≤ 4) (hl : l.length < 3) :
    pt ops n cn' ((b, x) :: l) (b + 1) + 2 ≤ pt ops n cn l b := by
  rw [pt, pt_congr hc, pt_fwd (p := b) (cn := cn) (by omega) hb, hk, pt_w4 hl]
  have h5 := pt_w1 (l.length + 1)
  generalize pt_w (l.length + 1) = w at *
  generalize pt ops n cn l (pt_E ops n b + 1) = T
  obtain ⟨A, hA⟩ : ∃ A, pt_E ops n b = b + A := ⟨pt_E ops n b - b, by omega⟩
  rw [hA, show b + A + 1 - (b + 1) = A by omega, show b + A - b = A by omega, show b + A + 1 - b = A + 1 by omega]
  have h6 : A + (k - 1) * A ≤ 4 * A := by
    have : k = 1 ∨ k = 2 ∨ k = 3 ∨ k = 4 := by omega
    rcases this with rfl | rfl | rfl | rfl <;> omega
  have h7 := Nat.mul_le_mul_left w h6
  rw [show 4 * w * (A + 1) = w * (4 * A) + 4 * w by rw [Nat.mul_add, Nat.mul_one, Nat.mul_comm 4 w, Nat.mul_assoc]]
  omega
/-- back from the end of a loop to its head -/
theorem pt_back {cn cn' : Nat → Nat → Nat} {r : List (Nat × Nat)} {b x y k : Nat} (hE : b < pt_E ops n b) (hk : cn b r.length = k + 2) (hk' : cn' b r.length = k + 1) (hc : ∀ b d, d < r.length → cn' b d = cn b d) :
    pt ops n cn' ((b, x) :: r) (b + 1) + 1 ≤ pt ops n cn ((b, y) :: r) (pt_E ops n b) := by
  rw [pt, pt, pt_congr hc, hk, hk']
  have h5 := pt_w1 (r.length + 1)
  dsimp only
  generalize pt_w (r.length + 1) = w at *
  generalize pt ops n cn r (pt_E ops n b + 1) = T
  obtain ⟨A, hA⟩ : ∃ A, pt_E ops n b = b + A := ⟨pt_E ops n b - b, by omega⟩
  rw [hA, show b + A + 1 - (b + 1) = A by omega, show b + A - b = A by omega, show b + A + 1 - (b + A) = 1 by omega, show k + 1 - 1 = k by omega, show k + 2 - 1 = k + 1 by omega, Nat.mul_add w 1, Nat.add_mul, Nat.one_mul, show A + k * A = k * A + A by omega]
  omega
/-- out of blocks, behind the end of b -/
theorem pt_out {cn : Nat → Nat → Nat} {r : List (Nat × Nat)} {b x : Nat} : ∀ {ext : List (Nat × Nat)} {p : Nat}, pt_ok ops n (ext ++ (b, x) :: r) p → pt ops n cn r (pt_E ops n b + 1) + 1 ≤ pt ops n cn (ext ++ (b, x) :: r) p
  | [], p, h => by
    have h' : p ≤ pt_E ops n b := h.1
    rw [List.nil_append, pt]
    have h5 := Nat.mul_le_mul (pt_w1 (r.length + 1)) (show 1 ≤ (pt_E ops n b + 1 - p) + (cn b r.length - 1) * (pt_E ops n b - b) by omega)
    dsimp only
    omega
  | e :: ext, p, h => by
    have := pt_out (cn := cn) (ext := ext) (p := pt_E ops n e.1 + 1) h.2
    exact Nat.le_trans this (Nat.le_add_left _ _)
/-- to the catch of t -/
theorem pt_thr {cn : Nat → Nat → Nat} {r : List (Nat × Nat)} {t x y c : Nat} (hc : c ≤ pt_E ops n t) : ∀ {ext : List (Nat × Nat)} {p : Nat}, p ≤ c → (∀ e ∈ ext, pt_E ops n e.1 < c) → pt ops n cn ((t, y) :: r) (c + 1) + 1 ≤ pt ops n cn (ext ++ (t, x) :: r) p
  | [], p, h, _ => by
    have h1 : pt ops n cn ((t, x) :: r) p = pt ops n cn ((t, y) :: r) p := rfl
    rw [List.nil_append, h1]
    exact pt_f1 (by omega) (show c + 1 ≤ pt_E ops n t + 1 by omega)
  | e :: ext, p, h, he => by
    have := pt_thr (cn := cn) (x := x) (y := y) (r := r) hc (ext := ext) (p := pt_E ops n e.1 + 1) (he e (List.mem_cons_self ..)) (fun f hf => he f (List.mem_cons_of_mem _ hf))
    exact Nat.le_trans this (Nat.le_add_left _ _)
end
/-- a sealed program's blocks all close -/
theorem sp_end {ops : Nat → Int32} {n b : Nat} (hn : n ≤ 32) (hz : pg_stk ops n = []) (hb : b < n) (hk : pg_blk (ops b) = true) :
    ∃ c, b < pt_E ops n b ∧ pt_E ops n b < n ∧ ops (pt_E ops n b) = 14 ∧ pg_stk ops (pt_E ops n b) = (b, c) :: pg_stk ops b ∧ pg_stk ops (pt_E ops n b + 1) = pg_stk ops b := by
  obtain ⟨e, c, h1, h2, h3, h4⟩ := pg_clos hk n hb (fun c hc => by rw [hz] at hc; cases hc)
  have he : pt_E ops n b = e := pg_E_at (by omega) h2 h3 h4
  rw [he]
  exact ⟨c, h1, h2, h3, h4, by rw [pg_stk_e h3, h4]; rfl⟩
theorem sp_ptok {ops : Nat → Int32} {n : Nat} (hn : n ≤ 32) (hz : pg_stk ops n = []) : ∀ k p, p ≤ n → (pg_stk ops p).length = k → pt_ok ops n (pg_stk ops p) p
  | 0, p, hp, hk => by
    rw [List.eq_nil_of_length_eq_zero hk]; exact hp
  | k + 1, p, hp, hk => by
    cases hs : pg_stk ops p with
    | nil => exact hp
    | cons e r =>
      obtain ⟨b, c⟩ := e
      have hh := pg_hd hs
      obtain ⟨c', g1, g2, g3, g4, g5⟩ := sp_end hn hz (show b < n by omega) hh.2.1
      have hge : p ≤ pt_E ops n b := pg_E_ge (by omega) (show (b, c) ∈ pg_stk ops p by rw [hs]; exact List.mem_cons_self ..) hp
      refine ⟨hge, ?_⟩
      show pt_ok ops n r (pt_E ops n b + 1)
      rw [hs, List.length_cons] at hk
      have := sp_ptok hn hz k (pt_E ops n b + 1) (by omega) (by rw [g5, ← hh.1]; omega)
      rw [g5, ← hh.1] at this
      exact this
theorem pt_bd_ok {ops : Nat → Int32} {n : Nat} {l : List (Nat × Nat)} {p q : Nat} (h : pt_ok ops n l p) (hq : q ≤ p + 1) (hn : q ≤ n) : pt_bd ops n l q := by
  cases l with
  | nil => exact hn
  | cons e r => exact Nat.le_trans hq (Nat.succ_le_succ h.1)
end
section
/-! the relation's pieces -/
def rl_v (c : Nat) (v : Int32) : Prop := v.toInt < 65536 + (c : Int)
def rl_vx (r m : Nat) : Nat := if m < 4 then 4 * r + m else 60 + m
def rl_A (c : Nat) (st val : Nat → Int32) : Prop := ∀ p, p < 16 → (st p = 0 ∨ st p = 1 ∨ st p = 2 ∨ st p = 3) ∧ rl_v c (val p)
def rl_B (c : Nat) (vars slots cells : Nat → Int32) : Prop := (∀ j, j < 68 → rl_v c (vars j)) ∧ (∀ j, j < 64 → slots j = vars j) ∧ (∀ j, j < 4 → cells j = vars (64 + j))
def rl_h (F : Nat) (x : Int32) : Prop := x = -1 ∨ ∃ f, f < F ∧ x = nI f
def rl_q (c F : Nat) (e : qe_T) : Prop :=
  (∃ o, o < c ∧ e.2.2.1 = nI o) ∧ (e.1 = -1 ∨ ∃ p, p < c ∧ e.1 = nI p) ∧ (e.2.1 = 0 ∨ e.2.1 = 1 ∨ e.2.1 = 2 ∨ e.2.1 = 3 ∨ e.2.1 = 4) ∧
  (e.1 = -1 → rl_v c e.2.2.2.2.2.2 ∧ (e.2.1 ≠ 0 → e.2.2.2.2.2.1 = 2 ∨ e.2.2.2.2.2.1 = 3)) ∧ (e.2.1 = 0 → ∃ q, q < c ∧ e.2.2.2.1 = nI q) ∧ (e.2.1 = 3 → rl_h F e.2.2.2.1 ∧ rl_h F e.2.2.2.2.1)
def rl_C (c F : Nat) (Q : List qe_T) : Prop := ∀ e ∈ Q, rl_q c F e
def rl_cQ (Q : List qe_T) (p : Int32) : Nat := Q.countP (fun e => e.2.2.1 == p)
def rl_cK (Q : List qe_T) (k p : Int32) : Nat := Q.countP (fun e => e.2.1 == k && e.2.2.1 == p)
def rl_D (rem : Nat → Int32) (Q : List qe_T) : Prop := ∀ d, d < 16 → rem d = nI (rl_cK Q 4 (nI d))
def rl_mx (p : Nat) : Nat := if p = 0 then 1 else p
def rl_hp (host st : Nat → Int32) (p : Nat) : Nat := if host p ≠ 0 ∧ st p = 0 then 1 else 0
def rl_ic (ch : List Nat) (p : Nat) : Nat := if p ∈ ch then 1 else 0
def rl_E (rs : Nat) (ch : List Nat) (host st : Nat → Int32) (Q : List qe_T) : Prop := ∀ p, p < 16 → rl_cQ Q (nI p) + rl_ic ch p + rl_hp host st p + (if p = rs % 17 then 1 else 0) ≤ rl_mx p
def rl_F (asleep : Nat → Int32) (Q : List qe_T) : Prop := ∀ p, p < 16 → (asleep p = 0 ∨ asleep p = 1) ∧ rl_cK Q 2 (nI p) ≤ (if asleep p = 0 then 0 else 1)
def rl_Z (c : Nat) (host asleep : Nat → Int32) : Prop := ∀ p, p < 16 → c ≤ p → host p = 0 ∧ asleep p = 0
def rl_ch (cl : Nat → Int32) : List Nat → Prop
  | [] => True
  | [r] => cl r = -1
  | r :: q :: t => cl r = nI q ∧ rl_ch cl (q :: t)
def rl_G (c : Nat) (asleep cx cy : Nat → Int32) (ch : List Nat) : Prop := ch.Nodup ∧ (∀ r ∈ ch, r < c ∧ asleep r = 0) ∧ rl_ch cx ch ∧ rl_ch cy ch ∧ ∀ p, p < 16 → asleep p ≠ 0 → cx p = -1 ∧ cy p = -1
def rl_RR (ops rx ry : Nat → Int32) (r : Nat) : List (Nat × Nat) → Prop
  | [] => True
  | e :: t => (ops e.1 = 10 → ∃ k, 1 ≤ k ∧ k ≤ 4 ∧ rx (3 * r + t.length) = nI k ∧ ry (32 * r + e.1) = nI (k - 1)) ∧ rl_RR ops rx ry r t
def rl_at (ops : Nat → Int32) (n : Nat) (pcx pcy rx ry : Nat → Int32) (op : Int32) (r : Nat) : Prop :=
  ∃ i, i < n ∧ pcx r = nI i ∧ pcy r = nI (i + 1) ∧ ops i = op ∧ rl_RR ops rx ry r (pg_stk ops i)
def rl_rn (ops : Nat → Int32) (n : Nat) (pcx pcy rx ry : Nat → Int32) (r : Nat) : Prop :=
  ∃ i, i ≤ n ∧ pcx r = nI i ∧ pcy r = nI i ∧ rl_RR ops rx ry r (pg_stk ops i)
def rl_Hc (ops : Nat → Int32) (n : Nat) (pcx pcy rx ry : Nat → Int32) : List Nat → Prop
  | [] => True
  | r :: t => rl_rn ops n pcx pcy rx ry r ∧ ∀ q ∈ t, rl_at ops n pcx pcy rx ry 4 q
def rl_H (ops : Nat → Int32) (n : Nat) (pcx pcy rx ry asleep : Nat → Int32) (ch : List Nat) : Prop :=
  (∀ p, p < 16 → asleep p ≠ 0 → rl_at ops n pcx pcy rx ry 5 p) ∧ rl_Hc ops n pcx pcy rx ry ch
def rl_M (c : Nat) (masks : Nat → Int32) : Prop := ∀ d, d < 16 → ∀ i, i < 32 → c ≤ i → bt (masks d) i = false
def rl_cn (ops rx : Nat → Int32) (r : Nat) (b d : Nat) : Nat := if ops b = 10 then (rx (3 * r + d)).toNatClampNeg else 1
def rl_po (ops : Nat → Int32) (n : Nat) (pcx rx : Nat → Int32) (r : Nat) : Nat := pt ops n (rl_cn ops rx r) (pg_stk ops (pcx r).toNatClampNeg) (pcx r).toNatClampNeg
def rl_ps (ops : Nat → Int32) (n : Nat) (pcx rx : Nat → Int32) : List Nat → Nat
  | [] => 0
  | r :: t => rl_po ops n pcx rx r + 1 + rl_ps ops n pcx rx t
theorem rl_v_mono {c c' : Nat} {v : Int32} (h : c ≤ c') (hv : rl_v c v) : rl_v c' v := by
  rw [rl_v] at *; omega
theorem rl_v_16 (c : Nat) (x : Int32) : rl_v c x.toInt16.toInt32 := by
  have := (lw_i16_r x).2
  rw [rl_v]
  show (lw_i16 x).toInt < _
  omega
theorem rl_v_ref {c r : Nat} (h : r < c) (hr : r < 16) : rl_v c (nI (65536 + r)) := by
  rw [rl_v, nI_toInt (by omega)]; omega
theorem rl_v_neg {c : Nat} {v : Int32} (h : v.toInt < 65536) : rl_v c v := by
  rw [rl_v]; omega
/-- a reference within the limits -/
theorem rl_v_of {c : Nat} {v : Int32} (h : rl_v c v) (h1 : (65536 : Int32) ≤ v) : ∃ q, q < c ∧ v = nI (65536 + q) ∧ v - 65536 = nI q := by
  rw [rl_v] at h
  rw [Int32.le_iff_toInt_le, show (65536 : Int32).toInt = 65536 from by decide] at h1
  obtain ⟨j, hj, rfl⟩ := nI_of (x := v) (by rw [Int32.lt_iff_toInt_lt, show (0 : Int32).toInt = 0 from by decide]; omega)
  rw [nI_toInt hj] at h h1
  refine ⟨j - 65536, by omega, congrArg nI (by omega), ?_⟩
  exact pk_sub (a := j) (b := 65536) (by omega)
theorem rl_A_mono {c c' : Nat} {st val : Nat → Int32} (h : c ≤ c') (H : rl_A c st val) : rl_A c' st val :=
  fun p hp => ⟨(H p hp).1, rl_v_mono h (H p hp).2⟩
theorem rl_B_mono {c c' : Nat} {vars slots cells : Nat → Int32} (h : c ≤ c') (H : rl_B c vars slots cells) : rl_B c' vars slots cells :=
  ⟨fun j hj => rl_v_mono h (H.1 j hj), H.2⟩
theorem rl_q_mono {c c' F F' : Nat} {e : qe_T} (h : c ≤ c') (hF : F ≤ F') (H : rl_q c F e) : rl_q c' F' e := by
  obtain ⟨⟨o, h1, h2⟩, h3, h4, h5, h6, h7⟩ := H
  refine ⟨⟨o, by omega, h2⟩, ?_, h4, fun z => ⟨rl_v_mono h (h5 z).1, (h5 z).2⟩, fun z => ?_, fun z => ?_⟩
  · rcases h3 with h3 | ⟨p, h3, h3'⟩
    · exact Or.inl h3
    · exact Or.inr ⟨p, by omega, h3'⟩
  · obtain ⟨q, hq, hq'⟩ := h6 z
    exact ⟨q, by omega, hq'⟩
  · have up : ∀ x, rl_h F x → rl_h F' x := fun x hx => by
      rcases hx with hx | ⟨f, hf, hx⟩
      · exact Or.inl hx
      · exact Or.inr ⟨f, by omega, hx⟩
    exact ⟨up _ (h7 z).1, up _ (h7 z).2⟩
theorem rl_C_mono {c c' F F' : Nat} {Q : List qe_T} (h : c ≤ c') (hF : F ≤ F') (H : rl_C c F Q) : rl_C c' F' Q := fun e he => rl_q_mono h hF (H e he)
theorem rl_M_mono {c c' : Nat} {masks : Nat → Int32} (h : c ≤ c') (H : rl_M c masks) : rl_M c' masks := fun d hd i hi hc => H d hd i hi (by omega)
theorem rl_vx_lt {r m : Nat} (hr : r < 16) (hm : m < 8) : rl_vx r m < 68 := by
  rw [rl_vx]; split <;> omega
theorem rl_RR_congr {ops rx ry rx' ry' : Nat → Int32} {r : Nat} : ∀ {l : List (Nat × Nat)}, (∀ d, d < l.length → rx' (3 * r + d) = rx (3 * r + d)) → (∀ e ∈ l, ry' (32 * r + e.1) = ry (32 * r + e.1)) → rl_RR ops rx ry r l → rl_RR ops rx' ry' r l
  | [], _, _, _ => trivial
  | e :: t, h1, h2, H => by
    refine ⟨fun z => ?_, rl_RR_congr (fun d hd => h1 d (by rw [List.length_cons]; omega)) (fun f hf => h2 f (List.mem_cons_of_mem _ hf)) H.2⟩
    obtain ⟨k, k1, k4, kx, ky⟩ := H.1 z
    exact ⟨k, k1, k4, by rw [h1 _ (by rw [List.length_cons]; omega)]; exact kx, by rw [h2 e (List.mem_cons_self ..)]; exact ky⟩
theorem rl_RR_app {ops rx ry : Nat → Int32} {r : Nat} {l : List (Nat × Nat)} : ∀ {ext : List (Nat × Nat)}, rl_RR ops rx ry r (ext ++ l) → rl_RR ops rx ry r l
  | [], H => H
  | _ :: ext, H => rl_RR_app (ext := ext) H.2
/-! counting -/
def rl_sum (f : Nat → Nat) : Nat → Nat
  | 0 => 0
  | m + 1 => rl_sum f m + f m
theorem rl_sum_le {f g : Nat → Nat} : ∀ m, (∀ p, p < m → f p ≤ g p) → rl_sum f m ≤ rl_sum g m
  | 0, _ => Nat.le_refl _
  | m + 1, h => Nat.add_le_add (rl_sum_le m (fun p hp => h p (by omega))) (h m (by omega))
theorem rl_sum_add {f g : Nat → Nat} : ∀ m, rl_sum (fun p => f p + g p) m = rl_sum f m + rl_sum g m
  | 0 => rfl
  | m + 1 => by rw [rl_sum, rl_sum, rl_sum, rl_sum_add m]; omega
theorem rl_sum_1 : ∀ o, o < 16 → rl_sum (fun p => if (nI o == nI p) = true then 1 else 0) 16 = 1 := by decide
theorem rl_sum_mx : rl_sum rl_mx 16 = 121 := by decide
theorem rl_len16 {c F : Nat} (hc : c ≤ 16) : ∀ {Q : List qe_T}, rl_C c F Q → Q.length = rl_sum (fun p => rl_cQ Q (nI p)) 16
  | [], _ => by
    have : (fun p : Nat => rl_cQ [] (nI p)) = fun _ => 0 := rfl
    rw [this]; decide
  | e :: Q, H => by
    have ih := rl_len16 hc (Q := Q) (fun f hf => H f (List.mem_cons_of_mem _ hf))
    obtain ⟨⟨o, ho, heo⟩, _⟩ := H e (List.mem_cons_self ..)
    have h1 : (fun p => rl_cQ (e :: Q) (nI p)) = fun p => rl_cQ Q (nI p) + (if (nI o == nI p) = true then 1 else 0) := by
      funext p
      rw [rl_cQ, List.countP_cons, heo]; rfl
    rw [h1, rl_sum_add, ← ih, rl_sum_1 o (by omega), List.length_cons]
theorem rl_len {c F rs : Nat} {ch : List Nat} {host st : Nat → Int32} {Q : List qe_T} (hc : c ≤ 16) (HC : rl_C c F Q) (HE : rl_E rs ch host st Q) : Q.length ≤ 121 := by
  rw [rl_len16 hc HC, ← rl_sum_mx]
  exact rl_sum_le 16 (fun p hp => by have := HE p hp; omega)
theorem rl_cQ_app (Q R : List qe_T) (p : Int32) : rl_cQ (Q ++ R) p = rl_cQ Q p + rl_cQ R p := List.countP_append ..
theorem rl_cK_app (Q R : List qe_T) (k p : Int32) : rl_cK (Q ++ R) k p = rl_cK Q k p + rl_cK R k p := List.countP_append ..
theorem rl_conc_cnt (f : qe_T → Bool) (hf : ∀ s v e, f (qe_mv s v e) = f e) (Q : List qe_T) (p s v : Int32) : (qq_conc Q p s v).countP f = Q.countP f := by
  rw [qq_conc, List.countP_append, List.countP_map, show (f ∘ qe_mv s v) = f from funext (fun e => hf s v e), ← List.countP_append]
  refine List.Perm.countP_eq _ ?_
  exact (List.perm_append_comm).trans (List.filter_append_perm _ _)
theorem rl_conc_cQ (Q : List qe_T) (p s v q : Int32) : rl_cQ (qq_conc Q p s v) q = rl_cQ Q q := rl_conc_cnt _ (fun _ _ _ => rfl) Q p s v
theorem rl_conc_cK (Q : List qe_T) (p s v k q : Int32) : rl_cK (qq_conc Q p s v) k q = rl_cK Q k q := rl_conc_cnt _ (fun _ _ _ => rfl) Q p s v
theorem rl_conc_C {c F : Nat} {Q : List qe_T} {p s v : Int32} (H : rl_C c F Q) (hv : rl_v c v) (hs : s = 2 ∨ s = 3) : rl_C c F (qq_conc Q p s v) := by
  intro e he
  rcases List.mem_append.mp he with he | he
  · exact H e (List.mem_filter.mp he).1
  · obtain ⟨f, hf, rfl⟩ := List.mem_map.mp he
    obtain ⟨h1, h2, h3, h4, h5, h6⟩ := H f (List.mem_filter.mp hf).1
    exact ⟨h1, Or.inl rfl, h3, fun _ => ⟨hv, fun _ => hs⟩, h5, h6⟩
end
section
/-! small walks: operands, scans -/
theorem wk_i4 (r m : Nat) : nI r * 4 + nI m = nI (4 * r + m) := by
  rw [show (4 : Int32) = nI 4 from rfl, pk_mul, nI_add, Nat.mul_comm]
theorem wk_6 (m : Nat) : (60 : Int32) + nI m = nI (60 + m) := nI_add 60 m
theorem wk_ref (r : Nat) : (65536 : Int32) + nI r = nI (65536 + r) := nI_add 65536 r
theorem xw_read {c r m : Nat} {vars slots cells : Nat → Int32} {kk : ty_kk} {kx : ty_kx} {ss : ty_ss} {rem pcx rx cx : Nat → Int32} {px : ty_px} {post : Int32 → Prop} (HB : rl_B c vars slots cells) (hr : r < 16) (hm : m < 8) (h : post (vars (rl_vx r m))) :
    wpX_read post (mk_X kk kx ss (rem, pcx, slots, rx, cx, cells) px) (nI r) (nI m) := by
  by_cases h4 : m < 4
  · rw [rl_vx, if_pos h4] at h
    refine br_f (nI_ge (b := 4) h4 (by decide)) ?_
    dsimp only [mk_X]
    rw [wk_i4]
    refine ⟨vp_in_nI (by omega) (by omega), ?_⟩
    rw [nI_clamp (by omega), HB.2.1 _ (by omega)]
    exact h
  · rw [rl_vx, if_neg h4] at h
    refine br_t (nI_le (a := 4) (by omega) (by omega)) ?_
    dsimp only [mk_X]
    rw [show nI m - 4 = nI (m - 4) from pk_sub (b := 4) (by omega)]
    refine ⟨vp_in_nI (by omega) (by omega), ?_⟩
    rw [nI_clamp (by omega), HB.2.2 _ (by omega), show 64 + (m - 4) = 60 + m by omega]
    exact h
theorem xw_write {c r m : Nat} {vars slots cells : Nat → Int32} {v : Int32} (HB : rl_B c vars slots cells) (hr : r < 16) (hm : m < 8) (hv : rl_v c v) :
    ∃ slots' cells', rl_B c (upd vars (rl_vx r m) v) slots' cells' ∧ ∀ kk kx ss rem pcx rx cx px (post : SX → Prop), post (mk_X kk kx ss (rem, pcx, slots', rx, cx, cells') px) → wpX_write post (mk_X kk kx ss (rem, pcx, slots, rx, cx, cells) px) (nI r) (nI m) v := by
  have hvx := rl_vx_lt hr hm
  have hV : ∀ j, j < 68 → rl_v c (upd vars (rl_vx r m) v j) := fun j hj => by
    rw [upd]; split
    · exact hv
    · exact HB.1 j hj
  by_cases h4 : m < 4
  · refine ⟨upd slots (4 * r + m) v, cells, ⟨hV, fun j hj => ?_, fun j hj => ?_⟩, fun kk kx ss rem pcx rx cx px post h => br_f (nI_ge (b := 4) h4 (by decide)) ?_⟩
    · rw [rl_vx, if_pos h4, upd, upd]
      split
      · rfl
      · exact HB.2.1 j hj
    · rw [rl_vx, if_pos h4, pk_un (by omega)]
      exact HB.2.2 j hj
    · dsimp only [mk_X]
      rw [wk_i4]
      exact ⟨vp_in_nI (by omega) (by omega), nm_r (xq_up (by omega)) h⟩
  · refine ⟨slots, upd cells (m - 4) v, ⟨hV, fun j hj => ?_, fun j hj => ?_⟩, fun kk kx ss rem pcx rx cx px post h => br_t (nI_le (a := 4) (by omega) (by omega)) ?_⟩
    · rw [rl_vx, if_neg h4, pk_un (by omega)]
      exact HB.2.1 j hj
    · rw [rl_vx, if_neg h4, upd, upd]
      by_cases hj' : j = m - 4
      · rw [if_pos hj', if_pos (by omega)]
      · rw [if_neg hj', if_neg (by omega)]
        exact HB.2.2 j hj
    · dsimp only [mk_X]
      rw [show nI m - 4 = nI (m - 4) from pk_sub (b := 4) (by omega)]
      exact ⟨vp_in_nI (by omega) (by omega), nm_r (xq_up (by omega)) h⟩
def wk_m (o : Int32) : Nat := o.toBitVec.toNat % 8
theorem wk_m_nI {m : Nat} (h : m < 8) : wk_m (nI m) = m := by
  rw [wk_m, pk_tn (by omega)]; omega
theorem wk_m_lt (o : Int32) : wk_m o < 8 := Nat.mod_lt _ (by decide)
theorem yw_at {r : Nat} {o : Int32} {kk : ty_kk} {ky : ty_ky} {ss : ty_ss} {gy : ty_gy} {py : ty_py} {post : Int32 → Prop} (h : post (nI (rl_vx r (wk_m o)))) : wpY_at post (mk_Y kk ky ss gy py) (nI r) o := by
  have e : o &&& 7 = nI (wk_m o) := pk_and o 3 (by decide)
  have hl := wk_m_lt o
  show (4 ≤ (o &&& 7) → post (60 + (o &&& 7))) ∧ (¬ 4 ≤ (o &&& 7) → post (nI r * 4 + (o &&& 7)))
  rw [e, wk_6, wk_i4]
  rw [rl_vx] at h
  by_cases h4 : wk_m o < 4
  · rw [if_pos h4] at h
    exact br_f (nI_ge (b := 4) h4 (by decide)) h
  · rw [if_neg h4] at h
    exact br_t (nI_le (a := 4) (by omega) (by omega)) h
theorem wk_blk {x : Int32} (h9 : ¬ x < 9) (h11 : ¬ 11 < x) : pg_blk x = true := by
  rw [Int32.lt_iff_toInt_lt, show (9 : Int32).toInt = 9 from by decide] at h9
  rw [Int32.lt_iff_toInt_lt, show (11 : Int32).toInt = 11 from by decide] at h11
  rw [pg_blk_iff]
  have : x.toInt = 9 ∨ x.toInt = 10 ∨ x.toInt = 11 := by omega
  rcases this with h | h | h
  · exact Or.inl (Int32.toInt_inj.mp (h.trans (by decide)))
  · exact Or.inr (Or.inl (Int32.toInt_inj.mp (h.trans (by decide))))
  · exact Or.inr (Or.inr (Int32.toInt_inj.mp (h.trans (by decide))))
theorem wk_nblk9 {x : Int32} (h : x < 9) : pg_blk x = false := by
  cases hb : pg_blk x with
  | false => rfl
  | true => rcases (pg_blk_iff x).mp hb with rfl | rfl | rfl <;> exact absurd h (by decide)
theorem wk_nblk11 {x : Int32} (h : 11 < x) : pg_blk x = false := by
  cases hb : pg_blk x with
  | false => rfl
  | true => rcases (pg_blk_iff x).mp hb with rfl | rfl | rfl <;> exact absurd h (by decide)
section
variable {pl sl ol fn sealed : Int32} {n : Nat} {ops opB : Nat → Int32} {ky : ty_ky} {ss : ty_ss} {gy : ty_gy} {py : ty_py}
theorem yr_cl63 {post : Int32 → Prop} {J : Int32 → Int32 → Prop} {w l : Int32} {k : Nat} (hk : k < 34) (h : J (if ops k = 14 then l + (-1) else l + 0) (nI (k + 1))) : wY_close_63 post J w (nI k) l pl sl ol (nI n) fn ss.1 ss.2.1 py.1 sealed ops ky opB ss.2.2.2.2.2.2.2.2 gy.1 gy.2.1 gy.2.2.1 gy.2.2.2 ss.2.2.1 ss.2.2.2.1 ss.2.2.2.2.2.1 ss.2.2.2.2.2.2.1 ss.2.2.2.2.1 ss.2.2.2.2.2.2.2.1 py.2.1 py.2.2.1 py.2.2.2.1 py.2.2.2.2.1 py.2.2.2.2.2.1 py.2.2.2.2.2.2.1 py.2.2.2.2.2.2.2.1 py.2.2.2.2.2.2.2.2 := by
  have e : (nI k).toNatClampNeg = k := nI_clamp (by omega)
  refine And.intro (vp_in_nI hk (by omega)) ?_
  by_cases h4 : ops k = 14
  · rw [if_pos h4] at h
    exact br_t (by rw [e]; exact h4) (nm_e (nm_r (nI_1 k) h))
  · rw [if_neg h4] at h
    exact br_f (by rw [e]; exact h4) (nm_e (nm_r (nI_1 k) h))
theorem yr_cl34 {post : Int32 → Prop} {J : Int32 → Int32 → Prop} {w l : Int32} {k : Nat} (hk : k < 34) (h : J (if pg_blk (ops k) = true then l + 1 else if ops k = 14 then l + (-1) else l + 0) (nI (k + 1))) : wY_close_34 post J w l (nI k) pl sl ol (nI n) fn ss.1 ss.2.1 py.1 sealed ops ky opB ss.2.2.2.2.2.2.2.2 gy.1 gy.2.1 gy.2.2.1 gy.2.2.2 ss.2.2.1 ss.2.2.2.1 ss.2.2.2.2.2.1 ss.2.2.2.2.2.2.1 ss.2.2.2.2.1 ss.2.2.2.2.2.2.2.1 py.2.1 py.2.2.1 py.2.2.2.1 py.2.2.2.2.1 py.2.2.2.2.2.1 py.2.2.2.2.2.2.1 py.2.2.2.2.2.2.2.1 py.2.2.2.2.2.2.2.2 := by
  have e : (nI k).toNatClampNeg = k := nI_clamp (by omega)
  have hin : vp_in (nI k) 34 := vp_in_nI hk (by omega)
  refine And.intro hin ?_
  by_cases h9 : ops k < 9
  · rw [if_neg (by rw [wk_nblk9 h9]; decide)] at h
    exact br_t (by rw [e]; exact h9) (yr_cl63 hk h)
  · refine br_f (by rw [e]; exact h9) ⟨hin, ?_⟩
    by_cases h11 : 11 < ops k
    · rw [if_neg (by rw [wk_nblk11 h11]; decide)] at h
      exact br_t (by rw [e]; exact h11) (yr_cl63 hk h)
    · rw [if_pos (wk_blk h9 h11)] at h
      exact br_f (by rw [e]; exact h11) (nm_e (nm_r (nI_1 k) h))
theorem yr_cl7 {post : Int32 → Prop} {w : Int32} (hn : n ≤ 32) : ∀ d k l, k + d = n → post (nI (pg_cl ops n w d k l)) → wY_close_7 post w pl sl ol (nI n) fn ss.1 ss.2.1 py.1 sealed ops ky opB ss.2.2.2.2.2.2.2.2 gy.1 gy.2.1 gy.2.2.1 gy.2.2.2 ss.2.2.1 ss.2.2.2.1 ss.2.2.2.2.2.1 ss.2.2.2.2.2.2.1 ss.2.2.2.2.1 ss.2.2.2.2.2.2.2.1 py.2.1 py.2.2.1 py.2.2.2.1 py.2.2.2.2.1 py.2.2.2.2.2.1 py.2.2.2.2.2.2.1 py.2.2.2.2.2.2.2.1 py.2.2.2.2.2.2.2.2 (d + 1) l (nI k)
  | 0, k, l, hk, h => by
    rw [pg_cl] at h
    exact br_t (nI_le (by omega) (by omega)) h
  | d + 1, k, l, hk, h => by
    have e : (nI k).toNatClampNeg = k := nI_clamp (by omega)
    rw [pg_cl] at h
    refine br_f (nI_ge (by omega) (by omega)) ?_
    by_cases hl : l = 0
    · refine br_t hl ⟨vp_in_nI (by omega) (by omega), ?_⟩
      by_cases hw : ops k = w
      · rw [if_pos ⟨hl, hw⟩] at h
        exact br_t (by rw [e]; exact hw) h
      · rw [if_neg (fun z => hw z.2)] at h
        exact br_f (by rw [e]; exact hw) (yr_cl34 (by omega) (yr_cl7 hn d (k + 1) _ (by omega) h))
    · rw [if_neg (fun z => hl z.1)] at h
      exact br_f hl (yr_cl34 (by omega) (yr_cl7 hn d (k + 1) _ (by omega) h))
theorem yw_close0 {post : Int32 → Prop} {w A : Int32} {k0 : Nat} (hA : A + 1 = nI k0) (hn : n ≤ 32) (hk : k0 < 2 ^ 31) (h : post (nI (pg_close ops n w k0))) : wpY_close post (mk_Y (pl, sl, ol, (nI n), fn, sealed, ops, opB) ky ss gy py) A w := by
  refine nm_r hA ?_
  by_cases hk0 : k0 ≤ n
  · exact Exists.intro (n - k0 + 1) (yr_cl7 hn (n - k0) k0 0 (by omega) h)
  · rw [pg_close, show n - k0 = 0 by omega, pg_cl] at h
    exact Exists.intro 1 (br_t (nI_le (by omega) (by omega)) h)
theorem yw_close {post : Int32 → Prop} {w : Int32} {i : Nat} (hn : n ≤ 32) (hi : i < 34) (h : post (nI (pg_close ops n w (i + 1)))) : wpY_close post (mk_Y (pl, sl, ol, (nI n), fn, sealed, ops, opB) ky ss gy py) (nI i) w :=
  yw_close0 (nI_1 i) hn (by omega) h
theorem yr_op23 {post J : Int32 → Prop} {w z0 : Int32} {s i : Nat} (hn : n ≤ 32) (hi : i < 32) (hs : s ≤ 32) (hz : z0 = if w = 11 then 12 else 14) (ht : pg_tst ops n s w i → post (nI i)) (hf : ¬ pg_tst ops n s w i → J (nI i - 1)) :
    wY_open_23 post J (nI s) w (nI i) z0 (nI i) pl sl ol (nI n) fn ss.1 ss.2.1 py.1 sealed ops ky opB ss.2.2.2.2.2.2.2.2 gy.1 gy.2.1 gy.2.2.1 gy.2.2.2 ss.2.2.1 ss.2.2.2.1 ss.2.2.2.2.2.1 ss.2.2.2.2.2.2.1 ss.2.2.2.2.1 ss.2.2.2.2.2.2.2.1 py.2.1 py.2.2.1 py.2.2.2.1 py.2.2.2.2.1 py.2.2.2.2.2.1 py.2.2.2.2.2.2.1 py.2.2.2.2.2.2.2.1 py.2.2.2.2.2.2.2.2 := by
  have e : (nI i).toNatClampNeg = i := nI_clamp (by omega)
  have hin : vp_in (nI i) 34 := vp_in_nI (by omega) (by omega)
  have hm : nI i + (-1) = nI i - 1 := (Int32.sub_eq_add_neg _ _).symm
  have hle := pg_close_le (ops := ops) (n := n) (w := z0) (i + 1)
  refine yw_close hn (by omega) ⟨hin, ?_⟩
  by_cases h9 : ops i < 9
  · exact br_t (by rw [e]; exact h9) (nm_r hm (hf (fun z => by have := z.1; rw [wk_nblk9 h9] at this; exact absurd this (by decide))))
  · refine br_f (by rw [e]; exact h9) ⟨hin, ?_⟩
    by_cases h11 : 11 < ops i
    · exact br_t (by rw [e]; exact h11) (nm_r hm (hf (fun z => by have := z.1; rw [wk_nblk11 h11] at this; exact absurd this (by decide))))
    · refine br_f (by rw [e]; exact h11) ?_
      have hb := wk_blk h9 h11
      by_cases hc : pg_close ops n z0 (i + 1) < s
      · exact br_t (nI_lt hc (by omega)) (nm_r hm (hf (fun z => by have := z.2.1; rw [← hz] at this; omega)))
      · refine br_f (nI_nlt (by omega) (by omega)) ?_
        by_cases hw : w < 0
        · exact br_t hw (ht ⟨hb, by rw [← hz]; omega, Or.inl hw⟩)
        · refine br_f hw ⟨hin, ?_⟩
          by_cases ho : ops i = w
          · exact br_t (by rw [e]; exact ho) (ht ⟨hb, by rw [← hz]; omega, Or.inr ho⟩)
          · exact br_f (by rw [e]; exact ho) (nm_r hm (hf (fun z => z.2.2.elim hw ho)))
theorem yr_op4 {post : Int32 → Prop} {w : Int32} {s : Nat} (hn : n ≤ 32) (hs : s ≤ 32) : ∀ i, i ≤ s → post (pg_op ops n s w i) → wY_open_4 post (nI s) w pl sl ol (nI n) fn ss.1 ss.2.1 py.1 sealed ops ky opB ss.2.2.2.2.2.2.2.2 gy.1 gy.2.1 gy.2.2.1 gy.2.2.2 ss.2.2.1 ss.2.2.2.1 ss.2.2.2.2.2.1 ss.2.2.2.2.2.2.1 ss.2.2.2.2.1 ss.2.2.2.2.2.2.2.1 py.2.1 py.2.2.1 py.2.2.2.1 py.2.2.2.2.1 py.2.2.2.2.2.1 py.2.2.2.2.2.2.1 py.2.2.2.2.2.2.2.1 py.2.2.2.2.2.2.2.2 (i + 1) (nI i - 1)
  | 0, _, h => br_t (by decide) h
  | i + 1, hi, h => by
    rw [nI_pred]
    have K : ∀ z0 : Int32, z0 = (if w = 11 then 12 else 14) → wY_open_23 post (wY_open_4 post (nI s) w pl sl ol (nI n) fn ss.1 ss.2.1 py.1 sealed ops ky opB ss.2.2.2.2.2.2.2.2 gy.1 gy.2.1 gy.2.2.1 gy.2.2.2 ss.2.2.1 ss.2.2.2.1 ss.2.2.2.2.2.1 ss.2.2.2.2.2.2.1 ss.2.2.2.2.1 ss.2.2.2.2.2.2.2.1 py.2.1 py.2.2.1 py.2.2.2.1 py.2.2.2.2.1 py.2.2.2.2.2.1 py.2.2.2.2.2.2.1 py.2.2.2.2.2.2.2.1 py.2.2.2.2.2.2.2.2 (i + 1)) (nI s) w (nI i) z0 (nI i) pl sl ol (nI n) fn ss.1 ss.2.1 py.1 sealed ops ky opB ss.2.2.2.2.2.2.2.2 gy.1 gy.2.1 gy.2.2.1 gy.2.2.2 ss.2.2.1 ss.2.2.2.1 ss.2.2.2.2.2.1 ss.2.2.2.2.2.2.1 ss.2.2.2.2.1 ss.2.2.2.2.2.2.2.1 py.2.1 py.2.2.1 py.2.2.2.1 py.2.2.2.2.1 py.2.2.2.2.2.1 py.2.2.2.2.2.2.1 py.2.2.2.2.2.2.2.1 py.2.2.2.2.2.2.2.2 := fun z0 hz =>
      yr_op23 hn (by omega) hs hz (fun ht => by rw [pg_op_t ht] at h; exact h) (fun hf => by rw [pg_op_f hf] at h; exact yr_op4 hn hs i (by omega) h)
    refine br_f (nI_pos (by omega)) ?_
    by_cases hw : w = 11
    · exact br_t hw (K 12 (by rw [if_pos hw]))
    · exact br_f hw (K 14 (by rw [if_neg hw]))
theorem yw_open {post : Int32 → Prop} {w : Int32} {s : Nat} (hn : n ≤ 32) (hs : s ≤ 32) (h : post (pg_open ops n s w)) : wpY_open post (mk_Y (pl, sl, ol, (nI n), fn, sealed, ops, opB) ky ss gy py) (nI s) w :=
  nm_e (Exists.intro (s + 1) (yr_op4 hn hs s (Nat.le_refl s) h))
theorem yw_openN {post : Int32 → Prop} {w : Int32} (h : post (-1)) : wpY_open post (mk_Y (pl, sl, ol, (nI n), fn, sealed, ops, opB) ky ss gy py) (-1) w :=
  nm_e (Exists.intro 1 (br_t (by decide) h))
end
end
section
/-! promises: watching and resolving, on both sides -/
def qq_wat (Q : List qe_T) (st val : Nat → Int32) (q : Nat) (k o x y : Int32) : List qe_T :=
  if st q = 2 ∨ st q = 3 then Q ++ [(-1, k, o, x, y, st q, val q)] else Q ++ [(nI q, k, o, x, y, 0, 0)]
def rs_st (st : Nat → Int32) (p : Nat) (v : Int32) : Nat → Int32 := if 65536 ≤ v then (if v = nI (65536 + p) then upd st p 3 else upd st p 1) else upd st p 2
def rs_val (val : Nat → Int32) (p : Nat) (v : Int32) : Nat → Int32 := if 65536 ≤ v then (if v = nI (65536 + p) then upd val p (-101) else upd val p v) else upd val p v
def rs_Q (Q : List qe_T) (p : Nat) (v : Int32) : List qe_T := if 65536 ≤ v then (if v = nI (65536 + p) then qq_conc Q (nI p) 3 (-101) else Q ++ [(-1, 0, nI p, v - 65536, 0, 0, 0)]) else qq_conc Q (nI p) 2 v
/-- a new node, later put where it waits -/
theorem xw_nwat {px : ty_px} {Q : List qe_T} {q : Nat} (R : xq_R px [] 16 Q) (hQ : Q.length < 128) (hq : q < 16) (st val : Nat → Int32) (k o x y : Int32) :
    ∃ a px1 px2, xq_R px2 [] 16 (qq_wat Q st val q k o x y) ∧ (∀ kk kx ss gx (post : Int32 → SX → Prop), post (nI a) (mk_X kk kx ss gx px1) → wpX_newNode post (mk_X kk kx ss gx px) k o x y) ∧
      ∀ kk kx c ou host kinds masks asleep out gx (post : SX → Prop), post (mk_X kk kx (c, ou, st, val, host, kinds, masks, asleep, out) gx px2) → wpX_watch post (mk_X kk kx (c, ou, st, val, host, kinds, masks, asleep, out) gx px1) (nI q) (nI a) := by
  obtain ⟨a, px1, ha, R1, C1, W1⟩ := xw_new R hQ k o x y
  have eq : (nI q).toNatClampNeg = q := nI_clamp (by omega)
  by_cases h2 : st q = 2 ∨ st q = 3
  · obtain ⟨px2, R2, _, W2⟩ := xw_enq R1 C1 (st q) (val q)
    refine ⟨a, px1, px2, by rw [qq_wat, if_pos h2]; exact R2, W1, fun kk kx c ou host kinds masks asleep out gx post h => ?_⟩
    obtain ⟨fh, qh, qt, qs, fw, lw, wa, nk, no, nx, ny, ns, nv, nxt⟩ := px1
    refine xr_wat2 (vp_in_nI hq (by omega)) (by rw [eq]; exact h2) ?_
    rw [eq]
    exact W2 _ _ _ _ _ h
  · obtain ⟨px2, R2, W2⟩ := xw_wat R1 C1 hq
    exact ⟨a, px1, px2, by rw [qq_wat, if_neg h2]; exact R2, W1, fun kk kx c ou host kinds masks asleep out gx post h => W2 _ _ _ _ _ (fun z => h2 (Or.inl z)) (fun z => h2 (Or.inr z)) h⟩
/-- a new node, later a job -/
theorem xw_nenq {px : ty_px} {Q : List qe_T} (R : xq_R px [] 16 Q) (hQ : Q.length < 128) (k o x y s v : Int32) :
    ∃ a px1 px2, xq_R px2 [] 16 (Q ++ [(-1, k, o, x, y, s, v)]) ∧ (∀ kk kx ss gx (post : Int32 → SX → Prop), post (nI a) (mk_X kk kx ss gx px1) → wpX_newNode post (mk_X kk kx ss gx px) k o x y) ∧
      ∀ kk kx ss gx (post : SX → Prop), post (mk_X kk kx ss gx px2) → wpX_enqueue post (mk_X kk kx ss gx px1) (nI a) s v := by
  obtain ⟨a, px1, ha, R1, C1, W1⟩ := xw_new R hQ k o x y
  obtain ⟨px2, R2, _, W2⟩ := xw_enq R1 C1 s v
  exact ⟨a, px1, px2, R2, W1, W2⟩
theorem yw_wat {py : ty_py} {ck q : Nat} {Q : List qe_T} (R : yq_R py ck Q) (hQ : Q.length < 128) (hck : ck < 2 ^ 30) (hq : q < 16) (st val : Nat → Int32) (hst : st q = 0 ∨ st q = 1 ∨ st q = 2 ∨ st q = 3) (k o x y : Int32) (hk : k + 1 ≠ 0) :
    ∃ py', yq_R py' (ck + 1) (qq_wat Q st val q k o x y) ∧ ∀ kk ky c ou host kinds masks asleep out gy (post : SY → Prop), post (mk_Y kk ky (c, ou, st, val, host, kinds, masks, asleep, out) gy py') → wpY_watch post (mk_Y kk ky (c, ou, st, val, host, kinds, masks, asleep, out) gy py) (nI q) (k + 1) o x y := by
  have eq : (nI q).toNatClampNeg = q := nI_clamp (by omega)
  have hin : vp_in (nI q) 16 := vp_in_nI hq (by omega)
  by_cases h2 : st q = 2 ∨ st q = 3
  · obtain ⟨py', R', W'⟩ := yw_put R hQ hck (-1) k o x y (st q) (val q) (st q) (val q) hk (fun _ => ⟨rfl, rfl⟩)
    refine ⟨py', by rw [qq_wat, if_pos h2]; exact R', fun kk ky c ou host kinds masks asleep out gy post h => ?_⟩
    have h3 : (2 : Int32) ≤ st q := by rcases h2 with h | h <;> rw [h] <;> decide
    refine And.intro hin (br_t (by rw [eq]; exact h3) (And.intro hin ⟨hin, ?_⟩))
    dsimp only [mk_Y]
    rw [eq]
    exact W' kk ky (c, ou, st, val, host, kinds, masks, asleep, out) gy _ h
  · obtain ⟨py', R', W'⟩ := yw_put R hQ hck (nI q) k o x y (st q) (val q) 0 0 hk (fun z => absurd z.symm (xq_m1 q hq))
    refine ⟨py', by rw [qq_wat, if_neg h2]; exact R', fun kk ky c ou host kinds masks asleep out gy post h => ?_⟩
    have h3 : ¬ (2 : Int32) ≤ st q := by
      rcases hst with h | h | h | h
      · rw [h]; decide
      · rw [h]; decide
      · exact absurd (Or.inl h) h2
      · exact absurd (Or.inr h) h2
    refine And.intro hin (br_f (by rw [eq]; exact h3) (And.intro hin ⟨hin, ?_⟩))
    dsimp only [mk_Y]
    rw [eq]
    exact W' kk ky (c, ou, st, val, host, kinds, masks, asleep, out) gy _ h
theorem xw_res {px : ty_px} {p : Nat} {Q : List qe_T} (R : xq_R px [] 16 Q) (hQ : Q.length < 128) (hp : p < 16) (v : Int32) :
    ∃ px', xq_R px' [] 16 (rs_Q Q p v) ∧ ∀ kk kx c ou st val host kinds masks asleep out gx (post : SX → Prop), post (mk_X kk kx (c, ou, rs_st st p v, rs_val val p v, host, kinds, masks, asleep, out) gx px') → wpX_resolve post (mk_X kk kx (c, ou, st, val, host, kinds, masks, asleep, out) gx px) (nI p) v := by
  have hin : vp_in (nI p) 16 := vp_in_nI hp (by omega)
  by_cases h1 : 65536 ≤ v
  · by_cases h2 : v = nI (65536 + p)
    · obtain ⟨px', R', W'⟩ := xw_conc R hp 3 (-101)
      refine ⟨px', by rw [rs_Q, if_pos h1, if_pos h2]; exact R', fun kk kx c ou st val host kinds masks asleep out gx post h => ?_⟩
      rw [rs_st, rs_val, if_pos h1, if_pos h2, if_pos h1, if_pos h2] at h
      exact br_t h1 (br_t (by rw [wk_ref]; exact h2) (W' _ _ _ _ _ _ _ _ _ _ _ _ _ h))
    · obtain ⟨a, px1, px2, R', W1, W2⟩ := xw_nenq R hQ 0 (nI p) (v - 65536) 0 0 0
      refine ⟨px2, by rw [rs_Q, if_pos h1, if_neg h2]; exact R', fun kk kx c ou st val host kinds masks asleep out gx post h => ?_⟩
      rw [rs_st, rs_val, if_pos h1, if_neg h2, if_pos h1, if_neg h2] at h
      exact br_t h1 (br_f (by rw [wk_ref]; exact h2) ⟨hin, nm_r (xq_up (by omega)) ⟨hin, nm_r (xq_up (by omega)) (W1 kk kx (c, ou, upd st p 1, upd val p v, host, kinds, masks, asleep, out) gx _ (W2 kk kx (c, ou, upd st p 1, upd val p v, host, kinds, masks, asleep, out) gx _ h))⟩⟩)
  · obtain ⟨px', R', W'⟩ := xw_conc R hp 2 v
    refine ⟨px', by rw [rs_Q, if_neg h1]; exact R', fun kk kx c ou st val host kinds masks asleep out gx post h => ?_⟩
    rw [rs_st, rs_val, if_neg h1, if_neg h1] at h
    exact br_f h1 (W' _ _ _ _ _ _ _ _ _ _ _ _ _ h)
theorem yw_res {py : ty_py} {ck p : Nat} {Q : List qe_T} (R : yq_R py ck Q) (hQ : Q.length < 128) (hck : ck + 128 < 2 ^ 30) (hp : p < 16) (v : Int32) :
    ∃ py' ck', ck' ≤ ck + 128 ∧ yq_R py' ck' (rs_Q Q p v) ∧ ∀ kk ky c ou st val host kinds masks asleep out gy (post : SY → Prop), post (mk_Y kk ky (c, ou, rs_st st p v, rs_val val p v, host, kinds, masks, asleep, out) gy py') → wpY_resolve post (mk_Y kk ky (c, ou, st, val, host, kinds, masks, asleep, out) gy py) (nI p) v := by
  have hin : vp_in (nI p) 16 := vp_in_nI hp (by omega)
  by_cases h1 : 65536 ≤ v
  · by_cases h2 : v = nI (65536 + p)
    · obtain ⟨py', ck', g, R', W'⟩ := yw_fin R hp (by omega) hck 3 (-101)
      refine ⟨py', ck', g, by rw [rs_Q, if_pos h1, if_pos h2]; exact R', fun kk ky c ou st val host kinds masks asleep out gy post h => ?_⟩
      rw [rs_st, rs_val, if_pos h1, if_pos h2, if_pos h1, if_pos h2] at h
      exact br_t h1 (br_t (by rw [wk_ref]; exact h2) (W' _ _ _ _ _ _ _ _ _ _ _ _ _ h))
    · obtain ⟨py', R', W'⟩ := yw_put R hQ (by omega) (-1) 0 (nI p) (v - 65536) 0 0 0 0 0 (by decide) (fun _ => ⟨rfl, rfl⟩)
      refine ⟨py', ck + 1, by omega, by rw [rs_Q, if_pos h1, if_neg h2]; exact R', fun kk ky c ou st val host kinds masks asleep out gy post h => ?_⟩
      rw [rs_st, rs_val, if_pos h1, if_neg h2, if_pos h1, if_neg h2] at h
      exact br_t h1 (br_f (by rw [wk_ref]; exact h2) ⟨hin, nm_r (xq_up (by omega)) ⟨hin, nm_r (xq_up (by omega)) (W' kk ky (c, ou, upd st p 1, upd val p v, host, kinds, masks, asleep, out) gy _ h)⟩⟩)
  · obtain ⟨py', ck', g, R', W'⟩ := yw_fin R hp (by omega) hck 2 v
    refine ⟨py', ck', g, by rw [rs_Q, if_neg h1]; exact R', fun kk ky c ou st val host kinds masks asleep out gy post h => ?_⟩
    rw [rs_st, rs_val, if_neg h1, if_neg h1] at h
    exact br_f h1 (W' _ _ _ _ _ _ _ _ _ _ _ _ _ h)
end
section
/-! the relation while a program runs -/
def sp_cf (ops : Nat → Int32) : Nat → Nat
  | 0 => 0
  | i + 1 => sp_cf ops i + (if ops i = 0 then 1 else 0)
def sp_row (n fn : Nat) (ops opB opA target handler level sa : Nat → Int32) (i : Nat) : Prop :=
  (∃ m, m < 8 ∧ opA i = nI m ∧ (ops i ≠ 0 → ops i ≠ 11 → ops i ≠ 13 → ops i ≠ 14 → sa i = nI m)) ∧
  ((ops i = 2 ∨ ops i = 3 ∨ ops i = 5) → ∃ m, m < 8 ∧ opB i = nI m) ∧
  (ops i = 4 → ∃ f, f < fn ∧ opB i = nI f) ∧
  (pg_blk (ops i) = true → level i = nI (pg_stk ops i).length) ∧
  (ops i = 9 ∨ ops i = 10 → target i = nI (pt_E ops n i + 1)) ∧
  (ops i = 12 → target i = nI (pg_close ops n 14 (i + 1) + 1)) ∧
  (ops i = 13 → ∀ b, b < 32 → pg_sel (pg_isR ops) (pg_stk ops i) = nI b → target i = nI (pt_E ops n b + 1)) ∧
  (ops i = 14 → ∀ b c r, pg_stk ops i = (b, c) :: r → (ops b = 10 → target i = nI (b + 1) ∧ level i = nI r.length) ∧ (ops b ≠ 10 → level i = -1)) ∧
  ((pg_sel (pg_isT ops) (pg_stk ops i) = -1 ∧ handler i = -1) ∨ ∃ t, (t, 0) ∈ pg_stk ops i ∧ ops t = 11 ∧ pg_sel (pg_isT ops) (pg_stk ops i) = nI t ∧ handler i = nI (pg_close ops n 12 (t + 1)))
/-- a sealed program -/
def sp_ok (n fn : Nat) (ops opB opA target handler level entry sa : Nat → Int32) : Prop :=
  n ≤ 32 ∧ pg_ok ops n ∧ pg_stk ops n = [] ∧ (∀ i, n ≤ i → ops i = 0) ∧ (∀ i, i < n → sp_row n fn ops opB opA target handler level sa i) ∧
  (∀ f, f < fn → ∃ i, i < n ∧ ops i = 0 ∧ entry f = nI (i + 1) ∧ sp_cf ops i = f) ∧ fn ≤ 4
def rn (pl ol n F : Nat) (ops : Nat → Int32) (B rs : Nat) (ch : List Nat) (ph c ou : Nat) (st val host masks asleep rem pcx slots rx cx cells vars pcy cy ry : Nat → Int32) (px : ty_px) (py : ty_py) : Prop :=
  ∃ (Q : List qe_T) (ck : Nat), (c ≤ pl ∧ ou ≤ ol ∧ (rs % 17 = 16 ∨ rs % 17 < c) ∧ rs / 17 ≤ c) ∧ xq_R px [] 16 Q ∧ yq_R py ck Q ∧ ck + 130 * (ch.length + (16 - c)) ≤ B ∧ rl_ps ops n pcx rx ch + 2050 * (16 - c) ≤ ph ∧
    rl_A c st val ∧ rl_B c vars slots cells ∧ rl_C c F Q ∧ rl_D rem Q ∧ rl_E rs ch host st Q ∧ rl_F asleep Q ∧ rl_Z c host asleep ∧ rl_G c asleep cx cy ch ∧ rl_H ops n pcx pcy rx ry asleep ch ∧ rl_M c masks
def rn_RU (kk : ty_kk) (kx : ty_kx) (ky : ty_ky) (pl ol n F : Nat) (ops : Nat → Int32) (B rs : Nat) (ch : List Nat) (ph : Nat) (u : SX) (v : SY) : Prop :=
  ∃ (c ou : Nat) (st val host kinds masks asleep out rem pcx slots rx cx cells vars pcy cy ry : Nat → Int32) (px : ty_px) (py : ty_py),
    u = mk_X kk kx ((nI c), (nI ou), st, val, host, kinds, masks, asleep, out) (rem, pcx, slots, rx, cx, cells) px ∧ v = mk_Y kk ky ((nI c), (nI ou), st, val, host, kinds, masks, asleep, out) (vars, pcy, cy, ry) py ∧ (rn pl ol n F ops B rs ch ph c ou st val host masks asleep rem pcx slots rx cx cells vars pcy cy ry px py)
theorem rn_el {kk : ty_kk} {kx : ty_kx} {ky : ty_ky} {pl ol n F : Nat} {ops : Nat → Int32} {B rs : Nat} {ch : List Nat} {ph : Nat} {u : SX} {v : SY} {P : SX → SY → Prop} (H : rn_RU kk kx ky pl ol n F ops B rs ch ph u v)
    (h : ∀ (c ou : Nat) (st val host kinds masks asleep out rem pcx slots rx cx cells vars pcy cy ry : Nat → Int32) (px : ty_px) (py : ty_py), (rn pl ol n F ops B rs ch ph c ou st val host masks asleep rem pcx slots rx cx cells vars pcy cy ry px py) → P (mk_X kk kx ((nI c), (nI ou), st, val, host, kinds, masks, asleep, out) (rem, pcx, slots, rx, cx, cells) px) (mk_Y kk ky ((nI c), (nI ou), st, val, host, kinds, masks, asleep, out) (vars, pcy, cy, ry) py)) : P u v := by
  obtain ⟨c, ou, st, val, host, kinds, masks, asleep, out, rem, pcx, slots, rx, cx, cells, vars, pcy, cy, ry, px, py, hu, hv, hr⟩ := H
  rw [hu, hv]
  exact h c ou st val host kinds masks asleep out rem pcx slots rx cx cells vars pcy cy ry px py hr
theorem rn_mk {kk : ty_kk} {kx : ty_kx} {ky : ty_ky} {pl ol n F : Nat} {ops : Nat → Int32} {B rs : Nat} {ch : List Nat} {ph c ou : Nat} {st val host kinds masks asleep out rem pcx slots rx cx cells vars pcy cy ry : Nat → Int32} {px : ty_px} {py : ty_py} (h : (rn pl ol n F ops B rs ch ph c ou st val host masks asleep rem pcx slots rx cx cells vars pcy cy ry px py)) :
    rn_RU kk kx ky pl ol n F ops B rs ch ph (mk_X kk kx ((nI c), (nI ou), st, val, host, kinds, masks, asleep, out) (rem, pcx, slots, rx, cx, cells) px) (mk_Y kk ky ((nI c), (nI ou), st, val, host, kinds, masks, asleep, out) (vars, pcy, cy, ry) py) :=
  ⟨c, ou, st, val, host, kinds, masks, asleep, out, rem, pcx, slots, rx, cx, cells, vars, pcy, cy, ry, px, py, rfl, rfl, h⟩
def rn_hd : List Nat → Int32
  | [] => -1
  | r :: _ => nI r
section
variable {pl sl ol n fn dp c ou : Nat} {sealed : Int32} {ops opB opA target handler level entry blocks sa st val host kinds masks asleep out rem pcx slots rx cx cells vars pcy cy ry : Nat → Int32} {px : ty_px} {py : ty_py} {F B rs ph : Nat} {ch : List Nat}
theorem rl_at_fr {pcx' pcy' rx' ry' : Nat → Int32} {op : Int32} {q : Nat} (hn : n ≤ 32) (hok : pg_ok ops n) (h1 : pcx' q = pcx q) (h2 : pcy' q = pcy q) (h3 : ∀ d, d < 3 → rx' (3 * q + d) = rx (3 * q + d)) (h4 : ∀ b, b < 32 → ry' (32 * q + b) = ry (32 * q + b)) (H : rl_at ops n pcx pcy rx ry op q) : rl_at ops n pcx' pcy' rx' ry' op q := by
  obtain ⟨i, g1, g2, g3, g4, g5⟩ := H
  have hl := pg_len3 hok i (by omega)
  exact ⟨i, g1, h1.trans g2, h2.trans g3, g4, rl_RR_congr (fun d hd => h3 d (by omega)) (fun e he => h4 e.1 (by have := pg_bd ops i e he; omega)) g5⟩
theorem rl_po_fr {pcx' rx' : Nat → Int32} {q i : Nat} (hn : n ≤ 32) (hok : pg_ok ops n) (hi : i ≤ n) (hp : pcx q = nI i) (h1 : pcx' q = pcx q) (h3 : ∀ d, d < 3 → rx' (3 * q + d) = rx (3 * q + d)) : rl_po ops n pcx' rx' q = rl_po ops n pcx rx q := by
  have hl := pg_len3 hok i hi
  rw [rl_po, rl_po, h1, hp, nI_clamp (by omega)]
  refine pt_congr (fun b d hd => ?_)
  rw [rl_cn, rl_cn, h3 d (by omega)]
theorem rl_ps_fr {pcx' rx' : Nat → Int32} (hn : n ≤ 32) (hok : pg_ok ops n) : ∀ {t : List Nat}, (∀ q ∈ t, rl_at ops n pcx pcy rx ry 4 q) → (∀ q ∈ t, pcx' q = pcx q ∧ ∀ d, d < 3 → rx' (3 * q + d) = rx (3 * q + d)) → rl_ps ops n pcx' rx' t = rl_ps ops n pcx rx t
  | [], _, _ => rfl
  | q :: t, h1, h2 => by
    obtain ⟨i, g1, g2, _⟩ := h1 q (List.mem_cons_self ..)
    have h3 := h2 q (List.mem_cons_self ..)
    rw [rl_ps, rl_ps, rl_po_fr hn hok (by omega) g2 h3.1 h3.2, rl_ps_fr hn hok (fun q hq => h1 q (List.mem_cons_of_mem _ hq)) (fun q hq => h2 q (List.mem_cons_of_mem _ hq))]
/-- the running activation goes on at j -/
theorem rn_adv {r i j m ou' : Nat} {t : List Nat} {vars' slots' cells' rx' ry' : Nat → Int32} (h : (rn pl ol n F ops B rs (r :: t) ph c ou st val host masks asleep rem pcx slots rx cx cells vars pcy cy ry px py)) (hn : n ≤ 32) (hok : pg_ok ops n) (hpl : pl ≤ 16)
    (hi : pcx r = nI i) (hi' : i ≤ n) (hj : j ≤ n) (HB : rl_B c vars' slots' cells') (hou : ou' ≤ ol) (hRR : rl_RR ops rx' ry' r (pg_stk ops j))
    (hfx : ∀ q, q < 16 → q ≠ r → ∀ d, d < 3 → rx' (3 * q + d) = rx (3 * q + d)) (hfy : ∀ q, q < 16 → q ≠ r → ∀ b, b < 32 → ry' (32 * q + b) = ry (32 * q + b))
    (hpt : pt ops n (rl_cn ops rx' r) (pg_stk ops j) j + m ≤ pt ops n (rl_cn ops rx r) (pg_stk ops i) i) :
    (rn pl ol n F ops B rs (r :: t) (ph - m) c (ou') st val host masks asleep rem (upd pcx r (nI j)) (slots') (rx') cx (cells') (vars') (upd pcy r (nI j)) cy (ry') px py) ∧ m ≤ ph := by
  obtain ⟨Q, ck, hc, RX, RY, hck, hph, HA, HBo, HC, HD, HE, HF, HZ, HG, HH, HM⟩ := h
  have hrt : ∀ q ∈ t, q ≠ r := fun q hq e => (List.nodup_cons.mp HG.1).1 (e ▸ hq)
  have hq16 : ∀ q ∈ t, q < 16 := fun q hq => by have := (HG.2.1 q (List.mem_cons_of_mem _ hq)).1; omega
  have har := (HG.2.1 r (List.mem_cons_self ..)).2
  have hpo : rl_po ops n (upd pcx r (nI j)) rx' r + m ≤ rl_po ops n pcx rx r := by
    rw [rl_po, rl_po, pk_us, hi, nI_clamp (by omega), nI_clamp (by omega)]
    exact hpt
  have hps : rl_ps ops n (upd pcx r (nI j)) rx' t = rl_ps ops n pcx rx t := rl_ps_fr hn hok HH.2.2 (fun q hq => ⟨pk_un (hrt q hq), hfx q (hq16 q hq) (hrt q hq)⟩)
  rw [rl_ps] at hph
  refine ⟨⟨Q, ck, ⟨hc.1, hou, hc.2.2⟩, RX, RY, hck, ?_, HA, HB, HC, HD, HE, HF, HZ, HG, ⟨fun p hp ha => ?_, ⟨j, hj, pk_us, pk_us, hRR⟩, fun q hq => ?_⟩, HM⟩, by omega⟩
  · rw [rl_ps, hps]; omega
  · have hpr : p ≠ r := fun e => ha (e ▸ har)
    exact rl_at_fr hn hok (pk_un hpr) (pk_un hpr) (hfx p hp hpr) (hfy p hp hpr) (HH.1 p hp ha)
  · exact rl_at_fr hn hok (pk_un (hrt q hq)) (pk_un (hrt q hq)) (hfx q (hq16 q hq) (hrt q hq)) (hfy q (hq16 q hq) (hrt q hq)) (HH.2.2 q hq)
end
end
section
/-! one round of the reference's run, up to its cases -/
theorem wk_pc {f : Nat → Int32} {r i : Nat} (h : r < 16) : upd f (nI r).toNatClampNeg (nI i + 1) = upd f r (nI (i + 1)) := by
  rw [nI_clamp (by omega), nI_1]
def rn_yr (post : SY → Prop) (N : Nat) (x2 x3 : Int32) (v : SY) : Prop := match v with
  | (pl, sl, ol, n, fn, c, ou, clk, sealed, ops, sa, opB, out, vars, pcy, cy, ry, st, val, kinds, masks, host, asleep, jt, jp, jx, jg, jon, js, jv, jwh) =>
    wY_run_4 post N x2 x3 pl sl ol n fn c ou clk sealed ops sa opB out vars pcy cy ry st val kinds masks host asleep jt jp jx jg jon js jv jwh
section
variable {pl sl ol n fn dp c ou : Nat} {sealed : Int32} {ops opB opA target handler level entry blocks sa st val host kinds masks asleep out rem pcx slots rx cx cells vars pcy cy ry : Nat → Int32} {px : ty_px} {py : ty_py}
theorem yr_runN {post : SY → Prop} {N k r i ma mb : Nat} {o z : Int32} (hma : wk_m (sa i) = ma) (hmb : wk_m (opB i) = mb) (hn : n ≤ 32) (hr : r < 16) (hi : i ≤ n) (hpc : pcy r = nI i) (ho : ops i = o) (h13 : ¬ o = 13) (hz : z = if o = 0 ∨ o = 8 ∨ o = 5 then 1 else 0) (hk : k < 65536)
    (h : wY_run_146 post (wY_run_4 post N) (nI r) (nI k) (nI i) o (nI (rl_vx r ma)) (vars (rl_vx r ma)) (vars (rl_vx r mb)) (pg_open ops n i (-1)) (nI (pg_close ops n 14 (i + 1))) (-1) z (nI pl) (nI sl) (nI ol) (nI n) (nI fn) (nI c) (nI ou) py.1 sealed ops sa opB out vars pcy cy ry st val kinds masks host asleep py.2.1 py.2.2.1 py.2.2.2.1 py.2.2.2.2.1 py.2.2.2.2.2.1 py.2.2.2.2.2.2.1 py.2.2.2.2.2.2.2.1 py.2.2.2.2.2.2.2.2) :
    wY_run_4 post (N + 1) (nI r) (nI k) (nI pl) (nI sl) (nI ol) (nI n) (nI fn) (nI c) (nI ou) py.1 sealed ops sa opB out vars pcy cy ry st val kinds masks host asleep py.2.1 py.2.2.1 py.2.2.2.1 py.2.2.2.2.1 py.2.2.2.2.2.1 py.2.2.2.2.2.2.1 py.2.2.2.2.2.2.2.1 py.2.2.2.2.2.2.2.2 := by
  subst hma; subst hmb
  have er : (nI r).toNatClampNeg = r := nI_clamp (by omega)
  have e : (nI i).toNatClampNeg = i := nI_clamp (by omega)
  have hin : vp_in (nI i) 34 := vp_in_nI (by omega) (by omega)
  have h1 := rl_vx_lt hr (wk_m_lt (sa i))
  have h2 := rl_vx_lt hr (wk_m_lt (opB i))
  refine br_f (nI_ge (b := 65536) hk (by decide)) (br_f (nI_pos (by omega)) ⟨vp_in_nI hr (by omega), nm_r (e' := nI i) (by rw [er]; exact hpc) ⟨hin, nm_r (e' := o) (by rw [e]; exact ho) ⟨hin, ?_⟩⟩⟩)
  rw [e]
  refine yw_at (kk := ((nI pl), (nI sl), (nI ol), (nI n), (nI fn), sealed, ops, opB)) (ky := sa) (ss := ((nI c), (nI ou), st, val, host, kinds, masks, asleep, out)) (gy := (vars, pcy, cy, ry)) (py := py) ⟨hin, ?_⟩
  refine yw_at (kk := ((nI pl), (nI sl), (nI ol), (nI n), (nI fn), sealed, ops, opB)) (ky := sa) (ss := ((nI c), (nI ou), st, val, host, kinds, masks, asleep, out)) (gy := (vars, pcy, cy, ry)) (py := py) ⟨vp_in_nI h1 (by omega), nm_r (congrArg vars (nI_clamp (by omega))) ⟨vp_in_nI h2 (by omega), nm_r (congrArg vars (nI_clamp (by omega))) (br_f h13 ?_)⟩⟩
  refine yw_open (ky := sa) (ss := ((nI c), (nI ou), st, val, host, kinds, masks, asleep, out)) (gy := (vars, pcy, cy, ry)) (py := py) hn (by omega) (br_f h13 ?_)
  refine yw_close (ky := sa) (ss := ((nI c), (nI ou), st, val, host, kinds, masks, asleep, out)) (gy := (vars, pcy, cy, ry)) (py := py) hn (by omega) ?_
  by_cases h0 : o = 0
  · rw [if_pos (Or.inl h0)] at hz; subst hz
    exact br_t h0 h
  · refine br_f h0 ?_
    by_cases h8 : o = 8
    · rw [if_pos (Or.inr (Or.inl h8))] at hz; subst hz
      exact br_t h8 h
    · refine br_f h8 ?_
      by_cases h5 : o = 5
      · rw [if_pos (Or.inr (Or.inr h5))] at hz; subst hz
        exact br_t h5 h
      · rw [if_neg (fun z => z.elim h0 (fun z => z.elim h8 h5))] at hz; subst hz
        exact br_f h5 h
theorem yr_run13 {post : SY → Prop} {N k r i b ma mb : Nat} (hma : wk_m (sa i) = ma) (hmb : wk_m (opB i) = mb) (hn : n ≤ 32) (hr : r < 16) (hi : i ≤ n) (hpc : pcy r = nI i) (ho : ops i = 13) (hb : pg_open ops n i 10 = nI b) (hb' : b < 34) (hk : k < 65536)
    (h : wY_run_146 post (wY_run_4 post N) (nI r) (nI k) (nI i) 13 (nI (rl_vx r ma)) (vars (rl_vx r ma)) (vars (rl_vx r mb)) (nI b) (nI (pg_close ops n 14 (b + 1))) (-1) 0 (nI pl) (nI sl) (nI ol) (nI n) (nI fn) (nI c) (nI ou) py.1 sealed ops sa opB out vars pcy cy ry st val kinds masks host asleep py.2.1 py.2.2.1 py.2.2.2.1 py.2.2.2.2.1 py.2.2.2.2.2.1 py.2.2.2.2.2.2.1 py.2.2.2.2.2.2.2.1 py.2.2.2.2.2.2.2.2) :
    wY_run_4 post (N + 1) (nI r) (nI k) (nI pl) (nI sl) (nI ol) (nI n) (nI fn) (nI c) (nI ou) py.1 sealed ops sa opB out vars pcy cy ry st val kinds masks host asleep py.2.1 py.2.2.1 py.2.2.2.1 py.2.2.2.2.1 py.2.2.2.2.2.1 py.2.2.2.2.2.2.1 py.2.2.2.2.2.2.2.1 py.2.2.2.2.2.2.2.2 := by
  subst hma; subst hmb
  have er : (nI r).toNatClampNeg = r := nI_clamp (by omega)
  have e : (nI i).toNatClampNeg = i := nI_clamp (by omega)
  have hin : vp_in (nI i) 34 := vp_in_nI (by omega) (by omega)
  have h1 := rl_vx_lt hr (wk_m_lt (sa i))
  have h2 := rl_vx_lt hr (wk_m_lt (opB i))
  refine br_f (nI_ge (b := 65536) hk (by decide)) (br_f (nI_pos (by omega)) ⟨vp_in_nI hr (by omega), nm_r (e' := nI i) (by rw [er]; exact hpc) ⟨hin, nm_r (e' := (13 : Int32)) (by rw [e]; exact ho) ⟨hin, ?_⟩⟩⟩)
  rw [e]
  refine yw_at (kk := ((nI pl), (nI sl), (nI ol), (nI n), (nI fn), sealed, ops, opB)) (ky := sa) (ss := ((nI c), (nI ou), st, val, host, kinds, masks, asleep, out)) (gy := (vars, pcy, cy, ry)) (py := py) ⟨hin, ?_⟩
  refine yw_at (kk := ((nI pl), (nI sl), (nI ol), (nI n), (nI fn), sealed, ops, opB)) (ky := sa) (ss := ((nI c), (nI ou), st, val, host, kinds, masks, asleep, out)) (gy := (vars, pcy, cy, ry)) (py := py) ⟨vp_in_nI h1 (by omega), nm_r (congrArg vars (nI_clamp (by omega))) ⟨vp_in_nI h2 (by omega), nm_r (congrArg vars (nI_clamp (by omega))) (br_t rfl ?_)⟩⟩
  refine yw_open (ky := sa) (ss := ((nI c), (nI ou), st, val, host, kinds, masks, asleep, out)) (gy := (vars, pcy, cy, ry)) (py := py) hn (by omega) (br_t rfl ?_)
  rw [hb]
  refine yw_close (ky := sa) (ss := ((nI c), (nI ou), st, val, host, kinds, masks, asleep, out)) (gy := (vars, pcy, cy, ry)) (py := py) hn (by omega) ?_
  exact br_f (by decide) (br_f (by decide) (br_f (by decide) h))
theorem yr_go {post : SY → Prop} {N k r : Nat} {o : Int32} (h5 : ¬ o = 5) (h : wY_run_4 post N (nI r) (nI (k + 1)) (nI pl) (nI sl) (nI ol) (nI n) (nI fn) (nI c) (nI ou) py.1 sealed ops sa opB out vars pcy cy ry st val kinds masks host asleep py.2.1 py.2.2.1 py.2.2.2.1 py.2.2.2.2.1 py.2.2.2.2.2.1 py.2.2.2.2.2.2.1 py.2.2.2.2.2.2.2.1 py.2.2.2.2.2.2.2.2) : wY_run_575 post (wY_run_4 post N) (nI r) (nI k) o (-1) 0 (nI pl) (nI sl) (nI ol) (nI n) (nI fn) (nI c) (nI ou) py.1 sealed ops sa opB out vars pcy cy ry st val kinds masks host asleep py.2.1 py.2.2.1 py.2.2.2.1 py.2.2.2.2.1 py.2.2.2.2.2.1 py.2.2.2.2.2.2.1 py.2.2.2.2.2.2.2.1 py.2.2.2.2.2.2.2.2 :=
  br_f h5 (br_t (by decide) (br_t rfl (nm_r (nI_1 k) h)))
end
end
section
/-! one statement of the component, up to its cases -/
theorem xw_readE {c r m : Nat} {o : Int32} {vars slots cells : Nat → Int32} {kk : ty_kk} {kx : ty_kx} {ss : ty_ss} {rem pcx rx cx : Nat → Int32} {px : ty_px} {post : Int32 → Prop} (HB : rl_B c vars slots cells) (hr : r < 16) (hm : m < 8) (ho : o = nI m) (h : post (vars (rl_vx r m))) :
    wpX_read post (mk_X kk kx ss (rem, pcx, slots, rx, cx, cells) px) (nI r) o := by
  subst ho; exact xw_read HB hr hm h
section
variable {pl sl ol n fn dp c ou : Nat} {sealed : Int32} {ops opB opA target handler level entry blocks sa st val host kinds masks asleep out rem pcx slots rx cx cells vars pcy cy ry : Nat → Int32} {px : ty_px} {py : ty_py}
theorem xr_ex121 {post : Int32 → SX → Prop} {r i m : Nat} {o : Int32} (hn : n ≤ 32) (hr : r < 16) (hi : i < n) (hpc : pcx r = nI i) (ho : ops i = o) (h0 : ¬ o = 0) (hm : m < 8) (hA : opA i = nI m) (HB : rl_B c vars slots cells) (hcl : o < 4 ∨ (¬ o < 4 ∧ 8 < o) ∨ o = 6)
    (h : wX_execute_121 post (nI r) (nI i) o (vars (rl_vx r m)) 0 1 2 3 4 (nI pl) (nI sl) (nI ol) (nI n) (nI fn) (nI dp) sealed (nI c) px.1 px.2.1 px.2.2.1 px.2.2.2.1 (nI ou) ops opA opB target handler level entry blocks st val px.2.2.2.2.1 px.2.2.2.2.2.1 px.2.2.2.2.2.2.1 host kinds masks rem pcx slots rx cx asleep cells px.2.2.2.2.2.2.2.1 px.2.2.2.2.2.2.2.2.1 px.2.2.2.2.2.2.2.2.2.1 px.2.2.2.2.2.2.2.2.2.2.1 px.2.2.2.2.2.2.2.2.2.2.2.1 px.2.2.2.2.2.2.2.2.2.2.2.2.1 px.2.2.2.2.2.2.2.2.2.2.2.2.2 out) : wpX_execute post (mk_X ((nI pl), (nI sl), (nI ol), (nI n), (nI fn), sealed, ops, opB) ((nI dp), opA, target, handler, level, entry, blocks) ((nI c), (nI ou), st, val, host, kinds, masks, asleep, out) (rem, pcx, slots, rx, cx, cells) px) (nI r) := by
  have er : (nI r).toNatClampNeg = r := nI_clamp (by omega)
  have e : (nI i).toNatClampNeg = i := nI_clamp (by omega)
  have hin : vp_in (nI i) 32 := vp_in_nI (by omega) (by omega)
  have hA' : opA (nI i).toNatClampNeg = nI m := by rw [e]; exact hA
  have ho0 : ¬ ops i = 0 := by rw [ho]; exact h0
  refine And.intro (vp_in_nI hr (by omega)) (nm_r (e' := nI i) (by rw [er]; exact hpc) (br_f (nI_ge hi (by omega)) ⟨hin, br_f (by rw [e]; exact ho0) ⟨hin, nm_r (e' := o) (by rw [e]; exact ho) ⟨hin, ?_⟩⟩⟩))
  refine xw_readE (kk := ((nI pl), (nI sl), (nI ol), (nI n), (nI fn), sealed, ops, opB)) (kx := ((nI dp), opA, target, handler, level, entry, blocks)) (ss := ((nI c), (nI ou), st, val, host, kinds, masks, asleep, out)) (px := px) HB hr hm (hA' : _ = nI m) ?_
  rcases hcl with g | ⟨g, g'⟩ | g
  · exact br_t g h
  · exact br_f g (br_t g' h)
  · subst g
    exact br_f (by decide) (br_f (by decide) (br_f (by decide) (br_f (by decide) (br_t rfl h))))
theorem xr_ex4 {post : Int32 → SX → Prop} {ρ : Int32} {u' : SX} {r i m : Nat} (hn : n ≤ 32) (hr : r < 16) (hi : i < n) (hpc : pcx r = nI i) (ho : ops i = 4) (hm : m < 8) (hA : opA i = nI m) (HB : rl_B c vars slots cells)
    (W : ∀ post' : Int32 → SX → Prop, post' ρ u' → wpX_enter post' (mk_X ((nI pl), (nI sl), (nI ol), (nI n), (nI fn), sealed, ops, opB) ((nI dp), opA, target, handler, level, entry, blocks) ((nI c), (nI ou), st, val, host, kinds, masks, asleep, out) (rem, pcx, slots, rx, cx, cells) px) (nI r) (nI i) (vars (rl_vx r m))) (h : post ρ u') : wpX_execute post (mk_X ((nI pl), (nI sl), (nI ol), (nI n), (nI fn), sealed, ops, opB) ((nI dp), opA, target, handler, level, entry, blocks) ((nI c), (nI ou), st, val, host, kinds, masks, asleep, out) (rem, pcx, slots, rx, cx, cells) px) (nI r) := by
  have er : (nI r).toNatClampNeg = r := nI_clamp (by omega)
  have e : (nI i).toNatClampNeg = i := nI_clamp (by omega)
  have hin : vp_in (nI i) 32 := vp_in_nI (by omega) (by omega)
  have hA' : opA (nI i).toNatClampNeg = nI m := by rw [e]; exact hA
  have ho0 : ¬ ops i = 0 := by rw [ho]; decide
  refine And.intro (vp_in_nI hr (by omega)) (nm_r (e' := nI i) (by rw [er]; exact hpc) (br_f (nI_ge hi (by omega)) ⟨hin, br_f (by rw [e]; exact ho0) ⟨hin, nm_r (e' := (4 : Int32)) (by rw [e]; exact ho) ⟨hin, ?_⟩⟩⟩))
  refine xw_readE (kk := ((nI pl), (nI sl), (nI ol), (nI n), (nI fn), sealed, ops, opB)) (kx := ((nI dp), opA, target, handler, level, entry, blocks)) (ss := ((nI c), (nI ou), st, val, host, kinds, masks, asleep, out)) (px := px) HB hr hm (hA' : _ = nI m) ?_
  exact br_f (by decide) (br_f (by decide) (br_t rfl (W _ h)))
theorem xr_ex5 {post : Int32 → SX → Prop} {ρ : Int32} {u' : SX} {r i m : Nat} (hn : n ≤ 32) (hr : r < 16) (hi : i < n) (hpc : pcx r = nI i) (ho : ops i = 5) (hm : m < 8) (hA : opA i = nI m) (HB : rl_B c vars slots cells)
    (W : ∀ post' : Int32 → SX → Prop, post' ρ u' → wpX_suspend post' (mk_X ((nI pl), (nI sl), (nI ol), (nI n), (nI fn), sealed, ops, opB) ((nI dp), opA, target, handler, level, entry, blocks) ((nI c), (nI ou), st, val, host, kinds, masks, asleep, out) (rem, pcx, slots, rx, cx, cells) px) (nI r) (nI i)) (h : post ρ u') : wpX_execute post (mk_X ((nI pl), (nI sl), (nI ol), (nI n), (nI fn), sealed, ops, opB) ((nI dp), opA, target, handler, level, entry, blocks) ((nI c), (nI ou), st, val, host, kinds, masks, asleep, out) (rem, pcx, slots, rx, cx, cells) px) (nI r) := by
  have er : (nI r).toNatClampNeg = r := nI_clamp (by omega)
  have e : (nI i).toNatClampNeg = i := nI_clamp (by omega)
  have hin : vp_in (nI i) 32 := vp_in_nI (by omega) (by omega)
  have hA' : opA (nI i).toNatClampNeg = nI m := by rw [e]; exact hA
  have ho0 : ¬ ops i = 0 := by rw [ho]; decide
  refine And.intro (vp_in_nI hr (by omega)) (nm_r (e' := nI i) (by rw [er]; exact hpc) (br_f (nI_ge hi (by omega)) ⟨hin, br_f (by rw [e]; exact ho0) ⟨hin, nm_r (e' := (5 : Int32)) (by rw [e]; exact ho) ⟨hin, ?_⟩⟩⟩))
  refine xw_readE (kk := ((nI pl), (nI sl), (nI ol), (nI n), (nI fn), sealed, ops, opB)) (kx := ((nI dp), opA, target, handler, level, entry, blocks)) (ss := ((nI c), (nI ou), st, val, host, kinds, masks, asleep, out)) (px := px) HB hr hm (hA' : _ = nI m) ?_
  exact br_f (by decide) (br_f (by decide) (br_f (by decide) (br_t rfl (W _ h))))
theorem xr_ex7 {post : Int32 → SX → Prop} {ρ : Int32} {u' : SX} {r i m : Nat} (hn : n ≤ 32) (hr : r < 16) (hi : i < n) (hpc : pcx r = nI i) (ho : ops i = 7) (hm : m < 8) (hA : opA i = nI m) (HB : rl_B c vars slots cells)
    (W : ∀ post' : Int32 → SX → Prop, post' ρ u' → wpX_raise post' (mk_X ((nI pl), (nI sl), (nI ol), (nI n), (nI fn), sealed, ops, opB) ((nI dp), opA, target, handler, level, entry, blocks) ((nI c), (nI ou), st, val, host, kinds, masks, asleep, out) (rem, pcx, slots, rx, cx, cells) px) (nI r) (nI i) (vars (rl_vx r m))) (h : post ρ u') : wpX_execute post (mk_X ((nI pl), (nI sl), (nI ol), (nI n), (nI fn), sealed, ops, opB) ((nI dp), opA, target, handler, level, entry, blocks) ((nI c), (nI ou), st, val, host, kinds, masks, asleep, out) (rem, pcx, slots, rx, cx, cells) px) (nI r) := by
  have er : (nI r).toNatClampNeg = r := nI_clamp (by omega)
  have e : (nI i).toNatClampNeg = i := nI_clamp (by omega)
  have hin : vp_in (nI i) 32 := vp_in_nI (by omega) (by omega)
  have hA' : opA (nI i).toNatClampNeg = nI m := by rw [e]; exact hA
  have ho0 : ¬ ops i = 0 := by rw [ho]; decide
  refine And.intro (vp_in_nI hr (by omega)) (nm_r (e' := nI i) (by rw [er]; exact hpc) (br_f (nI_ge hi (by omega)) ⟨hin, br_f (by rw [e]; exact ho0) ⟨hin, nm_r (e' := (7 : Int32)) (by rw [e]; exact ho) ⟨hin, ?_⟩⟩⟩))
  refine xw_readE (kk := ((nI pl), (nI sl), (nI ol), (nI n), (nI fn), sealed, ops, opB)) (kx := ((nI dp), opA, target, handler, level, entry, blocks)) (ss := ((nI c), (nI ou), st, val, host, kinds, masks, asleep, out)) (px := px) HB hr hm (hA' : _ = nI m) ?_
  exact br_f (by decide) (br_f (by decide) (br_f (by decide) (br_f (by decide) (br_f (by decide) (br_t rfl (W _ h))))))
theorem xr_ex8 {post : Int32 → SX → Prop} {ρ : Int32} {u' : SX} {r i m : Nat} (hn : n ≤ 32) (hr : r < 16) (hi : i < n) (hpc : pcx r = nI i) (ho : ops i = 8) (hm : m < 8) (hA : opA i = nI m) (HB : rl_B c vars slots cells)
    (W : ∀ post' : Int32 → SX → Prop, post' ρ u' → wpX_giveBack post' (mk_X ((nI pl), (nI sl), (nI ol), (nI n), (nI fn), sealed, ops, opB) ((nI dp), opA, target, handler, level, entry, blocks) ((nI c), (nI ou), st, val, host, kinds, masks, asleep, out) (rem, pcx, slots, rx, cx, cells) px) (nI r) (vars (rl_vx r m))) (h : post ρ u') : wpX_execute post (mk_X ((nI pl), (nI sl), (nI ol), (nI n), (nI fn), sealed, ops, opB) ((nI dp), opA, target, handler, level, entry, blocks) ((nI c), (nI ou), st, val, host, kinds, masks, asleep, out) (rem, pcx, slots, rx, cx, cells) px) (nI r) := by
  have er : (nI r).toNatClampNeg = r := nI_clamp (by omega)
  have e : (nI i).toNatClampNeg = i := nI_clamp (by omega)
  have hin : vp_in (nI i) 32 := vp_in_nI (by omega) (by omega)
  have hA' : opA (nI i).toNatClampNeg = nI m := by rw [e]; exact hA
  have ho0 : ¬ ops i = 0 := by rw [ho]; decide
  refine And.intro (vp_in_nI hr (by omega)) (nm_r (e' := nI i) (by rw [er]; exact hpc) (br_f (nI_ge hi (by omega)) ⟨hin, br_f (by rw [e]; exact ho0) ⟨hin, nm_r (e' := (8 : Int32)) (by rw [e]; exact ho) ⟨hin, ?_⟩⟩⟩))
  refine xw_readE (kk := ((nI pl), (nI sl), (nI ol), (nI n), (nI fn), sealed, ops, opB)) (kx := ((nI dp), opA, target, handler, level, entry, blocks)) (ss := ((nI c), (nI ou), st, val, host, kinds, masks, asleep, out)) (px := px) HB hr hm (hA' : _ = nI m) ?_
  exact br_f (by decide) (br_f (by decide) (br_f (by decide) (br_f (by decide) (br_f (by decide) (br_f (by decide) (br_t rfl (W _ h)))))))
theorem xr_ex0 {post : Int32 → SX → Prop} {ρ : Int32} {u' : SX} {r i : Nat} (hn : n ≤ 32) (hr : r < 16) (hi : i ≤ n) (hpc : pcx r = nI i) (ho : ops i = 0)
    (W : ∀ post' : Int32 → SX → Prop, post' ρ u' → wpX_giveBack post' (mk_X ((nI pl), (nI sl), (nI ol), (nI n), (nI fn), sealed, ops, opB) ((nI dp), opA, target, handler, level, entry, blocks) ((nI c), (nI ou), st, val, host, kinds, masks, asleep, out) (rem, pcx, slots, rx, cx, cells) px) (nI r) 0) (h : post ρ u') : wpX_execute post (mk_X ((nI pl), (nI sl), (nI ol), (nI n), (nI fn), sealed, ops, opB) ((nI dp), opA, target, handler, level, entry, blocks) ((nI c), (nI ou), st, val, host, kinds, masks, asleep, out) (rem, pcx, slots, rx, cx, cells) px) (nI r) := by
  have er : (nI r).toNatClampNeg = r := nI_clamp (by omega)
  have e : (nI i).toNatClampNeg = i := nI_clamp (by omega)
  refine And.intro (vp_in_nI hr (by omega)) (nm_r (e' := nI i) (by rw [er]; exact hpc) ?_)
  by_cases hlt : i < n
  · exact br_f (nI_ge hlt (by omega)) ⟨vp_in_nI (by omega) (by omega), br_t (by rw [e]; exact ho) (W _ h)⟩
  · exact br_t (nI_le (by omega) (by omega)) (W _ h)
end
end
section
/-! steps: SET, MOVE, ADD, PRINT -/
def rn_S (kk : ty_kk) (kx : ty_kx) (ky : ty_ky) (pl ol n F : Nat) (ops : Nat → Int32) (B rs r ph : Nat) (u : SX) (v : SY) : Prop :=
  ∃ (u' : SX) (v' : SY) (ch' : List Nat) (ph' m : Nat), rn_RU kk kx ky pl ol n F ops B rs ch' ph' u' v' ∧ 1 ≤ m ∧ m ≤ 2 ∧ ph' + m ≤ ph ∧
    (∀ post : Int32 → SX → Prop, post (rn_hd ch') u' → wpX_execute post u (nI r)) ∧
    (∀ (post : SY → Prop) (N k : Nat), k + m ≤ 65536 → rn_yr post N (rn_hd ch') (nI (k + m)) v' → rn_yr post (N + m) (nI r) (nI k) v)
theorem xw_wr {c r m : Nat} {vars slots cells : Nat → Int32} {v : Int32} (HB : rl_B c vars slots cells) (hr : r < 16) (hm : m < 8) (hv : rl_v c v) :
    ∃ slots' cells', rl_B c (upd vars (rl_vx r m) v) slots' cells' ∧ ∀ kk kx ss rem pcx rx cx px (post : SX → Prop) (o w : Int32), o = nI m → w = v → post (mk_X kk kx ss (rem, pcx, slots', rx, cx, cells') px) → wpX_write post (mk_X kk kx ss (rem, pcx, slots, rx, cx, cells) px) (nI r) o w := by
  obtain ⟨s', c', h1, h2⟩ := xw_write HB hr hm hv
  exact ⟨s', c', h1, fun kk kx ss rem pcx rx cx px post o w ho hw h => by subst ho; subst hw; exact h2 kk kx ss rem pcx rx cx px post h⟩
section
variable {pl sl ol n fn dp c ou : Nat} {sealed : Int32} {ops opB opA target handler level entry blocks sa st val host kinds masks asleep out rem pcx slots rx cx cells vars pcy cy ry : Nat → Int32} {px : ty_px} {py : ty_py} {B rs ph : Nat}
/-- what a plain statement writes -/
theorem xw_plain {r i m : Nat} {w : Int32} (hn : n ≤ 32) (hr : r < 16) (hi : i < n) (hm : m < 8) (hA : opA i = nI m) (HB : rl_B c vars slots cells) (hw : rl_v c w)
    (hc : (ops i = 1 ∧ w = (opB i).toInt16.toInt32) ∨ (∃ m2, m2 < 8 ∧ opB i = nI m2 ∧ ((ops i = 2 ∧ w = vars (rl_vx r m2)) ∨ (ops i = 3 ∧ w = (vars (rl_vx r m) + vars (rl_vx r m2)).toInt16.toInt32)))) :
    ∃ slots' cells', rl_B c (upd vars (rl_vx r m) w) slots' cells' ∧ ∀ post : SX → Prop, post (mk_X ((nI pl), (nI sl), (nI ol), (nI n), (nI fn), sealed, ops, opB) ((nI dp), opA, target, handler, level, entry, blocks) ((nI c), (nI ou), st, val, host, kinds, masks, asleep, out) (rem, pcx, (slots'), rx, cx, (cells')) px) → wpX_plain post (mk_X ((nI pl), (nI sl), (nI ol), (nI n), (nI fn), sealed, ops, opB) ((nI dp), opA, target, handler, level, entry, blocks) ((nI c), (nI ou), st, val, host, kinds, masks, asleep, out) (rem, pcx, slots, rx, cx, cells) px) (nI r) (nI i) (vars (rl_vx r m)) := by
  have e : (nI i).toNatClampNeg = i := nI_clamp (by omega)
  have hin : vp_in (nI i) 32 := vp_in_nI (by omega) (by omega)
  have hA' : opA (nI i).toNatClampNeg = nI m := by rw [e]; exact hA
  obtain ⟨s', c', h1, h2⟩ := xw_wr HB hr hm hw
  refine ⟨s', c', h1, fun post h => ?_⟩
  rcases hc with ⟨ho, hw'⟩ | ⟨m2, hm2, hB2, ⟨ho, hw'⟩ | ⟨ho, hw'⟩⟩
  · exact And.intro hin (nm_r (e' := (1 : Int32)) (by rw [e]; exact ho) (br_f (by decide) (br_t rfl ⟨hin, hin, h2 ((nI pl), (nI sl), (nI ol), (nI n), (nI fn), sealed, ops, opB) ((nI dp), opA, target, handler, level, entry, blocks) ((nI c), (nI ou), st, val, host, kinds, masks, asleep, out) rem pcx rx cx px _ _ _ hA' (by rw [e]; exact hw'.symm) h⟩)))
  · refine And.intro hin (nm_r (e' := (2 : Int32)) (by rw [e]; exact ho) (br_f (by decide) (br_f (by decide) ⟨hin, ?_⟩)))
    refine xw_readE (kk := ((nI pl), (nI sl), (nI ol), (nI n), (nI fn), sealed, ops, opB)) (kx := ((nI dp), opA, target, handler, level, entry, blocks)) (ss := ((nI c), (nI ou), st, val, host, kinds, masks, asleep, out)) (px := px) HB hr hm2 (show opB (nI i).toNatClampNeg = nI m2 by rw [e]; exact hB2) ?_
    exact ⟨hin, br_t rfl (h2 ((nI pl), (nI sl), (nI ol), (nI n), (nI fn), sealed, ops, opB) ((nI dp), opA, target, handler, level, entry, blocks) ((nI c), (nI ou), st, val, host, kinds, masks, asleep, out) rem pcx rx cx px _ _ _ hA' hw'.symm h)⟩
  · refine And.intro hin (nm_r (e' := (3 : Int32)) (by rw [e]; exact ho) (br_f (by decide) (br_f (by decide) ⟨hin, ?_⟩)))
    refine xw_readE (kk := ((nI pl), (nI sl), (nI ol), (nI n), (nI fn), sealed, ops, opB)) (kx := ((nI dp), opA, target, handler, level, entry, blocks)) (ss := ((nI c), (nI ou), st, val, host, kinds, masks, asleep, out)) (px := px) HB hr hm2 (show opB (nI i).toNatClampNeg = nI m2 by rw [e]; exact hB2) ?_
    exact ⟨hin, br_f (by decide) (h2 ((nI pl), (nI sl), (nI ol), (nI n), (nI fn), sealed, ops, opB) ((nI dp), opA, target, handler, level, entry, blocks) ((nI c), (nI ou), st, val, host, kinds, masks, asleep, out) rem pcx rx cx px _ _ _ hA' hw'.symm h)⟩
theorem rn_seq {r i ou' : Nat} {t : List Nat} {vars' slots' cells' : Nat → Int32} (h : (rn pl ol n (fn) ops B rs (r :: t) ph c ou st val host masks asleep rem pcx slots rx cx cells vars pcy cy ry px py)) (SP : sp_ok n fn ops opB opA target handler level entry sa) (hpl : pl ≤ 16)
    (hi : pcx r = nI i) (hi' : i < n) (hb : pg_blk (ops i) = false) (h14 : ops i ≠ 14) (h12 : ops i ≠ 12) (HB : rl_B c vars' slots' cells') (hou : ou' ≤ ol) (hRR : rl_RR ops rx ry r (pg_stk ops i)) :
    (rn pl ol n (fn) ops B rs (r :: t) (ph - 1) c (ou') st val host masks asleep rem (upd pcx r (nI (i + 1))) (slots') rx cx (cells') (vars') (upd pcy r (nI (i + 1))) cy ry px py) ∧ 1 ≤ ph := by
  obtain ⟨hn, hok, hz, _⟩ := SP
  have hs := pg_stk_o hb h14 h12
  refine rn_adv h hn hok hpl hi (by omega) (by omega) HB hou (by rw [hs]; exact hRR) (fun _ _ _ _ _ => rfl) (fun _ _ _ _ _ => rfl) ?_
  rw [hs]
  exact pt_f1 (by omega) (pt_bd_ok (sp_ptok hn hz _ i (by omega) rfl) (by omega) (by omega))
theorem st_plain {r i m : Nat} {t : List Nat} {o w : Int32} (SP : sp_ok n fn ops opB opA target handler level entry sa) (hpl : pl ≤ 16) (hol : ol ≤ 64) (h : (rn pl ol n (fn) ops B rs (r :: t) ph c ou st val host masks asleep rem pcx slots rx cx cells vars pcy cy ry px py)) (hr : r < 16) (hi : i < n) (hx : pcx r = nI i) (hy : pcy r = nI i) (hRR : rl_RR ops rx ry r (pg_stk ops i)) (HB : rl_B c vars slots cells)
    (ho : ops i = o) (hm : m < 8) (hA : opA i = nI m) (hsa : sa i = nI m) (hw : rl_v c w)
    (hc : (o = 1 ∧ w = (opB i).toInt16.toInt32) ∨ (∃ m2, m2 < 8 ∧ opB i = nI m2 ∧ ((o = 2 ∧ w = vars (rl_vx r m2)) ∨ (o = 3 ∧ w = (vars (rl_vx r m) + vars (rl_vx r m2)).toInt16.toInt32)))) :
    rn_S ((nI pl), (nI sl), (nI ol), (nI n), (nI fn), sealed, ops, opB) ((nI dp), opA, target, handler, level, entry, blocks) sa pl ol n fn ops B rs r ph (mk_X ((nI pl), (nI sl), (nI ol), (nI n), (nI fn), sealed, ops, opB) ((nI dp), opA, target, handler, level, entry, blocks) ((nI c), (nI ou), st, val, host, kinds, masks, asleep, out) (rem, pcx, slots, rx, cx, cells) px) (mk_Y ((nI pl), (nI sl), (nI ol), (nI n), (nI fn), sealed, ops, opB) sa ((nI c), (nI ou), st, val, host, kinds, masks, asleep, out) (vars, pcy, cy, ry) py) := by
  have hn := SP.1
  obtain ⟨s', c', h1, h2⟩ := xw_plain (ops := ops) (opB := opB) (pl := pl) (sl := sl) (ol := ol) (fn := fn) (dp := dp) (ou := ou) (sealed := sealed) (target := target) (handler := handler) (level := level) (entry := entry) (blocks := blocks) (st := st) (val := val) (host := host) (kinds := kinds) (masks := masks) (asleep := asleep) (out := out) (rem := rem) (pcx := pcx) (rx := rx) (cx := cx) (px := px) hn hr hi hm hA HB hw (by rw [ho]; exact hc)
  have hb : pg_blk o = false := by rcases hc with ⟨g, _⟩ | ⟨_, _, _, ⟨g, _⟩ | ⟨g, _⟩⟩ <;> rw [g] <;> decide
  have h14 : o ≠ 14 := by rcases hc with ⟨g, _⟩ | ⟨_, _, _, ⟨g, _⟩ | ⟨g, _⟩⟩ <;> rw [g] <;> decide
  have h12 : o ≠ 12 := by rcases hc with ⟨g, _⟩ | ⟨_, _, _, ⟨g, _⟩ | ⟨g, _⟩⟩ <;> rw [g] <;> decide
  have h4 : o < 4 := by rcases hc with ⟨g, _⟩ | ⟨_, _, _, ⟨g, _⟩ | ⟨g, _⟩⟩ <;> rw [g] <;> decide
  have h9 : o < 9 := by rcases hc with ⟨g, _⟩ | ⟨_, _, _, ⟨g, _⟩ | ⟨g, _⟩⟩ <;> rw [g] <;> decide
  have h0 : ¬ o = 0 := by rcases hc with ⟨g, _⟩ | ⟨_, _, _, ⟨g, _⟩ | ⟨g, _⟩⟩ <;> rw [g] <;> decide
  have h13 : ¬ o = 13 := by rcases hc with ⟨g, _⟩ | ⟨_, _, _, ⟨g, _⟩ | ⟨g, _⟩⟩ <;> rw [g] <;> decide
  have h5 : ¬ o = 5 := by rcases hc with ⟨g, _⟩ | ⟨_, _, _, ⟨g, _⟩ | ⟨g, _⟩⟩ <;> rw [g] <;> decide
  have hz : (0 : Int32) = if o = 0 ∨ o = 8 ∨ o = 5 then 1 else 0 := by rcases hc with ⟨g, _⟩ | ⟨_, _, _, ⟨g, _⟩ | ⟨g, _⟩⟩ <;> rw [g] <;> decide
  have hvx := rl_vx_lt hr hm
  have hadv := rn_seq h SP hpl hx hi (by rw [ho]; exact hb) (by rw [ho]; exact h14) (by rw [ho]; exact h12) h1 (show ou ≤ ol by obtain ⟨_, _, g, _⟩ := h; exact g.2.1) hRR
  refine ⟨(mk_X ((nI pl), (nI sl), (nI ol), (nI n), (nI fn), sealed, ops, opB) ((nI dp), opA, target, handler, level, entry, blocks) ((nI c), (nI ou), st, val, host, kinds, masks, asleep, out) (rem, (upd pcx r (nI (i + 1))), (s'), rx, cx, (c')) px), (mk_Y ((nI pl), (nI sl), (nI ol), (nI n), (nI fn), sealed, ops, opB) sa ((nI c), (nI ou), st, val, host, kinds, masks, asleep, out) ((upd vars (rl_vx r m) w), (upd pcy r (nI (i + 1))), cy, ry) py), r :: t, ph - 1, 1, rn_mk hadv.1, Nat.le_refl 1, by omega, by have := hadv.2; omega, fun post hp => ?_, fun post N k hk hp => ?_⟩
  · exact xr_ex121 hn hr hi hx ho h0 hm hA HB (Or.inl h4) (br_t h9 (h2 _ ⟨vp_in_nI hr (by omega), nm_r (wk_pc hr) hp⟩))
  · have hma : wk_m (sa i) = m := by rw [hsa]; exact wk_m_nI hm
    rcases hc with ⟨g, gw⟩ | ⟨m2, hm2, hB2, ⟨g, gw⟩ | ⟨g, gw⟩⟩
    · subst g; subst gw
      have e : (nI i).toNatClampNeg = i := nI_clamp (by omega)
      refine yr_runN hma rfl hn hr (by omega) hy ho h13 hz (by omega) (And.intro (vp_in_nI hr (by omega)) (nm_r (wk_pc hr) ?_))
      exact br_t rfl ⟨vp_in_nI (by omega) (by omega), vp_in_nI hvx (by omega), nm_r (e' := upd vars (rl_vx r m) ((opB i).toInt16.toInt32)) (by rw [e]; exact xq_up (by omega)) (yr_go h5 hp)⟩
    · subst g; subst gw
      refine yr_runN hma (show wk_m (opB i) = m2 by rw [hB2]; exact wk_m_nI hm2) hn hr (by omega) hy ho h13 hz (by omega) (And.intro (vp_in_nI hr (by omega)) (nm_r (wk_pc hr) ?_))
      exact br_f (by decide) (br_t rfl ⟨vp_in_nI hvx (by omega), nm_r (xq_up (by omega)) (yr_go h5 hp)⟩)
    · subst g; subst gw
      refine yr_runN hma (show wk_m (opB i) = m2 by rw [hB2]; exact wk_m_nI hm2) hn hr (by omega) hy ho h13 hz (by omega) (And.intro (vp_in_nI hr (by omega)) (nm_r (wk_pc hr) ?_))
      exact br_f (by decide) (br_f (by decide) (br_t rfl ⟨vp_in_nI hvx (by omega), nm_r (xq_up (by omega)) (yr_go h5 hp)⟩))
theorem st_print {r i m : Nat} {t : List Nat} (SP : sp_ok n fn ops opB opA target handler level entry sa) (hpl : pl ≤ 16) (hol : ol ≤ 64) (h : (rn pl ol n (fn) ops B rs (r :: t) ph c ou st val host masks asleep rem pcx slots rx cx cells vars pcy cy ry px py)) (hr : r < 16) (hi : i < n) (hx : pcx r = nI i) (hy : pcy r = nI i) (hRR : rl_RR ops rx ry r (pg_stk ops i)) (HB : rl_B c vars slots cells)
    (ho : ops i = 6) (hm : m < 8) (hA : opA i = nI m) (hsa : sa i = nI m) :
    rn_S ((nI pl), (nI sl), (nI ol), (nI n), (nI fn), sealed, ops, opB) ((nI dp), opA, target, handler, level, entry, blocks) sa pl ol n fn ops B rs r ph (mk_X ((nI pl), (nI sl), (nI ol), (nI n), (nI fn), sealed, ops, opB) ((nI dp), opA, target, handler, level, entry, blocks) ((nI c), (nI ou), st, val, host, kinds, masks, asleep, out) (rem, pcx, slots, rx, cx, cells) px) (mk_Y ((nI pl), (nI sl), (nI ol), (nI n), (nI fn), sealed, ops, opB) sa ((nI c), (nI ou), st, val, host, kinds, masks, asleep, out) (vars, pcy, cy, ry) py) := by
  have hn := SP.1
  have e : (nI i).toNatClampNeg = i := nI_clamp (by omega)
  have hin : vp_in (nI i) 32 := vp_in_nI (by omega) (by omega)
  have hou : ou ≤ ol := by obtain ⟨_, _, g, _⟩ := h; exact g.2.1
  by_cases hlt : ou < ol
  · have hadv := rn_seq (ou' := ou + 1) h SP hpl hx hi (by rw [ho]; decide) (by rw [ho]; decide) (by rw [ho]; decide) HB (by omega) hRR
    refine ⟨(mk_X ((nI pl), (nI sl), (nI ol), (nI n), (nI fn), sealed, ops, opB) ((nI dp), opA, target, handler, level, entry, blocks) ((nI c), (nI (ou + 1)), st, val, host, kinds, masks, asleep, (upd out ou (vars (rl_vx r m)))) (rem, (upd pcx r (nI (i + 1))), slots, rx, cx, cells) px), (mk_Y ((nI pl), (nI sl), (nI ol), (nI n), (nI fn), sealed, ops, opB) sa ((nI c), (nI (ou + 1)), st, val, host, kinds, masks, asleep, (upd out ou (vars (rl_vx r m)))) (vars, (upd pcy r (nI (i + 1))), cy, ry) py), r :: t, ph - 1, 1, rn_mk hadv.1, Nat.le_refl 1, by omega, by have := hadv.2; omega, fun post hp => ?_, fun post N k hk hp => ?_⟩
    · refine xr_ex121 hn hr hi hx ho (by decide) hm hA HB (Or.inr (Or.inr rfl)) (br_t (by decide) ?_)
      exact And.intro hin (nm_r (e' := (6 : Int32)) (by rw [e]; exact ho) (br_t rfl (br_f (nI_ge hlt (by omega)) ⟨vp_in_nI (by omega) (by omega), nm_r (xq_up (by omega)) (nm_r (nI_1 ou) ⟨vp_in_nI hr (by omega), nm_r (wk_pc hr) hp⟩)⟩)))
    · refine yr_runN (show wk_m (sa i) = m by rw [hsa]; exact wk_m_nI hm) rfl hn hr (by omega) hy ho (by decide) (z := 0) (by decide) (by omega) ?_
      exact And.intro (vp_in_nI hr (by omega)) (nm_r (wk_pc hr) (br_f (by decide) (br_f (by decide) (br_f (by decide) (br_t rfl (br_f (nI_ge hlt (by omega)) ⟨vp_in_nI (by omega) (by omega), nm_r (xq_up (by omega)) (nm_r (nI_1 ou) (yr_go (by decide) hp))⟩))))))
  · have hadv := rn_seq (ou' := ou) h SP hpl hx hi (by rw [ho]; decide) (by rw [ho]; decide) (by rw [ho]; decide) HB hou hRR
    refine ⟨(mk_X ((nI pl), (nI sl), (nI ol), (nI n), (nI fn), sealed, ops, opB) ((nI dp), opA, target, handler, level, entry, blocks) ((nI c), (nI ou), st, val, host, kinds, masks, asleep, out) (rem, (upd pcx r (nI (i + 1))), slots, rx, cx, cells) px), (mk_Y ((nI pl), (nI sl), (nI ol), (nI n), (nI fn), sealed, ops, opB) sa ((nI c), (nI ou), st, val, host, kinds, masks, asleep, out) (vars, (upd pcy r (nI (i + 1))), cy, ry) py), r :: t, ph - 1, 1, rn_mk hadv.1, Nat.le_refl 1, by omega, by have := hadv.2; omega, fun post hp => ?_, fun post N k hk hp => ?_⟩
    · refine xr_ex121 hn hr hi hx ho (by decide) hm hA HB (Or.inr (Or.inr rfl)) (br_t (by decide) ?_)
      exact And.intro hin (nm_r (e' := (6 : Int32)) (by rw [e]; exact ho) (br_t rfl (br_t (nI_le (by omega) (by omega)) ⟨vp_in_nI hr (by omega), nm_r (wk_pc hr) hp⟩)))
    · refine yr_runN rfl rfl hn hr (by omega) hy ho (by decide) (z := 0) (by decide) (by omega) ?_
      exact And.intro (vp_in_nI hr (by omega)) (nm_r (wk_pc hr) (br_f (by decide) (br_f (by decide) (br_f (by decide) (br_t rfl (br_t (nI_le (by omega) (by omega)) (br_f (by decide) (br_f (by decide) (br_f (by decide) (br_f (by decide) (br_f (by decide) (br_f (by decide) (br_f (by decide) (br_f (by decide) (br_f (by decide) (br_f (by decide) (br_f (by decide) (yr_go (by decide) hp))))))))))))))))))
end
end
section
/-! steps: IF, REPEAT, TRY, CATCH, BREAK, END -/
theorem wk_uu {f : Nat → Int32} {k : Nat} {x y : Int32} : upd (upd f k x) k y = upd f k y := by
  funext j
  rw [upd, upd, upd]
  split <;> rfl
theorem wk_i3 (r m : Nat) : nI r * 3 + nI m = nI (3 * r + m) := by
  rw [show (3 : Int32) = nI 3 from rfl, pk_mul, nI_add, Nat.mul_comm]
theorem wk_i32 (r m : Nat) : nI r * 32 + nI m = nI (32 * r + m) := by
  rw [show (32 : Int32) = nI 32 from rfl, pk_mul, nI_add, Nat.mul_comm]
section
variable {pl sl ol n fn dp c ou : Nat} {sealed : Int32} {ops opB opA target handler level entry blocks sa st val host kinds masks asleep out rem pcx slots rx cx cells vars pcy cy ry : Nat → Int32} {px : ty_px} {py : ty_py} {B rs ph : Nat}
theorem xr_exB {post : Int32 → SX → Prop} {rx' : Nat → Int32} {r i m j : Nat} {o : Int32} (hn : n ≤ 32) (hr : r < 16) (hi : i < n) (hpc : pcx r = nI i) (ho : ops i = o) (h8 : 8 < o) (hm : m < 8) (hA : opA i = nI m) (HB : rl_B c vars slots cells)
    (W : ∀ post' : Int32 → SX → Prop, post' (nI j) (mk_X ((nI pl), (nI sl), (nI ol), (nI n), (nI fn), sealed, ops, opB) ((nI dp), opA, target, handler, level, entry, blocks) ((nI c), (nI ou), st, val, host, kinds, masks, asleep, out) (rem, pcx, slots, (rx'), cx, cells) px) → wpX_branch post' (mk_X ((nI pl), (nI sl), (nI ol), (nI n), (nI fn), sealed, ops, opB) ((nI dp), opA, target, handler, level, entry, blocks) ((nI c), (nI ou), st, val, host, kinds, masks, asleep, out) (rem, pcx, slots, rx, cx, cells) px) (nI r) (nI i) (vars (rl_vx r m))) (h : post (nI r) (mk_X ((nI pl), (nI sl), (nI ol), (nI n), (nI fn), sealed, ops, opB) ((nI dp), opA, target, handler, level, entry, blocks) ((nI c), (nI ou), st, val, host, kinds, masks, asleep, out) (rem, (upd pcx r (nI j)), slots, (rx'), cx, cells) px)) : wpX_execute post (mk_X ((nI pl), (nI sl), (nI ol), (nI n), (nI fn), sealed, ops, opB) ((nI dp), opA, target, handler, level, entry, blocks) ((nI c), (nI ou), st, val, host, kinds, masks, asleep, out) (rem, pcx, slots, rx, cx, cells) px) (nI r) := by
  have h8' : (8 : Int32).toInt < o.toInt := Int32.lt_iff_toInt_lt.mp h8
  rw [show (8 : Int32).toInt = 8 from by decide] at h8'
  refine xr_ex121 hn hr hi hpc ho (fun z => by rw [z] at h8; exact absurd h8 (by decide)) hm hA HB (Or.inr (Or.inl ⟨?_, h8⟩)) (br_f ?_ (W _ ⟨vp_in_nI hr (by omega), nm_r (xq_up (by omega)) h⟩))
  · rw [Int32.lt_iff_toInt_lt, show (4 : Int32).toInt = 4 from by decide]; omega
  · rw [Int32.lt_iff_toInt_lt, show (9 : Int32).toInt = 9 from by decide]; omega
theorem yr_f422 {post : SY → Prop} {J : Int32 → Int32 → Int32 → Int32 → Int32 → Int32 → Int32 → Int32 → Int32 → Int32 → Int32 → (Nat → Int32) → (Nat → Int32) → (Nat → Int32) → (Nat → Int32) → (Nat → Int32) → (Nat → Int32) → (Nat → Int32) → (Nat → Int32) → (Nat → Int32) → (Nat → Int32) → (Nat → Int32) → (Nat → Int32) → (Nat → Int32) → (Nat → Int32) → (Nat → Int32) → (Nat → Int32) → (Nat → Int32) → (Nat → Int32) → (Nat → Int32) → (Nat → Int32) → (Nat → Int32) → (Nat → Int32) → Prop} {x2 x3 x4 o x8 x9 x12 x13 : Int32} (h5 : ¬ o = 5) (h8 : ¬ o = 8) (h0 : ¬ o = 0) (h7 : ¬ o = 7) (h4 : ¬ o = 4) (h : wY_run_575 post J x2 x3 o x12 x13 (nI pl) (nI sl) (nI ol) (nI n) (nI fn) (nI c) (nI ou) py.1 sealed ops sa opB out vars pcy cy ry st val kinds masks host asleep py.2.1 py.2.2.1 py.2.2.2.1 py.2.2.2.2.1 py.2.2.2.2.2.1 py.2.2.2.2.2.2.1 py.2.2.2.2.2.2.2.1 py.2.2.2.2.2.2.2.2) : wY_run_422 post J x2 x3 x4 o x8 x9 x12 x13 (nI pl) (nI sl) (nI ol) (nI n) (nI fn) (nI c) (nI ou) py.1 sealed ops sa opB out vars pcy cy ry st val kinds masks host asleep py.2.1 py.2.2.1 py.2.2.2.1 py.2.2.2.2.1 py.2.2.2.2.2.1 py.2.2.2.2.2.2.1 py.2.2.2.2.2.2.2.1 py.2.2.2.2.2.2.2.2 :=
  br_f h5 (br_f h5 (br_f h8 (br_f h0 (br_f h7 (br_f h4 h)))))
/-- into a block that is gone through once -/
theorem st_into {r i m : Nat} {t : List Nat} {o : Int32} (SP : sp_ok n fn ops opB opA target handler level entry sa) (hpl : pl ≤ 16) (h : (rn pl ol n (fn) ops B rs (r :: t) ph c ou st val host masks asleep rem pcx slots rx cx cells vars pcy cy ry px py)) (hr : r < 16) (hi : i < n) (hx : pcx r = nI i) (hy : pcy r = nI i) (hRR : rl_RR ops rx ry r (pg_stk ops i)) (HB : rl_B c vars slots cells)
    (ho : ops i = o) (hm : m < 8) (hA : opA i = nI m) (hc : (o = 9 ∧ wk_m (sa i) = m ∧ ¬ vars (rl_vx r m) ≤ 0) ∨ o = 11) :
    rn_S ((nI pl), (nI sl), (nI ol), (nI n), (nI fn), sealed, ops, opB) ((nI dp), opA, target, handler, level, entry, blocks) sa pl ol n fn ops B rs r ph (mk_X ((nI pl), (nI sl), (nI ol), (nI n), (nI fn), sealed, ops, opB) ((nI dp), opA, target, handler, level, entry, blocks) ((nI c), (nI ou), st, val, host, kinds, masks, asleep, out) (rem, pcx, slots, rx, cx, cells) px) (mk_Y ((nI pl), (nI sl), (nI ol), (nI n), (nI fn), sealed, ops, opB) sa ((nI c), (nI ou), st, val, host, kinds, masks, asleep, out) (vars, pcy, cy, ry) py) := by
  have hn := SP.1
  have e : (nI i).toNatClampNeg = i := nI_clamp (by omega)
  have hin : vp_in (nI i) 32 := vp_in_nI (by omega) (by omega)
  have hou : ou ≤ ol := by obtain ⟨_, _, g, _⟩ := h; exact g.2.1
  have hb : pg_blk (ops i) = true := by rw [ho]; rcases hc with ⟨g, _⟩ | g <;> rw [g] <;> decide
  have h10 : ¬ ops i = 10 := by rw [ho]; rcases hc with ⟨g, _⟩ | g <;> rw [g] <;> decide
  obtain ⟨c0, g1, g2, g3, g4, g5⟩ := sp_end hn SP.2.2.1 hi hb
  have hadv := rn_adv (j := i + 1) (m := 2) (rx' := rx) (ry' := ry) h hn SP.2.1 hpl hx (by omega) (by omega) HB hou (by rw [pg_stk_b hb]; exact ⟨fun z => absurd z h10, hRR⟩) (fun _ _ _ _ _ => rfl) (fun _ _ _ _ _ => rfl) (by
    rw [pg_stk_b hb]
    refine pt_in (k := 1) g1 ?_ (by rw [rl_cn, if_neg h10]) (fun _ _ _ => rfl) (by omega) (by omega) ((SP.2.1 i hi).2.2.1 hb)
    rw [← g5]
    exact pt_bd_ok (sp_ptok hn SP.2.2.1 _ _ (by omega) rfl) (by omega) (by omega))
  refine ⟨(mk_X ((nI pl), (nI sl), (nI ol), (nI n), (nI fn), sealed, ops, opB) ((nI dp), opA, target, handler, level, entry, blocks) ((nI c), (nI ou), st, val, host, kinds, masks, asleep, out) (rem, (upd pcx r (nI (i + 1))), slots, rx, cx, cells) px), (mk_Y ((nI pl), (nI sl), (nI ol), (nI n), (nI fn), sealed, ops, opB) sa ((nI c), (nI ou), st, val, host, kinds, masks, asleep, out) (vars, (upd pcy r (nI (i + 1))), cy, ry) py), r :: t, ph - 2, 1, rn_mk hadv.1, Nat.le_refl 1, by omega, by have := hadv.2; omega, fun post hp => ?_, fun post N k hk hp => ?_⟩
  · refine xr_exB (rx' := rx) (j := i + 1) hn hr hi hx ho (by rcases hc with ⟨g, _⟩ | g <;> rw [g] <;> decide) hm hA HB (fun post' hp' => ?_) hp
    rw [← nI_1 i] at hp'
    rcases hc with ⟨g, _, gv⟩ | g
    · subst g
      exact And.intro hin (nm_r (e' := (9 : Int32)) (by rw [e]; exact ho) (br_f (by decide) (br_f (by decide) (br_t rfl (br_f gv hp')))))
    · subst g
      exact And.intro hin (nm_r (e' := (11 : Int32)) (by rw [e]; exact ho) (br_f (by decide) (br_f (by decide) (br_f (by decide) (br_f (by decide) (br_t rfl hp'))))))
  · rcases hc with ⟨g, gm, gv⟩ | g
    · subst g
      exact yr_runN gm rfl hn hr (by omega) hy ho (by decide) (z := 0) (by decide) (by omega) (And.intro (vp_in_nI hr (by omega)) (nm_r (wk_pc hr) (br_f (by decide) (br_f (by decide) (br_f (by decide) (br_f (by decide) (br_t rfl (br_f gv (br_f (by decide) (br_f (by decide) (br_f (by decide) (br_f (by decide) (yr_f422 (by decide) (by decide) (by decide) (by decide) (by decide) (yr_go (by decide) hp))))))))))))))
    · subst g
      exact yr_runN rfl rfl hn hr (by omega) hy ho (by decide) (z := 0) (by decide) (by omega) (And.intro (vp_in_nI hr (by omega)) (nm_r (wk_pc hr) (br_f (by decide) (br_f (by decide) (br_f (by decide) (br_f (by decide) (br_f (by decide) (br_f (by decide) (br_f (by decide) (br_f (by decide) (br_f (by decide) (yr_f422 (by decide) (by decide) (by decide) (by decide) (by decide) (yr_go (by decide) hp)))))))))))))
/-- a jump behind the end of an open block, or over one: the common part -/
theorem rn_jmp {r i j : Nat} {t : List Nat} (SP : sp_ok n fn ops opB opA target handler level entry sa) (hpl : pl ≤ 16) (h : (rn pl ol n (fn) ops B rs (r :: t) ph c ou st val host masks asleep rem pcx slots rx cx cells vars pcy cy ry px py)) (hi : i < n) (hx : pcx r = nI i) (HB : rl_B c vars slots cells) (hj : j ≤ n) (hRR : rl_RR ops rx ry r (pg_stk ops j))
    (hpt : pt ops n (rl_cn ops rx r) (pg_stk ops j) j + 1 ≤ pt ops n (rl_cn ops rx r) (pg_stk ops i) i) :
    (rn pl ol n (fn) ops B rs (r :: t) (ph - 1) c ou st val host masks asleep rem (upd pcx r (nI j)) slots rx cx cells vars (upd pcy r (nI j)) cy ry px py) ∧ 1 ≤ ph :=
  rn_adv h SP.1 SP.2.1 hpl hx (by omega) hj HB (by obtain ⟨_, _, g, _⟩ := h; exact g.2.1) hRR (fun _ _ _ _ _ => rfl) (fun _ _ _ _ _ => rfl) hpt
theorem st_if0 {r i m : Nat} {t : List Nat} (SP : sp_ok n fn ops opB opA target handler level entry sa) (hpl : pl ≤ 16) (h : (rn pl ol n (fn) ops B rs (r :: t) ph c ou st val host masks asleep rem pcx slots rx cx cells vars pcy cy ry px py)) (hr : r < 16) (hi : i < n) (hx : pcx r = nI i) (hy : pcy r = nI i) (hRR : rl_RR ops rx ry r (pg_stk ops i)) (HB : rl_B c vars slots cells)
    (ho : ops i = 9) (hm : m < 8) (hA : opA i = nI m) (hma : wk_m (sa i) = m) (hv : vars (rl_vx r m) ≤ 0) :
    rn_S ((nI pl), (nI sl), (nI ol), (nI n), (nI fn), sealed, ops, opB) ((nI dp), opA, target, handler, level, entry, blocks) sa pl ol n fn ops B rs r ph (mk_X ((nI pl), (nI sl), (nI ol), (nI n), (nI fn), sealed, ops, opB) ((nI dp), opA, target, handler, level, entry, blocks) ((nI c), (nI ou), st, val, host, kinds, masks, asleep, out) (rem, pcx, slots, rx, cx, cells) px) (mk_Y ((nI pl), (nI sl), (nI ol), (nI n), (nI fn), sealed, ops, opB) sa ((nI c), (nI ou), st, val, host, kinds, masks, asleep, out) (vars, pcy, cy, ry) py) := by
  have hn := SP.1
  have e : (nI i).toNatClampNeg = i := nI_clamp (by omega)
  have hin : vp_in (nI i) 32 := vp_in_nI (by omega) (by omega)
  have hb : pg_blk (ops i) = true := by rw [ho]; decide
  obtain ⟨c0, g1, g2, g3, g4, g5⟩ := sp_end hn SP.2.2.1 hi hb
  have ht := (SP.2.2.2.2.1 i hi).2.2.2.2.1 (Or.inl ho)
  have hadv := rn_jmp (j := pt_E ops n i + 1) SP hpl h hi hx HB (by omega) (by rw [g5]; exact hRR) (by
    rw [g5]
    refine pt_f1 (by omega) ?_
    rw [← g5]
    exact pt_bd_ok (sp_ptok hn SP.2.2.1 _ _ (by omega) rfl) (by omega) (by omega))
  refine ⟨(mk_X ((nI pl), (nI sl), (nI ol), (nI n), (nI fn), sealed, ops, opB) ((nI dp), opA, target, handler, level, entry, blocks) ((nI c), (nI ou), st, val, host, kinds, masks, asleep, out) (rem, (upd pcx r (nI (pt_E ops n i + 1))), slots, rx, cx, cells) px), (mk_Y ((nI pl), (nI sl), (nI ol), (nI n), (nI fn), sealed, ops, opB) sa ((nI c), (nI ou), st, val, host, kinds, masks, asleep, out) (vars, (upd pcy r (nI (pt_E ops n i + 1))), cy, ry) py), r :: t, ph - 1, 1, rn_mk hadv.1, Nat.le_refl 1, by omega, by have := hadv.2; omega, fun post hp => ?_, fun post N k hk hp => ?_⟩
  · refine xr_exB (rx' := rx) (j := pt_E ops n i + 1) hn hr hi hx ho (by decide) hm hA HB (fun post' hp' => ?_) hp
    rw [← ht, ← e] at hp'
    exact And.intro hin (nm_r (e' := (9 : Int32)) (by rw [e]; exact ho) (br_f (by decide) (br_f (by decide) (br_t rfl (br_t hv ⟨hin, hp'⟩)))))
  · exact yr_runN hma rfl hn hr (by omega) hy ho (by decide) (z := 0) (by decide) (by omega) (And.intro (vp_in_nI hr (by omega)) (nm_r (wk_pc hr) (br_f (by decide) (br_f (by decide) (br_f (by decide) (br_f (by decide) (br_t rfl (br_t hv (And.intro (vp_in_nI hr (by omega)) (nm_r (e' := upd pcy r (nI (pt_E ops n i + 1))) ((wk_pc hr).trans wk_uu) (yr_go (by decide) hp)))))))))))
theorem sp_catch {i : Nat} (SP : sp_ok n fn ops opB opA target handler level entry sa) (hi : i < n) (ho : ops i = 12) : ∃ tt, pg_stk ops i = (tt, 0) :: pg_stk ops tt ∧ pg_close ops n 14 (i + 1) = pt_E ops n tt ∧ tt < i ∧ pt_E ops n tt < n ∧ i ≤ pt_E ops n tt ∧ pg_stk ops (pt_E ops n tt + 1) = pg_stk ops tt ∧ ops tt = 11 := by
  have hn := SP.1
  obtain ⟨tt, r, hs, ht⟩ := (SP.2.1 i hi).2.2.2.1 ho
  have hh := pg_hd hs
  rw [hh.1] at hs
  obtain ⟨c0, g1, g2, g3, g4, g5⟩ := sp_end hn SP.2.2.1 (show tt < n by omega) hh.2.1
  obtain ⟨t', c', r', hs', hc'⟩ := (SP.2.1 _ g2).2.2.2.2.2 g3
  rw [g4] at hs'
  injection hs' with ha hbb
  injection ha with ha1 ha2
  subst ha1 ha2
  have hc0 := hc' ht
  have hm : (tt, c0) ∈ pg_stk ops (pt_E ops n tt) := by rw [g4]; exact List.mem_cons_self ..
  obtain ⟨k1, k2, k3, k4, k5⟩ := pg_ct SP.2.1 _ (by omega) tt c0 hm hc0
  have e1 := pg_C_at SP.2.1 (by omega) (by omega) k3 k5
  have e2 := pg_C_at SP.2.1 (by omega) hi ho hs
  have e3 : c0 = i := by rw [← e1, ← e2]
  subst e3
  exact ⟨tt, hs, pg_E_c SP.2.1 (by omega) g2 g3 g4 hc0, hh.2.2, g2, by omega, g5, ht⟩
theorem st_catch {r i m : Nat} {t : List Nat} (SP : sp_ok n fn ops opB opA target handler level entry sa) (hpl : pl ≤ 16) (h : (rn pl ol n (fn) ops B rs (r :: t) ph c ou st val host masks asleep rem pcx slots rx cx cells vars pcy cy ry px py)) (hr : r < 16) (hi : i < n) (hx : pcx r = nI i) (hy : pcy r = nI i) (hRR : rl_RR ops rx ry r (pg_stk ops i)) (HB : rl_B c vars slots cells)
    (ho : ops i = 12) (hm : m < 8) (hA : opA i = nI m) :
    rn_S ((nI pl), (nI sl), (nI ol), (nI n), (nI fn), sealed, ops, opB) ((nI dp), opA, target, handler, level, entry, blocks) sa pl ol n fn ops B rs r ph (mk_X ((nI pl), (nI sl), (nI ol), (nI n), (nI fn), sealed, ops, opB) ((nI dp), opA, target, handler, level, entry, blocks) ((nI c), (nI ou), st, val, host, kinds, masks, asleep, out) (rem, pcx, slots, rx, cx, cells) px) (mk_Y ((nI pl), (nI sl), (nI ol), (nI n), (nI fn), sealed, ops, opB) sa ((nI c), (nI ou), st, val, host, kinds, masks, asleep, out) (vars, pcy, cy, ry) py) := by
  have hn := SP.1
  have e : (nI i).toNatClampNeg = i := nI_clamp (by omega)
  have hin : vp_in (nI i) 32 := vp_in_nI (by omega) (by omega)
  obtain ⟨tt, hs, hcl, k1, k2, k3, k4, _⟩ := sp_catch SP hi ho
  have ht := (SP.2.2.2.2.1 i hi).2.2.2.2.2.1 ho
  rw [hcl] at ht
  have hadv := rn_jmp (j := pt_E ops n tt + 1) SP hpl h hi hx HB (by omega) (by rw [k4]; rw [hs] at hRR; exact hRR.2) (by
    rw [k4, hs]
    exact pt_out (ext := []) (by rw [List.nil_append, ← hs]; exact sp_ptok hn SP.2.2.1 _ _ (by omega) rfl))
  refine ⟨(mk_X ((nI pl), (nI sl), (nI ol), (nI n), (nI fn), sealed, ops, opB) ((nI dp), opA, target, handler, level, entry, blocks) ((nI c), (nI ou), st, val, host, kinds, masks, asleep, out) (rem, (upd pcx r (nI (pt_E ops n tt + 1))), slots, rx, cx, cells) px), (mk_Y ((nI pl), (nI sl), (nI ol), (nI n), (nI fn), sealed, ops, opB) sa ((nI c), (nI ou), st, val, host, kinds, masks, asleep, out) (vars, (upd pcy r (nI (pt_E ops n tt + 1))), cy, ry) py), r :: t, ph - 1, 1, rn_mk hadv.1, Nat.le_refl 1, by omega, by have := hadv.2; omega, fun post hp => ?_, fun post N k hk hp => ?_⟩
  · refine xr_exB (rx' := rx) (j := pt_E ops n tt + 1) hn hr hi hx ho (by decide) hm hA HB (fun post' hp' => ?_) hp
    rw [← ht, ← e] at hp'
    exact And.intro hin (nm_r (e' := (12 : Int32)) (by rw [e]; exact ho) (br_f (by decide) (br_f (by decide) (br_f (by decide) (br_f (by decide) (br_f (by decide) (br_t rfl ⟨hin, hp'⟩)))))))
  · refine yr_runN rfl rfl hn hr (by omega) hy ho (by decide) (z := 0) (by decide) (by omega) ?_
    rw [hcl]
    exact And.intro (vp_in_nI hr (by omega)) (nm_r (wk_pc hr) (br_f (by decide) (br_f (by decide) (br_f (by decide) (br_f (by decide) (br_f (by decide) (br_t rfl (And.intro (vp_in_nI hr (by omega)) (nm_r (e' := upd pcy r (nI (pt_E ops n tt + 1))) ((wk_pc hr).trans wk_uu) (yr_go (by decide) hp))))))))))
theorem st_break {r i m : Nat} {t : List Nat} (SP : sp_ok n fn ops opB opA target handler level entry sa) (hpl : pl ≤ 16) (h : (rn pl ol n (fn) ops B rs (r :: t) ph c ou st val host masks asleep rem pcx slots rx cx cells vars pcy cy ry px py)) (hr : r < 16) (hi : i < n) (hx : pcx r = nI i) (hy : pcy r = nI i) (hRR : rl_RR ops rx ry r (pg_stk ops i)) (HB : rl_B c vars slots cells)
    (ho : ops i = 13) (hm : m < 8) (hA : opA i = nI m) :
    rn_S ((nI pl), (nI sl), (nI ol), (nI n), (nI fn), sealed, ops, opB) ((nI dp), opA, target, handler, level, entry, blocks) sa pl ol n fn ops B rs r ph (mk_X ((nI pl), (nI sl), (nI ol), (nI n), (nI fn), sealed, ops, opB) ((nI dp), opA, target, handler, level, entry, blocks) ((nI c), (nI ou), st, val, host, kinds, masks, asleep, out) (rem, pcx, slots, rx, cx, cells) px) (mk_Y ((nI pl), (nI sl), (nI ol), (nI n), (nI fn), sealed, ops, opB) sa ((nI c), (nI ou), st, val, host, kinds, masks, asleep, out) (vars, pcy, cy, ry) py) := by
  have hn := SP.1
  have e : (nI i).toNatClampNeg = i := nI_clamp (by omega)
  have hin : vp_in (nI i) 32 := vp_in_nI (by omega) (by omega)
  rcases pg_sel_cases (pg_isR ops) (pg_stk ops i) with ⟨hno, _⟩ | ⟨b, c0, ext, r0, hs, hp, hsel, _⟩
  · obtain ⟨e0, he, he10⟩ := (SP.2.1 i hi).2.2.2.2.1 ho
    exact absurd (by rw [pg_isR, he10]; rfl) (hno e0 he)
  · have hmem : (b, c0) ∈ pg_stk ops i := by rw [hs]; simp
    obtain ⟨ext', hs', hb⟩ := pg_mem hmem
    have hbi := pg_bd ops i _ hmem
    dsimp only at hbi
    obtain ⟨c1, g1, g2, g3, g4, g5⟩ := sp_end hn SP.2.2.1 (show b < n by omega) hb
    have ht := (SP.2.2.2.2.1 i hi).2.2.2.2.2.2.1 ho b (by omega) hsel
    have hopen : pg_open ops n i 10 = nI b := (pg_open_rep (by omega) (by omega)).trans hsel
    have hadv := rn_jmp (j := pt_E ops n b + 1) SP hpl h hi hx HB (by omega) (by rw [g5]; rw [hs'] at hRR; exact (rl_RR_app hRR).2) (by
      rw [g5, hs']
      exact pt_out (by rw [← hs']; exact sp_ptok hn SP.2.2.1 _ _ (by omega) rfl))
    refine ⟨(mk_X ((nI pl), (nI sl), (nI ol), (nI n), (nI fn), sealed, ops, opB) ((nI dp), opA, target, handler, level, entry, blocks) ((nI c), (nI ou), st, val, host, kinds, masks, asleep, out) (rem, (upd pcx r (nI (pt_E ops n b + 1))), slots, rx, cx, cells) px), (mk_Y ((nI pl), (nI sl), (nI ol), (nI n), (nI fn), sealed, ops, opB) sa ((nI c), (nI ou), st, val, host, kinds, masks, asleep, out) (vars, (upd pcy r (nI (pt_E ops n b + 1))), cy, ry) py), r :: t, ph - 1, 1, rn_mk hadv.1, Nat.le_refl 1, by omega, by have := hadv.2; omega, fun post hp => ?_, fun post N k hk hp => ?_⟩
    · refine xr_exB (rx' := rx) (j := pt_E ops n b + 1) hn hr hi hx ho (by decide) hm hA HB (fun post' hp' => ?_) hp
      rw [← ht, ← e] at hp'
      exact And.intro hin (nm_r (e' := (13 : Int32)) (by rw [e]; exact ho) (br_f (by decide) (br_f (by decide) (br_f (by decide) (br_f (by decide) (br_f (by decide) (br_f (by decide) (br_t rfl ⟨hin, hp'⟩))))))))
    · exact yr_run13 rfl rfl hn hr (by omega) hy ho hopen (by omega) (by omega) (And.intro (vp_in_nI hr (by omega)) (nm_r (wk_pc hr) (br_f (by decide) (br_f (by decide) (br_f (by decide) (br_f (by decide) (br_f (by decide) (br_f (by decide) (br_t rfl (And.intro (vp_in_nI hr (by omega)) (nm_r (e' := upd pcy r (nI (pt_E ops n b + 1))) ((wk_pc hr).trans wk_uu) (yr_go (by decide) hp))))))))))))
end
end
section
/-! steps: END, REPEAT -/
theorem wk_clp (V : Int32) : ∃ k, k ≤ 4 ∧ (∀ P : Int32 → Prop, P (nI k) → ((0 ≤ V → ((V ≤ 4 → P V) ∧ (¬ V ≤ 4 → P 4))) ∧ (¬ 0 ≤ V → P 0))) ∧ ∀ kk kx ss gx px (post : Int32 → Prop), post (nI k) → wpX_clamp post (mk_X kk kx ss gx px) V 0 4 := by
  by_cases h0 : 0 ≤ V
  · by_cases h4 : V ≤ 4
    · obtain ⟨j, hj, rfl⟩ := nI_of2 (x := V) (M := 4) (n := 4) (by decide) (Int32.not_lt.mpr h0) h4
      exact ⟨j, hj, fun P h => br_t h0 (br_t h4 h), fun kk kx ss gx px post h => br_t h0 (br_t h4 h)⟩
    · exact ⟨4, Nat.le_refl 4, fun P h => br_t h0 (br_f h4 h), fun kk kx ss gx px post h => br_t h0 (br_f h4 h)⟩
  · exact ⟨0, by omega, fun P h => br_f h0 h, fun kk kx ss gx px post h => br_f h0 h⟩
theorem xw_erep {post : Int32 → SX → Prop} {kk : ty_kk} {kx : ty_kx} {ss : ty_ss} {gx : ty_gx} {px : ty_px} {A D V : Int32} {k : Nat} (hPX : ∀ kk kx ss gx px (post : Int32 → Prop), post (nI k) → wpX_clamp post (mk_X kk kx ss gx px) V 0 4)
    (h : (nI k = 0 → (vp_in D 32 ∧ post (kx.2.2.1 D.toNatClampNeg) (mk_X kk kx ss gx px))) ∧ (¬ nI k = 0 → (vp_in D 32 ∧ (vp_in (A * 3 + kx.2.2.2.2.1 D.toNatClampNeg) 48 ∧ ∀ rx', rx' = upd gx.2.2.2.1 (A * 3 + kx.2.2.2.2.1 D.toNatClampNeg).toNatClampNeg (nI k) → post (D + 1) (mk_X kk kx ss (gx.1, gx.2.1, gx.2.2.1, rx', gx.2.2.2.2.1, gx.2.2.2.2.2) px))))) :
    wpX_enterRepeat post (mk_X kk kx ss gx px) A D V := by
  unfold wpX_enterRepeat mk_X
  dsimp only
  exact hPX kk kx ss gx px _ h
section
variable {pl sl ol n fn dp c ou : Nat} {sealed : Int32} {ops opB opA target handler level entry blocks sa st val host kinds masks asleep out rem pcx slots rx cx cells vars pcy cy ry : Nat → Int32} {px : ty_px} {py : ty_py} {B rs ph : Nat}
theorem sp_endrow {i : Nat} (SP : sp_ok n fn ops opB opA target handler level entry sa) (hi : i < n) (ho : ops i = 14) : ∃ b c0, pg_stk ops i = (b, c0) :: pg_stk ops b ∧ pg_blk (ops b) = true ∧ b < i ∧ pt_E ops n b = i ∧ pg_open ops n i (-1) = nI b ∧ pg_stk ops (i + 1) = pg_stk ops b ∧
    (ops b = 10 → target i = nI (b + 1) ∧ level i = nI (pg_stk ops b).length) ∧ (ops b ≠ 10 → level i = -1) ∧ (pg_stk ops b).length < 3 := by
  have hn := SP.1
  obtain ⟨b, c0, r0, hs, _⟩ := (SP.2.1 i hi).2.2.2.2.2 ho
  have hh := pg_hd hs
  have hrow := (SP.2.2.2.2.1 i hi).2.2.2.2.2.2.2.1 ho b c0 r0 hs
  rw [hh.1] at hs hrow
  refine ⟨b, c0, hs, hh.2.1, hh.2.2, pg_E_at (by omega) hi ho hs, ?_, by rw [pg_stk_e ho, hs]; rfl, hrow.1, hrow.2, (SP.2.1 b (by omega)).2.2.1 hh.2.1⟩
  rw [pg_open_any (by omega) (by omega), hs]; rfl
theorem st_end0 {r i m : Nat} {t : List Nat} (SP : sp_ok n fn ops opB opA target handler level entry sa) (hpl : pl ≤ 16) (h : (rn pl ol n (fn) ops B rs (r :: t) ph c ou st val host masks asleep rem pcx slots rx cx cells vars pcy cy ry px py)) (hr : r < 16) (hi : i < n) (hx : pcx r = nI i) (hy : pcy r = nI i) (hRR : rl_RR ops rx ry r (pg_stk ops i)) (HB : rl_B c vars slots cells)
    (ho : ops i = 14) (hm : m < 8) (hA : opA i = nI m) :
    rn_S ((nI pl), (nI sl), (nI ol), (nI n), (nI fn), sealed, ops, opB) ((nI dp), opA, target, handler, level, entry, blocks) sa pl ol n fn ops B rs r ph (mk_X ((nI pl), (nI sl), (nI ol), (nI n), (nI fn), sealed, ops, opB) ((nI dp), opA, target, handler, level, entry, blocks) ((nI c), (nI ou), st, val, host, kinds, masks, asleep, out) (rem, pcx, slots, rx, cx, cells) px) (mk_Y ((nI pl), (nI sl), (nI ol), (nI n), (nI fn), sealed, ops, opB) sa ((nI c), (nI ou), st, val, host, kinds, masks, asleep, out) (vars, pcy, cy, ry) py) := by
  have hn := SP.1
  have e : (nI i).toNatClampNeg = i := nI_clamp (by omega)
  have hin : vp_in (nI i) 32 := vp_in_nI (by omega) (by omega)
  have hou : ou ≤ ol := by obtain ⟨_, _, g, _⟩ := h; exact g.2.1
  obtain ⟨b, c0, hs, hb, hbi, hE, hop, hs1, hr10, hrn, hlen⟩ := sp_endrow SP hi ho
  have eb : (nI b).toNatClampNeg = b := nI_clamp (by omega)
  have hinb : vp_in (nI b) 34 := vp_in_nI (by omega) (by omega)
  rw [hs] at hRR
  have hptok : pt_ok ops n ([] ++ (b, c0) :: pg_stk ops b) i := by rw [List.nil_append, ← hs]; exact sp_ptok hn SP.2.2.1 _ _ (by omega) rfl
  by_cases h10 : ops b = 10
  · obtain ⟨ht, hl⟩ := hr10 h10
    obtain ⟨k, k1, k4, kx, ky⟩ := hRR.1 h10
    dsimp only at ky
    have e3 : (nI (3 * r + (pg_stk ops b).length)).toNatClampNeg = 3 * r + (pg_stk ops b).length := nI_clamp (by omega)
    have h48 : vp_in (nI (3 * r + (pg_stk ops b).length)) 48 := vp_in_nI (by omega) (by omega)
    have hl' : nI r * 3 + level (nI i).toNatClampNeg = nI (3 * r + (pg_stk ops b).length) := by rw [e, hl, wk_i3]
    have hsub : rx (3 * r + (pg_stk ops b).length) - 1 = nI (k - 1) := by
      rw [kx]
      obtain ⟨k', rfl⟩ : ∃ k', k = k' + 1 := ⟨k - 1, by omega⟩
      exact nI_pred k'
    have hrd : upd rx (nI (3 * r + (pg_stk ops b).length)).toNatClampNeg (rx (nI (3 * r + (pg_stk ops b).length)).toNatClampNeg - 1) = upd rx (3 * r + (pg_stk ops b).length) (nI (k - 1)) := by rw [e3, hsub]
    have hl0 : 0 ≤ level (nI i).toNatClampNeg := by rw [e, hl]; exact nI_pos' (by omega)
    have eY : (nI r * 32 + nI b).toNatClampNeg = 32 * r + b := by rw [wk_i32]; exact nI_clamp (by omega)
    have h512 : vp_in (nI r * 32 + nI b) 512 := by rw [wk_i32]; exact vp_in_nI (by omega) (by omega)
    have hfx : ∀ q, q < 16 → q ≠ r → ∀ d, d < 3 → upd rx (3 * r + (pg_stk ops b).length) (nI (k - 1)) (3 * q + d) = rx (3 * q + d) := fun q _ hq d hd => pk_un (by omega)
    have hfl : ∀ d, d < (pg_stk ops b).length → upd rx (3 * r + (pg_stk ops b).length) (nI (k - 1)) (3 * r + d) = rx (3 * r + d) := fun d hd => pk_un (by omega)
    by_cases hk : k = 1
    · subst hk
      have hadv := rn_adv (j := i + 1) (m := 1) (rx' := upd rx (3 * r + (pg_stk ops b).length) (nI (1 - 1))) (ry' := ry) h hn SP.2.1 hpl hx (by omega) (by omega) HB hou (by rw [hs1]; exact rl_RR_congr hfl (fun _ _ => rfl) hRR.2) hfx (fun _ _ _ _ _ => rfl) (by
        rw [hs1, hs]
        have h1 := pt_out (cn := rl_cn ops rx r) hptok
        rw [hE, List.nil_append] at h1
        rw [pt_congr (cn := rl_cn ops rx r) (fun b' d hd => by rw [rl_cn, rl_cn, hfl d hd])]
        exact h1)
      refine ⟨(mk_X ((nI pl), (nI sl), (nI ol), (nI n), (nI fn), sealed, ops, opB) ((nI dp), opA, target, handler, level, entry, blocks) ((nI c), (nI ou), st, val, host, kinds, masks, asleep, out) (rem, (upd pcx r (nI (i + 1))), slots, (upd rx (3 * r + (pg_stk ops b).length) (nI (1 - 1))), cx, cells) px), (mk_Y ((nI pl), (nI sl), (nI ol), (nI n), (nI fn), sealed, ops, opB) sa ((nI c), (nI ou), st, val, host, kinds, masks, asleep, out) (vars, (upd pcy r (nI (i + 1))), cy, ry) py), r :: t, ph - 1, 1, rn_mk hadv.1, Nat.le_refl 1, by omega, by have := hadv.2; omega, fun post hp => ?_, fun post N k hk hp => ?_⟩
      · refine xr_exB (rx' := upd rx (3 * r + (pg_stk ops b).length) (nI (1 - 1))) (j := i + 1) hn hr hi hx ho (by decide) hm hA HB (fun post' hp' => ?_) hp
        rw [← nI_1 i] at hp'
        refine And.intro hin (nm_r (e' := (14 : Int32)) (by rw [e]; exact ho) ?_)
        iterate 7 refine br_f (by decide) ?_
        refine br_t rfl (And.intro hin ?_)
        exact br_t hl0 ⟨hin, nm_r hl' ⟨h48, h48, nm_r hrd ⟨h48, br_t (by rw [e3, pk_us]; decide) hp'⟩⟩⟩
      · refine yr_runN rfl rfl hn hr (by omega) hy ho (by decide) (z := 0) (by decide) (by omega) ?_
        rw [hop]
        refine And.intro (vp_in_nI hr (by omega)) (nm_r (wk_pc hr) ?_)
        iterate 8 refine br_f (by decide) ?_
        refine br_t rfl (br_f (nI_pos (by omega)) ⟨hinb, br_t (by rw [eb]; exact h10) ⟨h512, br_t ?_ (yr_f422 (by decide) (by decide) (by decide) (by decide) (by decide) (yr_go (by decide) hp))⟩⟩)
        rw [eY]
        show ry (32 * r + b) ≤ 0
        rw [ky]; decide
    · obtain ⟨k', rfl⟩ : ∃ k', k = k' + 2 := ⟨k - 2, by omega⟩
      have hfy : ∀ q, q < 16 → q ≠ r → ∀ d, d < 32 → upd ry (32 * r + b) (nI k') (32 * q + d) = ry (32 * q + d) := fun q _ hq d hd => pk_un (by omega)
      have hsb : pg_stk ops (b + 1) = (b, 0) :: pg_stk ops b := pg_stk_b hb
      have hadv := rn_adv (j := b + 1) (m := 1) (rx' := upd rx (3 * r + (pg_stk ops b).length) (nI (k' + 2 - 1))) (ry' := upd ry (32 * r + b) (nI k')) h hn SP.2.1 hpl hx (by omega) (by omega) HB hou (by
        rw [hsb]
        exact ⟨fun _ => ⟨k' + 1, by omega, by omega, pk_us, by rw [pk_us]; rfl⟩, rl_RR_congr hfl (fun e he => pk_un (by have := pg_bd ops b e he; omega)) hRR.2⟩) hfx hfy (by
        rw [hsb, hs]
        have h1 := pt_back (ops := ops) (n := n) (cn := rl_cn ops rx r) (cn' := rl_cn ops (upd rx (3 * r + (pg_stk ops b).length) (nI (k' + 2 - 1))) r) (r := pg_stk ops b) (b := b) (x := 0) (y := c0) (k := k') (by omega) (by rw [rl_cn, if_pos h10, kx]; exact nI_clamp (by omega)) (by rw [rl_cn, if_pos h10, pk_us]; exact nI_clamp (by omega)) (fun b' d hd => by rw [rl_cn, rl_cn, hfl d hd])
        rw [hE] at h1
        exact h1)
      refine ⟨(mk_X ((nI pl), (nI sl), (nI ol), (nI n), (nI fn), sealed, ops, opB) ((nI dp), opA, target, handler, level, entry, blocks) ((nI c), (nI ou), st, val, host, kinds, masks, asleep, out) (rem, (upd pcx r (nI (b + 1))), slots, (upd rx (3 * r + (pg_stk ops b).length) (nI (k' + 2 - 1))), cx, cells) px), (mk_Y ((nI pl), (nI sl), (nI ol), (nI n), (nI fn), sealed, ops, opB) sa ((nI c), (nI ou), st, val, host, kinds, masks, asleep, out) (vars, (upd pcy r (nI (b + 1))), cy, (upd ry (32 * r + b) (nI k'))) py), r :: t, ph - 1, 1, rn_mk hadv.1, Nat.le_refl 1, by omega, by have := hadv.2; omega, fun post hp => ?_, fun post N k hk hp => ?_⟩
      · refine xr_exB (rx' := upd rx (3 * r + (pg_stk ops b).length) (nI (k' + 2 - 1))) (j := b + 1) hn hr hi hx ho (by decide) hm hA HB (fun post' hp' => ?_) hp
        rw [← ht, ← e] at hp'
        refine And.intro hin (nm_r (e' := (14 : Int32)) (by rw [e]; exact ho) ?_)
        iterate 7 refine br_f (by decide) ?_
        refine br_t rfl (And.intro hin ?_)
        exact br_t hl0 ⟨hin, nm_r hl' ⟨h48, h48, nm_r hrd ⟨h48, br_f (by rw [e3, pk_us]; exact nI_nle (by omega) (by omega)) ⟨hin, hp'⟩⟩⟩⟩
      · refine yr_runN rfl rfl hn hr (by omega) hy ho (by decide) (z := 0) (by decide) (by omega) ?_
        rw [hop]
        have hry : ry (32 * r + b) = nI (k' + 1) := ky
        have hupd : upd ry (nI r * 32 + nI b).toNatClampNeg (ry (nI r * 32 + nI b).toNatClampNeg - 1) = upd ry (32 * r + b) (nI k') := by rw [eY, hry, nI_pred]
        refine And.intro (vp_in_nI hr (by omega)) (nm_r (wk_pc hr) ?_)
        iterate 8 refine br_f (by decide) ?_
        refine br_t rfl (br_f (nI_pos (by omega)) ⟨hinb, br_t (by rw [eb]; exact h10) ⟨h512, br_f ?_ ⟨h512, h512, nm_r hupd ⟨vp_in_nI hr (by omega), nm_r (e' := upd pcy r (nI (b + 1))) ((wk_pc hr).trans wk_uu) (yr_go (by decide) hp)⟩⟩⟩⟩)
        rw [eY]
        show ¬ ry (32 * r + b) ≤ 0
        rw [hry]; exact nI_nle (by omega) (by omega)
  · have hl := hrn h10
    have hadv := rn_jmp (j := i + 1) SP hpl h hi hx HB (by omega) (by rw [hs1]; exact hRR.2) (by
      rw [hs1, hs]
      have h1 := pt_out (cn := rl_cn ops rx r) hptok
      rw [hE] at h1
      exact h1)
    refine ⟨(mk_X ((nI pl), (nI sl), (nI ol), (nI n), (nI fn), sealed, ops, opB) ((nI dp), opA, target, handler, level, entry, blocks) ((nI c), (nI ou), st, val, host, kinds, masks, asleep, out) (rem, (upd pcx r (nI (i + 1))), slots, rx, cx, cells) px), (mk_Y ((nI pl), (nI sl), (nI ol), (nI n), (nI fn), sealed, ops, opB) sa ((nI c), (nI ou), st, val, host, kinds, masks, asleep, out) (vars, (upd pcy r (nI (i + 1))), cy, ry) py), r :: t, ph - 1, 1, rn_mk hadv.1, Nat.le_refl 1, by omega, by have := hadv.2; omega, fun post hp => ?_, fun post N k hk hp => ?_⟩
    · refine xr_exB (rx' := rx) (j := i + 1) hn hr hi hx ho (by decide) hm hA HB (fun post' hp' => ?_) hp
      rw [← nI_1 i] at hp'
      have hl0 : ¬ 0 ≤ level (nI i).toNatClampNeg := by rw [e, hl]; decide
      refine And.intro hin (nm_r (e' := (14 : Int32)) (by rw [e]; exact ho) ?_)
      iterate 7 refine br_f (by decide) ?_
      refine br_t rfl (And.intro hin ?_)
      exact br_f hl0 hp'
    · refine yr_runN rfl rfl hn hr (by omega) hy ho (by decide) (z := 0) (by decide) (by omega) ?_
      rw [hop]
      refine And.intro (vp_in_nI hr (by omega)) (nm_r (wk_pc hr) ?_)
      iterate 8 refine br_f (by decide) ?_
      exact br_t rfl (br_f (nI_pos (by omega)) ⟨hinb, br_f (by rw [eb]; exact h10) (yr_f422 (by decide) (by decide) (by decide) (by decide) (by decide) (yr_go (by decide) hp))⟩)
theorem st_rep {r i m : Nat} {t : List Nat} (SP : sp_ok n fn ops opB opA target handler level entry sa) (hpl : pl ≤ 16) (h : (rn pl ol n (fn) ops B rs (r :: t) ph c ou st val host masks asleep rem pcx slots rx cx cells vars pcy cy ry px py)) (hr : r < 16) (hi : i < n) (hx : pcx r = nI i) (hy : pcy r = nI i) (hRR : rl_RR ops rx ry r (pg_stk ops i)) (HB : rl_B c vars slots cells)
    (ho : ops i = 10) (hm : m < 8) (hA : opA i = nI m) (hma : wk_m (sa i) = m) :
    rn_S ((nI pl), (nI sl), (nI ol), (nI n), (nI fn), sealed, ops, opB) ((nI dp), opA, target, handler, level, entry, blocks) sa pl ol n fn ops B rs r ph (mk_X ((nI pl), (nI sl), (nI ol), (nI n), (nI fn), sealed, ops, opB) ((nI dp), opA, target, handler, level, entry, blocks) ((nI c), (nI ou), st, val, host, kinds, masks, asleep, out) (rem, pcx, slots, rx, cx, cells) px) (mk_Y ((nI pl), (nI sl), (nI ol), (nI n), (nI fn), sealed, ops, opB) sa ((nI c), (nI ou), st, val, host, kinds, masks, asleep, out) (vars, pcy, cy, ry) py) := by
  have hn := SP.1
  have e : (nI i).toNatClampNeg = i := nI_clamp (by omega)
  have hin : vp_in (nI i) 32 := vp_in_nI (by omega) (by omega)
  have hou : ou ≤ ol := by obtain ⟨_, _, g, _⟩ := h; exact g.2.1
  have hb : pg_blk (ops i) = true := by rw [ho]; decide
  have hlen := (SP.2.1 i hi).2.2.1 hb
  obtain ⟨c0, g1, g2, g3, g4, g5⟩ := sp_end hn SP.2.2.1 hi hb
  have ht := (SP.2.2.2.2.1 i hi).2.2.2.2.1 (Or.inr ho)
  have hl := (SP.2.2.2.2.1 i hi).2.2.2.1 hb
  obtain ⟨b, c1, hs, _, hbi, hE, hop, hs1, _⟩ := sp_endrow SP g2 g3
  have hbeq : b = i := by rw [g4] at hs; injection hs with h1 _; injection h1 with h2 _; exact h2.symm
  subst hbeq
  have hlb : (pg_stk ops b).length < 3 := hlen
  have hinb : vp_in (nI b) 34 := vp_in_nI (by omega) (by omega)
  have eY : (nI r * 32 + nI b).toNatClampNeg = 32 * r + b := by rw [wk_i32]; exact nI_clamp (by omega)
  have h512 : vp_in (nI r * 32 + nI b) 512 := by rw [wk_i32]; exact vp_in_nI (by omega) (by omega)
  have e3 : (nI (3 * r + (pg_stk ops b).length)).toNatClampNeg = 3 * r + (pg_stk ops b).length := nI_clamp (by omega)
  have h48 : vp_in (nI (3 * r + (pg_stk ops b).length)) 48 := vp_in_nI (by omega) (by omega)
  have hl' : nI r * 3 + level (nI b).toNatClampNeg = nI (3 * r + (pg_stk ops b).length) := by rw [e, hl, wk_i3]
  have hcl : pg_close ops n 14 (b + 1) = pt_E ops n b := rfl
  obtain ⟨k, k4, hP, hPX⟩ := wk_clp (vars (rl_vx r m))
  have hbd : pt_bd ops n (pg_stk ops b) (pt_E ops n b + 1) := by
    rw [← g5]
    exact pt_bd_ok (sp_ptok hn SP.2.2.1 _ _ (by omega) rfl) (by omega) (by omega)
  by_cases hk : k = 0
  · subst hk
    have hfy : ∀ q, q < 16 → q ≠ r → ∀ d, d < 32 → upd ry (32 * r + b) (nI 0) (32 * q + d) = ry (32 * q + d) := fun q _ hq d hd => pk_un (by omega)
    have hadv := rn_adv (j := pt_E ops n b + 1) (m := 2) (rx' := rx) (ry' := upd ry (32 * r + b) (nI 0)) h hn SP.2.1 hpl hx (by omega) (by omega) HB hou (by
      rw [g5]; exact rl_RR_congr (fun _ _ => rfl) (fun e he => pk_un (by have := pg_bd ops b e he; omega)) hRR) (fun _ _ _ _ _ => rfl) hfy (by
      rw [g5, pt_fwd (p := b) (by omega) hbd]
      have := Nat.mul_le_mul (pt_w1 (pg_stk ops b).length) (show 2 ≤ pt_E ops n b + 1 - b by omega)
      omega)
    refine ⟨(mk_X ((nI pl), (nI sl), (nI ol), (nI n), (nI fn), sealed, ops, opB) ((nI dp), opA, target, handler, level, entry, blocks) ((nI c), (nI ou), st, val, host, kinds, masks, asleep, out) (rem, (upd pcx r (nI (pt_E ops n b + 1))), slots, rx, cx, cells) px), (mk_Y ((nI pl), (nI sl), (nI ol), (nI n), (nI fn), sealed, ops, opB) sa ((nI c), (nI ou), st, val, host, kinds, masks, asleep, out) (vars, (upd pcy r (nI (pt_E ops n b + 1))), cy, (upd ry (32 * r + b) (nI 0))) py), r :: t, ph - 2, 2, rn_mk hadv.1, by omega, by omega, by have := hadv.2; omega, fun post hp => ?_, fun post N k hk hp => ?_⟩
    · refine xr_exB (rx' := rx) (j := pt_E ops n b + 1) hn hr hi hx ho (by decide) hm hA HB (fun post' hp' => ?_) hp
      rw [← ht, ← e] at hp'
      refine And.intro hin (nm_r (e' := (10 : Int32)) (by rw [e]; exact ho) ?_)
      iterate 3 refine br_f (by decide) ?_
      refine br_t rfl (xw_erep (kk := ((nI pl), (nI sl), (nI ol), (nI n), (nI fn), sealed, ops, opB)) (kx := ((nI dp), opA, target, handler, level, entry, blocks)) (ss := ((nI c), (nI ou), st, val, host, kinds, masks, asleep, out)) (gx := (rem, pcx, slots, rx, cx, cells)) (px := px) hPX ?_)
      exact br_t rfl ⟨hin, hp'⟩
    · refine yr_runN (N := N + 1) hma rfl hn hr (by omega) hy ho (by decide) (z := 0) (by decide) (by omega) ?_
      rw [hcl]
      refine And.intro (vp_in_nI hr (by omega)) (nm_r (wk_pc hr) ?_)
      iterate 7 refine br_f (by decide) ?_
      refine br_t rfl (hP (fun z => wY_run_342 post _ _ _ _ _ _ _ z _ (nI pl) (nI sl) (nI ol) (nI n) (nI fn) (nI c) (nI ou) py.1 sealed ops sa opB out vars (upd pcy r (nI (b + 1))) cy ry st val kinds masks host asleep py.2.1 py.2.2.1 py.2.2.2.1 py.2.2.2.2.1 py.2.2.2.2.2.1 py.2.2.2.2.2.2.1 py.2.2.2.2.2.2.2.1 py.2.2.2.2.2.2.2.2) ?_)
      refine And.intro h512 (nm_r (e' := upd ry (32 * r + b) (nI 0)) (by rw [eY]) ⟨vp_in_nI hr (by omega), nm_r (e' := upd pcy r (nI (pt_E ops n b))) ((xq_up (by omega)).trans wk_uu) (yr_go (by decide) ?_)⟩)
      refine yr_runN rfl rfl hn hr (by omega) pk_us g3 (by decide) (z := 0) (by decide) (by omega) ?_
      rw [hop]
      refine And.intro (vp_in_nI hr (by omega)) (nm_r (e' := upd pcy r (nI (pt_E ops n b + 1))) ((wk_pc hr).trans wk_uu) ?_)
      iterate 8 refine br_f (by decide) ?_
      refine br_t rfl (br_f (nI_pos (by omega)) ⟨hinb, br_t (by rw [e]; exact ho) ⟨h512, br_t ?_ (yr_f422 (by decide) (by decide) (by decide) (by decide) (by decide) (yr_go (by decide) hp))⟩⟩)
      rw [eY]
      show upd ry (32 * r + b) (nI 0) (32 * r + b) ≤ 0
      rw [pk_us]; decide
  · have hfx : ∀ q, q < 16 → q ≠ r → ∀ d, d < 3 → upd rx (3 * r + (pg_stk ops b).length) (nI k) (3 * q + d) = rx (3 * q + d) := fun q _ hq d hd => pk_un (by omega)
    have hfl : ∀ d, d < (pg_stk ops b).length → upd rx (3 * r + (pg_stk ops b).length) (nI k) (3 * r + d) = rx (3 * r + d) := fun d hd => pk_un (by omega)
    have hfy : ∀ q, q < 16 → q ≠ r → ∀ d, d < 32 → upd ry (32 * r + b) (nI (k - 1)) (32 * q + d) = ry (32 * q + d) := fun q _ hq d hd => pk_un (by omega)
    have hadv := rn_adv (j := b + 1) (m := 2) (rx' := upd rx (3 * r + (pg_stk ops b).length) (nI k)) (ry' := upd ry (32 * r + b) (nI (k - 1))) h hn SP.2.1 hpl hx (by omega) (by omega) HB hou (by
      rw [pg_stk_b hb]
      exact ⟨fun _ => ⟨k, by omega, by omega, pk_us, pk_us⟩, rl_RR_congr hfl (fun e he => pk_un (by have := pg_bd ops b e he; omega)) hRR⟩) hfx hfy (by
      rw [pg_stk_b hb]
      exact pt_in (k := k) g1 hbd (by rw [rl_cn, if_pos ho, pk_us]; exact nI_clamp (by omega)) (fun b' d hd => by rw [rl_cn, rl_cn, hfl d hd]) (by omega) k4 hlen)
    have hrd : upd rx (nI (3 * r + (pg_stk ops b).length)).toNatClampNeg (nI k) = upd rx (3 * r + (pg_stk ops b).length) (nI k) := by rw [e3]
    refine ⟨(mk_X ((nI pl), (nI sl), (nI ol), (nI n), (nI fn), sealed, ops, opB) ((nI dp), opA, target, handler, level, entry, blocks) ((nI c), (nI ou), st, val, host, kinds, masks, asleep, out) (rem, (upd pcx r (nI (b + 1))), slots, (upd rx (3 * r + (pg_stk ops b).length) (nI k)), cx, cells) px), (mk_Y ((nI pl), (nI sl), (nI ol), (nI n), (nI fn), sealed, ops, opB) sa ((nI c), (nI ou), st, val, host, kinds, masks, asleep, out) (vars, (upd pcy r (nI (b + 1))), cy, (upd ry (32 * r + b) (nI (k - 1)))) py), r :: t, ph - 2, 2, rn_mk hadv.1, by omega, by omega, by have := hadv.2; omega, fun post hp => ?_, fun post N k' hk' hp => ?_⟩
    · refine xr_exB (rx' := upd rx (3 * r + (pg_stk ops b).length) (nI k)) (j := b + 1) hn hr hi hx ho (by decide) hm hA HB (fun post' hp' => ?_) hp
      rw [← nI_1 b] at hp'
      refine And.intro hin (nm_r (e' := (10 : Int32)) (by rw [e]; exact ho) ?_)
      iterate 3 refine br_f (by decide) ?_
      refine br_t rfl (xw_erep (kk := ((nI pl), (nI sl), (nI ol), (nI n), (nI fn), sealed, ops, opB)) (kx := ((nI dp), opA, target, handler, level, entry, blocks)) (ss := ((nI c), (nI ou), st, val, host, kinds, masks, asleep, out)) (gx := (rem, pcx, slots, rx, cx, cells)) (px := px) hPX ?_)
      refine br_f (nI_ne0 (by omega) (by omega)) ⟨hin, ?_⟩
      refine ⟨?_, nm_r (e' := upd rx (3 * r + (pg_stk ops b).length) (nI k)) ?_ hp'⟩
      · show vp_in (nI r * 3 + level (nI b).toNatClampNeg) 48
        rw [hl']; exact h48
      · show upd rx (nI r * 3 + level (nI b).toNatClampNeg).toNatClampNeg (nI k) = _
        rw [hl']; exact hrd
    · refine yr_runN (N := N + 1) hma rfl hn hr (by omega) hy ho (by decide) (z := 0) (by decide) (by omega) ?_
      rw [hcl]
      refine And.intro (vp_in_nI hr (by omega)) (nm_r (wk_pc hr) ?_)
      iterate 7 refine br_f (by decide) ?_
      refine br_t rfl (hP (fun z => wY_run_342 post _ _ _ _ _ _ _ z _ (nI pl) (nI sl) (nI ol) (nI n) (nI fn) (nI c) (nI ou) py.1 sealed ops sa opB out vars (upd pcy r (nI (b + 1))) cy ry st val kinds masks host asleep py.2.1 py.2.2.1 py.2.2.2.1 py.2.2.2.2.1 py.2.2.2.2.2.1 py.2.2.2.2.2.2.1 py.2.2.2.2.2.2.2.1 py.2.2.2.2.2.2.2.2) ?_)
      refine And.intro h512 (nm_r (e' := upd ry (32 * r + b) (nI k)) (by rw [eY]) ⟨vp_in_nI hr (by omega), nm_r (e' := upd pcy r (nI (pt_E ops n b))) ((xq_up (by omega)).trans wk_uu) (yr_go (by decide) ?_)⟩)
      refine yr_runN rfl rfl hn hr (by omega) pk_us g3 (by decide) (z := 0) (by decide) (by omega) ?_
      rw [hop]
      have hupd : upd (upd ry (32 * r + b) (nI k)) (nI r * 32 + nI b).toNatClampNeg (upd ry (32 * r + b) (nI k) (nI r * 32 + nI b).toNatClampNeg - 1) = upd ry (32 * r + b) (nI (k - 1)) := by
        rw [eY, pk_us, wk_uu]
        obtain ⟨k1, rfl⟩ : ∃ k1, k = k1 + 1 := ⟨k - 1, by omega⟩
        rw [nI_pred]; rfl
      refine And.intro (vp_in_nI hr (by omega)) (nm_r (e' := upd pcy r (nI (pt_E ops n b + 1))) ((wk_pc hr).trans wk_uu) ?_)
      iterate 8 refine br_f (by decide) ?_
      refine br_t rfl (br_f (nI_pos (by omega)) ⟨hinb, br_t (by rw [e]; exact ho) ⟨h512, br_f ?_ ⟨h512, h512, nm_r hupd ⟨vp_in_nI hr (by omega), nm_r (e' := upd pcy r (nI (b + 1))) ((wk_pc hr).trans wk_uu) (yr_go (by decide) hp)⟩⟩⟩⟩)
      rw [eY]
      show ¬ upd ry (32 * r + b) (nI k) (32 * r + b) ≤ 0
      rw [pk_us]; exact nI_nle (by omega) (by omega)
end
end
section
/-! an activation leaves the chain -/
theorem rl_cQ_push {Q : List qe_T} {w k x y s v : Int32} {r p : Nat} (hr : r < 16) (hp : p < 16) : rl_cQ (Q ++ [(w, k, nI r, x, y, s, v)]) (nI p) = rl_cQ Q (nI p) + (if p = r then 1 else 0) := by
  rw [rl_cQ_app, rl_cQ, rl_cQ, List.countP_singleton]
  by_cases h : p = r
  · subst h; simp
  · rw [if_neg h, if_neg]
    simp only [beq_iff_eq]
    exact fun z => h (xq_pI r hr p hp z).symm
theorem rl_cK_push {Q : List qe_T} {w k j x y s v : Int32} {r p : Nat} (hr : r < 16) (hp : p < 16) : rl_cK (Q ++ [(w, k, nI r, x, y, s, v)]) j (nI p) = rl_cK Q j (nI p) + (if k = j ∧ p = r then 1 else 0) := by
  rw [rl_cK_app, rl_cK, rl_cK, List.countP_singleton]
  by_cases h : k = j ∧ p = r
  · obtain ⟨rfl, rfl⟩ := h; simp
  · rw [if_neg h, if_neg]
    simp only [Bool.and_eq_true, beq_iff_eq]
    exact fun z => h ⟨z.1, (xq_pI r hr p hp z.2).symm⟩
theorem rl_ic_cons {r p : Nat} {t : List Nat} : rl_ic t p ≤ rl_ic (r :: t) p := by
  rw [rl_ic, rl_ic]
  by_cases h : p ∈ t
  · rw [if_pos h, if_pos (List.mem_cons_of_mem _ h)]; omega
  · rw [if_neg h]; omega
theorem rl_ic_hd {r : Nat} {t : List Nat} : rl_ic (r :: t) r = 1 := if_pos (List.mem_cons_self ..)
theorem rl_ic_no {r : Nat} {t : List Nat} (h : r ∉ t) : rl_ic t r = 0 := if_neg h
theorem rl_hp_ne {host st : Nat → Int32} {p : Nat} (h : st p ≠ 0) : rl_hp host st p = 0 := if_neg (fun z => h z.2)
theorem rl_hp_un {host st : Nat → Int32} {p r : Nat} {x : Int32} (h : p ≠ r) : rl_hp host (upd st r x) p = rl_hp host st p := by
  rw [rl_hp, rl_hp, pk_un h]
/-- budgets when r is concluded and leaves -/
theorem rl_E_conc {rs r : Nat} {t : List Nat} {host st : Nat → Int32} {Q : List qe_T} {s v : Int32} (hs : s ≠ 0) (H : rl_E rs (r :: t) host st Q) : rl_E rs t host (upd st r s) (qq_conc Q (nI r) s v) := by
  intro p hp
  rw [rl_conc_cQ]
  have h1 := H p hp
  have h2 := rl_ic_cons (r := r) (p := p) (t := t)
  by_cases hpr : p = r
  · subst hpr
    rw [rl_hp_ne (by rw [pk_us]; exact hs)]; omega
  · rw [rl_hp_un hpr]; omega
/-- budgets when r gets a record and leaves -/
theorem rl_E_push {rs r : Nat} {t : List Nat} {host st st' : Nat → Int32} {Q : List qe_T} {w k x y s v : Int32} (hr : r < 16) (hrt : r ∉ t) (hst : ∀ p, p ≠ r → st' p = st p) (hst' : st' r = st r ∨ st' r ≠ 0) (H : rl_E rs (r :: t) host st Q) : rl_E rs t host st' (Q ++ [(w, k, nI r, x, y, s, v)]) := by
  intro p hp
  rw [rl_cQ_push hr hp]
  have h1 := H p hp
  have h2 := rl_ic_cons (r := r) (p := p) (t := t)
  by_cases hpr : p = r
  · subst hpr
    rw [rl_ic_hd] at h1
    rw [if_pos rfl, rl_ic_no hrt]
    rcases hst' with h3 | h3
    · have : rl_hp host st' p = rl_hp host st p := by rw [rl_hp, rl_hp, h3]
      omega
    · rw [rl_hp_ne h3]; omega
  · have : rl_hp host st' p = rl_hp host st p := by rw [rl_hp, rl_hp, hst p hpr]
    rw [if_neg hpr, this]; omega
theorem rl_A_upd {c p : Nat} {st val : Nat → Int32} {s v : Int32} (hs : s = 0 ∨ s = 1 ∨ s = 2 ∨ s = 3) (hv : rl_v c v) (H : rl_A c st val) : rl_A c (upd st p s) (upd val p v) := by
  intro q hq
  rw [upd, upd]
  by_cases h : q = p
  · rw [if_pos h, if_pos h]; exact ⟨hs, hv⟩
  · rw [if_neg h, if_neg h]; exact H q hq
/-- what a resolution keeps -/
theorem rl_res {c F rs r : Nat} {t : List Nat} {st val host rem asleep : Nat → Int32} {Q : List qe_T} {V : Int32} (hr : r < c) (hc : c ≤ 16) (hrt : r ∉ t) (hV : rl_v c V) (HA : rl_A c st val) (HC : rl_C c F Q) (HD : rl_D rem Q) (HE : rl_E rs (r :: t) host st Q) (HF : rl_F asleep Q) :
    rl_A c (rs_st st r V) (rs_val val r V) ∧ rl_C c F (rs_Q Q r V) ∧ rl_D rem (rs_Q Q r V) ∧ rl_E rs t host (rs_st st r V) (rs_Q Q r V) ∧ rl_F asleep (rs_Q Q r V) := by
  rw [rs_st, rs_val, rs_Q]
  by_cases h1 : 65536 ≤ V
  · rw [if_pos h1, if_pos h1, if_pos h1]
    by_cases h2 : V = nI (65536 + r)
    · rw [if_pos h2, if_pos h2, if_pos h2]
      have h101 : rl_v c (-101) := rl_v_neg (by decide)
      exact ⟨rl_A_upd (by decide) h101 HA, rl_conc_C HC h101 (by decide), fun d hd => by rw [rl_conc_cK]; exact HD d hd, rl_E_conc (by decide) HE, fun p hp => by rw [rl_conc_cK]; exact HF p hp⟩
    · rw [if_neg h2, if_neg h2, if_neg h2]
      obtain ⟨q, hq, _, hq2⟩ := rl_v_of hV h1
      refine ⟨rl_A_upd (by decide) hV HA, fun e he => ?_, fun d hd => ?_, rl_E_push (by omega) hrt (fun p hp => pk_un hp) (Or.inr (by rw [pk_us]; decide)) HE, fun p hp => ?_⟩
      · rcases List.mem_append.mp he with he | he
        · exact HC e he
        · rw [List.mem_singleton.mp he]
          exact ⟨⟨r, hr, rfl⟩, Or.inl rfl, Or.inl rfl, fun _ => ⟨rl_v_neg (v := 0) (by decide), fun z => absurd rfl z⟩, fun _ => ⟨q, hq, hq2⟩, fun z => absurd z (show ¬ (0 : Int32) = 3 by decide)⟩
      · rw [rl_cK_push (by omega) hd, if_neg (fun z => absurd z.1 (by decide))]; exact HD d hd
      · rw [rl_cK_push (by omega) hp, if_neg (fun z => absurd z.1 (by decide))]; exact HF p hp
  · rw [if_neg h1, if_neg h1, if_neg h1]
    exact ⟨rl_A_upd (by decide) hV HA, rl_conc_C HC hV (by decide), fun d hd => by rw [rl_conc_cK]; exact HD d hd, rl_E_conc (by decide) HE, fun p hp => by rw [rl_conc_cK]; exact HF p hp⟩
theorem rl_ch_tl {cl : Nat → Int32} {r : Nat} {t : List Nat} (h : rl_ch cl (r :: t)) : cl r = rn_hd t ∧ rl_ch cl t := by
  cases t with
  | nil => exact ⟨h, trivial⟩
  | cons q t => exact h
theorem rl_ch_congr {cl cl' : Nat → Int32} : ∀ {t : List Nat}, (∀ q ∈ t, cl' q = cl q) → rl_ch cl t → rl_ch cl' t
  | [], _, _ => trivial
  | [r], h, H => (h r (List.mem_cons_self ..)).trans H
  | r :: q :: t, h, H => ⟨(h r (List.mem_cons_self ..)).trans H.1, rl_ch_congr (t := q :: t) (fun x hx => h x (List.mem_cons_of_mem _ hx)) H.2⟩
section
variable {pl sl ol n fn dp c ou : Nat} {sealed : Int32} {ops opB opA target handler level entry blocks sa st val host kinds masks asleep out rem pcx slots rx cx cells vars pcy cy ry : Nat → Int32} {px : ty_px} {py : ty_py} {B rs ph : Nat}
theorem lv_all {r ck : Nat} {t : List Nat} {Q : List qe_T} (SP : sp_ok n fn ops opB opA target handler level entry sa) (hpl : pl ≤ 16) (hc : c ≤ pl) (hou : ou ≤ ol) (hrs : (rs % 17 = 16 ∨ rs % 17 < c) ∧ rs / 17 ≤ c) (RX : xq_R px [] 16 Q) (RY : yq_R py ck Q)
    (hck : ck + 130 * (t.length + (16 - c)) ≤ B) (hph : rl_ps ops n pcx rx t + 2050 * (16 - c) ≤ ph) (HA : rl_A c st val) (HB : rl_B c vars slots cells) (HC : rl_C c fn Q) (HD : rl_D rem Q) (HE : rl_E rs t host st Q) (HF : rl_F asleep Q) (HZ : rl_Z c host asleep)
    (hnd : (r :: t).Nodup) (hlt : ∀ q ∈ r :: t, q < c) (has : ∀ q ∈ t, asleep q = 0) (hcx : rl_ch cx (r :: t)) (hcy : rl_ch cy (r :: t)) (HH1 : ∀ p, p < 16 → asleep p ≠ 0 → rl_at ops n pcx pcy rx ry 5 p) (HH2 : ∀ q ∈ t, rl_at ops n pcx pcy rx ry 4 q) (HM : rl_M c masks) (HK : ∀ p, p < 16 → asleep p ≠ 0 → p ≠ r → cx p = -1 ∧ cy p = -1) :
    ∃ u' v', rn_RU ((nI pl), (nI sl), (nI ol), (nI n), (nI fn), sealed, ops, opB) ((nI dp), opA, target, handler, level, entry, blocks) sa pl ol n fn ops B rs t ph u' v' ∧ (∀ post : Int32 → SX → Prop, post (rn_hd t) u' → wpX_leave post (mk_X ((nI pl), (nI sl), (nI ol), (nI n), (nI fn), sealed, ops, opB) ((nI dp), opA, target, handler, level, entry, blocks) ((nI c), (nI ou), st, val, host, kinds, masks, asleep, out) (rem, pcx, slots, rx, cx, cells) px) (nI r)) ∧
      (∀ (post : SY → Prop) (N k : Nat), rn_yr post N (rn_hd t) (nI (k + 1)) v' → wY_run_604 post (wY_run_4 post N) (nI r) (nI k) 1 (nI pl) (nI sl) (nI ol) (nI n) (nI fn) (nI c) (nI ou) py.1 sealed ops sa opB out vars pcy cy ry st val kinds masks host asleep py.2.1 py.2.2.1 py.2.2.2.1 py.2.2.2.2.1 py.2.2.2.2.2.1 py.2.2.2.2.2.2.1 py.2.2.2.2.2.2.2.1 py.2.2.2.2.2.2.2.2) := by
  have hn := SP.1
  have hrc := hlt r (List.mem_cons_self ..)
  have er : (nI r).toNatClampNeg = r := nI_clamp (by omega)
  have hinr : vp_in (nI r) 16 := vp_in_nI (by omega) (by omega)
  have hrt : r ∉ t := (List.nodup_cons.mp hnd).1
  have hx1 := rl_ch_tl hcx
  have hy1 := rl_ch_tl hcy
  have hne : ∀ q ∈ t, q ≠ r := fun q hq e => hrt (e ▸ hq)
  have HG : rl_G c asleep (upd cx r (-1)) (upd cy r (-1)) t := ⟨(List.nodup_cons.mp hnd).2, fun q hq => ⟨hlt q (List.mem_cons_of_mem _ hq), has q hq⟩, rl_ch_congr (fun q hq => pk_un (hne q hq)) hx1.2, rl_ch_congr (fun q hq => pk_un (hne q hq)) hy1.2, fun p hp ha => by
    by_cases hpr : p = r
    · subst hpr; exact ⟨pk_us, pk_us⟩
    · rw [pk_un hpr, pk_un hpr]; exact HK p hp ha hpr⟩
  cases t with
  | nil =>
    refine ⟨(mk_X ((nI pl), (nI sl), (nI ol), (nI n), (nI fn), sealed, ops, opB) ((nI dp), opA, target, handler, level, entry, blocks) ((nI c), (nI ou), st, val, host, kinds, masks, asleep, out) (rem, pcx, slots, rx, (upd cx r (-1)), cells) px), (mk_Y ((nI pl), (nI sl), (nI ol), (nI n), (nI fn), sealed, ops, opB) sa ((nI c), (nI ou), st, val, host, kinds, masks, asleep, out) (vars, pcy, (upd cy r (-1)), ry) py), rn_mk ⟨Q, ck, ⟨hc, hou, hrs⟩, RX, RY, hck, hph, HA, HB, HC, HD, HE, HF, HZ, HG, ⟨HH1, trivial⟩, HM⟩, fun post hp => ?_, fun post N k hp => ?_⟩
    · exact And.intro hinr (nm_r (e' := (-1 : Int32)) (by rw [er]; exact hx1.1) ⟨hinr, nm_r (xq_up (by omega)) (br_t (by decide) hp)⟩)
    · exact br_f (by decide) ⟨hinr, nm_r (e' := (-1 : Int32)) (by rw [er]; exact hy1.1) ⟨hinr, nm_r (xq_up (by omega)) (br_t (by decide) (nm_r (nI_1 k) hp))⟩⟩
  | cons q t' =>
    have hqc := hlt q (List.mem_cons_of_mem _ (List.mem_cons_self ..))
    obtain ⟨i, hi, hpx, hpy, ho, hRR⟩ := HH2 q (List.mem_cons_self ..)
    obtain ⟨m, hm, hA, hsa⟩ := (SP.2.2.2.2.1 i hi).1
    have hsa := hsa (by rw [ho]; decide) (by rw [ho]; decide) (by rw [ho]; decide) (by rw [ho]; decide)
    have eq : (nI q).toNatClampNeg = q := nI_clamp (by omega)
    have hinq : vp_in (nI q) 16 := vp_in_nI (by omega) (by omega)
    have e : (nI i).toNatClampNeg = i := nI_clamp (by omega)
    obtain ⟨s', c', HB', W⟩ := xw_wr HB (show q < 16 by omega) hm (rl_v_ref hrc (by omega))
    have hs := pg_stk_o (ops := ops) (i := i) (by rw [ho]; decide) (by rw [ho]; decide) (by rw [ho]; decide)
    have hqt : q ∉ t' := (List.nodup_cons.mp (List.nodup_cons.mp hnd).2).1
    have hne' : ∀ z ∈ t', z ≠ q := fun z hz e => hqt (e ▸ hz)
    have hpcf : ∀ p, p ≠ q → upd pcx q (nI (i + 1)) p = pcx p := fun p hp => pk_un hp
    have hvx := rl_vx_lt (show q < 16 by omega) hm
    refine ⟨(mk_X ((nI pl), (nI sl), (nI ol), (nI n), (nI fn), sealed, ops, opB) ((nI dp), opA, target, handler, level, entry, blocks) ((nI c), (nI ou), st, val, host, kinds, masks, asleep, out) (rem, (upd pcx q (nI (i + 1))), (s'), rx, (upd cx r (-1)), (c')) px), (mk_Y ((nI pl), (nI sl), (nI ol), (nI n), (nI fn), sealed, ops, opB) sa ((nI c), (nI ou), st, val, host, kinds, masks, asleep, out) ((upd vars (rl_vx q m) (nI (65536 + r))), pcy, (upd cy r (-1)), ry) py), rn_mk ⟨Q, ck, ⟨hc, hou, hrs⟩, RX, RY, hck, ?_, HA, HB', HC, HD, HE, HF, HZ, HG, ⟨fun p hp ha => ?_, ⟨i + 1, by omega, pk_us, hpy, by rw [hs]; exact hRR⟩, fun z hz => ?_⟩, HM⟩, fun post hp => ?_, fun post N k hp => ?_⟩
    · have h1 : rl_ps ops n (upd pcx q (nI (i + 1))) rx t' = rl_ps ops n pcx rx t' := rl_ps_fr (pcy := pcy) (ry := ry) hn SP.2.1 (fun z hz => HH2 z (List.mem_cons_of_mem _ hz)) (fun z hz => ⟨hpcf z (hne' z hz), fun _ _ => rfl⟩)
      have h2 : rl_po ops n (upd pcx q (nI (i + 1))) rx q + 1 ≤ rl_po ops n pcx rx q := by
        rw [rl_po, rl_po, pk_us, hpx, e, nI_clamp (by omega), hs]
        exact pt_f1 (by omega) (pt_bd_ok (sp_ptok hn SP.2.2.1 _ i (by omega) rfl) (by omega) (by omega))
      rw [rl_ps, h1]
      rw [rl_ps] at hph
      omega
    · have hpq : p ≠ q := fun e => ha (e ▸ has q (List.mem_cons_self ..))
      exact rl_at_fr hn SP.2.1 (hpcf p hpq) rfl (fun _ _ => rfl) (fun _ _ => rfl) (HH1 p hp ha)
    · exact rl_at_fr hn SP.2.1 (hpcf z (hne' z hz)) rfl (fun _ _ => rfl) (fun _ _ => rfl) (HH2 z (List.mem_cons_of_mem _ hz))
    · refine And.intro hinr (nm_r (e' := nI q) (by rw [er]; exact hx1.1) ⟨hinr, nm_r (xq_up (by omega)) (br_f (nI_pos (by omega)) ⟨hinq, nm_r (e' := nI i) (by rw [eq]; exact hpx) ⟨vp_in_nI (by omega) (by omega), ?_⟩⟩)⟩)
      exact W ((nI pl), (nI sl), (nI ol), (nI n), (nI fn), sealed, ops, opB) ((nI dp), opA, target, handler, level, entry, blocks) ((nI c), (nI ou), st, val, host, kinds, masks, asleep, out) rem pcx rx (upd cx r (-1)) px _ _ _ (by rw [e]; exact hA) (wk_ref r) ⟨hinq, nm_r (wk_pc (by omega)) hp⟩
    · have hp1 : pcy (nI q).toNatClampNeg - 1 = nI i := by rw [eq, hpy, nI_pred]
      refine br_f (by decide) ⟨hinr, nm_r (e' := nI q) (by rw [er]; exact hy1.1) ⟨hinr, nm_r (xq_up (by omega)) (br_f (nI_pos (by omega)) ⟨hinq, ?_⟩)⟩⟩
      refine ⟨?_, ?_⟩
      · show vp_in (pcy (nI q).toNatClampNeg - 1) 34
        rw [hp1]; exact vp_in_nI (by omega) (by omega)
      · refine yw_at (kk := ((nI pl), (nI sl), (nI ol), (nI n), (nI fn), sealed, ops, opB)) (ky := sa) (ss := ((nI c), (nI ou), st, val, host, kinds, masks, asleep, out)) (gy := (vars, pcy, (upd cy r (-1)), ry)) (py := py) ?_
        have h3 : wk_m (sa (pcy (nI q).toNatClampNeg - 1).toNatClampNeg) = m := by rw [hp1, e, hsa]; exact wk_m_nI hm
        rw [h3]
        exact ⟨vp_in_nI hvx (by omega), nm_r (e' := upd vars (rl_vx q m) (nI (65536 + r))) (by rw [nI_clamp (by omega), wk_ref]) (nm_r (nI_1 k) hp)⟩
end
end
section
/-! steps: RETURN, the body's end, AWAIT, THROW -/
theorem xw_give {post : Int32 → SX → Prop} {kk : ty_kk} {kx : ty_kx} {ss : ty_ss} {gx : ty_gx} {px : ty_px} {A V ρ : Int32} {u1 u' : SX} (W1 : ∀ post : SX → Prop, post u1 → wpX_resolve post (mk_X kk kx ss gx px) A V) (W2 : ∀ post : Int32 → SX → Prop, post ρ u' → wpX_leave post u1 A) (h : post ρ u') :
    wpX_giveBack post (mk_X kk kx ss gx px) A V := by
  unfold wpX_giveBack mk_X
  dsimp only
  exact W1 _ (W2 _ h)
section
variable {pl sl ol n fn dp c ou : Nat} {sealed : Int32} {ops opB opA target handler level entry blocks sa st val host kinds masks asleep out rem pcx slots rx cx cells vars pcy cy ry : Nat → Int32} {px : ty_px} {py : ty_py} {B rs ph : Nat}
theorem st_ret {r i m : Nat} {t : List Nat} {o V : Int32} (SP : sp_ok n fn ops opB opA target handler level entry sa) (hpl : pl ≤ 16) (hB : B < 2 ^ 29) (h : (rn pl ol n (fn) ops B rs (r :: t) ph c ou st val host masks asleep rem pcx slots rx cx cells vars pcy cy ry px py)) (hr : r < 16) (hi : i ≤ n) (hx : pcx r = nI i) (hy : pcy r = nI i)
    (ho : ops i = o) (hc0 : (o = 0 ∧ V = 0) ∨ (o = 8 ∧ i < n ∧ m < 8 ∧ opA i = nI m ∧ wk_m (sa i) = m ∧ V = vars (rl_vx r m))) :
    rn_S ((nI pl), (nI sl), (nI ol), (nI n), (nI fn), sealed, ops, opB) ((nI dp), opA, target, handler, level, entry, blocks) sa pl ol n fn ops B rs r ph (mk_X ((nI pl), (nI sl), (nI ol), (nI n), (nI fn), sealed, ops, opB) ((nI dp), opA, target, handler, level, entry, blocks) ((nI c), (nI ou), st, val, host, kinds, masks, asleep, out) (rem, pcx, slots, rx, cx, cells) px) (mk_Y ((nI pl), (nI sl), (nI ol), (nI n), (nI fn), sealed, ops, opB) sa ((nI c), (nI ou), st, val, host, kinds, masks, asleep, out) (vars, pcy, cy, ry) py) := by
  have hn := SP.1
  obtain ⟨Q, ck, hc, RX, RY, hck, hph, HA, HB, HC, HD, HE, HF, HZ, HG, HH, HM⟩ := h
  have hQ := rl_len (by omega) HC HE
  have hrc := (HG.2.1 r (List.mem_cons_self ..)).1
  have hrt : r ∉ t := (List.nodup_cons.mp HG.1).1
  have hne : ∀ q ∈ t, q ≠ r := fun q hq e => hrt (e ▸ hq)
  rw [List.length_cons] at hck
  have hV : rl_v c V := by
    rcases hc0 with ⟨_, g⟩ | ⟨_, _, g1, _, _, g⟩
    · rw [g]; exact rl_v_neg (by decide)
    · rw [g]; exact HB.1 _ (rl_vx_lt hr g1)
  obtain ⟨px1, RX1, WX⟩ := xw_res RX (by omega) hr V
  obtain ⟨py1, ck1, hck1, RY1, WY⟩ := yw_res RY (by omega) (by omega) hr V
  obtain ⟨HA1, HC1, HD1, HE1, HF1⟩ := rl_res hrc (by omega) hrt hV HA HC HD HE HF
  rw [rl_ps] at hph
  obtain ⟨u', v', RU, LX, LY⟩ := lv_all (B := B) (sl := sl) (dp := dp) (sealed := sealed) (blocks := blocks) (kinds := kinds) (out := out) (pcy := upd pcy r (nI (i + 1))) (ph := ph - 1) SP hpl hc.1 hc.2.1 hc.2.2 RX1 RY1 (by omega) (by omega) HA1 HB HC1 HD1 HE1 HF1 HZ HG.1 (fun q hq => (HG.2.1 q hq).1) (fun q hq => (HG.2.1 q (List.mem_cons_of_mem _ hq)).2) HG.2.2.1 HG.2.2.2.1
    (fun p hp ha => rl_at_fr hn SP.2.1 rfl (pk_un (fun e => ha (e ▸ (HG.2.1 r (List.mem_cons_self ..)).2))) (fun _ _ => rfl) (fun _ _ => rfl) (HH.1 p hp ha))
    (fun q hq => rl_at_fr hn SP.2.1 rfl (pk_un (hne q hq)) (fun _ _ => rfl) (fun _ _ => rfl) (HH.2.2 q hq)) HM (fun p hp ha _ => HG.2.2.2.2 p hp ha)
  refine ⟨u', v', t, ph - 1, 1, RU, Nat.le_refl 1, by omega, by omega, fun post hp => ?_, fun post N k hk hp => ?_⟩
  · have G : ∀ post' : Int32 → SX → Prop, post' (rn_hd t) u' → wpX_giveBack post' (mk_X ((nI pl), (nI sl), (nI ol), (nI n), (nI fn), sealed, ops, opB) ((nI dp), opA, target, handler, level, entry, blocks) ((nI c), (nI ou), st, val, host, kinds, masks, asleep, out) (rem, pcx, slots, rx, cx, cells) px) (nI r) V := fun post' hp' =>
      xw_give (fun post'' h'' => WX ((nI pl), (nI sl), (nI ol), (nI n), (nI fn), sealed, ops, opB) ((nI dp), opA, target, handler, level, entry, blocks) _ _ _ _ _ _ _ _ _ (rem, pcx, slots, rx, cx, cells) post'' h'') LX hp'
    rcases hc0 with ⟨g, gV⟩ | ⟨g, gi, gm, gA, gs, gV⟩
    · subst g; subst gV
      exact xr_ex0 hn hr hi hx ho G hp
    · subst g; subst gV
      exact xr_ex8 hn hr gi hx ho gm gA HB G hp
  · rcases hc0 with ⟨g, gV⟩ | ⟨g, gi, gm, gA, gs, gV⟩
    · subst g; subst gV
      refine yr_runN rfl rfl hn hr hi hy ho (by decide) (z := 1) (by decide) (by omega) (And.intro (vp_in_nI hr (by omega)) (nm_r (wk_pc hr) ?_))
      iterate 4 refine br_f (by decide) ?_
      refine br_f (by decide) ?_
      iterate 4 refine br_f (by decide) ?_
      refine br_f (by decide) (br_f (by decide) (br_f (by decide) (br_t rfl (br_f (by decide) ?_))))
      exact WY ((nI pl), (nI sl), (nI ol), (nI n), (nI fn), sealed, ops, opB) sa _ _ _ _ _ _ _ _ _ (vars, upd pcy r (nI (i + 1)), cy, ry) _ (br_f (by decide) (br_t (by decide) (LY post N k hp)))
    · subst g; subst gV
      refine yr_runN gs rfl hn hr hi hy ho (by decide) (z := 1) (by decide) (by omega) (And.intro (vp_in_nI hr (by omega)) (nm_r (wk_pc hr) ?_))
      iterate 4 refine br_f (by decide) ?_
      refine br_f (by decide) ?_
      iterate 4 refine br_f (by decide) ?_
      refine br_f (by decide) (br_f (by decide) (br_t rfl (br_t rfl ?_)))
      exact WY ((nI pl), (nI sl), (nI ol), (nI n), (nI fn), sealed, ops, opB) sa _ _ _ _ _ _ _ _ _ (vars, upd pcy r (nI (i + 1)), cy, ry) _ (br_f (by decide) (br_t (by decide) (LY post N k hp)))
end
theorem xw_susp {post : Int32 → SX → Prop} {kk : ty_kk} {kx : ty_kx} {gx : ty_gx} {px px1 px2 : ty_px} {c ou : Int32} {st val host kinds masks asleep out : Nat → Int32} {r a : Nat} {D V ρ : Int32} {u' : SX} (hr : r < 16) (hD : vp_in D 32)
    (Wr : ∀ post : Int32 → Prop, post V → wpX_read post (mk_X kk kx (c, ou, st, val, host, kinds, masks, asleep, out) gx px) (nI r) (kk.2.2.2.2.2.2.2 D.toNatClampNeg))
    (W1 : ∀ ss (post : Int32 → SX → Prop), post (nI a) (mk_X kk kx ss gx px1) → wpX_newNode post (mk_X kk kx ss gx px) 2 (nI r) 0 0)
    (W2 : (65536 ≤ V ∧ ∀ post : SX → Prop, post (mk_X kk kx (c, ou, st, val, host, kinds, masks, upd asleep r 1, out) gx px2) → wpX_watch post (mk_X kk kx (c, ou, st, val, host, kinds, masks, upd asleep r 1, out) gx px1) (V - 65536) (nI a)) ∨
      (¬ 65536 ≤ V ∧ ∀ post : SX → Prop, post (mk_X kk kx (c, ou, st, val, host, kinds, masks, upd asleep r 1, out) gx px2) → wpX_enqueue post (mk_X kk kx (c, ou, st, val, host, kinds, masks, upd asleep r 1, out) gx px1) (nI a) 2 V))
    (W3 : ∀ post : Int32 → SX → Prop, post ρ u' → wpX_leave post (mk_X kk kx (c, ou, st, val, host, kinds, masks, upd asleep r 1, out) gx px2) (nI r)) (h : post ρ u') :
    wpX_suspend post (mk_X kk kx (c, ou, st, val, host, kinds, masks, asleep, out) gx px) (nI r) D := by
  have e1 : upd asleep (nI r).toNatClampNeg (vp_nar .boolean 1) = upd asleep r 1 := by rw [nI_clamp (by omega)]; rfl
  refine And.intro hD (Wr _ ?_)
  refine W1 (c, ou, st, val, host, kinds, masks, asleep, out) _ ⟨vp_in_nI hr (by omega), nm_r e1 ?_⟩
  rcases W2 with ⟨g, W2⟩ | ⟨g, W2⟩
  · exact br_t g (W2 _ (W3 _ h))
  · exact br_f g (W2 _ (W3 _ h))
section
variable {pl sl ol n fn dp c ou : Nat} {sealed : Int32} {ops opB opA target handler level entry blocks sa st val host kinds masks asleep out rem pcx slots rx cx cells vars pcy cy ry : Nat → Int32} {px : ty_px} {py : ty_py} {B rs ph : Nat}
/-- what a suspension keeps: one more RESUME record -/
theorem rl_susp {c F rs r : Nat} {t : List Nat} {st val host rem asleep : Nat → Int32} {Q : List qe_T} {w s v : Int32} (hr : r < c) (hc : c ≤ 16) (hrt : r ∉ t) (hw : w = -1 ∨ ∃ p, p < c ∧ w = nI p) (hv : rl_v c v) (hs : w = -1 → s = 2 ∨ s = 3) (ha : asleep r = 0) (HC : rl_C c F Q) (HD : rl_D rem Q) (HE : rl_E rs (r :: t) host st Q) (HF : rl_F asleep Q) :
    rl_C c F (Q ++ [(w, 2, nI r, 0, 0, s, v)]) ∧ rl_D rem (Q ++ [(w, 2, nI r, 0, 0, s, v)]) ∧ rl_E rs t host st (Q ++ [(w, 2, nI r, 0, 0, s, v)]) ∧ rl_F (upd asleep r 1) (Q ++ [(w, 2, nI r, 0, 0, s, v)]) := by
  refine ⟨fun e he => ?_, fun d hd => ?_, rl_E_push (by omega) hrt (fun _ _ => rfl) (Or.inl rfl) HE, fun p hp => ?_⟩
  · rcases List.mem_append.mp he with he | he
    · exact HC e he
    · rw [List.mem_singleton.mp he]
      exact ⟨⟨r, hr, rfl⟩, hw, Or.inr (Or.inr (Or.inl rfl)), fun z => ⟨hv, fun _ => hs z⟩, fun z => absurd z (show ¬ (2 : Int32) = 0 by decide), fun z => absurd z (show ¬ (2 : Int32) = 3 by decide)⟩
  · rw [rl_cK_push (by omega) hd, if_neg (fun z => absurd z.1 (by decide))]; exact HD d hd
  · rw [rl_cK_push (by omega) hp]
    have h1 := HF p hp
    by_cases hpr : p = r
    · subst hpr
      rw [ha] at h1
      rw [pk_us, if_pos ⟨rfl, rfl⟩, if_neg (by decide)]
      rw [if_pos rfl] at h1
      exact ⟨Or.inr rfl, by omega⟩
    · rw [pk_un hpr, if_neg (fun z => hpr z.2)]
      exact h1
theorem st_await {r i m : Nat} {t : List Nat} (SP : sp_ok n fn ops opB opA target handler level entry sa) (hpl : pl ≤ 16) (hB : B < 2 ^ 29) (h : (rn pl ol n (fn) ops B rs (r :: t) ph c ou st val host masks asleep rem pcx slots rx cx cells vars pcy cy ry px py)) (hr : r < 16) (hi : i < n) (hx : pcx r = nI i) (hy : pcy r = nI i) (hRR : rl_RR ops rx ry r (pg_stk ops i))
    (ho : ops i = 5) (hm : m < 8) (hA : opA i = nI m) :
    rn_S ((nI pl), (nI sl), (nI ol), (nI n), (nI fn), sealed, ops, opB) ((nI dp), opA, target, handler, level, entry, blocks) sa pl ol n fn ops B rs r ph (mk_X ((nI pl), (nI sl), (nI ol), (nI n), (nI fn), sealed, ops, opB) ((nI dp), opA, target, handler, level, entry, blocks) ((nI c), (nI ou), st, val, host, kinds, masks, asleep, out) (rem, pcx, slots, rx, cx, cells) px) (mk_Y ((nI pl), (nI sl), (nI ol), (nI n), (nI fn), sealed, ops, opB) sa ((nI c), (nI ou), st, val, host, kinds, masks, asleep, out) (vars, pcy, cy, ry) py) := by
  have hn := SP.1
  obtain ⟨Q, ck, hc, RX, RY, hck, hph, HA, HB, HC, HD, HE, HF, HZ, HG, HH, HM⟩ := h
  have hQ := rl_len (by omega) HC HE
  have hrc := (HG.2.1 r (List.mem_cons_self ..)).1
  have hra := (HG.2.1 r (List.mem_cons_self ..)).2
  have hrt : r ∉ t := (List.nodup_cons.mp HG.1).1
  have hne : ∀ q ∈ t, q ≠ r := fun q hq e => hrt (e ▸ hq)
  rw [List.length_cons] at hck
  rw [rl_ps] at hph
  have e : (nI i).toNatClampNeg = i := nI_clamp (by omega)
  obtain ⟨m2, hm2, hB2⟩ := (SP.2.2.2.2.1 i hi).2.1 (Or.inr (Or.inr ho))
  have hV := HB.1 _ (rl_vx_lt hr hm2)
  have hma2 : wk_m (opB i) = m2 := by rw [hB2]; exact wk_m_nI hm2
  have e1 : upd asleep (nI r).toNatClampNeg (vp_nar .boolean 1) = upd asleep r 1 := by rw [nI_clamp (by omega)]; rfl
  have fin : ∀ (w s v : Int32) (px1 : ty_px) (py1 : ty_py), (w = -1 ∨ ∃ p, p < c ∧ w = nI p) → rl_v c v → (w = -1 → s = 2 ∨ s = 3) → xq_R px1 [] 16 (Q ++ [(w, 2, nI r, 0, 0, s, v)]) → yq_R py1 (ck + 1) (Q ++ [(w, 2, nI r, 0, 0, s, v)]) →
      ∃ u' v', rn_RU ((nI pl), (nI sl), (nI ol), (nI n), (nI fn), sealed, ops, opB) ((nI dp), opA, target, handler, level, entry, blocks) sa pl ol n fn ops B rs t (ph - 1) u' v' ∧ (∀ post : Int32 → SX → Prop, post (rn_hd t) u' → wpX_leave post (mk_X ((nI pl), (nI sl), (nI ol), (nI n), (nI fn), sealed, ops, opB) ((nI dp), opA, target, handler, level, entry, blocks) ((nI c), (nI ou), st, val, host, kinds, masks, (upd asleep r 1), out) (rem, pcx, slots, rx, cx, cells) (px1)) (nI r)) ∧
        (∀ (post : SY → Prop) (N k : Nat), rn_yr post N (rn_hd t) (nI (k + 1)) v' → wY_run_604 post (wY_run_4 post N) (nI r) (nI k) 1 (nI pl) (nI sl) (nI ol) (nI n) (nI fn) (nI c) (nI ou) ((py1).1) sealed ops sa opB out vars (upd pcy r (nI (i + 1))) cy ry st val kinds masks host (upd asleep r 1) ((py1).2.1) ((py1).2.2.1) ((py1).2.2.2.1) ((py1).2.2.2.2.1) ((py1).2.2.2.2.2.1) ((py1).2.2.2.2.2.2.1) ((py1).2.2.2.2.2.2.2.1) ((py1).2.2.2.2.2.2.2.2)) := by
    intro w s v px1 py1 hw hv hs RX1 RY1
    obtain ⟨HC1, HD1, HE1, HF1⟩ := rl_susp (val := val) hrc (by omega) hrt hw hv hs hra HC HD HE HF
    exact lv_all (sl := sl) (dp := dp) (sealed := sealed) (blocks := blocks) (kinds := kinds) (out := out) (asleep := upd asleep r 1) (pcy := upd pcy r (nI (i + 1))) (ph := ph - 1) SP hpl hc.1 hc.2.1 hc.2.2 RX1 RY1 (by omega) (by omega) HA HB HC1 HD1 HE1 HF1
      (fun p hp hcp => by rw [pk_un (by omega)]; exact HZ p hp hcp) HG.1 (fun q hq => (HG.2.1 q hq).1) (fun q hq => by rw [pk_un (hne q hq)]; exact (HG.2.1 q (List.mem_cons_of_mem _ hq)).2) HG.2.2.1 HG.2.2.2.1
      (fun p hp ha => by
        by_cases hpr : p = r
        · subst hpr
          exact ⟨i, hi, hx, pk_us, ho, hRR⟩
        · rw [pk_un hpr] at ha
          exact rl_at_fr hn SP.2.1 rfl (pk_un hpr) (fun _ _ => rfl) (fun _ _ => rfl) (HH.1 p hp ha))
      (fun q hq => rl_at_fr hn SP.2.1 rfl (pk_un (hne q hq)) (fun _ _ => rfl) (fun _ _ => rfl) (HH.2.2 q hq)) HM (fun p hp ha hpr => by rw [pk_un hpr] at ha; exact HG.2.2.2.2 p hp ha)
  have hWr : ∀ post : Int32 → Prop, post (vars (rl_vx r m2)) → wpX_read post (mk_X ((nI pl), (nI sl), (nI ol), (nI n), (nI fn), sealed, ops, opB) ((nI dp), opA, target, handler, level, entry, blocks) ((nI c), (nI ou), st, val, host, kinds, masks, asleep, out) (rem, pcx, slots, rx, cx, cells) px) (nI r) (opB (nI i).toNatClampNeg) := fun post hp => xw_readE HB hr hm2 (by rw [e]; exact hB2) hp
  by_cases hv : 65536 ≤ vars (rl_vx r m2)
  · obtain ⟨q, hq, hq1, hq2⟩ := rl_v_of hV hv
    obtain ⟨a, px1, px2, RX1, WX1, WX2⟩ := xw_nwat RX (by omega) (show q < 16 by omega) st val 2 (nI r) 0 0
    obtain ⟨py1, RY1, WY⟩ := yw_wat RY (by omega) (by omega) (show q < 16 by omega) st val (HA q (by omega)).1 2 (nI r) 0 0 (by decide)
    have fin' : ∃ u' v', rn_RU ((nI pl), (nI sl), (nI ol), (nI n), (nI fn), sealed, ops, opB) ((nI dp), opA, target, handler, level, entry, blocks) sa pl ol n fn ops B rs t (ph - 1) u' v' ∧ (∀ post : Int32 → SX → Prop, post (rn_hd t) u' → wpX_leave post (mk_X ((nI pl), (nI sl), (nI ol), (nI n), (nI fn), sealed, ops, opB) ((nI dp), opA, target, handler, level, entry, blocks) ((nI c), (nI ou), st, val, host, kinds, masks, (upd asleep r 1), out) (rem, pcx, slots, rx, cx, cells) (px2)) (nI r)) ∧
        (∀ (post : SY → Prop) (N k : Nat), rn_yr post N (rn_hd t) (nI (k + 1)) v' → wY_run_604 post (wY_run_4 post N) (nI r) (nI k) 1 (nI pl) (nI sl) (nI ol) (nI n) (nI fn) (nI c) (nI ou) ((py1).1) sealed ops sa opB out vars (upd pcy r (nI (i + 1))) cy ry st val kinds masks host (upd asleep r 1) ((py1).2.1) ((py1).2.2.1) ((py1).2.2.2.1) ((py1).2.2.2.2.1) ((py1).2.2.2.2.2.1) ((py1).2.2.2.2.2.2.1) ((py1).2.2.2.2.2.2.2.1) ((py1).2.2.2.2.2.2.2.2)) := by
      by_cases h2 : st q = 2 ∨ st q = 3
      · rw [qq_wat, if_pos h2] at RX1 RY1
        exact fin (-1) (st q) (val q) px2 py1 (Or.inl rfl) (HA q (by omega)).2 (fun _ => h2) RX1 RY1
      · rw [qq_wat, if_neg h2] at RX1 RY1
        exact fin (nI q) 0 0 px2 py1 (Or.inr ⟨q, hq, rfl⟩) (rl_v_neg (by decide)) (fun z => absurd z.symm (xq_m1 q (by omega))) RX1 RY1
    obtain ⟨u', v', RU, LX, LY⟩ := fin'
    refine ⟨u', v', t, ph - 1, 1, RU, Nat.le_refl 1, by omega, by omega, fun post hp => ?_, fun post N k hk hp => ?_⟩
    · exact xr_ex5 hn hr hi hx ho hm hA HB (fun post' hp' => xw_susp (V := vars (rl_vx r m2)) hr (vp_in_nI (by omega) (by omega)) hWr (fun ss post => WX1 _ _ ss _ post) (Or.inl ⟨hv, fun post'' h'' => by rw [hq2]; exact WX2 _ _ _ _ _ _ _ _ _ _ post'' h''⟩) LX hp') hp
    · refine yr_runN rfl hma2 hn hr (by omega) hy ho (by decide) (z := 1) (by decide) (by omega) (And.intro (vp_in_nI hr (by omega)) (nm_r (wk_pc hr) ?_))
      iterate 4 refine br_f (by decide) ?_
      refine br_f (by decide) ?_
      iterate 4 refine br_f (by decide) ?_
      refine br_t rfl (br_f (Int32.not_lt.mpr hv) ?_)
      rw [hq2]
      exact WY ((nI pl), (nI sl), (nI ol), (nI n), (nI fn), sealed, ops, opB) sa (nI c) (nI ou) host kinds masks asleep out (vars, upd pcy r (nI (i + 1)), cy, ry) _ (br_t rfl ⟨vp_in_nI hr (by omega), nm_r e1 (br_t (by decide) (LY post N k hp))⟩)
  · obtain ⟨a, px1, px2, RX1, WX1, WX2⟩ := xw_nenq RX (by omega) 2 (nI r) 0 0 2 (vars (rl_vx r m2))
    obtain ⟨py1, RY1, WY⟩ := yw_put RY (by omega) (by omega) (-1) 2 (nI r) 0 0 2 (vars (rl_vx r m2)) 2 (vars (rl_vx r m2)) (by decide) (fun _ => ⟨rfl, rfl⟩)
    obtain ⟨u', v', RU, LX, LY⟩ := fin (-1) 2 (vars (rl_vx r m2)) px2 py1 (Or.inl rfl) hV (fun _ => Or.inl rfl) RX1 RY1
    refine ⟨u', v', t, ph - 1, 1, RU, Nat.le_refl 1, by omega, by omega, fun post hp => ?_, fun post N k hk hp => ?_⟩
    · exact xr_ex5 hn hr hi hx ho hm hA HB (fun post' hp' => xw_susp (V := vars (rl_vx r m2)) hr (vp_in_nI (by omega) (by omega)) hWr (fun ss post => WX1 _ _ ss _ post) (Or.inr ⟨hv, fun post'' h'' => WX2 _ _ _ _ post'' h''⟩) LX hp') hp
    · refine yr_runN rfl hma2 hn hr (by omega) hy ho (by decide) (z := 1) (by decide) (by omega) (And.intro (vp_in_nI hr (by omega)) (nm_r (wk_pc hr) ?_))
      iterate 4 refine br_f (by decide) ?_
      refine br_f (by decide) ?_
      iterate 4 refine br_f (by decide) ?_
      refine br_t rfl (br_t (Int32.not_le.mp hv) (br_t rfl ?_))
      exact WY ((nI pl), (nI sl), (nI ol), (nI n), (nI fn), sealed, ops, opB) sa ((nI c), (nI ou), st, val, host, kinds, masks, asleep, out) (vars, upd pcy r (nI (i + 1)), cy, ry) _ (br_t rfl ⟨vp_in_nI hr (by omega), nm_r e1 (br_t (by decide) (LY post N k hp))⟩)
end
end
section
/-! throwing -/
theorem xw_raise0 {post : Int32 → SX → Prop} {kk : ty_kk} {kx : ty_kx} {ss : ty_ss} {gx : ty_gx} {px : ty_px} {A D V ρ : Int32} {u1 u' : SX} (hD : vp_in D 32) (hh : ¬ 0 ≤ kx.2.2.2.1 D.toNatClampNeg) (W1 : ∀ post : SX → Prop, post u1 → wpX_conclude post (mk_X kk kx ss gx px) A 3 V) (W2 : ∀ post : Int32 → SX → Prop, post ρ u' → wpX_leave post u1 A) (h : post ρ u') :
    wpX_raise post (mk_X kk kx ss gx px) A D V :=
  And.intro hD (nm_e (br_f hh (W1 _ (W2 _ h))))
section
variable {pl sl ol n fn dp c ou : Nat} {sealed : Int32} {ops opB opA target handler level entry blocks sa st val host kinds masks asleep out rem pcx slots rx cx cells vars pcy cy ry : Nat → Int32} {px : ty_px} {py : ty_py} {B rs ph : Nat}
theorem sp_hand {i : Nat} (SP : sp_ok n fn ops opB opA target handler level entry sa) (hi : i < n) (h12 : ops i ≠ 12) :
    (pg_open ops n i 11 = -1 ∧ handler i = -1) ∨ ∃ tt cc ext, pg_open ops n i 11 = nI tt ∧ tt < i ∧ handler i = nI cc ∧ pg_close ops n 12 (tt + 1) = cc ∧ cc < n ∧ i < cc ∧ ops cc = 12 ∧ ops tt = 11 ∧ pg_stk ops i = ext ++ (tt, 0) :: pg_stk ops tt ∧ pg_stk ops (cc + 1) = (tt, cc) :: pg_stk ops tt ∧ cc ≤ pt_E ops n tt ∧ ∀ e ∈ ext, pt_E ops n e.1 < cc := by
  have hn := SP.1
  have hop := pg_open_try (s := i) SP.2.1 (show n < 2 ^ 31 by omega) (by omega)
  rcases (SP.2.2.2.2.1 i hi).2.2.2.2.2.2.2.2 with ⟨h1, h2⟩ | ⟨tt, h1, h2, h3, h4⟩
  · exact Or.inl ⟨hop.trans h1, h2⟩
  · right
    have hti := pg_bd ops i _ h1
    dsimp only at hti
    obtain ⟨ext, hs, hb⟩ := pg_mem h1
    obtain ⟨c1, g1, g2, g3, g4, g5⟩ := sp_end hn SP.2.2.1 (show tt < n by omega) hb
    obtain ⟨t', c', r', hs', hc'⟩ := (SP.2.1 _ g2).2.2.2.2.2 g3
    rw [g4] at hs'
    injection hs' with ha hbb
    injection ha with ha1 ha2
    subst ha1 ha2
    have hm : (tt, c1) ∈ pg_stk ops (pt_E ops n tt) := by rw [g4]; exact List.mem_cons_self ..
    obtain ⟨k1, k2, k3, k4, k5⟩ := pg_ct SP.2.1 _ (by omega) tt c1 hm (hc' h2)
    have e1 := pg_C_at SP.2.1 (show n < 2 ^ 31 by omega) (by omega) k3 k5
    have hge := pg_C_ge SP.2.1 (show n < 2 ^ 31 by omega) h1 (by omega)
    rw [e1] at hge h4
    have hlt : i < c1 := by
      rcases Nat.lt_or_eq_of_le hge with h | h
      · exact h
      · exact absurd k3 (h ▸ h12)
    refine ⟨tt, c1, ext, hop.trans h3, hti, h4, e1, by omega, hlt, k3, h2, hs, by rw [pg_stk_c k3, k5]; rfl, by omega, fun e he => ?_⟩
    have hem : e ∈ pg_stk ops i := by rw [hs]; exact List.mem_append_left _ he
    have hei := pg_bd ops i e hem
    obtain ⟨ext2, _, hbe⟩ := pg_mem (b := e.1) (c := e.2) hem
    have hgt : tt < e.1 := by
      have hd := pg_dec_str _ (pg_str_stk ops i)
      rw [hs] at hd
      clear hs hem hei hbe
      induction ext with
      | nil => cases he
      | cons a ext ih =>
        rcases List.mem_cons.mp he with rfl | he
        · exact hd.1 (tt, 0) (by simp)
        · exact ih he hd.2
    obtain ⟨e0, c0, j1, j2, j3, j4⟩ := pg_clos hbe c1 (by omega) (fun c0 hc0 => by
      rw [k5] at hc0
      rcases List.mem_cons.mp hc0 with z | z
      · injection z with z1 _; omega
      · have := pg_bd ops tt _ z
        dsimp only at this; omega)
    have : pt_E ops n e.1 = e0 := pg_E_at (by omega) (by omega) j3 j4
    omega
theorem yw_caught1 {post : Int32 → SY → Prop} {r i tt cc mc : Nat} {V : Int32} (hn : n ≤ 32) (hr : r < 16) (hi : i < n) (hy : pcy r = nI (i + 1)) (ho : pg_open ops n i 11 = nI tt) (htt : tt < i) (hcl : pg_close ops n 12 (tt + 1) = cc) (hcc : cc < n) (hm : mc < 8) (hsa : wk_m (sa cc) = mc)
    (h : post 1 (mk_Y ((nI pl), (nI sl), (nI ol), (nI n), (nI fn), sealed, ops, opB) sa ((nI c), (nI ou), st, val, host, kinds, masks, asleep, out) ((upd vars (rl_vx r mc) V), (upd pcy r (nI (cc + 1))), cy, ry) py)) : wpY_caught post (mk_Y ((nI pl), (nI sl), (nI ol), (nI n), (nI fn), sealed, ops, opB) sa ((nI c), (nI ou), st, val, host, kinds, masks, asleep, out) (vars, pcy, cy, ry) py) (nI r) V := by
  have er : (nI r).toNatClampNeg = r := nI_clamp (by omega)
  have hp : pcy (nI r).toNatClampNeg - 1 = nI i := by rw [er, hy, nI_pred]
  have hinr : vp_in (nI r) 16 := vp_in_nI hr (by omega)
  have ecc : (nI cc).toNatClampNeg = cc := nI_clamp (by omega)
  have hvx := rl_vx_lt hr hm
  refine And.intro hinr ?_
  dsimp only
  rw [hp]
  refine yw_open (ky := sa) (ss := ((nI c), (nI ou), st, val, host, kinds, masks, asleep, out)) (gy := (vars, pcy, cy, ry)) (py := py) hn (by omega) ?_
  rw [ho]
  refine yw_close (ky := sa) (ss := ((nI c), (nI ou), st, val, host, kinds, masks, asleep, out)) (gy := (vars, pcy, cy, ry)) (py := py) hn (by omega) ?_
  rw [hcl]
  refine br_t (nI_pos' (by omega)) ⟨vp_in_nI (by omega) (by omega), ?_⟩
  rw [ecc]
  refine yw_at (kk := ((nI pl), (nI sl), (nI ol), (nI n), (nI fn), sealed, ops, opB)) (ky := sa) (ss := ((nI c), (nI ou), st, val, host, kinds, masks, asleep, out)) (gy := (vars, pcy, cy, ry)) (py := py) ?_
  rw [hsa]
  exact ⟨vp_in_nI hvx (by omega), nm_r (xq_up (by omega)) ⟨hinr, nm_r (wk_pc hr) (br_f (nI_pos (by omega)) h)⟩⟩
theorem yw_caught0 {post : Int32 → SY → Prop} {r i : Nat} {V : Int32} {v1 : SY} (hn : n ≤ 32) (hr : r < 16) (hi : i < n) (hy : pcy r = nI (i + 1)) (ho : pg_open ops n i 11 = -1)
    (W : ∀ post : SY → Prop, post v1 → wpY_finish post (mk_Y ((nI pl), (nI sl), (nI ol), (nI n), (nI fn), sealed, ops, opB) sa ((nI c), (nI ou), st, val, host, kinds, masks, asleep, out) (vars, pcy, cy, ry) py) (nI r) 3 V) (h : post 0 v1) : wpY_caught post (mk_Y ((nI pl), (nI sl), (nI ol), (nI n), (nI fn), sealed, ops, opB) sa ((nI c), (nI ou), st, val, host, kinds, masks, asleep, out) (vars, pcy, cy, ry) py) (nI r) V := by
  have er : (nI r).toNatClampNeg = r := nI_clamp (by omega)
  have hp : pcy (nI r).toNatClampNeg - 1 = nI i := by rw [er, hy, nI_pred]
  have hinr : vp_in (nI r) 16 := vp_in_nI hr (by omega)
  refine And.intro hinr ?_
  dsimp only
  rw [hp]
  refine yw_open (ky := sa) (ss := ((nI c), (nI ou), st, val, host, kinds, masks, asleep, out)) (gy := (vars, pcy, cy, ry)) (py := py) hn (by omega) ?_
  rw [ho]
  refine yw_close0 (k0 := 0) (ky := sa) (ss := ((nI c), (nI ou), st, val, host, kinds, masks, asleep, out)) (gy := (vars, pcy, cy, ry)) (py := py) (by decide) hn (by omega) ?_
  exact br_f (by decide) (W _ (br_t (by decide) h))
theorem rz_all {r i : Nat} {t : List Nat} {V : Int32} (SP : sp_ok n fn ops opB opA target handler level entry sa) (hpl : pl ≤ 16) (hB : B < 2 ^ 29) (h : (rn pl ol n (fn) ops B rs (r :: t) ph c ou st val host masks asleep rem pcx slots rx cx cells vars pcy cy ry px py)) (hr : r < 16) (hi : i < n) (hx : pcx r = nI i) (hRR : rl_RR ops rx ry r (pg_stk ops i)) (h12 : ops i ≠ 12) (hV : rl_v c V) :
    (∃ (slots' cells' vars' : Nat → Int32) (j : Nat), (rn pl ol n (fn) ops B rs (r :: t) (ph - 1) c ou st val host masks asleep rem (upd pcx r (nI j)) (slots') rx cx (cells') (vars') (upd pcy r (nI j)) cy ry px py) ∧ 1 ≤ ph ∧
      (∀ post : Int32 → SX → Prop, post (nI r) (mk_X ((nI pl), (nI sl), (nI ol), (nI n), (nI fn), sealed, ops, opB) ((nI dp), opA, target, handler, level, entry, blocks) ((nI c), (nI ou), st, val, host, kinds, masks, asleep, out) (rem, (upd pcx r (nI j)), (slots'), rx, cx, (cells')) px) → wpX_raise post (mk_X ((nI pl), (nI sl), (nI ol), (nI n), (nI fn), sealed, ops, opB) ((nI dp), opA, target, handler, level, entry, blocks) ((nI c), (nI ou), st, val, host, kinds, masks, asleep, out) (rem, pcx, slots, rx, cx, cells) px) (nI r) (nI i) V) ∧
      (∀ post : Int32 → SY → Prop, post 1 (mk_Y ((nI pl), (nI sl), (nI ol), (nI n), (nI fn), sealed, ops, opB) sa ((nI c), (nI ou), st, val, host, kinds, masks, asleep, out) ((vars'), (upd pcy r (nI j)), cy, ry) py) → wpY_caught post (mk_Y ((nI pl), (nI sl), (nI ol), (nI n), (nI fn), sealed, ops, opB) sa ((nI c), (nI ou), st, val, host, kinds, masks, asleep, out) (vars, (upd pcy r (nI (i + 1))), cy, ry) py) (nI r) V)) ∨
    (∃ (u' : SX) (v' : SY) (py1 : ty_py), (pg_open ops n i 11 = -1 ∧ handler i = -1) ∧ rn_RU ((nI pl), (nI sl), (nI ol), (nI n), (nI fn), sealed, ops, opB) ((nI dp), opA, target, handler, level, entry, blocks) sa pl ol n fn ops B rs t (ph - 1) u' v' ∧ 1 ≤ ph ∧
      (∀ post : Int32 → SX → Prop, post (rn_hd t) u' → wpX_raise post (mk_X ((nI pl), (nI sl), (nI ol), (nI n), (nI fn), sealed, ops, opB) ((nI dp), opA, target, handler, level, entry, blocks) ((nI c), (nI ou), st, val, host, kinds, masks, asleep, out) (rem, pcx, slots, rx, cx, cells) px) (nI r) (nI i) V) ∧
      (∀ post : Int32 → SY → Prop, post 0 (mk_Y ((nI pl), (nI sl), (nI ol), (nI n), (nI fn), sealed, ops, opB) sa ((nI c), (nI ou), (upd st r 3), (upd val r V), host, kinds, masks, asleep, out) (vars, (upd pcy r (nI (i + 1))), cy, ry) (py1)) → wpY_caught post (mk_Y ((nI pl), (nI sl), (nI ol), (nI n), (nI fn), sealed, ops, opB) sa ((nI c), (nI ou), st, val, host, kinds, masks, asleep, out) (vars, (upd pcy r (nI (i + 1))), cy, ry) py) (nI r) V) ∧
      (∀ (post : SY → Prop) (N k : Nat), rn_yr post N (rn_hd t) (nI (k + 1)) v' → wY_run_604 post (wY_run_4 post N) (nI r) (nI k) 1 (nI pl) (nI sl) (nI ol) (nI n) (nI fn) (nI c) (nI ou) ((py1).1) sealed ops sa opB out vars (upd pcy r (nI (i + 1))) cy ry (upd st r 3) (upd val r V) kinds masks host asleep ((py1).2.1) ((py1).2.2.1) ((py1).2.2.2.1) ((py1).2.2.2.2.1) ((py1).2.2.2.2.2.1) ((py1).2.2.2.2.2.2.1) ((py1).2.2.2.2.2.2.2.1) ((py1).2.2.2.2.2.2.2.2))) := by
  have hn := SP.1
  have e : (nI i).toNatClampNeg = i := nI_clamp (by omega)
  have hin : vp_in (nI i) 32 := vp_in_nI (by omega) (by omega)
  have hinr : vp_in (nI r) 16 := vp_in_nI hr (by omega)
  rcases sp_hand SP hi h12 with ⟨ho, hh⟩ | ⟨tt, cc, ext, ho, htt, hh, hcl, hcc, hic, ho12, ho11, hs, hs1, hE, hext⟩
  · right
    obtain ⟨Q, ck, hc, RX, RY, hck, hph, HA, HB, HC, HD, HE, HF, HZ, HG, HH, HM⟩ := h
    have hQ := rl_len (by omega) HC HE
    have hrc := (HG.2.1 r (List.mem_cons_self ..)).1
    have hrt : r ∉ t := (List.nodup_cons.mp HG.1).1
    have hne : ∀ q ∈ t, q ≠ r := fun q hq e => hrt (e ▸ hq)
    rw [List.length_cons] at hck
    rw [rl_ps] at hph
    obtain ⟨px1, RX1, WX⟩ := xw_conc RX hr 3 V
    obtain ⟨py1, ck1, hck1, RY1, WY⟩ := yw_fin RY hr (by omega) (by omega) 3 V
    obtain ⟨u', v', RU, LX, LY⟩ := lv_all (B := B) (rem := rem) (sl := sl) (dp := dp) (sealed := sealed) (blocks := blocks) (kinds := kinds) (out := out) (pcy := upd pcy r (nI (i + 1))) (ph := ph - 1) SP hpl hc.1 hc.2.1 hc.2.2 RX1 RY1 (by omega) (by omega) (rl_A_upd (p := r) (s := 3) (by decide) hV HA) HB (rl_conc_C HC hV (by decide)) (fun d hd => by rw [rl_conc_cK]; exact HD d hd) (rl_E_conc (by decide) HE) (fun p hp => by rw [rl_conc_cK]; exact HF p hp) HZ HG.1 (fun q hq => (HG.2.1 q hq).1) (fun q hq => (HG.2.1 q (List.mem_cons_of_mem _ hq)).2) HG.2.2.1 HG.2.2.2.1
      (fun p hp ha => rl_at_fr hn SP.2.1 rfl (pk_un (fun e => ha (e ▸ (HG.2.1 r (List.mem_cons_self ..)).2))) (fun _ _ => rfl) (fun _ _ => rfl) (HH.1 p hp ha))
      (fun q hq => rl_at_fr hn SP.2.1 rfl (pk_un (hne q hq)) (fun _ _ => rfl) (fun _ _ => rfl) (HH.2.2 q hq)) HM (fun p hp ha _ => HG.2.2.2.2 p hp ha)
    refine ⟨u', v', py1, ⟨ho, hh⟩, RU, by omega, fun post hp => ?_, fun post hp => ?_, LY⟩
    · have hh' : ¬ 0 ≤ handler (nI i).toNatClampNeg := by rw [e, hh]; decide
      exact xw_raise0 hin hh' (fun post'' h'' => WX ((nI pl), (nI sl), (nI ol), (nI n), (nI fn), sealed, ops, opB) ((nI dp), opA, target, handler, level, entry, blocks) _ _ _ _ _ _ _ _ _ (rem, pcx, slots, rx, cx, cells) post'' h'') LX hp
    · exact yw_caught0 (pcy := upd pcy r (nI (i + 1))) hn hr hi pk_us ho (fun post'' h'' => WY ((nI pl), (nI sl), (nI ol), (nI n), (nI fn), sealed, ops, opB) sa _ _ _ _ _ _ _ _ _ (vars, upd pcy r (nI (i + 1)), cy, ry) post'' h'') hp
  · left
    have HB : rl_B c vars slots cells := by obtain ⟨_, _, _, _, _, _, _, _, g, _⟩ := h; exact g
    have hou : ou ≤ ol := by obtain ⟨_, _, g, _⟩ := h; exact g.2.1
    obtain ⟨mc, hmc, hA, hsa⟩ := (SP.2.2.2.2.1 cc hcc).1
    have hsa := hsa (by rw [ho12]; decide) (by rw [ho12]; decide) (by rw [ho12]; decide) (by rw [ho12]; decide)
    have ecc : (nI cc).toNatClampNeg = cc := nI_clamp (by omega)
    obtain ⟨s', c', HB', W⟩ := xw_wr HB hr hmc hV
    have hRR' : rl_RR ops rx ry r (pg_stk ops (cc + 1)) := by
      rw [hs] at hRR
      rw [hs1]
      exact ⟨fun z => absurd z (by rw [ho11]; decide), (rl_RR_app hRR).2⟩
    have hadv := rn_adv (j := cc + 1) (m := 1) (rx' := rx) (ry' := ry) h hn SP.2.1 hpl hx (by omega) (by omega) HB' hou hRR' (fun _ _ _ _ _ => rfl) (fun _ _ _ _ _ => rfl) (by
      rw [hs1, hs]
      exact pt_thr hE (by omega) hext)
    refine ⟨s', c', upd vars (rl_vx r mc) V, cc + 1, hadv.1, hadv.2, fun post hp => ?_, fun post hp => ?_⟩
    · exact And.intro hin (nm_r (e' := nI cc) (by rw [e]; exact hh) (br_t (nI_pos' (by omega)) ⟨vp_in_nI (by omega) (by omega), W ((nI pl), (nI sl), (nI ol), (nI n), (nI fn), sealed, ops, opB) ((nI dp), opA, target, handler, level, entry, blocks) ((nI c), (nI ou), st, val, host, kinds, masks, asleep, out) rem pcx rx cx px _ _ _ (by rw [ecc]; exact hA) rfl ⟨hinr, nm_r (wk_pc hr) hp⟩⟩))
    · refine yw_caught1 (pcy := upd pcy r (nI (i + 1))) hn hr hi pk_us ho htt hcl hcc hmc (by rw [hsa]; exact wk_m_nI hmc) ?_
      rw [wk_uu]
      exact hp
end
end
section
/-! THROW; opening an activation; CALL -/
section
variable {pl sl ol n fn dp c ou : Nat} {sealed : Int32} {ops opB opA target handler level entry blocks sa st val host kinds masks asleep out rem pcx slots rx cx cells vars pcy cy ry : Nat → Int32} {px : ty_px} {py : ty_py} {B rs ph : Nat}
theorem st_throw {r i m : Nat} {t : List Nat} (SP : sp_ok n fn ops opB opA target handler level entry sa) (hpl : pl ≤ 16) (hB : B < 2 ^ 29) (h : (rn pl ol n (fn) ops B rs (r :: t) ph c ou st val host masks asleep rem pcx slots rx cx cells vars pcy cy ry px py)) (hr : r < 16) (hi : i < n) (hx : pcx r = nI i) (hy : pcy r = nI i) (hRR : rl_RR ops rx ry r (pg_stk ops i)) (HB : rl_B c vars slots cells)
    (ho : ops i = 7) (hm : m < 8) (hA : opA i = nI m) (hma : wk_m (sa i) = m) :
    rn_S ((nI pl), (nI sl), (nI ol), (nI n), (nI fn), sealed, ops, opB) ((nI dp), opA, target, handler, level, entry, blocks) sa pl ol n fn ops B rs r ph (mk_X ((nI pl), (nI sl), (nI ol), (nI n), (nI fn), sealed, ops, opB) ((nI dp), opA, target, handler, level, entry, blocks) ((nI c), (nI ou), st, val, host, kinds, masks, asleep, out) (rem, pcx, slots, rx, cx, cells) px) (mk_Y ((nI pl), (nI sl), (nI ol), (nI n), (nI fn), sealed, ops, opB) sa ((nI c), (nI ou), st, val, host, kinds, masks, asleep, out) (vars, pcy, cy, ry) py) := by
  have hn := SP.1
  rcases rz_all (sl := sl) (dp := dp) (sealed := sealed) (blocks := blocks) (kinds := kinds) (out := out) SP hpl hB h hr hi hx hRR (by rw [ho]; decide) (HB.1 _ (rl_vx_lt hr hm)) with ⟨s', c', v', j, h1, h2, WX, WY⟩ | ⟨u', v', py1, _, RU, h2, WX, WY, LY⟩
  · refine ⟨(mk_X ((nI pl), (nI sl), (nI ol), (nI n), (nI fn), sealed, ops, opB) ((nI dp), opA, target, handler, level, entry, blocks) ((nI c), (nI ou), st, val, host, kinds, masks, asleep, out) (rem, (upd pcx r (nI j)), (s'), rx, cx, (c')) px), (mk_Y ((nI pl), (nI sl), (nI ol), (nI n), (nI fn), sealed, ops, opB) sa ((nI c), (nI ou), st, val, host, kinds, masks, asleep, out) ((v'), (upd pcy r (nI j)), cy, ry) py), r :: t, ph - 1, 1, rn_mk h1, Nat.le_refl 1, by omega, by omega, fun post hp => ?_, fun post N k hk hp => ?_⟩
    · exact xr_ex7 hn hr hi hx ho hm hA HB WX hp
    · refine yr_runN hma rfl hn hr (by omega) hy ho (by decide) (z := 0) (by decide) (by omega) (And.intro (vp_in_nI hr (by omega)) (nm_r (wk_pc hr) ?_))
      iterate 4 refine br_f (by decide) ?_
      refine br_f (by decide) ?_
      iterate 4 refine br_f (by decide) ?_
      refine br_f (by decide) (br_f (by decide) (br_f (by decide) (br_f (by decide) (br_t rfl ?_))))
      exact WY _ (br_f (by decide) (yr_go (by decide) hp))
  · refine ⟨u', v', t, ph - 1, 1, RU, Nat.le_refl 1, by omega, by omega, fun post hp => ?_, fun post N k hk hp => ?_⟩
    · exact xr_ex7 hn hr hi hx ho hm hA HB WX hp
    · refine yr_runN hma rfl hn hr (by omega) hy ho (by decide) (z := 0) (by decide) (by omega) (And.intro (vp_in_nI hr (by omega)) (nm_r (wk_pc hr) ?_))
      iterate 4 refine br_f (by decide) ?_
      refine br_f (by decide) ?_
      iterate 4 refine br_f (by decide) ?_
      refine br_f (by decide) (br_f (by decide) (br_f (by decide) (br_f (by decide) (br_t rfl ?_))))
      exact WY _ (br_t rfl (br_f (by decide) (br_t (by decide) (LY post N k hp))))
end
theorem xr_make {post : Int32 → SX → Prop} {kk : ty_kk} {kx : ty_kx} {ou : Int32} {st val host kinds masks asleep out rem pcx slots rx cx cells : Nat → Int32} {px : ty_px} {c : Nat} (hc : c < 16)
    (h : post (nI c) (mk_X kk kx (nI (c + 1), ou, st, val, host, kinds, masks, asleep, out) (rem, pcx, slots, rx, upd cx c (-1), cells) (px.1, px.2.1, px.2.2.1, px.2.2.2.1, upd px.2.2.2.2.1 c (-1), upd px.2.2.2.2.2.1 c (-1), px.2.2.2.2.2.2))) :
    wpX_makePromise post (mk_X kk kx (nI c, ou, st, val, host, kinds, masks, asleep, out) (rem, pcx, slots, rx, cx, cells) px) := by
  have hin : vp_in (nI c) 16 := vp_in_nI hc (by omega)
  exact nm_r (nI_1 c) ⟨hin, nm_r (xq_up (by omega)) ⟨hin, nm_r (xq_up (by omega)) ⟨hin, nm_r (xq_up (by omega)) h⟩⟩⟩
theorem xw_make {px : ty_px} {c : Nat} {Q : List qe_T} (R : xq_R px [] 16 Q) (hc : c < 16) (hQ : ∀ e ∈ Q, e.1 ≠ nI c) :
    xq_R (px.1, px.2.1, px.2.2.1, px.2.2.2.1, upd px.2.2.2.2.1 c (-1), upd px.2.2.2.2.2.1 c (-1), px.2.2.2.2.2.2) [] 16 Q := by
  obtain ⟨fh, qh, qt, qs, fw, lw, wa, nk, no, nx, ny, ns, nv, nxt⟩ := px
  obtain ⟨fr, XL, hm, hP, hf, hlf, hcn, hq, hw⟩ := R
  refine ⟨fr, XL, hm, hP, hf, hlf, hcn, hq, fun p hp hpe => ?_⟩
  have h1 := hw p hp hpe
  dsimp only at h1 ⊢
  by_cases hpc : p = c
  · subst hpc
    have h0 : xq_sel XL (nI p) = [] := by
      rw [List.eq_nil_iff_forall_not_mem]
      intro i hi
      obtain ⟨e, he, he1⟩ := xq_sel_mem hi
      exact hQ e (by rw [← hm]; exact List.mem_map.mpr ⟨_, he, rfl⟩) he1
    rw [h0] at h1 ⊢
    exact ⟨trivial, trivial, fun a ha => (by cases ha), h1.2.2.2⟩
  · rw [pk_un hpc, pk_un hpc]; exact h1
theorem xw_open {post : Int32 → SX → Prop} {kk : ty_kk} {kx : ty_kx} {ou : Int32} {st val host kinds masks asleep out rem pcx slots rx cx cells : Nat → Int32} {px : ty_px} {c f : Nat} {V W : Int32} (hc : c < 16) (hf : f < 4)
    (h : post (nI c) (mk_X kk kx (nI (c + 1), ou, st, val, host, kinds, masks, asleep, out) (rem, upd pcx c (kx.2.2.2.2.2.1 f), upd slots (4 * c) V, rx, upd cx c W, cells) (px.1, px.2.1, px.2.2.1, px.2.2.2.1, upd px.2.2.2.2.1 c (-1), upd px.2.2.2.2.2.1 c (-1), px.2.2.2.2.2.2))) :
    wpX_open post (mk_X kk kx (nI c, ou, st, val, host, kinds, masks, asleep, out) (rem, pcx, slots, rx, cx, cells) px) (nI f) V W := by
  have hin : vp_in (nI c) 16 := vp_in_nI hc (by omega)
  have e4 : nI c * 4 = nI (4 * c) := by rw [show (4 : Int32) = nI 4 from rfl, pk_mul, Nat.mul_comm]
  have h64 : vp_in (nI c * 4) 64 := by rw [e4]; exact vp_in_nI (by omega) (by omega)
  have e1 : upd slots (nI c * 4).toNatClampNeg V = upd slots (4 * c) V := by rw [e4]; exact xq_up (by omega)
  have e2 : upd pcx (nI c).toNatClampNeg (kx.2.2.2.2.2.1 (nI f).toNatClampNeg) = upd pcx c (kx.2.2.2.2.2.1 f) := by rw [nI_clamp (by omega), nI_clamp (by omega)]
  have e3 : upd (upd cx c (-1)) (nI c).toNatClampNeg W = upd cx c W := by rw [nI_clamp (by omega), wk_uu]
  unfold wpX_open
  exact xr_make hc ⟨h64, nm_r e1 ⟨vp_in_nI hf (by omega), hin, nm_r e2 ⟨hin, nm_r e3 h⟩⟩⟩
theorem sp_cf_lt {ops : Nat → Int32} {i : Nat} (ho : ops i = 0) : ∀ d, sp_cf ops i < sp_cf ops (i + 1 + d)
  | 0 => by rw [Nat.add_zero, sp_cf, if_pos ho]; omega
  | d + 1 => by
    have := sp_cf_lt (i := i) ho d
    rw [← Nat.add_assoc, sp_cf]; omega
theorem sp_cf_inj {ops : Nat → Int32} {i j : Nat} (hi : ops i = 0) (hj : ops j = 0) (h : sp_cf ops i = sp_cf ops j) : i = j := by
  rcases Nat.lt_trichotomy i j with g | g | g
  · have := sp_cf_lt hi (j - (i + 1))
    rw [show i + 1 + (j - (i + 1)) = j by omega] at this; omega
  · exact g
  · have := sp_cf_lt hj (i - (j + 1))
    rw [show j + 1 + (i - (j + 1)) = i by omega] at this; omega
theorem sp_cf_le (ops : Nat → Int32) : ∀ i, sp_cf ops i ≤ i
  | 0 => Nat.le_refl 0
  | i + 1 => by
    have := sp_cf_le ops i
    rw [sp_cf]; split <;> omega
section
variable {pl sl ol n fn dp c ou : Nat} {sealed : Int32} {ops opB opA target handler level entry blocks sa st val host kinds masks asleep out rem pcx slots rx cx cells vars pcy cy ry : Nat → Int32} {px : ty_px} {py : ty_py} {B rs ph : Nat}
theorem yr_beg {post : Int32 → SY → Prop} {f j : Nat} {V : Int32} (hn : n ≤ 32) (hc : c < 16) (hf : f < 4) (hjn : j < n) (hj : ops j = 0) (hjf : sp_cf ops j = f)
    (h : post (nI c) (mk_Y ((nI pl), (nI sl), (nI ol), (nI n), (nI fn), sealed, ops, opB) sa ((nI (c + 1)), (nI ou), st, val, host, kinds, masks, asleep, out) ((upd vars (4 * c) V), (upd pcy c (nI (j + 1))), (upd cy c (-1)), ry) py)) :
    ∀ d i, i + d = n → ∀ pc', (j < i → pc' = upd pcy c (nI (j + 1))) → (i ≤ j → pc' = pcy) → wY_begin_18 post (nI f) V (nI pl) (nI sl) (nI ol) (nI n) (nI fn) (nI c) (nI ou) py.1 sealed (d + 1) (nI (sp_cf ops i)) (nI i) ops sa opB out vars (pc') cy ry st val kinds masks host asleep py.2.1 py.2.2.1 py.2.2.2.1 py.2.2.2.2.1 py.2.2.2.2.2.1 py.2.2.2.2.2.2.1 py.2.2.2.2.2.2.2.1 py.2.2.2.2.2.2.2.2
  | 0, i, hi, pc', h1, _ => by
    have : i = n := by omega
    subst this
    have e1 := h1 hjn
    subst e1
    have hin : vp_in (nI c) 16 := vp_in_nI hc (by omega)
    have e4 : nI c * 4 = nI (4 * c) := by rw [show (4 : Int32) = nI 4 from rfl, pk_mul, Nat.mul_comm]
    have h68 : vp_in (nI c * 4) 68 := by rw [e4]; exact vp_in_nI (by omega) (by omega)
    have e2 : upd vars (nI c * 4).toNatClampNeg V = upd vars (4 * c) V := by rw [e4]; exact xq_up (by omega)
    exact br_t (nI_le (by omega) (by omega)) ⟨h68, nm_r e2 ⟨hin, nm_r (xq_up (by omega)) (nm_r (nI_1 c) h)⟩⟩
  | d + 1, i, hi, pc', h1, h2 => by
    have e : (nI i).toNatClampNeg = i := nI_clamp (by omega)
    have hle := sp_cf_le ops i
    have ih := yr_beg hn hc hf hjn hj hjf h d (i + 1) (by omega)
    rw [sp_cf] at ih
    refine br_f (nI_ge (by omega) (by omega)) ⟨vp_in_nI (by omega) (by omega), ?_⟩
    by_cases h0 : ops i = 0
    · rw [if_pos h0] at ih
      refine br_t (by rw [e]; exact h0) ?_
      by_cases hij : i = j
      · subst hij
        have e2 := h2 (Nat.le_refl i)
        subst e2
        exact br_t (by rw [hjf]) ⟨vp_in_nI hc (by omega), nm_r (wk_pc (by omega)) (nm_r (nI_1 _) (nm_r (nI_1 i) (ih _ (fun _ => rfl) (fun z => by omega))))⟩
      · have hne : ¬ nI (sp_cf ops i) = nI f := fun z => hij (sp_cf_inj h0 hj (by rw [hjf]; exact (nI_eq (by omega) (by omega)).mp z))
        exact br_f hne (nm_r (nI_1 _) (nm_r (nI_1 i) (ih _ (fun z => h1 (by omega)) (fun z => h2 (by omega)))))
    · rw [if_neg h0] at ih
      have hij : i ≠ j := fun z => h0 (z ▸ hj)
      exact br_f (by rw [e]; exact h0) (nm_r (nI_1 i) (ih _ (fun z => h1 (by omega)) (fun z => h2 (by omega))))
theorem yw_beg {post : Int32 → SY → Prop} {f j : Nat} {V : Int32} (hn : n ≤ 32) (hc : c < pl) (hpl : pl ≤ 16) (hf : f < 4) (hjn : j < n) (hj : ops j = 0) (hjf : sp_cf ops j = f)
    (h : post (nI c) (mk_Y ((nI pl), (nI sl), (nI ol), (nI n), (nI fn), sealed, ops, opB) sa ((nI (c + 1)), (nI ou), st, val, host, kinds, masks, asleep, out) ((upd vars (4 * c) V), (upd pcy c (nI (j + 1))), (upd cy c (-1)), ry) py)) : wpY_begin post (mk_Y ((nI pl), (nI sl), (nI ol), (nI n), (nI fn), sealed, ops, opB) sa ((nI c), (nI ou), st, val, host, kinds, masks, asleep, out) (vars, pcy, cy, ry) py) (nI f) V :=
  br_t (nI_lt hc (by omega)) ⟨n + 1, yr_beg hn (by omega) hf hjn hj hjf h n 0 (by omega) pcy (fun z => by omega) (fun _ => rfl)⟩
theorem yw_begF {post : Int32 → SY → Prop} {F V : Int32} (hc : ¬ c < pl) (hcl : c < 2 ^ 31) (h : post (-1) (mk_Y ((nI pl), (nI sl), (nI ol), (nI n), (nI fn), sealed, ops, opB) sa ((nI c), (nI ou), st, val, host, kinds, masks, asleep, out) (vars, pcy, cy, ry) py)) : wpY_begin post (mk_Y ((nI pl), (nI sl), (nI ol), (nI n), (nI fn), sealed, ops, opB) sa ((nI c), (nI ou), st, val, host, kinds, masks, asleep, out) (vars, pcy, cy, ry) py) F V :=
  br_f (nI_nlt (by omega) (by omega)) h
/-- the relation with one activation more -/
theorem rn_open {f j ck : Nat} {ch : List Nat} {V : Int32} {Q : List qe_T} (SP : sp_ok n fn ops opB opA target handler level entry sa) (hpl : pl ≤ 16) (hc : c < pl) (hou : ou ≤ ol) (hrs : (rs % 17 = 16 ∨ rs % 17 < c) ∧ rs / 17 ≤ c) (RX : xq_R px [] 16 Q) (RY : yq_R py ck Q)
    (hck : ck + 130 * (ch.length + (16 - c)) ≤ B) (hph : rl_ps ops n pcx rx ch + 2050 * (16 - c) ≤ ph) (HA : rl_A c st val) (HB : rl_B c vars slots cells) (HC : rl_C c fn Q) (HD : rl_D rem Q) (HE : rl_E rs ch host st Q) (HF : rl_F asleep Q) (HZ : rl_Z c host asleep)
    (HG : rl_G c asleep cx cy ch) (HH1 : ∀ p, p < 16 → asleep p ≠ 0 → rl_at ops n pcx pcy rx ry 5 p) (HH2 : ∀ q ∈ ch, rl_at ops n pcx pcy rx ry 4 q) (HM : rl_M c masks) (hV : rl_v c V) (hjn : j < n) (hj : ops j = 0) (he : entry f = nI (j + 1)) :
    (rn pl ol n (fn) ops B rs (c :: ch) (ph - 1) (c + 1) ou st val host masks asleep rem (upd pcx c (entry f)) (upd slots (4 * c) V) rx (upd cx c (rn_hd ch)) cells (upd vars (4 * c) V) (upd pcy c (nI (j + 1))) (upd cy c (rn_hd ch)) ry ((px.1, px.2.1, px.2.2.1, px.2.2.2.1, upd px.2.2.2.2.1 c (-1), upd px.2.2.2.2.2.1 c (-1), px.2.2.2.2.2.2)) py) ∧ 1 ≤ ph := by
  have hn := SP.1
  have hne : ∀ q ∈ ch, q ≠ c := fun q hq e => by have := (HG.2.1 q hq).1; omega
  have hnc : c ∉ ch := fun h => hne c h rfl
  have hzc := HZ c (by omega) (Nat.le_refl c)
  have hs : pg_stk ops (j + 1) = [] := by
    rw [pg_stk_o (by rw [hj]; decide) (by rw [hj]; decide) (by rw [hj]; decide)]
    exact (SP.2.1 j hjn).2.1 hj
  have hpo : rl_po ops n (upd pcx c (entry f)) rx c ≤ 2048 := by
    rw [rl_po, pk_us, he, nI_clamp (by omega), hs, pt]; omega
  have hps : rl_ps ops n (upd pcx c (entry f)) rx ch = rl_ps ops n pcx rx ch := rl_ps_fr (pcy := pcy) (ry := ry) hn SP.2.1 HH2 (fun q hq => ⟨pk_un (hne q hq), fun _ _ => rfl⟩)
  have hQc : ∀ e ∈ Q, e.1 ≠ nI c := fun e he z => by
    rcases (HC e he).2.1 with h | ⟨p, hp, h⟩
    · exact xq_m1 c (by omega) (h.symm.trans z)
    · have := xq_pI p (by omega) c (by omega) (h.symm.trans z); omega
  refine ⟨⟨Q, ck, ⟨by omega, hou, by omega⟩, xw_make RX (by omega) hQc, RY, ?_, ?_, rl_A_mono (by omega) HA, ⟨fun k hk => ?_, fun k hk => ?_, fun k hk => ?_⟩, rl_C_mono (by omega) (Nat.le_refl _) HC, HD, fun p hp => ?_, HF, fun p hp hpc => HZ p hp (by omega), ⟨List.nodup_cons.mpr ⟨hnc, HG.1⟩, fun q hq => ?_, ?_, ?_, fun p hp ha => by
    have hpc : p ≠ c := fun e => ha (e ▸ hzc.2)
    rw [pk_un hpc, pk_un hpc]; exact HG.2.2.2.2 p hp ha⟩, ⟨fun p hp ha => ?_, ⟨j + 1, by omega, by rw [pk_us, he], pk_us, by rw [hs]; trivial⟩, fun q hq => ?_⟩, rl_M_mono (by omega) HM⟩, by omega⟩
  · rw [List.length_cons]; omega
  · rw [rl_ps, hps]; omega
  · rw [upd]; split
    · exact rl_v_mono (by omega) hV
    · exact rl_v_mono (by omega) (HB.1 k hk)
  · rw [upd, upd]; split
    · rfl
    · exact HB.2.1 k hk
  · rw [pk_un (by omega)]; exact HB.2.2 k hk
  · have h1 := HE p hp
    by_cases hpc : p = c
    · subst hpc
      have h0 : rl_cQ Q (nI p) = 0 := List.countP_eq_zero.mpr (fun e he => by
        obtain ⟨o, ho, ho'⟩ := (HC e he).1
        simp only [beq_iff_eq]
        intro z
        have := xq_pI o (by omega) p hp (ho'.symm.trans z); omega)
      rw [h0, rl_ic_hd, rl_hp, if_neg (fun z => z.1 hzc.1), rl_mx, if_neg (show ¬ p = rs % 17 by omega)]
      split <;> omega
    · have : rl_ic (c :: ch) p = rl_ic ch p := by
        rw [rl_ic, rl_ic]
        by_cases hm : p ∈ ch
        · rw [if_pos hm, if_pos (List.mem_cons_of_mem _ hm)]
        · rw [if_neg hm, if_neg (fun z => (List.mem_cons.mp z).elim hpc hm)]
      omega
  · rcases List.mem_cons.mp hq with rfl | hq
    · exact ⟨by omega, hzc.2⟩
    · exact ⟨by have := (HG.2.1 q hq).1; omega, (HG.2.1 q hq).2⟩
  · cases ch with
    | nil => exact pk_us
    | cons q t => exact ⟨pk_us, rl_ch_congr (fun z hz => pk_un (hne z hz)) HG.2.2.1⟩
  · cases ch with
    | nil => exact pk_us
    | cons q t => exact ⟨pk_us, rl_ch_congr (fun z hz => pk_un (hne z hz)) HG.2.2.2.1⟩
  · have hpc : p ≠ c := fun e => ha (e ▸ hzc.2)
    exact rl_at_fr hn SP.2.1 (pk_un hpc) (pk_un hpc) (fun _ _ => rfl) (fun _ _ => rfl) (HH1 p hp ha)
  · exact rl_at_fr hn SP.2.1 (pk_un (hne q hq)) (pk_un (hne q hq)) (fun _ _ => rfl) (fun _ _ => rfl) (HH2 q hq)
theorem st_call {r i m : Nat} {t : List Nat} (SP : sp_ok n fn ops opB opA target handler level entry sa) (hpl : pl ≤ 16) (hB : B < 2 ^ 29) (h : (rn pl ol n (fn) ops B rs (r :: t) ph c ou st val host masks asleep rem pcx slots rx cx cells vars pcy cy ry px py)) (hr : r < 16) (hi : i < n) (hx : pcx r = nI i) (hy : pcy r = nI i) (hRR : rl_RR ops rx ry r (pg_stk ops i)) (HB : rl_B c vars slots cells)
    (ho : ops i = 4) (hm : m < 8) (hA : opA i = nI m) (hma : wk_m (sa i) = m) :
    rn_S ((nI pl), (nI sl), (nI ol), (nI n), (nI fn), sealed, ops, opB) ((nI dp), opA, target, handler, level, entry, blocks) sa pl ol n fn ops B rs r ph (mk_X ((nI pl), (nI sl), (nI ol), (nI n), (nI fn), sealed, ops, opB) ((nI dp), opA, target, handler, level, entry, blocks) ((nI c), (nI ou), st, val, host, kinds, masks, asleep, out) (rem, pcx, slots, rx, cx, cells) px) (mk_Y ((nI pl), (nI sl), (nI ol), (nI n), (nI fn), sealed, ops, opB) sa ((nI c), (nI ou), st, val, host, kinds, masks, asleep, out) (vars, pcy, cy, ry) py) := by
  have hn := SP.1
  have e : (nI i).toNatClampNeg = i := nI_clamp (by omega)
  have hin : vp_in (nI i) 32 := vp_in_nI (by omega) (by omega)
  have hcpl : c ≤ pl := by obtain ⟨_, _, g, _⟩ := h; exact g.1
  by_cases hfull : c = pl
  · rcases rz_all (V := -102) (sl := sl) (dp := dp) (sealed := sealed) (blocks := blocks) (kinds := kinds) (out := out) SP hpl hB h hr hi hx hRR (by rw [ho]; decide) (rl_v_neg (by decide)) with ⟨s', c', v', j, h1, h2, WX, WY⟩ | ⟨u', v', py1, _, RU, h2, WX, WY, LY⟩
    · refine ⟨(mk_X ((nI pl), (nI sl), (nI ol), (nI n), (nI fn), sealed, ops, opB) ((nI dp), opA, target, handler, level, entry, blocks) ((nI c), (nI ou), st, val, host, kinds, masks, asleep, out) (rem, (upd pcx r (nI j)), (s'), rx, cx, (c')) px), (mk_Y ((nI pl), (nI sl), (nI ol), (nI n), (nI fn), sealed, ops, opB) sa ((nI c), (nI ou), st, val, host, kinds, masks, asleep, out) ((v'), (upd pcy r (nI j)), cy, ry) py), r :: t, ph - 1, 1, rn_mk h1, Nat.le_refl 1, by omega, by omega, fun post hp => ?_, fun post N k hk hp => ?_⟩
      · exact xr_ex4 hn hr hi hx ho hm hA HB (fun post' hp' => br_t (by rw [hfull]) (WX _ hp')) hp
      · refine yr_runN hma rfl hn hr (by omega) hy ho (by decide) (z := 0) (by decide) (by omega) (And.intro (vp_in_nI hr (by omega)) (nm_r (wk_pc hr) ?_))
        iterate 4 refine br_f (by decide) ?_
        refine br_f (by decide) ?_
        iterate 4 refine br_f (by decide) ?_
        refine br_f (by decide) (br_f (by decide) (br_f (by decide) (br_f (by decide) (br_f (by decide) (br_t rfl ⟨vp_in_nI (by omega) (by omega), ?_⟩)))))
        refine yw_begF (pcy := upd pcy r (nI (i + 1))) (vars := vars) (cy := cy) (ry := ry) (sa := sa) (st := st) (val := val) (host := host) (kinds := kinds) (masks := masks) (asleep := asleep) (out := out) (py := py) (by omega) (by omega) ?_
        exact br_f (by decide) (WY _ (br_f (by decide) (yr_go (by decide) hp)))
    · refine ⟨u', v', t, ph - 1, 1, RU, Nat.le_refl 1, by omega, by omega, fun post hp => ?_, fun post N k hk hp => ?_⟩
      · exact xr_ex4 hn hr hi hx ho hm hA HB (fun post' hp' => br_t (by rw [hfull]) (WX _ hp')) hp
      · refine yr_runN hma rfl hn hr (by omega) hy ho (by decide) (z := 0) (by decide) (by omega) (And.intro (vp_in_nI hr (by omega)) (nm_r (wk_pc hr) ?_))
        iterate 4 refine br_f (by decide) ?_
        refine br_f (by decide) ?_
        iterate 4 refine br_f (by decide) ?_
        refine br_f (by decide) (br_f (by decide) (br_f (by decide) (br_f (by decide) (br_f (by decide) (br_t rfl ⟨vp_in_nI (by omega) (by omega), ?_⟩)))))
        refine yw_begF (pcy := upd pcy r (nI (i + 1))) (vars := vars) (cy := cy) (ry := ry) (sa := sa) (st := st) (val := val) (host := host) (kinds := kinds) (masks := masks) (asleep := asleep) (out := out) (py := py) (by omega) (by omega) ?_
        exact br_f (by decide) (WY _ (br_t rfl (br_f (by decide) (br_t (by decide) (LY post N k hp)))))
  · obtain ⟨f, hf, hBf⟩ := (SP.2.2.2.2.1 i hi).2.2.1 ho
    obtain ⟨j, hjn, hj, hej, hjf⟩ := SP.2.2.2.2.2.1 f hf
    have hf4 : f < 4 := by have := SP.2.2.2.2.2.2; omega
    obtain ⟨Q, ck, hc, RX, RY, hck, hph, HA, _, HC, HD, HE, HF, HZ, HG, HH, HM⟩ := h
    have hrc := (HG.2.1 r (List.mem_cons_self ..)).1
    have hra := (HG.2.1 r (List.mem_cons_self ..)).2
    have hrt : r ∉ t := (List.nodup_cons.mp HG.1).1
    have hne : ∀ q ∈ t, q ≠ r := fun q hq e => hrt (e ▸ hq)
    have hop := rn_open (V := vars (rl_vx r m)) (f := f) (j := j) (pcy := upd pcy r (nI (i + 1))) SP hpl (by omega) hc.2.1 hc.2.2 RX RY hck hph HA HB HC HD HE HF HZ HG
      (fun p hp ha => rl_at_fr hn SP.2.1 rfl (pk_un (fun e => ha (e ▸ hra))) (fun _ _ => rfl) (fun _ _ => rfl) (HH.1 p hp ha))
      (fun q hq => by
        rcases List.mem_cons.mp hq with rfl | hq
        · exact ⟨i, hi, hx, pk_us, ho, hRR⟩
        · exact rl_at_fr hn SP.2.1 rfl (pk_un (hne q hq)) (fun _ _ => rfl) (fun _ _ => rfl) (HH.2.2 q hq)) HM (HB.1 _ (rl_vx_lt hr hm)) hjn hj hej
    have hncpl : ¬ nI c = nI pl := fun z => hfull ((nI_eq (by omega) (by omega)).mp z)
    refine ⟨_, _, c :: r :: t, ph - 1, 1, rn_mk (kinds := kinds) (out := out) hop.1, Nat.le_refl 1, by omega, by have := hop.2; omega, fun post hp => ?_, fun post N k hk hp => ?_⟩
    · refine xr_ex4 hn hr hi hx ho hm hA HB (fun post' hp' => br_f hncpl ⟨hin, ?_⟩) hp
      have e1 : opB (nI i).toNatClampNeg = nI f := by rw [e]; exact hBf
      show wpX_open _ (mk_X ((nI pl), (nI sl), (nI ol), (nI n), (nI fn), sealed, ops, opB) ((nI dp), opA, target, handler, level, entry, blocks) ((nI c), (nI ou), st, val, host, kinds, masks, asleep, out) (rem, pcx, slots, rx, cx, cells) px) (opB (nI i).toNatClampNeg) _ _
      rw [e1]
      exact xw_open (by omega) hf4 hp'
    · refine yr_runN hma rfl hn hr (by omega) hy ho (by decide) (z := 0) (by decide) (by omega) (And.intro (vp_in_nI hr (by omega)) (nm_r (wk_pc hr) ?_))
      iterate 4 refine br_f (by decide) ?_
      refine br_f (by decide) ?_
      iterate 4 refine br_f (by decide) ?_
      refine br_f (by decide) (br_f (by decide) (br_f (by decide) (br_f (by decide) (br_f (by decide) (br_t rfl ⟨vp_in_nI (by omega) (by omega), ?_⟩)))))
      have e1 : opB (nI i).toNatClampNeg = nI f := by rw [e]; exact hBf
      show wpY_begin _ (mk_Y ((nI pl), (nI sl), (nI ol), (nI n), (nI fn), sealed, ops, opB) sa ((nI c), (nI ou), st, val, host, kinds, masks, asleep, out) (vars, (upd pcy r (nI (i + 1))), cy, ry) py) (opB (nI i).toNatClampNeg) _
      rw [e1]
      refine yw_beg hn (by omega) hpl hf4 hjn hj hjf ?_
      exact br_t (nI_pos' (by omega)) (br_f (by decide) (br_f (nI_pos (by omega)) ⟨vp_in_nI (by omega) (by omega), nm_r (e' := upd cy c (nI r)) (by rw [nI_clamp (by omega), wk_uu]) (br_t rfl (nm_r (nI_1 k) hp))⟩))
end
end
section
/-! a whole run -/
def rn_xr (post : SX → Prop) (N : Nat) (x2 x3 : Int32) (u : SX) : Prop := match u with
  | (a0, a1, a2, a3, a4, pl, sl, ol, n, fn, dp, sealed, c, fh, qh, qt, qs, ou, ops, opA, opB, target, handler, level, entry, blocks, st, val, fw, lw, wa, host, kinds, masks, rem, pcx, slots, rx, cx, asleep, cells, nk, no, nx, ny, ns, nv, nxt, out) =>
    wX_run_4 post N x2 x3 a0 a1 a2 a3 a4 pl sl ol n fn dp sealed c fh qh qt qs ou ops opA opB target handler level entry blocks st val fw lw wa host kinds masks rem pcx slots rx cx asleep cells nk no nx ny ns nv nxt out
section
variable {pl sl ol n fn dp c ou : Nat} {sealed : Int32} {ops opB opA target handler level entry blocks sa st val host kinds masks asleep out rem pcx slots rx cx cells vars pcy cy ry : Nat → Int32} {px : ty_px} {py : ty_py} {B rs ph : Nat}
theorem st_any {r : Nat} {t : List Nat} (SP : sp_ok n fn ops opB opA target handler level entry sa) (hpl : pl ≤ 16) (hol : ol ≤ 64) (hB : B < 2 ^ 29) (h : (rn pl ol n (fn) ops B rs (r :: t) ph c ou st val host masks asleep rem pcx slots rx cx cells vars pcy cy ry px py)) :
    rn_S ((nI pl), (nI sl), (nI ol), (nI n), (nI fn), sealed, ops, opB) ((nI dp), opA, target, handler, level, entry, blocks) sa pl ol n fn ops B rs r ph (mk_X ((nI pl), (nI sl), (nI ol), (nI n), (nI fn), sealed, ops, opB) ((nI dp), opA, target, handler, level, entry, blocks) ((nI c), (nI ou), st, val, host, kinds, masks, asleep, out) (rem, pcx, slots, rx, cx, cells) px) (mk_Y ((nI pl), (nI sl), (nI ol), (nI n), (nI fn), sealed, ops, opB) sa ((nI c), (nI ou), st, val, host, kinds, masks, asleep, out) (vars, pcy, cy, ry) py) := by
  have h0 := h
  obtain ⟨Q, ck, hc, RX, RY, hck, hph, HA, HB, HC, HD, HE, HF, HZ, HG, HH, HM⟩ := h0
  have hr : r < 16 := by have := (HG.2.1 r (List.mem_cons_self ..)).1; omega
  obtain ⟨i, hi, hx, hy, hRR⟩ := HH.2.1
  by_cases hin : i < n
  · obtain ⟨m, hm, hA, hsa⟩ := (SP.2.2.2.2.1 i hin).1
    obtain ⟨o, ho14, ho⟩ := (SP.2.1 i hin).1
    have hcase : o = 0 ∨ o = 1 ∨ o = 2 ∨ o = 3 ∨ o = 4 ∨ o = 5 ∨ o = 6 ∨ o = 7 ∨ o = 8 ∨ o = 9 ∨ o = 10 ∨ o = 11 ∨ o = 12 ∨ o = 13 ∨ o = 14 := by omega
    have hma : ops i ≠ 0 → ops i ≠ 11 → ops i ≠ 13 → ops i ≠ 14 → wk_m (sa i) = m := fun h1 h2 h3 h4 => by rw [hsa h1 h2 h3 h4]; exact wk_m_nI hm
    rcases hcase with rfl | rfl | rfl | rfl | rfl | rfl | rfl | rfl | rfl | rfl | rfl | rfl | rfl | rfl | rfl
    · exact st_ret (m := 0) SP hpl hB h hr hi hx hy ho (Or.inl ⟨rfl, rfl⟩)
    · exact st_plain SP hpl hol h hr hin hx hy hRR HB ho hm hA (hsa (by rw [ho]; decide) (by rw [ho]; decide) (by rw [ho]; decide) (by rw [ho]; decide)) (rl_v_16 c (opB i)) (Or.inl ⟨rfl, rfl⟩)
    · obtain ⟨m2, hm2, hB2⟩ := (SP.2.2.2.2.1 i hin).2.1 (Or.inl ho)
      exact st_plain SP hpl hol h hr hin hx hy hRR HB ho hm hA (hsa (by rw [ho]; decide) (by rw [ho]; decide) (by rw [ho]; decide) (by rw [ho]; decide)) (HB.1 _ (rl_vx_lt hr hm2)) (Or.inr ⟨m2, hm2, hB2, Or.inl ⟨rfl, rfl⟩⟩)
    · obtain ⟨m2, hm2, hB2⟩ := (SP.2.2.2.2.1 i hin).2.1 (Or.inr (Or.inl ho))
      exact st_plain SP hpl hol h hr hin hx hy hRR HB ho hm hA (hsa (by rw [ho]; decide) (by rw [ho]; decide) (by rw [ho]; decide) (by rw [ho]; decide)) (rl_v_16 c _) (Or.inr ⟨m2, hm2, hB2, Or.inr ⟨rfl, rfl⟩⟩)
    · exact st_call SP hpl hB h hr hin hx hy hRR HB ho hm hA (hma (by rw [ho]; decide) (by rw [ho]; decide) (by rw [ho]; decide) (by rw [ho]; decide))
    · exact st_await SP hpl hB h hr hin hx hy hRR ho hm hA
    · exact st_print SP hpl hol h hr hin hx hy hRR HB ho hm hA (hsa (by rw [ho]; decide) (by rw [ho]; decide) (by rw [ho]; decide) (by rw [ho]; decide))
    · exact st_throw SP hpl hB h hr hin hx hy hRR HB ho hm hA (hma (by rw [ho]; decide) (by rw [ho]; decide) (by rw [ho]; decide) (by rw [ho]; decide))
    · exact st_ret SP hpl hB h hr hi hx hy ho (Or.inr ⟨rfl, hin, hm, hA, hma (by rw [ho]; decide) (by rw [ho]; decide) (by rw [ho]; decide) (by rw [ho]; decide), rfl⟩)
    · have hma := hma (by rw [ho]; decide) (by rw [ho]; decide) (by rw [ho]; decide) (by rw [ho]; decide)
      by_cases hv : vars (rl_vx r m) ≤ 0
      · exact st_if0 SP hpl h hr hin hx hy hRR HB ho hm hA hma hv
      · exact st_into SP hpl h hr hin hx hy hRR HB ho hm hA (Or.inl ⟨rfl, hma, hv⟩)
    · exact st_rep SP hpl h hr hin hx hy hRR HB ho hm hA (hma (by rw [ho]; decide) (by rw [ho]; decide) (by rw [ho]; decide) (by rw [ho]; decide))
    · exact st_into SP hpl h hr hin hx hy hRR HB ho hm hA (Or.inr rfl)
    · exact st_catch SP hpl h hr hin hx hy hRR HB ho hm hA
    · exact st_break SP hpl h hr hin hx hy hRR HB ho hm hA
    · exact st_end0 SP hpl h hr hin hx hy hRR HB ho hm hA
  · have : i = n := by omega
    subst this
    exact st_ret (m := 0) SP hpl hB h hr hi hx hy (SP.2.2.2.1 i (Nat.le_refl i)) (Or.inl ⟨rfl, rfl⟩)
theorem rn_run (SP : sp_ok n fn ops opB opA target handler level entry sa) (hpl : pl ≤ 16) (hol : ol ≤ 64) (hB : B < 2 ^ 29) : ∀ (M ph : Nat), ph ≤ M → ∀ (ch : List Nat) (u : SX) (v : SY), rn_RU ((nI pl), (nI sl), (nI ol), (nI n), (nI fn), sealed, ops, opB) ((nI dp), opA, target, handler, level, entry, blocks) sa pl ol n fn ops B rs ch ph u v →
    ∃ (u' : SX) (v' : SY) (ph' : Nat), rn_RU ((nI pl), (nI sl), (nI ol), (nI n), (nI fn), sealed, ops, opB) ((nI dp), opA, target, handler, level, entry, blocks) sa pl ol n fn ops B rs [] ph' u' v' ∧ (∀ (post : SX → Prop) (N k : Nat), ph < N → k + ph < 40000 → post u' → rn_xr post N (rn_hd ch) (nI k) u) ∧
      (∀ (post : SY → Prop) (N k : Nat), ph < N → k + ph < 65536 → post v' → rn_yr post N (rn_hd ch) (nI k) v) := by
  intro M
  induction M with
  | zero =>
    intro ph hph ch u v H
    cases ch with
    | nil =>
      refine ⟨u, v, ph, H, fun post N k hN hk hp => ?_, fun post N k hN hk hp => ?_⟩
      · obtain ⟨N', rfl⟩ : ∃ N', N = N' + 1 := ⟨N - 1, by omega⟩
        exact br_f (nI_ge (b := 40000) (by omega) (by decide)) (br_t (by decide) hp)
      · obtain ⟨N', rfl⟩ : ∃ N', N = N' + 1 := ⟨N - 1, by omega⟩
        exact br_f (nI_ge (b := 65536) (by omega) (by decide)) (br_t (by decide) hp)
    | cons r t =>
      exfalso
      refine rn_el (P := fun _ _ => False) H ?_
      intro c ou st val host kinds masks asleep out rem pcx slots rx cx cells vars pcy cy ry px py h
      obtain ⟨Q, ck, hc, RX, RY, hck, hph', _⟩ := h
      rw [rl_ps] at hph'
      omega
  | succ M ih =>
    intro ph hph ch u v H
    cases ch with
    | nil =>
      refine ⟨u, v, ph, H, fun post N k hN hk hp => ?_, fun post N k hN hk hp => ?_⟩
      · obtain ⟨N', rfl⟩ : ∃ N', N = N' + 1 := ⟨N - 1, by omega⟩
        exact br_f (nI_ge (b := 40000) (by omega) (by decide)) (br_t (by decide) hp)
      · obtain ⟨N', rfl⟩ : ∃ N', N = N' + 1 := ⟨N - 1, by omega⟩
        exact br_f (nI_ge (b := 65536) (by omega) (by decide)) (br_t (by decide) hp)
    | cons r t =>
      have hr : r < 2 ^ 31 := by
        refine rn_el (P := fun _ _ => r < 2 ^ 31) H ?_
        intro c ou st val host kinds masks asleep out rem pcx slots rx cx cells vars pcy cy ry px py h
        obtain ⟨Q, ck, hc, RX, RY, hck, hph', _, _, _, _, _, _, _, HG, _⟩ := h
        have := (HG.2.1 r (List.mem_cons_self ..)).1
        omega
      have HS : rn_S ((nI pl), (nI sl), (nI ol), (nI n), (nI fn), sealed, ops, opB) ((nI dp), opA, target, handler, level, entry, blocks) sa pl ol n fn ops B rs r ph u v := by
        refine rn_el (P := fun u v => rn_S ((nI pl), (nI sl), (nI ol), (nI n), (nI fn), sealed, ops, opB) ((nI dp), opA, target, handler, level, entry, blocks) sa pl ol n fn ops B rs r ph u v) H ?_
        intro c ou st val host kinds masks asleep out rem pcx slots rx cx cells vars pcy cy ry px py h
        exact st_any SP hpl hol hB h
      obtain ⟨u1, v1, ch1, ph1, m, H1, hm1, hm2, hle, WX, WY⟩ := HS
      obtain ⟨u', v', ph', H', GX, GY⟩ := ih ph1 (by omega) ch1 u1 v1 H1
      refine ⟨u', v', ph', H', fun post N k hN hk hp => ?_, fun post N k hN hk hp => ?_⟩
      · obtain ⟨N', rfl⟩ : ∃ N', N = N' + 1 := ⟨N - 1, by omega⟩
        exact br_f (nI_ge (b := 40000) (by omega) (by decide)) (br_f (nI_pos hr) (WX _ (nm_r (nI_1 k) (GX post N' (k + 1) (by omega) (by omega) hp))))
      · obtain ⟨N', rfl⟩ : ∃ N', N = N' + m := ⟨N - m, by omega⟩
        exact WY post N' k (by omega) (GY post N' (k + m) (by omega) (by omega) hp)
/-- the potential of an activation is at most 2048 -/
theorem rl_po_le {r : Nat} (SP : sp_ok n fn ops opB opA target handler level entry sa) : ∀ M p, p ≤ M → p ≤ n → rl_RR ops rx ry r (pg_stk ops p) → pt ops n (rl_cn ops rx r) (pg_stk ops p) p ≤ 2048 := by
  have hn := SP.1
  intro M
  induction M with
  | zero =>
    intro p hp hpn _
    have : p = 0 := by omega
    subst this
    show pt ops n (rl_cn ops rx r) [] 0 ≤ 2048
    rw [pt]; omega
  | succ M ih =>
    intro p hp hpn hRR
    cases hs : pg_stk ops p with
    | nil => rw [pt]; omega
    | cons e l =>
      obtain ⟨b, x⟩ := e
      have hh := pg_hd hs
      rw [hs] at hRR
      have hl := hh.1
      obtain ⟨c0, g1, g2, g3, g4, g5⟩ := sp_end hn SP.2.2.1 (show b < n by omega) hh.2.1
      have ih' := ih b (by omega) (by omega) (by rw [← hl]; exact hRR.2)
      rw [← hl] at ih'
      have hbd : pt_bd ops n l (pt_E ops n b + 1) := by
        rw [hl, ← g5]
        exact pt_bd_ok (sp_ptok hn SP.2.2.1 _ _ (by omega) rfl) (by omega) (by omega)
      have hge : p ≤ pt_E ops n b := pg_E_ge (by omega) (show (b, x) ∈ pg_stk ops p by rw [hs]; exact List.mem_cons_self ..) hpn
      have hk : ∃ k, rl_cn ops rx r b l.length = k ∧ 1 ≤ k ∧ k ≤ 4 := by
        by_cases h10 : ops b = 10
        · obtain ⟨k, k1, k4, kx, _⟩ := hRR.1 h10
          exact ⟨k, by rw [rl_cn, if_pos h10, kx]; exact nI_clamp (by omega), k1, k4⟩
        · exact ⟨1, by rw [rl_cn, if_neg h10], by omega, by omega⟩
      obtain ⟨k, hk1, hk2, hk3⟩ := hk
      have h1 := pt_in (ops := ops) (n := n) (cn := rl_cn ops rx r) (cn' := rl_cn ops rx r) (l := l) (b := b) (x := x) g1 hbd hk1 (fun _ _ _ => rfl) hk2 hk3 (by rw [hl]; exact (SP.2.1 b (by omega)).2.2.1 hh.2.1)
      have h2 := pt_fwd (ops := ops) (n := n) (cn := rl_cn ops rx r) (l := (b, x) :: l) (p := b + 1) (q := p) (by omega) (show p ≤ pt_E ops n b + 1 by omega)
      omega
end
end
section
/-! the queries -/
theorem xq_wa {px : ty_px} {Q : List qe_T} {p : Nat} (R : xq_R px [] 16 Q) (hp : p < 16) : px.2.2.2.2.2.2.1 p = nI (Q.countP (qe_at (nI p))) := by
  obtain ⟨fr, XL, rfl, hP, hf, hlf, hc, hq, hw⟩ := R
  have h := (hw p hp (by omega)).2.2.2
  rw [xq_sel, List.length_map, ← List.countP_eq_length_filter] at h
  rw [List.countP_map]
  exact h
theorem xq_qs {px : ty_px} {Q : List qe_T} (R : xq_R px [] 16 Q) : px.2.2.2.1 = nI (Q.countP (qe_at (-1))) := by
  obtain ⟨fr, XL, rfl, hP, hf, hlf, hc, hq, hw⟩ := R
  have h := hq.2.2.2
  rw [xq_sel, List.length_map, ← List.countP_eq_length_filter] at h
  rw [List.countP_map]
  exact h
section
variable {pl sl ol n fn dp c ou : Nat} {sealed : Int32} {ops opB opA target handler level entry blocks sa st val host kinds masks asleep out rem pcx slots rx cx cells vars pcy cy ry : Nat → Int32} {px : ty_px} {py : ty_py} {nE F B rs ph : Nat} {ch : List Nat}
theorem xw_ex0 {post : Int32 → Prop} {p : Int32} (hp : p < 0 ∨ nI c ≤ p) (h : post 0) : wpX_exists post (mk_X ((nI pl), (nI sl), (nI ol), (nI n), (nI fn), sealed, ops, opB) ((nI dp), opA, target, handler, level, entry, blocks) ((nI c), (nI ou), st, val, host, kinds, masks, asleep, out) (rem, pcx, slots, rx, cx, cells) px) p := by
  by_cases h0 : p < 0
  · exact br_t h0 h
  · exact br_f h0 (br_t (hp.resolve_left h0) h)
theorem xw_ex1 {post : Int32 → Prop} {j : Nat} (hj : j < c) (hc : c < 2 ^ 31) (h : post 1) : wpX_exists post (mk_X ((nI pl), (nI sl), (nI ol), (nI n), (nI fn), sealed, ops, opB) ((nI dp), opA, target, handler, level, entry, blocks) ((nI c), (nI ou), st, val, host, kinds, masks, asleep, out) (rem, pcx, slots, rx, cx, cells) px) (nI j) :=
  br_f (nI_pos (by omega)) (br_f (nI_ge hj hc) h)
theorem vc_state {P : Int32 → Int32 → Prop} (hpl : pl ≤ 16) (h : (rn pl ol (nE) F ops B rs ch ph c ou st val host masks asleep rem pcx slots rx cx cells vars pcy cy ry px py)) (hP : ∀ x, P x x) (p : Int32) : wpX_state (fun r => wpY_state (fun r' => P r' r) (mk_Y ((nI pl), (nI sl), (nI ol), (nI n), (nI fn), sealed, ops, opB) sa ((nI c), (nI ou), st, val, host, kinds, masks, asleep, out) (vars, pcy, cy, ry) py) p) (mk_X ((nI pl), (nI sl), (nI ol), (nI n), (nI fn), sealed, ops, opB) ((nI dp), opA, target, handler, level, entry, blocks) ((nI c), (nI ou), st, val, host, kinds, masks, asleep, out) (rem, pcx, slots, rx, cx, cells) px) p := by
  obtain ⟨Q, ck, hc, _⟩ := h
  unfold wpX_state
  rcases pk_ix p (n := c) (by omega) with h0 | h0 | ⟨j, hj, rfl⟩
  · exact xw_ex0 (Or.inl h0) (br_t rfl (br_t h0 (hP _)))
  · have h1 : ¬ p < 0 := fun z => by
      have := Int32.lt_of_le_of_lt h0 z
      exact nI_pos (by omega) this
    exact xw_ex0 (Or.inr h0) (br_t rfl (br_f h1 (br_f (Int32.not_lt.mpr h0) (hP _))))
  · have hin : vp_in (nI j) 16 := vp_in_nI (by omega) (by omega)
    exact xw_ex1 hj (by omega) (br_f (by decide) ⟨hin, br_f (nI_pos (by omega)) (br_t (nI_lt hj (by omega)) ⟨hin, hP _⟩)⟩)
theorem vc_value {P : Int32 → Int32 → Prop} (hpl : pl ≤ 16) (h : (rn pl ol (nE) F ops B rs ch ph c ou st val host masks asleep rem pcx slots rx cx cells vars pcy cy ry px py)) (hP : ∀ x, P x x) (p : Int32) : wpX_value (fun r => wpY_value (fun r' => P r' r) (mk_Y ((nI pl), (nI sl), (nI ol), (nI n), (nI fn), sealed, ops, opB) sa ((nI c), (nI ou), st, val, host, kinds, masks, asleep, out) (vars, pcy, cy, ry) py) p) (mk_X ((nI pl), (nI sl), (nI ol), (nI n), (nI fn), sealed, ops, opB) ((nI dp), opA, target, handler, level, entry, blocks) ((nI c), (nI ou), st, val, host, kinds, masks, asleep, out) (rem, pcx, slots, rx, cx, cells) px) p := by
  obtain ⟨Q, ck, hc, _⟩ := h
  unfold wpX_value
  rcases pk_ix p (n := c) (by omega) with h0 | h0 | ⟨j, hj, rfl⟩
  · exact xw_ex0 (Or.inl h0) (br_t rfl (br_t h0 (hP _)))
  · have h1 : ¬ p < 0 := fun z => by
      have := Int32.lt_of_le_of_lt h0 z
      exact nI_pos (by omega) this
    exact xw_ex0 (Or.inr h0) (br_t rfl (br_f h1 (br_t h0 (hP _))))
  · have hin : vp_in (nI j) 16 := vp_in_nI (by omega) (by omega)
    refine xw_ex1 hj (by omega) (br_f (by decide) ⟨hin, ?_⟩)
    exact br_c (fun z => br_f (nI_pos (by omega)) (br_f (nI_ge hj (by omega)) ⟨hin, br_t z (hP _)⟩)) (fun z => ⟨hin, br_f (nI_pos (by omega)) (br_f (nI_ge hj (by omega)) ⟨hin, br_f z ⟨hin, hP _⟩⟩)⟩)
theorem vc_reactions {P : Int32 → Int32 → Prop} (hpl : pl ≤ 16) (h : (rn pl ol (nE) F ops B rs ch ph c ou st val host masks asleep rem pcx slots rx cx cells vars pcy cy ry px py)) (hP : ∀ x, P x x) (p : Int32) : wpX_reactions (fun r => wpY_reactions (fun r' => P r' r) (mk_Y ((nI pl), (nI sl), (nI ol), (nI n), (nI fn), sealed, ops, opB) sa ((nI c), (nI ou), st, val, host, kinds, masks, asleep, out) (vars, pcy, cy, ry) py) p) (mk_X ((nI pl), (nI sl), (nI ol), (nI n), (nI fn), sealed, ops, opB) ((nI dp), opA, target, handler, level, entry, blocks) ((nI c), (nI ou), st, val, host, kinds, masks, asleep, out) (rem, pcx, slots, rx, cx, cells) px) p := by
  obtain ⟨Q, ck, hc, RX, RY, _⟩ := h
  unfold wpX_reactions
  rcases pk_ix p (n := c) (by omega) with h0 | h0 | ⟨j, hj, rfl⟩
  · exact xw_ex0 (Or.inl h0) (br_t rfl (br_t h0 (hP _)))
  · have h1 : ¬ p < 0 := fun z => by
      have := Int32.lt_of_le_of_lt h0 z
      exact nI_pos (by omega) this
    exact xw_ex0 (Or.inr h0) (br_t rfl (br_f h1 (br_f (Int32.not_lt.mpr h0) (hP _))))
  · have hin : vp_in (nI j) 16 := vp_in_nI (by omega) (by omega)
    refine xw_ex1 hj (by omega) (br_f (by decide) ⟨hin, br_f (nI_pos (by omega)) (br_t (nI_lt hj (by omega)) (yw_rec RY (nI j) ?_))⟩)
    have e : px.2.2.2.2.2.2.1 (nI j).toNatClampNeg = nI (Q.countP (qe_at (nI j))) := by rw [nI_clamp (by omega)]; exact xq_wa RX (by omega)
    show P _ (px.2.2.2.2.2.2.1 (nI j).toNatClampNeg)
    rw [e]; exact hP _
theorem vc_line {P : Int32 → Int32 → Prop} (hpl : pl ≤ 16) (h : (rn pl ol (nE) F ops B rs ch ph c ou st val host masks asleep rem pcx slots rx cx cells vars pcy cy ry px py)) (hP : ∀ x, P x x) (p : Int32) : wpX_line (fun r => wpY_line (fun r' => P r' r) (mk_Y ((nI pl), (nI sl), (nI ol), (nI n), (nI fn), sealed, ops, opB) sa ((nI c), (nI ou), st, val, host, kinds, masks, asleep, out) (vars, pcy, cy, ry) py) p) (mk_X ((nI pl), (nI sl), (nI ol), (nI n), (nI fn), sealed, ops, opB) ((nI dp), opA, target, handler, level, entry, blocks) ((nI c), (nI ou), st, val, host, kinds, masks, asleep, out) (rem, pcx, slots, rx, cx, cells) px) p := by
  obtain ⟨Q, ck, hc, RX, RY, hck, hph, HA, HB, HC, HD, HE, HF, HZ, HG, HH, HM⟩ := h
  unfold wpX_line
  rcases pk_ix p (n := c) (by omega) with h0 | h0 | ⟨j, hj, rfl⟩
  · exact xw_ex0 (Or.inl h0) (br_t rfl (br_t h0 (hP _)))
  · have h1 : ¬ p < 0 := fun z => by
      have := Int32.lt_of_le_of_lt h0 z
      exact nI_pos (by omega) this
    exact xw_ex0 (Or.inr h0) (br_t rfl (br_f h1 (br_t h0 (hP _))))
  · have hin : vp_in (nI j) 16 := vp_in_nI (by omega) (by omega)
    have e : (nI j).toNatClampNeg = j := nI_clamp (by omega)
    refine xw_ex1 hj (by omega) (br_f (by decide) ⟨hin, ?_⟩)
    refine br_c (fun z => br_f (nI_pos (by omega)) (br_f (nI_ge hj (by omega)) ⟨hin, br_t z (hP _)⟩)) (fun z => ⟨hin, br_f (nI_pos (by omega)) (br_f (nI_ge hj (by omega)) ⟨hin, br_f z ⟨hin, ?_⟩⟩)⟩)
    have z' : asleep j ≠ 0 := by
      have : ¬ asleep (nI j).toNatClampNeg = 0 := z
      rw [e] at this; exact this
    obtain ⟨i, hi, h1, h2, _⟩ := HH.1 j (by omega) z'
    show P (pcy (nI j).toNatClampNeg - 1) (pcx (nI j).toNatClampNeg)
    rw [e, h1, h2, nI_pred]
    exact hP _
theorem vc_slot {P : Int32 → Int32 → Prop} (hpl : pl ≤ 16) (h : (rn pl ol (nE) F ops B rs ch ph c ou st val host masks asleep rem pcx slots rx cx cells vars pcy cy ry px py)) (hP : ∀ x, P x x) (p i : Int32) : wpX_slot (fun r => wpY_slot (fun r' => P r' r) (mk_Y ((nI pl), (nI sl), (nI ol), (nI n), (nI fn), sealed, ops, opB) sa ((nI c), (nI ou), st, val, host, kinds, masks, asleep, out) (vars, pcy, cy, ry) py) p i) (mk_X ((nI pl), (nI sl), (nI ol), (nI n), (nI fn), sealed, ops, opB) ((nI dp), opA, target, handler, level, entry, blocks) ((nI c), (nI ou), st, val, host, kinds, masks, asleep, out) (rem, pcx, slots, rx, cx, cells) px) p i := by
  obtain ⟨Q, ck, hc, RX, RY, hck, hph, HA, HB, HC, HD, HE, HF, HZ, HG, HH, HM⟩ := h
  by_cases hi0 : i < 0
  · have h4 : i < 4 := Int32.lt_trans hi0 (by decide)
    exact br_t hi0 (br_t h4 (br_t hi0 (hP _)))
  · obtain ⟨m, hm, rfl⟩ := nI_of hi0
    by_cases h7 : m ≤ 7
    · by_cases h4 : m < 4
      · refine br_f hi0 (br_t (nI_le (b := 7) h7 (by decide)) (br_t (nI_lt (b := 4) h4 (by decide)) ?_))
        rcases pk_ix p (n := c) (by omega) with h0 | h0 | ⟨j, hj, rfl⟩
        · exact xw_ex0 (Or.inl h0) (br_t rfl (br_t (nI_lt (b := 4) h4 (by decide)) (br_f hi0 (br_f (nI_nlt (b := m) (a := 3) (by omega) (by decide)) (br_t h0 (hP _))))))
        · have h1 : ¬ p < 0 := fun z => by
            have := Int32.lt_of_le_of_lt h0 z
            exact nI_pos (by omega) this
          exact xw_ex0 (Or.inr h0) (br_t rfl (br_t (nI_lt (b := 4) h4 (by decide)) (br_f hi0 (br_f (nI_nlt (b := m) (a := 3) (by omega) (by decide)) (br_f h1 (br_t h0 (hP _)))))))
        · have hin : vp_in (nI j) 16 := vp_in_nI (by omega) (by omega)
          have e4 : (nI j * 4 + nI m).toNatClampNeg = 4 * j + m := by rw [wk_i4]; exact nI_clamp (by omega)
          have h64 : vp_in (nI j * 4 + nI m) 64 := by rw [wk_i4]; exact vp_in_nI (by omega) (by omega)
          have h68 : vp_in (nI j * 4 + nI m) 68 := by rw [wk_i4]; exact vp_in_nI (by omega) (by omega)
          refine xw_ex1 hj (by omega) (br_f (by decide) ⟨hin, ?_⟩)
          refine br_c (fun z => br_t (nI_lt (b := 4) h4 (by decide)) (br_f hi0 (br_f (nI_nlt (b := m) (a := 3) (by omega) (by decide)) (br_f (nI_pos (by omega)) (br_f (nI_ge hj (by omega)) ⟨hin, br_t z (hP _)⟩))))) (fun z => ⟨h64, br_t (nI_lt (b := 4) h4 (by decide)) (br_f hi0 (br_f (nI_nlt (b := m) (a := 3) (by omega) (by decide)) (br_f (nI_pos (by omega)) (br_f (nI_ge hj (by omega)) ⟨hin, br_f z ⟨h68, ?_⟩⟩))))⟩)
          show P (vars (nI j * 4 + nI m).toNatClampNeg) (slots (nI j * 4 + nI m).toNatClampNeg)
          rw [e4, HB.2.1 _ (by omega)]
          exact hP _
      · have e1 : (nI m - 4).toNatClampNeg = m - 4 := by rw [show nI m - 4 = nI (m - 4) from pk_sub (b := 4) (by omega)]; exact nI_clamp (by omega)
        have hin4 : vp_in (nI m - 4) 4 := by rw [show nI m - 4 = nI (m - 4) from pk_sub (b := 4) (by omega)]; exact vp_in_nI (by omega) (by omega)
        have e2 : (60 + nI m).toNatClampNeg = 60 + m := by rw [wk_6]; exact nI_clamp (by omega)
        have hin6 : vp_in (60 + nI m) 68 := by rw [wk_6]; exact vp_in_nI (by omega) (by omega)
        refine br_f hi0 (br_t (nI_le (b := 7) h7 (by decide)) (br_f (nI_nlt (b := 4) (by omega) (by omega)) ⟨hin4, br_f (nI_nlt (b := 4) (by omega) (by omega)) (br_f (nI_nlt (b := m) (a := 7) (by omega) (by decide)) ⟨hin6, ?_⟩)⟩))
        show P (vars (60 + nI m).toNatClampNeg) (cells (nI m - 4).toNatClampNeg)
        rw [e1, e2, HB.2.2 _ (by omega), show 64 + (m - 4) = 60 + m by omega]
        exact hP _
    · have h4 : ¬ nI m < 4 := nI_nlt (b := 4) (by omega) hm
      have h7' : (7 : Int32) < nI m := nI_lt (a := 7) (by omega) hm
      have h3' : (3 : Int32) < nI m := nI_lt (a := 3) (by omega) hm
      exact br_f hi0 (br_f (Int32.not_le.mpr h7') (br_f h4 (br_t h7' (br_f hi0 (br_t h3' (hP _))))))
theorem vc_queued {P : Int32 → Int32 → Prop} (h : (rn pl ol (nE) F ops B rs ch ph c ou st val host masks asleep rem pcx slots rx cx cells vars pcy cy ry px py)) (hP : ∀ x, P x x) : wpX_queued (fun r => wpY_queued (fun r' => P r' r) (mk_Y ((nI pl), (nI sl), (nI ol), (nI n), (nI fn), sealed, ops, opB) sa ((nI c), (nI ou), st, val, host, kinds, masks, asleep, out) (vars, pcy, cy, ry) py)) (mk_X ((nI pl), (nI sl), (nI ol), (nI n), (nI fn), sealed, ops, opB) ((nI dp), opA, target, handler, level, entry, blocks) ((nI c), (nI ou), st, val, host, kinds, masks, asleep, out) (rem, pcx, slots, rx, cx, cells) px) := by
  obtain ⟨Q, ck, hc, RX, RY, _⟩ := h
  have e := xq_qs RX
  show wpY_queued (fun r' => P r' px.2.2.2.1) (mk_Y ((nI pl), (nI sl), (nI ol), (nI n), (nI fn), sealed, ops, opB) sa ((nI c), (nI ou), st, val, host, kinds, masks, asleep, out) (vars, pcy, cy, ry) py)
  rw [e]
  exact yw_rec RY (-1) (hP _)
theorem vc_printed {P : Int32 → Int32 → Prop} (hP : ∀ x, P x x) : wpX_printed (fun r => wpY_printed (fun r' => P r' r) (mk_Y ((nI pl), (nI sl), (nI ol), (nI n), (nI fn), sealed, ops, opB) sa ((nI c), (nI ou), st, val, host, kinds, masks, asleep, out) (vars, pcy, cy, ry) py)) (mk_X ((nI pl), (nI sl), (nI ol), (nI n), (nI fn), sealed, ops, opB) ((nI dp), opA, target, handler, level, entry, blocks) ((nI c), (nI ou), st, val, host, kinds, masks, asleep, out) (rem, pcx, slots, rx, cx, cells) px) := hP _
theorem vc_print {P : Int32 → Int32 → Prop} (hol : ol ≤ 64) (h : (rn pl ol (nE) F ops B rs ch ph c ou st val host masks asleep rem pcx slots rx cx cells vars pcy cy ry px py)) (hP : ∀ x, P x x) (p : Int32) : wpX_print (fun r => wpY_print (fun r' => P r' r) (mk_Y ((nI pl), (nI sl), (nI ol), (nI n), (nI fn), sealed, ops, opB) sa ((nI c), (nI ou), st, val, host, kinds, masks, asleep, out) (vars, pcy, cy, ry) py) p) (mk_X ((nI pl), (nI sl), (nI ol), (nI n), (nI fn), sealed, ops, opB) ((nI dp), opA, target, handler, level, entry, blocks) ((nI c), (nI ou), st, val, host, kinds, masks, asleep, out) (rem, pcx, slots, rx, cx, cells) px) p := by
  obtain ⟨Q, ck, hc, _⟩ := h
  rcases pk_ix p (n := ou) (by omega) with h0 | h0 | ⟨j, hj, rfl⟩
  · exact br_t h0 (br_t h0 (hP _))
  · have h1 : ¬ p < 0 := fun z => by
      have := Int32.lt_of_le_of_lt h0 z
      exact nI_pos (by omega) this
    exact br_f h1 (br_t h0 (br_f h1 (br_f (Int32.not_lt.mpr h0) (hP _))))
  · have hin : vp_in (nI j) 64 := vp_in_nI (by omega) (by omega)
    exact br_f (nI_pos (by omega)) (br_f (nI_ge hj (by omega)) ⟨hin, br_f (nI_pos (by omega)) (br_t (nI_lt hj (by omega)) ⟨hin, hP _⟩)⟩)
end
end
section
/-! newPromise, settle, then -/
section
variable {pl sl ol n fn dp c ou : Nat} {sealed : Int32} {ops opB opA target handler level entry blocks sa st val host kinds masks asleep out rem pcx slots rx cx cells vars pcy cy ry : Nat → Int32} {px : ty_px} {py : ty_py} {nE F B rs ph : Nat}
theorem rn_up {B' ph' : Nat} (h : (rn pl ol (nE) F ops B rs ([]) ph c ou st val host masks asleep rem pcx slots rx cx cells vars pcy cy ry px py)) (hB : B ≤ B') (hph : 32800 ≤ ph') : (rn pl ol (nE) F ops (B') rs ([]) (ph') c ou st val host masks asleep rem pcx slots rx cx cells vars pcy cy ry px py) := by
  obtain ⟨Q, ck, hc, RX, RY, hck, hph0, H⟩ := h
  exact ⟨Q, ck, hc, RX, RY, by omega, by rw [rl_ps]; omega, H⟩
theorem vc_newPromise {P : Int32 → Int32 → SX → SY → Prop} (hpl : pl ≤ 16) (h : (rn pl ol (nE) F ops B (16) ([]) (32800) c ou st val host masks asleep rem pcx slots rx cx cells vars pcy cy ry px py)) (hP : ∀ x u' v', rn_RU ((nI pl), (nI sl), (nI ol), (nI n), (nI fn), sealed, ops, opB) ((nI dp), opA, target, handler, level, entry, blocks) sa pl ol nE F ops (B + 800) 16 [] 32800 u' v' → P x x u' v') :
    wpX_newPromise (fun r u' => wpY_newPromise (fun r' v' => P r' r u' v') (mk_Y ((nI pl), (nI sl), (nI ol), (nI n), (nI fn), sealed, ops, opB) sa ((nI c), (nI ou), st, val, host, kinds, masks, asleep, out) (vars, pcy, cy, ry) py)) (mk_X ((nI pl), (nI sl), (nI ol), (nI n), (nI fn), sealed, ops, opB) ((nI dp), opA, target, handler, level, entry, blocks) ((nI c), (nI ou), st, val, host, kinds, masks, asleep, out) (rem, pcx, slots, rx, cx, cells) px) := by
  have h0 := h
  obtain ⟨Q, ck, hc, RX, RY, hck, hph, HA, HB, HC, HD, HE, HF, HZ, HG, HH, HM⟩ := h0
  by_cases hfull : c = pl
  · exact br_t (by rw [hfull]) (br_f (nI_nlt (by omega) (by omega)) (hP _ _ _ (rn_mk (rn_up h (by omega) (by omega)))))
  · have hncpl : ¬ nI c = nI pl := fun z => hfull ((nI_eq (by omega) (by omega)).mp z)
    have hin : vp_in (nI c) 16 := vp_in_nI (by omega) (by omega)
    have e1 : upd host (nI c).toNatClampNeg (vp_nar .boolean 1) = upd host c 1 := by rw [nI_clamp (by omega)]; rfl
    have hQc : ∀ e ∈ Q, e.1 ≠ nI c := fun e he z => by
      rcases (HC e he).2.1 with h | ⟨p, hp, h⟩
      · exact xq_m1 c (by omega) (h.symm.trans z)
      · have := xq_pI p (by omega) c (by omega) (h.symm.trans z); omega
    suffices hU : rn_RU ((nI pl), (nI sl), (nI ol), (nI n), (nI fn), sealed, ops, opB) ((nI dp), opA, target, handler, level, entry, blocks) sa pl ol nE F ops (B + 800) 16 [] 32800 (mk_X ((nI pl), (nI sl), (nI ol), (nI n), (nI fn), sealed, ops, opB) ((nI dp), opA, target, handler, level, entry, blocks) ((nI (c + 1)), (nI ou), st, val, (upd host c 1), kinds, masks, asleep, out) (rem, pcx, slots, rx, (upd cx c (-1)), cells) ((px.1, px.2.1, px.2.2.1, px.2.2.2.1, upd px.2.2.2.2.1 c (-1), upd px.2.2.2.2.2.1 c (-1), px.2.2.2.2.2.2))) (mk_Y ((nI pl), (nI sl), (nI ol), (nI n), (nI fn), sealed, ops, opB) sa ((nI (c + 1)), (nI ou), st, val, (upd host c 1), kinds, masks, asleep, out) (vars, pcy, cy, ry) py) by
      exact br_f hncpl (xr_make (by omega) ⟨hin, nm_r e1 (br_t (nI_lt (by omega) (by omega)) ⟨hin, nm_r e1 (nm_r (nI_1 c) (hP _ _ _ hU))⟩)⟩)
    refine rn_mk ⟨Q, ck, ⟨by omega, hc.2.1, ⟨Or.inl rfl, Nat.zero_le _⟩⟩, xw_make RX (by omega) hQc, RY, ?_, ?_, rl_A_mono (by omega) HA, rl_B_mono (by omega) HB, rl_C_mono (by omega) (Nat.le_refl _) HC, HD, fun p hp => ?_, HF, fun p hp hpc => ?_, ⟨List.nodup_nil, fun q hq => (by cases hq), trivial, trivial, fun p hp ha => by
      have hpc : p ≠ c := fun e => ha (e ▸ (HZ c (by omega) (Nat.le_refl c)).2)
      rw [pk_un hpc]; exact HG.2.2.2.2 p hp ha⟩, ⟨HH.1, trivial⟩, rl_M_mono (by omega) HM⟩
    · rw [List.length_nil] at hck ⊢; omega
    · rw [rl_ps]; omega
    · have h1 := HE p hp
      by_cases hpc : p = c
      · subst hpc
        have h0 : rl_cQ Q (nI p) = 0 := List.countP_eq_zero.mpr (fun e he => by
          obtain ⟨o, ho, ho'⟩ := (HC e he).1
          simp only [beq_iff_eq]
          intro z
          have := xq_pI o (by omega) p hp (ho'.symm.trans z); omega)
        rw [if_neg (show ¬ p = 16 % 17 by omega), h0, rl_ic_no (by simp), rl_hp, rl_mx]
        split <;> split <;> omega
      · have : rl_hp (upd host c 1) st p = rl_hp host st p := by rw [rl_hp, rl_hp, pk_un hpc]
        rw [this]; exact h1
    · rw [pk_un (by omega)]; exact HZ p hp (by omega)
theorem av_all (hc : c ≤ 16) (V : Int32) : ∃ x, rl_v c x ∧ (∀ post : Int32 → Prop, post x → wpX_asValue post (mk_X ((nI pl), (nI sl), (nI ol), (nI n), (nI fn), sealed, ops, opB) ((nI dp), opA, target, handler, level, entry, blocks) ((nI c), (nI ou), st, val, host, kinds, masks, asleep, out) (rem, pcx, slots, rx, cx, cells) px) V) ∧ (∀ post : Int32 → Prop, post x → wpY_read post (mk_Y ((nI pl), (nI sl), (nI ol), (nI n), (nI fn), sealed, ops, opB) sa ((nI c), (nI ou), st, val, host, kinds, masks, asleep, out) (vars, pcy, cy, ry) py) V) := by
  by_cases h : V < 65536
  · exact ⟨V.toInt16.toInt32, rl_v_16 c V, fun post hp => br_t h hp, fun post hp => br_t h hp⟩
  · have h' := h
    rw [Int32.lt_iff_toInt_lt, show (65536 : Int32).toInt = 65536 from by decide] at h'
    obtain ⟨j, hj, rfl⟩ := nI_of (x := V) (by rw [Int32.lt_iff_toInt_lt, show (0 : Int32).toInt = 0 from by decide]; omega)
    rw [nI_toInt hj] at h'
    have e1 : nI j - 65536 = nI (j - 65536) := pk_sub (a := j) (b := 65536) (by omega)
    by_cases hq : j < 65536 + c
    · have a1 : ¬ nI c ≤ nI j - 65536 := by rw [e1]; exact nI_ge (by omega) (by omega)
      have a2 : ¬ 65536 + nI c ≤ nI j := by rw [wk_ref]; exact nI_ge hq (by omega)
      exact ⟨nI j, by rw [rl_v, nI_toInt hj]; omega, fun post hp => br_f h (br_f a1 hp), fun post hp => br_f h (br_f a2 hp)⟩
    · have a1 : nI c ≤ nI j - 65536 := by rw [e1]; exact nI_le (by omega) (by omega)
      have a2 : 65536 + nI c ≤ nI j := by rw [wk_ref]; exact nI_le (by omega) (by omega)
      exact ⟨(nI j).toInt16.toInt32, rl_v_16 c _, fun post hp => br_f h (br_t a1 hp), fun post hp => br_f h (br_t a2 hp)⟩
theorem vc_settle {P : Int32 → Int32 → SX → SY → Prop} (hpl : pl ≤ 16) (hB : B + 800 < 2 ^ 29) (h : (rn pl ol (nE) F ops B (16) ([]) (32800) c ou st val host masks asleep rem pcx slots rx cx cells vars pcy cy ry px py)) (hP : ∀ x u' v', rn_RU ((nI pl), (nI sl), (nI ol), (nI n), (nI fn), sealed, ops, opB) ((nI dp), opA, target, handler, level, entry, blocks) sa pl ol nE F ops (B + 800) 16 [] 32800 u' v' → P x x u' v') (p q V : Int32) :
    wpX_settle (fun r u' => wpY_settle (fun r' v' => P r' r u' v') (mk_Y ((nI pl), (nI sl), (nI ol), (nI n), (nI fn), sealed, ops, opB) sa ((nI c), (nI ou), st, val, host, kinds, masks, asleep, out) (vars, pcy, cy, ry) py) p q V) (mk_X ((nI pl), (nI sl), (nI ol), (nI n), (nI fn), sealed, ops, opB) ((nI dp), opA, target, handler, level, entry, blocks) ((nI c), (nI ou), st, val, host, kinds, masks, asleep, out) (rem, pcx, slots, rx, cx, cells) px) p q V := by
  have hU : rn_RU ((nI pl), (nI sl), (nI ol), (nI n), (nI fn), sealed, ops, opB) ((nI dp), opA, target, handler, level, entry, blocks) sa pl ol nE F ops (B + 800) 16 [] 32800 (mk_X ((nI pl), (nI sl), (nI ol), (nI n), (nI fn), sealed, ops, opB) ((nI dp), opA, target, handler, level, entry, blocks) ((nI c), (nI ou), st, val, host, kinds, masks, asleep, out) (rem, pcx, slots, rx, cx, cells) px) (mk_Y ((nI pl), (nI sl), (nI ol), (nI n), (nI fn), sealed, ops, opB) sa ((nI c), (nI ou), st, val, host, kinds, masks, asleep, out) (vars, pcy, cy, ry) py) := rn_mk (rn_up h (by omega) (by omega))
  obtain ⟨Q, ck, hc, RX, RY, hck, hph, HA, HB, HC, HD, HE, HF, HZ, HG, HH, HM⟩ := h
  unfold wpX_settle
  rcases pk_ix p (n := c) (by omega) with h0 | h0 | ⟨j, hj, rfl⟩
  · exact xw_ex0 (Or.inl h0) (br_t rfl (br_t h0 (hP _ _ _ hU)))
  · have h1 : ¬ p < 0 := fun z => by
      have := Int32.lt_of_le_of_lt h0 z
      exact nI_pos (by omega) this
    exact xw_ex0 (Or.inr h0) (br_t rfl (br_f h1 (br_t h0 (hP _ _ _ hU))))
  · have hin : vp_in (nI j) 16 := vp_in_nI (by omega) (by omega)
    have e : (nI j).toNatClampNeg = j := nI_clamp (by omega)
    refine xw_ex1 hj (by omega) (br_f (by decide) ⟨hin, ?_⟩)
    by_cases hh : host j = 0
    · have hh' : host (nI j).toNatClampNeg = 0 := by rw [e]; exact hh
      exact br_t hh' (br_f (nI_pos (by omega)) (br_f (nI_ge hj (by omega)) ⟨hin, br_t hh' (hP _ _ _ hU)⟩))
    · have hh' : ¬ host (nI j).toNatClampNeg = 0 := by rw [e]; exact hh
      refine br_f hh' ?_
      -- the two ways in
      have K : (q = 0 ∨ q = 1) → wX_settle_30 (fun r u' => wpY_settle (fun r' v' => P r' r u' v') (mk_Y ((nI pl), (nI sl), (nI ol), (nI n), (nI fn), sealed, ops, opB) sa ((nI c), (nI ou), st, val, host, kinds, masks, asleep, out) (vars, pcy, cy, ry) py) (nI j) q V) (nI j) q V 0 1 2 3 4 (nI pl) (nI sl) (nI ol) (nI n) (nI fn) (nI dp) sealed (nI c) px.1 px.2.1 px.2.2.1 px.2.2.2.1 (nI ou) ops opA opB target handler level entry blocks st val px.2.2.2.2.1 px.2.2.2.2.2.1 px.2.2.2.2.2.2.1 host kinds masks rem pcx slots rx cx asleep cells px.2.2.2.2.2.2.2.1 px.2.2.2.2.2.2.2.2.1 px.2.2.2.2.2.2.2.2.2.1 px.2.2.2.2.2.2.2.2.2.2.1 px.2.2.2.2.2.2.2.2.2.2.2.1 px.2.2.2.2.2.2.2.2.2.2.2.2.1 px.2.2.2.2.2.2.2.2.2.2.2.2.2 out := by
        intro hq
        have YI : ∀ post : Int32 → SY → Prop, wY_settle_32 post (nI j) q V (nI pl) (nI sl) (nI ol) (nI n) (nI fn) (nI c) (nI ou) py.1 sealed ops sa opB out vars pcy cy ry st val kinds masks host asleep py.2.1 py.2.2.1 py.2.2.2.1 py.2.2.2.2.1 py.2.2.2.2.2.1 py.2.2.2.2.2.2.1 py.2.2.2.2.2.2.2.1 py.2.2.2.2.2.2.2.2 → wpY_settle post (mk_Y ((nI pl), (nI sl), (nI ol), (nI n), (nI fn), sealed, ops, opB) sa ((nI c), (nI ou), st, val, host, kinds, masks, asleep, out) (vars, pcy, cy, ry) py) (nI j) q V := fun post hp => by
          refine br_f (nI_pos (by omega)) (br_f (nI_ge hj (by omega)) ⟨hin, br_f hh' ?_⟩)
          by_cases hq0 : q = 0
          · exact br_t hq0 hp
          · exact br_f hq0 (br_t (hq.resolve_left hq0) hp)
        refine And.intro hin ?_
        by_cases hst : st j = 0
        · have hst' : st (nI j).toNatClampNeg = 0 := by rw [e]; exact hst
          refine br_t hst' ?_
          obtain ⟨x, hx, WX, WY⟩ := av_all (pl := pl) (sl := sl) (ol := ol) (n := n) (fn := fn) (dp := dp) (ou := ou) (sealed := sealed) (ops := ops) (opB := opB) (opA := opA) (target := target) (handler := handler) (level := level) (entry := entry) (blocks := blocks) (sa := sa) (st := st) (val := val) (host := host) (kinds := kinds) (masks := masks) (asleep := asleep) (out := out) (rem := rem) (pcx := pcx) (slots := slots) (rx := rx) (cx := cx) (cells := cells) (vars := vars) (pcy := pcy) (cy := cy) (ry := ry) (px := px) (py := py) (show c ≤ 16 by omega) V
          refine WX _ ?_
          have hQ := rl_len (by omega) HC HE
          have hE1 := HE j (by omega)
          rw [rl_ic_no (by simp), rl_hp, if_pos ⟨hh, hst⟩] at hE1
          rw [List.length_nil] at hck
          by_cases hq0 : q = 0
          · obtain ⟨px1, RX1, VX⟩ := xw_res RX (by omega) (show j < 16 by omega) x
            obtain ⟨py1, ck1, hck1, RY1, VY⟩ := yw_res RY (by omega) (by omega) (show j < 16 by omega) x
            have HE2 : rl_E 16 [j] host (upd st j 1) Q := fun p hp => by
              by_cases hpj : p = j
              · subst hpj
                rw [rl_ic_hd, rl_hp_ne (by rw [pk_us]; decide)]; omega
              · have h3 := HE p hp
                rw [rl_ic_no (by simp)] at h3
                rw [rl_hp_un hpj, rl_ic_no (by simpa using hpj)]; exact h3
            obtain ⟨HA1, HC1, HD1, HE1, HF1⟩ := rl_res (st := upd st j 1) (val := val) hj (by omega) (by simp) hx (fun p hp => ⟨by rw [upd]; split; exact Or.inr (Or.inl rfl); exact (HA p hp).1, (HA p hp).2⟩) HC HD HE2 HF
            have est : rs_st (upd st j 1) j x = rs_st st j x := by rw [rs_st, rs_st, wk_uu, wk_uu, wk_uu]
            rw [est] at HA1 HE1
            refine br_t hq0 (VX ((nI pl), (nI sl), (nI ol), (nI n), (nI fn), sealed, ops, opB) ((nI dp), opA, target, handler, level, entry, blocks) (nI c) (nI ou) st val host kinds masks asleep out (rem, pcx, slots, rx, cx, cells) _ ⟨hin, YI _ (And.intro hin (br_t hst' (WY _ (br_t hq0 (VY ((nI pl), (nI sl), (nI ol), (nI n), (nI fn), sealed, ops, opB) sa (nI c) (nI ou) st val host kinds masks asleep out (vars, pcy, cy, ry) _ ⟨hin, hP _ _ _ (rn_mk ?_)⟩)))))⟩)
            exact ⟨_, ck1, hc, RX1, RY1, by rw [List.length_nil]; omega, by rw [rl_ps]; omega, HA1, HB, HC1, HD1, HE1, HF1, HZ, HG, HH, HM⟩
          · obtain ⟨px1, RX1, VX⟩ := xw_conc RX (show j < 16 by omega) 3 x
            obtain ⟨py1, ck1, hck1, RY1, VY⟩ := yw_fin RY (show j < 16 by omega) (by omega) (by omega) 3 x
            refine br_f hq0 (VX ((nI pl), (nI sl), (nI ol), (nI n), (nI fn), sealed, ops, opB) ((nI dp), opA, target, handler, level, entry, blocks) (nI c) (nI ou) st val host kinds masks asleep out (rem, pcx, slots, rx, cx, cells) _ ⟨hin, YI _ (And.intro hin (br_t hst' (WY _ (br_f hq0 (VY ((nI pl), (nI sl), (nI ol), (nI n), (nI fn), sealed, ops, opB) sa (nI c) (nI ou) st val host kinds masks asleep out (vars, pcy, cy, ry) _ ⟨hin, hP _ _ _ (rn_mk ?_)⟩)))))⟩)
            refine ⟨_, ck1, hc, RX1, RY1, by rw [List.length_nil]; omega, by rw [rl_ps]; omega, rl_A_upd (by decide) hx HA, HB, rl_conc_C HC hx (by decide), (fun d hd => by rw [rl_conc_cK]; exact HD d hd), (fun p hp => ?_), (fun p hp => by rw [rl_conc_cK]; exact HF p hp), HZ, HG, HH, HM⟩
            rw [rl_conc_cQ]
            have h3 := HE p hp
            by_cases hpj : p = j
            · subst hpj
              rw [rl_hp_ne (by rw [pk_us]; decide)]; omega
            · rw [rl_hp_un hpj]; exact h3
        · have hst' : ¬ st (nI j).toNatClampNeg = 0 := by rw [e]; exact hst
          exact br_f hst' (YI _ (And.intro hin (br_f hst' (hP _ _ _ hU))))
      by_cases hq0 : q = 0
      · exact br_t hq0 (K (Or.inl hq0))
      · refine br_f hq0 ?_
        by_cases hq1 : q = 1
        · exact br_t hq1 (K (Or.inr hq1))
        · exact br_f hq1 (br_f (nI_pos (by omega)) (br_f (nI_ge hj (by omega)) ⟨hin, br_f hh' (br_f hq0 (br_f hq1 (hP _ _ _ hU)))⟩))
end
end
section
/-! then -/
theorem qq_wat_c {c q : Nat} {st val : Nat → Int32} {Q : List qe_T} (k o x y : Int32) (HA : rl_A c st val) (hq : q < c) (hc : c ≤ 16) :
    ∃ w s v, qq_wat Q st val q k o x y = Q ++ [(w, k, o, x, y, s, v)] ∧ (w = -1 ∨ ∃ p, p < c ∧ w = nI p) ∧ rl_v c v ∧ (w = -1 → s = 2 ∨ s = 3) := by
  by_cases h2 : st q = 2 ∨ st q = 3
  · exact ⟨-1, st q, val q, by rw [qq_wat, if_pos h2], Or.inl rfl, (HA q (by omega)).2, fun _ => h2⟩
  · exact ⟨nI q, 0, 0, by rw [qq_wat, if_neg h2], Or.inr ⟨q, hq, rfl⟩, rl_v_neg (by decide), fun z => absurd z.symm (xq_m1 q (by omega))⟩
theorem rl_cQ_fresh {c F p : Nat} {Q : List qe_T} (HC : rl_C c F Q) (hc : c ≤ 16) (hp : p < 16) (hcp : c ≤ p) : rl_cQ Q (nI p) = 0 :=
  List.countP_eq_zero.mpr (fun e he => by
    obtain ⟨o, ho, ho'⟩ := (HC e he).1
    simp only [beq_iff_eq]
    intro z
    have := xq_pI o (by omega) p hp (ho'.symm.trans z); omega)
theorem rl_cK_fresh {c F p : Nat} {k : Int32} {Q : List qe_T} (HC : rl_C c F Q) (hc : c ≤ 16) (hp : p < 16) (hcp : c ≤ p) : rl_cK Q k (nI p) = 0 :=
  List.countP_eq_zero.mpr (fun e he => by
    obtain ⟨o, ho, ho'⟩ := (HC e he).1
    simp only [Bool.and_eq_true, beq_iff_eq]
    intro z
    have := xq_pI o (by omega) p hp (ho'.symm.trans z.2); omega)
theorem rl_fresh {c F : Nat} {Q : List qe_T} (HC : rl_C c F Q) (hc : c < 16) : ∀ e ∈ Q, e.1 ≠ nI c := fun e he z => by
  rcases (HC e he).2.1 with h | ⟨p, hp, h⟩
  · exact xq_m1 c (by omega) (h.symm.trans z)
  · have := xq_pI p (by omega) c (by omega) (h.symm.trans z); omega
theorem rl_h_of {F : Nat} {x : Int32} (hF : F ≤ 4) (h1 : ¬ x < -1) (h2 : x < nI F) : rl_h F x := by
  by_cases h0 : x < 0
  · left
    rw [Int32.lt_iff_toInt_lt, show (-1 : Int32).toInt = -1 from by decide] at h1
    rw [Int32.lt_iff_toInt_lt, show (0 : Int32).toInt = 0 from by decide] at h0
    exact Int32.toInt_inj.mp (by rw [show (-1 : Int32).toInt = -1 from by decide]; omega)
  · obtain ⟨j, hj, rfl⟩ := nI_of h0
    exact Or.inr ⟨j, (nI_ltI hj (by omega)).mp h2, rfl⟩
section
variable {pl sl ol n fn dp c ou : Nat} {sealed : Int32} {ops opB opA target handler level entry blocks sa st val host kinds masks asleep out rem pcx slots rx cx cells vars pcy cy ry : Nat → Int32} {px : ty_px} {py : ty_py} {nE F B rs ph : Nat}
theorem xw_calb {post : Int32 → Prop} (hF : (sealed = 0 ∧ F = 0) ∨ (sealed ≠ 0 ∧ F = fn)) (h : post (nI F)) : wpX_callable post (mk_X ((nI pl), (nI sl), (nI ol), (nI n), (nI fn), sealed, ops, opB) ((nI dp), opA, target, handler, level, entry, blocks) ((nI c), (nI ou), st, val, host, kinds, masks, asleep, out) (rem, pcx, slots, rx, cx, cells) px) := by
  rcases hF with ⟨h1, h2⟩ | ⟨h1, h2⟩
  · subst h2; exact br_t h1 h
  · subst h2; exact br_f h1 h
theorem vc_then {P : Int32 → Int32 → SX → SY → Prop} (hpl : pl ≤ 16) (hB : B + 800 < 2 ^ 29) (hF : (sealed = 0 ∧ F = 0) ∨ (sealed ≠ 0 ∧ F = fn)) (hF4 : F ≤ 4) (h : (rn pl ol (nE) F ops B (16) ([]) (32800) c ou st val host masks asleep rem pcx slots rx cx cells vars pcy cy ry px py)) (hP : ∀ x u' v', rn_RU ((nI pl), (nI sl), (nI ol), (nI n), (nI fn), sealed, ops, opB) ((nI dp), opA, target, handler, level, entry, blocks) sa pl ol nE F ops (B + 800) 16 [] 32800 u' v' → P x x u' v') (p f g : Int32) :
    wpX_then (fun r u' => wpY_then (fun r' v' => P r' r u' v') (mk_Y ((nI pl), (nI sl), (nI ol), (nI n), (nI fn), sealed, ops, opB) sa ((nI c), (nI ou), st, val, host, kinds, masks, asleep, out) (vars, pcy, cy, ry) py) p f g) (mk_X ((nI pl), (nI sl), (nI ol), (nI n), (nI fn), sealed, ops, opB) ((nI dp), opA, target, handler, level, entry, blocks) ((nI c), (nI ou), st, val, host, kinds, masks, asleep, out) (rem, pcx, slots, rx, cx, cells) px) p f g := by
  have hU : rn_RU ((nI pl), (nI sl), (nI ol), (nI n), (nI fn), sealed, ops, opB) ((nI dp), opA, target, handler, level, entry, blocks) sa pl ol nE F ops (B + 800) 16 [] 32800 (mk_X ((nI pl), (nI sl), (nI ol), (nI n), (nI fn), sealed, ops, opB) ((nI dp), opA, target, handler, level, entry, blocks) ((nI c), (nI ou), st, val, host, kinds, masks, asleep, out) (rem, pcx, slots, rx, cx, cells) px) (mk_Y ((nI pl), (nI sl), (nI ol), (nI n), (nI fn), sealed, ops, opB) sa ((nI c), (nI ou), st, val, host, kinds, masks, asleep, out) (vars, pcy, cy, ry) py) := rn_mk (rn_up h (by omega) (by omega))
  obtain ⟨Q, ck, hc, RX, RY, hck, hph, HA, HB, HC, HD, HE, HF, HZ, HG, HH, HM⟩ := h
  have YI : ∀ post : Int32 → SY → Prop, wY_then_15 post p f g (nI F) (nI pl) (nI sl) (nI ol) (nI n) (nI fn) (nI c) (nI ou) py.1 sealed ops sa opB out vars pcy cy ry st val kinds masks host asleep py.2.1 py.2.2.1 py.2.2.2.1 py.2.2.2.2.1 py.2.2.2.2.2.1 py.2.2.2.2.2.2.1 py.2.2.2.2.2.2.2.1 py.2.2.2.2.2.2.2.2 → wpY_then post (mk_Y ((nI pl), (nI sl), (nI ol), (nI n), (nI fn), sealed, ops, opB) sa ((nI c), (nI ou), st, val, host, kinds, masks, asleep, out) (vars, pcy, cy, ry) py) p f g := fun post hp => by
    rcases hF with ⟨h1, h2⟩ | ⟨h1, h2⟩
    · subst h2; exact br_t h1 hp
    · subst h2; exact br_f h1 hp
  unfold wpX_then
  rcases pk_ix p (n := c) (by omega) with h0 | h0 | ⟨j, hj, rfl⟩
  · exact xw_ex0 (Or.inl h0) (br_t rfl (YI _ (br_t h0 (hP _ _ _ hU))))
  · have h1 : ¬ p < 0 := fun z => by
      have := Int32.lt_of_le_of_lt h0 z
      exact nI_pos (by omega) this
    exact xw_ex0 (Or.inr h0) (br_t rfl (YI _ (br_f h1 (br_t h0 (hP _ _ _ hU)))))
  · have hin : vp_in (nI j) 16 := vp_in_nI (by omega) (by omega)
    have a1 : ¬ nI j < 0 := nI_pos (by omega)
    have a2 : ¬ nI c ≤ nI j := nI_ge hj (by omega)
    refine xw_ex1 hj (by omega) (br_f (by decide) (xw_calb hF ?_))
    by_cases hf1 : f < -1
    · exact br_t hf1 (YI _ (br_f a1 (br_f a2 (br_t hf1 (hP _ _ _ hU)))))
    · refine br_f hf1 ?_
      by_cases hf2 : nI F ≤ f
      · exact br_t hf2 (YI _ (br_f a1 (br_f a2 (br_f hf1 (br_t hf2 (hP _ _ _ hU))))))
      · refine br_f hf2 ?_
        by_cases hg1 : g < -1
        · exact br_t hg1 (YI _ (br_f a1 (br_f a2 (br_f hf1 (br_f hf2 (br_t hg1 (hP _ _ _ hU)))))))
        · refine br_f hg1 ?_
          by_cases hg2 : g < nI F
          · refine br_t hg2 ?_
            by_cases hfull : c = pl
            · exact br_t (by rw [hfull]) (YI _ (br_f a1 (br_f a2 (br_f hf1 (br_f hf2 (br_f hg1 (br_t hg2 (br_f (nI_nlt (by omega) (by omega)) (hP _ _ _ hU)))))))))
            · have hncpl : ¬ nI c = nI pl := fun z => hfull ((nI_eq (by omega) (by omega)).mp z)
              have hQ := rl_len (by omega) HC HE
              rw [List.length_nil] at hck
              have RX0 := xw_make RX (show c < 16 by omega) (rl_fresh HC (by omega))
              obtain ⟨a, px1, px2, RX2, W1, W2⟩ := xw_nwat RX0 (by omega) (show j < 16 by omega) st val 3 (nI c) f g
              obtain ⟨py1, RY1, WY⟩ := yw_wat RY (by omega) (by omega) (show j < 16 by omega) st val (HA j (by omega)).1 3 (nI c) f g (by decide)
              obtain ⟨w, s, v, eQ, hw, hv, hs⟩ := qq_wat_c (Q := Q) 3 (nI c) f g HA hj (by omega)
              rw [eQ] at RX2 RY1
              suffices hU2 : rn_RU ((nI pl), (nI sl), (nI ol), (nI n), (nI fn), sealed, ops, opB) ((nI dp), opA, target, handler, level, entry, blocks) sa pl ol nE F ops (B + 800) 16 [] 32800 (mk_X ((nI pl), (nI sl), (nI ol), (nI n), (nI fn), sealed, ops, opB) ((nI dp), opA, target, handler, level, entry, blocks) ((nI (c + 1)), (nI ou), st, val, host, kinds, masks, asleep, out) (rem, pcx, slots, rx, (upd cx c (-1)), cells) (px2)) (mk_Y ((nI pl), (nI sl), (nI ol), (nI n), (nI fn), sealed, ops, opB) sa ((nI (c + 1)), (nI ou), st, val, host, kinds, masks, asleep, out) (vars, pcy, cy, ry) (py1)) by
                refine br_f hncpl (xr_make (by omega) ?_)
                refine W1 ((nI pl), (nI sl), (nI ol), (nI n), (nI fn), sealed, ops, opB) ((nI dp), opA, target, handler, level, entry, blocks) ((nI (c + 1)), (nI ou), st, val, host, kinds, masks, asleep, out) (rem, pcx, slots, rx, (upd cx c (-1)), cells) _ (W2 ((nI pl), (nI sl), (nI ol), (nI n), (nI fn), sealed, ops, opB) ((nI dp), opA, target, handler, level, entry, blocks) _ _ _ _ _ _ _ (rem, pcx, slots, rx, (upd cx c (-1)), cells) _ (YI _ ?_))
                refine br_f a1 (br_f a2 (br_f hf1 (br_f hf2 (br_f hg1 (br_t hg2 (br_t (nI_lt (by omega) (by omega)) ?_))))))
                exact WY ((nI pl), (nI sl), (nI ol), (nI n), (nI fn), sealed, ops, opB) sa (nI c) (nI ou) host kinds masks asleep out (vars, pcy, cy, ry) _ (nm_r (nI_1 c) (hP _ _ _ hU2))
              refine rn_mk ⟨_, ck + 1, ⟨by omega, hc.2.1, Or.inl rfl, Nat.zero_le _⟩, RX2, RY1, ?_, ?_, rl_A_mono (by omega) HA, rl_B_mono (by omega) HB, fun e he => ?_, fun d hd => ?_, fun p hp => ?_, fun p hp => ?_, fun p hp hpc => HZ p hp (by omega), ⟨List.nodup_nil, fun q hq => (by cases hq), trivial, trivial, fun p hp ha => by
                have hpc : p ≠ c := fun e => ha (e ▸ (HZ c (by omega) (Nat.le_refl c)).2)
                rw [pk_un hpc]; exact HG.2.2.2.2 p hp ha⟩, ⟨HH.1, trivial⟩, rl_M_mono (by omega) HM⟩
              · rw [List.length_nil]; omega
              · rw [rl_ps]; omega
              · rcases List.mem_append.mp he with he | he
                · exact rl_q_mono (by omega) (Nat.le_refl _) (HC e he)
                · rw [List.mem_singleton.mp he]
                  refine ⟨⟨c, by omega, rfl⟩, ?_, Or.inr (Or.inr (Or.inr (Or.inl rfl))), fun z => ⟨rl_v_mono (by omega) hv, fun _ => hs z⟩, fun z => absurd z (show ¬ (3 : Int32) = 0 by decide), fun _ => ⟨rl_h_of hF4 hf1 (Int32.not_le.mp hf2), rl_h_of hF4 hg1 hg2⟩⟩
                  rcases hw with hw | ⟨p, hp, hw⟩
                  · exact Or.inl hw
                  · exact Or.inr ⟨p, by omega, hw⟩
              · rw [rl_cK_push (by omega) hd, if_neg (fun z => absurd z.1 (by decide))]; exact HD d hd
              · rw [rl_cQ_push (by omega) hp]
                have h1 := HE p hp
                by_cases hpc : p = c
                · subst hpc
                  rw [if_neg (show ¬ p = 16 % 17 by omega), rl_cQ_fresh HC (by omega) hp (Nat.le_refl _), if_pos rfl, rl_ic_no (by simp), rl_hp, if_neg (fun z => z.1 (HZ p hp (Nat.le_refl _)).1), rl_mx]
                  split <;> omega
                · rw [if_neg hpc]; exact h1
              · rw [rl_cK_push (by omega) hp, if_neg (fun z => absurd z.1 (by decide))]; exact HF p hp
          · exact br_f hg2 (YI _ (br_f a1 (br_f a2 (br_f hf1 (br_f hf2 (br_f hg1 (br_f hg2 (hP _ _ _ hU))))))))
end
end
section
/-! combine -/
theorem bm_and1 (y : Int32) : y &&& 1 = if bt y 0 = true then 1 else 0 := by
  have h := pk_and y (m := 1) 1 (by decide)
  have hb : bt y 0 = decide (y.toBitVec.toNat % 2 = 1) := by
    rw [bt, BitVec.getLsbD, Nat.testBit_zero]
  rw [h, hb]
  by_cases g : y.toBitVec.toNat % 2 = 1
  · simp only [g, decide_true, if_true]; rfl
  · have : y.toBitVec.toNat % 2 = 0 := by omega
    simp only [this]; decide
theorem bm_x {m : Int32} {i : Nat} (hi : i < 32) : ((m.toUInt32 >>> ((nI i).toUInt32 &&& Int32.toUInt32 31)).toInt32 &&& 1) = 0 ↔ ¬ bt m i = true := by
  rw [bm_and1, b_ushr i hi m 0, Nat.add_zero]
  by_cases h : bt m i = true
  · rw [if_pos h]; exact ⟨fun z => absurd z (by decide), fun z => absurd h z⟩
  · rw [if_neg h]; exact ⟨fun _ => h, fun _ => rfl⟩
theorem bm_y {m : Int32} {i : Nat} (hi : i < 32) : ((m >>> (nI i &&& 31)) &&& 1) = 1 ↔ bt m i = true := by
  rw [bm_and1, b_sshr i hi m (show 0 < 32 by decide), Nat.add_zero, if_pos hi]
  by_cases h : bt m i = true
  · rw [if_pos h]; exact ⟨fun _ => h, fun _ => rfl⟩
  · rw [if_neg h]; exact ⟨fun z => absurd z (by decide), fun z => absurd z h⟩
def bm_cnt (mask : Int32) : Nat → Nat
  | 0 => 0
  | i + 1 => bm_cnt mask i + (if bt mask i = true then 1 else 0)
theorem bm_cnt_le (mask : Int32) : ∀ i, bm_cnt mask i ≤ i
  | 0 => Nat.le_refl 0
  | i + 1 => by
    have := bm_cnt_le mask i
    rw [bm_cnt]; split <;> omega
def qq_wm (Q : List qe_T) (st val : Nat → Int32) (mask : Int32) (d : Nat) : Nat → List qe_T
  | 0 => Q
  | i + 1 => if bt mask i = true then qq_wat (qq_wm Q st val mask d i) st val i 4 (nI d) 0 0 else qq_wm Q st val mask d i
theorem wk_us {f : Nat → Int32} {k : Nat} {x : Int32} (h : f k = x) : upd f k x = f := by
  funext j
  rw [upd]; split
  · rename_i hj; rw [hj]; exact h.symm
  · rfl
/-- what watching the members keeps -/
theorem qq_wm_ok {c F : Nat} {st val : Nat → Int32} {Q : List qe_T} {mask : Int32} (hc : c < 16) (HA : rl_A c st val) (HC : rl_C c F Q) : ∀ i, i ≤ c →
    rl_C (c + 1) F (qq_wm Q st val mask c i) ∧ (∀ p, p < 16 → rl_cQ (qq_wm Q st val mask c i) (nI p) = rl_cQ Q (nI p) + (if p = c then bm_cnt mask i else 0)) ∧
    (∀ p, p < 16 → rl_cK (qq_wm Q st val mask c i) 4 (nI p) = rl_cK Q 4 (nI p) + (if p = c then bm_cnt mask i else 0)) ∧ (∀ p, p < 16 → rl_cK (qq_wm Q st val mask c i) 2 (nI p) = rl_cK Q 2 (nI p))
  | 0, _ => ⟨rl_C_mono (by omega) (Nat.le_refl _) HC, fun p hp => by rw [qq_wm, bm_cnt]; split <;> omega, fun p hp => by rw [qq_wm, bm_cnt]; split <;> omega, fun p hp => rfl⟩
  | i + 1, hi => by
    obtain ⟨h1, h2, h3, h4⟩ := qq_wm_ok (mask := mask) hc HA HC i (by omega)
    rw [qq_wm, bm_cnt]
    by_cases hb : bt mask i = true
    · rw [if_pos hb, if_pos hb]
      obtain ⟨w, s, v, eQ, hw, hv, hs⟩ := qq_wat_c (Q := qq_wm Q st val mask c i) 4 (nI c) 0 0 HA (show i < c by omega) (by omega)
      rw [eQ]
      refine ⟨fun e he => ?_, fun p hp => ?_, fun p hp => ?_, fun p hp => ?_⟩
      · rcases List.mem_append.mp he with he | he
        · exact h1 e he
        · rw [List.mem_singleton.mp he]
          refine ⟨⟨c, by omega, rfl⟩, ?_, Or.inr (Or.inr (Or.inr (Or.inr rfl))), fun z => ⟨rl_v_mono (by omega) hv, fun _ => hs z⟩, fun z => absurd z (show ¬ (4 : Int32) = 0 by decide), fun z => absurd z (show ¬ (4 : Int32) = 3 by decide)⟩
          rcases hw with hw | ⟨p, hp, hw⟩
          · exact Or.inl hw
          · exact Or.inr ⟨p, by omega, hw⟩
      · rw [rl_cQ_push hc hp, h2 p hp]; split <;> omega
      · rw [rl_cK_push hc hp, h3 p hp]
        by_cases hpc : p = c
        · rw [if_pos hpc, if_pos hpc, if_pos ⟨rfl, hpc⟩]; omega
        · rw [if_neg hpc, if_neg hpc, if_neg (fun z => hpc z.2)]
      · rw [rl_cK_push hc hp, if_neg (fun z => absurd z.1 (by decide)), h4 p hp]; rfl
    · rw [if_neg hb, if_neg hb]
      exact ⟨h1, h2, h3, h4⟩
theorem xw_wm {kk : ty_kk} {kx : ty_kx} {cc ou : Int32} {st val host kinds masks asleep out rem pcx slots rx cx cells : Nat → Int32} {mask : Int32} {d : Nat} {Q : List qe_T} (hd : d < 16) (hl : ∀ i, i < d → (qq_wm Q st val mask d i).length < 128) :
    ∀ m i, i + m = d → ∀ px : ty_px, xq_R px [] 16 (qq_wm Q st val mask d i) → ∃ px', xq_R px' [] 16 (qq_wm Q st val mask d d) ∧
      ∀ post : SX → Prop, post (mk_X kk kx (cc, ou, st, val, host, kinds, masks, asleep, out) (upd rem d (nI (bm_cnt mask d)), pcx, slots, rx, cx, cells) px') → 
        wX_watchMembers_2 post (nI d) mask (m + 1) (nI i) 0 1 2 3 4 kk.1 kk.2.1 kk.2.2.1 kk.2.2.2.1 kk.2.2.2.2.1 kx.1 kk.2.2.2.2.2.1 cc px.1 px.2.1 px.2.2.1 px.2.2.2.1 ou kk.2.2.2.2.2.2.1 kx.2.1 kk.2.2.2.2.2.2.2 kx.2.2.1 kx.2.2.2.1 kx.2.2.2.2.1 kx.2.2.2.2.2.1 kx.2.2.2.2.2.2 st val px.2.2.2.2.1 px.2.2.2.2.2.1 px.2.2.2.2.2.2.1 host kinds masks (upd rem d (nI (bm_cnt mask i))) pcx slots rx cx asleep cells px.2.2.2.2.2.2.2.1 px.2.2.2.2.2.2.2.2.1 px.2.2.2.2.2.2.2.2.2.1 px.2.2.2.2.2.2.2.2.2.2.1 px.2.2.2.2.2.2.2.2.2.2.2.1 px.2.2.2.2.2.2.2.2.2.2.2.2.1 px.2.2.2.2.2.2.2.2.2.2.2.2.2 out
  | 0, i, hi, px, R => by
    have : i = d := by omega
    subst this
    exact ⟨px, R, fun post h => br_t (nI_le (by omega) (by omega)) h⟩
  | m + 1, i, hi, px, R => by
    have hid : vp_in (nI d) 16 := vp_in_nI hd (by omega)
    have ed : (nI d).toNatClampNeg = d := nI_clamp (by omega)
    by_cases hb : bt mask i = true
    · have hb' : ¬ ((mask.toUInt32 >>> ((nI i).toUInt32 &&& Int32.toUInt32 31)).toInt32 &&& 1) = 0 := fun z => (bm_x (by omega)).mp z hb
      obtain ⟨a, px1, px2, R2, W1, W2⟩ := xw_nwat R (hl i (by omega)) (show i < 16 by omega) st val 4 (nI d) 0 0
      have R2' : xq_R px2 [] 16 (qq_wm Q st val mask d (i + 1)) := by rw [qq_wm, if_pos hb]; exact R2
      obtain ⟨px', R', W'⟩ := xw_wm (kk := kk) (kx := kx) (cc := cc) (ou := ou) (host := host) (kinds := kinds) (masks := masks) (asleep := asleep) (out := out) (rem := rem) (pcx := pcx) (slots := slots) (rx := rx) (cx := cx) (cells := cells) hd hl m (i + 1) (by omega) px2 R2'
      refine ⟨px', R', fun post h => br_f (nI_ge (by omega) (by omega)) (br_f hb' ⟨hid, hid, nm_r (e' := upd rem d (nI (bm_cnt mask (i + 1)))) ?_ ?_⟩)⟩
      · rw [ed, pk_us, nI_1, wk_uu, bm_cnt, if_pos hb]
      · exact W1 kk kx (cc, ou, st, val, host, kinds, masks, asleep, out) (upd rem d (nI (bm_cnt mask (i + 1))), pcx, slots, rx, cx, cells) _ (W2 kk kx cc ou host kinds masks asleep out (upd rem d (nI (bm_cnt mask (i + 1))), pcx, slots, rx, cx, cells) _ (nm_r (nI_1 i) (W' post h)))
    · have hb' : ((mask.toUInt32 >>> ((nI i).toUInt32 &&& Int32.toUInt32 31)).toInt32 &&& 1) = 0 := (bm_x (by omega)).mpr hb
      obtain ⟨px', R', W'⟩ := xw_wm (kk := kk) (kx := kx) (cc := cc) (ou := ou) (host := host) (kinds := kinds) (masks := masks) (asleep := asleep) (out := out) (rem := rem) (pcx := pcx) (slots := slots) (rx := rx) (cx := cx) (cells := cells) hd hl m (i + 1) (by omega) px (by rw [qq_wm, if_neg hb]; exact R)
      refine ⟨px', R', fun post h => br_f (nI_ge (by omega) (by omega)) (br_t hb' (nm_r (nI_1 i) ?_))⟩
      have := W' post h
      rw [bm_cnt, if_neg hb] at this
      exact this
section
variable {pl sl ol n fn dp c ou : Nat} {sealed : Int32} {ops opB opA target handler level entry blocks sa st val host kinds masks asleep out rem pcx slots rx cx cells vars pcy cy ry : Nat → Int32} {px : ty_px} {py : ty_py} {nE F B ph : Nat}
theorem yw_wm {kd mask : Int32} {Q : List qe_T} (hc : c < 16) (HA : rl_A c st val) (hl : ∀ i, i < c → (qq_wm Q st val mask c i).length < 128) :
    ∀ m i, i + m = c → ∀ (py : ty_py) (ck : Nat), yq_R py ck (qq_wm Q st val mask c i) → ck + m < 2 ^ 30 → ∃ py' ck', ck' ≤ ck + m ∧ yq_R py' ck' (qq_wm Q st val mask c c) ∧
      ∀ post : Int32 → SY → Prop, (∀ N, wY_combine_56 post kd mask (N + 1) (nI c) (nI pl) (nI sl) (nI ol) (nI n) (nI fn) (nI c) (nI ou) ((py').1) sealed ops sa opB out vars pcy cy ry st val kinds masks host asleep ((py').2.1) ((py').2.2.1) ((py').2.2.2.1) ((py').2.2.2.2.1) ((py').2.2.2.2.2.1) ((py').2.2.2.2.2.2.1) ((py').2.2.2.2.2.2.2.1) ((py').2.2.2.2.2.2.2.2)) → wY_combine_56 post kd mask (m + 1) (nI i) (nI pl) (nI sl) (nI ol) (nI n) (nI fn) (nI c) (nI ou) ((py).1) sealed ops sa opB out vars pcy cy ry st val kinds masks host asleep ((py).2.1) ((py).2.2.1) ((py).2.2.2.1) ((py).2.2.2.2.1) ((py).2.2.2.2.2.1) ((py).2.2.2.2.2.2.1) ((py).2.2.2.2.2.2.2.1) ((py).2.2.2.2.2.2.2.2)
  | 0, i, hi, py, ck, R, _ => by
    have : i = c := by omega
    subst this
    exact ⟨py, ck, by omega, R, fun post h => h 0⟩
  | m + 1, i, hi, py, ck, R, hck => by
    by_cases hb : bt mask i = true
    · have hb' := (bm_y (m := mask) (i := i) (by omega)).mpr hb
      obtain ⟨py1, R1, W1⟩ := yw_wat R (hl i (by omega)) (by omega) (show i < 16 by omega) st val (HA i (by omega)).1 4 (nI c) 0 0 (by decide)
      obtain ⟨py', ck', g1, R', W'⟩ := yw_wm hc HA hl m (i + 1) (by omega) py1 (ck + 1) (by rw [qq_wm, if_pos hb]; exact R1) (by omega)
      refine ⟨py', ck', by omega, R', fun post h => br_f (nI_ge (by omega) (by omega)) (br_t hb' ?_)⟩
      exact W1 ((nI pl), (nI sl), (nI ol), (nI n), (nI fn), sealed, ops, opB) sa (nI c) (nI ou) host kinds masks asleep out (vars, pcy, cy, ry) _ (nm_r (nI_1 i) (W' post h))
    · have hb' := fun z => hb ((bm_y (m := mask) (i := i) (by omega)).mp z)
      obtain ⟨py', ck', g1, R', W'⟩ := yw_wm hc HA hl m (i + 1) (by omega) py ck (by rw [qq_wm, if_neg hb]; exact R) (by omega)
      exact ⟨py', ck', by omega, R', fun post h => br_f (nI_ge (by omega) (by omega)) (br_f hb' (nm_r (nI_1 i) (W' post h)))⟩
end
end
section
/-! combine, the method -/
section
variable {pl sl ol n fn dp c ou : Nat} {sealed : Int32} {ops opB opA target handler level entry blocks sa st val host kinds masks asleep out rem pcx slots rx cx cells vars pcy cy ry : Nat → Int32} {px : ty_px} {py : ty_py} {nE F B rs ph : Nat}
theorem vc_combine {P : Int32 → Int32 → SX → SY → Prop} (hpl : pl ≤ 16) (hB : B + 800 < 2 ^ 29) (h : (rn pl ol (nE) F ops B (16) ([]) (32800) c ou st val host masks asleep rem pcx slots rx cx cells vars pcy cy ry px py)) (hP : ∀ x u' v', rn_RU ((nI pl), (nI sl), (nI ol), (nI n), (nI fn), sealed, ops, opB) ((nI dp), opA, target, handler, level, entry, blocks) sa pl ol nE F ops (B + 800) 16 [] 32800 u' v' → P x x u' v') (kd mask : Int32) :
    wpX_combine (fun r u' => wpY_combine (fun r' v' => P r' r u' v') (mk_Y ((nI pl), (nI sl), (nI ol), (nI n), (nI fn), sealed, ops, opB) sa ((nI c), (nI ou), st, val, host, kinds, masks, asleep, out) (vars, pcy, cy, ry) py) kd mask) (mk_X ((nI pl), (nI sl), (nI ol), (nI n), (nI fn), sealed, ops, opB) ((nI dp), opA, target, handler, level, entry, blocks) ((nI c), (nI ou), st, val, host, kinds, masks, asleep, out) (rem, pcx, slots, rx, cx, cells) px) kd mask := by
  have hU : rn_RU ((nI pl), (nI sl), (nI ol), (nI n), (nI fn), sealed, ops, opB) ((nI dp), opA, target, handler, level, entry, blocks) sa pl ol nE F ops (B + 800) 16 [] 32800 (mk_X ((nI pl), (nI sl), (nI ol), (nI n), (nI fn), sealed, ops, opB) ((nI dp), opA, target, handler, level, entry, blocks) ((nI c), (nI ou), st, val, host, kinds, masks, asleep, out) (rem, pcx, slots, rx, cx, cells) px) (mk_Y ((nI pl), (nI sl), (nI ol), (nI n), (nI fn), sealed, ops, opB) sa ((nI c), (nI ou), st, val, host, kinds, masks, asleep, out) (vars, pcy, cy, ry) py) := rn_mk (rn_up h (by omega) (by omega))
  obtain ⟨Q, ck, hc, RX, RY, hck, hph, HA, HB, HC, HD, HE, HF, HZ, HG, HH, HM⟩ := h
  by_cases h0 : kd < 0
  · exact br_t h0 (br_t h0 (hP _ _ _ hU))
  · refine br_f h0 ?_
    by_cases h2 : kd ≤ 2
    · have h2' : ¬ 2 < kd := Int32.not_lt.mpr h2
      refine br_t h2 ?_
      by_cases hm : (mask.toUInt32 >>> ((nI c).toUInt32 &&& Int32.toUInt32 31)).toInt32 = 0
      · refine br_t hm ?_
        by_cases hfull : c = pl
        · exact br_t (by rw [hfull]) (br_f h0 (br_f h2' (br_t hm (br_f (nI_nlt (by omega) (by omega)) (hP _ _ _ hU)))))
        · have hncpl : ¬ nI c = nI pl := fun z => hfull ((nI_eq (by omega) (by omega)).mp z)
          have hin : vp_in (nI c) 16 := vp_in_nI (by omega) (by omega)
          have hc16 : c < 16 := by omega
          rw [List.length_nil] at hck
          have RX0 := xw_make RX (show c < 16 by omega) (rl_fresh HC (by omega))
          have wok := fun i hi => qq_wm_ok (mask := mask) hc16 HA HC i hi
          have HEi : ∀ i, i ≤ c → rl_E 16 [] host st (qq_wm Q st val mask c i) := fun i hi p hp => by
            rw [(wok i hi).2.1 p hp]
            have h1 := HE p hp
            by_cases hpc : p = c
            · have h3 := bm_cnt_le mask i
              subst hpc
              rw [if_neg (show ¬ p = 16 % 17 by omega), if_pos rfl, rl_cQ_fresh HC (by omega) hp (Nat.le_refl _), rl_ic_no (by simp), rl_hp, if_neg (fun z => z.1 (HZ p hp (Nat.le_refl _)).1), rl_mx]
              split <;> omega
            · rw [if_neg hpc]; exact h1
          have hl : ∀ i, i < c → (qq_wm Q st val mask c i).length < 128 := fun i hi => by
            have := rl_len (show c + 1 ≤ 16 by omega) (wok i (by omega)).1 (HEi i (by omega)); omega
          have hlc : (qq_wm Q st val mask c c).length ≤ 121 := rl_len (show c + 1 ≤ 16 by omega) (wok c (Nat.le_refl c)).1 (HEi c (Nat.le_refl c))
          have hrem : rem c = nI 0 := by rw [HD c hc16, rl_cK_fresh HC (by omega) hc16 (Nat.le_refl _)]
          have hrem' : upd rem c (nI (bm_cnt mask 0)) = rem := wk_us hrem
          obtain ⟨px1, RX1, WX⟩ := xw_wm (kk := ((nI pl), (nI sl), (nI ol), (nI n), (nI fn), sealed, ops, opB)) (kx := ((nI dp), opA, target, handler, level, entry, blocks)) (cc := nI (c + 1)) (ou := nI ou) (host := host) (kinds := upd kinds c kd) (masks := upd masks c mask) (asleep := asleep) (out := out) (rem := rem) (pcx := pcx) (slots := slots) (rx := rx) (cx := upd cx c (-1)) (cells := cells) hc16 hl c 0 (by omega) _ RX0
          rw [hrem'] at WX
          obtain ⟨py1, ck1, hck1, RY1, WY⟩ := yw_wm (pl := pl) (sl := sl) (ol := ol) (n := n) (fn := fn) (sealed := sealed) (ops := ops) (opB := opB) (sa := sa) (ou := ou) (host := host) (kinds := upd kinds c kd) (masks := upd masks c mask) (asleep := asleep) (out := out) (vars := vars) (pcy := pcy) (cy := cy) (ry := ry) (kd := kd) hc16 HA hl c 0 (by omega) py ck RY (by omega)
          have HM' : rl_M (c + 1) (upd masks c mask) := fun d hd i hi hci => by
            by_cases hdc : d = c
            · subst hdc
              rw [pk_us]
              have h3 := b_ushr d (by omega) mask (i - d)
              rw [hm, b_0, show d + (i - d) = i by omega] at h3
              exact h3.symm
            · rw [pk_un hdc]; exact HM d hd i hi (by omega)
          have HD' : rl_D (upd rem c (nI (bm_cnt mask c))) (qq_wm Q st val mask c c) := fun d hd => by
            rw [(wok c (Nat.le_refl c)).2.2.1 d hd]
            by_cases hdc : d = c
            · subst hdc
              rw [pk_us, if_pos rfl, rl_cK_fresh HC (by omega) hd (Nat.le_refl _), Nat.zero_add]
            · rw [pk_un hdc, if_neg hdc]; exact HD d hd
          have HF' : rl_F asleep (qq_wm Q st val mask c c) := fun p hp => by rw [(wok c (Nat.le_refl c)).2.2.2 p hp]; exact HF p hp
          have GG : rl_G (c + 1) asleep (upd cx c (-1)) cy [] := ⟨List.nodup_nil, fun q hq => (by cases hq), trivial, trivial, fun p hp ha => by
            have hpc : p ≠ c := fun e => ha (e ▸ (HZ c hc16 (Nat.le_refl c)).2)
            rw [pk_un hpc]; exact HG.2.2.2.2 p hp ha⟩
          have ZZ : rl_Z (c + 1) host asleep := fun p hp hpc => HZ p hp (by omega)
          refine br_f hncpl (xr_make hc16 ⟨hin, nm_r (xq_up (by omega)) ⟨hin, nm_r (xq_up (by omega)) (Exists.intro (c + 1) (WX _ ?_))⟩⟩)
          have YI : ∀ post : Int32 → SY → Prop, (∀ N, wY_combine_56 post kd mask (N + 1) (nI c) (nI pl) (nI sl) (nI ol) (nI n) (nI fn) (nI c) (nI ou) ((py1).1) sealed ops sa opB out vars pcy cy ry st val (upd kinds c kd) (upd masks c mask) host asleep ((py1).2.1) ((py1).2.2.1) ((py1).2.2.2.1) ((py1).2.2.2.2.1) ((py1).2.2.2.2.2.1) ((py1).2.2.2.2.2.2.1) ((py1).2.2.2.2.2.2.2.1) ((py1).2.2.2.2.2.2.2.2)) → wpY_combine post (mk_Y ((nI pl), (nI sl), (nI ol), (nI n), (nI fn), sealed, ops, opB) sa ((nI c), (nI ou), st, val, host, kinds, masks, asleep, out) (vars, pcy, cy, ry) py) kd mask := fun post hp =>
            br_f h0 (br_f h2' (br_t hm (br_t (nI_lt (by omega) (by omega)) ⟨hin, nm_r (xq_up (by omega)) ⟨hin, nm_r (xq_up (by omega)) (Exists.intro (c + 1) (WY post hp))⟩⟩)))
          have plain : rn_RU ((nI pl), (nI sl), (nI ol), (nI n), (nI fn), sealed, ops, opB) ((nI dp), opA, target, handler, level, entry, blocks) sa pl ol nE F ops (B + 800) 16 [] 32800 (mk_X ((nI pl), (nI sl), (nI ol), (nI n), (nI fn), sealed, ops, opB) ((nI dp), opA, target, handler, level, entry, blocks) ((nI (c + 1)), (nI ou), st, val, host, (upd kinds c kd), (upd masks c mask), asleep, out) ((upd rem c (nI (bm_cnt mask c))), pcx, slots, rx, (upd cx c (-1)), cells) (px1)) (mk_Y ((nI pl), (nI sl), (nI ol), (nI n), (nI fn), sealed, ops, opB) sa ((nI (c + 1)), (nI ou), st, val, host, (upd kinds c kd), (upd masks c mask), asleep, out) (vars, pcy, cy, ry) (py1)) :=
            rn_mk ⟨_, ck1, ⟨by omega, hc.2.1, Or.inl rfl, Nat.zero_le _⟩, RX1, RY1, by rw [List.length_nil]; omega, by rw [rl_ps]; omega, rl_A_mono (by omega) HA, rl_B_mono (by omega) HB, (wok c (Nat.le_refl c)).1, HD', HEi c (Nat.le_refl c), HF', ZZ, GG, ⟨HH.1, trivial⟩, HM'⟩
          have conc : ∀ s : Int32, s = 2 ∨ s = 3 → ∃ px2 py2, (∀ post : SX → Prop, post (mk_X ((nI pl), (nI sl), (nI ol), (nI n), (nI fn), sealed, ops, opB) ((nI dp), opA, target, handler, level, entry, blocks) ((nI (c + 1)), (nI ou), (upd st c s), (upd val c 0), host, (upd kinds c kd), (upd masks c mask), asleep, out) ((upd rem c (nI (bm_cnt mask c))), pcx, slots, rx, (upd cx c (-1)), cells) (px2)) → wpX_conclude post (mk_X ((nI pl), (nI sl), (nI ol), (nI n), (nI fn), sealed, ops, opB) ((nI dp), opA, target, handler, level, entry, blocks) ((nI (c + 1)), (nI ou), st, val, host, (upd kinds c kd), (upd masks c mask), asleep, out) ((upd rem c (nI (bm_cnt mask c))), pcx, slots, rx, (upd cx c (-1)), cells) (px1)) (nI c) s 0) ∧
              (∀ post : SY → Prop, post (mk_Y ((nI pl), (nI sl), (nI ol), (nI n), (nI fn), sealed, ops, opB) sa ((nI c), (nI ou), (upd st c s), (upd val c 0), host, (upd kinds c kd), (upd masks c mask), asleep, out) (vars, pcy, cy, ry) (py2)) → wpY_finish post (mk_Y ((nI pl), (nI sl), (nI ol), (nI n), (nI fn), sealed, ops, opB) sa ((nI c), (nI ou), st, val, host, (upd kinds c kd), (upd masks c mask), asleep, out) (vars, pcy, cy, ry) (py1)) (nI c) s 0) ∧
              rn_RU ((nI pl), (nI sl), (nI ol), (nI n), (nI fn), sealed, ops, opB) ((nI dp), opA, target, handler, level, entry, blocks) sa pl ol nE F ops (B + 800) 16 [] 32800 (mk_X ((nI pl), (nI sl), (nI ol), (nI n), (nI fn), sealed, ops, opB) ((nI dp), opA, target, handler, level, entry, blocks) ((nI (c + 1)), (nI ou), (upd st c s), (upd val c 0), host, (upd kinds c kd), (upd masks c mask), asleep, out) ((upd rem c (nI (bm_cnt mask c))), pcx, slots, rx, (upd cx c (-1)), cells) (px2)) (mk_Y ((nI pl), (nI sl), (nI ol), (nI n), (nI fn), sealed, ops, opB) sa ((nI (c + 1)), (nI ou), (upd st c s), (upd val c 0), host, (upd kinds c kd), (upd masks c mask), asleep, out) (vars, pcy, cy, ry) (py2)) := fun s hs => by
            obtain ⟨px2, RX2, VX⟩ := xw_conc RX1 hc16 s 0
            obtain ⟨py2, ck2, hck2, RY2, VY⟩ := yw_fin RY1 hc16 (by omega) (by omega) s 0
            refine ⟨px2, py2, fun post hp => VX _ _ _ _ _ _ _ _ _ _ _ _ _ hp, fun post hp => VY _ _ _ _ _ _ _ _ _ _ _ _ _ hp, rn_mk ⟨_, ck2, ⟨by omega, hc.2.1, Or.inl rfl, Nat.zero_le _⟩, RX2, RY2, by rw [List.length_nil]; omega, by rw [rl_ps]; omega, rl_A_upd (by rcases hs with h | h <;> rw [h] <;> decide) (rl_v_neg (by decide)) (rl_A_mono (by omega) HA), rl_B_mono (by omega) HB, rl_conc_C (wok c (Nat.le_refl c)).1 (rl_v_neg (by decide)) hs, fun d hd => by rw [rl_conc_cK]; exact HD' d hd, fun p hp => ?_, fun p hp => by rw [rl_conc_cK]; exact HF' p hp, ZZ, GG, ⟨HH.1, trivial⟩, HM'⟩⟩
            rw [rl_conc_cQ]
            have h3 := HEi c (Nat.le_refl c) p hp
            by_cases hpc : p = c
            · subst hpc
              rw [rl_hp_ne (by rw [pk_us]; rcases hs with h | h <;> rw [h] <;> decide)]; omega
            · rw [rl_hp_un hpc]; exact h3
          have hge : nI c ≤ nI c := nI_le (Nat.le_refl _) (by omega)
          by_cases hm0 : mask = 0
          · refine br_t hm0 ?_
            by_cases hk0 : kd = 0
            · obtain ⟨px2, py2, VX, VY, RU⟩ := conc 2 (Or.inl rfl)
              exact br_t hk0 (VX _ (YI _ (fun N => br_t hge (br_t hm0 (br_f (by rw [hk0]; decide) (br_t hk0 (VY _ (nm_r (nI_1 c) (hP _ _ _ RU)))))))))
            · refine br_f hk0 (br_t hm0 ?_)
              by_cases hk2 : kd = 2
              · obtain ⟨px2, py2, VX, VY, RU⟩ := conc 3 (Or.inr rfl)
                exact br_t hk2 (VX _ (YI _ (fun N => br_t hge (br_t hm0 (br_f (by rw [hk2]; decide) (br_f hk0 (VY _ (nm_r (nI_1 c) (hP _ _ _ RU)))))))))
              · have hk1 : kd = 1 := by
                  obtain ⟨j, hj, rfl⟩ := nI_of2 (x := kd) (M := 2) (n := 2) (by decide) h0 h2
                  have : j = 0 ∨ j = 1 ∨ j = 2 := by omega
                  rcases this with rfl | rfl | rfl
                  · exact absurd rfl hk0
                  · rfl
                  · exact absurd rfl hk2
                exact br_f hk2 (YI _ (fun N => br_t hge (br_t hm0 (br_t hk1 (nm_r (nI_1 c) (hP _ _ _ plain))))))
          · exact br_f hm0 (br_f hm0 (YI _ (fun N => br_t hge (br_f hm0 (nm_r (nI_1 c) (hP _ _ _ plain))))))
      · exact br_f hm (br_f h0 (br_f h2' (br_f hm (hP _ _ _ hU))))
    · exact br_f h2 (br_f h0 (br_t (Int32.not_le.mp h2) (hP _ _ _ hU)))
end
end
section
/-! a run from its start; call -/
section
variable {pl sl ol n fn dp c ou : Nat} {sealed : Int32} {ops opB opA target handler level entry blocks sa st val host kinds masks asleep out rem pcx slots rx cx cells vars pcy cy ry : Nat → Int32} {px : ty_px} {py : ty_py} {nE F B rs ph : Nat}
theorem rn_go {u : SX} {v : SY} {ch : List Nat} (SP : sp_ok n fn ops opB opA target handler level entry sa) (hpl : pl ≤ 16) (hol : ol ≤ 64) (hB : B < 2 ^ 29) (hph : ph < 40000) (H : rn_RU ((nI pl), (nI sl), (nI ol), (nI n), (nI fn), sealed, ops, opB) ((nI dp), opA, target, handler, level, entry, blocks) sa pl ol n fn ops B rs ch ph u v) :
    ∃ u' v', rn_RU ((nI pl), (nI sl), (nI ol), (nI n), (nI fn), sealed, ops, opB) ((nI dp), opA, target, handler, level, entry, blocks) sa pl ol n fn ops B rs [] 32800 u' v' ∧ (∀ post : SX → Prop, post u' → wpX_run post u (rn_hd ch)) ∧ (∀ post : SY → Prop, post v' → wpY_run post v (rn_hd ch)) := by
  obtain ⟨u', v', ph', H', GX, GY⟩ := rn_run SP hpl hol hB ph ph (Nat.le_refl _) ch u v H
  have H2 : rn_RU ((nI pl), (nI sl), (nI ol), (nI n), (nI fn), sealed, ops, opB) ((nI dp), opA, target, handler, level, entry, blocks) sa pl ol n fn ops B rs [] 32800 u' v' := by
    refine rn_el (P := fun u v => rn_RU ((nI pl), (nI sl), (nI ol), (nI n), (nI fn), sealed, ops, opB) ((nI dp), opA, target, handler, level, entry, blocks) sa pl ol n fn ops B rs [] 32800 u v) H' ?_
    intro c ou st val host kinds masks asleep out rem pcx slots rx cx cells vars pcy cy ry px py h
    exact rn_mk (rn_up h (Nat.le_refl _) (Nat.le_refl _))
  refine ⟨u', v', H2, ?_⟩
  refine rn_el (P := fun u v => (∀ (post : SX → Prop) (N k : Nat), ph < N → k + ph < 40000 → post u' → rn_xr post N (rn_hd ch) (nI k) u) → (∀ (post : SY → Prop) (N k : Nat), ph < N → k + ph < 65536 → post v' → rn_yr post N (rn_hd ch) (nI k) v) → (∀ post : SX → Prop, post u' → wpX_run post u (rn_hd ch)) ∧ (∀ post : SY → Prop, post v' → wpY_run post v (rn_hd ch))) H ?_ GX GY
  intro c ou st val host kinds masks asleep out rem pcx slots rx cx cells vars pcy cy ry px py _ GX GY
  exact ⟨fun post hp => Exists.intro (ph + 1) (GX post (ph + 1) 0 (by omega) (by omega) hp), fun post hp => Exists.intro (ph + 1) (GY post (ph + 1) 0 (by omega) (by omega) hp)⟩
theorem yw_run0 {kk : ty_kk} {ky : ty_ky} {ss : ty_ss} {gy : ty_gy} {py : ty_py} {post : SY → Prop} (h : post (mk_Y kk ky ss gy py)) : wpY_run post (mk_Y kk ky ss gy py) (-1) :=
  Exists.intro 1 (br_f (by decide) (br_t (by decide) h))
theorem xw_run0 {kk : ty_kk} {kx : ty_kx} {ss : ty_ss} {gx : ty_gx} {px : ty_px} {post : SX → Prop} (h : post (mk_X kk kx ss gx px)) : wpX_run post (mk_X kk kx ss gx px) (-1) :=
  Exists.intro 1 (br_f (by decide) (br_t (by decide) h))
theorem vc_call0 {P : Int32 → Int32 → SX → SY → Prop} (hs : sealed = 0) (h : (rn pl ol (nE) F ops B (16) ([]) (32800) c ou st val host masks asleep rem pcx slots rx cx cells vars pcy cy ry px py)) (hP : ∀ x u' v', rn_RU ((nI pl), (nI sl), (nI ol), (nI n), (nI fn), sealed, ops, opB) ((nI dp), opA, target, handler, level, entry, blocks) sa pl ol nE F ops (B + 800) 16 [] 32800 u' v' → P x x u' v') (f V : Int32) :
    wpX_call (fun r u' => wpY_call (fun r' v' => P r' r u' v') (mk_Y ((nI pl), (nI sl), (nI ol), (nI n), (nI fn), sealed, ops, opB) sa ((nI c), (nI ou), st, val, host, kinds, masks, asleep, out) (vars, pcy, cy, ry) py) f V) (mk_X ((nI pl), (nI sl), (nI ol), (nI n), (nI fn), sealed, ops, opB) ((nI dp), opA, target, handler, level, entry, blocks) ((nI c), (nI ou), st, val, host, kinds, masks, asleep, out) (rem, pcx, slots, rx, cx, cells) px) f V := by
  have hU : rn_RU ((nI pl), (nI sl), (nI ol), (nI n), (nI fn), sealed, ops, opB) ((nI dp), opA, target, handler, level, entry, blocks) sa pl ol nE F ops (B + 800) 16 [] 32800 (mk_X ((nI pl), (nI sl), (nI ol), (nI n), (nI fn), sealed, ops, opB) ((nI dp), opA, target, handler, level, entry, blocks) ((nI c), (nI ou), st, val, host, kinds, masks, asleep, out) (rem, pcx, slots, rx, cx, cells) px) (mk_Y ((nI pl), (nI sl), (nI ol), (nI n), (nI fn), sealed, ops, opB) sa ((nI c), (nI ou), st, val, host, kinds, masks, asleep, out) (vars, pcy, cy, ry) py) := rn_mk (rn_up h (by omega) (by omega))
  by_cases h0 : f < 0
  · exact br_t h0 (br_t hs (hP _ _ _ hU))
  · exact br_f h0 (br_t hs (br_f h0 (br_t hs (hP _ _ _ hU))))
theorem vc_call1 {P : Int32 → Int32 → SX → SY → Prop} (SP : sp_ok n fn ops opB opA target handler level entry sa) (hs : sealed ≠ 0) (hpl : pl ≤ 16) (hol : ol ≤ 64) (hB : B + 800 < 2 ^ 29) (h : (rn pl ol n (fn) ops B (16) ([]) (32800) c ou st val host masks asleep rem pcx slots rx cx cells vars pcy cy ry px py)) (hP : ∀ x u' v', rn_RU ((nI pl), (nI sl), (nI ol), (nI n), (nI fn), sealed, ops, opB) ((nI dp), opA, target, handler, level, entry, blocks) sa pl ol n fn ops (B + 800) 16 [] 32800 u' v' → P x x u' v') (f V : Int32) :
    wpX_call (fun r u' => wpY_call (fun r' v' => P r' r u' v') (mk_Y ((nI pl), (nI sl), (nI ol), (nI n), (nI fn), sealed, ops, opB) sa ((nI c), (nI ou), st, val, host, kinds, masks, asleep, out) (vars, pcy, cy, ry) py) f V) (mk_X ((nI pl), (nI sl), (nI ol), (nI n), (nI fn), sealed, ops, opB) ((nI dp), opA, target, handler, level, entry, blocks) ((nI c), (nI ou), st, val, host, kinds, masks, asleep, out) (rem, pcx, slots, rx, cx, cells) px) f V := by
  have hn := SP.1
  have hfn := SP.2.2.2.2.2.2
  have hU : rn_RU ((nI pl), (nI sl), (nI ol), (nI n), (nI fn), sealed, ops, opB) ((nI dp), opA, target, handler, level, entry, blocks) sa pl ol n fn ops (B + 800) 16 [] 32800 (mk_X ((nI pl), (nI sl), (nI ol), (nI n), (nI fn), sealed, ops, opB) ((nI dp), opA, target, handler, level, entry, blocks) ((nI c), (nI ou), st, val, host, kinds, masks, asleep, out) (rem, pcx, slots, rx, cx, cells) px) (mk_Y ((nI pl), (nI sl), (nI ol), (nI n), (nI fn), sealed, ops, opB) sa ((nI c), (nI ou), st, val, host, kinds, masks, asleep, out) (vars, pcy, cy, ry) py) := rn_mk (rn_up h (by omega) (by omega))
  have hc16 : c ≤ 16 := by obtain ⟨_, _, g, _⟩ := h; omega
  rcases pk_ix f (n := fn) (by omega) with h0 | h0 | ⟨j, hj, rfl⟩
  · exact br_t h0 (br_f hs (br_t h0 (hP _ _ _ hU)))
  · have h1 : ¬ f < 0 := fun z => by
      have := Int32.lt_of_le_of_lt h0 z
      exact nI_pos (by omega) this
    exact br_f h1 (br_f hs (br_f (Int32.not_lt.mpr h0) (br_f hs (br_f h1 (br_f (Int32.not_lt.mpr h0) (hP _ _ _ hU))))))
  · have a1 : ¬ nI j < 0 := nI_pos (by omega)
    have a2 : nI j < nI fn := nI_lt hj (by omega)
    refine br_f a1 (br_f hs (br_t a2 ?_))
    obtain ⟨x, hx, WX, WY⟩ := av_all (pl := pl) (sl := sl) (ol := ol) (n := n) (fn := fn) (dp := dp) (ou := ou) (sealed := sealed) (ops := ops) (opB := opB) (opA := opA) (target := target) (handler := handler) (level := level) (entry := entry) (blocks := blocks) (sa := sa) (st := st) (val := val) (host := host) (kinds := kinds) (masks := masks) (asleep := asleep) (out := out) (rem := rem) (pcx := pcx) (slots := slots) (rx := rx) (cx := cx) (cells := cells) (vars := vars) (pcy := pcy) (cy := cy) (ry := ry) (px := px) (py := py) hc16 V
    have YI : ∀ post : Int32 → SY → Prop, wpY_begin (fun r_36 u => wpY_run (fun u => (0 ≤ r_36 → post r_36 u) ∧ (¬ 0 ≤ r_36 → post (-2) u)) u r_36) (mk_Y ((nI pl), (nI sl), (nI ol), (nI n), (nI fn), sealed, ops, opB) sa ((nI c), (nI ou), st, val, host, kinds, masks, asleep, out) (vars, pcy, cy, ry) py) (nI j) x → wpY_call post (mk_Y ((nI pl), (nI sl), (nI ol), (nI n), (nI fn), sealed, ops, opB) sa ((nI c), (nI ou), st, val, host, kinds, masks, asleep, out) (vars, pcy, cy, ry) py) (nI j) V := fun post hp =>
      br_f hs (br_f a1 (br_t a2 (WY _ hp)))
    by_cases hfull : c = pl
    · refine br_t (by rw [hfull]) (YI _ (yw_begF (by omega) (by omega) ?_))
      exact yw_run0 (br_f (by decide) (hP _ _ _ hU))
    · have hncpl : ¬ nI c = nI pl := fun z => hfull ((nI_eq (by obtain ⟨_, _, g, _⟩ := h; omega) (by omega)).mp z)
      refine br_f hncpl (WX _ ?_)
      obtain ⟨jj, hjn, hj0, hej, hjf⟩ := SP.2.2.2.2.2.1 j hj
      obtain ⟨Q, ck, hc, RX, RY, hck, hph, HA, HB, HC, HD, HE, HF, HZ, HG, HH, HM⟩ := h
      have hop := rn_open (V := x) (f := j) (j := jj) SP hpl (by omega) hc.2.1 ⟨Or.inl rfl, Nat.zero_le _⟩ RX RY hck hph HA HB HC HD HE HF HZ HG HH.1 (fun q hq => by cases hq) HM hx hjn hj0 hej
      have RU1 : rn_RU ((nI pl), (nI sl), (nI ol), (nI n), (nI fn), sealed, ops, opB) ((nI dp), opA, target, handler, level, entry, blocks) sa pl ol n fn ops (B + 800) 16 (c :: []) (32800 - 1) _ _ := rn_mk (kinds := kinds) (out := out) (by
        obtain ⟨Q, ck, hc, RX, RY, hck, hph, H⟩ := hop.1
        exact ⟨Q, ck, hc, RX, RY, by omega, hph, H⟩)
      obtain ⟨u', v', RU, GX, GY⟩ := rn_go SP hpl hol (by omega) (by omega) RU1
      refine xw_open (by omega) (by omega) (GX _ (YI _ (yw_beg hn (by omega) hpl (by omega) hjn hj0 hjf ?_)))
      exact GY _ (br_t (nI_pos' (by omega)) (hP _ _ _ RU))
end
end
section
/-! step: taking the first job -/
theorem yq_rm {py : ty_py} {ck j : Nat} {Y1 Y2 : List (Nat × qe_T)} {E : qe_T} (R : yq_L py ck (Y1 ++ (j, E) :: Y2)) : yq_L (py.1, upd py.2.1 j 0, py.2.2) ck (Y1 ++ Y2) := by
  obtain ⟨clk, jt, jp, jx, jg, jon, js, jv, jwh⟩ := py
  obtain ⟨h1, h2, h3, h4, h5, h6⟩ := R
  dsimp only at h2 h3 h4 h5 h6
  have hsub : (Y1 ++ Y2).Sublist (Y1 ++ (j, E) :: Y2) := List.Sublist.append (List.Sublist.refl _) (List.sublist_cons_self _ _)
  have hold : ∀ z ∈ Y1 ++ Y2, z ∈ Y1 ++ (j, E) :: Y2 := fun z hz => hsub.subset hz
  have hne : ∀ z ∈ Y1 ++ Y2, z.1 ≠ j := fun z hz e => by
    rw [List.map_append, List.map_cons, List.nodup_append, List.nodup_cons] at h1
    rcases List.mem_append.mp hz with hz | hz
    · exact h1.2.2 z.1 (List.mem_map.mpr ⟨z, hz, rfl⟩) j (List.mem_cons_self ..) e
    · exact h1.2.1.1 (List.mem_map.mpr ⟨z, hz, e⟩)
  refine ⟨h1.sublist (hsub.map _), h2, fun z hz => ?_, fun i hi hi0 => ?_, h5.sublist hsub, fun z hz => h6 z (hold z hz)⟩
  · have g := h3 z (hold z hz)
    dsimp only
    rw [pk_un (hne z hz)]
    exact g
  · dsimp only at hi0
    have hij : i ≠ j := fun e => hi0 (by rw [e, pk_us])
    rw [pk_un hij] at hi0
    obtain ⟨z, hz, rfl⟩ := List.mem_map.mp (h4 i hi hi0)
    refine List.mem_map.mpr ⟨z, ?_, rfl⟩
    rcases List.mem_append.mp hz with hz | hz
    · exact List.mem_append_left _ hz
    · rcases List.mem_cons.mp hz with hz | hz
      · exact absurd (by rw [hz]) hij
      · exact List.mem_append_right _ hz
theorem rl_take_cQ {Q1 Q2 : List qe_T} {w k x y s v : Int32} {o p : Nat} (ho : o < 16) (hp : p < 16) : rl_cQ (Q1 ++ (w, k, nI o, x, y, s, v) :: Q2) (nI p) = rl_cQ (Q1 ++ Q2) (nI p) + (if p = o then 1 else 0) := by
  have h : rl_cQ (Q1 ++ (w, k, nI o, x, y, s, v) :: Q2) (nI p) = rl_cQ ((Q1 ++ Q2) ++ [(w, k, nI o, x, y, s, v)]) (nI p) := by
    rw [rl_cQ, rl_cQ]
    refine List.Perm.countP_eq _ ?_
    rw [List.append_assoc]
    exact (List.perm_append_comm (l₁ := [(w, k, nI o, x, y, s, v)]) (l₂ := Q2)).append_left Q1
  rw [h, rl_cQ_push ho hp]
theorem rl_take_cK {Q1 Q2 : List qe_T} {w k j x y s v : Int32} {o p : Nat} (ho : o < 16) (hp : p < 16) : rl_cK (Q1 ++ (w, k, nI o, x, y, s, v) :: Q2) j (nI p) = rl_cK (Q1 ++ Q2) j (nI p) + (if k = j ∧ p = o then 1 else 0) := by
  have h : rl_cK (Q1 ++ (w, k, nI o, x, y, s, v) :: Q2) j (nI p) = rl_cK ((Q1 ++ Q2) ++ [(w, k, nI o, x, y, s, v)]) j (nI p) := by
    rw [rl_cK, rl_cK]
    refine List.Perm.countP_eq _ ?_
    rw [List.append_assoc]
    exact (List.perm_append_comm (l₁ := [(w, k, nI o, x, y, s, v)]) (l₂ := Q2)).append_left Q1
  rw [h, rl_cK_push ho hp]
theorem rl_take_C {c F : Nat} {Q1 Q2 : List qe_T} {E : qe_T} (H : rl_C c F (Q1 ++ E :: Q2)) : rl_C c F (Q1 ++ Q2) := fun e he => H e (by
  rcases List.mem_append.mp he with he | he
  · exact List.mem_append_left _ he
  · exact List.mem_append_right _ (List.mem_cons_of_mem _ he))
theorem rl_take_E {Q1 Q2 : List qe_T} {w k x y s v : Int32} {o : Nat} {host st : Nat → Int32} (ho : o < 16) (H : rl_E 16 [] host st (Q1 ++ (w, k, nI o, x, y, s, v) :: Q2)) : rl_E 16 [o] host st (Q1 ++ Q2) := fun p hp => by
  have h1 := H p hp
  rw [rl_take_cQ ho hp, rl_ic_no (by simp)] at h1
  have h2 : rl_ic [o] p = if p = o then 1 else 0 := by simp [rl_ic]
  rw [h2]; omega
theorem rl_E_weak {rs o : Nat} {host st : Nat → Int32} {Q : List qe_T} (H : rl_E rs [o] host st Q) : rl_E rs [] host st Q := fun p hp => by
  have h1 := H p hp
  rw [rl_ic_no (by simp)]; omega
section
variable {kk : ty_kk} {kx : ty_kx} {ky : ty_ky} {ss : ty_ss} {gx : ty_gx} {gy : ty_gy} {px px1 : ty_px} {py : ty_py} {post : Int32 → SX → Prop} {u' : SX} {o x y s v : Int32} {a : Nat}
theorem xr_st0 (hq : ¬ px.2.2.2.1 = 0) (T : ∀ post' : Int32 → SX → Prop, post' (nI a) (mk_X kk kx ss gx px1) → wpX_takeFirst post' (mk_X kk kx ss gx px)) (ha : a < 128) (C : xq_C px1 a 0 o x y) (hs : px1.2.2.2.2.2.2.2.2.2.2.2.1 a = s) (hv : px1.2.2.2.2.2.2.2.2.2.2.2.2.1 a = v)
    (W : ∀ post' : SX → Prop, post' u' → wpX_adopt post' (mk_X kk kx ss gx px1) o x) (h : post o u') : wpX_step post (mk_X kk kx ss gx px) := by
  have hin : vp_in (nI a) 128 := vp_in_nI ha (by omega)
  have e : (nI a).toNatClampNeg = a := nI_clamp (by omega)
  refine br_f hq (T _ ⟨hin, nm_r (e' := o) (by rw [e]; exact C.2.1) ⟨hin, nm_r (e' := x) (by rw [e]; exact C.2.2.1) ⟨hin, nm_r (e' := y) (by rw [e]; exact C.2.2.2) ⟨hin, nm_r (e' := s) (by rw [e]; exact hs) ⟨hin, nm_r (e' := v) (by rw [e]; exact hv) ⟨hin, nm_r (e' := (0 : Int32)) (by rw [e]; exact C.1) ?_⟩⟩⟩⟩⟩⟩)
  exact br_f (by decide) (br_f (by decide) (br_t rfl (W _ h)))
theorem xr_st1 (hq : ¬ px.2.2.2.1 = 0) (T : ∀ post' : Int32 → SX → Prop, post' (nI a) (mk_X kk kx ss gx px1) → wpX_takeFirst post' (mk_X kk kx ss gx px)) (ha : a < 128) (C : xq_C px1 a 1 o x y) (hs : px1.2.2.2.2.2.2.2.2.2.2.2.1 a = s) (hv : px1.2.2.2.2.2.2.2.2.2.2.2.2.1 a = v)
    (W : ∀ post' : SX → Prop, post' u' → wpX_conclude post' (mk_X kk kx ss gx px1) o s v) (h : post o u') : wpX_step post (mk_X kk kx ss gx px) := by
  have hin : vp_in (nI a) 128 := vp_in_nI ha (by omega)
  have e : (nI a).toNatClampNeg = a := nI_clamp (by omega)
  refine br_f hq (T _ ⟨hin, nm_r (e' := o) (by rw [e]; exact C.2.1) ⟨hin, nm_r (e' := x) (by rw [e]; exact C.2.2.1) ⟨hin, nm_r (e' := y) (by rw [e]; exact C.2.2.2) ⟨hin, nm_r (e' := s) (by rw [e]; exact hs) ⟨hin, nm_r (e' := v) (by rw [e]; exact hv) ⟨hin, nm_r (e' := (1 : Int32)) (by rw [e]; exact C.1) ?_⟩⟩⟩⟩⟩⟩)
  exact br_f (by decide) (br_f (by decide) (br_f (by decide) (br_t rfl (W _ h))))
theorem xr_st2 (hq : ¬ px.2.2.2.1 = 0) (T : ∀ post' : Int32 → SX → Prop, post' (nI a) (mk_X kk kx ss gx px1) → wpX_takeFirst post' (mk_X kk kx ss gx px)) (ha : a < 128) (C : xq_C px1 a 2 o x y) (hs : px1.2.2.2.2.2.2.2.2.2.2.2.1 a = s) (hv : px1.2.2.2.2.2.2.2.2.2.2.2.2.1 a = v)
    (W : ∀ post' : SX → Prop, post' u' → wpX_resume post' (mk_X kk kx ss gx px1) o s v) (h : post o u') : wpX_step post (mk_X kk kx ss gx px) := by
  have hin : vp_in (nI a) 128 := vp_in_nI ha (by omega)
  have e : (nI a).toNatClampNeg = a := nI_clamp (by omega)
  refine br_f hq (T _ ⟨hin, nm_r (e' := o) (by rw [e]; exact C.2.1) ⟨hin, nm_r (e' := x) (by rw [e]; exact C.2.2.1) ⟨hin, nm_r (e' := y) (by rw [e]; exact C.2.2.2) ⟨hin, nm_r (e' := s) (by rw [e]; exact hs) ⟨hin, nm_r (e' := v) (by rw [e]; exact hv) ⟨hin, nm_r (e' := (2 : Int32)) (by rw [e]; exact C.1) ?_⟩⟩⟩⟩⟩⟩)
  exact br_f (by decide) (br_f (by decide) (br_f (by decide) (br_f (by decide) (br_t rfl (W _ h)))))
theorem xr_st3 (hq : ¬ px.2.2.2.1 = 0) (T : ∀ post' : Int32 → SX → Prop, post' (nI a) (mk_X kk kx ss gx px1) → wpX_takeFirst post' (mk_X kk kx ss gx px)) (ha : a < 128) (C : xq_C px1 a 3 o x y) (hs : px1.2.2.2.2.2.2.2.2.2.2.2.1 a = s) (hv : px1.2.2.2.2.2.2.2.2.2.2.2.2.1 a = v) {z : Int32} (hz : (s = 2 ∧ z = x) ∨ (¬ s = 2 ∧ z = y))
    (W : ∀ post' : SX → Prop, post' u' → wpX_handle post' (mk_X kk kx ss gx px1) o z s v) (h : post o u') : wpX_step post (mk_X kk kx ss gx px) := by
  have hin : vp_in (nI a) 128 := vp_in_nI ha (by omega)
  have e : (nI a).toNatClampNeg = a := nI_clamp (by omega)
  refine br_f hq (T _ ⟨hin, nm_r (e' := o) (by rw [e]; exact C.2.1) ⟨hin, nm_r (e' := x) (by rw [e]; exact C.2.2.1) ⟨hin, nm_r (e' := y) (by rw [e]; exact C.2.2.2) ⟨hin, nm_r (e' := s) (by rw [e]; exact hs) ⟨hin, nm_r (e' := v) (by rw [e]; exact hv) ⟨hin, nm_r (e' := (3 : Int32)) (by rw [e]; exact C.1) ?_⟩⟩⟩⟩⟩⟩)
  exact br_f (by decide) (br_f (by decide) (br_f (by decide) (br_f (by decide) (br_f (by decide) (br_t rfl (hz.elim (fun g => by obtain ⟨g1, g2⟩ := g; subst g2; exact br_t g1 (W _ h)) (fun g => by obtain ⟨g1, g2⟩ := g; subst g2; exact br_f g1 (W _ h))))))))
theorem xr_st4 (hq : ¬ px.2.2.2.1 = 0) (T : ∀ post' : Int32 → SX → Prop, post' (nI a) (mk_X kk kx ss gx px1) → wpX_takeFirst post' (mk_X kk kx ss gx px)) (ha : a < 128) (C : xq_C px1 a 4 o x y) (hs : px1.2.2.2.2.2.2.2.2.2.2.2.1 a = s) (hv : px1.2.2.2.2.2.2.2.2.2.2.2.2.1 a = v)
    (W : ∀ post' : SX → Prop, post' u' → wpX_element post' (mk_X kk kx ss gx px1) o s v) (h : post o u') : wpX_step post (mk_X kk kx ss gx px) := by
  have hin : vp_in (nI a) 128 := vp_in_nI ha (by omega)
  have e : (nI a).toNatClampNeg = a := nI_clamp (by omega)
  refine br_f hq (T _ ⟨hin, nm_r (e' := o) (by rw [e]; exact C.2.1) ⟨hin, nm_r (e' := x) (by rw [e]; exact C.2.2.1) ⟨hin, nm_r (e' := y) (by rw [e]; exact C.2.2.2) ⟨hin, nm_r (e' := s) (by rw [e]; exact hs) ⟨hin, nm_r (e' := v) (by rw [e]; exact hv) ⟨hin, nm_r (e' := (4 : Int32)) (by rw [e]; exact C.1) ?_⟩⟩⟩⟩⟩⟩)
  exact br_f (by decide) (br_t (by decide) (W _ h))
end
/-- the reference's first job, up to its cases -/
theorem yr_st {kk : ty_kk} {ky : ty_ky} {ss : ty_ss} {gy : ty_gy} {py : ty_py} {ck j : Nat} {Y1 Y2 : List (Nat × qe_T)} {k o x y s v z : Int32} {post : Int32 → SY → Prop} (R : yq_L py ck (Y1 ++ (j, (-1, k, o, x, y, s, v)) :: Y2)) (hn : ∀ z ∈ Y1, z.2.1 ≠ -1) (hz : (s = 2 ∧ z = x) ∨ (¬ s = 2 ∧ z = y))
    (h : wY_step_67 post (nI j) (k + 1) o x s v z kk.1 kk.2.1 kk.2.2.1 kk.2.2.2.1 kk.2.2.2.2.1 ss.1 ss.2.1 py.1 kk.2.2.2.2.2.1 kk.2.2.2.2.2.2.1 ky kk.2.2.2.2.2.2.2 ss.2.2.2.2.2.2.2.2 gy.1 gy.2.1 gy.2.2.1 gy.2.2.2 ss.2.2.1 ss.2.2.2.1 ss.2.2.2.2.2.1 ss.2.2.2.2.2.2.1 ss.2.2.2.2.1 ss.2.2.2.2.2.2.2.1 py.2.1 py.2.2.1 py.2.2.2.1 py.2.2.2.2.1 py.2.2.2.2.2.1 py.2.2.2.2.2.2.1 py.2.2.2.2.2.2.2.1 py.2.2.2.2.2.2.2.2) : wpY_step post (mk_Y kk ky ss gy py) := by
  have g := R.2.2.1 (j, (-1, k, o, x, y, s, v)) (by simp)
  dsimp only at g
  obtain ⟨g1, g2, g3, g4, g5, g6, g7, g8⟩ := g
  obtain ⟨g8, g9⟩ := g8 rfl
  have hin : vp_in (nI j) 128 := vp_in_nI g1 (by omega)
  have e : (nI j).toNatClampNeg = j := nI_clamp (by omega)
  unfold wpY_step
  refine yw_first1 R hn (br_t (nI_pos' (by omega)) ⟨hin, nm_r (e' := k + 1) (by rw [e]; exact g3) ⟨hin, nm_r (e' := o) (by rw [e]; exact g4) ⟨hin, nm_r (e' := x) (by rw [e]; exact g5) ⟨hin, nm_r (e' := s) (by rw [e]; exact g8) ⟨hin, nm_r (e' := v) (by rw [e]; exact g9) ?_⟩⟩⟩⟩⟩)
  rcases hz with ⟨h1, h2⟩ | ⟨h1, h2⟩
  · subst h2
    exact br_t h1 h
  · subst h2
    refine br_f h1 ⟨hin, ?_⟩
    have e6 : py.2.2.2.2.1 (nI j).toNatClampNeg = z := by rw [e]; exact g6
    show wY_step_67 post (nI j) (k + 1) o x s v (py.2.2.2.2.1 (nI j).toNatClampNeg) kk.1 kk.2.1 kk.2.2.1 kk.2.2.2.1 kk.2.2.2.2.1 ss.1 ss.2.1 py.1 kk.2.2.2.2.2.1 kk.2.2.2.2.2.2.1 ky kk.2.2.2.2.2.2.2 ss.2.2.2.2.2.2.2.2 gy.1 gy.2.1 gy.2.2.1 gy.2.2.2 ss.2.2.1 ss.2.2.2.1 ss.2.2.2.2.2.1 ss.2.2.2.2.2.2.1 ss.2.2.2.2.1 ss.2.2.2.2.2.2.2.1 py.2.1 py.2.2.1 py.2.2.2.1 py.2.2.2.2.1 py.2.2.2.2.2.1 py.2.2.2.2.2.2.1 py.2.2.2.2.2.2.2.1 py.2.2.2.2.2.2.2.2
    rw [e6]
    exact h
theorem xw_adopt {kk : ty_kk} {kx : ty_kx} {ss : ty_ss} {gx : ty_gx} {px px1 : ty_px} {a : Nat} {o q : Int32} {u' : SX} (W1 : ∀ post : Int32 → SX → Prop, post (nI a) (mk_X kk kx ss gx px1) → wpX_newNode post (mk_X kk kx ss gx px) 1 o 0 0) (W2 : ∀ post : SX → Prop, post u' → wpX_watch post (mk_X kk kx ss gx px1) q (nI a)) {post : SX → Prop} (h : post u') :
    wpX_adopt post (mk_X kk kx ss gx px) o q := by
  unfold wpX_adopt mk_X
  dsimp only
  exact W1 _ (W2 _ h)
end
section
/-! an element of a combined promise -/
def fo_h (val : Nat → Int32) (mask : Int32) : Nat → Int32
  | 0 => 0
  | i + 1 => if bt mask i = true then ((31 * fo_h val mask i) + val i).toInt16.toInt32 else fo_h val mask i
theorem fo_v (c : Nat) (val : Nat → Int32) (mask : Int32) : ∀ i, rl_v c (fo_h val mask i)
  | 0 => rl_v_neg (show (0 : Int32).toInt < 65536 by decide)
  | i + 1 => by
    rw [fo_h]; split
    · exact rl_v_16 c _
    · exact fo_v c val mask i
theorem fo_up {val : Nat → Int32} {mask : Int32} {c : Nat} (h : ∀ i, i < 32 → c ≤ i → bt mask i = false) : ∀ d, c + d ≤ 32 → fo_h val mask (c + d) = fo_h val mask c
  | 0, _ => rfl
  | d + 1, hd => by
    rw [← Nat.add_assoc, fo_h, if_neg (by rw [h (c + d) (by omega) (by omega)]; decide)]
    exact fo_up h d (by omega)
def el_dec (kd s : Int32) : Prop := kd = 1 ∨ (kd = 0 ↔ s = 3)
section
variable {pl sl ol n fn dp c ou : Nat} {sealed : Int32} {ops opB opA target handler level entry blocks sa st val host kinds masks asleep out rem pcx slots rx cx cells vars pcy cy ry : Nat → Int32} {px : ty_px} {py : ty_py} {B ph : Nat}
theorem xr_fo {post : Int32 → Prop} {mask : Int32} (hc : c ≤ 16) (h : post (fo_h val mask c)) : ∀ d i, i + d = c → wX_fold_4 post mask 0 1 2 3 4 (nI pl) (nI sl) (nI ol) (nI n) (nI fn) (nI dp) sealed (nI c) px.1 px.2.1 px.2.2.1 px.2.2.2.1 (nI ou) ops opA opB target handler level entry blocks st val px.2.2.2.2.1 px.2.2.2.2.2.1 px.2.2.2.2.2.2.1 host kinds masks rem pcx slots rx cx asleep cells px.2.2.2.2.2.2.2.1 px.2.2.2.2.2.2.2.2.1 px.2.2.2.2.2.2.2.2.2.1 px.2.2.2.2.2.2.2.2.2.2.1 px.2.2.2.2.2.2.2.2.2.2.2.1 px.2.2.2.2.2.2.2.2.2.2.2.2.1 px.2.2.2.2.2.2.2.2.2.2.2.2.2 out (d + 1) (fo_h val mask i) (nI i)
  | 0, i, hi => by
    have : i = c := by omega
    subst this
    exact br_t (nI_le (Nat.le_refl _) (by omega)) h
  | d + 1, i, hi => by
    have ih := xr_fo hc h d (i + 1) (by omega)
    rw [fo_h] at ih
    have e : (nI i).toNatClampNeg = i := nI_clamp (by omega)
    by_cases hb : bt mask i = true
    · have hb' : ¬ ((mask.toUInt32 >>> ((nI i).toUInt32 &&& Int32.toUInt32 31)).toInt32 &&& 1) = 0 := fun z => (bm_x (by omega)).mp z hb
      rw [if_pos hb] at ih
      exact br_f (nI_ge (by omega) (by omega)) (br_f hb' ⟨vp_in_nI (by omega) (by omega), nm_r (e' := ((31 * fo_h val mask i) + val i).toInt16.toInt32) (by rw [e]) (nm_r (nI_1 i) ih)⟩)
    · have hb' : ((mask.toUInt32 >>> ((nI i).toUInt32 &&& Int32.toUInt32 31)).toInt32 &&& 1) = 0 := (bm_x (by omega)).mpr hb
      rw [if_neg hb] at ih
      exact br_f (nI_ge (by omega) (by omega)) (br_t hb' (nm_r (nI_1 i) ih))
theorem xw_fo {post : Int32 → Prop} {mask : Int32} (hc : c ≤ 16) (h : post (fo_h val mask c)) : wpX_fold post (mk_X ((nI pl), (nI sl), (nI ol), (nI n), (nI fn), sealed, ops, opB) ((nI dp), opA, target, handler, level, entry, blocks) ((nI c), (nI ou), st, val, host, kinds, masks, asleep, out) (rem, pcx, slots, rx, cx, cells) px) mask :=
  Exists.intro (c + 1) (xr_fo hc h c 0 (by omega))
theorem xr_el62 {post : SX → Prop} {kd x1 s v : Int32} {z : Int32} (hz : (el_dec kd s ∧ z = 1) ∨ (¬ el_dec kd s ∧ z = 0)) (h : wX_element_62 post x1 s v z 0 1 2 3 4 (nI pl) (nI sl) (nI ol) (nI n) (nI fn) (nI dp) sealed (nI c) px.1 px.2.1 px.2.2.1 px.2.2.2.1 (nI ou) ops opA opB target handler level entry blocks st val px.2.2.2.2.1 px.2.2.2.2.2.1 px.2.2.2.2.2.2.1 host kinds masks rem pcx slots rx cx asleep cells px.2.2.2.2.2.2.2.1 px.2.2.2.2.2.2.2.2.1 px.2.2.2.2.2.2.2.2.2.1 px.2.2.2.2.2.2.2.2.2.2.1 px.2.2.2.2.2.2.2.2.2.2.2.1 px.2.2.2.2.2.2.2.2.2.2.2.2.1 px.2.2.2.2.2.2.2.2.2.2.2.2.2 out) :
    (kd = 1 → wX_element_57 post x1 s v 0 1 2 3 4 (nI pl) (nI sl) (nI ol) (nI n) (nI fn) (nI dp) sealed (nI c) px.1 px.2.1 px.2.2.1 px.2.2.2.1 (nI ou) ops opA opB target handler level entry blocks st val px.2.2.2.2.1 px.2.2.2.2.2.1 px.2.2.2.2.2.2.1 host kinds masks rem pcx slots rx cx asleep cells px.2.2.2.2.2.2.2.1 px.2.2.2.2.2.2.2.2.1 px.2.2.2.2.2.2.2.2.2.1 px.2.2.2.2.2.2.2.2.2.2.1 px.2.2.2.2.2.2.2.2.2.2.2.1 px.2.2.2.2.2.2.2.2.2.2.2.2.1 px.2.2.2.2.2.2.2.2.2.2.2.2.2 out) ∧ (¬ kd = 1 → ((kd = 0 → wX_element_44 post x1 s v 1 0 1 2 3 4 (nI pl) (nI sl) (nI ol) (nI n) (nI fn) (nI dp) sealed (nI c) px.1 px.2.1 px.2.2.1 px.2.2.2.1 (nI ou) ops opA opB target handler level entry blocks st val px.2.2.2.2.1 px.2.2.2.2.2.1 px.2.2.2.2.2.2.1 host kinds masks rem pcx slots rx cx asleep cells px.2.2.2.2.2.2.2.1 px.2.2.2.2.2.2.2.2.1 px.2.2.2.2.2.2.2.2.2.1 px.2.2.2.2.2.2.2.2.2.2.1 px.2.2.2.2.2.2.2.2.2.2.2.1 px.2.2.2.2.2.2.2.2.2.2.2.2.1 px.2.2.2.2.2.2.2.2.2.2.2.2.2 out) ∧ (¬ kd = 0 → wX_element_44 post x1 s v 0 0 1 2 3 4 (nI pl) (nI sl) (nI ol) (nI n) (nI fn) (nI dp) sealed (nI c) px.1 px.2.1 px.2.2.1 px.2.2.2.1 (nI ou) ops opA opB target handler level entry blocks st val px.2.2.2.2.1 px.2.2.2.2.2.1 px.2.2.2.2.2.2.1 host kinds masks rem pcx slots rx cx asleep cells px.2.2.2.2.2.2.2.1 px.2.2.2.2.2.2.2.2.1 px.2.2.2.2.2.2.2.2.2.1 px.2.2.2.2.2.2.2.2.2.2.1 px.2.2.2.2.2.2.2.2.2.2.2.1 px.2.2.2.2.2.2.2.2.2.2.2.2.1 px.2.2.2.2.2.2.2.2.2.2.2.2.2 out))) := by
  rcases hz with ⟨hd, rfl⟩ | ⟨hd, rfl⟩
  · by_cases h1 : kd = 1
    · exact br_t h1 h
    · have hd := hd.resolve_left h1
      refine br_f h1 ?_
      by_cases h0 : kd = 0
      · exact br_t h0 (br_t (hd.mp h0) (br_t rfl h))
      · exact br_f h0 (br_f (fun z => h0 (hd.mpr z)) (br_t rfl h))
  · have h1 : ¬ kd = 1 := fun z => hd (Or.inl z)
    refine br_f h1 ?_
    by_cases h0 : kd = 0
    · exact br_t h0 (br_f (fun z => hd (Or.inr ⟨fun _ => z, fun _ => h0⟩)) (br_f (by decide) h))
    · refine br_f h0 ?_
      by_cases h3 : s = 3
      · exact br_t h3 (br_f (by decide) h)
      · exact absurd (Or.inr ⟨fun z => absurd z h0, fun z => absurd z h3⟩) hd
theorem yr_el132 {post : SY → Prop} {kd x1 s v r f : Int32} (hd : el_dec kd s) (h : wY_element_132 post x1 s v (nI pl) (nI sl) (nI ol) (nI n) (nI fn) (nI c) (nI ou) py.1 sealed ops sa opB out vars pcy cy ry st val kinds masks host asleep py.2.1 py.2.2.1 py.2.2.2.1 py.2.2.2.2.1 py.2.2.2.2.2.1 py.2.2.2.2.2.2.1 py.2.2.2.2.2.2.2.1 py.2.2.2.2.2.2.2.2) :
    (kd = 1 → wY_element_132 post x1 s v (nI pl) (nI sl) (nI ol) (nI n) (nI fn) (nI c) (nI ou) py.1 sealed ops sa opB out vars pcy cy ry st val kinds masks host asleep py.2.1 py.2.2.1 py.2.2.2.1 py.2.2.2.2.1 py.2.2.2.2.2.1 py.2.2.2.2.2.2.1 py.2.2.2.2.2.2.2.1 py.2.2.2.2.2.2.2.2) ∧ (¬ kd = 1 → ((kd = 0 → wY_element_119 post x1 s v r f 1 (nI pl) (nI sl) (nI ol) (nI n) (nI fn) (nI c) (nI ou) py.1 sealed ops sa opB out vars pcy cy ry st val kinds masks host asleep py.2.1 py.2.2.1 py.2.2.2.1 py.2.2.2.2.1 py.2.2.2.2.2.1 py.2.2.2.2.2.2.1 py.2.2.2.2.2.2.2.1 py.2.2.2.2.2.2.2.2) ∧ (¬ kd = 0 → wY_element_119 post x1 s v r f 0 (nI pl) (nI sl) (nI ol) (nI n) (nI fn) (nI c) (nI ou) py.1 sealed ops sa opB out vars pcy cy ry st val kinds masks host asleep py.2.1 py.2.2.1 py.2.2.2.1 py.2.2.2.2.1 py.2.2.2.2.2.1 py.2.2.2.2.2.2.1 py.2.2.2.2.2.2.2.1 py.2.2.2.2.2.2.2.2))) := by
  by_cases h1 : kd = 1
  · exact br_t h1 h
  · have hd := hd.resolve_left h1
    refine br_f h1 ?_
    by_cases h0 : kd = 0
    · exact br_t h0 (br_t (hd.mp h0) (br_t rfl h))
    · exact br_f h0 (br_f (fun z => h0 (hd.mpr z)) (br_t rfl h))
theorem yr_el129 {post : SY → Prop} {kd x1 s v r f : Int32} (hd : ¬ el_dec kd s) (h : ∀ z0 z1 : Int32, ¬ z1 = z0 → wY_element_129 post x1 s v r f z0 z1 (nI pl) (nI sl) (nI ol) (nI n) (nI fn) (nI c) (nI ou) py.1 sealed ops sa opB out vars pcy cy ry st val kinds masks host asleep py.2.1 py.2.2.1 py.2.2.2.1 py.2.2.2.2.1 py.2.2.2.2.2.1 py.2.2.2.2.2.2.1 py.2.2.2.2.2.2.2.1 py.2.2.2.2.2.2.2.2) :
    (kd = 1 → wY_element_132 post x1 s v (nI pl) (nI sl) (nI ol) (nI n) (nI fn) (nI c) (nI ou) py.1 sealed ops sa opB out vars pcy cy ry st val kinds masks host asleep py.2.1 py.2.2.1 py.2.2.2.1 py.2.2.2.2.1 py.2.2.2.2.2.1 py.2.2.2.2.2.2.1 py.2.2.2.2.2.2.2.1 py.2.2.2.2.2.2.2.2) ∧ (¬ kd = 1 → ((kd = 0 → wY_element_119 post x1 s v r f 1 (nI pl) (nI sl) (nI ol) (nI n) (nI fn) (nI c) (nI ou) py.1 sealed ops sa opB out vars pcy cy ry st val kinds masks host asleep py.2.1 py.2.2.1 py.2.2.2.1 py.2.2.2.2.1 py.2.2.2.2.2.1 py.2.2.2.2.2.2.1 py.2.2.2.2.2.2.2.1 py.2.2.2.2.2.2.2.2) ∧ (¬ kd = 0 → wY_element_119 post x1 s v r f 0 (nI pl) (nI sl) (nI ol) (nI n) (nI fn) (nI c) (nI ou) py.1 sealed ops sa opB out vars pcy cy ry st val kinds masks host asleep py.2.1 py.2.2.1 py.2.2.2.1 py.2.2.2.2.1 py.2.2.2.2.2.1 py.2.2.2.2.2.2.1 py.2.2.2.2.2.2.2.1 py.2.2.2.2.2.2.2.2))) := by
  have h1 : ¬ kd = 1 := fun z => hd (Or.inl z)
  refine br_f h1 ?_
  by_cases h0 : kd = 0
  · exact br_t h0 (br_f (fun z => hd (Or.inr ⟨fun _ => z, fun _ => h0⟩)) (h _ _ (by decide)))
  · refine br_f h0 ?_
    by_cases h3 : s = 3
    · exact br_t h3 (h _ _ (by decide))
    · exact absurd (Or.inr ⟨fun z => absurd z h0, fun z => absurd z h3⟩) hd
theorem yr_el51 {post : SY → Prop} {o : Nat} {s v R : Int32} (ho : o < 16) (h : ∀ N, wY_element_51 post (nI o) s v R (nI pl) (nI sl) (nI ol) (nI n) (nI fn) (nI c) (nI ou) py.1 sealed ops sa opB out vars pcy cy ry st val kinds masks host asleep py.2.1 py.2.2.1 py.2.2.2.1 py.2.2.2.2.1 py.2.2.2.2.2.1 py.2.2.2.2.2.2.1 py.2.2.2.2.2.2.2.1 py.2.2.2.2.2.2.2.2 (N + 1) (fo_h val (masks o) 16) (nI 16)) : ∀ d i, i + d = 16 → wY_element_51 post (nI o) s v R (nI pl) (nI sl) (nI ol) (nI n) (nI fn) (nI c) (nI ou) py.1 sealed ops sa opB out vars pcy cy ry st val kinds masks host asleep py.2.1 py.2.2.1 py.2.2.2.1 py.2.2.2.2.1 py.2.2.2.2.2.1 py.2.2.2.2.2.2.1 py.2.2.2.2.2.2.2.1 py.2.2.2.2.2.2.2.2 (d + 1) (fo_h val (masks o) i) (nI i)
  | 0, i, hi => by
    have : i = 16 := by omega
    subst this
    exact h 0
  | d + 1, i, hi => by
    have ih := yr_el51 ho h d (i + 1) (by omega)
    rw [fo_h] at ih
    have e : (nI i).toNatClampNeg = i := nI_clamp (by omega)
    have eo : (nI o).toNatClampNeg = o := nI_clamp (by omega)
    refine br_f (nI_ge (b := 16) (by omega) (by decide)) ⟨vp_in_nI ho (by omega), ?_⟩
    by_cases hb : bt (masks o) i = true
    · have hb' : ((masks (nI o).toNatClampNeg >>> (nI i &&& 31)) &&& 1) = 1 := by rw [eo]; exact (bm_y (by omega)).mpr hb
      rw [if_pos hb] at ih
      exact br_t hb' ⟨vp_in_nI (by omega) (by omega), nm_r (e' := ((31 * fo_h val (masks o) i) + val i).toInt16.toInt32) (by rw [e]) (nm_r (nI_1 i) ih)⟩
    · have hb' : ¬ ((masks (nI o).toNatClampNeg >>> (nI i &&& 31)) &&& 1) = 1 := by rw [eo]; exact fun z => hb ((bm_y (by omega)).mp z)
      rw [if_neg hb] at ih
      exact br_f hb' (nm_r (nI_1 i) ih)
def yq_he (py : ty_py) (w : Int32) (i : Nat) : Bool := py.2.1 i == 5 && py.2.2.1 i == w
theorem yr_el9 {post : SY → Prop} {o : Nat} {s v : Int32} (h : ∃ N, wY_element_51 post (nI o) s v (nI (yq_cnt (yq_he py (nI o)) 128)) (nI pl) (nI sl) (nI ol) (nI n) (nI fn) (nI c) (nI ou) py.1 sealed ops sa opB out vars pcy cy ry st val kinds masks host asleep py.2.1 py.2.2.1 py.2.2.2.1 py.2.2.2.2.1 py.2.2.2.2.2.1 py.2.2.2.2.2.2.1 py.2.2.2.2.2.2.2.1 py.2.2.2.2.2.2.2.2 N 0 0) : ∀ d i, i + d = 128 → wY_element_9 post (nI o) s v 0 (nI pl) (nI sl) (nI ol) (nI n) (nI fn) (nI c) (nI ou) py.1 sealed ops sa opB out vars pcy cy ry st val kinds masks host asleep py.2.1 py.2.2.1 py.2.2.2.1 py.2.2.2.2.1 py.2.2.2.2.2.1 py.2.2.2.2.2.2.1 py.2.2.2.2.2.2.2.1 py.2.2.2.2.2.2.2.2 (d + 1) (nI (yq_cnt (yq_he py (nI o)) i)) (nI i)
  | 0, i, hi => by
    have : i = 128 := by omega
    subst this
    exact br_t yq_128 h
  | d + 1, i, hi => by
    have e : (nI i).toNatClampNeg = i := nI_clamp (by omega)
    have hin : vp_in (nI i) 128 := vp_in_nI (by omega) (by omega)
    have ih := yr_el9 h d (i + 1) (by omega)
    rw [yq_cnt] at ih
    refine br_f (yq_n128 (by omega)) ⟨hin, ?_⟩
    by_cases h5 : py.2.1 i = 5
    · refine br_t (by rw [e]; exact h5) ⟨hin, ?_⟩
      by_cases hp : py.2.2.1 i = nI o
      · rw [if_pos (by simp [yq_he, h5, hp])] at ih
        exact br_t (by rw [e]; exact hp) (nm_r (nI_1 _) (nm_r (nI_1 i) ih))
      · rw [if_neg (by simp [yq_he, hp])] at ih
        exact br_f (by rw [e]; exact hp) (nm_r (nI_1 i) ih)
    · rw [if_neg (by simp [yq_he, h5])] at ih
      exact br_f (by rw [e]; exact h5) (nm_r (nI_1 i) ih)
theorem yq_rest {ck : Nat} {Q : List qe_T} {w : Int32} (R : yq_R py ck Q) : yq_cnt (yq_he py w) 128 = rl_cK Q 4 w := by
  obtain ⟨YL, rfl, R⟩ := R
  refine yq_cntQ R (fun z hz => ?_) (fun i hi hh => ?_)
  · have g := R.2.2.1 z hz
    rw [yq_he, g.2.2.1, g.2.2.2.1]
    have : (z.2.2.1 + 1 == 5) = (z.2.2.1 == 4) := by
      rw [Bool.eq_iff_iff, beq_iff_eq, beq_iff_eq]
      constructor
      · intro h
        have h2 : z.2.2.1 + 1 - 1 = 5 - 1 := by rw [h]
        rw [Int32.add_sub_cancel] at h2
        exact h2
      · intro h; rw [h]; rfl
    rw [this]
  · intro h0
    rw [yq_he, h0] at hh
    exact absurd hh (by simp)
/-- the reference's element, up to the decision -/
theorem yw_elem {post : SY → Prop} {o ck : Nat} {s v : Int32} {Q : List qe_T} (ho : o < 16) (R : yq_R py ck Q) (hc : c ≤ 16) (HM : rl_M c masks)
    (h : (kinds o = 1 → wY_element_132 post (nI o) s v (nI pl) (nI sl) (nI ol) (nI n) (nI fn) (nI c) (nI ou) py.1 sealed ops sa opB out vars pcy cy ry st val kinds masks host asleep py.2.1 py.2.2.1 py.2.2.2.1 py.2.2.2.2.1 py.2.2.2.2.2.1 py.2.2.2.2.2.2.1 py.2.2.2.2.2.2.2.1 py.2.2.2.2.2.2.2.2) ∧ (¬ kinds o = 1 → ((kinds o = 0 → wY_element_119 post (nI o) s v (nI (rl_cK Q 4 (nI o))) (fo_h val (masks o) c) 1 (nI pl) (nI sl) (nI ol) (nI n) (nI fn) (nI c) (nI ou) py.1 sealed ops sa opB out vars pcy cy ry st val kinds masks host asleep py.2.1 py.2.2.1 py.2.2.2.1 py.2.2.2.2.1 py.2.2.2.2.2.1 py.2.2.2.2.2.2.1 py.2.2.2.2.2.2.2.1 py.2.2.2.2.2.2.2.2) ∧ (¬ kinds o = 0 → wY_element_119 post (nI o) s v (nI (rl_cK Q 4 (nI o))) (fo_h val (masks o) c) 0 (nI pl) (nI sl) (nI ol) (nI n) (nI fn) (nI c) (nI ou) py.1 sealed ops sa opB out vars pcy cy ry st val kinds masks host asleep py.2.1 py.2.2.1 py.2.2.2.1 py.2.2.2.2.1 py.2.2.2.2.2.1 py.2.2.2.2.2.2.1 py.2.2.2.2.2.2.2.1 py.2.2.2.2.2.2.2.2)))) :
    wpY_element post (mk_Y ((nI pl), (nI sl), (nI ol), (nI n), (nI fn), sealed, ops, opB) sa ((nI c), (nI ou), st, val, host, kinds, masks, asleep, out) (vars, pcy, cy, ry) py) (nI o) s v := by
  have eo : (nI o).toNatClampNeg = o := nI_clamp (by omega)
  have hin : vp_in (nI o) 16 := vp_in_nI ho (by omega)
  have ef : fo_h val (masks o) 16 = fo_h val (masks o) c := by
    have := fo_up (val := val) (HM o ho) (16 - c) (by omega)
    rw [show c + (16 - c) = 16 by omega] at this
    exact this
  refine Exists.intro 129 (yr_el9 (Exists.intro 17 (yr_el51 ho (fun N => ?_) 16 0 (by omega))) 128 0 (by omega))
  rw [yq_rest R, ef]
  refine br_t (by decide) ⟨hin, ?_⟩
  have hk : ∀ x, kinds (nI o).toNatClampNeg = x ↔ kinds o = x := fun x => by rw [eo]
  exact ⟨fun z => h.1 ((hk 1).mp z), fun z => ⟨hin, fun y => (h.2 (fun w => z ((hk 1).mpr w))).1 ((hk 0).mp y), fun y => (h.2 (fun w => z ((hk 1).mpr w))).2 (fun w => y ((hk 0).mpr w))⟩⟩
end
end
section
/-! jobs: adopting, passing on, elements -/
section
variable {pl sl ol n fn dp c ou : Nat} {sealed : Int32} {ops opB opA target handler level entry blocks sa st val host kinds masks asleep out rem pcx slots rx cx cells vars pcy cy ry : Nat → Int32} {px : ty_px} {py : ty_py} {nE F B ck o : Nat} {Q : List qe_T}
theorem sk_adopt {q : Nat} (hpl : pl ≤ 16) (hB : B + 800 < 2 ^ 29) (hc : c ≤ pl ∧ ou ≤ ol) (RX : xq_R px [] 16 Q) (RY : yq_R py ck Q) (hck : ck + 130 * (16 - c) ≤ B) (HA : rl_A c st val) (HB : rl_B c vars slots cells) (HC : rl_C c F Q) (HE : rl_E 16 [o] host st Q) (HZ : rl_Z c host asleep) (HG : rl_G c asleep cx cy []) (HH : rl_H ops nE pcx pcy rx ry asleep []) (HM : rl_M c masks) (hoc : o < c) (HD : rl_D rem Q) (HF : rl_F asleep Q) (hq : q < c) :
    ∃ u' v', rn_RU ((nI pl), (nI sl), (nI ol), (nI n), (nI fn), sealed, ops, opB) ((nI dp), opA, target, handler, level, entry, blocks) sa pl ol nE F ops (B + 800) 16 [] 32800 u' v' ∧ (∀ post : SX → Prop, post u' → wpX_adopt post (mk_X ((nI pl), (nI sl), (nI ol), (nI n), (nI fn), sealed, ops, opB) ((nI dp), opA, target, handler, level, entry, blocks) ((nI c), (nI ou), st, val, host, kinds, masks, asleep, out) (rem, pcx, slots, rx, cx, cells) px) (nI o) (nI q)) ∧ (∀ post : SY → Prop, post v' → wpY_watch post (mk_Y ((nI pl), (nI sl), (nI ol), (nI n), (nI fn), sealed, ops, opB) sa ((nI c), (nI ou), st, val, host, kinds, masks, asleep, out) (vars, pcy, cy, ry) py) (nI q) 2 (nI o) 0 0) := by
  have hQ := rl_len (by omega) HC HE
  obtain ⟨a, px1, px2, RX2, W1, W2⟩ := xw_nwat RX (by omega) (show q < 16 by omega) st val 1 (nI o) 0 0
  obtain ⟨py1, RY1, WY⟩ := yw_wat RY (by omega) (by omega) (show q < 16 by omega) st val (HA q (by omega)).1 1 (nI o) 0 0 (by decide)
  obtain ⟨w, s, v, eQ, hw, hv, hs⟩ := qq_wat_c (Q := Q) 1 (nI o) 0 0 HA hq (by omega)
  rw [eQ] at RX2 RY1
  refine ⟨(mk_X ((nI pl), (nI sl), (nI ol), (nI n), (nI fn), sealed, ops, opB) ((nI dp), opA, target, handler, level, entry, blocks) ((nI c), (nI ou), st, val, host, kinds, masks, asleep, out) (rem, pcx, slots, rx, cx, cells) (px2)), (mk_Y ((nI pl), (nI sl), (nI ol), (nI n), (nI fn), sealed, ops, opB) sa ((nI c), (nI ou), st, val, host, kinds, masks, asleep, out) (vars, pcy, cy, ry) (py1)), rn_mk ⟨_, ck + 1, ⟨hc.1, hc.2, Or.inl rfl, Nat.zero_le _⟩, RX2, RY1, by rw [List.length_nil]; omega, by rw [rl_ps]; omega, HA, HB, fun e he => ?_, fun d hd => ?_, rl_E_push (by omega) (by simp) (fun _ _ => rfl) (Or.inl rfl) HE, fun p hp => ?_, HZ, HG, HH, HM⟩, fun post hp => ?_, fun post hp => WY ((nI pl), (nI sl), (nI ol), (nI n), (nI fn), sealed, ops, opB) sa (nI c) (nI ou) host kinds masks asleep out (vars, pcy, cy, ry) post hp⟩
  · rcases List.mem_append.mp he with he | he
    · exact HC e he
    · rw [List.mem_singleton.mp he]
      exact ⟨⟨o, hoc, rfl⟩, hw, Or.inr (Or.inl rfl), fun z => ⟨hv, fun _ => hs z⟩, fun z => absurd z (show ¬ (1 : Int32) = 0 by decide), fun z => absurd z (show ¬ (1 : Int32) = 3 by decide)⟩
  · rw [rl_cK_push (by omega) hd, if_neg (fun z => absurd z.1 (by decide))]; exact HD d hd
  · rw [rl_cK_push (by omega) hp, if_neg (fun z => absurd z.1 (by decide))]; exact HF p hp
  · exact xw_adopt (W1 _ _ _ _) (fun post' hp' => W2 ((nI pl), (nI sl), (nI ol), (nI n), (nI fn), sealed, ops, opB) ((nI dp), opA, target, handler, level, entry, blocks) (nI c) (nI ou) host kinds masks asleep out (rem, pcx, slots, rx, cx, cells) post' hp') hp
theorem sk_conc {s v : Int32} (hpl : pl ≤ 16) (hB : B + 800 < 2 ^ 29) (hc : c ≤ pl ∧ ou ≤ ol) (RX : xq_R px [] 16 Q) (RY : yq_R py ck Q) (hck : ck + 130 * (16 - c) ≤ B) (HA : rl_A c st val) (HB : rl_B c vars slots cells) (HC : rl_C c F Q) (HE : rl_E 16 [o] host st Q) (HZ : rl_Z c host asleep) (HG : rl_G c asleep cx cy []) (HH : rl_H ops nE pcx pcy rx ry asleep []) (HM : rl_M c masks) (hoc : o < c) (HD : rl_D rem Q) (HF : rl_F asleep Q) (hs : s = 2 ∨ s = 3) (hv : rl_v c v) :
    ∃ px' py', rn_RU ((nI pl), (nI sl), (nI ol), (nI n), (nI fn), sealed, ops, opB) ((nI dp), opA, target, handler, level, entry, blocks) sa pl ol nE F ops (B + 800) 16 [] 32800 (mk_X ((nI pl), (nI sl), (nI ol), (nI n), (nI fn), sealed, ops, opB) ((nI dp), opA, target, handler, level, entry, blocks) ((nI c), (nI ou), (upd st o s), (upd val o v), host, kinds, masks, asleep, out) (rem, pcx, slots, rx, cx, cells) (px')) (mk_Y ((nI pl), (nI sl), (nI ol), (nI n), (nI fn), sealed, ops, opB) sa ((nI c), (nI ou), (upd st o s), (upd val o v), host, kinds, masks, asleep, out) (vars, pcy, cy, ry) (py')) ∧ (∀ post : SX → Prop, post (mk_X ((nI pl), (nI sl), (nI ol), (nI n), (nI fn), sealed, ops, opB) ((nI dp), opA, target, handler, level, entry, blocks) ((nI c), (nI ou), (upd st o s), (upd val o v), host, kinds, masks, asleep, out) (rem, pcx, slots, rx, cx, cells) (px')) → wpX_conclude post (mk_X ((nI pl), (nI sl), (nI ol), (nI n), (nI fn), sealed, ops, opB) ((nI dp), opA, target, handler, level, entry, blocks) ((nI c), (nI ou), st, val, host, kinds, masks, asleep, out) (rem, pcx, slots, rx, cx, cells) px) (nI o) s v) ∧ (∀ post : SY → Prop, post (mk_Y ((nI pl), (nI sl), (nI ol), (nI n), (nI fn), sealed, ops, opB) sa ((nI c), (nI ou), (upd st o s), (upd val o v), host, kinds, masks, asleep, out) (vars, pcy, cy, ry) (py')) → wpY_finish post (mk_Y ((nI pl), (nI sl), (nI ol), (nI n), (nI fn), sealed, ops, opB) sa ((nI c), (nI ou), st, val, host, kinds, masks, asleep, out) (vars, pcy, cy, ry) py) (nI o) s v) := by
  have hQ := rl_len (by omega) HC HE
  have hs0 : s ≠ 0 := by rcases hs with h | h <;> rw [h] <;> decide
  obtain ⟨px2, RX2, VX⟩ := xw_conc RX (show o < 16 by omega) s v
  obtain ⟨py2, ck2, hck2, RY2, VY⟩ := yw_fin RY (show o < 16 by omega) (by omega) (by omega) s v
  exact ⟨px2, py2, rn_mk ⟨_, ck2, ⟨hc.1, hc.2, Or.inl rfl, Nat.zero_le _⟩, RX2, RY2, by rw [List.length_nil]; omega, by rw [rl_ps]; omega, rl_A_upd (by rcases hs with h | h <;> rw [h] <;> decide) hv HA, HB, rl_conc_C HC hv hs, fun d hd => by rw [rl_conc_cK]; exact HD d hd, rl_E_conc hs0 HE, fun p hp => by rw [rl_conc_cK]; exact HF p hp, HZ, HG, HH, HM⟩, fun post hp => VX _ _ _ _ _ _ _ _ _ _ _ _ _ hp, fun post hp => VY _ _ _ _ _ _ _ _ _ _ _ _ _ hp⟩
theorem sk_keep (hpl : pl ≤ 16) (hB : B + 800 < 2 ^ 29) (hc : c ≤ pl ∧ ou ≤ ol) (RX : xq_R px [] 16 Q) (RY : yq_R py ck Q) (hck : ck + 130 * (16 - c) ≤ B) (HA : rl_A c st val) (HB : rl_B c vars slots cells) (HC : rl_C c F Q) (HE : rl_E 16 [o] host st Q) (HZ : rl_Z c host asleep) (HG : rl_G c asleep cx cy []) (HH : rl_H ops nE pcx pcy rx ry asleep []) (HM : rl_M c masks) (hoc : o < c) (HD : rl_D rem Q) (HF : rl_F asleep Q) : rn_RU ((nI pl), (nI sl), (nI ol), (nI n), (nI fn), sealed, ops, opB) ((nI dp), opA, target, handler, level, entry, blocks) sa pl ol nE F ops (B + 800) 16 [] 32800 (mk_X ((nI pl), (nI sl), (nI ol), (nI n), (nI fn), sealed, ops, opB) ((nI dp), opA, target, handler, level, entry, blocks) ((nI c), (nI ou), st, val, host, kinds, masks, asleep, out) (rem, pcx, slots, rx, cx, cells) px) (mk_Y ((nI pl), (nI sl), (nI ol), (nI n), (nI fn), sealed, ops, opB) sa ((nI c), (nI ou), st, val, host, kinds, masks, asleep, out) (vars, pcy, cy, ry) py) :=
  rn_mk ⟨Q, ck, ⟨hc.1, hc.2, Or.inl rfl, Nat.zero_le _⟩, RX, RY, by rw [List.length_nil]; omega, by rw [rl_ps]; omega, HA, HB, HC, HD, rl_E_weak HE, HF, HZ, HG, HH, HM⟩
theorem sk_elem {s v : Int32} (hpl : pl ≤ 16) (hB : B + 800 < 2 ^ 29) (hc : c ≤ pl ∧ ou ≤ ol) (RX : xq_R px [] 16 Q) (RY : yq_R py ck Q) (hck : ck + 130 * (16 - c) ≤ B) (HA : rl_A c st val) (HB : rl_B c vars slots cells) (HC : rl_C c F Q) (HE : rl_E 16 [o] host st Q) (HZ : rl_Z c host asleep) (HG : rl_G c asleep cx cy []) (HH : rl_H ops nE pcx pcy rx ry asleep []) (HM : rl_M c masks) (hoc : o < c) (hrem : rem o - 1 = nI (rl_cK Q 4 (nI o))) (HD : rl_D (upd rem o (nI (rl_cK Q 4 (nI o)))) Q) (HF : rl_F asleep Q) (hs : s = 2 ∨ s = 3) (hv : rl_v c v) :
    ∃ u' v', rn_RU ((nI pl), (nI sl), (nI ol), (nI n), (nI fn), sealed, ops, opB) ((nI dp), opA, target, handler, level, entry, blocks) sa pl ol nE F ops (B + 800) 16 [] 32800 u' v' ∧ (∀ post : SX → Prop, post u' → wpX_element post (mk_X ((nI pl), (nI sl), (nI ol), (nI n), (nI fn), sealed, ops, opB) ((nI dp), opA, target, handler, level, entry, blocks) ((nI c), (nI ou), st, val, host, kinds, masks, asleep, out) (rem, pcx, slots, rx, cx, cells) px) (nI o) s v) ∧
      (∀ post : SY → Prop, post v' → (st o = 0 → wpY_element post (mk_Y ((nI pl), (nI sl), (nI ol), (nI n), (nI fn), sealed, ops, opB) sa ((nI c), (nI ou), st, val, host, kinds, masks, asleep, out) (vars, pcy, cy, ry) py) (nI o) s v) ∧ (¬ st o = 0 → post (mk_Y ((nI pl), (nI sl), (nI ol), (nI n), (nI fn), sealed, ops, opB) sa ((nI c), (nI ou), st, val, host, kinds, masks, asleep, out) (vars, pcy, cy, ry) py))) := by
  have hQ := rl_len (by omega) HC HE
  have eo : (nI o).toNatClampNeg = o := nI_clamp (by omega)
  have hin : vp_in (nI o) 16 := vp_in_nI (by omega) (by omega)
  have erem : upd rem (nI o).toNatClampNeg (rem (nI o).toNatClampNeg - 1) = upd rem o (nI (rl_cK Q 4 (nI o))) := by rw [eo, hrem]
  have hR : rl_cK Q 4 (nI o) < 2 ^ 31 := by
    have : rl_cK Q 4 (nI o) ≤ Q.length := List.countP_le_length
    omega
  by_cases hst : st o = 0
  · have hst' : st (nI o).toNatClampNeg = 0 := by rw [eo]; exact hst
    have XI : ∀ (post : SX → Prop) (z : Int32), ((el_dec (kinds o) s ∧ z = 1) ∨ (¬ el_dec (kinds o) s ∧ z = 0)) → wX_element_62 post (nI o) s v z 0 1 2 3 4 (nI pl) (nI sl) (nI ol) (nI n) (nI fn) (nI dp) sealed (nI c) px.1 px.2.1 px.2.2.1 px.2.2.2.1 (nI ou) ops opA opB target handler level entry blocks st val px.2.2.2.2.1 px.2.2.2.2.2.1 px.2.2.2.2.2.2.1 host kinds masks (upd rem o (nI (rl_cK Q 4 (nI o)))) pcx slots rx cx asleep cells px.2.2.2.2.2.2.2.1 px.2.2.2.2.2.2.2.2.1 px.2.2.2.2.2.2.2.2.2.1 px.2.2.2.2.2.2.2.2.2.2.1 px.2.2.2.2.2.2.2.2.2.2.2.1 px.2.2.2.2.2.2.2.2.2.2.2.2.1 px.2.2.2.2.2.2.2.2.2.2.2.2.2 out → wpX_element post (mk_X ((nI pl), (nI sl), (nI ol), (nI n), (nI fn), sealed, ops, opB) ((nI dp), opA, target, handler, level, entry, blocks) ((nI c), (nI ou), st, val, host, kinds, masks, asleep, out) (rem, pcx, slots, rx, cx, cells) px) (nI o) s v := fun post z hz h62 =>
      And.intro hin ⟨hin, nm_r erem ⟨hin, br_t hst' ⟨hin, nm_r (e' := kinds o) (by rw [eo]) (xr_el62 hz h62)⟩⟩⟩
    by_cases hd : el_dec (kinds o) s
    · obtain ⟨px1, py1, RU, VX, VY⟩ := sk_conc (sl := sl) (n := n) (fn := fn) (dp := dp) (sealed := sealed) (opB := opB) (opA := opA) (target := target) (handler := handler) (level := level) (entry := entry) (blocks := blocks) (sa := sa) (kinds := kinds) (out := out) (rem := upd rem o (nI (rl_cK Q 4 (nI o)))) hpl hB hc RX RY hck HA HB HC HE HZ HG HH HM hoc HD HF hs hv
      refine ⟨_, _, RU, fun post hp => XI post 1 (Or.inl ⟨hd, rfl⟩) (br_f (by decide) (VX _ hp)), fun post hp => br_t hst (yw_elem (by omega) RY (by omega) HM (yr_el132 hd (VY _ hp)))⟩
    · by_cases hr0 : rl_cK Q 4 (nI o) = 0
      · obtain ⟨px1, py1, RU, VX, VY⟩ := sk_conc (v := fo_h val (masks o) c) (sl := sl) (n := n) (fn := fn) (dp := dp) (sealed := sealed) (opB := opB) (opA := opA) (target := target) (handler := handler) (level := level) (entry := entry) (blocks := blocks) (sa := sa) (kinds := kinds) (out := out) (rem := upd rem o (nI (rl_cK Q 4 (nI o)))) hpl hB hc RX RY hck HA HB HC HE HZ HG HH HM hoc HD HF hs (fo_v c val _ c)
        refine ⟨_, _, RU, fun post hp => XI post 0 (Or.inr ⟨hd, rfl⟩) (br_t rfl ⟨hin, br_t ?_ ⟨hin, ?_⟩⟩), fun post hp => br_t hst (yw_elem (by omega) RY (by omega) HM (yr_el129 hd (fun z0 z1 hz => br_f hz (br_t ?_ (VY _ hp)))))⟩
        · show upd rem o (nI (rl_cK Q 4 (nI o))) (nI o).toNatClampNeg = 0
          rw [eo, pk_us, hr0]; rfl
        · show wpX_fold _ (mk_X ((nI pl), (nI sl), (nI ol), (nI n), (nI fn), sealed, ops, opB) ((nI dp), opA, target, handler, level, entry, blocks) ((nI c), (nI ou), st, val, host, kinds, masks, asleep, out) ((upd rem o (nI (rl_cK Q 4 (nI o)))), pcx, slots, rx, cx, cells) px) (masks (nI o).toNatClampNeg)
          rw [eo]
          exact xw_fo (by omega) (VX _ hp)
        · rw [hr0]; rfl
      · have hne : ¬ nI (rl_cK Q 4 (nI o)) = 0 := nI_ne0 (by omega) hR
        refine ⟨(mk_X ((nI pl), (nI sl), (nI ol), (nI n), (nI fn), sealed, ops, opB) ((nI dp), opA, target, handler, level, entry, blocks) ((nI c), (nI ou), st, val, host, kinds, masks, asleep, out) ((upd rem o (nI (rl_cK Q 4 (nI o)))), pcx, slots, rx, cx, cells) px), (mk_Y ((nI pl), (nI sl), (nI ol), (nI n), (nI fn), sealed, ops, opB) sa ((nI c), (nI ou), st, val, host, kinds, masks, asleep, out) (vars, pcy, cy, ry) py), sk_keep hpl hB hc RX RY hck HA HB HC HE HZ HG HH HM hoc HD HF, fun post hp => XI post 0 (Or.inr ⟨hd, rfl⟩) (br_t rfl ⟨hin, br_f ?_ hp⟩), fun post hp => br_t hst (yw_elem (by omega) RY (by omega) HM (yr_el129 hd (fun z0 z1 hz => br_f hz (br_f hne hp))))⟩
        show ¬ upd rem o (nI (rl_cK Q 4 (nI o))) (nI o).toNatClampNeg = 0
        rw [eo, pk_us]; exact hne
  · have hst' : ¬ st (nI o).toNatClampNeg = 0 := by rw [eo]; exact hst
    exact ⟨(mk_X ((nI pl), (nI sl), (nI ol), (nI n), (nI fn), sealed, ops, opB) ((nI dp), opA, target, handler, level, entry, blocks) ((nI c), (nI ou), st, val, host, kinds, masks, asleep, out) ((upd rem o (nI (rl_cK Q 4 (nI o)))), pcx, slots, rx, cx, cells) px), (mk_Y ((nI pl), (nI sl), (nI ol), (nI n), (nI fn), sealed, ops, opB) sa ((nI c), (nI ou), st, val, host, kinds, masks, asleep, out) (vars, pcy, cy, ry) py), sk_keep hpl hB hc RX RY hck HA HB HC HE HZ HG HH HM hoc HD HF, fun post hp => And.intro hin ⟨hin, nm_r erem ⟨hin, br_f hst' hp⟩⟩, fun post hp => br_f hst hp⟩
end
end
section
/-! jobs: handlers and resumptions -/
section
variable {pl sl ol n fn dp c ou : Nat} {sealed : Int32} {ops opB opA target handler level entry blocks sa st val host kinds masks asleep out rem pcx slots rx cx cells vars pcy cy ry : Nat → Int32} {px : ty_px} {py : ty_py} {B rs ph : Nat}
/-- as rn_open, the reserve's bound one higher -/
theorem rn_open' {f j ck : Nat} {ch : List Nat} {V : Int32} {Q : List qe_T} (SP : sp_ok n fn ops opB opA target handler level entry sa) (hpl : pl ≤ 16) (hc : c < pl) (hou : ou ≤ ol) (hrs : (rs % 17 = 16 ∨ rs % 17 < c) ∧ rs / 17 ≤ c + 1) (RX : xq_R px [] 16 Q) (RY : yq_R py ck Q)
    (hck : ck + 130 * (ch.length + (16 - c)) ≤ B) (hph : rl_ps ops n pcx rx ch + 2050 * (16 - c) ≤ ph) (HA : rl_A c st val) (HB : rl_B c vars slots cells) (HC : rl_C c fn Q) (HD : rl_D rem Q) (HE : rl_E rs ch host st Q) (HF : rl_F asleep Q) (HZ : rl_Z c host asleep)
    (HG : rl_G c asleep cx cy ch) (HH1 : ∀ p, p < 16 → asleep p ≠ 0 → rl_at ops n pcx pcy rx ry 5 p) (HH2 : ∀ q ∈ ch, rl_at ops n pcx pcy rx ry 4 q) (HM : rl_M c masks) (hV : rl_v c V) (hjn : j < n) (hj : ops j = 0) (he : entry f = nI (j + 1)) :
    (rn pl ol n (fn) ops B rs (c :: ch) (ph - 1) (c + 1) ou st val host masks asleep rem (upd pcx c (entry f)) (upd slots (4 * c) V) rx (upd cx c (rn_hd ch)) cells (upd vars (4 * c) V) (upd pcy c (nI (j + 1))) (upd cy c (rn_hd ch)) ry ((px.1, px.2.1, px.2.2.1, px.2.2.2.1, upd px.2.2.2.2.1 c (-1), upd px.2.2.2.2.2.1 c (-1), px.2.2.2.2.2.2)) py) ∧ 1 ≤ ph := by
  have hn := SP.1
  have hne : ∀ q ∈ ch, q ≠ c := fun q hq e => by have := (HG.2.1 q hq).1; omega
  have hnc : c ∉ ch := fun h => hne c h rfl
  have hzc := HZ c (by omega) (Nat.le_refl c)
  have hs : pg_stk ops (j + 1) = [] := by
    rw [pg_stk_o (by rw [hj]; decide) (by rw [hj]; decide) (by rw [hj]; decide)]
    exact (SP.2.1 j hjn).2.1 hj
  have hpo : rl_po ops n (upd pcx c (entry f)) rx c ≤ 2048 := by
    rw [rl_po, pk_us, he, nI_clamp (by omega), hs, pt]; omega
  have hps : rl_ps ops n (upd pcx c (entry f)) rx ch = rl_ps ops n pcx rx ch := rl_ps_fr (pcy := pcy) (ry := ry) hn SP.2.1 HH2 (fun q hq => ⟨pk_un (hne q hq), fun _ _ => rfl⟩)
  have hQc : ∀ e ∈ Q, e.1 ≠ nI c := fun e he z => by
    rcases (HC e he).2.1 with h | ⟨p, hp, h⟩
    · exact xq_m1 c (by omega) (h.symm.trans z)
    · have := xq_pI p (by omega) c (by omega) (h.symm.trans z); omega
  refine ⟨⟨Q, ck, ⟨by omega, hou, by omega⟩, xw_make RX (by omega) hQc, RY, ?_, ?_, rl_A_mono (by omega) HA, ⟨fun k hk => ?_, fun k hk => ?_, fun k hk => ?_⟩, rl_C_mono (by omega) (Nat.le_refl _) HC, HD, fun p hp => ?_, HF, fun p hp hpc => HZ p hp (by omega), ⟨List.nodup_cons.mpr ⟨hnc, HG.1⟩, fun q hq => ?_, ?_, ?_, fun p hp ha => by
    have hpc : p ≠ c := fun e => ha (e ▸ hzc.2)
    rw [pk_un hpc, pk_un hpc]; exact HG.2.2.2.2 p hp ha⟩, ⟨fun p hp ha => ?_, ⟨j + 1, by omega, by rw [pk_us, he], pk_us, by rw [hs]; trivial⟩, fun q hq => ?_⟩, rl_M_mono (by omega) HM⟩, by omega⟩
  · rw [List.length_cons]; omega
  · rw [rl_ps, hps]; omega
  · rw [upd]; split
    · exact rl_v_mono (by omega) hV
    · exact rl_v_mono (by omega) (HB.1 k hk)
  · rw [upd, upd]; split
    · rfl
    · exact HB.2.1 k hk
  · rw [pk_un (by omega)]; exact HB.2.2 k hk
  · have h1 := HE p hp
    by_cases hpc : p = c
    · subst hpc
      have h0 : rl_cQ Q (nI p) = 0 := List.countP_eq_zero.mpr (fun e he => by
        obtain ⟨o, ho, ho'⟩ := (HC e he).1
        simp only [beq_iff_eq]
        intro z
        have := xq_pI o (by omega) p hp (ho'.symm.trans z); omega)
      rw [h0, rl_ic_hd, rl_hp, if_neg (fun z => z.1 hzc.1), rl_mx, if_neg (show ¬ p = rs % 17 by omega)]
      split <;> omega
    · have : rl_ic (c :: ch) p = rl_ic ch p := by
        rw [rl_ic, rl_ic]
        by_cases hm : p ∈ ch
        · rw [if_pos hm, if_pos (List.mem_cons_of_mem _ hm)]
        · rw [if_neg hm, if_neg (fun z => (List.mem_cons.mp z).elim hpc hm)]
      omega
  · rcases List.mem_cons.mp hq with rfl | hq
    · exact ⟨by omega, hzc.2⟩
    · exact ⟨by have := (HG.2.1 q hq).1; omega, (HG.2.1 q hq).2⟩
  · cases ch with
    | nil => exact pk_us
    | cons q t => exact ⟨pk_us, rl_ch_congr (fun z hz => pk_un (hne z hz)) HG.2.2.1⟩
  · cases ch with
    | nil => exact pk_us
    | cons q t => exact ⟨pk_us, rl_ch_congr (fun z hz => pk_un (hne z hz)) HG.2.2.2.1⟩
  · have hpc : p ≠ c := fun e => ha (e ▸ hzc.2)
    exact rl_at_fr hn SP.2.1 (pk_un hpc) (pk_un hpc) (fun _ _ => rfl) (fun _ _ => rfl) (HH1 p hp ha)
  · exact rl_at_fr hn SP.2.1 (pk_un (hne q hq)) (pk_un (hne q hq)) (fun _ _ => rfl) (fun _ _ => rfl) (HH2 q hq)
end
section
variable {pl sl ol n fn dp c ou : Nat} {sealed : Int32} {ops opB opA target handler level entry blocks sa st val host kinds masks asleep out rem pcx slots rx cx cells vars pcy cy ry : Nat → Int32} {px : ty_px} {py : ty_py} {B ck o : Nat} {Q : List qe_T}
theorem sk_res {c0 rs : Nat} {u : SX} {v : SY} (hpl : pl ≤ 16) (hB : B + 800 < 2 ^ 29) (ho : o < 16) (hrs : rs = o + 17 * (c0 + 1)) (H : rn_RU ((nI pl), (nI sl), (nI ol), (nI n), (nI fn), sealed, ops, opB) ((nI dp), opA, target, handler, level, entry, blocks) sa pl ol n fn ops B rs [] 32800 u v) :
    ∃ u' v', rn_RU ((nI pl), (nI sl), (nI ol), (nI n), (nI fn), sealed, ops, opB) ((nI dp), opA, target, handler, level, entry, blocks) sa pl ol n fn ops (B + 800) 16 [] 32800 u' v' ∧ (∀ post : SX → Prop, post u' → wpX_resolve post u (nI o) (65536 + nI c0)) ∧ (∀ post : SY → Prop, post v' → wpY_resolve post v (nI o) (65536 + nI c0)) := by
  refine rn_el (P := fun u v => ∃ u' v', rn_RU ((nI pl), (nI sl), (nI ol), (nI n), (nI fn), sealed, ops, opB) ((nI dp), opA, target, handler, level, entry, blocks) sa pl ol n fn ops (B + 800) 16 [] 32800 u' v' ∧ (∀ post : SX → Prop, post u' → wpX_resolve post u (nI o) (65536 + nI c0)) ∧ (∀ post : SY → Prop, post v' → wpY_resolve post v (nI o) (65536 + nI c0))) H ?_
  intro c ou st val host kinds masks asleep out rem pcx slots rx cx cells vars pcy cy ry px py h
  obtain ⟨Q, ck, hc, RX, RY, hck, hph, HA, HB, HC, HD, HE, HF, HZ, HG, HH, HM⟩ := h
  have h1 : rs % 17 = o := by omega
  have h2 : rs / 17 = c0 + 1 := by omega
  have hoc : o < c := by omega
  have hcc : c0 < c := by omega
  rw [List.length_nil] at hck
  have HE2 : rl_E 16 [o] host st Q := fun p hp => by
    have h3 := HE p hp
    rw [h1, rl_ic_no (by simp)] at h3
    have h4 : rl_ic [o] p = if p = o then 1 else 0 := by simp [rl_ic]
    rw [h4, if_neg (show ¬ p = 16 % 17 by omega)]; omega
  have hQ := rl_len (by omega) HC HE
  have hV : rl_v c (65536 + nI c0) := by rw [wk_ref]; exact rl_v_ref hcc (by omega)
  obtain ⟨px1, RX1, WX⟩ := xw_res RX (by omega) ho (65536 + nI c0)
  obtain ⟨py1, ck1, hck1, RY1, WY⟩ := yw_res RY (by omega) (by omega) ho (65536 + nI c0)
  obtain ⟨HA1, HC1, HD1, HE1, HF1⟩ := rl_res hoc (by omega) (by simp) hV HA HC HD HE2 HF
  exact ⟨_, _, rn_mk (kinds := kinds) (out := out) ⟨_, ck1, ⟨hc.1, hc.2.1, Or.inl rfl, Nat.zero_le _⟩, RX1, RY1, by rw [List.length_nil]; omega, by rw [rl_ps]; omega, HA1, HB, HC1, HD1, HE1, HF1, HZ, HG, HH, HM⟩, fun post hp => WX _ _ _ _ _ _ _ _ _ _ _ _ _ hp, fun post hp => WY _ _ _ _ _ _ _ _ _ _ _ _ _ hp⟩
theorem sk_hand {f : Nat} {s v : Int32} (SP : sp_ok n fn ops opB opA target handler level entry sa) (hol : ol ≤ 64) (hpl : pl ≤ 16) (hB : B + 800 < 2 ^ 29) (hc : c ≤ pl ∧ ou ≤ ol) (RX : xq_R px [] 16 Q) (RY : yq_R py ck Q) (hck : ck + 130 * (16 - c) ≤ B) (HA : rl_A c st val) (HB : rl_B c vars slots cells) (HC : rl_C c fn Q) (HE : rl_E 16 [o] host st Q) (HZ : rl_Z c host asleep) (HG : rl_G c asleep cx cy []) (HH : rl_H ops n pcx pcy rx ry asleep []) (HM : rl_M c masks) (hoc : o < c) (HD : rl_D rem Q) (HF : rl_F asleep Q) (hf : f < fn) (hv : rl_v c v) :
    ∃ u' v', rn_RU ((nI pl), (nI sl), (nI ol), (nI n), (nI fn), sealed, ops, opB) ((nI dp), opA, target, handler, level, entry, blocks) sa pl ol n fn ops (B + 800) 16 [] 32800 u' v' ∧ (∀ post : SX → Prop, post u' → wpX_handle post (mk_X ((nI pl), (nI sl), (nI ol), (nI n), (nI fn), sealed, ops, opB) ((nI dp), opA, target, handler, level, entry, blocks) ((nI c), (nI ou), st, val, host, kinds, masks, asleep, out) (rem, pcx, slots, rx, cx, cells) px) (nI o) (nI f) s v) ∧ (∀ post : Int32 → SY → Prop, post (nI o) v' → wY_step_121 post 4 (nI o) s v (nI f) (nI pl) (nI sl) (nI ol) (nI n) (nI fn) (nI c) (nI ou) py.1 sealed ops sa opB out vars pcy cy ry st val kinds masks host asleep py.2.1 py.2.2.1 py.2.2.2.1 py.2.2.2.2.1 py.2.2.2.2.2.1 py.2.2.2.2.2.2.1 py.2.2.2.2.2.2.2.1 py.2.2.2.2.2.2.2.2) := by
  have hn := SP.1
  have hf4 : f < 4 := by have := SP.2.2.2.2.2.2; omega
  by_cases hfull : c = pl
  · obtain ⟨px1, py1, RU, VX, VY⟩ := sk_conc (s := 3) (v := -102) (sl := sl) (n := n) (fn := fn) (dp := dp) (sealed := sealed) (opB := opB) (opA := opA) (target := target) (handler := handler) (level := level) (entry := entry) (blocks := blocks) (sa := sa) (kinds := kinds) (out := out) hpl hB hc RX RY hck HA HB HC HE HZ HG HH HM hoc HD HF (Or.inr rfl) (rl_v_neg (by decide))
    refine ⟨_, _, RU, fun post hp => br_t (nI_pos' (by omega)) (br_t (by rw [hfull]) (VX _ hp)), fun post hp => br_f (by decide) (br_t rfl (yw_begF (by omega) (by omega) ?_))⟩
    exact yw_run0 (br_f (by decide) (VY _ hp))
  · have hncpl : ¬ nI c = nI pl := fun z => hfull ((nI_eq (by omega) (by omega)).mp z)
    obtain ⟨j, hjn, hj, hej, hjf⟩ := SP.2.2.2.2.2.1 f hf
    have h1 : (o + 17 * (c + 1)) % 17 = o := by omega
    have h2 : (o + 17 * (c + 1)) / 17 = c + 1 := by omega
    have HE2 : rl_E (o + 17 * (c + 1)) [] host st Q := fun p hp => by
      have h3 := HE p hp
      have h4 : rl_ic [o] p = if p = o then 1 else 0 := by simp [rl_ic]
      rw [h4, if_neg (show ¬ p = 16 % 17 by omega)] at h3
      rw [h1, rl_ic_no (by simp)]; omega
    have hop := rn_open' (V := v) (f := f) (j := j) (B := B) (ph := 32800) (rs := o + 17 * (c + 1)) SP hpl (by omega) hc.2 ⟨Or.inr (by omega), by omega⟩ RX RY (by rw [List.length_nil]; omega) (by rw [rl_ps]; omega) HA HB HC HD HE2 HF HZ HG HH.1 (fun q hq => by cases hq) HM hv hjn hj hej
    obtain ⟨u1, v1, RU1, GX, GY⟩ := rn_go SP hpl hol (by omega) (by omega) (rn_mk (kinds := kinds) (out := out) hop.1)
    obtain ⟨u', v', RU, VX, VY⟩ := sk_res (o := o) (c0 := c) hpl hB (by omega) rfl RU1
    refine ⟨u', v', RU, fun post hp => br_t (nI_pos' (by omega)) (br_f hncpl (xw_open (by omega) hf4 (GX _ (VX _ hp)))), fun post hp => br_f (by decide) (br_t rfl (yw_beg hn (by omega) hpl hf4 hjn hj hjf ?_))⟩
    exact GY _ (br_t (nI_pos' (by omega)) (VY _ hp))
end
end
section
/-! jobs: resumption -/
section
variable {pl sl ol n fn dp c ou : Nat} {sealed : Int32} {ops opB opA target handler level entry blocks sa st val host kinds masks asleep out rem pcx slots rx cx cells vars pcy cy ry : Nat → Int32} {px : ty_px} {py : ty_py} {B ck o : Nat} {Q : List qe_T}
theorem sk_resume {s v z : Int32} (SP : sp_ok n fn ops opB opA target handler level entry sa) (hol : ol ≤ 64) (hpl : pl ≤ 16) (hB : B + 800 < 2 ^ 29) (hc : c ≤ pl ∧ ou ≤ ol) (RX : xq_R px [] 16 Q) (RY : yq_R py ck Q) (hck : ck + 130 * (16 - c) ≤ B) (HA : rl_A c st val) (HB : rl_B c vars slots cells) (HC : rl_C c fn Q) (HE : rl_E 16 [o] host st Q) (HZ : rl_Z c host asleep) (HG : rl_G c asleep cx cy []) (HH : rl_H ops n pcx pcy rx ry asleep []) (HM : rl_M c masks) (hoc : o < c) (HD : rl_D rem Q) (HF : rl_F (upd asleep o 0) Q) (has : asleep o ≠ 0) (hs : s = 2 ∨ s = 3) (hv : rl_v c v) :
    ∃ u' v', rn_RU ((nI pl), (nI sl), (nI ol), (nI n), (nI fn), sealed, ops, opB) ((nI dp), opA, target, handler, level, entry, blocks) sa pl ol n fn ops (B + 800) 16 [] 32800 u' v' ∧ (∀ post : SX → Prop, post u' → wpX_resume post (mk_X ((nI pl), (nI sl), (nI ol), (nI n), (nI fn), sealed, ops, opB) ((nI dp), opA, target, handler, level, entry, blocks) ((nI c), (nI ou), st, val, host, kinds, masks, asleep, out) (rem, pcx, slots, rx, cx, cells) px) (nI o) s v) ∧ (∀ post : Int32 → SY → Prop, post (nI o) v' → wY_step_121 post 3 (nI o) s v z (nI pl) (nI sl) (nI ol) (nI n) (nI fn) (nI c) (nI ou) py.1 sealed ops sa opB out vars pcy cy ry st val kinds masks host asleep py.2.1 py.2.2.1 py.2.2.2.1 py.2.2.2.2.1 py.2.2.2.2.2.1 py.2.2.2.2.2.2.1 py.2.2.2.2.2.2.2.1 py.2.2.2.2.2.2.2.2) := by
  have hn := SP.1
  have ho16 : o < 16 := by omega
  have eo : (nI o).toNatClampNeg = o := nI_clamp (by omega)
  have hino : vp_in (nI o) 16 := vp_in_nI ho16 (by omega)
  obtain ⟨i, hi, hpx, hpy, hop, hRR⟩ := HH.1 o ho16 has
  have e : (nI i).toNatClampNeg = i := nI_clamp (by omega)
  have hini : vp_in (nI i) 32 := vp_in_nI (by omega) (by omega)
  have hK := HG.2.2.2.2 o ho16 has
  have eas : upd asleep (nI o).toNatClampNeg (vp_nar .boolean 0) = upd asleep o 0 := by rw [eo]; rfl
  have epc : upd (upd pcy o (nI i)) o (nI (i + 1)) = pcy := by rw [wk_uu]; exact wk_us hpy
  have hpo := rl_po_le (r := o) (rx := rx) (ry := ry) SP i i (Nat.le_refl _) (by omega) hRR
  have hne : ∀ p, upd asleep o 0 p ≠ 0 → p ≠ o ∧ asleep p ≠ 0 := fun p hp => by
    by_cases hpo : p = o
    · subst hpo; rw [pk_us] at hp; exact absurd rfl hp
    · rw [pk_un hpo] at hp; exact ⟨hpo, hp⟩
  have HZ1 : rl_Z c host (upd asleep o 0) := fun p hp hpc => by rw [pk_un (by omega)]; exact HZ p hp hpc
  have HG1 : rl_G c (upd asleep o 0) cx cy [o] := ⟨by simp, fun q hq => by rw [List.mem_singleton.mp hq]; exact ⟨hoc, pk_us⟩, hK.1, hK.2, fun p hp ha => HG.2.2.2.2 p hp (hne p ha).2⟩
  have HH1 : rl_H ops n pcx (upd pcy o (nI i)) rx ry (upd asleep o 0) [o] := ⟨fun p hp ha => rl_at_fr hn SP.2.1 rfl (pk_un (hne p ha).1) (fun _ _ => rfl) (fun _ _ => rfl) (HH.1 p hp (hne p ha).2), ⟨i, by omega, hpx, pk_us, hRR⟩, fun q hq => by cases hq⟩
  have H0 : (rn pl ol n (fn) ops (B + 800) (16) (o :: []) (34900) c ou st val host masks (upd asleep o 0) rem pcx slots rx cx cells vars (upd pcy o (nI i)) cy ry px py) := by
    refine ⟨Q, ck, ⟨hc.1, hc.2, Or.inl rfl, Nat.zero_le _⟩, RX, RY, by rw [List.length_singleton]; omega, ?_, HA, HB, HC, HD, HE, HF, HZ1, HG1, HH1, HM⟩
    rw [rl_ps, rl_ps, rl_po, hpx, e]; omega
  obtain ⟨m, hm, hA, hsa⟩ := (SP.2.2.2.2.1 i hi).1
  have hsa := hsa (by rw [hop]; decide) (by rw [hop]; decide) (by rw [hop]; decide) (by rw [hop]; decide)
  have hvx := rl_vx_lt ho16 hm
  by_cases hs2 : s = 2
  · obtain ⟨s', c', HB', W⟩ := xw_wr HB ho16 hm hv
    have h1 := rn_seq H0 SP hpl hpx hi (by rw [hop]; decide) (by rw [hop]; decide) (by rw [hop]; decide) HB' hc.2 hRR
    rw [epc] at h1
    obtain ⟨u', v', RU, GX, GY⟩ := rn_go SP hpl hol (by omega) (by omega) (rn_mk (kinds := kinds) (out := out) h1.1)
    refine ⟨u', v', RU, fun post hp => ?_, fun post hp => ?_⟩
    · exact And.intro hino (nm_r (e' := nI i) (by rw [eo]; exact hpx) ⟨hino, nm_r eas (br_t hs2 ⟨hini, W ((nI pl), (nI sl), (nI ol), (nI n), (nI fn), sealed, ops, opB) ((nI dp), opA, target, handler, level, entry, blocks) ((nI c), (nI ou), st, val, host, kinds, masks, (upd asleep o 0), out) rem pcx rx cx px _ _ _ (by rw [e]; exact hA) rfl ⟨hino, nm_r (wk_pc ho16) (GX _ hp)⟩⟩)⟩)
    · have hp1 : pcy (nI o).toNatClampNeg - 1 = nI i := by rw [eo, hpy, nI_pred]
      refine br_t rfl ⟨hino, nm_r eas (br_t hs2 ⟨hino, ?_, ?_⟩)⟩
      · show vp_in (pcy (nI o).toNatClampNeg - 1) 34
        rw [hp1]; exact vp_in_nI (by omega) (by omega)
      · refine yw_at (kk := ((nI pl), (nI sl), (nI ol), (nI n), (nI fn), sealed, ops, opB)) (ky := sa) (ss := ((nI c), (nI ou), st, val, host, kinds, masks, (upd asleep o 0), out)) (gy := (vars, pcy, cy, ry)) (py := py) ?_
        have h3 : wk_m (sa (pcy (nI o).toNatClampNeg - 1).toNatClampNeg) = m := by rw [hp1, e, hsa]; exact wk_m_nI hm
        rw [h3]
        exact ⟨vp_in_nI hvx (by omega), nm_r (xq_up (by omega)) (br_t hs2 (GY _ hp))⟩
  · have hs3 := hs.resolve_left hs2
    have hRX : ∀ (post : SX → Prop) (ρ : Int32) (u1 : SX), (∀ post' : Int32 → SX → Prop, post' ρ u1 → wpX_raise post' (mk_X ((nI pl), (nI sl), (nI ol), (nI n), (nI fn), sealed, ops, opB) ((nI dp), opA, target, handler, level, entry, blocks) ((nI c), (nI ou), st, val, host, kinds, masks, (upd asleep o 0), out) (rem, pcx, slots, rx, cx, cells) px) (nI o) (nI i) v) → wpX_run post u1 ρ → wpX_resume post (mk_X ((nI pl), (nI sl), (nI ol), (nI n), (nI fn), sealed, ops, opB) ((nI dp), opA, target, handler, level, entry, blocks) ((nI c), (nI ou), st, val, host, kinds, masks, asleep, out) (rem, pcx, slots, rx, cx, cells) px) (nI o) s v := fun post ρ u1 W h =>
      And.intro hino (nm_r (e' := nI i) (by rw [eo]; exact hpx) ⟨hino, nm_r eas (br_f hs2 (W _ h))⟩)
    rcases rz_all (sl := sl) (dp := dp) (sealed := sealed) (blocks := blocks) (kinds := kinds) (out := out) (pcy := upd pcy o (nI i)) SP hpl hB H0 ho16 hi hpx hRR (by rw [hop]; decide) hv with ⟨s', c', v1, j, h1, h2, WX, WY⟩ | ⟨_, _, _, ⟨ho, hh⟩, _⟩
    · rw [epc] at WY
      obtain ⟨u', v', RU, GX, GY⟩ := rn_go SP hpl hol (by omega) (by omega) (rn_mk (kinds := kinds) (out := out) h1)
      refine ⟨u', v', RU, fun post hp => hRX post (nI o) _ WX (GX _ hp), fun post hp => ?_⟩
      exact br_t rfl ⟨hino, nm_r eas (br_f hs2 (br_f hs2 (WY _ (br_f (by decide) (GY _ hp)))))⟩
    · have hQ := rl_len (by omega) HC HE
      obtain ⟨px1, RX1, VX⟩ := xw_conc RX ho16 3 v
      obtain ⟨py1, ck1, hck1, RY1, VY⟩ := yw_fin RY ho16 (by omega) (by omega) 3 v
      have RU : rn_RU ((nI pl), (nI sl), (nI ol), (nI n), (nI fn), sealed, ops, opB) ((nI dp), opA, target, handler, level, entry, blocks) sa pl ol n fn ops (B + 800) 16 [] 32800 (mk_X ((nI pl), (nI sl), (nI ol), (nI n), (nI fn), sealed, ops, opB) ((nI dp), opA, target, handler, level, entry, blocks) ((nI c), (nI ou), (upd st o 3), (upd val o v), host, kinds, masks, (upd asleep o 0), out) (rem, pcx, slots, rx, (upd cx o (-1)), cells) (px1)) (mk_Y ((nI pl), (nI sl), (nI ol), (nI n), (nI fn), sealed, ops, opB) sa ((nI c), (nI ou), (upd st o 3), (upd val o v), host, kinds, masks, (upd asleep o 0), out) (vars, pcy, cy, ry) (py1)) :=
        rn_mk ⟨_, ck1, ⟨hc.1, hc.2, Or.inl rfl, Nat.zero_le _⟩, RX1, RY1, by rw [List.length_nil]; omega, by rw [rl_ps]; omega, rl_A_upd (by decide) hv HA, HB, rl_conc_C HC hv (by decide), fun d hd => by rw [rl_conc_cK]; exact HD d hd, rl_E_conc (by decide) HE, fun p hp => by rw [rl_conc_cK]; exact HF p hp, HZ1, ⟨List.nodup_nil, fun q hq => (by cases hq), trivial, trivial, fun p hp ha => by rw [pk_un (hne p ha).1]; exact HG.2.2.2.2 p hp (hne p ha).2⟩, ⟨fun p hp ha => HH.1 p hp (hne p ha).2, trivial⟩, HM⟩
      refine ⟨_, _, RU, fun post hp => ?_, fun post hp => ?_⟩
      · refine hRX post (-1) _ (fun post' hp' => ?_) (xw_run0 hp)
        have hh' : ¬ 0 ≤ handler (nI i).toNatClampNeg := by rw [e, hh]; decide
        refine xw_raise0 hini hh' (fun post'' h'' => VX ((nI pl), (nI sl), (nI ol), (nI n), (nI fn), sealed, ops, opB) ((nI dp), opA, target, handler, level, entry, blocks) _ _ _ _ _ _ _ _ _ (rem, pcx, slots, rx, cx, cells) post'' h'') (fun post'' h'' => ?_) hp'
        exact And.intro hino (nm_r (e' := (-1 : Int32)) (by rw [eo]; exact hK.1) ⟨hino, nm_r (xq_up (by omega)) (br_t (by decide) h'')⟩)
      · refine br_t rfl ⟨hino, nm_r eas (br_f hs2 (br_f hs2 ?_))⟩
        exact yw_caught0 (asleep := upd asleep o 0) hn ho16 hi hpy ho (fun post'' h'' => VY ((nI pl), (nI sl), (nI ol), (nI n), (nI fn), sealed, ops, opB) sa _ _ _ _ _ _ _ _ _ (vars, pcy, cy, ry) post'' h'') (br_t rfl hp)
end
end
section
/-! step -/
section
variable {pl sl ol n fn dp c ou : Nat} {sealed : Int32} {ops opB opA target handler level entry blocks sa st val host kinds masks asleep out rem pcx slots rx cx cells vars pcy cy ry : Nat → Int32} {px : ty_px} {py : ty_py} {nE F B rs ph : Nat}
theorem vc_step {P : Int32 → Int32 → SX → SY → Prop} (hph : (nE = n ∧ F = fn ∧ sp_ok n fn ops opB opA target handler level entry sa) ∨ (nE = 0 ∧ F = 0)) (hpl : pl ≤ 16) (hol : ol ≤ 64) (hB : B + 800 < 2 ^ 29) (h : (rn pl ol (nE) F ops B (16) ([]) (32800) c ou st val host masks asleep rem pcx slots rx cx cells vars pcy cy ry px py)) (hP : ∀ x u' v', rn_RU ((nI pl), (nI sl), (nI ol), (nI n), (nI fn), sealed, ops, opB) ((nI dp), opA, target, handler, level, entry, blocks) sa pl ol nE F ops (B + 800) 16 [] 32800 u' v' → P x x u' v') :
    wpX_step (fun r u' => wpY_step (fun r' v' => P r' r u' v') (mk_Y ((nI pl), (nI sl), (nI ol), (nI n), (nI fn), sealed, ops, opB) sa ((nI c), (nI ou), st, val, host, kinds, masks, asleep, out) (vars, pcy, cy, ry) py)) (mk_X ((nI pl), (nI sl), (nI ol), (nI n), (nI fn), sealed, ops, opB) ((nI dp), opA, target, handler, level, entry, blocks) ((nI c), (nI ou), st, val, host, kinds, masks, asleep, out) (rem, pcx, slots, rx, cx, cells) px) := by
  have hU : rn_RU ((nI pl), (nI sl), (nI ol), (nI n), (nI fn), sealed, ops, opB) ((nI dp), opA, target, handler, level, entry, blocks) sa pl ol nE F ops (B + 800) 16 [] 32800 (mk_X ((nI pl), (nI sl), (nI ol), (nI n), (nI fn), sealed, ops, opB) ((nI dp), opA, target, handler, level, entry, blocks) ((nI c), (nI ou), st, val, host, kinds, masks, asleep, out) (rem, pcx, slots, rx, cx, cells) px) (mk_Y ((nI pl), (nI sl), (nI ol), (nI n), (nI fn), sealed, ops, opB) sa ((nI c), (nI ou), st, val, host, kinds, masks, asleep, out) (vars, pcy, cy, ry) py) := rn_mk (rn_up h (by omega) (by omega))
  obtain ⟨Q, ck, hc, RX, RY, hck, _, HA, HB, HC, HD, HE, HF, HZ, HG, HH, HM⟩ := h
  have hqs := xq_qs RX
  rw [List.length_nil] at hck
  rcases qq_first Q (-1) with h0 | ⟨Q1, E, Q2, rfl, h1, hE⟩
  · have h2 : Q.countP (qe_at (-1)) = 0 := List.countP_eq_zero.mpr (fun e he => by rw [qe_at_f (h0 e he)]; decide)
    rw [h2] at hqs
    refine br_t hqs ?_
    unfold wpY_step
    exact yw_first0 RY h0 (br_f (by decide) (hP _ _ _ hU))
  · obtain ⟨w, k, oo, x, y, s, v⟩ := E
    dsimp only at hE
    subst hE
    obtain ⟨⟨o, hoc, ho⟩, _, hk, hv0, hx, hh⟩ := HC (-1, k, oo, x, y, s, v) (by simp)
    dsimp only at ho hk hv0 hx hh
    subst ho
    obtain ⟨hv, hs⟩ := hv0 rfl
    have ho16 : o < 16 := by omega
    have hino : vp_in (nI o) 16 := vp_in_nI ho16 (by omega)
    have eo : (nI o).toNatClampNeg = o := nI_clamp (by omega)
    have hlen := rl_len (by omega) HC HE
    have hq : ¬ px.2.2.2.1 = 0 := by
      rw [hqs]
      refine nI_ne0 (List.countP_pos_iff.mpr ⟨(-1, k, nI o, x, y, s, v), by simp, qe_at_iff.mpr rfl⟩) ?_
      have : (Q1 ++ (-1, k, nI o, x, y, s, v) :: Q2).countP (qe_at (-1)) ≤ (Q1 ++ (-1, k, nI o, x, y, s, v) :: Q2).length := List.countP_le_length
      omega
    obtain ⟨a, px1, ha, RX1, C, hns, hnv, T⟩ := xw_take RX h1
    have T' := T ((nI pl), (nI sl), (nI ol), (nI n), (nI fn), sealed, ops, opB) ((nI dp), opA, target, handler, level, entry, blocks) ((nI c), (nI ou), st, val, host, kinds, masks, asleep, out) (rem, pcx, slots, rx, cx, cells)
    obtain ⟨YL, hYL, RL⟩ := RY
    obtain ⟨Y1, j, Y2, rfl, hY1, hY2⟩ := xq_split hYL
    have hn1 : ∀ z ∈ Y1, z.2.1 ≠ -1 := fun z hz => h1 z.2 (by rw [← hY1]; exact List.mem_map.mpr ⟨z, hz, rfl⟩)
    have RY1 : yq_R (py.1, upd py.2.1 j 0, py.2.2) ck (Q1 ++ Q2) := ⟨Y1 ++ Y2, by rw [List.map_append, hY1, hY2], yq_rm RL⟩
    have hj128 : j < 128 := (RL.2.2.1 (j, (-1, k, nI o, x, y, s, v)) (by simp)).1
    have hinj : vp_in (nI j) 128 := vp_in_nI hj128 (by omega)
    have HC1 := rl_take_C HC
    have HE1 := rl_take_E ho16 HE
    have hzz : ∃ z, (s = 2 ∧ z = x) ∨ (¬ s = 2 ∧ z = y) := by
      by_cases g : s = 2
      · exact ⟨x, Or.inl ⟨g, rfl⟩⟩
      · exact ⟨y, Or.inr ⟨g, rfl⟩⟩
    obtain ⟨z, hz⟩ := hzz
    have YI : ∀ post : Int32 → SY → Prop, ((k + 1 = 1 → wpY_watch (fun u => post (nI o) u) (mk_Y ((nI pl), (nI sl), (nI ol), (nI n), (nI fn), sealed, ops, opB) sa ((nI c), (nI ou), st, val, host, kinds, masks, asleep, out) (vars, pcy, cy, ry) ((py.1, upd py.2.1 j 0, py.2.2))) x 2 (nI o) 0 0) ∧ (¬ k + 1 = 1 → ((k + 1 = 2 → wY_step_109 post (nI o) s v (nI pl) (nI sl) (nI ol) (nI n) (nI fn) (nI c) (nI ou) (((py.1, upd py.2.1 j 0, py.2.2)).1) sealed ops sa opB out vars pcy cy ry st val kinds masks host asleep (((py.1, upd py.2.1 j 0, py.2.2)).2.1) (((py.1, upd py.2.1 j 0, py.2.2)).2.2.1) (((py.1, upd py.2.1 j 0, py.2.2)).2.2.2.1) (((py.1, upd py.2.1 j 0, py.2.2)).2.2.2.2.1) (((py.1, upd py.2.1 j 0, py.2.2)).2.2.2.2.2.1) (((py.1, upd py.2.1 j 0, py.2.2)).2.2.2.2.2.2.1) (((py.1, upd py.2.1 j 0, py.2.2)).2.2.2.2.2.2.2.1) (((py.1, upd py.2.1 j 0, py.2.2)).2.2.2.2.2.2.2.2)) ∧ (¬ k + 1 = 2 → ((k + 1 = 4 → ((0 ≤ z → wY_step_121 post (k + 1) (nI o) s v z (nI pl) (nI sl) (nI ol) (nI n) (nI fn) (nI c) (nI ou) (((py.1, upd py.2.1 j 0, py.2.2)).1) sealed ops sa opB out vars pcy cy ry st val kinds masks host asleep (((py.1, upd py.2.1 j 0, py.2.2)).2.1) (((py.1, upd py.2.1 j 0, py.2.2)).2.2.1) (((py.1, upd py.2.1 j 0, py.2.2)).2.2.2.1) (((py.1, upd py.2.1 j 0, py.2.2)).2.2.2.2.1) (((py.1, upd py.2.1 j 0, py.2.2)).2.2.2.2.2.1) (((py.1, upd py.2.1 j 0, py.2.2)).2.2.2.2.2.2.1) (((py.1, upd py.2.1 j 0, py.2.2)).2.2.2.2.2.2.2.1) (((py.1, upd py.2.1 j 0, py.2.2)).2.2.2.2.2.2.2.2)) ∧ (¬ 0 ≤ z → wY_step_109 post (nI o) s v (nI pl) (nI sl) (nI ol) (nI n) (nI fn) (nI c) (nI ou) (((py.1, upd py.2.1 j 0, py.2.2)).1) sealed ops sa opB out vars pcy cy ry st val kinds masks host asleep (((py.1, upd py.2.1 j 0, py.2.2)).2.1) (((py.1, upd py.2.1 j 0, py.2.2)).2.2.1) (((py.1, upd py.2.1 j 0, py.2.2)).2.2.2.1) (((py.1, upd py.2.1 j 0, py.2.2)).2.2.2.2.1) (((py.1, upd py.2.1 j 0, py.2.2)).2.2.2.2.2.1) (((py.1, upd py.2.1 j 0, py.2.2)).2.2.2.2.2.2.1) (((py.1, upd py.2.1 j 0, py.2.2)).2.2.2.2.2.2.2.1) (((py.1, upd py.2.1 j 0, py.2.2)).2.2.2.2.2.2.2.2)))) ∧ (¬ k + 1 = 4 → wY_step_121 post (k + 1) (nI o) s v z (nI pl) (nI sl) (nI ol) (nI n) (nI fn) (nI c) (nI ou) (((py.1, upd py.2.1 j 0, py.2.2)).1) sealed ops sa opB out vars pcy cy ry st val kinds masks host asleep (((py.1, upd py.2.1 j 0, py.2.2)).2.1) (((py.1, upd py.2.1 j 0, py.2.2)).2.2.1) (((py.1, upd py.2.1 j 0, py.2.2)).2.2.2.1) (((py.1, upd py.2.1 j 0, py.2.2)).2.2.2.2.1) (((py.1, upd py.2.1 j 0, py.2.2)).2.2.2.2.2.1) (((py.1, upd py.2.1 j 0, py.2.2)).2.2.2.2.2.2.1) (((py.1, upd py.2.1 j 0, py.2.2)).2.2.2.2.2.2.2.1) (((py.1, upd py.2.1 j 0, py.2.2)).2.2.2.2.2.2.2.2))))))) → wpY_step post (mk_Y ((nI pl), (nI sl), (nI ol), (nI n), (nI fn), sealed, ops, opB) sa ((nI c), (nI ou), st, val, host, kinds, masks, asleep, out) (vars, pcy, cy, ry) py) := fun post hp =>
      yr_st RL hn1 hz (And.intro hinj (nm_r (xq_up (by omega)) hp))
    have HDk : k ≠ 4 → rl_D rem (Q1 ++ Q2) := fun hk4 d hd => by
      have := HD d hd
      rw [rl_take_cK ho16 hd, if_neg (fun z => hk4 z.1)] at this
      exact this
    have HFk : k ≠ 2 → rl_F asleep (Q1 ++ Q2) := fun hk2 p hp => by
      have := HF p hp
      rw [rl_take_cK ho16 hp, if_neg (fun z => hk2 z.1)] at this
      exact this
    rcases hk with rfl | rfl | rfl | rfl | rfl
    · obtain ⟨q, hq', rfl⟩ := hx rfl
      obtain ⟨u', v', RU, VX, VY⟩ := sk_adopt (sl := sl) (n := n) (fn := fn) (dp := dp) (sealed := sealed) (opB := opB) (opA := opA) (target := target) (handler := handler) (level := level) (entry := entry) (blocks := blocks) (sa := sa) (kinds := kinds) (out := out) hpl hB ⟨hc.1, hc.2.1⟩ RX1 RY1 (by omega) HA HB HC1 HE1 HZ HG HH HM hoc (HDk (by decide)) (HFk (by decide)) hq'
      exact xr_st0 hq T' ha C hns hnv VX (YI _ (br_t (by decide) (VY _ (hP _ _ _ RU))))
    · have hs23 := hs (by decide)
      obtain ⟨px2, py2, RU, VX, VY⟩ := sk_conc (sl := sl) (n := n) (fn := fn) (dp := dp) (sealed := sealed) (opB := opB) (opA := opA) (target := target) (handler := handler) (level := level) (entry := entry) (blocks := blocks) (sa := sa) (kinds := kinds) (out := out) hpl hB ⟨hc.1, hc.2.1⟩ RX1 RY1 (by omega) HA HB HC1 HE1 HZ HG HH HM hoc (HDk (by decide)) (HFk (by decide)) hs23 hv
      exact xr_st1 hq T' ha C hns hnv VX (YI _ (br_f (by decide) (br_t (by decide) (VY _ (hP _ _ _ RU)))))
    · have hs23 := hs (by decide)
      have has : asleep o ≠ 0 := fun z => by
        have := (HF o ho16).2
        rw [if_pos z, rl_take_cK ho16 ho16, if_pos ⟨rfl, rfl⟩] at this
        omega
      rcases hph with ⟨rfl, rfl, SP⟩ | ⟨rfl, rfl⟩
      · have HF2 : rl_F (upd asleep o 0) (Q1 ++ Q2) := fun p hp => by
          have h3 := HF p hp
          rw [rl_take_cK ho16 hp] at h3
          by_cases hpo : p = o
          · subst hpo
            rw [pk_us, if_pos rfl]
            rw [if_pos ⟨rfl, rfl⟩, if_neg has] at h3
            exact ⟨Or.inl rfl, by omega⟩
          · rw [pk_un hpo]
            rw [if_neg (fun z => hpo z.2)] at h3
            exact h3
        obtain ⟨u', v', RU, VX, VY⟩ := sk_resume (z := z) (sl := sl) (dp := dp) (sealed := sealed) (blocks := blocks) (kinds := kinds) (out := out) SP hol hpl hB ⟨hc.1, hc.2.1⟩ RX1 RY1 (by omega) HA HB HC1 HE1 HZ HG HH HM hoc (HDk (by decide)) HF2 has hs23 hv
        exact xr_st2 hq T' ha C hns hnv VX (YI _ (br_f (by decide) (br_f (by decide) (br_f (by decide) (VY _ (hP _ _ _ RU))))))
      · obtain ⟨i, hi, _⟩ := HH.1 o ho16 has
        omega
    · have hs23 := hs (by decide)
      obtain ⟨hx3, hy3⟩ := hh rfl
      have hz3 : rl_h F z := by
        rcases hz with ⟨_, g⟩ | ⟨_, g⟩
        · rw [g]; exact hx3
        · rw [g]; exact hy3
      rcases hz3 with hz3 | ⟨f, hf, hz3⟩
      · have hz4 : ¬ 0 ≤ z := by rw [hz3]; decide
        obtain ⟨px2, py2, RU, VX, VY⟩ := sk_conc (sl := sl) (n := n) (fn := fn) (dp := dp) (sealed := sealed) (opB := opB) (opA := opA) (target := target) (handler := handler) (level := level) (entry := entry) (blocks := blocks) (sa := sa) (kinds := kinds) (out := out) hpl hB ⟨hc.1, hc.2.1⟩ RX1 RY1 (by omega) HA HB HC1 HE1 HZ HG HH HM hoc (HDk (by decide)) (HFk (by decide)) hs23 hv
        exact xr_st3 hq T' ha C hns hnv hz (fun post' hp' => br_f hz4 (VX _ hp')) (YI _ (br_f (by decide) (br_f (by decide) (br_t (by decide) (br_f hz4 (VY _ (hP _ _ _ RU)))))))
      · rcases hph with ⟨rfl, rfl, SP⟩ | ⟨rfl, rfl⟩
        · have hf4 := SP.2.2.2.2.2.2
          have hz4 : 0 ≤ z := by rw [hz3]; exact nI_pos' (by omega)
          obtain ⟨u', v', RU, VX, VY⟩ := sk_hand (s := s) (f := f) (sl := sl) (dp := dp) (sealed := sealed) (blocks := blocks) (kinds := kinds) (out := out) SP hol hpl hB ⟨hc.1, hc.2.1⟩ RX1 RY1 (by omega) HA HB HC1 HE1 HZ HG HH HM hoc (HDk (by decide)) (HFk (by decide)) hf hv
          rw [← hz3] at VX VY
          exact xr_st3 hq T' ha C hns hnv hz VX (YI _ (br_f (by decide) (br_f (by decide) (br_t (by decide) (br_t hz4 (VY _ (hP _ _ _ RU)))))))
        · omega
    · have hs23 := hs (by decide)
      have hD := HD o ho16
      rw [rl_take_cK ho16 ho16, if_pos ⟨rfl, rfl⟩] at hD
      have hrem : rem o - 1 = nI (rl_cK (Q1 ++ Q2) 4 (nI o)) := by rw [hD]; exact nI_pred _
      have HD4 : rl_D (upd rem o (nI (rl_cK (Q1 ++ Q2) 4 (nI o)))) (Q1 ++ Q2) := fun d hd => by
        by_cases hdo : d = o
        · subst hdo; exact pk_us
        · rw [pk_un hdo]
          have := HD d hd
          rw [rl_take_cK ho16 hd, if_neg (fun z => hdo z.2)] at this
          exact this
      obtain ⟨u', v', RU, VX, VY⟩ := sk_elem (s := s) (sl := sl) (n := n) (fn := fn) (dp := dp) (sealed := sealed) (opB := opB) (opA := opA) (target := target) (handler := handler) (level := level) (entry := entry) (blocks := blocks) (sa := sa) (kinds := kinds) (out := out) hpl hB ⟨hc.1, hc.2.1⟩ RX1 RY1 (by omega) HA HB HC1 HE1 HZ HG HH HM hoc hrem HD4 (HFk (by decide)) hs23 hv
      refine xr_st4 hq T' ha C hns hnv VX (YI _ (br_f (by decide) (br_f (by decide) (br_f (by decide) (br_f (by decide) (br_f (by decide) ⟨hino, ?_⟩))))))
      have V := VY (fun v' => P (nI o) (nI o) u' v') (hP _ _ _ RU)
      have es : st (nI o).toNatClampNeg = 0 ↔ st o = 0 := by rw [eo]
      exact ⟨fun g => V.1 (es.mp g), fun g => V.2 (fun g' => g (es.mpr g'))⟩
end
end
section
/-! building a program: the tables while it grows -/
def bu_row (ops opB opA sa : Nat → Int32) (i : Nat) : Prop :=
  (∃ m, m < 8 ∧ opA i = nI m ∧ (ops i ≠ 0 → ops i ≠ 11 → ops i ≠ 13 → ops i ≠ 14 → sa i = nI m)) ∧
  ((ops i = 2 ∨ ops i = 3 ∨ ops i = 5) → ∃ m, m < 8 ∧ opB i = nI m) ∧ (ops i = 4 → ∃ f, f < 4 ∧ opB i = nI f)
def bu_tab (ops target handler level : Nat → Int32) (i : Nat) : Prop :=
  handler i = pg_sel (pg_isT ops) (pg_stk ops i) ∧ (pg_blk (ops i) = true → level i = nI (pg_stk ops i).length) ∧
  (ops i = 13 → target i = pg_sel (pg_isR ops) (pg_stk ops i)) ∧
  (ops i = 12 → ∀ t c r, pg_stk ops i = (t, c) :: r → target t = nI i) ∧
  (ops i = 14 → ∀ b c r, pg_stk ops i = (b, c) :: r → (ops b = 11 → target c = nI (i + 1)) ∧ (ops b ≠ 11 → target b = nI (i + 1)) ∧ (ops b = 10 → target i = nI (b + 1) ∧ level i = nI r.length) ∧ (ops b ≠ 10 → level i = -1))
def bu_blk (blocks : Nat → Int32) : List (Nat × Nat) → Prop
  | [] => True
  | e :: r => blocks r.length = nI e.1 ∧ bu_blk blocks r
def bu_core (n fn dp : Nat) (ops opB opA target handler level entry blocks sa : Nat → Int32) : Prop :=
  n ≤ 32 ∧ pg_ok ops n ∧ (∀ i, i < n → bu_row ops opB opA sa i) ∧ (∀ i, i < n → bu_tab ops target handler level i) ∧ (∀ t, (t, 0) ∈ pg_stk ops n → ops t = 11 → target t = -1) ∧
  dp = (pg_stk ops n).length ∧ bu_blk blocks (pg_stk ops n) ∧ fn = sp_cf ops n ∧ fn ≤ 4 ∧ (∀ f, f < fn → ∃ i, i < n ∧ ops i = 0 ∧ entry f = nI (i + 1) ∧ sp_cf ops i = f)
theorem pg_sel_congr {p q : Nat × Nat → Bool} : ∀ {l : List (Nat × Nat)}, (∀ e ∈ l, p e = q e) → pg_sel p l = pg_sel q l
  | [], _ => rfl
  | e :: r, h => by
    rw [pg_sel, pg_sel, h e (List.mem_cons_self ..), pg_sel_congr (fun x hx => h x (List.mem_cons_of_mem _ hx))]
theorem sp_cf_congr {ops ops' : Nat → Int32} : ∀ {i : Nat}, (∀ k, k < i → ops' k = ops k) → sp_cf ops' i = sp_cf ops i
  | 0, _ => rfl
  | i + 1, h => by rw [sp_cf, sp_cf, sp_cf_congr (fun k hk => h k (by omega)), h i (by omega)]
/-- only the statements below n matter -/
theorem bu_tr {n fn dp : Nat} {ops ops' opB opA target handler level entry blocks sa opB' opA' sa' : Nat → Int32} (h : ∀ k, k < n → ops' k = ops k) (hB : ∀ k, k < n → opB' k = opB k) (hA : ∀ k, k < n → opA' k = opA k) (hS : ∀ k, k < n → sa' k = sa k)
    (H : bu_core n fn dp ops opB opA target handler level entry blocks sa) : bu_core n fn dp ops' opB' opA' target handler level entry blocks sa' := by
  obtain ⟨h1, h2, h3, h4, h5, h6, h7, h8, h9, h10⟩ := H
  have es : ∀ i, i ≤ n → pg_stk ops' i = pg_stk ops i := fun i hi => pg_congr (fun k hk => h k (by omega))
  have esT : ∀ i, i ≤ n → pg_sel (pg_isT ops') (pg_stk ops i) = pg_sel (pg_isT ops) (pg_stk ops i) := fun i hi => pg_sel_congr (fun e he => by rw [pg_isT, pg_isT, h e.1 (by have := pg_bd ops i e he; omega)])
  have esR : ∀ i, i ≤ n → pg_sel (pg_isR ops') (pg_stk ops i) = pg_sel (pg_isR ops) (pg_stk ops i) := fun i hi => pg_sel_congr (fun e he => by rw [pg_isR, pg_isR, h e.1 (by have := pg_bd ops i e he; omega)])
  refine ⟨h1, fun i hi => ?_, fun i hi => ?_, fun i hi => ?_, fun t ht ht11 => ?_, by rw [es n (Nat.le_refl n)]; exact h6, by rw [es n (Nat.le_refl n)]; exact h7, by rw [sp_cf_congr h]; exact h8, h9, fun f hf => ?_⟩
  · obtain ⟨g1, g2, g3, g4, g5, g6⟩ := h2 i hi
    rw [pg_ok1, es i (by omega), h i hi]
    refine ⟨g1, g2, g3, fun z => ?_, fun z => ?_, fun z => ?_⟩
    · obtain ⟨t, r, k1, k2⟩ := g4 z
      exact ⟨t, r, k1, by rw [h t (by have := (pg_hd k1).2.2; omega)]; exact k2⟩
    · obtain ⟨e, he, k2⟩ := g5 z
      exact ⟨e, he, by rw [h e.1 (by have := pg_bd ops i e he; omega)]; exact k2⟩
    · obtain ⟨t, c, r, k1, k2⟩ := g6 z
      exact ⟨t, c, r, k1, by rw [h t (by have := (pg_hd k1).2.2; omega)]; exact k2⟩
  · rw [bu_row, h i hi, hB i hi, hA i hi, hS i hi]; exact h3 i hi
  · obtain ⟨g1, g2, g3, g4, g5⟩ := h4 i hi
    rw [bu_tab, es i (by omega), esT i (by omega), esR i (by omega), h i hi]
    refine ⟨g1, g2, g3, g4, fun z b c r hs => ?_⟩
    rw [h b (by have := (pg_hd hs).2.2; omega)]
    exact g5 z b c r hs
  · rw [es n (Nat.le_refl n)] at ht
    rw [h t (by have := pg_bd ops n _ ht; exact this)] at ht11
    exact h5 t ht ht11
  · obtain ⟨i, k1, k2, k3, k4⟩ := h10 f hf
    exact ⟨i, k1, by rw [h i k1]; exact k2, k3, by rw [sp_cf_congr (fun k hk => h k (by omega))]; exact k4⟩
/-- an open block hasn't been closed -/
theorem bu_nc {ops : Nat → Int32} {n b c i c' : Nat} {r : List (Nat × Nat)} (h : (b, c) ∈ pg_stk ops n) (hi : i < n) (ho : ops i = 14) (hs : pg_stk ops i = (b, c') :: r) : False := by
  have hh := pg_hd hs
  have := pg_ns14 h hh.2.2 hi ho
  rw [hs, hh.1, List.length_cons] at this
  omega
theorem bu_nct {ops : Nat → Int32} {n t i c' : Nat} {r : List (Nat × Nat)} (hok : pg_ok ops n) (h : (t, 0) ∈ pg_stk ops n) (hi : i < n) (ho : ops i = 12) (hs : pg_stk ops i = (t, c') :: r) : False := by
  have hh := pg_hd hs
  have := pg_ns12 (hok i hi) h hh.2.2 hi ho
  rw [hs, hh.1, List.length_cons] at this
  omega
section
variable {n fn dp : Nat} {ops opB opA target handler level entry blocks sa : Nat → Int32}
/-- the common part of an append: the new row has its handler, the tables change at places that the old rows don't look at -/
theorem bu_add {target' level' handler' : Nat → Int32} (H : bu_core n fn dp ops opB opA target handler level entry blocks sa) (hh : handler' = upd handler n (pg_sel (pg_isT ops) (pg_stk ops n)))
    (hl : ∀ i, i < n → level' i = level i) (h13 : ∀ i, i < n → ops i = 13 → target' i = target i) (h12 : ∀ i, i < n → ops i = 12 → ∀ t c r, pg_stk ops i = (t, c) :: r → target' t = target t)
    (h14c : ∀ i, i < n → ops i = 14 → ∀ b c r, pg_stk ops i = (b, c) :: r → ops b = 11 → target' c = target c) (h14b : ∀ i, i < n → ops i = 14 → ∀ b c r, pg_stk ops i = (b, c) :: r → ops b ≠ 11 → target' b = target b) (h14 : ∀ i, i < n → ops i = 14 → target' i = target i)
    (hn : bu_tab ops target' handler' level' n) : ∀ i, i < n + 1 → bu_tab ops target' handler' level' i := by
  intro i hi
  by_cases hin : i = n
  · rw [hin]; exact hn
  · have hi' : i < n := by omega
    obtain ⟨g1, g2, g3, g4, g5⟩ := H.2.2.2.1 i hi'
    refine ⟨by rw [hh, pk_un hin]; exact g1, fun z => by rw [hl i hi']; exact g2 z, fun z => by rw [h13 i hi' z]; exact g3 z, fun z t c r hs => by rw [h12 i hi' z t c r hs]; exact g4 z t c r hs, fun z b c r hs => ?_⟩
    obtain ⟨k1, k2, k3, k4⟩ := g5 z b c r hs
    exact ⟨fun y => by rw [h14c i hi' z b c r hs y]; exact k1 y, fun y => by rw [h14b i hi' z b c r hs y]; exact k2 y, fun y => by rw [h14 i hi' z, hl i hi']; exact k3 y, fun y => by rw [hl i hi']; exact k4 y⟩
theorem bu_ent (H : bu_core n fn dp ops opB opA target handler level entry blocks sa) (h0 : ops n ≠ 0) : fn = sp_cf ops (n + 1) ∧ ∀ f, f < fn → ∃ i, i < n + 1 ∧ ops i = 0 ∧ entry f = nI (i + 1) ∧ sp_cf ops i = f := by
  obtain ⟨_, _, _, _, _, _, _, h8, _, h10⟩ := H
  refine ⟨by rw [sp_cf, if_neg h0]; exact h8, fun f hf => ?_⟩
  obtain ⟨i, k1, k2⟩ := h10 f hf
  exact ⟨i, by omega, k2⟩
theorem bu_lt {f : Nat → Prop} (h : ∀ i, i < n → f i) (hn : f n) : ∀ i, i < n + 1 → f i := fun i hi => by
  by_cases hin : i = n
  · rw [hin]; exact hn
  · exact h i (by omega)
/-- statements that open and close nothing -/
theorem bu_plain {x : Int32} (H : bu_core n fn dp ops opB opA target handler level entry blocks sa) (hn32 : n < 32) (hok : pg_ok1 ops n) (hrow : bu_row ops opB opA sa n) (hb : pg_blk (ops n) = false) (h14 : ops n ≠ 14) (h12 : ops n ≠ 12) (h0 : ops n ≠ 0) (hx : ops n = 13 → x = pg_sel (pg_isR ops) (pg_stk ops n)) :
    bu_core (n + 1) fn dp ops opB opA (upd target n x) (upd handler n (pg_sel (pg_isT ops) (pg_stk ops n))) (upd level n (-1)) entry blocks sa := by
  have hs := pg_stk_o hb h14 h12
  have he := bu_ent H h0
  have H' := H
  obtain ⟨h1, h2, h3, h4, h5, h6, h7, h8, h9, h10⟩ := H
  have hlt : ∀ i, i < n → i ≠ n := fun i hi => by omega
  refine ⟨by omega, bu_lt h2 hok, bu_lt h3 hrow, bu_add H' rfl (fun i hi => pk_un (hlt i hi)) (fun i hi _ => pk_un (hlt i hi)) (fun i hi _ t c r hs => pk_un (by have := (pg_hd hs).2.2; omega)) (fun i hi ho b c r hs hb11 => pk_un ?_) (fun i hi _ b c r hs _ => pk_un (by have := (pg_hd hs).2.2; omega)) (fun i hi _ => pk_un (hlt i hi)) ?_, fun t ht ht11 => ?_, by rw [hs]; exact h6, by rw [hs]; exact h7, he.1, h9, he.2⟩
  · by_cases hc0 : c = 0
    · obtain ⟨t', c', r', hs', hc'⟩ := (h2 i hi).2.2.2.2.2 ho
      rw [hs] at hs'
      injection hs' with ha hbb
      injection ha with ha1 ha2
      subst ha1 ha2
      exact absurd hc0 (hc' hb11)
    · have := pg_ct h2 i (by omega) b c (by rw [hs]; exact List.mem_cons_self ..) hc0
      omega
  · refine ⟨pk_us, fun z => absurd z (by rw [hb]; decide), fun z => by rw [pk_us]; exact hx z, fun z => absurd z h12, fun z => absurd z h14⟩
  · rw [hs] at ht
    rw [pk_un (by have := pg_bd ops n _ ht; dsimp only at this; omega)]
    exact h5 t ht ht11
/-- a new function -/
theorem bu_func (H : bu_core n fn dp ops opB opA target handler level entry blocks sa) (hn32 : n < 32) (hok : pg_ok1 ops n) (hrow : bu_row ops opB opA sa n) (h0 : ops n = 0) (hfn : fn < 4) :
    bu_core (n + 1) (fn + 1) dp ops opB opA (upd target n (-1)) (upd handler n (pg_sel (pg_isT ops) (pg_stk ops n))) (upd level n (-1)) (upd entry fn (nI (n + 1))) blocks sa := by
  have hb : pg_blk (ops n) = false := by rw [h0]; decide
  have h14 : ops n ≠ 14 := by rw [h0]; decide
  have h12 : ops n ≠ 12 := by rw [h0]; decide
  have hs := pg_stk_o hb h14 h12
  have H' := H
  obtain ⟨h1, h2, h3, h4, h5, h6, h7, h8, h9, h10⟩ := H
  have hlt : ∀ i, i < n → i ≠ n := fun i hi => by omega
  refine ⟨by omega, bu_lt h2 hok, bu_lt h3 hrow, bu_add H' rfl (fun i hi => pk_un (hlt i hi)) (fun i hi _ => pk_un (hlt i hi)) (fun i hi _ t c r hs => pk_un (by have := (pg_hd hs).2.2; omega)) (fun i hi ho b c r hs hb11 => pk_un ?_) (fun i hi _ b c r hs _ => pk_un (by have := (pg_hd hs).2.2; omega)) (fun i hi _ => pk_un (hlt i hi)) ?_, fun t ht ht11 => ?_, by rw [hs]; exact h6, by rw [hs]; exact h7, by rw [sp_cf, if_pos h0, h8], by omega, fun f hf => ?_⟩
  · by_cases hc0 : c = 0
    · obtain ⟨t', c', r', hs', hc'⟩ := (h2 i hi).2.2.2.2.2 ho
      rw [hs] at hs'
      injection hs' with ha hbb
      injection ha with ha1 ha2
      subst ha1 ha2
      exact absurd hc0 (hc' hb11)
    · have := pg_ct h2 i (by omega) b c (by rw [hs]; exact List.mem_cons_self ..) hc0
      omega
  · exact ⟨pk_us, fun z => absurd z (by rw [hb]; decide), fun z => absurd z (by rw [h0]; decide), fun z => absurd z h12, fun z => absurd z h14⟩
  · rw [hs] at ht
    rw [pk_un (by have := pg_bd ops n _ ht; dsimp only at this; omega)]
    exact h5 t ht ht11
  · by_cases hff : f = fn
    · exact ⟨n, by omega, h0, by rw [hff, pk_us], by rw [hff, h8]⟩
    · obtain ⟨i, k1, k2, k3, k4⟩ := h10 f (by omega)
      exact ⟨i, by omega, k2, by rw [pk_un hff]; exact k3, k4⟩
/-- an opening statement -/
theorem bu_open (H : bu_core n fn dp ops opB opA target handler level entry blocks sa) (hn32 : n < 32) (hok : pg_ok1 ops n) (hrow : bu_row ops opB opA sa n) (hb : pg_blk (ops n) = true) :
    bu_core (n + 1) fn (dp + 1) ops opB opA (upd target n (-1)) (upd handler n (pg_sel (pg_isT ops) (pg_stk ops n))) (upd (upd level n (-1)) n (nI dp)) entry (upd blocks dp (nI n)) sa := by
  have hs := pg_stk_b hb
  have h0 : ops n ≠ 0 := fun z => by rw [z] at hb; exact absurd hb (by decide)
  have h13 : ops n ≠ 13 := fun z => by rw [z] at hb; exact absurd hb (by decide)
  have h14 : ops n ≠ 14 := fun z => by rw [z] at hb; exact absurd hb (by decide)
  have h12 : ops n ≠ 12 := fun z => by rw [z] at hb; exact absurd hb (by decide)
  have he := bu_ent H h0
  have H' := H
  obtain ⟨h1, h2, h3, h4, h5, h6, h7, h8, h9, h10⟩ := H
  have hlt : ∀ i, i < n → i ≠ n := fun i hi => by omega
  have hbk : ∀ l : List (Nat × Nat), l.length ≤ dp → bu_blk blocks l → bu_blk (upd blocks dp (nI n)) l := by
    intro l
    induction l with
    | nil => intro _ _; trivial
    | cons e r ih =>
      intro hl hk
      rw [List.length_cons] at hl
      exact ⟨by rw [pk_un (by omega)]; exact hk.1, ih (by omega) hk.2⟩
  refine ⟨by omega, bu_lt h2 hok, bu_lt h3 hrow, bu_add H' rfl (fun i hi => by rw [pk_un (hlt i hi), pk_un (hlt i hi)]) (fun i hi _ => pk_un (hlt i hi)) (fun i hi _ t c r hs => pk_un (by have := (pg_hd hs).2.2; omega)) (fun i hi ho b c r hs hb11 => pk_un ?_) (fun i hi _ b c r hs _ => pk_un (by have := (pg_hd hs).2.2; omega)) (fun i hi _ => pk_un (hlt i hi)) ?_, fun t ht ht11 => ?_, by rw [hs, List.length_cons, h6], ?_, he.1, h9, he.2⟩
  · by_cases hc0 : c = 0
    · obtain ⟨t', c', r', hs', hc'⟩ := (h2 i hi).2.2.2.2.2 ho
      rw [hs] at hs'
      injection hs' with ha hbb
      injection ha with ha1 ha2
      subst ha1 ha2
      exact absurd hc0 (hc' hb11)
    · have := pg_ct h2 i (by omega) b c (by rw [hs]; exact List.mem_cons_self ..) hc0
      omega
  · exact ⟨pk_us, fun _ => by rw [pk_us, h6], fun z => absurd z h13, fun z => absurd z h12, fun z => absurd z h14⟩
  · rw [hs] at ht
    rcases List.mem_cons.mp ht with z | ht
    · injection z with z1 _
      rw [z1, pk_us]
    · rw [pk_un (by have := pg_bd ops n _ ht; dsimp only at this; omega)]
      exact h5 t ht ht11
  · rw [hs]
    exact ⟨by rw [← h6, pk_us], hbk _ (by omega) h7⟩
/-- a catch -/
theorem bu_catch {t : Nat} {r : List (Nat × Nat)} (H : bu_core n fn dp ops opB opA target handler level entry blocks sa) (hn32 : n < 32) (hok : pg_ok1 ops n) (hrow : bu_row ops opB opA sa n) (h12 : ops n = 12) (hst : pg_stk ops n = (t, 0) :: r) (ht11 : ops t = 11) :
    bu_core (n + 1) fn dp ops opB opA (upd (upd target n (-1)) t (nI n)) (upd handler n (pg_sel (pg_isT ops) (pg_stk ops n))) (upd level n (-1)) entry blocks sa := by
  have hs : pg_stk ops (n + 1) = (t, n) :: r := by rw [pg_stk_c h12, hst]; rfl
  have hh := pg_hd hst
  have h0 : ops n ≠ 0 := by rw [h12]; decide
  have he := bu_ent H h0
  have H' := H
  obtain ⟨h1, h2, h3, h4, h5, h6, h7, h8, h9, h10⟩ := H
  have hmem : (t, 0) ∈ pg_stk ops n := by rw [hst]; exact List.mem_cons_self ..
  have hlt : ∀ i, i < n → i ≠ n := fun i hi => by omega
  have hu : ∀ k, k < n → k ≠ t → upd (upd target n (-1)) t (nI n) k = target k := fun k hk hkt => by rw [pk_un hkt, pk_un (hlt k hk)]
  refine ⟨by omega, bu_lt h2 hok, bu_lt h3 hrow, bu_add H' rfl (fun i hi => pk_un (hlt i hi)) (fun i hi z => hu i hi (fun e => by rw [e, ht11] at z; exact absurd z (by decide))) (fun i hi z t' c r' hs' => hu t' (by have := (pg_hd hs').2.2; omega) (fun e => bu_nct h2 hmem hi z (e ▸ hs'))) (fun i hi ho b c r' hs' hb11 => ?_) (fun i hi z b c r' hs' hb11 => hu b (by have := (pg_hd hs').2.2; omega) (fun e => hb11 (e ▸ ht11))) (fun i hi z => hu i hi (fun e => by rw [e, ht11] at z; exact absurd z (by decide))) ?_, fun t' ht' ht11' => ?_, by rw [hs, List.length_cons, h6, hst, List.length_cons], ?_, he.1, h9, he.2⟩
  · by_cases hc0 : c = 0
    · obtain ⟨t', c', r'', hs'', hc'⟩ := (h2 i hi).2.2.2.2.2 ho
      rw [hs'] at hs''
      injection hs'' with ha hbb
      injection ha with ha1 ha2
      subst ha1 ha2
      exact absurd hc0 (hc' hb11)
    · have k := pg_ct h2 i (by omega) b c (by rw [hs']; exact List.mem_cons_self ..) hc0
      exact hu c (by omega) (fun e => by have := k.2.2.1; rw [e, ht11] at this; exact absurd this (by decide))
  · refine ⟨pk_us, fun z => absurd z (by rw [h12]; decide), fun z => absurd z (by rw [h12]; decide), fun _ t' c r' hs' => ?_, fun z => absurd z (by rw [h12]; decide)⟩
    rw [hst] at hs'
    injection hs' with ha _
    injection ha with ha1 _
    rw [← ha1, pk_us]
  · rw [hs] at ht'
    rcases List.mem_cons.mp ht' with z | ht'
    · injection z with _ z2; omega
    · have hm : (t', 0) ∈ pg_stk ops n := by rw [hst]; exact List.mem_cons_of_mem _ ht'
      rw [hh.1] at ht'
      have k := pg_bd ops t _ ht'
      dsimp only at k
      rw [hu t' (by omega) (by omega)]
      exact h5 t' hm ht11'
  · rw [hst] at h7
    rw [hs]
    exact h7
end
end
section
/-! building a program: ends; linking -/
section
variable {n fn dp : Nat} {ops opB opA target handler level entry blocks sa : Nat → Int32}
/-- the end of a TRY -/
theorem bu_endT {b c : Nat} {r : List (Nat × Nat)} (H : bu_core n fn dp ops opB opA target handler level entry blocks sa) (hn32 : n < 32) (hok : pg_ok1 ops n) (hrow : bu_row ops opB opA sa n) (h14 : ops n = 14) (hst : pg_stk ops n = (b, c) :: r) (hb11 : ops b = 11) (hc : c ≠ 0) :
    bu_core (n + 1) fn (dp - 1) ops opB opA (upd (upd target n (-1)) c (nI (n + 1))) (upd handler n (pg_sel (pg_isT ops) (pg_stk ops n))) (upd level n (-1)) entry blocks sa := by
  have hs : pg_stk ops (n + 1) = r := by rw [pg_stk_e h14, hst]; rfl
  have hh := pg_hd hst
  have h0 : ops n ≠ 0 := by rw [h14]; decide
  have he := bu_ent H h0
  have H' := H
  obtain ⟨h1, h2, h3, h4, h5, h6, h7, h8, h9, h10⟩ := H
  have hmem : (b, c) ∈ pg_stk ops n := by rw [hst]; exact List.mem_cons_self ..
  have hct := pg_ct h2 n (Nat.le_refl n) b c hmem hc
  have hlt : ∀ i, i < n → i ≠ n := fun i hi => by omega
  have hu : ∀ k, k < n → k ≠ c → upd (upd target n (-1)) c (nI (n + 1)) k = target k := fun k hk hkt => by rw [pk_un hkt, pk_un (hlt k hk)]
  have hoc : ops c = 12 := hct.2.2.1
  refine ⟨by omega, bu_lt h2 hok, bu_lt h3 hrow, bu_add H' rfl (fun i hi => pk_un (hlt i hi)) (fun i hi z => hu i hi (fun e => by rw [e, hoc] at z; exact absurd z (by decide))) (fun i hi z t' c' r' hs' => hu t' (by have := (pg_hd hs').2.2; omega) (fun e => by have := (pg_hd hs').2.1; rw [e, hoc] at this; exact absurd this (by decide))) (fun i hi ho b' c' r' hs' hb11' => ?_) (fun i hi z b' c' r' hs' _ => hu b' (by have := (pg_hd hs').2.2; omega) (fun e => by have := (pg_hd hs').2.1; rw [e, hoc] at this; exact absurd this (by decide))) (fun i hi z => hu i hi (fun e => by rw [e, hoc] at z; exact absurd z (by decide))) ?_, fun t' ht' ht11' => ?_, by rw [hs, h6, hst, List.length_cons]; omega, ?_, he.1, h9, he.2⟩
  · by_cases hc0 : c' = 0
    · obtain ⟨t', c'', r'', hs'', hc'⟩ := (h2 i hi).2.2.2.2.2 ho
      rw [hs'] at hs''
      injection hs'' with ha hbb
      injection ha with ha1 ha2
      subst ha1 ha2
      exact absurd hc0 (hc' hb11')
    · have k := pg_ct h2 i (by omega) b' c' (by rw [hs']; exact List.mem_cons_self ..) hc0
      refine hu c' (by omega) (fun e => ?_)
      subst e
      have k5 := k.2.2.2.2
      rw [hct.2.2.2.2] at k5
      injection k5 with ka _
      injection ka with kb _
      subst kb
      exact bu_nc hmem hi ho hs'
  · refine ⟨pk_us, fun z => absurd z (by rw [h14]; decide), fun z => absurd z (by rw [h14]; decide), fun z => absurd z (by rw [h14]; decide), fun _ b' c' r' hs' => ?_⟩
    rw [hst] at hs'
    injection hs' with ha hr
    injection ha with ha1 ha2
    subst ha1 ha2
    exact ⟨fun _ => pk_us, fun z => absurd hb11 z, fun z => absurd z (by rw [hb11]; decide), fun _ => pk_us⟩
  · rw [hs, hh.1] at ht'
    have k := pg_bd ops b _ ht'
    dsimp only at k
    have hm : (t', 0) ∈ pg_stk ops n := by rw [hst, hh.1]; exact List.mem_cons_of_mem _ ht'
    rw [hu t' (by omega) (by omega)]
    exact h5 t' hm ht11'
  · rw [hst] at h7
    rw [hs]; exact h7.2
/-- the end of another block -/
theorem bu_endB {b c : Nat} {r : List (Nat × Nat)} {x y : Int32} (H : bu_core n fn dp ops opB opA target handler level entry blocks sa) (hn32 : n < 32) (hok : pg_ok1 ops n) (hrow : bu_row ops opB opA sa n) (h14 : ops n = 14) (hst : pg_stk ops n = (b, c) :: r) (hb11 : ops b ≠ 11)
    (hx : ops b = 10 → x = nI (b + 1) ∧ y = nI r.length) (hy : ops b ≠ 10 → y = -1) :
    bu_core (n + 1) fn (dp - 1) ops opB opA (upd (upd target b (nI (n + 1))) n x) (upd handler n (pg_sel (pg_isT ops) (pg_stk ops n))) (upd level n y) entry blocks sa := by
  have hs : pg_stk ops (n + 1) = r := by rw [pg_stk_e h14, hst]; rfl
  have hh := pg_hd hst
  have h0 : ops n ≠ 0 := by rw [h14]; decide
  have he := bu_ent H h0
  have H' := H
  obtain ⟨h1, h2, h3, h4, h5, h6, h7, h8, h9, h10⟩ := H
  have hmem : (b, c) ∈ pg_stk ops n := by rw [hst]; exact List.mem_cons_self ..
  have hlt : ∀ i, i < n → i ≠ n := fun i hi => by omega
  have hu : ∀ k, k < n → k ≠ b → upd (upd target b (nI (n + 1))) n x k = target k := fun k hk hkt => by rw [pk_un (hlt k hk), pk_un hkt]
  have hbl := hh.2.1
  refine ⟨by omega, bu_lt h2 hok, bu_lt h3 hrow, bu_add H' rfl (fun i hi => pk_un (hlt i hi)) (fun i hi z => hu i hi (fun e => by rw [← e, z] at hbl; exact absurd hbl (by decide))) (fun i hi z t' c' r' hs' => hu t' (by have := (pg_hd hs').2.2; omega) (fun e => ?_)) (fun i hi ho b' c' r' hs' hb11' => ?_) (fun i hi z b' c' r' hs' _ => hu b' (by have := (pg_hd hs').2.2; omega) (fun e => bu_nc hmem hi z (e ▸ hs'))) (fun i hi z => hu i hi (fun e => by rw [← e, z] at hbl; exact absurd hbl (by decide))) ?_, fun t' ht' ht11' => ?_, by rw [hs, h6, hst, List.length_cons]; omega, ?_, he.1, h9, he.2⟩
  · obtain ⟨t2, r2, k1, k2⟩ := (h2 i hi).2.2.2.1 z
    rw [hs'] at k1
    injection k1 with ka _
    injection ka with kb _
    exact hb11 (by rw [← e, kb]; exact k2)
  · by_cases hc0 : c' = 0
    · obtain ⟨t', c'', r'', hs'', hc'⟩ := (h2 i hi).2.2.2.2.2 ho
      rw [hs'] at hs''
      injection hs'' with ha hbb
      injection ha with ha1 ha2
      subst ha1 ha2
      exact absurd hc0 (hc' hb11')
    · have k := pg_ct h2 i (by omega) b' c' (by rw [hs']; exact List.mem_cons_self ..) hc0
      exact hu c' (by omega) (fun e => by have := k.2.2.1; rw [e] at this; rw [this] at hbl; exact absurd hbl (by decide))
  · refine ⟨pk_us, fun z => absurd z (by rw [h14]; decide), fun z => absurd z (by rw [h14]; decide), fun z => absurd z (by rw [h14]; decide), fun _ b' c' r' hs' => ?_⟩
    rw [hst] at hs'
    injection hs' with ha hr
    injection ha with ha1 ha2
    subst ha1 ha2
    subst hr
    exact ⟨fun z => absurd z hb11, fun _ => by rw [pk_un (by omega), pk_us], fun z => by rw [pk_us, pk_us]; exact hx z, fun z => by rw [pk_us]; exact hy z⟩
  · rw [hs, hh.1] at ht'
    have k := pg_bd ops b _ ht'
    dsimp only at k
    have hm : (t', 0) ∈ pg_stk ops n := by rw [hst, hh.1]; exact List.mem_cons_of_mem _ ht'
    rw [hu t' (by omega) (by omega)]
    exact h5 t' hm ht11'
  · rw [hst] at h7
    rw [hs]; exact h7.2
/-- linked tables -/
def lk_T (ops target : Nat → Int32) (i k : Nat) : Int32 := if k < i ∧ ops k = 13 then target (target k).toNatClampNeg else target k
def lk_H (target handler : Nat → Int32) (i k : Nat) : Int32 := if k < i ∧ ¬ handler k < 0 then target (handler k).toNatClampNeg else handler k
theorem lk_T13 (H : bu_core n fn dp ops opB opA target handler level entry blocks sa) {i : Nat} (hi : i < n) (h13 : ops i = 13) : ∃ b c, (b, c) ∈ pg_stk ops i ∧ ops b = 10 ∧ target i = nI b ∧ pg_sel (pg_isR ops) (pg_stk ops i) = nI b := by
  have h1 := (H.2.2.2.1 i hi).2.2.1 h13
  rcases pg_sel_cases (pg_isR ops) (pg_stk ops i) with ⟨hno, _⟩ | ⟨b, c, ext, r, hs, hp, hsel, _⟩
  · obtain ⟨e, he, he10⟩ := (H.2.1 i hi).2.2.2.2.1 h13
    exact absurd (by rw [pg_isR, he10]; rfl) (hno e he)
  · exact ⟨b, c, by rw [hs]; simp, by simpa [pg_isR] using hp, h1.trans hsel, hsel⟩
theorem lk_Hc (H : bu_core n fn dp ops opB opA target handler level entry blocks sa) {i : Nat} (hi : i < n) : (handler i = -1 ∧ pg_sel (pg_isT ops) (pg_stk ops i) = -1) ∨ ∃ t, (t, 0) ∈ pg_stk ops i ∧ ops t = 11 ∧ handler i = nI t ∧ pg_sel (pg_isT ops) (pg_stk ops i) = nI t := by
  have h1 := (H.2.2.2.1 i hi).1
  rcases pg_sel_cases (pg_isT ops) (pg_stk ops i) with ⟨_, h2⟩ | ⟨b, c, ext, r, hs, hp, hsel, _⟩
  · exact Or.inl ⟨h1.trans h2, h2⟩
  · have hp' : ops b = 11 ∧ c = 0 := by simpa [pg_isT] using hp
    obtain ⟨p1, rfl⟩ := hp'
    exact Or.inr ⟨b, by rw [hs]; simp, p1, h1.trans hsel, hsel⟩
/-- a linked program is a sealed one -/
theorem lk_ok (H : bu_core n fn dp ops opB opA target handler level entry blocks sa) (hz : pg_stk ops n = []) (h0 : ∀ i, n ≤ i → ops i = 0) (hcall : ∀ i, i < n → ops i = 4 → opB i < nI fn) :
    sp_ok n fn ops opB opA (lk_T ops target n) (lk_H target handler n) level entry sa := by
  have hn := H.1
  have hfn := H.2.2.2.2.2.2.2.2.1
  refine ⟨H.1, H.2.1, hz, h0, fun i hi => ?_, H.2.2.2.2.2.2.2.2.2, hfn⟩
  obtain ⟨r1, r2, r3⟩ := H.2.2.1 i hi
  obtain ⟨t1, t2, t3, t4, t5⟩ := H.2.2.2.1 i hi
  -- the end of a block below n
  have hend : ∀ b, b < n → pg_blk (ops b) = true → ops b ≠ 11 → target b = nI (pt_E ops n b + 1) := fun b hb hk hb11 => by
    obtain ⟨c, g1, g2, g3, g4, g5⟩ := sp_end hn hz hb hk
    exact ((H.2.2.2.1 _ g2).2.2.2.2 g3 b c _ g4).2.1 hb11
  have hcat : ∀ t, t < n → ops t = 11 → ∃ c, c ≠ 0 ∧ ops c = 12 ∧ c < n ∧ pg_close ops n 12 (t + 1) = c ∧ target t = nI c ∧ pg_stk ops c = (t, 0) :: pg_stk ops t ∧ target c = nI (pt_E ops n t + 1) ∧ pg_close ops n 14 (c + 1) = pt_E ops n t := fun t ht ht11 => by
    obtain ⟨c, g1, g2, g3, g4, g5⟩ := sp_end hn hz ht (by rw [ht11]; decide)
    obtain ⟨t', c', r', hs', hc'⟩ := (H.2.1 _ g2).2.2.2.2.2 g3
    rw [g4] at hs'
    injection hs' with ha hbb
    injection ha with ha1 ha2
    subst ha1 ha2
    have hc0 := hc' ht11
    have k := pg_ct H.2.1 (pt_E ops n t) (by omega) t c (by rw [g4]; exact List.mem_cons_self ..) hc0
    exact ⟨c, hc0, k.2.2.1, by omega, pg_C_at H.2.1 (by omega) (by omega) k.2.2.1 k.2.2.2.2, (H.2.2.2.1 c (by omega)).2.2.2.1 k.2.2.1 t 0 _ k.2.2.2.2, k.2.2.2.2, ((H.2.2.2.1 _ g2).2.2.2.2 g3 t c _ g4).1 ht11, pg_E_c H.2.1 (by omega) g2 g3 g4 hc0⟩
  have hT : ops i ≠ 13 → lk_T ops target n i = target i := fun z => if_neg (fun y => z y.2)
  refine ⟨r1, r2, fun z => ?_, t2, fun z => ?_, fun z => ?_, fun z b hb hsel => ?_, fun z b c r hs => ?_, ?_⟩
  · obtain ⟨f, hf, hB⟩ := r3 z
    have := hcall i hi z
    rw [hB, nI_ltI (by omega) (by omega)] at this
    exact ⟨f, this, hB⟩
  · rw [hT (by rcases z with z | z <;> rw [z] <;> decide)]
    exact hend i hi (by rcases z with z | z <;> rw [z] <;> decide) (by rcases z with z | z <;> rw [z] <;> decide)
  · rw [hT (by rw [z]; decide)]
    obtain ⟨t, r, k1, k2⟩ := (H.2.1 i hi).2.2.2.1 z
    have hti := (pg_hd k1).2.2
    obtain ⟨c, _, g2, g3, g4, g5, g6, g7, g8⟩ := hcat t (by omega) k2
    have e1 : c = i := by
      have := pg_C_at H.2.1 (by omega) hi z k1
      omega
    subst e1
    rw [g7, g8]
  · obtain ⟨b', c, hm, hb10, ht, hsel'⟩ := lk_T13 H hi z
    have hb'i := pg_bd ops i _ hm
    dsimp only at hb'i
    have e1 : b' = b := (nI_eq (by omega) (by omega)).mp (hsel'.symm.trans hsel)
    subst e1
    rw [lk_T, if_pos ⟨hi, z⟩, ht, nI_clamp (by omega)]
    exact hend b' (by omega) (by rw [hb10]; decide) (by rw [hb10]; decide)
  · rw [hT (by rw [z]; decide)]
    exact (t5 z b c r hs).2.2
  · rcases lk_Hc H hi with ⟨g1, g2⟩ | ⟨t, g1, g2, g3, g4⟩
    · exact Or.inl ⟨g2, by rw [lk_H, g1, if_neg (fun y => y.2 (by decide))]⟩
    · have hti := pg_bd ops i _ g1
      dsimp only at hti
      obtain ⟨c, _, k2, k3, k4, k5, _⟩ := hcat t (by omega) g2
      refine Or.inr ⟨t, g1, g2, g4, ?_⟩
      rw [lk_H, g3, if_pos ⟨hi, nI_pos (by omega)⟩, nI_clamp (by omega), k5, k4]
end
end
section
/-! add: the component's checks and tables -/
def bu_ua (op : Int32) : Prop := op ≠ 0 ∧ op ≠ 11 ∧ op ≠ 13 ∧ op ≠ 14
def bu_wf (op a b : Int32) : Prop := (¬ op < 0 ∧ op ≤ 14) ∧ (bu_ua op → ¬ a < 0 ∧ a ≤ 7) ∧ ((op = 2 ∨ op = 3 ∨ op = 5) → ¬ b < 0 ∧ b ≤ 7) ∧ (op = 4 → ¬ b < 0 ∧ b ≤ 3)
def bu_inT (ops : Nat → Int32) (l : List (Nat × Nat)) : Prop := ∃ t r, l = (t, 0) :: r ∧ ops t = 11
def bu_fit (n fn : Nat) (ops : Nat → Int32) (op : Int32) : Prop :=
  (op = 0 → pg_stk ops n = [] ∧ fn < 4) ∧ (op ≠ 0 → fn ≠ 0) ∧ (pg_blk op = true → (pg_stk ops n).length < 3) ∧ (op = 12 → bu_inT ops (pg_stk ops n)) ∧ (op = 13 → ¬ pg_sel (pg_isR ops) (pg_stk ops n) < 0) ∧ (op = 14 → pg_stk ops n ≠ [] ∧ ¬ bu_inT ops (pg_stk ops n))
section
variable {pl sl ol n fn dp : Nat} {sealed : Int32} {ops opB opA target handler level entry blocks sa : Nat → Int32} {ss : ty_ss} {gx : ty_gx} {gy : ty_gy} {px : ty_px} {py : ty_py}
theorem xw_uA {post : Int32 → Prop} {op : Int32} (h1 : bu_ua op → post 1) (h0 : ¬ bu_ua op → post 0) : wpX_usesA post (mk_X ((nI pl), (nI sl), (nI ol), (nI n), (nI fn), sealed, ops, opB) ((nI dp), opA, target, handler, level, entry, blocks) ss gx px) op := by
  refine br_c (fun z => h0 (fun y => y.1 z)) (fun z0 => br_c (fun z => h0 (fun y => y.2.1 z)) (fun z11 => br_c (fun z => h0 (fun y => y.2.2.1 z)) (fun z13 => br_c (fun z => h0 (fun y => y.2.2.2 z)) (fun z14 => h1 ⟨z0, z11, z13, z14⟩))))
theorem xw_wf {post : Int32 → Prop} {op a b : Int32} (h1 : bu_wf op a b → post 1) (h0 : ¬ bu_wf op a b → post 0) : wpX_wellFormed post (mk_X ((nI pl), (nI sl), (nI ol), (nI n), (nI fn), sealed, ops, opB) ((nI dp), opA, target, handler, level, entry, blocks) ss gx px) op a b := by
  refine br_c (fun z => h0 (fun y => y.1.1 z)) (fun z0 => br_c (fun z14 => ?_) (fun z => h0 (fun y => z y.1.2)))
  have K : (bu_ua op → ¬ a < 0 ∧ a ≤ 7) → wX_wellFormed_32 post op b 0 1 2 3 4 (nI pl) (nI sl) (nI ol) (nI n) (nI fn) (nI dp) sealed ss.1 px.1 px.2.1 px.2.2.1 px.2.2.2.1 ss.2.1 ops opA opB target handler level entry blocks ss.2.2.1 ss.2.2.2.1 px.2.2.2.2.1 px.2.2.2.2.2.1 px.2.2.2.2.2.2.1 ss.2.2.2.2.1 ss.2.2.2.2.2.1 ss.2.2.2.2.2.2.1 gx.1 gx.2.1 gx.2.2.1 gx.2.2.2.1 gx.2.2.2.2.1 ss.2.2.2.2.2.2.2.1 gx.2.2.2.2.2 px.2.2.2.2.2.2.2.1 px.2.2.2.2.2.2.2.2.1 px.2.2.2.2.2.2.2.2.2.1 px.2.2.2.2.2.2.2.2.2.2.1 px.2.2.2.2.2.2.2.2.2.2.2.1 px.2.2.2.2.2.2.2.2.2.2.2.2.1 px.2.2.2.2.2.2.2.2.2.2.2.2.2 ss.2.2.2.2.2.2.2.2 := fun ha => by
    have K2 : (op = 2 ∨ op = 3 ∨ op = 5) → wX_wellFormed_47 post b 0 1 2 3 4 (nI pl) (nI sl) (nI ol) (nI n) (nI fn) (nI dp) sealed ss.1 px.1 px.2.1 px.2.2.1 px.2.2.2.1 ss.2.1 ops opA opB target handler level entry blocks ss.2.2.1 ss.2.2.2.1 px.2.2.2.2.1 px.2.2.2.2.2.1 px.2.2.2.2.2.2.1 ss.2.2.2.2.1 ss.2.2.2.2.2.1 ss.2.2.2.2.2.2.1 gx.1 gx.2.1 gx.2.2.1 gx.2.2.2.1 gx.2.2.2.2.1 ss.2.2.2.2.2.2.2.1 gx.2.2.2.2.2 px.2.2.2.2.2.2.2.1 px.2.2.2.2.2.2.2.2.1 px.2.2.2.2.2.2.2.2.2.1 px.2.2.2.2.2.2.2.2.2.2.1 px.2.2.2.2.2.2.2.2.2.2.2.1 px.2.2.2.2.2.2.2.2.2.2.2.2.1 px.2.2.2.2.2.2.2.2.2.2.2.2.2 ss.2.2.2.2.2.2.2.2 := fun hop => by
      refine br_c (fun z => h0 (fun y => (y.2.2.1 hop).1 z)) (fun z => br_c (fun z' => h0 (fun y => Int32.not_le.mpr z' (y.2.2.1 hop).2)) (fun z' => h1 ⟨⟨z0, z14⟩, ha, fun _ => ⟨z, Int32.not_lt.mp z'⟩, fun z4 => ?_⟩))
      rcases hop with g | g | g <;> rw [g] at z4 <;> exact absurd z4 (by decide)
    refine br_c (fun z => K2 (Or.inl z)) (fun z2 => br_c (fun z => K2 (Or.inr (Or.inl z))) (fun z3 => br_c (fun z => K2 (Or.inr (Or.inr z))) (fun z5 => br_c (fun z4 => ?_) (fun z4 => h1 ⟨⟨z0, z14⟩, ha, fun y => ?_, fun y => absurd y z4⟩))))
    · refine br_c (fun z => h0 (fun y => (y.2.2.2 z4).1 z)) (fun z => br_c (fun z' => h0 (fun y => Int32.not_le.mpr z' (y.2.2.2 z4).2)) (fun z' => h1 ⟨⟨z0, z14⟩, ha, fun y => ?_, fun _ => ⟨z, Int32.not_lt.mp z'⟩⟩))
      rcases y with y | y | y
      · exact absurd y z2
      · exact absurd y z3
      · exact absurd y z5
    · rcases y with y | y | y
      · exact absurd y z2
      · exact absurd y z3
      · exact absurd y z5
  refine xw_uA (fun hu => br_f (by decide) (br_c (fun z => h0 (fun y => (y.2.1 hu).1 z)) (fun z => br_c (fun z' => K (fun _ => ⟨z, z'⟩)) (fun z' => h0 (fun y => z' (y.2.1 hu).2))))) (fun hu => br_t rfl (K (fun y => absurd y hu)))
theorem bu_bl {l : List (Nat × Nat)} {e : Nat × Nat} {r : List (Nat × Nat)} (h : l = e :: r) (H : bu_blk blocks l) : blocks r.length = nI e.1 := by
  subst h; exact H.1
theorem bu_tg (H : bu_core n fn dp ops opB opA target handler level entry blocks sa) {b c : Nat} (hm : (b, c) ∈ pg_stk ops n) (hb : ops b = 11) : (c = 0 → target b = -1) ∧ (c ≠ 0 → target b = nI c ∧ c < n) := by
  refine ⟨fun z => ?_, fun z => ?_⟩
  · subst z; exact H.2.2.2.2.1 b hm hb
  · have k := pg_ct H.2.1 n (Nat.le_refl n) b c hm z
    exact ⟨(H.2.2.2.1 c k.2.1).2.2.2.1 k.2.2.1 b 0 _ k.2.2.2.2, k.2.1⟩
theorem xw_inT {post : Int32 → Prop} (H : bu_core n fn dp ops opB opA target handler level entry blocks sa) (h1 : bu_inT ops (pg_stk ops n) → post 1) (h0 : ¬ bu_inT ops (pg_stk ops n) → post 0) : wpX_inTryPart post (mk_X ((nI pl), (nI sl), (nI ol), (nI n), (nI fn), sealed, ops, opB) ((nI dp), opA, target, handler, level, entry, blocks) ss gx px) := by
  have hn := H.1
  have hdp := H.2.2.2.2.2.1
  have hbk := H.2.2.2.2.2.2.1
  have hl3 := pg_len3 H.2.1 n (Nat.le_refl n)
  cases hs : pg_stk ops n with
  | nil =>
    rw [hs] at hdp h0
    have : dp = 0 := hdp
    subst this
    exact br_t rfl (h0 (fun ⟨t, r, z, _⟩ => by cases z))
  | cons e r =>
    obtain ⟨b, c⟩ := e
    have hbl := bu_bl hs hbk
    have hb := pg_hd hs
    rw [hs, List.length_cons] at hdp hl3
    have hm : (b, c) ∈ pg_stk ops n := by rw [hs]; exact List.mem_cons_self ..
    have e1 : nI dp - 1 = nI r.length := by rw [hdp]; exact nI_pred _
    have er : (nI r.length).toNatClampNeg = r.length := nI_clamp (by omega)
    have eb : (nI b).toNatClampNeg = b := nI_clamp (by omega)
    have hin3 : vp_in (nI dp - 1) 3 := by rw [e1]; exact vp_in_nI (by omega) (by omega)
    have hbl' : blocks (nI dp - 1).toNatClampNeg = nI b := by rw [e1, er]; exact hbl
    have hinb : vp_in (nI b) 32 := vp_in_nI (by omega) (by omega)
    refine br_f (nI_ne0 (by omega) (by omega)) ⟨hin3, nm_r hbl' ⟨hinb, ?_⟩⟩
    by_cases hb11 : ops b = 11
    · have htg := bu_tg H hm hb11
      refine br_t (by rw [eb]; exact hb11) ⟨hinb, ?_⟩
      by_cases hc : c = 0
      · have ht : ¬ 0 ≤ target (nI b).toNatClampNeg := by rw [eb, htg.1 hc]; decide
        exact br_f ht (h1 ⟨b, r, by rw [hs, hc], hb11⟩)
      · have ht : 0 ≤ target (nI b).toNatClampNeg := by rw [eb, (htg.2 hc).1]; exact nI_pos' (by have := (htg.2 hc).2; omega)
        exact br_t ht (h0 (fun ⟨t, r', z, _⟩ => by rw [hs] at z; injection z with z1 _; injection z1 with _ z2; exact hc z2))
    · exact br_f (by rw [eb]; exact hb11) (h0 (fun ⟨t, r', z, z11⟩ => by rw [hs] at z; injection z with z1 _; injection z1 with z2 _; exact hb11 (by rw [z2]; exact z11)))
theorem xr_iR {post : Int32 → Prop} : ∀ l : List (Nat × Nat), bu_blk blocks l → (∀ e ∈ l, e.1 < 32) → l.length ≤ 3 → post (pg_sel (pg_isR ops) l) → wX_innermostRepeat_7 post 0 1 2 3 4 (nI pl) (nI sl) (nI ol) (nI n) (nI fn) (nI dp) sealed ss.1 px.1 px.2.1 px.2.2.1 px.2.2.2.1 ss.2.1 ops opA opB target handler level entry blocks ss.2.2.1 ss.2.2.2.1 px.2.2.2.2.1 px.2.2.2.2.2.1 px.2.2.2.2.2.2.1 ss.2.2.2.2.1 ss.2.2.2.2.2.1 ss.2.2.2.2.2.2.1 gx.1 gx.2.1 gx.2.2.1 gx.2.2.2.1 gx.2.2.2.2.1 ss.2.2.2.2.2.2.2.1 gx.2.2.2.2.2 px.2.2.2.2.2.2.2.1 px.2.2.2.2.2.2.2.2.1 px.2.2.2.2.2.2.2.2.2.1 px.2.2.2.2.2.2.2.2.2.2.1 px.2.2.2.2.2.2.2.2.2.2.2.1 px.2.2.2.2.2.2.2.2.2.2.2.2.1 px.2.2.2.2.2.2.2.2.2.2.2.2.2 ss.2.2.2.2.2.2.2.2 (l.length + 1) (nI l.length - 1)
  | [], _, _, _, h => br_t (by decide) h
  | e :: r, hb, he, hl, h => by
    rw [List.length_cons] at hl
    rw [List.length_cons, nI_pred]
    have er : (nI r.length).toNatClampNeg = r.length := nI_clamp (by omega)
    have heb := he e (List.mem_cons_self ..)
    have hb' : blocks (nI r.length).toNatClampNeg = nI e.1 := by rw [er]; exact hb.1
    have hin3 : vp_in (nI r.length) 3 := vp_in_nI (by omega) (by omega)
    rw [pg_sel] at h
    refine br_f (nI_pos (by omega)) ⟨hin3, ?_⟩
    rw [hb', nI_clamp (show e.1 < 2 ^ 31 by omega)]
    refine ⟨vp_in_nI (by omega) (by omega), ?_⟩
    by_cases h10 : ops e.1 = 10
    · rw [if_pos (by rw [pg_isR, h10]; rfl)] at h
      exact br_t h10 ⟨hin3, h⟩
    · rw [if_neg (by simpa [pg_isR] using h10)] at h
      exact br_f h10 (nm_r (Int32.sub_eq_add_neg _ _).symm (xr_iR r hb.2 (fun x hx => he x (List.mem_cons_of_mem _ hx)) (by omega) h))
theorem xw_iR {post : Int32 → Prop} (H : bu_core n fn dp ops opB opA target handler level entry blocks sa) (h : post (pg_sel (pg_isR ops) (pg_stk ops n))) : wpX_innermostRepeat post (mk_X ((nI pl), (nI sl), (nI ol), (nI n), (nI fn), sealed, ops, opB) ((nI dp), opA, target, handler, level, entry, blocks) ss gx px) := by
  have hn := H.1
  refine nm_r (e' := nI (pg_stk ops n).length - 1) (by rw [← H.2.2.2.2.2.1]) (Exists.intro _ (xr_iR (pg_stk ops n) H.2.2.2.2.2.2.1 (fun e he => by have := pg_bd ops n e he; omega) (pg_len3 H.2.1 n (Nat.le_refl n)) h))
theorem xr_gT {post : Int32 → Prop} : ∀ l : List (Nat × Nat), bu_blk blocks l → (∀ e ∈ l, e.1 < 32 ∧ (ops e.1 = 11 → (e.2 = 0 → target e.1 = -1) ∧ (e.2 ≠ 0 → target e.1 = nI e.2 ∧ e.2 < 32))) → l.length ≤ 3 → post (pg_sel (pg_isT ops) l) → wX_guardingTry_7 post 0 1 2 3 4 (nI pl) (nI sl) (nI ol) (nI n) (nI fn) (nI dp) sealed ss.1 px.1 px.2.1 px.2.2.1 px.2.2.2.1 ss.2.1 ops opA opB target handler level entry blocks ss.2.2.1 ss.2.2.2.1 px.2.2.2.2.1 px.2.2.2.2.2.1 px.2.2.2.2.2.2.1 ss.2.2.2.2.1 ss.2.2.2.2.2.1 ss.2.2.2.2.2.2.1 gx.1 gx.2.1 gx.2.2.1 gx.2.2.2.1 gx.2.2.2.2.1 ss.2.2.2.2.2.2.2.1 gx.2.2.2.2.2 px.2.2.2.2.2.2.2.1 px.2.2.2.2.2.2.2.2.1 px.2.2.2.2.2.2.2.2.2.1 px.2.2.2.2.2.2.2.2.2.2.1 px.2.2.2.2.2.2.2.2.2.2.2.1 px.2.2.2.2.2.2.2.2.2.2.2.2.1 px.2.2.2.2.2.2.2.2.2.2.2.2.2 ss.2.2.2.2.2.2.2.2 (l.length + 1) (nI l.length - 1)
  | [], _, _, _, h => br_t (by decide) h
  | e :: r, hb, he, hl, h => by
    rw [List.length_cons] at hl
    rw [List.length_cons, nI_pred]
    have er : (nI r.length).toNatClampNeg = r.length := nI_clamp (by omega)
    have heb := (he e (List.mem_cons_self ..)).1
    have hb' : blocks (nI r.length).toNatClampNeg = nI e.1 := by rw [er]; exact hb.1
    have hin3 : vp_in (nI r.length) 3 := vp_in_nI (by omega) (by omega)
    have hin32 : vp_in (nI e.1) 32 := vp_in_nI (by omega) (by omega)
    rw [pg_sel] at h
    have ih := xr_gT (post := post) r hb.2 (fun x hx => he x (List.mem_cons_of_mem _ hx)) (by omega)
    refine br_f (nI_pos (by omega)) ⟨hin3, ?_⟩
    rw [hb', nI_clamp (show e.1 < 2 ^ 31 by omega)]
    refine ⟨hin32, ?_⟩
    by_cases h11 : ops e.1 = 11
    · have ht := (he e (List.mem_cons_self ..)).2 h11
      refine br_t h11 ⟨hin3, hin32, ?_⟩
      by_cases h2 : e.2 = 0
      · rw [if_pos (by rw [pg_isT, h11, h2]; rfl)] at h
        exact br_f (by rw [ht.1 h2]; decide) ⟨hin3, h⟩
      · rw [if_neg (by simp [pg_isT, h2])] at h
        have k := ht.2 h2
        exact br_t (by rw [k.1]; exact nI_pos' (by omega)) (nm_r (Int32.sub_eq_add_neg _ _).symm (ih h))
    · rw [if_neg (by simp [pg_isT, h11])] at h
      exact br_f h11 (nm_r (Int32.sub_eq_add_neg _ _).symm (ih h))
theorem xw_gT {post : Int32 → Prop} {n' : Nat} (H : bu_core n fn dp ops opB opA target handler level entry blocks sa) (h : post (pg_sel (pg_isT ops) (pg_stk ops n))) : wpX_guardingTry post (mk_X ((nI pl), (nI sl), (nI ol), (nI (n')), (nI fn), sealed, ops, opB) ((nI dp), opA, target, handler, level, entry, blocks) ss gx px) := by
  have hn := H.1
  refine nm_r (e' := nI (pg_stk ops n).length - 1) (by rw [← H.2.2.2.2.2.1]) (Exists.intro _ (xr_gT (pg_stk ops n) H.2.2.2.2.2.2.1 (fun e he => ⟨by have := pg_bd ops n e he; omega, fun h11 => ?_⟩) (pg_len3 H.2.1 n (Nat.le_refl n)) h))
  have k := bu_tg H (b := e.1) (c := e.2) he h11
  exact ⟨k.1, fun z => ⟨(k.2 z).1, by have := (k.2 z).2; omega⟩⟩
theorem xw_fits {post : Int32 → Prop} {op : Int32} (H : bu_core n fn dp ops opB opA target handler level entry blocks sa) (h0p : ¬ op < 0) (h14p : op ≤ 14) (h1 : bu_fit n fn ops op → post 1) (h0 : ¬ bu_fit n fn ops op → post 0) : wpX_fits post (mk_X ((nI pl), (nI sl), (nI ol), (nI n), (nI fn), sealed, ops, opB) ((nI dp), opA, target, handler, level, entry, blocks) ss gx px) op := by
  have hn := H.1
  have hdp := H.2.2.2.2.2.1
  have hfn := H.2.2.2.2.2.2.2.2.1
  have hl3 := pg_len3 H.2.1 n (Nat.le_refl n)
  obtain ⟨m, hm, rfl⟩ := nI_of2 (x := op) (M := 14) (n := 14) (by decide) h0p h14p
  have ne : ∀ a b : Nat, a ≤ 14 → b ≤ 14 → a ≠ b → ¬ nI a = nI b := fun a b ha hb hab z => hab ((nI_eq (by omega) (by omega)).mp z)
  by_cases hm0 : m = 0
  · subst hm0
    refine br_t rfl ?_
    by_cases hd : dp = 0
    · refine br_t (by rw [hd]; rfl) ?_
      have hs : pg_stk ops n = [] := List.eq_nil_of_length_eq_zero (by omega)
      by_cases hf : fn < 4
      · exact br_f (nI_ge (b := 4) hf (by decide)) (h1 ⟨fun _ => ⟨hs, hf⟩, fun z => absurd rfl z, fun z => absurd z (by decide), fun z => absurd z (by decide), fun z => absurd z (by decide), fun z => absurd z (by decide)⟩)
      · exact br_t (nI_le (a := 4) (by omega) (by omega)) (h0 (fun z => hf (z.1 rfl).2))
    · refine br_f (nI_ne0 (by omega) (by omega)) (h0 (fun z => hd ?_))
      rw [hdp, (z.1 rfl).1]; rfl
  · have hmne : ¬ nI m = 0 := nI_ne0 (by omega) (by omega)
    refine br_f hmne ?_
    by_cases hf0 : fn = 0
    · exact br_t (by rw [hf0]; rfl) (h0 (fun z => z.2.1 hmne hf0))
    · refine br_f (nI_ne0 (by omega) (by omega)) ?_
      by_cases hm9 : m < 9
      · refine br_t (nI_lt (b := 9) hm9 (by decide)) (h1 ⟨fun z => absurd z hmne, fun _ => hf0, fun z => ?_, fun z => absurd z (ne m 12 (by omega) (by omega) (by omega)), fun z => absurd z (ne m 13 (by omega) (by omega) (by omega)), fun z => absurd z (ne m 14 (by omega) (by omega) (by omega))⟩)
        rw [wk_nblk9 (nI_lt (b := 9) hm9 (by decide))] at z
        exact absurd z (by decide)
      · refine br_f (nI_nlt (b := 9) (by omega) (by omega)) (br_f (nI_nlt (a := 14) (by omega) (by decide)) ?_)
        have hcase : m = 9 ∨ m = 10 ∨ m = 11 ∨ m = 12 ∨ m = 13 ∨ m = 14 := by omega
        have B72 : pg_blk (nI m) = true → wX_fits_72 post 0 1 2 3 4 (nI pl) (nI sl) (nI ol) (nI n) (nI fn) (nI dp) sealed ss.1 px.1 px.2.1 px.2.2.1 px.2.2.2.1 ss.2.1 ops opA opB target handler level entry blocks ss.2.2.1 ss.2.2.2.1 px.2.2.2.2.1 px.2.2.2.2.2.1 px.2.2.2.2.2.2.1 ss.2.2.2.2.1 ss.2.2.2.2.2.1 ss.2.2.2.2.2.2.1 gx.1 gx.2.1 gx.2.2.1 gx.2.2.2.1 gx.2.2.2.2.1 ss.2.2.2.2.2.2.2.1 gx.2.2.2.2.2 px.2.2.2.2.2.2.2.1 px.2.2.2.2.2.2.2.2.1 px.2.2.2.2.2.2.2.2.2.1 px.2.2.2.2.2.2.2.2.2.2.1 px.2.2.2.2.2.2.2.2.2.2.2.1 px.2.2.2.2.2.2.2.2.2.2.2.2.1 px.2.2.2.2.2.2.2.2.2.2.2.2.2 ss.2.2.2.2.2.2.2.2 := fun hb => by
          have hb' := (pg_blk_iff _).mp hb
          by_cases h3 : dp < 3
          · refine br_f (nI_ge (b := 3) h3 (by decide)) (h1 ⟨fun z => absurd z hmne, fun _ => hf0, fun _ => by omega, fun z => ?_, fun z => ?_, fun z => ?_⟩) <;> (rw [z] at hb; exact absurd hb (by decide))
          · exact br_t (nI_le (a := 3) (by omega) (by omega)) (h0 (fun z => h3 (by have := z.2.2.1 hb; omega)))
        rcases hcase with rfl | rfl | rfl | rfl | rfl | rfl
        · exact br_t rfl (B72 (by decide))
        · exact br_f (by decide) (br_t rfl (B72 (by decide)))
        · exact br_f (by decide) (br_f (by decide) (br_t rfl (B72 (by decide))))
        · refine br_f (by decide) (br_f (by decide) (br_f (by decide) (br_t rfl (xw_inT H (fun hi => ⟨narrow_b1, h1 ⟨fun z => absurd z hmne, fun _ => hf0, fun z => absurd z (by decide), fun _ => hi, fun z => absurd z (by decide), fun z => absurd z (by decide)⟩⟩) (fun hi => ⟨narrow_b0, h0 (fun z => hi (z.2.2.2.1 rfl))⟩)))))
        · refine br_f (by decide) (br_f (by decide) (br_f (by decide) (br_f (by decide) (br_t rfl (xw_iR H (br_c (fun z => h0 (fun y => y.2.2.2.2.1 rfl z)) (fun z => h1 ⟨fun z => absurd z hmne, fun _ => hf0, fun z => absurd z (by decide), fun z => absurd z (by decide), fun _ => z, fun z => absurd z (by decide)⟩)))))))
        · refine br_f (by decide) (br_f (by decide) (br_f (by decide) (br_f (by decide) (br_f (by decide) (br_t rfl ?_)))))
          by_cases hd : dp = 0
          · refine br_t (show nI dp ≤ 0 by rw [hd]; decide) (h0 (fun z => (z.2.2.2.2.2 rfl).1 (List.eq_nil_of_length_eq_zero (by omega))))
          · refine br_f (nI_nle (by omega) (by omega)) (xw_inT H (fun hi => br_f (by decide) (h0 (fun z => (z.2.2.2.2.2 rfl).2 hi))) (fun hi => br_t rfl (h1 ⟨fun z => absurd z hmne, fun _ => hf0, fun z => absurd z (by decide), fun z => absurd z (by decide), fun z => absurd z (by decide), fun _ => ⟨fun z => ?_, hi⟩⟩)))
            rw [z] at hdp
            exact hd hdp
end
end
section
/-! add: placing a statement; the reference's checks -/
theorem wk_cm {f : Nat → Int32} {a b : Nat} {x y : Int32} (h : a ≠ b) : upd (upd f a x) b y = upd (upd f b y) a x := by
  funext j
  simp only [upd]
  by_cases h1 : j = a
  · by_cases h2 : j = b
    · exact absurd (h1.symm.trans h2) h
    · simp [h1, h]
  · simp [h1]
theorem bu_fit_ok {n fn : Nat} {ops ops' : Nat → Int32} {op : Int32} (h : ∀ k, k < n → ops' k = ops k) (hop : ops' n = op) (h0 : ¬ op < 0) (h14 : op ≤ 14) (hf : bu_fit n fn ops op) : pg_ok1 ops' n := by
  have es : pg_stk ops' n = pg_stk ops n := pg_congr h
  obtain ⟨f1, f2, f3, f4, f5, f6⟩ := hf
  obtain ⟨m, hm, hm'⟩ := nI_of2 (x := op) (M := 14) (n := 14) (by decide) h0 h14
  rw [pg_ok1, hop, es]
  refine ⟨⟨m, hm, hm'⟩, fun z => (f1 z).1, f3, fun z => ?_, fun z => ?_, fun z => ?_⟩
  · obtain ⟨t, r, hs, ht⟩ := f4 z
    exact ⟨t, r, hs, by rw [h t (pg_hd hs).2.2]; exact ht⟩
  · rcases pg_sel_cases (pg_isR ops) (pg_stk ops n) with ⟨_, h2⟩ | ⟨b, c, ext, r, hs, hp, _, _⟩
    · exact absurd (by rw [h2]; decide) (f5 z)
    · have hm : (b, c) ∈ pg_stk ops n := by rw [hs]; simp
      exact ⟨(b, c), hm, by rw [h b (pg_bd ops n _ hm)]; simpa [pg_isR] using hp⟩
  · obtain ⟨g1, g2⟩ := f6 z
    cases hs : pg_stk ops n with
    | nil => exact absurd hs g1
    | cons e r =>
      obtain ⟨b, c⟩ := e
      refine ⟨b, c, r, rfl, fun hb hc => g2 ⟨b, r, by rw [hs, hc], ?_⟩⟩
      rw [← h b (pg_hd hs).2.2]; exact hb
section
variable {pl sl ol n fn dp : Nat} {sealed : Int32} {ops opB opA target handler level entry blocks sa : Nat → Int32} {ss : ty_ss} {gx : ty_gx} {gy : ty_gy} {px : ty_px} {py : ty_py}
theorem xw_place (H : bu_core n fn dp ops opB opA target handler level entry blocks sa) (hn32 : n < 32) (hok : pg_ok1 ops n) (hrow : bu_row ops opB opA sa n) (hfn : ops n = 0 → fn < 4) :
    ∃ (fn' dp' : Nat) (target' handler' level' entry' blocks' : Nat → Int32), bu_core (n + 1) fn' dp' ops opB opA target' handler' level' entry' blocks' sa ∧ ((ops n = 0 ∧ fn' = fn + 1) ∨ (ops n ≠ 0 ∧ fn' = fn)) ∧
      ∀ post : SX → Prop, post (mk_X ((nI pl), (nI sl), (nI ol), (nI (n + 1)), (nI (fn')), sealed, ops, opB) ((nI (dp')), opA, (target'), (handler'), (level'), (entry'), (blocks')) ss gx px) → wpX_place post (mk_X ((nI pl), (nI sl), (nI ol), (nI (n + 1)), (nI fn), sealed, ops, opB) ((nI dp), opA, target, handler, level, entry, blocks) ss gx px) (nI n) (ops n) := by
  have hdp := H.2.2.2.2.2.1
  have hl3 := pg_len3 H.2.1 n (Nat.le_refl n)
  have hfn4 := H.2.2.2.2.2.2.2.2.1
  have en : (nI n).toNatClampNeg = n := nI_clamp (by omega)
  have hin : vp_in (nI n) 32 := vp_in_nI hn32 (by omega)
  obtain ⟨m, hm, hm'⟩ := hok.1
  have hcase : m = 0 ∨ m = 1 ∨ m = 2 ∨ m = 3 ∨ m = 4 ∨ m = 5 ∨ m = 6 ∨ m = 7 ∨ m = 8 ∨ m = 9 ∨ m = 10 ∨ m = 11 ∨ m = 12 ∨ m = 13 ∨ m = 14 := by omega
  have hopen : (m = 9 ∨ m = 10 ∨ m = 11) → pg_blk (ops n) = true := fun h => by
    rw [hm']; rcases h with rfl | rfl | rfl <;> decide
  have ne : ∀ b : Nat, b ≤ 14 → m ≠ b → ¬ ops n = nI b := fun b hb hab z => hab ((nI_eq (by omega) (by omega)).mp (hm'.symm.trans z))
  have hplain : 1 ≤ m → m ≤ 8 → bu_core (n + 1) fn dp ops opB opA (upd target n (-1)) (upd handler n (pg_sel (pg_isT ops) (pg_stk ops n))) (upd level n (-1)) entry blocks sa ∧ ops n ≠ 0 := fun h1 h8 =>
    ⟨bu_plain H hn32 hok hrow (wk_nblk9 (by rw [hm']; exact nI_lt (b := 9) (by omega) (by decide))) (ne 14 (by omega) (by omega)) (ne 12 (by omega) (by omega)) (ne 0 (by omega) (by omega)) (fun z => absurd z (ne 13 (by omega) (by omega))), ne 0 (by omega) (by omega)⟩
  have g0 : ¬ ops n < 0 := by rw [hm']; exact nI_pos (by omega)
  have g14 : ¬ 14 < ops n := by rw [hm']; exact nI_nlt (a := 14) (by omega) (by decide)
  by_cases h0 : m = 0
  · subst h0
    have hop : ops n = 0 := hm'
    have hf := hfn hop
    refine ⟨fn + 1, dp, _, _, _, _, blocks, bu_func H hn32 hok hrow hop hf, Or.inl (And.intro hop rfl), fun post hp => ?_⟩
    unfold wpX_place
    refine xw_gT H ⟨hin, nm_r (xq_up (by omega)) ⟨hin, nm_r (xq_up (by omega)) ⟨hin, nm_r (xq_up (by omega)) (br_f g0 (br_f g14 ?_))⟩⟩⟩
    refine br_t hop ⟨vp_in_nI hf (by omega), nm_r (e' := upd entry fn (nI (n + 1))) (by rw [nI_clamp (by omega), nI_1]) (nm_r (nI_1 fn) hp)⟩
  · by_cases h8 : m ≤ 8
    · have hpl := hplain (by omega) (by omega)
      refine ⟨fn, dp, _, _, _, entry, blocks, hpl.1, Or.inr (And.intro hpl.2 rfl), fun post hp => ?_⟩
      unfold wpX_place
      refine xw_gT H ⟨hin, nm_r (xq_up (by omega)) ⟨hin, nm_r (xq_up (by omega)) ⟨hin, nm_r (xq_up (by omega)) (br_f g0 (br_f g14 ?_))⟩⟩⟩
      refine br_f hpl.2 ?_
      refine br_c (fun _ => hp) (fun z1 => br_c (fun _ => hp) (fun z2 => br_c (fun _ => hp) (fun z3 => br_c (fun _ => hp) (fun z4 => br_c (fun _ => hp) (fun z5 => br_c (fun _ => hp) (fun z6 => br_c (fun _ => hp) (fun z7 => br_c (fun _ => hp) (fun z8 => ?_))))))))
      exfalso
      have : m = 1 ∨ m = 2 ∨ m = 3 ∨ m = 4 ∨ m = 5 ∨ m = 6 ∨ m = 7 ∨ m = 8 := by omega
      rcases this with rfl | rfl | rfl | rfl | rfl | rfl | rfl | rfl
      · exact z1 hm'
      · exact z2 hm'
      · exact z3 hm'
      · exact z4 hm'
      · exact z5 hm'
      · exact z6 hm'
      · exact z7 hm'
      · exact z8 hm'
    · have q0 := ne 0 (by omega) (by omega)
      have q1 := ne 1 (by omega) (by omega)
      have q2 := ne 2 (by omega) (by omega)
      have q3 := ne 3 (by omega) (by omega)
      have q4 := ne 4 (by omega) (by omega)
      have q5 := ne 5 (by omega) (by omega)
      have q6 := ne 6 (by omega) (by omega)
      have q7 := ne 7 (by omega) (by omega)
      have q8 := ne 8 (by omega) (by omega)
      by_cases h11 : m ≤ 11
      · have hb := hopen (by omega)
        have hlt := hok.2.2.1 hb
        have hd3 : vp_in (nI dp) 3 := vp_in_nI (by omega) (by omega)
        refine ⟨fn, dp + 1, _, _, _, entry, _, bu_open H hn32 hok hrow hb, Or.inr (And.intro q0 rfl), fun post hp => ?_⟩
        unfold wpX_place
        refine xw_gT H ⟨hin, nm_r (xq_up (by omega)) ⟨hin, nm_r (xq_up (by omega)) ⟨hin, nm_r (xq_up (by omega)) (br_f g0 (br_f g14 ?_))⟩⟩⟩
        refine br_f q0 ?_
        refine br_f q1 ?_
        refine br_f q2 ?_
        refine br_f q3 ?_
        refine br_f q4 ?_
        refine br_f q5 ?_
        refine br_f q6 ?_
        refine br_f q7 ?_
        refine br_f q8 ?_
        have K : wX_place_125 post (nI n) 0 1 2 3 4 (nI pl) (nI sl) (nI ol) (nI (n + 1)) (nI fn) (nI dp) sealed ss.1 px.1 px.2.1 px.2.2.1 px.2.2.2.1 ss.2.1 ops opA opB (upd target n (-1)) (upd handler n (pg_sel (pg_isT ops) (pg_stk ops n))) (upd level n (-1)) entry blocks ss.2.2.1 ss.2.2.2.1 px.2.2.2.2.1 px.2.2.2.2.2.1 px.2.2.2.2.2.2.1 ss.2.2.2.2.1 ss.2.2.2.2.2.1 ss.2.2.2.2.2.2.1 gx.1 gx.2.1 gx.2.2.1 gx.2.2.2.1 gx.2.2.2.2.1 ss.2.2.2.2.2.2.2.1 gx.2.2.2.2.2 px.2.2.2.2.2.2.2.1 px.2.2.2.2.2.2.2.2.1 px.2.2.2.2.2.2.2.2.2.1 px.2.2.2.2.2.2.2.2.2.2.1 px.2.2.2.2.2.2.2.2.2.2.2.1 px.2.2.2.2.2.2.2.2.2.2.2.2.1 px.2.2.2.2.2.2.2.2.2.2.2.2.2 ss.2.2.2.2.2.2.2.2 :=
          And.intro hin (nm_r (xq_up (by omega)) ⟨hd3, nm_r (xq_up (by omega)) (nm_r (nI_1 dp) hp)⟩)
        refine br_c (fun _ => K) (fun z9 => br_c (fun _ => K) (fun z10 => br_c (fun _ => K) (fun z11 => ?_)))
        exfalso
        have : m = 9 ∨ m = 10 ∨ m = 11 := by omega
        rcases this with rfl | rfl | rfl
        · exact z9 hm'
        · exact z10 hm'
        · exact z11 hm'
      · have q9 := ne 9 (by omega) (by omega)
        have q10 := ne 10 (by omega) (by omega)
        have q11 := ne 11 (by omega) (by omega)
        have : m = 12 ∨ m = 13 ∨ m = 14 := by omega
        rcases this with rfl | rfl | rfl
        · obtain ⟨t, r, hs, ht⟩ := hok.2.2.2.1 hm'
          have hbl := bu_bl hs H.2.2.2.2.2.2.1
          have hti := (pg_hd hs).2.2
          rw [hs, List.length_cons] at hdp hl3
          have e1 : nI dp - 1 = nI r.length := by rw [hdp]; exact nI_pred _
          have hin3 : vp_in (nI dp - 1) 3 := by rw [e1]; exact vp_in_nI (by omega) (by omega)
          have hbl' : blocks (nI dp - 1).toNatClampNeg = nI t := by rw [e1, nI_clamp (by omega)]; exact hbl
          refine ⟨fn, dp, _, _, _, entry, blocks, bu_catch H hn32 hok hrow hm' hs ht, Or.inr (And.intro q0 rfl), fun post hp => ?_⟩
          unfold wpX_place
          refine xw_gT H ⟨hin, nm_r (xq_up (by omega)) ⟨hin, nm_r (xq_up (by omega)) ⟨hin, nm_r (xq_up (by omega)) (br_f g0 (br_f g14 ?_))⟩⟩⟩
          refine br_f q0 ?_
          refine br_f q1 ?_
          refine br_f q2 ?_
          refine br_f q3 ?_
          refine br_f q4 ?_
          refine br_f q5 ?_
          refine br_f q6 ?_
          refine br_f q7 ?_
          refine br_f q8 ?_
          refine br_f q9 ?_
          refine br_f q10 ?_
          refine br_f q11 ?_
          refine br_t hm' ⟨hin3, ?_, nm_r (e' := upd (upd target n (-1)) t (nI n)) ?_ hp⟩
          · show vp_in (blocks (nI dp - 1).toNatClampNeg) 32
            rw [hbl']; exact vp_in_nI (by omega) (by omega)
          · show upd (upd target n (-1)) (blocks (nI dp - 1).toNatClampNeg).toNatClampNeg (nI n) = _
            rw [hbl']; exact xq_up (by omega)
        · have q12 := ne 12 (by omega) (by omega)
          refine ⟨fn, dp, _, _, _, entry, blocks, bu_plain (x := pg_sel (pg_isR ops) (pg_stk ops n)) H hn32 hok hrow (by rw [hm']; decide) (by rw [hm']; decide) q12 q0 (fun _ => rfl), Or.inr (And.intro q0 rfl), fun post hp => ?_⟩
          unfold wpX_place
          refine xw_gT H ⟨hin, nm_r (xq_up (by omega)) ⟨hin, nm_r (xq_up (by omega)) ⟨hin, nm_r (xq_up (by omega)) (br_f g0 (br_f g14 ?_))⟩⟩⟩
          refine br_f q0 ?_
          refine br_f q1 ?_
          refine br_f q2 ?_
          refine br_f q3 ?_
          refine br_f q4 ?_
          refine br_f q5 ?_
          refine br_f q6 ?_
          refine br_f q7 ?_
          refine br_f q8 ?_
          refine br_f q9 ?_
          refine br_f q10 ?_
          refine br_f q11 ?_
          refine br_f q12 ?_
          refine br_t hm' ?_
          refine nm_r (e' := nI (pg_stk ops n).length - 1) (by rw [← hdp]) (Exists.intro ((pg_stk ops n).length + 1) ?_)
          refine xr_iR (target := upd target n (-1)) (handler := upd handler n (pg_sel (pg_isT ops) (pg_stk ops n))) (level := upd level n (-1)) (n := n + 1) (pg_stk ops n) H.2.2.2.2.2.2.1 (fun e he => by have := pg_bd ops n e he; omega) hl3 ?_
          exact ⟨hin, nm_r (e' := upd target n (pg_sel (pg_isR ops) (pg_stk ops n))) ((xq_up (by omega)).trans wk_uu) hp⟩
        · have q12 := ne 12 (by omega) (by omega)
          have q13 := ne 13 (by omega) (by omega)
          obtain ⟨b, c, r, hs, hc⟩ := hok.2.2.2.2.2 hm'
          have hbl := bu_bl hs H.2.2.2.2.2.2.1
          have hh := pg_hd hs
          have hbm : (b, c) ∈ pg_stk ops n := by rw [hs]; exact List.mem_cons_self ..
          have hdp0 := hdp
          rw [hs, List.length_cons] at hdp hl3
          have e1 : nI dp - 1 = nI (dp - 1) := by rw [hdp]; exact nI_pred _
          have edp : dp - 1 = r.length := by omega
          have hin3 : vp_in (nI (dp - 1)) 3 := vp_in_nI (by omega) (by omega)
          have hbl' : blocks (nI (dp - 1)).toNatClampNeg = nI b := by rw [nI_clamp (by omega), edp]; exact hbl
          have eb : (nI b).toNatClampNeg = b := nI_clamp (by omega)
          have hinb : vp_in (nI b) 32 := vp_in_nI (by omega) (by omega)
          have PRE : ∀ post : SX → Prop, wpX_closeBlock post (mk_X ((nI pl), (nI sl), (nI ol), (nI (n + 1)), (nI fn), sealed, ops, opB) ((nI dp), opA, (upd target n (-1)), (upd handler n (pg_sel (pg_isT ops) (pg_stk ops n))), (upd level n (-1)), entry, blocks) ss gx px) (nI n) → wpX_place post (mk_X ((nI pl), (nI sl), (nI ol), (nI (n + 1)), (nI fn), sealed, ops, opB) ((nI dp), opA, target, handler, level, entry, blocks) ss gx px) (nI n) (ops n) := fun post hp => by
            unfold wpX_place
            refine xw_gT H ⟨hin, nm_r (xq_up (by omega)) ⟨hin, nm_r (xq_up (by omega)) ⟨hin, nm_r (xq_up (by omega)) (br_f g0 (br_f g14 ?_))⟩⟩⟩
            refine br_f q0 ?_
            refine br_f q1 ?_
            refine br_f q2 ?_
            refine br_f q3 ?_
            refine br_f q4 ?_
            refine br_f q5 ?_
            refine br_f q6 ?_
            refine br_f q7 ?_
            refine br_f q8 ?_
            refine br_f q9 ?_
            refine br_f q10 ?_
            refine br_f q11 ?_
            refine br_f q12 ?_
            refine br_f q13 ?_
            exact br_t hm' hp
          have CB : ∀ post : SX → Prop, (((ops b = 11 → (vp_in (nI b) 32 ∧ (vp_in (upd target n (-1) b) 32 ∧ ∀ t', t' = upd (upd target n (-1)) (upd target n (-1) b).toNatClampNeg (nI n + 1) → post (mk_X ((nI pl), (nI sl), (nI ol), (nI (n + 1)), (nI fn), sealed, ops, opB) ((nI (dp - 1)), opA, (t'), (upd handler n (pg_sel (pg_isT ops) (pg_stk ops n))), (upd level n (-1)), entry, blocks) ss gx px)))) ∧ (¬ ops b = 11 → (vp_in (nI b) 32 ∧ ∀ t', t' = upd (upd target n (-1)) b (nI n + 1) → (vp_in (nI b) 32 ∧ ((ops b = 10 → (vp_in (nI n) 32 ∧ ∀ t2, t2 = upd t' n (nI b + 1) → (vp_in (nI n) 32 ∧ ∀ l', l' = upd (upd level n (-1)) n (nI (dp - 1)) → post (mk_X ((nI pl), (nI sl), (nI ol), (nI (n + 1)), (nI fn), sealed, ops, opB) ((nI (dp - 1)), opA, (t2), (upd handler n (pg_sel (pg_isT ops) (pg_stk ops n))), (l'), entry, blocks) ss gx px)))) ∧ (¬ ops b = 10 → post (mk_X ((nI pl), (nI sl), (nI ol), (nI (n + 1)), (nI fn), sealed, ops, opB) ((nI (dp - 1)), opA, (t'), (upd handler n (pg_sel (pg_isT ops) (pg_stk ops n))), (upd level n (-1)), entry, blocks) ss gx px)))))))) → wpX_closeBlock post (mk_X ((nI pl), (nI sl), (nI ol), (nI (n + 1)), (nI fn), sealed, ops, opB) ((nI dp), opA, (upd target n (-1)), (upd handler n (pg_sel (pg_isT ops) (pg_stk ops n))), (upd level n (-1)), entry, blocks) ss gx px) (nI n) := fun post hp => by
            refine nm_r (e' := nI (dp - 1)) e1 ⟨hin3, nm_r (e' := nI b) hbl' ⟨hinb, ?_⟩⟩
            dsimp only
            rw [eb, en]
            exact hp
          by_cases hb11 : ops b = 11
          · have hc0 := hc hb11
            have htg := (bu_tg H hbm hb11).2 hc0
            have hu : upd target n (-1) b = nI c := by rw [pk_un (by omega)]; exact htg.1
            refine ⟨fn, dp - 1, _, _, _, entry, blocks, bu_endT H hn32 hok hrow hm' hs hb11 hc0, Or.inr (And.intro q0 rfl), fun post hp => PRE post (CB post (br_t hb11 ⟨hinb, by rw [hu]; exact vp_in_nI (by omega) (by omega), nm_r (e' := upd (upd target n (-1)) c (nI (n + 1))) (by rw [hu, nI_clamp (by omega), nI_1]) hp⟩))⟩
          · by_cases hb10 : ops b = 10
            · have ecm : upd (upd (upd target n (-1)) b (nI n + 1)) n (nI b + 1) = upd (upd target b (nI (n + 1))) n (nI (b + 1)) := by rw [nI_1, nI_1, wk_cm (show n ≠ b by omega), wk_uu]
              refine ⟨fn, dp - 1, _, _, _, entry, blocks, bu_endB (x := nI (b + 1)) (y := nI (dp - 1)) H hn32 hok hrow hm' hs hb11 (fun _ => ⟨rfl, by rw [edp]⟩) (fun z => absurd hb10 z), Or.inr (And.intro q0 rfl), fun post hp => PRE post (CB post (br_f hb11 ⟨hinb, nm_e ⟨hinb, br_t hb10 ⟨hin, nm_r ecm ⟨hin, nm_r (e' := upd level n (nI (dp - 1))) wk_uu hp⟩⟩⟩⟩))⟩
            · have ecm : upd (upd target n (-1)) b (nI n + 1) = upd (upd target b (nI (n + 1))) n (-1) := by rw [nI_1, wk_cm (show n ≠ b by omega)]
              refine ⟨fn, dp - 1, _, _, _, entry, blocks, bu_endB (x := -1) (y := -1) H hn32 hok hrow hm' hs hb11 (fun z => absurd z hb10) (fun _ => rfl), Or.inr (And.intro q0 rfl), fun post hp => PRE post (CB post (br_f hb11 ⟨hinb, nm_r ecm ⟨hinb, br_f hb10 hp⟩⟩))⟩
end
end
section
/-! add: the reference's checks -/
section
variable {pl sl ol n fn dp : Nat} {sealed : Int32} {ops opB opA target handler level entry blocks sa : Nat → Int32} {ss : ty_ss} {gx : ty_gx} {gy : ty_gy} {px : ty_px} {py : ty_py}
theorem pg_isT_hd {b c : Nat} {r : List (Nat × Nat)} {N : Nat} (hs : pg_stk ops N = (b, c) :: r) (hN : N ≤ 32) : pg_sel (pg_isT ops) ((b, c) :: r) = nI b ↔ bu_inT ops ((b, c) :: r) := by
  have hh := pg_hd hs
  constructor
  · intro h
    by_cases hp : pg_isT ops (b, c) = true
    · have hp' : ops b = 11 ∧ c = 0 := by simpa [pg_isT] using hp
      exact ⟨b, r, by rw [hp'.2], hp'.1⟩
    · rw [pg_sel, if_neg hp] at h
      rcases pg_sel_cases (pg_isT ops) r with ⟨_, h2⟩ | ⟨b', c', ext, r', hr, _, hsel, _⟩
      · rw [h2] at h
        exact absurd h.symm (fun z => by
          have := congrArg Int32.toInt z
          rw [nI_toInt (by omega), show (-1 : Int32).toInt = -1 from by decide] at this
          omega)
      · have hm : (b', c') ∈ r := by rw [hr]; simp
        rw [hh.1] at hm
        have := pg_bd ops b _ hm
        dsimp only at this
        rw [hsel] at h
        have := (nI_eq (by omega) (by omega)).mp h
        omega
  · rintro ⟨t, r', hr, ht⟩
    injection hr with h1 h2
    injection h1 with h3 h4
    subst h3 h4
    rw [pg_sel, if_pos (by rw [pg_isT, ht]; rfl)]
theorem yw_120 {post : Int32 → SY → Prop} {op a b : Int32} (H : bu_core n fn dp ops opB opA target handler level entry blocks sa)
    (h : ∀ x4 x6 z : Int32, (x4 < 0 ↔ pg_stk ops n = []) → (0 ≤ x6 ↔ 3 ≤ (pg_stk ops n).length) → ((z = 1 ∧ bu_inT ops (pg_stk ops n)) ∨ (z = 0 ∧ ¬ bu_inT ops (pg_stk ops n))) → wY_add_190 post op a b x4 x6 (pg_sel (pg_isR ops) (pg_stk ops n)) z (nI pl) (nI sl) (nI ol) (nI n) (nI fn) ss.1 ss.2.1 py.1 sealed ops sa opB ss.2.2.2.2.2.2.2.2 gy.1 gy.2.1 gy.2.2.1 gy.2.2.2 ss.2.2.1 ss.2.2.2.1 ss.2.2.2.2.2.1 ss.2.2.2.2.2.2.1 ss.2.2.2.2.1 ss.2.2.2.2.2.2.2.1 py.2.1 py.2.2.1 py.2.2.2.1 py.2.2.2.2.1 py.2.2.2.2.2.1 py.2.2.2.2.2.2.1 py.2.2.2.2.2.2.2.1 py.2.2.2.2.2.2.2.2) : wY_add_120 post op a b (nI pl) (nI sl) (nI ol) (nI n) (nI fn) ss.1 ss.2.1 py.1 sealed ops sa opB ss.2.2.2.2.2.2.2.2 gy.1 gy.2.1 gy.2.2.1 gy.2.2.2 ss.2.2.1 ss.2.2.2.1 ss.2.2.2.2.2.1 ss.2.2.2.2.2.2.1 ss.2.2.2.2.1 ss.2.2.2.2.2.2.2.1 py.2.1 py.2.2.1 py.2.2.2.1 py.2.2.2.2.1 py.2.2.2.2.2.1 py.2.2.2.2.2.2.1 py.2.2.2.2.2.2.2.1 py.2.2.2.2.2.2.2.2 := by
  have hn := H.1
  have hn31 : n < 2 ^ 31 := by omega
  have o1 := pg_open_any (ops := ops) hn31 (Nat.le_refl n)
  have oR := pg_open_rep (ops := ops) hn31 (Nat.le_refl n)
  have oT := pg_open_try H.2.1 hn31 (Nat.le_refl n)
  refine yw_open (n := n) hn hn ?_
  rw [o1]
  cases hs : pg_stk ops n with
  | nil =>
    rw [hs] at h oR oT
    refine yw_openN (n := n) (yw_openN (n := n) (yw_open (n := n) hn hn (yw_open (n := n) hn hn ?_)))
    rw [oR, oT]
    exact br_t (by decide) (h _ _ _ ⟨fun _ => rfl, fun _ => by decide⟩ ⟨fun z => absurd z (by decide), fun z => absurd z (by decide)⟩ (Or.inr ⟨rfl, fun ⟨_, _, z, _⟩ => by cases z⟩))
  | cons e1 r1 =>
    obtain ⟨b1, c1⟩ := e1
    have hh1 := pg_hd hs
    have hinT := pg_isT_hd hs hn
    rw [hs] at h oR oT
    -- the last two scans and the decision
    have L : ∀ x6 : Int32, (0 ≤ x6 ↔ 3 ≤ ((b1, c1) :: r1).length) → ((nI b1 < 0 → wY_add_189 post op a b (nI b1) x6 (pg_sel (pg_isR ops) ((b1, c1) :: r1)) (nI pl) (nI sl) (nI ol) (nI n) (nI fn) ss.1 ss.2.1 py.1 sealed ops sa opB ss.2.2.2.2.2.2.2.2 gy.1 gy.2.1 gy.2.2.1 gy.2.2.2 ss.2.2.1 ss.2.2.2.1 ss.2.2.2.2.2.1 ss.2.2.2.2.2.2.1 ss.2.2.2.2.1 ss.2.2.2.2.2.2.2.1 py.2.1 py.2.2.1 py.2.2.2.1 py.2.2.2.2.1 py.2.2.2.2.2.1 py.2.2.2.2.2.2.1 py.2.2.2.2.2.2.2.1 py.2.2.2.2.2.2.2.2) ∧ (¬ nI b1 < 0 → ((pg_sel (pg_isT ops) ((b1, c1) :: r1) = nI b1 → wY_add_190 post op a b (nI b1) x6 (pg_sel (pg_isR ops) ((b1, c1) :: r1)) 1 (nI pl) (nI sl) (nI ol) (nI n) (nI fn) ss.1 ss.2.1 py.1 sealed ops sa opB ss.2.2.2.2.2.2.2.2 gy.1 gy.2.1 gy.2.2.1 gy.2.2.2 ss.2.2.1 ss.2.2.2.1 ss.2.2.2.2.2.1 ss.2.2.2.2.2.2.1 ss.2.2.2.2.1 ss.2.2.2.2.2.2.2.1 py.2.1 py.2.2.1 py.2.2.2.1 py.2.2.2.2.1 py.2.2.2.2.2.1 py.2.2.2.2.2.2.1 py.2.2.2.2.2.2.2.1 py.2.2.2.2.2.2.2.2) ∧ (¬ pg_sel (pg_isT ops) ((b1, c1) :: r1) = nI b1 → wY_add_189 post op a b (nI b1) x6 (pg_sel (pg_isR ops) ((b1, c1) :: r1)) (nI pl) (nI sl) (nI ol) (nI n) (nI fn) ss.1 ss.2.1 py.1 sealed ops sa opB ss.2.2.2.2.2.2.2.2 gy.1 gy.2.1 gy.2.2.1 gy.2.2.2 ss.2.2.1 ss.2.2.2.1 ss.2.2.2.2.2.1 ss.2.2.2.2.2.2.1 ss.2.2.2.2.1 ss.2.2.2.2.2.2.2.1 py.2.1 py.2.2.1 py.2.2.2.1 py.2.2.2.2.1 py.2.2.2.2.2.1 py.2.2.2.2.2.2.1 py.2.2.2.2.2.2.2.1 py.2.2.2.2.2.2.2.2)))) := fun x6 hx6 => by
      have hx4 : nI b1 < 0 ↔ ((b1, c1) :: r1) = [] := ⟨fun z => absurd z (nI_pos (by omega)), fun z => by cases z⟩
      exact br_f (nI_pos (by omega)) (br_c (fun z => h _ _ _ hx4 hx6 (Or.inl ⟨rfl, hinT.mp z⟩)) (fun z => h _ _ _ hx4 hx6 (Or.inr ⟨rfl, fun y => z (hinT.mpr y)⟩)))
    have o2 := pg_open_any (ops := ops) (s := b1) hn31 (by omega)
    refine yw_open (n := n) (s := b1) hn (by omega) ?_
    rw [o2, ← hh1.1]
    cases r1 with
    | nil =>
      refine yw_openN (n := n) (yw_open (n := n) hn hn (yw_open (n := n) hn hn ?_))
      rw [oR, oT]
      exact L _ ⟨fun z => absurd z (by decide), fun z => absurd z (show ¬ 3 ≤ 1 by decide)⟩
    | cons e2 r2 =>
      obtain ⟨b2, c2⟩ := e2
      have hs2 : pg_stk ops b1 = (b2, c2) :: r2 := hh1.1.symm
      have hh2 := pg_hd hs2
      have o3 := pg_open_any (ops := ops) (s := b2) hn31 (by omega)
      refine yw_open (n := n) (s := b2) hn (by omega) (yw_open (n := n) hn hn (yw_open (n := n) hn hn ?_))
      rw [oR, oT, o3, ← hh2.1]
      cases r2 with
      | nil => exact L _ ⟨fun z => absurd z (by decide), fun z => absurd z (show ¬ 3 ≤ 2 by decide)⟩
      | cons e3 r3 =>
        obtain ⟨b3, c3⟩ := e3
        have hs3 : pg_stk ops b2 = (b3, c3) :: r3 := hh2.1.symm
        have hh3 := pg_hd hs3
        exact L _ ⟨fun _ => by simp, fun _ => nI_pos' (by omega)⟩
theorem yw_190 {post : Int32 → SY → Prop} {op a b x4 x6 z : Int32} (hfn4 : fn ≤ 4) (h0p : ¬ op < 0) (h14p : op ≤ 14) (hx4 : x4 < 0 ↔ pg_stk ops n = []) (hx6 : 0 ≤ x6 ↔ 3 ≤ (pg_stk ops n).length) (hz : (z = 1 ∧ bu_inT ops (pg_stk ops n)) ∨ (z = 0 ∧ ¬ bu_inT ops (pg_stk ops n)))
    (h1 : bu_fit n fn ops op → wY_add_284 post op a b (nI pl) (nI sl) (nI ol) (nI n) (nI fn) ss.1 ss.2.1 py.1 sealed ops sa opB ss.2.2.2.2.2.2.2.2 gy.1 gy.2.1 gy.2.2.1 gy.2.2.2 ss.2.2.1 ss.2.2.2.1 ss.2.2.2.2.2.1 ss.2.2.2.2.2.2.1 ss.2.2.2.2.1 ss.2.2.2.2.2.2.2.1 py.2.1 py.2.2.1 py.2.2.2.1 py.2.2.2.2.1 py.2.2.2.2.2.1 py.2.2.2.2.2.2.1 py.2.2.2.2.2.2.2.1 py.2.2.2.2.2.2.2.2) (h0 : ¬ bu_fit n fn ops op → post (-4) (mk_Y ((nI pl), (nI sl), (nI ol), (nI n), (nI fn), sealed, ops, opB) sa ss gy py)) : wY_add_190 post op a b x4 x6 (pg_sel (pg_isR ops) (pg_stk ops n)) z (nI pl) (nI sl) (nI ol) (nI n) (nI fn) ss.1 ss.2.1 py.1 sealed ops sa opB ss.2.2.2.2.2.2.2.2 gy.1 gy.2.1 gy.2.2.1 gy.2.2.2 ss.2.2.1 ss.2.2.2.1 ss.2.2.2.2.2.1 ss.2.2.2.2.2.2.1 ss.2.2.2.2.1 ss.2.2.2.2.2.2.2.1 py.2.1 py.2.2.1 py.2.2.2.1 py.2.2.2.2.1 py.2.2.2.2.2.1 py.2.2.2.2.2.2.1 py.2.2.2.2.2.2.2.1 py.2.2.2.2.2.2.2.2 := by
  obtain ⟨m, hm, rfl⟩ := nI_of2 (x := op) (M := 14) (n := 14) (by decide) h0p h14p
  have ne : ∀ b : Nat, b ≤ 14 → m ≠ b → ¬ nI m = nI b := fun b hb hab z => hab ((nI_eq (by omega) (by omega)).mp z)
  have nb : ∀ x : Nat, x ≤ 14 → m ≠ x → (nI m = nI x → False) := fun x hx hn => ne x hx hn
  by_cases hm0 : m = 0
  · subst hm0
    refine br_t rfl ?_
    by_cases hs : pg_stk ops n = []
    · have hx := hx4.mpr hs
      refine br_f (Int32.not_le.mpr hx) ?_
      by_cases hf : fn = 4
      · exact br_t (by rw [hf]; rfl) (h0 (fun y => absurd (y.1 rfl).2 (by omega)))
      · have hf' : ¬ nI fn = 4 := fun y => hf ((nI_eq (a := fn) (b := 4) (by omega) (by omega)).mp y)
        refine br_f hf' (br_t rfl (br_t (by decide) (br_f (by decide) (br_f (by decide) (br_f (by decide) (h1 ⟨fun _ => ⟨hs, by omega⟩, fun y => absurd rfl y, fun y => absurd y (by decide), fun y => absurd y (by decide), fun y => absurd y (by decide), fun y => absurd y (by decide)⟩))))))
    · have hx : 0 ≤ x4 := Int32.not_lt.mp (fun y => hs (hx4.mp y))
      exact br_t hx (h0 (fun y => hs (y.1 rfl).1))
  · have q0 : ¬ nI m = 0 := ne 0 (by omega) hm0
    refine br_f q0 (br_f q0 ?_)
    by_cases hf0 : fn = 0
    · exact br_t (by rw [hf0]; rfl) (h0 (fun y => y.2.1 q0 hf0))
    · refine br_f (nI_ne0 (by omega) (by omega)) ?_
      -- what is left behind the block check
      have K : (pg_blk (nI m) = true → (pg_stk ops n).length < 3) → wY_add_240 post (nI m) a b x4 (pg_sel (pg_isR ops) (pg_stk ops n)) z (nI pl) (nI sl) (nI ol) (nI n) (nI fn) ss.1 ss.2.1 py.1 sealed ops sa opB ss.2.2.2.2.2.2.2.2 gy.1 gy.2.1 gy.2.2.1 gy.2.2.2 ss.2.2.1 ss.2.2.2.1 ss.2.2.2.2.2.1 ss.2.2.2.2.2.2.1 ss.2.2.2.2.1 ss.2.2.2.2.2.2.2.1 py.2.1 py.2.2.1 py.2.2.2.1 py.2.2.2.2.1 py.2.2.2.2.2.1 py.2.2.2.2.2.2.1 py.2.2.2.2.2.2.2.1 py.2.2.2.2.2.2.2.2 := fun hb => by
        by_cases h13 : m = 13
        · subst h13
          refine br_t rfl ?_
          by_cases hR : pg_sel (pg_isR ops) (pg_stk ops n) < 0
          · exact br_f (Int32.not_le.mpr hR) (h0 (fun y => y.2.2.2.2.1 rfl hR))
          · exact br_t (Int32.not_lt.mp hR) (br_f (by decide) (br_f (by decide) (h1 ⟨fun y => absurd y q0, fun _ => hf0, hb, fun y => absurd y (by decide), fun _ => hR, fun y => absurd y (by decide)⟩)))
        · have q13 := ne 13 (by omega) h13
          refine br_f q13 ?_
          by_cases h12 : m = 12
          · subst h12
            refine br_t rfl ?_
            rcases hz with ⟨hz1, hi⟩ | ⟨hz0, hi⟩
            · exact br_f (by rw [hz1]; decide) (br_f (by decide) (h1 ⟨fun y => absurd y q0, fun _ => hf0, hb, fun _ => hi, fun y => absurd y q13, fun y => absurd y (by decide)⟩))
            · exact br_t hz0 (h0 (fun y => hi (y.2.2.2.1 rfl)))
          · have q12 := ne 12 (by omega) h12
            refine br_f q12 ?_
            by_cases h14 : m = 14
            · subst h14
              refine br_t rfl ?_
              by_cases hs : pg_stk ops n = []
              · exact br_t (hx4.mpr hs) (h0 (fun y => (y.2.2.2.2.2 rfl).1 hs))
              · refine br_f (fun y => hs (hx4.mp y)) ?_
                rcases hz with ⟨hz1, hi⟩ | ⟨hz0, hi⟩
                · exact br_f (by rw [hz1]; decide) (h0 (fun y => (y.2.2.2.2.2 rfl).2 hi))
                · exact br_t hz0 (h1 ⟨fun y => absurd y q0, fun _ => hf0, hb, fun y => absurd y q12, fun y => absurd y q13, fun _ => ⟨hs, hi⟩⟩)
            · have q14 := ne 14 (by omega) h14
              exact br_f q14 (h1 ⟨fun y => absurd y q0, fun _ => hf0, hb, fun y => absurd y q12, fun y => absurd y q13, fun y => absurd y q14⟩)
      by_cases h9 : m < 9
      · have h9' : nI m < 9 := nI_lt (b := 9) h9 (by decide)
        exact br_t h9' (K (fun y => by rw [wk_nblk9 h9'] at y; exact absurd y (by decide)))
      · refine br_f (nI_nlt (b := 9) (by omega) (by omega)) ?_
        by_cases h11 : 11 < m
        · have h11' : 11 < nI m := nI_lt (a := 11) h11 (by omega)
          exact br_t h11' (K (fun y => by rw [wk_nblk11 h11'] at y; exact absurd y (by decide)))
        · refine br_f (nI_nlt (a := 11) (by omega) (by decide)) ?_
          have hbk : pg_blk (nI m) = true := by
            have : m = 9 ∨ m = 10 ∨ m = 11 := by omega
            rcases this with rfl | rfl | rfl <;> decide
          by_cases hl : 3 ≤ (pg_stk ops n).length
          · exact br_t (hx6.mpr hl) (h0 (fun y => by have := y.2.2.1 hbk; omega))
          · exact br_f (fun y => hl (hx6.mp y)) (K (fun _ => by omega))
theorem yw_chk {post : Int32 → SY → Prop} {op a b : Int32} (hs : sealed = 0) (hlt : n < sl) (hsl : sl ≤ 32) (h1 : bu_wf op a b → wY_add_120 post op a b (nI pl) (nI sl) (nI ol) (nI n) (nI fn) ss.1 ss.2.1 py.1 sealed ops sa opB ss.2.2.2.2.2.2.2.2 gy.1 gy.2.1 gy.2.2.1 gy.2.2.2 ss.2.2.1 ss.2.2.2.1 ss.2.2.2.2.2.1 ss.2.2.2.2.2.2.1 ss.2.2.2.2.1 ss.2.2.2.2.2.2.2.1 py.2.1 py.2.2.1 py.2.2.2.1 py.2.2.2.2.1 py.2.2.2.2.2.1 py.2.2.2.2.2.2.1 py.2.2.2.2.2.2.2.1 py.2.2.2.2.2.2.2.2) (h0 : ¬ bu_wf op a b → post (-1) (mk_Y ((nI pl), (nI sl), (nI ol), (nI n), (nI fn), sealed, ops, opB) sa ss gy py)) : wpY_add post (mk_Y ((nI pl), (nI sl), (nI ol), (nI n), (nI fn), sealed, ops, opB) sa ss gy py) op a b := by
  refine br_t hs (br_t (nI_lt hlt (by omega)) (br_c (fun z => h0 (fun y => y.1.1 z)) (fun z0 => br_c (fun z14 => ?_) (fun z => h0 (fun y => z y.1.2)))))
  have K : (bu_ua op → ¬ a < 0 ∧ a ≤ 7) → wY_add_79 post op a b (nI pl) (nI sl) (nI ol) (nI n) (nI fn) ss.1 ss.2.1 py.1 sealed ops sa opB ss.2.2.2.2.2.2.2.2 gy.1 gy.2.1 gy.2.2.1 gy.2.2.2 ss.2.2.1 ss.2.2.2.1 ss.2.2.2.2.2.1 ss.2.2.2.2.2.2.1 ss.2.2.2.2.1 ss.2.2.2.2.2.2.2.1 py.2.1 py.2.2.1 py.2.2.2.1 py.2.2.2.2.1 py.2.2.2.2.2.1 py.2.2.2.2.2.2.1 py.2.2.2.2.2.2.2.1 py.2.2.2.2.2.2.2.2 := fun ha => by
    have K3 : ((op = 2 ∨ op = 3 ∨ op = 5) → ¬ b < 0 ∧ b ≤ 7) → wY_add_104 post op a b (nI pl) (nI sl) (nI ol) (nI n) (nI fn) ss.1 ss.2.1 py.1 sealed ops sa opB ss.2.2.2.2.2.2.2.2 gy.1 gy.2.1 gy.2.2.1 gy.2.2.2 ss.2.2.1 ss.2.2.2.1 ss.2.2.2.2.2.1 ss.2.2.2.2.2.2.1 ss.2.2.2.2.1 ss.2.2.2.2.2.2.2.1 py.2.1 py.2.2.1 py.2.2.2.1 py.2.2.2.2.1 py.2.2.2.2.2.1 py.2.2.2.2.2.2.1 py.2.2.2.2.2.2.2.1 py.2.2.2.2.2.2.2.2 := fun hb => by
      refine br_c (fun z4 => br_c (fun z => h0 (fun y => (y.2.2.2 z4).1 z)) (fun z => br_c (fun z' => h1 ⟨⟨z0, z14⟩, ha, hb, fun _ => ⟨z, z'⟩⟩) (fun z' => h0 (fun y => z' (y.2.2.2 z4).2)))) (fun z4 => h1 ⟨⟨z0, z14⟩, ha, hb, fun y => absurd y z4⟩)
    have K2 : (op = 2 ∨ op = 3 ∨ op = 5) → wY_add_94 post op a b (nI pl) (nI sl) (nI ol) (nI n) (nI fn) ss.1 ss.2.1 py.1 sealed ops sa opB ss.2.2.2.2.2.2.2.2 gy.1 gy.2.1 gy.2.2.1 gy.2.2.2 ss.2.2.1 ss.2.2.2.1 ss.2.2.2.2.2.1 ss.2.2.2.2.2.2.1 ss.2.2.2.2.1 ss.2.2.2.2.2.2.2.1 py.2.1 py.2.2.1 py.2.2.2.1 py.2.2.2.2.1 py.2.2.2.2.2.1 py.2.2.2.2.2.2.1 py.2.2.2.2.2.2.2.1 py.2.2.2.2.2.2.2.2 := fun hop =>
      br_c (fun z => h0 (fun y => (y.2.2.1 hop).1 z)) (fun z => br_c (fun z' => h0 (fun y => Int32.not_le.mpr z' (y.2.2.1 hop).2)) (fun z' => K3 (fun _ => ⟨z, Int32.not_lt.mp z'⟩)))
    refine br_c (fun z => K2 (Or.inl z)) (fun z2 => br_c (fun z => K2 (Or.inr (Or.inl z))) (fun z3 => br_c (fun z => K2 (Or.inr (Or.inr z))) (fun z5 => K3 (fun y => ?_))))
    rcases y with y | y | y
    · exact absurd y z2
    · exact absurd y z3
    · exact absurd y z5
  refine br_c (fun z => K (fun y => absurd z y.1)) (fun y0 => br_c (fun z => K (fun y => absurd z y.2.1)) (fun y11 => br_c (fun z => K (fun y => absurd z y.2.2.1)) (fun y13 => br_c (fun z => K (fun y => absurd z y.2.2.2)) (fun y14 => ?_))))
  have hu : bu_ua op := ⟨y0, y11, y13, y14⟩
  exact br_c (fun z => h0 (fun y => (y.2.1 hu).1 z)) (fun z => br_c (fun z' => K (fun _ => ⟨z, z'⟩)) (fun z' => h0 (fun y => z' (y.2.1 hu).2)))
end
end
section
/-! the relation; add; seal -/
/-- the relation at the head of a turn whose first cell is k -/
def i_Rel (k : Nat) (u : SX) (v : SY) : Prop :=
  ∃ (pl sl ol n fn dp : Nat) (sealed : Int32) (ops opB opA target handler level entry blocks sa : Nat → Int32), (4 ≤ pl ∧ pl ≤ 16 ∧ 8 ≤ sl ∧ sl ≤ 32 ∧ 8 ≤ ol ∧ ol ≤ 64 ∧ n ≤ sl) ∧
    ((sealed = 0 ∧ bu_core n fn dp ops opB opA target handler level entry blocks sa ∧ (∀ i, n ≤ i → ops i = 0) ∧ rn_RU ((nI pl), (nI sl), (nI ol), (nI n), (nI fn), sealed, ops, opB) ((nI dp), opA, target, handler, level, entry, blocks) sa pl ol 0 0 ops (2080 + 200 * k) 16 [] 32800 u v) ∨
     (sealed = 1 ∧ sp_ok n fn ops opB opA target handler level entry sa ∧ rn_RU ((nI pl), (nI sl), (nI ol), (nI n), (nI fn), sealed, ops, opB) ((nI dp), opA, target, handler, level, entry, blocks) sa pl ol n fn ops (2080 + 200 * k) 16 [] 32800 u v))
section
variable {pl sl ol n fn dp c ou : Nat} {sealed : Int32} {ops opB opA target handler level entry blocks sa st val host kinds masks asleep out rem pcx slots rx cx cells vars pcy cy ry : Nat → Int32} {px : ty_px} {py : ty_py} {F B rs ph : Nat}
theorem rn_ops {ops' : Nat → Int32} {B' : Nat} (hB : B ≤ B') (h : (rn pl ol (0) F ops B rs ([]) ph c ou st val host masks asleep rem pcx slots rx cx cells vars pcy cy ry px py)) : (rn pl ol (0) F (ops') (B') rs ([]) ph c ou st val host masks asleep rem pcx slots rx cx cells vars pcy cy ry px py) := by
  obtain ⟨Q, ck, hc, RX, RY, hck, hph, HA, HBB, HC, HD, HE, HF, HZ, HG, HH, HM⟩ := h
  refine ⟨Q, ck, hc, RX, RY, by omega, hph, HA, HBB, HC, HD, HE, HF, HZ, HG, ⟨fun p hp ha => ?_, trivial⟩, HM⟩
  obtain ⟨i, hi, _⟩ := HH.1 p hp ha
  omega
theorem rn_sl {B' : Nat} (hB : B ≤ B') (h : (rn pl ol (0) (0) ops B rs ([]) ph c ou st val host masks asleep rem pcx slots rx cx cells vars pcy cy ry px py)) : (rn pl ol n (fn) ops (B') rs ([]) ph c ou st val host masks asleep rem pcx slots rx cx cells vars pcy cy ry px py) := by
  obtain ⟨Q, ck, hc, RX, RY, hck, hph, HA, HBB, HC, HD, HE, HF, HZ, HG, HH, HM⟩ := h
  refine ⟨Q, ck, hc, RX, RY, by omega, hph, HA, HBB, rl_C_mono (Nat.le_refl _) (Nat.zero_le _) HC, HD, HE, HF, HZ, HG, ⟨fun p hp ha => ?_, trivial⟩, HM⟩
  obtain ⟨i, hi, _⟩ := HH.1 p hp ha
  omega
end
section
variable {pl sl ol n fn dp : Nat} {sealed : Int32} {ops opB opA target handler level entry blocks sa : Nat → Int32} {ss : ty_ss} {gx : ty_gx} {gy : ty_gy} {px : ty_px} {py : ty_py}
theorem yw_284 {post : Int32 → SY → Prop} {op a b : Int32} {fn' : Nat} (hn : n < 32) (hf : (op = 0 ∧ fn' = fn + 1) ∨ (op ≠ 0 ∧ fn' = fn)) (h : post (nI n) (mk_Y ((nI pl), (nI sl), (nI ol), (nI (n + 1)), (nI (fn')), sealed, (upd ops n op), (upd opB n b)) (upd sa n a) ss gy py)) : wY_add_284 post op a b (nI pl) (nI sl) (nI ol) (nI n) (nI fn) ss.1 ss.2.1 py.1 sealed ops sa opB ss.2.2.2.2.2.2.2.2 gy.1 gy.2.1 gy.2.2.1 gy.2.2.2 ss.2.2.1 ss.2.2.2.1 ss.2.2.2.2.2.1 ss.2.2.2.2.2.2.1 ss.2.2.2.2.1 ss.2.2.2.2.2.2.2.1 py.2.1 py.2.2.1 py.2.2.2.1 py.2.2.2.2.1 py.2.2.2.2.2.1 py.2.2.2.2.2.2.1 py.2.2.2.2.2.2.2.1 py.2.2.2.2.2.2.2.2 := by
  have hin : vp_in (nI n) 34 := vp_in_nI (by omega) (by omega)
  refine And.intro hin (nm_r (xq_up (by omega)) ⟨hin, nm_r (xq_up (by omega)) ⟨hin, nm_r (xq_up (by omega)) ?_⟩⟩)
  rcases hf with ⟨h1, h2⟩ | ⟨h1, h2⟩
  · subst h2
    exact br_t h1 (nm_r (nI_1 fn) (nm_r (nI_1 n) h))
  · subst h2
    exact br_f h1 (nm_r (Int32.add_zero _) (nm_r (nI_1 n) h))
theorem xw_add {post : Int32 → SX → Prop} {op a b : Int32} (hs : sealed = 0) (hn : n < sl) (hsl : sl ≤ 32) (H : bu_core n fn dp ops opB opA target handler level entry blocks sa)
    (hbad : ¬ bu_wf op a b → post (-1) (mk_X ((nI pl), (nI sl), (nI ol), (nI n), (nI fn), sealed, ops, opB) ((nI dp), opA, target, handler, level, entry, blocks) ss gx px)) (hnest : bu_wf op a b → ¬ bu_fit n fn ops op → post (-4) (mk_X ((nI pl), (nI sl), (nI ol), (nI n), (nI fn), sealed, ops, opB) ((nI dp), opA, target, handler, level, entry, blocks) ss gx px))
    (hok : bu_wf op a b → bu_fit n fn ops op → ∀ z : Int32, ((bu_ua op ∧ z = a) ∨ (¬ bu_ua op ∧ z = 0)) → wpX_place (fun u => post (nI n) u) (mk_X ((nI pl), (nI sl), (nI ol), (nI (n + 1)), (nI fn), sealed, (upd ops n op), (upd opB n b)) ((nI dp), (upd opA n z), target, handler, level, entry, blocks) ss gx px) (nI n) op) : wpX_add post (mk_X ((nI pl), (nI sl), (nI ol), (nI n), (nI fn), sealed, ops, opB) ((nI dp), opA, target, handler, level, entry, blocks) ss gx px) op a b := by
  have hnsl : ¬ nI n = nI sl := fun z => by have := (nI_eq (by omega) (by omega)).mp z; omega
  have hin : vp_in (nI n) 32 := vp_in_nI (by omega) (by omega)
  refine br_t hs (br_f hnsl (xw_wf (fun hw => br_f (by decide) ?_) (fun hw => br_t rfl (hbad hw))))
  refine xw_fits H hw.1.1 hw.1.2 (fun hf => br_f (by decide) ?_) (fun hf => br_t rfl (hnest hw hf))
  refine nm_r (nI_1 n) ⟨hin, nm_r (xq_up (by omega)) ?_⟩
  refine xw_uA (n := n + 1) (ops := upd ops n op) (fun hu => br_f (by decide) ?_) (fun hu => br_t rfl ?_)
  · exact And.intro hin (nm_r (xq_up (by omega)) ⟨hin, nm_r (xq_up (by omega)) (hok hw hf a (Or.inl ⟨hu, rfl⟩))⟩)
  · exact And.intro hin (nm_r (xq_up (by omega)) ⟨hin, nm_r (xq_up (by omega)) (hok hw hf 0 (Or.inr ⟨hu, rfl⟩))⟩)
/-- linking -/
theorem lk_T0 : lk_T ops target 0 = target := by
  funext k; rw [lk_T, if_neg (fun z => Nat.not_lt_zero _ z.1)]
theorem lk_H0 : lk_H target handler 0 = handler := by
  funext k; rw [lk_H, if_neg (fun z => Nat.not_lt_zero _ z.1)]
theorem lk_Hs {i : Nat} (h : handler i < 0) : lk_H target handler i = lk_H target handler (i + 1) := by
  funext k
  rw [lk_H, lk_H]
  by_cases hk : k = i
  · subst hk
    rw [if_neg (fun z => z.2 h), if_neg (fun z => z.2 h)]
  · by_cases hki : k < i
    · by_cases hh : handler k < 0
      · rw [if_neg (fun z => z.2 hh), if_neg (fun z => z.2 hh)]
      · rw [if_pos ⟨hki, hh⟩, if_pos ⟨by omega, hh⟩]
    · rw [if_neg (fun z => hki z.1), if_neg (fun z => by omega)]
theorem lk_Hu {i : Nat} (h : ¬ handler i < 0) : upd (lk_H target handler i) i (target (handler i).toNatClampNeg) = lk_H target handler (i + 1) := by
  funext k
  rw [upd]
  by_cases hk : k = i
  · rw [if_pos hk, lk_H, hk, if_pos ⟨Nat.lt_succ_self i, h⟩]
  · rw [if_neg hk, lk_H, lk_H]
    by_cases hki : k < i
    · by_cases hh : handler k < 0
      · rw [if_neg (fun z => z.2 hh), if_neg (fun z => z.2 hh)]
      · rw [if_pos ⟨hki, hh⟩, if_pos ⟨by omega, hh⟩]
    · rw [if_neg (fun z => hki z.1), if_neg (fun z => by omega)]
theorem lk_Ts {i : Nat} (h : ¬ ops i = 13) : lk_T ops target i = lk_T ops target (i + 1) := by
  funext k
  rw [lk_T, lk_T]
  by_cases hk : k = i
  · subst hk
    rw [if_neg (fun z => h z.2), if_neg (fun z => h z.2)]
  · by_cases hki : k < i
    · by_cases hh : ops k = 13
      · rw [if_pos ⟨hki, hh⟩, if_pos ⟨by omega, hh⟩]
      · rw [if_neg (fun z => hh z.2), if_neg (fun z => hh z.2)]
    · rw [if_neg (fun z => hki z.1), if_neg (fun z => by omega)]
theorem lk_Tu {i : Nat} (h : ops i = 13) : upd (lk_T ops target i) i (target (target i).toNatClampNeg) = lk_T ops target (i + 1) := by
  funext k
  rw [upd]
  by_cases hk : k = i
  · rw [if_pos hk, lk_T, hk, if_pos ⟨Nat.lt_succ_self i, h⟩]
  · rw [if_neg hk, lk_T, lk_T]
    by_cases hki : k < i
    · by_cases hh : ops k = 13
      · rw [if_pos ⟨hki, hh⟩, if_pos ⟨by omega, hh⟩]
      · rw [if_neg (fun z => hh z.2), if_neg (fun z => hh z.2)]
    · rw [if_neg (fun z => hki z.1), if_neg (fun z => by omega)]
theorem xr_lk {post : SX → Prop} (H : bu_core n fn dp ops opB opA target handler level entry blocks sa) (h : post (mk_X ((nI pl), (nI sl), (nI ol), (nI n), (nI fn), sealed, ops, opB) ((nI dp), opA, (lk_T ops target n), (lk_H target handler n), level, entry, blocks) ss gx px)) :
    ∀ d i, i + d = n → wX_link_2 post 0 1 2 3 4 (nI pl) (nI sl) (nI ol) (nI n) (nI fn) (nI dp) sealed ss.1 px.1 px.2.1 px.2.2.1 px.2.2.2.1 ss.2.1 (d + 1) (nI i) ops opA opB (lk_T ops target i) (lk_H target handler i) level entry blocks ss.2.2.1 ss.2.2.2.1 px.2.2.2.2.1 px.2.2.2.2.2.1 px.2.2.2.2.2.2.1 ss.2.2.2.2.1 ss.2.2.2.2.2.1 ss.2.2.2.2.2.2.1 gx.1 gx.2.1 gx.2.2.1 gx.2.2.2.1 gx.2.2.2.2.1 ss.2.2.2.2.2.2.2.1 gx.2.2.2.2.2 px.2.2.2.2.2.2.2.1 px.2.2.2.2.2.2.2.2.1 px.2.2.2.2.2.2.2.2.2.1 px.2.2.2.2.2.2.2.2.2.2.1 px.2.2.2.2.2.2.2.2.2.2.2.1 px.2.2.2.2.2.2.2.2.2.2.2.2.1 px.2.2.2.2.2.2.2.2.2.2.2.2.2 ss.2.2.2.2.2.2.2.2
  | 0, i, hi => by
    have : i = n := by omega
    subst this
    exact br_t (nI_le (Nat.le_refl _) (by have := H.1; omega)) h
  | d + 1, i, hi => by
    have hn := H.1
    have ih := xr_lk H h d (i + 1) (by omega)
    have e : (nI i).toNatClampNeg = i := nI_clamp (by omega)
    have hin : vp_in (nI i) 32 := vp_in_nI (by omega) (by omega)
    have hHi : lk_H target handler i i = handler i := if_neg (fun z => Nat.lt_irrefl _ z.1)
    have hTi : lk_T ops target i i = target i := if_neg (fun z => Nat.lt_irrefl _ z.1)
    have hTn : ∀ t, ops t ≠ 13 → lk_T ops target i t = target t := fun t ht => if_neg (fun z => ht z.2)
    -- the second half
    have K : wX_link_36 post (wX_link_2 post 0 1 2 3 4 (nI pl) (nI sl) (nI ol) (nI n) (nI fn) (nI dp) sealed ss.1 px.1 px.2.1 px.2.2.1 px.2.2.2.1 ss.2.1 (d + 1)) (nI i) 0 1 2 3 4 (nI pl) (nI sl) (nI ol) (nI n) (nI fn) (nI dp) sealed ss.1 px.1 px.2.1 px.2.2.1 px.2.2.2.1 ss.2.1 ops opA opB (lk_T ops target i) (lk_H target handler (i + 1)) level entry blocks ss.2.2.1 ss.2.2.2.1 px.2.2.2.2.1 px.2.2.2.2.2.1 px.2.2.2.2.2.2.1 ss.2.2.2.2.1 ss.2.2.2.2.2.1 ss.2.2.2.2.2.2.1 gx.1 gx.2.1 gx.2.2.1 gx.2.2.2.1 gx.2.2.2.2.1 ss.2.2.2.2.2.2.2.1 gx.2.2.2.2.2 px.2.2.2.2.2.2.2.1 px.2.2.2.2.2.2.2.2.1 px.2.2.2.2.2.2.2.2.2.1 px.2.2.2.2.2.2.2.2.2.2.1 px.2.2.2.2.2.2.2.2.2.2.2.1 px.2.2.2.2.2.2.2.2.2.2.2.2.1 px.2.2.2.2.2.2.2.2.2.2.2.2.2 ss.2.2.2.2.2.2.2.2 := by
      refine And.intro hin ?_
      by_cases h13 : ops i = 13
      · obtain ⟨b, c, hm, hb10, htb, _⟩ := lk_T13 H (show i < n by omega) h13
        have hbi := pg_bd ops i _ hm
        dsimp only at hbi
        have e1 : lk_T ops target i (nI i).toNatClampNeg = nI b := by rw [e, hTi, htb]
        have e2 : upd (lk_T ops target i) (nI i).toNatClampNeg (lk_T ops target i (lk_T ops target i (nI i).toNatClampNeg).toNatClampNeg) = lk_T ops target (i + 1) := by
          rw [e1, e, nI_clamp (by omega), hTn b (by rw [hb10]; decide), ← lk_Tu h13, htb, nI_clamp (by omega)]
        exact br_t (by rw [e]; exact h13) ⟨hin, by rw [e1]; exact vp_in_nI (by omega) (by omega), hin, nm_r e2 (nm_r (nI_1 i) ih)⟩
      · rw [lk_Ts h13]
        exact br_f (by rw [e]; exact h13) (nm_r (nI_1 i) ih)
    refine br_f (nI_ge (by omega) (by omega)) ⟨hin, ?_⟩
    rcases lk_Hc H (show i < n by omega) with ⟨g1, _⟩ | ⟨t, g1, g2, g3, _⟩
    · have hneg : handler i < 0 := by rw [g1]; decide
      have hneg' : lk_H target handler i (nI i).toNatClampNeg < 0 := by rw [e, hHi]; exact hneg
      rw [← lk_Hs hneg] at K
      exact br_t hneg' K
    · have hti := pg_bd ops i _ g1
      dsimp only at hti
      have hneg : ¬ handler i < 0 := by rw [g3]; exact nI_pos (by omega)
      have e1 : lk_H target handler i (nI i).toNatClampNeg = nI t := by rw [e, hHi, g3]
      have e2 : upd (lk_H target handler i) (nI i).toNatClampNeg (lk_T ops target i (lk_H target handler i (nI i).toNatClampNeg).toNatClampNeg) = lk_H target handler (i + 1) := by
        rw [e1, e, nI_clamp (by omega), hTn t (by rw [g2]; decide), ← lk_Hu hneg, g3, nI_clamp (by omega)]
      exact br_f (by rw [e1]; exact nI_pos (by omega)) ⟨hin, by rw [e1]; exact vp_in_nI (by omega) (by omega), hin, nm_r e2 K⟩
theorem xw_lk {post : SX → Prop} (H : bu_core n fn dp ops opB opA target handler level entry blocks sa) (h : post (mk_X ((nI pl), (nI sl), (nI ol), (nI n), (nI fn), sealed, ops, opB) ((nI dp), opA, (lk_T ops target n), (lk_H target handler n), level, entry, blocks) ss gx px)) : wpX_link post (mk_X ((nI pl), (nI sl), (nI ol), (nI n), (nI fn), sealed, ops, opB) ((nI dp), opA, target, handler, level, entry, blocks) ss gx px) := by
  have := xr_lk H h n 0 (by omega)
  rw [lk_T0, lk_H0] at this
  exact Exists.intro (n + 1) this
def bu_cal (n fn : Nat) (ops opB : Nat → Int32) : Prop := ∀ i, i < n → ops i = 4 → opB i < nI fn
theorem xr_sl {post : Int32 → SX → Prop} (hn : n ≤ 32) (h1 : bu_cal n fn ops opB → wpX_link (fun u => match u with | (a0, a1, a2, a3, a4, pl, sl, ol, n, fn, dp, sealed, c, fh, qh, qt, qs, ou, ops, opA, opB, target, handler, level, entry, blocks, st, val, fw, lw, wa, host, kinds, masks, rem, pcx, slots, rx, cx, asleep, cells, nk, no, nx, ny, ns, nv, nxt, out) => post fn (a0, a1, a2, a3, a4, pl, sl, ol, n, fn, dp, 1, c, fh, qh, qt, qs, ou, ops, opA, opB, target, handler, level, entry, blocks, st, val, fw, lw, wa, host, kinds, masks, rem, pcx, slots, rx, cx, asleep, cells, nk, no, nx, ny, ns, nv, nxt, out)) (mk_X ((nI pl), (nI sl), (nI ol), (nI n), (nI fn), sealed, ops, opB) ((nI dp), opA, target, handler, level, entry, blocks) ss gx px)) (h0 : ¬ bu_cal n fn ops opB → post (-1) (mk_X ((nI pl), (nI sl), (nI ol), (nI n), (nI fn), sealed, ops, opB) ((nI dp), opA, target, handler, level, entry, blocks) ss gx px)) :
    ∀ d i, i + d = n → (∀ k, k < i → ops k = 4 → opB k < nI fn) → wX_seal_29 post 0 1 2 3 4 (nI pl) (nI sl) (nI ol) (nI n) (nI fn) (nI dp) sealed ss.1 px.1 px.2.1 px.2.2.1 px.2.2.2.1 ss.2.1 ops opA opB target handler level entry blocks ss.2.2.1 ss.2.2.2.1 px.2.2.2.2.1 px.2.2.2.2.2.1 px.2.2.2.2.2.2.1 ss.2.2.2.2.1 ss.2.2.2.2.2.1 ss.2.2.2.2.2.2.1 gx.1 gx.2.1 gx.2.2.1 gx.2.2.2.1 gx.2.2.2.2.1 ss.2.2.2.2.2.2.2.1 gx.2.2.2.2.2 px.2.2.2.2.2.2.2.1 px.2.2.2.2.2.2.2.2.1 px.2.2.2.2.2.2.2.2.2.1 px.2.2.2.2.2.2.2.2.2.2.1 px.2.2.2.2.2.2.2.2.2.2.2.1 px.2.2.2.2.2.2.2.2.2.2.2.2.1 px.2.2.2.2.2.2.2.2.2.2.2.2.2 ss.2.2.2.2.2.2.2.2 (d + 1) (nI i)
  | 0, i, hi, hc => by
    have : i = n := by omega
    subst this
    exact br_t (nI_le (Nat.le_refl _) (by omega)) (h1 hc)
  | d + 1, i, hi, hc => by
    have e : (nI i).toNatClampNeg = i := nI_clamp (by omega)
    have hin : vp_in (nI i) 32 := vp_in_nI (by omega) (by omega)
    have ih := xr_sl hn h1 h0 d (i + 1) (by omega)
    refine br_f (nI_ge (by omega) (by omega)) ⟨hin, ?_⟩
    by_cases h4 : ops i = 4
    · refine br_t (by rw [e]; exact h4) ⟨hin, ?_⟩
      by_cases hb : opB i < nI fn
      · exact br_t (by rw [e]; exact hb) (nm_r (nI_1 i) (ih (fun k hk h => by
          by_cases hki : k = i
          · rw [hki]; exact hb
          · exact hc k (by omega) h)))
      · exact br_f (by rw [e]; exact hb) (h0 (fun z => hb (z i (by omega) h4)))
    · exact br_f (by rw [e]; exact h4) (nm_r (nI_1 i) (ih (fun k hk h => by
        by_cases hki : k = i
        · rw [hki] at h; exact absurd h h4
        · exact hc k (by omega) h)))
theorem yr_sl {post : Int32 → SY → Prop} (hn : n ≤ 32) (h1 : bu_cal n fn ops opB → post (nI fn) (mk_Y ((nI pl), (nI sl), (nI ol), (nI n), (nI fn), (1), ops, opB) sa ss gy py)) (h0 : ¬ bu_cal n fn ops opB → post (-1) (mk_Y ((nI pl), (nI sl), (nI ol), (nI n), (nI fn), sealed, ops, opB) sa ss gy py)) :
    ∀ d i, i + d = n → (∀ k, k < i → ops k = 4 → opB k < nI fn) → wY_seal_34 post (nI pl) (nI sl) (nI ol) (nI n) (nI fn) ss.1 ss.2.1 py.1 sealed ops sa opB ss.2.2.2.2.2.2.2.2 gy.1 gy.2.1 gy.2.2.1 gy.2.2.2 ss.2.2.1 ss.2.2.2.1 ss.2.2.2.2.2.1 ss.2.2.2.2.2.2.1 ss.2.2.2.2.1 ss.2.2.2.2.2.2.2.1 py.2.1 py.2.2.1 py.2.2.2.1 py.2.2.2.2.1 py.2.2.2.2.2.1 py.2.2.2.2.2.2.1 py.2.2.2.2.2.2.2.1 py.2.2.2.2.2.2.2.2 (d + 1) (nI i)
  | 0, i, hi, hc => by
    have : i = n := by omega
    subst this
    exact br_t (nI_le (Nat.le_refl _) (by omega)) (h1 hc)
  | d + 1, i, hi, hc => by
    have e : (nI i).toNatClampNeg = i := nI_clamp (by omega)
    have hin : vp_in (nI i) 34 := vp_in_nI (by omega) (by omega)
    have ih := yr_sl hn h1 h0 d (i + 1) (by omega)
    refine br_f (nI_ge (by omega) (by omega)) ⟨hin, ?_⟩
    by_cases h4 : ops i = 4
    · refine br_t (by rw [e]; exact h4) ⟨hin, ?_⟩
      by_cases hb : opB i < nI fn
      · exact br_t (by rw [e]; exact hb) (nm_r (nI_1 i) (ih (fun k hk h => by
          by_cases hki : k = i
          · rw [hki]; exact hb
          · exact hc k (by omega) h)))
      · exact br_f (by rw [e]; exact hb) (h0 (fun z => hb (z i (by omega) h4)))
    · exact br_f (by rw [e]; exact h4) (nm_r (nI_1 i) (ih (fun k hk h => by
        by_cases hki : k = i
        · rw [hki] at h; exact absurd h h4
        · exact hc k (by omega) h)))
end
end
section
/-! add and seal over the relation; the constructors -/
section
variable {pl sl ol n fn dp c ou : Nat} {sealed : Int32} {ops opB opA target handler level entry blocks sa st val host kinds masks asleep out rem pcx slots rx cx cells vars pcy cy ry : Nat → Int32} {px : ty_px} {py : ty_py} {k : Nat}
theorem i_addU (hl : 4 ≤ pl ∧ pl ≤ 16 ∧ 8 ≤ sl ∧ sl ≤ 32 ∧ 8 ≤ ol ∧ ol ≤ 64 ∧ n ≤ sl) (hs : sealed = 0) (H : bu_core n fn dp ops opB opA target handler level entry blocks sa) (hz : ∀ i, n ≤ i → ops i = 0) (h : (rn pl ol (0) (0) ops (2080 + 200 * k) (16) ([]) (32800) c ou st val host masks asleep rem pcx slots rx cx cells vars pcy cy ry px py)) (op a b : Int32) :
    wpX_add (fun r u' => wpY_add (fun r' v' => r' = r ∧ i_Rel (k + 4) u' v') (mk_Y ((nI pl), (nI sl), (nI ol), (nI n), (nI fn), sealed, ops, opB) sa ((nI c), (nI ou), st, val, host, kinds, masks, asleep, out) (vars, pcy, cy, ry) py) op a b) (mk_X ((nI pl), (nI sl), (nI ol), (nI n), (nI fn), sealed, ops, opB) ((nI dp), opA, target, handler, level, entry, blocks) ((nI c), (nI ou), st, val, host, kinds, masks, asleep, out) (rem, pcx, slots, rx, cx, cells) px) op a b := by
  have hU : i_Rel (k + 4) (mk_X ((nI pl), (nI sl), (nI ol), (nI n), (nI fn), sealed, ops, opB) ((nI dp), opA, target, handler, level, entry, blocks) ((nI c), (nI ou), st, val, host, kinds, masks, asleep, out) (rem, pcx, slots, rx, cx, cells) px) (mk_Y ((nI pl), (nI sl), (nI ol), (nI n), (nI fn), sealed, ops, opB) sa ((nI c), (nI ou), st, val, host, kinds, masks, asleep, out) (vars, pcy, cy, ry) py) := ⟨pl, sl, ol, n, fn, dp, sealed, ops, opB, opA, target, handler, level, entry, blocks, sa, hl, Or.inl ⟨hs, H, hz, rn_mk (rn_ops (by omega) h)⟩⟩
  have hfn4 := H.2.2.2.2.2.2.2.2.1
  by_cases hfull : n = sl
  · exact br_t hs (br_t (by rw [hfull]) (br_t hs (br_f (nI_nlt (by omega) (by omega)) (br_t hs ⟨rfl, hU⟩))))
  · have hlt : n < sl := by omega
    refine xw_add hs hlt hl.2.2.2.1 H (fun hw => yw_chk hs hlt hl.2.2.2.1 (fun y => absurd y hw) (fun _ => ⟨rfl, hU⟩)) (fun hw hf => yw_chk hs hlt hl.2.2.2.1 (fun _ => yw_120 H (fun x4 x6 z f1 f2 f3 => yw_190 hfn4 hw.1.1 hw.1.2 f1 f2 f3 (fun y => absurd y hf) (fun _ => ⟨rfl, hU⟩))) (fun y => absurd hw y)) (fun hw hf z hzz => ?_)
    have hag : ∀ q : Nat → Int32, ∀ x : Int32, ∀ j, j < n → upd q n x j = q j := fun q x j hj => pk_un (by omega)
    have H1 := bu_tr (ops' := upd ops n op) (opB' := upd opB n b) (opA' := upd opA n z) (sa' := upd sa n a) (hag ops op) (hag opB b) (hag opA z) (hag sa a) H
    have hok := bu_fit_ok (ops' := upd ops n op) (hag ops op) pk_us hw.1.1 hw.1.2 hf
    have hrow : bu_row (upd ops n op) (upd opB n b) (upd opA n z) (upd sa n a) n := by
      rw [bu_row, pk_us, pk_us, pk_us, pk_us]
      refine ⟨?_, fun y => ?_, fun y => ?_⟩
      · rcases hzz with ⟨hu, rfl⟩ | ⟨hu, rfl⟩
        · obtain ⟨ha1, ha2⟩ := hw.2.1 hu
          obtain ⟨m, hm, hm'⟩ := nI_of2 (x := z) (M := 7) (n := 7) (by decide) ha1 ha2
          exact ⟨m, by omega, hm', fun _ _ _ _ => hm'⟩
        · exact ⟨0, by omega, rfl, fun y0 y11 y13 y14 => absurd ⟨y0, y11, y13, y14⟩ hu⟩
      · obtain ⟨hb1, hb2⟩ := hw.2.2.1 y
        obtain ⟨m, hm, hm'⟩ := nI_of2 (x := b) (M := 7) (n := 7) (by decide) hb1 hb2
        exact ⟨m, by omega, hm'⟩
      · obtain ⟨hb1, hb2⟩ := hw.2.2.2 y
        obtain ⟨m, hm, hm'⟩ := nI_of2 (x := b) (M := 3) (n := 3) (by decide) hb1 hb2
        exact ⟨m, by omega, hm'⟩
    obtain ⟨fn', dp', target', handler', level', entry', blocks', C, hfn', W⟩ := xw_place (pl := pl) (sl := sl) (ol := ol) (sealed := sealed) (ss := ((nI c), (nI ou), st, val, host, kinds, masks, asleep, out)) (gx := (rem, pcx, slots, rx, cx, cells)) (px := px) H1 (by omega) hok hrow (fun y => (hf.1 (pk_us.symm.trans y)).2)
    rw [pk_us] at hfn' W
    refine W _ (yw_chk hs hlt hl.2.2.2.1 (fun _ => yw_120 H (fun x4 x6 z' f1 f2 f3 => yw_190 hfn4 hw.1.1 hw.1.2 f1 f2 f3 (fun _ => yw_284 (by omega) hfn' ⟨rfl, ?_⟩) (fun y => absurd hf y))) (fun y => absurd hw y))
    exact ⟨pl, sl, ol, n + 1, fn', dp', sealed, upd ops n op, upd opB n b, upd opA n z, target', handler', level', entry', blocks', upd sa n a, ⟨hl.1, hl.2.1, hl.2.2.1, hl.2.2.2.1, hl.2.2.2.2.1, hl.2.2.2.2.2.1, by omega⟩, Or.inl ⟨hs, C, fun i hi => by rw [pk_un (by omega)]; exact hz i (by omega), rn_mk (rn_ops (by omega) h)⟩⟩
theorem i_sealU (hl : 4 ≤ pl ∧ pl ≤ 16 ∧ 8 ≤ sl ∧ sl ≤ 32 ∧ 8 ≤ ol ∧ ol ≤ 64 ∧ n ≤ sl) (hs : sealed = 0) (H : bu_core n fn dp ops opB opA target handler level entry blocks sa) (hz : ∀ i, n ≤ i → ops i = 0) (h : (rn pl ol (0) (0) ops (2080 + 200 * k) (16) ([]) (32800) c ou st val host masks asleep rem pcx slots rx cx cells vars pcy cy ry px py)) :
    wpX_seal (fun r u' => wpY_seal (fun r' v' => r' = r ∧ i_Rel (k + 4) u' v') (mk_Y ((nI pl), (nI sl), (nI ol), (nI n), (nI fn), sealed, ops, opB) sa ((nI c), (nI ou), st, val, host, kinds, masks, asleep, out) (vars, pcy, cy, ry) py)) (mk_X ((nI pl), (nI sl), (nI ol), (nI n), (nI fn), sealed, ops, opB) ((nI dp), opA, target, handler, level, entry, blocks) ((nI c), (nI ou), st, val, host, kinds, masks, asleep, out) (rem, pcx, slots, rx, cx, cells) px) := by
  have hU : i_Rel (k + 4) (mk_X ((nI pl), (nI sl), (nI ol), (nI n), (nI fn), sealed, ops, opB) ((nI dp), opA, target, handler, level, entry, blocks) ((nI c), (nI ou), st, val, host, kinds, masks, asleep, out) (rem, pcx, slots, rx, cx, cells) px) (mk_Y ((nI pl), (nI sl), (nI ol), (nI n), (nI fn), sealed, ops, opB) sa ((nI c), (nI ou), st, val, host, kinds, masks, asleep, out) (vars, pcy, cy, ry) py) := ⟨pl, sl, ol, n, fn, dp, sealed, ops, opB, opA, target, handler, level, entry, blocks, sa, hl, Or.inl ⟨hs, H, hz, rn_mk (rn_ops (by omega) h)⟩⟩
  have hn := H.1
  have hfn4 := H.2.2.2.2.2.2.2.2.1
  have hdp := H.2.2.2.2.2.1
  have hl3 := pg_len3 H.2.1 n (Nat.le_refl n)
  have o1 := pg_open_any (ops := ops) (show n < 2 ^ 31 by omega) (Nat.le_refl n)
  refine br_t hs ?_
  by_cases hf : fn = 0
  · have hf' : nI fn = 0 := by rw [hf]; rfl
    exact br_t hf' (br_t hs (br_t hf' ⟨rfl, hU⟩))
  · have hf' : ¬ nI fn = 0 := nI_ne0 (by omega) (by omega)
    refine br_f hf' ?_
    by_cases hd : dp = 0
    · have hst : pg_stk ops n = [] := List.eq_nil_of_length_eq_zero (by omega)
      refine br_t (show nI dp ≤ 0 by rw [hd]; decide) (Exists.intro (n + 1) ?_)
      have YI : ∀ post : Int32 → SY → Prop, (∃ N, wY_seal_34 post (nI pl) (nI sl) (nI ol) (nI n) (nI fn) (nI c) (nI ou) py.1 sealed ops sa opB out vars pcy cy ry st val kinds masks host asleep py.2.1 py.2.2.1 py.2.2.2.1 py.2.2.2.2.1 py.2.2.2.2.2.1 py.2.2.2.2.2.2.1 py.2.2.2.2.2.2.2.1 py.2.2.2.2.2.2.2.2 N 0) → wpY_seal post (mk_Y ((nI pl), (nI sl), (nI ol), (nI n), (nI fn), sealed, ops, opB) sa ((nI c), (nI ou), st, val, host, kinds, masks, asleep, out) (vars, pcy, cy, ry) py) := fun post hp => by
        refine br_t hs (br_f hf' (yw_open (ky := sa) (ss := ((nI c), (nI ou), st, val, host, kinds, masks, asleep, out)) (gy := (vars, pcy, cy, ry)) (py := py) hn hn ?_))
        rw [o1, hst]
        exact br_t (by decide) hp
      refine xr_sl hn (fun hc => xw_lk H ?_) (fun hc => YI _ (Exists.intro (n + 1) (yr_sl (pl := pl) (sl := sl) (ol := ol) (sealed := sealed) (sa := sa) (ss := ((nI c), (nI ou), st, val, host, kinds, masks, asleep, out)) (gy := (vars, pcy, cy, ry)) (py := py) hn (fun y => absurd y hc) (fun _ => ⟨rfl, hU⟩) n 0 (by omega) (fun j hj => absurd hj (Nat.not_lt_zero _))))) n 0 (by omega) (fun j hj => absurd hj (Nat.not_lt_zero _))
      refine YI _ (Exists.intro (n + 1) (yr_sl (pl := pl) (sl := sl) (ol := ol) (sealed := sealed) (sa := sa) (ss := ((nI c), (nI ou), st, val, host, kinds, masks, asleep, out)) (gy := (vars, pcy, cy, ry)) (py := py) hn (fun _ => ⟨rfl, ?_⟩) (fun y => absurd hc y) n 0 (by omega) (fun j hj => absurd hj (Nat.not_lt_zero _))))
      exact ⟨pl, sl, ol, n, fn, dp, 1, ops, opB, opA, lk_T ops target n, lk_H target handler n, level, entry, blocks, sa, hl, Or.inr ⟨rfl, lk_ok H hst hz hc, rn_mk (rn_sl (by omega) h)⟩⟩
    · refine br_f (nI_nle (by omega) (by omega)) (br_t hs (br_f hf' (yw_open (ky := sa) (ss := ((nI c), (nI ou), st, val, host, kinds, masks, asleep, out)) (gy := (vars, pcy, cy, ry)) (py := py) hn hn ?_)))
      rw [o1]
      cases hst : pg_stk ops n with
      | nil => rw [hst] at hdp; exact absurd hdp hd
      | cons e r =>
        have := (pg_hd (b := e.1) (c := e.2) hst).2.2
        exact br_f (nI_pos (by omega)) ⟨rfl, hU⟩
end
theorem wk_clg (V : Int32) {lo hi : Nat} (h : lo ≤ hi) (hh : hi < 2 ^ 31) : ∃ x, lo ≤ x ∧ x ≤ hi ∧ ∀ P : Int32 → Prop, P (nI x) → ((nI lo ≤ V → ((V ≤ nI hi → P V) ∧ (¬ V ≤ nI hi → P (nI hi)))) ∧ (¬ nI lo ≤ V → P (nI lo))) := by
  by_cases h0 : nI lo ≤ V
  · by_cases h4 : V ≤ nI hi
    · have h0' := h0
      have h4' := h4
      rw [Int32.le_iff_toInt_le, nI_toInt (by omega)] at h0' h4'
      obtain ⟨j, hj, rfl⟩ := nI_of (x := V) (by rw [Int32.lt_iff_toInt_lt, show (0 : Int32).toInt = 0 from by decide]; omega)
      rw [nI_toInt hj] at h0' h4'
      exact ⟨j, by omega, by omega, fun P hp => br_t h0 (br_t h4 hp)⟩
    · exact ⟨hi, h, Nat.le_refl _, fun P hp => br_t h0 (br_f h4 hp)⟩
  · exact ⟨lo, Nat.le_refl _, h, fun P hp => br_f h0 hp⟩
def in_nx (i k : Nat) : Int32 := if k < i then (if k < 127 then nI (k + 1) else -1) else 0
theorem in_nx0 : in_nx 0 = fun _ => 0 := by
  funext k; rw [in_nx, if_neg (Nat.not_lt_zero _)]
theorem in_nxs {i : Nat} {x : Int32} (h : x = if i < 127 then nI (i + 1) else -1) : upd (in_nx i) i x = in_nx (i + 1) := by
  funext k
  rw [upd]
  by_cases hk : k = i
  · rw [if_pos hk, in_nx, hk, if_pos (Nat.lt_succ_self i), h]
  · rw [if_neg hk, in_nx, in_nx]
    by_cases hki : k < i
    · rw [if_pos hki, if_pos (show k < i + 1 by omega)]
    · rw [if_neg hki, if_neg (show ¬ k < i + 1 by omega)]
section
variable {kk : ty_kk} {kx : ty_kx} {ss : ty_ss} {gx : ty_gx} {fh qh qt qs : Int32} {fw lw wa nk no nx ny ns nv nxt : Nat → Int32}
theorem xr_in {post : SX → Prop} (h : post (mk_X kk kx ss gx (fh, qh, qt, qs, fw, lw, wa, nk, no, nx, ny, ns, nv, (in_nx 128)))) : ∀ d i, i + d = 128 → wX_init_322 post 0 1 2 3 4 kk.1 kk.2.1 kk.2.2.1 kk.2.2.2.1 kk.2.2.2.2.1 kx.1 kk.2.2.2.2.2.1 ss.1 fh qh qt qs ss.2.1 (d + 1) (nI i) kk.2.2.2.2.2.2.1 kx.2.1 kk.2.2.2.2.2.2.2 kx.2.2.1 kx.2.2.2.1 kx.2.2.2.2.1 kx.2.2.2.2.2.1 kx.2.2.2.2.2.2 ss.2.2.1 ss.2.2.2.1 fw lw wa ss.2.2.2.2.1 ss.2.2.2.2.2.1 ss.2.2.2.2.2.2.1 gx.1 gx.2.1 gx.2.2.1 gx.2.2.2.1 gx.2.2.2.2.1 ss.2.2.2.2.2.2.2.1 gx.2.2.2.2.2 nk no nx ny ns nv (in_nx i) ss.2.2.2.2.2.2.2.2
  | 0, i, hi => by
    have : i = 128 := by omega
    subst this
    exact br_t yq_128 h
  | d + 1, i, hi => by
    have ih := xr_in h d (i + 1) (by omega)
    have e : (nI i).toNatClampNeg = i := nI_clamp (by omega)
    have hin : vp_in (nI i) 128 := vp_in_nI (by omega) (by omega)
    refine br_f (yq_n128 (by omega)) ?_
    by_cases h7 : i < 127
    · exact br_f (nI_ge (b := 127) h7 (by decide)) ⟨hin, nm_r (e' := in_nx (i + 1)) (by rw [e]; exact in_nxs (by rw [if_pos h7, nI_1])) (nm_r (nI_1 i) ih)⟩
    · exact br_t (nI_le (a := 127) (by omega) (by omega)) ⟨hin, nm_r (e' := in_nx (i + 1)) (by rw [e]; exact in_nxs (by rw [if_neg h7])) (nm_r (nI_1 i) ih)⟩
end
theorem xq_lk_range {f : Nat → Int32} : ∀ m s, (∀ i, s ≤ i → i + 1 < s + m → f i = nI (i + 1)) → xq_lk f (List.range' s m)
  | 0, s, _ => trivial
  | 1, s, _ => trivial
  | m + 2, s, h => ⟨h s (Nat.le_refl s) (by omega), xq_lk_range (m + 1) (s + 1) (fun i h1 h2 => h i (by omega) (by omega))⟩
theorem xq_R0 : xq_R (0, 0, 0, 0, (fun _ => 0), (fun _ => 0), (fun _ => 0), (fun _ => 0), (fun _ => 0), (fun _ => 0), (fun _ => 0), (fun _ => 0), (fun _ => 0), in_nx 128) [] 16 [] := by
  refine ⟨List.range 128, [], rfl, ?_, ?_, ?_, fun z hz => (by cases hz), ⟨trivial, trivial, fun a ha => (by cases ha), rfl⟩, fun p hp _ => ⟨trivial, trivial, fun a ha => (by cases ha), rfl⟩⟩
  · rw [List.map_nil, List.append_nil, List.nil_append]
  · show (0 : Int32) = nI 0; rfl
  · rw [List.range_eq_range']
    refine xq_lk_range 128 0 (fun i _ h2 => ?_)
    show in_nx 128 i = nI (i + 1)
    rw [in_nx, if_pos (by omega), if_pos (by omega)]
theorem yq_R0 : yq_R (0, (fun _ => 0), (fun _ => 0), (fun _ => 0), (fun _ => 0), (fun _ => 0), (fun _ => 0), (fun _ => 0), (fun _ => 0)) 0 [] :=
  ⟨[], rfl, List.nodup_nil, rfl, fun z hz => (by cases hz), fun j _ hj => absurd rfl hj, List.Pairwise.nil, fun z hz => (by cases hz)⟩
theorem rn_0 {pl ol n F B : Nat} {ops : Nat → Int32} (hB : 2080 ≤ B) : rn pl ol n F ops B 16 [] 32800 0 0 (fun _ => 0) (fun _ => 0) (fun _ => 0) (fun _ => 0) (fun _ => 0) (fun _ => 0) (fun _ => 0) (fun _ => 0) (fun _ => 0) (fun _ => 0) (fun _ => 0) (fun _ => 0) (fun _ => 0) (fun _ => 0) (fun _ => 0) (0, 0, 0, 0, (fun _ => 0), (fun _ => 0), (fun _ => 0), (fun _ => 0), (fun _ => 0), (fun _ => 0), (fun _ => 0), (fun _ => 0), (fun _ => 0), in_nx 128) (0, (fun _ => 0), (fun _ => 0), (fun _ => 0), (fun _ => 0), (fun _ => 0), (fun _ => 0), (fun _ => 0), (fun _ => 0)) := by
  have hv : rl_v 0 0 := rl_v_neg (by decide)
  refine ⟨[], 0, ⟨Nat.zero_le _, Nat.zero_le _, Or.inl rfl, Nat.zero_le _⟩, xq_R0, yq_R0, by rw [List.length_nil]; omega, by rw [rl_ps]; omega, fun p hp => ⟨Or.inl rfl, hv⟩, ⟨fun j hj => hv, fun j hj => rfl, fun j hj => rfl⟩, fun e he => (by cases he), fun d hd => rfl, fun p hp => ?_, fun p hp => ⟨Or.inl rfl, Nat.zero_le _⟩, fun p hp _ => ⟨rfl, rfl⟩, ⟨List.nodup_nil, fun r hr => (by cases hr), trivial, trivial, fun p hp ha => absurd rfl ha⟩, ⟨fun p hp ha => absurd rfl ha, trivial⟩, fun d hd i hi _ => b_0 i⟩
  have h1 : rl_cQ [] (nI p) = 0 := rfl
  rw [h1, rl_ic_no (by simp), rl_hp, if_neg (fun z => z.1 rfl), if_neg (show ¬ p = 16 % 17 by omega)]
  omega
theorem bu_0 : bu_core 0 0 0 (fun _ => 0) (fun _ => 0) (fun _ => 0) (fun _ => 0) (fun _ => 0) (fun _ => 0) (fun _ => 0) (fun _ => 0) (fun _ => 0) :=
  ⟨Nat.zero_le _, fun i hi => absurd hi (Nat.not_lt_zero _), fun i hi => absurd hi (Nat.not_lt_zero _), fun i hi => absurd hi (Nat.not_lt_zero _), fun t ht => (by cases ht), rfl, trivial, rfl, Nat.zero_le _, fun f hf => absurd hf (Nat.not_lt_zero _)⟩
end
section
/-! what is owed: the relation lasts, the constructors -/
theorem i_el {k : Nat} {u : SX} {v : SY} {P : SX → SY → Prop} (I : i_Rel k u v)
    (h1 : ∀ (pl sl ol n fn dp : Nat) (sealed : Int32) (ops opB opA target handler level entry blocks sa : Nat → Int32) (c ou : Nat) (st val host kinds masks asleep out rem pcx slots rx cx cells vars pcy cy ry : Nat → Int32) (px : ty_px) (py : ty_py), (4 ≤ pl ∧ pl ≤ 16 ∧ 8 ≤ sl ∧ sl ≤ 32 ∧ 8 ≤ ol ∧ ol ≤ 64 ∧ n ≤ sl) → sealed = 0 → bu_core n fn dp ops opB opA target handler level entry blocks sa → (∀ i, n ≤ i → ops i = 0) → (rn pl ol (0) (0) ops (2080 + 200 * k) (16) ([]) (32800) c ou st val host masks asleep rem pcx slots rx cx cells vars pcy cy ry px py) → P (mk_X ((nI pl), (nI sl), (nI ol), (nI n), (nI fn), sealed, ops, opB) ((nI dp), opA, target, handler, level, entry, blocks) ((nI c), (nI ou), st, val, host, kinds, masks, asleep, out) (rem, pcx, slots, rx, cx, cells) px) (mk_Y ((nI pl), (nI sl), (nI ol), (nI n), (nI fn), sealed, ops, opB) sa ((nI c), (nI ou), st, val, host, kinds, masks, asleep, out) (vars, pcy, cy, ry) py))
    (h2 : ∀ (pl sl ol n fn dp : Nat) (sealed : Int32) (ops opB opA target handler level entry blocks sa : Nat → Int32) (c ou : Nat) (st val host kinds masks asleep out rem pcx slots rx cx cells vars pcy cy ry : Nat → Int32) (px : ty_px) (py : ty_py), (4 ≤ pl ∧ pl ≤ 16 ∧ 8 ≤ sl ∧ sl ≤ 32 ∧ 8 ≤ ol ∧ ol ≤ 64 ∧ n ≤ sl) → sealed = 1 → sp_ok n fn ops opB opA target handler level entry sa → (rn pl ol n (fn) ops (2080 + 200 * k) (16) ([]) (32800) c ou st val host masks asleep rem pcx slots rx cx cells vars pcy cy ry px py) → P (mk_X ((nI pl), (nI sl), (nI ol), (nI n), (nI fn), sealed, ops, opB) ((nI dp), opA, target, handler, level, entry, blocks) ((nI c), (nI ou), st, val, host, kinds, masks, asleep, out) (rem, pcx, slots, rx, cx, cells) px) (mk_Y ((nI pl), (nI sl), (nI ol), (nI n), (nI fn), sealed, ops, opB) sa ((nI c), (nI ou), st, val, host, kinds, masks, asleep, out) (vars, pcy, cy, ry) py)) : P u v := by
  obtain ⟨pl, sl, ol, n, fn, dp, sealed, ops, opB, opA, target, handler, level, entry, blocks, sa, hl, ⟨hs, hc, hz, RU⟩ | ⟨hs, SP, RU⟩⟩ := I
  · refine rn_el (P := P) RU ?_
    intro c ou st val host kinds masks asleep out rem pcx slots rx cx cells vars pcy cy ry px py h
    exact h1 pl sl ol n fn dp sealed ops opB opA target handler level entry blocks sa c ou st val host kinds masks asleep out rem pcx slots rx cx cells vars pcy cy ry px py hl hs hc hz h
  · refine rn_el (P := P) RU ?_
    intro c ou st val host kinds masks asleep out rem pcx slots rx cx cells vars pcy cy ry px py h
    exact h2 pl sl ol n fn dp sealed ops opB opA target handler level entry blocks sa c ou st val host kinds masks asleep out rem pcx slots rx cx cells vars pcy cy ry px py hl hs SP h
section
variable {pl sl ol n fn dp c ou : Nat} {sealed : Int32} {ops opB opA target handler level entry blocks sa st val host kinds masks asleep out rem pcx slots rx cx cells vars pcy cy ry : Nat → Int32} {px : ty_px} {py : ty_py} {k : Nat} {u : SX} {v : SY}
theorem i_mkU (hl : 4 ≤ pl ∧ pl ≤ 16 ∧ 8 ≤ sl ∧ sl ≤ 32 ∧ 8 ≤ ol ∧ ol ≤ 64 ∧ n ≤ sl) (hs : sealed = 0) (H : bu_core n fn dp ops opB opA target handler level entry blocks sa) (hz : ∀ i, n ≤ i → ops i = 0) (RU : rn_RU ((nI pl), (nI sl), (nI ol), (nI n), (nI fn), sealed, ops, opB) ((nI dp), opA, target, handler, level, entry, blocks) sa pl ol 0 0 ops (2080 + 200 * k + 800) 16 [] 32800 u v) : i_Rel (k + 4) u v := by
  have e : 2080 + 200 * k + 800 = 2080 + 200 * (k + 4) := by omega
  rw [e] at RU
  exact ⟨pl, sl, ol, n, fn, dp, sealed, ops, opB, opA, target, handler, level, entry, blocks, sa, hl, Or.inl ⟨hs, H, hz, RU⟩⟩
theorem i_mkS (hl : 4 ≤ pl ∧ pl ≤ 16 ∧ 8 ≤ sl ∧ sl ≤ 32 ∧ 8 ≤ ol ∧ ol ≤ 64 ∧ n ≤ sl) (hs : sealed = 1) (SP : sp_ok n fn ops opB opA target handler level entry sa) (RU : rn_RU ((nI pl), (nI sl), (nI ol), (nI n), (nI fn), sealed, ops, opB) ((nI dp), opA, target, handler, level, entry, blocks) sa pl ol n fn ops (2080 + 200 * k + 800) 16 [] 32800 u v) : i_Rel (k + 4) u v := by
  have e : 2080 + 200 * k + 800 = 2080 + 200 * (k + 4) := by omega
  rw [e] at RU
  exact ⟨pl, sl, ol, n, fn, dp, sealed, ops, opB, opA, target, handler, level, entry, blocks, sa, hl, Or.inr ⟨hs, SP, RU⟩⟩
end
theorem i_up {k : Nat} {u : SX} {v : SY} (h : i_Rel k u v) : i_Rel (k + 4) u v := by
  refine i_el (P := fun u v => i_Rel (k + 4) u v) h ?_ ?_
  · intro pl sl ol n fn dp sealed ops opB opA target handler level entry blocks sa c ou st val host kinds masks asleep out rem pcx slots rx cx cells vars pcy cy ry px py hl hs H hz h
    exact i_mkU hl hs H hz (rn_mk (rn_up h (by omega) (by omega)))
  · intro pl sl ol n fn dp sealed ops opB opA target handler level entry blocks sa c ou st val host kinds masks asleep out rem pcx slots rx cx cells vars pcy cy ry px py hl hs SP h
    exact i_mkS hl hs SP (rn_mk (rn_up h (by omega) (by omega)))
theorem xw_clg {u : SX} {V : Int32} {lo hi x : Nat} (hx : ∀ P : Int32 → Prop, P (nI x) → ((nI lo ≤ V → ((V ≤ nI hi → P V) ∧ (¬ V ≤ nI hi → P (nI hi)))) ∧ (¬ nI lo ≤ V → P (nI lo)))) {post : Int32 → Prop} (h : post (nI x)) : wpX_clamp post u V (nI lo) (nI hi) := hx post h
theorem i_vc0 (k0 : Int32) (k1 : Int32) (k2 : Int32) : wpX_init (fun u => wpY_init (fun v => i_Rel 3 u v) k0 k1 k2) k0 k1 k2 := by
  obtain ⟨x0, a0, b0, h0⟩ := wk_clg k0 (lo := 4) (hi := 16) (by decide) (by decide)
  obtain ⟨x1, a1, b1, h1⟩ := wk_clg k1 (lo := 8) (hi := 32) (by decide) (by decide)
  obtain ⟨x2, a2, b2, h2⟩ := wk_clg k2 (lo := 8) (hi := 64) (by decide) (by decide)
  unfold wpX_init
  refine xw_clg h0 (xw_clg h1 (xw_clg h2 (Exists.intro 129 ?_)))
  have X := fun (post : SX → Prop) (hp : post (mk_X (nI x0, nI x1, nI x2, 0, 0, 0, (fun _ => 0), (fun _ => 0)) (0, (fun _ => 0), (fun _ => 0), (fun _ => 0), (fun _ => 0), (fun _ => 0), (fun _ => 0)) (0, 0, (fun _ => 0), (fun _ => 0), (fun _ => 0), (fun _ => 0), (fun _ => 0), (fun _ => 0), (fun _ => 0)) ((fun _ => 0), (fun _ => 0), (fun _ => 0), (fun _ => 0), (fun _ => 0), (fun _ => 0)) (0, 0, 0, 0, (fun _ => 0), (fun _ => 0), (fun _ => 0), (fun _ => 0), (fun _ => 0), (fun _ => 0), (fun _ => 0), (fun _ => 0), (fun _ => 0), in_nx 128))) => xr_in hp 128 0 (by omega)
  rw [in_nx0] at X
  refine X _ ?_
  refine h0 (fun z => wY_init_211 _ k1 k2 z 0 0 0 0 0 0 0 0 0 (fun _ => 0) (fun _ => 0) (fun _ => 0) (fun _ => 0) (fun _ => 0) (fun _ => 0) (fun _ => 0) (fun _ => 0) (fun _ => 0) (fun _ => 0) (fun _ => 0) (fun _ => 0) (fun _ => 0) (fun _ => 0) (fun _ => 0) (fun _ => 0) (fun _ => 0) (fun _ => 0) (fun _ => 0) (fun _ => 0) (fun _ => 0) (fun _ => 0)) (h1 (fun z => wY_init_238 _ k2 z (nI x0) 0 0 0 0 0 0 0 0 (fun _ => 0) (fun _ => 0) (fun _ => 0) (fun _ => 0) (fun _ => 0) (fun _ => 0) (fun _ => 0) (fun _ => 0) (fun _ => 0) (fun _ => 0) (fun _ => 0) (fun _ => 0) (fun _ => 0) (fun _ => 0) (fun _ => 0) (fun _ => 0) (fun _ => 0) (fun _ => 0) (fun _ => 0) (fun _ => 0) (fun _ => 0) (fun _ => 0)) (h2 (fun z => (fun v => i_Rel 3 _ v) (nI x0, nI x1, z, 0, 0, 0, 0, 0, 0, (fun _ => 0), (fun _ => 0), (fun _ => 0), (fun _ => 0), (fun _ => 0), (fun _ => 0), (fun _ => 0), (fun _ => 0), (fun _ => 0), (fun _ => 0), (fun _ => 0), (fun _ => 0), (fun _ => 0), (fun _ => 0), (fun _ => 0), (fun _ => 0), (fun _ => 0), (fun _ => 0), (fun _ => 0), (fun _ => 0), (fun _ => 0), (fun _ => 0))) ?_))
  exact ⟨x0, x1, x2, 0, 0, 0, 0, (fun _ => 0), (fun _ => 0), (fun _ => 0), (fun _ => 0), (fun _ => 0), (fun _ => 0), (fun _ => 0), (fun _ => 0), (fun _ => 0), ⟨a0, b0, a1, b1, a2, b2, Nat.zero_le _⟩, Or.inl ⟨rfl, bu_0, fun _ _ => rfl, rn_mk (kinds := fun _ => 0) (out := fun _ => 0) (rn_0 (by omega))⟩⟩
end
section
/-! what is owed: one statement a method -/
theorem i_vc_add {k : Nat} {u : SX} {v : SY} (I : i_Rel k u v) (hk : k + 4 ≤ 2051) (v1 : Int32) (v2 : Int32) (v3 : Int32) : wpX_add (fun r u' => wpY_add (fun r' v' => r' = r ∧ i_Rel (k + 4) u' v') v v1 v2 v3) u v1 v2 v3 := by
  refine i_el (P := fun u v => wpX_add (fun r u' => wpY_add (fun r' v' => r' = r ∧ i_Rel (k + 4) u' v') v v1 v2 v3) u v1 v2 v3) I ?_ ?_
  · intro pl sl ol n fn dp sealed ops opB opA target handler level entry blocks sa c ou st val host kinds masks asleep out rem pcx slots rx cx cells vars pcy cy ry px py hl hs H hz h
    exact i_addU hl hs H hz h v1 v2 v3
  · intro pl sl ol n fn dp sealed ops opB opA target handler level entry blocks sa c ou st val host kinds masks asleep out rem pcx slots rx cx cells vars pcy cy ry px py hl hs SP h
    exact br_f (show sealed ≠ 0 by rw [hs]; decide) (br_f (show sealed ≠ 0 by rw [hs]; decide) (br_f (show sealed ≠ 0 by rw [hs]; decide) ⟨rfl, i_mkS hl hs SP (rn_mk (rn_up h (by omega) (by omega)))⟩))
theorem i_vc_seal {k : Nat} {u : SX} {v : SY} (I : i_Rel k u v) (hk : k + 4 ≤ 2051) : wpX_seal (fun r u' => wpY_seal (fun r' v' => r' = r ∧ i_Rel (k + 4) u' v') v) u := by
  refine i_el (P := fun u v => wpX_seal (fun r u' => wpY_seal (fun r' v' => r' = r ∧ i_Rel (k + 4) u' v') v) u) I ?_ ?_
  · intro pl sl ol n fn dp sealed ops opB opA target handler level entry blocks sa c ou st val host kinds masks asleep out rem pcx slots rx cx cells vars pcy cy ry px py hl hs H hz h
    exact i_sealU hl hs H hz h
  · intro pl sl ol n fn dp sealed ops opB opA target handler level entry blocks sa c ou st val host kinds masks asleep out rem pcx slots rx cx cells vars pcy cy ry px py hl hs SP h
    exact br_f (show sealed ≠ 0 by rw [hs]; decide) (br_f (show sealed ≠ 0 by rw [hs]; decide) ⟨rfl, i_mkS hl hs SP (rn_mk (rn_up h (by omega) (by omega)))⟩)
theorem i_vc_newPromise {k : Nat} {u : SX} {v : SY} (I : i_Rel k u v) (hk : k + 4 ≤ 2051) : wpX_newPromise (fun r u' => wpY_newPromise (fun r' v' => r' = r ∧ i_Rel (k + 4) u' v') v) u := by
  refine i_el (P := fun u v => wpX_newPromise (fun r u' => wpY_newPromise (fun r' v' => r' = r ∧ i_Rel (k + 4) u' v') v) u) I ?_ ?_
  · intro pl sl ol n fn dp sealed ops opB opA target handler level entry blocks sa c ou st val host kinds masks asleep out rem pcx slots rx cx cells vars pcy cy ry px py hl hs H hz h
    exact vc_newPromise (P := fun r' r u' v' => r' = r ∧ i_Rel (k + 4) u' v') hl.2.1 h (fun x u' v' RU => ⟨rfl, i_mkU hl hs H hz RU⟩)
  · intro pl sl ol n fn dp sealed ops opB opA target handler level entry blocks sa c ou st val host kinds masks asleep out rem pcx slots rx cx cells vars pcy cy ry px py hl hs SP h
    exact vc_newPromise (P := fun r' r u' v' => r' = r ∧ i_Rel (k + 4) u' v') hl.2.1 h (fun x u' v' RU => ⟨rfl, i_mkS hl hs SP RU⟩)
theorem i_vc_call {k : Nat} {u : SX} {v : SY} (I : i_Rel k u v) (hk : k + 4 ≤ 2051) (v1 : Int32) (v2 : Int32) : wpX_call (fun r u' => wpY_call (fun r' v' => r' = r ∧ i_Rel (k + 4) u' v') v v1 v2) u v1 v2 := by
  refine i_el (P := fun u v => wpX_call (fun r u' => wpY_call (fun r' v' => r' = r ∧ i_Rel (k + 4) u' v') v v1 v2) u v1 v2) I ?_ ?_
  · intro pl sl ol n fn dp sealed ops opB opA target handler level entry blocks sa c ou st val host kinds masks asleep out rem pcx slots rx cx cells vars pcy cy ry px py hl hs H hz h
    exact vc_call0 (P := fun r' r u' v' => r' = r ∧ i_Rel (k + 4) u' v') hs h (fun x u' v' RU => ⟨rfl, i_mkU hl hs H hz RU⟩) v1 v2
  · intro pl sl ol n fn dp sealed ops opB opA target handler level entry blocks sa c ou st val host kinds masks asleep out rem pcx slots rx cx cells vars pcy cy ry px py hl hs SP h
    exact vc_call1 (P := fun r' r u' v' => r' = r ∧ i_Rel (k + 4) u' v') SP (show sealed ≠ 0 by rw [hs]; decide) hl.2.1 hl.2.2.2.2.2.1 (by omega) h (fun x u' v' RU => ⟨rfl, i_mkS hl hs SP RU⟩) v1 v2
theorem i_vc_settle {k : Nat} {u : SX} {v : SY} (I : i_Rel k u v) (hk : k + 4 ≤ 2051) (v1 : Int32) (v2 : Int32) (v3 : Int32) : wpX_settle (fun r u' => wpY_settle (fun r' v' => r' = r ∧ i_Rel (k + 4) u' v') v v1 v2 v3) u v1 v2 v3 := by
  refine i_el (P := fun u v => wpX_settle (fun r u' => wpY_settle (fun r' v' => r' = r ∧ i_Rel (k + 4) u' v') v v1 v2 v3) u v1 v2 v3) I ?_ ?_
  · intro pl sl ol n fn dp sealed ops opB opA target handler level entry blocks sa c ou st val host kinds masks asleep out rem pcx slots rx cx cells vars pcy cy ry px py hl hs H hz h
    exact vc_settle (P := fun r' r u' v' => r' = r ∧ i_Rel (k + 4) u' v') hl.2.1 (by omega) h (fun x u' v' RU => ⟨rfl, i_mkU hl hs H hz RU⟩) v1 v2 v3
  · intro pl sl ol n fn dp sealed ops opB opA target handler level entry blocks sa c ou st val host kinds masks asleep out rem pcx slots rx cx cells vars pcy cy ry px py hl hs SP h
    exact vc_settle (P := fun r' r u' v' => r' = r ∧ i_Rel (k + 4) u' v') hl.2.1 (by omega) h (fun x u' v' RU => ⟨rfl, i_mkS hl hs SP RU⟩) v1 v2 v3
theorem i_vc_then {k : Nat} {u : SX} {v : SY} (I : i_Rel k u v) (hk : k + 4 ≤ 2051) (v1 : Int32) (v2 : Int32) (v3 : Int32) : wpX_then (fun r u' => wpY_then (fun r' v' => r' = r ∧ i_Rel (k + 4) u' v') v v1 v2 v3) u v1 v2 v3 := by
  refine i_el (P := fun u v => wpX_then (fun r u' => wpY_then (fun r' v' => r' = r ∧ i_Rel (k + 4) u' v') v v1 v2 v3) u v1 v2 v3) I ?_ ?_
  · intro pl sl ol n fn dp sealed ops opB opA target handler level entry blocks sa c ou st val host kinds masks asleep out rem pcx slots rx cx cells vars pcy cy ry px py hl hs H hz h
    exact vc_then (P := fun r' r u' v' => r' = r ∧ i_Rel (k + 4) u' v') hl.2.1 (by omega) (Or.inl ⟨hs, rfl⟩) (by omega) h (fun x u' v' RU => ⟨rfl, i_mkU hl hs H hz RU⟩) v1 v2 v3
  · intro pl sl ol n fn dp sealed ops opB opA target handler level entry blocks sa c ou st val host kinds masks asleep out rem pcx slots rx cx cells vars pcy cy ry px py hl hs SP h
    exact vc_then (P := fun r' r u' v' => r' = r ∧ i_Rel (k + 4) u' v') hl.2.1 (by omega) (Or.inr ⟨(show sealed ≠ 0 by rw [hs]; decide), rfl⟩) SP.2.2.2.2.2.2 h (fun x u' v' RU => ⟨rfl, i_mkS hl hs SP RU⟩) v1 v2 v3
theorem i_vc_combine {k : Nat} {u : SX} {v : SY} (I : i_Rel k u v) (hk : k + 4 ≤ 2051) (v1 : Int32) (v2 : Int32) : wpX_combine (fun r u' => wpY_combine (fun r' v' => r' = r ∧ i_Rel (k + 4) u' v') v v1 v2) u v1 v2 := by
  refine i_el (P := fun u v => wpX_combine (fun r u' => wpY_combine (fun r' v' => r' = r ∧ i_Rel (k + 4) u' v') v v1 v2) u v1 v2) I ?_ ?_
  · intro pl sl ol n fn dp sealed ops opB opA target handler level entry blocks sa c ou st val host kinds masks asleep out rem pcx slots rx cx cells vars pcy cy ry px py hl hs H hz h
    exact vc_combine (P := fun r' r u' v' => r' = r ∧ i_Rel (k + 4) u' v') hl.2.1 (by omega) h (fun x u' v' RU => ⟨rfl, i_mkU hl hs H hz RU⟩) v1 v2
  · intro pl sl ol n fn dp sealed ops opB opA target handler level entry blocks sa c ou st val host kinds masks asleep out rem pcx slots rx cx cells vars pcy cy ry px py hl hs SP h
    exact vc_combine (P := fun r' r u' v' => r' = r ∧ i_Rel (k + 4) u' v') hl.2.1 (by omega) h (fun x u' v' RU => ⟨rfl, i_mkS hl hs SP RU⟩) v1 v2
theorem i_vc_step {k : Nat} {u : SX} {v : SY} (I : i_Rel k u v) (hk : k + 4 ≤ 2051) : wpX_step (fun r u' => wpY_step (fun r' v' => r' = r ∧ i_Rel (k + 4) u' v') v) u := by
  refine i_el (P := fun u v => wpX_step (fun r u' => wpY_step (fun r' v' => r' = r ∧ i_Rel (k + 4) u' v') v) u) I ?_ ?_
  · intro pl sl ol n fn dp sealed ops opB opA target handler level entry blocks sa c ou st val host kinds masks asleep out rem pcx slots rx cx cells vars pcy cy ry px py hl hs H hz h
    exact vc_step (P := fun r' r u' v' => r' = r ∧ i_Rel (k + 4) u' v') (Or.inr ⟨rfl, rfl⟩) hl.2.1 hl.2.2.2.2.2.1 (by omega) h (fun x u' v' RU => ⟨rfl, i_mkU hl hs H hz RU⟩)
  · intro pl sl ol n fn dp sealed ops opB opA target handler level entry blocks sa c ou st val host kinds masks asleep out rem pcx slots rx cx cells vars pcy cy ry px py hl hs SP h
    exact vc_step (P := fun r' r u' v' => r' = r ∧ i_Rel (k + 4) u' v') (Or.inl ⟨rfl, rfl, SP⟩) hl.2.1 hl.2.2.2.2.2.1 (by omega) h (fun x u' v' RU => ⟨rfl, i_mkS hl hs SP RU⟩)
theorem i_vc_state {k : Nat} {u : SX} {v : SY} (I : i_Rel k u v) (hk : k + 4 ≤ 2051) (v1 : Int32) : wpX_state (fun r => wpY_state (fun r' => r' = r ∧ i_Rel (k + 4) u v) v v1) u v1 := by
  refine i_el (P := fun u v => wpX_state (fun r => wpY_state (fun r' => r' = r ∧ i_Rel (k + 4) u v) v v1) u v1) I ?_ ?_
  · intro pl sl ol n fn dp sealed ops opB opA target handler level entry blocks sa c ou st val host kinds masks asleep out rem pcx slots rx cx cells vars pcy cy ry px py hl hs H hz h
    exact vc_state (P := fun r' r => r' = r ∧ i_Rel (k + 4) (mk_X ((nI pl), (nI sl), (nI ol), (nI n), (nI fn), sealed, ops, opB) ((nI dp), opA, target, handler, level, entry, blocks) ((nI c), (nI ou), st, val, host, kinds, masks, asleep, out) (rem, pcx, slots, rx, cx, cells) px) (mk_Y ((nI pl), (nI sl), (nI ol), (nI n), (nI fn), sealed, ops, opB) sa ((nI c), (nI ou), st, val, host, kinds, masks, asleep, out) (vars, pcy, cy, ry) py)) hl.2.1 h (fun x => ⟨rfl, i_mkU hl hs H hz (rn_mk (rn_up h (by omega) (by omega)))⟩) v1
  · intro pl sl ol n fn dp sealed ops opB opA target handler level entry blocks sa c ou st val host kinds masks asleep out rem pcx slots rx cx cells vars pcy cy ry px py hl hs SP h
    exact vc_state (P := fun r' r => r' = r ∧ i_Rel (k + 4) (mk_X ((nI pl), (nI sl), (nI ol), (nI n), (nI fn), sealed, ops, opB) ((nI dp), opA, target, handler, level, entry, blocks) ((nI c), (nI ou), st, val, host, kinds, masks, asleep, out) (rem, pcx, slots, rx, cx, cells) px) (mk_Y ((nI pl), (nI sl), (nI ol), (nI n), (nI fn), sealed, ops, opB) sa ((nI c), (nI ou), st, val, host, kinds, masks, asleep, out) (vars, pcy, cy, ry) py)) hl.2.1 h (fun x => ⟨rfl, i_mkS hl hs SP (rn_mk (rn_up h (by omega) (by omega)))⟩) v1
theorem i_vc_value {k : Nat} {u : SX} {v : SY} (I : i_Rel k u v) (hk : k + 4 ≤ 2051) (v1 : Int32) : wpX_value (fun r => wpY_value (fun r' => r' = r ∧ i_Rel (k + 4) u v) v v1) u v1 := by
  refine i_el (P := fun u v => wpX_value (fun r => wpY_value (fun r' => r' = r ∧ i_Rel (k + 4) u v) v v1) u v1) I ?_ ?_
  · intro pl sl ol n fn dp sealed ops opB opA target handler level entry blocks sa c ou st val host kinds masks asleep out rem pcx slots rx cx cells vars pcy cy ry px py hl hs H hz h
    exact vc_value (P := fun r' r => r' = r ∧ i_Rel (k + 4) (mk_X ((nI pl), (nI sl), (nI ol), (nI n), (nI fn), sealed, ops, opB) ((nI dp), opA, target, handler, level, entry, blocks) ((nI c), (nI ou), st, val, host, kinds, masks, asleep, out) (rem, pcx, slots, rx, cx, cells) px) (mk_Y ((nI pl), (nI sl), (nI ol), (nI n), (nI fn), sealed, ops, opB) sa ((nI c), (nI ou), st, val, host, kinds, masks, asleep, out) (vars, pcy, cy, ry) py)) hl.2.1 h (fun x => ⟨rfl, i_mkU hl hs H hz (rn_mk (rn_up h (by omega) (by omega)))⟩) v1
  · intro pl sl ol n fn dp sealed ops opB opA target handler level entry blocks sa c ou st val host kinds masks asleep out rem pcx slots rx cx cells vars pcy cy ry px py hl hs SP h
    exact vc_value (P := fun r' r => r' = r ∧ i_Rel (k + 4) (mk_X ((nI pl), (nI sl), (nI ol), (nI n), (nI fn), sealed, ops, opB) ((nI dp), opA, target, handler, level, entry, blocks) ((nI c), (nI ou), st, val, host, kinds, masks, asleep, out) (rem, pcx, slots, rx, cx, cells) px) (mk_Y ((nI pl), (nI sl), (nI ol), (nI n), (nI fn), sealed, ops, opB) sa ((nI c), (nI ou), st, val, host, kinds, masks, asleep, out) (vars, pcy, cy, ry) py)) hl.2.1 h (fun x => ⟨rfl, i_mkS hl hs SP (rn_mk (rn_up h (by omega) (by omega)))⟩) v1
theorem i_vc_reactions {k : Nat} {u : SX} {v : SY} (I : i_Rel k u v) (hk : k + 4 ≤ 2051) (v1 : Int32) : wpX_reactions (fun r => wpY_reactions (fun r' => r' = r ∧ i_Rel (k + 4) u v) v v1) u v1 := by
  refine i_el (P := fun u v => wpX_reactions (fun r => wpY_reactions (fun r' => r' = r ∧ i_Rel (k + 4) u v) v v1) u v1) I ?_ ?_
  · intro pl sl ol n fn dp sealed ops opB opA target handler level entry blocks sa c ou st val host kinds masks asleep out rem pcx slots rx cx cells vars pcy cy ry px py hl hs H hz h
    exact vc_reactions (P := fun r' r => r' = r ∧ i_Rel (k + 4) (mk_X ((nI pl), (nI sl), (nI ol), (nI n), (nI fn), sealed, ops, opB) ((nI dp), opA, target, handler, level, entry, blocks) ((nI c), (nI ou), st, val, host, kinds, masks, asleep, out) (rem, pcx, slots, rx, cx, cells) px) (mk_Y ((nI pl), (nI sl), (nI ol), (nI n), (nI fn), sealed, ops, opB) sa ((nI c), (nI ou), st, val, host, kinds, masks, asleep, out) (vars, pcy, cy, ry) py)) hl.2.1 h (fun x => ⟨rfl, i_mkU hl hs H hz (rn_mk (rn_up h (by omega) (by omega)))⟩) v1
  · intro pl sl ol n fn dp sealed ops opB opA target handler level entry blocks sa c ou st val host kinds masks asleep out rem pcx slots rx cx cells vars pcy cy ry px py hl hs SP h
    exact vc_reactions (P := fun r' r => r' = r ∧ i_Rel (k + 4) (mk_X ((nI pl), (nI sl), (nI ol), (nI n), (nI fn), sealed, ops, opB) ((nI dp), opA, target, handler, level, entry, blocks) ((nI c), (nI ou), st, val, host, kinds, masks, asleep, out) (rem, pcx, slots, rx, cx, cells) px) (mk_Y ((nI pl), (nI sl), (nI ol), (nI n), (nI fn), sealed, ops, opB) sa ((nI c), (nI ou), st, val, host, kinds, masks, asleep, out) (vars, pcy, cy, ry) py)) hl.2.1 h (fun x => ⟨rfl, i_mkS hl hs SP (rn_mk (rn_up h (by omega) (by omega)))⟩) v1
theorem i_vc_line {k : Nat} {u : SX} {v : SY} (I : i_Rel k u v) (hk : k + 4 ≤ 2051) (v1 : Int32) : wpX_line (fun r => wpY_line (fun r' => r' = r ∧ i_Rel (k + 4) u v) v v1) u v1 := by
  refine i_el (P := fun u v => wpX_line (fun r => wpY_line (fun r' => r' = r ∧ i_Rel (k + 4) u v) v v1) u v1) I ?_ ?_
  · intro pl sl ol n fn dp sealed ops opB opA target handler level entry blocks sa c ou st val host kinds masks asleep out rem pcx slots rx cx cells vars pcy cy ry px py hl hs H hz h
    exact vc_line (P := fun r' r => r' = r ∧ i_Rel (k + 4) (mk_X ((nI pl), (nI sl), (nI ol), (nI n), (nI fn), sealed, ops, opB) ((nI dp), opA, target, handler, level, entry, blocks) ((nI c), (nI ou), st, val, host, kinds, masks, asleep, out) (rem, pcx, slots, rx, cx, cells) px) (mk_Y ((nI pl), (nI sl), (nI ol), (nI n), (nI fn), sealed, ops, opB) sa ((nI c), (nI ou), st, val, host, kinds, masks, asleep, out) (vars, pcy, cy, ry) py)) hl.2.1 h (fun x => ⟨rfl, i_mkU hl hs H hz (rn_mk (rn_up h (by omega) (by omega)))⟩) v1
  · intro pl sl ol n fn dp sealed ops opB opA target handler level entry blocks sa c ou st val host kinds masks asleep out rem pcx slots rx cx cells vars pcy cy ry px py hl hs SP h
    exact vc_line (P := fun r' r => r' = r ∧ i_Rel (k + 4) (mk_X ((nI pl), (nI sl), (nI ol), (nI n), (nI fn), sealed, ops, opB) ((nI dp), opA, target, handler, level, entry, blocks) ((nI c), (nI ou), st, val, host, kinds, masks, asleep, out) (rem, pcx, slots, rx, cx, cells) px) (mk_Y ((nI pl), (nI sl), (nI ol), (nI n), (nI fn), sealed, ops, opB) sa ((nI c), (nI ou), st, val, host, kinds, masks, asleep, out) (vars, pcy, cy, ry) py)) hl.2.1 h (fun x => ⟨rfl, i_mkS hl hs SP (rn_mk (rn_up h (by omega) (by omega)))⟩) v1
theorem i_vc_slot {k : Nat} {u : SX} {v : SY} (I : i_Rel k u v) (hk : k + 4 ≤ 2051) (v1 : Int32) (v2 : Int32) : wpX_slot (fun r => wpY_slot (fun r' => r' = r ∧ i_Rel (k + 4) u v) v v1 v2) u v1 v2 := by
  refine i_el (P := fun u v => wpX_slot (fun r => wpY_slot (fun r' => r' = r ∧ i_Rel (k + 4) u v) v v1 v2) u v1 v2) I ?_ ?_
  · intro pl sl ol n fn dp sealed ops opB opA target handler level entry blocks sa c ou st val host kinds masks asleep out rem pcx slots rx cx cells vars pcy cy ry px py hl hs H hz h
    exact vc_slot (P := fun r' r => r' = r ∧ i_Rel (k + 4) (mk_X ((nI pl), (nI sl), (nI ol), (nI n), (nI fn), sealed, ops, opB) ((nI dp), opA, target, handler, level, entry, blocks) ((nI c), (nI ou), st, val, host, kinds, masks, asleep, out) (rem, pcx, slots, rx, cx, cells) px) (mk_Y ((nI pl), (nI sl), (nI ol), (nI n), (nI fn), sealed, ops, opB) sa ((nI c), (nI ou), st, val, host, kinds, masks, asleep, out) (vars, pcy, cy, ry) py)) hl.2.1 h (fun x => ⟨rfl, i_mkU hl hs H hz (rn_mk (rn_up h (by omega) (by omega)))⟩) v1 v2
  · intro pl sl ol n fn dp sealed ops opB opA target handler level entry blocks sa c ou st val host kinds masks asleep out rem pcx slots rx cx cells vars pcy cy ry px py hl hs SP h
    exact vc_slot (P := fun r' r => r' = r ∧ i_Rel (k + 4) (mk_X ((nI pl), (nI sl), (nI ol), (nI n), (nI fn), sealed, ops, opB) ((nI dp), opA, target, handler, level, entry, blocks) ((nI c), (nI ou), st, val, host, kinds, masks, asleep, out) (rem, pcx, slots, rx, cx, cells) px) (mk_Y ((nI pl), (nI sl), (nI ol), (nI n), (nI fn), sealed, ops, opB) sa ((nI c), (nI ou), st, val, host, kinds, masks, asleep, out) (vars, pcy, cy, ry) py)) hl.2.1 h (fun x => ⟨rfl, i_mkS hl hs SP (rn_mk (rn_up h (by omega) (by omega)))⟩) v1 v2
theorem i_vc_queued {k : Nat} {u : SX} {v : SY} (I : i_Rel k u v) (hk : k + 4 ≤ 2051) : wpX_queued (fun r => wpY_queued (fun r' => r' = r ∧ i_Rel (k + 4) u v) v) u := by
  refine i_el (P := fun u v => wpX_queued (fun r => wpY_queued (fun r' => r' = r ∧ i_Rel (k + 4) u v) v) u) I ?_ ?_
  · intro pl sl ol n fn dp sealed ops opB opA target handler level entry blocks sa c ou st val host kinds masks asleep out rem pcx slots rx cx cells vars pcy cy ry px py hl hs H hz h
    exact vc_queued (P := fun r' r => r' = r ∧ i_Rel (k + 4) (mk_X ((nI pl), (nI sl), (nI ol), (nI n), (nI fn), sealed, ops, opB) ((nI dp), opA, target, handler, level, entry, blocks) ((nI c), (nI ou), st, val, host, kinds, masks, asleep, out) (rem, pcx, slots, rx, cx, cells) px) (mk_Y ((nI pl), (nI sl), (nI ol), (nI n), (nI fn), sealed, ops, opB) sa ((nI c), (nI ou), st, val, host, kinds, masks, asleep, out) (vars, pcy, cy, ry) py)) h (fun x => ⟨rfl, i_mkU hl hs H hz (rn_mk (rn_up h (by omega) (by omega)))⟩)
  · intro pl sl ol n fn dp sealed ops opB opA target handler level entry blocks sa c ou st val host kinds masks asleep out rem pcx slots rx cx cells vars pcy cy ry px py hl hs SP h
    exact vc_queued (P := fun r' r => r' = r ∧ i_Rel (k + 4) (mk_X ((nI pl), (nI sl), (nI ol), (nI n), (nI fn), sealed, ops, opB) ((nI dp), opA, target, handler, level, entry, blocks) ((nI c), (nI ou), st, val, host, kinds, masks, asleep, out) (rem, pcx, slots, rx, cx, cells) px) (mk_Y ((nI pl), (nI sl), (nI ol), (nI n), (nI fn), sealed, ops, opB) sa ((nI c), (nI ou), st, val, host, kinds, masks, asleep, out) (vars, pcy, cy, ry) py)) h (fun x => ⟨rfl, i_mkS hl hs SP (rn_mk (rn_up h (by omega) (by omega)))⟩)
theorem i_vc_printed {k : Nat} {u : SX} {v : SY} (I : i_Rel k u v) (hk : k + 4 ≤ 2051) : wpX_printed (fun r => wpY_printed (fun r' => r' = r ∧ i_Rel (k + 4) u v) v) u := by
  refine i_el (P := fun u v => wpX_printed (fun r => wpY_printed (fun r' => r' = r ∧ i_Rel (k + 4) u v) v) u) I ?_ ?_
  · intro pl sl ol n fn dp sealed ops opB opA target handler level entry blocks sa c ou st val host kinds masks asleep out rem pcx slots rx cx cells vars pcy cy ry px py hl hs H hz h
    exact vc_printed (P := fun r' r => r' = r ∧ i_Rel (k + 4) (mk_X ((nI pl), (nI sl), (nI ol), (nI n), (nI fn), sealed, ops, opB) ((nI dp), opA, target, handler, level, entry, blocks) ((nI c), (nI ou), st, val, host, kinds, masks, asleep, out) (rem, pcx, slots, rx, cx, cells) px) (mk_Y ((nI pl), (nI sl), (nI ol), (nI n), (nI fn), sealed, ops, opB) sa ((nI c), (nI ou), st, val, host, kinds, masks, asleep, out) (vars, pcy, cy, ry) py)) (fun x => ⟨rfl, i_mkU hl hs H hz (rn_mk (rn_up h (by omega) (by omega)))⟩)
  · intro pl sl ol n fn dp sealed ops opB opA target handler level entry blocks sa c ou st val host kinds masks asleep out rem pcx slots rx cx cells vars pcy cy ry px py hl hs SP h
    exact vc_printed (P := fun r' r => r' = r ∧ i_Rel (k + 4) (mk_X ((nI pl), (nI sl), (nI ol), (nI n), (nI fn), sealed, ops, opB) ((nI dp), opA, target, handler, level, entry, blocks) ((nI c), (nI ou), st, val, host, kinds, masks, asleep, out) (rem, pcx, slots, rx, cx, cells) px) (mk_Y ((nI pl), (nI sl), (nI ol), (nI n), (nI fn), sealed, ops, opB) sa ((nI c), (nI ou), st, val, host, kinds, masks, asleep, out) (vars, pcy, cy, ry) py)) (fun x => ⟨rfl, i_mkS hl hs SP (rn_mk (rn_up h (by omega) (by omega)))⟩)
theorem i_vc_print {k : Nat} {u : SX} {v : SY} (I : i_Rel k u v) (hk : k + 4 ≤ 2051) (v1 : Int32) : wpX_print (fun r => wpY_print (fun r' => r' = r ∧ i_Rel (k + 4) u v) v v1) u v1 := by
  refine i_el (P := fun u v => wpX_print (fun r => wpY_print (fun r' => r' = r ∧ i_Rel (k + 4) u v) v v1) u v1) I ?_ ?_
  · intro pl sl ol n fn dp sealed ops opB opA target handler level entry blocks sa c ou st val host kinds masks asleep out rem pcx slots rx cx cells vars pcy cy ry px py hl hs H hz h
    exact vc_print (P := fun r' r => r' = r ∧ i_Rel (k + 4) (mk_X ((nI pl), (nI sl), (nI ol), (nI n), (nI fn), sealed, ops, opB) ((nI dp), opA, target, handler, level, entry, blocks) ((nI c), (nI ou), st, val, host, kinds, masks, asleep, out) (rem, pcx, slots, rx, cx, cells) px) (mk_Y ((nI pl), (nI sl), (nI ol), (nI n), (nI fn), sealed, ops, opB) sa ((nI c), (nI ou), st, val, host, kinds, masks, asleep, out) (vars, pcy, cy, ry) py)) hl.2.2.2.2.2.1 h (fun x => ⟨rfl, i_mkU hl hs H hz (rn_mk (rn_up h (by omega) (by omega)))⟩) v1
  · intro pl sl ol n fn dp sealed ops opB opA target handler level entry blocks sa c ou st val host kinds masks asleep out rem pcx slots rx cx cells vars pcy cy ry px py hl hs SP h
    exact vc_print (P := fun r' r => r' = r ∧ i_Rel (k + 4) (mk_X ((nI pl), (nI sl), (nI ol), (nI n), (nI fn), sealed, ops, opB) ((nI dp), opA, target, handler, level, entry, blocks) ((nI c), (nI ou), st, val, host, kinds, masks, asleep, out) (rem, pcx, slots, rx, cx, cells) px) (mk_Y ((nI pl), (nI sl), (nI ol), (nI n), (nI fn), sealed, ops, opB) sa ((nI c), (nI ou), st, val, host, kinds, masks, asleep, out) (vars, pcy, cy, ry) py)) hl.2.2.2.2.2.1 h (fun x => ⟨rfl, i_mkS hl hs SP (rn_mk (rn_up h (by omega) (by omega)))⟩) v1
end
