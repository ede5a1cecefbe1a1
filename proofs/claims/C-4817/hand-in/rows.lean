section
/-! pure rows to paste: stores, nI and lN arithmetic, masks, shifts, narrowing, branches by naturals (pk_le, pk_lt, pk_eq), loops (lp1 .. lp16: the measure of the state; rp1 ..: recursion), negatives. Take what you need -/
theorem pk_us {f : Nat → Int32} {k : Nat} {x : Int32} : upd f k x k = x := if_pos rfl
theorem pk_un {f : Nat → Int32} {k j : Nat} {x : Int32} (h : j ≠ k) : upd f k x j = f j := if_neg h
theorem pk_uLs {f : Nat → Int64} {k : Nat} {x : Int64} : vp_updL f k x k = x := if_pos rfl
theorem pk_uLn {f : Nat → Int64} {k j : Nat} {x : Int64} (h : j ≠ k) : vp_updL f k x j = f j := if_neg h
theorem pk_sub {a b : Nat} (h : b ≤ a) : nI a - nI b = nI (a - b) := by
  obtain ⟨c, rfl⟩ : ∃ c, a = c + b := ⟨a - b, by omega⟩
  rw [← nI_add, Int32.add_sub_cancel, Nat.add_sub_cancel]
theorem pk_m1 (n : Nat) : nI (n + 1) + (-1) = nI n := by
  rw [← nI_1, Int32.add_assoc, show (1 : Int32) + (-1) = 0 from rfl, Int32.add_zero]
theorem pk_mul (a b : Nat) : nI a * nI b = nI (a * b) := (Int32.ofNat_mul a b).symm
theorem pk_div {a d : Nat} (ha : a < 2 ^ 31) (h0 : 0 < d) (hd : d < 2 ^ 31) : nI a / nI d = nI (a / d) := by
  apply Int32.toInt_inj.mp
  rw [lg_idiv_nonneg (by rw [nI_toInt ha]; omega) (by rw [nI_toInt hd]; omega), nI_toInt ha, nI_toInt hd, nI_toInt (Nat.lt_of_le_of_lt (Nat.div_le_self a d) ha)]
  first | rfl | exact (Int.natCast_ediv _ _).symm
theorem pk_rem {a d : Nat} (ha : a < 2 ^ 31) (h0 : 0 < d) (hd : d < 2 ^ 31) : nI a - nI a / nI d * nI d = nI (a % d) := by
  rw [pk_div ha h0 hd, pk_mul, pk_sub (Nat.div_mul_le_self a d)]
  exact congrArg nI (by have := Nat.div_add_mod' a d; omega)
theorem pk_sub_toInt {a b : Nat} (ha : a < 2 ^ 30) (hb : b < 2 ^ 30) : (nI a - nI b).toInt = (a : Int) - b := by
  rw [Int32.toInt_sub, nI_toInt (by omega), nI_toInt (by omega)]
  exact Int.bmod_eq_of_le (by omega) (by omega)
theorem pk_sneg {a b : Nat} (hb : b < 2 ^ 30) (h : a < b) : nI a - nI b < 0 := by
  rw [Int32.lt_iff_toInt_lt, pk_sub_toInt (by omega) hb, show (0 : Int32).toInt = 0 from by decide]
  omega
theorem pk_ix (x : Int32) {n : Nat} (hn : n < 2 ^ 31) : x < 0 ∨ nI n ≤ x ∨ ∃ j : Nat, j < n ∧ x = nI j := by
  by_cases h : x < 0
  · exact Or.inl h
  · obtain ⟨j, hj, rfl⟩ := nI_of h
    by_cases h2 : j < n
    · exact Or.inr (Or.inr ⟨j, h2, rfl⟩)
    · exact Or.inr (Or.inl (nI_le (by omega) hj))
theorem pk_le {x y : Int32} {A B : Prop} (a b : Nat) (f : a ≤ b → A) (g : b < a → B) (hx : x = nI a := by rfl) (hy : y = nI b := by rfl) (ha : a < 2 ^ 31 := by omega) (hb : b < 2 ^ 31 := by omega) : (x ≤ y → A) ∧ (¬ x ≤ y → B) := by
  subst hx hy
  rw [nI_leI ha hb]
  exact ⟨f, fun z => g (by omega)⟩
theorem pk_lt {x y : Int32} {A B : Prop} (a b : Nat) (f : a < b → A) (g : b ≤ a → B) (hx : x = nI a := by rfl) (hy : y = nI b := by rfl) (ha : a < 2 ^ 31 := by omega) (hb : b < 2 ^ 31 := by omega) : (x < y → A) ∧ (¬ x < y → B) := by
  subst hx hy
  rw [nI_ltI ha hb]
  exact ⟨f, fun z => g (by omega)⟩
theorem pk_eq {x y : Int32} {A B : Prop} (a b : Nat) (f : a = b → A) (g : a ≠ b → B) (hx : x = nI a := by rfl) (hy : y = nI b := by rfl) (ha : a < 2 ^ 31 := by omega) (hb : b < 2 ^ 31 := by omega) : (x = y → A) ∧ (¬ x = y → B) := by
  subst hx hy
  rw [nI_eq ha hb]
  exact ⟨f, g⟩
theorem pk_in {x : Int32} (n N : Nat) (h : n < N) (hx : x = nI n := by rfl) (hN : N < 2 ^ 31 := by omega) : vp_in x N := by
  subst hx
  exact vp_in_nI h hN
theorem pk_cl {x : Int32} (n : Nat) (hx : x = nI n := by rfl) (h : n < 2 ^ 31 := by omega) : x.toNatClampNeg = n := by
  subst hx
  exact nI_clamp h
theorem pk_tn {n : Nat} (h : n < 2 ^ 32) : (nI n).toBitVec.toNat = n := Nat.mod_eq_of_lt h
theorem pk_and (x : Int32) {m : Int32} (k : Nat) (hm : m.toBitVec.toNat = 2 ^ k - 1) : x &&& m = nI (x.toBitVec.toNat % 2 ^ k) := by
  apply Int32.toBitVec_inj.mp
  apply BitVec.eq_of_toNat_eq
  rw [Int32.toBitVec_and, BitVec.toNat_and, hm, Nat.and_two_pow_sub_one_eq_mod]
  show _ = (BitVec.ofNat 32 _).toNat
  rw [BitVec.toNat_ofNat]
  exact (Nat.mod_eq_of_lt (Nat.lt_of_le_of_lt (Nat.mod_le _ _) x.toBitVec.isLt)).symm
theorem pk_andN {n : Nat} (h : n < 2 ^ 32) {m : Int32} (k : Nat) (hm : m.toBitVec.toNat = 2 ^ k - 1) : nI n &&& m = nI (n % 2 ^ k) := by
  rw [pk_and _ k hm, pk_tn h]
theorem pk_andE (x : Int32) {m : Int32} (k : Nat) (hm : m.toBitVec.toNat = 2 ^ k - 1) : ∃ j : Nat, j < 2 ^ k ∧ x &&& m = nI j := ⟨_, Nat.mod_lt _ (Nat.two_pow_pos k), pk_and x k hm⟩
theorem pk_andIn (x : Int32) {m : Int32} (k : Nat) (hm : m.toBitVec.toNat = 2 ^ k - 1) (hk : k ≤ 30) : vp_in (x &&& m) (2 ^ k) := by
  obtain ⟨j, hj, e⟩ := pk_andE x k hm
  rw [e]
  exact vp_in_nI hj (Nat.lt_of_le_of_lt (Nat.pow_le_pow_right (by decide) hk) (by decide))
theorem pk_shl (a s : Int32) (k : Nat) (hs : (s.toBitVec.smod 32).toNat = k) : (a <<< s).toBitVec.toNat = a.toBitVec.toNat * 2 ^ k % 2 ^ 32 := by
  show (a.toBitVec <<< (s.toBitVec.smod 32).toNat).toNat = _
  rw [hs, BitVec.toNat_shiftLeft, Nat.shiftLeft_eq]
theorem pk_shlN {n : Nat} (s : Int32) (k : Nat) (hs : (s.toBitVec.smod 32).toNat = k) (h : n * 2 ^ k < 2 ^ 32) : nI n <<< s = nI (n * 2 ^ k) := by
  apply Int32.toBitVec_inj.mp
  apply BitVec.eq_of_toNat_eq
  have hn : n < 2 ^ 32 := Nat.lt_of_le_of_lt (Nat.le_mul_of_pos_right n (Nat.two_pow_pos k)) h
  rw [pk_shl _ _ k hs, pk_tn hn, pk_tn h, Nat.mod_eq_of_lt h]
theorem pk_shr (a s : Int32) (k : Nat) (hs : (s.toBitVec.smod 32).toNat = k) : (a >>> s).toInt = a.toInt >>> k := by
  show (a.toBitVec.sshiftRight (s.toBitVec.smod 32).toNat).toInt = _
  rw [hs, BitVec.toInt_sshiftRight]
  rfl
theorem pk_shrN {n : Nat} (h : n < 2 ^ 31) (s : Int32) (k : Nat) (hs : (s.toBitVec.smod 32).toNat = k) : nI n >>> s = nI (n / 2 ^ k) := by
  apply Int32.toInt_inj.mp
  have h2 : n / 2 ^ k ≤ n := Nat.div_le_self _ _
  rw [pk_shr _ _ k hs, nI_toInt h, nI_toInt (by omega), Int.shiftRight_eq_div_pow]
  rfl
theorem pk_ushr (x s : Int32) (k : Nat) (hs : ((s.toUInt32 &&& Int32.toUInt32 31).toBitVec % 32).toNat = k) : (x.toUInt32 >>> (s.toUInt32 &&& Int32.toUInt32 31)).toInt32.toBitVec.toNat = x.toBitVec.toNat / 2 ^ k := by
  have e : (x.toUInt32 >>> (s.toUInt32 &&& Int32.toUInt32 31)).toInt32.toBitVec = x.toBitVec >>> k := by
    rw [← hs]
    exact UInt32.toBitVec_shiftRight _ _
  rw [e, BitVec.toNat_ushiftRight, Nat.shiftRight_eq_div_pow]
theorem pk_ushrN {n : Nat} (hn : n < 2 ^ 32) (s : Int32) (k : Nat) (hs : ((s.toUInt32 &&& Int32.toUInt32 31).toBitVec % 32).toNat = k) : ((nI n).toUInt32 >>> (s.toUInt32 &&& Int32.toUInt32 31)).toInt32 = nI (n / 2 ^ k) := by
  apply Int32.toBitVec_inj.mp
  apply BitVec.eq_of_toNat_eq
  rw [pk_ushr _ s k hs, pk_tn hn, pk_tn (Nat.lt_of_le_of_lt (Nat.div_le_self _ _) hn)]
theorem pk_nb (z : Int32) : narrow .byte (.int z.toInt8.toInt32) = .int z.toInt8.toInt32 := congrArg Value.int (by simp)
theorem pk_ns (z : Int32) : narrow .short (.int z.toInt16.toInt32) = .int z.toInt16.toInt32 := congrArg Value.int (by simp)
theorem pk_fb (r : Int32) : fits .byte (.int r.toInt8.toInt32) = true := by
  have ⟨a, b⟩ := lg_i2b_range r
  have h1 : (-128 : Int32).toInt = -128 := by decide
  have h2 : (127 : Int32).toInt = 127 := by decide
  simp only [fits, Bool.and_eq_true, decide_eq_true_eq, Int32.le_iff_toInt_le, h1, h2]
  omega
theorem pk_fs (r : Int32) : fits .short (.int r.toInt16.toInt32) = true := by
  have ⟨a, b⟩ := lg_i2s_range r
  have h1 : (-32768 : Int32).toInt = -32768 := by decide
  have h2 : (32767 : Int32).toInt = 32767 := by decide
  simp only [fits, Bool.and_eq_true, decide_eq_true_eq, Int32.le_iff_toInt_le, h1, h2]
  omega
theorem pk_charN {q : Nat} (hq : q < 65536) : narrow .char (.int (nI q)) = .int (nI q) ∧ fits .char (.int (nI q)) = true := by
  constructor
  · have e : (nI q).toUInt32.toUInt16.toUInt32.toInt32 = nI q := by
      apply Int32.toBitVec_inj.mp
      apply BitVec.eq_of_toNat_eq
      show (nI q).toUInt32.toUInt16.toUInt32.toNat = q % 2 ^ 32
      rw [UInt16.toNat_toUInt32, UInt32.toNat_toUInt16, show (nI q).toUInt32.toNat = q % 2 ^ 32 from rfl]
      omega
    exact congrArg Value.int e
  · have a : (0 : Int32) ≤ nI q := nI_pos' (by omega)
    have b : nI q ≤ 65535 := nI_le (b := 65535) (by omega) (by decide)
    show (decide ((0 : Int32) ≤ nI q) && decide (nI q ≤ 65535)) = true
    rw [decide_eq_true a, decide_eq_true b]
    rfl
theorem pk_char (x : Int32) : (x.toUInt32 % 65536).toInt32 = nI (x.toBitVec.toNat % 65536) := by
  apply Int32.toBitVec_inj.mp
  apply BitVec.eq_of_toNat_eq
  rw [pk_tn (by omega)]
  show (x.toUInt32 % 65536).toNat = _
  rw [UInt32.toNat_mod]
  rfl
theorem pk_nc (x : Int32) : narrow .char (.int (x.toUInt32 % 65536).toInt32) = .int (x.toUInt32 % 65536).toInt32 := by
  rw [pk_char]
  exact (pk_charN (Nat.mod_lt _ (by decide))).1
theorem pk_fc (x : Int32) : fits .char (.int (x.toUInt32 % 65536).toInt32) = true := by
  rw [pk_char]
  exact (pk_charN (Nat.mod_lt _ (by decide))).2
theorem pk_vb (z : Int32) : vp_nar .byte z.toInt8.toInt32 = z.toInt8.toInt32 := by rw [vp_nar_byte]; simp
theorem pk_vs (z : Int32) : vp_nar .short z.toInt16.toInt32 = z.toInt16.toInt32 := by rw [vp_nar_short]; simp
theorem pk_vc (z : Int32) : vp_nar .char (z.toUInt32 % 65536).toInt32 = (z.toUInt32 % 65536).toInt32 := Value.int.inj (pk_nc z)
theorem pk_lT {n : Nat} (h : n < 2 ^ 63) : (lN n).toInt = (n : Int) := lg_ofNat_toInt h
theorem pk_lLT {a b : Nat} (ha : a < 2 ^ 63) (hb : b < 2 ^ 63) : lN a < lN b ↔ a < b := by
  rw [Int64.lt_iff_toInt_lt, pk_lT ha, pk_lT hb]; omega
theorem pk_lLE {a b : Nat} (ha : a < 2 ^ 63) (hb : b < 2 ^ 63) : lN a ≤ lN b ↔ a ≤ b := by
  rw [Int64.le_iff_toInt_le, pk_lT ha, pk_lT hb]; omega
theorem pk_lEQ {a b : Nat} (ha : a < 2 ^ 63) (hb : b < 2 ^ 63) : lN a = lN b ↔ a = b := by
  rw [← Int64.toInt_inj, pk_lT ha, pk_lT hb]; omega
theorem pk_lOf {x : Int64} (h : ¬ x < 0) : ∃ k : Nat, k < 2 ^ 63 ∧ x = lN k := by
  rw [Int64.lt_iff_toInt_lt] at h
  have h0 : (0 : Int64).toInt = 0 := by decide
  have hx := Int64.toInt_lt x
  refine ⟨x.toInt.toNat, by omega, Int64.toInt_inj.mp ?_⟩
  rw [pk_lT (by omega)]
  omega
theorem pk_lDiv {a b : Nat} (ha : a < 2 ^ 63) (h0 : 0 < b) (hb : b < 2 ^ 63) : lN a / lN b = lN (a / b) := by
  apply Int64.toInt_inj.mp
  rw [lg_ldiv_nonneg (by rw [pk_lT ha]; omega) (by rw [pk_lT hb]; omega), pk_lT ha, pk_lT hb, pk_lT (Nat.lt_of_le_of_lt (Nat.div_le_self a b) ha)]
  rfl
theorem pk_lRem {a b : Nat} (ha : a < 2 ^ 63) (h0 : 0 < b) (hb : b < 2 ^ 63) : lN a - lN a / lN b * lN b = lN (a % b) := by
  rw [pk_lDiv ha h0 hb, lN_mul, lN_sub (Nat.div_mul_le_self a b)]
  exact congrArg lN (by have := Nat.div_add_mod' a b; omega)
theorem pk_loop {σ : Type} (W : Nat → Nat → σ → Prop) (I : Nat → σ → Prop) (e i0 : Nat) (s : σ) (hi : i0 ≤ e) (h0 : I i0 s) (hx : ∀ n s, I e s → W (n + 1) e s)
    (hs : ∀ n i s, i < e → I i s → (∀ s', I (i + 1) s' → W n (i + 1) s') → W (n + 1) i s) : ∃ n, W n i0 s :=
  ⟨e + 1, loop_i W I e hx hs (e + 1) i0 s hi (by omega) h0⟩
theorem pk_loopD {σ : Type} (W : Nat → Nat → σ → Prop) (I : Nat → σ → Prop) (hx : ∀ n s, I 0 s → W (n + 1) 0 s)
    (hs : ∀ n i s, I (i + 1) s → (∀ s', I i s' → W n i s') → W (n + 1) (i + 1) s) : ∀ (e : Nat) (s : σ), I e s → W (e + 1) e s := by
  intro e
  induction e with
  | zero => exact fun s h => hx 0 s h
  | succ e ih => exact fun s h => hs (e + 1) e s h (fun s' h' => ih s' h')
theorem lp1 {A1 : Type} (W : Nat → A1 → Prop) (I : A1 → Prop) (μ : A1 → Nat) (hs : ∀ (n : Nat) (a1 : A1), I a1 → (∀ (b1 : A1), I b1 → μ b1 < μ a1 → W n b1) → W (n + 1) a1) (a1 : A1) (h : I a1) : ∃ n, W n a1 :=
  loop_m (σ := A1) (fun n s => W n s) (fun s => I s) (fun s => μ s) (fun n s hI hk => hs n s hI (fun b1 h9 hm => hk b1 h9 hm)) a1 h
theorem lp2 {A1 A2 : Type} (W : Nat → A1 → A2 → Prop) (I : A1 → A2 → Prop) (μ : A1 → A2 → Nat) (hs : ∀ (n : Nat) (a1 : A1) (a2 : A2), I a1 a2 → (∀ (b1 : A1) (b2 : A2), I b1 b2 → μ b1 b2 < μ a1 a2 → W n b1 b2) → W (n + 1) a1 a2) (a1 : A1) (a2 : A2) (h : I a1 a2) : ∃ n, W n a1 a2 :=
  loop_m (σ := A1 × A2) (fun n s => W n s.1 s.2) (fun s => I s.1 s.2) (fun s => μ s.1 s.2) (fun n s hI hk => hs n s.1 s.2 hI (fun b1 b2 h9 hm => hk (b1, b2) h9 hm)) (a1, a2) h
theorem lp3 {A1 A2 A3 : Type} (W : Nat → A1 → A2 → A3 → Prop) (I : A1 → A2 → A3 → Prop) (μ : A1 → A2 → A3 → Nat) (hs : ∀ (n : Nat) (a1 : A1) (a2 : A2) (a3 : A3), I a1 a2 a3 → (∀ (b1 : A1) (b2 : A2) (b3 : A3), I b1 b2 b3 → μ b1 b2 b3 < μ a1 a2 a3 → W n b1 b2 b3) → W (n + 1) a1 a2 a3) (a1 : A1) (a2 : A2) (a3 : A3) (h : I a1 a2 a3) : ∃ n, W n a1 a2 a3 :=
  loop_m (σ := A1 × A2 × A3) (fun n s => W n s.1 s.2.1 s.2.2) (fun s => I s.1 s.2.1 s.2.2) (fun s => μ s.1 s.2.1 s.2.2) (fun n s hI hk => hs n s.1 s.2.1 s.2.2 hI (fun b1 b2 b3 h9 hm => hk (b1, b2, b3) h9 hm)) (a1, a2, a3) h
theorem lp4 {A1 A2 A3 A4 : Type} (W : Nat → A1 → A2 → A3 → A4 → Prop) (I : A1 → A2 → A3 → A4 → Prop) (μ : A1 → A2 → A3 → A4 → Nat) (hs : ∀ (n : Nat) (a1 : A1) (a2 : A2) (a3 : A3) (a4 : A4), I a1 a2 a3 a4 → (∀ (b1 : A1) (b2 : A2) (b3 : A3) (b4 : A4), I b1 b2 b3 b4 → μ b1 b2 b3 b4 < μ a1 a2 a3 a4 → W n b1 b2 b3 b4) → W (n + 1) a1 a2 a3 a4) (a1 : A1) (a2 : A2) (a3 : A3) (a4 : A4) (h : I a1 a2 a3 a4) : ∃ n, W n a1 a2 a3 a4 :=
  loop_m (σ := A1 × A2 × A3 × A4) (fun n s => W n s.1 s.2.1 s.2.2.1 s.2.2.2) (fun s => I s.1 s.2.1 s.2.2.1 s.2.2.2) (fun s => μ s.1 s.2.1 s.2.2.1 s.2.2.2) (fun n s hI hk => hs n s.1 s.2.1 s.2.2.1 s.2.2.2 hI (fun b1 b2 b3 b4 h9 hm => hk (b1, b2, b3, b4) h9 hm)) (a1, a2, a3, a4) h
theorem lp5 {A1 A2 A3 A4 A5 : Type} (W : Nat → A1 → A2 → A3 → A4 → A5 → Prop) (I : A1 → A2 → A3 → A4 → A5 → Prop) (μ : A1 → A2 → A3 → A4 → A5 → Nat) (hs : ∀ (n : Nat) (a1 : A1) (a2 : A2) (a3 : A3) (a4 : A4) (a5 : A5), I a1 a2 a3 a4 a5 → (∀ (b1 : A1) (b2 : A2) (b3 : A3) (b4 : A4) (b5 : A5), I b1 b2 b3 b4 b5 → μ b1 b2 b3 b4 b5 < μ a1 a2 a3 a4 a5 → W n b1 b2 b3 b4 b5) → W (n + 1) a1 a2 a3 a4 a5) (a1 : A1) (a2 : A2) (a3 : A3) (a4 : A4) (a5 : A5) (h : I a1 a2 a3 a4 a5) : ∃ n, W n a1 a2 a3 a4 a5 :=
  loop_m (σ := A1 × A2 × A3 × A4 × A5) (fun n s => W n s.1 s.2.1 s.2.2.1 s.2.2.2.1 s.2.2.2.2) (fun s => I s.1 s.2.1 s.2.2.1 s.2.2.2.1 s.2.2.2.2) (fun s => μ s.1 s.2.1 s.2.2.1 s.2.2.2.1 s.2.2.2.2) (fun n s hI hk => hs n s.1 s.2.1 s.2.2.1 s.2.2.2.1 s.2.2.2.2 hI (fun b1 b2 b3 b4 b5 h9 hm => hk (b1, b2, b3, b4, b5) h9 hm)) (a1, a2, a3, a4, a5) h
theorem lp6 {A1 A2 A3 A4 A5 A6 : Type} (W : Nat → A1 → A2 → A3 → A4 → A5 → A6 → Prop) (I : A1 → A2 → A3 → A4 → A5 → A6 → Prop) (μ : A1 → A2 → A3 → A4 → A5 → A6 → Nat) (hs : ∀ (n : Nat) (a1 : A1) (a2 : A2) (a3 : A3) (a4 : A4) (a5 : A5) (a6 : A6), I a1 a2 a3 a4 a5 a6 → (∀ (b1 : A1) (b2 : A2) (b3 : A3) (b4 : A4) (b5 : A5) (b6 : A6), I b1 b2 b3 b4 b5 b6 → μ b1 b2 b3 b4 b5 b6 < μ a1 a2 a3 a4 a5 a6 → W n b1 b2 b3 b4 b5 b6) → W (n + 1) a1 a2 a3 a4 a5 a6) (a1 : A1) (a2 : A2) (a3 : A3) (a4 : A4) (a5 : A5) (a6 : A6) (h : I a1 a2 a3 a4 a5 a6) : ∃ n, W n a1 a2 a3 a4 a5 a6 :=
  loop_m (σ := A1 × A2 × A3 × A4 × A5 × A6) (fun n s => W n s.1 s.2.1 s.2.2.1 s.2.2.2.1 s.2.2.2.2.1 s.2.2.2.2.2) (fun s => I s.1 s.2.1 s.2.2.1 s.2.2.2.1 s.2.2.2.2.1 s.2.2.2.2.2) (fun s => μ s.1 s.2.1 s.2.2.1 s.2.2.2.1 s.2.2.2.2.1 s.2.2.2.2.2) (fun n s hI hk => hs n s.1 s.2.1 s.2.2.1 s.2.2.2.1 s.2.2.2.2.1 s.2.2.2.2.2 hI (fun b1 b2 b3 b4 b5 b6 h9 hm => hk (b1, b2, b3, b4, b5, b6) h9 hm)) (a1, a2, a3, a4, a5, a6) h
theorem lp7 {A1 A2 A3 A4 A5 A6 A7 : Type} (W : Nat → A1 → A2 → A3 → A4 → A5 → A6 → A7 → Prop) (I : A1 → A2 → A3 → A4 → A5 → A6 → A7 → Prop) (μ : A1 → A2 → A3 → A4 → A5 → A6 → A7 → Nat) (hs : ∀ (n : Nat) (a1 : A1) (a2 : A2) (a3 : A3) (a4 : A4) (a5 : A5) (a6 : A6) (a7 : A7), I a1 a2 a3 a4 a5 a6 a7 → (∀ (b1 : A1) (b2 : A2) (b3 : A3) (b4 : A4) (b5 : A5) (b6 : A6) (b7 : A7), I b1 b2 b3 b4 b5 b6 b7 → μ b1 b2 b3 b4 b5 b6 b7 < μ a1 a2 a3 a4 a5 a6 a7 → W n b1 b2 b3 b4 b5 b6 b7) → W (n + 1) a1 a2 a3 a4 a5 a6 a7) (a1 : A1) (a2 : A2) (a3 : A3) (a4 : A4) (a5 : A5) (a6 : A6) (a7 : A7) (h : I a1 a2 a3 a4 a5 a6 a7) : ∃ n, W n a1 a2 a3 a4 a5 a6 a7 :=
  loop_m (σ := A1 × A2 × A3 × A4 × A5 × A6 × A7) (fun n s => W n s.1 s.2.1 s.2.2.1 s.2.2.2.1 s.2.2.2.2.1 s.2.2.2.2.2.1 s.2.2.2.2.2.2) (fun s => I s.1 s.2.1 s.2.2.1 s.2.2.2.1 s.2.2.2.2.1 s.2.2.2.2.2.1 s.2.2.2.2.2.2) (fun s => μ s.1 s.2.1 s.2.2.1 s.2.2.2.1 s.2.2.2.2.1 s.2.2.2.2.2.1 s.2.2.2.2.2.2) (fun n s hI hk => hs n s.1 s.2.1 s.2.2.1 s.2.2.2.1 s.2.2.2.2.1 s.2.2.2.2.2.1 s.2.2.2.2.2.2 hI (fun b1 b2 b3 b4 b5 b6 b7 h9 hm => hk (b1, b2, b3, b4, b5, b6, b7) h9 hm)) (a1, a2, a3, a4, a5, a6, a7) h
theorem lp8 {A1 A2 A3 A4 A5 A6 A7 A8 : Type} (W : Nat → A1 → A2 → A3 → A4 → A5 → A6 → A7 → A8 → Prop) (I : A1 → A2 → A3 → A4 → A5 → A6 → A7 → A8 → Prop) (μ : A1 → A2 → A3 → A4 → A5 → A6 → A7 → A8 → Nat) (hs : ∀ (n : Nat) (a1 : A1) (a2 : A2) (a3 : A3) (a4 : A4) (a5 : A5) (a6 : A6) (a7 : A7) (a8 : A8), I a1 a2 a3 a4 a5 a6 a7 a8 → (∀ (b1 : A1) (b2 : A2) (b3 : A3) (b4 : A4) (b5 : A5) (b6 : A6) (b7 : A7) (b8 : A8), I b1 b2 b3 b4 b5 b6 b7 b8 → μ b1 b2 b3 b4 b5 b6 b7 b8 < μ a1 a2 a3 a4 a5 a6 a7 a8 → W n b1 b2 b3 b4 b5 b6 b7 b8) → W (n + 1) a1 a2 a3 a4 a5 a6 a7 a8) (a1 : A1) (a2 : A2) (a3 : A3) (a4 : A4) (a5 : A5) (a6 : A6) (a7 : A7) (a8 : A8) (h : I a1 a2 a3 a4 a5 a6 a7 a8) : ∃ n, W n a1 a2 a3 a4 a5 a6 a7 a8 :=
  loop_m (σ := A1 × A2 × A3 × A4 × A5 × A6 × A7 × A8) (fun n s => W n s.1 s.2.1 s.2.2.1 s.2.2.2.1 s.2.2.2.2.1 s.2.2.2.2.2.1 s.2.2.2.2.2.2.1 s.2.2.2.2.2.2.2) (fun s => I s.1 s.2.1 s.2.2.1 s.2.2.2.1 s.2.2.2.2.1 s.2.2.2.2.2.1 s.2.2.2.2.2.2.1 s.2.2.2.2.2.2.2) (fun s => μ s.1 s.2.1 s.2.2.1 s.2.2.2.1 s.2.2.2.2.1 s.2.2.2.2.2.1 s.2.2.2.2.2.2.1 s.2.2.2.2.2.2.2) (fun n s hI hk => hs n s.1 s.2.1 s.2.2.1 s.2.2.2.1 s.2.2.2.2.1 s.2.2.2.2.2.1 s.2.2.2.2.2.2.1 s.2.2.2.2.2.2.2 hI (fun b1 b2 b3 b4 b5 b6 b7 b8 h9 hm => hk (b1, b2, b3, b4, b5, b6, b7, b8) h9 hm)) (a1, a2, a3, a4, a5, a6, a7, a8) h
theorem lp9 {A1 A2 A3 A4 A5 A6 A7 A8 A9 : Type} (W : Nat → A1 → A2 → A3 → A4 → A5 → A6 → A7 → A8 → A9 → Prop) (I : A1 → A2 → A3 → A4 → A5 → A6 → A7 → A8 → A9 → Prop) (μ : A1 → A2 → A3 → A4 → A5 → A6 → A7 → A8 → A9 → Nat) (hs : ∀ (n : Nat) (a1 : A1) (a2 : A2) (a3 : A3) (a4 : A4) (a5 : A5) (a6 : A6) (a7 : A7) (a8 : A8) (a9 : A9), I a1 a2 a3 a4 a5 a6 a7 a8 a9 → (∀ (b1 : A1) (b2 : A2) (b3 : A3) (b4 : A4) (b5 : A5) (b6 : A6) (b7 : A7) (b8 : A8) (b9 : A9), I b1 b2 b3 b4 b5 b6 b7 b8 b9 → μ b1 b2 b3 b4 b5 b6 b7 b8 b9 < μ a1 a2 a3 a4 a5 a6 a7 a8 a9 → W n b1 b2 b3 b4 b5 b6 b7 b8 b9) → W (n + 1) a1 a2 a3 a4 a5 a6 a7 a8 a9) (a1 : A1) (a2 : A2) (a3 : A3) (a4 : A4) (a5 : A5) (a6 : A6) (a7 : A7) (a8 : A8) (a9 : A9) (h : I a1 a2 a3 a4 a5 a6 a7 a8 a9) : ∃ n, W n a1 a2 a3 a4 a5 a6 a7 a8 a9 :=
  loop_m (σ := A1 × A2 × A3 × A4 × A5 × A6 × A7 × A8 × A9) (fun n s => W n s.1 s.2.1 s.2.2.1 s.2.2.2.1 s.2.2.2.2.1 s.2.2.2.2.2.1 s.2.2.2.2.2.2.1 s.2.2.2.2.2.2.2.1 s.2.2.2.2.2.2.2.2) (fun s => I s.1 s.2.1 s.2.2.1 s.2.2.2.1 s.2.2.2.2.1 s.2.2.2.2.2.1 s.2.2.2.2.2.2.1 s.2.2.2.2.2.2.2.1 s.2.2.2.2.2.2.2.2) (fun s => μ s.1 s.2.1 s.2.2.1 s.2.2.2.1 s.2.2.2.2.1 s.2.2.2.2.2.1 s.2.2.2.2.2.2.1 s.2.2.2.2.2.2.2.1 s.2.2.2.2.2.2.2.2) (fun n s hI hk => hs n s.1 s.2.1 s.2.2.1 s.2.2.2.1 s.2.2.2.2.1 s.2.2.2.2.2.1 s.2.2.2.2.2.2.1 s.2.2.2.2.2.2.2.1 s.2.2.2.2.2.2.2.2 hI (fun b1 b2 b3 b4 b5 b6 b7 b8 b9 h9 hm => hk (b1, b2, b3, b4, b5, b6, b7, b8, b9) h9 hm)) (a1, a2, a3, a4, a5, a6, a7, a8, a9) h
theorem lp10 {A1 A2 A3 A4 A5 A6 A7 A8 A9 A10 : Type} (W : Nat → A1 → A2 → A3 → A4 → A5 → A6 → A7 → A8 → A9 → A10 → Prop) (I : A1 → A2 → A3 → A4 → A5 → A6 → A7 → A8 → A9 → A10 → Prop) (μ : A1 → A2 → A3 → A4 → A5 → A6 → A7 → A8 → A9 → A10 → Nat) (hs : ∀ (n : Nat) (a1 : A1) (a2 : A2) (a3 : A3) (a4 : A4) (a5 : A5) (a6 : A6) (a7 : A7) (a8 : A8) (a9 : A9) (a10 : A10), I a1 a2 a3 a4 a5 a6 a7 a8 a9 a10 → (∀ (b1 : A1) (b2 : A2) (b3 : A3) (b4 : A4) (b5 : A5) (b6 : A6) (b7 : A7) (b8 : A8) (b9 : A9) (b10 : A10), I b1 b2 b3 b4 b5 b6 b7 b8 b9 b10 → μ b1 b2 b3 b4 b5 b6 b7 b8 b9 b10 < μ a1 a2 a3 a4 a5 a6 a7 a8 a9 a10 → W n b1 b2 b3 b4 b5 b6 b7 b8 b9 b10) → W (n + 1) a1 a2 a3 a4 a5 a6 a7 a8 a9 a10) (a1 : A1) (a2 : A2) (a3 : A3) (a4 : A4) (a5 : A5) (a6 : A6) (a7 : A7) (a8 : A8) (a9 : A9) (a10 : A10) (h : I a1 a2 a3 a4 a5 a6 a7 a8 a9 a10) : ∃ n, W n a1 a2 a3 a4 a5 a6 a7 a8 a9 a10 :=
  loop_m (σ := A1 × A2 × A3 × A4 × A5 × A6 × A7 × A8 × A9 × A10) (fun n s => W n s.1 s.2.1 s.2.2.1 s.2.2.2.1 s.2.2.2.2.1 s.2.2.2.2.2.1 s.2.2.2.2.2.2.1 s.2.2.2.2.2.2.2.1 s.2.2.2.2.2.2.2.2.1 s.2.2.2.2.2.2.2.2.2) (fun s => I s.1 s.2.1 s.2.2.1 s.2.2.2.1 s.2.2.2.2.1 s.2.2.2.2.2.1 s.2.2.2.2.2.2.1 s.2.2.2.2.2.2.2.1 s.2.2.2.2.2.2.2.2.1 s.2.2.2.2.2.2.2.2.2) (fun s => μ s.1 s.2.1 s.2.2.1 s.2.2.2.1 s.2.2.2.2.1 s.2.2.2.2.2.1 s.2.2.2.2.2.2.1 s.2.2.2.2.2.2.2.1 s.2.2.2.2.2.2.2.2.1 s.2.2.2.2.2.2.2.2.2) (fun n s hI hk => hs n s.1 s.2.1 s.2.2.1 s.2.2.2.1 s.2.2.2.2.1 s.2.2.2.2.2.1 s.2.2.2.2.2.2.1 s.2.2.2.2.2.2.2.1 s.2.2.2.2.2.2.2.2.1 s.2.2.2.2.2.2.2.2.2 hI (fun b1 b2 b3 b4 b5 b6 b7 b8 b9 b10 h9 hm => hk (b1, b2, b3, b4, b5, b6, b7, b8, b9, b10) h9 hm)) (a1, a2, a3, a4, a5, a6, a7, a8, a9, a10) h
theorem lp11 {A1 A2 A3 A4 A5 A6 A7 A8 A9 A10 A11 : Type} (W : Nat → A1 → A2 → A3 → A4 → A5 → A6 → A7 → A8 → A9 → A10 → A11 → Prop) (I : A1 → A2 → A3 → A4 → A5 → A6 → A7 → A8 → A9 → A10 → A11 → Prop) (μ : A1 → A2 → A3 → A4 → A5 → A6 → A7 → A8 → A9 → A10 → A11 → Nat) (hs : ∀ (n : Nat) (a1 : A1) (a2 : A2) (a3 : A3) (a4 : A4) (a5 : A5) (a6 : A6) (a7 : A7) (a8 : A8) (a9 : A9) (a10 : A10) (a11 : A11), I a1 a2 a3 a4 a5 a6 a7 a8 a9 a10 a11 → (∀ (b1 : A1) (b2 : A2) (b3 : A3) (b4 : A4) (b5 : A5) (b6 : A6) (b7 : A7) (b8 : A8) (b9 : A9) (b10 : A10) (b11 : A11), I b1 b2 b3 b4 b5 b6 b7 b8 b9 b10 b11 → μ b1 b2 b3 b4 b5 b6 b7 b8 b9 b10 b11 < μ a1 a2 a3 a4 a5 a6 a7 a8 a9 a10 a11 → W n b1 b2 b3 b4 b5 b6 b7 b8 b9 b10 b11) → W (n + 1) a1 a2 a3 a4 a5 a6 a7 a8 a9 a10 a11) (a1 : A1) (a2 : A2) (a3 : A3) (a4 : A4) (a5 : A5) (a6 : A6) (a7 : A7) (a8 : A8) (a9 : A9) (a10 : A10) (a11 : A11) (h : I a1 a2 a3 a4 a5 a6 a7 a8 a9 a10 a11) : ∃ n, W n a1 a2 a3 a4 a5 a6 a7 a8 a9 a10 a11 :=
  loop_m (σ := A1 × A2 × A3 × A4 × A5 × A6 × A7 × A8 × A9 × A10 × A11) (fun n s => W n s.1 s.2.1 s.2.2.1 s.2.2.2.1 s.2.2.2.2.1 s.2.2.2.2.2.1 s.2.2.2.2.2.2.1 s.2.2.2.2.2.2.2.1 s.2.2.2.2.2.2.2.2.1 s.2.2.2.2.2.2.2.2.2.1 s.2.2.2.2.2.2.2.2.2.2) (fun s => I s.1 s.2.1 s.2.2.1 s.2.2.2.1 s.2.2.2.2.1 s.2.2.2.2.2.1 s.2.2.2.2.2.2.1 s.2.2.2.2.2.2.2.1 s.2.2.2.2.2.2.2.2.1 s.2.2.2.2.2.2.2.2.2.1 s.2.2.2.2.2.2.2.2.2.2) (fun s => μ s.1 s.2.1 s.2.2.1 s.2.2.2.1 s.2.2.2.2.1 s.2.2.2.2.2.1 s.2.2.2.2.2.2.1 s.2.2.2.2.2.2.2.1 s.2.2.2.2.2.2.2.2.1 s.2.2.2.2.2.2.2.2.2.1 s.2.2.2.2.2.2.2.2.2.2) (fun n s hI hk => hs n s.1 s.2.1 s.2.2.1 s.2.2.2.1 s.2.2.2.2.1 s.2.2.2.2.2.1 s.2.2.2.2.2.2.1 s.2.2.2.2.2.2.2.1 s.2.2.2.2.2.2.2.2.1 s.2.2.2.2.2.2.2.2.2.1 s.2.2.2.2.2.2.2.2.2.2 hI (fun b1 b2 b3 b4 b5 b6 b7 b8 b9 b10 b11 h9 hm => hk (b1, b2, b3, b4, b5, b6, b7, b8, b9, b10, b11) h9 hm)) (a1, a2, a3, a4, a5, a6, a7, a8, a9, a10, a11) h
theorem lp12 {A1 A2 A3 A4 A5 A6 A7 A8 A9 A10 A11 A12 : Type} (W : Nat → A1 → A2 → A3 → A4 → A5 → A6 → A7 → A8 → A9 → A10 → A11 → A12 → Prop) (I : A1 → A2 → A3 → A4 → A5 → A6 → A7 → A8 → A9 → A10 → A11 → A12 → Prop) (μ : A1 → A2 → A3 → A4 → A5 → A6 → A7 → A8 → A9 → A10 → A11 → A12 → Nat) (hs : ∀ (n : Nat) (a1 : A1) (a2 : A2) (a3 : A3) (a4 : A4) (a5 : A5) (a6 : A6) (a7 : A7) (a8 : A8) (a9 : A9) (a10 : A10) (a11 : A11) (a12 : A12), I a1 a2 a3 a4 a5 a6 a7 a8 a9 a10 a11 a12 → (∀ (b1 : A1) (b2 : A2) (b3 : A3) (b4 : A4) (b5 : A5) (b6 : A6) (b7 : A7) (b8 : A8) (b9 : A9) (b10 : A10) (b11 : A11) (b12 : A12), I b1 b2 b3 b4 b5 b6 b7 b8 b9 b10 b11 b12 → μ b1 b2 b3 b4 b5 b6 b7 b8 b9 b10 b11 b12 < μ a1 a2 a3 a4 a5 a6 a7 a8 a9 a10 a11 a12 → W n b1 b2 b3 b4 b5 b6 b7 b8 b9 b10 b11 b12) → W (n + 1) a1 a2 a3 a4 a5 a6 a7 a8 a9 a10 a11 a12) (a1 : A1) (a2 : A2) (a3 : A3) (a4 : A4) (a5 : A5) (a6 : A6) (a7 : A7) (a8 : A8) (a9 : A9) (a10 : A10) (a11 : A11) (a12 : A12) (h : I a1 a2 a3 a4 a5 a6 a7 a8 a9 a10 a11 a12) : ∃ n, W n a1 a2 a3 a4 a5 a6 a7 a8 a9 a10 a11 a12 :=
  loop_m (σ := A1 × A2 × A3 × A4 × A5 × A6 × A7 × A8 × A9 × A10 × A11 × A12) (fun n s => W n s.1 s.2.1 s.2.2.1 s.2.2.2.1 s.2.2.2.2.1 s.2.2.2.2.2.1 s.2.2.2.2.2.2.1 s.2.2.2.2.2.2.2.1 s.2.2.2.2.2.2.2.2.1 s.2.2.2.2.2.2.2.2.2.1 s.2.2.2.2.2.2.2.2.2.2.1 s.2.2.2.2.2.2.2.2.2.2.2) (fun s => I s.1 s.2.1 s.2.2.1 s.2.2.2.1 s.2.2.2.2.1 s.2.2.2.2.2.1 s.2.2.2.2.2.2.1 s.2.2.2.2.2.2.2.1 s.2.2.2.2.2.2.2.2.1 s.2.2.2.2.2.2.2.2.2.1 s.2.2.2.2.2.2.2.2.2.2.1 s.2.2.2.2.2.2.2.2.2.2.2) (fun s => μ s.1 s.2.1 s.2.2.1 s.2.2.2.1 s.2.2.2.2.1 s.2.2.2.2.2.1 s.2.2.2.2.2.2.1 s.2.2.2.2.2.2.2.1 s.2.2.2.2.2.2.2.2.1 s.2.2.2.2.2.2.2.2.2.1 s.2.2.2.2.2.2.2.2.2.2.1 s.2.2.2.2.2.2.2.2.2.2.2) (fun n s hI hk => hs n s.1 s.2.1 s.2.2.1 s.2.2.2.1 s.2.2.2.2.1 s.2.2.2.2.2.1 s.2.2.2.2.2.2.1 s.2.2.2.2.2.2.2.1 s.2.2.2.2.2.2.2.2.1 s.2.2.2.2.2.2.2.2.2.1 s.2.2.2.2.2.2.2.2.2.2.1 s.2.2.2.2.2.2.2.2.2.2.2 hI (fun b1 b2 b3 b4 b5 b6 b7 b8 b9 b10 b11 b12 h9 hm => hk (b1, b2, b3, b4, b5, b6, b7, b8, b9, b10, b11, b12) h9 hm)) (a1, a2, a3, a4, a5, a6, a7, a8, a9, a10, a11, a12) h
theorem lp13 {A1 A2 A3 A4 A5 A6 A7 A8 A9 A10 A11 A12 A13 : Type} (W : Nat → A1 → A2 → A3 → A4 → A5 → A6 → A7 → A8 → A9 → A10 → A11 → A12 → A13 → Prop) (I : A1 → A2 → A3 → A4 → A5 → A6 → A7 → A8 → A9 → A10 → A11 → A12 → A13 → Prop) (μ : A1 → A2 → A3 → A4 → A5 → A6 → A7 → A8 → A9 → A10 → A11 → A12 → A13 → Nat) (hs : ∀ (n : Nat) (a1 : A1) (a2 : A2) (a3 : A3) (a4 : A4) (a5 : A5) (a6 : A6) (a7 : A7) (a8 : A8) (a9 : A9) (a10 : A10) (a11 : A11) (a12 : A12) (a13 : A13), I a1 a2 a3 a4 a5 a6 a7 a8 a9 a10 a11 a12 a13 → (∀ (b1 : A1) (b2 : A2) (b3 : A3) (b4 : A4) (b5 : A5) (b6 : A6) (b7 : A7) (b8 : A8) (b9 : A9) (b10 : A10) (b11 : A11) (b12 : A12) (b13 : A13), I b1 b2 b3 b4 b5 b6 b7 b8 b9 b10 b11 b12 b13 → μ b1 b2 b3 b4 b5 b6 b7 b8 b9 b10 b11 b12 b13 < μ a1 a2 a3 a4 a5 a6 a7 a8 a9 a10 a11 a12 a13 → W n b1 b2 b3 b4 b5 b6 b7 b8 b9 b10 b11 b12 b13) → W (n + 1) a1 a2 a3 a4 a5 a6 a7 a8 a9 a10 a11 a12 a13) (a1 : A1) (a2 : A2) (a3 : A3) (a4 : A4) (a5 : A5) (a6 : A6) (a7 : A7) (a8 : A8) (a9 : A9) (a10 : A10) (a11 : A11) (a12 : A12) (a13 : A13) (h : I a1 a2 a3 a4 a5 a6 a7 a8 a9 a10 a11 a12 a13) : ∃ n, W n a1 a2 a3 a4 a5 a6 a7 a8 a9 a10 a11 a12 a13 :=
  loop_m (σ := A1 × A2 × A3 × A4 × A5 × A6 × A7 × A8 × A9 × A10 × A11 × A12 × A13) (fun n s => W n s.1 s.2.1 s.2.2.1 s.2.2.2.1 s.2.2.2.2.1 s.2.2.2.2.2.1 s.2.2.2.2.2.2.1 s.2.2.2.2.2.2.2.1 s.2.2.2.2.2.2.2.2.1 s.2.2.2.2.2.2.2.2.2.1 s.2.2.2.2.2.2.2.2.2.2.1 s.2.2.2.2.2.2.2.2.2.2.2.1 s.2.2.2.2.2.2.2.2.2.2.2.2) (fun s => I s.1 s.2.1 s.2.2.1 s.2.2.2.1 s.2.2.2.2.1 s.2.2.2.2.2.1 s.2.2.2.2.2.2.1 s.2.2.2.2.2.2.2.1 s.2.2.2.2.2.2.2.2.1 s.2.2.2.2.2.2.2.2.2.1 s.2.2.2.2.2.2.2.2.2.2.1 s.2.2.2.2.2.2.2.2.2.2.2.1 s.2.2.2.2.2.2.2.2.2.2.2.2) (fun s => μ s.1 s.2.1 s.2.2.1 s.2.2.2.1 s.2.2.2.2.1 s.2.2.2.2.2.1 s.2.2.2.2.2.2.1 s.2.2.2.2.2.2.2.1 s.2.2.2.2.2.2.2.2.1 s.2.2.2.2.2.2.2.2.2.1 s.2.2.2.2.2.2.2.2.2.2.1 s.2.2.2.2.2.2.2.2.2.2.2.1 s.2.2.2.2.2.2.2.2.2.2.2.2) (fun n s hI hk => hs n s.1 s.2.1 s.2.2.1 s.2.2.2.1 s.2.2.2.2.1 s.2.2.2.2.2.1 s.2.2.2.2.2.2.1 s.2.2.2.2.2.2.2.1 s.2.2.2.2.2.2.2.2.1 s.2.2.2.2.2.2.2.2.2.1 s.2.2.2.2.2.2.2.2.2.2.1 s.2.2.2.2.2.2.2.2.2.2.2.1 s.2.2.2.2.2.2.2.2.2.2.2.2 hI (fun b1 b2 b3 b4 b5 b6 b7 b8 b9 b10 b11 b12 b13 h9 hm => hk (b1, b2, b3, b4, b5, b6, b7, b8, b9, b10, b11, b12, b13) h9 hm)) (a1, a2, a3, a4, a5, a6, a7, a8, a9, a10, a11, a12, a13) h
theorem lp14 {A1 A2 A3 A4 A5 A6 A7 A8 A9 A10 A11 A12 A13 A14 : Type} (W : Nat → A1 → A2 → A3 → A4 → A5 → A6 → A7 → A8 → A9 → A10 → A11 → A12 → A13 → A14 → Prop) (I : A1 → A2 → A3 → A4 → A5 → A6 → A7 → A8 → A9 → A10 → A11 → A12 → A13 → A14 → Prop) (μ : A1 → A2 → A3 → A4 → A5 → A6 → A7 → A8 → A9 → A10 → A11 → A12 → A13 → A14 → Nat) (hs : ∀ (n : Nat) (a1 : A1) (a2 : A2) (a3 : A3) (a4 : A4) (a5 : A5) (a6 : A6) (a7 : A7) (a8 : A8) (a9 : A9) (a10 : A10) (a11 : A11) (a12 : A12) (a13 : A13) (a14 : A14), I a1 a2 a3 a4 a5 a6 a7 a8 a9 a10 a11 a12 a13 a14 → (∀ (b1 : A1) (b2 : A2) (b3 : A3) (b4 : A4) (b5 : A5) (b6 : A6) (b7 : A7) (b8 : A8) (b9 : A9) (b10 : A10) (b11 : A11) (b12 : A12) (b13 : A13) (b14 : A14), I b1 b2 b3 b4 b5 b6 b7 b8 b9 b10 b11 b12 b13 b14 → μ b1 b2 b3 b4 b5 b6 b7 b8 b9 b10 b11 b12 b13 b14 < μ a1 a2 a3 a4 a5 a6 a7 a8 a9 a10 a11 a12 a13 a14 → W n b1 b2 b3 b4 b5 b6 b7 b8 b9 b10 b11 b12 b13 b14) → W (n + 1) a1 a2 a3 a4 a5 a6 a7 a8 a9 a10 a11 a12 a13 a14) (a1 : A1) (a2 : A2) (a3 : A3) (a4 : A4) (a5 : A5) (a6 : A6) (a7 : A7) (a8 : A8) (a9 : A9) (a10 : A10) (a11 : A11) (a12 : A12) (a13 : A13) (a14 : A14) (h : I a1 a2 a3 a4 a5 a6 a7 a8 a9 a10 a11 a12 a13 a14) : ∃ n, W n a1 a2 a3 a4 a5 a6 a7 a8 a9 a10 a11 a12 a13 a14 :=
  loop_m (σ := A1 × A2 × A3 × A4 × A5 × A6 × A7 × A8 × A9 × A10 × A11 × A12 × A13 × A14) (fun n s => W n s.1 s.2.1 s.2.2.1 s.2.2.2.1 s.2.2.2.2.1 s.2.2.2.2.2.1 s.2.2.2.2.2.2.1 s.2.2.2.2.2.2.2.1 s.2.2.2.2.2.2.2.2.1 s.2.2.2.2.2.2.2.2.2.1 s.2.2.2.2.2.2.2.2.2.2.1 s.2.2.2.2.2.2.2.2.2.2.2.1 s.2.2.2.2.2.2.2.2.2.2.2.2.1 s.2.2.2.2.2.2.2.2.2.2.2.2.2) (fun s => I s.1 s.2.1 s.2.2.1 s.2.2.2.1 s.2.2.2.2.1 s.2.2.2.2.2.1 s.2.2.2.2.2.2.1 s.2.2.2.2.2.2.2.1 s.2.2.2.2.2.2.2.2.1 s.2.2.2.2.2.2.2.2.2.1 s.2.2.2.2.2.2.2.2.2.2.1 s.2.2.2.2.2.2.2.2.2.2.2.1 s.2.2.2.2.2.2.2.2.2.2.2.2.1 s.2.2.2.2.2.2.2.2.2.2.2.2.2) (fun s => μ s.1 s.2.1 s.2.2.1 s.2.2.2.1 s.2.2.2.2.1 s.2.2.2.2.2.1 s.2.2.2.2.2.2.1 s.2.2.2.2.2.2.2.1 s.2.2.2.2.2.2.2.2.1 s.2.2.2.2.2.2.2.2.2.1 s.2.2.2.2.2.2.2.2.2.2.1 s.2.2.2.2.2.2.2.2.2.2.2.1 s.2.2.2.2.2.2.2.2.2.2.2.2.1 s.2.2.2.2.2.2.2.2.2.2.2.2.2) (fun n s hI hk => hs n s.1 s.2.1 s.2.2.1 s.2.2.2.1 s.2.2.2.2.1 s.2.2.2.2.2.1 s.2.2.2.2.2.2.1 s.2.2.2.2.2.2.2.1 s.2.2.2.2.2.2.2.2.1 s.2.2.2.2.2.2.2.2.2.1 s.2.2.2.2.2.2.2.2.2.2.1 s.2.2.2.2.2.2.2.2.2.2.2.1 s.2.2.2.2.2.2.2.2.2.2.2.2.1 s.2.2.2.2.2.2.2.2.2.2.2.2.2 hI (fun b1 b2 b3 b4 b5 b6 b7 b8 b9 b10 b11 b12 b13 b14 h9 hm => hk (b1, b2, b3, b4, b5, b6, b7, b8, b9, b10, b11, b12, b13, b14) h9 hm)) (a1, a2, a3, a4, a5, a6, a7, a8, a9, a10, a11, a12, a13, a14) h
theorem lp15 {A1 A2 A3 A4 A5 A6 A7 A8 A9 A10 A11 A12 A13 A14 A15 : Type} (W : Nat → A1 → A2 → A3 → A4 → A5 → A6 → A7 → A8 → A9 → A10 → A11 → A12 → A13 → A14 → A15 → Prop) (I : A1 → A2 → A3 → A4 → A5 → A6 → A7 → A8 → A9 → A10 → A11 → A12 → A13 → A14 → A15 → Prop) (μ : A1 → A2 → A3 → A4 → A5 → A6 → A7 → A8 → A9 → A10 → A11 → A12 → A13 → A14 → A15 → Nat) (hs : ∀ (n : Nat) (a1 : A1) (a2 : A2) (a3 : A3) (a4 : A4) (a5 : A5) (a6 : A6) (a7 : A7) (a8 : A8) (a9 : A9) (a10 : A10) (a11 : A11) (a12 : A12) (a13 : A13) (a14 : A14) (a15 : A15), I a1 a2 a3 a4 a5 a6 a7 a8 a9 a10 a11 a12 a13 a14 a15 → (∀ (b1 : A1) (b2 : A2) (b3 : A3) (b4 : A4) (b5 : A5) (b6 : A6) (b7 : A7) (b8 : A8) (b9 : A9) (b10 : A10) (b11 : A11) (b12 : A12) (b13 : A13) (b14 : A14) (b15 : A15), I b1 b2 b3 b4 b5 b6 b7 b8 b9 b10 b11 b12 b13 b14 b15 → μ b1 b2 b3 b4 b5 b6 b7 b8 b9 b10 b11 b12 b13 b14 b15 < μ a1 a2 a3 a4 a5 a6 a7 a8 a9 a10 a11 a12 a13 a14 a15 → W n b1 b2 b3 b4 b5 b6 b7 b8 b9 b10 b11 b12 b13 b14 b15) → W (n + 1) a1 a2 a3 a4 a5 a6 a7 a8 a9 a10 a11 a12 a13 a14 a15) (a1 : A1) (a2 : A2) (a3 : A3) (a4 : A4) (a5 : A5) (a6 : A6) (a7 : A7) (a8 : A8) (a9 : A9) (a10 : A10) (a11 : A11) (a12 : A12) (a13 : A13) (a14 : A14) (a15 : A15) (h : I a1 a2 a3 a4 a5 a6 a7 a8 a9 a10 a11 a12 a13 a14 a15) : ∃ n, W n a1 a2 a3 a4 a5 a6 a7 a8 a9 a10 a11 a12 a13 a14 a15 :=
  loop_m (σ := A1 × A2 × A3 × A4 × A5 × A6 × A7 × A8 × A9 × A10 × A11 × A12 × A13 × A14 × A15) (fun n s => W n s.1 s.2.1 s.2.2.1 s.2.2.2.1 s.2.2.2.2.1 s.2.2.2.2.2.1 s.2.2.2.2.2.2.1 s.2.2.2.2.2.2.2.1 s.2.2.2.2.2.2.2.2.1 s.2.2.2.2.2.2.2.2.2.1 s.2.2.2.2.2.2.2.2.2.2.1 s.2.2.2.2.2.2.2.2.2.2.2.1 s.2.2.2.2.2.2.2.2.2.2.2.2.1 s.2.2.2.2.2.2.2.2.2.2.2.2.2.1 s.2.2.2.2.2.2.2.2.2.2.2.2.2.2) (fun s => I s.1 s.2.1 s.2.2.1 s.2.2.2.1 s.2.2.2.2.1 s.2.2.2.2.2.1 s.2.2.2.2.2.2.1 s.2.2.2.2.2.2.2.1 s.2.2.2.2.2.2.2.2.1 s.2.2.2.2.2.2.2.2.2.1 s.2.2.2.2.2.2.2.2.2.2.1 s.2.2.2.2.2.2.2.2.2.2.2.1 s.2.2.2.2.2.2.2.2.2.2.2.2.1 s.2.2.2.2.2.2.2.2.2.2.2.2.2.1 s.2.2.2.2.2.2.2.2.2.2.2.2.2.2) (fun s => μ s.1 s.2.1 s.2.2.1 s.2.2.2.1 s.2.2.2.2.1 s.2.2.2.2.2.1 s.2.2.2.2.2.2.1 s.2.2.2.2.2.2.2.1 s.2.2.2.2.2.2.2.2.1 s.2.2.2.2.2.2.2.2.2.1 s.2.2.2.2.2.2.2.2.2.2.1 s.2.2.2.2.2.2.2.2.2.2.2.1 s.2.2.2.2.2.2.2.2.2.2.2.2.1 s.2.2.2.2.2.2.2.2.2.2.2.2.2.1 s.2.2.2.2.2.2.2.2.2.2.2.2.2.2) (fun n s hI hk => hs n s.1 s.2.1 s.2.2.1 s.2.2.2.1 s.2.2.2.2.1 s.2.2.2.2.2.1 s.2.2.2.2.2.2.1 s.2.2.2.2.2.2.2.1 s.2.2.2.2.2.2.2.2.1 s.2.2.2.2.2.2.2.2.2.1 s.2.2.2.2.2.2.2.2.2.2.1 s.2.2.2.2.2.2.2.2.2.2.2.1 s.2.2.2.2.2.2.2.2.2.2.2.2.1 s.2.2.2.2.2.2.2.2.2.2.2.2.2.1 s.2.2.2.2.2.2.2.2.2.2.2.2.2.2 hI (fun b1 b2 b3 b4 b5 b6 b7 b8 b9 b10 b11 b12 b13 b14 b15 h9 hm => hk (b1, b2, b3, b4, b5, b6, b7, b8, b9, b10, b11, b12, b13, b14, b15) h9 hm)) (a1, a2, a3, a4, a5, a6, a7, a8, a9, a10, a11, a12, a13, a14, a15) h
theorem lp16 {A1 A2 A3 A4 A5 A6 A7 A8 A9 A10 A11 A12 A13 A14 A15 A16 : Type} (W : Nat → A1 → A2 → A3 → A4 → A5 → A6 → A7 → A8 → A9 → A10 → A11 → A12 → A13 → A14 → A15 → A16 → Prop) (I : A1 → A2 → A3 → A4 → A5 → A6 → A7 → A8 → A9 → A10 → A11 → A12 → A13 → A14 → A15 → A16 → Prop) (μ : A1 → A2 → A3 → A4 → A5 → A6 → A7 → A8 → A9 → A10 → A11 → A12 → A13 → A14 → A15 → A16 → Nat) (hs : ∀ (n : Nat) (a1 : A1) (a2 : A2) (a3 : A3) (a4 : A4) (a5 : A5) (a6 : A6) (a7 : A7) (a8 : A8) (a9 : A9) (a10 : A10) (a11 : A11) (a12 : A12) (a13 : A13) (a14 : A14) (a15 : A15) (a16 : A16), I a1 a2 a3 a4 a5 a6 a7 a8 a9 a10 a11 a12 a13 a14 a15 a16 → (∀ (b1 : A1) (b2 : A2) (b3 : A3) (b4 : A4) (b5 : A5) (b6 : A6) (b7 : A7) (b8 : A8) (b9 : A9) (b10 : A10) (b11 : A11) (b12 : A12) (b13 : A13) (b14 : A14) (b15 : A15) (b16 : A16), I b1 b2 b3 b4 b5 b6 b7 b8 b9 b10 b11 b12 b13 b14 b15 b16 → μ b1 b2 b3 b4 b5 b6 b7 b8 b9 b10 b11 b12 b13 b14 b15 b16 < μ a1 a2 a3 a4 a5 a6 a7 a8 a9 a10 a11 a12 a13 a14 a15 a16 → W n b1 b2 b3 b4 b5 b6 b7 b8 b9 b10 b11 b12 b13 b14 b15 b16) → W (n + 1) a1 a2 a3 a4 a5 a6 a7 a8 a9 a10 a11 a12 a13 a14 a15 a16) (a1 : A1) (a2 : A2) (a3 : A3) (a4 : A4) (a5 : A5) (a6 : A6) (a7 : A7) (a8 : A8) (a9 : A9) (a10 : A10) (a11 : A11) (a12 : A12) (a13 : A13) (a14 : A14) (a15 : A15) (a16 : A16) (h : I a1 a2 a3 a4 a5 a6 a7 a8 a9 a10 a11 a12 a13 a14 a15 a16) : ∃ n, W n a1 a2 a3 a4 a5 a6 a7 a8 a9 a10 a11 a12 a13 a14 a15 a16 :=
  loop_m (σ := A1 × A2 × A3 × A4 × A5 × A6 × A7 × A8 × A9 × A10 × A11 × A12 × A13 × A14 × A15 × A16) (fun n s => W n s.1 s.2.1 s.2.2.1 s.2.2.2.1 s.2.2.2.2.1 s.2.2.2.2.2.1 s.2.2.2.2.2.2.1 s.2.2.2.2.2.2.2.1 s.2.2.2.2.2.2.2.2.1 s.2.2.2.2.2.2.2.2.2.1 s.2.2.2.2.2.2.2.2.2.2.1 s.2.2.2.2.2.2.2.2.2.2.2.1 s.2.2.2.2.2.2.2.2.2.2.2.2.1 s.2.2.2.2.2.2.2.2.2.2.2.2.2.1 s.2.2.2.2.2.2.2.2.2.2.2.2.2.2.1 s.2.2.2.2.2.2.2.2.2.2.2.2.2.2.2) (fun s => I s.1 s.2.1 s.2.2.1 s.2.2.2.1 s.2.2.2.2.1 s.2.2.2.2.2.1 s.2.2.2.2.2.2.1 s.2.2.2.2.2.2.2.1 s.2.2.2.2.2.2.2.2.1 s.2.2.2.2.2.2.2.2.2.1 s.2.2.2.2.2.2.2.2.2.2.1 s.2.2.2.2.2.2.2.2.2.2.2.1 s.2.2.2.2.2.2.2.2.2.2.2.2.1 s.2.2.2.2.2.2.2.2.2.2.2.2.2.1 s.2.2.2.2.2.2.2.2.2.2.2.2.2.2.1 s.2.2.2.2.2.2.2.2.2.2.2.2.2.2.2) (fun s => μ s.1 s.2.1 s.2.2.1 s.2.2.2.1 s.2.2.2.2.1 s.2.2.2.2.2.1 s.2.2.2.2.2.2.1 s.2.2.2.2.2.2.2.1 s.2.2.2.2.2.2.2.2.1 s.2.2.2.2.2.2.2.2.2.1 s.2.2.2.2.2.2.2.2.2.2.1 s.2.2.2.2.2.2.2.2.2.2.2.1 s.2.2.2.2.2.2.2.2.2.2.2.2.1 s.2.2.2.2.2.2.2.2.2.2.2.2.2.1 s.2.2.2.2.2.2.2.2.2.2.2.2.2.2.1 s.2.2.2.2.2.2.2.2.2.2.2.2.2.2.2) (fun n s hI hk => hs n s.1 s.2.1 s.2.2.1 s.2.2.2.1 s.2.2.2.2.1 s.2.2.2.2.2.1 s.2.2.2.2.2.2.1 s.2.2.2.2.2.2.2.1 s.2.2.2.2.2.2.2.2.1 s.2.2.2.2.2.2.2.2.2.1 s.2.2.2.2.2.2.2.2.2.2.1 s.2.2.2.2.2.2.2.2.2.2.2.1 s.2.2.2.2.2.2.2.2.2.2.2.2.1 s.2.2.2.2.2.2.2.2.2.2.2.2.2.1 s.2.2.2.2.2.2.2.2.2.2.2.2.2.2.1 s.2.2.2.2.2.2.2.2.2.2.2.2.2.2.2 hI (fun b1 b2 b3 b4 b5 b6 b7 b8 b9 b10 b11 b12 b13 b14 b15 b16 h9 hm => hk (b1, b2, b3, b4, b5, b6, b7, b8, b9, b10, b11, b12, b13, b14, b15, b16) h9 hm)) (a1, a2, a3, a4, a5, a6, a7, a8, a9, a10, a11, a12, a13, a14, a15, a16) h
theorem pk_least (P : Nat → Prop) (h : ∃ k, P k) : ∃ k, P k ∧ ∀ j, j < k → ¬ P j := by
  obtain ⟨k, hk⟩ := h
  induction k using Nat.strongRecOn with
  | ind k ih =>
    by_cases e : ∃ j, j < k ∧ P j
    · obtain ⟨j, hj, pj⟩ := e
      exact ih j hj pj
    · exact ⟨k, hk, fun j hj pj => e ⟨j, hj, pj⟩⟩
theorem rp1 {ρ A1 : Type} (W : Nat → (ρ → Prop) → A1 → Prop) (ok : A1 → Prop) (μ : A1 → Nat) (val : A1 → ρ)
    (hs : ∀ (d : Nat) (post : ρ → Prop) (a1 : A1), ok a1 → post (val a1) → (∀ (post' : ρ → Prop) (b1 : A1), ok b1 → μ b1 < μ a1 → post' (val b1) → W d post' b1) → W (d + 1) post a1) :
    ∀ (d : Nat) (post : ρ → Prop) (a1 : A1), ok a1 → μ a1 < d → post (val a1) → W d post a1 := by
  intro d
  induction d with
  | zero => intro post a1 _ h; omega
  | succ d ih =>
    intro post a1 ho hm hp
    exact hs d post a1 ho hp (fun post' b1 ho' hm' hp' => ih post' b1 ho' (by omega) hp')
theorem rp2 {ρ A1 A2 : Type} (W : Nat → (ρ → Prop) → A1 → A2 → Prop) (ok : A1 → A2 → Prop) (μ : A1 → A2 → Nat) (val : A1 → A2 → ρ)
    (hs : ∀ (d : Nat) (post : ρ → Prop) (a1 : A1) (a2 : A2), ok a1 a2 → post (val a1 a2) → (∀ (post' : ρ → Prop) (b1 : A1) (b2 : A2), ok b1 b2 → μ b1 b2 < μ a1 a2 → post' (val b1 b2) → W d post' b1 b2) → W (d + 1) post a1 a2) :
    ∀ (d : Nat) (post : ρ → Prop) (a1 : A1) (a2 : A2), ok a1 a2 → μ a1 a2 < d → post (val a1 a2) → W d post a1 a2 := by
  intro d
  induction d with
  | zero => intro post a1 a2 _ h; omega
  | succ d ih =>
    intro post a1 a2 ho hm hp
    exact hs d post a1 a2 ho hp (fun post' b1 b2 ho' hm' hp' => ih post' b1 b2 ho' (by omega) hp')
theorem rp3 {ρ A1 A2 A3 : Type} (W : Nat → (ρ → Prop) → A1 → A2 → A3 → Prop) (ok : A1 → A2 → A3 → Prop) (μ : A1 → A2 → A3 → Nat) (val : A1 → A2 → A3 → ρ)
    (hs : ∀ (d : Nat) (post : ρ → Prop) (a1 : A1) (a2 : A2) (a3 : A3), ok a1 a2 a3 → post (val a1 a2 a3) → (∀ (post' : ρ → Prop) (b1 : A1) (b2 : A2) (b3 : A3), ok b1 b2 b3 → μ b1 b2 b3 < μ a1 a2 a3 → post' (val b1 b2 b3) → W d post' b1 b2 b3) → W (d + 1) post a1 a2 a3) :
    ∀ (d : Nat) (post : ρ → Prop) (a1 : A1) (a2 : A2) (a3 : A3), ok a1 a2 a3 → μ a1 a2 a3 < d → post (val a1 a2 a3) → W d post a1 a2 a3 := by
  intro d
  induction d with
  | zero => intro post a1 a2 a3 _ h; omega
  | succ d ih =>
    intro post a1 a2 a3 ho hm hp
    exact hs d post a1 a2 a3 ho hp (fun post' b1 b2 b3 ho' hm' hp' => ih post' b1 b2 b3 ho' (by omega) hp')
theorem rp4 {ρ A1 A2 A3 A4 : Type} (W : Nat → (ρ → Prop) → A1 → A2 → A3 → A4 → Prop) (ok : A1 → A2 → A3 → A4 → Prop) (μ : A1 → A2 → A3 → A4 → Nat) (val : A1 → A2 → A3 → A4 → ρ)
    (hs : ∀ (d : Nat) (post : ρ → Prop) (a1 : A1) (a2 : A2) (a3 : A3) (a4 : A4), ok a1 a2 a3 a4 → post (val a1 a2 a3 a4) → (∀ (post' : ρ → Prop) (b1 : A1) (b2 : A2) (b3 : A3) (b4 : A4), ok b1 b2 b3 b4 → μ b1 b2 b3 b4 < μ a1 a2 a3 a4 → post' (val b1 b2 b3 b4) → W d post' b1 b2 b3 b4) → W (d + 1) post a1 a2 a3 a4) :
    ∀ (d : Nat) (post : ρ → Prop) (a1 : A1) (a2 : A2) (a3 : A3) (a4 : A4), ok a1 a2 a3 a4 → μ a1 a2 a3 a4 < d → post (val a1 a2 a3 a4) → W d post a1 a2 a3 a4 := by
  intro d
  induction d with
  | zero => intro post a1 a2 a3 a4 _ h; omega
  | succ d ih =>
    intro post a1 a2 a3 a4 ho hm hp
    exact hs d post a1 a2 a3 a4 ho hp (fun post' b1 b2 b3 b4 ho' hm' hp' => ih post' b1 b2 b3 b4 ho' (by omega) hp')
theorem rp5 {ρ A1 A2 A3 A4 A5 : Type} (W : Nat → (ρ → Prop) → A1 → A2 → A3 → A4 → A5 → Prop) (ok : A1 → A2 → A3 → A4 → A5 → Prop) (μ : A1 → A2 → A3 → A4 → A5 → Nat) (val : A1 → A2 → A3 → A4 → A5 → ρ)
    (hs : ∀ (d : Nat) (post : ρ → Prop) (a1 : A1) (a2 : A2) (a3 : A3) (a4 : A4) (a5 : A5), ok a1 a2 a3 a4 a5 → post (val a1 a2 a3 a4 a5) → (∀ (post' : ρ → Prop) (b1 : A1) (b2 : A2) (b3 : A3) (b4 : A4) (b5 : A5), ok b1 b2 b3 b4 b5 → μ b1 b2 b3 b4 b5 < μ a1 a2 a3 a4 a5 → post' (val b1 b2 b3 b4 b5) → W d post' b1 b2 b3 b4 b5) → W (d + 1) post a1 a2 a3 a4 a5) :
    ∀ (d : Nat) (post : ρ → Prop) (a1 : A1) (a2 : A2) (a3 : A3) (a4 : A4) (a5 : A5), ok a1 a2 a3 a4 a5 → μ a1 a2 a3 a4 a5 < d → post (val a1 a2 a3 a4 a5) → W d post a1 a2 a3 a4 a5 := by
  intro d
  induction d with
  | zero => intro post a1 a2 a3 a4 a5 _ h; omega
  | succ d ih =>
    intro post a1 a2 a3 a4 a5 ho hm hp
    exact hs d post a1 a2 a3 a4 a5 ho hp (fun post' b1 b2 b3 b4 b5 ho' hm' hp' => ih post' b1 b2 b3 b4 b5 ho' (by omega) hp')
theorem rp6 {ρ A1 A2 A3 A4 A5 A6 : Type} (W : Nat → (ρ → Prop) → A1 → A2 → A3 → A4 → A5 → A6 → Prop) (ok : A1 → A2 → A3 → A4 → A5 → A6 → Prop) (μ : A1 → A2 → A3 → A4 → A5 → A6 → Nat) (val : A1 → A2 → A3 → A4 → A5 → A6 → ρ)
    (hs : ∀ (d : Nat) (post : ρ → Prop) (a1 : A1) (a2 : A2) (a3 : A3) (a4 : A4) (a5 : A5) (a6 : A6), ok a1 a2 a3 a4 a5 a6 → post (val a1 a2 a3 a4 a5 a6) → (∀ (post' : ρ → Prop) (b1 : A1) (b2 : A2) (b3 : A3) (b4 : A4) (b5 : A5) (b6 : A6), ok b1 b2 b3 b4 b5 b6 → μ b1 b2 b3 b4 b5 b6 < μ a1 a2 a3 a4 a5 a6 → post' (val b1 b2 b3 b4 b5 b6) → W d post' b1 b2 b3 b4 b5 b6) → W (d + 1) post a1 a2 a3 a4 a5 a6) :
    ∀ (d : Nat) (post : ρ → Prop) (a1 : A1) (a2 : A2) (a3 : A3) (a4 : A4) (a5 : A5) (a6 : A6), ok a1 a2 a3 a4 a5 a6 → μ a1 a2 a3 a4 a5 a6 < d → post (val a1 a2 a3 a4 a5 a6) → W d post a1 a2 a3 a4 a5 a6 := by
  intro d
  induction d with
  | zero => intro post a1 a2 a3 a4 a5 a6 _ h; omega
  | succ d ih =>
    intro post a1 a2 a3 a4 a5 a6 ho hm hp
    exact hs d post a1 a2 a3 a4 a5 a6 ho hp (fun post' b1 b2 b3 b4 b5 b6 ho' hm' hp' => ih post' b1 b2 b3 b4 b5 b6 ho' (by omega) hp')
theorem rec_p {σ ρ : Type} (W : Nat → (ρ → Prop) → σ → Prop) (ok : σ → Prop) (μ : σ → Nat) (val : σ → ρ)
    (hs : ∀ d s post, ok s → post (val s) → (∀ s' post', ok s' → μ s' < μ s → post' (val s') → W d post' s') → W (d + 1) post s) :
    ∀ d s post, ok s → μ s < d → post (val s) → W d post s := by
  intro d
  induction d with
  | zero => intro s post _ h; omega
  | succ d ih =>
    intro s post ho hm hp
    exact hs d s post ho hp (fun s' post' ho' hm' hp' => ih s' post' ho' (by omega) hp')
theorem rec_q {σ ρ : Type} (W : Nat → (ρ → Prop) → σ → Prop) (ok : σ → Prop) (μ : σ → Nat) (Q : σ → ρ → Prop)
    (hs : ∀ d s post, ok s → (∀ r, Q s r → post r) → (∀ s' post', ok s' → μ s' < μ s → (∀ r, Q s' r → post' r) → W d post' s') → W (d + 1) post s) :
    ∀ d s post, ok s → μ s < d → (∀ r, Q s r → post r) → W d post s := by
  intro d
  induction d with
  | zero => intro s post _ h; omega
  | succ d ih =>
    intro s post ho hm hp
    exact hs d s post ho hp (fun s' post' ho' hm' hp' => ih s' post' ho' (by omega) hp')
def bx_sum (f : Nat → Int32) : Nat → Int32
  | 0 => 0
  | n + 1 => bx_sum f n + f n
theorem ek_u {A : Prop} {B : Nat → Prop} {k N : Nat} (hk : k < N) (h : B k) : (some k = none → A) ∧ (∀ y : Nat, some k = some y → (y < N ∧ B y)) :=
  ⟨fun z => absurd z (Option.some_ne_none k), fun _ e => (by cases e; exact ⟨hk, h⟩)⟩
theorem ek_nu {A : Prop} {B : Nat → Prop} (h : A) : ((none : Option Nat) = none → A) ∧ (∀ y : Nat, (none : Option Nat) = some y → B y) :=
  ⟨fun _ => h, fun _ e => (by cases e)⟩
theorem ek_if {c d A B : Prop} (e : c ↔ d) (f : d → A) (g : ¬ d → B) : (c → A) ∧ (¬ c → B) :=
  ⟨fun z => f (e.mp z), fun z => g (fun y => z (e.mpr y))⟩
theorem ek_v {α : Sort _} {P : α → Prop} {a b : α} (e : a = b) (h : P b) : P a := e ▸ h
theorem co_some {x : Option Nat} {A : Prop} {B : Nat → Prop} (i : Nat) (h : B i) (hx : x = some i := by rfl) : (x = none → A) ∧ (∀ y : Nat, x = some y → B y) := by
  subst hx
  exact ⟨fun e => (nomatch e), fun y e => Option.some.inj e ▸ h⟩
theorem co_none {x : Option Nat} {A : Prop} {B : Nat → Prop} (h : A) (hx : x = none := by rfl) : (x = none → A) ∧ (∀ y : Nat, x = some y → B y) := by
  subst hx
  exact ⟨fun _ => h, fun y e => (nomatch e)⟩
theorem co_any {x : Option Nat} {A : Prop} {B : Nat → Prop} (hn : x = none → A) (hs : ∀ i : Nat, x = some i → B i) : (x = none → A) ∧ (∀ y : Nat, x = some y → B y) := ⟨hn, hs⟩
theorem co_2 {P : Nat → Prop} (h0 : P 0) (h1 : P 1) {i : Nat} (hi : i < 2) : P i :=
  match i, hi with
  | 0, _ => h0
  | 1, _ => h1
theorem co_3 {P : Nat → Prop} (h0 : P 0) (h1 : P 1) (h2 : P 2) {i : Nat} (hi : i < 3) : P i :=
  match i, hi with
  | 0, _ => h0
  | 1, _ => h1
  | 2, _ => h2
theorem co_4 {P : Nat → Prop} (h0 : P 0) (h1 : P 1) (h2 : P 2) (h3 : P 3) {i : Nat} (hi : i < 4) : P i :=
  match i, hi with
  | 0, _ => h0
  | 1, _ => h1
  | 2, _ => h2
  | 3, _ => h3
theorem co_dec {N : Nat} {P : Nat → Prop} [DecidablePred P] (h : (List.range N).all (fun i => decide (P i)) = true) {i : Nat} (hi : i < N) : P i := by
  have := List.all_eq_true.mp h i (List.mem_range.mpr hi)
  exact of_decide_eq_true this
theorem co_tab {α : Type} {l : List α} {d : α} {P : α → Prop} (h : ∀ a, a ∈ l → P a) {i : Nat} (hi : i < l.length) : P (l.getD i d) := by
  rw [List.getD_eq_getElem?_getD, List.getElem?_eq_getElem hi]
  exact h _ (List.getElem_mem hi)
theorem pk_mu {x : Int32} {L : Nat} (h0 : ¬ x < 0) (h : ¬ nI L ≤ x) (hL : L < 2 ^ 31) : ∃ j : Nat, j < L ∧ x = nI j ∧ x + 1 = nI (j + 1) ∧ x.toNatClampNeg = j ∧ L - (x + 1).toNatClampNeg < L - x.toNatClampNeg := by
  obtain ⟨j, hj, rfl⟩ := nI_of h0
  have hl : j < L := Nat.not_le.mp fun q => h (nI_le q hj)
  refine ⟨j, hl, rfl, nI_1 j, nI_clamp hj, ?_⟩
  rw [nI_1, nI_clamp (by omega), nI_clamp hj]
  omega
theorem op_s {α : Type} {r : Option α} {A : Prop} {B : α → Prop} {y : α} (h : r = some y) (b : B y) : (r = none → A) ∧ ∀ z, r = some z → B z :=
  ⟨fun e => (by rw [h] at e; cases e), fun z e => (by rw [h] at e; cases e; exact b)⟩
def l_holds {α : Type} (a : Nat → Option Nat) (LP : List Nat) (p : Nat → α) (c : Nat) (b : Nat → α) : Prop :=
  ∀ j, j < c → ∃ y, a j = some y ∧ y ∈ LP ∧ p y = b j
theorem l_holds_0 {α : Type} {a : Nat → Option Nat} {LP : List Nat} {p b : Nat → α} : l_holds a LP p 0 b := fun j h => absurd h (Nat.not_lt_zero j)
theorem l_in_new (LP : List Nat) (q : Nat) : q ∈ LP ++ [q] := List.mem_append.mpr (Or.inr (List.mem_singleton.mpr rfl))
def l_sum (b : Nat → Int32) : Nat → Int32
  | 0 => 0
  | k + 1 => l_sum b k + b k
theorem sb_shr0 (x : Int32) : x >>> ((0 : Int32) &&& 31) = x := by
  rw [show ((0 : Int32) &&& 31) = 0 by decide]
  simp
theorem sb_shl0 (x : Int32) : x <<< ((0 : Int32) &&& 31) = x := by
  rw [show ((0 : Int32) &&& 31) = 0 by decide]
  simp
theorem sb_cl0 : (0 : Int32).toNatClampNeg = 0 := by decide
theorem sb_m1 {p : Nat} (h : 0 < p) : nI p + (-1) = nI (p - 1) := by
  obtain ⟨q, rfl⟩ : ∃ q, p = q + 1 := ⟨p - 1, by omega⟩
  exact pk_m1 q
def sb_b (c : Nat) : Int32 := (nI c).toInt8.toInt32
theorem sb_byte : ∀ c, c < 256 → sb_b c &&& 255 = nI c ∧ ((nI c).toUInt32 % 65536).toInt32 = nI c ∧ nI c ≤ 255 := by decide +kernel
def sb_Fit (a : Nat → Int32) : Prop := ∀ j, fits .byte (.int (a j)) = true
def sb_Lat (t : Nat → Nat) (n : Nat) (a : Nat → Int32) : Prop := ∀ j, j < n → t j < 256 ∧ a j = sb_b (t j)
theorem sb_fitB (c : Nat) : fits .byte (.int (sb_b c)) = true := pk_fb _
theorem sb_fit0 : sb_Fit (fun _ => 0) := fun _ => by
  show fits .byte (.int 0) = true
  decide
theorem sb_fitU {a : Nat → Int32} {k : Nat} {x : Int32} (h : sb_Fit a) (hx : fits .byte (.int x) = true) : sb_Fit (upd a k x) := by
  intro j
  by_cases e : j = k
  · subst e
    rw [pk_us]
    exact hx
  · rw [pk_un e]
    exact h j
def sb_cat (t : Nat → Nat) (n : Nat) (s : Nat → Nat) : Nat → Nat := fun j => if j < n then t j else s (j - n)
theorem sb_cat_lo {t s : Nat → Nat} {n j : Nat} (h : j < n) : sb_cat t n s j = t j := if_pos h
theorem sb_cat_hi {t s : Nat → Nat} {n j : Nat} : sb_cat t n s (n + j) = s j := by
  show (if n + j < n then t (n + j) else s (n + j - n)) = s j
  rw [if_neg (by omega), Nat.add_sub_cancel_left]
theorem sb_latPut {t s : Nat → Nat} {n w : Nat} {a a' : Nat → Int32} (h : sb_Lat t n a) (hk : ∀ j, j < n → a' j = a j) (hs : ∀ i, i < w → s i < 256 ∧ a' (n + i) = sb_b (s i)) : sb_Lat (sb_cat t n s) (n + w) a' := by
  intro j hj
  by_cases e : j < n
  · rw [sb_cat_lo e, hk j e]
    exact h j e
  · obtain ⟨i, rfl⟩ : ∃ i, j = n + i := ⟨j - n, by omega⟩
    rw [sb_cat_hi]
    exact hs i (by omega)
theorem sb_latKeep {t : Nat → Nat} {n : Nat} {a a' : Nat → Int32} (h : sb_Lat t n a) (hk : ∀ j, j < n → a' j = a j) : sb_Lat t n a' := fun j hj => by
  rw [hk j hj]
  exact h j hj
def sb_cap (q m : Nat) : Nat := if q ≤ m then m else if 2 * m + 2 < q then q else 2 * m + 2
def sb_Room (q m mc ms : Nat) : Prop := q ≤ m ∨ (1 ≤ mc ∧ sb_cap q m ≤ ms ∧ sb_cap q m ≤ 65536)
theorem sb_cap_ge (q m : Nat) : q ≤ sb_cap q m := by
  unfold sb_cap
  split
  · omega
  · split <;> omega
theorem sb_cap_gem (q m : Nat) : m ≤ sb_cap q m := by
  unfold sb_cap
  split
  · omega
  · split <;> omega
theorem sb_cap_le {q m mc ms : Nat} (hm : m ≤ 65536) (hr : sb_Room q m mc ms) : sb_cap q m ≤ 65536 := by
  rcases hr with h | h
  · rw [sb_cap, if_pos h]
    exact hm
  · exact h.2.2
theorem sb_at {P : Int32 → Prop} {x y : Int32} (e : x = y) (h : P y) : P x := e ▸ h
def sb_dg (w : Nat) : Nat := if w < 10 then 1 else if w < 100 then 2 else if w < 1000 then 3 else if w < 10000 then 4 else if w < 100000 then 5 else if w < 1000000 then 6 else if w < 10000000 then 7 else if w < 100000000 then 8 else if w < 1000000000 then 9 else 10
def sb_dec (v : Nat) : Nat → Nat := fun i => 48 + v / 10 ^ (sb_dg v - 1 - i) % 10
theorem sb_dg_in (w : Nat) : 1 ≤ sb_dg w ∧ sb_dg w ≤ 10 := by
  unfold sb_dg
  constructor <;> (repeat' split) <;> omega
theorem sb_dg100 {w : Nat} (h : 100 ≤ w) (hw : w < 2 ^ 31) : sb_dg w = sb_dg (w / 100) + 2 := by
  rw [sb_dg, sb_dg, if_neg (show ¬ w < 10 by omega), if_neg (show ¬ w < 100 by omega)]
  by_cases h3 : w < 1000
  · rw [if_pos h3, if_pos (show w / 100 < 10 by omega)]
  rw [if_neg h3, if_neg (show ¬ w / 100 < 10 by omega)]
  by_cases h4 : w < 10000
  · rw [if_pos h4, if_pos (show w / 100 < 100 by omega)]
  rw [if_neg h4, if_neg (show ¬ w / 100 < 100 by omega)]
  by_cases h5 : w < 100000
  · rw [if_pos h5, if_pos (show w / 100 < 1000 by omega)]
  rw [if_neg h5, if_neg (show ¬ w / 100 < 1000 by omega)]
  by_cases h6 : w < 1000000
  · rw [if_pos h6, if_pos (show w / 100 < 10000 by omega)]
  rw [if_neg h6, if_neg (show ¬ w / 100 < 10000 by omega)]
  by_cases h7 : w < 10000000
  · rw [if_pos h7, if_pos (show w / 100 < 100000 by omega)]
  rw [if_neg h7, if_neg (show ¬ w / 100 < 100000 by omega)]
  by_cases h8 : w < 100000000
  · rw [if_pos h8, if_pos (show w / 100 < 1000000 by omega)]
  rw [if_neg h8, if_neg (show ¬ w / 100 < 1000000 by omega)]
  by_cases h9 : w < 1000000000
  · rw [if_pos h9, if_pos (show w / 100 < 10000000 by omega)]
  rw [if_neg h9, if_neg (show ¬ w / 100 < 10000000 by omega)]
  rw [if_pos (show w / 100 < 100000000 by omega)]
theorem sb_negT {w : Nat} (h : w < 2 ^ 31) : (-nI w).toInt = -(w : Int) := by
  rw [Int32.toInt_neg, nI_toInt h]
  exact Int.bmod_eq_of_le (by omega) (by omega)
theorem sb_nle {a b : Nat} (ha : a < 2 ^ 31) (hb : b < 2 ^ 31) : -nI a ≤ -nI b ↔ b ≤ a := by
  rw [Int32.le_iff_toInt_le, sb_negT ha, sb_negT hb]
  omega
theorem sb_nlt {a b : Nat} (ha : a < 2 ^ 31) (hb : b < 2 ^ 31) : -nI a < -nI b ↔ b < a := by
  rw [Int32.lt_iff_toInt_lt, sb_negT ha, sb_negT hb]
  omega
theorem sb_cmp {A B : Prop} {x : Int32} (v c : Nat) (f : c ≤ v → A) (g : v < c → B) (hv : v < 2 ^ 31) (hx : x = -nI c := by rfl) (hc : c < 2 ^ 31 := by omega) : (-nI v ≤ x → A) ∧ (¬ -nI v ≤ x → B) := by
  subst hx
  rw [sb_nle hv hc]
  exact ⟨f, fun z => g (by omega)⟩
theorem sb_ndiv {w : Nat} (hw : w < 2 ^ 31) : (-nI w) / 100 = -nI (w / 100) := by
  apply Int32.toInt_inj.mp
  have h100 : (100 : Int32).toInt = 100 := by decide
  rw [Int32.toInt_div, sb_negT hw, h100, sb_negT (by omega), Int.neg_tdiv, Int.tdiv_eq_ediv_of_nonneg (by omega), Int.bmod_eq_of_le (by omega) (by omega)]
  omega
theorem sb_nrem {w : Nat} (hw : w < 2 ^ 31) : (-nI (w / 100)) * 100 - (-nI w) = nI (w % 100) := by
  have h := pk_rem (a := w) (d := 100) hw (by decide) (by decide)
  rw [pk_div hw (by decide) (by decide)] at h
  rw [← h]
  show (-nI (w / 100)) * nI 100 - (-nI w) = nI w - nI (w / 100) * nI 100
  rw [Int32.neg_mul, Int32.sub_neg, Int32.add_comm, ← Int32.sub_eq_add_neg]
end
section
/-! rows on bits, shifts and unsigned numbers, to paste: each family out of a closed proof of our own, whole with what it rests on; each by itself clean at Lean in its own claim (generation 39, form 5). Take a family whole -/
/-! ===== Int32 by its bits: bt x i ===== -/
def bt (x : Int32) (i : Nat) : Bool := x.toBitVec.getLsbD i
theorem b_ext {x y : Int32} (h : ∀ i, i < 32 → bt x i = bt y i) : x = y := Int32.toBitVec_inj.mp (BitVec.eq_of_getLsbD_eq (fun i hi => h i hi))
theorem b_or (x y : Int32) (i : Nat) : bt (x ||| y) i = (bt x i || bt y i) := by unfold bt; rw [Int32.toBitVec_or, BitVec.getLsbD_or]
theorem b_and (x y : Int32) (i : Nat) : bt (x &&& y) i = (bt x i && bt y i) := by unfold bt; rw [Int32.toBitVec_and, BitVec.getLsbD_and]
theorem b_xor (x y : Int32) (i : Nat) : bt (x ^^^ y) i = (bt x i ^^ bt y i) := by unfold bt; rw [Int32.toBitVec_xor, BitVec.getLsbD_xor]
theorem b_big {x : Int32} {i : Nat} (h : 32 ≤ i) : bt x i = false := BitVec.getLsbD_of_ge _ _ h
theorem b_255 (i : Nat) : bt 255 i = decide (i < 8) := by
  rcases Nat.lt_or_ge i 32 with h | h
  · exact (by decide +kernel : ∀ i, i < 32 → bt 255 i = decide (i < 8)) i h
  · rw [b_big h, decide_eq_false (by omega)]
theorem b_65535 (i : Nat) : bt 65535 i = decide (i < 16) := by
  rcases Nat.lt_or_ge i 32 with h | h
  · exact (by decide +kernel : ∀ i, i < 32 → bt 65535 i = decide (i < 16)) i h
  · rw [b_big h, decide_eq_false (by omega)]
theorem b_m1 : ∀ i, i < 32 → bt (-1) i = true := by decide +kernel
theorem b_0 (i : Nat) : bt 0 i = false := BitVec.getLsbD_zero
theorem s_l : ∀ n, n < 32 → ((nI n &&& 31).toBitVec.smod 32).toNat = n := by decide +kernel
theorem s_u : ∀ n, n < 32 → (((nI n).toUInt32 &&& Int32.toUInt32 31).toBitVec % 32).toNat = n := by decide +kernel
theorem b_shl (n : Nat) (hn : n < 32) (x : Int32) {i : Nat} (hi : i < 32) : bt (x <<< (nI n &&& 31)) i = (decide (n ≤ i) && bt x (i - n)) := by
  unfold bt
  rw [Int32.toBitVec_shiftLeft]
  show (x.toBitVec <<< ((nI n &&& 31).toBitVec.smod 32).toNat).getLsbD i = _
  rw [s_l n hn, BitVec.getLsbD_shiftLeft]
  rcases Nat.lt_or_ge i n with h | h
  · simp [h, Nat.not_le.mpr h]
  · simp [hi, h, Nat.not_lt.mpr h]
theorem b_ushr (n : Nat) (hn : n < 32) (x : Int32) (i : Nat) : bt ((x.toUInt32 >>> ((nI n).toUInt32 &&& Int32.toUInt32 31)).toInt32) i = bt x (n + i) := by
  show (x.toUInt32 >>> ((nI n).toUInt32 &&& Int32.toUInt32 31)).toBitVec.getLsbD i = x.toUInt32.toBitVec.getLsbD (n + i)
  rw [UInt32.toBitVec_shiftRight]
  show (x.toUInt32.toBitVec >>> (((nI n).toUInt32 &&& Int32.toUInt32 31).toBitVec % 32).toNat).getLsbD i = _
  rw [s_u n hn, BitVec.getLsbD_ushiftRight]
theorem b_sshr (n : Nat) (hn : n < 32) (x : Int32) {i : Nat} (hi : i < 32) : bt (x >>> (nI n &&& 31)) i = if n + i < 32 then bt x (n + i) else bt x 31 := by
  unfold bt
  rw [Int32.toBitVec_shiftRight]
  show (x.toBitVec.sshiftRight ((nI n &&& 31).toBitVec.smod 32).toNat).getLsbD i = _
  rw [s_l n hn, BitVec.getLsbD_sshiftRight, BitVec.msb_eq_getLsbD_last]
  simp [hi]
theorem b_shl8 (x : Int32) {i : Nat} (hi : i < 32) : bt (x <<< ((8 : Int32) &&& 31)) i = (decide (8 ≤ i) && bt x (i - 8)) := b_shl 8 (by omega) x hi
theorem b_shl16 (x : Int32) {i : Nat} (hi : i < 32) : bt (x <<< ((16 : Int32) &&& 31)) i = (decide (16 ≤ i) && bt x (i - 16)) := b_shl 16 (by omega) x hi
theorem b_shl24 (x : Int32) {i : Nat} (hi : i < 32) : bt (x <<< ((24 : Int32) &&& 31)) i = (decide (24 ≤ i) && bt x (i - 24)) := b_shl 24 (by omega) x hi
theorem b_sshr8 (x : Int32) {i : Nat} (hi : i < 32) : bt (x >>> ((8 : Int32) &&& 31)) i = if 8 + i < 32 then bt x (8 + i) else bt x 31 := b_sshr 8 (by omega) x hi
/-! ===== nI under and, xor, >>>, one bit, 65535 ===== -/
theorem nx_and (a b : Nat) : nI a &&& nI b = nI (a &&& b) := by
  apply Int32.toBitVec_inj.1
  show BitVec.ofNat 32 a &&& BitVec.ofNat 32 b = BitVec.ofNat 32 (a &&& b)
  apply BitVec.eq_of_getLsbD_eq
  intro i hi
  simp [hi]
theorem nx_xor (a b : Nat) : nI a ^^^ nI b = nI (a ^^^ b) := by
  apply Int32.toBitVec_inj.1
  show BitVec.ofNat 32 a ^^^ BitVec.ofNat 32 b = BitVec.ofNat 32 (a ^^^ b)
  apply BitVec.eq_of_getLsbD_eq
  intro i hi
  simp [hi]
theorem nx_cnt : ∀ j : Fin 32, (UInt32.ofNat j.val &&& Int32.toUInt32 31).toNat % 32 = j.val := by decide +kernel
theorem nx_ush {k j : Nat} (hk : k < 65536) (hj : j < 32) : ((nI k).toUInt32 >>> ((nI j).toUInt32 &&& Int32.toUInt32 31)).toInt32 = nI (k >>> j) := by
  have hs : k >>> j ≤ k := by
    rw [Nat.shiftRight_eq_div_pow]
    exact Nat.div_le_self _ _
  have e2 : UInt32.ofNat k >>> (UInt32.ofNat j &&& Int32.toUInt32 31) = UInt32.ofNat (k >>> j) := by
    apply UInt32.toNat_inj.1
    have h1 : (UInt32.ofNat k).toNat = k := Nat.mod_eq_of_lt (by omega)
    have h2 : (UInt32.ofNat (k >>> j)).toNat = k >>> j := Nat.mod_eq_of_lt (by omega)
    rw [UInt32.toNat_shiftRight, nx_cnt ⟨j, hj⟩, h1, h2]
  show (UInt32.ofNat k >>> (UInt32.ofNat j &&& Int32.toUInt32 31)).toInt32 = _
  rw [e2]
  rfl
theorem nx_bit {k j : Nat} (hk : k < 65536) (hj : j < 16) : (((nI k).toUInt32 >>> ((nI j).toUInt32 &&& Int32.toUInt32 31)).toInt32 &&& 1) = 0 ↔ k.testBit j = false := by
  rw [nx_ush hk (by omega)]
  show nI (k >>> j) &&& nI 1 = 0 ↔ _
  rw [nx_and, Nat.and_one_is_mod, ← nI_0, nI_eq (by omega) (by omega), Nat.testBit_eq_decide_div_mod_eq, Nat.shiftRight_eq_div_pow, decide_eq_false_iff_not]
  generalize k / 2 ^ j = z
  omega
theorem nx_mod (k : Nat) : nI k &&& 65535 = nI (k % 65536) := by
  show nI k &&& nI 65535 = _
  rw [nx_and, show (65535 : Nat) = 2 ^ 16 - 1 from rfl, Nat.and_two_pow_sub_one_eq_mod]
theorem nx_m16 {k : Nat} (h : k < 65536) : nI k &&& 65535 = nI k := by rw [nx_mod, Nat.mod_eq_of_lt h]
theorem nx_mask (x : Int32) : ∃ k, k < 65536 ∧ x &&& 65535 = nI k := by
  have e : x = nI x.toBitVec.toNat := by
    apply Int32.toBitVec_inj.1
    show x.toBitVec = BitVec.ofNat 32 x.toBitVec.toNat
    simp
  refine ⟨x.toBitVec.toNat % 65536, Nat.mod_lt _ (by omega), ?_⟩
  rw [← nx_mod, ← e]
/-! ===== Int32 as a set of bits: test, set ===== -/
def nf_M (m : Int32) : Nat := 4294967296 - m.toBitVec.toNat
theorem nf_sh : ∀ l, l < 32 → ((1 : Int32) <<< (nI l &&& 31)).toBitVec = BitVec.twoPow 32 l := by decide +kernel
theorem nf_sl : ∀ l, l < 32 → (((nI l).toUInt32 &&& Int32.toUInt32 31).toBitVec % 32).toNat = l := by decide +kernel
theorem nf_tp : ∀ l, l < 32 → BitVec.twoPow 32 l ≠ 0#32 := by decide +kernel
theorem nf_bit (m : Int32) (l : Nat) (hl : l < 32) : ((m.toUInt32 >>> ((nI l).toUInt32 &&& Int32.toUInt32 31)).toInt32 &&& 1) = 0 ↔ (m &&& ((1 : Int32) <<< (nI l &&& 31))) = 0 := by
  have e : ((m.toUInt32 >>> ((nI l).toUInt32 &&& Int32.toUInt32 31)).toInt32).toBitVec = m.toBitVec >>> l := by
    show m.toBitVec >>> (((nI l).toUInt32 &&& Int32.toUInt32 31).toBitVec % 32) = m.toBitVec >>> l
    rw [BitVec.ushiftRight_eq', nf_sl l hl]
  rw [← Int32.toBitVec_inj, ← Int32.toBitVec_inj, Int32.toBitVec_and, Int32.toBitVec_and, nf_sh l hl, e, BitVec.and_twoPow]
  show (m.toBitVec >>> l &&& 1#32) = 0#32 ↔ _ = 0#32
  rw [BitVec.and_one_eq_setWidth_ofBool_getLsbD, BitVec.getLsbD_ushiftRight, Nat.add_zero]
  cases hb : m.toBitVec.getLsbD l
  · exact ⟨fun _ => by simp, fun _ => by decide⟩
  · exact ⟨fun z => absurd z (by decide), fun z => absurd ((if_pos rfl).symm.trans z) (nf_tp l hl)⟩
theorem nf_gr (m k : Int32) (h : m &&& k = 0) (hk : k ≠ 0) : nf_M (m ||| k) < nf_M m := by
  have hm := m.toBitVec.isLt
  have hm' := (m ||| k).toBitVec.isLt
  have h1 : m.toBitVec.toNat ≤ (m ||| k).toBitVec.toNat := by
    rw [Int32.toBitVec_or, BitVec.toNat_or]
    exact Nat.left_le_or
  have h2 : m.toBitVec.toNat ≠ (m ||| k).toBitVec.toNat := by
    intro e
    have e2 : m = m ||| k := Int32.toBitVec_inj.mp (BitVec.eq_of_toNat_eq e)
    apply hk
    apply Int32.toBitVec_inj.mp
    show k.toBitVec = 0#32
    apply BitVec.eq_of_getLsbD_eq
    intro i hi
    have a : m.toBitVec.getLsbD i = (m.toBitVec.getLsbD i || k.toBitVec.getLsbD i) := by rw [← BitVec.getLsbD_or, ← Int32.toBitVec_or, ← e2]
    have b : (m.toBitVec.getLsbD i && k.toBitVec.getLsbD i) = false := by
      rw [← BitVec.getLsbD_and, ← Int32.toBitVec_and, h]
      exact BitVec.getLsbD_zero
    rw [BitVec.getLsbD_zero]
    revert a b
    cases m.toBitVec.getLsbD i <;> cases k.toBitVec.getLsbD i <;> simp
  unfold nf_M
  omega
/-! ===== a byte read unsigned ===== -/
theorem bp_b (x : Int32) : x.toInt8.toInt32 &&& 255 = x &&& 255 := by
  apply Int32.toBitVec_inj.mp
  rw [Int32.toBitVec_and, Int32.toBitVec_and, Int8.toBitVec_toInt32, Int32.toBitVec_toInt8]
  apply BitVec.eq_of_getLsbD_eq
  intro i hi
  rw [BitVec.getLsbD_and, BitVec.getLsbD_and]
  have hm : ∀ i < 32, 8 ≤ i → (255 : Int32).toBitVec.getLsbD i = false := by decide
  rcases Nat.lt_or_ge i 8 with z | z
  · rw [BitVec.getLsbD_signExtend, BitVec.getLsbD_signExtend, if_pos z, if_pos hi]
    simp only [z, hi, decide_true, Bool.true_and]
  · rw [hm i hi z]; simp
/-! ===== the char cast and 65535 ===== -/
theorem em_w (v : Int32) : ∃ w : Nat, w < 65536 ∧ (v.toUInt32 % 65536).toInt32 = nI w ∧ v &&& 65535 = nI w := by
  have hr := lw_u16_r v
  have h0 : (0 : Int32).toInt = 0 := by decide
  obtain ⟨w, h1, h2⟩ := nI_of (x := lw_u16 v) (by rw [Int32.lt_iff_toInt_lt]; omega)
  have h3 : (v.toUInt32 % 65536).toInt32 = nI w := h2
  rw [h2, nI_toInt h1] at hr
  exact ⟨w, by omega, h3, by rw [← lg_i2c_mask, ← lg_i2c_nf, h3]⟩
/-! ===== Int64 as a set of bits: test, set, clear ===== -/
theorem ts_nf {x : Bool} (h : ¬ x = false) : x = true := by cases x <;> first | rfl | exact absurd rfl h
theorem ts_nt {x : Bool} (h : ¬ x = true) : x = false := by cases x <;> first | rfl | exact absurd rfl h
theorem ts_bit {w : Int64} {s : UInt64} {j : Nat} (hj : j < 64) (hs : s.toNat = j) : ((w.toUInt64 >>> s).toInt64 &&& 1) = 0 ↔ w.toBitVec.getLsbD j = false := by
  have e : (w.toUInt64 >>> s).toInt64.toBitVec = w.toBitVec >>> j := by
    apply BitVec.eq_of_toNat_eq
    show (w.toUInt64 >>> s).toNat = _
    rw [UInt64.toNat_shiftRight, hs, Nat.mod_eq_of_lt hj, BitVec.toNat_ushiftRight]
    rfl
  rw [← Int64.toBitVec_inj, Int64.toBitVec_and, e]
  show w.toBitVec >>> j &&& 1#64 = 0#64 ↔ _
  constructor
  · intro h
    have t := congrArg (fun x => x.getLsbD 0) h
    simpa using t
  · intro h
    apply BitVec.eq_of_getLsbD_eq
    intro i hi
    cases i with
    | zero => simp [h]
    | succ i => simp
theorem ts_or {w m : Int64} {j : Nat} (hj : j < 64) (hm : m.toBitVec = BitVec.twoPow 64 j) : (w ||| m) = w ↔ w.toBitVec.getLsbD j = true := by
  rw [← Int64.toBitVec_inj, Int64.toBitVec_or, hm]
  constructor
  · intro h
    have t := congrArg (fun x => x.getLsbD j) h
    simp only [BitVec.getLsbD_or, BitVec.getLsbD_twoPow] at t
    simpa [hj] using t.symm
  · intro h
    apply BitVec.eq_of_getLsbD_eq
    intro i hi
    rw [BitVec.getLsbD_or, BitVec.getLsbD_twoPow]
    by_cases e : j = i
    · subst e; rw [h, Bool.true_or]
    · simp [e]
theorem ts_and {w m : Int64} {j : Nat} (hj : j < 64) (hm : m.toBitVec = BitVec.twoPow 64 j) : (w &&& (m ^^^ (-1))) = w ↔ w.toBitVec.getLsbD j = false := by
  have ha : (-1 : Int64).toBitVec = BitVec.allOnes 64 := by decide
  rw [← Int64.toBitVec_inj, Int64.toBitVec_and, Int64.toBitVec_xor, hm, ha]
  constructor
  · intro h
    have t := congrArg (fun x => x.getLsbD j) h
    simp only [BitVec.getLsbD_and, BitVec.getLsbD_xor, BitVec.getLsbD_twoPow, BitVec.getLsbD_allOnes] at t
    simpa [hj] using t.symm
  · intro h
    apply BitVec.eq_of_getLsbD_eq
    intro i hi
    rw [BitVec.getLsbD_and, BitVec.getLsbD_xor, BitVec.getLsbD_twoPow, BitVec.getLsbD_allOnes]
    by_cases e : j = i
    · subst e; rw [h, Bool.false_and]
    · simp [e, hi]
/-! ===== lN n to 2^64: shifts, and, or, masks, one bit ===== -/
theorem wb_tb (n : Nat) : (lN n).toBitVec = BitVec.ofNat 64 n := rfl
theorem wb_inj {a b : Int64} (h : a.toBitVec = b.toBitVec) : a = b := Int64.toBitVec_inj.mp h
theorem wb_tn {n : Nat} (h : n < 2 ^ 64) : (lN n).toBitVec.toNat = n := by rw [wb_tb, BitVec.toNat_ofNat, Nat.mod_eq_of_lt h]
theorem wb_of (x : Int64) : ∃ n, n < 2 ^ 64 ∧ x = lN n := ⟨x.toBitVec.toNat, x.toBitVec.isLt, wb_inj (by rw [wb_tb]; simp)⟩
theorem wb_of32 (x : Int32) : ∃ n, n < 2 ^ 32 ∧ x = nI n := ⟨x.toBitVec.toNat, x.toBitVec.isLt, Int32.toBitVec_inj.mp (by show _ = BitVec.ofNat 32 _; simp)⟩
theorem wb_c : ∀ k, k < 64 → ((nI k).toInt64 &&& 63) = lN k := by decide +kernel
theorem wb_cu : ∀ k, k < 64 → ((nI k).toInt64.toUInt64 &&& Int64.toUInt64 63) = UInt64.ofNat k := by decide +kernel
theorem wb_sm : ∀ k, k < 64 → (BitVec.ofNat 64 k).smod 64 = BitVec.ofNat 64 k := by decide +kernel
theorem wb_pw {a b : Nat} (h : a ≤ b) : 2 ^ b = 2 ^ a * 2 ^ (b - a) := by rw [← Nat.pow_add]; congr 1; omega
theorem wb_lt2 {a b : Nat} (h : a < b) : 2 ^ a < 2 ^ b := Nat.pow_lt_pow_right (by decide) h
theorem wb_mod (n : Nat) : lN n = lN (n % 2 ^ 64) := wb_inj (by rw [wb_tb, wb_tb]; apply BitVec.eq_of_toNat_eq; rw [BitVec.toNat_ofNat, BitVec.toNat_ofNat, Nat.mod_mod])
theorem wb_shr {n k : Nat} (hn : n < 2 ^ 64) (hk : k < 64) : ((lN n).toUInt64 >>> ((nI k).toInt64.toUInt64 &&& Int64.toUInt64 63)).toInt64 = lN (n / 2 ^ k) := by
  rw [wb_cu k hk]
  apply wb_inj
  apply BitVec.eq_of_toNat_eq
  show ((lN n).toUInt64 >>> UInt64.ofNat k).toNat = (BitVec.ofNat 64 _).toNat
  have h1 : (UInt64.ofNat k).toNat = k := by
    show (BitVec.ofNat 64 k).toNat = k
    rw [BitVec.toNat_ofNat, Nat.mod_eq_of_lt (by omega)]
  have h2 : (lN n).toUInt64.toNat = n := wb_tn hn
  rw [UInt64.toNat_shiftRight, h1, h2, Nat.mod_eq_of_lt hk, Nat.shiftRight_eq_div_pow, BitVec.toNat_ofNat, Nat.mod_eq_of_lt (Nat.lt_of_le_of_lt (Nat.div_le_self _ _) hn)]
theorem wb_shl (n : Nat) {k : Nat} (hk : k < 64) : lN n <<< ((nI k).toInt64 &&& 63) = lN (n * 2 ^ k) := by
  rw [wb_c k hk]
  apply wb_inj
  rw [Int64.toBitVec_shiftLeft, wb_tb, wb_tb, wb_tb, wb_sm k hk]
  apply BitVec.eq_of_toNat_eq
  rw [BitVec.shiftLeft_eq', BitVec.toNat_shiftLeft, BitVec.toNat_ofNat, BitVec.toNat_ofNat, BitVec.toNat_ofNat, Nat.mod_eq_of_lt (show k < 2 ^ 64 by omega), Nat.shiftLeft_eq, Nat.mul_mod, Nat.mod_mod, ← Nat.mul_mod]
theorem wb_and {a b : Nat} (ha : a < 2 ^ 64) (hb : b < 2 ^ 64) : lN a &&& lN b = lN (a &&& b) := by
  apply wb_inj
  rw [Int64.toBitVec_and, wb_tb, wb_tb, wb_tb]
  apply BitVec.eq_of_toNat_eq
  rw [BitVec.toNat_and, BitVec.toNat_ofNat, BitVec.toNat_ofNat, BitVec.toNat_ofNat, Nat.mod_eq_of_lt ha, Nat.mod_eq_of_lt hb, Nat.mod_eq_of_lt (Nat.and_lt_two_pow _ hb)]
theorem wb_or {a b : Nat} (ha : a < 2 ^ 64) (hb : b < 2 ^ 64) : lN a ||| lN b = lN (a ||| b) := by
  apply wb_inj
  rw [Int64.toBitVec_or, wb_tb, wb_tb, wb_tb]
  apply BitVec.eq_of_toNat_eq
  rw [BitVec.toNat_or, BitVec.toNat_ofNat, BitVec.toNat_ofNat, BitVec.toNat_ofNat, Nat.mod_eq_of_lt ha, Nat.mod_eq_of_lt hb, Nat.mod_eq_of_lt (Nat.or_lt_two_pow ha hb)]
theorem wb_mask {n k : Nat} (hn : n < 2 ^ 64) (hk : k < 64) : lN n &&& lN (2 ^ k - 1) = lN (n % 2 ^ k) := by
  rw [wb_and hn (by have := wb_lt2 hk; omega), Nat.and_two_pow_sub_one_eq_mod]
theorem wb_a1 {n : Nat} (hn : n < 2 ^ 64) : lN n &&& 1 = lN (n % 2) := wb_mask (k := 1) hn (by decide)
theorem wb_bit {n k : Nat} (hn : n < 2 ^ 64) (hk : k < 64) : ((lN n).toUInt64 >>> ((nI k).toInt64.toUInt64 &&& Int64.toUInt64 63)).toInt64 &&& 1 = lN (n / 2 ^ k % 2) := by
  rw [wb_shr hn hk, wb_a1 (Nat.lt_of_le_of_lt (Nat.div_le_self _ _) hn)]
theorem wb_xor {q k : Nat} (hk : k < 63) (h : 2 ^ k ≤ q) (h2 : q < 2 ^ (k + 1)) : lN q ^^^ lN (2 ^ k) = lN (q - 2 ^ k) := by
  obtain ⟨r, rfl⟩ : ∃ r, q = 2 ^ k + r := ⟨q - 2 ^ k, by omega⟩
  have hr : r < 2 ^ k := by rw [Nat.pow_succ] at h2; omega
  have hx : (2 ^ k + r) ^^^ 2 ^ k = r := by
    apply Nat.eq_of_testBit_eq
    intro i
    rw [Nat.testBit_xor, Nat.testBit_two_pow]
    rcases Nat.lt_trichotomy i k with h | h | h
    · rw [Nat.testBit_two_pow_add_gt h]
      simp [show ¬ k = i by omega]
    · subst h
      rw [Nat.testBit_two_pow_add_eq]
      simp
    · have a1 : 2 ^ (k + 1) ≤ 2 ^ i := Nat.pow_le_pow_right (by decide) h
      rw [Nat.testBit_lt_two_pow (show 2 ^ k + r < 2 ^ i by omega), Nat.testBit_lt_two_pow (show r < 2 ^ i by omega)]
      simp [show ¬ k = i by omega]
  have b1 := wb_lt2 (show k + 1 < 64 by omega)
  have b2 := wb_lt2 (show k < 64 by omega)
  apply wb_inj
  rw [Int64.toBitVec_xor, wb_tb, wb_tb, wb_tb]
  apply BitVec.eq_of_toNat_eq
  rw [BitVec.toNat_xor, BitVec.toNat_ofNat, BitVec.toNat_ofNat, BitVec.toNat_ofNat, Nat.mod_eq_of_lt (by omega : 2 ^ k + r < 2 ^ 64), Nat.mod_eq_of_lt b2, hx, Nat.add_sub_cancel_left, Nat.mod_eq_of_lt (by omega)]
/-! ===== lN: masks, 'or' of parts that don't overlap is a sum ===== -/
theorem u_tn {n : Nat} (h : n < 2 ^ 64) : (UInt64.ofNat n).toNat = n := Nat.mod_eq_of_lt h
theorem g_and {a b c : Nat} (ha : a < 2 ^ 64) (hb : b < 2 ^ 64) (hc : a &&& b = c) : lN a &&& lN b = lN c := by
  subst hc
  have h : UInt64.ofNat a &&& UInt64.ofNat b = UInt64.ofNat (a &&& b) := UInt64.toNat_inj.mp (by rw [UInt64.toNat_and, u_tn ha, u_tn hb, u_tn (Nat.and_lt_two_pow a hb)])
  have h2 := congrArg UInt64.toInt64 h
  exact h2
theorem g_and1 {a : Nat} (ha : a < 2 ^ 64) : lN a &&& 1 = lN (a % 2) := g_and (b := 1) ha (by decide) (Nat.and_two_pow_sub_one_eq_mod a 1)
theorem g_mask {a s p : Nat} (hp : 2 ^ s = p) (hs : s < 64) (ha : a < 2 ^ 64) : lN a &&& lN (p - 1) = lN (a % p) := by
  subst hp
  have := Nat.pow_lt_pow_right (show 1 < 2 by decide) hs
  exact g_and ha (by omega) (Nat.and_two_pow_sub_one_eq_mod a s)
theorem g_or {k p a b : Nat} (hp : 2 ^ k = p) (ha : a < p) (h : b * p + a < 2 ^ 64) : lN (b * p) ||| lN a = lN (b * p + a) := by
  subst hp
  have h1 : b * 2 ^ k ||| a = b * 2 ^ k + a := by rw [← Nat.shiftLeft_eq, Nat.shiftLeft_add_eq_or_of_lt ha]
  have h3 : UInt64.ofNat (b * 2 ^ k) ||| UInt64.ofNat a = UInt64.ofNat (b * 2 ^ k + a) := UInt64.toNat_inj.mp (by rw [UInt64.toNat_or, u_tn (by omega), u_tn (by omega), u_tn h, h1])
  have h2 := congrArg UInt64.toInt64 h3
  exact h2
theorem g_or' {k p a b : Nat} (hp : 2 ^ k = p) (ha : a < p) (h : a + b * p < 2 ^ 64) : lN a ||| lN (b * p) = lN (a + b * p) := by
  rw [Int64.or_comm, g_or hp ha (by omega), Nat.add_comm]
theorem g_ushr {a k p : Nat} {y : UInt64} (hy : y = UInt64.ofNat k) (hk : k < 64) (hp : 2 ^ k = p) (ha : a < 2 ^ 64) : ((lN a).toUInt64 >>> y).toInt64 = lN (a / p) := by
  subst hy hp
  have h : UInt64.ofNat a >>> UInt64.ofNat k = UInt64.ofNat (a / 2 ^ k) := UInt64.toNat_inj.mp (by rw [UInt64.toNat_shiftRight, u_tn ha, u_tn (by omega), u_tn (Nat.lt_of_le_of_lt (Nat.div_le_self _ _) ha), Nat.mod_eq_of_lt hk, Nat.shiftRight_eq_div_pow])
  have h2 := congrArg UInt64.toInt64 h
  exact h2
theorem g_shl {a k p : Nat} {y : Int64} (hy : y.toBitVec.smod 64 = BitVec.ofNat 64 k) (hk : k < 64) (hp : 2 ^ k = p) (ha : a < 2 ^ 64) : lN a <<< y = lN (a * p) := by
  subst hp
  apply Int64.toBitVec_inj.mp
  rw [Int64.toBitVec_shiftLeft, hy]
  apply BitVec.eq_of_toNat_eq
  have hb : (lN a).toBitVec.toNat = a := Nat.mod_eq_of_lt ha
  have hk' : (BitVec.ofNat 64 k).toNat = k := Nat.mod_eq_of_lt (by omega)
  have h : ((lN a).toBitVec <<< BitVec.ofNat 64 k).toNat = (a * 2 ^ k) % 2 ^ 64 := by simp only [BitVec.shiftLeft_eq', BitVec.toNat_shiftLeft, hb, hk', Nat.shiftLeft_eq]
  exact h
/-! ===== lN to 2^62 under >> and >>> ===== -/
theorem pf_lI {a : Nat} (h : a < 2 ^ 63) : (lN a).toInt = (a : Int) := lg_ofNat_toInt h
theorem pf_shr {a d : Nat} {D : Int64} (hD : (D.toBitVec.smod 64).toNat = d) (h : a < 2 ^ 62) : lN a >>> D = lN (a / 2 ^ d) := by
  have hd : a / 2 ^ d ≤ a := Nat.div_le_self _ _
  apply Int64.toInt_inj.mp
  have e : (lN a >>> D).toInt = (lN a).toInt >>> d := by
    rw [← hD]
    exact BitVec.toInt_sshiftRight ..
  rw [e, Int.shiftRight_eq_div_pow, pf_lI (by omega), pf_lI (by omega)]
  rfl
theorem pf_ushr {a d : Nat} {D : UInt64} (hD : D.toNat % 64 = d) (h : a < 2 ^ 62) : ((lN a).toUInt64 >>> D).toInt64 = lN (a / 2 ^ d) := by
  have hd : a / 2 ^ d ≤ a := Nat.div_le_self _ _
  have e : (lN a).toUInt64 >>> D = UInt64.ofNat (a / 2 ^ d) := UInt64.toNat_inj.mp (by
    rw [UInt64.toNat_shiftRight, hD, Nat.shiftRight_eq_div_pow, UInt64.toNat_ofNat']
    show (UInt64.ofNat a).toNat / 2 ^ d = _
    rw [UInt64.toNat_ofNat', Nat.mod_eq_of_lt (by omega), Nat.mod_eq_of_lt (by omega)])
  rw [e]
  rfl
theorem pf_andw (x : Int64) : ∃ m, m < 2 ^ 32 ∧ x &&& 4294967295 = lN m := ⟨x.toBitVec.toNat % 2 ^ 32, Nat.mod_lt _ (by decide), Int64.toBitVec_inj.mp (BitVec.eq_of_toNat_eq (by
  show (x.toBitVec &&& 4294967295#64).toNat = (BitVec.ofNat 64 (x.toBitVec.toNat % 2 ^ 32)).toNat
  rw [BitVec.toNat_and, show (4294967295#64).toNat = 2 ^ 32 - 1 from by decide, Nat.and_two_pow_sub_one_eq_mod, BitVec.toNat_ofNat]
  omega))⟩
/-! ===== Int64 as an unsigned number: uN x ===== -/
def uN (x : Int64) : Nat := x.toUInt64.toNat
theorem uN_lt (x : Int64) : uN x < 18446744073709551616 := x.toUInt64.toNat_lt
theorem uN_inj {x y : Int64} (h : uN x = uN y) : x = y := congrArg UInt64.toInt64 (UInt64.toNat_inj.mp h)
theorem uN_add (x y : Int64) : uN (x + y) = (uN x + uN y) % 18446744073709551616 := by
  show (x.toUInt64 + y.toUInt64).toNat = _
  exact UInt64.toNat_add _ _
theorem uN_mul (x y : Int64) : uN (x * y) = (uN x * uN y) % 18446744073709551616 := by
  show (x.toUInt64 * y.toUInt64).toNat = _
  exact UInt64.toNat_mul _ _
theorem uN_shl (x : Int64) : uN (x <<< ((1 : Int32).toInt64 &&& 63)) = (2 * uN x) % 18446744073709551616 := by
  have h : (((1 : Int32).toInt64 &&& 63).toBitVec.smod 64).toNat = 1 := by decide
  show (x.toBitVec <<< (((1 : Int32).toInt64 &&& 63).toBitVec.smod 64).toNat).toNat = _
  rw [h, BitVec.toNat_shiftLeft, Nat.shiftLeft_eq, Nat.mul_comm]
  rfl
theorem uN_shr (x : Int64) (s : UInt64) : uN (x.toUInt64 >>> s).toInt64 = uN x / 2 ^ (s.toNat % 64) := by
  show (x.toUInt64 >>> s).toNat = _
  rw [UInt64.toNat_shiftRight, Nat.shiftRight_eq_div_pow]
  rfl
theorem uN_s32 (x : Int64) : uN (x.toUInt64 >>> ((32 : Int32).toInt64.toUInt64 &&& Int64.toUInt64 63)).toInt64 = uN x / 4294967296 := by
  have h : ((32 : Int32).toInt64.toUInt64 &&& Int64.toUInt64 63).toNat % 64 = 32 := by decide
  rw [uN_shr, h]
theorem uN_s63 (x : Int64) : uN (x.toUInt64 >>> ((63 : Int32).toInt64.toUInt64 &&& Int64.toUInt64 63)).toInt64 = uN x / 9223372036854775808 := by
  have h : ((63 : Int32).toInt64.toUInt64 &&& Int64.toUInt64 63).toNat % 64 = 63 := by decide
  rw [uN_shr, h]
theorem uN_lo (x : Int64) : uN (x &&& 4294967295) = uN x % 4294967296 := by
  show (x.toUInt64 &&& Int64.toUInt64 4294967295).toNat = _
  rw [UInt64.toNat_and]
  exact Nat.and_two_pow_sub_one_eq_mod _ 32
theorem uN_bit (x : Int64) : (x &&& 1) = 0 ↔ uN x % 2 = 0 := by
  have h : uN (x &&& 1) = uN x % 2 := by
    show (x.toUInt64 &&& Int64.toUInt64 1).toNat = _
    rw [UInt64.toNat_and]
    exact Nat.and_two_pow_sub_one_eq_mod _ 1
  rw [← h]
  exact ⟨fun z => by rw [z]; rfl, fun z => uN_inj (z.trans rfl)⟩
theorem uN_or {x y : Int64} (hy : uN y < 2) : uN ((x <<< ((1 : Int32).toInt64 &&& 63)) ||| y) = (2 * uN x) % 18446744073709551616 + uN y := by
  have h1 : uN ((x <<< ((1 : Int32).toInt64 &&& 63)) ||| y) = uN (x <<< ((1 : Int32).toInt64 &&& 63)) ||| uN y := UInt64.toNat_or _ _
  have h2 : (2 * uN x) % 18446744073709551616 = 2 ^ 1 * (uN x % 9223372036854775808) := by omega
  rw [h1, uN_shl, h2]
  exact (Nat.two_pow_add_eq_or_of_lt (i := 1) hy _).symm
theorem nat_xor {a : Nat} (h : a < 18446744073709551616) : a ^^^ 2 ^ 63 = (a + 9223372036854775808) % 18446744073709551616 := by
  have h1 : (a ^^^ 2 ^ 63) % 2 ^ 63 = a % 2 ^ 63 := by rw [Nat.xor_mod_two_pow, Nat.mod_self, Nat.xor_zero]
  have h2 : (a ^^^ 2 ^ 63) / 2 ^ 63 = (a / 2 ^ 63) ^^^ 1 := by rw [Nat.xor_div_two_pow, Nat.div_self (Nat.two_pow_pos 63)]
  have h3 : a / 2 ^ 63 = 0 ∨ a / 2 ^ 63 = 1 := by omega
  generalize a ^^^ 2 ^ 63 = t at h1 h2
  rcases h3 with h3 | h3
  · rw [h3] at h2
    have h2 : t / 2 ^ 63 = 1 := h2
    omega
  · rw [h3] at h2
    have h2 : t / 2 ^ 63 = 0 := h2
    omega
theorem uN_xor (x : Int64) : uN (x ^^^ (-9223372036854775808)) = (uN x + 9223372036854775808) % 18446744073709551616 := by
  rw [← nat_xor (uN_lt x)]
  exact UInt64.toNat_xor _ _
theorem uN_int (x : Int64) : x.toInt = if 2 * uN x < 18446744073709551616 then (uN x : Int) else (uN x : Int) - 18446744073709551616 := BitVec.toInt_eq_toNat_cond _
theorem uN_le (x y : Int64) : (x ^^^ (-9223372036854775808)) ≤ (y ^^^ (-9223372036854775808)) ↔ uN x ≤ uN y := by
  have hx := uN_lt x
  have hy := uN_lt y
  rw [Int64.le_iff_toInt_le, uN_int, uN_int, uN_xor, uN_xor]
  omega
theorem uN_sk (x : Int64) {k : Nat} (hk : k < 64) : uN (x.toUInt64 >>> ((nI k).toInt64.toUInt64 &&& Int64.toUInt64 63)).toInt64 = uN x / 2 ^ k := by
  have h : ((nI k).toInt64.toUInt64 &&& Int64.toUInt64 63).toNat % 64 = k := by
    rw [nI_l (by omega), UInt64.toNat_and]
    have e : (lN k).toUInt64.toNat = k % 2 ^ 64 := rfl
    have e2 : (Int64.toUInt64 63).toNat = 2 ^ 6 - 1 := by decide
    rw [e, e2, Nat.and_two_pow_sub_one_eq_mod]
    omega
  rw [uN_shr, h]
/-! ===== unsigned comparison by xor with the least ===== -/
theorem lN_bv (n : Nat) : (lN n).toBitVec = BitVec.ofNat 64 n := rfl
theorem lN_nat {n : Nat} (h : n < 2 ^ 64) : (lN n).toBitVec.toNat = n := by rw [lN_bv, BitVec.toNat_ofNat]; exact Nat.mod_eq_of_lt h
theorem lN_xor (a b : Nat) : lN a ^^^ lN b = lN (a ^^^ b) := by
  apply Int64.toBitVec_inj.mp; rw [Int64.toBitVec_xor, lN_bv, lN_bv, lN_bv]; apply BitVec.eq_of_getLsbD_eq; intro i hi; simp [BitVec.getLsbD_ofNat, Nat.testBit_xor, hi]
theorem lN_ti {m : Nat} (h : m < 2 ^ 64) : (lN m).toInt = if m < 2 ^ 63 then (m : Int) else (m : Int) - 2 ^ 64 := by
  have c := BitVec.toInt_eq_toNat_cond (lN m).toBitVec
  rw [lN_nat h] at c
  show (lN m).toBitVec.toInt = _
  rw [c]
  split <;> split <;> omega
theorem xor63 {x : Nat} (h : x < 2 ^ 63) : x ^^^ 2 ^ 63 = 2 ^ 63 + x := by
  apply Nat.eq_of_testBit_eq
  intro i
  rw [Nat.testBit_xor, Nat.testBit_two_pow]
  rcases Nat.lt_trichotomy i 63 with z | z | z
  · rw [Nat.testBit_two_pow_add_gt z, decide_eq_false (by omega)]; simp
  · subst z; rw [Nat.testBit_two_pow_add_eq]; simp
  · have hp : 2 ^ 64 ≤ 2 ^ i := Nat.pow_le_pow_right (by decide) z
    rw [Nat.testBit_lt_two_pow (show x < 2 ^ i by omega), Nat.testBit_lt_two_pow (show 2 ^ 63 + x < 2 ^ i by omega), decide_eq_false (by omega)]; rfl
theorem xorS {a : Nat} (h : a < 2 ^ 64) : (lN a ^^^ (-9223372036854775808)).toInt = (a : Int) - 2 ^ 63 := by
  rw [show (-9223372036854775808 : Int64) = lN (2 ^ 63) from by decide +kernel, lN_xor]
  rcases Nat.lt_or_ge a (2 ^ 63) with z | z
  · rw [xor63 z, lN_ti (by omega), if_neg (by omega)]; omega
  · obtain ⟨x, rfl⟩ : ∃ x, a = 2 ^ 63 + x := ⟨a - 2 ^ 63, by omega⟩
    rw [← xor63 (by omega), Nat.xor_assoc, Nat.xor_self, Nat.xor_zero, lN_ti (by omega), if_pos (by omega), xor63 (by omega)]; omega
theorem ultL {a b : Nat} (ha : a < 2 ^ 64) (hb : b < 2 ^ 64) : ((lN b ^^^ (-9223372036854775808)) ≤ (lN a ^^^ (-9223372036854775808))) ↔ b ≤ a := by
  rw [Int64.le_iff_toInt_le, xorS ha, xorS hb]; omega
/-! ===== Int64 masks of n low bits ===== -/
theorem cr_bits (W U M : BitVec 64) : ((W &&& U) &&& (U &&& (M ^^^ BitVec.allOnes 64))) = 0#64 ↔ (W &&& U) &&& M = W &&& U := by
  constructor
  · intro h
    apply BitVec.eq_of_getLsbD_eq
    intro i hi
    have e := congrArg (fun x => BitVec.getLsbD x i) h
    simp only [BitVec.getLsbD_and, BitVec.getLsbD_xor, BitVec.getLsbD_allOnes, BitVec.getLsbD_zero, hi, decide_true] at e ⊢
    revert e
    cases W.getLsbD i <;> cases U.getLsbD i <;> cases M.getLsbD i <;> decide
  · intro h
    apply BitVec.eq_of_getLsbD_eq
    intro i hi
    have e := congrArg (fun x => BitVec.getLsbD x i) h
    simp only [BitVec.getLsbD_and, BitVec.getLsbD_xor, BitVec.getLsbD_allOnes, BitVec.getLsbD_zero, hi, decide_true] at e ⊢
    revert e
    cases W.getLsbD i <;> cases U.getLsbD i <;> cases M.getLsbD i <;> decide
theorem cr_mask (w U m : Int64) (n : Nat) (hm : m.toBitVec.toNat = 2 ^ n - 1) : ((w &&& U) &&& (U &&& (m ^^^ (-1)))) = 0 ↔ (w &&& U).toBitVec.toNat < 2 ^ n := by
  have e0 : (-1 : Int64).toBitVec = BitVec.allOnes 64 := by decide
  have z0 : (0 : Int64).toBitVec = 0#64 := by decide
  rw [← Int64.toBitVec_inj, z0, Int64.toBitVec_and, Int64.toBitVec_and, Int64.toBitVec_and, Int64.toBitVec_xor, e0, cr_bits]
  generalize w.toBitVec &&& U.toBitVec = T
  rw [← BitVec.toNat_inj, BitVec.toNat_and, hm, Nat.and_two_pow_sub_one_eq_mod]
  constructor
  · intro h
    have t := Nat.mod_lt T.toNat (Nat.two_pow_pos n)
    rw [h] at t
    exact t
  · exact Nat.mod_eq_of_lt
theorem cr_shr (t : Int64) (x : UInt64) (n : Nat) (hx : x.toNat % 64 = n) : (t.toUInt64 >>> x).toInt64 = 0 ↔ t.toBitVec.toNat < 2 ^ n := by
  rw [← Int64.toBitVec_inj, ← BitVec.toNat_inj]
  show (t.toUInt64 >>> x).toNat = 0 ↔ t.toUInt64.toNat < 2 ^ n
  rw [UInt64.toNat_shiftRight, hx, Nat.shiftRight_eq_div_pow]
  constructor
  · intro h
    have d : t.toUInt64.toNat / 2 ^ n < 1 := by
      rw [h]
      decide
    have e := (Nat.div_lt_iff_lt_mul (Nat.two_pow_pos n)).mp d
    rw [Nat.one_mul] at e
    exact e
  · exact Nat.div_eq_of_lt
theorem cr_amt (s : Int64) : ∃ n, n < 64 ∧ s &&& 63 = lN n ∧ (s.toUInt64 &&& Int64.toUInt64 63).toNat % 64 = n := by
  have e : (s.toUInt64 &&& Int64.toUInt64 63).toNat = s.toUInt64.toNat % 2 ^ 6 := by
    rw [UInt64.toNat_and, show (Int64.toUInt64 63).toNat = 2 ^ 6 - 1 from by decide, Nat.and_two_pow_sub_one_eq_mod]
  refine ⟨s.toUInt64.toNat % 2 ^ 6, by omega, ?_, by omega⟩
  rw [← Int64.toBitVec_inj, ← BitVec.toNat_inj]
  show (s.toUInt64 &&& Int64.toUInt64 63).toNat = (BitVec.ofNat 64 (s.toUInt64.toNat % 2 ^ 6)).toNat
  rw [e, BitVec.toNat_ofNat]
  omega
end
section
/-! ===== pure draughts: squares, pieces, paths, the tree of paths, the list of all moves ===== -/
def ab_col (s : Nat) : Nat := 2 * (s % 4) + (if s / 4 % 2 = 0 then 1 else 0)
/-- the neighbour of s in direction d; 32 for none -/
def ab_nb (s d : Nat) : Nat :=
  if (d < 2 ∧ s / 4 = 0) ∨ (2 ≤ d ∧ s / 4 = 7) ∨ (d % 2 = 0 ∧ ab_col s = 0) ∨ (d % 2 = 1 ∧ ab_col s = 7) then 32
  else (if d < 2 then s / 4 - 1 else s / 4 + 1) * 4 + (if d % 2 = 0 then ab_col s - 1 else ab_col s + 1) / 2
def ab_nb2 (s d : Nat) : Nat := if ab_nb s d < 32 then ab_nb (ab_nb s d) d else 32
def ab_ds (jm : Bool) (s d : Nat) : Nat := if jm = true then ab_nb2 s d else ab_nb s d
def ab_sl (s t n : Nat) : Bool := decide ((s / 4 = t / 4 + n ∨ t / 4 = s / 4 + n) ∧ (ab_col s = ab_col t + n ∨ ab_col t = ab_col s + n))
def ab_mid (s t : Nat) : Nat := 4 * ((s / 4 + t / 4) / 2) + ((ab_col s + ab_col t) / 2) / 2
/-- the side of a piece; 2 for none -/
def ab_sd (p : Nat) : Nat := if p = 1 ∨ p = 2 then 0 else if p = 3 ∨ p = 4 then 1 else 2
def ab_last (p s : Nat) : Bool := decide ((p = 1 ∧ s / 4 = 7) ∨ (p = 3 ∧ s / 4 = 0))
def ab_ah (p s t : Nat) : Bool := if p = 1 then decide (s / 4 < t / 4) else if p = 3 then decide (t / 4 < s / 4) else true
def ab_hd (p : List Nat) : Nat := p.getD 0 0
def ab_la (p : List Nat) : Nat := p.getD (p.length - 1) 0
/-- the squares jumped over -/
def ab_jl : List Nat → List Nat
  | [] => []
  | [_] => []
  | a :: b :: r => ab_mid a b :: ab_jl (b :: r)
def ab_nine (par : Nat) : List Nat := if par = 0 then [5, 6, 7, 13, 14, 15, 21, 22, 23] else [8, 9, 10, 16, 17, 18, 24, 25, 26]
theorem ab_hd_app {p : List Nat} (h : p ≠ []) (t : Nat) : ab_hd (p ++ [t]) = ab_hd p := by
  cases p with
  | nil => exact absurd rfl h
  | cons a r => rfl
theorem ab_la_app (p : List Nat) (t : Nat) : ab_la (p ++ [t]) = t := by
  unfold ab_la; simp [List.getD_eq_getElem?_getD]
theorem ab_getD_app {p : List Nat} {t i : Nat} (h : i < p.length) : (p ++ [t]).getD i 0 = p.getD i 0 := by
  simp [List.getD_eq_getElem?_getD, List.getElem?_append_left h]
theorem ab_getD_new (p : List Nat) (t : Nat) : (p ++ [t]).getD p.length 0 = t := by
  simp [List.getD_eq_getElem?_getD]
theorem ab_jl_app {p : List Nat} (h : p ≠ []) (t : Nat) : ab_jl (p ++ [t]) = ab_jl p ++ [ab_mid (ab_la p) t] := by
  induction p with
  | nil => exact absurd rfl h
  | cons a r ih =>
    cases r with
    | nil => rfl
    | cons b r =>
      have h2 := ih (by simp)
      have e : ab_la (a :: b :: r) = ab_la (b :: r) := by
        show (a :: b :: r).getD (r.length + 1) 0 = (b :: r).getD r.length 0
        rfl
      show ab_mid a b :: ab_jl ((b :: r) ++ [t]) = (ab_mid a b :: ab_jl (b :: r)) ++ [ab_mid (ab_la (a :: b :: r)) t]
      rw [h2, e]; rfl
theorem ab_split {p : List Nat} (h : p ≠ []) : p = p.dropLast ++ [ab_la p] := by
  have h1 := List.dropLast_concat_getLast h
  have h2 : ab_la p = p.getLast h := by
    have h3 := ab_la_app p.dropLast (p.getLast h)
    rw [h1] at h3
    exact h3
  rw [h2]; exact h1.symm
theorem ab_geo : ∀ s, s < 32 → ∀ t, t < 32 → ab_sl s t 2 = true → ab_mid s t ∈ ab_nine (s / 4 % 2) ∧ t / 4 % 2 = s / 4 % 2 := by decide +kernel
theorem ab_nine_len (a : Nat) : (ab_nine a).length = 9 := by unfold ab_nine; split <;> rfl
theorem ab_nine_lt : ∀ a, a < 2 → ∀ o, o ∈ ab_nine a → o < 32 := by decide +kernel

def ab_cj (B : Nat → Nat) (p : List Nat) (t : Nat) : Bool :=
  !(decide (1 < p.length) && ab_last (B (ab_hd p)) (ab_la p)) && (ab_sl (ab_la p) t 2 && (ab_ah (B (ab_hd p)) (ab_la p) t && ((decide (B t = 0) || decide (t = ab_hd p)) && (decide (ab_sd (B (ab_mid (ab_la p) t)) = 1 - ab_sd (B (ab_hd p))) && !(decide (ab_mid (ab_la p) t ∈ ab_jl p))))))
def ab_cs (B : Nat → Nat) (p : List Nat) (t : Nat) : Bool :=
  decide (p.length = 1) && (decide (B t = 0) && (ab_sl (ab_hd p) t 1 && ab_ah (B (ab_hd p)) (ab_hd p) t))
def ab_can (B : Nat → Nat) (jm : Bool) (p : List Nat) (t : Nat) : Bool := if jm = true then ab_cj B p t else ab_cs B p t
/-- the squares from t on to which the path can go on -/
def ab_cf (B : Nat → Nat) (jm : Bool) (p : List Nat) (t : Nat) : List Nat := (List.range' t (32 - t)).filter (ab_can B jm p)
def ab_L (B : Nat → Nat) (jm : Bool) : Nat → List Nat → List (List Nat)
  | 0, p => [p]
  | f + 1, p => if ab_cf B jm p 0 = [] then [p] else (ab_cf B jm p 0).flatMap (fun t => ab_L B jm f (p ++ [t]))
/-- the paths to the end below p -/
def ab_LL (B : Nat → Nat) (jm : Bool) (p : List Nat) : List (List Nat) := ab_L B jm (10 - p.length) p
def ab_R (B : Nat → Nat) (jm : Bool) (p : List Nat) (l : List Nat) : List (List Nat) := l.flatMap (fun t => ab_LL B jm (p ++ [t]))
def ab_M (B : Nat → Nat) (jm : Bool) (b : Nat) : List (List Nat) := ab_R B jm [b] (ab_cf B jm [b] 0)
/-- the paths that begin at s or behind it -/
def ab_BF (B : Nat → Nat) (m : Nat) (jm : Bool) (s : Nat) : List (List Nat) := (List.range' s (32 - s)).flatMap (fun b => if ab_sd (B b) = m then ab_M B jm b else [])
def ab_jm (B : Nat → Nat) (m : Nat) : Bool := !(ab_BF B m true 0).isEmpty
/-- all moves -/
def ab_ML (B : Nat → Nat) (m : Nat) : List (List Nat) := ab_BF B m (ab_jm B m) 0
def ab_rs (B : Nat → Nat) (m : Nat) (jm : Bool) : Nat → List Nat → List (List Nat)
  | 0, p => ab_BF B m jm (ab_hd p + 1)
  | k + 1, p => ab_R B jm p.dropLast (ab_cf B jm p.dropLast (ab_la p + 1)) ++ ab_rs B m jm k p.dropLast
/-- the moves behind path p -/
def ab_rest (B : Nat → Nat) (m : Nat) (jm : Bool) (p : List Nat) : List (List Nat) := ab_rs B m jm (p.length - 1) p
def ab_JV (p : List Nat) : Prop := (∀ i, i < p.length → p.getD i 0 / 4 % 2 = ab_hd p / 4 % 2) ∧ (ab_jl p).Nodup ∧ (∀ o, o ∈ ab_jl p → o ∈ ab_nine (ab_hd p / 4 % 2)) ∧ (ab_jl p).length + 1 = p.length
/-- a valid path -/
def ab_VP (B : Nat → Nat) (m : Nat) (jm : Bool) (p : List Nat) : Prop :=
  p ≠ [] ∧ (∀ i, i < p.length → p.getD i 0 < 32) ∧ ab_sd (B (ab_hd p)) = m ∧ m ≤ 1 ∧ (jm = true → ab_JV p) ∧ (jm = false → p.length ≤ 2) ∧ (∀ i, i < p.length → B (p.getD i 0) = 0 ∨ p.getD i 0 = ab_hd p)

section
variable {B : Nat → Nat} {m : Nat} {jm : Bool} {p : List Nat} {t : Nat}
theorem ab_cf_end (h : 32 ≤ t) : ab_cf B jm p t = [] := by
  unfold ab_cf; rw [Nat.sub_eq_zero_of_le h]; rfl
theorem ab_cf_t (h : t < 32) (hc : ab_can B jm p t = true) : ab_cf B jm p t = t :: ab_cf B jm p (t + 1) := by
  unfold ab_cf
  obtain ⟨k, hk⟩ : ∃ k, 32 - t = k + 1 := ⟨31 - t, by omega⟩
  rw [hk, List.range'_succ, List.filter_cons_of_pos hc, show 32 - (t + 1) = k by omega]
theorem ab_cf_f (h : t < 32) (hc : ab_can B jm p t = false) : ab_cf B jm p t = ab_cf B jm p (t + 1) := by
  unfold ab_cf
  obtain ⟨k, hk⟩ : ∃ k, 32 - t = k + 1 := ⟨31 - t, by omega⟩
  rw [hk, List.range'_succ, List.filter_cons_of_neg (by simp [hc]), show 32 - (t + 1) = k by omega]
theorem ab_cf_mem {s : Nat} (h : t ∈ ab_cf B jm p s) : t < 32 ∧ ab_can B jm p t = true := by
  unfold ab_cf at h
  obtain ⟨h1, h2⟩ := List.mem_filter.mp h
  have h3 := List.mem_range'_1.mp h1
  exact ⟨by omega, h2⟩
theorem ab_cf_hd {l : List Nat} : ∀ (k s : Nat), s + k = 32 → ab_cf B jm p s = t :: l → t < 32 ∧ ab_can B jm p t = true ∧ l = ab_cf B jm p (t + 1) := by
  intro k
  induction k with
  | zero => intro s hs h; rw [ab_cf_end (by omega)] at h; exact absurd h (by simp)
  | succ k ih =>
    intro s hs h
    cases e : ab_can B jm p s with
    | false => rw [ab_cf_f (by omega) e] at h; exact ih (s + 1) (by omega) h
    | true =>
      rw [ab_cf_t (by omega) e] at h
      obtain ⟨h1, h2⟩ := List.cons.inj h
      subst h1
      exact ⟨by omega, e, h2.symm⟩
theorem ab_VP_one {b : Nat} (hb : b < 32) (hs : ab_sd (B b) = m) (hm : m ≤ 1) : ab_VP B m jm [b] := by
  have h0 : ∀ i, i < [b].length → i = 0 := fun i hi => by simp at hi; exact hi
  refine ⟨by simp, ?_, hs, hm, fun _ => ⟨?_, by simp [ab_jl], by simp [ab_jl], rfl⟩, fun _ => by simp, fun i hi => Or.inr (by rw [h0 i hi]; rfl)⟩
  · intro i hi
    rw [h0 i hi]
    exact hb
  · intro i hi
    rw [h0 i hi]
    rfl
theorem ab_VP_la (h : ab_VP B m jm p) : ab_la p < 32 :=
  h.2.1 _ (by have := List.length_pos_iff.mpr h.1; omega)
theorem ab_VP_hd (h : ab_VP B m jm p) : ab_hd p < 32 :=
  h.2.1 _ (List.length_pos_iff.mpr h.1)
theorem ab_VP_pos (h : ab_VP B m jm p) : 0 < p.length := List.length_pos_iff.mpr h.1
theorem ab_cj_iff : ab_cj B p t = true ↔ (¬ (1 < p.length ∧ ab_last (B (ab_hd p)) (ab_la p) = true) ∧ ab_sl (ab_la p) t 2 = true ∧ ab_ah (B (ab_hd p)) (ab_la p) t = true ∧ (B t = 0 ∨ t = ab_hd p) ∧ ab_sd (B (ab_mid (ab_la p) t)) = 1 - ab_sd (B (ab_hd p)) ∧ ¬ ab_mid (ab_la p) t ∈ ab_jl p) := by
  unfold ab_cj
  rw [Bool.and_eq_true, Bool.and_eq_true, Bool.and_eq_true, Bool.and_eq_true, Bool.and_eq_true, Bool.or_eq_true, Bool.not_eq_true', Bool.not_eq_true', decide_eq_true_iff, decide_eq_true_iff, decide_eq_true_iff, decide_eq_false_iff_not]
  rw [← Bool.not_eq_true, Bool.and_eq_true, decide_eq_true_iff]
theorem ab_cs_iff : ab_cs B p t = true ↔ (p.length = 1 ∧ B t = 0 ∧ ab_sl (ab_hd p) t 1 = true ∧ ab_ah (B (ab_hd p)) (ab_hd p) t = true) := by
  unfold ab_cs
  rw [Bool.and_eq_true, Bool.and_eq_true, Bool.and_eq_true, decide_eq_true_iff, decide_eq_true_iff]
theorem ab_VP_app (h : ab_VP B m jm p) (ht : t < 32) (hc : ab_can B jm p t = true) : ab_VP B m jm (p ++ [t]) := by
  have hla := ab_VP_la h
  obtain ⟨h1, h2, h3, h4, h5, h6, h7⟩ := h
  refine ⟨by simp, ?_, by rw [ab_hd_app h1]; exact h3, h4, ?_, ?_, ?_⟩
  · intro i hi
    rcases Nat.lt_or_ge i p.length with h | h
    · rw [ab_getD_app h]; exact h2 i h
    · have e : i = p.length := by simp at hi; omega
      rw [e, ab_getD_new]; exact ht
  · intro hj
    subst hj
    obtain ⟨a0, a2, a3, a4⟩ := h5 rfl
    have a1 : ab_la p / 4 % 2 = ab_hd p / 4 % 2 := a0 _ (by have := List.length_pos_iff.mpr h1; omega)
    obtain ⟨_, c2, _, _, _, c6⟩ := ab_cj_iff.mp (show ab_cj B p t = true from hc)
    have hg := ab_geo _ hla _ ht c2
    refine ⟨?_, ?_, ?_, ?_⟩
    · intro i hi
      rw [ab_hd_app h1]
      rcases Nat.lt_or_ge i p.length with h | h
      · rw [ab_getD_app h]; exact a0 i h
      · have e : i = p.length := by simp at hi; omega
        rw [e, ab_getD_new, hg.2, a1]
    · rw [ab_jl_app h1]
      refine List.nodup_append.mpr ⟨a2, by simp, ?_⟩
      intro a ha b hb
      have : b = ab_mid (ab_la p) t := by simpa using hb
      rw [this]
      intro e
      exact c6 (e ▸ ha)
    · rw [ab_jl_app h1, ab_hd_app h1]
      intro o ho
      rcases List.mem_append.mp ho with ho | ho
      · exact a3 o ho
      · have : o = ab_mid (ab_la p) t := by simpa using ho
        rw [this, ← a1]; exact hg.1
    · rw [ab_jl_app h1]; simp; omega
  · intro hj
    subst hj
    have := (ab_cs_iff.mp (show ab_cs B p t = true from hc)).1
    simp [this]
  · intro i hi
    rw [ab_hd_app h1]
    rcases Nat.lt_or_ge i p.length with h | h
    · rw [ab_getD_app h]; exact h7 i h
    · have e : i = p.length := by simp at hi; omega
      rw [e, ab_getD_new]
      cases jm with
      | true => exact (ab_cj_iff.mp (show ab_cj B p t = true from hc)).2.2.2.1
      | false => exact Or.inl (ab_cs_iff.mp (show ab_cs B p t = true from hc)).2.1
theorem ab_VP_pre (h : ab_VP B m jm (p ++ [t])) (h1 : p ≠ []) : ab_VP B m jm p := by
  obtain ⟨_, h2, h3, h4, h5, h6, h7⟩ := h
  rw [ab_hd_app h1] at h3
  refine ⟨h1, ?_, h3, h4, ?_, ?_, ?_⟩
  · intro i hi
    have := h2 i (by simp; omega)
    rw [ab_getD_app hi] at this
    exact this
  · intro hj
    obtain ⟨a0, a2, a3, a4⟩ := h5 hj
    rw [ab_jl_app h1] at a2 a3 a4
    rw [ab_hd_app h1] at a3 a0
    refine ⟨?_, (List.nodup_append.mp a2).1, fun o ho => a3 o (List.mem_append_left _ ho), ?_⟩
    · intro i hi
      have := a0 i (by simp; omega)
      rw [ab_getD_app hi] at this
      exact this
    · simp at a4; omega
  · intro hj
    have := h6 hj
    simp at this
    omega
  · intro i hi
    have := h7 i (by simp; omega)
    rw [ab_getD_app hi, ab_hd_app h1] at this
    exact this
theorem ab_VP_len (h : ab_VP B m jm p) : p.length ≤ 10 := by
  cases jm with
  | false => have := h.2.2.2.2.2.1 rfl; omega
  | true =>
    obtain ⟨_, a2, a3, a4⟩ := h.2.2.2.2.1 rfl
    have := List.Nodup.length_le_of_subset a2 (l₂ := ab_nine (ab_hd p / 4 % 2)) (fun x hx => a3 x hx)
    rw [ab_nine_len] at this
    omega
theorem ab_VP_ten (h : ab_VP B m jm p) (h10 : p.length = 10) (s : Nat) : ab_cf B jm p s = [] := by
  cases e : ab_cf B jm p s with
  | nil => rfl
  | cons a r =>
    have hm := ab_cf_mem (t := a) (s := s) (by rw [e]; simp)
    have := ab_VP_len (ab_VP_app h hm.1 hm.2)
    simp at this
    omega
theorem ab_LL_eq (h : ab_VP B m jm p) : ab_LL B jm p = if ab_cf B jm p 0 = [] then [p] else ab_R B jm p (ab_cf B jm p 0) := by
  have hl := ab_VP_len h
  unfold ab_LL
  cases e : 10 - p.length with
  | zero => rw [ab_VP_ten h (by omega), if_pos rfl]; rfl
  | succ f =>
    unfold ab_R ab_LL
    have : ∀ t : Nat, 10 - (p ++ [t]).length = f := fun t => by simp; omega
    simp only [this]
    rfl
theorem ab_LL_nil (h : ab_VP B m jm p) (e : ab_cf B jm p 0 = []) : ab_LL B jm p = [p] := by rw [ab_LL_eq h, if_pos e]
theorem ab_LL_cons (h : ab_VP B m jm p) (e : ab_cf B jm p 0 ≠ []) : ab_LL B jm p = ab_R B jm p (ab_cf B jm p 0) := by rw [ab_LL_eq h, if_neg e]
theorem ab_R_nil : ab_R B jm p [] = [] := rfl
theorem ab_R_cons {l : List Nat} : ab_R B jm p (t :: l) = ab_LL B jm (p ++ [t]) ++ ab_R B jm p l := by
  unfold ab_R; rw [List.flatMap_cons]
theorem ab_L_ne (f : Nat) : ∀ p : List Nat, ab_L B jm f p ≠ [] := by
  induction f with
  | zero => intro p; simp [ab_L]
  | succ f ih =>
    intro p
    unfold ab_L
    cases e : ab_cf B jm p 0 with
    | nil => simp
    | cons a r =>
      rw [if_neg (by simp), List.flatMap_cons]
      intro h
      exact ih _ (List.append_eq_nil_iff.mp h).1
theorem ab_LL_ne : ab_LL B jm p ≠ [] := ab_L_ne _ _
theorem ab_R_ne {l : List Nat} (h : l ≠ []) : ab_R B jm p l ≠ [] := by
  cases l with
  | nil => exact absurd rfl h
  | cons a r =>
    rw [ab_R_cons]
    intro h
    exact ab_LL_ne (List.append_eq_nil_iff.mp h).1
theorem ab_rest_app (h : p ≠ []) : ab_rest B m jm (p ++ [t]) = ab_R B jm p (ab_cf B jm p (t + 1)) ++ ab_rest B m jm p := by
  unfold ab_rest
  have e : (p ++ [t]).length - 1 = (p.length - 1) + 1 := by
    have := List.length_pos_iff.mpr h
    simp; omega
  rw [e]
  show ab_R B jm (p ++ [t]).dropLast (ab_cf B jm (p ++ [t]).dropLast (ab_la (p ++ [t]) + 1)) ++ ab_rs B m jm (p.length - 1) (p ++ [t]).dropLast = _
  rw [List.dropLast_concat, ab_la_app]
theorem ab_rest_one {b : Nat} : ab_rest B m jm [b] = ab_BF B m jm (b + 1) := rfl
theorem ab_BF_end {s : Nat} (h : 32 ≤ s) : ab_BF B m jm s = [] := by
  unfold ab_BF; rw [Nat.sub_eq_zero_of_le h]; rfl
theorem ab_BF_t {s : Nat} (h : s < 32) (hs : ab_sd (B s) = m) : ab_BF B m jm s = ab_M B jm s ++ ab_BF B m jm (s + 1) := by
  unfold ab_BF
  obtain ⟨k, hk⟩ : ∃ k, 32 - s = k + 1 := ⟨31 - s, by omega⟩
  rw [hk, List.range'_succ, List.flatMap_cons, if_pos hs, show 32 - (s + 1) = k by omega]
theorem ab_BF_f {s : Nat} (h : s < 32) (hs : ab_sd (B s) ≠ m) : ab_BF B m jm s = ab_BF B m jm (s + 1) := by
  unfold ab_BF
  obtain ⟨k, hk⟩ : ∃ k, 32 - s = k + 1 := ⟨31 - s, by omega⟩
  rw [hk, List.range'_succ, List.flatMap_cons, if_neg hs, show 32 - (s + 1) = k by omega]
  rfl
theorem ab_M_eq {b : Nat} (h : ab_VP B m jm [b]) (e : ab_cf B jm [b] 0 ≠ []) : ab_M B jm b = ab_LL B jm [b] := by
  rw [ab_LL_cons h e]; rfl
theorem ab_M_nil {b : Nat} (e : ab_cf B jm [b] 0 = []) : ab_M B jm b = [] := by
  unfold ab_M; rw [e]; rfl
theorem ab_jm_t (h : ab_BF B m true 0 ≠ []) : ab_jm B m = true := by
  unfold ab_jm
  cases e : ab_BF B m true 0 with
  | nil => exact absurd e h
  | cons a r => rfl
theorem ab_jm_f (h : ab_BF B m true 0 = []) : ab_jm B m = false := by
  unfold ab_jm; rw [h]; rfl
end
end
section
/-! ===== children by direction, counts and bounds, the board after a move ===== -/
def ab_dl (B : Nat → Nat) (jm : Bool) (p : List Nat) (d : Nat) : List Nat := ((List.range' d (4 - d)).map (ab_ds jm (ab_la p))).filter (fun t => decide (t < 32) && ab_can B jm p t)
theorem ab_ord2 : ∀ s, s < 32 → (List.range' 0 32).filter (fun t => ab_sl s t 2) = ((List.range' 0 4).map (ab_nb2 s)).filter (fun t => decide (t < 32)) := by decide +kernel
theorem ab_ord1 : ∀ s, s < 32 → (List.range' 0 32).filter (fun t => ab_sl s t 1) = ((List.range' 0 4).map (ab_nb s)).filter (fun t => decide (t < 32)) := by decide +kernel
theorem ab_dir2a : ∀ s, s < 32 → ∀ d, d < 4 → ab_nb2 s d < 32 → ab_nb s d < 32 ∧ ab_sl s (ab_nb2 s d) 2 = true ∧ ab_mid s (ab_nb2 s d) = ab_nb s d := by decide +kernel
theorem ab_dir2b : ∀ s, s < 32 → ∀ d, d < 4 → ab_nb2 s d < 32 → (s / 4 < ab_nb2 s d / 4 ↔ 2 ≤ d) ∧ (ab_nb2 s d / 4 < s / 4 ↔ d < 2) := by decide +kernel
theorem ab_dir2 (s : Nat) (hs : s < 32) (d : Nat) (hd : d < 4) (h : ab_nb2 s d < 32) : ab_nb s d < 32 ∧ ab_sl s (ab_nb2 s d) 2 = true ∧ ab_mid s (ab_nb2 s d) = ab_nb s d ∧ (s / 4 < ab_nb2 s d / 4 ↔ 2 ≤ d) ∧ (ab_nb2 s d / 4 < s / 4 ↔ d < 2) :=
  ⟨(ab_dir2a s hs d hd h).1, (ab_dir2a s hs d hd h).2.1, (ab_dir2a s hs d hd h).2.2, (ab_dir2b s hs d hd h).1, (ab_dir2b s hs d hd h).2⟩
theorem ab_dir1 : ∀ s, s < 32 → ∀ d, d < 4 → ab_nb s d < 32 → ab_sl s (ab_nb s d) 1 = true ∧ (s / 4 < ab_nb s d / 4 ↔ 2 ≤ d) ∧ (ab_nb s d / 4 < s / 4 ↔ d < 2) := by decide +kernel
def ab_N (B : Nat → Nat) (jm : Bool) : Nat → List Nat → Nat
  | 0, _ => 1
  | f + 1, p => 1 + ((ab_cf B jm p 0).map (fun t => ab_N B jm f (p ++ [t]))).sum
def ab_NN (B : Nat → Nat) (jm : Bool) (p : List Nat) : Nat := ab_N B jm (10 - p.length) p
def ab_NS (B : Nat → Nat) (jm : Bool) (p : List Nat) (l : List Nat) : Nat := (l.map (fun t => ab_NN B jm (p ++ [t]))).sum
def ab_FN : Nat → Nat → List Nat → Nat
  | 0, _, _ => 1
  | f + 1, s, g => 1 + ((List.range' 0 4).map (fun d => if ab_nb2 s d < 32 ∧ ¬ ab_nb s d ∈ g then ab_FN f (ab_nb2 s d) (ab_nb s d :: g) else 0)).sum
def ab_FL : Nat → Nat → List Nat → Nat
  | 0, _, _ => 1
  | f + 1, s, g => max 1 ((List.range' 0 4).map (fun d => if ab_nb2 s d < 32 ∧ ¬ ab_nb s d ∈ g then ab_FL f (ab_nb2 s d) (ab_nb s d :: g) else 0)).sum
theorem ab_FN_all : ∀ b, b < 32 → ab_FN 9 b [] ≤ 60 := by decide +kernel
theorem ab_FL_all : ((List.range' 0 32).map (fun b => ab_FL 9 b [])).sum ≤ 424 := by decide +kernel
theorem ab_sum_le (P : Nat → Bool) (F G H : Nat → Nat) : ∀ l : List Nat, (∀ d, d ∈ l → P (F d) = true → G (F d) ≤ H d) → (((l.map F).filter P).map G).sum ≤ (l.map H).sum := by
  intro l
  induction l with
  | nil => intro _; exact Nat.le_refl _
  | cons a r ih =>
    intro h
    have h1 := ih (fun d hd => h d (List.mem_cons_of_mem _ hd))
    rw [List.map_cons, List.map_cons, List.sum_cons]
    cases e : P (F a) with
    | true =>
      rw [List.filter_cons_of_pos e, List.map_cons, List.sum_cons]
      have := h a (List.mem_cons_self ..) e
      omega
    | false =>
      rw [List.filter_cons_of_neg (by simp [e])]
      omega
theorem ab_sum_le' (F H : Nat → Nat) : ∀ l : List Nat, (∀ d, d ∈ l → F d ≤ H d) → (l.map F).sum ≤ (l.map H).sum := by
  intro l
  induction l with
  | nil => intro _; exact Nat.le_refl _
  | cons a r ih =>
    intro h
    have h1 := ih (fun d hd => h d (List.mem_cons_of_mem _ hd))
    rw [List.map_cons, List.map_cons, List.sum_cons, List.sum_cons]
    have := h a (List.mem_cons_self ..)
    omega
/-- what node p, from direction d on, gives -/
def ab_E (B : Nat → Nat) (jm : Bool) (p : List Nat) (d : Nat) (lo : Bool) : List (List Nat) :=
  if 1 < p.length ∧ lo = false ∧ ab_dl B jm p d = [] then [p] else ab_R B jm p (ab_dl B jm p d)
def ab_tk (jm : Bool) (p : List Nat) : List Nat := if jm = true then ab_jl p else []
def ab_mx (jm : Bool) (l : List (List Nat)) : Nat := l.foldl (fun a p => max a (ab_tk jm p).length) 0
/-- the board after move p -/
def ab_aft (B : Nat → Nat) (jm : Bool) (p : List Nat) : Nat → Nat := fun s =>
  if s = ab_la p then (if ab_last (B (ab_hd p)) (ab_la p) = true then B (ab_hd p) + 1 else B (ab_hd p))
  else if s = ab_hd p ∨ s ∈ ab_tk jm p then 0 else B s
def ab_PL : Nat → (Nat → Nat) → Nat → Nat
  | 0, B, m => (ab_ML B m).length
  | e + 1, B, m => ((ab_ML B m).map (fun p => ab_PL e (ab_aft B (ab_jm B m) p) (1 - m))).sum
def ab_ct (P : Nat → Bool) : Nat → Nat
  | 0 => 0
  | n + 1 => ab_ct P n + (if P n = true then 1 else 0)
theorem ab_ct_congr {P Q : Nat → Bool} {n : Nat} (h : ∀ i, i < n → P i = Q i) : ab_ct P n = ab_ct Q n := by
  induction n with
  | zero => rfl
  | succ n ih =>
    show ab_ct P n + _ = ab_ct Q n + _
    rw [ih (fun i hi => h i (by omega)), h n (by omega)]
theorem ab_ct_ins {P : Nat → Bool} {a : Nat} (hP : P a = false) : ∀ n, ab_ct (fun i => P i || decide (i = a)) n = ab_ct P n + (if a < n then 1 else 0) := by
  intro n
  induction n with
  | zero => rfl
  | succ n ih =>
    show ab_ct (fun i => P i || decide (i = a)) n + (if (P n || decide (n = a)) = true then 1 else 0) = ab_ct P n + (if P n = true then 1 else 0) + _
    rw [ih]
    rcases Nat.lt_trichotomy a n with h | h | h
    · rw [if_pos h, if_pos (show a < n + 1 by omega), show decide (n = a) = false from decide_eq_false (by omega), Bool.or_false]
      omega
    · subst h
      rw [if_neg (Nat.lt_irrefl _), if_pos (Nat.lt_succ_self _), hP]
      simp
    · rw [if_neg (show ¬ a < n by omega), if_neg (show ¬ a < n + 1 by omega), show decide (n = a) = false from decide_eq_false (by omega), Bool.or_false]
      omega
theorem ab_ct_list : ∀ (l : List Nat) (n : Nat), l.Nodup → (∀ x, x ∈ l → x < n) → ab_ct (fun i => decide (i ∈ l)) n = l.length := by
  intro l n
  induction l with
  | nil =>
    intro _ _
    induction n with
    | zero => rfl
    | succ n ih =>
      show ab_ct _ n + _ = _
      rw [ih (by simp)]; simp
  | cons a r ih =>
    intro h1 h2
    have h3 := List.nodup_cons.mp h1
    have h4 := ih h3.2 (fun x hx => h2 x (List.mem_cons_of_mem _ hx))
    have h5 := ab_ct_ins (P := fun i => decide (i ∈ r)) (a := a) (decide_eq_false h3.1) n
    rw [if_pos (h2 a (List.mem_cons_self ..)), h4] at h5
    rw [List.length_cons, ← h5]
    refine ab_ct_congr (fun i _ => ?_)
    by_cases e : i = a
    · subst e; simp
    · simp [e]
theorem ab_mx_app {jm : Bool} {l : List (List Nat)} {p : List Nat} : ab_mx jm (l ++ [p]) = max (ab_mx jm l) (ab_tk jm p).length := by
  unfold ab_mx; rw [List.foldl_append]; rfl

section
variable {B : Nat → Nat} {m : Nat} {jm : Bool} {p : List Nat} {t d : Nat}
theorem ab_dl_end (h : 4 ≤ d) : ab_dl B jm p d = [] := by
  unfold ab_dl; rw [Nat.sub_eq_zero_of_le h]; rfl
theorem ab_dl_t (h : d < 4) (ht : ab_ds jm (ab_la p) d < 32) (hc : ab_can B jm p (ab_ds jm (ab_la p) d) = true) : ab_dl B jm p d = ab_ds jm (ab_la p) d :: ab_dl B jm p (d + 1) := by
  unfold ab_dl
  obtain ⟨k, hk⟩ : ∃ k, 4 - d = k + 1 := ⟨3 - d, by omega⟩
  rw [hk, List.range'_succ, List.map_cons, List.filter_cons_of_pos (by rw [hc, decide_eq_true ht]; rfl), show 4 - (d + 1) = k by omega]
theorem ab_dl_f (h : d < 4) (hc : ¬ (ab_ds jm (ab_la p) d < 32 ∧ ab_can B jm p (ab_ds jm (ab_la p) d) = true)) : ab_dl B jm p d = ab_dl B jm p (d + 1) := by
  unfold ab_dl
  obtain ⟨k, hk⟩ : ∃ k, 4 - d = k + 1 := ⟨3 - d, by omega⟩
  rw [hk, List.range'_succ, List.map_cons, List.filter_cons_of_neg (by rw [Bool.and_eq_true, decide_eq_true_iff]; exact hc), show 4 - (d + 1) = k by omega]
theorem ab_cf_dlT (h : ab_VP B m true p) : ab_cf B true p 0 = ab_dl B true p 0 := by
  have hla := ab_VP_la h
  have e1 : ∀ l : List Nat, l.filter (ab_can B true p) = (l.filter (fun t => ab_sl (ab_la p) t 2)).filter (ab_can B true p) := by
    intro l
    rw [List.filter_filter]
    refine List.filter_congr (fun x _ => ?_)
    cases hx : ab_can B true p x with
    | false => rfl
    | true => rw [(ab_cj_iff.mp (show ab_cj B p x = true from hx)).2.1]; rfl
  have e2 : ab_ds true (ab_la p) = ab_nb2 (ab_la p) := funext fun _ => rfl
  unfold ab_cf ab_dl
  rw [e1, e2]
  show ((List.range' 0 32).filter (fun t => ab_sl (ab_la p) t 2)).filter (ab_can B true p) = ((List.range' 0 4).map (ab_nb2 (ab_la p))).filter _
  rw [ab_ord2 _ hla, List.filter_filter]
  exact List.filter_congr (fun x _ => Bool.and_comm _ _)
theorem ab_cf_dlF {b : Nat} (hb : b < 32) : ab_cf B false [b] 0 = ab_dl B false [b] 0 := by
  have e1 : ∀ l : List Nat, l.filter (ab_can B false [b]) = (l.filter (fun t => ab_sl b t 1)).filter (ab_can B false [b]) := by
    intro l
    rw [List.filter_filter]
    refine List.filter_congr (fun x _ => ?_)
    cases hx : ab_can B false [b] x with
    | false => rfl
    | true => rw [show ab_sl b x 1 = true from (ab_cs_iff.mp (show ab_cs B [b] x = true from hx)).2.2.1]; rfl
  have e2 : ab_ds false (ab_la [b]) = ab_nb b := funext fun _ => rfl
  unfold ab_cf ab_dl
  rw [e1, e2]
  show ((List.range' 0 32).filter (fun t => ab_sl b t 1)).filter (ab_can B false [b]) = ((List.range' 0 4).map (ab_nb b)).filter _
  rw [ab_ord1 _ hb, List.filter_filter]
  exact List.filter_congr (fun x _ => Bool.and_comm _ _)
theorem ab_cf_dl {b : Nat} (h : ab_VP B m jm [b]) : ab_cf B jm [b] 0 = ab_dl B jm [b] 0 := by
  cases jm with
  | true => exact ab_cf_dlT h
  | false => exact ab_cf_dlF (ab_VP_hd h)
theorem ab_cf_two {s : Nat} (h : p.length ≠ 1) : ab_cf B false p s = [] := by
  unfold ab_cf
  refine List.filter_eq_nil_iff.mpr (fun a _ ha => h ?_)
  exact (ab_cs_iff.mp (show ab_cs B p a = true from ha)).1
theorem ab_NN_eq (h : ab_VP B m jm p) : ab_NN B jm p = 1 + ab_NS B jm p (ab_cf B jm p 0) := by
  have hl := ab_VP_len h
  unfold ab_NN
  cases e : 10 - p.length with
  | zero => rw [ab_VP_ten h (by omega)]; rfl
  | succ f =>
    unfold ab_NS ab_NN
    have : ∀ t : Nat, 10 - (p ++ [t]).length = f := fun t => by simp; omega
    simp only [this]
    rfl
theorem ab_NS_nil : ab_NS B jm p [] = 0 := rfl
theorem ab_NS_cons {l : List Nat} : ab_NS B jm p (t :: l) = ab_NN B jm (p ++ [t]) + ab_NS B jm p l := rfl
theorem ab_N_le (f : Nat) : ∀ (p g : List Nat), ab_VP B m true p → (∀ o, o ∈ g → o ∈ ab_jl p) → ab_N B true f p ≤ ab_FN f (ab_la p) g := by
  induction f with
  | zero => intro p g _ _; exact Nat.le_refl _
  | succ f ih =>
    intro p g h hg
    have hla := ab_VP_la h
    show 1 + ((ab_cf B true p 0).map (fun t => ab_N B true f (p ++ [t]))).sum ≤ 1 + _
    rw [ab_cf_dlT h]
    refine Nat.add_le_add_left ?_ 1
    refine ab_sum_le (fun t => decide (t < 32) && ab_can B true p t) (ab_ds true (ab_la p)) (fun t => ab_N B true f (p ++ [t])) _ (List.range' 0 4) ?_
    intro d hd hP
    have hd4 := List.mem_range'_1.mp hd
    rw [Bool.and_eq_true, decide_eq_true_iff] at hP
    obtain ⟨ht, hc⟩ := hP
    obtain ⟨g1, g2, g3, _, _⟩ := ab_dir2 _ hla d (by omega) ht
    have c6 := (ab_cj_iff.mp (show ab_cj B p (ab_nb2 (ab_la p) d) = true from hc)).2.2.2.2.2
    rw [g3] at c6
    rw [if_pos ⟨ht, fun hh => c6 (hg _ hh)⟩]
    have h3 := ih (p ++ [ab_nb2 (ab_la p) d]) (ab_nb (ab_la p) d :: g) (ab_VP_app h ht hc) (by
      intro o ho
      rw [ab_jl_app h.1, g3]
      rcases List.mem_cons.mp ho with ho | ho
      · rw [ho]; simp
      · exact List.mem_append_left _ (hg o ho))
    rw [ab_la_app] at h3
    exact h3
theorem ab_L_le (f : Nat) : ∀ (p g : List Nat), ab_VP B m true p → (∀ o, o ∈ g → o ∈ ab_jl p) → (ab_L B true f p).length ≤ ab_FL f (ab_la p) g := by
  induction f with
  | zero => intro p g _ _; exact Nat.le_refl _
  | succ f ih =>
    intro p g h hg
    have hla := ab_VP_la h
    show (if ab_cf B true p 0 = [] then [p] else (ab_cf B true p 0).flatMap (fun t => ab_L B true f (p ++ [t]))).length ≤ max 1 _
    by_cases e : ab_cf B true p 0 = []
    · rw [if_pos e]; exact Nat.le_max_left 1 _
    · rw [if_neg e, List.length_flatMap, ab_cf_dlT h]
      refine Nat.le_trans ?_ (Nat.le_max_right 1 _)
      refine ab_sum_le (fun t => decide (t < 32) && ab_can B true p t) (ab_ds true (ab_la p)) (fun t => (ab_L B true f (p ++ [t])).length) _ (List.range' 0 4) ?_
      intro d hd hP
      have hd4 := List.mem_range'_1.mp hd
      rw [Bool.and_eq_true, decide_eq_true_iff] at hP
      obtain ⟨ht, hc⟩ := hP
      obtain ⟨g1, g2, g3, _, _⟩ := ab_dir2 _ hla d (by omega) ht
      have c6 := (ab_cj_iff.mp (show ab_cj B p (ab_nb2 (ab_la p) d) = true from hc)).2.2.2.2.2
      rw [g3] at c6
      rw [if_pos ⟨ht, fun hh => c6 (hg _ hh)⟩]
      have h3 := ih (p ++ [ab_nb2 (ab_la p) d]) (ab_nb (ab_la p) d :: g) (ab_VP_app h ht hc) (by
        intro o ho
        rw [ab_jl_app h.1, g3]
        rcases List.mem_cons.mp ho with ho | ho
        · rw [ho]; simp
        · exact List.mem_append_left _ (hg o ho))
      rw [ab_la_app] at h3
      exact h3
theorem ab_NN_le {b : Nat} (h : ab_VP B m true [b]) : ab_NN B true [b] ≤ 60 :=
  Nat.le_trans (ab_N_le 9 [b] [] h (fun o ho => absurd ho (by simp))) (ab_FN_all _ (ab_VP_la h))
theorem ab_M_lenT {b : Nat} (h : ab_VP B m true [b]) : (ab_M B true b).length ≤ ab_FL 9 b [] := by
  by_cases e : ab_cf B true [b] 0 = []
  · rw [ab_M_nil e]; exact Nat.zero_le _
  · rw [ab_M_eq h e]
    exact ab_L_le 9 [b] [] h (fun o ho => absurd ho (by simp))
theorem ab_LL_two (h : ab_VP B m false p) (h2 : p.length ≠ 1) : ab_LL B false p = [p] := ab_LL_nil h (ab_cf_two h2)
theorem ab_M_lenF {b : Nat} (h : ab_VP B m false [b]) : (ab_M B false b).length ≤ 4 := by
  unfold ab_M ab_R
  rw [List.length_flatMap, ab_cf_dlF (show b < 32 from ab_VP_hd h)]
  refine Nat.le_trans (ab_sum_le (fun t => decide (t < 32) && ab_can B false [b] t) (ab_ds false (ab_la [b])) (fun t => (ab_LL B false ([b] ++ [t])).length) (fun _ => 1) (List.range' 0 4) ?_) (by decide)
  intro d _ hP
  rw [Bool.and_eq_true, decide_eq_true_iff] at hP
  have := ab_LL_two (ab_VP_app h hP.1 hP.2) (by simp)
  rw [this]
  exact Nat.le_refl _
theorem ab_ML_len (hm : m ≤ 1) : (ab_ML B m).length ≤ 424 := by
  unfold ab_ML ab_BF
  rw [List.length_flatMap]
  cases ab_jm B m with
  | true =>
    refine Nat.le_trans (ab_sum_le' _ (fun b => ab_FL 9 b []) (List.range' 0 32) ?_) ab_FL_all
    intro b hb
    have hb2 := List.mem_range'_1.mp hb
    split
    · next hs => exact ab_M_lenT (ab_VP_one (by omega) hs hm)
    · exact Nat.zero_le _
  | false =>
    refine Nat.le_trans (ab_sum_le' _ (fun b => 4) (List.range' 0 32) ?_) (by decide)
    intro b hb
    have hb2 := List.mem_range'_1.mp hb
    split
    · next hs => exact ab_M_lenF (ab_VP_one (by omega) hs hm)
    · exact Nat.zero_le _
theorem ab_L_mem (f : Nat) : ∀ (p q : List Nat), ab_VP B m jm p → q ∈ ab_L B jm f p → ab_VP B m jm q ∧ p.length ≤ q.length := by
  induction f with
  | zero =>
    intro p q h hq
    have : q = p := by simpa [ab_L] using hq
    rw [this]; exact ⟨h, Nat.le_refl _⟩
  | succ f ih =>
    intro p q h hq
    unfold ab_L at hq
    by_cases e : ab_cf B jm p 0 = []
    · rw [if_pos e] at hq
      have : q = p := by simpa using hq
      rw [this]; exact ⟨h, Nat.le_refl _⟩
    · rw [if_neg e] at hq
      obtain ⟨t, ht, hq⟩ := List.mem_flatMap.mp hq
      have hm := ab_cf_mem ht
      have h2 := ih _ q (ab_VP_app h hm.1 hm.2) hq
      refine ⟨h2.1, ?_⟩
      have := h2.2
      simp at this
      omega
theorem ab_ML_mem {q : List Nat} (hm : m ≤ 1) (hq : q ∈ ab_ML B m) : ab_VP B m (ab_jm B m) q ∧ 1 < q.length := by
  unfold ab_ML ab_BF at hq
  obtain ⟨b, hb, hq⟩ := List.mem_flatMap.mp hq
  have hb2 := List.mem_range'_1.mp hb
  split at hq
  · next hs =>
    obtain ⟨t, ht, hq⟩ := List.mem_flatMap.mp hq
    have hc := ab_cf_mem ht
    have h1 : ab_VP B m (ab_jm B m) [b] := ab_VP_one (by omega) hs hm
    have h2 := ab_L_mem _ _ q (ab_VP_app h1 hc.1 hc.2) hq
    refine ⟨h2.1, ?_⟩
    have := h2.2
    simp at this
    omega
  · exact absurd hq (by simp)
theorem ab_E_t (h : ab_dl B jm p d = t :: ab_dl B jm p (d + 1)) (lo : Bool) : ab_E B jm p d lo = ab_LL B jm (p ++ [t]) ++ ab_E B jm p (d + 1) true := by
  unfold ab_E
  rw [if_neg (by rw [h]; simp), if_neg (by simp), h, ab_R_cons]
theorem ab_E_f (h : ab_dl B jm p d = ab_dl B jm p (d + 1)) (lo : Bool) : ab_E B jm p d lo = ab_E B jm p (d + 1) lo := by
  unfold ab_E; rw [h]
theorem ab_E_0 (h : ab_VP B m true p) (h1 : 1 < p.length) : ab_E B true p 0 false = ab_LL B true p := by
  unfold ab_E
  rw [ab_LL_eq h, ab_cf_dlT h]
  by_cases e : ab_dl B true p 0 = []
  · rw [if_pos ⟨h1, rfl, e⟩, if_pos e]
  · rw [if_neg (fun z => e z.2.2), if_neg e]
theorem ab_E_nil1 (h1 : 1 < p.length) (h : ab_dl B jm p d = []) : ab_E B jm p d false = [p] := if_pos ⟨h1, rfl, h⟩
theorem ab_E_nilT (h : ab_dl B jm p d = []) : ab_E B jm p d true = [] := by
  unfold ab_E
  rw [if_neg (by simp), h]; rfl
theorem ab_E_one {b : Nat} (lo : Bool) : ab_E B jm [b] d lo = ab_R B jm [b] (ab_dl B jm [b] d) := if_neg (by simp)
theorem ab_dl_stop (h1 : 1 < p.length) (hl : ab_last (B (ab_hd p)) (ab_la p) = true) : ab_dl B true p d = [] := by
  unfold ab_dl
  refine List.filter_eq_nil_iff.mpr (fun a _ ha => ?_)
  rw [Bool.and_eq_true] at ha
  exact (ab_cj_iff.mp (show ab_cj B p a = true from ha.2)).1 ⟨h1, hl⟩
theorem ab_VP_tk (h : ab_VP B m jm p) : (ab_tk jm p).Nodup ∧ (∀ x, x ∈ ab_tk jm p → x < 32) := by
  cases jm with
  | false => exact ⟨by simp [ab_tk], by simp [ab_tk]⟩
  | true =>
    obtain ⟨_, a2, a3, _⟩ := h.2.2.2.2.1 rfl
    exact ⟨a2, fun x hx => ab_nine_lt _ (Nat.mod_lt _ (by decide)) x (a3 x hx)⟩
theorem ab_aft_le (hB : ∀ s, s < 32 → B s ≤ 4) (h : ab_VP B m jm p) : ∀ s, s < 32 → ab_aft B jm p s ≤ 4 := by
  intro s hs
  have h0 := hB _ (ab_VP_hd h)
  unfold ab_aft
  split
  · split
    · next hl =>
      unfold ab_last at hl
      rw [decide_eq_true_iff] at hl
      omega
    · exact h0
  · split
    · exact Nat.zero_le _
    · exact hB s hs
end
end
section
/-! ===== X: bits, small methods ===== -/
def ab_b (b : Bool) : Int32 := if b = true then 1 else 0
theorem ab_b_t : ab_b true = 1 := rfl
theorem ab_b_f : ab_b false = 0 := rfl
/-- a branch on a Bool's number -/
theorem ab_br {b : Bool} {P Q : Prop} (hf : b = false → P) (ht : b = true → Q) : (ab_b b = 0 → P) ∧ (¬ ab_b b = 0 → Q) := by
  cases b with
  | false => exact ⟨fun _ => hf rfl, fun h => absurd rfl h⟩
  | true => exact ⟨fun h => absurd h (by decide), fun _ => ht rfl⟩
theorem xb_1 : ∀ i, i < 32 → bt 1 i = decide (i = 0) := by decide +kernel
theorem xb_bitN {x : Int32} {s : Nat} (hs : s < 32) : ((x.toUInt32 >>> ((nI s).toUInt32 &&& Int32.toUInt32 31)).toInt32) &&& 1 = ab_b (bt x s) := by
  refine b_ext (fun i hi => ?_)
  rw [b_and, b_ushr s hs, xb_1 i hi]
  cases i with
  | zero =>
    rw [Nat.add_zero]
    cases bt x s <;> decide +kernel
  | succ i =>
    rw [show decide (i + 1 = 0) = false from rfl, Bool.and_false]
    cases bt x s
    · exact (b_0 _).symm
    · rw [ab_b_t, xb_1 _ hi]; rfl
theorem xw_in {post : Int32 → Prop} {x : Int32} {s : Nat} (hs : s < 32) (h : post (ab_b (bt x s))) : wpX_in post x (nI s) := by
  unfold wpX_in
  rw [xb_bitN hs]
  exact ab_br (fun e => by rw [e] at h; exact h) (fun e => by rw [e] at h; exact h)
theorem xw_ones_4 {post : Int32 → Prop} {x : Int32} (h : post (nI (ab_ct (bt x) 32))) : ∀ (k i : Nat), i + k = 32 → ∀ n, k < n → wX_ones_4 post x n (nI (ab_ct (bt x) i)) (nI i) := by
  intro k
  induction k with
  | zero =>
    intro i hi n hn
    obtain ⟨n, rfl⟩ : ∃ n', n = n' + 1 := ⟨n - 1, by omega⟩
    have e : i = 32 := by omega
    subst e
    exact pk_le 32 32 (fun _ => h) (fun z => absurd z (by omega))
  | succ k ih =>
    intro i hi n hn
    obtain ⟨n, rfl⟩ : ∃ n', n = n' + 1 := ⟨n - 1, by omega⟩
    have e : nI (ab_ct (bt x) i) + (((x.toUInt32 >>> ((nI i).toUInt32 &&& Int32.toUInt32 31)).toInt32) &&& 1) = nI (ab_ct (bt x) (i + 1)) := by
      rw [xb_bitN (by omega), show ab_ct (bt x) (i + 1) = ab_ct (bt x) i + (if bt x i = true then 1 else 0) from rfl, ← nI_add]
      cases bt x i <;> rfl
    exact pk_le 32 i (fun z => absurd z (by omega)) (fun _ => nm_r e (nm_r (nI_1 i) (ih (i + 1) (by omega) n (by omega))))
theorem xw_ones {post : Int32 → Prop} {x : Int32} (h : post (nI (ab_ct (bt x) 32))) : wpX_ones post x :=
  ⟨33, xw_ones_4 h 32 0 rfl 33 (by omega)⟩
def xf_nb (p0 p1 : Int32) : Int32 :=
  let row := (p0 >>> ((2 : Int32) &&& 31)) + (if 2 ≤ p1 then 1 else (-1))
  let col := ((2 * (p0 &&& 3)) + (if ((p0 >>> ((2 : Int32) &&& 31)) &&& 1) = 0 then 1 else 0)) + (if (p1 &&& 1) = 0 then (-1) else 1)
  if row < 0 then (-1) else if 8 ≤ row then (-1) else if col < 0 then (-1) else if 8 ≤ col then (-1) else (row * 4) + (col >>> ((1 : Int32) &&& 31))
theorem xw_nb45 {post : Int32 → Prop} {row z0 z1 col : Int32} (hc : z1 + z0 = col) (h : post (if row < 0 then (-1) else if 8 ≤ row then (-1) else if col < 0 then (-1) else if 8 ≤ col then (-1) else (row * 4) + (col >>> ((1 : Int32) &&& 31)))) : wX_neighbour_45 post row z0 z1 := by
  refine nm_r hc ?_
  by_cases h1 : row < 0
  · rw [if_pos h1] at h; exact br_t h1 (br_t rfl h)
  rw [if_neg h1] at h
  refine br_f h1 ?_
  by_cases h2 : 8 ≤ row
  · rw [if_pos h2] at h; exact br_t h2 (br_t rfl h)
  rw [if_neg h2] at h
  refine br_f h2 ?_
  by_cases h3 : col < 0
  · rw [if_pos h3] at h; exact br_t h3 (br_t rfl h)
  rw [if_neg h3] at h
  refine br_f h3 ?_
  by_cases h4 : 8 ≤ col
  · rw [if_pos h4] at h; exact br_t h4 (br_t rfl h)
  rw [if_neg h4] at h
  exact br_f h4 (br_f (by decide) h)
theorem xw_nbf {post : Int32 → Prop} {p0 p1 : Int32} (h : post (xf_nb p0 p1)) : wpX_neighbour post p0 p1 := by
  unfold xf_nb at h
  dsimp only at h
  have h33 : ∀ row : Int32, ∀ z : Int32, post (if row < 0 then (-1) else if 8 ≤ row then (-1) else if ((2 * (p0 &&& 3)) + z) + (if (p1 &&& 1) = 0 then (-1) else 1) < 0 then (-1) else if 8 ≤ ((2 * (p0 &&& 3)) + z) + (if (p1 &&& 1) = 0 then (-1) else 1) then (-1) else (row * 4) + ((((2 * (p0 &&& 3)) + z) + (if (p1 &&& 1) = 0 then (-1) else 1)) >>> ((1 : Int32) &&& 31))) → wX_neighbour_33 post p1 row z (2 * (p0 &&& 3)) := by
    intro row z hh
    by_cases h3 : (p1 &&& 1) = 0
    · rw [if_pos h3] at hh; exact br_t h3 (xw_nb45 rfl hh)
    · rw [if_neg h3] at hh; exact br_f h3 (xw_nb45 rfl hh)
  have h13 : ∀ row : Int32, ∀ z : Int32, (p0 >>> ((2 : Int32) &&& 31)) + z = row → post (if row < 0 then (-1) else if 8 ≤ row then (-1) else if ((2 * (p0 &&& 3)) + (if ((p0 >>> ((2 : Int32) &&& 31)) &&& 1) = 0 then 1 else 0)) + (if (p1 &&& 1) = 0 then (-1) else 1) < 0 then (-1) else if 8 ≤ ((2 * (p0 &&& 3)) + (if ((p0 >>> ((2 : Int32) &&& 31)) &&& 1) = 0 then 1 else 0)) + (if (p1 &&& 1) = 0 then (-1) else 1) then (-1) else (row * 4) + ((((2 * (p0 &&& 3)) + (if ((p0 >>> ((2 : Int32) &&& 31)) &&& 1) = 0 then 1 else 0)) + (if (p1 &&& 1) = 0 then (-1) else 1)) >>> ((1 : Int32) &&& 31))) → wX_neighbour_13 post p0 p1 z (p0 >>> ((2 : Int32) &&& 31)) := by
    intro row z hr hh
    refine nm_r hr ?_
    by_cases h2 : ((p0 >>> ((2 : Int32) &&& 31)) &&& 1) = 0
    · rw [if_pos h2] at hh; exact br_t h2 (h33 row 1 hh)
    · rw [if_neg h2] at hh; exact br_f h2 (h33 row 0 hh)
  by_cases h1 : 2 ≤ p1
  · rw [if_pos h1] at h; exact br_t h1 (h13 _ 1 rfl h)
  · rw [if_neg h1] at h; exact br_f h1 (h13 _ (-1) rfl h)
def ab_or (t : Nat) : Int32 := if t < 32 then nI t else (-1)
theorem xf_nb_eq : ∀ s, s < 32 → ∀ d, d < 4 → xf_nb (nI s) (nI d) = ab_or (ab_nb s d) := by decide +kernel
theorem xw_nb {post : Int32 → Prop} {s d : Nat} (hs : s < 32) (hd : d < 4) (h : post (ab_or (ab_nb s d))) : wpX_neighbour post (nI s) (nI d) :=
  xw_nbf (by rw [xf_nb_eq s hs d hd]; exact h)
/-- a branch on ab_or -/
theorem ab_orbr {t : Nat} {P Q : Prop} (hf : ¬ t < 32 → P) (ht : t < 32 → Q) : (ab_or t < 0 → P) ∧ (¬ ab_or t < 0 → Q) := by
  by_cases h : t < 32
  · have e : ab_or t = nI t := if_pos h
    rw [e]
    exact br_f (nI_pos (by omega)) (ht h)
  · have e : ab_or t = -1 := if_neg h
    rw [e]
    exact br_t (by decide) (hf h)
theorem ab_or_lt {t : Nat} (h : t < 32) : ab_or t = nI t := if_pos h
theorem ab_or_ge {t : Nat} (h : ¬ t < 32) : ab_or t = -1 := if_neg h

/-! the relation of bits and board -/
def ab_XB (f s k : Int32) (B : Nat → Nat) : Prop := ∀ i, i < 32 → bt f i = decide (B i = 1 ∨ B i = 2) ∧ bt s i = decide (B i = 3 ∨ B i = 4) ∧ bt k i = decide (B i = 2 ∨ B i = 4)
/-- position: bits, side, board -/
def ab_XP (f s k tm : Int32) (B : Nat → Nat) (m : Nat) : Prop := ab_XB f s k B ∧ tm = nI m ∧ m ≤ 1 ∧ (∀ i, i < 32 → B i ≤ 4)
def ab_Bits (x : Int32) (l : List Nat) : Prop := ∀ i, i < 32 → bt x i = decide (i ∈ l)
def ab_At (a : Nat → Int32) (p : List Nat) : Prop := ∀ i, i < p.length → a i = nI (p.getD i 0)
theorem ab_sd0 {p : Nat} : ab_sd p = 0 ↔ p = 1 ∨ p = 2 := by
  unfold ab_sd; split
  · omega
  · split <;> omega
theorem ab_sd1 {p : Nat} : ab_sd p = 1 ↔ p = 3 ∨ p = 4 := by
  unfold ab_sd; split
  · omega
  · split <;> omega
theorem xb_own {f s k tm : Int32} {B : Nat → Nat} {m i : Nat} (h : ab_XP f s k tm B m) (hi : i < 32) : bt (if m = 0 then f else s) i = decide (ab_sd (B i) = m) := by
  obtain ⟨h1, _, h3, _⟩ := h
  obtain ⟨a, b, _⟩ := h1 i hi
  by_cases e : m = 0
  · rw [if_pos e, a, e]; exact decide_eq_decide.mpr ab_sd0.symm
  · have e1 : m = 1 := by omega
    rw [if_neg e, b, e1]; exact decide_eq_decide.mpr ab_sd1.symm
theorem xb_th {f s k tm : Int32} {B : Nat → Nat} {m i : Nat} (h : ab_XP f s k tm B m) (hi : i < 32) : bt (if m = 0 then s else f) i = decide (ab_sd (B i) = 1 - m) := by
  obtain ⟨h1, _, h3, _⟩ := h
  obtain ⟨a, b, _⟩ := h1 i hi
  by_cases e : m = 0
  · rw [if_pos e, b, e]; exact decide_eq_decide.mpr ab_sd1.symm
  · have e1 : m = 1 := by omega
    rw [if_neg e, a, e1]; exact decide_eq_decide.mpr ab_sd0.symm
theorem xb_occ {f s k tm : Int32} {B : Nat → Nat} {m i : Nat} (h : ab_XP f s k tm B m) (hi : i < 32) : bt (f ||| s) i = decide (B i ≠ 0) := by
  obtain ⟨h1, _, h3, h4⟩ := h
  obtain ⟨a, b, _⟩ := h1 i hi
  have := h4 i hi
  rw [b_or, a, b, ← Bool.decide_or]
  exact decide_eq_decide.mpr (by omega)
theorem xb_not : ∀ i, i < 32 → bt (-1) i = true := b_m1
theorem xb_sh : ∀ l, l < 32 → ∀ i, i < 32 → bt ((1 : Int32) <<< (nI l &&& 31)) i = decide (i = l) := by decide +kernel
theorem xb_clr {x y : Int32} {i : Nat} (hi : i < 32) : bt (x &&& (y ^^^ (-1))) i = (bt x i && !bt y i) := by
  rw [b_and, b_xor, b_m1 i hi, Bool.xor_true]
def ab_go (k : Int32) (m s d : Nat) : Bool := bt k s || (if m = 0 then decide (2 ≤ d) else decide (d < 2))
theorem ab_go_ah {f s k tm : Int32} {B : Nat → Nat} {m b a t d : Nat} (h : ab_XP f s k tm B m) (hb : b < 32) (hs : ab_sd (B b) = m) (h1 : a / 4 < t / 4 ↔ 2 ≤ d) (h2 : t / 4 < a / 4 ↔ d < 2) : ab_go k m b d = ab_ah (B b) a t := by
  obtain ⟨hx, _, hm, _⟩ := h
  unfold ab_go
  rw [(hx b hb).2.2]
  by_cases e : m = 0
  · rw [if_pos e]
    rw [e] at hs
    rcases ab_sd0.mp hs with z | z
    · rw [z]; unfold ab_ah; rw [if_pos rfl, show decide ((1 : Nat) = 2 ∨ (1 : Nat) = 4) = false from rfl, Bool.false_or]
      exact decide_eq_decide.mpr h1.symm
    · rw [z]; rfl
  · rw [if_neg e]
    have e1 : m = 1 := by omega
    rw [e1] at hs
    rcases ab_sd1.mp hs with z | z
    · rw [z]; unfold ab_ah; rw [if_neg (by decide), if_pos rfl, show decide ((3 : Nat) = 2 ∨ (3 : Nat) = 4) = false from rfl, Bool.false_or]
      exact decide_eq_decide.mpr h2.symm
    · rw [z]; rfl

section
variable {f_first f_second f_kings f_toMove f_pastTop f_pastSize f_squareCount f_taken f_wanted f_seen f_most f_beginnings : Int32} {a_past a_squares a_direction a_ledOn a_saved a_nextMove : Nat → Int32} {B : Nat → Nat} {m : Nat} {p : List Nat}
theorem xw_theirs {post : Int32 → Prop} (hm : f_toMove = nI m) (hm1 : m ≤ 1) (h : post (if m = 0 then f_second else f_first)) : wpX_theirs post (f_first, f_second, f_kings, f_toMove, f_pastTop, f_pastSize, f_squareCount, f_taken, f_wanted, f_seen, f_most, f_beginnings, a_past, a_squares, a_direction, a_ledOn, a_saved, a_nextMove) := by
  subst hm
  exact pk_eq m 0 (fun e => by rw [if_pos e] at h; exact h) (fun e => by rw [if_neg e] at h; exact h)
theorem xw_own {post : Int32 → Prop} (hm : f_toMove = nI m) (hm1 : m ≤ 1) (h : post (if m = 0 then f_first else f_second)) : wpX_own post (f_first, f_second, f_kings, f_toMove, f_pastTop, f_pastSize, f_squareCount, f_taken, f_wanted, f_seen, f_most, f_beginnings, a_past, a_squares, a_direction, a_ledOn, a_saved, a_nextMove) := by
  subst hm
  exact pk_eq m 0 (fun e => by rw [if_pos e] at h; exact h) (fun e => by rw [if_neg e] at h; exact h)
theorem xw_canGo {post : Int32 → Prop} {s d : Nat} (hm : f_toMove = nI m) (hm1 : m ≤ 1) (hs : s < 32) (hd : d < 4) (h : post (ab_b (ab_go f_kings m s d))) : wpX_canGo post (f_first, f_second, f_kings, f_toMove, f_pastTop, f_pastSize, f_squareCount, f_taken, f_wanted, f_seen, f_most, f_beginnings, a_past, a_squares, a_direction, a_ledOn, a_saved, a_nextMove) (nI s) (nI d) := by
  subst hm
  unfold ab_go at h
  unfold wpX_canGo
  refine xw_in hs ?_
  refine ab_br (fun e => ?_) (fun e => ?_)
  · rw [e, Bool.false_or] at h
    refine pk_eq m 0 (fun e => ?_) (fun e => ?_)
    · rw [if_pos e] at h
      refine pk_lt d 2 (fun e => ?_) (fun e => ?_)
      · rw [decide_eq_false (by omega)] at h; exact h
      · rw [decide_eq_true (by omega)] at h; exact h
    · rw [if_neg e] at h
      refine pk_le 2 d (fun e => ?_) (fun e => ?_)
      · rw [decide_eq_false (by omega)] at h; exact h
      · rw [decide_eq_true (by omega)] at h; exact h
  · rw [e, Bool.true_or] at h
    exact h
theorem xw_jt18m {post : Int32 → Prop} {x1 x3 x4 : Int32} (hm : f_toMove = nI m) (hm1 : m ≤ 1) (h : post (-1)) : wX_jumpTo_18 post x1 x3 x4 (-1) f_first f_second f_kings f_toMove f_pastTop f_pastSize f_squareCount f_taken f_wanted f_seen f_most f_beginnings a_past a_squares a_direction a_ledOn a_saved a_nextMove :=
  xw_theirs hm hm1 (nm_e (br_t (by decide) h))
theorem xw_jt18 {post : Int32 → Prop} {b d o : Nat} {gone : Int32} (hP : ab_XP f_first f_second f_kings f_toMove B m) (hb : b < 32) (hd : d < 4) (ho : o < 32) (h : post (if (ab_sd (B o) = 1 - m ∧ bt gone o = false) ∧ ab_nb o d < 32 ∧ (B (ab_nb o d) = 0 ∨ ab_nb o d = b) then nI (ab_nb o d) else (-1))) : wX_jumpTo_18 post (nI b) (nI d) gone (nI o) f_first f_second f_kings f_toMove f_pastTop f_pastSize f_squareCount f_taken f_wanted f_seen f_most f_beginnings a_past a_squares a_direction a_ledOn a_saved a_nextMove := by
  refine xw_theirs hP.2.1 hP.2.2.1 (nm_e (br_f (nI_pos (by omega)) (xw_in ho ?_)))
  have e1 : bt ((if m = 0 then f_second else f_first) &&& (gone ^^^ (-1))) o = (decide (ab_sd (B o) = 1 - m) && !bt gone o) := by
    rw [xb_clr ho, xb_th hP ho]
  rw [e1]
  refine ab_br (fun e => ?_) (fun e => ?_)
  · rw [if_neg (by
      intro z
      rw [decide_eq_true z.1.1, z.1.2] at e
      exact absurd e (by decide))] at h
    exact h
  · rw [Bool.and_eq_true, decide_eq_true_iff, Bool.not_eq_true'] at e
    refine xw_nb ho hd (ab_orbr (fun z => ?_) (fun z => ?_))
    · rw [if_neg (fun y => z y.2.1)] at h
      exact br_t rfl h
    · rw [ab_or_lt z]
      refine pk_eq (ab_nb o d) b (fun y => ?_) (fun y => ?_)
      · rw [if_pos ⟨e, z, Or.inr y⟩] at h
        exact br_f (by decide) h
      · refine xw_in z ?_
        rw [xb_occ hP z]
        refine ab_br (fun w => ?_) (fun w => ?_)
        · have w' : B (ab_nb o d) = 0 := by simpa using w
          rw [if_pos ⟨e, z, Or.inl w'⟩] at h
          exact br_f (by decide) h
        · have w' : ¬ B (ab_nb o d) = 0 := by simpa using w
          rw [if_neg (fun q => q.2.2.elim w' y)] at h
          exact br_t rfl h
theorem xw_jumpTo {post : Int32 → Prop} {d : Nat} (hP : ab_XP f_first f_second f_kings f_toMove B m) (hV : ab_VP B m true p) (hd : d < 4) {gone : Int32} (hg : ab_Bits gone (ab_jl p)) (hst : ¬ (1 < p.length ∧ ab_last (B (ab_hd p)) (ab_la p) = true)) (h : post (if ab_nb2 (ab_la p) d < 32 ∧ ab_cj B p (ab_nb2 (ab_la p) d) = true then nI (ab_nb2 (ab_la p) d) else (-1))) : wpX_jumpTo post (f_first, f_second, f_kings, f_toMove, f_pastTop, f_pastSize, f_squareCount, f_taken, f_wanted, f_seen, f_most, f_beginnings, a_past, a_squares, a_direction, a_ledOn, a_saved, a_nextMove) (nI (ab_hd p)) (nI (ab_la p)) (nI d) gone := by
  have hla := ab_VP_la hV
  have hhd := ab_VP_hd hV
  have hs := hV.2.2.1
  unfold wpX_jumpTo
  refine xw_canGo hP.2.1 hP.2.2.1 hhd hd ?_
  refine ab_br (fun e => ?_) (fun e => ?_)
  · refine xw_jt18m hP.2.1 hP.2.2.1 ?_
    rw [if_neg] at h
    · exact h
    · intro z
      obtain ⟨_, _, g3, g4, g5⟩ := ab_dir2 _ hla d hd z.1
      have := (ab_cj_iff.mp z.2).2.2.1
      rw [← ab_go_ah hP hhd hs g4 g5, e] at this
      exact absurd this (by decide)
  · refine xw_nb hla hd ?_
    by_cases ho : ab_nb (ab_la p) d < 32
    · rw [ab_or_lt ho]
      have e2 : ab_nb2 (ab_la p) d = ab_nb (ab_nb (ab_la p) d) d := if_pos ho
      refine xw_jt18 hP hhd hd ho ?_
      rw [hg _ ho, ← e2]
      by_cases c : ab_nb2 (ab_la p) d < 32
      · obtain ⟨_, g2, g3, g4, g5⟩ := ab_dir2 _ hla d hd c
        have hah := ab_go_ah hP hhd hs g4 g5
        rw [e] at hah
        have key : ((ab_sd (B (ab_nb (ab_la p) d)) = 1 - m ∧ decide (ab_nb (ab_la p) d ∈ ab_jl p) = false) ∧ ab_nb2 (ab_la p) d < 32 ∧ (B (ab_nb2 (ab_la p) d) = 0 ∨ ab_nb2 (ab_la p) d = ab_hd p)) ↔ (ab_nb2 (ab_la p) d < 32 ∧ ab_cj B p (ab_nb2 (ab_la p) d) = true) := by
          rw [ab_cj_iff, g3, hs, decide_eq_false_iff_not]
          constructor
          · intro z; exact ⟨c, hst, g2, hah.symm, z.2.2, z.1.1, z.1.2⟩
          · intro z; exact ⟨⟨z.2.2.2.2.2.1, z.2.2.2.2.2.2⟩, c, z.2.2.2.2.1⟩
        simp only [key]
        exact h
      · rw [if_neg (fun z => c z.2.1)]
        rw [if_neg (fun z => c z.1)] at h
        exact h
    · rw [ab_or_ge ho]
      refine xw_jt18m hP.2.1 hP.2.2.1 ?_
      rw [if_neg] at h
      · exact h
      · intro z
        have : ab_nb2 (ab_la p) d = 32 := if_neg ho
        omega
theorem xw_stops {post : Int32 → Prop} {b s : Nat} (hP : ab_XP f_first f_second f_kings f_toMove B m) (hb : b < 32) (hs : s < 32) (ho : ab_sd (B b) = m) (h : post (ab_b (ab_last (B b) s))) : wpX_stops post (f_first, f_second, f_kings, f_toMove, f_pastTop, f_pastSize, f_squareCount, f_taken, f_wanted, f_seen, f_most, f_beginnings, a_past, a_squares, a_direction, a_ledOn, a_saved, a_nextMove) (nI b) (nI s) := by
  obtain ⟨hx, hm, hm1, h4⟩ := hP
  subst hm
  have e4 : nI s >>> ((2 : Int32) &&& 31) = nI (s / 4) := pk_shrN (by omega) _ 2 (by decide)
  unfold wpX_stops
  refine xw_in hb ?_
  rw [(hx b hb).2.2]
  refine ab_br (fun e => ?_) (fun e => ?_)
  · have e' : ¬ (B b = 2 ∨ B b = 4) := by simpa using e
    refine pk_eq m 0 (fun z => ?_) (fun z => ?_)
    · have hb1 : B b = 1 := by rw [z] at ho; have := ab_sd0.mp ho; omega
      rw [e4]
      refine pk_eq (s / 4) 7 (fun y => ?_) (fun y => ?_)
      · rw [show ab_last (B b) s = true from decide_eq_true (Or.inl ⟨hb1, y⟩)] at h; exact h
      · rw [show ab_last (B b) s = false from decide_eq_false (by omega)] at h; exact h
    · have hb3 : B b = 3 := by rw [show m = 1 by omega] at ho; have := ab_sd1.mp ho; omega
      rw [e4]
      refine pk_eq (s / 4) 0 (fun y => ?_) (fun y => ?_)
      · rw [show ab_last (B b) s = true from decide_eq_true (Or.inr ⟨hb3, y⟩)] at h; exact h
      · rw [show ab_last (B b) s = false from decide_eq_false (by omega)] at h; exact h
  · have e' : B b = 2 ∨ B b = 4 := by simpa using e
    rw [show ab_last (B b) s = false from decide_eq_false (by omega)] at h
    exact h
end
end
section
/-! ===== X: the move at hand, rows of jumps ===== -/
def ab_Acc (jm : Bool) (done : List (List Nat)) (se mo be : Int32) : Prop := se = nI done.length ∧ mo = nI (ab_mx jm done) ∧ ab_mx jm done ≤ 32 ∧ ∀ i, i < 32 → bt be i = done.any (fun q => decide (ab_hd q = i))
def ab_W (x : Int32) (w : Nat) : Prop := ∀ i, i < 1000 → (nI i = x ↔ i = w)
theorem ab_Acc_0 (jm : Bool) : ab_Acc jm [] 0 0 0 := ⟨rfl, rfl, Nat.zero_le _, fun i _ => b_0 i⟩
theorem ab_tk_len {B : Nat → Nat} {m : Nat} {jm : Bool} {p : List Nat} (hV : ab_VP B m jm p) : (ab_tk jm p).length ≤ 32 := by
  have h := ab_VP_len hV
  cases jm with
  | false => exact Nat.zero_le _
  | true =>
    have := (hV.2.2.2.2.1 rfl).2.2.2
    show (ab_jl p).length ≤ 32
    omega
theorem ab_Acc_s {B : Nat → Nat} {m : Nat} {jm : Bool} {p : List Nat} (hV : ab_VP B m jm p) {done : List (List Nat)} {se mo be : Int32} (h : ab_Acc jm done se mo be) {mo1 : Int32} (hmo : mo1 = nI (max (ab_mx jm done) (ab_tk jm p).length)) : ab_Acc jm (done ++ [p]) (nI (done.length + 1)) mo1 (be ||| ((1 : Int32) <<< (nI (ab_hd p) &&& 31))) := by
  obtain ⟨_, _, h3, h4⟩ := h
  have h5 := ab_tk_len hV
  refine ⟨by rw [List.length_append]; rfl, by rw [ab_mx_app]; exact hmo, by rw [ab_mx_app]; omega, ?_⟩
  intro i hi
  rw [b_or, h4 i hi, xb_sh _ (ab_VP_hd hV) i hi, List.any_append]
  congr 1
  simp only [List.any_cons, List.any_nil, Bool.or_false]
  exact decide_eq_decide.mpr ⟨fun e => e.symm, fun e => e.symm⟩
theorem ab_nb8 : ∀ t, t < 32 → vp_nar .byte ((nI t).toInt8.toInt32) = nI t := by
  intro t ht
  rw [vp_nar_byte]
  exact (by decide +kernel : ∀ t, t < 32 → ((nI t).toInt8.toInt32).toInt8.toInt32 = nI t) t ht
theorem ab_nb0 : vp_nar .byte 0 = 0 := by rw [vp_nar_byte]; rfl
theorem ab_nz1 : vp_nar .boolean 1 = 1 := rfl
theorem ab_nz0 : vp_nar .boolean 0 = 0 := rfl
theorem ab_nbd {d : Nat} (hd : d < 5) : vp_nar .byte ((nI d + 1).toInt8.toInt32) = nI (d + 1) := by
  rw [nI_1]; exact ab_nb8 (d + 1) (by omega)
def ab_cost (B : Nat → Nat) (p : List Nat) (d : Nat) : Nat := (4 - d) + 1 + 5 * ab_NS B true p (ab_dl B true p d)
section
variable {B : Nat → Nat} {m : Nat} {p : List Nat} {d t : Nat}
theorem ab_cost_pos : 1 ≤ ab_cost B p d := by unfold ab_cost; omega
theorem ab_cost_f (hd : d < 4) (h : ab_dl B true p d = ab_dl B true p (d + 1)) : ab_cost B p d = ab_cost B p (d + 1) + 1 := by
  unfold ab_cost; rw [h]; omega
theorem ab_cost_t (hd : d < 4) (h : ab_dl B true p d = t :: ab_dl B true p (d + 1)) : ab_cost B p d = ab_cost B p (d + 1) + 1 + 5 * ab_NN B true (p ++ [t]) := by
  unfold ab_cost; rw [h, ab_NS_cons]; omega
theorem ab_cost_0 (h : ab_VP B m true p) : ab_cost B p 0 = 5 * ab_NN B true p := by
  unfold ab_cost; rw [ab_NN_eq h, ab_cf_dlT h]; omega
end
theorem ab_At_l {B : Nat → Nat} {m : Nat} {jm : Bool} {p : List Nat} (hV : ab_VP B m jm p) {sq : Nat → Int32} (h : ab_At sq p) : sq (p.length - 1) = nI (ab_la p) :=
  h _ (by have := ab_VP_pos hV; omega)
theorem ab_At_h {B : Nat → Nat} {m : Nat} {jm : Bool} {p : List Nat} (hV : ab_VP B m jm p) {sq : Nat → Int32} (h : ab_At sq p) : sq 0 = nI (ab_hd p) :=
  h _ (ab_VP_pos hV)
theorem ab_At_app {p : List Nat} {sq : Nat → Int32} (h : ab_At sq p) (t : Nat) : ab_At (upd sq p.length (nI t)) (p ++ [t]) := by
  intro i hi
  rcases Nat.lt_or_ge i p.length with z | z
  · rw [pk_un (by omega), ab_getD_app z]; exact h i z
  · have e : i = p.length := by simp at hi; omega
    rw [e, pk_us, ab_getD_new]
theorem ab_Bits_app {x : Int32} {l : List Nat} {o : Nat} (ho : o < 32) (h : ab_Bits x l) : ab_Bits (x ||| ((1 : Int32) <<< (nI o &&& 31))) (l ++ [o]) := by
  intro i hi
  rw [b_or, h i hi, xb_sh _ ho i hi, ← Bool.decide_or]
  exact decide_eq_decide.mpr (by simp)
theorem ab_Bits_pop {x : Int32} {l : List Nat} {o : Nat} (ho : o < 32) (hn : ¬ o ∈ l) (h : ab_Bits x (l ++ [o])) : ab_Bits (x &&& (((1 : Int32) <<< (nI o &&& 31)) ^^^ (-1))) l := by
  intro i hi
  rw [xb_clr hi, h i hi, xb_sh _ ho i hi]
  by_cases e : i = o
  · subst e
    simp [hn]
  · simp [e]

section
variable {f_first f_second f_kings f_toMove f_pastTop f_pastSize f_squareCount f_taken f_wanted f_seen f_most f_beginnings : Int32} {a_past a_squares a_direction a_ledOn a_saved a_nextMove : Nat → Int32} {B : Nat → Nat} {m w : Nat} {jm : Bool}
theorem xw_meet {post : Int32 → SX → Prop} {p : List Nat} {done : List (List Nat)} (hV : ab_VP B m jm p) (hsq : a_squares 0 = nI (ab_hd p)) (htk : ab_Bits f_taken (ab_tk jm p)) (hA : ab_Acc jm done f_seen f_most f_beginnings) (hl : done.length < 1000) (hw : ab_W f_wanted w)
    (h : ∀ se1 mo1 be1 : Int32, ab_Acc jm (done ++ [p]) se1 mo1 be1 → post (ab_b (decide (done.length = w))) (f_first, f_second, f_kings, f_toMove, f_pastTop, f_pastSize, f_squareCount, f_taken, f_wanted, se1, mo1, be1, a_past, a_squares, a_direction, a_ledOn, a_saved, a_nextMove)) : wpX_meet post (f_first, f_second, f_kings, f_toMove, f_pastTop, f_pastSize, f_squareCount, f_taken, f_wanted, f_seen, f_most, f_beginnings, a_past, a_squares, a_direction, a_ledOn, a_saved, a_nextMove) := by
  have hA' := hA
  obtain ⟨a1, a2, a3, a4⟩ := hA
  have htl := ab_tk_len hV
  refine nm_r (congrArg (fun z => f_beginnings ||| ((1 : Int32) <<< (z &&& 31))) hsq) ?_
  refine xw_ones ?_
  have hc : ab_ct (bt f_taken) 32 = (ab_tk jm p).length := (ab_ct_congr htk).trans (ab_ct_list _ 32 (ab_VP_tk hV).1 (ab_VP_tk hV).2)
  rw [hc]
  have key := hw done.length hl
  have fin : ∀ mo1 : Int32, mo1 = nI (max (ab_mx jm done) (ab_tk jm p).length) → wX_meet_42 post mo1 f_first f_second f_kings f_toMove f_pastTop f_pastSize f_squareCount f_taken f_wanted f_seen f_most (f_beginnings ||| ((1 : Int32) <<< (nI (ab_hd p) &&& 31))) a_past a_squares a_direction a_ledOn a_saved a_nextMove := by
    intro mo1 hmo
    have h1 := h _ _ _ (ab_Acc_s hV hA' hmo)
    refine nm_r (e' := nI (done.length + 1)) (by rw [a1, nI_1]) ?_
    rw [nI_pred]
    by_cases e : done.length = w
    · rw [decide_eq_true e] at h1; exact br_t (key.mpr e) h1
    · rw [decide_eq_false e] at h1; exact br_f (fun z => e (key.mp z)) h1
  refine pk_le (ab_tk jm p).length (ab_mx jm done) (fun z => ?_) (fun z => ?_) rfl a2
  · exact fin _ (by rw [a2, Nat.max_eq_left z])
  · exact fin _ (by rw [Nat.max_eq_right (Nat.le_of_lt z)])
theorem xw_over {ML : List (List Nat)} {post : Int32 → SX → Prop} {J : Int32 → Int32 → Int32 → Int32 → Int32 → Int32 → Int32 → Int32 → Int32 → Int32 → Int32 → Int32 → Int32 → Int32 → (Nat → Int32) → (Nat → Int32) → (Nat → Int32) → (Nat → Int32) → (Nat → Int32) → (Nat → Int32) → Prop} {b : Nat} (hw : ab_W f_wanted w) (hML : ML.length ≤ 424) (HF : ∀ (q : List Nat) (done rest : List (List Nat)) (sc1 tk1 se1 mo1 be1 : Int32) (sq1 di1 le1 : Nat → Int32), ML = done ++ q :: rest → done.length = w → ab_VP B m jm q → sc1 = nI q.length → ab_At sq1 q → ab_Bits tk1 (ab_tk jm q) → post 1 (f_first, f_second, f_kings, f_toMove, f_pastTop, f_pastSize, sc1, tk1, f_wanted, se1, mo1, be1, a_past, sq1, di1, le1, a_saved, a_nextMove)) (hjm : jm = true)
    {p : List Nat} (hV : ab_VP B m jm p) {d r : Nat} {lo : Bool} {done rest : List (List Nat)} {sc tk se mo be : Int32} {sq di le : Nat → Int32} {x4 x5 : Int32}
    (hE : ab_dl B jm p d = []) (hml : ML = done ++ (ab_E B jm p d lo ++ rest)) (hdw : done.length ≤ w) (hsq : ab_At sq p) (hle : le (p.length - 1) = ab_b lo) (htk : ab_Bits tk (ab_tk jm p)) (hA : ab_Acc jm done se mo be)
    (K : ∀ sc1 se1 mo1 be1 : Int32, (done ++ ab_E B jm p d lo).length ≤ w → ab_Acc jm (done ++ ab_E B jm p d lo) se1 mo1 be1 → wX_meetJumps_110 post J (nI b) (nI (p.length - 1)) (nI r) f_first f_second f_kings f_toMove f_pastTop f_pastSize sc1 tk f_wanted se1 mo1 be1 a_past sq di le a_saved a_nextMove) :
    wX_meetJumps_74 post J (nI b) (nI (p.length - 1)) (nI r) x4 x5 1 f_first f_second f_kings f_toMove f_pastTop f_pastSize sc tk f_wanted se mo be a_past sq di le a_saved a_nextMove := by
  have hpos := ab_VP_pos hV
  have hlen := ab_VP_len hV
  have hdl : done.length < 1000 := by
    have := congrArg List.length hml
    rw [List.length_append] at this
    omega
  refine br_f (by decide) (nm_r (e' := nI p.length) (by rw [nI_1]; congr 1; omega) ?_)
  refine pk_le (p.length - 1) 0 (fun z => ?_) (fun z => ⟨vp_in_nI (by omega) (by omega), ?_⟩)
  · have e1 : ab_E B jm p d lo = [] := by
      unfold ab_E; rw [if_neg (by omega), hE]; rfl
    rw [e1, List.append_nil] at K
    exact K _ _ _ _ hdw hA
  · rw [nI_clamp (show p.length - 1 < 2 ^ 31 by omega), hle]
    refine ab_br (fun e => ?_) (fun e => ?_)
    · subst e
      have e1 : ab_E B jm p d false = [p] := ab_E_nil1 (by omega) hE
      rw [e1] at K hml
      refine xw_meet hV (ab_At_h hV hsq) htk hA hdl hw ?_
      intro se1 mo1 be1 hA1
      refine ab_br (fun e => ?_) (fun e => ?_)
      · have e' : ¬ done.length = w := by simpa using e
        exact K _ _ _ _ (by simp; omega) hA1
      · have e' : done.length = w := by simpa using e
        exact HF p done rest _ _ _ _ _ _ _ _ hml e' hV rfl hsq htk
    · subst e
      have e1 : ab_E B jm p d true = [] := ab_E_nilT hE
      rw [e1, List.append_nil] at K
      exact K _ _ _ _ hdw hA
end
end
section
/-! ===== X: the tree of jumps of one piece ===== -/
section
variable {f_first f_second f_kings f_toMove f_pastTop f_pastSize f_squareCount f_taken f_wanted f_seen f_most f_beginnings : Int32} {a_past a_squares a_direction a_ledOn a_saved a_nextMove : Nat → Int32} {B : Nat → Nat} {m w : Nat}
theorem xw_head4 {post : Int32 → SX → Prop} {b n r l s : Nat} {sc tk se mo be : Int32} {sq di le : Nat → Int32} (hr : r < 1048576) (hl : l < 12) (hsq : sq l = nI s) (hdi : di l = nI 4) (h : wX_meetJumps_74 post (wX_meetJumps_23 post (nI b) n) (nI b) (nI l) (nI r) (nI s) (nI 4) 1 f_first f_second f_kings f_toMove f_pastTop f_pastSize sc tk f_wanted se mo be a_past sq di le a_saved a_nextMove) : wX_meetJumps_23 post (nI b) (n + 1) (nI l) (nI r) f_first f_second f_kings f_toMove f_pastTop f_pastSize sc tk f_wanted se mo be a_past sq di le a_saved a_nextMove := by
  refine pk_le 1048576 r (fun z => absurd z (by omega)) (fun _ => br_f (nI_pos (by omega)) ⟨vp_in_nI hl (by omega), nm_r (e' := nI s) (by rw [nI_clamp (by omega)]; exact hsq) ⟨vp_in_nI hl (by omega), nm_r (e' := nI 4) (by rw [nI_clamp (by omega)]; exact hdi) (br_t rfl ?_)⟩⟩)
  exact h
theorem xw_headN {post : Int32 → SX → Prop} {b n r l s d : Nat} {sc tk se mo be : Int32} {sq di le : Nat → Int32} (hP : ab_XP f_first f_second f_kings f_toMove B m) (hb : b < 32) (hs : s < 32) (ho : ab_sd (B b) = m) (hr : r < 1048576) (hl : l < 12) (hd : d < 4) (hsq : sq l = nI s) (hdi : di l = nI d)
    (h1 : 0 < l → ab_last (B b) s = true → wX_meetJumps_74 post (wX_meetJumps_23 post (nI b) n) (nI b) (nI l) (nI r) (nI s) (nI d) 1 f_first f_second f_kings f_toMove f_pastTop f_pastSize sc tk f_wanted se mo be a_past sq di le a_saved a_nextMove)
    (h0 : ¬ (0 < l ∧ ab_last (B b) s = true) → wX_meetJumps_74 post (wX_meetJumps_23 post (nI b) n) (nI b) (nI l) (nI r) (nI s) (nI d) 0 f_first f_second f_kings f_toMove f_pastTop f_pastSize sc tk f_wanted se mo be a_past sq di le a_saved a_nextMove) : wX_meetJumps_23 post (nI b) (n + 1) (nI l) (nI r) f_first f_second f_kings f_toMove f_pastTop f_pastSize sc tk f_wanted se mo be a_past sq di le a_saved a_nextMove := by
  refine pk_le 1048576 r (fun z => absurd z (by omega)) (fun _ => br_f (nI_pos (by omega)) ⟨vp_in_nI hl (by omega), nm_r (e' := nI s) (by rw [nI_clamp (by omega)]; exact hsq) ⟨vp_in_nI hl (by omega), nm_r (e' := nI d) (by rw [nI_clamp (by omega)]; exact hdi) (pk_eq d 4 (fun z => absurd z (by omega)) (fun _ => pk_le l 0 (fun z => ?_) (fun z => xw_stops hP hb hs ho (ab_br (fun e => ?_) (fun e => ?_)))))⟩⟩)
  · exact h0 (by omega)
  · exact h0 (by rw [e]; exact fun y => absurd y.2 (by decide))
  · exact h1 z e
/-- one try of a direction: no jump, or a jump one level down -/
theorem xw_try {post : Int32 → SX → Prop} {J : Int32 → Int32 → Int32 → Int32 → Int32 → Int32 → Int32 → Int32 → Int32 → Int32 → Int32 → Int32 → Int32 → Int32 → (Nat → Int32) → (Nat → Int32) → (Nat → Int32) → (Nat → Int32) → (Nat → Int32) → (Nat → Int32) → Prop} {p : List Nat} {r d : Nat} {sc tk se mo be : Int32} {sq di le : Nat → Int32} (hP : ab_XP f_first f_second f_kings f_toMove B m) (hV : ab_VP B m true p) (hd : d < 4) (hg : ab_Bits tk (ab_jl p)) (hst : ¬ (1 < p.length ∧ ab_last (B (ab_hd p)) (ab_la p) = true)) (hdi : di (p.length - 1) = nI d)
    (h0 : ¬ (ab_nb2 (ab_la p) d < 32 ∧ ab_cj B p (ab_nb2 (ab_la p) d) = true) → J (nI (p.length - 1)) (nI (r + 1)) f_first f_second f_kings f_toMove f_pastTop f_pastSize sc tk f_wanted se mo be a_past sq (upd di (p.length - 1) (nI (d + 1))) le a_saved a_nextMove)
    (h1 : ab_nb2 (ab_la p) d < 32 → ab_cj B p (ab_nb2 (ab_la p) d) = true → J (nI p.length) (nI (r + 1)) f_first f_second f_kings f_toMove f_pastTop f_pastSize sc (tk ||| ((1 : Int32) <<< (nI (ab_nb (ab_la p) d) &&& 31))) f_wanted se mo be a_past (upd sq p.length (nI (ab_nb2 (ab_la p) d))) (upd (upd di (p.length - 1) (nI (d + 1))) p.length (nI 0)) (upd (upd le (p.length - 1) 1) p.length 0) a_saved a_nextMove) :
    wX_meetJumps_74 post J (nI (ab_hd p)) (nI (p.length - 1)) (nI r) (nI (ab_la p)) (nI d) 0 f_first f_second f_kings f_toMove f_pastTop f_pastSize sc tk f_wanted se mo be a_past sq di le a_saved a_nextMove := by
  have hpos := ab_VP_pos hV
  have hlen := ab_VP_len hV
  have hla := ab_VP_la hV
  have hcl : (nI (p.length - 1)).toNatClampNeg = p.length - 1 := nI_clamp (by omega)
  have hin : vp_in (nI (p.length - 1)) 12 := vp_in_nI (by omega) (by omega)
  refine br_t rfl ⟨hin, hin, nm_r (e' := upd di (p.length - 1) (nI (d + 1))) (by rw [hcl, hdi, ab_nbd (by omega)]) ?_⟩
  refine xw_jumpTo hP hV hd hg hst ?_
  by_cases c : ab_nb2 (ab_la p) d < 32 ∧ ab_cj B p (ab_nb2 (ab_la p) d) = true
  · rw [if_pos c]
    obtain ⟨g1, _, _, _, _⟩ := ab_dir2 _ hla d hd c.1
    have hin2 : vp_in (nI p.length) 12 := by
      have := ab_VP_len (ab_VP_app hV c.1 (show ab_can B true p _ = true from c.2))
      rw [List.length_append] at this
      have h1 : [ab_nb2 (ab_la p) d].length = 1 := rfl
      exact vp_in_nI (by omega) (by omega)
    have hcl2 : (nI p.length).toNatClampNeg = p.length := nI_clamp (by omega)
    refine br_f (nI_pos (by omega)) ⟨hin, nm_r (e' := upd le (p.length - 1) 1) (by rw [hcl]; rfl) ?_⟩
    refine xw_nb hla hd ?_
    rw [ab_or_lt g1]
    refine nm_e (nm_r (e' := nI p.length) (by rw [nI_1]; congr 1; omega) ⟨hin2, nm_r (e' := upd sq p.length (nI (ab_nb2 (ab_la p) d))) (by rw [hcl2, ab_nb8 _ c.1]) ⟨hin2, nm_r (e' := upd (upd di (p.length - 1) (nI (d + 1))) p.length (nI 0)) (by rw [hcl2, ab_nb0]; rfl) ⟨hin2, nm_r (e' := upd (upd le (p.length - 1) 1) p.length 0) (by rw [hcl2]; rfl) (nm_r (nI_1 r) ?_)⟩⟩⟩)
    exact h1 c.1 c.2
  · rw [if_neg c]
    refine br_t (by decide) (nm_r (nI_1 r) ?_)
    exact h0 c
/-- from a child back to its parent -/
theorem xw_back {post : Int32 → SX → Prop} {b n r d : Nat} {p : List Nat} {sc tk se mo be : Int32} {sq di le : Nat → Int32} (hV : ab_VP B m true p) (hd : d < 4) (c1 : ab_nb2 (ab_la p) d < 32) (c2 : ab_cj B p (ab_nb2 (ab_la p) d) = true) (hsq : ab_At sq p) (hdi : di (p.length - 1) = nI (d + 1)) (htk : ab_Bits tk (ab_jl (p ++ [ab_nb2 (ab_la p) d])))
    (h : ∀ tk1 : Int32, ab_Bits tk1 (ab_jl p) → wX_meetJumps_23 post (nI b) n (nI (p.length - 1)) (nI (r + 1)) f_first f_second f_kings f_toMove f_pastTop f_pastSize sc tk1 f_wanted se mo be a_past sq di le a_saved a_nextMove) :
    wX_meetJumps_110 post (wX_meetJumps_23 post (nI b) n) (nI b) (nI p.length) (nI r) f_first f_second f_kings f_toMove f_pastTop f_pastSize sc tk f_wanted se mo be a_past sq di le a_saved a_nextMove := by
  have hpos := ab_VP_pos hV
  have hlen := ab_VP_len hV
  have hla := ab_VP_la hV
  have hcl : (nI (p.length - 1)).toNatClampNeg = p.length - 1 := nI_clamp (by omega)
  have hin : vp_in (nI (p.length - 1)) 12 := vp_in_nI (by omega) (by omega)
  obtain ⟨g1, _, g3, _, _⟩ := ab_dir2 _ hla d hd c1
  have c6 := (ab_cj_iff.mp c2).2.2.2.2.2
  rw [g3] at c6
  rw [ab_jl_app hV.1, g3] at htk
  refine nm_r (e' := nI (p.length - 1)) (by obtain ⟨k, hk⟩ : ∃ k, p.length = k + 1 := ⟨p.length - 1, by omega⟩; rw [hk]; exact pk_m1 k) ?_
  refine br_f (nI_pos (by omega)) ⟨hin, hin, ?_⟩
  rw [hcl, hdi, ab_At_l hV hsq, nI_pred]
  refine xw_nb hla hd ?_
  rw [ab_or_lt g1]
  refine nm_e (nm_r (nI_1 r) ?_)
  exact h _ (ab_Bits_pop g1 c6 htk)
theorem xw_node {ML : List (List Nat)} {post : Int32 → SX → Prop} {b : Nat} (hP : ab_XP f_first f_second f_kings f_toMove B m) (hw : ab_W f_wanted w) (hML : ML.length ≤ 424) (HF : ∀ (q : List Nat) (done rest : List (List Nat)) (sc1 tk1 se1 mo1 be1 : Int32) (sq1 di1 le1 : Nat → Int32), ML = done ++ q :: rest → done.length = w → ab_VP B m true q → sc1 = nI q.length → ab_At sq1 q → ab_Bits tk1 (ab_tk true q) → post 1 (f_first, f_second, f_kings, f_toMove, f_pastTop, f_pastSize, sc1, tk1, f_wanted, se1, mo1, be1, a_past, sq1, di1, le1, a_saved, a_nextMove)) :
    ∀ (f : Nat) (p : List Nat), 11 ≤ p.length + f → ab_VP B m true p → ab_hd p = b → ∀ (j d : Nat), d + j = 4 → ∀ (lo : Bool) (done rest : List (List Nat)) (n r : Nat) (sc tk se mo be : Int32) (sq di le : Nat → Int32),
      ML = done ++ (ab_E B true p d lo ++ rest) → done.length ≤ w → ab_At sq p → di (p.length - 1) = nI d → le (p.length - 1) = ab_b lo → ab_Bits tk (ab_jl p) → ab_Acc true done se mo be → ab_cost B p d ≤ n → r + ab_cost B p d ≤ 1000000 →
      (∀ (n1 r1 : Nat) (sc1 tk1 se1 mo1 be1 : Int32) (sq1 di1 le1 : Nat → Int32), n ≤ n1 + ab_cost B p d → r1 + 1 ≤ r + ab_cost B p d → (done ++ ab_E B true p d lo).length ≤ w → ab_At sq1 p → (∀ i, i + 1 < p.length → di1 i = di i ∧ le1 i = le i) → ab_Bits tk1 (ab_jl p) → ab_Acc true (done ++ ab_E B true p d lo) se1 mo1 be1 → wX_meetJumps_110 post (wX_meetJumps_23 post (nI b) n1) (nI b) (nI (p.length - 1)) (nI r1) f_first f_second f_kings f_toMove f_pastTop f_pastSize sc1 tk1 f_wanted se1 mo1 be1 a_past sq1 di1 le1 a_saved a_nextMove) →
      wX_meetJumps_23 post (nI b) n (nI (p.length - 1)) (nI r) f_first f_second f_kings f_toMove f_pastTop f_pastSize sc tk f_wanted se mo be a_past sq di le a_saved a_nextMove := by
  intro f
  induction f with
  | zero =>
    intro p hpf hV
    have := ab_VP_len hV
    omega
  | succ f ih =>
    intro p hpf hV hb j
    have hpos := ab_VP_pos hV
    have hlen := ab_VP_len hV
    have hla := ab_VP_la hV
    have hhd := ab_VP_hd hV
    have hs := hV.2.2.1
    induction j with
    | zero =>
      intro d hdj lo done rest n r sc tk se mo be sq di le hml hdw hsq hdi hle htk hA hn hr K
      have hd : d = 4 := by omega
      subst hd
      have hc := ab_cost_pos (B := B) (p := p) (d := 4)
      obtain ⟨n, rfl⟩ : ∃ n', n = n' + 1 := ⟨n - 1, by omega⟩
      refine xw_head4 (by omega) (by omega) (ab_At_l hV hsq) hdi ?_
      refine xw_over hw hML HF rfl hV (ab_dl_end (by omega)) hml hdw hsq hle htk hA ?_
      intro sc1 se1 mo1 be1 k1 k2
      exact K n r _ _ _ _ _ _ _ _ (by omega) (by omega) k1 hsq (fun i _ => ⟨rfl, rfl⟩) htk k2
    | succ j ihj =>
      intro d hdj lo done rest n r sc tk se mo be sq di le hml hdw hsq hdi hle htk hA hn hr K
      have hd : d < 4 := by omega
      have hc := ab_cost_pos (B := B) (p := p) (d := d)
      obtain ⟨n, rfl⟩ : ∃ n', n = n' + 1 := ⟨n - 1, by omega⟩
      subst hb
      refine xw_headN hP hhd hla hs (by omega) (by omega) hd (ab_At_l hV hsq) hdi (fun z1 z2 => ?_) (fun hst => ?_)
      · refine xw_over hw hML HF rfl hV (ab_dl_stop (by omega) z2) hml hdw hsq hle htk hA ?_
        intro sc1 se1 mo1 be1 k1 k2
        exact K n r _ _ _ _ _ _ _ _ (by omega) (by omega) k1 hsq (fun i _ => ⟨rfl, rfl⟩) htk k2
      · refine xw_try hP hV hd htk (fun z => hst ⟨by omega, z.2⟩) hdi (fun c => ?_) (fun c1 c2 => ?_)
        · have hdl := ab_dl_f (B := B) (jm := true) (p := p) hd c
          have hcf := ab_cost_f hd hdl
          rw [ab_E_f hdl] at hml K
          refine ihj (d + 1) (by omega) lo done rest n (r + 1) _ _ _ _ _ _ _ _ hml hdw hsq (by rw [pk_us]) hle htk hA (by omega) (by omega) ?_
          intro n1 r1 sc1 tk1 se1 mo1 be1 sq1 di1 le1 k1 k2 k3 k4 k5 k6 k7
          refine K n1 r1 _ _ _ _ _ _ _ _ (by omega) (by omega) k3 k4 (fun i hi => ⟨?_, (k5 i hi).2⟩) k6 k7
          rw [(k5 i hi).1, pk_un (by omega)]
        · have hdl := ab_dl_t (B := B) (jm := true) (p := p) hd c1 c2
          have hds : ab_ds true (ab_la p) d = ab_nb2 (ab_la p) d := rfl
          rw [hds] at hdl
          have hct := ab_cost_t hd hdl
          have hV' : ab_VP B m true (p ++ [ab_nb2 (ab_la p) d]) := ab_VP_app hV c1 c2
          have hlen' : (p ++ [ab_nb2 (ab_la p) d]).length = p.length + 1 := by simp
          have hl1 : (p ++ [ab_nb2 (ab_la p) d]).length - 1 = p.length := by omega
          have hE0 : ab_E B true (p ++ [ab_nb2 (ab_la p) d]) 0 false = ab_LL B true (p ++ [ab_nb2 (ab_la p) d]) := ab_E_0 hV' (by omega)
          have hc0 := ab_cost_0 hV'
          obtain ⟨g1, _, g3, _, _⟩ := ab_dir2 _ hla d hd c1
          rw [ab_E_t hdl] at hml K
          have hih := ih (p ++ [ab_nb2 (ab_la p) d]) (by omega) hV' (ab_hd_app hV.1 _) 4 0 rfl false done (ab_E B true p (d + 1) true ++ rest) n (r + 1)
          rw [hl1, hE0, hc0] at hih
          refine hih _ _ _ _ _ _ _ _ (by rw [hml, List.append_assoc]) hdw (ab_At_app hsq _) pk_us pk_us (by rw [ab_jl_app hV.1, g3]; exact ab_Bits_app g1 htk) hA (by omega) (by omega) ?_
          intro n1 r1 sc1 tk1 se1 mo1 be1 sq1 di1 le1 k1 k2 k3 k4 k5 k6 k7
          have hsq1 : ab_At sq1 p := by
            intro i hi
            rw [k4 i (by omega), ab_getD_app hi]
          have hdi1 : di1 (p.length - 1) = nI (d + 1) := by
            rw [(k5 (p.length - 1) (by omega)).1, pk_un (by omega), pk_us]
          have hle1 : le1 (p.length - 1) = ab_b true := by
            rw [(k5 (p.length - 1) (by omega)).2, pk_un (by omega), pk_us]; rfl
          refine xw_back hV hd c1 c2 hsq1 hdi1 k6 ?_
          intro tk2 ht2
          refine ihj (d + 1) (by omega) true (done ++ ab_LL B true (p ++ [ab_nb2 (ab_la p) d])) rest n1 (r1 + 1) _ _ _ _ _ _ _ _ (by rw [hml, List.append_assoc, List.append_assoc]) k3 hsq1 hdi1 hle1 ht2 k7 (by omega) (by omega) ?_
          intro n2 r2 sc2 tk3 se2 mo2 be2 sq2 di2 le2 q1 q2 q3 q4 q5 q6 q7
          rw [List.append_assoc] at q3 q7
          refine K n2 r2 _ _ _ _ _ _ _ _ (by omega) (by omega) q3 q4 (fun i hi => ?_) q6 q7
          have a1 := q5 i hi
          have a2 := k5 i (by omega)
          rw [a1.1, a1.2, a2.1, a2.2]
          exact ⟨by rw [pk_un (by omega), pk_un (by omega)], by rw [pk_un (by omega), pk_un (by omega)]⟩
/-- all rows of jumps of the piece on b -/
theorem xw_meetJumps {ML : List (List Nat)} {post : Int32 → SX → Prop} {b : Nat} (hP : ab_XP f_first f_second f_kings f_toMove B m) (hw : ab_W f_wanted w) (hML : ML.length ≤ 424) (HF : ∀ (q : List Nat) (done rest : List (List Nat)) (sc1 tk1 se1 mo1 be1 : Int32) (sq1 di1 le1 : Nat → Int32), ML = done ++ q :: rest → done.length = w → ab_VP B m true q → sc1 = nI q.length → ab_At sq1 q → ab_Bits tk1 (ab_tk true q) → post 1 (f_first, f_second, f_kings, f_toMove, f_pastTop, f_pastSize, sc1, tk1, f_wanted, se1, mo1, be1, a_past, sq1, di1, le1, a_saved, a_nextMove)) (hb : b < 32) (hs : ab_sd (B b) = m) {done rest : List (List Nat)}
    (hml : ML = done ++ (ab_M B true b ++ rest)) (hdw : done.length ≤ w) (hsq : a_squares 0 = nI b) (hA : ab_Acc true done f_seen f_most f_beginnings)
    (K : ∀ (sc1 tk1 se1 mo1 be1 : Int32) (sq1 di1 le1 : Nat → Int32), (done ++ ab_M B true b).length ≤ w → ab_Acc true (done ++ ab_M B true b) se1 mo1 be1 → post 0 (f_first, f_second, f_kings, f_toMove, f_pastTop, f_pastSize, sc1, tk1, f_wanted, se1, mo1, be1, a_past, sq1, di1, le1, a_saved, a_nextMove)) : wpX_meetJumps post (f_first, f_second, f_kings, f_toMove, f_pastTop, f_pastSize, f_squareCount, f_taken, f_wanted, f_seen, f_most, f_beginnings, a_past, a_squares, a_direction, a_ledOn, a_saved, a_nextMove) (nI b) := by
  have hV : ab_VP B m true [b] := ab_VP_one hb hs hP.2.2.1
  have hM : ab_M B true b = ab_E B true [b] 0 false := by
    rw [ab_E_one, ← ab_cf_dlT hV]; rfl
  have hN := ab_NN_le hV
  have hc0 := ab_cost_0 hV
  rw [hM] at hml K
  refine nm_e (nm_e ⟨1000, ?_⟩)
  refine xw_node hP hw hML HF 10 [b] (by simp) hV rfl 4 0 rfl false done rest 1000 0 _ _ _ _ _ _ _ _ hml hdw ?_ ?_ ?_ ?_ hA (by omega) (by omega) ?_
  · intro i hi
    have e : i = 0 := by simp at hi; exact hi
    subst e
    exact hsq
  · show upd _ 0 (vp_nar .byte 0) 0 = nI 0
    rw [pk_us, ab_nb0]; rfl
  · show upd _ 0 (vp_nar .boolean 0) 0 = ab_b false
    rw [pk_us]; rfl
  · intro i hi
    rw [b_0]; rfl
  · intro n1 r1 sc1 tk1 se1 mo1 be1 sq1 di1 le1 k1 k2 k3 k4 k5 k6 k7
    obtain ⟨n1, rfl⟩ : ∃ n', n1 = n' + 1 := ⟨n1 - 1, by omega⟩
    refine nm_r (e' := (-1)) (show nI 0 + (-1) = -1 by decide) (br_t (by decide) (nm_r (nI_1 r1) ?_))
    refine pk_le 1048576 (r1 + 1) (fun z => absurd z (by omega)) (fun _ => br_t (by decide) ?_)
    exact K _ _ _ _ _ _ _ _ k3 k7
end
end
section
/-! ===== X: steps, mustJump, seek ===== -/
theorem ab_ML_eq {B : Nat → Nat} {m : Nat} : ab_ML B m = [] ++ ab_BF B m (ab_jm B m) 0 := by
  rw [List.nil_append]; unfold ab_ML; rfl
section
variable {f_first f_second f_kings f_toMove f_pastTop f_pastSize f_squareCount f_taken f_wanted f_seen f_most f_beginnings : Int32} {a_past a_squares a_direction a_ledOn a_saved a_nextMove : Nat → Int32} {B : Nat → Nat} {m w : Nat} {jm : Bool}
theorem xw_step {ML : List (List Nat)} {post : Int32 → SX → Prop} {b : Nat} (hP : ab_XP f_first f_second f_kings f_toMove B m) (hw : ab_W f_wanted w) (hML : ML.length ≤ 424) (HF : ∀ (q : List Nat) (done rest : List (List Nat)) (sc1 tk1 se1 mo1 be1 : Int32) (sq1 di1 le1 : Nat → Int32), ML = done ++ q :: rest → done.length = w → ab_VP B m false q → sc1 = nI q.length → ab_At sq1 q → ab_Bits tk1 (ab_tk false q) → post 1 (f_first, f_second, f_kings, f_toMove, f_pastTop, f_pastSize, sc1, tk1, f_wanted, se1, mo1, be1, a_past, sq1, di1, le1, a_saved, a_nextMove)) (hV : ab_VP B m false [b]) :
    ∀ (j d : Nat), d + j = 4 → ∀ (n : Nat), j < n → ∀ (done rest : List (List Nat)) (sc tk se mo be : Int32) (sq di le : Nat → Int32),
      ML = done ++ (ab_R B false [b] (ab_dl B false [b] d) ++ rest) → done.length ≤ w → sq 0 = nI b → ab_Acc false done se mo be →
      (∀ (sc1 tk1 se1 mo1 be1 : Int32) (sq1 di1 le1 : Nat → Int32), (done ++ ab_R B false [b] (ab_dl B false [b] d)).length ≤ w → ab_Acc false (done ++ ab_R B false [b] (ab_dl B false [b] d)) se1 mo1 be1 → post 0 (f_first, f_second, f_kings, f_toMove, f_pastTop, f_pastSize, sc1, tk1, f_wanted, se1, mo1, be1, a_past, sq1, di1, le1, a_saved, a_nextMove)) →
      wX_meetSteps_2 post (nI b) n (nI d) f_first f_second f_kings f_toMove f_pastTop f_pastSize sc tk f_wanted se mo be a_past sq di le a_saved a_nextMove := by
  have hb : b < 32 := ab_VP_hd hV
  have hs : ab_sd (B b) = m := hV.2.2.1
  intro j
  induction j with
  | zero =>
    intro d hd n hn done rest sc tk se mo be sq di le hml hdw hsq hA K
    obtain ⟨n, rfl⟩ : ∃ n', n = n' + 1 := ⟨n - 1, by omega⟩
    rw [ab_dl_end (by omega), ab_R_nil, List.append_nil] at K
    exact pk_le 4 d (fun _ => K _ _ _ _ _ _ _ _ hdw hA) (fun z => absurd z (by omega))
  | succ j ih =>
    intro d hd n hn done rest sc tk se mo be sq di le hml hdw hsq hA K
    obtain ⟨n, rfl⟩ : ∃ n', n = n' + 1 := ⟨n - 1, by omega⟩
    have hd4 : d < 4 := by omega
    have hdl1 : done.length < 1000 := by
      have := congrArg List.length hml
      rw [List.length_append] at this
      omega
    have hds : ab_ds false (ab_la [b]) d = ab_nb b d := rfl
    have skip : ¬ (ab_nb b d < 32 ∧ ab_can B false [b] (ab_nb b d) = true) → ∀ z0 : Int32, wX_meetSteps_2 post (nI b) n (nI (d + 1)) f_first f_second f_kings f_toMove f_pastTop f_pastSize sc tk f_wanted se mo be a_past sq di le a_saved a_nextMove := by
      intro c _
      have hdl := ab_dl_f (B := B) (jm := false) (p := [b]) hd4 (by rw [hds]; exact c)
      rw [hdl] at hml K
      exact ih (d + 1) (by omega) n (by omega) done rest _ _ _ _ _ _ _ _ hml hdw hsq hA K
    refine pk_le 4 d (fun z => absurd z (by omega)) (fun _ => ?_)
    refine xw_canGo hP.2.1 hP.2.2.1 hb hd4 (ab_br (fun e => ?_) (fun e => ?_))
    · refine br_t (by decide) (nm_r (nI_1 d) (skip ?_ 0))
      intro z
      obtain ⟨_, g4, g5⟩ := ab_dir1 _ hb d hd4 z.1
      have := (ab_cs_iff.mp (show ab_cs B [b] (ab_nb b d) = true from z.2)).2.2.2
      rw [show ab_ah (B (ab_hd [b])) (ab_hd [b]) (ab_nb b d) = ab_go f_kings m b d from (ab_go_ah hP hb hs g4 g5).symm, e] at this
      exact absurd this (by decide)
    · refine xw_nb hb hd4 (ab_orbr (fun z => ?_) (fun z => ?_))
      · exact nm_r (nI_1 d) (skip (fun y => z y.1) 0)
      · rw [ab_or_lt z]
        obtain ⟨g2, g4, g5⟩ := ab_dir1 _ hb d hd4 z
        refine xw_in z ?_
        rw [xb_occ hP z]
        refine ab_br (fun y => ?_) (fun y => ?_)
        · have y' : B (ab_nb b d) = 0 := by simpa using y
          have hc : ab_can B false [b] (ab_nb b d) = true := by
            show ab_cs B [b] (ab_nb b d) = true
            exact ab_cs_iff.mpr ⟨rfl, y', g2, by rw [← e]; exact (ab_go_ah hP hb hs g4 g5).symm⟩
          have hV2 : ab_VP B m false ([b] ++ [ab_nb b d]) := ab_VP_app hV z hc
          have hdl := ab_dl_t (B := B) (jm := false) (p := [b]) hd4 z hc
          rw [hdl, hds, ab_R_cons, ab_LL_two hV2 (by simp)] at hml K
          have hat : ab_At (upd sq 1 (nI (ab_nb b d))) ([b] ++ [ab_nb b d]) := ab_At_app (p := [b]) (by
            intro i hi
            have e : i = 0 := by simp at hi; exact hi
            subst e
            exact hsq) _
          refine nm_r (e' := upd sq 1 (nI (ab_nb b d))) (by rw [ab_nb8 _ z]) ?_
          refine xw_meet hV2 (by rw [pk_un (by decide)]; exact hsq) (fun i _ => b_0 i) hA hdl1 hw ?_
          intro se1 mo1 be1 hA1
          refine ab_br (fun e => ?_) (fun e => ?_)
          · have e' : ¬ done.length = w := by simpa using e
            refine nm_r (nI_1 d) ?_
            refine ih (d + 1) (by omega) n (by omega) (done ++ [[b] ++ [ab_nb b d]]) rest _ _ _ _ _ _ _ _ (by rw [hml]; simp) (by simp; omega) (by rw [pk_un (by decide)]; exact hsq) hA1 ?_
            intro sc2 tk2 se2 mo2 be2 sq2 di2 le2 k1 k2
            rw [List.append_assoc] at k1 k2
            exact K _ _ _ _ _ _ _ _ k1 k2
          · have e' : done.length = w := by simpa using e
            exact HF ([b] ++ [ab_nb b d]) done (ab_R B false [b] (ab_dl B false [b] (d + 1)) ++ rest) _ _ _ _ _ _ _ _ (by rw [hml]; simp) e' hV2 rfl hat (fun i _ => b_0 i)
        · have y' : ¬ B (ab_nb b d) = 0 := by simpa using y
          refine nm_r (nI_1 d) (skip ?_ 0)
          intro c
          exact y' (ab_cs_iff.mp (show ab_cs B [b] (ab_nb b d) = true from c.2)).2.1
theorem xw_meetSteps {ML : List (List Nat)} {post : Int32 → SX → Prop} {b : Nat} (hP : ab_XP f_first f_second f_kings f_toMove B m) (hw : ab_W f_wanted w) (hML : ML.length ≤ 424) (HF : ∀ (q : List Nat) (done rest : List (List Nat)) (sc1 tk1 se1 mo1 be1 : Int32) (sq1 di1 le1 : Nat → Int32), ML = done ++ q :: rest → done.length = w → ab_VP B m false q → sc1 = nI q.length → ab_At sq1 q → ab_Bits tk1 (ab_tk false q) → post 1 (f_first, f_second, f_kings, f_toMove, f_pastTop, f_pastSize, sc1, tk1, f_wanted, se1, mo1, be1, a_past, sq1, di1, le1, a_saved, a_nextMove)) (hb : b < 32) (hs : ab_sd (B b) = m) {done rest : List (List Nat)}
    (hml : ML = done ++ (ab_M B false b ++ rest)) (hdw : done.length ≤ w) (hsq : a_squares 0 = nI b) (hA : ab_Acc false done f_seen f_most f_beginnings)
    (K : ∀ (sc1 tk1 se1 mo1 be1 : Int32) (sq1 di1 le1 : Nat → Int32), (done ++ ab_M B false b).length ≤ w → ab_Acc false (done ++ ab_M B false b) se1 mo1 be1 → post 0 (f_first, f_second, f_kings, f_toMove, f_pastTop, f_pastSize, sc1, tk1, f_wanted, se1, mo1, be1, a_past, sq1, di1, le1, a_saved, a_nextMove)) : wpX_meetSteps post (f_first, f_second, f_kings, f_toMove, f_pastTop, f_pastSize, f_squareCount, f_taken, f_wanted, f_seen, f_most, f_beginnings, a_past, a_squares, a_direction, a_ledOn, a_saved, a_nextMove) (nI b) := by
  have hV : ab_VP B m false [b] := ab_VP_one hb hs hP.2.2.1
  have hM : ab_M B false b = ab_R B false [b] (ab_dl B false [b] 0) := by
    rw [← ab_cf_dlF hb]; rfl
  rw [hM] at hml K
  exact ⟨5, xw_step hP hw hML HF hV 4 0 rfl 5 (by omega) done rest _ _ _ _ _ _ _ _ hml hdw hsq hA K⟩
theorem xw_mj15 {post : Int32 → Prop} {J7 : Int32 → Prop} {s : Nat} (hP : ab_XP f_first f_second f_kings f_toMove B m) (hs : s < 32) (ho : ab_sd (B s) = m) :
    ∀ (j d : Nat), d + j = 4 → ∀ n, j < n → (ab_dl B true [s] d ≠ [] → post 1) → (ab_dl B true [s] d = [] → J7 (nI (s + 1))) → wX_mustJump_15 post J7 (if m = 0 then f_first else f_second) (nI s) f_first f_second f_kings f_toMove f_pastTop f_pastSize f_squareCount f_taken f_wanted f_seen f_most f_beginnings a_past a_squares a_direction a_ledOn a_saved a_nextMove n (nI d) := by
  have hV : ab_VP B m true [s] := ab_VP_one hs ho hP.2.2.1
  intro j
  induction j with
  | zero =>
    intro d hd n hn _ h0
    obtain ⟨n, rfl⟩ : ∃ n', n = n' + 1 := ⟨n - 1, by omega⟩
    exact pk_le 4 d (fun _ => nm_r (nI_1 s) (h0 (ab_dl_end (by omega)))) (fun z => absurd z (by omega))
  | succ j ih =>
    intro d hd n hn h1 h0
    obtain ⟨n, rfl⟩ : ∃ n', n = n' + 1 := ⟨n - 1, by omega⟩
    have hd4 : d < 4 := by omega
    refine pk_le 4 d (fun z => absurd z (by omega)) (fun _ => xw_in hs ?_)
    rw [xb_own hP hs, decide_eq_true ho]
    refine br_f (by decide) ?_
    refine xw_jumpTo (p := [s]) hP hV hd4 (fun i _ => b_0 i) (by simp) ?_
    by_cases c : ab_nb2 (ab_la [s]) d < 32 ∧ ab_cj B [s] (ab_nb2 (ab_la [s]) d) = true
    · rw [if_pos c]
      refine br_f (nI_pos (by omega)) (h1 ?_)
      rw [ab_dl_t (B := B) (jm := true) (p := [s]) hd4 c.1 c.2]
      simp
    · rw [if_neg c]
      have hdl := ab_dl_f (B := B) (jm := true) (p := [s]) hd4 c
      rw [hdl] at h1 h0
      exact br_t (by decide) (nm_r (nI_1 d) (ih (d + 1) (by omega) n (by omega) h1 h0))
theorem xw_mj7 {post : Int32 → Prop} (hP : ab_XP f_first f_second f_kings f_toMove B m) :
    ∀ (k s : Nat), s + k = 32 → ∀ n, k < n → post (ab_b (!(ab_BF B m true s).isEmpty)) → wX_mustJump_7 post (if m = 0 then f_first else f_second) f_first f_second f_kings f_toMove f_pastTop f_pastSize f_squareCount f_taken f_wanted f_seen f_most f_beginnings a_past a_squares a_direction a_ledOn a_saved a_nextMove n (nI s) := by
  intro k
  induction k with
  | zero =>
    intro s hs n hn h
    obtain ⟨n, rfl⟩ : ∃ n', n = n' + 1 := ⟨n - 1, by omega⟩
    rw [ab_BF_end (by omega)] at h
    exact pk_le 32 s (fun _ => h) (fun z => absurd z (by omega))
  | succ k ih =>
    intro s hs n hn h
    obtain ⟨n, rfl⟩ : ∃ n', n = n' + 1 := ⟨n - 1, by omega⟩
    have hs32 : s < 32 := by omega
    refine pk_le 32 s (fun z => absurd z (by omega)) (fun _ => ⟨5, ?_⟩)
    by_cases ho : ab_sd (B s) = m
    · have hV : ab_VP B m true [s] := ab_VP_one hs32 ho hP.2.2.1
      refine xw_mj15 hP hs32 ho 4 0 rfl 5 (by omega) (fun z => ?_) (fun z => ?_)
      · rw [← ab_cf_dlT hV] at z
        have hne : ab_BF B m true s ≠ [] := by
          rw [ab_BF_t hs32 ho]
          intro y
          exact ab_R_ne z (List.append_eq_nil_iff.mp y).1
        cases e : ab_BF B m true s with
        | nil => exact absurd e hne
        | cons a r => rw [e] at h; exact h
      · rw [← ab_cf_dlT hV] at z
        rw [ab_BF_t hs32 ho, ab_M_nil z, List.nil_append] at h
        exact ih (s + 1) (by omega) n (by omega) h
    · rw [ab_BF_f hs32 ho] at h
      refine br_f (by decide) (xw_in hs32 ?_)
      rw [xb_own hP hs32, decide_eq_false ho]
      exact br_t rfl (nm_r (nI_1 s) (ih (s + 1) (by omega) n (by omega) h))
theorem xw_mustJump {post : Int32 → Prop} (hP : ab_XP f_first f_second f_kings f_toMove B m) (h : post (ab_b (ab_jm B m))) : wpX_mustJump post (f_first, f_second, f_kings, f_toMove, f_pastTop, f_pastSize, f_squareCount, f_taken, f_wanted, f_seen, f_most, f_beginnings, a_past, a_squares, a_direction, a_ledOn, a_saved, a_nextMove) := by
  unfold wpX_mustJump
  refine xw_own hP.2.1 hP.2.2.1 ?_
  refine ⟨33, ?_⟩
  exact xw_mj7 hP 32 0 rfl 33 (by omega) h
theorem xw_seek33 {ML : List (List Nat)} {post : Int32 → SX → Prop} (hP : ab_XP f_first f_second f_kings f_toMove B m) (hw : ab_W f_wanted w) (hML : ML.length ≤ 424) (HF : ∀ (q : List Nat) (done rest : List (List Nat)) (sc1 tk1 se1 mo1 be1 : Int32) (sq1 di1 le1 : Nat → Int32), ML = done ++ q :: rest → done.length = w → ab_VP B m jm q → sc1 = nI q.length → ab_At sq1 q → ab_Bits tk1 (ab_tk jm q) → post 1 (f_first, f_second, f_kings, f_toMove, f_pastTop, f_pastSize, sc1, tk1, f_wanted, se1, mo1, be1, a_past, sq1, di1, le1, a_saved, a_nextMove))
    (K : ∀ (sc1 tk1 se1 mo1 be1 : Int32) (sq1 di1 le1 : Nat → Int32), ML.length ≤ w → ab_Acc jm ML se1 mo1 be1 → post 0 (f_first, f_second, f_kings, f_toMove, f_pastTop, f_pastSize, sc1, tk1, f_wanted, se1, mo1, be1, a_past, sq1, di1, le1, a_saved, a_nextMove)) :
    ∀ (k s : Nat), s + k = 32 → ∀ n, k < n → ∀ (done : List (List Nat)) (sc tk se mo be : Int32) (sq di le : Nat → Int32), ML = done ++ ab_BF B m jm s → done.length ≤ w → ab_Acc jm done se mo be → wX_seek_33 post (ab_b jm) (if m = 0 then f_first else f_second) n (nI s) f_first f_second f_kings f_toMove f_pastTop f_pastSize sc tk f_wanted se mo be a_past sq di le a_saved a_nextMove := by
  intro k
  induction k with
  | zero =>
    intro s hs n hn done sc tk se mo be sq di le hml hdw hA
    obtain ⟨n, rfl⟩ : ∃ n', n = n' + 1 := ⟨n - 1, by omega⟩
    rw [ab_BF_end (by omega), List.append_nil] at hml
    rw [← hml] at hdw hA
    exact pk_le 32 s (fun _ => K _ _ _ _ _ _ _ _ hdw hA) (fun z => absurd z (by omega))
  | succ k ih =>
    intro s hs n hn done sc tk se mo be sq di le hml hdw hA
    obtain ⟨n, rfl⟩ : ∃ n', n = n' + 1 := ⟨n - 1, by omega⟩
    have hs32 : s < 32 := by omega
    refine pk_le 32 s (fun z => absurd z (by omega)) (fun _ => xw_in hs32 ?_)
    rw [xb_own hP hs32]
    refine ab_br (fun e => ?_) (fun e => ?_)
    · have ho : ¬ ab_sd (B s) = m := by simpa using e
      rw [ab_BF_f hs32 ho] at hml
      exact nm_r (nI_1 s) (ih (s + 1) (by omega) n (by omega) done _ _ _ _ _ _ _ _ hml hdw hA)
    · have ho : ab_sd (B s) = m := by simpa using e
      rw [ab_BF_t hs32 ho] at hml
      refine nm_r (e' := upd sq 0 (nI s)) (by rw [ab_nb8 _ hs32]) ?_
      cases jm with
      | false =>
        refine br_t rfl (xw_meetSteps hP hw hML ?_ hs32 ho hml hdw pk_us hA ?_)
        · intro q dn rs sc1 tk1 se1 mo1 be1 sq1 di1 le1 a1 a2 a3 a4 a5 a6
          exact br_f (by decide) (HF q dn rs _ _ _ _ _ _ _ _ a1 a2 a3 a4 a5 a6)
        · intro sc1 tk1 se1 mo1 be1 sq1 di1 le1 a1 a2
          refine br_t rfl (nm_r (nI_1 s) ?_)
          exact ih (s + 1) (by omega) n (by omega) _ _ _ _ _ _ _ _ _ (by rw [hml, List.append_assoc]) a1 a2
      | true =>
        refine br_f (by decide) (xw_meetJumps hP hw hML ?_ hs32 ho hml hdw pk_us hA ?_)
        · intro q dn rs sc1 tk1 se1 mo1 be1 sq1 di1 le1 a1 a2 a3 a4 a5 a6
          exact br_f (by decide) (HF q dn rs _ _ _ _ _ _ _ _ a1 a2 a3 a4 a5 a6)
        · intro sc1 tk1 se1 mo1 be1 sq1 di1 le1 a1 a2
          refine br_t rfl (nm_r (nI_1 s) ?_)
          exact ih (s + 1) (by omega) n (by omega) _ _ _ _ _ _ _ _ _ (by rw [hml, List.append_assoc]) a1 a2
theorem xw_seek {post : Int32 → SX → Prop} {k : Int32} (hP : ab_XP f_first f_second f_kings f_toMove B m) (hw : ab_W k w)
    (HF : ∀ (q : List Nat) (done rest : List (List Nat)) (sc1 tk1 se1 mo1 be1 : Int32) (sq1 di1 le1 : Nat → Int32), ab_ML B m = done ++ q :: rest → done.length = w → ab_VP B m (ab_jm B m) q → sc1 = nI q.length → ab_At sq1 q → ab_Bits tk1 (ab_tk (ab_jm B m) q) → post 1 (f_first, f_second, f_kings, f_toMove, f_pastTop, f_pastSize, sc1, tk1, k, se1, mo1, be1, a_past, sq1, di1, le1, a_saved, a_nextMove))
    (HN : ∀ (sc1 tk1 se1 mo1 be1 : Int32) (sq1 di1 le1 : Nat → Int32), (ab_ML B m).length ≤ w → ab_Acc (ab_jm B m) (ab_ML B m) se1 mo1 be1 → post 0 (f_first, f_second, f_kings, f_toMove, f_pastTop, f_pastSize, sc1, tk1, k, se1, mo1, be1, a_past, sq1, di1, le1, a_saved, a_nextMove)) : wpX_seek post (f_first, f_second, f_kings, f_toMove, f_pastTop, f_pastSize, f_squareCount, f_taken, f_wanted, f_seen, f_most, f_beginnings, a_past, a_squares, a_direction, a_ledOn, a_saved, a_nextMove) k := by
  unfold wpX_seek
  refine xw_mustJump hP ?_
  refine xw_own hP.2.1 hP.2.2.1 ?_
  refine ⟨33, ?_⟩
  exact xw_seek33 hP hw (ab_ML_len hP.2.2.1) HF HN 32 0 rfl 33 (by omega) [] _ _ _ _ _ _ _ _ ab_ML_eq (Nat.zero_le _) (ab_Acc_0 _)
end
end
section
/-! ===== Y: small methods ===== -/
def ab_YB (a : Nat → Int32) (B : Nat → Nat) : Prop := ∀ i, i < 32 → a i = nI (B i)
def ab_so (q : Nat) : Int32 := if ab_sd q = 0 then 0 else if ab_sd q = 1 then 1 else (-1)
theorem yb_col1 : ∀ s, s < 32 → s / 4 % 2 = 0 → (2 * (nI s - nI s / 4 * 4)) + 1 = nI (ab_col s) := by decide +kernel
theorem yb_col0 : ∀ s, s < 32 → ¬ s / 4 % 2 = 0 → (2 * (nI s - nI s / 4 * 4)) + 0 = nI (ab_col s) := by decide +kernel
theorem yb_par : ∀ r, r < 8 → ((nI r - nI r / 2 * 2 = 0) ↔ r % 2 = 0) := by decide +kernel
theorem yb_colt : ∀ s, s < 32 → ab_col s < 8 := by decide +kernel
theorem yb_dif : ∀ a, a < 8 → ∀ b, b < 8 → ∀ n, n < 3 → ((nI a - nI b = nI n ↔ a = b + n) ∧ (nI a - nI b = -nI n ↔ b = a + n)) := by decide +kernel
theorem yb_so : ∀ q, q < 5 → ∀ q', q' < 5 → ab_sd q' ≤ 1 → (ab_so q = 1 - ab_so q' ↔ ab_sd q = 1 - ab_sd q') := by decide +kernel
theorem yb_som : ∀ q, q < 5 → ∀ m, m < 2 → (ab_so q = nI m ↔ ab_sd q = m) := by decide +kernel
theorem yb_mid : ∀ s, s < 32 → ∀ t, t < 32 → ab_sl s t 2 = true → ab_mid s t < 32 := by decide +kernel
/-- place of a jump in the path -/
def ab_jx (p : List Nat) (i : Nat) : Nat := ab_mid (p.getD i 0) (p.getD (i + 1) 0)
theorem ab_jl_mem (o : Nat) : ∀ p : List Nat, o ∈ ab_jl p ↔ ∃ i, i + 1 < p.length ∧ ab_jx p i = o := by
  intro p
  induction p with
  | nil => simp [ab_jl]
  | cons a r ih =>
    cases r with
    | nil => simp [ab_jl]
    | cons b r =>
      show o ∈ ab_mid a b :: ab_jl (b :: r) ↔ _
      rw [List.mem_cons, ih]
      constructor
      · intro h
        rcases h with h | ⟨i, h1, h2⟩
        · exact ⟨0, by simp, h.symm⟩
        · exact ⟨i + 1, by simp at h1 ⊢; omega, h2⟩
      · intro ⟨i, h1, h2⟩
        cases i with
        | zero => exact Or.inl h2.symm
        | succ i => exact Or.inr ⟨i, by simp at h1 ⊢; omega, h2⟩
def ab_fd (p : List Nat) (o : Nat) : Nat → Bool
  | 0 => false
  | i + 1 => ab_fd p o i || decide (ab_jx p i = o)
theorem ab_fd_iff (p : List Nat) (o : Nat) : ∀ n, ab_fd p o n = true ↔ ∃ i, i < n ∧ ab_jx p i = o := by
  intro n
  induction n with
  | zero => simp [ab_fd]
  | succ n ih =>
    show (ab_fd p o n || decide (ab_jx p n = o)) = true ↔ _
    rw [Bool.or_eq_true, ih, decide_eq_true_iff]
    constructor
    · intro h
      rcases h with ⟨i, h1, h2⟩ | h
      · exact ⟨i, by omega, h2⟩
      · exact ⟨n, by omega, h⟩
    · intro ⟨i, h1, h2⟩
      by_cases e : i = n
      · subst e; exact Or.inr h2
      · exact Or.inl ⟨i, by omega, h2⟩
theorem ab_fd_jl (p : List Nat) (o : Nat) : ab_fd p o (p.length - 1) = decide (o ∈ ab_jl p) := by
  rw [Bool.eq_iff_iff, ab_fd_iff, decide_eq_true_iff, ab_jl_mem]
  constructor
  · intro ⟨i, h1, h2⟩; exact ⟨i, by omega, h2⟩
  · intro ⟨i, h1, h2⟩; exact ⟨i, by omega, h2⟩
section
variable {f_mover f_remembered f_size f_jumps : Int32} {a_board a_olds a_oldSides a_squares a_asideBoards a_asidePaths a_asideSizes a_asideJumps : Nat → Int32} {B : Nat → Nat} {m : Nat} {p : List Nat} {post : Int32 → Prop}
theorem yw_row {s : Nat} (hs : s < 32) (h : post (nI (s / 4))) : wpY_row post (f_mover, f_remembered, f_size, f_jumps, a_board, a_olds, a_oldSides, a_squares, a_asideBoards, a_asidePaths, a_asideSizes, a_asideJumps) (nI s) := by
  have e : nI s / 4 = nI (s / 4) := pk_div (a := s) (d := 4) (by omega) (by omega) (by omega)
  refine And.intro (by decide) ?_
  rw [e]; exact h
theorem yw_column {s : Nat} (hs : s < 32) (h : post (nI (ab_col s))) : wpY_column post (f_mover, f_remembered, f_size, f_jumps, a_board, a_olds, a_oldSides, a_squares, a_asideBoards, a_asidePaths, a_asideSizes, a_asideJumps) (nI s) := by
  refine And.intro (by decide) (yw_row hs ?_)
  refine ⟨by decide, ?_⟩
  have e := yb_par (s / 4) (by omega)
  by_cases z : s / 4 % 2 = 0
  · refine br_t (e.mpr z) ?_
    rw [yb_col1 s hs z]; exact h
  · refine br_f (fun y => z (e.mp y)) ?_
    rw [yb_col0 s hs z]; exact h
theorem yw_sideOf {q : Nat} (hq : q ≤ 4) (h : post (ab_so q)) : wpY_sideOf post (f_mover, f_remembered, f_size, f_jumps, a_board, a_olds, a_oldSides, a_squares, a_asideBoards, a_asidePaths, a_asideSizes, a_asideJumps) (nI q) := by
  have hc : q = 0 ∨ q = 1 ∨ q = 2 ∨ q = 3 ∨ q = 4 := by omega
  rcases hc with rfl | rfl | rfl | rfl | rfl
  · exact br_f (by decide) (br_f (by decide) (br_f (by decide) (br_f (by decide) h)))
  · exact br_t rfl h
  · exact br_f (by decide) (br_t rfl h)
  · exact br_f (by decide) (br_f (by decide) (br_t rfl h))
  · exact br_f (by decide) (br_f (by decide) (br_f (by decide) (br_t rfl h)))
theorem yw_lr15 {q s : Nat} (hq : q ≤ 4) (hs : s < 32) (h : post (ab_b (decide (q = 3 ∧ s / 4 = 0)))) : wY_lastRow_15 post (nI q) (nI s) f_mover f_remembered f_size f_jumps a_board a_olds a_oldSides a_squares a_asideBoards a_asidePaths a_asideSizes a_asideJumps := by
  refine pk_eq q 3 (fun z => ?_) (fun z => ?_)
  · refine yw_row hs ?_
    refine pk_eq (s / 4) 0 (fun y => ?_) (fun y => ?_)
    · rw [decide_eq_true ⟨z, y⟩] at h; exact h
    · rw [decide_eq_false (fun x => y x.2)] at h; exact h
  · rw [decide_eq_false (fun x => z x.1)] at h; exact h
theorem yw_lastRow {q s : Nat} (hq : q ≤ 4) (hs : s < 32) (h : post (ab_b (ab_last q s))) : wpY_lastRow post (f_mover, f_remembered, f_size, f_jumps, a_board, a_olds, a_oldSides, a_squares, a_asideBoards, a_asidePaths, a_asideSizes, a_asideJumps) (nI q) (nI s) := by
  refine pk_eq q 1 (fun z => ?_) (fun z => ?_)
  · refine yw_row hs ?_
    refine pk_eq (s / 4) 7 (fun y => ?_) (fun y => ?_)
    · rw [show ab_last q s = true from decide_eq_true (Or.inl ⟨z, y⟩)] at h; exact h
    · refine yw_lr15 hq hs ?_
      rw [show ab_last q s = decide (q = 3 ∧ s / 4 = 0) from decide_eq_decide.mpr (by omega)] at h
      exact h
  · refine yw_lr15 hq hs ?_
    rw [show ab_last q s = decide (q = 3 ∧ s / 4 = 0) from decide_eq_decide.mpr (by omega)] at h
    exact h
theorem yw_isMan {q : Nat} (hq : q ≤ 4) (h : post (ab_b (decide (q = 1 ∨ q = 3)))) : wpY_isMan post (f_mover, f_remembered, f_size, f_jumps, a_board, a_olds, a_oldSides, a_squares, a_asideBoards, a_asidePaths, a_asideSizes, a_asideJumps) (nI q) := by
  refine pk_eq q 1 (fun z => ?_) (fun z => ?_)
  · rw [decide_eq_true (Or.inl z)] at h; exact h
  · refine pk_eq q 3 (fun y => ?_) (fun y => ?_)
    · rw [decide_eq_true (Or.inr y)] at h; exact h
    · rw [decide_eq_false (by omega)] at h; exact h
theorem yw_ahead {q s t : Nat} (hq : q ≤ 4) (hs : s < 32) (ht : t < 32) (h : post (ab_b (ab_ah q s t))) : wpY_ahead post (f_mover, f_remembered, f_size, f_jumps, a_board, a_olds, a_oldSides, a_squares, a_asideBoards, a_asidePaths, a_asideSizes, a_asideJumps) (nI q) (nI s) (nI t) := by
  unfold ab_ah at h
  unfold wpY_ahead
  refine yw_isMan hq ?_
  refine ab_br (fun e => ?_) (fun e => ?_)
  · have e' : ¬ (q = 1 ∨ q = 3) := by simpa using e
    rw [if_neg (by omega), if_neg (by omega)] at h
    exact h
  · have e' : q = 1 ∨ q = 3 := by simpa using e
    refine pk_eq q 1 (fun z => ?_) (fun z => ?_)
    · rw [if_pos z] at h
      refine yw_row ht ?_
      refine yw_row hs ?_
      refine pk_le (t / 4) (s / 4) (fun y => ?_) (fun y => ?_)
      · rw [decide_eq_false (by omega)] at h; exact h
      · rw [decide_eq_true (by omega)] at h; exact h
    · rw [if_neg z, if_pos (by omega)] at h
      refine yw_row ht ?_
      refine yw_row hs ?_
      refine pk_le (s / 4) (t / 4) (fun y => ?_) (fun y => ?_)
      · rw [decide_eq_false (by omega)] at h; exact h
      · rw [decide_eq_true (by omega)] at h; exact h
theorem yw_slant {s t n : Nat} (hs : s < 32) (ht : t < 32) (hn : n < 3) (h : post (ab_b (ab_sl s t n))) : wpY_slant post (f_mover, f_remembered, f_size, f_jumps, a_board, a_olds, a_oldSides, a_squares, a_asideBoards, a_asidePaths, a_asideSizes, a_asideJumps) (nI s) (nI t) (nI n) := by
  unfold ab_sl at h
  unfold wpY_slant
  refine yw_row hs ?_
  refine yw_row ht ?_
  refine nm_e ?_
  refine yw_column hs ?_
  refine yw_column ht ?_
  refine nm_e ?_
  have hr := yb_dif (s / 4) (by omega) (t / 4) (by omega) n hn
  have hc := yb_dif (ab_col s) (yb_colt s hs) (ab_col t) (yb_colt t ht) n hn
  have h39 : (s / 4 = t / 4 + n ∨ t / 4 = s / 4 + n) → wY_slant_39 post (nI n) (nI (ab_col s) - nI (ab_col t)) f_mover f_remembered f_size f_jumps a_board a_olds a_oldSides a_squares a_asideBoards a_asidePaths a_asideSizes a_asideJumps := by
    intro z
    by_cases c1 : ab_col s = ab_col t + n
    · refine br_t (hc.1.mpr c1) ?_
      rw [decide_eq_true ⟨z, Or.inl c1⟩] at h; exact h
    · refine br_f (fun y => c1 (hc.1.mp y)) ?_
      by_cases c2 : ab_col t = ab_col s + n
      · refine br_t (hc.2.mpr c2) ?_
        rw [decide_eq_true ⟨z, Or.inr c2⟩] at h; exact h
      · refine br_f (fun y => c2 (hc.2.mp y)) ?_
        rw [decide_eq_false (by omega)] at h; exact h
  by_cases r1 : s / 4 = t / 4 + n
  · exact br_t (hr.1.mpr r1) (h39 (Or.inl r1))
  · refine br_f (fun y => r1 (hr.1.mp y)) ?_
    by_cases r2 : t / 4 = s / 4 + n
    · exact br_t (hr.2.mpr r2) (h39 (Or.inr r2))
    · refine br_f (fun y => r2 (hr.2.mp y)) ?_
      rw [decide_eq_false (by omega)] at h; exact h
theorem yw_between {s t : Nat} (hs : s < 32) (ht : t < 32) (h : post (nI (ab_mid s t))) : wpY_between post (f_mover, f_remembered, f_size, f_jumps, a_board, a_olds, a_oldSides, a_squares, a_asideBoards, a_asidePaths, a_asideSizes, a_asideJumps) (nI s) (nI t) := by
  have hc1 := yb_colt s hs
  have hc2 := yb_colt t ht
  unfold wpY_between
  refine yw_row hs ?_
  refine yw_row ht ?_
  refine ⟨by decide, ?_⟩
  refine nm_r (e' := nI ((s / 4 + t / 4) / 2)) (by rw [nI_add]; exact pk_div (d := 2) (by omega) (by omega) (by omega)) ?_
  refine yw_column hs ?_
  refine yw_column ht ?_
  refine ⟨by decide, ?_⟩
  refine nm_r (e' := nI ((ab_col s + ab_col t) / 2)) (by rw [nI_add]; exact pk_div (d := 2) (by omega) (by omega) (by omega)) ?_
  refine ⟨by decide, ?_⟩
  have e1 : nI ((ab_col s + ab_col t) / 2) / 2 = nI ((ab_col s + ab_col t) / 2 / 2) := pk_div (d := 2) (by omega) (by omega) (by omega)
  have e2 : 4 * nI ((s / 4 + t / 4) / 2) = nI (4 * ((s / 4 + t / 4) / 2)) := pk_mul 4 _
  rw [e1, e2, nI_add]
  exact h
theorem yw_jumped4 {o : Nat} (ho : o < 2 ^ 31) (hz : f_size = nI p.length) (hp : 0 < p.length) (hl : p.length ≤ 40) (h32 : ∀ i, i < p.length → p.getD i 0 < 32) (hsq : ab_At a_squares p) (h : post (ab_b (ab_fd p o (p.length - 1)))) :
    ∀ (k i : Nat), i + k + 1 = p.length → ∀ n, k < n → wY_jumped_4 post (nI o) f_mover f_remembered f_size f_jumps a_board a_olds a_oldSides a_squares a_asideBoards a_asidePaths a_asideSizes a_asideJumps n (ab_b (ab_fd p o i)) (nI i) := by
  subst hz
  intro k
  induction k with
  | zero =>
    intro i hi n hn
    obtain ⟨n, rfl⟩ : ∃ n', n = n' + 1 := ⟨n - 1, by omega⟩
    have e : p.length - 1 = i := by omega
    rw [e] at h
    refine pk_le p.length (i + 1) (fun _ => ⟨?_, h⟩) (fun z => absurd z (by omega)) rfl (nI_1 i)
    cases ab_fd p o i <;> rfl
  | succ k ih =>
    intro i hi n hn
    obtain ⟨n, rfl⟩ : ∃ n', n = n' + 1 := ⟨n - 1, by omega⟩
    refine pk_le p.length (i + 1) (fun z => absurd z (by omega)) (fun _ => ?_) rfl (nI_1 i)
    have hi1 := ih (i + 1) (by omega) n (by omega)
    have hfd : ab_fd p o (i + 1) = (ab_fd p o i || decide (ab_jx p i = o)) := rfl
    refine ab_br (fun e => ?_) (fun e => ?_)
    · rw [e, Bool.false_or] at hfd
      refine ⟨vp_in_nI (by omega) (by omega), ?_⟩
      rw [nI_1 i, nI_clamp (show i < 2 ^ 31 by omega), nI_clamp (show i + 1 < 2 ^ 31 by omega), hsq i (by omega), hsq (i + 1) (by omega)]
      refine ⟨vp_in_nI (by omega) (by omega), ?_⟩
      have b1 := h32 i (by omega)
      have b2 := h32 (i + 1) (by omega)
      refine yw_between b1 b2 ?_
      have hm : ab_mid (p.getD i 0) (p.getD (i + 1) 0) < 2 ^ 31 := by
        have c1 := yb_colt _ b1
        have c2 := yb_colt _ b2
        unfold ab_mid
        omega
      refine pk_eq (ab_mid (p.getD i 0) (p.getD (i + 1) 0)) o (fun z => ?_) (fun z => ?_)
      · rw [hfd, show decide (ab_jx p i = o) = true from decide_eq_true z] at hi1
        exact nm_e hi1
      · rw [hfd, show decide (ab_jx p i = o) = false from decide_eq_false z] at hi1
        exact nm_e hi1
    · rw [e, Bool.true_or] at hfd
      rw [hfd] at hi1
      exact nm_r (nI_1 i) hi1
theorem yw_jumped {jm : Bool} {o : Nat} (ho : o < 32) (hz : f_size = nI p.length) (hV : ab_VP B m jm p) (hsq : ab_At a_squares p) (h : post (ab_b (decide (o ∈ ab_jl p)))) : wpY_jumped post (f_mover, f_remembered, f_size, f_jumps, a_board, a_olds, a_oldSides, a_squares, a_asideBoards, a_asidePaths, a_asideSizes, a_asideJumps) (nI o) := by
  rw [← ab_fd_jl] at h
  have hpos := ab_VP_pos hV
  have hlen := ab_VP_len hV
  exact ⟨p.length, yw_jumped4 (by omega) hz hpos (by omega) hV.2.1 hsq h (p.length - 1) 0 (by omega) p.length (by omega)⟩
end
end
section
/-! ===== Y: canJump, canStep, onward, extend, beginFrom, first, next ===== -/
def ab_h32 (l : List Nat) : Int32 := match l with
  | [] => 32
  | t :: _ => nI t
section
variable {f_mover f_remembered f_size f_jumps : Int32} {a_board a_olds a_oldSides a_squares a_asideBoards a_asidePaths a_asideSizes a_asideJumps : Nat → Int32} {B : Nat → Nat} {m : Nat} {jm : Bool} {p : List Nat}
theorem yw_cj82 {post : Int32 → Prop} {t : Nat} (hB : ∀ i, i < 32 → B i ≤ 4) (hb : ab_YB a_board B) (hz : f_size = nI p.length) (hsq : ab_At a_squares p) (hV : ab_VP B m true p) (ht : t < 32) (hsl : ab_sl (ab_la p) t 2 = true)
    (h : post (ab_b (decide (ab_sd (B (ab_mid (ab_la p) t)) = 1 - ab_sd (B (ab_hd p))) && !(decide (ab_mid (ab_la p) t ∈ ab_jl p))))) : wY_canJump_82 post (nI t) (nI (B (ab_hd p))) (nI (ab_la p)) f_mover f_remembered f_size f_jumps a_board a_olds a_oldSides a_squares a_asideBoards a_asidePaths a_asideSizes a_asideJumps := by
  have hla := ab_VP_la hV
  have hhd := ab_VP_hd hV
  have hmid := yb_mid _ hla _ ht hsl
  have b1 := hB _ hmid
  have b2 := hB _ hhd
  have hs := hV.2.2.1
  have hm := hV.2.2.2.1
  unfold wY_canJump_82
  refine yw_between hla ht ?_
  refine ⟨vp_in_nI hmid (by omega), ?_⟩
  rw [nI_clamp (show ab_mid (ab_la p) t < 2 ^ 31 by omega), hb _ hmid]
  refine yw_sideOf b1 ?_
  refine yw_sideOf b2 ?_
  have key := yb_so _ (show B (ab_mid (ab_la p) t) < 5 by omega) _ (show B (ab_hd p) < 5 by omega) (by omega)
  by_cases c : ab_sd (B (ab_mid (ab_la p) t)) = 1 - ab_sd (B (ab_hd p))
  · refine br_t (key.mpr c) ?_
    rw [decide_eq_true c, Bool.true_and] at h
    refine yw_jumped hmid hz hV hsq ?_
    refine ab_br (fun e => ?_) (fun e => ?_)
    · rw [e] at h; exact h
    · rw [e] at h; exact h
  · refine br_f (fun y => c (key.mp y)) ?_
    rw [decide_eq_false c] at h
    exact h
theorem yw_cj41 {post : Int32 → Prop} {t : Nat} (hB : ∀ i, i < 32 → B i ≤ 4) (hb : ab_YB a_board B) (hz : f_size = nI p.length) (hsq : ab_At a_squares p) (hV : ab_VP B m true p) (ht : t < 32) (hst : (decide (1 < p.length) && ab_last (B (ab_hd p)) (ab_la p)) = false)
    (h : post (ab_b (ab_cj B p t))) : wY_canJump_41 post (nI t) (nI (B (ab_hd p))) (nI (ab_la p)) f_mover f_remembered f_size f_jumps a_board a_olds a_oldSides a_squares a_asideBoards a_asidePaths a_asideSizes a_asideJumps := by
  have hla := ab_VP_la hV
  have hhd := ab_VP_hd hV
  have b2 := hB _ hhd
  have b3 := hB _ ht
  unfold ab_cj at h
  rw [hst, show (!false) = true from rfl, Bool.true_and] at h
  unfold wY_canJump_41
  refine yw_slant (n := 2) hla ht (by omega) ?_
  refine ab_br (fun e => ?_) (fun e => ?_)
  · rw [e] at h; exact h
  · have hsl := e
    rw [e, Bool.true_and] at h
    refine yw_ahead b2 hla ht ?_
    refine ab_br (fun e => ?_) (fun e => ?_)
    · rw [e] at h; exact h
    · rw [e, Bool.true_and] at h
      refine ⟨vp_in_nI ht (by omega), ?_⟩
      rw [nI_clamp (show t < 2 ^ 31 by omega), hb _ ht, ab_At_h hV hsq]
      refine pk_eq (B t) 0 (fun z => ?_) (fun z => ?_)
      · rw [decide_eq_true z, Bool.true_or, Bool.true_and] at h
        exact yw_cj82 hB hb hz hsq hV ht hsl h
      · rw [decide_eq_false z, Bool.false_or] at h
        refine pk_eq t (ab_hd p) (fun y => ?_) (fun y => ?_)
        · rw [decide_eq_true y, Bool.true_and] at h
          exact yw_cj82 hB hb hz hsq hV ht hsl h
        · rw [decide_eq_false y, Bool.false_and] at h
          exact h
theorem yw_canJump {post : Int32 → Prop} {t : Nat} (hB : ∀ i, i < 32 → B i ≤ 4) (hb : ab_YB a_board B) (hz : f_size = nI p.length) (hsq : ab_At a_squares p) (hV : ab_VP B m true p) (ht : t < 32)
    (h : post (ab_b (ab_can B true p t))) : wpY_canJump post (f_mover, f_remembered, f_size, f_jumps, a_board, a_olds, a_oldSides, a_squares, a_asideBoards, a_asidePaths, a_asideSizes, a_asideJumps) (nI t) := by
  have hla := ab_VP_la hV
  have hhd := ab_VP_hd hV
  have hpos := ab_VP_pos hV
  have hlen := ab_VP_len hV
  have b2 := hB _ hhd
  have hsub : f_size - 1 = nI (p.length - 1) := by rw [hz]; exact pk_sub (b := 1) hpos
  have h' : post (ab_b (ab_cj B p t)) := h
  refine And.intro (by rw [ab_At_h hV hsq]; exact vp_in_nI hhd (by omega)) ?_
  refine nm_r (e' := nI (B (ab_hd p))) (by rw [ab_At_h hV hsq, nI_clamp (by omega)]; exact hb _ hhd) ?_
  rw [hsub]
  refine ⟨vp_in_nI (by omega) (by omega), ?_⟩
  refine nm_r (e' := nI (ab_la p)) (by rw [nI_clamp (by omega)]; exact ab_At_l hV hsq) ?_
  refine pk_le p.length 1 (fun z => ?_) (fun z => ?_) hz rfl
  · exact yw_cj41 hB hb hz hsq hV ht (by rw [decide_eq_false (by omega)]; rfl) h'
  · refine yw_lastRow b2 hla ?_
    refine ab_br (fun e => ?_) (fun e => ?_)
    · exact yw_cj41 hB hb hz hsq hV ht (by rw [e, Bool.and_false]) h'
    · have : ab_cj B p t = false := by
        unfold ab_cj
        rw [e, decide_eq_true (show 1 < p.length by omega)]
        rfl
      rw [this] at h'
      exact h'
theorem yw_canStep {post : Int32 → Prop} {t : Nat} (hB : ∀ i, i < 32 → B i ≤ 4) (hb : ab_YB a_board B) (hz : f_size = nI p.length) (hsq : ab_At a_squares p) (hV : ab_VP B m false p) (ht : t < 32)
    (h : post (ab_b (ab_can B false p t))) : wpY_canStep post (f_mover, f_remembered, f_size, f_jumps, a_board, a_olds, a_oldSides, a_squares, a_asideBoards, a_asidePaths, a_asideSizes, a_asideJumps) (nI t) := by
  have hhd := ab_VP_hd hV
  have hpos := ab_VP_pos hV
  have hlen := ab_VP_len hV
  have b2 := hB _ hhd
  have b3 := hB _ ht
  have h' : post (ab_b (ab_cs B p t)) := h
  unfold ab_cs at h'
  refine And.intro (by rw [ab_At_h hV hsq]; exact vp_in_nI hhd (by omega)) ?_
  refine nm_r (e' := nI (B (ab_hd p))) (by rw [ab_At_h hV hsq, nI_clamp (by omega)]; exact hb _ hhd) ?_
  refine pk_eq p.length 1 (fun z => ?_) (fun z => ?_) hz rfl
  · rw [decide_eq_true z, Bool.true_and] at h'
    refine ⟨vp_in_nI ht (by omega), ?_⟩
    rw [nI_clamp (show t < 2 ^ 31 by omega), hb _ ht, ab_At_h hV hsq]
    refine pk_eq (B t) 0 (fun z => ?_) (fun z => ?_)
    · rw [decide_eq_true z, Bool.true_and] at h'
      refine yw_slant (n := 1) hhd ht (by omega) ?_
      refine ab_br (fun e => ?_) (fun e => ?_)
      · rw [e] at h'; exact h'
      · rw [e, Bool.true_and] at h'
        refine yw_ahead b2 hhd ht ?_
        refine ab_br (fun e => ?_) (fun e => ?_)
        · rw [e] at h'; exact h'
        · rw [e] at h'; exact h'
    · rw [decide_eq_false z] at h'
      exact h'
  · rw [decide_eq_false z] at h'
    exact h'
theorem yw_onward2 {post : Int32 → Prop} (hB : ∀ i, i < 32 → B i ≤ 4) (hb : ab_YB a_board B) (hz : f_size = nI p.length) (hj : f_jumps = ab_b jm) (hsq : ab_At a_squares p) (hV : ab_VP B m jm p) :
    ∀ (k t : Nat), t + k = 32 → ∀ n, k < n → post (ab_h32 (ab_cf B jm p t)) → wY_onward_2 post f_mover f_remembered f_size f_jumps a_board a_olds a_oldSides a_squares a_asideBoards a_asidePaths a_asideSizes a_asideJumps n (nI t) := by
  intro k
  induction k with
  | zero =>
    intro t ht n hn h
    obtain ⟨n, rfl⟩ : ∃ n', n = n' + 1 := ⟨n - 1, by omega⟩
    have e : t = 32 := by omega
    subst e
    rw [ab_cf_end (by omega)] at h
    exact pk_le 32 32 (fun _ => h) (fun z => absurd z (by omega))
  | succ k ih =>
    intro t ht n hn h
    obtain ⟨n, rfl⟩ : ∃ n', n = n' + 1 := ⟨n - 1, by omega⟩
    have ht32 : t < 32 := by omega
    have h0 : ab_can B jm p t = false → post (ab_h32 (ab_cf B jm p (t + 1))) := fun e => by rw [ab_cf_f ht32 e] at h; exact h
    have h1 : ab_can B jm p t = true → post (nI t) := fun e => by rw [ab_cf_t ht32 e] at h; exact h
    refine pk_le 32 t (fun z => absurd z (by omega)) (fun _ => ?_)
    subst hj
    cases jm with
    | false =>
      refine br_t rfl ?_
      refine yw_canStep hB hb hz hsq hV ht32 ?_
      exact ab_br (fun e => nm_r (nI_1 t) (ih (t + 1) (by omega) n (by omega) (h0 e))) h1
    | true =>
      refine br_f (by decide) ?_
      refine yw_canJump hB hb hz hsq hV ht32 ?_
      exact ab_br (fun e => nm_r (nI_1 t) (ih (t + 1) (by omega) n (by omega) (h0 e))) h1
theorem yw_onward {post : Int32 → Prop} {t : Nat} (hB : ∀ i, i < 32 → B i ≤ 4) (hb : ab_YB a_board B) (hz : f_size = nI p.length) (hj : f_jumps = ab_b jm) (hsq : ab_At a_squares p) (hV : ab_VP B m jm p) (ht : t ≤ 32) (h : post (ab_h32 (ab_cf B jm p t))) : wpY_onward post (f_mover, f_remembered, f_size, f_jumps, a_board, a_olds, a_oldSides, a_squares, a_asideBoards, a_asidePaths, a_asideSizes, a_asideJumps) (nI t) :=
  ⟨33, yw_onward2 hB hb hz hj hsq hV (32 - t) t (by omega) 33 (by omega) h⟩
theorem yw_ext6 {post : SY → Prop} (hB : ∀ i, i < 32 → B i ≤ 4) (hb : ab_YB a_board B) (hj : f_jumps = ab_b jm) :
    ∀ (f : Nat) (p : List Nat), 11 ≤ p.length + f → ab_VP B m jm p → ∀ n, f ≤ n → ∀ sq : Nat → Int32, ab_At sq p →
      (∀ (q : List Nat) (tl : List (List Nat)) (sq1 : Nat → Int32), ab_LL B jm p = q :: tl → ab_rest B m jm q = tl ++ ab_rest B m jm p → ab_VP B m jm q → ab_At sq1 q → (ab_cf B jm p 0 = [] → q = p) → (ab_cf B jm p 0 ≠ [] → p.length < q.length) → post (f_mover, f_remembered, nI q.length, f_jumps, a_board, a_olds, a_oldSides, sq1, a_asideBoards, a_asidePaths, a_asideSizes, a_asideJumps)) →
      wY_extend_6 post f_mover f_remembered f_jumps n (ab_h32 (ab_cf B jm p 0)) (nI p.length) a_board a_olds a_oldSides sq a_asideBoards a_asidePaths a_asideSizes a_asideJumps := by
  intro f
  induction f with
  | zero =>
    intro p hpf hV
    have := ab_VP_len hV
    omega
  | succ f ih =>
    intro p hpf hV n hn sq hsq K
    have hlen := ab_VP_len hV
    obtain ⟨n, rfl⟩ : ∃ n', n = n' + 1 := ⟨n - 1, by omega⟩
    cases e : ab_cf B jm p 0 with
    | nil =>
      exact pk_le 32 32 (fun _ => K p [] sq (ab_LL_nil hV e) rfl hV hsq (fun _ => rfl) (fun z => absurd e z)) (fun z => absurd z (by omega))
    | cons t l =>
      obtain ⟨h1, h2, h3⟩ := ab_cf_hd 32 0 rfl e
      have hV' : ab_VP B m jm (p ++ [t]) := ab_VP_app hV h1 h2
      have hlen' : (p ++ [t]).length = p.length + 1 := by simp
      have hne : ab_cf B jm p 0 ≠ [] := by rw [e]; simp
      have hLL : ab_LL B jm p = ab_LL B jm (p ++ [t]) ++ ab_R B jm p (ab_cf B jm p (t + 1)) := by
        rw [ab_LL_cons hV hne, e, ab_R_cons, h3]
      have hrest : ab_rest B m jm (p ++ [t]) = ab_R B jm p (ab_cf B jm p (t + 1)) ++ ab_rest B m jm p := ab_rest_app hV.1
      have fin := ih (p ++ [t]) (by omega) hV' n (by omega) (upd sq p.length (nI t)) (ab_At_app hsq t) (by
        intro q tl sq1 a1 a2 a3 a4 a5 a6
        refine K q (tl ++ ab_R B jm p (ab_cf B jm p (t + 1))) sq1 (by rw [hLL, a1]; rfl) (by rw [a2, hrest, List.append_assoc]) a3 a4 (fun z => absurd z hne) (fun _ => ?_)
        by_cases c : ab_cf B jm (p ++ [t]) 0 = []
        · rw [a5 c]; omega
        · have := a6 c; omega)
      rw [hlen'] at fin
      refine pk_le 32 t (fun z => absurd z (by omega)) (fun _ => ?_)
      refine pk_le 40 p.length (fun z => absurd z (by omega)) (fun _ => ?_)
      refine ⟨vp_in_nI (by omega) (by omega), ?_⟩
      refine nm_r (e' := upd sq p.length (nI t)) (by rw [nI_clamp (by omega)]; rfl) ?_
      refine nm_r (nI_1 _) ?_
      subst hj
      cases jm with
      | false =>
        rw [ab_cf_two (p := p ++ [t]) (by have := ab_VP_pos hV; omega)] at fin
        exact br_t rfl fin
      | true =>
        refine br_f (by decide) ?_
        refine yw_onward (t := 0) hB hb (by rw [hlen']) rfl (ab_At_app hsq t) hV' (by omega) ?_
        exact fin
theorem yw_extend {post : SY → Prop} (hB : ∀ i, i < 32 → B i ≤ 4) (hb : ab_YB a_board B) (hz : f_size = nI p.length) (hj : f_jumps = ab_b jm) (hsq : ab_At a_squares p) (hV : ab_VP B m jm p)
    (K : ∀ (q : List Nat) (tl : List (List Nat)) (sq1 : Nat → Int32), ab_LL B jm p = q :: tl → ab_rest B m jm q = tl ++ ab_rest B m jm p → ab_VP B m jm q → ab_At sq1 q → (ab_cf B jm p 0 = [] → q = p) → (ab_cf B jm p 0 ≠ [] → p.length < q.length) → post (f_mover, f_remembered, nI q.length, f_jumps, a_board, a_olds, a_oldSides, sq1, a_asideBoards, a_asidePaths, a_asideSizes, a_asideJumps)) : wpY_extend post (f_mover, f_remembered, f_size, f_jumps, a_board, a_olds, a_oldSides, a_squares, a_asideBoards, a_asidePaths, a_asideSizes, a_asideJumps) := by
  have hpos := ab_VP_pos hV
  unfold wpY_extend
  refine yw_onward (t := 0) hB hb hz hj hsq hV (by omega) ?_
  refine ⟨10, ?_⟩
  subst hz
  exact yw_ext6 hB hb hj 10 p (by omega) hV 10 (by omega) a_squares hsq K
theorem yw_bf2 {post : Int32 → SY → Prop} (hB : ∀ i, i < 32 → B i ≤ 4) (hb : ab_YB a_board B) (hj : f_jumps = ab_b jm) (hmv : f_mover = nI m) (hm : m ≤ 1) :
    ∀ (k s : Nat), s + k = 32 → ∀ n, k < n → ∀ (sz : Int32) (sq : Nat → Int32),
      (ab_BF B m jm s = [] → ∀ (sz1 : Int32) (sq1 : Nat → Int32), post 0 (f_mover, f_remembered, sz1, f_jumps, a_board, a_olds, a_oldSides, sq1, a_asideBoards, a_asidePaths, a_asideSizes, a_asideJumps)) →
      (∀ (q : List Nat) (tl : List (List Nat)) (sq1 : Nat → Int32), ab_BF B m jm s = q :: tl → ab_rest B m jm q = tl → ab_VP B m jm q → 1 < q.length → ab_At sq1 q → post 1 (f_mover, f_remembered, nI q.length, f_jumps, a_board, a_olds, a_oldSides, sq1, a_asideBoards, a_asidePaths, a_asideSizes, a_asideJumps)) →
      wY_beginFrom_2 post n (nI s) f_mover f_remembered sz f_jumps a_board a_olds a_oldSides sq a_asideBoards a_asidePaths a_asideSizes a_asideJumps := by
  intro k
  induction k with
  | zero =>
    intro s hs n hn sz sq K0 K1
    obtain ⟨n, rfl⟩ : ∃ n', n = n' + 1 := ⟨n - 1, by omega⟩
    exact pk_le 32 s (fun _ => K0 (ab_BF_end (by omega)) _ _) (fun z => absurd z (by omega))
  | succ k ih =>
    intro s hs n hn sz sq K0 K1
    obtain ⟨n, rfl⟩ : ∃ n', n = n' + 1 := ⟨n - 1, by omega⟩
    have hs32 : s < 32 := by omega
    refine pk_le 32 s (fun z => absurd z (by omega)) (fun _ => ?_)
    refine ⟨vp_in_nI hs32 (by omega), ?_⟩
    rw [nI_clamp (show s < 2 ^ 31 by omega), hb _ hs32]
    refine yw_sideOf (hB _ hs32) ?_
    have key := yb_som (B s) (by have := hB _ hs32; omega) m (by omega)
    rw [← hmv] at key
    by_cases ho : ab_sd (B s) = m
    · refine br_t (key.mpr ho) ?_
      refine nm_e ?_
      have hV : ab_VP B m jm [s] := ab_VP_one hs32 ho hm
      refine yw_extend (p := [s]) (jm := jm) hB hb rfl hj ?_ hV ?_
      · intro i hi
        have e : i = 0 := by simp at hi; exact hi
        subst e
        exact pk_us
      · intro q tl sq1 a1 a2 a3 a4 a5 a6
        have hq := ab_VP_len a3
        by_cases c : ab_cf B jm [s] 0 = []
        · have hbf : ab_BF B m jm s = ab_BF B m jm (s + 1) := by rw [ab_BF_t hs32 ho, ab_M_nil c, List.nil_append]
          rw [hbf] at K0 K1
          rw [a5 c]
          refine br_t (nI_le (a := 1) (b := 1) (by omega) (by omega)) ?_
          exact nm_r (nI_1 s) (ih (s + 1) (by omega) n (by omega) _ _ K0 K1)
        · have hl : 1 < q.length := a6 c
          refine br_f (nI_ge (a := 1) (b := q.length) hl (by omega)) ?_
          refine K1 q (tl ++ ab_BF B m jm (s + 1)) sq1 ?_ ?_ a3 hl a4
          · rw [ab_BF_t hs32 ho, ab_M_eq hV c, a1]; rfl
          · rw [a2]; rfl
    · refine br_f (fun y => ho (key.mp y)) ?_
      rw [ab_BF_f hs32 ho] at K0 K1
      exact nm_r (nI_1 s) (ih (s + 1) (by omega) n (by omega) _ _ K0 K1)
theorem yw_beginFrom {post : Int32 → SY → Prop} {s : Nat} (hB : ∀ i, i < 32 → B i ≤ 4) (hb : ab_YB a_board B) (hj : f_jumps = ab_b jm) (hmv : f_mover = nI m) (hm : m ≤ 1) (hs : s ≤ 32)
    (K0 : ab_BF B m jm s = [] → ∀ (sz1 : Int32) (sq1 : Nat → Int32), post 0 (f_mover, f_remembered, sz1, f_jumps, a_board, a_olds, a_oldSides, sq1, a_asideBoards, a_asidePaths, a_asideSizes, a_asideJumps))
    (K1 : ∀ (q : List Nat) (tl : List (List Nat)) (sq1 : Nat → Int32), ab_BF B m jm s = q :: tl → ab_rest B m jm q = tl → ab_VP B m jm q → 1 < q.length → ab_At sq1 q → post 1 (f_mover, f_remembered, nI q.length, f_jumps, a_board, a_olds, a_oldSides, sq1, a_asideBoards, a_asidePaths, a_asideSizes, a_asideJumps)) :
    wpY_beginFrom post (f_mover, f_remembered, f_size, f_jumps, a_board, a_olds, a_oldSides, a_squares, a_asideBoards, a_asidePaths, a_asideSizes, a_asideJumps) (nI s) :=
  ⟨33, yw_bf2 hB hb hj hmv hm (32 - s) s (by omega) 33 (by omega) f_size a_squares K0 K1⟩
theorem yw_first {post : Int32 → SY → Prop} (hB : ∀ i, i < 32 → B i ≤ 4) (hb : ab_YB a_board B) (hmv : f_mover = nI m) (hm : m ≤ 1)
    (K0 : ab_ML B m = [] → ∀ (sz1 jm1 : Int32) (sq1 : Nat → Int32), post 0 (f_mover, f_remembered, sz1, jm1, a_board, a_olds, a_oldSides, sq1, a_asideBoards, a_asidePaths, a_asideSizes, a_asideJumps))
    (K1 : ∀ (q : List Nat) (tl : List (List Nat)) (sq1 : Nat → Int32), ab_ML B m = q :: tl → ab_rest B m (ab_jm B m) q = tl → ab_VP B m (ab_jm B m) q → 1 < q.length → ab_At sq1 q → post 1 (f_mover, f_remembered, nI q.length, ab_b (ab_jm B m), a_board, a_olds, a_oldSides, sq1, a_asideBoards, a_asidePaths, a_asideSizes, a_asideJumps)) :
    wpY_first post (f_mover, f_remembered, f_size, f_jumps, a_board, a_olds, a_oldSides, a_squares, a_asideBoards, a_asidePaths, a_asideSizes, a_asideJumps) := by
  have hML : ab_ML B m = ab_BF B m (ab_jm B m) 0 := by unfold ab_ML; rfl
  rw [hML] at K0 K1
  unfold wpY_first
  refine yw_beginFrom (s := 0) (jm := true) hB hb rfl hmv hm (by omega) (fun e sz1 sq1 => ?_) (fun q tl sq1 a1 a2 a3 a4 a5 => ?_)
  · rw [ab_jm_f e] at K0 K1
    refine br_t rfl ?_
    refine yw_beginFrom (s := 0) (jm := false) hB hb rfl hmv hm (by omega) (fun e sz1 sq1 => ?_) (fun q tl sq1 a1 a2 a3 a4 a5 => ?_)
    · exact ⟨rfl, K0 e _ _ _⟩
    · exact ⟨rfl, K1 q tl sq1 a1 a2 a3 a4 a5⟩
  · rw [ab_jm_t (by rw [a1]; simp)] at K1
    exact br_f (by decide) (K1 q tl sq1 a1 a2 a3 a4 a5)
theorem yw_next0 {post : Int32 → SY → Prop} (hB : ∀ i, i < 32 → B i ≤ 4) (hb : ab_YB a_board B) (hj : f_jumps = ab_b jm) (hmv : f_mover = nI m) (hm : m ≤ 1) {sq : Nat → Int32} :
    ∀ (k : Nat) (p : List Nat), p.length = k + 1 → ab_VP B m jm p → ∀ n, k < n → ab_At sq p →
      (ab_rest B m jm p = [] → ∀ (sz1 : Int32) (sq1 : Nat → Int32), post 0 (f_mover, f_remembered, sz1, f_jumps, a_board, a_olds, a_oldSides, sq1, a_asideBoards, a_asidePaths, a_asideSizes, a_asideJumps)) →
      (∀ (q : List Nat) (tl : List (List Nat)) (sq1 : Nat → Int32), ab_rest B m jm p = q :: tl → ab_rest B m jm q = tl → ab_VP B m jm q → 1 < q.length → ab_At sq1 q → post 1 (f_mover, f_remembered, nI q.length, f_jumps, a_board, a_olds, a_oldSides, sq1, a_asideBoards, a_asidePaths, a_asideSizes, a_asideJumps)) →
      wY_next_0 post f_mover f_remembered f_jumps a_board a_olds a_oldSides sq a_asideBoards a_asidePaths a_asideSizes a_asideJumps n (nI p.length) := by
  intro k
  induction k with
  | zero =>
    intro p hp hV n hn hsq K0 K1
    obtain ⟨n, rfl⟩ : ∃ n', n = n' + 1 := ⟨n - 1, by omega⟩
    have hhd := ab_VP_hd hV
    have hp1 : p = [ab_hd p] := by
      cases p with
      | nil => simp at hp
      | cons a r =>
        cases r with
        | nil => rfl
        | cons b r => simp at hp
    have hr : ab_rest B m jm p = ab_BF B m jm (ab_hd p + 1) := by
      have h1 := ab_rest_one (B := B) (m := m) (jm := jm) (b := ab_hd p)
      rw [← hp1] at h1
      exact h1
    rw [hr] at K0 K1
    refine pk_le p.length 1 (fun _ => ?_) (fun z => absurd z (by omega))
    rw [ab_At_h hV hsq, nI_1 (ab_hd p)]
    refine yw_beginFrom hB hb hj hmv hm (by omega) (fun e sz1 sq1 => ?_) (fun q tl sq1 a1 a2 a3 a4 a5 => ?_)
    · exact ⟨rfl, K0 e _ _⟩
    · exact ⟨rfl, K1 q tl sq1 a1 a2 a3 a4 a5⟩
  | succ k ih =>
    intro p hp hV n hn hsq K0 K1
    obtain ⟨n, rfl⟩ : ∃ n', n = n' + 1 := ⟨n - 1, by omega⟩
    have hlen := ab_VP_len hV
    have hla := ab_VP_la hV
    obtain ⟨p', t, rfl⟩ : ∃ p' t, p = p' ++ [t] := ⟨p.dropLast, ab_la p, ab_split hV.1⟩
    have hlen' : (p' ++ [t]).length = p'.length + 1 := by simp
    have hne : p' ≠ [] := by
      intro z
      rw [z] at hp
      simp at hp
    have hV' : ab_VP B m jm p' := ab_VP_pre hV hne
    have hsq' : ab_At sq p' := fun i hi => by rw [hsq i (by omega), ab_getD_app hi]
    rw [ab_la_app] at hla
    rw [ab_rest_app hne] at K0 K1
    have hsub : nI (p' ++ [t]).length - 1 = nI p'.length := by rw [hlen']; exact nI_pred _
    refine pk_le (p' ++ [t]).length 1 (fun z => absurd z (by omega)) (fun _ => ?_)
    rw [hsub]
    refine ⟨vp_in_nI (by omega) (by omega), ?_⟩
    refine nm_r (e' := nI t) (by rw [nI_clamp (by omega), hsq p'.length (by omega), ab_getD_new]) ?_
    refine nm_e ?_
    rw [nI_1 t]
    refine yw_onward (p := p') (t := t + 1) hB hb rfl hj hsq' hV' (by omega) ?_
    cases e : ab_cf B jm p' (t + 1) with
    | nil =>
      rw [e, ab_R_nil, List.nil_append] at K0 K1
      exact pk_le 32 32 (fun _ => ih p' (by omega) hV' n (by omega) hsq' K0 K1) (fun z => absurd z (by omega))
    | cons t2 l =>
      obtain ⟨h1, h2, h3⟩ := ab_cf_hd (31 - t) (t + 1) (by omega) e
      have hV2 : ab_VP B m jm (p' ++ [t2]) := ab_VP_app hV' h1 h2
      have hlen2 : (p' ++ [t2]).length = p'.length + 1 := by simp
      have hp2 := ab_VP_pos hV'
      have hR : ab_R B jm p' (ab_cf B jm p' (t + 1)) ++ ab_rest B m jm p' = ab_LL B jm (p' ++ [t2]) ++ ab_rest B m jm (p' ++ [t2]) := by
        rw [e, ab_R_cons, ab_rest_app hne, h3, List.append_assoc]
      rw [hR] at K1
      refine pk_le 32 t2 (fun z => absurd z (by omega)) (fun _ => ?_)
      refine ⟨vp_in_nI (by omega) (by omega), ?_⟩
      refine nm_r (e' := upd sq p'.length (nI t2)) (by rw [nI_clamp (by omega)]; rfl) ?_
      refine nm_r (e' := nI (p' ++ [t2]).length) (by rw [hlen2, nI_1]) ?_
      have hat := ab_At_app hsq' t2
      subst hj
      cases jm with
      | false =>
        refine br_t rfl ?_
        rw [ab_LL_two hV2 (by omega)] at K1
        exact K1 (p' ++ [t2]) (ab_rest B m false (p' ++ [t2])) _ rfl rfl hV2 (by omega) hat
      | true =>
        refine br_f (by decide) ?_
        refine yw_extend (p := p' ++ [t2]) hB hb rfl rfl hat hV2 ?_
        intro q tl sq1 a1 a2 a3 a4 a5 a6
        refine K1 q (tl ++ ab_rest B m true (p' ++ [t2])) sq1 (by rw [a1]; rfl) a2 a3 ?_ a4
        by_cases c : ab_cf B true (p' ++ [t2]) 0 = []
        · rw [a5 c]; omega
        · have := a6 c; omega
theorem yw_next {post : Int32 → SY → Prop} (hB : ∀ i, i < 32 → B i ≤ 4) (hb : ab_YB a_board B) (hj : f_jumps = ab_b jm) (hmv : f_mover = nI m) (hm : m ≤ 1) (hz : f_size = nI p.length) (hV : ab_VP B m jm p) (hsq : ab_At a_squares p)
    (K0 : ab_rest B m jm p = [] → ∀ (sz1 : Int32) (sq1 : Nat → Int32), post 0 (f_mover, f_remembered, sz1, f_jumps, a_board, a_olds, a_oldSides, sq1, a_asideBoards, a_asidePaths, a_asideSizes, a_asideJumps))
    (K1 : ∀ (q : List Nat) (tl : List (List Nat)) (sq1 : Nat → Int32), ab_rest B m jm p = q :: tl → ab_rest B m jm q = tl → ab_VP B m jm q → 1 < q.length → ab_At sq1 q → post 1 (f_mover, f_remembered, nI q.length, f_jumps, a_board, a_olds, a_oldSides, sq1, a_asideBoards, a_asidePaths, a_asideSizes, a_asideJumps)) :
    wpY_next post (f_mover, f_remembered, f_size, f_jumps, a_board, a_olds, a_oldSides, a_squares, a_asideBoards, a_asidePaths, a_asideSizes, a_asideJumps) := by
  have hpos := ab_VP_pos hV
  subst hz
  exact ⟨p.length, yw_next0 hB hb hj hmv hm (p.length - 1) p (by omega) hV p.length (by omega) hsq K0 K1⟩
end
end
section
/-! ===== X: carry, remember, save, restore, back ===== -/
theorem xc_if {c : Prop} [Decidable c] {l i : Nat} (hl : l < 32) (hi : i < 32) : bt (if c then (1 : Int32) <<< (nI l &&& 31) else 0) i = (decide c && decide (i = l)) := by
  by_cases h : c
  · rw [if_pos h, decide_eq_true h, Bool.true_and]; exact xb_sh l hl i hi
  · rw [if_neg h, decide_eq_false h, Bool.false_and]; exact b_0 i
theorem xc_bits {f s k tm tk : Int32} {B : Nat → Nat} {m : Nat} {jm : Bool} {p : List Nat} (hP : ab_XP f s k tm B m) (hV : ab_VP B m jm p) (htk : ab_Bits tk (ab_tk jm p)) {kg : Bool} (hkg : kg = (bt k (ab_hd p) || ab_last (B (ab_hd p)) (ab_la p))) :
    ab_XB ((f &&& ((tk ||| ((1 : Int32) <<< (nI (ab_hd p) &&& 31))) ^^^ (-1))) ||| (if m = 0 then (1 : Int32) <<< (nI (ab_la p) &&& 31) else 0))
      ((s &&& ((tk ||| ((1 : Int32) <<< (nI (ab_hd p) &&& 31))) ^^^ (-1))) ||| (if m = 1 then (1 : Int32) <<< (nI (ab_la p) &&& 31) else 0))
      ((k &&& ((tk ||| ((1 : Int32) <<< (nI (ab_hd p) &&& 31))) ^^^ (-1))) ||| (if kg = true then (1 : Int32) <<< (nI (ab_la p) &&& 31) else 0)) (ab_aft B jm p) := by
  intro i hi
  have hla := ab_VP_la hV
  have hhd := ab_VP_hd hV
  have hpos := ab_VP_pos hV
  have hs := hV.2.2.1
  have hm := hP.2.2.1
  obtain ⟨x1, x2, x3⟩ := hP.1 i hi
  have x4 := (hP.1 _ hhd).2.2
  have ef : ∀ y : Int32, bt (y &&& ((tk ||| ((1 : Int32) <<< (nI (ab_hd p) &&& 31))) ^^^ (-1))) i = (bt y i && !decide (i = ab_hd p ∨ i ∈ ab_tk jm p)) := by
    intro y
    rw [xb_clr hi, b_or, htk i hi, xb_sh _ hhd i hi, ← Bool.decide_or]
    congr 2
    exact decide_eq_decide.mpr or_comm
  rw [b_or, b_or, b_or, ef, ef, ef, xc_if hla hi, xc_if hla hi, xc_if hla hi, x1, x2, x3]
  by_cases hl : i = ab_la p
  · have ea : ab_aft B jm p i = (if ab_last (B (ab_hd p)) (ab_la p) = true then B (ab_hd p) + 1 else B (ab_hd p)) := if_pos hl
    have hz : B i = 0 ∨ i = ab_hd p := by
      rw [hl]; exact hV.2.2.2.2.2.2 _ (by omega)
    have c1 : ∀ (P : Prop) [Decidable P], (B i = 0 → ¬ P) → (decide P && !decide (i = ab_hd p ∨ i ∈ ab_tk jm p)) = false := by
      intro P _ hPn
      rcases hz with z | z
      · rw [decide_eq_false (hPn z)]; rfl
      · rw [decide_eq_true (Or.inl z)]; simp
    rw [c1 _ (by omega), c1 _ (by omega), c1 _ (by omega), ea, decide_eq_true hl, Bool.false_or, Bool.false_or, Bool.false_or, Bool.and_true, Bool.and_true, Bool.and_true]
    rw [hkg, x4]
    cases e : ab_last (B (ab_hd p)) (ab_la p) with
    | true =>
      have e' : (B (ab_hd p) = 1 ∧ ab_la p / 4 = 7) ∨ (B (ab_hd p) = 3 ∧ ab_la p / 4 = 0) := of_decide_eq_true e
      rw [if_pos rfl, Bool.or_true]
      rcases e' with e' | e'
      · rw [e'.1] at hs ⊢
        have : m = 0 := hs.symm
        subst this
        decide
      · rw [e'.1] at hs ⊢
        have : m = 1 := hs.symm
        subst this
        decide
    | false =>
      rw [if_neg (by decide), Bool.or_false]
      refine ⟨?_, ?_, by simp⟩
      · exact decide_eq_decide.mpr ⟨fun z => ab_sd0.mp (hs.trans z), fun z => hs.symm.trans (ab_sd0.mpr z)⟩
      · exact decide_eq_decide.mpr ⟨fun z => ab_sd1.mp (hs.trans z), fun z => hs.symm.trans (ab_sd1.mpr z)⟩
  · rw [decide_eq_false hl, Bool.and_false, Bool.and_false, Bool.and_false, Bool.or_false, Bool.or_false, Bool.or_false]
    by_cases hc : i = ab_hd p ∨ i ∈ ab_tk jm p
    · have ea : ab_aft B jm p i = 0 := by
        unfold ab_aft; rw [if_neg hl, if_pos hc]
      rw [ea, decide_eq_true hc]
      simp
    · have ea : ab_aft B jm p i = B i := by
        unfold ab_aft; rw [if_neg hl, if_neg hc]
      rw [ea, decide_eq_false hc]
      simp
section
variable {f_first f_second f_kings f_toMove f_pastTop f_pastSize f_squareCount f_taken f_wanted f_seen f_most f_beginnings : Int32} {a_past a_squares a_direction a_ledOn a_saved a_nextMove : Nat → Int32} {B : Nat → Nat} {m : Nat} {jm : Bool} {p : List Nat}
theorem xw_carry56 {post : Int32 → SX → Prop} (hP : ab_XP f_first f_second f_kings f_toMove B m) (hV : ab_VP B m jm p) (htk : ab_Bits f_taken (ab_tk jm p)) {kg : Bool} (hkg : kg = (bt f_kings (ab_hd p) || ab_last (B (ab_hd p)) (ab_la p)))
    (h : ∀ f1 s1 k1 t1 : Int32, ab_XP f1 s1 k1 t1 (ab_aft B jm p) (1 - m) → post (nI (ab_tk jm p).length) (f1, s1, k1, t1, f_pastTop, f_pastSize, f_squareCount, f_taken, f_wanted, f_seen, f_most, f_beginnings, a_past, a_squares, a_direction, a_ledOn, a_saved, a_nextMove)) :
    wX_carry_56 post ((1 : Int32) <<< (nI (ab_hd p) &&& 31)) (nI (ab_la p)) (ab_b kg) f_first f_second f_kings f_toMove f_pastTop f_pastSize f_squareCount f_taken f_wanted f_seen f_most f_beginnings a_past a_squares a_direction a_ledOn a_saved a_nextMove := by
  have hb := xc_bits hP hV htk hkg
  obtain ⟨hx, htm, hm, hB⟩ := hP
  have h1 := h _ _ _ (nI (1 - m)) ⟨hb, rfl, by omega, ab_aft_le hB hV⟩
  have hc : ab_ct (bt f_taken) 32 = (ab_tk jm p).length := (ab_ct_congr htk).trans (ab_ct_list _ 32 (ab_VP_tk hV).1 (ab_VP_tk hV).2)
  have h173 : ∀ f1 s1 : Int32, post (nI (ab_tk jm p).length) (f1, s1, (f_kings &&& ((f_taken ||| ((1 : Int32) <<< (nI (ab_hd p) &&& 31))) ^^^ (-1))) ||| (if kg = true then (1 : Int32) <<< (nI (ab_la p) &&& 31) else 0), nI (1 - m), f_pastTop, f_pastSize, f_squareCount, f_taken, f_wanted, f_seen, f_most, f_beginnings, a_past, a_squares, a_direction, a_ledOn, a_saved, a_nextMove) →
      ∀ z0 z1 : Int32, z1 ||| z0 = s1 → wX_carry_154 post (ab_b kg) ((1 : Int32) <<< (nI (ab_la p) &&& 31)) z0 z1 f1 (f_second &&& ((f_taken ||| ((1 : Int32) <<< (nI (ab_hd p) &&& 31))) ^^^ (-1))) (f_kings &&& ((f_taken ||| ((1 : Int32) <<< (nI (ab_hd p) &&& 31))) ^^^ (-1))) f_toMove f_pastTop f_pastSize f_squareCount f_taken f_wanted f_seen f_most f_beginnings a_past a_squares a_direction a_ledOn a_saved a_nextMove := by
    intro f1 s1 hh z0 z1 hz
    refine nm_r hz ?_
    refine ab_br (fun e => ?_) (fun e => ?_)
    · rw [if_neg (by rw [e]; decide)] at hh
      refine nm_e (nm_r (e' := nI (1 - m)) (by rw [htm]; exact pk_sub (a := 1) hm) ?_)
      refine xw_ones ?_
      rw [hc]; exact hh
    · rw [if_pos e] at hh
      refine nm_e (nm_r (e' := nI (1 - m)) (by rw [htm]; exact pk_sub (a := 1) hm) ?_)
      refine xw_ones ?_
      rw [hc]; exact hh
  refine nm_e (nm_e (nm_e (nm_e ?_)))
  have hm01 : m = 0 ∨ m = 1 := by omega
  rcases hm01 with e | e
  · subst e
    rw [if_pos rfl, if_neg (by decide)] at h1
    refine br_t htm ?_
    refine nm_e (br_f (by rw [htm]; decide) ?_)
    exact h173 _ _ h1 _ _ rfl
  · subst e
    rw [if_neg (by decide), if_pos rfl] at h1
    refine br_f (by rw [htm]; decide) ?_
    refine nm_e (br_t htm ?_)
    exact h173 _ _ h1 _ _ rfl
theorem xw_carry {post : Int32 → SX → Prop} (hP : ab_XP f_first f_second f_kings f_toMove B m) (hV : ab_VP B m jm p) (htk : ab_Bits f_taken (ab_tk jm p)) (hsc : f_squareCount = nI p.length) (hsq : ab_At a_squares p)
    (h : ∀ f1 s1 k1 t1 : Int32, ab_XP f1 s1 k1 t1 (ab_aft B jm p) (1 - m) → post (nI (ab_tk jm p).length) (f1, s1, k1, t1, f_pastTop, f_pastSize, f_squareCount, f_taken, f_wanted, f_seen, f_most, f_beginnings, a_past, a_squares, a_direction, a_ledOn, a_saved, a_nextMove)) : wpX_carry post (f_first, f_second, f_kings, f_toMove, f_pastTop, f_pastSize, f_squareCount, f_taken, f_wanted, f_seen, f_most, f_beginnings, a_past, a_squares, a_direction, a_ledOn, a_saved, a_nextMove) := by
  have hla := ab_VP_la hV
  have hhd := ab_VP_hd hV
  have hpos := ab_VP_pos hV
  have hlen := ab_VP_len hV
  have hsub : f_squareCount - 1 = nI (p.length - 1) := by rw [hsc]; exact pk_sub (b := 1) hpos
  have h0 := ab_At_h hV hsq
  unfold wpX_carry
  dsimp only
  rw [h0, hsub]
  refine nm_e ⟨vp_in_nI (by omega) (by omega), ?_⟩
  refine nm_r (e' := nI (ab_la p)) (by rw [nI_clamp (by omega)]; exact ab_At_l hV hsq) ?_
  refine xw_in hhd ?_
  refine ab_br (fun e => ?_) (fun e => ?_)
  · refine xw_stops hP hhd hla hV.2.2.1 ?_
    refine ab_br (fun e2 => ?_) (fun e2 => ?_)
    · exact xw_carry56 hP hV htk (kg := false) (by rw [e, e2]; rfl) h
    · exact xw_carry56 hP hV htk (kg := true) (by rw [e, e2]; rfl) h
  · exact xw_carry56 hP hV htk (kg := true) (by rw [e, Bool.true_or]) h
/-- four cells of a position -/
def ab_four (a : Nat → Int32) (e : Nat) (f s k t : Int32) : Nat → Int32 := upd (upd (upd (upd a e f) (e + 1) s) (e + 2) k) (e + 3) t
theorem xw_remember {post : SX → Prop} {tt n : Nat} (ht : f_pastTop = nI tt) (htt : tt < 20) (hn : f_pastSize = nI n) (hn20 : n ≤ 20)
    (h : post (f_first, f_second, f_kings, f_toMove, nI ((tt + 1) % 20), nI (if 20 ≤ n then 20 else n + 1), f_squareCount, f_taken, f_wanted, f_seen, f_most, f_beginnings, ab_four a_past (tt * 4) f_first f_second f_kings f_toMove, a_squares, a_direction, a_ledOn, a_saved, a_nextMove)) : wpX_remember post (f_first, f_second, f_kings, f_toMove, f_pastTop, f_pastSize, f_squareCount, f_taken, f_wanted, f_seen, f_most, f_beginnings, a_past, a_squares, a_direction, a_ledOn, a_saved, a_nextMove) := by
  have e4 : f_pastTop * 4 = nI (tt * 4) := by rw [ht]; exact pk_mul tt 4
  have a1 : nI (tt * 4) + 1 = nI (tt * 4 + 1) := nI_add _ 1
  have a2 : nI (tt * 4) + 2 = nI (tt * 4 + 2) := nI_add _ 2
  have a3 : nI (tt * 4) + 3 = nI (tt * 4 + 3) := nI_add _ 3
  have a5 : f_pastTop + 1 = nI (tt + 1) := by rw [ht]; exact nI_1 tt
  have a6 : nI (tt + 1) - nI (tt + 1) / 20 * 20 = nI ((tt + 1) % 20) := pk_rem (d := 20) (by omega) (by omega) (by omega)
  unfold wpX_remember
  dsimp only
  rw [e4, a1, a2, a3, a5, a6, nI_clamp (show tt * 4 < 2 ^ 31 by omega), nI_clamp (show tt * 4 + 1 < 2 ^ 31 by omega), nI_clamp (show tt * 4 + 2 < 2 ^ 31 by omega), nI_clamp (show tt * 4 + 3 < 2 ^ 31 by omega)]
  refine ⟨vp_in_nI (by omega) (by omega), nm_e ⟨vp_in_nI (by omega) (by omega), nm_e ⟨vp_in_nI (by omega) (by omega), nm_e ⟨vp_in_nI (by omega) (by omega), nm_e ⟨by decide, nm_e ?_⟩⟩⟩⟩⟩
  refine pk_le 20 n (fun z => ?_) (fun z => ?_) rfl hn
  · rw [if_pos z] at h; exact h
  · rw [if_neg (by omega)] at h
    exact nm_r (by rw [hn]; exact nI_1 n) h
theorem xw_save {post : SX → Prop} {d : Nat} (hd : d < 4) (h : post (f_first, f_second, f_kings, f_toMove, f_pastTop, f_pastSize, f_squareCount, f_taken, f_wanted, f_seen, f_most, f_beginnings, a_past, a_squares, a_direction, a_ledOn, ab_four a_saved (d * 4) f_first f_second f_kings f_toMove, a_nextMove)) : wpX_save post (f_first, f_second, f_kings, f_toMove, f_pastTop, f_pastSize, f_squareCount, f_taken, f_wanted, f_seen, f_most, f_beginnings, a_past, a_squares, a_direction, a_ledOn, a_saved, a_nextMove) (nI d) := by
  have e4 : nI d * 4 = nI (d * 4) := pk_mul d 4
  have a1 : nI (d * 4) + 1 = nI (d * 4 + 1) := nI_add _ 1
  have a2 : nI (d * 4) + 2 = nI (d * 4 + 2) := nI_add _ 2
  have a3 : nI (d * 4) + 3 = nI (d * 4 + 3) := nI_add _ 3
  unfold wpX_save
  rw [e4, a1, a2, a3, nI_clamp (show d * 4 < 2 ^ 31 by omega), nI_clamp (show d * 4 + 1 < 2 ^ 31 by omega), nI_clamp (show d * 4 + 2 < 2 ^ 31 by omega), nI_clamp (show d * 4 + 3 < 2 ^ 31 by omega)]
  exact ⟨vp_in_nI (by omega) (by omega), nm_e ⟨vp_in_nI (by omega) (by omega), nm_e ⟨vp_in_nI (by omega) (by omega), nm_e ⟨vp_in_nI (by omega) (by omega), nm_e h⟩⟩⟩⟩
theorem xw_restore {post : SX → Prop} {d : Nat} (hd : d < 4) (h : post (a_saved (d * 4), a_saved (d * 4 + 1), a_saved (d * 4 + 2), a_saved (d * 4 + 3), f_pastTop, f_pastSize, f_squareCount, f_taken, f_wanted, f_seen, f_most, f_beginnings, a_past, a_squares, a_direction, a_ledOn, a_saved, a_nextMove)) : wpX_restore post (f_first, f_second, f_kings, f_toMove, f_pastTop, f_pastSize, f_squareCount, f_taken, f_wanted, f_seen, f_most, f_beginnings, a_past, a_squares, a_direction, a_ledOn, a_saved, a_nextMove) (nI d) := by
  have e4 : nI d * 4 = nI (d * 4) := pk_mul d 4
  have a1 : nI (d * 4) + 1 = nI (d * 4 + 1) := nI_add _ 1
  have a2 : nI (d * 4) + 2 = nI (d * 4 + 2) := nI_add _ 2
  have a3 : nI (d * 4) + 3 = nI (d * 4 + 3) := nI_add _ 3
  unfold wpX_restore
  rw [e4, a1, a2, a3, nI_clamp (show d * 4 < 2 ^ 31 by omega), nI_clamp (show d * 4 + 1 < 2 ^ 31 by omega), nI_clamp (show d * 4 + 2 < 2 ^ 31 by omega), nI_clamp (show d * 4 + 3 < 2 ^ 31 by omega)]
  exact ⟨vp_in_nI (by omega) (by omega), nm_e ⟨vp_in_nI (by omega) (by omega), nm_e ⟨vp_in_nI (by omega) (by omega), nm_e ⟨vp_in_nI (by omega) (by omega), nm_e h⟩⟩⟩⟩
theorem xw_back1 {post : Int32 → SX → Prop} {tt n : Nat} (ht : f_pastTop = nI tt) (htt : tt < 20) (hn : f_pastSize = nI (n + 1)) (hn20 : n < 20)
    (h : post 1 (a_past ((tt + 19) % 20 * 4), a_past ((tt + 19) % 20 * 4 + 1), a_past ((tt + 19) % 20 * 4 + 2), a_past ((tt + 19) % 20 * 4 + 3), nI ((tt + 19) % 20), nI n, f_squareCount, f_taken, f_wanted, f_seen, f_most, f_beginnings, a_past, a_squares, a_direction, a_ledOn, a_saved, a_nextMove)) : wpX_back post (f_first, f_second, f_kings, f_toMove, f_pastTop, f_pastSize, f_squareCount, f_taken, f_wanted, f_seen, f_most, f_beginnings, a_past, a_squares, a_direction, a_ledOn, a_saved, a_nextMove) := by
  have hd : (tt + 19) % 20 < 20 := Nat.mod_lt _ (by omega)
  have b1 : f_pastTop + 20 = nI (tt + 20) := by rw [ht]; exact nI_add tt 20
  have b2 : nI (tt + 20) - 1 = nI (tt + 19) := nI_pred (tt + 19)
  have b3 : nI (tt + 19) - nI (tt + 19) / 20 * 20 = nI ((tt + 19) % 20) := pk_rem (d := 20) (by omega) (by omega) (by omega)
  unfold wpX_back
  dsimp only
  rw [b1, b2, b3, hn]
  generalize (tt + 19) % 20 = d at h hd
  have e4 : nI d * 4 = nI (d * 4) := pk_mul d 4
  have a1 : nI (d * 4) + 1 = nI (d * 4 + 1) := nI_add _ 1
  have a2 : nI (d * 4) + 2 = nI (d * 4 + 2) := nI_add _ 2
  have a3 : nI (d * 4) + 3 = nI (d * 4 + 3) := nI_add _ 3
  refine br_f (nI_ne0 (by omega) (by omega)) (nm_r (nI_pred n) ⟨by decide, nm_e ?_⟩)
  rw [e4, a1, a2, a3, nI_clamp (show d * 4 < 2 ^ 31 by omega), nI_clamp (show d * 4 + 1 < 2 ^ 31 by omega), nI_clamp (show d * 4 + 2 < 2 ^ 31 by omega), nI_clamp (show d * 4 + 3 < 2 ^ 31 by omega)]
  exact ⟨vp_in_nI (by omega) (by omega), nm_e ⟨vp_in_nI (by omega) (by omega), nm_e ⟨vp_in_nI (by omega) (by omega), nm_e ⟨vp_in_nI (by omega) (by omega), nm_e h⟩⟩⟩⟩
end
end
section
/-! ===== Y: carryOut, remember, back, putAside, putBack ===== -/
def ab_cpy (dst src : Nat → Int32) (base i : Nat) : Nat → Int32 := fun c => if base ≤ c ∧ c < base + i then src (c - base) else dst c
def ab_fet (dst src : Nat → Int32) (base i : Nat) : Nat → Int32 := fun c => if c < i then src (base + c) else dst c
theorem ab_cpy_0 {dst src : Nat → Int32} {base : Nat} : ab_cpy dst src base 0 = dst := by
  funext c; unfold ab_cpy; rw [if_neg (by omega)]
theorem ab_fet_0 {dst src : Nat → Int32} {base : Nat} : ab_fet dst src base 0 = dst := by
  funext c; unfold ab_fet; rw [if_neg (by omega)]
theorem ab_cpy_s {dst src : Nat → Int32} {base i : Nat} : upd (ab_cpy dst src base i) (base + i) (src i) = ab_cpy dst src base (i + 1) := by
  funext c
  unfold ab_cpy
  by_cases e : c = base + i
  · subst e; rw [pk_us, if_pos (by omega)]; congr 1; omega
  · rw [pk_un e]
    by_cases z : base ≤ c ∧ c < base + i
    · rw [if_pos z, if_pos (by omega)]
    · rw [if_neg z, if_neg (by omega)]
theorem ab_fet_s {dst src : Nat → Int32} {base i : Nat} : upd (ab_fet dst src base i) i (src (base + i)) = ab_fet dst src base (i + 1) := by
  funext c
  unfold ab_fet
  by_cases e : c = i
  · subst e; rw [pk_us, if_pos (by omega)]
  · rw [pk_un e]
    by_cases z : c < i
    · rw [if_pos z, if_pos (by omega)]
    · rw [if_neg z, if_neg (by omega)]
theorem ab_cpy_in {dst src : Nat → Int32} {base n j : Nat} (h : j < n) : ab_cpy dst src base n (base + j) = src j := by
  unfold ab_cpy; rw [if_pos (by omega)]; congr 1; omega
theorem ab_cpy_out {dst src : Nat → Int32} {base n c : Nat} (h : c < base ∨ base + n ≤ c) : ab_cpy dst src base n c = dst c := by
  unfold ab_cpy; rw [if_neg (by omega)]
theorem ab_fet_in {dst src : Nat → Int32} {base n j : Nat} (h : j < n) : ab_fet dst src base n j = src (base + j) := by
  unfold ab_fet; rw [if_pos h]
theorem ab_fet_out {dst src : Nat → Int32} {base n j : Nat} (h : n ≤ j) : ab_fet dst src base n j = dst j := by
  unfold ab_fet; rw [if_neg (by omega)]
/-- the board while the path is carried out -/
def ab_mdl (B : Nat → Nat) (p : List Nat) (i : Nat) : Nat → Nat := fun s => if s = ab_hd p ∨ ab_fd p s i = true then 0 else B s
theorem ab_YB_upd {a : Nat → Int32} {B B' : Nat → Nat} {k v : Nat} (h : ab_YB a B) (hk : B' k = v) (ho : ∀ s, s ≠ k → B' s = B s) : ab_YB (upd a k (nI v)) B' := by
  intro i hi
  by_cases e : i = k
  · subst e; rw [pk_us, hk]
  · rw [pk_un e, h i hi, ho i e]
section
variable {f_mover f_remembered f_size f_jumps : Int32} {a_board a_olds a_oldSides a_squares a_asideBoards a_asidePaths a_asideSizes a_asideJumps : Nat → Int32} {B : Nat → Nat} {m : Nat} {jm : Bool} {p : List Nat}
theorem yw_co85 {post : Int32 → SY → Prop} (hB : ∀ i, i < 32 → B i ≤ 4) (hV : ab_VP B m jm p) (hmv : f_mover = nI m) (hj : f_jumps = ab_b jm) (hz : f_size = nI p.length) {B1 : Nat → Nat} (hb : ab_YB a_board B1) (hB1 : ∀ s, s ≠ ab_la p → ab_aft B jm p s = B1 s)
    (h : ∀ bd : Nat → Int32, ab_YB bd (ab_aft B jm p) → post (nI (ab_tk jm p).length) (nI (1 - m), f_remembered, f_size, f_jumps, bd, a_olds, a_oldSides, a_squares, a_asideBoards, a_asidePaths, a_asideSizes, a_asideJumps)) : wY_carryOut_85 post (nI (B (ab_hd p))) (nI (ab_la p)) f_mover f_remembered f_size f_jumps a_board a_olds a_oldSides a_squares a_asideBoards a_asidePaths a_asideSizes a_asideJumps := by
  have hla := ab_VP_la hV
  have hhd := ab_VP_hd hV
  have hpos := ab_VP_pos hV
  have hm := hV.2.2.2.1
  have b2 := hB _ hhd
  have h106 : ∀ v : Nat, v = ab_aft B jm p (ab_la p) → wY_carryOut_106 post (nI v) (nI (ab_la p)) f_mover f_remembered f_size f_jumps a_board a_olds a_oldSides a_squares a_asideBoards a_asidePaths a_asideSizes a_asideJumps := by
    intro v hv
    have hY : ab_YB (upd a_board (ab_la p) (nI v)) (ab_aft B jm p) := ab_YB_upd hb hv.symm hB1
    refine And.intro (vp_in_nI hla (by omega)) ?_
    refine nm_r (e' := upd a_board (ab_la p) (nI v)) (by rw [nI_clamp (by omega)]) ?_
    refine nm_r (e' := nI (1 - m)) (by rw [hmv]; exact pk_sub (a := 1) hm) ?_
    have h1 := h _ hY
    subst hj
    cases jm with
    | false => exact br_t rfl h1
    | true =>
      have hl := (hV.2.2.2.2.1 rfl).2.2.2
      have hl2 : (ab_tk true p).length = p.length - 1 := by
        show (ab_jl p).length = _
        omega
      rw [hl2] at h1
      refine br_f (by decide) ?_
      rw [show f_size - 1 = nI (p.length - 1) by rw [hz]; exact pk_sub (b := 1) hpos]
      exact h1
  have ea : ab_aft B jm p (ab_la p) = (if ab_last (B (ab_hd p)) (ab_la p) = true then B (ab_hd p) + 1 else B (ab_hd p)) := if_pos rfl
  refine yw_lastRow b2 hla ?_
  refine ab_br (fun e => ?_) (fun e => ?_)
  · exact h106 _ (by rw [ea, if_neg (by rw [e]; decide)])
  · rw [nI_1]
    exact h106 _ (by rw [ea, if_pos e])
theorem yw_co38 {post : Int32 → SY → Prop} (hB : ∀ i, i < 32 → B i ≤ 4) (hV : ab_VP B m true p) (hmv : f_mover = nI m) (hj : f_jumps = ab_b true) (hz : f_size = nI p.length) (hsq : ab_At a_squares p)
    (h : ∀ bd : Nat → Int32, ab_YB bd (ab_aft B true p) → post (nI (ab_tk true p).length) (nI (1 - m), f_remembered, f_size, f_jumps, bd, a_olds, a_oldSides, a_squares, a_asideBoards, a_asidePaths, a_asideSizes, a_asideJumps)) :
    ∀ (k i : Nat), i + k + 1 = p.length → ∀ n, k < n → ∀ bd : Nat → Int32, ab_YB bd (ab_mdl B p i) → wY_carryOut_38 post (nI (B (ab_hd p))) (nI (ab_la p)) f_mover f_remembered f_size f_jumps n (nI i) bd a_olds a_oldSides a_squares a_asideBoards a_asidePaths a_asideSizes a_asideJumps := by
  have hlen := ab_VP_len hV
  intro k
  induction k with
  | zero =>
    intro i hi n hn bd hb
    obtain ⟨n, rfl⟩ : ∃ n', n = n' + 1 := ⟨n - 1, by omega⟩
    refine pk_le p.length (i + 1) (fun _ => ?_) (fun z => absurd z (by omega)) hz (nI_1 i)
    refine yw_co85 hB hV hmv hj hz hb ?_ h
    intro s hs
    unfold ab_aft ab_mdl
    rw [if_neg hs, show i = p.length - 1 by omega, ab_fd_jl]
    simp only [decide_eq_true_iff]
    rfl
  | succ k ih =>
    intro i hi n hn bd hb
    obtain ⟨n, rfl⟩ : ∃ n', n = n' + 1 := ⟨n - 1, by omega⟩
    refine pk_le p.length (i + 1) (fun z => absurd z (by omega)) (fun _ => ?_) hz (nI_1 i)
    refine br_f (by rw [hj]; decide) ?_
    have b1 := hV.2.1 i (by omega)
    have b3 := hV.2.1 (i + 1) (by omega)
    have hx : ab_jx p i < 32 := (ab_VP_tk hV).2 _ ((ab_jl_mem _ p).mpr ⟨i, by omega, rfl⟩)
    refine ⟨vp_in_nI (by omega) (by omega), ?_⟩
    rw [nI_1 i, nI_clamp (show i < 2 ^ 31 by omega), nI_clamp (show i + 1 < 2 ^ 31 by omega), hsq i (by omega), hsq (i + 1) (by omega)]
    refine ⟨vp_in_nI (by omega) (by omega), ?_⟩
    refine yw_between b1 b3 ?_
    refine ⟨vp_in_nI hx (by omega), ?_⟩
    refine nm_r (e' := upd bd (ab_jx p i) (nI 0)) (by rw [nI_clamp (show ab_mid (p.getD i 0) (p.getD (i + 1) 0) < 2 ^ 31 from Nat.lt_trans hx (by omega))]; rfl) ?_
    refine nm_e ?_
    refine ih (i + 1) (by omega) n (by omega) _ ?_
    refine ab_YB_upd hb ?_ ?_
    · unfold ab_mdl
      rw [if_pos]
      right
      show (ab_fd p (ab_jx p i) i || decide (ab_jx p i = ab_jx p i)) = true
      simp
    · intro s hs
      unfold ab_mdl
      show (if s = ab_hd p ∨ (ab_fd p s i || decide (ab_jx p i = s)) = true then 0 else B s) = _
      rw [decide_eq_false (fun z => hs z.symm), Bool.or_false]
theorem yw_carryOut {post : Int32 → SY → Prop} (hB : ∀ i, i < 32 → B i ≤ 4) (hb : ab_YB a_board B) (hV : ab_VP B m jm p) (hmv : f_mover = nI m) (hj : f_jumps = ab_b jm) (hz : f_size = nI p.length) (hsq : ab_At a_squares p)
    (h : ∀ bd : Nat → Int32, ab_YB bd (ab_aft B jm p) → post (nI (ab_tk jm p).length) (nI (1 - m), f_remembered, f_size, f_jumps, bd, a_olds, a_oldSides, a_squares, a_asideBoards, a_asidePaths, a_asideSizes, a_asideJumps)) : wpY_carryOut post (f_mover, f_remembered, f_size, f_jumps, a_board, a_olds, a_oldSides, a_squares, a_asideBoards, a_asidePaths, a_asideSizes, a_asideJumps) := by
  have hla := ab_VP_la hV
  have hhd := ab_VP_hd hV
  have hpos := ab_VP_pos hV
  have hlen := ab_VP_len hV
  have hsub : f_size - 1 = nI (p.length - 1) := by rw [hz]; exact pk_sub (b := 1) hpos
  have h0 := ab_At_h hV hsq
  unfold wpY_carryOut
  dsimp only
  rw [h0, hsub, nI_clamp (show ab_hd p < 2 ^ 31 by omega), nI_clamp (show p.length - 1 < 2 ^ 31 by omega), ab_At_l hV hsq, hb _ hhd]
  refine ⟨vp_in_nI hhd (by omega), nm_e ⟨vp_in_nI (by omega) (by omega), nm_e ⟨vp_in_nI hhd (by omega), nm_e ⟨p.length, ?_⟩⟩⟩⟩
  cases jm with
  | true =>
    refine yw_co38 hB hV hmv hj hz hsq h (p.length - 1) 0 (by omega) p.length (by omega) _ ?_
    refine ab_YB_upd (v := 0) hb ?_ ?_
    · unfold ab_mdl; rw [if_pos (Or.inl rfl)]
    · intro s hs
      unfold ab_mdl
      rw [if_neg]
      intro z
      rcases z with z | z
      · exact hs z
      · exact Bool.noConfusion z
  | false =>
    obtain ⟨n, hn⟩ : ∃ n, p.length = n + 1 := ⟨p.length - 1, by omega⟩
    have hY : ab_YB (upd a_board (ab_hd p) (nI 0)) (fun s => if s = ab_hd p then 0 else B s) := by
      refine ab_YB_upd hb ?_ ?_
      · exact if_pos rfl
      · intro s hs; exact if_neg hs
    have h85 := yw_co85 (a_olds := a_olds) (a_oldSides := a_oldSides) (a_squares := a_squares) (a_asideBoards := a_asideBoards) (a_asidePaths := a_asidePaths) (a_asideSizes := a_asideSizes) (a_asideJumps := a_asideJumps) (f_remembered := f_remembered) hB hV hmv hj hz hY (by
      intro s hs
      unfold ab_aft
      rw [if_neg hs]
      simp [ab_tk]) h
    rw [hn]
    refine br_c (fun _ => ?_) (fun _ => ?_)
    · exact h85
    · refine br_t hj ?_
      exact h85
theorem yw_rem75 {post : SY → Prop} {r : Nat} (hr : f_remembered = nI r) (hr20 : r < 20)
    (h : post (f_mover, nI (r + 1), f_size, f_jumps, a_board, ab_cpy a_olds a_board (32 * r) 32, upd a_oldSides r f_mover, a_squares, a_asideBoards, a_asidePaths, a_asideSizes, a_asideJumps)) :
    ∀ (k i : Nat), i + k = 32 → ∀ n, k < n → wY_remember_75 post f_mover f_remembered f_size f_jumps n (nI i) a_board (ab_cpy a_olds a_board (32 * r) i) a_oldSides a_squares a_asideBoards a_asidePaths a_asideSizes a_asideJumps := by
  subst hr
  intro k
  induction k with
  | zero =>
    intro i hi n hn
    obtain ⟨n, rfl⟩ : ∃ n', n = n' + 1 := ⟨n - 1, by omega⟩
    have e : i = 32 := by omega
    subst e
    refine pk_le 32 32 (fun _ => ⟨vp_in_nI hr20 (by omega), ?_⟩) (fun z => absurd z (by omega))
    refine nm_r (e' := upd a_oldSides r f_mover) (by rw [nI_clamp (by omega)]) (nm_r (nI_1 r) ?_)
    exact h
  | succ k ih =>
    intro i hi n hn
    obtain ⟨n, rfl⟩ : ∃ n', n = n' + 1 := ⟨n - 1, by omega⟩
    have e1 : 32 * nI r + nI i = nI (32 * r + i) := by
      rw [show 32 * nI r = nI (32 * r) from pk_mul 32 r, nI_add]
    refine pk_le 32 i (fun z => absurd z (by omega)) (fun _ => ⟨vp_in_nI (by omega) (by omega), ?_⟩)
    rw [e1, nI_clamp (show 32 * r + i < 2 ^ 31 by omega), nI_clamp (show i < 2 ^ 31 by omega)]
    refine ⟨vp_in_nI (by omega) (by omega), nm_r ab_cpy_s (nm_r (nI_1 i) ?_)⟩
    exact ih (i + 1) (by omega) n (by omega)
theorem yw_rem41 {post : SY → Prop} (h : ∃ n75, wY_remember_75 post f_mover 19 f_size f_jumps n75 0 a_board a_olds (ab_fet a_oldSides a_oldSides 1 19) a_squares a_asideBoards a_asidePaths a_asideSizes a_asideJumps) :
    ∀ (k i : Nat), i + k = 19 → ∀ n, k < n → wY_remember_41 post f_mover f_remembered f_size f_jumps n (nI i) a_board a_olds (ab_fet a_oldSides a_oldSides 1 i) a_squares a_asideBoards a_asidePaths a_asideSizes a_asideJumps := by
  intro k
  induction k with
  | zero =>
    intro i hi n hn
    obtain ⟨n, rfl⟩ : ∃ n', n = n' + 1 := ⟨n - 1, by omega⟩
    have e : i = 19 := by omega
    subst e
    exact pk_le 19 19 (fun _ => h) (fun z => absurd z (by omega))
  | succ k ih =>
    intro i hi n hn
    obtain ⟨n, rfl⟩ : ∃ n', n = n' + 1 := ⟨n - 1, by omega⟩
    refine pk_le 19 i (fun z => absurd z (by omega)) (fun _ => ?_)
    rw [nI_1 i, nI_clamp (show i + 1 < 2 ^ 31 by omega), nI_clamp (show i < 2 ^ 31 by omega), ab_fet_out (show i ≤ i + 1 by omega), Nat.add_comm i 1]
    refine ⟨vp_in_nI (by omega) (by omega), vp_in_nI (by omega) (by omega), nm_r ab_fet_s (nm_r (e' := nI (i + 1)) (by rw [Nat.add_comm]) ?_)⟩
    exact ih (i + 1) (by omega) n (by omega)
theorem yw_rem11 {post : SY → Prop} (h : ∃ n41, wY_remember_41 post f_mover f_remembered f_size f_jumps n41 0 a_board (ab_fet a_olds a_olds 32 608) a_oldSides a_squares a_asideBoards a_asidePaths a_asideSizes a_asideJumps) :
    ∀ (k i : Nat), i + k = 608 → ∀ n, k < n → wY_remember_11 post f_mover f_remembered f_size f_jumps n (nI i) a_board (ab_fet a_olds a_olds 32 i) a_oldSides a_squares a_asideBoards a_asidePaths a_asideSizes a_asideJumps := by
  intro k
  induction k with
  | zero =>
    intro i hi n hn
    obtain ⟨n, rfl⟩ : ∃ n', n = n' + 1 := ⟨n - 1, by omega⟩
    have e : i = 608 := by omega
    subst e
    exact pk_le 608 608 (fun _ => h) (fun z => absurd z (by omega))
  | succ k ih =>
    intro i hi n hn
    obtain ⟨n, rfl⟩ : ∃ n', n = n' + 1 := ⟨n - 1, by omega⟩
    have e1 : nI i + 32 = nI (32 + i) := by rw [Nat.add_comm]; exact nI_add i 32
    refine pk_le 608 i (fun z => absurd z (by omega)) (fun _ => ?_)
    rw [e1, nI_clamp (show 32 + i < 2 ^ 31 by omega), nI_clamp (show i < 2 ^ 31 by omega), ab_fet_out (show i ≤ 32 + i by omega)]
    refine ⟨vp_in_nI (by omega) (by omega), vp_in_nI (by omega) (by omega), nm_r ab_fet_s (nm_r (nI_1 i) ?_)⟩
    exact ih (i + 1) (by omega) n (by omega)
theorem yw_remF {post : SY → Prop} {r : Nat} (hr : f_remembered = nI r) (hr20 : r < 20)
    (h : post (f_mover, nI (r + 1), f_size, f_jumps, a_board, ab_cpy a_olds a_board (32 * r) 32, upd a_oldSides r f_mover, a_squares, a_asideBoards, a_asidePaths, a_asideSizes, a_asideJumps)) : wpY_remember post (f_mover, f_remembered, f_size, f_jumps, a_board, a_olds, a_oldSides, a_squares, a_asideBoards, a_asidePaths, a_asideSizes, a_asideJumps) := by
  refine pk_eq r 20 (fun z => absurd z (by omega)) (fun _ => ⟨33, ?_⟩) hr rfl
  have h1 := yw_rem75 hr hr20 h 32 0 rfl 33 (by omega)
  rw [ab_cpy_0] at h1
  exact h1
theorem yw_remT {post : SY → Prop} (hr : f_remembered = nI 20)
    (h : post (f_mover, nI 20, f_size, f_jumps, a_board, ab_cpy (ab_fet a_olds a_olds 32 608) a_board (32 * 19) 32, upd (ab_fet a_oldSides a_oldSides 1 19) 19 f_mover, a_squares, a_asideBoards, a_asidePaths, a_asideSizes, a_asideJumps)) : wpY_remember post (f_mover, f_remembered, f_size, f_jumps, a_board, a_olds, a_oldSides, a_squares, a_asideBoards, a_asidePaths, a_asideSizes, a_asideJumps) := by
  refine pk_eq 20 20 (fun _ => ⟨609, ?_⟩) (fun z => absurd rfl z) hr rfl
  have h1 := yw_rem75 (r := 19) (f_remembered := nI 19) rfl (by omega) h 32 0 rfl 33 (by omega)
  rw [ab_cpy_0] at h1
  have h2 := yw_rem41 (f_remembered := f_remembered) ⟨33, h1⟩ 19 0 rfl 20 (by omega)
  rw [ab_fet_0] at h2
  have h3 := yw_rem11 ⟨20, h2⟩ 608 0 rfl 609 (by omega)
  rw [ab_fet_0] at h3
  exact h3
theorem yw_back21 {post : Int32 → SY → Prop} {r : Nat} (hr : f_remembered = nI r) (hr20 : r < 20)
    (h : post 1 (a_oldSides r, f_remembered, f_size, f_jumps, ab_fet a_board a_olds (32 * r) 32, a_olds, a_oldSides, a_squares, a_asideBoards, a_asidePaths, a_asideSizes, a_asideJumps)) :
    ∀ (k i : Nat), i + k = 32 → ∀ n, k < n → wY_back_21 post f_mover f_remembered f_size f_jumps n (nI i) (ab_fet a_board a_olds (32 * r) i) a_olds a_oldSides a_squares a_asideBoards a_asidePaths a_asideSizes a_asideJumps := by
  subst hr
  intro k
  induction k with
  | zero =>
    intro i hi n hn
    obtain ⟨n, rfl⟩ : ∃ n', n = n' + 1 := ⟨n - 1, by omega⟩
    have e : i = 32 := by omega
    subst e
    refine pk_le 32 32 (fun _ => ⟨vp_in_nI hr20 (by omega), ?_⟩) (fun z => absurd z (by omega))
    exact nm_r (e' := a_oldSides r) (by rw [nI_clamp (by omega)]) h
  | succ k ih =>
    intro i hi n hn
    obtain ⟨n, rfl⟩ : ∃ n', n = n' + 1 := ⟨n - 1, by omega⟩
    have e1 : 32 * nI r + nI i = nI (32 * r + i) := by
      rw [show 32 * nI r = nI (32 * r) from pk_mul 32 r, nI_add]
    refine pk_le 32 i (fun z => absurd z (by omega)) (fun _ => ?_)
    rw [e1, nI_clamp (show 32 * r + i < 2 ^ 31 by omega), nI_clamp (show i < 2 ^ 31 by omega)]
    refine ⟨vp_in_nI (by omega) (by omega), vp_in_nI (by omega) (by omega), nm_r ab_fet_s (nm_r (nI_1 i) ?_)⟩
    exact ih (i + 1) (by omega) n (by omega)
theorem yw_back1 {post : Int32 → SY → Prop} {r : Nat} (hr : f_remembered = nI (r + 1)) (hr20 : r < 20)
    (h : post 1 (a_oldSides r, nI r, f_size, f_jumps, ab_fet a_board a_olds (32 * r) 32, a_olds, a_oldSides, a_squares, a_asideBoards, a_asidePaths, a_asideSizes, a_asideJumps)) : wpY_back post (f_mover, f_remembered, f_size, f_jumps, a_board, a_olds, a_oldSides, a_squares, a_asideBoards, a_asidePaths, a_asideSizes, a_asideJumps) := by
  refine pk_eq (r + 1) 0 (fun z => absurd z (by omega)) (fun _ => nm_r (e' := nI r) (by rw [hr]; exact nI_pred r) ⟨33, ?_⟩) hr rfl
  have h1 := yw_back21 (f_mover := f_mover) (f_remembered := nI r) rfl hr20 h 32 0 rfl 33 (by omega)
  rw [ab_fet_0] at h1
  exact h1
theorem yw_pa33 {post : SY → Prop} {l z : Nat} (hl : l < 2) (hz : f_size = nI z) (hz40 : z ≤ 40)
    (h : post (f_mover, f_remembered, f_size, f_jumps, a_board, a_olds, a_oldSides, a_squares, a_asideBoards, ab_cpy a_asidePaths a_squares (40 * l) z, upd a_asideSizes l f_size, upd a_asideJumps l (vp_nar .boolean f_jumps))) :
    ∀ (k i : Nat), i + k = z → ∀ n, k < n → wY_putAside_33 post (nI l) f_mover f_remembered f_size f_jumps n (nI i) a_board a_olds a_oldSides a_squares a_asideBoards (ab_cpy a_asidePaths a_squares (40 * l) i) a_asideSizes a_asideJumps := by
  have hcl : (nI l).toNatClampNeg = l := nI_clamp (by omega)
  intro k
  induction k with
  | zero =>
    intro i hi n hn
    obtain ⟨n, rfl⟩ : ∃ n', n = n' + 1 := ⟨n - 1, by omega⟩
    have e : i = z := by omega
    subst e
    refine pk_le i i (fun _ => ⟨vp_in_nI hl (by omega), ?_⟩) (fun z => absurd z (by omega)) hz rfl
    rw [hcl]
    exact nm_e ⟨vp_in_nI hl (by omega), nm_e h⟩
  | succ k ih =>
    intro i hi n hn
    obtain ⟨n, rfl⟩ : ∃ n', n = n' + 1 := ⟨n - 1, by omega⟩
    have e1 : 40 * nI l + nI i = nI (40 * l + i) := by
      rw [show 40 * nI l = nI (40 * l) from pk_mul 40 l, nI_add]
    refine pk_le z i (fun z => absurd z (by omega)) (fun _ => ⟨vp_in_nI (by omega) (by omega), ?_⟩) hz rfl
    rw [e1, nI_clamp (show 40 * l + i < 2 ^ 31 by omega), nI_clamp (show i < 2 ^ 31 by omega)]
    refine ⟨vp_in_nI (by omega) (by omega), nm_r ab_cpy_s (nm_r (nI_1 i) ?_)⟩
    exact ih (i + 1) (by omega) n (by omega)
theorem yw_pa2 {post : SY → Prop} {l : Nat} (hl : l < 2) (h : ∃ n33, wY_putAside_33 post (nI l) f_mover f_remembered f_size f_jumps n33 0 a_board a_olds a_oldSides a_squares (ab_cpy a_asideBoards a_board (32 * l) 32) a_asidePaths a_asideSizes a_asideJumps) :
    ∀ (k i : Nat), i + k = 32 → ∀ n, k < n → wY_putAside_2 post (nI l) f_mover f_remembered f_size f_jumps n (nI i) a_board a_olds a_oldSides a_squares (ab_cpy a_asideBoards a_board (32 * l) i) a_asidePaths a_asideSizes a_asideJumps := by
  intro k
  induction k with
  | zero =>
    intro i hi n hn
    obtain ⟨n, rfl⟩ : ∃ n', n = n' + 1 := ⟨n - 1, by omega⟩
    have e : i = 32 := by omega
    subst e
    exact pk_le 32 32 (fun _ => h) (fun z => absurd z (by omega))
  | succ k ih =>
    intro i hi n hn
    obtain ⟨n, rfl⟩ : ∃ n', n = n' + 1 := ⟨n - 1, by omega⟩
    have e1 : 32 * nI l + nI i = nI (32 * l + i) := by
      rw [show 32 * nI l = nI (32 * l) from pk_mul 32 l, nI_add]
    refine pk_le 32 i (fun z => absurd z (by omega)) (fun _ => ⟨vp_in_nI (by omega) (by omega), ?_⟩)
    rw [e1, nI_clamp (show 32 * l + i < 2 ^ 31 by omega), nI_clamp (show i < 2 ^ 31 by omega)]
    refine ⟨vp_in_nI (by omega) (by omega), nm_r ab_cpy_s (nm_r (nI_1 i) ?_)⟩
    exact ih (i + 1) (by omega) n (by omega)
theorem yw_putAside {post : SY → Prop} {l z : Nat} (hl : l < 2) (hz : f_size = nI z) (hz40 : z ≤ 40)
    (h : post (f_mover, f_remembered, f_size, f_jumps, a_board, a_olds, a_oldSides, a_squares, ab_cpy a_asideBoards a_board (32 * l) 32, ab_cpy a_asidePaths a_squares (40 * l) z, upd a_asideSizes l f_size, upd a_asideJumps l (vp_nar .boolean f_jumps))) : wpY_putAside post (f_mover, f_remembered, f_size, f_jumps, a_board, a_olds, a_oldSides, a_squares, a_asideBoards, a_asidePaths, a_asideSizes, a_asideJumps) (nI l) := by
  have h1 := yw_pa33 hl hz hz40 h z 0 (by omega) (z + 1) (by omega)
  rw [ab_cpy_0] at h1
  have h2 := yw_pa2 hl ⟨z + 1, h1⟩ 32 0 rfl 33 (by omega)
  rw [ab_cpy_0] at h2
  exact ⟨33, h2⟩
theorem yw_pb43 {post : SY → Prop} {l z : Nat} {jm : Bool} (hl : l < 2) (hz : f_size = nI z) (hz40 : z ≤ 40) (hj : a_asideJumps l = ab_b jm)
    (h : post (1 - f_mover, f_remembered, f_size, ab_b jm, a_board, a_olds, a_oldSides, ab_fet a_squares a_asidePaths (40 * l) z, a_asideBoards, a_asidePaths, a_asideSizes, a_asideJumps)) :
    ∀ (k i : Nat), i + k = z → ∀ n, k < n → wY_putBack_43 post (nI l) f_mover f_remembered f_size f_jumps n (nI i) a_board a_olds a_oldSides (ab_fet a_squares a_asidePaths (40 * l) i) a_asideBoards a_asidePaths a_asideSizes a_asideJumps := by
  have hcl : (nI l).toNatClampNeg = l := nI_clamp (by omega)
  intro k
  induction k with
  | zero =>
    intro i hi n hn
    obtain ⟨n, rfl⟩ : ∃ n', n = n' + 1 := ⟨n - 1, by omega⟩
    have e : i = z := by omega
    subst e
    refine pk_le i i (fun _ => ⟨vp_in_nI hl (by omega), ?_⟩) (fun z => absurd z (by omega)) hz rfl
    rw [hcl]
    refine nm_r hj ⟨?_, ?_, nm_e h⟩
    · cases jm <;> rfl
    · cases jm <;> rfl
  | succ k ih =>
    intro i hi n hn
    obtain ⟨n, rfl⟩ : ∃ n', n = n' + 1 := ⟨n - 1, by omega⟩
    have e1 : 40 * nI l + nI i = nI (40 * l + i) := by
      rw [show 40 * nI l = nI (40 * l) from pk_mul 40 l, nI_add]
    refine pk_le z i (fun z => absurd z (by omega)) (fun _ => ?_) hz rfl
    rw [e1, nI_clamp (show 40 * l + i < 2 ^ 31 by omega), nI_clamp (show i < 2 ^ 31 by omega)]
    refine ⟨vp_in_nI (by omega) (by omega), vp_in_nI (by omega) (by omega), nm_r ab_fet_s (nm_r (nI_1 i) ?_)⟩
    exact ih (i + 1) (by omega) n (by omega)
theorem yw_pb2 {post : SY → Prop} {l : Nat} (hl : l < 2) (h : ∃ n43, wY_putBack_43 post (nI l) f_mover f_remembered (a_asideSizes l) f_jumps n43 0 (ab_fet a_board a_asideBoards (32 * l) 32) a_olds a_oldSides a_squares a_asideBoards a_asidePaths a_asideSizes a_asideJumps) :
    ∀ (k i : Nat), i + k = 32 → ∀ n, k < n → wY_putBack_2 post (nI l) f_mover f_remembered f_size f_jumps n (nI i) (ab_fet a_board a_asideBoards (32 * l) i) a_olds a_oldSides a_squares a_asideBoards a_asidePaths a_asideSizes a_asideJumps := by
  intro k
  induction k with
  | zero =>
    intro i hi n hn
    obtain ⟨n, rfl⟩ : ∃ n', n = n' + 1 := ⟨n - 1, by omega⟩
    have e : i = 32 := by omega
    subst e
    refine pk_le 32 32 (fun _ => ⟨vp_in_nI hl (by omega), ?_⟩) (fun z => absurd z (by omega))
    exact nm_r (e' := a_asideSizes l) (by rw [nI_clamp (by omega)]) h
  | succ k ih =>
    intro i hi n hn
    obtain ⟨n, rfl⟩ : ∃ n', n = n' + 1 := ⟨n - 1, by omega⟩
    have e1 : 32 * nI l + nI i = nI (32 * l + i) := by
      rw [show 32 * nI l = nI (32 * l) from pk_mul 32 l, nI_add]
    refine pk_le 32 i (fun z => absurd z (by omega)) (fun _ => ?_)
    rw [e1, nI_clamp (show 32 * l + i < 2 ^ 31 by omega), nI_clamp (show i < 2 ^ 31 by omega)]
    refine ⟨vp_in_nI (by omega) (by omega), vp_in_nI (by omega) (by omega), nm_r ab_fet_s (nm_r (nI_1 i) ?_)⟩
    exact ih (i + 1) (by omega) n (by omega)
theorem yw_putBack {post : SY → Prop} {l z : Nat} {jm : Bool} (hl : l < 2) (hz : a_asideSizes l = nI z) (hz40 : z ≤ 40) (hj : a_asideJumps l = ab_b jm)
    (h : post (1 - f_mover, f_remembered, nI z, ab_b jm, ab_fet a_board a_asideBoards (32 * l) 32, a_olds, a_oldSides, ab_fet a_squares a_asidePaths (40 * l) z, a_asideBoards, a_asidePaths, a_asideSizes, a_asideJumps)) : wpY_putBack post (f_mover, f_remembered, f_size, f_jumps, a_board, a_olds, a_oldSides, a_squares, a_asideBoards, a_asidePaths, a_asideSizes, a_asideJumps) (nI l) := by
  have h1 := yw_pb43 (f_jumps := f_jumps) (f_size := nI z) hl rfl hz40 hj h z 0 (by omega) (z + 1) (by omega)
  rw [ab_fet_0, ← hz] at h1
  have h2 := yw_pb2 (f_size := f_size) hl ⟨z + 1, h1⟩ 32 0 rfl 33 (by omega)
  rw [ab_fet_0] at h2
  exact ⟨33, h2⟩
end
end
section
/-! ===== Y: find, moves, mostTaken, movable, twice, plays ===== -/
def ab_any (l : List (List Nat)) (i : Nat) : Bool := l.any (fun q => decide (ab_hd q = i))
theorem ab_any_app {l : List (List Nat)} {q : List Nat} {i : Nat} : ab_any (l ++ [q]) i = (ab_any l i || decide (ab_hd q = i)) := by
  unfold ab_any; rw [List.any_append]; simp
/-- what is put aside at place l -/
def ab_AS (B : Nat → Nat) (jm : Bool) (q : List Nat) (l : Nat) (xb xp xs xj : Nat → Int32) : Prop := (∀ i, i < 32 → xb (32 * l + i) = nI (B i)) ∧ (∀ i, i < q.length → xp (40 * l + i) = nI (q.getD i 0)) ∧ xs l = nI q.length ∧ xj l = ab_b jm
/-- place 0 is as before -/
def ab_P0 (xb xp xs xj yb yp ys yj : Nat → Int32) : Prop := (∀ c, c < 32 → yb c = xb c) ∧ (∀ c, c < 40 → yp c = xp c) ∧ ys 0 = xs 0 ∧ yj 0 = xj 0
theorem ab_P0_r {xb xp xs xj : Nat → Int32} : ab_P0 xb xp xs xj xb xp xs xj := ⟨fun _ _ => rfl, fun _ _ => rfl, rfl, rfl⟩
theorem ab_P0_t {xb xp xs xj yb yp ys yj zb zp zs zj : Nat → Int32} (h1 : ab_P0 xb xp xs xj yb yp ys yj) (h2 : ab_P0 yb yp ys yj zb zp zs zj) : ab_P0 xb xp xs xj zb zp zs zj :=
  ⟨fun c hc => (h2.1 c hc).trans (h1.1 c hc), fun c hc => (h2.2.1 c hc).trans (h1.2.1 c hc), h2.2.2.1.trans h1.2.2.1, h2.2.2.2.trans h1.2.2.2⟩
theorem ab_AS_P0 {B : Nat → Nat} {jm : Bool} {q : List Nat} {xb xp xs xj yb yp ys yj : Nat → Int32} (hq : q.length ≤ 40) (h : ab_AS B jm q 0 xb xp xs xj) (h2 : ab_P0 xb xp xs xj yb yp ys yj) : ab_AS B jm q 0 yb yp ys yj := by
  obtain ⟨a1, a2, a3, a4⟩ := h
  refine ⟨fun i hi => ?_, fun i hi => ?_, h2.2.2.1.trans a3, h2.2.2.2.trans a4⟩
  · rw [h2.1 _ (by omega)]; exact a1 i hi
  · rw [h2.2.1 _ (by omega)]; exact a2 i hi
section
variable {f_mover f_remembered f_size f_jumps : Int32} {a_board a_olds a_oldSides a_squares a_asideBoards a_asidePaths a_asideSizes a_asideJumps : Nat → Int32} {B : Nat → Nat} {m : Nat}
theorem yw_find19z {post : Int32 → SY → Prop} {x1 x3 : Int32} {n : Nat} (h : post 0 (f_mover, f_remembered, f_size, f_jumps, a_board, a_olds, a_oldSides, a_squares, a_asideBoards, a_asidePaths, a_asideSizes, a_asideJumps)) : wY_find_19 post x1 (n + 1) 0 x3 f_mover f_remembered f_size f_jumps a_board a_olds a_oldSides a_squares a_asideBoards a_asidePaths a_asideSizes a_asideJumps :=
  br_c (fun _ => ⟨rfl, h⟩) (fun _ => br_t rfl ⟨rfl, h⟩)
theorem yw_find19 {post : Int32 → SY → Prop} {j : Nat} (hj31 : j < 2 ^ 31) (hB : ∀ i, i < 32 → B i ≤ 4) (hb : ab_YB a_board B) (hmv : f_mover = nI m) (hm : m ≤ 1)
    (KF : ∀ (q : List Nat) (done rest : List (List Nat)) (sq1 : Nat → Int32), ab_ML B m = done ++ q :: rest → done.length = j → ab_VP B m (ab_jm B m) q → 1 < q.length → ab_At sq1 q → post 1 (f_mover, f_remembered, nI q.length, ab_b (ab_jm B m), a_board, a_olds, a_oldSides, sq1, a_asideBoards, a_asidePaths, a_asideSizes, a_asideJumps))
    (KN : (ab_ML B m).length ≤ j → ∀ (sz1 jm1 : Int32) (sq1 : Nat → Int32), post 0 (f_mover, f_remembered, sz1, jm1, a_board, a_olds, a_oldSides, sq1, a_asideBoards, a_asidePaths, a_asideSizes, a_asideJumps)) :
    ∀ (k i : Nat), i + k = j → ∀ n, k + 1 < n → ∀ (q : List Nat) (done tl : List (List Nat)) (sq : Nat → Int32), ab_ML B m = done ++ q :: tl → done.length = i → ab_rest B m (ab_jm B m) q = tl → ab_VP B m (ab_jm B m) q → 1 < q.length → ab_At sq q → wY_find_19 post (nI j) n 1 (nI i) f_mover f_remembered (nI q.length) (ab_b (ab_jm B m)) a_board a_olds a_oldSides sq a_asideBoards a_asidePaths a_asideSizes a_asideJumps := by
  intro k
  induction k with
  | zero =>
    intro i hi n hn q done tl sq h1 h2 h3 h4 h5 h6
    obtain ⟨n, rfl⟩ : ∃ n', n = n' + 1 := ⟨n - 1, by omega⟩
    exact pk_le j i (fun _ => ⟨rfl, KF q done tl sq h1 (by omega) h4 h5 h6⟩) (fun z => absurd z (by omega))
  | succ k ih =>
    intro i hi n hn q done tl sq h1 h2 h3 h4 h5 h6
    obtain ⟨n, rfl⟩ : ∃ n', n = n' + 1 := ⟨n - 1, by omega⟩
    refine pk_le j i (fun z => absurd z (by omega)) (fun _ => br_f (by decide) ?_)
    refine yw_next (p := q) hB hb rfl hmv hm rfl h4 h6 (fun e sz1 sq1 => ?_) (fun q1 tl1 sq1 a1 a2 a3 a4 a5 => ?_)
    · refine nm_e ?_
      obtain ⟨n, rfl⟩ : ∃ n', n = n' + 1 := ⟨n - 1, by omega⟩
      refine yw_find19z (KN ?_ _ _ _)
      rw [h1, ← h3, e]
      simp; omega
    · refine nm_r (nI_1 i) ?_
      refine ih (i + 1) (by omega) n (by omega) q1 (done ++ [q]) tl1 sq1 ?_ ?_ a2 a3 a4 a5
      · rw [h1, ← h3, a1]; simp
      · simp; omega
theorem yw_findN {post : Int32 → SY → Prop} {k : Int32} (hk : k < 0) (h : post 0 (f_mover, f_remembered, f_size, f_jumps, a_board, a_olds, a_oldSides, a_squares, a_asideBoards, a_asidePaths, a_asideSizes, a_asideJumps)) : wpY_find post (f_mover, f_remembered, f_size, f_jumps, a_board, a_olds, a_oldSides, a_squares, a_asideBoards, a_asidePaths, a_asideSizes, a_asideJumps) k :=
  br_t hk ⟨1, yw_find19z h⟩
theorem yw_find {post : Int32 → SY → Prop} {j : Nat} (hj31 : j < 2 ^ 31) (hB : ∀ i, i < 32 → B i ≤ 4) (hb : ab_YB a_board B) (hmv : f_mover = nI m) (hm : m ≤ 1)
    (KF : ∀ (q : List Nat) (done rest : List (List Nat)) (sq1 : Nat → Int32), ab_ML B m = done ++ q :: rest → done.length = j → ab_VP B m (ab_jm B m) q → 1 < q.length → ab_At sq1 q → post 1 (f_mover, f_remembered, nI q.length, ab_b (ab_jm B m), a_board, a_olds, a_oldSides, sq1, a_asideBoards, a_asidePaths, a_asideSizes, a_asideJumps))
    (KN : (ab_ML B m).length ≤ j → ∀ (sz1 jm1 : Int32) (sq1 : Nat → Int32), post 0 (f_mover, f_remembered, sz1, jm1, a_board, a_olds, a_oldSides, sq1, a_asideBoards, a_asidePaths, a_asideSizes, a_asideJumps)) : wpY_find post (f_mover, f_remembered, f_size, f_jumps, a_board, a_olds, a_oldSides, a_squares, a_asideBoards, a_asidePaths, a_asideSizes, a_asideJumps) (nI j) := by
  refine br_f (nI_pos hj31) ?_
  refine yw_first hB hb hmv hm (fun e sz1 jm1 sq1 => ?_) (fun q tl sq1 a1 a2 a3 a4 a5 => ?_)
  · exact br_t rfl ⟨1, yw_find19z (KN (by rw [e]; exact Nat.zero_le _) _ _ _)⟩
  · refine br_f (by decide) ⟨j + 2, ?_⟩
    exact yw_find19 hj31 hB hb hmv hm KF KN j 0 (by omega) (j + 2) (by omega) q [] tl sq1 a1 rfl a2 a3 a4 a5
theorem yw_moves7 {post : Int32 → SY → Prop} (hB : ∀ i, i < 32 → B i ≤ 4) (hb : ab_YB a_board B) (hmv : f_mover = nI m) (hm : m ≤ 1) :
    ∀ (tl : List (List Nat)) (q : List Nat) (n c : Nat) (sq : Nat → Int32), tl.length + 1 < n → ab_rest B m (ab_jm B m) q = tl → ab_VP B m (ab_jm B m) q → ab_At sq q →
      (∀ (sz1 jm1 : Int32) (sq1 : Nat → Int32), post (nI (c + 1 + tl.length)) (f_mover, f_remembered, sz1, jm1, a_board, a_olds, a_oldSides, sq1, a_asideBoards, a_asidePaths, a_asideSizes, a_asideJumps)) → wY_moves_7 post n (nI c) 1 f_mover f_remembered (nI q.length) (ab_b (ab_jm B m)) a_board a_olds a_oldSides sq a_asideBoards a_asidePaths a_asideSizes a_asideJumps := by
  intro tl
  induction tl with
  | nil =>
    intro q n c sq hn h3 h4 h6 K
    obtain ⟨n, rfl⟩ : ∃ n', n = n' + 2 := ⟨n - 2, by simp at hn; omega⟩
    refine br_f (by decide) (nm_r (nI_1 c) ?_)
    refine yw_next (p := q) hB hb rfl hmv hm rfl h4 h6 (fun e sz1 sq1 => ?_) (fun q1 tl1 sq1 a1 a2 a3 a4 a5 => ?_)
    · exact br_t rfl (K _ _ _)
    · rw [h3] at a1; exact absurd a1 (by simp)
  | cons q2 tl ih =>
    intro q n c sq hn h3 h4 h6 K
    obtain ⟨n, rfl⟩ : ∃ n', n = n' + 1 := ⟨n - 1, by omega⟩
    refine br_f (by decide) (nm_r (nI_1 c) ?_)
    refine yw_next (p := q) hB hb rfl hmv hm rfl h4 h6 (fun e sz1 sq1 => ?_) (fun q1 tl1 sq1 a1 a2 a3 a4 a5 => ?_)
    · rw [h3] at e; exact absurd e (by simp)
    · rw [h3] at a1
      obtain ⟨rfl, rfl⟩ := List.cons.inj a1
      refine ih q2 n (c + 1) sq1 (by simp at hn; omega) a2 a3 a5 ?_
      rw [show c + 1 + (q2 :: tl).length = c + 1 + 1 + tl.length by simp; omega] at K
      exact K
theorem yw_moves {post : Int32 → SY → Prop} (hB : ∀ i, i < 32 → B i ≤ 4) (hb : ab_YB a_board B) (hmv : f_mover = nI m) (hm : m ≤ 1)
    (K : ∀ (sz1 jm1 : Int32) (sq1 : Nat → Int32), post (nI (ab_ML B m).length) (f_mover, f_remembered, sz1, jm1, a_board, a_olds, a_oldSides, sq1, a_asideBoards, a_asidePaths, a_asideSizes, a_asideJumps)) : wpY_moves post (f_mover, f_remembered, f_size, f_jumps, a_board, a_olds, a_oldSides, a_squares, a_asideBoards, a_asidePaths, a_asideSizes, a_asideJumps) := by
  unfold wpY_moves
  refine yw_first hB hb hmv hm (fun e sz1 jm1 sq1 => ?_) (fun q tl sq1 a1 a2 a3 a4 a5 => ?_)
  · rw [e] at K
    exact ⟨1, br_t rfl (K _ _ _)⟩
  · rw [a1] at K
    refine ⟨tl.length + 2, ?_⟩
    refine yw_moves7 hB hb hmv hm tl q (tl.length + 2) 0 sq1 (by omega) a2 a3 a5 ?_
    rw [show 0 + 1 + tl.length = (q :: tl).length by simp; omega]
    exact K
theorem yw_most7 {post : Int32 → SY → Prop} (hB : ∀ i, i < 32 → B i ≤ 4) (hb : ab_YB a_board B) (hmv : f_mover = nI m) (hm : m ≤ 1) :
    ∀ (tl : List (List Nat)) (q : List Nat) (n : Nat) (done : List (List Nat)) (sq : Nat → Int32), ab_mx (ab_jm B m) done ≤ 32 → tl.length + 1 < n → ab_rest B m (ab_jm B m) q = tl → ab_VP B m (ab_jm B m) q → ab_At sq q →
      (∀ (sz1 jm1 : Int32) (sq1 : Nat → Int32), post (nI (ab_mx (ab_jm B m) (done ++ q :: tl))) (f_mover, f_remembered, sz1, jm1, a_board, a_olds, a_oldSides, sq1, a_asideBoards, a_asidePaths, a_asideSizes, a_asideJumps)) → wY_mostTaken_7 post n (nI (ab_mx (ab_jm B m) done)) 1 f_mover f_remembered (nI q.length) (ab_b (ab_jm B m)) a_board a_olds a_oldSides sq a_asideBoards a_asidePaths a_asideSizes a_asideJumps := by
  have step : ∀ (n : Nat) (q : List Nat) (done : List (List Nat)) (sq : Nat → Int32), ab_mx (ab_jm B m) done ≤ 32 → ab_VP B m (ab_jm B m) q →
      wY_mostTaken_38 post (wY_mostTaken_7 post n) (nI (ab_mx (ab_jm B m) (done ++ [q]))) f_mover f_remembered (nI q.length) (ab_b (ab_jm B m)) a_board a_olds a_oldSides sq a_asideBoards a_asidePaths a_asideSizes a_asideJumps → wY_mostTaken_7 post (n + 1) (nI (ab_mx (ab_jm B m) done)) 1 f_mover f_remembered (nI q.length) (ab_b (ab_jm B m)) a_board a_olds a_oldSides sq a_asideBoards a_asidePaths a_asideSizes a_asideJumps := by
    intro n q done sq hmx hV h
    have hpos := ab_VP_pos hV
    have hlen := ab_VP_len hV
    rw [ab_mx_app] at h
    refine br_f (by decide) ?_
    cases hjm : ab_jm B m with
    | false =>
      rw [hjm] at h hmx
      rw [show max (ab_mx false done) (ab_tk false q).length = ab_mx false done from Nat.max_eq_left (Nat.zero_le _)] at h
      exact br_t rfl h
    | true =>
      rw [hjm] at h hmx hV
      have hl := (hV.2.2.2.2.1 rfl).2.2.2
      have hl2 : (ab_tk true q).length = q.length - 1 := by
        show (ab_jl q).length = _
        omega
      rw [hl2] at h
      have hsub : nI q.length - 1 = nI (q.length - 1) := pk_sub (b := 1) hpos
      refine br_f (by decide) ?_
      rw [hsub]
      refine pk_le (q.length - 1) (ab_mx true done) (fun z => ?_) (fun z => ?_)
      · rw [Nat.max_eq_left z] at h; exact h
      · rw [Nat.max_eq_right (Nat.le_of_lt z)] at h; exact h
  intro tl
  induction tl with
  | nil =>
    intro q n done sq hmx hn h3 h4 h6 K
    obtain ⟨n, rfl⟩ : ∃ n', n = n' + 2 := ⟨n - 2, by simp at hn; omega⟩
    refine step (n + 1) q done sq hmx h4 ?_
    refine yw_next (p := q) hB hb rfl hmv hm rfl h4 h6 (fun e sz1 sq1 => ?_) (fun q1 tl1 sq1 a1 a2 a3 a4 a5 => ?_)
    · exact br_t rfl (K _ _ _)
    · rw [h3] at a1; exact absurd a1 (by simp)
  | cons q2 tl ih =>
    intro q n done sq hmx hn h3 h4 h6 K
    obtain ⟨n, rfl⟩ : ∃ n', n = n' + 1 := ⟨n - 1, by omega⟩
    refine step n q done sq hmx h4 ?_
    refine yw_next (p := q) hB hb rfl hmv hm rfl h4 h6 (fun e sz1 sq1 => ?_) (fun q1 tl1 sq1 a1 a2 a3 a4 a5 => ?_)
    · rw [h3] at e; exact absurd e (by simp)
    · rw [h3] at a1
      obtain ⟨rfl, rfl⟩ := List.cons.inj a1
      refine ih q2 n (done ++ [q]) sq1 (by have := ab_tk_len h4; rw [ab_mx_app]; omega) (by simp at hn; omega) a2 a3 a5 ?_
      rw [show done ++ q :: q2 :: tl = done ++ [q] ++ q2 :: tl by simp] at K
      exact K
theorem yw_mostTaken {post : Int32 → SY → Prop} (hB : ∀ i, i < 32 → B i ≤ 4) (hb : ab_YB a_board B) (hmv : f_mover = nI m) (hm : m ≤ 1)
    (K : ∀ (sz1 jm1 : Int32) (sq1 : Nat → Int32), post (nI (ab_mx (ab_jm B m) (ab_ML B m))) (f_mover, f_remembered, sz1, jm1, a_board, a_olds, a_oldSides, sq1, a_asideBoards, a_asidePaths, a_asideSizes, a_asideJumps)) : wpY_mostTaken post (f_mover, f_remembered, f_size, f_jumps, a_board, a_olds, a_oldSides, a_squares, a_asideBoards, a_asidePaths, a_asideSizes, a_asideJumps) := by
  unfold wpY_mostTaken
  refine yw_first hB hb hmv hm (fun e sz1 jm1 sq1 => ?_) (fun q tl sq1 a1 a2 a3 a4 a5 => ?_)
  · rw [e] at K
    exact ⟨1, br_t rfl (K _ _ _)⟩
  · rw [a1] at K
    refine ⟨tl.length + 2, ?_⟩
    exact yw_most7 hB hb hmv hm tl q (tl.length + 2) [] sq1 (Nat.zero_le _) (by omega) a2 a3 a5 K
theorem yw_mov7 {post : Int32 → SY → Prop} (hB : ∀ i, i < 32 → B i ≤ 4) (hb : ab_YB a_board B) (hmv : f_mover = nI m) (hm : m ≤ 1) :
    ∀ (tl : List (List Nat)) (q : List Nat) (n : Nat) (done : List (List Nat)) (x : Int32) (sq : Nat → Int32), (∀ i, i < 32 → bt x i = ab_any done i) → tl.length + 1 < n → ab_rest B m (ab_jm B m) q = tl → ab_VP B m (ab_jm B m) q → ab_At sq q →
      (∀ (y sz1 jm1 : Int32) (sq1 : Nat → Int32), (∀ i, i < 32 → bt y i = ab_any (done ++ q :: tl) i) → post y (f_mover, f_remembered, sz1, jm1, a_board, a_olds, a_oldSides, sq1, a_asideBoards, a_asidePaths, a_asideSizes, a_asideJumps)) → wY_movable_7 post n x 1 f_mover f_remembered (nI q.length) (ab_b (ab_jm B m)) a_board a_olds a_oldSides sq a_asideBoards a_asidePaths a_asideSizes a_asideJumps := by
  have step : ∀ (q : List Nat) (done : List (List Nat)) (x : Int32), (∀ i, i < 32 → bt x i = ab_any done i) → ab_VP B m (ab_jm B m) q → (∀ i, i < 32 → bt (x ||| ((1 : Int32) <<< (nI (ab_hd q) &&& 31))) i = ab_any (done ++ [q]) i) := by
    intro q done x hx hV i hi
    rw [b_or, hx i hi, xb_sh _ (ab_VP_hd hV) i hi, ab_any_app]
    congr 1
    exact decide_eq_decide.mpr ⟨fun e => e.symm, fun e => e.symm⟩
  intro tl
  induction tl with
  | nil =>
    intro q n done x sq hx hn h3 h4 h6 K
    obtain ⟨n, rfl⟩ : ∃ n', n = n' + 2 := ⟨n - 2, by simp at hn; omega⟩
    refine br_f (by decide) (nm_r (e' := x ||| ((1 : Int32) <<< (nI (ab_hd q) &&& 31))) (by rw [ab_At_h h4 h6]) ?_)
    refine yw_next (p := q) hB hb rfl hmv hm rfl h4 h6 (fun e sz1 sq1 => ?_) (fun q1 tl1 sq1 a1 a2 a3 a4 a5 => ?_)
    · exact br_t rfl (K _ _ _ _ (step q done x hx h4))
    · rw [h3] at a1; exact absurd a1 (by simp)
  | cons q2 tl ih =>
    intro q n done x sq hx hn h3 h4 h6 K
    obtain ⟨n, rfl⟩ : ∃ n', n = n' + 1 := ⟨n - 1, by omega⟩
    refine br_f (by decide) (nm_r (e' := x ||| ((1 : Int32) <<< (nI (ab_hd q) &&& 31))) (by rw [ab_At_h h4 h6]) ?_)
    refine yw_next (p := q) hB hb rfl hmv hm rfl h4 h6 (fun e sz1 sq1 => ?_) (fun q1 tl1 sq1 a1 a2 a3 a4 a5 => ?_)
    · rw [h3] at e; exact absurd e (by simp)
    · rw [h3] at a1
      obtain ⟨rfl, rfl⟩ := List.cons.inj a1
      refine ih q2 n (done ++ [q]) _ sq1 (step q done x hx h4) (by simp at hn; omega) a2 a3 a5 ?_
      rw [show done ++ q :: q2 :: tl = done ++ [q] ++ q2 :: tl by simp] at K
      exact K
theorem yw_movable {post : Int32 → SY → Prop} (hB : ∀ i, i < 32 → B i ≤ 4) (hb : ab_YB a_board B) (hmv : f_mover = nI m) (hm : m ≤ 1)
    (K : ∀ (y sz1 jm1 : Int32) (sq1 : Nat → Int32), (∀ i, i < 32 → bt y i = ab_any (ab_ML B m) i) → post y (f_mover, f_remembered, sz1, jm1, a_board, a_olds, a_oldSides, sq1, a_asideBoards, a_asidePaths, a_asideSizes, a_asideJumps)) : wpY_movable post (f_mover, f_remembered, f_size, f_jumps, a_board, a_olds, a_oldSides, a_squares, a_asideBoards, a_asidePaths, a_asideSizes, a_asideJumps) := by
  unfold wpY_movable
  refine yw_first hB hb hmv hm (fun e sz1 jm1 sq1 => ?_) (fun q tl sq1 a1 a2 a3 a4 a5 => ?_)
  · rw [e] at K
    exact ⟨1, br_t rfl (K _ _ _ _ (fun i _ => b_0 i))⟩
  · rw [a1] at K
    refine ⟨tl.length + 2, ?_⟩
    exact yw_mov7 hB hb hmv hm tl q (tl.length + 2) [] 0 sq1 (fun i _ => b_0 i) (by omega) a2 a3 a5 K
theorem yw_paQ {post : SY → Prop} {l : Nat} {jm : Bool} {q : List Nat} (hl : l < 2) (hb : ab_YB a_board B) (hz : f_size = nI q.length) (hj : f_jumps = ab_b jm) (hq : q.length ≤ 40) (hsq : ab_At a_squares q)
    (h : ∀ xb xp xs xj : Nat → Int32, ab_AS B jm q l xb xp xs xj → (l = 1 → ab_P0 a_asideBoards a_asidePaths a_asideSizes a_asideJumps xb xp xs xj) → post (f_mover, f_remembered, f_size, f_jumps, a_board, a_olds, a_oldSides, a_squares, xb, xp, xs, xj)) : wpY_putAside post (f_mover, f_remembered, f_size, f_jumps, a_board, a_olds, a_oldSides, a_squares, a_asideBoards, a_asidePaths, a_asideSizes, a_asideJumps) (nI l) := by
  refine yw_putAside hl hz hq (h _ _ _ _ ⟨?_, ?_, ?_, ?_⟩ ?_)
  · intro i hi; rw [ab_cpy_in hi]; exact hb i hi
  · intro i hi; rw [ab_cpy_in hi]; exact hsq i hi
  · rw [pk_us, hz]
  · rw [pk_us, hj]; cases jm <;> rfl
  · intro e
    subst e
    exact ⟨fun c hc => ab_cpy_out (by omega), fun c hc => ab_cpy_out (by omega), pk_un (by decide), pk_un (by decide)⟩
theorem yw_pbQ {post : SY → Prop} {l m1 : Nat} {jm : Bool} {q : List Nat} (hl : l < 2) (hm1 : m1 ≤ 1) (hmv : f_mover = nI m1) (hq : q.length ≤ 40) (hA : ab_AS B jm q l a_asideBoards a_asidePaths a_asideSizes a_asideJumps)
    (h : ∀ bd sq : Nat → Int32, ab_YB bd B → ab_At sq q → post (nI (1 - m1), f_remembered, nI q.length, ab_b jm, bd, a_olds, a_oldSides, sq, a_asideBoards, a_asidePaths, a_asideSizes, a_asideJumps)) : wpY_putBack post (f_mover, f_remembered, f_size, f_jumps, a_board, a_olds, a_oldSides, a_squares, a_asideBoards, a_asidePaths, a_asideSizes, a_asideJumps) (nI l) := by
  obtain ⟨a1, a2, a3, a4⟩ := hA
  refine yw_putBack hl a3 hq a4 ?_
  rw [show 1 - f_mover = nI (1 - m1) by rw [hmv]; exact pk_sub (a := 1) hm1]
  refine h _ _ ?_ ?_
  · intro i hi; rw [ab_fet_in hi]; exact a1 i hi
  · intro i hi; rw [ab_fet_in hi]; exact a2 i hi
end
end
section
/-! ===== Y: twice, plays ===== -/
def ab_SM (e : Nat) (B : Nat → Nat) (m : Nat) (l : List (List Nat)) : Nat := (l.map (fun p => ab_PL e (ab_aft B (ab_jm B m) p) (1 - m))).sum
theorem ab_SM_cons {e : Nat} {B : Nat → Nat} {m : Nat} {q : List Nat} {l : List (List Nat)} : ab_SM e B m (q :: l) = ab_PL e (ab_aft B (ab_jm B m) q) (1 - m) + ab_SM e B m l := rfl
theorem ab_PL_s {e : Nat} {B : Nat → Nat} {m : Nat} : ab_PL (e + 1) B m = ab_SM e B m (ab_ML B m) := rfl
section
variable {f_mover f_remembered f_size f_jumps : Int32} {a_board a_olds a_oldSides a_squares a_asideBoards a_asidePaths a_asideSizes a_asideJumps : Nat → Int32} {B : Nat → Nat} {m : Nat}
theorem yw_twice7 {post : Int32 → SY → Prop} (hB : ∀ i, i < 32 → B i ≤ 4) (hm : m ≤ 1) :
    ∀ (tl : List (List Nat)) (q : List Nat) (n S : Nat) (bd sq xb xp xs xj : Nat → Int32), tl.length + 1 < n → ab_rest B m (ab_jm B m) q = tl → ab_VP B m (ab_jm B m) q → ab_At sq q → ab_YB bd B → ab_P0 a_asideBoards a_asidePaths a_asideSizes a_asideJumps xb xp xs xj →
      (∀ (sz1 jm1 : Int32) (bd1 sq1 yb yp ys yj : Nat → Int32), ab_YB bd1 B → ab_P0 a_asideBoards a_asidePaths a_asideSizes a_asideJumps yb yp ys yj → post (nI (S + ab_SM 0 B m (q :: tl))) (nI m, f_remembered, sz1, jm1, bd1, a_olds, a_oldSides, sq1, yb, yp, ys, yj)) →
      wY_twice_7 post n (nI S) 1 (nI m) f_remembered (nI q.length) (ab_b (ab_jm B m)) bd a_olds a_oldSides sq xb xp xs xj := by
  intro tl
  induction tl with
  | nil =>
    intro q n S bd sq xb xp xs xj hn h3 h4 h6 hb hP0 K
    obtain ⟨n, rfl⟩ : ∃ n', n = n' + 2 := ⟨n - 2, by simp at hn; omega⟩
    have hlen := ab_VP_len h4
    refine br_f (by decide) ?_
    refine yw_paQ (l := 1) (jm := ab_jm B m) (q := q) (by omega) hb rfl rfl (by omega) h6 ?_
    intro xb1 xp1 xs1 xj1 hA hP1
    have hP2 := ab_P0_t hP0 (hP1 rfl)
    refine yw_carryOut hB hb h4 rfl rfl rfl h6 ?_
    intro bd1 hY1
    refine yw_moves (m := 1 - m) (ab_aft_le hB h4) hY1 rfl (by omega) ?_
    intro sz1 jm1 sq1
    refine nm_r (nI_add S _) ?_
    refine yw_pbQ (l := 1) (m1 := 1 - m) (by omega) (by omega) rfl (by omega) hA ?_
    intro bd2 sq2 hY2 hsq2
    rw [show 1 - (1 - m) = m by omega]
    refine yw_next (p := q) hB hY2 rfl rfl hm rfl h4 hsq2 (fun e sz1 sq1 => ?_) (fun q1 tl1 sq1 a1 a2 a3 a4 a5 => ?_)
    · exact br_t rfl (K _ _ _ _ _ _ _ _ hY2 hP2)
    · rw [h3] at a1; exact absurd a1 (by simp)
  | cons q2 tl ih =>
    intro q n S bd sq xb xp xs xj hn h3 h4 h6 hb hP0 K
    obtain ⟨n, rfl⟩ : ∃ n', n = n' + 1 := ⟨n - 1, by omega⟩
    have hlen := ab_VP_len h4
    refine br_f (by decide) ?_
    refine yw_paQ (l := 1) (jm := ab_jm B m) (q := q) (by omega) hb rfl rfl (by omega) h6 ?_
    intro xb1 xp1 xs1 xj1 hA hP1
    have hP2 := ab_P0_t hP0 (hP1 rfl)
    refine yw_carryOut hB hb h4 rfl rfl rfl h6 ?_
    intro bd1 hY1
    refine yw_moves (m := 1 - m) (ab_aft_le hB h4) hY1 rfl (by omega) ?_
    intro sz1 jm1 sq1
    refine nm_r (nI_add S _) ?_
    refine yw_pbQ (l := 1) (m1 := 1 - m) (by omega) (by omega) rfl (by omega) hA ?_
    intro bd2 sq2 hY2 hsq2
    rw [show 1 - (1 - m) = m by omega]
    refine yw_next (p := q) hB hY2 rfl rfl hm rfl h4 hsq2 (fun e sz1 sq1 => ?_) (fun q1 tl1 sq1 a1 a2 a3 a4 a5 => ?_)
    · rw [h3] at e; exact absurd e (by simp)
    · rw [h3] at a1
      obtain ⟨rfl, rfl⟩ := List.cons.inj a1
      refine ih q2 n _ bd2 sq1 _ _ _ _ (by simp at hn; omega) a2 a3 a5 hY2 hP2 ?_
      intro sz1 jm1 bd1 sq1 yb yp ys yj k1 k2
      have := K sz1 jm1 bd1 sq1 yb yp ys yj k1 k2
      rw [ab_SM_cons, ← Nat.add_assoc] at this
      exact this
theorem yw_twice {post : Int32 → SY → Prop} (hB : ∀ i, i < 32 → B i ≤ 4) (hb : ab_YB a_board B) (hmv : f_mover = nI m) (hm : m ≤ 1)
    (K : ∀ (sz1 jm1 : Int32) (bd1 sq1 yb yp ys yj : Nat → Int32), ab_YB bd1 B → ab_P0 a_asideBoards a_asidePaths a_asideSizes a_asideJumps yb yp ys yj → post (nI (ab_PL 1 B m)) (nI m, f_remembered, sz1, jm1, bd1, a_olds, a_oldSides, sq1, yb, yp, ys, yj)) : wpY_twice post (f_mover, f_remembered, f_size, f_jumps, a_board, a_olds, a_oldSides, a_squares, a_asideBoards, a_asidePaths, a_asideSizes, a_asideJumps) := by
  rw [ab_PL_s] at K
  unfold wpY_twice
  refine yw_first hB hb hmv hm (fun e sz1 jm1 sq1 => ?_) (fun q tl sq1 a1 a2 a3 a4 a5 => ?_)
  · rw [e] at K
    rw [hmv]
    exact ⟨1, br_t rfl (K _ _ _ _ _ _ _ _ hb ab_P0_r)⟩
  · rw [a1] at K
    rw [hmv]
    refine ⟨tl.length + 2, ?_⟩
    refine yw_twice7 hB hm tl q (tl.length + 2) 0 _ _ _ _ _ _ (by omega) a2 a3 a5 hb ab_P0_r ?_
    rw [Nat.zero_add]
    exact K
theorem yw_inner {post : Int32 → SY → Prop} {J : Int32 → Int32 → Int32 → Int32 → Int32 → Int32 → (Nat → Int32) → (Nat → Int32) → (Nat → Int32) → (Nat → Int32) → (Nat → Int32) → (Nat → Int32) → (Nat → Int32) → (Nat → Int32) → Prop} {d S : Nat} {q : List Nat} (hB : ∀ i, i < 32 → B i ≤ 4) (hm : m ≤ 1) (hd : d = 2 ∨ d = 3) (hV : ab_VP B m (ab_jm B m) q) {B1 : Nat → Nat} (hB1 : ∀ i, i < 32 → B1 i ≤ 4) {bd : Nat → Int32} (hb : ab_YB bd B1) (hA : ab_AS B (ab_jm B m) q 0 a_asideBoards a_asidePaths a_asideSizes a_asideJumps)
    (K0 : ab_rest B m (ab_jm B m) q = [] → ∀ (sz1 jm1 : Int32) (bd1 sq1 yb yp ys yj : Nat → Int32), ab_YB bd1 B → J (nI (S + ab_PL (d - 2) B1 (1 - m))) 0 (nI m) f_remembered sz1 jm1 bd1 a_olds a_oldSides sq1 yb yp ys yj)
    (K1 : ∀ (q1 : List Nat) (tl : List (List Nat)) (bd1 sq1 yb yp ys yj : Nat → Int32), ab_rest B m (ab_jm B m) q = q1 :: tl → ab_rest B m (ab_jm B m) q1 = tl → ab_VP B m (ab_jm B m) q1 → ab_At sq1 q1 → ab_YB bd1 B → J (nI (S + ab_PL (d - 2) B1 (1 - m))) 1 (nI m) f_remembered (nI q1.length) (ab_b (ab_jm B m)) bd1 a_olds a_oldSides sq1 yb yp ys yj) :
    ((nI d = 2 → (wpY_moves (fun r_85 u => match u with | (f_mover_86, f_remembered_86, f_size_86, f_jumps_86, a_board_86, a_olds_86, a_oldSides_86, a_squares_86, a_asideBoards_86, a_asidePaths_86, a_asideSizes_86, a_asideJumps_86) => (wY_plays_67 post J (nI d) r_85 (nI S) f_mover_86 f_remembered_86 f_size_86 f_jumps_86 a_board_86 a_olds_86 a_oldSides_86 a_squares_86 a_asideBoards_86 a_asidePaths_86 a_asideSizes_86 a_asideJumps_86)) (nI (1 - m), f_remembered, f_size, f_jumps, bd, a_olds, a_oldSides, a_squares, a_asideBoards, a_asidePaths, a_asideSizes, a_asideJumps))) ∧ (¬ nI d = 2 → (wpY_twice (fun r_45 u => match u with | (f_mover_46, f_remembered_46, f_size_46, f_jumps_46, a_board_46, a_olds_46, a_oldSides_46, a_squares_46, a_asideBoards_46, a_asidePaths_46, a_asideSizes_46, a_asideJumps_46) => (wY_plays_67 post J (nI d) r_45 (nI S) f_mover_46 f_remembered_46 f_size_46 f_jumps_46 a_board_46 a_olds_46 a_oldSides_46 a_squares_46 a_asideBoards_46 a_asidePaths_46 a_asideSizes_46 a_asideJumps_46)) (nI (1 - m), f_remembered, f_size, f_jumps, bd, a_olds, a_oldSides, a_squares, a_asideBoards, a_asidePaths, a_asideSizes, a_asideJumps)))) := by
  have hlen := ab_VP_len hV
  refine pk_eq d 2 (fun z => ?_) (fun z => ?_)
  · subst z
    refine yw_moves (m := 1 - m) hB1 hb rfl (by omega) ?_
    intro sz1 jm1 sq1
    refine nm_r (nI_add S _) ?_
    refine yw_pbQ (l := 0) (m1 := 1 - m) (by omega) (by omega) rfl (by omega) hA ?_
    intro bd2 sq2 hY2 hsq2
    rw [show 1 - (1 - m) = m by omega]
    refine yw_next (p := q) hB hY2 rfl rfl hm rfl hV hsq2 (fun e sz1 sq1 => ?_) (fun q1 tl1 sq1 a1 a2 a3 a4 a5 => ?_)
    · exact K0 e _ _ _ _ _ _ _ _ hY2
    · exact K1 q1 tl1 _ _ _ _ _ _ a1 a2 a3 a5 hY2
  · have z3 : d = 3 := by omega
    subst z3
    refine yw_twice (m := 1 - m) hB1 hb rfl (by omega) ?_
    intro sz1 jm1 bd1 sq1 yb yp ys yj k1 k2
    refine nm_r (nI_add S _) ?_
    refine yw_pbQ (l := 0) (m1 := 1 - m) (by omega) (by omega) rfl (by omega) (ab_AS_P0 (by omega) hA k2) ?_
    intro bd2 sq2 hY2 hsq2
    rw [show 1 - (1 - m) = m by omega]
    refine yw_next (p := q) hB hY2 rfl rfl hm rfl hV hsq2 (fun e sz1 sq1 => ?_) (fun q1 tl1 sq1 a1 a2 a3 a4 a5 => ?_)
    · exact K0 e _ _ _ _ _ _ _ _ hY2
    · exact K1 q1 tl1 _ _ _ _ _ _ a1 a2 a3 a5 hY2
theorem yw_plays36 {post : Int32 → SY → Prop} {d : Nat} (hd : d = 2 ∨ d = 3) (hB : ∀ i, i < 32 → B i ≤ 4) (hm : m ≤ 1) :
    ∀ (tl : List (List Nat)) (q : List Nat) (n S : Nat) (bd sq xb xp xs xj : Nat → Int32), tl.length + 1 < n → ab_rest B m (ab_jm B m) q = tl → ab_VP B m (ab_jm B m) q → ab_At sq q → ab_YB bd B →
      (∀ (sz1 jm1 : Int32) (bd1 sq1 yb yp ys yj : Nat → Int32), ab_YB bd1 B → post (nI (S + ab_SM (d - 2) B m (q :: tl))) (nI m, f_remembered, sz1, jm1, bd1, a_olds, a_oldSides, sq1, yb, yp, ys, yj)) →
      wY_plays_36 post (nI d) n (nI S) 1 (nI m) f_remembered (nI q.length) (ab_b (ab_jm B m)) bd a_olds a_oldSides sq xb xp xs xj := by
  intro tl
  induction tl with
  | nil =>
    intro q n S bd sq xb xp xs xj hn h3 h4 h6 hb K
    obtain ⟨n, rfl⟩ : ∃ n', n = n' + 2 := ⟨n - 2, by simp at hn; omega⟩
    have hlen := ab_VP_len h4
    refine br_f (by decide) ?_
    refine yw_paQ (l := 0) (jm := ab_jm B m) (q := q) (by omega) hb rfl rfl (by omega) h6 ?_
    intro xb1 xp1 xs1 xj1 hA _
    refine yw_carryOut hB hb h4 rfl rfl rfl h6 ?_
    intro bd1 hY1
    refine yw_inner hB hm hd h4 (ab_aft_le hB h4) hY1 hA ?_ ?_
    · intro e sz1 jm1 bd1 sq1 yb yp ys yj k1
      exact br_t rfl (K _ _ _ _ _ _ _ _ k1)
    · intro q1 tl1 bd1 sq1 yb yp ys yj a1
      rw [h3] at a1; exact absurd a1 (by simp)
  | cons q2 tl ih =>
    intro q n S bd sq xb xp xs xj hn h3 h4 h6 hb K
    obtain ⟨n, rfl⟩ : ∃ n', n = n' + 1 := ⟨n - 1, by omega⟩
    have hlen := ab_VP_len h4
    refine br_f (by decide) ?_
    refine yw_paQ (l := 0) (jm := ab_jm B m) (q := q) (by omega) hb rfl rfl (by omega) h6 ?_
    intro xb1 xp1 xs1 xj1 hA _
    refine yw_carryOut hB hb h4 rfl rfl rfl h6 ?_
    intro bd1 hY1
    refine yw_inner hB hm hd h4 (ab_aft_le hB h4) hY1 hA ?_ ?_
    · intro e
      rw [h3] at e; exact absurd e (by simp)
    · intro q1 tl1 bd1 sq1 yb yp ys yj a1 a2 a3 a5 k1
      rw [h3] at a1
      obtain ⟨rfl, rfl⟩ := List.cons.inj a1
      refine ih q2 n _ bd1 sq1 _ _ _ _ (by simp at hn; omega) a2 a3 a5 k1 ?_
      intro sz1 jm1 bd1 sq1 yb yp ys yj k1
      have := K sz1 jm1 bd1 sq1 yb yp ys yj k1
      rw [ab_SM_cons, ← Nat.add_assoc] at this
      exact this
theorem yw_plays {post : Int32 → SY → Prop} {d : Nat} (hd1 : 1 ≤ d) (hd3 : d ≤ 3) (hB : ∀ i, i < 32 → B i ≤ 4) (hb : ab_YB a_board B) (hmv : f_mover = nI m) (hm : m ≤ 1)
    (K : ∀ (sz1 jm1 : Int32) (bd1 sq1 yb yp ys yj : Nat → Int32), ab_YB bd1 B → post (nI (ab_PL (d - 1) B m)) (nI m, f_remembered, sz1, jm1, bd1, a_olds, a_oldSides, sq1, yb, yp, ys, yj)) : wpY_plays post (f_mover, f_remembered, f_size, f_jumps, a_board, a_olds, a_oldSides, a_squares, a_asideBoards, a_asidePaths, a_asideSizes, a_asideJumps) (nI d) := by
  refine br_f (nI_pos (by omega)) ?_
  refine pk_le d 3 (fun _ => ?_) (fun z => absurd z (by omega))
  refine pk_le 2 d (fun z => ?_) (fun z => ?_)
  · have hd : d = 2 ∨ d = 3 := by omega
    rw [show d - 1 = (d - 2) + 1 by omega, ab_PL_s] at K
    refine yw_first hB hb hmv hm (fun e sz1 jm1 sq1 => ?_) (fun q tl sq1 a1 a2 a3 a4 a5 => ?_)
    · rw [e] at K
      rw [hmv]
      exact ⟨1, br_t rfl (K _ _ _ _ _ _ _ _ hb)⟩
    · rw [a1] at K
      rw [hmv]
      refine ⟨tl.length + 2, ?_⟩
      refine yw_plays36 hd hB hm tl q (tl.length + 2) 0 _ _ _ _ _ _ (by omega) a2 a3 a5 hb ?_
      rw [Nat.zero_add]
      exact K
  · have e1 : d = 1 := by omega
    subst e1
    refine br_f (by decide) ?_
    refine yw_moves hB hb hmv hm ?_
    intro sz1 jm1 sq1
    rw [hmv]
    exact K _ _ _ _ _ _ _ _ hb
end
end
section
/-! ===== X: moves, mostTaken, movable, plays ===== -/
theorem ab_W_m1 : ab_W (-1) 2000 := by
  intro i hi
  constructor
  · intro e
    have h0 := nI_pos (n := i) (by omega)
    rw [e] at h0
    exact absurd (by decide) h0
  · intro e; omega
theorem ab_W_n {j : Nat} (hj : j < 2 ^ 31) : ab_W (nI j) j := fun i hi => nI_eq (by omega) hj
section
variable {f_first f_second f_kings f_toMove f_pastTop f_pastSize f_squareCount f_taken f_wanted f_seen f_most f_beginnings : Int32} {a_past a_squares a_direction a_ledOn a_saved a_nextMove : Nat → Int32} {B : Nat → Nat} {m : Nat}
theorem xw_seekm {post : Int32 → SX → Prop} (hP : ab_XP f_first f_second f_kings f_toMove B m)
    (h : ∀ (sc1 tk1 se1 mo1 be1 : Int32) (sq1 di1 le1 : Nat → Int32), ab_Acc (ab_jm B m) (ab_ML B m) se1 mo1 be1 → post 0 (f_first, f_second, f_kings, f_toMove, f_pastTop, f_pastSize, sc1, tk1, -1, se1, mo1, be1, a_past, sq1, di1, le1, a_saved, a_nextMove)) : wpX_seek post (f_first, f_second, f_kings, f_toMove, f_pastTop, f_pastSize, f_squareCount, f_taken, f_wanted, f_seen, f_most, f_beginnings, a_past, a_squares, a_direction, a_ledOn, a_saved, a_nextMove) (-1) := by
  have hl := ab_ML_len (B := B) hP.2.2.1
  refine xw_seek (w := 2000) hP ab_W_m1 ?_ ?_
  · intro q done rest sc1 tk1 se1 mo1 be1 sq1 di1 le1 a1 a2
    have := congrArg List.length a1
    rw [List.length_append] at this
    omega
  · intro sc1 tk1 se1 mo1 be1 sq1 di1 le1 _ a2
    exact h _ _ _ _ _ _ _ _ a2
theorem xw_moves {post : Int32 → SX → Prop} (hP : ab_XP f_first f_second f_kings f_toMove B m)
    (h : ∀ (sc1 tk1 se1 mo1 be1 : Int32) (sq1 di1 le1 : Nat → Int32), post (nI (ab_ML B m).length) (f_first, f_second, f_kings, f_toMove, f_pastTop, f_pastSize, sc1, tk1, -1, se1, mo1, be1, a_past, sq1, di1, le1, a_saved, a_nextMove)) : wpX_moves post (f_first, f_second, f_kings, f_toMove, f_pastTop, f_pastSize, f_squareCount, f_taken, f_wanted, f_seen, f_most, f_beginnings, a_past, a_squares, a_direction, a_ledOn, a_saved, a_nextMove) := by
  unfold wpX_moves
  refine xw_seekm hP ?_
  intro sc1 tk1 se1 mo1 be1 sq1 di1 le1 hA
  have h1 := h sc1 tk1 se1 mo1 be1 sq1 di1 le1
  rw [← hA.1] at h1
  exact h1
theorem xw_mostTaken {post : Int32 → SX → Prop} (hP : ab_XP f_first f_second f_kings f_toMove B m)
    (h : ∀ (sc1 tk1 se1 mo1 be1 : Int32) (sq1 di1 le1 : Nat → Int32), post (nI (ab_mx (ab_jm B m) (ab_ML B m))) (f_first, f_second, f_kings, f_toMove, f_pastTop, f_pastSize, sc1, tk1, -1, se1, mo1, be1, a_past, sq1, di1, le1, a_saved, a_nextMove)) : wpX_mostTaken post (f_first, f_second, f_kings, f_toMove, f_pastTop, f_pastSize, f_squareCount, f_taken, f_wanted, f_seen, f_most, f_beginnings, a_past, a_squares, a_direction, a_ledOn, a_saved, a_nextMove) := by
  unfold wpX_mostTaken
  refine xw_seekm hP ?_
  intro sc1 tk1 se1 mo1 be1 sq1 di1 le1 hA
  have h1 := h sc1 tk1 se1 mo1 be1 sq1 di1 le1
  rw [← hA.2.1] at h1
  exact h1
theorem xw_movable {post : Int32 → SX → Prop} (hP : ab_XP f_first f_second f_kings f_toMove B m)
    (h : ∀ (sc1 tk1 se1 mo1 be1 : Int32) (sq1 di1 le1 : Nat → Int32), (∀ i, i < 32 → bt be1 i = ab_any (ab_ML B m) i) → post be1 (f_first, f_second, f_kings, f_toMove, f_pastTop, f_pastSize, sc1, tk1, -1, se1, mo1, be1, a_past, sq1, di1, le1, a_saved, a_nextMove)) : wpX_movable post (f_first, f_second, f_kings, f_toMove, f_pastTop, f_pastSize, f_squareCount, f_taken, f_wanted, f_seen, f_most, f_beginnings, a_past, a_squares, a_direction, a_ledOn, a_saved, a_nextMove) := by
  unfold wpX_movable
  refine xw_seekm hP ?_
  intro sc1 tk1 se1 mo1 be1 sq1 di1 le1 hA
  exact h sc1 tk1 se1 mo1 be1 sq1 di1 le1 hA.2.2.2
end
def ab_XC : Nat → Nat
  | 0 => 1
  | e + 1 => 424 * (1 + ab_XC e) + 1
def ab_SV (sv : Nat → Int32) (d : Nat) (B : Nat → Nat) (m : Nat) : Prop := ab_XP (sv (d * 4)) (sv (d * 4 + 1)) (sv (d * 4 + 2)) (sv (d * 4 + 3)) B m
theorem ab_SV_four {sv : Nat → Int32} {d : Nat} {B : Nat → Nat} {m : Nat} {f s k t : Int32} (h : ab_XP f s k t B m) : ab_SV (ab_four sv (d * 4) f s k t) d B m := by
  unfold ab_SV ab_four
  rw [pk_us, pk_un (show d * 4 + 2 ≠ d * 4 + 3 by omega), pk_us, pk_un (show d * 4 + 1 ≠ d * 4 + 3 by omega), pk_un (show d * 4 + 1 ≠ d * 4 + 2 by omega), pk_us, pk_un (show d * 4 ≠ d * 4 + 3 by omega), pk_un (show d * 4 ≠ d * 4 + 2 by omega), pk_un (show d * 4 ≠ d * 4 + 1 by omega), pk_us]
  exact h
theorem ab_four_out {sv : Nat → Int32} {e c : Nat} {f s k t : Int32} (h : c < e ∨ e + 3 < c) : ab_four sv e f s k t c = sv c := by
  unfold ab_four
  rw [pk_un (by omega), pk_un (by omega), pk_un (by omega), pk_un (by omega)]
theorem ab_SV_eq {sv sv1 : Nat → Int32} {d : Nat} {B : Nat → Nat} {m : Nat} (h : ab_SV sv d B m) (he : ∀ c, c < (d + 1) * 4 → sv1 c = sv c) : ab_SV sv1 d B m := by
  unfold ab_SV
  rw [he (d * 4) (by omega), he (d * 4 + 1) (by omega), he (d * 4 + 2) (by omega), he (d * 4 + 3) (by omega)]
  exact h
section
variable {f_first f_second f_kings f_toMove f_pastTop f_pastSize f_squareCount f_taken f_wanted f_seen f_most f_beginnings : Int32} {a_past a_squares a_direction a_ledOn a_saved a_nextMove : Nat → Int32}
/-- the loop's head, down to the branch on the last level -/
theorem xw_phead {post : Int32 → SX → Prop} {d t n S r : Nat} {fi sn ki tm sc tk wa se mo be : Int32} {sq di le sv nm : Nat → Int32} {B : Nat → Nat} {m : Nat} (hr : r < 1048576) (ht : t < d) (hd : d ≤ 3) (hS : ab_SV sv t B m)
    (h1 : t + 1 = d → ∀ fi sn ki tm : Int32, ab_XP fi sn ki tm B m → wX_plays_64 post (wX_plays_36 post (nI d) n) (nI d) (nI S) (nI t) (nI r) 1 fi sn ki tm f_pastTop f_pastSize sc tk wa se mo be a_past sq di le sv nm)
    (h0 : t + 1 < d → ∀ fi sn ki tm : Int32, ab_XP fi sn ki tm B m → wX_plays_64 post (wX_plays_36 post (nI d) n) (nI d) (nI S) (nI t) (nI r) 0 fi sn ki tm f_pastTop f_pastSize sc tk wa se mo be a_past sq di le sv nm) :
    wX_plays_36 post (nI d) (n + 1) (nI S) (nI t) (nI r) fi sn ki tm f_pastTop f_pastSize sc tk wa se mo be a_past sq di le sv nm := by
  refine pk_le 1048576 r (fun z => absurd z (by omega)) (fun _ => br_f (nI_pos (by omega)) ?_)
  refine xw_restore (by omega) ?_
  refine pk_eq t (d - 1) (fun z => ?_) (fun z => ?_) rfl (pk_sub (b := 1) (by omega))
  · exact h1 (by omega) _ _ _ _ hS
  · exact h0 (by omega) _ _ _ _ hS
theorem xw_plast {post : Int32 → SX → Prop} {d t n S r : Nat} {fi sn ki tm sc tk wa se mo be : Int32} {sq di le sv nm : Nat → Int32} {B : Nat → Nat} {m : Nat} (hr : r < 1048576) (ht : t + 1 = d) (hd : d ≤ 3) (hS : ab_SV sv t B m)
    (K : ∀ (fi1 sn1 ki1 tm1 sc1 tk1 wa1 se1 mo1 be1 : Int32) (sq1 di1 le1 sv1 nm1 : Nat → Int32), (∀ c, c < (t + 1) * 4 → sv1 c = sv c) → (∀ c, c < t → nm1 c = nm c) → wX_plays_36 post (nI d) n (nI (S + (ab_ML B m).length)) (nI t + (-1)) (nI (r + 1)) fi1 sn1 ki1 tm1 f_pastTop f_pastSize sc1 tk1 wa1 se1 mo1 be1 a_past sq1 di1 le1 sv1 nm1) :
    wX_plays_36 post (nI d) (n + 1) (nI S) (nI t) (nI r) fi sn ki tm f_pastTop f_pastSize sc tk wa se mo be a_past sq di le sv nm := by
  refine xw_phead hr (by omega) hd hS (fun _ fi sn ki tm hP => ?_) (fun z => absurd z (by omega))
  refine br_f (by decide) ?_
  refine xw_moves hP ?_
  intro sc1 tk1 se1 mo1 be1 sq1 di1 le1
  refine nm_r (nI_add S _) (br_f (by decide) (nm_e (nm_r (nI_1 r) ?_)))
  exact K _ _ _ _ _ _ _ _ _ _ _ _ _ _ _ (fun _ _ => rfl) (fun _ _ => rfl)
/-- one round at a level above the last -/
theorem xw_pmid {post : Int32 → SX → Prop} {d t n S r i : Nat} {fi sn ki tm sc tk wa se mo be : Int32} {sq di le sv nm : Nat → Int32} {B : Nat → Nat} {m : Nat} (hr : r < 1048576) (ht : t + 1 < d) (hd : d ≤ 3) (hS : ab_SV sv t B m) (hnm : nm t = nI i) (hi : i < 1000)
    (K0 : (ab_ML B m).length ≤ i → ∀ (fi1 sn1 ki1 tm1 sc1 tk1 wa1 se1 mo1 be1 : Int32) (sq1 di1 le1 sv1 nm1 : Nat → Int32), (∀ c, c < (t + 1) * 4 → sv1 c = sv c) → (∀ c, c < t → nm1 c = nm c) → wX_plays_36 post (nI d) n (nI S) (nI t + (-1)) (nI (r + 1)) fi1 sn1 ki1 tm1 f_pastTop f_pastSize sc1 tk1 wa1 se1 mo1 be1 a_past sq1 di1 le1 sv1 nm1)
    (K1 : ∀ (q : List Nat) (done rest : List (List Nat)), ab_ML B m = done ++ q :: rest → done.length = i → ab_VP B m (ab_jm B m) q → ∀ (fi1 sn1 ki1 tm1 sc1 tk1 wa1 se1 mo1 be1 : Int32) (sq1 di1 le1 sv1 nm1 : Nat → Int32), ab_SV sv1 (t + 1) (ab_aft B (ab_jm B m) q) (1 - m) → (∀ c, c < (t + 1) * 4 → sv1 c = sv c) → nm1 (t + 1) = nI 0 → nm1 t = nI (i + 1) → (∀ c, c < t → nm1 c = nm c) → wX_plays_36 post (nI d) n (nI S) (nI (t + 1)) (nI (r + 1)) fi1 sn1 ki1 tm1 f_pastTop f_pastSize sc1 tk1 wa1 se1 mo1 be1 a_past sq1 di1 le1 sv1 nm1) :
    wX_plays_36 post (nI d) (n + 1) (nI S) (nI t) (nI r) fi sn ki tm f_pastTop f_pastSize sc tk wa se mo be a_past sq di le sv nm := by
  have hcl : (nI t).toNatClampNeg = t := nI_clamp (by omega)
  have hcl1 : (nI (t + 1)).toNatClampNeg = t + 1 := nI_clamp (by omega)
  have hin : vp_in (nI t) 4 := vp_in_nI (by omega) (by omega)
  have hin1 : vp_in (nI (t + 1)) 4 := vp_in_nI (by omega) (by omega)
  refine xw_phead hr (by omega) hd hS (fun z => absurd z (by omega)) (fun _ fi sn ki tm hP => ?_)
  refine br_t rfl ?_
  refine nm_r (e' := nI S) (Int32.add_zero _) (br_t rfl ⟨hin, ?_⟩)
  rw [hcl, hnm]
  refine xw_seek hP (ab_W_n (by omega)) ?_ ?_
  · intro q done rest sc1 tk1 se1 mo1 be1 sq1 di1 le1 a1 a2 a3 a4 a5 a6
    refine br_f (by decide) ⟨hin, hin, nm_r (e' := upd nm t (nI (i + 1))) (by rw [hnm, nI_1]) ?_⟩
    refine xw_carry hP a3 a6 a4 a5 ?_
    intro f1 s1 k1 t1 hP1
    refine nm_r (nI_1 t) ?_
    refine xw_save (by omega) ?_
    refine ⟨hin1, nm_r (e' := upd (upd nm t (nI (i + 1))) (t + 1) (nI 0)) (by rw [hcl1]; rfl) (nm_r (nI_1 r) ?_)⟩
    exact K1 q done rest a1 a2 a3 _ _ _ _ _ _ _ _ _ _ _ _ _ _ _ (ab_SV_four hP1) (fun c hc => ab_four_out (by omega)) pk_us (by rw [pk_un (by omega), pk_us]) (fun c hc => by rw [pk_un (by omega), pk_un (by omega)])
  · intro sc1 tk1 se1 mo1 be1 sq1 di1 le1 a1 _
    refine br_t rfl (nm_e (nm_r (nI_1 r) ?_))
    exact K0 a1 _ _ _ _ _ _ _ _ _ _ _ _ _ _ _ (fun _ _ => rfl) (fun _ _ => rfl)
theorem xw_ploop {post : Int32 → SX → Prop} {d : Nat} (hd : d ≤ 3) :
    ∀ (e t : Nat), t + e + 1 = d → ∀ (B : Nat → Nat) (m : Nat), m ≤ 1 → ∀ (n S r : Nat) (fi sn ki tm sc tk wa se mo be : Int32) (sq di le sv nm : Nat → Int32), ab_SV sv t B m → nm t = nI 0 → ab_XC e ≤ n → r + ab_XC e ≤ 1048576 →
      (∀ (n1 r1 : Nat) (fi1 sn1 ki1 tm1 sc1 tk1 wa1 se1 mo1 be1 : Int32) (sq1 di1 le1 sv1 nm1 : Nat → Int32), n ≤ n1 + ab_XC e → r1 ≤ r + ab_XC e → (∀ c, c < (t + 1) * 4 → sv1 c = sv c) → (∀ c, c < t → nm1 c = nm c) → wX_plays_36 post (nI d) n1 (nI (S + ab_PL e B m)) (nI t + (-1)) (nI r1) fi1 sn1 ki1 tm1 f_pastTop f_pastSize sc1 tk1 wa1 se1 mo1 be1 a_past sq1 di1 le1 sv1 nm1) →
      wX_plays_36 post (nI d) n (nI S) (nI t) (nI r) fi sn ki tm f_pastTop f_pastSize sc tk wa se mo be a_past sq di le sv nm := by
  intro e
  induction e with
  | zero =>
    intro t ht B m hm n S r fi sn ki tm sc tk wa se mo be sq di le sv nm hS hnm hn hr K
    have hx : ab_XC 0 = 1 := rfl
    obtain ⟨n, rfl⟩ : ∃ n', n = n' + 1 := ⟨n - 1, by omega⟩
    refine xw_plast (by omega) (by omega) hd hS ?_
    intro fi1 sn1 ki1 tm1 sc1 tk1 wa1 se1 mo1 be1 sq1 di1 le1 sv1 nm1 k1 k2
    exact K n (r + 1) _ _ _ _ _ _ _ _ _ _ _ _ _ _ _ (by omega) (by omega) k1 k2
  | succ e ih =>
    intro t ht B m hm
    have hlen := ab_ML_len (B := B) hm
    have hx : ab_XC (e + 1) = 424 * (1 + ab_XC e) + 1 := rfl
    have inner : ∀ (rest done : List (List Nat)) (n S r : Nat) (fi sn ki tm sc tk wa se mo be : Int32) (sq di le sv nm : Nat → Int32), ab_ML B m = done ++ rest → ab_SV sv t B m → nm t = nI done.length → rest.length * (1 + ab_XC e) + 1 ≤ n → r + (rest.length * (1 + ab_XC e) + 1) ≤ 1048576 →
        (∀ (n1 r1 : Nat) (fi1 sn1 ki1 tm1 sc1 tk1 wa1 se1 mo1 be1 : Int32) (sq1 di1 le1 sv1 nm1 : Nat → Int32), n ≤ n1 + (rest.length * (1 + ab_XC e) + 1) → r1 ≤ r + (rest.length * (1 + ab_XC e) + 1) → (∀ c, c < (t + 1) * 4 → sv1 c = sv c) → (∀ c, c < t → nm1 c = nm c) → wX_plays_36 post (nI d) n1 (nI (S + ab_SM e B m rest)) (nI t + (-1)) (nI r1) fi1 sn1 ki1 tm1 f_pastTop f_pastSize sc1 tk1 wa1 se1 mo1 be1 a_past sq1 di1 le1 sv1 nm1) →
        wX_plays_36 post (nI d) n (nI S) (nI t) (nI r) fi sn ki tm f_pastTop f_pastSize sc tk wa se mo be a_past sq di le sv nm := by
      intro rest
      induction rest with
      | nil =>
        intro done n S r fi sn ki tm sc tk wa se mo be sq di le sv nm hml hS hnm hn hr K
        rw [List.append_nil] at hml
        rw [show ([] : List (List Nat)).length * (1 + ab_XC e) + 1 = 1 by simp] at hn hr K
        obtain ⟨n, rfl⟩ : ∃ n', n = n' + 1 := ⟨n - 1, by omega⟩
        have hdl : done.length ≤ 424 := by rw [← hml]; exact hlen
        refine xw_pmid (by omega) (by omega) hd hS hnm (by omega) ?_ ?_
        · intro _ fi1 sn1 ki1 tm1 sc1 tk1 wa1 se1 mo1 be1 sq1 di1 le1 sv1 nm1 k1 k2
          exact K n (r + 1) _ _ _ _ _ _ _ _ _ _ _ _ _ _ _ (by omega) (by omega) k1 k2
        · intro q done1 rest1 a1 a2
          rw [hml] at a1
          have := congrArg List.length a1
          rw [List.length_append, List.length_cons] at this
          omega
      | cons q rest ihr =>
        intro done n S r fi sn ki tm sc tk wa se mo be sq di le sv nm hml hS hnm hn hr K
        have hc : (q :: rest).length * (1 + ab_XC e) + 1 = (rest.length * (1 + ab_XC e) + 1) + (1 + ab_XC e) := by
          rw [List.length_cons, Nat.add_mul, Nat.one_mul]; omega
        rw [hc] at hn hr K
        generalize hg : rest.length * (1 + ab_XC e) + 1 = g at hn hr K ihr
        obtain ⟨n, rfl⟩ : ∃ n', n = n' + 1 := ⟨n - 1, by omega⟩
        have hdl : done.length < 424 := by
          rw [hml, List.length_append, List.length_cons] at hlen
          omega
        refine xw_pmid (by omega) (by omega) hd hS hnm (by omega) ?_ ?_
        · intro z
          rw [hml, List.length_append, List.length_cons] at z
          omega
        · intro q1 done1 rest1 a1 a2 a3 fi1 sn1 ki1 tm1 sc1 tk1 wa1 se1 mo1 be1 sq1 di1 le1 sv1 nm1 k1 k2 k3 k4 k5
          rw [hml] at a1
          obtain ⟨b1, b2⟩ := List.append_inj a1 a2.symm
          obtain ⟨b3, b4⟩ := List.cons.inj b2
          subst b1 b3 b4
          refine ih (t + 1) (by omega) (ab_aft B (ab_jm B m) q) (1 - m) (by omega) n S (r + 1) _ _ _ _ _ _ _ _ _ _ _ _ _ _ _ k1 k3 (by omega) (by omega) ?_
          intro n2 r2 fi2 sn2 ki2 tm2 sc2 tk2 wa2 se2 mo2 be2 sq2 di2 le2 sv2 nm2 q1 q2 q3 q4
          rw [pk_m1]
          have hsv2 : ∀ c, c < (t + 1) * 4 → sv2 c = sv c := fun c hc => (q3 c (by omega)).trans (k2 c hc)
          refine ihr (done ++ [q]) n2 (S + ab_PL e (ab_aft B (ab_jm B m) q) (1 - m)) r2 _ _ _ _ _ _ _ _ _ _ _ _ _ _ _ (by rw [hml]; simp) (ab_SV_eq hS hsv2) (by rw [q4 t (by omega), k4]; simp) (by omega) (by omega) ?_
          intro n3 r3 fi3 sn3 ki3 tm3 sc3 tk3 wa3 se3 mo3 be3 sq3 di3 le3 sv3 nm3 p1 p2 p3 p4
          have hK := K n3 r3 fi3 sn3 ki3 tm3 sc3 tk3 wa3 se3 mo3 be3 sq3 di3 le3 sv3 nm3 (by omega) (by omega) (fun c hc => (p3 c hc).trans (hsv2 c hc)) (fun c hc => (p4 c hc).trans ((q4 c (by omega)).trans (k5 c hc)))
          rw [ab_SM_cons, ← Nat.add_assoc] at hK
          exact hK
    intro n S r fi sn ki tm sc tk wa se mo be sq di le sv nm hS hnm hn hr K
    have hle : (ab_ML B m).length * (1 + ab_XC e) + 1 ≤ ab_XC (e + 1) := by
      rw [hx]
      exact Nat.add_le_add_right (Nat.mul_le_mul_right _ hlen) 1
    generalize hg : (ab_ML B m).length * (1 + ab_XC e) + 1 = g at hle
    have fin := inner (ab_ML B m) [] n S r fi sn ki tm sc tk wa se mo be sq di le sv nm (List.nil_append _).symm hS hnm
    rw [hg] at fin
    refine fin (by omega) (by omega) ?_
    intro n1 r1 fi1 sn1 ki1 tm1 sc1 tk1 wa1 se1 mo1 be1 sq1 di1 le1 sv1 nm1 k1 k2 k3 k4
    have hK := K n1 r1 fi1 sn1 ki1 tm1 sc1 tk1 wa1 se1 mo1 be1 sq1 di1 le1 sv1 nm1 (by omega) (by omega) k3 k4
    rw [ab_PL_s] at hK
    exact hK
theorem xw_plays {post : Int32 → SX → Prop} {d : Nat} {B : Nat → Nat} {m : Nat} (hd1 : 1 ≤ d) (hd : d ≤ 3) (hP : ab_XP f_first f_second f_kings f_toMove B m)
    (K : ∀ (fi1 sn1 ki1 tm1 sc1 tk1 wa1 se1 mo1 be1 : Int32) (sq1 di1 le1 sv1 nm1 : Nat → Int32), ab_XP fi1 sn1 ki1 tm1 B m → post (nI (ab_PL (d - 1) B m)) (fi1, sn1, ki1, tm1, f_pastTop, f_pastSize, sc1, tk1, wa1, se1, mo1, be1, a_past, sq1, di1, le1, sv1, nm1)) : wpX_plays post (f_first, f_second, f_kings, f_toMove, f_pastTop, f_pastSize, f_squareCount, f_taken, f_wanted, f_seen, f_most, f_beginnings, a_past, a_squares, a_direction, a_ledOn, a_saved, a_nextMove) (nI d) := by
  refine br_f (nI_pos (by omega)) ?_
  refine pk_le d 3 (fun _ => ?_) (fun z => absurd z (by omega))
  refine br_f (nI_ne0 (by omega) (by omega)) (nm_e ?_)
  refine xw_save (d := 0) (by omega) ?_
  refine ⟨360402, ?_⟩
  have hS : ab_SV (ab_four a_saved (0 * 4) f_first f_second f_kings f_toMove) 0 B m := ab_SV_four hP
  have hx : ab_XC (d - 1) ≤ 360401 := by
    have h3 : d - 1 = 0 ∨ d - 1 = 1 ∨ d - 1 = 2 := by omega
    rcases h3 with z | z | z <;> rw [z] <;> decide
  refine xw_ploop hd (d - 1) 0 (by omega) B m hP.2.2.1 360402 0 0 _ _ _ _ _ _ _ _ _ _ _ _ _ _ _ hS pk_us (by omega) (by omega) ?_
  intro n1 r1 fi1 sn1 ki1 tm1 sc1 tk1 wa1 se1 mo1 be1 sq1 di1 le1 sv1 nm1 k1 k2 k3 k4
  obtain ⟨n1, rfl⟩ : ∃ n', n1 = n' + 1 := ⟨n1 - 1, by omega⟩
  rw [Nat.zero_add]
  have hm1 : nI 0 + (-1) = -1 := by decide
  rw [hm1]
  have h142 : wX_plays_142 post (nI (ab_PL (d - 1) B m)) fi1 sn1 ki1 tm1 f_pastTop f_pastSize sc1 tk1 wa1 se1 mo1 be1 a_past sq1 di1 le1 sv1 nm1 := by
    refine xw_restore (d := 0) (by omega) ?_
    exact K _ _ _ _ _ _ _ _ _ _ _ _ _ _ _ (ab_SV_eq hS k3)
  refine pk_le 1048576 r1 (fun _ => h142) (fun _ => br_t (by decide) h142)
end
end
section
/-! ===== the calls that set up, ask, play ===== -/
def ab_put (B : Nat → Nat) (j q : Nat) : Nat → Nat := fun s => if s = j then q else B s
theorem xp_one {x : Int32} {P : Nat → Bool} {j : Nat} (hj : j < 32) (h : ∀ i, i < 32 → bt x i = P i) {c : Prop} [Decidable c] : ∀ i, i < 32 → bt (if c then x ||| ((1 : Int32) <<< (nI j &&& 31)) else x &&& (((1 : Int32) <<< (nI j &&& 31)) ^^^ (-1))) i = if i = j then decide c else P i := by
  intro i hi
  by_cases hc : c
  · rw [if_pos hc, b_or, h i hi, xb_sh _ hj i hi]
    by_cases e : i = j
    · rw [if_pos e, decide_eq_true e, decide_eq_true hc, Bool.or_true]
    · rw [if_neg e, decide_eq_false e, Bool.or_false]
  · rw [if_neg hc, xb_clr hi, h i hi, xb_sh _ hj i hi]
    by_cases e : i = j
    · rw [if_pos e, decide_eq_true e, decide_eq_false hc]; simp
    · rw [if_neg e, decide_eq_false e]; simp
theorem xp_bits {f s k tm : Int32} {B : Nat → Nat} {m j q : Nat} (hP : ab_XP f s k tm B m) (hj : j < 32) (hq : q ≤ 4) :
    ab_XP (if q = 1 ∨ q = 2 then f ||| ((1 : Int32) <<< (nI j &&& 31)) else f &&& (((1 : Int32) <<< (nI j &&& 31)) ^^^ (-1)))
      (if q = 3 ∨ q = 4 then s ||| ((1 : Int32) <<< (nI j &&& 31)) else s &&& (((1 : Int32) <<< (nI j &&& 31)) ^^^ (-1)))
      (if q = 2 ∨ q = 4 then k ||| ((1 : Int32) <<< (nI j &&& 31)) else k &&& (((1 : Int32) <<< (nI j &&& 31)) ^^^ (-1))) tm (ab_put B j q) m := by
  obtain ⟨h1, h2, h3, h4⟩ := hP
  refine ⟨fun i hi => ?_, h2, h3, fun i hi => ?_⟩
  · rw [xp_one hj (fun i hi => (h1 i hi).1) i hi, xp_one hj (fun i hi => (h1 i hi).2.1) i hi, xp_one hj (fun i hi => (h1 i hi).2.2) i hi]
    unfold ab_put
    by_cases e : i = j
    · rw [if_pos e, if_pos e, if_pos e, if_pos e]; exact ⟨rfl, rfl, rfl⟩
    · rw [if_neg e, if_neg e, if_neg e, if_neg e]; exact ⟨rfl, rfl, rfl⟩
  · unfold ab_put
    by_cases e : i = j
    · rw [if_pos e]; exact hq
    · rw [if_neg e]; exact h4 i hi
def ab_B0 : Nat → Nat := fun s => if s ≤ 11 then 1 else if 20 ≤ s then 3 else 0
theorem xp_start : ∀ i, i < 32 → bt 4095 i = decide (ab_B0 i = 1 ∨ ab_B0 i = 2) ∧ bt (-1048576) i = decide (ab_B0 i = 3 ∨ ab_B0 i = 4) ∧ bt 0 i = decide (ab_B0 i = 2 ∨ ab_B0 i = 4) := by decide +kernel
theorem xp_start4 : ∀ i, i < 32 → ab_B0 i ≤ 4 := by decide +kernel
def ab_st (bd : Nat → Int32) (i : Nat) : Nat → Int32 := fun c => if c < i then nI (ab_B0 c) else bd c
theorem ab_st_s {bd : Nat → Int32} {i : Nat} : upd (ab_st bd i) i (nI (ab_B0 i)) = ab_st bd (i + 1) := by
  funext c
  unfold ab_st
  by_cases e : c = i
  · subst e; rw [pk_us, if_pos (by omega)]
  · rw [pk_un e]
    by_cases z : c < i
    · rw [if_pos z, if_pos (by omega)]
    · rw [if_neg z, if_neg (by omega)]
theorem ab_st_0 {bd : Nat → Int32} : ab_st bd 0 = bd := by
  funext c; unfold ab_st; rw [if_neg (by omega)]
/-- the answer of path -/
def ab_pa (l : List (List Nat)) (j : Nat) (x : Int32) : Int32 := match l[j]? with
  | none => -1
  | some q => if x < 0 then -1 else if nI q.length ≤ x then -1 else nI (q.getD x.toNatClampNeg 0)
def ab_ln (l : List (List Nat)) (j : Nat) : Int32 := match l[j]? with
  | none => -1
  | some q => nI q.length
theorem ab_ix {l done rest : List (List Nat)} {q : List Nat} {j : Nat} (h : l = done ++ q :: rest) (hj : done.length = j) : l[j]? = some q := by
  rw [h, ← hj]; simp
theorem ab_ixn {l : List (List Nat)} {j : Nat} (h : l.length ≤ j) : l[j]? = none := List.getElem?_eq_none h
section
variable {f_first f_second f_kings f_toMove f_pastTop f_pastSize f_squareCount f_taken f_wanted f_seen f_most f_beginnings : Int32} {a_past a_squares a_direction a_ledOn a_saved a_nextMove : Nat → Int32} {B : Nat → Nat} {m : Nat}
theorem xw_sqN {post : Int32 → Prop} {x : Int32} (h : x < 0 ∨ nI 32 ≤ x) (hp : post 0) : wpX_isSquare post x := by
  by_cases z : x < 0
  · exact br_t z hp
  · exact br_f z (br_t (h.resolve_left z) hp)
theorem xw_sq {post : Int32 → Prop} {j : Nat} (h : j < 32) (hp : post 1) : wpX_isSquare post (nI j) :=
  br_f (nI_pos (by omega)) (pk_le 32 j (fun z => absurd z (by omega)) (fun _ => hp))
theorem xw_p145 {post : Int32 → SX → Prop} {z0 : Int32} (h : post 1 (f_first, f_second, z0, f_toMove, f_pastTop, 0, f_squareCount, f_taken, f_wanted, f_seen, f_most, f_beginnings, a_past, a_squares, a_direction, a_ledOn, a_saved, a_nextMove)) : wX_place_145 post z0 f_first f_second f_kings f_toMove f_pastTop f_pastSize f_squareCount f_taken f_wanted f_seen f_most f_beginnings a_past a_squares a_direction a_ledOn a_saved a_nextMove := h
theorem xw_p44 {post : Int32 → SX → Prop} {j q : Nat} (hq : q ≤ 4)
    (h : post 1 (if q = 1 ∨ q = 2 then f_first ||| ((1 : Int32) <<< (nI j &&& 31)) else f_first &&& (((1 : Int32) <<< (nI j &&& 31)) ^^^ (-1)), if q = 3 ∨ q = 4 then f_second ||| ((1 : Int32) <<< (nI j &&& 31)) else f_second &&& (((1 : Int32) <<< (nI j &&& 31)) ^^^ (-1)), if q = 2 ∨ q = 4 then f_kings ||| ((1 : Int32) <<< (nI j &&& 31)) else f_kings &&& (((1 : Int32) <<< (nI j &&& 31)) ^^^ (-1)), f_toMove, f_pastTop, 0, f_squareCount, f_taken, f_wanted, f_seen, f_most, f_beginnings, a_past, a_squares, a_direction, a_ledOn, a_saved, a_nextMove)) : wX_place_44 post (nI j) (nI q) f_first f_second f_kings f_toMove f_pastTop f_pastSize f_squareCount f_taken f_wanted f_seen f_most f_beginnings a_past a_squares a_direction a_ledOn a_saved a_nextMove := by
  have hc : q = 0 ∨ q = 1 ∨ q = 2 ∨ q = 3 ∨ q = 4 := by omega
  refine nm_e ?_
  rcases hc with rfl | rfl | rfl | rfl | rfl
  · rw [if_neg (by decide), if_neg (by decide), if_neg (by decide)] at h
    exact br_f (by decide) (br_f (by decide) (br_f (by decide) (br_f (by decide) (br_f (by decide) (br_f (by decide) (xw_p145 h))))))
  · rw [if_pos (by decide), if_neg (by decide), if_neg (by decide)] at h
    exact br_t rfl (br_f (by decide) (br_f (by decide) (br_f (by decide) (br_f (by decide) (xw_p145 h)))))
  · rw [if_pos (by decide), if_neg (by decide), if_pos (by decide)] at h
    exact br_f (by decide) (br_t rfl (br_f (by decide) (br_f (by decide) (br_t rfl (xw_p145 h)))))
  · rw [if_neg (by decide), if_pos (by decide), if_neg (by decide)] at h
    exact br_f (by decide) (br_f (by decide) (br_t rfl (br_f (by decide) (br_f (by decide) (xw_p145 h)))))
  · rw [if_neg (by decide), if_pos (by decide), if_pos (by decide)] at h
    exact br_f (by decide) (br_f (by decide) (br_f (by decide) (br_t rfl (br_f (by decide) (br_t rfl (xw_p145 h))))))
theorem xw_placeN {post : Int32 → SX → Prop} {x y : Int32} (h : x < 0 ∨ nI 32 ≤ x) (hp : post 0 (f_first, f_second, f_kings, f_toMove, f_pastTop, f_pastSize, f_squareCount, f_taken, f_wanted, f_seen, f_most, f_beginnings, a_past, a_squares, a_direction, a_ledOn, a_saved, a_nextMove)) : wpX_place post (f_first, f_second, f_kings, f_toMove, f_pastTop, f_pastSize, f_squareCount, f_taken, f_wanted, f_seen, f_most, f_beginnings, a_past, a_squares, a_direction, a_ledOn, a_saved, a_nextMove) x y := by
  unfold wpX_place
  refine xw_sqN h ?_
  exact br_t rfl hp
theorem xw_placeM {post : Int32 → SX → Prop} {j : Nat} {y : Int32} (hj : j < 32) (h : y < 0 ∨ nI 5 ≤ y) (hp : post 0 (f_first, f_second, f_kings, f_toMove, f_pastTop, f_pastSize, f_squareCount, f_taken, f_wanted, f_seen, f_most, f_beginnings, a_past, a_squares, a_direction, a_ledOn, a_saved, a_nextMove)) : wpX_place post (f_first, f_second, f_kings, f_toMove, f_pastTop, f_pastSize, f_squareCount, f_taken, f_wanted, f_seen, f_most, f_beginnings, a_past, a_squares, a_direction, a_ledOn, a_saved, a_nextMove) (nI j) y := by
  unfold wpX_place
  refine xw_sq hj ?_
  refine br_f (by decide) ?_
  by_cases z : y < 0
  · exact br_t z hp
  · refine br_f z (br_f ?_ hp)
    intro w
    have h5 := h.resolve_left z
    obtain ⟨i, hi, rfl⟩ := nI_of z
    have a1 := (nI_leI (a := 5) (b := i) (by omega) hi).mp h5
    have a2 := (nI_leI (a := i) (b := 4) hi (by omega)).mp w
    omega
theorem xw_place {post : Int32 → SX → Prop} {j q : Nat} (hP : ab_XP f_first f_second f_kings f_toMove B m) (hj : j < 32) (hq : q ≤ 4) (h0 : ab_last q j = true → post 0 (f_first, f_second, f_kings, f_toMove, f_pastTop, f_pastSize, f_squareCount, f_taken, f_wanted, f_seen, f_most, f_beginnings, a_past, a_squares, a_direction, a_ledOn, a_saved, a_nextMove))
    (h1 : ab_last q j = false → ∀ f1 s1 k1 : Int32, ab_XP f1 s1 k1 f_toMove (ab_put B j q) m → post 1 (f1, s1, k1, f_toMove, f_pastTop, 0, f_squareCount, f_taken, f_wanted, f_seen, f_most, f_beginnings, a_past, a_squares, a_direction, a_ledOn, a_saved, a_nextMove)) : wpX_place post (f_first, f_second, f_kings, f_toMove, f_pastTop, f_pastSize, f_squareCount, f_taken, f_wanted, f_seen, f_most, f_beginnings, a_past, a_squares, a_direction, a_ledOn, a_saved, a_nextMove) (nI j) (nI q) := by
  have e4 : nI j >>> ((2 : Int32) &&& 31) = nI (j / 4) := pk_shrN (by omega) _ 2 (by decide)
  have h44 : ab_last q j = false → wX_place_44 post (nI j) (nI q) f_first f_second f_kings f_toMove f_pastTop f_pastSize f_squareCount f_taken f_wanted f_seen f_most f_beginnings a_past a_squares a_direction a_ledOn a_saved a_nextMove := fun z => xw_p44 hq (h1 z _ _ _ (xp_bits hP hj hq))
  have h33 : ¬ (q = 1 ∧ j / 4 = 7) → wX_place_33 post (nI j) (nI q) (nI (j / 4)) f_first f_second f_kings f_toMove f_pastTop f_pastSize f_squareCount f_taken f_wanted f_seen f_most f_beginnings a_past a_squares a_direction a_ledOn a_saved a_nextMove := by
    intro z
    refine pk_eq q 3 (fun y => ?_) (fun y => ?_)
    · refine pk_eq (j / 4) 0 (fun w => ?_) (fun w => ?_)
      · exact h0 (decide_eq_true (Or.inr ⟨y, w⟩))
      · exact h44 (decide_eq_false (by omega))
    · exact h44 (decide_eq_false (by omega))
  unfold wpX_place
  refine xw_sq hj ?_
  refine br_f (by decide) (br_f (nI_pos (by omega)) ?_)
  refine pk_le q 4 (fun _ => ?_) (fun z => absurd z (by omega))
  refine nm_r e4 ?_
  refine pk_eq q 1 (fun y => ?_) (fun y => ?_)
  · refine pk_eq (j / 4) 7 (fun w => ?_) (fun w => ?_)
    · exact h0 (decide_eq_true (Or.inl ⟨y, w⟩))
    · exact h33 (fun z => w z.2)
  · exact h33 (fun z => y z.1)
theorem xw_atN {post : Int32 → Prop} {x : Int32} (h : x < 0 ∨ nI 32 ≤ x) (hp : post (-1)) : wpX_at post (f_first, f_second, f_kings, f_toMove, f_pastTop, f_pastSize, f_squareCount, f_taken, f_wanted, f_seen, f_most, f_beginnings, a_past, a_squares, a_direction, a_ledOn, a_saved, a_nextMove) x := by
  unfold wpX_at
  refine xw_sqN h ?_
  exact br_t rfl hp
theorem xw_at {post : Int32 → Prop} {j : Nat} (hP : ab_XP f_first f_second f_kings f_toMove B m) (hj : j < 32) (h : post (nI (B j))) : wpX_at post (f_first, f_second, f_kings, f_toMove, f_pastTop, f_pastSize, f_squareCount, f_taken, f_wanted, f_seen, f_most, f_beginnings, a_past, a_squares, a_direction, a_ledOn, a_saved, a_nextMove) (nI j) := by
  obtain ⟨h1, _, _, h4⟩ := hP
  obtain ⟨a1, a2, a3⟩ := h1 j hj
  have hc : B j = 0 ∨ B j = 1 ∨ B j = 2 ∨ B j = 3 ∨ B j = 4 := by have := h4 j hj; omega
  have h25 : ∀ z0 : Int32, z0 = ab_b (decide (B j = 2 ∨ B j = 4)) → wX_at_25 post (nI j) z0 f_first f_second f_kings f_toMove f_pastTop f_pastSize f_squareCount f_taken f_wanted f_seen f_most f_beginnings a_past a_squares a_direction a_ledOn a_saved a_nextMove := by
    intro z0 hz
    unfold wX_at_25
    refine xw_in hj ?_
    rw [a1]
    refine ab_br (fun e => ?_) (fun e => ?_)
    · refine xw_in hj ?_
      rw [a2]
      refine ab_br (fun e2 => ?_) (fun e2 => ?_)
      · have e' : ¬ (B j = 1 ∨ B j = 2) := of_decide_eq_false e
        have e2' : ¬ (B j = 3 ∨ B j = 4) := of_decide_eq_false e2
        have : B j = 0 := by omega
        rw [this] at h
        exact h
      · have e2' : B j = 3 ∨ B j = 4 := of_decide_eq_true e2
        rw [hz]
        rcases e2' with z | z <;> rw [z] at h ⊢ <;> exact h
    · have e' : B j = 1 ∨ B j = 2 := of_decide_eq_true e
      rw [hz]
      rcases e' with z | z <;> rw [z] at h ⊢ <;> exact h
  unfold wpX_at
  refine xw_sq hj ?_
  refine br_f (by decide) ?_
  refine xw_in hj ?_
  rw [a3]
  refine ab_br (fun e => ?_) (fun e => ?_)
  · exact h25 0 (by rw [e]; rfl)
  · exact h25 1 (by rw [e]; rfl)
theorem xw_countN {post : Int32 → Prop} {x : Int32} (h : x < 1 ∨ 4 < x) (hp : post (-1)) : wpX_count post (f_first, f_second, f_kings, f_toMove, f_pastTop, f_pastSize, f_squareCount, f_taken, f_wanted, f_seen, f_most, f_beginnings, a_past, a_squares, a_direction, a_ledOn, a_saved, a_nextMove) x := by
  by_cases z : x < 1
  · exact br_t z hp
  · exact br_f z (br_f (Int32.not_le.mpr (h.resolve_left z)) hp)
theorem xw_c28 {post : Int32 → Prop} {x1 z : Int32} {P : Nat → Bool} (h1 : (x1 &&& 1) = 0 → ∀ i, i < 32 → bt (z &&& f_kings) i = P i) (h2 : ¬ (x1 &&& 1) = 0 → ∀ i, i < 32 → bt (z &&& (f_kings ^^^ (-1))) i = P i) (h : post (nI (ab_ct P 32))) : wX_count_28 post x1 z f_first f_second f_kings f_toMove f_pastTop f_pastSize f_squareCount f_taken f_wanted f_seen f_most f_beginnings a_past a_squares a_direction a_ledOn a_saved a_nextMove := by
  refine br_c (fun y => ?_) (fun y => ?_)
  · unfold wX_count_52
    refine xw_ones ?_
    rw [ab_ct_congr (h1 y)]; exact h
  · unfold wX_count_52
    refine xw_ones ?_
    rw [ab_ct_congr (h2 y)]; exact h
theorem xw_count {post : Int32 → Prop} {q : Nat} (hP : ab_XP f_first f_second f_kings f_toMove B m) (hq1 : 1 ≤ q) (hq : q ≤ 4) (h : post (nI (ab_ct (fun s => decide (B s = q)) 32))) : wpX_count post (f_first, f_second, f_kings, f_toMove, f_pastTop, f_pastSize, f_squareCount, f_taken, f_wanted, f_seen, f_most, f_beginnings, a_past, a_squares, a_direction, a_ledOn, a_saved, a_nextMove) (nI q) := by
  obtain ⟨h1, _, _, h4⟩ := hP
  have hc : q = 1 ∨ q = 2 ∨ q = 3 ∨ q = 4 := by omega
  have bk : ∀ (z : Int32) (i : Nat), i < 32 → bt (z &&& (f_kings ^^^ (-1))) i = (bt z i && !bt f_kings i) := fun z i hi => xb_clr hi
  refine br_f (nI_nlt (a := q) (b := 1) hq1 (by omega)) ?_
  refine pk_le q 4 (fun _ => ?_) (fun z => absurd z (by omega))
  rcases hc with rfl | rfl | rfl | rfl
  · refine br_f (by decide) (xw_c28 (P := fun s => decide (B s = 1)) (fun z => absurd z (by decide)) (fun _ i hi => ?_) h)
    obtain ⟨a1, a2, a3⟩ := h1 i hi
    rw [bk _ i hi, a1, a3]
    have hb := h4 i hi
    have hcc : B i = 0 ∨ B i = 1 ∨ B i = 2 ∨ B i = 3 ∨ B i = 4 := by omega
    rcases hcc with z | z | z | z | z <;> rw [z] <;> rfl
  · refine br_f (by decide) (xw_c28 (P := fun s => decide (B s = 2)) (fun _ i hi => ?_) (fun z => absurd (by decide) z) h)
    obtain ⟨a1, a2, a3⟩ := h1 i hi
    rw [b_and, a1, a3]
    have hb := h4 i hi
    have hcc : B i = 0 ∨ B i = 1 ∨ B i = 2 ∨ B i = 3 ∨ B i = 4 := by omega
    rcases hcc with z | z | z | z | z <;> rw [z] <;> rfl
  · refine br_t (by decide) (xw_c28 (P := fun s => decide (B s = 3)) (fun z => absurd z (by decide)) (fun _ i hi => ?_) h)
    obtain ⟨a1, a2, a3⟩ := h1 i hi
    rw [bk _ i hi, a2, a3]
    have hb := h4 i hi
    have hcc : B i = 0 ∨ B i = 1 ∨ B i = 2 ∨ B i = 3 ∨ B i = 4 := by omega
    rcases hcc with z | z | z | z | z <;> rw [z] <;> rfl
  · refine br_t (by decide) (xw_c28 (P := fun s => decide (B s = 4)) (fun _ i hi => ?_) (fun z => absurd (by decide) z) h)
    obtain ⟨a1, a2, a3⟩ := h1 i hi
    rw [b_and, a2, a3]
    have hb := h4 i hi
    have hcc : B i = 0 ∨ B i = 1 ∨ B i = 2 ∨ B i = 3 ∨ B i = 4 := by omega
    rcases hcc with z | z | z | z | z <;> rw [z] <;> rfl
theorem xw_path {post : Int32 → SX → Prop} {j : Nat} {x : Int32} (hP : ab_XP f_first f_second f_kings f_toMove B m) (hj : j < 2 ^ 31) (h : ∀ (sc1 tk1 wa1 se1 mo1 be1 : Int32) (sq1 di1 le1 : Nat → Int32), post (ab_pa (ab_ML B m) j x) (f_first, f_second, f_kings, f_toMove, f_pastTop, f_pastSize, sc1, tk1, wa1, se1, mo1, be1, a_past, sq1, di1, le1, a_saved, a_nextMove)) : wpX_path post (f_first, f_second, f_kings, f_toMove, f_pastTop, f_pastSize, f_squareCount, f_taken, f_wanted, f_seen, f_most, f_beginnings, a_past, a_squares, a_direction, a_ledOn, a_saved, a_nextMove) (nI j) x := by
  refine br_f (nI_pos hj) ?_
  refine xw_seek hP (ab_W_n hj) ?_ ?_
  · intro q done rest sc1 tk1 se1 mo1 be1 sq1 di1 le1 a1 a2 a3 a4 a5 a6
    have hlen := ab_VP_len a3
    refine br_f (by decide) ?_
    unfold ab_pa at h
    rw [ab_ix a1 a2] at h
    dsimp only at h
    rw [← a4] at h
    by_cases z : x < 0
    · rw [if_pos z] at h; exact br_t z (h _ _ _ _ _ _ _ _ _)
    · rw [if_neg z] at h
      refine br_f z ?_
      by_cases y : sc1 ≤ x
      · rw [if_pos y] at h; exact br_t y (h _ _ _ _ _ _ _ _ _)
      · rw [if_neg y] at h
        refine br_f y ?_
        obtain ⟨i, hi, rfl⟩ := nI_of z
        have hi2 : i < q.length := by
          rw [a4, nI_leI (by omega) hi] at y
          omega
        rw [nI_clamp hi] at h ⊢
        refine ⟨vp_in_nI (by omega) (by omega), ?_⟩
        rw [a5 i hi2]
        exact h _ _ _ _ _ _ _ _ _
  · intro sc1 tk1 se1 mo1 be1 sq1 di1 le1 a1 _
    unfold ab_pa at h
    rw [ab_ixn a1] at h
    exact br_t rfl (h _ _ _ _ _ _ _ _ _)
theorem xw_length {post : Int32 → SX → Prop} {j : Nat} (hP : ab_XP f_first f_second f_kings f_toMove B m) (hj : j < 2 ^ 31) (h : ∀ (sc1 tk1 wa1 se1 mo1 be1 : Int32) (sq1 di1 le1 : Nat → Int32), post (ab_ln (ab_ML B m) j) (f_first, f_second, f_kings, f_toMove, f_pastTop, f_pastSize, sc1, tk1, wa1, se1, mo1, be1, a_past, sq1, di1, le1, a_saved, a_nextMove)) : wpX_length post (f_first, f_second, f_kings, f_toMove, f_pastTop, f_pastSize, f_squareCount, f_taken, f_wanted, f_seen, f_most, f_beginnings, a_past, a_squares, a_direction, a_ledOn, a_saved, a_nextMove) (nI j) := by
  refine br_f (nI_pos hj) ?_
  refine xw_seek hP (ab_W_n hj) ?_ ?_
  · intro q done rest sc1 tk1 se1 mo1 be1 sq1 di1 le1 a1 a2 a3 a4 a5 a6
    refine br_f (by decide) ?_
    unfold ab_ln at h
    rw [ab_ix a1 a2] at h
    dsimp only at h
    rw [← a4] at h
    exact h _ _ _ _ _ _ _ _ _
  · intro sc1 tk1 se1 mo1 be1 sq1 di1 le1 a1 _
    unfold ab_ln at h
    rw [ab_ixn a1] at h
    exact br_t rfl (h _ _ _ _ _ _ _ _ _)
theorem xw_play {post : Int32 → SX → Prop} {j tt n : Nat} (hP : ab_XP f_first f_second f_kings f_toMove B m) (hj : j < 2 ^ 31) (ht : f_pastTop = nI tt) (htt : tt < 20) (hn : f_pastSize = nI n) (hn20 : n ≤ 20)
    (h1 : ∀ q, (ab_ML B m)[j]? = some q → ab_VP B m (ab_jm B m) q → ∀ (f1 s1 k1 t1 : Int32) (sc1 tk1 wa1 se1 mo1 be1 : Int32) (sq1 di1 le1 : Nat → Int32), ab_XP f1 s1 k1 t1 (ab_aft B (ab_jm B m) q) (1 - m) → post (nI (ab_tk (ab_jm B m) q).length) (f1, s1, k1, t1, nI ((tt + 1) % 20), nI (if 20 ≤ n then 20 else n + 1), sc1, tk1, wa1, se1, mo1, be1, ab_four a_past (tt * 4) f_first f_second f_kings f_toMove, sq1, di1, le1, a_saved, a_nextMove))
    (h0 : (ab_ML B m)[j]? = none → ∀ (sc1 tk1 wa1 se1 mo1 be1 : Int32) (sq1 di1 le1 : Nat → Int32), post (-1) (f_first, f_second, f_kings, f_toMove, f_pastTop, f_pastSize, sc1, tk1, wa1, se1, mo1, be1, a_past, sq1, di1, le1, a_saved, a_nextMove)) : wpX_play post (f_first, f_second, f_kings, f_toMove, f_pastTop, f_pastSize, f_squareCount, f_taken, f_wanted, f_seen, f_most, f_beginnings, a_past, a_squares, a_direction, a_ledOn, a_saved, a_nextMove) (nI j) := by
  refine br_f (nI_pos hj) ?_
  refine xw_seek hP (ab_W_n hj) ?_ ?_
  · intro q done rest sc1 tk1 se1 mo1 be1 sq1 di1 le1 a1 a2 a3 a4 a5 a6
    refine br_f (by decide) ?_
    refine xw_remember ht htt hn hn20 ?_
    refine xw_carry hP a3 a6 a4 a5 ?_
    intro f1 s1 k1 t1 hP1
    exact h1 q (ab_ix a1 a2) a3 _ _ _ _ _ _ _ _ _ _ _ _ _ hP1
  · intro sc1 tk1 se1 mo1 be1 sq1 di1 le1 a1 _
    exact br_t rfl (h0 (ab_ixn a1) _ _ _ _ _ _ _ _ _)
end
end
section
/-! ===== Y: the calls that set up, ask, play ===== -/
theorem ab_ML_jm {B : Nat → Nat} {m : Nat} (h : ab_ML B m = []) : ab_jm B m = false := by
  cases e : ab_jm B m with
  | false => rfl
  | true =>
    unfold ab_ML at h
    rw [e] at h
    rw [ab_jm_f h] at e
    exact Bool.noConfusion e
section
variable {f_mover f_remembered f_size f_jumps : Int32} {a_board a_olds a_oldSides a_squares a_asideBoards a_asidePaths a_asideSizes a_asideJumps : Nat → Int32} {B : Nat → Nat} {m : Nat}
theorem yw_sqN {post : Int32 → Prop} {x : Int32} (h : x < 0 ∨ nI 32 ≤ x) (hp : post 0) : wpY_square post (f_mover, f_remembered, f_size, f_jumps, a_board, a_olds, a_oldSides, a_squares, a_asideBoards, a_asidePaths, a_asideSizes, a_asideJumps) x := by
  by_cases z : x < 0
  · exact br_t z hp
  · refine br_f z (br_t ?_ hp)
    obtain ⟨i, hi, rfl⟩ := nI_of z
    have a1 := (nI_leI (a := 32) (b := i) (by omega) hi).mp (h.resolve_left z)
    exact nI_lt (a := 31) (b := i) (by omega) hi
theorem yw_sq {post : Int32 → Prop} {j : Nat} (h : j < 32) (hp : post 1) : wpY_square post (f_mover, f_remembered, f_size, f_jumps, a_board, a_olds, a_oldSides, a_squares, a_asideBoards, a_asidePaths, a_asideSizes, a_asideJumps) (nI j) :=
  br_f (nI_pos (by omega)) (pk_lt 31 j (fun z => absurd z (by omega)) (fun _ => hp))
theorem yw_placeN {post : Int32 → SY → Prop} {x y : Int32} (h : x < 0 ∨ nI 32 ≤ x) (hp : post 0 (f_mover, f_remembered, f_size, f_jumps, a_board, a_olds, a_oldSides, a_squares, a_asideBoards, a_asidePaths, a_asideSizes, a_asideJumps)) : wpY_place post (f_mover, f_remembered, f_size, f_jumps, a_board, a_olds, a_oldSides, a_squares, a_asideBoards, a_asidePaths, a_asideSizes, a_asideJumps) x y := by
  unfold wpY_place
  refine yw_sqN h ?_
  exact br_t rfl hp
theorem yw_placeM {post : Int32 → SY → Prop} {j : Nat} {y : Int32} (hj : j < 32) (h : y < 0 ∨ nI 5 ≤ y) (hp : post 0 (f_mover, f_remembered, f_size, f_jumps, a_board, a_olds, a_oldSides, a_squares, a_asideBoards, a_asidePaths, a_asideSizes, a_asideJumps)) : wpY_place post (f_mover, f_remembered, f_size, f_jumps, a_board, a_olds, a_oldSides, a_squares, a_asideBoards, a_asidePaths, a_asideSizes, a_asideJumps) (nI j) y := by
  unfold wpY_place
  refine yw_sq hj ?_
  refine br_f (by decide) ?_
  by_cases z : y < 0
  · exact br_t z hp
  · refine br_f z (br_t ?_ hp)
    obtain ⟨i, hi, rfl⟩ := nI_of z
    have a1 := (nI_leI (a := 5) (b := i) (by omega) hi).mp (h.resolve_left z)
    exact nI_lt (a := 4) (b := i) (by omega) hi
theorem yw_place {post : Int32 → SY → Prop} {j q : Nat} (hb : ab_YB a_board B) (hj : j < 32) (hq : q ≤ 4) (h0 : ab_last q j = true → post 0 (f_mover, f_remembered, f_size, f_jumps, a_board, a_olds, a_oldSides, a_squares, a_asideBoards, a_asidePaths, a_asideSizes, a_asideJumps))
    (h1 : ab_last q j = false → ∀ bd : Nat → Int32, ab_YB bd (ab_put B j q) → post 1 (f_mover, 0, f_size, f_jumps, bd, a_olds, a_oldSides, a_squares, a_asideBoards, a_asidePaths, a_asideSizes, a_asideJumps)) : wpY_place post (f_mover, f_remembered, f_size, f_jumps, a_board, a_olds, a_oldSides, a_squares, a_asideBoards, a_asidePaths, a_asideSizes, a_asideJumps) (nI j) (nI q) := by
  unfold wpY_place
  refine yw_sq hj ?_
  refine br_f (by decide) (br_f (nI_pos (by omega)) ?_)
  refine pk_lt 4 q (fun z => absurd z (by omega)) (fun _ => ?_)
  refine yw_lastRow hq hj ?_
  refine ab_br (fun e => ?_) (fun e => ?_)
  · refine ⟨vp_in_nI hj (by omega), nm_r (e' := upd a_board j (nI q)) (by rw [nI_clamp (by omega)]) ?_⟩
    refine h1 e _ (ab_YB_upd hb ?_ ?_)
    · exact if_pos rfl
    · intro s hs; exact if_neg hs
  · exact h0 e
theorem yw_start2 {post : SY → Prop} (h : post (0, 0, f_size, f_jumps, ab_st a_board 32, a_olds, a_oldSides, a_squares, a_asideBoards, a_asidePaths, a_asideSizes, a_asideJumps)) :
    ∀ (k i : Nat), i + k = 32 → ∀ n, k < n → wY_start_2 post f_mover f_remembered f_size f_jumps n (nI i) (ab_st a_board i) a_olds a_oldSides a_squares a_asideBoards a_asidePaths a_asideSizes a_asideJumps := by
  intro k
  induction k with
  | zero =>
    intro i hi n hn
    obtain ⟨n, rfl⟩ : ∃ n', n = n' + 1 := ⟨n - 1, by omega⟩
    have e : i = 32 := by omega
    subst e
    exact pk_le 32 32 (fun _ => h) (fun z => absurd z (by omega))
  | succ k ih =>
    intro i hi n hn
    obtain ⟨n, rfl⟩ : ∃ n', n = n' + 1 := ⟨n - 1, by omega⟩
    have hi1 := ih (i + 1) (by omega) n (by omega)
    have hin : vp_in (nI i) 32 := vp_in_nI (by omega) (by omega)
    have hcl : (nI i).toNatClampNeg = i := nI_clamp (by omega)
    refine pk_le 32 i (fun z => absurd z (by omega)) (fun _ => ?_)
    rw [hcl]
    refine pk_lt 11 i (fun z => ?_) (fun z => ?_)
    · refine pk_lt i 20 (fun y => ?_) (fun y => ?_)
      · refine ⟨hin, nm_r (e' := ab_st a_board (i + 1)) ?_ (nm_r (nI_1 i) hi1)⟩
        rw [← ab_st_s, show ab_B0 i = 0 by unfold ab_B0; rw [if_neg (by omega), if_neg (by omega)]]; rfl
      · refine ⟨hin, nm_r (e' := ab_st a_board (i + 1)) ?_ (nm_r (nI_1 i) hi1)⟩
        rw [← ab_st_s, show ab_B0 i = 3 by unfold ab_B0; rw [if_neg (by omega), if_pos (by omega)]]; rfl
    · refine ⟨hin, nm_r (e' := ab_st a_board (i + 1)) ?_ (nm_r (nI_1 i) hi1)⟩
      rw [← ab_st_s, show ab_B0 i = 1 by unfold ab_B0; rw [if_pos (by omega)]]; rfl
theorem yw_start {post : SY → Prop} (h : post (0, 0, f_size, f_jumps, ab_st a_board 32, a_olds, a_oldSides, a_squares, a_asideBoards, a_asidePaths, a_asideSizes, a_asideJumps)) : wpY_start post (f_mover, f_remembered, f_size, f_jumps, a_board, a_olds, a_oldSides, a_squares, a_asideBoards, a_asidePaths, a_asideSizes, a_asideJumps) := by
  have h1 := yw_start2 (f_mover := f_mover) (f_remembered := f_remembered) h 32 0 rfl 33 (by omega)
  rw [ab_st_0] at h1
  exact ⟨33, h1⟩
theorem yw_atN {post : Int32 → Prop} {x : Int32} (h : x < 0 ∨ nI 32 ≤ x) (hp : post (-1)) : wpY_at post (f_mover, f_remembered, f_size, f_jumps, a_board, a_olds, a_oldSides, a_squares, a_asideBoards, a_asidePaths, a_asideSizes, a_asideJumps) x := by
  unfold wpY_at
  refine yw_sqN h ?_
  exact br_t rfl hp
theorem yw_at {post : Int32 → Prop} {j : Nat} (hb : ab_YB a_board B) (hj : j < 32) (h : post (nI (B j))) : wpY_at post (f_mover, f_remembered, f_size, f_jumps, a_board, a_olds, a_oldSides, a_squares, a_asideBoards, a_asidePaths, a_asideSizes, a_asideJumps) (nI j) := by
  unfold wpY_at
  refine yw_sq hj ?_
  refine br_f (by decide) ⟨vp_in_nI hj (by omega), ?_⟩
  rw [nI_clamp (show j < 2 ^ 31 by omega), hb j hj]
  exact h
theorem yw_count4 {post : Int32 → Prop} {x1 : Int32} (h : (x1 < 1 → post (-1)) ∧ (¬ x1 < 1 → ((4 < x1 → post (-1)) ∧ (¬ 4 < x1 → post (nI (ab_ct (fun s => decide (a_board s = x1)) 32)))))) :
    ∀ (k i : Nat), i + k = 32 → ∀ n, k < n → wY_count_4 post x1 f_mover f_remembered f_size f_jumps a_board a_olds a_oldSides a_squares a_asideBoards a_asidePaths a_asideSizes a_asideJumps n (nI (ab_ct (fun s => decide (a_board s = x1)) i)) (nI i) := by
  intro k
  induction k with
  | zero =>
    intro i hi n hn
    obtain ⟨n, rfl⟩ : ∃ n', n = n' + 1 := ⟨n - 1, by omega⟩
    have e : i = 32 := by omega
    subst e
    exact pk_le 32 32 (fun _ => h) (fun z => absurd z (by omega))
  | succ k ih =>
    intro i hi n hn
    obtain ⟨n, rfl⟩ : ∃ n', n = n' + 1 := ⟨n - 1, by omega⟩
    have hi1 := ih (i + 1) (by omega) n (by omega)
    have ec : ab_ct (fun s => decide (a_board s = x1)) (i + 1) = ab_ct (fun s => decide (a_board s = x1)) i + (if decide (a_board i = x1) = true then 1 else 0) := rfl
    refine pk_le 32 i (fun z => absurd z (by omega)) (fun _ => ⟨vp_in_nI (by omega) (by omega), ?_⟩)
    rw [nI_clamp (show i < 2 ^ 31 by omega)]
    by_cases c : a_board i = x1
    · rw [if_pos (decide_eq_true c)] at ec
      rw [ec] at hi1
      exact br_t c (nm_r (nI_1 _) (nm_r (nI_1 i) hi1))
    · rw [if_neg (by rw [decide_eq_false c]; decide)] at ec
      rw [ec] at hi1
      exact br_f c (nm_r (nI_1 i) hi1)
theorem yw_countN {post : Int32 → Prop} {x : Int32} (h : x < 1 ∨ 4 < x) (hp : post (-1)) : wpY_count post (f_mover, f_remembered, f_size, f_jumps, a_board, a_olds, a_oldSides, a_squares, a_asideBoards, a_asidePaths, a_asideSizes, a_asideJumps) x := by
  refine ⟨33, yw_count4 ?_ 32 0 rfl 33 (by omega)⟩
  by_cases z : x < 1
  · exact br_t z hp
  · exact br_f z (br_t (h.resolve_left z) hp)
theorem yw_count {post : Int32 → Prop} {q : Nat} (hB : ∀ i, i < 32 → B i ≤ 4) (hb : ab_YB a_board B) (hq1 : 1 ≤ q) (hq : q ≤ 4) (h : post (nI (ab_ct (fun s => decide (B s = q)) 32))) : wpY_count post (f_mover, f_remembered, f_size, f_jumps, a_board, a_olds, a_oldSides, a_squares, a_asideBoards, a_asidePaths, a_asideSizes, a_asideJumps) (nI q) := by
  refine ⟨33, yw_count4 ?_ 32 0 rfl 33 (by omega)⟩
  have e : ab_ct (fun s => decide (a_board s = nI q)) 32 = ab_ct (fun s => decide (B s = q)) 32 := by
    refine ab_ct_congr (fun i hi => decide_eq_decide.mpr ?_)
    rw [hb i hi]
    exact nI_eq (by have := hB i hi; omega) (by omega)
  rw [e]
  exact br_f (nI_nlt (a := q) (b := 1) hq1 (by omega)) (br_f (nI_nlt (a := 4) (b := q) hq (by omega)) h)
theorem yw_mustJump {post : Int32 → SY → Prop} (hB : ∀ i, i < 32 → B i ≤ 4) (hb : ab_YB a_board B) (hmv : f_mover = nI m) (hm : m ≤ 1) (h : ∀ (sz1 jm1 : Int32) (sq1 : Nat → Int32), post (ab_b (ab_jm B m)) (f_mover, f_remembered, sz1, jm1, a_board, a_olds, a_oldSides, sq1, a_asideBoards, a_asidePaths, a_asideSizes, a_asideJumps)) : wpY_mustJump post (f_mover, f_remembered, f_size, f_jumps, a_board, a_olds, a_oldSides, a_squares, a_asideBoards, a_asidePaths, a_asideSizes, a_asideJumps) := by
  unfold wpY_mustJump
  refine yw_first hB hb hmv hm (fun e sz1 jm1 sq1 => ?_) (fun q tl sq1 a1 a2 a3 a4 a5 => ?_)
  · rw [ab_ML_jm e] at h
    exact br_t rfl (h _ _ _)
  · refine br_f (by decide) ?_
    refine ab_br (fun e => ?_) (fun e => ?_)
    · rw [e] at h
      exact h _ _ _
    · rw [e] at h
      exact h _ _ _
theorem yw_path {post : Int32 → SY → Prop} {j : Nat} {x : Int32} (hB : ∀ i, i < 32 → B i ≤ 4) (hb : ab_YB a_board B) (hmv : f_mover = nI m) (hm : m ≤ 1) (hj : j < 2 ^ 31) (h : ∀ (sz1 jm1 : Int32) (sq1 : Nat → Int32), post (ab_pa (ab_ML B m) j x) (f_mover, f_remembered, sz1, jm1, a_board, a_olds, a_oldSides, sq1, a_asideBoards, a_asidePaths, a_asideSizes, a_asideJumps)) : wpY_path post (f_mover, f_remembered, f_size, f_jumps, a_board, a_olds, a_oldSides, a_squares, a_asideBoards, a_asidePaths, a_asideSizes, a_asideJumps) (nI j) x := by
  unfold wpY_path
  refine yw_find hj hB hb hmv hm ?_ ?_
  · intro q done rest sq1 a1 a2 a3 a4 a5
    have hlen := ab_VP_len a3
    refine br_f (by decide) ?_
    unfold ab_pa at h
    rw [ab_ix a1 a2] at h
    dsimp only at h
    by_cases z : x < 0
    · rw [if_pos z] at h; exact br_t z (h _ _ _)
    · rw [if_neg z] at h
      refine br_f z ?_
      by_cases y : nI q.length ≤ x
      · rw [if_pos y] at h; exact br_t y (h _ _ _)
      · rw [if_neg y] at h
        refine br_f y ?_
        obtain ⟨i, hi, rfl⟩ := nI_of z
        have hi2 : i < q.length := by
          rw [nI_leI (by omega) hi] at y
          omega
        rw [nI_clamp hi] at h ⊢
        refine ⟨vp_in_nI (by omega) (by omega), ?_⟩
        rw [a5 i hi2]
        exact h _ _ _
  · intro a1 sz1 jm1 sq1
    unfold ab_pa at h
    rw [ab_ixn a1] at h
    exact br_t rfl (h _ _ _)
theorem yw_length {post : Int32 → SY → Prop} {j : Nat} (hB : ∀ i, i < 32 → B i ≤ 4) (hb : ab_YB a_board B) (hmv : f_mover = nI m) (hm : m ≤ 1) (hj : j < 2 ^ 31) (h : ∀ (sz1 jm1 : Int32) (sq1 : Nat → Int32), post (ab_ln (ab_ML B m) j) (f_mover, f_remembered, sz1, jm1, a_board, a_olds, a_oldSides, sq1, a_asideBoards, a_asidePaths, a_asideSizes, a_asideJumps)) : wpY_length post (f_mover, f_remembered, f_size, f_jumps, a_board, a_olds, a_oldSides, a_squares, a_asideBoards, a_asidePaths, a_asideSizes, a_asideJumps) (nI j) := by
  unfold wpY_length
  refine yw_find hj hB hb hmv hm ?_ ?_
  · intro q done rest sq1 a1 a2 a3 a4 a5
    refine br_f (by decide) ?_
    unfold ab_ln at h
    rw [ab_ix a1 a2] at h
    exact h _ _ _
  · intro a1 sz1 jm1 sq1
    unfold ab_ln at h
    rw [ab_ixn a1] at h
    exact br_t rfl (h _ _ _)
/-- olds and sides after remember -/
def ab_ol (olds bd : Nat → Int32) (n : Nat) : Nat → Int32 := if 20 ≤ n then ab_cpy (ab_fet olds olds 32 608) bd (32 * 19) 32 else ab_cpy olds bd (32 * n) 32
def ab_os (os : Nat → Int32) (n : Nat) (mv : Int32) : Nat → Int32 := if 20 ≤ n then upd (ab_fet os os 1 19) 19 mv else upd os n mv
theorem yw_remember {post : SY → Prop} {n : Nat} (hr : f_remembered = nI n) (hn : n ≤ 20) (h : post (f_mover, nI (if 20 ≤ n then 20 else n + 1), f_size, f_jumps, a_board, ab_ol a_olds a_board n, ab_os a_oldSides n f_mover, a_squares, a_asideBoards, a_asidePaths, a_asideSizes, a_asideJumps)) : wpY_remember post (f_mover, f_remembered, f_size, f_jumps, a_board, a_olds, a_oldSides, a_squares, a_asideBoards, a_asidePaths, a_asideSizes, a_asideJumps) := by
  unfold ab_ol ab_os at h
  by_cases z : 20 ≤ n
  · rw [if_pos z, if_pos z, if_pos z] at h
    exact yw_remT (by rw [hr]; congr 1; omega) h
  · rw [if_neg z, if_neg z, if_neg z] at h
    exact yw_remF hr (by omega) h
theorem yw_play {post : Int32 → SY → Prop} {j n : Nat} (hB : ∀ i, i < 32 → B i ≤ 4) (hb : ab_YB a_board B) (hmv : f_mover = nI m) (hm : m ≤ 1) (hj : j < 2 ^ 31) (hr : f_remembered = nI n) (hn : n ≤ 20)
    (h1 : ∀ q, (ab_ML B m)[j]? = some q → ∀ (bd : Nat → Int32) (sz1 jm1 : Int32) (sq1 : Nat → Int32), ab_YB bd (ab_aft B (ab_jm B m) q) → post (nI (ab_tk (ab_jm B m) q).length) (nI (1 - m), nI (if 20 ≤ n then 20 else n + 1), sz1, jm1, bd, ab_ol a_olds a_board n, ab_os a_oldSides n f_mover, sq1, a_asideBoards, a_asidePaths, a_asideSizes, a_asideJumps))
    (h0 : (ab_ML B m)[j]? = none → ∀ (sz1 jm1 : Int32) (sq1 : Nat → Int32), post (-1) (f_mover, f_remembered, sz1, jm1, a_board, a_olds, a_oldSides, sq1, a_asideBoards, a_asidePaths, a_asideSizes, a_asideJumps)) : wpY_play post (f_mover, f_remembered, f_size, f_jumps, a_board, a_olds, a_oldSides, a_squares, a_asideBoards, a_asidePaths, a_asideSizes, a_asideJumps) (nI j) := by
  unfold wpY_play
  refine yw_find hj hB hb hmv hm ?_ ?_
  · intro q done rest sq1 a1 a2 a3 a4 a5
    refine br_f (by decide) ?_
    refine yw_remember hr hn ?_
    refine yw_carryOut hB hb a3 hmv rfl rfl a5 ?_
    intro bd hbd
    exact h1 q (ab_ix a1 a2) bd _ _ _ hbd
  · intro a1 sz1 jm1 sq1
    exact br_t rfl (h0 (ab_ixn a1) _ _ _)
end
end
section
/-! ===== the relation and what is owed ===== -/
def ab_PR (past olds os : Nat → Int32) (tt n : Nat) : Prop := ∀ j, j < n → ∃ (B : Nat → Nat) (m : Nat), ab_SV past ((tt + 20 - n + j) % 20) B m ∧ (∀ s, s < 32 → olds (32 * j + s) = nI (B s)) ∧ os j = nI m
def ab_Rel (f s k tm pt ps : Int32) (past : Nat → Int32) (mv re : Int32) (bd olds os : Nat → Int32) : Prop :=
  ∃ (B : Nat → Nat) (m tt n : Nat), ab_XP f s k tm B m ∧ ab_YB bd B ∧ mv = nI m ∧ pt = nI tt ∧ tt < 20 ∧ ps = nI n ∧ n ≤ 20 ∧ re = nI n ∧ ab_PR past olds os tt n
theorem ab_PR_0 {past olds os : Nat → Int32} {tt : Nat} : ab_PR past olds os tt 0 := fun j hj => absurd hj (by omega)
theorem ab_SV_out {past : Nat → Int32} {e d : Nat} {f s k t : Int32} {B : Nat → Nat} {m : Nat} (h : ab_SV past e B m) (hne : e ≠ d) : ab_SV (ab_four past (d * 4) f s k t) e B m := by
  unfold ab_SV
  rw [ab_four_out (by omega), ab_four_out (by omega), ab_four_out (by omega), ab_four_out (by omega)]
  exact h
theorem ab_PR_play {past olds os bd : Nat → Int32} {tt n : Nat} {f s k tm mv : Int32} {B : Nat → Nat} {m : Nat} (htt : tt < 20) (hn : n ≤ 20) (h : ab_PR past olds os tt n) (hP : ab_XP f s k tm B m) (hb : ab_YB bd B) (hmv : mv = nI m) :
    ab_PR (ab_four past (tt * 4) f s k tm) (ab_ol olds bd n) (ab_os os n mv) ((tt + 1) % 20) (if 20 ≤ n then 20 else n + 1) := by
  have h4 : ab_SV (ab_four past (tt * 4) f s k tm) tt B m := ab_SV_four hP
  unfold ab_ol ab_os
  by_cases z : 20 ≤ n
  · rw [if_pos z, if_pos z, if_pos z]
    intro j hj
    have hn20 : n = 20 := by omega
    subst hn20
    by_cases e : j = 19
    · subst e
      refine ⟨B, m, ?_, fun s hs => ?_, ?_⟩
      · rw [show ((tt + 1) % 20 + 20 - 20 + 19) % 20 = tt by omega]; exact h4
      · rw [ab_cpy_in hs]; exact hb s hs
      · rw [pk_us]; exact hmv
    · obtain ⟨B1, m1, a1, a2, a3⟩ := h (j + 1) (by omega)
      refine ⟨B1, m1, ?_, fun s hs => ?_, ?_⟩
      · rw [show ((tt + 1) % 20 + 20 - 20 + j) % 20 = (tt + 20 - 20 + (j + 1)) % 20 by omega]
        exact ab_SV_out a1 (by omega)
      · rw [ab_cpy_out (by omega), ab_fet_in (by omega), ← a2 s hs]
        congr 1; omega
      · rw [pk_un e, ab_fet_in (by omega), ← a3]
        congr 1; omega
  · rw [if_neg z, if_neg z, if_neg z]
    intro j hj
    by_cases e : j = n
    · subst e
      refine ⟨B, m, ?_, fun s hs => ?_, ?_⟩
      · rw [show ((tt + 1) % 20 + 20 - (j + 1) + j) % 20 = tt by omega]; exact h4
      · rw [ab_cpy_in hs]; exact hb s hs
      · rw [pk_us]; exact hmv
    · obtain ⟨B1, m1, a1, a2, a3⟩ := h j (by omega)
      refine ⟨B1, m1, ?_, fun s hs => ?_, ?_⟩
      · rw [show ((tt + 1) % 20 + 20 - (n + 1) + j) % 20 = (tt + 20 - n + j) % 20 by omega]
        exact ab_SV_out a1 (by omega)
      · rw [ab_cpy_out (by omega)]; exact a2 s hs
      · rw [pk_un e]; exact a3
theorem ab_PR_back {past olds os : Nat → Int32} {tt n : Nat} (htt : tt < 20) (hn : n < 20) (h : ab_PR past olds os tt (n + 1)) : ab_PR past olds os ((tt + 19) % 20) n := by
  intro j hj
  obtain ⟨B1, m1, a1, a2, a3⟩ := h j (by omega)
  refine ⟨B1, m1, ?_, a2, a3⟩
  rw [show ((tt + 19) % 20 + 20 - n + j) % 20 = (tt + 20 - (n + 1) + j) % 20 by omega]
  exact a1
def i_Rel (k : Nat) (u : SX) (v : SY) : Prop := match u, v with
  | (f_first, f_second, f_kings, f_toMove, f_pastTop, f_pastSize, f_squareCount, f_taken, f_wanted, f_seen, f_most, f_beginnings, a_past, a_squares, a_direction, a_ledOn, a_saved, a_nextMove), (f_movery, f_rememberedy, f_sizey, f_jumpsy, a_boardy, a_oldsy, a_oldSidesy, a_squaresy, a_asideBoardsy, a_asidePathsy, a_asideSizesy, a_asideJumpsy) => ab_Rel f_first f_second f_kings f_toMove f_pastTop f_pastSize a_past f_movery f_rememberedy a_boardy a_oldsy a_oldSidesy
section
variable {f_first f_second f_kings f_toMove f_pastTop f_pastSize f_squareCount f_taken f_wanted f_seen f_most f_beginnings : Int32} {a_past a_squares a_direction a_ledOn a_saved a_nextMove : Nat → Int32} {f_movery f_rememberedy f_sizey f_jumpsy : Int32} {a_boardy a_oldsy a_oldSidesy a_squaresy a_asideBoardsy a_asidePathsy a_asideSizesy a_asideJumpsy : Nat → Int32} {k : Nat}
theorem ab_mk (h : ab_Rel f_first f_second f_kings f_toMove f_pastTop f_pastSize a_past f_movery f_rememberedy a_boardy a_oldsy a_oldSidesy) : i_Rel k (f_first, f_second, f_kings, f_toMove, f_pastTop, f_pastSize, f_squareCount, f_taken, f_wanted, f_seen, f_most, f_beginnings, a_past, a_squares, a_direction, a_ledOn, a_saved, a_nextMove) (f_movery, f_rememberedy, f_sizey, f_jumpsy, a_boardy, a_oldsy, a_oldSidesy, a_squaresy, a_asideBoardsy, a_asidePathsy, a_asideSizesy, a_asideJumpsy) := h
theorem ab_un (h : i_Rel k (f_first, f_second, f_kings, f_toMove, f_pastTop, f_pastSize, f_squareCount, f_taken, f_wanted, f_seen, f_most, f_beginnings, a_past, a_squares, a_direction, a_ledOn, a_saved, a_nextMove) (f_movery, f_rememberedy, f_sizey, f_jumpsy, a_boardy, a_oldsy, a_oldSidesy, a_squaresy, a_asideBoardsy, a_asidePathsy, a_asideSizesy, a_asideJumpsy)) : ab_Rel f_first f_second f_kings f_toMove f_pastTop f_pastSize a_past f_movery f_rememberedy a_boardy a_oldsy a_oldSidesy := h
end
theorem xw_start {f_first f_second f_kings f_toMove f_pastTop f_pastSize f_squareCount f_taken f_wanted f_seen f_most f_beginnings : Int32} {a_past a_squares a_direction a_ledOn a_saved a_nextMove : Nat → Int32} {post : SX → Prop} (h : post (4095, (-1048576), 0, 0, f_pastTop, 0, f_squareCount, f_taken, f_wanted, f_seen, f_most, f_beginnings, a_past, a_squares, a_direction, a_ledOn, a_saved, a_nextMove)) : wpX_start post (f_first, f_second, f_kings, f_toMove, f_pastTop, f_pastSize, f_squareCount, f_taken, f_wanted, f_seen, f_most, f_beginnings, a_past, a_squares, a_direction, a_ledOn, a_saved, a_nextMove) := h
theorem i_up {k : Nat} {u : SX} {v : SY} (h : i_Rel k u v) : i_Rel (k + 3) u v := h
theorem i_vc0 : wpX_init (fun u => wpY_init (fun v => i_Rel 0 u v)) := by
  unfold wpX_init wpY_init
  refine ab_mk ⟨fun _ => 0, 0, 0, 0, ⟨fun i hi => ?_, rfl, by omega, fun _ _ => Nat.zero_le _⟩, fun _ _ => rfl, rfl, rfl, by omega, rfl, by omega, rfl, ab_PR_0⟩
  rw [b_0]
  exact ⟨rfl, rfl, rfl⟩
theorem i_vc_place {k : Nat} {u : SX} {v : SY} (I : i_Rel k u v) (hk : k + 3 ≤ 1536) (v1 : Int32) (v2 : Int32) : wpX_place (fun r u' => wpY_place (fun r' v' => r' = r ∧ i_Rel (k + 3) u' v') v v1 v2) u v1 v2 := by
  obtain ⟨f_first, f_second, f_kings, f_toMove, f_pastTop, f_pastSize, f_squareCount, f_taken, f_wanted, f_seen, f_most, f_beginnings, a_past, a_squares, a_direction, a_ledOn, a_saved, a_nextMove⟩ := u
  obtain ⟨f_movery, f_rememberedy, f_sizey, f_jumpsy, a_boardy, a_oldsy, a_oldSidesy, a_squaresy, a_asideBoardsy, a_asidePathsy, a_asideSizesy, a_asideJumpsy⟩ := v
  have I0 := ab_un I
  obtain ⟨B, m, tt, n, hP, hY, hmv, hpt, htt, hps, hn, hre, hPR⟩ := I0
  have hB := hP.2.2.2
  rcases pk_ix v1 (n := 32) (by omega) with z | z | ⟨j, hj, rfl⟩
  · exact xw_placeN (Or.inl z) (yw_placeN (Or.inl z) ⟨rfl, I⟩)
  · exact xw_placeN (Or.inr z) (yw_placeN (Or.inr z) ⟨rfl, I⟩)
  rcases pk_ix v2 (n := 5) (by omega) with z | z | ⟨q, hq, rfl⟩
  · exact xw_placeM hj (Or.inl z) (yw_placeM hj (Or.inl z) ⟨rfl, I⟩)
  · exact xw_placeM hj (Or.inr z) (yw_placeM hj (Or.inr z) ⟨rfl, I⟩)
  refine xw_place hP hj (by omega) (fun e => ?_) (fun e f1 s1 k1 hP1 => ?_)
  · exact yw_place hY hj (by omega) (fun _ => ⟨rfl, I⟩) (fun e2 => by rw [e] at e2; exact Bool.noConfusion e2)
  · refine yw_place hY hj (by omega) (fun e2 => by rw [e] at e2; exact Bool.noConfusion e2) (fun _ bd hbd => ⟨rfl, ab_mk ?_⟩)
    exact ⟨ab_put B j q, m, tt, 0, hP1, hbd, hmv, hpt, htt, rfl, by omega, rfl, ab_PR_0⟩
theorem i_vc_start {k : Nat} {u : SX} {v : SY} (I : i_Rel k u v) (hk : k + 3 ≤ 1536) : wpX_start (fun u' => wpY_start (fun v' => i_Rel (k + 3) u' v') v) u := by
  obtain ⟨f_first, f_second, f_kings, f_toMove, f_pastTop, f_pastSize, f_squareCount, f_taken, f_wanted, f_seen, f_most, f_beginnings, a_past, a_squares, a_direction, a_ledOn, a_saved, a_nextMove⟩ := u
  obtain ⟨f_movery, f_rememberedy, f_sizey, f_jumpsy, a_boardy, a_oldsy, a_oldSidesy, a_squaresy, a_asideBoardsy, a_asidePathsy, a_asideSizesy, a_asideJumpsy⟩ := v
  have I0 := ab_un I
  obtain ⟨B, m, tt, n, hP, hY, hmv, hpt, htt, hps, hn, hre, hPR⟩ := I0
  refine xw_start ?_
  refine yw_start (ab_mk ?_)
  refine ⟨ab_B0, 0, tt, 0, ⟨xp_start, rfl, by omega, xp_start4⟩, fun i hi => ?_, rfl, hpt, htt, rfl, by omega, rfl, ab_PR_0⟩
  exact if_pos hi
theorem i_vc_turn {k : Nat} {u : SX} {v : SY} (I : i_Rel k u v) (hk : k + 3 ≤ 1536) (v1 : Int32) : wpX_turn (fun r u' => wpY_turn (fun r' v' => r' = r ∧ i_Rel (k + 3) u' v') v v1) u v1 := by
  obtain ⟨f_first, f_second, f_kings, f_toMove, f_pastTop, f_pastSize, f_squareCount, f_taken, f_wanted, f_seen, f_most, f_beginnings, a_past, a_squares, a_direction, a_ledOn, a_saved, a_nextMove⟩ := u
  obtain ⟨f_movery, f_rememberedy, f_sizey, f_jumpsy, a_boardy, a_oldsy, a_oldSidesy, a_squaresy, a_asideBoardsy, a_asidePathsy, a_asideSizesy, a_asideJumpsy⟩ := v
  have I0 := ab_un I
  obtain ⟨B, m, tt, n, hP, hY, hmv, hpt, htt, hps, hn, hre, hPR⟩ := I0
  by_cases z : v1 = 0
  · refine br_t z ?_
    refine br_t z ⟨rfl, ab_mk ?_⟩
    exact ⟨B, 0, tt, 0, ⟨hP.1, z, by omega, hP.2.2.2⟩, hY, z, hpt, htt, rfl, by omega, rfl, ab_PR_0⟩
  · refine br_f z ?_
    by_cases y : v1 = 1
    · refine br_t y ?_
      refine br_f z (br_t y ⟨rfl, ab_mk ?_⟩)
      exact ⟨B, 1, tt, 0, ⟨hP.1, y, by omega, hP.2.2.2⟩, hY, y, hpt, htt, rfl, by omega, rfl, ab_PR_0⟩
    · refine br_f y ?_
      exact br_f z (br_f y ⟨rfl, I⟩)
theorem i_vc_side {k : Nat} {u : SX} {v : SY} (I : i_Rel k u v) (hk : k + 3 ≤ 1536) : wpX_side (fun r => wpY_side (fun r' => r' = r ∧ i_Rel (k + 3) u v) v) u := by
  obtain ⟨f_first, f_second, f_kings, f_toMove, f_pastTop, f_pastSize, f_squareCount, f_taken, f_wanted, f_seen, f_most, f_beginnings, a_past, a_squares, a_direction, a_ledOn, a_saved, a_nextMove⟩ := u
  obtain ⟨f_movery, f_rememberedy, f_sizey, f_jumpsy, a_boardy, a_oldsy, a_oldSidesy, a_squaresy, a_asideBoardsy, a_asidePathsy, a_asideSizesy, a_asideJumpsy⟩ := v
  have I0 := ab_un I
  obtain ⟨B, m, tt, n, hP, hY, hmv, hpt, htt, hps, hn, hre, hPR⟩ := I0
  exact ⟨hmv.trans hP.2.1.symm, I⟩
theorem i_vc_at {k : Nat} {u : SX} {v : SY} (I : i_Rel k u v) (hk : k + 3 ≤ 1536) (v1 : Int32) : wpX_at (fun r => wpY_at (fun r' => r' = r ∧ i_Rel (k + 3) u v) v v1) u v1 := by
  obtain ⟨f_first, f_second, f_kings, f_toMove, f_pastTop, f_pastSize, f_squareCount, f_taken, f_wanted, f_seen, f_most, f_beginnings, a_past, a_squares, a_direction, a_ledOn, a_saved, a_nextMove⟩ := u
  obtain ⟨f_movery, f_rememberedy, f_sizey, f_jumpsy, a_boardy, a_oldsy, a_oldSidesy, a_squaresy, a_asideBoardsy, a_asidePathsy, a_asideSizesy, a_asideJumpsy⟩ := v
  have I0 := ab_un I
  obtain ⟨B, m, tt, n, hP, hY, hmv, hpt, htt, hps, hn, hre, hPR⟩ := I0
  rcases pk_ix v1 (n := 32) (by omega) with z | z | ⟨j, hj, rfl⟩
  · exact xw_atN (Or.inl z) (yw_atN (Or.inl z) ⟨rfl, I⟩)
  · exact xw_atN (Or.inr z) (yw_atN (Or.inr z) ⟨rfl, I⟩)
  · exact xw_at hP hj (yw_at hY hj ⟨rfl, I⟩)
theorem i_vc_count {k : Nat} {u : SX} {v : SY} (I : i_Rel k u v) (hk : k + 3 ≤ 1536) (v1 : Int32) : wpX_count (fun r => wpY_count (fun r' => r' = r ∧ i_Rel (k + 3) u v) v v1) u v1 := by
  obtain ⟨f_first, f_second, f_kings, f_toMove, f_pastTop, f_pastSize, f_squareCount, f_taken, f_wanted, f_seen, f_most, f_beginnings, a_past, a_squares, a_direction, a_ledOn, a_saved, a_nextMove⟩ := u
  obtain ⟨f_movery, f_rememberedy, f_sizey, f_jumpsy, a_boardy, a_oldsy, a_oldSidesy, a_squaresy, a_asideBoardsy, a_asidePathsy, a_asideSizesy, a_asideJumpsy⟩ := v
  have I0 := ab_un I
  obtain ⟨B, m, tt, n, hP, hY, hmv, hpt, htt, hps, hn, hre, hPR⟩ := I0
  by_cases z : v1 < 1
  · exact xw_countN (Or.inl z) (yw_countN (Or.inl z) ⟨rfl, I⟩)
  by_cases y : 4 < v1
  · exact xw_countN (Or.inr y) (yw_countN (Or.inr y) ⟨rfl, I⟩)
  obtain ⟨q, hq1, hq4, rfl⟩ : ∃ q : Nat, 1 ≤ q ∧ q ≤ 4 ∧ v1 = nI q := by
    rcases pk_ix v1 (n := 5) (by omega) with w | w | ⟨q, hq, rfl⟩
    · exact absurd (Int32.lt_trans w (by decide)) z
    · have w5 : (4 : Int32) < nI 5 := by decide
      exact absurd (Int32.lt_of_lt_of_le w5 w) y
    · refine ⟨q, ?_, by omega, rfl⟩
      rcases Nat.eq_zero_or_pos q with e | e
      · subst e; exact absurd (by decide) z
      · exact e
  exact xw_count hP hq1 hq4 (yw_count hP.2.2.2 hY hq1 hq4 ⟨rfl, I⟩)
theorem i_vc_moves {k : Nat} {u : SX} {v : SY} (I : i_Rel k u v) (hk : k + 3 ≤ 1536) : wpX_moves (fun r u' => wpY_moves (fun r' v' => r' = r ∧ i_Rel (k + 3) u' v') v) u := by
  obtain ⟨f_first, f_second, f_kings, f_toMove, f_pastTop, f_pastSize, f_squareCount, f_taken, f_wanted, f_seen, f_most, f_beginnings, a_past, a_squares, a_direction, a_ledOn, a_saved, a_nextMove⟩ := u
  obtain ⟨f_movery, f_rememberedy, f_sizey, f_jumpsy, a_boardy, a_oldsy, a_oldSidesy, a_squaresy, a_asideBoardsy, a_asidePathsy, a_asideSizesy, a_asideJumpsy⟩ := v
  have I0 := ab_un I
  obtain ⟨B, m, tt, n, hP, hY, hmv, hpt, htt, hps, hn, hre, hPR⟩ := I0
  refine xw_moves hP (fun sc1 tk1 se1 mo1 be1 sq1 di1 le1 => ?_)
  refine yw_moves hP.2.2.2 hY hmv hP.2.2.1 (fun sz1 jm1 sq2 => ?_)
  exact ⟨rfl, ab_mk (ab_un I)⟩
theorem i_vc_mustJump {k : Nat} {u : SX} {v : SY} (I : i_Rel k u v) (hk : k + 3 ≤ 1536) : wpX_mustJump (fun r => wpY_mustJump (fun r' v' => r' = r ∧ i_Rel (k + 3) u v') v) u := by
  obtain ⟨f_first, f_second, f_kings, f_toMove, f_pastTop, f_pastSize, f_squareCount, f_taken, f_wanted, f_seen, f_most, f_beginnings, a_past, a_squares, a_direction, a_ledOn, a_saved, a_nextMove⟩ := u
  obtain ⟨f_movery, f_rememberedy, f_sizey, f_jumpsy, a_boardy, a_oldsy, a_oldSidesy, a_squaresy, a_asideBoardsy, a_asidePathsy, a_asideSizesy, a_asideJumpsy⟩ := v
  have I0 := ab_un I
  obtain ⟨B, m, tt, n, hP, hY, hmv, hpt, htt, hps, hn, hre, hPR⟩ := I0
  refine xw_mustJump hP ?_
  refine yw_mustJump hP.2.2.2 hY hmv hP.2.2.1 (fun sz1 jm1 sq2 => ?_)
  exact ⟨rfl, ab_mk (ab_un I)⟩
theorem i_vc_path {k : Nat} {u : SX} {v : SY} (I : i_Rel k u v) (hk : k + 3 ≤ 1536) (v1 : Int32) (v2 : Int32) : wpX_path (fun r u' => wpY_path (fun r' v' => r' = r ∧ i_Rel (k + 3) u' v') v v1 v2) u v1 v2 := by
  obtain ⟨f_first, f_second, f_kings, f_toMove, f_pastTop, f_pastSize, f_squareCount, f_taken, f_wanted, f_seen, f_most, f_beginnings, a_past, a_squares, a_direction, a_ledOn, a_saved, a_nextMove⟩ := u
  obtain ⟨f_movery, f_rememberedy, f_sizey, f_jumpsy, a_boardy, a_oldsy, a_oldSidesy, a_squaresy, a_asideBoardsy, a_asidePathsy, a_asideSizesy, a_asideJumpsy⟩ := v
  have I0 := ab_un I
  obtain ⟨B, m, tt, n, hP, hY, hmv, hpt, htt, hps, hn, hre, hPR⟩ := I0
  by_cases z : v1 < 0
  · refine br_t z ?_
    unfold wpY_path
    refine yw_findN z ?_
    exact br_t rfl ⟨rfl, I⟩
  · obtain ⟨j, hj, rfl⟩ := nI_of z
    refine xw_path hP hj (fun sc1 tk1 wa1 se1 mo1 be1 sq1 di1 le1 => ?_)
    refine yw_path hP.2.2.2 hY hmv hP.2.2.1 hj (fun sz1 jm1 sq2 => ?_)
    exact ⟨rfl, ab_mk (ab_un I)⟩
theorem i_vc_length {k : Nat} {u : SX} {v : SY} (I : i_Rel k u v) (hk : k + 3 ≤ 1536) (v1 : Int32) : wpX_length (fun r u' => wpY_length (fun r' v' => r' = r ∧ i_Rel (k + 3) u' v') v v1) u v1 := by
  obtain ⟨f_first, f_second, f_kings, f_toMove, f_pastTop, f_pastSize, f_squareCount, f_taken, f_wanted, f_seen, f_most, f_beginnings, a_past, a_squares, a_direction, a_ledOn, a_saved, a_nextMove⟩ := u
  obtain ⟨f_movery, f_rememberedy, f_sizey, f_jumpsy, a_boardy, a_oldsy, a_oldSidesy, a_squaresy, a_asideBoardsy, a_asidePathsy, a_asideSizesy, a_asideJumpsy⟩ := v
  have I0 := ab_un I
  obtain ⟨B, m, tt, n, hP, hY, hmv, hpt, htt, hps, hn, hre, hPR⟩ := I0
  by_cases z : v1 < 0
  · refine br_t z ?_
    unfold wpY_length
    refine yw_findN z ?_
    exact br_t rfl ⟨rfl, I⟩
  · obtain ⟨j, hj, rfl⟩ := nI_of z
    refine xw_length hP hj (fun sc1 tk1 wa1 se1 mo1 be1 sq1 di1 le1 => ?_)
    refine yw_length hP.2.2.2 hY hmv hP.2.2.1 hj (fun sz1 jm1 sq2 => ?_)
    exact ⟨rfl, ab_mk (ab_un I)⟩
theorem i_vc_play {k : Nat} {u : SX} {v : SY} (I : i_Rel k u v) (hk : k + 3 ≤ 1536) (v1 : Int32) : wpX_play (fun r u' => wpY_play (fun r' v' => r' = r ∧ i_Rel (k + 3) u' v') v v1) u v1 := by
  obtain ⟨f_first, f_second, f_kings, f_toMove, f_pastTop, f_pastSize, f_squareCount, f_taken, f_wanted, f_seen, f_most, f_beginnings, a_past, a_squares, a_direction, a_ledOn, a_saved, a_nextMove⟩ := u
  obtain ⟨f_movery, f_rememberedy, f_sizey, f_jumpsy, a_boardy, a_oldsy, a_oldSidesy, a_squaresy, a_asideBoardsy, a_asidePathsy, a_asideSizesy, a_asideJumpsy⟩ := v
  have I0 := ab_un I
  obtain ⟨B, m, tt, n, hP, hY, hmv, hpt, htt, hps, hn, hre, hPR⟩ := I0
  by_cases z : v1 < 0
  · refine br_t z ?_
    unfold wpY_play
    refine yw_findN z ?_
    exact br_t rfl ⟨rfl, I⟩
  · obtain ⟨j, hj, rfl⟩ := nI_of z
    refine xw_play hP hj hpt htt hps hn (fun q hq hV f1 s1 k1 t1 sc1 tk1 wa1 se1 mo1 be1 sq1 di1 le1 hP1 => ?_) (fun hq sc1 tk1 wa1 se1 mo1 be1 sq1 di1 le1 => ?_)
    · refine yw_play hP.2.2.2 hY hmv hP.2.2.1 hj hre hn (fun q2 hq2 bd sz1 jm1 sq2 hbd => ?_) (fun hq2 => by rw [hq] at hq2; exact absurd hq2 (by simp))
      have e : q2 = q := by rw [hq] at hq2; exact (Option.some.inj hq2).symm
      subst e
      refine ⟨rfl, ab_mk ?_⟩
      exact ⟨_, 1 - m, (tt + 1) % 20, _, hP1, hbd, rfl, rfl, Nat.mod_lt _ (by omega), rfl, by split <;> omega, rfl, ab_PR_play htt hn hPR hP hY hmv⟩
    · refine yw_play hP.2.2.2 hY hmv hP.2.2.1 hj hre hn (fun q2 hq2 => by rw [hq] at hq2; exact absurd hq2 (by simp)) (fun _ sz1 jm1 sq2 => ?_)
      exact ⟨rfl, ab_mk (ab_un I)⟩
theorem i_vc_back {k : Nat} {u : SX} {v : SY} (I : i_Rel k u v) (hk : k + 3 ≤ 1536) : wpX_back (fun r u' => wpY_back (fun r' v' => r' = r ∧ i_Rel (k + 3) u' v') v) u := by
  obtain ⟨f_first, f_second, f_kings, f_toMove, f_pastTop, f_pastSize, f_squareCount, f_taken, f_wanted, f_seen, f_most, f_beginnings, a_past, a_squares, a_direction, a_ledOn, a_saved, a_nextMove⟩ := u
  obtain ⟨f_movery, f_rememberedy, f_sizey, f_jumpsy, a_boardy, a_oldsy, a_oldSidesy, a_squaresy, a_asideBoardsy, a_asidePathsy, a_asideSizesy, a_asideJumpsy⟩ := v
  have I0 := ab_un I
  obtain ⟨B, m, tt, n, hP, hY, hmv, hpt, htt, hps, hn, hre, hPR⟩ := I0
  cases n with
  | zero => exact br_t hps (br_t hre ⟨rfl, I⟩)
  | succ n =>
    obtain ⟨B1, m1, a1, a2, a3⟩ := hPR n (by omega)
    rw [show (tt + 20 - (n + 1) + n) % 20 = (tt + 19) % 20 by omega] at a1
    refine xw_back1 hpt htt hps (by omega) ?_
    refine yw_back1 hre (by omega) ⟨rfl, ab_mk ?_⟩
    exact ⟨B1, m1, (tt + 19) % 20, n, a1, fun i hi => by rw [ab_fet_in hi]; exact a2 i hi, a3, rfl, Nat.mod_lt _ (by omega), rfl, by omega, rfl, ab_PR_back htt (by omega) hPR⟩
theorem i_vc_plays {k : Nat} {u : SX} {v : SY} (I : i_Rel k u v) (hk : k + 3 ≤ 1536) (v1 : Int32) : wpX_plays (fun r u' => wpY_plays (fun r' v' => r' = r ∧ i_Rel (k + 3) u' v') v v1) u v1 := by
  obtain ⟨f_first, f_second, f_kings, f_toMove, f_pastTop, f_pastSize, f_squareCount, f_taken, f_wanted, f_seen, f_most, f_beginnings, a_past, a_squares, a_direction, a_ledOn, a_saved, a_nextMove⟩ := u
  obtain ⟨f_movery, f_rememberedy, f_sizey, f_jumpsy, a_boardy, a_oldsy, a_oldSidesy, a_squaresy, a_asideBoardsy, a_asidePathsy, a_asideSizesy, a_asideJumpsy⟩ := v
  have I0 := ab_un I
  obtain ⟨B, m, tt, n, hP, hY, hmv, hpt, htt, hps, hn, hre, hPR⟩ := I0
  rcases pk_ix v1 (n := 4) (by omega) with z | z | ⟨d, hd, rfl⟩
  · exact br_t z (br_t z ⟨rfl, I⟩)
  · have z0 : ¬ v1 < 0 := by
      intro y
      exact absurd (Int32.lt_of_le_of_lt z y) (by decide)
    have z3 : ¬ v1 ≤ 3 := by
      intro y
      exact absurd (Int32.le_trans z y) (by decide)
    exact br_f z0 (br_f z3 (br_f z0 (br_f z3 ⟨rfl, I⟩)))
  · rcases Nat.eq_zero_or_pos d with e | e
    · subst e
      refine br_f (by decide) (br_t (by decide) (br_t rfl ?_))
      exact br_f (by decide) (br_t (by decide) (br_f (by decide) (br_t rfl ⟨rfl, I⟩)))
    · refine xw_plays e (by omega) hP (fun fi1 sn1 ki1 tm1 sc1 tk1 wa1 se1 mo1 be1 sq1 di1 le1 sv1 nm1 hP1 => ?_)
      refine yw_plays e (by omega) hP.2.2.2 hY hmv hP.2.2.1 (fun sz1 jm1 bd1 sq2 yb yp ys yj hbd => ?_)
      exact ⟨rfl, ab_mk ⟨B, m, tt, n, hP1, hbd, rfl, hpt, htt, hps, hn, hre, hPR⟩⟩
theorem i_vc_mostTaken {k : Nat} {u : SX} {v : SY} (I : i_Rel k u v) (hk : k + 3 ≤ 1536) : wpX_mostTaken (fun r u' => wpY_mostTaken (fun r' v' => r' = r ∧ i_Rel (k + 3) u' v') v) u := by
  obtain ⟨f_first, f_second, f_kings, f_toMove, f_pastTop, f_pastSize, f_squareCount, f_taken, f_wanted, f_seen, f_most, f_beginnings, a_past, a_squares, a_direction, a_ledOn, a_saved, a_nextMove⟩ := u
  obtain ⟨f_movery, f_rememberedy, f_sizey, f_jumpsy, a_boardy, a_oldsy, a_oldSidesy, a_squaresy, a_asideBoardsy, a_asidePathsy, a_asideSizesy, a_asideJumpsy⟩ := v
  have I0 := ab_un I
  obtain ⟨B, m, tt, n, hP, hY, hmv, hpt, htt, hps, hn, hre, hPR⟩ := I0
  refine xw_mostTaken hP (fun sc1 tk1 se1 mo1 be1 sq1 di1 le1 => ?_)
  refine yw_mostTaken hP.2.2.2 hY hmv hP.2.2.1 (fun sz1 jm1 sq2 => ?_)
  exact ⟨rfl, ab_mk (ab_un I)⟩
theorem i_vc_movable {k : Nat} {u : SX} {v : SY} (I : i_Rel k u v) (hk : k + 3 ≤ 1536) : wpX_movable (fun r u' => wpY_movable (fun r' v' => r' = r ∧ i_Rel (k + 3) u' v') v) u := by
  obtain ⟨f_first, f_second, f_kings, f_toMove, f_pastTop, f_pastSize, f_squareCount, f_taken, f_wanted, f_seen, f_most, f_beginnings, a_past, a_squares, a_direction, a_ledOn, a_saved, a_nextMove⟩ := u
  obtain ⟨f_movery, f_rememberedy, f_sizey, f_jumpsy, a_boardy, a_oldsy, a_oldSidesy, a_squaresy, a_asideBoardsy, a_asidePathsy, a_asideSizesy, a_asideJumpsy⟩ := v
  have I0 := ab_un I
  obtain ⟨B, m, tt, n, hP, hY, hmv, hpt, htt, hps, hn, hre, hPR⟩ := I0
  refine xw_movable hP (fun sc1 tk1 se1 mo1 be1 sq1 di1 le1 hb1 => ?_)
  refine yw_movable hP.2.2.2 hY hmv hP.2.2.1 (fun y sz1 jm1 sq2 hy => ?_)
  exact ⟨b_ext (fun i hi => (hy i hi).trans (hb1 i hi).symm), ab_mk (ab_un I)⟩
end
