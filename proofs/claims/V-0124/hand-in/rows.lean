section
/-! pure rows to paste: stores, nI and lN arithmetic, masks, shifts, narrowing, branches by naturals (pk_le, pk_lt, pk_eq), loops (lp1 .. lp16: the measure of the state; rp1 ..: recursion), negatives. Take what you need -/
theorem pk_us {f : Nat → Int32} {k : Nat} {x : Int32} : upd f k x k = x := if_pos rfl
theorem pk_un {f : Nat → Int32} {k j : Nat} {x : Int32} (h : j ≠ k) : upd f k x j = f j := if_neg h
theorem pk_uLs {f : Nat → Int64} {k : Nat} {x : Int64} : vp_updL f k x k = x := if_pos rfl
theorem pk_uLn {f : Nat → Int64} {k j : Nat} {x : Int64} (h : j ≠ k) : vp_updL f k x j = f j := if_neg h
theorem pk_sub {a b : Nat} (h : b ≤ a) : nI a - nI b = nI (a - b) := by
  obtain ⟨c, rfl⟩ : ∃ c, a = c + b := ⟨a - b, by omega⟩
  rw [← nI_add, Int32.add_sub_cancel, Nat.add_sub_cancel]
theorem pk_m1 (n : Nat) : nI (n + 1) + (-1) = nI n := by
  rw [← nI_1, Int32.add_assoc, show (1 : Int32) + (-1) = 0 from rfl, Int32.add_zero]
theorem pk_mul (a b : Nat) : nI a * nI b = nI (a * b) := (Int32.ofNat_mul a b).symm
theorem pk_div {a d : Nat} (ha : a < 2 ^ 31) (h0 : 0 < d) (hd : d < 2 ^ 31) : nI a / nI d = nI (a / d) := by
  apply Int32.toInt_inj.mp
  rw [lg_idiv_nonneg (by rw [nI_toInt ha]; omega) (by rw [nI_toInt hd]; omega), nI_toInt ha, nI_toInt hd, nI_toInt (Nat.lt_of_le_of_lt (Nat.div_le_self a d) ha)]
  first | rfl | exact (Int.natCast_ediv _ _).symm
theorem pk_rem {a d : Nat} (ha : a < 2 ^ 31) (h0 : 0 < d) (hd : d < 2 ^ 31) : nI a - nI a / nI d * nI d = nI (a % d) := by
  rw [pk_div ha h0 hd, pk_mul, pk_sub (Nat.div_mul_le_self a d)]
  exact congrArg nI (by have := Nat.div_add_mod' a d; omega)
theorem pk_sub_toInt {a b : Nat} (ha : a < 2 ^ 30) (hb : b < 2 ^ 30) : (nI a - nI b).toInt = (a : Int) - b := by
  rw [Int32.toInt_sub, nI_toInt (by omega), nI_toInt (by omega)]
  exact Int.bmod_eq_of_le (by omega) (by omega)
theorem pk_sneg {a b : Nat} (hb : b < 2 ^ 30) (h : a < b) : nI a - nI b < 0 := by
  rw [Int32.lt_iff_toInt_lt, pk_sub_toInt (by omega) hb, show (0 : Int32).toInt = 0 from by decide]
  omega
theorem pk_ix (x : Int32) {n : Nat} (hn : n < 2 ^ 31) : x < 0 ∨ nI n ≤ x ∨ ∃ j : Nat, j < n ∧ x = nI j := by
  by_cases h : x < 0
  · exact Or.inl h
  · obtain ⟨j, hj, rfl⟩ := nI_of h
    by_cases h2 : j < n
    · exact Or.inr (Or.inr ⟨j, h2, rfl⟩)
    · exact Or.inr (Or.inl (nI_le (by omega) hj))
theorem pk_le {x y : Int32} {A B : Prop} (a b : Nat) (f : a ≤ b → A) (g : b < a → B) (hx : x = nI a := by rfl) (hy : y = nI b := by rfl) (ha : a < 2 ^ 31 := by omega) (hb : b < 2 ^ 31 := by omega) : (x ≤ y → A) ∧ (¬ x ≤ y → B) := by
  subst hx hy
  rw [nI_leI ha hb]
  exact ⟨f, fun z => g (by omega)⟩
theorem pk_lt {x y : Int32} {A B : Prop} (a b : Nat) (f : a < b → A) (g : b ≤ a → B) (hx : x = nI a := by rfl) (hy : y = nI b := by rfl) (ha : a < 2 ^ 31 := by omega) (hb : b < 2 ^ 31 := by omega) : (x < y → A) ∧ (¬ x < y → B) := by
  subst hx hy
  rw [nI_ltI ha hb]
  exact ⟨f, fun z => g (by omega)⟩
theorem pk_eq {x y : Int32} {A B : Prop} (a b : Nat) (f : a = b → A) (g : a ≠ b → B) (hx : x = nI a := by rfl) (hy : y = nI b := by rfl) (ha : a < 2 ^ 31 := by omega) (hb : b < 2 ^ 31 := by omega) : (x = y → A) ∧ (¬ x = y → B) := by
  subst hx hy
  rw [nI_eq ha hb]
  exact ⟨f, g⟩
theorem pk_in {x : Int32} (n N : Nat) (h : n < N) (hx : x = nI n := by rfl) (hN : N < 2 ^ 31 := by omega) : vp_in x N := by
  subst hx
  exact vp_in_nI h hN
theorem pk_cl {x : Int32} (n : Nat) (hx : x = nI n := by rfl) (h : n < 2 ^ 31 := by omega) : x.toNatClampNeg = n := by
  subst hx
  exact nI_clamp h
theorem pk_tn {n : Nat} (h : n < 2 ^ 32) : (nI n).toBitVec.toNat = n := Nat.mod_eq_of_lt h
theorem pk_and (x : Int32) {m : Int32} (k : Nat) (hm : m.toBitVec.toNat = 2 ^ k - 1) : x &&& m = nI (x.toBitVec.toNat % 2 ^ k) := by
  apply Int32.toBitVec_inj.mp
  apply BitVec.eq_of_toNat_eq
  rw [Int32.toBitVec_and, BitVec.toNat_and, hm, Nat.and_two_pow_sub_one_eq_mod]
  show _ = (BitVec.ofNat 32 _).toNat
  rw [BitVec.toNat_ofNat]
  exact (Nat.mod_eq_of_lt (Nat.lt_of_le_of_lt (Nat.mod_le _ _) x.toBitVec.isLt)).symm
theorem pk_andN {n : Nat} (h : n < 2 ^ 32) {m : Int32} (k : Nat) (hm : m.toBitVec.toNat = 2 ^ k - 1) : nI n &&& m = nI (n % 2 ^ k) := by
  rw [pk_and _ k hm, pk_tn h]
theorem pk_andE (x : Int32) {m : Int32} (k : Nat) (hm : m.toBitVec.toNat = 2 ^ k - 1) : ∃ j : Nat, j < 2 ^ k ∧ x &&& m = nI j := ⟨_, Nat.mod_lt _ (Nat.two_pow_pos k), pk_and x k hm⟩
theorem pk_andIn (x : Int32) {m : Int32} (k : Nat) (hm : m.toBitVec.toNat = 2 ^ k - 1) (hk : k ≤ 30) : vp_in (x &&& m) (2 ^ k) := by
  obtain ⟨j, hj, e⟩ := pk_andE x k hm
  rw [e]
  exact vp_in_nI hj (Nat.lt_of_le_of_lt (Nat.pow_le_pow_right (by decide) hk) (by decide))
theorem pk_shl (a s : Int32) (k : Nat) (hs : (s.toBitVec.smod 32).toNat = k) : (a <<< s).toBitVec.toNat = a.toBitVec.toNat * 2 ^ k % 2 ^ 32 := by
  show (a.toBitVec <<< (s.toBitVec.smod 32).toNat).toNat = _
  rw [hs, BitVec.toNat_shiftLeft, Nat.shiftLeft_eq]
theorem pk_shlN {n : Nat} (s : Int32) (k : Nat) (hs : (s.toBitVec.smod 32).toNat = k) (h : n * 2 ^ k < 2 ^ 32) : nI n <<< s = nI (n * 2 ^ k) := by
  apply Int32.toBitVec_inj.mp
  apply BitVec.eq_of_toNat_eq
  have hn : n < 2 ^ 32 := Nat.lt_of_le_of_lt (Nat.le_mul_of_pos_right n (Nat.two_pow_pos k)) h
  rw [pk_shl _ _ k hs, pk_tn hn, pk_tn h, Nat.mod_eq_of_lt h]
theorem pk_shr (a s : Int32) (k : Nat) (hs : (s.toBitVec.smod 32).toNat = k) : (a >>> s).toInt = a.toInt >>> k := by
  show (a.toBitVec.sshiftRight (s.toBitVec.smod 32).toNat).toInt = _
  rw [hs, BitVec.toInt_sshiftRight]
  rfl
theorem pk_shrN {n : Nat} (h : n < 2 ^ 31) (s : Int32) (k : Nat) (hs : (s.toBitVec.smod 32).toNat = k) : nI n >>> s = nI (n / 2 ^ k) := by
  apply Int32.toInt_inj.mp
  have h2 : n / 2 ^ k ≤ n := Nat.div_le_self _ _
  rw [pk_shr _ _ k hs, nI_toInt h, nI_toInt (by omega), Int.shiftRight_eq_div_pow]
  rfl
theorem pk_ushr (x s : Int32) (k : Nat) (hs : ((s.toUInt32 &&& Int32.toUInt32 31).toBitVec % 32).toNat = k) : (x.toUInt32 >>> (s.toUInt32 &&& Int32.toUInt32 31)).toInt32.toBitVec.toNat = x.toBitVec.toNat / 2 ^ k := by
  have e : (x.toUInt32 >>> (s.toUInt32 &&& Int32.toUInt32 31)).toInt32.toBitVec = x.toBitVec >>> k := by
    rw [← hs]
    exact UInt32.toBitVec_shiftRight _ _
  rw [e, BitVec.toNat_ushiftRight, Nat.shiftRight_eq_div_pow]
theorem pk_ushrN {n : Nat} (hn : n < 2 ^ 32) (s : Int32) (k : Nat) (hs : ((s.toUInt32 &&& Int32.toUInt32 31).toBitVec % 32).toNat = k) : ((nI n).toUInt32 >>> (s.toUInt32 &&& Int32.toUInt32 31)).toInt32 = nI (n / 2 ^ k) := by
  apply Int32.toBitVec_inj.mp
  apply BitVec.eq_of_toNat_eq
  rw [pk_ushr _ s k hs, pk_tn hn, pk_tn (Nat.lt_of_le_of_lt (Nat.div_le_self _ _) hn)]
theorem pk_nb (z : Int32) : narrow .byte (.int z.toInt8.toInt32) = .int z.toInt8.toInt32 := congrArg Value.int (by simp)
theorem pk_ns (z : Int32) : narrow .short (.int z.toInt16.toInt32) = .int z.toInt16.toInt32 := congrArg Value.int (by simp)
theorem pk_fb (r : Int32) : fits .byte (.int r.toInt8.toInt32) = true := by
  have ⟨a, b⟩ := lg_i2b_range r
  have h1 : (-128 : Int32).toInt = -128 := by decide
  have h2 : (127 : Int32).toInt = 127 := by decide
  simp only [fits, Bool.and_eq_true, decide_eq_true_eq, Int32.le_iff_toInt_le, h1, h2]
  omega
theorem pk_fs (r : Int32) : fits .short (.int r.toInt16.toInt32) = true := by
  have ⟨a, b⟩ := lg_i2s_range r
  have h1 : (-32768 : Int32).toInt = -32768 := by decide
  have h2 : (32767 : Int32).toInt = 32767 := by decide
  simp only [fits, Bool.and_eq_true, decide_eq_true_eq, Int32.le_iff_toInt_le, h1, h2]
  omega
theorem pk_charN {q : Nat} (hq : q < 65536) : narrow .char (.int (nI q)) = .int (nI q) ∧ fits .char (.int (nI q)) = true := by
  constructor
  · have e : (nI q).toUInt32.toUInt16.toUInt32.toInt32 = nI q := by
      apply Int32.toBitVec_inj.mp
      apply BitVec.eq_of_toNat_eq
      show (nI q).toUInt32.toUInt16.toUInt32.toNat = q % 2 ^ 32
      rw [UInt16.toNat_toUInt32, UInt32.toNat_toUInt16, show (nI q).toUInt32.toNat = q % 2 ^ 32 from rfl]
      omega
    exact congrArg Value.int e
  · have a : (0 : Int32) ≤ nI q := nI_pos' (by omega)
    have b : nI q ≤ 65535 := nI_le (b := 65535) (by omega) (by decide)
    show (decide ((0 : Int32) ≤ nI q) && decide (nI q ≤ 65535)) = true
    rw [decide_eq_true a, decide_eq_true b]
    rfl
theorem pk_char (x : Int32) : (x.toUInt32 % 65536).toInt32 = nI (x.toBitVec.toNat % 65536) := by
  apply Int32.toBitVec_inj.mp
  apply BitVec.eq_of_toNat_eq
  rw [pk_tn (by omega)]
  show (x.toUInt32 % 65536).toNat = _
  rw [UInt32.toNat_mod]
  rfl
theorem pk_nc (x : Int32) : narrow .char (.int (x.toUInt32 % 65536).toInt32) = .int (x.toUInt32 % 65536).toInt32 := by
  rw [pk_char]
  exact (pk_charN (Nat.mod_lt _ (by decide))).1
theorem pk_fc (x : Int32) : fits .char (.int (x.toUInt32 % 65536).toInt32) = true := by
  rw [pk_char]
  exact (pk_charN (Nat.mod_lt _ (by decide))).2
theorem pk_vb (z : Int32) : vp_nar .byte z.toInt8.toInt32 = z.toInt8.toInt32 := by rw [vp_nar_byte]; simp
theorem pk_vs (z : Int32) : vp_nar .short z.toInt16.toInt32 = z.toInt16.toInt32 := by rw [vp_nar_short]; simp
theorem pk_vc (z : Int32) : vp_nar .char (z.toUInt32 % 65536).toInt32 = (z.toUInt32 % 65536).toInt32 := Value.int.inj (pk_nc z)
theorem pk_lT {n : Nat} (h : n < 2 ^ 63) : (lN n).toInt = (n : Int) := lg_ofNat_toInt h
theorem pk_lLT {a b : Nat} (ha : a < 2 ^ 63) (hb : b < 2 ^ 63) : lN a < lN b ↔ a < b := by
  rw [Int64.lt_iff_toInt_lt, pk_lT ha, pk_lT hb]; omega
theorem pk_lLE {a b : Nat} (ha : a < 2 ^ 63) (hb : b < 2 ^ 63) : lN a ≤ lN b ↔ a ≤ b := by
  rw [Int64.le_iff_toInt_le, pk_lT ha, pk_lT hb]; omega
theorem pk_lEQ {a b : Nat} (ha : a < 2 ^ 63) (hb : b < 2 ^ 63) : lN a = lN b ↔ a = b := by
  rw [← Int64.toInt_inj, pk_lT ha, pk_lT hb]; omega
theorem pk_lOf {x : Int64} (h : ¬ x < 0) : ∃ k : Nat, k < 2 ^ 63 ∧ x = lN k := by
  rw [Int64.lt_iff_toInt_lt] at h
  have h0 : (0 : Int64).toInt = 0 := by decide
  have hx := Int64.toInt_lt x
  refine ⟨x.toInt.toNat, by omega, Int64.toInt_inj.mp ?_⟩
  rw [pk_lT (by omega)]
  omega
theorem pk_lDiv {a b : Nat} (ha : a < 2 ^ 63) (h0 : 0 < b) (hb : b < 2 ^ 63) : lN a / lN b = lN (a / b) := by
  apply Int64.toInt_inj.mp
  rw [lg_ldiv_nonneg (by rw [pk_lT ha]; omega) (by rw [pk_lT hb]; omega), pk_lT ha, pk_lT hb, pk_lT (Nat.lt_of_le_of_lt (Nat.div_le_self a b) ha)]
  rfl
theorem pk_lRem {a b : Nat} (ha : a < 2 ^ 63) (h0 : 0 < b) (hb : b < 2 ^ 63) : lN a - lN a / lN b * lN b = lN (a % b) := by
  rw [pk_lDiv ha h0 hb, lN_mul, lN_sub (Nat.div_mul_le_self a b)]
  exact congrArg lN (by have := Nat.div_add_mod' a b; omega)
theorem pk_loop {σ : Type} (W : Nat → Nat → σ → Prop) (I : Nat → σ → Prop) (e i0 : Nat) (s : σ) (hi : i0 ≤ e) (h0 : I i0 s) (hx : ∀ n s, I e s → W (n + 1) e s)
    (hs : ∀ n i s, i < e → I i s → (∀ s', I (i + 1) s' → W n (i + 1) s') → W (n + 1) i s) : ∃ n, W n i0 s :=
  ⟨e + 1, loop_i W I e hx hs (e + 1) i0 s hi (by omega) h0⟩
theorem pk_loopD {σ : Type} (W : Nat → Nat → σ → Prop) (I : Nat → σ → Prop) (hx : ∀ n s, I 0 s → W (n + 1) 0 s)
    (hs : ∀ n i s, I (i + 1) s → (∀ s', I i s' → W n i s') → W (n + 1) (i + 1) s) : ∀ (e : Nat) (s : σ), I e s → W (e + 1) e s := by
  intro e
  induction e with
  | zero => exact fun s h => hx 0 s h
  | succ e ih => exact fun s h => hs (e + 1) e s h (fun s' h' => ih s' h')
theorem lp1 {A1 : Type} (W : Nat → A1 → Prop) (I : A1 → Prop) (μ : A1 → Nat) (hs : ∀ (n : Nat) (a1 : A1), I a1 → (∀ (b1 : A1), I b1 → μ b1 < μ a1 → W n b1) → W (n + 1) a1) (a1 : A1) (h : I a1) : ∃ n, W n a1 :=
  loop_m (σ := A1) (fun n s => W n s) (fun s => I s) (fun s => μ s) (fun n s hI hk => hs n s hI (fun b1 h9 hm => hk b1 h9 hm)) a1 h
theorem lp2 {A1 A2 : Type} (W : Nat → A1 → A2 → Prop) (I : A1 → A2 → Prop) (μ : A1 → A2 → Nat) (hs : ∀ (n : Nat) (a1 : A1) (a2 : A2), I a1 a2 → (∀ (b1 : A1) (b2 : A2), I b1 b2 → μ b1 b2 < μ a1 a2 → W n b1 b2) → W (n + 1) a1 a2) (a1 : A1) (a2 : A2) (h : I a1 a2) : ∃ n, W n a1 a2 :=
  loop_m (σ := A1 × A2) (fun n s => W n s.1 s.2) (fun s => I s.1 s.2) (fun s => μ s.1 s.2) (fun n s hI hk => hs n s.1 s.2 hI (fun b1 b2 h9 hm => hk (b1, b2) h9 hm)) (a1, a2) h
theorem lp3 {A1 A2 A3 : Type} (W : Nat → A1 → A2 → A3 → Prop) (I : A1 → A2 → A3 → Prop) (μ : A1 → A2 → A3 → Nat) (hs : ∀ (n : Nat) (a1 : A1) (a2 : A2) (a3 : A3), I a1 a2 a3 → (∀ (b1 : A1) (b2 : A2) (b3 : A3), I b1 b2 b3 → μ b1 b2 b3 < μ a1 a2 a3 → W n b1 b2 b3) → W (n + 1) a1 a2 a3) (a1 : A1) (a2 : A2) (a3 : A3) (h : I a1 a2 a3) : ∃ n, W n a1 a2 a3 :=
  loop_m (σ := A1 × A2 × A3) (fun n s => W n s.1 s.2.1 s.2.2) (fun s => I s.1 s.2.1 s.2.2) (fun s => μ s.1 s.2.1 s.2.2) (fun n s hI hk => hs n s.1 s.2.1 s.2.2 hI (fun b1 b2 b3 h9 hm => hk (b1, b2, b3) h9 hm)) (a1, a2, a3) h
theorem lp4 {A1 A2 A3 A4 : Type} (W : Nat → A1 → A2 → A3 → A4 → Prop) (I : A1 → A2 → A3 → A4 → Prop) (μ : A1 → A2 → A3 → A4 → Nat) (hs : ∀ (n : Nat) (a1 : A1) (a2 : A2) (a3 : A3) (a4 : A4), I a1 a2 a3 a4 → (∀ (b1 : A1) (b2 : A2) (b3 : A3) (b4 : A4), I b1 b2 b3 b4 → μ b1 b2 b3 b4 < μ a1 a2 a3 a4 → W n b1 b2 b3 b4) → W (n + 1) a1 a2 a3 a4) (a1 : A1) (a2 : A2) (a3 : A3) (a4 : A4) (h : I a1 a2 a3 a4) : ∃ n, W n a1 a2 a3 a4 :=
  loop_m (σ := A1 × A2 × A3 × A4) (fun n s => W n s.1 s.2.1 s.2.2.1 s.2.2.2) (fun s => I s.1 s.2.1 s.2.2.1 s.2.2.2) (fun s => μ s.1 s.2.1 s.2.2.1 s.2.2.2) (fun n s hI hk => hs n s.1 s.2.1 s.2.2.1 s.2.2.2 hI (fun b1 b2 b3 b4 h9 hm => hk (b1, b2, b3, b4) h9 hm)) (a1, a2, a3, a4) h
theorem lp5 {A1 A2 A3 A4 A5 : Type} (W : Nat → A1 → A2 → A3 → A4 → A5 → Prop) (I : A1 → A2 → A3 → A4 → A5 → Prop) (μ : A1 → A2 → A3 → A4 → A5 → Nat) (hs : ∀ (n : Nat) (a1 : A1) (a2 : A2) (a3 : A3) (a4 : A4) (a5 : A5), I a1 a2 a3 a4 a5 → (∀ (b1 : A1) (b2 : A2) (b3 : A3) (b4 : A4) (b5 : A5), I b1 b2 b3 b4 b5 → μ b1 b2 b3 b4 b5 < μ a1 a2 a3 a4 a5 → W n b1 b2 b3 b4 b5) → W (n + 1) a1 a2 a3 a4 a5) (a1 : A1) (a2 : A2) (a3 : A3) (a4 : A4) (a5 : A5) (h : I a1 a2 a3 a4 a5) : ∃ n, W n a1 a2 a3 a4 a5 :=
  loop_m (σ := A1 × A2 × A3 × A4 × A5) (fun n s => W n s.1 s.2.1 s.2.2.1 s.2.2.2.1 s.2.2.2.2) (fun s => I s.1 s.2.1 s.2.2.1 s.2.2.2.1 s.2.2.2.2) (fun s => μ s.1 s.2.1 s.2.2.1 s.2.2.2.1 s.2.2.2.2) (fun n s hI hk => hs n s.1 s.2.1 s.2.2.1 s.2.2.2.1 s.2.2.2.2 hI (fun b1 b2 b3 b4 b5 h9 hm => hk (b1, b2, b3, b4, b5) h9 hm)) (a1, a2, a3, a4, a5) h
theorem lp6 {A1 A2 A3 A4 A5 A6 : Type} (W : Nat → A1 → A2 → A3 → A4 → A5 → A6 → Prop) (I : A1 → A2 → A3 → A4 → A5 → A6 → Prop) (μ : A1 → A2 → A3 → A4 → A5 → A6 → Nat) (hs : ∀ (n : Nat) (a1 : A1) (a2 : A2) (a3 : A3) (a4 : A4) (a5 : A5) (a6 : A6), I a1 a2 a3 a4 a5 a6 → (∀ (b1 : A1) (b2 : A2) (b3 : A3) (b4 : A4) (b5 : A5) (b6 : A6), I b1 b2 b3 b4 b5 b6 → μ b1 b2 b3 b4 b5 b6 < μ a1 a2 a3 a4 a5 a6 → W n b1 b2 b3 b4 b5 b6) → W (n + 1) a1 a2 a3 a4 a5 a6) (a1 : A1) (a2 : A2) (a3 : A3) (a4 : A4) (a5 : A5) (a6 : A6) (h : I a1 a2 a3 a4 a5 a6) : ∃ n, W n a1 a2 a3 a4 a5 a6 :=
  loop_m (σ := A1 × A2 × A3 × A4 × A5 × A6) (fun n s => W n s.1 s.2.1 s.2.2.1 s.2.2.2.1 s.2.2.2.2.1 s.2.2.2.2.2) (fun s => I s.1 s.2.1 s.2.2.1 s.2.2.2.1 s.2.2.2.2.1 s.2.2.2.2.2) (fun s => μ s.1 s.2.1 s.2.2.1 s.2.2.2.1 s.2.2.2.2.1 s.2.2.2.2.2) (fun n s hI hk => hs n s.1 s.2.1 s.2.2.1 s.2.2.2.1 s.2.2.2.2.1 s.2.2.2.2.2 hI (fun b1 b2 b3 b4 b5 b6 h9 hm => hk (b1, b2, b3, b4, b5, b6) h9 hm)) (a1, a2, a3, a4, a5, a6) h
theorem lp7 {A1 A2 A3 A4 A5 A6 A7 : Type} (W : Nat → A1 → A2 → A3 → A4 → A5 → A6 → A7 → Prop) (I : A1 → A2 → A3 → A4 → A5 → A6 → A7 → Prop) (μ : A1 → A2 → A3 → A4 → A5 → A6 → A7 → Nat) (hs : ∀ (n : Nat) (a1 : A1) (a2 : A2) (a3 : A3) (a4 : A4) (a5 : A5) (a6 : A6) (a7 : A7), I a1 a2 a3 a4 a5 a6 a7 → (∀ (b1 : A1) (b2 : A2) (b3 : A3) (b4 : A4) (b5 : A5) (b6 : A6) (b7 : A7), I b1 b2 b3 b4 b5 b6 b7 → μ b1 b2 b3 b4 b5 b6 b7 < μ a1 a2 a3 a4 a5 a6 a7 → W n b1 b2 b3 b4 b5 b6 b7) → W (n + 1) a1 a2 a3 a4 a5 a6 a7) (a1 : A1) (a2 : A2) (a3 : A3) (a4 : A4) (a5 : A5) (a6 : A6) (a7 : A7) (h : I a1 a2 a3 a4 a5 a6 a7) : ∃ n, W n a1 a2 a3 a4 a5 a6 a7 :=
  loop_m (σ := A1 × A2 × A3 × A4 × A5 × A6 × A7) (fun n s => W n s.1 s.2.1 s.2.2.1 s.2.2.2.1 s.2.2.2.2.1 s.2.2.2.2.2.1 s.2.2.2.2.2.2) (fun s => I s.1 s.2.1 s.2.2.1 s.2.2.2.1 s.2.2.2.2.1 s.2.2.2.2.2.1 s.2.2.2.2.2.2) (fun s => μ s.1 s.2.1 s.2.2.1 s.2.2.2.1 s.2.2.2.2.1 s.2.2.2.2.2.1 s.2.2.2.2.2.2) (fun n s hI hk => hs n s.1 s.2.1 s.2.2.1 s.2.2.2.1 s.2.2.2.2.1 s.2.2.2.2.2.1 s.2.2.2.2.2.2 hI (fun b1 b2 b3 b4 b5 b6 b7 h9 hm => hk (b1, b2, b3, b4, b5, b6, b7) h9 hm)) (a1, a2, a3, a4, a5, a6, a7) h
theorem lp8 {A1 A2 A3 A4 A5 A6 A7 A8 : Type} (W : Nat → A1 → A2 → A3 → A4 → A5 → A6 → A7 → A8 → Prop) (I : A1 → A2 → A3 → A4 → A5 → A6 → A7 → A8 → Prop) (μ : A1 → A2 → A3 → A4 → A5 → A6 → A7 → A8 → Nat) (hs : ∀ (n : Nat) (a1 : A1) (a2 : A2) (a3 : A3) (a4 : A4) (a5 : A5) (a6 : A6) (a7 : A7) (a8 : A8), I a1 a2 a3 a4 a5 a6 a7 a8 → (∀ (b1 : A1) (b2 : A2) (b3 : A3) (b4 : A4) (b5 : A5) (b6 : A6) (b7 : A7) (b8 : A8), I b1 b2 b3 b4 b5 b6 b7 b8 → μ b1 b2 b3 b4 b5 b6 b7 b8 < μ a1 a2 a3 a4 a5 a6 a7 a8 → W n b1 b2 b3 b4 b5 b6 b7 b8) → W (n + 1) a1 a2 a3 a4 a5 a6 a7 a8) (a1 : A1) (a2 : A2) (a3 : A3) (a4 : A4) (a5 : A5) (a6 : A6) (a7 : A7) (a8 : A8) (h : I a1 a2 a3 a4 a5 a6 a7 a8) : ∃ n, W n a1 a2 a3 a4 a5 a6 a7 a8 :=
  loop_m (σ := A1 × A2 × A3 × A4 × A5 × A6 × A7 × A8) (fun n s => W n s.1 s.2.1 s.2.2.1 s.2.2.2.1 s.2.2.2.2.1 s.2.2.2.2.2.1 s.2.2.2.2.2.2.1 s.2.2.2.2.2.2.2) (fun s => I s.1 s.2.1 s.2.2.1 s.2.2.2.1 s.2.2.2.2.1 s.2.2.2.2.2.1 s.2.2.2.2.2.2.1 s.2.2.2.2.2.2.2) (fun s => μ s.1 s.2.1 s.2.2.1 s.2.2.2.1 s.2.2.2.2.1 s.2.2.2.2.2.1 s.2.2.2.2.2.2.1 s.2.2.2.2.2.2.2) (fun n s hI hk => hs n s.1 s.2.1 s.2.2.1 s.2.2.2.1 s.2.2.2.2.1 s.2.2.2.2.2.1 s.2.2.2.2.2.2.1 s.2.2.2.2.2.2.2 hI (fun b1 b2 b3 b4 b5 b6 b7 b8 h9 hm => hk (b1, b2, b3, b4, b5, b6, b7, b8) h9 hm)) (a1, a2, a3, a4, a5, a6, a7, a8) h
theorem lp9 {A1 A2 A3 A4 A5 A6 A7 A8 A9 : Type} (W : Nat → A1 → A2 → A3 → A4 → A5 → A6 → A7 → A8 → A9 → Prop) (I : A1 → A2 → A3 → A4 → A5 → A6 → A7 → A8 → A9 → Prop) (μ : A1 → A2 → A3 → A4 → A5 → A6 → A7 → A8 → A9 → Nat) (hs : ∀ (n : Nat) (a1 : A1) (a2 : A2) (a3 : A3) (a4 : A4) (a5 : A5) (a6 : A6) (a7 : A7) (a8 : A8) (a9 : A9), I a1 a2 a3 a4 a5 a6 a7 a8 a9 → (∀ (b1 : A1) (b2 : A2) (b3 : A3) (b4 : A4) (b5 : A5) (b6 : A6) (b7 : A7) (b8 : A8) (b9 : A9), I b1 b2 b3 b4 b5 b6 b7 b8 b9 → μ b1 b2 b3 b4 b5 b6 b7 b8 b9 < μ a1 a2 a3 a4 a5 a6 a7 a8 a9 → W n b1 b2 b3 b4 b5 b6 b7 b8 b9) → W (n + 1) a1 a2 a3 a4 a5 a6 a7 a8 a9) (a1 : A1) (a2 : A2) (a3 : A3) (a4 : A4) (a5 : A5) (a6 : A6) (a7 : A7) (a8 : A8) (a9 : A9) (h : I a1 a2 a3 a4 a5 a6 a7 a8 a9) : ∃ n, W n a1 a2 a3 a4 a5 a6 a7 a8 a9 :=
  loop_m (σ := A1 × A2 × A3 × A4 × A5 × A6 × A7 × A8 × A9) (fun n s => W n s.1 s.2.1 s.2.2.1 s.2.2.2.1 s.2.2.2.2.1 s.2.2.2.2.2.1 s.2.2.2.2.2.2.1 s.2.2.2.2.2.2.2.1 s.2.2.2.2.2.2.2.2) (fun s => I s.1 s.2.1 s.2.2.1 s.2.2.2.1 s.2.2.2.2.1 s.2.2.2.2.2.1 s.2.2.2.2.2.2.1 s.2.2.2.2.2.2.2.1 s.2.2.2.2.2.2.2.2) (fun s => μ s.1 s.2.1 s.2.2.1 s.2.2.2.1 s.2.2.2.2.1 s.2.2.2.2.2.1 s.2.2.2.2.2.2.1 s.2.2.2.2.2.2.2.1 s.2.2.2.2.2.2.2.2) (fun n s hI hk => hs n s.1 s.2.1 s.2.2.1 s.2.2.2.1 s.2.2.2.2.1 s.2.2.2.2.2.1 s.2.2.2.2.2.2.1 s.2.2.2.2.2.2.2.1 s.2.2.2.2.2.2.2.2 hI (fun b1 b2 b3 b4 b5 b6 b7 b8 b9 h9 hm => hk (b1, b2, b3, b4, b5, b6, b7, b8, b9) h9 hm)) (a1, a2, a3, a4, a5, a6, a7, a8, a9) h
theorem lp10 {A1 A2 A3 A4 A5 A6 A7 A8 A9 A10 : Type} (W : Nat → A1 → A2 → A3 → A4 → A5 → A6 → A7 → A8 → A9 → A10 → Prop) (I : A1 → A2 → A3 → A4 → A5 → A6 → A7 → A8 → A9 → A10 → Prop) (μ : A1 → A2 → A3 → A4 → A5 → A6 → A7 → A8 → A9 → A10 → Nat) (hs : ∀ (n : Nat) (a1 : A1) (a2 : A2) (a3 : A3) (a4 : A4) (a5 : A5) (a6 : A6) (a7 : A7) (a8 : A8) (a9 : A9) (a10 : A10), I a1 a2 a3 a4 a5 a6 a7 a8 a9 a10 → (∀ (b1 : A1) (b2 : A2) (b3 : A3) (b4 : A4) (b5 : A5) (b6 : A6) (b7 : A7) (b8 : A8) (b9 : A9) (b10 : A10), I b1 b2 b3 b4 b5 b6 b7 b8 b9 b10 → μ b1 b2 b3 b4 b5 b6 b7 b8 b9 b10 < μ a1 a2 a3 a4 a5 a6 a7 a8 a9 a10 → W n b1 b2 b3 b4 b5 b6 b7 b8 b9 b10) → W (n + 1) a1 a2 a3 a4 a5 a6 a7 a8 a9 a10) (a1 : A1) (a2 : A2) (a3 : A3) (a4 : A4) (a5 : A5) (a6 : A6) (a7 : A7) (a8 : A8) (a9 : A9) (a10 : A10) (h : I a1 a2 a3 a4 a5 a6 a7 a8 a9 a10) : ∃ n, W n a1 a2 a3 a4 a5 a6 a7 a8 a9 a10 :=
  loop_m (σ := A1 × A2 × A3 × A4 × A5 × A6 × A7 × A8 × A9 × A10) (fun n s => W n s.1 s.2.1 s.2.2.1 s.2.2.2.1 s.2.2.2.2.1 s.2.2.2.2.2.1 s.2.2.2.2.2.2.1 s.2.2.2.2.2.2.2.1 s.2.2.2.2.2.2.2.2.1 s.2.2.2.2.2.2.2.2.2) (fun s => I s.1 s.2.1 s.2.2.1 s.2.2.2.1 s.2.2.2.2.1 s.2.2.2.2.2.1 s.2.2.2.2.2.2.1 s.2.2.2.2.2.2.2.1 s.2.2.2.2.2.2.2.2.1 s.2.2.2.2.2.2.2.2.2) (fun s => μ s.1 s.2.1 s.2.2.1 s.2.2.2.1 s.2.2.2.2.1 s.2.2.2.2.2.1 s.2.2.2.2.2.2.1 s.2.2.2.2.2.2.2.1 s.2.2.2.2.2.2.2.2.1 s.2.2.2.2.2.2.2.2.2) (fun n s hI hk => hs n s.1 s.2.1 s.2.2.1 s.2.2.2.1 s.2.2.2.2.1 s.2.2.2.2.2.1 s.2.2.2.2.2.2.1 s.2.2.2.2.2.2.2.1 s.2.2.2.2.2.2.2.2.1 s.2.2.2.2.2.2.2.2.2 hI (fun b1 b2 b3 b4 b5 b6 b7 b8 b9 b10 h9 hm => hk (b1, b2, b3, b4, b5, b6, b7, b8, b9, b10) h9 hm)) (a1, a2, a3, a4, a5, a6, a7, a8, a9, a10) h
theorem lp11 {A1 A2 A3 A4 A5 A6 A7 A8 A9 A10 A11 : Type} (W : Nat → A1 → A2 → A3 → A4 → A5 → A6 → A7 → A8 → A9 → A10 → A11 → Prop) (I : A1 → A2 → A3 → A4 → A5 → A6 → A7 → A8 → A9 → A10 → A11 → Prop) (μ : A1 → A2 → A3 → A4 → A5 → A6 → A7 → A8 → A9 → A10 → A11 → Nat) (hs : ∀ (n : Nat) (a1 : A1) (a2 : A2) (a3 : A3) (a4 : A4) (a5 : A5) (a6 : A6) (a7 : A7) (a8 : A8) (a9 : A9) (a10 : A10) (a11 : A11), I a1 a2 a3 a4 a5 a6 a7 a8 a9 a10 a11 → (∀ (b1 : A1) (b2 : A2) (b3 : A3) (b4 : A4) (b5 : A5) (b6 : A6) (b7 : A7) (b8 : A8) (b9 : A9) (b10 : A10) (b11 : A11), I b1 b2 b3 b4 b5 b6 b7 b8 b9 b10 b11 → μ b1 b2 b3 b4 b5 b6 b7 b8 b9 b10 b11 < μ a1 a2 a3 a4 a5 a6 a7 a8 a9 a10 a11 → W n b1 b2 b3 b4 b5 b6 b7 b8 b9 b10 b11) → W (n + 1) a1 a2 a3 a4 a5 a6 a7 a8 a9 a10 a11) (a1 : A1) (a2 : A2) (a3 : A3) (a4 : A4) (a5 : A5) (a6 : A6) (a7 : A7) (a8 : A8) (a9 : A9) (a10 : A10) (a11 : A11) (h : I a1 a2 a3 a4 a5 a6 a7 a8 a9 a10 a11) : ∃ n, W n a1 a2 a3 a4 a5 a6 a7 a8 a9 a10 a11 :=
  loop_m (σ := A1 × A2 × A3 × A4 × A5 × A6 × A7 × A8 × A9 × A10 × A11) (fun n s => W n s.1 s.2.1 s.2.2.1 s.2.2.2.1 s.2.2.2.2.1 s.2.2.2.2.2.1 s.2.2.2.2.2.2.1 s.2.2.2.2.2.2.2.1 s.2.2.2.2.2.2.2.2.1 s.2.2.2.2.2.2.2.2.2.1 s.2.2.2.2.2.2.2.2.2.2) (fun s => I s.1 s.2.1 s.2.2.1 s.2.2.2.1 s.2.2.2.2.1 s.2.2.2.2.2.1 s.2.2.2.2.2.2.1 s.2.2.2.2.2.2.2.1 s.2.2.2.2.2.2.2.2.1 s.2.2.2.2.2.2.2.2.2.1 s.2.2.2.2.2.2.2.2.2.2) (fun s => μ s.1 s.2.1 s.2.2.1 s.2.2.2.1 s.2.2.2.2.1 s.2.2.2.2.2.1 s.2.2.2.2.2.2.1 s.2.2.2.2.2.2.2.1 s.2.2.2.2.2.2.2.2.1 s.2.2.2.2.2.2.2.2.2.1 s.2.2.2.2.2.2.2.2.2.2) (fun n s hI hk => hs n s.1 s.2.1 s.2.2.1 s.2.2.2.1 s.2.2.2.2.1 s.2.2.2.2.2.1 s.2.2.2.2.2.2.1 s.2.2.2.2.2.2.2.1 s.2.2.2.2.2.2.2.2.1 s.2.2.2.2.2.2.2.2.2.1 s.2.2.2.2.2.2.2.2.2.2 hI (fun b1 b2 b3 b4 b5 b6 b7 b8 b9 b10 b11 h9 hm => hk (b1, b2, b3, b4, b5, b6, b7, b8, b9, b10, b11) h9 hm)) (a1, a2, a3, a4, a5, a6, a7, a8, a9, a10, a11) h
theorem lp12 {A1 A2 A3 A4 A5 A6 A7 A8 A9 A10 A11 A12 : Type} (W : Nat → A1 → A2 → A3 → A4 → A5 → A6 → A7 → A8 → A9 → A10 → A11 → A12 → Prop) (I : A1 → A2 → A3 → A4 → A5 → A6 → A7 → A8 → A9 → A10 → A11 → A12 → Prop) (μ : A1 → A2 → A3 → A4 → A5 → A6 → A7 → A8 → A9 → A10 → A11 → A12 → Nat) (hs : ∀ (n : Nat) (a1 : A1) (a2 : A2) (a3 : A3) (a4 : A4) (a5 : A5) (a6 : A6) (a7 : A7) (a8 : A8) (a9 : A9) (a10 : A10) (a11 : A11) (a12 : A12), I a1 a2 a3 a4 a5 a6 a7 a8 a9 a10 a11 a12 → (∀ (b1 : A1) (b2 : A2) (b3 : A3) (b4 : A4) (b5 : A5) (b6 : A6) (b7 : A7) (b8 : A8) (b9 : A9) (b10 : A10) (b11 : A11) (b12 : A12), I b1 b2 b3 b4 b5 b6 b7 b8 b9 b10 b11 b12 → μ b1 b2 b3 b4 b5 b6 b7 b8 b9 b10 b11 b12 < μ a1 a2 a3 a4 a5 a6 a7 a8 a9 a10 a11 a12 → W n b1 b2 b3 b4 b5 b6 b7 b8 b9 b10 b11 b12) → W (n + 1) a1 a2 a3 a4 a5 a6 a7 a8 a9 a10 a11 a12) (a1 : A1) (a2 : A2) (a3 : A3) (a4 : A4) (a5 : A5) (a6 : A6) (a7 : A7) (a8 : A8) (a9 : A9) (a10 : A10) (a11 : A11) (a12 : A12) (h : I a1 a2 a3 a4 a5 a6 a7 a8 a9 a10 a11 a12) : ∃ n, W n a1 a2 a3 a4 a5 a6 a7 a8 a9 a10 a11 a12 :=
  loop_m (σ := A1 × A2 × A3 × A4 × A5 × A6 × A7 × A8 × A9 × A10 × A11 × A12) (fun n s => W n s.1 s.2.1 s.2.2.1 s.2.2.2.1 s.2.2.2.2.1 s.2.2.2.2.2.1 s.2.2.2.2.2.2.1 s.2.2.2.2.2.2.2.1 s.2.2.2.2.2.2.2.2.1 s.2.2.2.2.2.2.2.2.2.1 s.2.2.2.2.2.2.2.2.2.2.1 s.2.2.2.2.2.2.2.2.2.2.2) (fun s => I s.1 s.2.1 s.2.2.1 s.2.2.2.1 s.2.2.2.2.1 s.2.2.2.2.2.1 s.2.2.2.2.2.2.1 s.2.2.2.2.2.2.2.1 s.2.2.2.2.2.2.2.2.1 s.2.2.2.2.2.2.2.2.2.1 s.2.2.2.2.2.2.2.2.2.2.1 s.2.2.2.2.2.2.2.2.2.2.2) (fun s => μ s.1 s.2.1 s.2.2.1 s.2.2.2.1 s.2.2.2.2.1 s.2.2.2.2.2.1 s.2.2.2.2.2.2.1 s.2.2.2.2.2.2.2.1 s.2.2.2.2.2.2.2.2.1 s.2.2.2.2.2.2.2.2.2.1 s.2.2.2.2.2.2.2.2.2.2.1 s.2.2.2.2.2.2.2.2.2.2.2) (fun n s hI hk => hs n s.1 s.2.1 s.2.2.1 s.2.2.2.1 s.2.2.2.2.1 s.2.2.2.2.2.1 s.2.2.2.2.2.2.1 s.2.2.2.2.2.2.2.1 s.2.2.2.2.2.2.2.2.1 s.2.2.2.2.2.2.2.2.2.1 s.2.2.2.2.2.2.2.2.2.2.1 s.2.2.2.2.2.2.2.2.2.2.2 hI (fun b1 b2 b3 b4 b5 b6 b7 b8 b9 b10 b11 b12 h9 hm => hk (b1, b2, b3, b4, b5, b6, b7, b8, b9, b10, b11, b12) h9 hm)) (a1, a2, a3, a4, a5, a6, a7, a8, a9, a10, a11, a12) h
theorem lp13 {A1 A2 A3 A4 A5 A6 A7 A8 A9 A10 A11 A12 A13 : Type} (W : Nat → A1 → A2 → A3 → A4 → A5 → A6 → A7 → A8 → A9 → A10 → A11 → A12 → A13 → Prop) (I : A1 → A2 → A3 → A4 → A5 → A6 → A7 → A8 → A9 → A10 → A11 → A12 → A13 → Prop) (μ : A1 → A2 → A3 → A4 → A5 → A6 → A7 → A8 → A9 → A10 → A11 → A12 → A13 → Nat) (hs : ∀ (n : Nat) (a1 : A1) (a2 : A2) (a3 : A3) (a4 : A4) (a5 : A5) (a6 : A6) (a7 : A7) (a8 : A8) (a9 : A9) (a10 : A10) (a11 : A11) (a12 : A12) (a13 : A13), I a1 a2 a3 a4 a5 a6 a7 a8 a9 a10 a11 a12 a13 → (∀ (b1 : A1) (b2 : A2) (b3 : A3) (b4 : A4) (b5 : A5) (b6 : A6) (b7 : A7) (b8 : A8) (b9 : A9) (b10 : A10) (b11 : A11) (b12 : A12) (b13 : A13), I b1 b2 b3 b4 b5 b6 b7 b8 b9 b10 b11 b12 b13 → μ b1 b2 b3 b4 b5 b6 b7 b8 b9 b10 b11 b12 b13 < μ a1 a2 a3 a4 a5 a6 a7 a8 a9 a10 a11 a12 a13 → W n b1 b2 b3 b4 b5 b6 b7 b8 b9 b10 b11 b12 b13) → W (n + 1) a1 a2 a3 a4 a5 a6 a7 a8 a9 a10 a11 a12 a13) (a1 : A1) (a2 : A2) (a3 : A3) (a4 : A4) (a5 : A5) (a6 : A6) (a7 : A7) (a8 : A8) (a9 : A9) (a10 : A10) (a11 : A11) (a12 : A12) (a13 : A13) (h : I a1 a2 a3 a4 a5 a6 a7 a8 a9 a10 a11 a12 a13) : ∃ n, W n a1 a2 a3 a4 a5 a6 a7 a8 a9 a10 a11 a12 a13 :=
  loop_m (σ := A1 × A2 × A3 × A4 × A5 × A6 × A7 × A8 × A9 × A10 × A11 × A12 × A13) (fun n s => W n s.1 s.2.1 s.2.2.1 s.2.2.2.1 s.2.2.2.2.1 s.2.2.2.2.2.1 s.2.2.2.2.2.2.1 s.2.2.2.2.2.2.2.1 s.2.2.2.2.2.2.2.2.1 s.2.2.2.2.2.2.2.2.2.1 s.2.2.2.2.2.2.2.2.2.2.1 s.2.2.2.2.2.2.2.2.2.2.2.1 s.2.2.2.2.2.2.2.2.2.2.2.2) (fun s => I s.1 s.2.1 s.2.2.1 s.2.2.2.1 s.2.2.2.2.1 s.2.2.2.2.2.1 s.2.2.2.2.2.2.1 s.2.2.2.2.2.2.2.1 s.2.2.2.2.2.2.2.2.1 s.2.2.2.2.2.2.2.2.2.1 s.2.2.2.2.2.2.2.2.2.2.1 s.2.2.2.2.2.2.2.2.2.2.2.1 s.2.2.2.2.2.2.2.2.2.2.2.2) (fun s => μ s.1 s.2.1 s.2.2.1 s.2.2.2.1 s.2.2.2.2.1 s.2.2.2.2.2.1 s.2.2.2.2.2.2.1 s.2.2.2.2.2.2.2.1 s.2.2.2.2.2.2.2.2.1 s.2.2.2.2.2.2.2.2.2.1 s.2.2.2.2.2.2.2.2.2.2.1 s.2.2.2.2.2.2.2.2.2.2.2.1 s.2.2.2.2.2.2.2.2.2.2.2.2) (fun n s hI hk => hs n s.1 s.2.1 s.2.2.1 s.2.2.2.1 s.2.2.2.2.1 s.2.2.2.2.2.1 s.2.2.2.2.2.2.1 s.2.2.2.2.2.2.2.1 s.2.2.2.2.2.2.2.2.1 s.2.2.2.2.2.2.2.2.2.1 s.2.2.2.2.2.2.2.2.2.2.1 s.2.2.2.2.2.2.2.2.2.2.2.1 s.2.2.2.2.2.2.2.2.2.2.2.2 hI (fun b1 b2 b3 b4 b5 b6 b7 b8 b9 b10 b11 b12 b13 h9 hm => hk (b1, b2, b3, b4, b5, b6, b7, b8, b9, b10, b11, b12, b13) h9 hm)) (a1, a2, a3, a4, a5, a6, a7, a8, a9, a10, a11, a12, a13) h
theorem lp14 {A1 A2 A3 A4 A5 A6 A7 A8 A9 A10 A11 A12 A13 A14 : Type} (W : Nat → A1 → A2 → A3 → A4 → A5 → A6 → A7 → A8 → A9 → A10 → A11 → A12 → A13 → A14 → Prop) (I : A1 → A2 → A3 → A4 → A5 → A6 → A7 → A8 → A9 → A10 → A11 → A12 → A13 → A14 → Prop) (μ : A1 → A2 → A3 → A4 → A5 → A6 → A7 → A8 → A9 → A10 → A11 → A12 → A13 → A14 → Nat) (hs : ∀ (n : Nat) (a1 : A1) (a2 : A2) (a3 : A3) (a4 : A4) (a5 : A5) (a6 : A6) (a7 : A7) (a8 : A8) (a9 : A9) (a10 : A10) (a11 : A11) (a12 : A12) (a13 : A13) (a14 : A14), I a1 a2 a3 a4 a5 a6 a7 a8 a9 a10 a11 a12 a13 a14 → (∀ (b1 : A1) (b2 : A2) (b3 : A3) (b4 : A4) (b5 : A5) (b6 : A6) (b7 : A7) (b8 : A8) (b9 : A9) (b10 : A10) (b11 : A11) (b12 : A12) (b13 : A13) (b14 : A14), I b1 b2 b3 b4 b5 b6 b7 b8 b9 b10 b11 b12 b13 b14 → μ b1 b2 b3 b4 b5 b6 b7 b8 b9 b10 b11 b12 b13 b14 < μ a1 a2 a3 a4 a5 a6 a7 a8 a9 a10 a11 a12 a13 a14 → W n b1 b2 b3 b4 b5 b6 b7 b8 b9 b10 b11 b12 b13 b14) → W (n + 1) a1 a2 a3 a4 a5 a6 a7 a8 a9 a10 a11 a12 a13 a14) (a1 : A1) (a2 : A2) (a3 : A3) (a4 : A4) (a5 : A5) (a6 : A6) (a7 : A7) (a8 : A8) (a9 : A9) (a10 : A10) (a11 : A11) (a12 : A12) (a13 : A13) (a14 : A14) (h : I a1 a2 a3 a4 a5 a6 a7 a8 a9 a10 a11 a12 a13 a14) : ∃ n, W n a1 a2 a3 a4 a5 a6 a7 a8 a9 a10 a11 a12 a13 a14 :=
  loop_m (σ := A1 × A2 × A3 × A4 × A5 × A6 × A7 × A8 × A9 × A10 × A11 × A12 × A13 × A14) (fun n s => W n s.1 s.2.1 s.2.2.1 s.2.2.2.1 s.2.2.2.2.1 s.2.2.2.2.2.1 s.2.2.2.2.2.2.1 s.2.2.2.2.2.2.2.1 s.2.2.2.2.2.2.2.2.1 s.2.2.2.2.2.2.2.2.2.1 s.2.2.2.2.2.2.2.2.2.2.1 s.2.2.2.2.2.2.2.2.2.2.2.1 s.2.2.2.2.2.2.2.2.2.2.2.2.1 s.2.2.2.2.2.2.2.2.2.2.2.2.2) (fun s => I s.1 s.2.1 s.2.2.1 s.2.2.2.1 s.2.2.2.2.1 s.2.2.2.2.2.1 s.2.2.2.2.2.2.1 s.2.2.2.2.2.2.2.1 s.2.2.2.2.2.2.2.2.1 s.2.2.2.2.2.2.2.2.2.1 s.2.2.2.2.2.2.2.2.2.2.1 s.2.2.2.2.2.2.2.2.2.2.2.1 s.2.2.2.2.2.2.2.2.2.2.2.2.1 s.2.2.2.2.2.2.2.2.2.2.2.2.2) (fun s => μ s.1 s.2.1 s.2.2.1 s.2.2.2.1 s.2.2.2.2.1 s.2.2.2.2.2.1 s.2.2.2.2.2.2.1 s.2.2.2.2.2.2.2.1 s.2.2.2.2.2.2.2.2.1 s.2.2.2.2.2.2.2.2.2.1 s.2.2.2.2.2.2.2.2.2.2.1 s.2.2.2.2.2.2.2.2.2.2.2.1 s.2.2.2.2.2.2.2.2.2.2.2.2.1 s.2.2.2.2.2.2.2.2.2.2.2.2.2) (fun n s hI hk => hs n s.1 s.2.1 s.2.2.1 s.2.2.2.1 s.2.2.2.2.1 s.2.2.2.2.2.1 s.2.2.2.2.2.2.1 s.2.2.2.2.2.2.2.1 s.2.2.2.2.2.2.2.2.1 s.2.2.2.2.2.2.2.2.2.1 s.2.2.2.2.2.2.2.2.2.2.1 s.2.2.2.2.2.2.2.2.2.2.2.1 s.2.2.2.2.2.2.2.2.2.2.2.2.1 s.2.2.2.2.2.2.2.2.2.2.2.2.2 hI (fun b1 b2 b3 b4 b5 b6 b7 b8 b9 b10 b11 b12 b13 b14 h9 hm => hk (b1, b2, b3, b4, b5, b6, b7, b8, b9, b10, b11, b12, b13, b14) h9 hm)) (a1, a2, a3, a4, a5, a6, a7, a8, a9, a10, a11, a12, a13, a14) h
theorem lp15 {A1 A2 A3 A4 A5 A6 A7 A8 A9 A10 A11 A12 A13 A14 A15 : Type} (W : Nat → A1 → A2 → A3 → A4 → A5 → A6 → A7 → A8 → A9 → A10 → A11 → A12 → A13 → A14 → A15 → Prop) (I : A1 → A2 → A3 → A4 → A5 → A6 → A7 → A8 → A9 → A10 → A11 → A12 → A13 → A14 → A15 → Prop) (μ : A1 → A2 → A3 → A4 → A5 → A6 → A7 → A8 → A9 → A10 → A11 → A12 → A13 → A14 → A15 → Nat) (hs : ∀ (n : Nat) (a1 : A1) (a2 : A2) (a3 : A3) (a4 : A4) (a5 : A5) (a6 : A6) (a7 : A7) (a8 : A8) (a9 : A9) (a10 : A10) (a11 : A11) (a12 : A12) (a13 : A13) (a14 : A14) (a15 : A15), I a1 a2 a3 a4 a5 a6 a7 a8 a9 a10 a11 a12 a13 a14 a15 → (∀ (b1 : A1) (b2 : A2) (b3 : A3) (b4 : A4) (b5 : A5) (b6 : A6) (b7 : A7) (b8 : A8) (b9 : A9) (b10 : A10) (b11 : A11) (b12 : A12) (b13 : A13) (b14 : A14) (b15 : A15), I b1 b2 b3 b4 b5 b6 b7 b8 b9 b10 b11 b12 b13 b14 b15 → μ b1 b2 b3 b4 b5 b6 b7 b8 b9 b10 b11 b12 b13 b14 b15 < μ a1 a2 a3 a4 a5 a6 a7 a8 a9 a10 a11 a12 a13 a14 a15 → W n b1 b2 b3 b4 b5 b6 b7 b8 b9 b10 b11 b12 b13 b14 b15) → W (n + 1) a1 a2 a3 a4 a5 a6 a7 a8 a9 a10 a11 a12 a13 a14 a15) (a1 : A1) (a2 : A2) (a3 : A3) (a4 : A4) (a5 : A5) (a6 : A6) (a7 : A7) (a8 : A8) (a9 : A9) (a10 : A10) (a11 : A11) (a12 : A12) (a13 : A13) (a14 : A14) (a15 : A15) (h : I a1 a2 a3 a4 a5 a6 a7 a8 a9 a10 a11 a12 a13 a14 a15) : ∃ n, W n a1 a2 a3 a4 a5 a6 a7 a8 a9 a10 a11 a12 a13 a14 a15 :=
  loop_m (σ := A1 × A2 × A3 × A4 × A5 × A6 × A7 × A8 × A9 × A10 × A11 × A12 × A13 × A14 × A15) (fun n s => W n s.1 s.2.1 s.2.2.1 s.2.2.2.1 s.2.2.2.2.1 s.2.2.2.2.2.1 s.2.2.2.2.2.2.1 s.2.2.2.2.2.2.2.1 s.2.2.2.2.2.2.2.2.1 s.2.2.2.2.2.2.2.2.2.1 s.2.2.2.2.2.2.2.2.2.2.1 s.2.2.2.2.2.2.2.2.2.2.2.1 s.2.2.2.2.2.2.2.2.2.2.2.2.1 s.2.2.2.2.2.2.2.2.2.2.2.2.2.1 s.2.2.2.2.2.2.2.2.2.2.2.2.2.2) (fun s => I s.1 s.2.1 s.2.2.1 s.2.2.2.1 s.2.2.2.2.1 s.2.2.2.2.2.1 s.2.2.2.2.2.2.1 s.2.2.2.2.2.2.2.1 s.2.2.2.2.2.2.2.2.1 s.2.2.2.2.2.2.2.2.2.1 s.2.2.2.2.2.2.2.2.2.2.1 s.2.2.2.2.2.2.2.2.2.2.2.1 s.2.2.2.2.2.2.2.2.2.2.2.2.1 s.2.2.2.2.2.2.2.2.2.2.2.2.2.1 s.2.2.2.2.2.2.2.2.2.2.2.2.2.2) (fun s => μ s.1 s.2.1 s.2.2.1 s.2.2.2.1 s.2.2.2.2.1 s.2.2.2.2.2.1 s.2.2.2.2.2.2.1 s.2.2.2.2.2.2.2.1 s.2.2.2.2.2.2.2.2.1 s.2.2.2.2.2.2.2.2.2.1 s.2.2.2.2.2.2.2.2.2.2.1 s.2.2.2.2.2.2.2.2.2.2.2.1 s.2.2.2.2.2.2.2.2.2.2.2.2.1 s.2.2.2.2.2.2.2.2.2.2.2.2.2.1 s.2.2.2.2.2.2.2.2.2.2.2.2.2.2) (fun n s hI hk => hs n s.1 s.2.1 s.2.2.1 s.2.2.2.1 s.2.2.2.2.1 s.2.2.2.2.2.1 s.2.2.2.2.2.2.1 s.2.2.2.2.2.2.2.1 s.2.2.2.2.2.2.2.2.1 s.2.2.2.2.2.2.2.2.2.1 s.2.2.2.2.2.2.2.2.2.2.1 s.2.2.2.2.2.2.2.2.2.2.2.1 s.2.2.2.2.2.2.2.2.2.2.2.2.1 s.2.2.2.2.2.2.2.2.2.2.2.2.2.1 s.2.2.2.2.2.2.2.2.2.2.2.2.2.2 hI (fun b1 b2 b3 b4 b5 b6 b7 b8 b9 b10 b11 b12 b13 b14 b15 h9 hm => hk (b1, b2, b3, b4, b5, b6, b7, b8, b9, b10, b11, b12, b13, b14, b15) h9 hm)) (a1, a2, a3, a4, a5, a6, a7, a8, a9, a10, a11, a12, a13, a14, a15) h
theorem lp16 {A1 A2 A3 A4 A5 A6 A7 A8 A9 A10 A11 A12 A13 A14 A15 A16 : Type} (W : Nat → A1 → A2 → A3 → A4 → A5 → A6 → A7 → A8 → A9 → A10 → A11 → A12 → A13 → A14 → A15 → A16 → Prop) (I : A1 → A2 → A3 → A4 → A5 → A6 → A7 → A8 → A9 → A10 → A11 → A12 → A13 → A14 → A15 → A16 → Prop) (μ : A1 → A2 → A3 → A4 → A5 → A6 → A7 → A8 → A9 → A10 → A11 → A12 → A13 → A14 → A15 → A16 → Nat) (hs : ∀ (n : Nat) (a1 : A1) (a2 : A2) (a3 : A3) (a4 : A4) (a5 : A5) (a6 : A6) (a7 : A7) (a8 : A8) (a9 : A9) (a10 : A10) (a11 : A11) (a12 : A12) (a13 : A13) (a14 : A14) (a15 : A15) (a16 : A16), I a1 a2 a3 a4 a5 a6 a7 a8 a9 a10 a11 a12 a13 a14 a15 a16 → (∀ (b1 : A1) (b2 : A2) (b3 : A3) (b4 : A4) (b5 : A5) (b6 : A6) (b7 : A7) (b8 : A8) (b9 : A9) (b10 : A10) (b11 : A11) (b12 : A12) (b13 : A13) (b14 : A14) (b15 : A15) (b16 : A16), I b1 b2 b3 b4 b5 b6 b7 b8 b9 b10 b11 b12 b13 b14 b15 b16 → μ b1 b2 b3 b4 b5 b6 b7 b8 b9 b10 b11 b12 b13 b14 b15 b16 < μ a1 a2 a3 a4 a5 a6 a7 a8 a9 a10 a11 a12 a13 a14 a15 a16 → W n b1 b2 b3 b4 b5 b6 b7 b8 b9 b10 b11 b12 b13 b14 b15 b16) → W (n + 1) a1 a2 a3 a4 a5 a6 a7 a8 a9 a10 a11 a12 a13 a14 a15 a16) (a1 : A1) (a2 : A2) (a3 : A3) (a4 : A4) (a5 : A5) (a6 : A6) (a7 : A7) (a8 : A8) (a9 : A9) (a10 : A10) (a11 : A11) (a12 : A12) (a13 : A13) (a14 : A14) (a15 : A15) (a16 : A16) (h : I a1 a2 a3 a4 a5 a6 a7 a8 a9 a10 a11 a12 a13 a14 a15 a16) : ∃ n, W n a1 a2 a3 a4 a5 a6 a7 a8 a9 a10 a11 a12 a13 a14 a15 a16 :=
  loop_m (σ := A1 × A2 × A3 × A4 × A5 × A6 × A7 × A8 × A9 × A10 × A11 × A12 × A13 × A14 × A15 × A16) (fun n s => W n s.1 s.2.1 s.2.2.1 s.2.2.2.1 s.2.2.2.2.1 s.2.2.2.2.2.1 s.2.2.2.2.2.2.1 s.2.2.2.2.2.2.2.1 s.2.2.2.2.2.2.2.2.1 s.2.2.2.2.2.2.2.2.2.1 s.2.2.2.2.2.2.2.2.2.2.1 s.2.2.2.2.2.2.2.2.2.2.2.1 s.2.2.2.2.2.2.2.2.2.2.2.2.1 s.2.2.2.2.2.2.2.2.2.2.2.2.2.1 s.2.2.2.2.2.2.2.2.2.2.2.2.2.2.1 s.2.2.2.2.2.2.2.2.2.2.2.2.2.2.2) (fun s => I s.1 s.2.1 s.2.2.1 s.2.2.2.1 s.2.2.2.2.1 s.2.2.2.2.2.1 s.2.2.2.2.2.2.1 s.2.2.2.2.2.2.2.1 s.2.2.2.2.2.2.2.2.1 s.2.2.2.2.2.2.2.2.2.1 s.2.2.2.2.2.2.2.2.2.2.1 s.2.2.2.2.2.2.2.2.2.2.2.1 s.2.2.2.2.2.2.2.2.2.2.2.2.1 s.2.2.2.2.2.2.2.2.2.2.2.2.2.1 s.2.2.2.2.2.2.2.2.2.2.2.2.2.2.1 s.2.2.2.2.2.2.2.2.2.2.2.2.2.2.2) (fun s => μ s.1 s.2.1 s.2.2.1 s.2.2.2.1 s.2.2.2.2.1 s.2.2.2.2.2.1 s.2.2.2.2.2.2.1 s.2.2.2.2.2.2.2.1 s.2.2.2.2.2.2.2.2.1 s.2.2.2.2.2.2.2.2.2.1 s.2.2.2.2.2.2.2.2.2.2.1 s.2.2.2.2.2.2.2.2.2.2.2.1 s.2.2.2.2.2.2.2.2.2.2.2.2.1 s.2.2.2.2.2.2.2.2.2.2.2.2.2.1 s.2.2.2.2.2.2.2.2.2.2.2.2.2.2.1 s.2.2.2.2.2.2.2.2.2.2.2.2.2.2.2) (fun n s hI hk => hs n s.1 s.2.1 s.2.2.1 s.2.2.2.1 s.2.2.2.2.1 s.2.2.2.2.2.1 s.2.2.2.2.2.2.1 s.2.2.2.2.2.2.2.1 s.2.2.2.2.2.2.2.2.1 s.2.2.2.2.2.2.2.2.2.1 s.2.2.2.2.2.2.2.2.2.2.1 s.2.2.2.2.2.2.2.2.2.2.2.1 s.2.2.2.2.2.2.2.2.2.2.2.2.1 s.2.2.2.2.2.2.2.2.2.2.2.2.2.1 s.2.2.2.2.2.2.2.2.2.2.2.2.2.2.1 s.2.2.2.2.2.2.2.2.2.2.2.2.2.2.2 hI (fun b1 b2 b3 b4 b5 b6 b7 b8 b9 b10 b11 b12 b13 b14 b15 b16 h9 hm => hk (b1, b2, b3, b4, b5, b6, b7, b8, b9, b10, b11, b12, b13, b14, b15, b16) h9 hm)) (a1, a2, a3, a4, a5, a6, a7, a8, a9, a10, a11, a12, a13, a14, a15, a16) h
theorem pk_least (P : Nat → Prop) (h : ∃ k, P k) : ∃ k, P k ∧ ∀ j, j < k → ¬ P j := by
  obtain ⟨k, hk⟩ := h
  induction k using Nat.strongRecOn with
  | ind k ih =>
    by_cases e : ∃ j, j < k ∧ P j
    · obtain ⟨j, hj, pj⟩ := e
      exact ih j hj pj
    · exact ⟨k, hk, fun j hj pj => e ⟨j, hj, pj⟩⟩
theorem rp1 {ρ A1 : Type} (W : Nat → (ρ → Prop) → A1 → Prop) (ok : A1 → Prop) (μ : A1 → Nat) (val : A1 → ρ)
    (hs : ∀ (d : Nat) (post : ρ → Prop) (a1 : A1), ok a1 → post (val a1) → (∀ (post' : ρ → Prop) (b1 : A1), ok b1 → μ b1 < μ a1 → post' (val b1) → W d post' b1) → W (d + 1) post a1) :
    ∀ (d : Nat) (post : ρ → Prop) (a1 : A1), ok a1 → μ a1 < d → post (val a1) → W d post a1 := by
  intro d
  induction d with
  | zero => intro post a1 _ h; omega
  | succ d ih =>
    intro post a1 ho hm hp
    exact hs d post a1 ho hp (fun post' b1 ho' hm' hp' => ih post' b1 ho' (by omega) hp')
theorem rp2 {ρ A1 A2 : Type} (W : Nat → (ρ → Prop) → A1 → A2 → Prop) (ok : A1 → A2 → Prop) (μ : A1 → A2 → Nat) (val : A1 → A2 → ρ)
    (hs : ∀ (d : Nat) (post : ρ → Prop) (a1 : A1) (a2 : A2), ok a1 a2 → post (val a1 a2) → (∀ (post' : ρ → Prop) (b1 : A1) (b2 : A2), ok b1 b2 → μ b1 b2 < μ a1 a2 → post' (val b1 b2) → W d post' b1 b2) → W (d + 1) post a1 a2) :
    ∀ (d : Nat) (post : ρ → Prop) (a1 : A1) (a2 : A2), ok a1 a2 → μ a1 a2 < d → post (val a1 a2) → W d post a1 a2 := by
  intro d
  induction d with
  | zero => intro post a1 a2 _ h; omega
  | succ d ih =>
    intro post a1 a2 ho hm hp
    exact hs d post a1 a2 ho hp (fun post' b1 b2 ho' hm' hp' => ih post' b1 b2 ho' (by omega) hp')
theorem rp3 {ρ A1 A2 A3 : Type} (W : Nat → (ρ → Prop) → A1 → A2 → A3 → Prop) (ok : A1 → A2 → A3 → Prop) (μ : A1 → A2 → A3 → Nat) (val : A1 → A2 → A3 → ρ)
    (hs : ∀ (d : Nat) (post : ρ → Prop) (a1 : A1) (a2 : A2) (a3 : A3), ok a1 a2 a3 → post (val a1 a2 a3) → (∀ (post' : ρ → Prop) (b1 : A1) (b2 : A2) (b3 : A3), ok b1 b2 b3 → μ b1 b2 b3 < μ a1 a2 a3 → post' (val b1 b2 b3) → W d post' b1 b2 b3) → W (d + 1) post a1 a2 a3) :
    ∀ (d : Nat) (post : ρ → Prop) (a1 : A1) (a2 : A2) (a3 : A3), ok a1 a2 a3 → μ a1 a2 a3 < d → post (val a1 a2 a3) → W d post a1 a2 a3 := by
  intro d
  induction d with
  | zero => intro post a1 a2 a3 _ h; omega
  | succ d ih =>
    intro post a1 a2 a3 ho hm hp
    exact hs d post a1 a2 a3 ho hp (fun post' b1 b2 b3 ho' hm' hp' => ih post' b1 b2 b3 ho' (by omega) hp')
theorem rp4 {ρ A1 A2 A3 A4 : Type} (W : Nat → (ρ → Prop) → A1 → A2 → A3 → A4 → Prop) (ok : A1 → A2 → A3 → A4 → Prop) (μ : A1 → A2 → A3 → A4 → Nat) (val : A1 → A2 → A3 → A4 → ρ)
    (hs : ∀ (d : Nat) (post : ρ → Prop) (a1 : A1) (a2 : A2) (a3 : A3) (a4 : A4), ok a1 a2 a3 a4 → post (val a1 a2 a3 a4) → (∀ (post' : ρ → Prop) (b1 : A1) (b2 : A2) (b3 : A3) (b4 : A4), ok b1 b2 b3 b4 → μ b1 b2 b3 b4 < μ a1 a2 a3 a4 → post' (val b1 b2 b3 b4) → W d post' b1 b2 b3 b4) → W (d + 1) post a1 a2 a3 a4) :
    ∀ (d : Nat) (post : ρ → Prop) (a1 : A1) (a2 : A2) (a3 : A3) (a4 : A4), ok a1 a2 a3 a4 → μ a1 a2 a3 a4 < d → post (val a1 a2 a3 a4) → W d post a1 a2 a3 a4 := by
  intro d
  induction d with
  | zero => intro post a1 a2 a3 a4 _ h; omega
  | succ d ih =>
    intro post a1 a2 a3 a4 ho hm hp
    exact hs d post a1 a2 a3 a4 ho hp (fun post' b1 b2 b3 b4 ho' hm' hp' => ih post' b1 b2 b3 b4 ho' (by omega) hp')
theorem rp5 {ρ A1 A2 A3 A4 A5 : Type} (W : Nat → (ρ → Prop) → A1 → A2 → A3 → A4 → A5 → Prop) (ok : A1 → A2 → A3 → A4 → A5 → Prop) (μ : A1 → A2 → A3 → A4 → A5 → Nat) (val : A1 → A2 → A3 → A4 → A5 → ρ)
    (hs : ∀ (d : Nat) (post : ρ → Prop) (a1 : A1) (a2 : A2) (a3 : A3) (a4 : A4) (a5 : A5), ok a1 a2 a3 a4 a5 → post (val a1 a2 a3 a4 a5) → (∀ (post' : ρ → Prop) (b1 : A1) (b2 : A2) (b3 : A3) (b4 : A4) (b5 : A5), ok b1 b2 b3 b4 b5 → μ b1 b2 b3 b4 b5 < μ a1 a2 a3 a4 a5 → post' (val b1 b2 b3 b4 b5) → W d post' b1 b2 b3 b4 b5) → W (d + 1) post a1 a2 a3 a4 a5) :
    ∀ (d : Nat) (post : ρ → Prop) (a1 : A1) (a2 : A2) (a3 : A3) (a4 : A4) (a5 : A5), ok a1 a2 a3 a4 a5 → μ a1 a2 a3 a4 a5 < d → post (val a1 a2 a3 a4 a5) → W d post a1 a2 a3 a4 a5 := by
  intro d
  induction d with
  | zero => intro post a1 a2 a3 a4 a5 _ h; omega
  | succ d ih =>
    intro post a1 a2 a3 a4 a5 ho hm hp
    exact hs d post a1 a2 a3 a4 a5 ho hp (fun post' b1 b2 b3 b4 b5 ho' hm' hp' => ih post' b1 b2 b3 b4 b5 ho' (by omega) hp')
theorem rp6 {ρ A1 A2 A3 A4 A5 A6 : Type} (W : Nat → (ρ → Prop) → A1 → A2 → A3 → A4 → A5 → A6 → Prop) (ok : A1 → A2 → A3 → A4 → A5 → A6 → Prop) (μ : A1 → A2 → A3 → A4 → A5 → A6 → Nat) (val : A1 → A2 → A3 → A4 → A5 → A6 → ρ)
    (hs : ∀ (d : Nat) (post : ρ → Prop) (a1 : A1) (a2 : A2) (a3 : A3) (a4 : A4) (a5 : A5) (a6 : A6), ok a1 a2 a3 a4 a5 a6 → post (val a1 a2 a3 a4 a5 a6) → (∀ (post' : ρ → Prop) (b1 : A1) (b2 : A2) (b3 : A3) (b4 : A4) (b5 : A5) (b6 : A6), ok b1 b2 b3 b4 b5 b6 → μ b1 b2 b3 b4 b5 b6 < μ a1 a2 a3 a4 a5 a6 → post' (val b1 b2 b3 b4 b5 b6) → W d post' b1 b2 b3 b4 b5 b6) → W (d + 1) post a1 a2 a3 a4 a5 a6) :
    ∀ (d : Nat) (post : ρ → Prop) (a1 : A1) (a2 : A2) (a3 : A3) (a4 : A4) (a5 : A5) (a6 : A6), ok a1 a2 a3 a4 a5 a6 → μ a1 a2 a3 a4 a5 a6 < d → post (val a1 a2 a3 a4 a5 a6) → W d post a1 a2 a3 a4 a5 a6 := by
  intro d
  induction d with
  | zero => intro post a1 a2 a3 a4 a5 a6 _ h; omega
  | succ d ih =>
    intro post a1 a2 a3 a4 a5 a6 ho hm hp
    exact hs d post a1 a2 a3 a4 a5 a6 ho hp (fun post' b1 b2 b3 b4 b5 b6 ho' hm' hp' => ih post' b1 b2 b3 b4 b5 b6 ho' (by omega) hp')
theorem rec_p {σ ρ : Type} (W : Nat → (ρ → Prop) → σ → Prop) (ok : σ → Prop) (μ : σ → Nat) (val : σ → ρ)
    (hs : ∀ d s post, ok s → post (val s) → (∀ s' post', ok s' → μ s' < μ s → post' (val s') → W d post' s') → W (d + 1) post s) :
    ∀ d s post, ok s → μ s < d → post (val s) → W d post s := by
  intro d
  induction d with
  | zero => intro s post _ h; omega
  | succ d ih =>
    intro s post ho hm hp
    exact hs d s post ho hp (fun s' post' ho' hm' hp' => ih s' post' ho' (by omega) hp')
theorem rec_q {σ ρ : Type} (W : Nat → (ρ → Prop) → σ → Prop) (ok : σ → Prop) (μ : σ → Nat) (Q : σ → ρ → Prop)
    (hs : ∀ d s post, ok s → (∀ r, Q s r → post r) → (∀ s' post', ok s' → μ s' < μ s → (∀ r, Q s' r → post' r) → W d post' s') → W (d + 1) post s) :
    ∀ d s post, ok s → μ s < d → (∀ r, Q s r → post r) → W d post s := by
  intro d
  induction d with
  | zero => intro s post _ h; omega
  | succ d ih =>
    intro s post ho hm hp
    exact hs d s post ho hp (fun s' post' ho' hm' hp' => ih s' post' ho' (by omega) hp')
def bx_sum (f : Nat → Int32) : Nat → Int32
  | 0 => 0
  | n + 1 => bx_sum f n + f n
theorem ek_u {A : Prop} {B : Nat → Prop} {k N : Nat} (hk : k < N) (h : B k) : (some k = none → A) ∧ (∀ y : Nat, some k = some y → (y < N ∧ B y)) :=
  ⟨fun z => absurd z (Option.some_ne_none k), fun _ e => (by cases e; exact ⟨hk, h⟩)⟩
theorem ek_nu {A : Prop} {B : Nat → Prop} (h : A) : ((none : Option Nat) = none → A) ∧ (∀ y : Nat, (none : Option Nat) = some y → B y) :=
  ⟨fun _ => h, fun _ e => (by cases e)⟩
theorem ek_if {c d A B : Prop} (e : c ↔ d) (f : d → A) (g : ¬ d → B) : (c → A) ∧ (¬ c → B) :=
  ⟨fun z => f (e.mp z), fun z => g (fun y => z (e.mpr y))⟩
theorem ek_v {α : Sort _} {P : α → Prop} {a b : α} (e : a = b) (h : P b) : P a := e ▸ h
theorem co_some {x : Option Nat} {A : Prop} {B : Nat → Prop} (i : Nat) (h : B i) (hx : x = some i := by rfl) : (x = none → A) ∧ (∀ y : Nat, x = some y → B y) := by
  subst hx
  exact ⟨fun e => (nomatch e), fun y e => Option.some.inj e ▸ h⟩
theorem co_none {x : Option Nat} {A : Prop} {B : Nat → Prop} (h : A) (hx : x = none := by rfl) : (x = none → A) ∧ (∀ y : Nat, x = some y → B y) := by
  subst hx
  exact ⟨fun _ => h, fun y e => (nomatch e)⟩
theorem co_any {x : Option Nat} {A : Prop} {B : Nat → Prop} (hn : x = none → A) (hs : ∀ i : Nat, x = some i → B i) : (x = none → A) ∧ (∀ y : Nat, x = some y → B y) := ⟨hn, hs⟩
theorem co_2 {P : Nat → Prop} (h0 : P 0) (h1 : P 1) {i : Nat} (hi : i < 2) : P i :=
  match i, hi with
  | 0, _ => h0
  | 1, _ => h1
theorem co_3 {P : Nat → Prop} (h0 : P 0) (h1 : P 1) (h2 : P 2) {i : Nat} (hi : i < 3) : P i :=
  match i, hi with
  | 0, _ => h0
  | 1, _ => h1
  | 2, _ => h2
theorem co_4 {P : Nat → Prop} (h0 : P 0) (h1 : P 1) (h2 : P 2) (h3 : P 3) {i : Nat} (hi : i < 4) : P i :=
  match i, hi with
  | 0, _ => h0
  | 1, _ => h1
  | 2, _ => h2
  | 3, _ => h3
theorem co_dec {N : Nat} {P : Nat → Prop} [DecidablePred P] (h : (List.range N).all (fun i => decide (P i)) = true) {i : Nat} (hi : i < N) : P i := by
  have := List.all_eq_true.mp h i (List.mem_range.mpr hi)
  exact of_decide_eq_true this
theorem co_tab {α : Type} {l : List α} {d : α} {P : α → Prop} (h : ∀ a, a ∈ l → P a) {i : Nat} (hi : i < l.length) : P (l.getD i d) := by
  rw [List.getD_eq_getElem?_getD, List.getElem?_eq_getElem hi]
  exact h _ (List.getElem_mem hi)
theorem pk_mu {x : Int32} {L : Nat} (h0 : ¬ x < 0) (h : ¬ nI L ≤ x) (hL : L < 2 ^ 31) : ∃ j : Nat, j < L ∧ x = nI j ∧ x + 1 = nI (j + 1) ∧ x.toNatClampNeg = j ∧ L - (x + 1).toNatClampNeg < L - x.toNatClampNeg := by
  obtain ⟨j, hj, rfl⟩ := nI_of h0
  have hl : j < L := Nat.not_le.mp fun q => h (nI_le q hj)
  refine ⟨j, hl, rfl, nI_1 j, nI_clamp hj, ?_⟩
  rw [nI_1, nI_clamp (by omega), nI_clamp hj]
  omega
theorem op_s {α : Type} {r : Option α} {A : Prop} {B : α → Prop} {y : α} (h : r = some y) (b : B y) : (r = none → A) ∧ ∀ z, r = some z → B z :=
  ⟨fun e => (by rw [h] at e; cases e), fun z e => (by rw [h] at e; cases e; exact b)⟩
def l_holds {α : Type} (a : Nat → Option Nat) (LP : List Nat) (p : Nat → α) (c : Nat) (b : Nat → α) : Prop :=
  ∀ j, j < c → ∃ y, a j = some y ∧ y ∈ LP ∧ p y = b j
theorem l_holds_0 {α : Type} {a : Nat → Option Nat} {LP : List Nat} {p b : Nat → α} : l_holds a LP p 0 b := fun j h => absurd h (Nat.not_lt_zero j)
theorem l_in_new (LP : List Nat) (q : Nat) : q ∈ LP ++ [q] := List.mem_append.mpr (Or.inr (List.mem_singleton.mpr rfl))
def l_sum (b : Nat → Int32) : Nat → Int32
  | 0 => 0
  | k + 1 => l_sum b k + b k
theorem sb_shr0 (x : Int32) : x >>> ((0 : Int32) &&& 31) = x := by
  rw [show ((0 : Int32) &&& 31) = 0 by decide]
  simp
theorem sb_shl0 (x : Int32) : x <<< ((0 : Int32) &&& 31) = x := by
  rw [show ((0 : Int32) &&& 31) = 0 by decide]
  simp
theorem sb_cl0 : (0 : Int32).toNatClampNeg = 0 := by decide
theorem sb_m1 {p : Nat} (h : 0 < p) : nI p + (-1) = nI (p - 1) := by
  obtain ⟨q, rfl⟩ : ∃ q, p = q + 1 := ⟨p - 1, by omega⟩
  exact pk_m1 q
def sb_b (c : Nat) : Int32 := (nI c).toInt8.toInt32
theorem sb_byte : ∀ c, c < 256 → sb_b c &&& 255 = nI c ∧ ((nI c).toUInt32 % 65536).toInt32 = nI c ∧ nI c ≤ 255 := by decide +kernel
def sb_Fit (a : Nat → Int32) : Prop := ∀ j, fits .byte (.int (a j)) = true
def sb_Lat (t : Nat → Nat) (n : Nat) (a : Nat → Int32) : Prop := ∀ j, j < n → t j < 256 ∧ a j = sb_b (t j)
theorem sb_fitB (c : Nat) : fits .byte (.int (sb_b c)) = true := pk_fb _
theorem sb_fit0 : sb_Fit (fun _ => 0) := fun _ => by
  show fits .byte (.int 0) = true
  decide
theorem sb_fitU {a : Nat → Int32} {k : Nat} {x : Int32} (h : sb_Fit a) (hx : fits .byte (.int x) = true) : sb_Fit (upd a k x) := by
  intro j
  by_cases e : j = k
  · subst e
    rw [pk_us]
    exact hx
  · rw [pk_un e]
    exact h j
def sb_cat (t : Nat → Nat) (n : Nat) (s : Nat → Nat) : Nat → Nat := fun j => if j < n then t j else s (j - n)
theorem sb_cat_lo {t s : Nat → Nat} {n j : Nat} (h : j < n) : sb_cat t n s j = t j := if_pos h
theorem sb_cat_hi {t s : Nat → Nat} {n j : Nat} : sb_cat t n s (n + j) = s j := by
  show (if n + j < n then t (n + j) else s (n + j - n)) = s j
  rw [if_neg (by omega), Nat.add_sub_cancel_left]
theorem sb_latPut {t s : Nat → Nat} {n w : Nat} {a a' : Nat → Int32} (h : sb_Lat t n a) (hk : ∀ j, j < n → a' j = a j) (hs : ∀ i, i < w → s i < 256 ∧ a' (n + i) = sb_b (s i)) : sb_Lat (sb_cat t n s) (n + w) a' := by
  intro j hj
  by_cases e : j < n
  · rw [sb_cat_lo e, hk j e]
    exact h j e
  · obtain ⟨i, rfl⟩ : ∃ i, j = n + i := ⟨j - n, by omega⟩
    rw [sb_cat_hi]
    exact hs i (by omega)
theorem sb_latKeep {t : Nat → Nat} {n : Nat} {a a' : Nat → Int32} (h : sb_Lat t n a) (hk : ∀ j, j < n → a' j = a j) : sb_Lat t n a' := fun j hj => by
  rw [hk j hj]
  exact h j hj
def sb_cap (q m : Nat) : Nat := if q ≤ m then m else if 2 * m + 2 < q then q else 2 * m + 2
def sb_Room (q m mc ms : Nat) : Prop := q ≤ m ∨ (1 ≤ mc ∧ sb_cap q m ≤ ms ∧ sb_cap q m ≤ 65536)
theorem sb_cap_ge (q m : Nat) : q ≤ sb_cap q m := by
  unfold sb_cap
  split
  · omega
  · split <;> omega
theorem sb_cap_gem (q m : Nat) : m ≤ sb_cap q m := by
  unfold sb_cap
  split
  · omega
  · split <;> omega
theorem sb_cap_le {q m mc ms : Nat} (hm : m ≤ 65536) (hr : sb_Room q m mc ms) : sb_cap q m ≤ 65536 := by
  rcases hr with h | h
  · rw [sb_cap, if_pos h]
    exact hm
  · exact h.2.2
theorem sb_at {P : Int32 → Prop} {x y : Int32} (e : x = y) (h : P y) : P x := e ▸ h
def sb_dg (w : Nat) : Nat := if w < 10 then 1 else if w < 100 then 2 else if w < 1000 then 3 else if w < 10000 then 4 else if w < 100000 then 5 else if w < 1000000 then 6 else if w < 10000000 then 7 else if w < 100000000 then 8 else if w < 1000000000 then 9 else 10
def sb_dec (v : Nat) : Nat → Nat := fun i => 48 + v / 10 ^ (sb_dg v - 1 - i) % 10
theorem sb_dg_in (w : Nat) : 1 ≤ sb_dg w ∧ sb_dg w ≤ 10 := by
  unfold sb_dg
  constructor <;> (repeat' split) <;> omega
theorem sb_dg100 {w : Nat} (h : 100 ≤ w) (hw : w < 2 ^ 31) : sb_dg w = sb_dg (w / 100) + 2 := by
  rw [sb_dg, sb_dg, if_neg (show ¬ w < 10 by omega), if_neg (show ¬ w < 100 by omega)]
  by_cases h3 : w < 1000
  · rw [if_pos h3, if_pos (show w / 100 < 10 by omega)]
  rw [if_neg h3, if_neg (show ¬ w / 100 < 10 by omega)]
  by_cases h4 : w < 10000
  · rw [if_pos h4, if_pos (show w / 100 < 100 by omega)]
  rw [if_neg h4, if_neg (show ¬ w / 100 < 100 by omega)]
  by_cases h5 : w < 100000
  · rw [if_pos h5, if_pos (show w / 100 < 1000 by omega)]
  rw [if_neg h5, if_neg (show ¬ w / 100 < 1000 by omega)]
  by_cases h6 : w < 1000000
  · rw [if_pos h6, if_pos (show w / 100 < 10000 by omega)]
  rw [if_neg h6, if_neg (show ¬ w / 100 < 10000 by omega)]
  by_cases h7 : w < 10000000
  · rw [if_pos h7, if_pos (show w / 100 < 100000 by omega)]
  rw [if_neg h7, if_neg (show ¬ w / 100 < 100000 by omega)]
  by_cases h8 : w < 100000000
  · rw [if_pos h8, if_pos (show w / 100 < 1000000 by omega)]
  rw [if_neg h8, if_neg (show ¬ w / 100 < 1000000 by omega)]
  by_cases h9 : w < 1000000000
  · rw [if_pos h9, if_pos (show w / 100 < 10000000 by omega)]
  rw [if_neg h9, if_neg (show ¬ w / 100 < 10000000 by omega)]
  rw [if_pos (show w / 100 < 100000000 by omega)]
theorem sb_negT {w : Nat} (h : w < 2 ^ 31) : (-nI w).toInt = -(w : Int) := by
  rw [Int32.toInt_neg, nI_toInt h]
  exact Int.bmod_eq_of_le (by omega) (by omega)
theorem sb_nle {a b : Nat} (ha : a < 2 ^ 31) (hb : b < 2 ^ 31) : -nI a ≤ -nI b ↔ b ≤ a := by
  rw [Int32.le_iff_toInt_le, sb_negT ha, sb_negT hb]
  omega
theorem sb_nlt {a b : Nat} (ha : a < 2 ^ 31) (hb : b < 2 ^ 31) : -nI a < -nI b ↔ b < a := by
  rw [Int32.lt_iff_toInt_lt, sb_negT ha, sb_negT hb]
  omega
theorem sb_cmp {A B : Prop} {x : Int32} (v c : Nat) (f : c ≤ v → A) (g : v < c → B) (hv : v < 2 ^ 31) (hx : x = -nI c := by rfl) (hc : c < 2 ^ 31 := by omega) : (-nI v ≤ x → A) ∧ (¬ -nI v ≤ x → B) := by
  subst hx
  rw [sb_nle hv hc]
  exact ⟨f, fun z => g (by omega)⟩
theorem sb_ndiv {w : Nat} (hw : w < 2 ^ 31) : (-nI w) / 100 = -nI (w / 100) := by
  apply Int32.toInt_inj.mp
  have h100 : (100 : Int32).toInt = 100 := by decide
  rw [Int32.toInt_div, sb_negT hw, h100, sb_negT (by omega), Int.neg_tdiv, Int.tdiv_eq_ediv_of_nonneg (by omega), Int.bmod_eq_of_le (by omega) (by omega)]
  omega
theorem sb_nrem {w : Nat} (hw : w < 2 ^ 31) : (-nI (w / 100)) * 100 - (-nI w) = nI (w % 100) := by
  have h := pk_rem (a := w) (d := 100) hw (by decide) (by decide)
  rw [pk_div hw (by decide) (by decide)] at h
  rw [← h]
  show (-nI (w / 100)) * nI 100 - (-nI w) = nI w - nI (w / 100) * nI 100
  rw [Int32.neg_mul, Int32.sub_neg, Int32.add_comm, ← Int32.sub_eq_add_neg]
end
section
/-! rows on bits, shifts and unsigned numbers, to paste: each family out of a closed proof of our own, whole with what it rests on; each by itself clean at Lean in its own claim (generation 39, form 5). Take a family whole -/
/-! ===== Int32 by its bits: bt x i ===== -/
def bt (x : Int32) (i : Nat) : Bool := x.toBitVec.getLsbD i
theorem b_ext {x y : Int32} (h : ∀ i, i < 32 → bt x i = bt y i) : x = y := Int32.toBitVec_inj.mp (BitVec.eq_of_getLsbD_eq (fun i hi => h i hi))
theorem b_or (x y : Int32) (i : Nat) : bt (x ||| y) i = (bt x i || bt y i) := by unfold bt; rw [Int32.toBitVec_or, BitVec.getLsbD_or]
theorem b_and (x y : Int32) (i : Nat) : bt (x &&& y) i = (bt x i && bt y i) := by unfold bt; rw [Int32.toBitVec_and, BitVec.getLsbD_and]
theorem b_xor (x y : Int32) (i : Nat) : bt (x ^^^ y) i = (bt x i ^^ bt y i) := by unfold bt; rw [Int32.toBitVec_xor, BitVec.getLsbD_xor]
theorem b_big {x : Int32} {i : Nat} (h : 32 ≤ i) : bt x i = false := BitVec.getLsbD_of_ge _ _ h
theorem b_255 (i : Nat) : bt 255 i = decide (i < 8) := by
  rcases Nat.lt_or_ge i 32 with h | h
  · exact (by decide +kernel : ∀ i, i < 32 → bt 255 i = decide (i < 8)) i h
  · rw [b_big h, decide_eq_false (by omega)]
theorem b_65535 (i : Nat) : bt 65535 i = decide (i < 16) := by
  rcases Nat.lt_or_ge i 32 with h | h
  · exact (by decide +kernel : ∀ i, i < 32 → bt 65535 i = decide (i < 16)) i h
  · rw [b_big h, decide_eq_false (by omega)]
theorem b_m1 : ∀ i, i < 32 → bt (-1) i = true := by decide +kernel
theorem b_0 (i : Nat) : bt 0 i = false := BitVec.getLsbD_zero
theorem s_l : ∀ n, n < 32 → ((nI n &&& 31).toBitVec.smod 32).toNat = n := by decide +kernel
theorem s_u : ∀ n, n < 32 → (((nI n).toUInt32 &&& Int32.toUInt32 31).toBitVec % 32).toNat = n := by decide +kernel
theorem b_shl (n : Nat) (hn : n < 32) (x : Int32) {i : Nat} (hi : i < 32) : bt (x <<< (nI n &&& 31)) i = (decide (n ≤ i) && bt x (i - n)) := by
  unfold bt
  rw [Int32.toBitVec_shiftLeft]
  show (x.toBitVec <<< ((nI n &&& 31).toBitVec.smod 32).toNat).getLsbD i = _
  rw [s_l n hn, BitVec.getLsbD_shiftLeft]
  rcases Nat.lt_or_ge i n with h | h
  · simp [h, Nat.not_le.mpr h]
  · simp [hi, h, Nat.not_lt.mpr h]
theorem b_ushr (n : Nat) (hn : n < 32) (x : Int32) (i : Nat) : bt ((x.toUInt32 >>> ((nI n).toUInt32 &&& Int32.toUInt32 31)).toInt32) i = bt x (n + i) := by
  show (x.toUInt32 >>> ((nI n).toUInt32 &&& Int32.toUInt32 31)).toBitVec.getLsbD i = x.toUInt32.toBitVec.getLsbD (n + i)
  rw [UInt32.toBitVec_shiftRight]
  show (x.toUInt32.toBitVec >>> (((nI n).toUInt32 &&& Int32.toUInt32 31).toBitVec % 32).toNat).getLsbD i = _
  rw [s_u n hn, BitVec.getLsbD_ushiftRight]
theorem b_sshr (n : Nat) (hn : n < 32) (x : Int32) {i : Nat} (hi : i < 32) : bt (x >>> (nI n &&& 31)) i = if n + i < 32 then bt x (n + i) else bt x 31 := by
  unfold bt
  rw [Int32.toBitVec_shiftRight]
  show (x.toBitVec.sshiftRight ((nI n &&& 31).toBitVec.smod 32).toNat).getLsbD i = _
  rw [s_l n hn, BitVec.getLsbD_sshiftRight, BitVec.msb_eq_getLsbD_last]
  simp [hi]
theorem b_shl8 (x : Int32) {i : Nat} (hi : i < 32) : bt (x <<< ((8 : Int32) &&& 31)) i = (decide (8 ≤ i) && bt x (i - 8)) := b_shl 8 (by omega) x hi
theorem b_shl16 (x : Int32) {i : Nat} (hi : i < 32) : bt (x <<< ((16 : Int32) &&& 31)) i = (decide (16 ≤ i) && bt x (i - 16)) := b_shl 16 (by omega) x hi
theorem b_shl24 (x : Int32) {i : Nat} (hi : i < 32) : bt (x <<< ((24 : Int32) &&& 31)) i = (decide (24 ≤ i) && bt x (i - 24)) := b_shl 24 (by omega) x hi
theorem b_sshr8 (x : Int32) {i : Nat} (hi : i < 32) : bt (x >>> ((8 : Int32) &&& 31)) i = if 8 + i < 32 then bt x (8 + i) else bt x 31 := b_sshr 8 (by omega) x hi
/-! ===== nI under and, xor, >>>, one bit, 65535 ===== -/
theorem nx_and (a b : Nat) : nI a &&& nI b = nI (a &&& b) := by
  apply Int32.toBitVec_inj.1
  show BitVec.ofNat 32 a &&& BitVec.ofNat 32 b = BitVec.ofNat 32 (a &&& b)
  apply BitVec.eq_of_getLsbD_eq
  intro i hi
  simp [hi]
theorem nx_xor (a b : Nat) : nI a ^^^ nI b = nI (a ^^^ b) := by
  apply Int32.toBitVec_inj.1
  show BitVec.ofNat 32 a ^^^ BitVec.ofNat 32 b = BitVec.ofNat 32 (a ^^^ b)
  apply BitVec.eq_of_getLsbD_eq
  intro i hi
  simp [hi]
theorem nx_cnt : ∀ j : Fin 32, (UInt32.ofNat j.val &&& Int32.toUInt32 31).toNat % 32 = j.val := by decide +kernel
theorem nx_ush {k j : Nat} (hk : k < 65536) (hj : j < 32) : ((nI k).toUInt32 >>> ((nI j).toUInt32 &&& Int32.toUInt32 31)).toInt32 = nI (k >>> j) := by
  have hs : k >>> j ≤ k := by
    rw [Nat.shiftRight_eq_div_pow]
    exact Nat.div_le_self _ _
  have e2 : UInt32.ofNat k >>> (UInt32.ofNat j &&& Int32.toUInt32 31) = UInt32.ofNat (k >>> j) := by
    apply UInt32.toNat_inj.1
    have h1 : (UInt32.ofNat k).toNat = k := Nat.mod_eq_of_lt (by omega)
    have h2 : (UInt32.ofNat (k >>> j)).toNat = k >>> j := Nat.mod_eq_of_lt (by omega)
    rw [UInt32.toNat_shiftRight, nx_cnt ⟨j, hj⟩, h1, h2]
  show (UInt32.ofNat k >>> (UInt32.ofNat j &&& Int32.toUInt32 31)).toInt32 = _
  rw [e2]
  rfl
theorem nx_bit {k j : Nat} (hk : k < 65536) (hj : j < 16) : (((nI k).toUInt32 >>> ((nI j).toUInt32 &&& Int32.toUInt32 31)).toInt32 &&& 1) = 0 ↔ k.testBit j = false := by
  rw [nx_ush hk (by omega)]
  show nI (k >>> j) &&& nI 1 = 0 ↔ _
  rw [nx_and, Nat.and_one_is_mod, ← nI_0, nI_eq (by omega) (by omega), Nat.testBit_eq_decide_div_mod_eq, Nat.shiftRight_eq_div_pow, decide_eq_false_iff_not]
  generalize k / 2 ^ j = z
  omega
theorem nx_mod (k : Nat) : nI k &&& 65535 = nI (k % 65536) := by
  show nI k &&& nI 65535 = _
  rw [nx_and, show (65535 : Nat) = 2 ^ 16 - 1 from rfl, Nat.and_two_pow_sub_one_eq_mod]
theorem nx_m16 {k : Nat} (h : k < 65536) : nI k &&& 65535 = nI k := by rw [nx_mod, Nat.mod_eq_of_lt h]
theorem nx_mask (x : Int32) : ∃ k, k < 65536 ∧ x &&& 65535 = nI k := by
  have e : x = nI x.toBitVec.toNat := by
    apply Int32.toBitVec_inj.1
    show x.toBitVec = BitVec.ofNat 32 x.toBitVec.toNat
    simp
  refine ⟨x.toBitVec.toNat % 65536, Nat.mod_lt _ (by omega), ?_⟩
  rw [← nx_mod, ← e]
/-! ===== Int32 as a set of bits: test, set ===== -/
def nf_M (m : Int32) : Nat := 4294967296 - m.toBitVec.toNat
theorem nf_sh : ∀ l, l < 32 → ((1 : Int32) <<< (nI l &&& 31)).toBitVec = BitVec.twoPow 32 l := by decide +kernel
theorem nf_sl : ∀ l, l < 32 → (((nI l).toUInt32 &&& Int32.toUInt32 31).toBitVec % 32).toNat = l := by decide +kernel
theorem nf_tp : ∀ l, l < 32 → BitVec.twoPow 32 l ≠ 0#32 := by decide +kernel
theorem nf_bit (m : Int32) (l : Nat) (hl : l < 32) : ((m.toUInt32 >>> ((nI l).toUInt32 &&& Int32.toUInt32 31)).toInt32 &&& 1) = 0 ↔ (m &&& ((1 : Int32) <<< (nI l &&& 31))) = 0 := by
  have e : ((m.toUInt32 >>> ((nI l).toUInt32 &&& Int32.toUInt32 31)).toInt32).toBitVec = m.toBitVec >>> l := by
    show m.toBitVec >>> (((nI l).toUInt32 &&& Int32.toUInt32 31).toBitVec % 32) = m.toBitVec >>> l
    rw [BitVec.ushiftRight_eq', nf_sl l hl]
  rw [← Int32.toBitVec_inj, ← Int32.toBitVec_inj, Int32.toBitVec_and, Int32.toBitVec_and, nf_sh l hl, e, BitVec.and_twoPow]
  show (m.toBitVec >>> l &&& 1#32) = 0#32 ↔ _ = 0#32
  rw [BitVec.and_one_eq_setWidth_ofBool_getLsbD, BitVec.getLsbD_ushiftRight, Nat.add_zero]
  cases hb : m.toBitVec.getLsbD l
  · exact ⟨fun _ => by simp, fun _ => by decide⟩
  · exact ⟨fun z => absurd z (by decide), fun z => absurd ((if_pos rfl).symm.trans z) (nf_tp l hl)⟩
theorem nf_gr (m k : Int32) (h : m &&& k = 0) (hk : k ≠ 0) : nf_M (m ||| k) < nf_M m := by
  have hm := m.toBitVec.isLt
  have hm' := (m ||| k).toBitVec.isLt
  have h1 : m.toBitVec.toNat ≤ (m ||| k).toBitVec.toNat := by
    rw [Int32.toBitVec_or, BitVec.toNat_or]
    exact Nat.left_le_or
  have h2 : m.toBitVec.toNat ≠ (m ||| k).toBitVec.toNat := by
    intro e
    have e2 : m = m ||| k := Int32.toBitVec_inj.mp (BitVec.eq_of_toNat_eq e)
    apply hk
    apply Int32.toBitVec_inj.mp
    show k.toBitVec = 0#32
    apply BitVec.eq_of_getLsbD_eq
    intro i hi
    have a : m.toBitVec.getLsbD i = (m.toBitVec.getLsbD i || k.toBitVec.getLsbD i) := by rw [← BitVec.getLsbD_or, ← Int32.toBitVec_or, ← e2]
    have b : (m.toBitVec.getLsbD i && k.toBitVec.getLsbD i) = false := by
      rw [← BitVec.getLsbD_and, ← Int32.toBitVec_and, h]
      exact BitVec.getLsbD_zero
    rw [BitVec.getLsbD_zero]
    revert a b
    cases m.toBitVec.getLsbD i <;> cases k.toBitVec.getLsbD i <;> simp
  unfold nf_M
  omega
/-! ===== a byte read unsigned ===== -/
theorem bp_b (x : Int32) : x.toInt8.toInt32 &&& 255 = x &&& 255 := by
  apply Int32.toBitVec_inj.mp
  rw [Int32.toBitVec_and, Int32.toBitVec_and, Int8.toBitVec_toInt32, Int32.toBitVec_toInt8]
  apply BitVec.eq_of_getLsbD_eq
  intro i hi
  rw [BitVec.getLsbD_and, BitVec.getLsbD_and]
  have hm : ∀ i < 32, 8 ≤ i → (255 : Int32).toBitVec.getLsbD i = false := by decide
  rcases Nat.lt_or_ge i 8 with z | z
  · rw [BitVec.getLsbD_signExtend, BitVec.getLsbD_signExtend, if_pos z, if_pos hi]
    simp only [z, hi, decide_true, Bool.true_and]
  · rw [hm i hi z]; simp
/-! ===== the char cast and 65535 ===== -/
theorem em_w (v : Int32) : ∃ w : Nat, w < 65536 ∧ (v.toUInt32 % 65536).toInt32 = nI w ∧ v &&& 65535 = nI w := by
  have hr := lw_u16_r v
  have h0 : (0 : Int32).toInt = 0 := by decide
  obtain ⟨w, h1, h2⟩ := nI_of (x := lw_u16 v) (by rw [Int32.lt_iff_toInt_lt]; omega)
  have h3 : (v.toUInt32 % 65536).toInt32 = nI w := h2
  rw [h2, nI_toInt h1] at hr
  exact ⟨w, by omega, h3, by rw [← lg_i2c_mask, ← lg_i2c_nf, h3]⟩
/-! ===== Int64 as a set of bits: test, set, clear ===== -/
theorem ts_nf {x : Bool} (h : ¬ x = false) : x = true := by cases x <;> first | rfl | exact absurd rfl h
theorem ts_nt {x : Bool} (h : ¬ x = true) : x = false := by cases x <;> first | rfl | exact absurd rfl h
theorem ts_bit {w : Int64} {s : UInt64} {j : Nat} (hj : j < 64) (hs : s.toNat = j) : ((w.toUInt64 >>> s).toInt64 &&& 1) = 0 ↔ w.toBitVec.getLsbD j = false := by
  have e : (w.toUInt64 >>> s).toInt64.toBitVec = w.toBitVec >>> j := by
    apply BitVec.eq_of_toNat_eq
    show (w.toUInt64 >>> s).toNat = _
    rw [UInt64.toNat_shiftRight, hs, Nat.mod_eq_of_lt hj, BitVec.toNat_ushiftRight]
    rfl
  rw [← Int64.toBitVec_inj, Int64.toBitVec_and, e]
  show w.toBitVec >>> j &&& 1#64 = 0#64 ↔ _
  constructor
  · intro h
    have t := congrArg (fun x => x.getLsbD 0) h
    simpa using t
  · intro h
    apply BitVec.eq_of_getLsbD_eq
    intro i hi
    cases i with
    | zero => simp [h]
    | succ i => simp
theorem ts_or {w m : Int64} {j : Nat} (hj : j < 64) (hm : m.toBitVec = BitVec.twoPow 64 j) : (w ||| m) = w ↔ w.toBitVec.getLsbD j = true := by
  rw [← Int64.toBitVec_inj, Int64.toBitVec_or, hm]
  constructor
  · intro h
    have t := congrArg (fun x => x.getLsbD j) h
    simp only [BitVec.getLsbD_or, BitVec.getLsbD_twoPow] at t
    simpa [hj] using t.symm
  · intro h
    apply BitVec.eq_of_getLsbD_eq
    intro i hi
    rw [BitVec.getLsbD_or, BitVec.getLsbD_twoPow]
    by_cases e : j = i
    · subst e; rw [h, Bool.true_or]
    · simp [e]
theorem ts_and {w m : Int64} {j : Nat} (hj : j < 64) (hm : m.toBitVec = BitVec.twoPow 64 j) : (w &&& (m ^^^ (-1))) = w ↔ w.toBitVec.getLsbD j = false := by
  have ha : (-1 : Int64).toBitVec = BitVec.allOnes 64 := by decide
  rw [← Int64.toBitVec_inj, Int64.toBitVec_and, Int64.toBitVec_xor, hm, ha]
  constructor
  · intro h
    have t := congrArg (fun x => x.getLsbD j) h
    simp only [BitVec.getLsbD_and, BitVec.getLsbD_xor, BitVec.getLsbD_twoPow, BitVec.getLsbD_allOnes] at t
    simpa [hj] using t.symm
  · intro h
    apply BitVec.eq_of_getLsbD_eq
    intro i hi
    rw [BitVec.getLsbD_and, BitVec.getLsbD_xor, BitVec.getLsbD_twoPow, BitVec.getLsbD_allOnes]
    by_cases e : j = i
    · subst e; rw [h, Bool.false_and]
    · simp [e, hi]
/-! ===== lN n to 2^64: shifts, and, or, masks, one bit ===== -/
theorem wb_tb (n : Nat) : (lN n).toBitVec = BitVec.ofNat 64 n := rfl
theorem wb_inj {a b : Int64} (h : a.toBitVec = b.toBitVec) : a = b := Int64.toBitVec_inj.mp h
theorem wb_tn {n : Nat} (h : n < 2 ^ 64) : (lN n).toBitVec.toNat = n := by rw [wb_tb, BitVec.toNat_ofNat, Nat.mod_eq_of_lt h]
theorem wb_of (x : Int64) : ∃ n, n < 2 ^ 64 ∧ x = lN n := ⟨x.toBitVec.toNat, x.toBitVec.isLt, wb_inj (by rw [wb_tb]; simp)⟩
theorem wb_of32 (x : Int32) : ∃ n, n < 2 ^ 32 ∧ x = nI n := ⟨x.toBitVec.toNat, x.toBitVec.isLt, Int32.toBitVec_inj.mp (by show _ = BitVec.ofNat 32 _; simp)⟩
theorem wb_c : ∀ k, k < 64 → ((nI k).toInt64 &&& 63) = lN k := by decide +kernel
theorem wb_cu : ∀ k, k < 64 → ((nI k).toInt64.toUInt64 &&& Int64.toUInt64 63) = UInt64.ofNat k := by decide +kernel
theorem wb_sm : ∀ k, k < 64 → (BitVec.ofNat 64 k).smod 64 = BitVec.ofNat 64 k := by decide +kernel
theorem wb_pw {a b : Nat} (h : a ≤ b) : 2 ^ b = 2 ^ a * 2 ^ (b - a) := by rw [← Nat.pow_add]; congr 1; omega
theorem wb_lt2 {a b : Nat} (h : a < b) : 2 ^ a < 2 ^ b := Nat.pow_lt_pow_right (by decide) h
theorem wb_mod (n : Nat) : lN n = lN (n % 2 ^ 64) := wb_inj (by rw [wb_tb, wb_tb]; apply BitVec.eq_of_toNat_eq; rw [BitVec.toNat_ofNat, BitVec.toNat_ofNat, Nat.mod_mod])
theorem wb_shr {n k : Nat} (hn : n < 2 ^ 64) (hk : k < 64) : ((lN n).toUInt64 >>> ((nI k).toInt64.toUInt64 &&& Int64.toUInt64 63)).toInt64 = lN (n / 2 ^ k) := by
  rw [wb_cu k hk]
  apply wb_inj
  apply BitVec.eq_of_toNat_eq
  show ((lN n).toUInt64 >>> UInt64.ofNat k).toNat = (BitVec.ofNat 64 _).toNat
  have h1 : (UInt64.ofNat k).toNat = k := by
    show (BitVec.ofNat 64 k).toNat = k
    rw [BitVec.toNat_ofNat, Nat.mod_eq_of_lt (by omega)]
  have h2 : (lN n).toUInt64.toNat = n := wb_tn hn
  rw [UInt64.toNat_shiftRight, h1, h2, Nat.mod_eq_of_lt hk, Nat.shiftRight_eq_div_pow, BitVec.toNat_ofNat, Nat.mod_eq_of_lt (Nat.lt_of_le_of_lt (Nat.div_le_self _ _) hn)]
theorem wb_shl (n : Nat) {k : Nat} (hk : k < 64) : lN n <<< ((nI k).toInt64 &&& 63) = lN (n * 2 ^ k) := by
  rw [wb_c k hk]
  apply wb_inj
  rw [Int64.toBitVec_shiftLeft, wb_tb, wb_tb, wb_tb, wb_sm k hk]
  apply BitVec.eq_of_toNat_eq
  rw [BitVec.shiftLeft_eq', BitVec.toNat_shiftLeft, BitVec.toNat_ofNat, BitVec.toNat_ofNat, BitVec.toNat_ofNat, Nat.mod_eq_of_lt (show k < 2 ^ 64 by omega), Nat.shiftLeft_eq, Nat.mul_mod, Nat.mod_mod, ← Nat.mul_mod]
theorem wb_and {a b : Nat} (ha : a < 2 ^ 64) (hb : b < 2 ^ 64) : lN a &&& lN b = lN (a &&& b) := by
  apply wb_inj
  rw [Int64.toBitVec_and, wb_tb, wb_tb, wb_tb]
  apply BitVec.eq_of_toNat_eq
  rw [BitVec.toNat_and, BitVec.toNat_ofNat, BitVec.toNat_ofNat, BitVec.toNat_ofNat, Nat.mod_eq_of_lt ha, Nat.mod_eq_of_lt hb, Nat.mod_eq_of_lt (Nat.and_lt_two_pow _ hb)]
theorem wb_or {a b : Nat} (ha : a < 2 ^ 64) (hb : b < 2 ^ 64) : lN a ||| lN b = lN (a ||| b) := by
  apply wb_inj
  rw [Int64.toBitVec_or, wb_tb, wb_tb, wb_tb]
  apply BitVec.eq_of_toNat_eq
  rw [BitVec.toNat_or, BitVec.toNat_ofNat, BitVec.toNat_ofNat, BitVec.toNat_ofNat, Nat.mod_eq_of_lt ha, Nat.mod_eq_of_lt hb, Nat.mod_eq_of_lt (Nat.or_lt_two_pow ha hb)]
theorem wb_mask {n k : Nat} (hn : n < 2 ^ 64) (hk : k < 64) : lN n &&& lN (2 ^ k - 1) = lN (n % 2 ^ k) := by
  rw [wb_and hn (by have := wb_lt2 hk; omega), Nat.and_two_pow_sub_one_eq_mod]
theorem wb_a1 {n : Nat} (hn : n < 2 ^ 64) : lN n &&& 1 = lN (n % 2) := wb_mask (k := 1) hn (by decide)
theorem wb_bit {n k : Nat} (hn : n < 2 ^ 64) (hk : k < 64) : ((lN n).toUInt64 >>> ((nI k).toInt64.toUInt64 &&& Int64.toUInt64 63)).toInt64 &&& 1 = lN (n / 2 ^ k % 2) := by
  rw [wb_shr hn hk, wb_a1 (Nat.lt_of_le_of_lt (Nat.div_le_self _ _) hn)]
theorem wb_xor {q k : Nat} (hk : k < 63) (h : 2 ^ k ≤ q) (h2 : q < 2 ^ (k + 1)) : lN q ^^^ lN (2 ^ k) = lN (q - 2 ^ k) := by
  obtain ⟨r, rfl⟩ : ∃ r, q = 2 ^ k + r := ⟨q - 2 ^ k, by omega⟩
  have hr : r < 2 ^ k := by rw [Nat.pow_succ] at h2; omega
  have hx : (2 ^ k + r) ^^^ 2 ^ k = r := by
    apply Nat.eq_of_testBit_eq
    intro i
    rw [Nat.testBit_xor, Nat.testBit_two_pow]
    rcases Nat.lt_trichotomy i k with h | h | h
    · rw [Nat.testBit_two_pow_add_gt h]
      simp [show ¬ k = i by omega]
    · subst h
      rw [Nat.testBit_two_pow_add_eq]
      simp
    · have a1 : 2 ^ (k + 1) ≤ 2 ^ i := Nat.pow_le_pow_right (by decide) h
      rw [Nat.testBit_lt_two_pow (show 2 ^ k + r < 2 ^ i by omega), Nat.testBit_lt_two_pow (show r < 2 ^ i by omega)]
      simp [show ¬ k = i by omega]
  have b1 := wb_lt2 (show k + 1 < 64 by omega)
  have b2 := wb_lt2 (show k < 64 by omega)
  apply wb_inj
  rw [Int64.toBitVec_xor, wb_tb, wb_tb, wb_tb]
  apply BitVec.eq_of_toNat_eq
  rw [BitVec.toNat_xor, BitVec.toNat_ofNat, BitVec.toNat_ofNat, BitVec.toNat_ofNat, Nat.mod_eq_of_lt (by omega : 2 ^ k + r < 2 ^ 64), Nat.mod_eq_of_lt b2, hx, Nat.add_sub_cancel_left, Nat.mod_eq_of_lt (by omega)]
/-! ===== lN: masks, 'or' of parts that don't overlap is a sum ===== -/
theorem u_tn {n : Nat} (h : n < 2 ^ 64) : (UInt64.ofNat n).toNat = n := Nat.mod_eq_of_lt h
theorem g_and {a b c : Nat} (ha : a < 2 ^ 64) (hb : b < 2 ^ 64) (hc : a &&& b = c) : lN a &&& lN b = lN c := by
  subst hc
  have h : UInt64.ofNat a &&& UInt64.ofNat b = UInt64.ofNat (a &&& b) := UInt64.toNat_inj.mp (by rw [UInt64.toNat_and, u_tn ha, u_tn hb, u_tn (Nat.and_lt_two_pow a hb)])
  have h2 := congrArg UInt64.toInt64 h
  exact h2
theorem g_and1 {a : Nat} (ha : a < 2 ^ 64) : lN a &&& 1 = lN (a % 2) := g_and (b := 1) ha (by decide) (Nat.and_two_pow_sub_one_eq_mod a 1)
theorem g_mask {a s p : Nat} (hp : 2 ^ s = p) (hs : s < 64) (ha : a < 2 ^ 64) : lN a &&& lN (p - 1) = lN (a % p) := by
  subst hp
  have := Nat.pow_lt_pow_right (show 1 < 2 by decide) hs
  exact g_and ha (by omega) (Nat.and_two_pow_sub_one_eq_mod a s)
theorem g_or {k p a b : Nat} (hp : 2 ^ k = p) (ha : a < p) (h : b * p + a < 2 ^ 64) : lN (b * p) ||| lN a = lN (b * p + a) := by
  subst hp
  have h1 : b * 2 ^ k ||| a = b * 2 ^ k + a := by rw [← Nat.shiftLeft_eq, Nat.shiftLeft_add_eq_or_of_lt ha]
  have h3 : UInt64.ofNat (b * 2 ^ k) ||| UInt64.ofNat a = UInt64.ofNat (b * 2 ^ k + a) := UInt64.toNat_inj.mp (by rw [UInt64.toNat_or, u_tn (by omega), u_tn (by omega), u_tn h, h1])
  have h2 := congrArg UInt64.toInt64 h3
  exact h2
theorem g_or' {k p a b : Nat} (hp : 2 ^ k = p) (ha : a < p) (h : a + b * p < 2 ^ 64) : lN a ||| lN (b * p) = lN (a + b * p) := by
  rw [Int64.or_comm, g_or hp ha (by omega), Nat.add_comm]
theorem g_ushr {a k p : Nat} {y : UInt64} (hy : y = UInt64.ofNat k) (hk : k < 64) (hp : 2 ^ k = p) (ha : a < 2 ^ 64) : ((lN a).toUInt64 >>> y).toInt64 = lN (a / p) := by
  subst hy hp
  have h : UInt64.ofNat a >>> UInt64.ofNat k = UInt64.ofNat (a / 2 ^ k) := UInt64.toNat_inj.mp (by rw [UInt64.toNat_shiftRight, u_tn ha, u_tn (by omega), u_tn (Nat.lt_of_le_of_lt (Nat.div_le_self _ _) ha), Nat.mod_eq_of_lt hk, Nat.shiftRight_eq_div_pow])
  have h2 := congrArg UInt64.toInt64 h
  exact h2
theorem g_shl {a k p : Nat} {y : Int64} (hy : y.toBitVec.smod 64 = BitVec.ofNat 64 k) (hk : k < 64) (hp : 2 ^ k = p) (ha : a < 2 ^ 64) : lN a <<< y = lN (a * p) := by
  subst hp
  apply Int64.toBitVec_inj.mp
  rw [Int64.toBitVec_shiftLeft, hy]
  apply BitVec.eq_of_toNat_eq
  have hb : (lN a).toBitVec.toNat = a := Nat.mod_eq_of_lt ha
  have hk' : (BitVec.ofNat 64 k).toNat = k := Nat.mod_eq_of_lt (by omega)
  have h : ((lN a).toBitVec <<< BitVec.ofNat 64 k).toNat = (a * 2 ^ k) % 2 ^ 64 := by simp only [BitVec.shiftLeft_eq', BitVec.toNat_shiftLeft, hb, hk', Nat.shiftLeft_eq]
  exact h
/-! ===== lN to 2^62 under >> and >>> ===== -/
theorem pf_lI {a : Nat} (h : a < 2 ^ 63) : (lN a).toInt = (a : Int) := lg_ofNat_toInt h
theorem pf_shr {a d : Nat} {D : Int64} (hD : (D.toBitVec.smod 64).toNat = d) (h : a < 2 ^ 62) : lN a >>> D = lN (a / 2 ^ d) := by
  have hd : a / 2 ^ d ≤ a := Nat.div_le_self _ _
  apply Int64.toInt_inj.mp
  have e : (lN a >>> D).toInt = (lN a).toInt >>> d := by
    rw [← hD]
    exact BitVec.toInt_sshiftRight ..
  rw [e, Int.shiftRight_eq_div_pow, pf_lI (by omega), pf_lI (by omega)]
  rfl
theorem pf_ushr {a d : Nat} {D : UInt64} (hD : D.toNat % 64 = d) (h : a < 2 ^ 62) : ((lN a).toUInt64 >>> D).toInt64 = lN (a / 2 ^ d) := by
  have hd : a / 2 ^ d ≤ a := Nat.div_le_self _ _
  have e : (lN a).toUInt64 >>> D = UInt64.ofNat (a / 2 ^ d) := UInt64.toNat_inj.mp (by
    rw [UInt64.toNat_shiftRight, hD, Nat.shiftRight_eq_div_pow, UInt64.toNat_ofNat']
    show (UInt64.ofNat a).toNat / 2 ^ d = _
    rw [UInt64.toNat_ofNat', Nat.mod_eq_of_lt (by omega), Nat.mod_eq_of_lt (by omega)])
  rw [e]
  rfl
theorem pf_andw (x : Int64) : ∃ m, m < 2 ^ 32 ∧ x &&& 4294967295 = lN m := ⟨x.toBitVec.toNat % 2 ^ 32, Nat.mod_lt _ (by decide), Int64.toBitVec_inj.mp (BitVec.eq_of_toNat_eq (by
  show (x.toBitVec &&& 4294967295#64).toNat = (BitVec.ofNat 64 (x.toBitVec.toNat % 2 ^ 32)).toNat
  rw [BitVec.toNat_and, show (4294967295#64).toNat = 2 ^ 32 - 1 from by decide, Nat.and_two_pow_sub_one_eq_mod, BitVec.toNat_ofNat]
  omega))⟩
/-! ===== Int64 as an unsigned number: uN x ===== -/
def uN (x : Int64) : Nat := x.toUInt64.toNat
theorem uN_lt (x : Int64) : uN x < 18446744073709551616 := x.toUInt64.toNat_lt
theorem uN_inj {x y : Int64} (h : uN x = uN y) : x = y := congrArg UInt64.toInt64 (UInt64.toNat_inj.mp h)
theorem uN_add (x y : Int64) : uN (x + y) = (uN x + uN y) % 18446744073709551616 := by
  show (x.toUInt64 + y.toUInt64).toNat = _
  exact UInt64.toNat_add _ _
theorem uN_mul (x y : Int64) : uN (x * y) = (uN x * uN y) % 18446744073709551616 := by
  show (x.toUInt64 * y.toUInt64).toNat = _
  exact UInt64.toNat_mul _ _
theorem uN_shl (x : Int64) : uN (x <<< ((1 : Int32).toInt64 &&& 63)) = (2 * uN x) % 18446744073709551616 := by
  have h : (((1 : Int32).toInt64 &&& 63).toBitVec.smod 64).toNat = 1 := by decide
  show (x.toBitVec <<< (((1 : Int32).toInt64 &&& 63).toBitVec.smod 64).toNat).toNat = _
  rw [h, BitVec.toNat_shiftLeft, Nat.shiftLeft_eq, Nat.mul_comm]
  rfl
theorem uN_shr (x : Int64) (s : UInt64) : uN (x.toUInt64 >>> s).toInt64 = uN x / 2 ^ (s.toNat % 64) := by
  show (x.toUInt64 >>> s).toNat = _
  rw [UInt64.toNat_shiftRight, Nat.shiftRight_eq_div_pow]
  rfl
theorem uN_s32 (x : Int64) : uN (x.toUInt64 >>> ((32 : Int32).toInt64.toUInt64 &&& Int64.toUInt64 63)).toInt64 = uN x / 4294967296 := by
  have h : ((32 : Int32).toInt64.toUInt64 &&& Int64.toUInt64 63).toNat % 64 = 32 := by decide
  rw [uN_shr, h]
theorem uN_s63 (x : Int64) : uN (x.toUInt64 >>> ((63 : Int32).toInt64.toUInt64 &&& Int64.toUInt64 63)).toInt64 = uN x / 9223372036854775808 := by
  have h : ((63 : Int32).toInt64.toUInt64 &&& Int64.toUInt64 63).toNat % 64 = 63 := by decide
  rw [uN_shr, h]
theorem uN_lo (x : Int64) : uN (x &&& 4294967295) = uN x % 4294967296 := by
  show (x.toUInt64 &&& Int64.toUInt64 4294967295).toNat = _
  rw [UInt64.toNat_and]
  exact Nat.and_two_pow_sub_one_eq_mod _ 32
theorem uN_bit (x : Int64) : (x &&& 1) = 0 ↔ uN x % 2 = 0 := by
  have h : uN (x &&& 1) = uN x % 2 := by
    show (x.toUInt64 &&& Int64.toUInt64 1).toNat = _
    rw [UInt64.toNat_and]
    exact Nat.and_two_pow_sub_one_eq_mod _ 1
  rw [← h]
  exact ⟨fun z => by rw [z]; rfl, fun z => uN_inj (z.trans rfl)⟩
theorem uN_or {x y : Int64} (hy : uN y < 2) : uN ((x <<< ((1 : Int32).toInt64 &&& 63)) ||| y) = (2 * uN x) % 18446744073709551616 + uN y := by
  have h1 : uN ((x <<< ((1 : Int32).toInt64 &&& 63)) ||| y) = uN (x <<< ((1 : Int32).toInt64 &&& 63)) ||| uN y := UInt64.toNat_or _ _
  have h2 : (2 * uN x) % 18446744073709551616 = 2 ^ 1 * (uN x % 9223372036854775808) := by omega
  rw [h1, uN_shl, h2]
  exact (Nat.two_pow_add_eq_or_of_lt (i := 1) hy _).symm
theorem nat_xor {a : Nat} (h : a < 18446744073709551616) : a ^^^ 2 ^ 63 = (a + 9223372036854775808) % 18446744073709551616 := by
  have h1 : (a ^^^ 2 ^ 63) % 2 ^ 63 = a % 2 ^ 63 := by rw [Nat.xor_mod_two_pow, Nat.mod_self, Nat.xor_zero]
  have h2 : (a ^^^ 2 ^ 63) / 2 ^ 63 = (a / 2 ^ 63) ^^^ 1 := by rw [Nat.xor_div_two_pow, Nat.div_self (Nat.two_pow_pos 63)]
  have h3 : a / 2 ^ 63 = 0 ∨ a / 2 ^ 63 = 1 := by omega
  generalize a ^^^ 2 ^ 63 = t at h1 h2
  rcases h3 with h3 | h3
  · rw [h3] at h2
    have h2 : t / 2 ^ 63 = 1 := h2
    omega
  · rw [h3] at h2
    have h2 : t / 2 ^ 63 = 0 := h2
    omega
theorem uN_xor (x : Int64) : uN (x ^^^ (-9223372036854775808)) = (uN x + 9223372036854775808) % 18446744073709551616 := by
  rw [← nat_xor (uN_lt x)]
  exact UInt64.toNat_xor _ _
theorem uN_int (x : Int64) : x.toInt = if 2 * uN x < 18446744073709551616 then (uN x : Int) else (uN x : Int) - 18446744073709551616 := BitVec.toInt_eq_toNat_cond _
theorem uN_le (x y : Int64) : (x ^^^ (-9223372036854775808)) ≤ (y ^^^ (-9223372036854775808)) ↔ uN x ≤ uN y := by
  have hx := uN_lt x
  have hy := uN_lt y
  rw [Int64.le_iff_toInt_le, uN_int, uN_int, uN_xor, uN_xor]
  omega
theorem uN_sk (x : Int64) {k : Nat} (hk : k < 64) : uN (x.toUInt64 >>> ((nI k).toInt64.toUInt64 &&& Int64.toUInt64 63)).toInt64 = uN x / 2 ^ k := by
  have h : ((nI k).toInt64.toUInt64 &&& Int64.toUInt64 63).toNat % 64 = k := by
    rw [nI_l (by omega), UInt64.toNat_and]
    have e : (lN k).toUInt64.toNat = k % 2 ^ 64 := rfl
    have e2 : (Int64.toUInt64 63).toNat = 2 ^ 6 - 1 := by decide
    rw [e, e2, Nat.and_two_pow_sub_one_eq_mod]
    omega
  rw [uN_shr, h]
/-! ===== unsigned comparison by xor with the least ===== -/
theorem lN_bv (n : Nat) : (lN n).toBitVec = BitVec.ofNat 64 n := rfl
theorem lN_nat {n : Nat} (h : n < 2 ^ 64) : (lN n).toBitVec.toNat = n := by rw [lN_bv, BitVec.toNat_ofNat]; exact Nat.mod_eq_of_lt h
theorem lN_xor (a b : Nat) : lN a ^^^ lN b = lN (a ^^^ b) := by
  apply Int64.toBitVec_inj.mp; rw [Int64.toBitVec_xor, lN_bv, lN_bv, lN_bv]; apply BitVec.eq_of_getLsbD_eq; intro i hi; simp [BitVec.getLsbD_ofNat, Nat.testBit_xor, hi]
theorem lN_ti {m : Nat} (h : m < 2 ^ 64) : (lN m).toInt = if m < 2 ^ 63 then (m : Int) else (m : Int) - 2 ^ 64 := by
  have c := BitVec.toInt_eq_toNat_cond (lN m).toBitVec
  rw [lN_nat h] at c
  show (lN m).toBitVec.toInt = _
  rw [c]
  split <;> split <;> omega
theorem xor63 {x : Nat} (h : x < 2 ^ 63) : x ^^^ 2 ^ 63 = 2 ^ 63 + x := by
  apply Nat.eq_of_testBit_eq
  intro i
  rw [Nat.testBit_xor, Nat.testBit_two_pow]
  rcases Nat.lt_trichotomy i 63 with z | z | z
  · rw [Nat.testBit_two_pow_add_gt z, decide_eq_false (by omega)]; simp
  · subst z; rw [Nat.testBit_two_pow_add_eq]; simp
  · have hp : 2 ^ 64 ≤ 2 ^ i := Nat.pow_le_pow_right (by decide) z
    rw [Nat.testBit_lt_two_pow (show x < 2 ^ i by omega), Nat.testBit_lt_two_pow (show 2 ^ 63 + x < 2 ^ i by omega), decide_eq_false (by omega)]; rfl
theorem xorS {a : Nat} (h : a < 2 ^ 64) : (lN a ^^^ (-9223372036854775808)).toInt = (a : Int) - 2 ^ 63 := by
  rw [show (-9223372036854775808 : Int64) = lN (2 ^ 63) from by decide +kernel, lN_xor]
  rcases Nat.lt_or_ge a (2 ^ 63) with z | z
  · rw [xor63 z, lN_ti (by omega), if_neg (by omega)]; omega
  · obtain ⟨x, rfl⟩ : ∃ x, a = 2 ^ 63 + x := ⟨a - 2 ^ 63, by omega⟩
    rw [← xor63 (by omega), Nat.xor_assoc, Nat.xor_self, Nat.xor_zero, lN_ti (by omega), if_pos (by omega), xor63 (by omega)]; omega
theorem ultL {a b : Nat} (ha : a < 2 ^ 64) (hb : b < 2 ^ 64) : ((lN b ^^^ (-9223372036854775808)) ≤ (lN a ^^^ (-9223372036854775808))) ↔ b ≤ a := by
  rw [Int64.le_iff_toInt_le, xorS ha, xorS hb]; omega
/-! ===== Int64 masks of n low bits ===== -/
theorem cr_bits (W U M : BitVec 64) : ((W &&& U) &&& (U &&& (M ^^^ BitVec.allOnes 64))) = 0#64 ↔ (W &&& U) &&& M = W &&& U := by
  constructor
  · intro h
    apply BitVec.eq_of_getLsbD_eq
    intro i hi
    have e := congrArg (fun x => BitVec.getLsbD x i) h
    simp only [BitVec.getLsbD_and, BitVec.getLsbD_xor, BitVec.getLsbD_allOnes, BitVec.getLsbD_zero, hi, decide_true] at e ⊢
    revert e
    cases W.getLsbD i <;> cases U.getLsbD i <;> cases M.getLsbD i <;> decide
  · intro h
    apply BitVec.eq_of_getLsbD_eq
    intro i hi
    have e := congrArg (fun x => BitVec.getLsbD x i) h
    simp only [BitVec.getLsbD_and, BitVec.getLsbD_xor, BitVec.getLsbD_allOnes, BitVec.getLsbD_zero, hi, decide_true] at e ⊢
    revert e
    cases W.getLsbD i <;> cases U.getLsbD i <;> cases M.getLsbD i <;> decide
theorem cr_mask (w U m : Int64) (n : Nat) (hm : m.toBitVec.toNat = 2 ^ n - 1) : ((w &&& U) &&& (U &&& (m ^^^ (-1)))) = 0 ↔ (w &&& U).toBitVec.toNat < 2 ^ n := by
  have e0 : (-1 : Int64).toBitVec = BitVec.allOnes 64 := by decide
  have z0 : (0 : Int64).toBitVec = 0#64 := by decide
  rw [← Int64.toBitVec_inj, z0, Int64.toBitVec_and, Int64.toBitVec_and, Int64.toBitVec_and, Int64.toBitVec_xor, e0, cr_bits]
  generalize w.toBitVec &&& U.toBitVec = T
  rw [← BitVec.toNat_inj, BitVec.toNat_and, hm, Nat.and_two_pow_sub_one_eq_mod]
  constructor
  · intro h
    have t := Nat.mod_lt T.toNat (Nat.two_pow_pos n)
    rw [h] at t
    exact t
  · exact Nat.mod_eq_of_lt
theorem cr_shr (t : Int64) (x : UInt64) (n : Nat) (hx : x.toNat % 64 = n) : (t.toUInt64 >>> x).toInt64 = 0 ↔ t.toBitVec.toNat < 2 ^ n := by
  rw [← Int64.toBitVec_inj, ← BitVec.toNat_inj]
  show (t.toUInt64 >>> x).toNat = 0 ↔ t.toUInt64.toNat < 2 ^ n
  rw [UInt64.toNat_shiftRight, hx, Nat.shiftRight_eq_div_pow]
  constructor
  · intro h
    have d : t.toUInt64.toNat / 2 ^ n < 1 := by
      rw [h]
      decide
    have e := (Nat.div_lt_iff_lt_mul (Nat.two_pow_pos n)).mp d
    rw [Nat.one_mul] at e
    exact e
  · exact Nat.div_eq_of_lt
theorem cr_amt (s : Int64) : ∃ n, n < 64 ∧ s &&& 63 = lN n ∧ (s.toUInt64 &&& Int64.toUInt64 63).toNat % 64 = n := by
  have e : (s.toUInt64 &&& Int64.toUInt64 63).toNat = s.toUInt64.toNat % 2 ^ 6 := by
    rw [UInt64.toNat_and, show (Int64.toUInt64 63).toNat = 2 ^ 6 - 1 from by decide, Nat.and_two_pow_sub_one_eq_mod]
  refine ⟨s.toUInt64.toNat % 2 ^ 6, by omega, ?_, by omega⟩
  rw [← Int64.toBitVec_inj, ← BitVec.toNat_inj]
  show (s.toUInt64 &&& Int64.toUInt64 63).toNat = (BitVec.ofNat 64 (s.toUInt64.toNat % 2 ^ 6)).toNat
  rw [e, BitVec.toNat_ofNat]
  omega
end
section
/-! scripts as lists of ranks: cost, tokens used, packed number, and the order by (cost, packed number) -/
def sc_c (w : Nat → Nat) : List Nat → Nat
  | [] => 0
  | x :: l => w x + sc_c w l
def sc_u : List Nat → Nat
  | [] => 0
  | x :: l => (if x < 9 then 1 else 0) + sc_u l
def sc_p : Nat → List Nat → Nat
  | 0, _ => 0
  | _ + 1, [] => 0
  | n + 1, x :: l => x * 16 ^ n + sc_p n l
def sc_v (l : List Nat) : Prop := ∀ x, x ∈ l → 1 ≤ x ∧ x ≤ 14
def sc_w (w : Nat → Nat) : Prop := ∀ x, 2 ≤ x → x ≤ 14 → 1 ≤ w x
theorem sc_c_app (w : Nat → Nat) (a b : List Nat) : sc_c w (a ++ b) = sc_c w a + sc_c w b := by
  induction a with
  | nil => simp [sc_c]
  | cons x a ih => simp [sc_c, ih, Nat.add_assoc]
theorem sc_u_app (a b : List Nat) : sc_u (a ++ b) = sc_u a + sc_u b := by
  induction a with
  | nil => simp [sc_u]
  | cons x a ih => simp [sc_u, ih, Nat.add_assoc]
theorem sc_c_1 (w : Nat → Nat) (x : Nat) : sc_c w [x] = w x := by simp [sc_c]
theorem sc_u_1 (x : Nat) : sc_u [x] = if x < 9 then 1 else 0 := by simp [sc_u]
theorem sc_c_0 (w : Nat → Nat) : sc_c w [] = 0 := rfl
theorem sc_u_0 : sc_u [] = 0 := rfl
theorem sc_v_nil : sc_v [] := by intro x hx; cases hx
theorem sc_v_app {a b : List Nat} (ha : sc_v a) (hb : sc_v b) : sc_v (a ++ b) := by
  intro x hx
  rcases List.mem_append.mp hx with h | h
  · exact ha x h
  · exact hb x h
theorem sc_v_1 {x : Nat} (h1 : 1 ≤ x) (h2 : x ≤ 14) : sc_v [x] := by
  intro y hy
  rw [List.mem_singleton] at hy
  omega
theorem sc_v_cons {x : Nat} {l : List Nat} (h : sc_v (x :: l)) : 1 ≤ x ∧ x ≤ 14 ∧ sc_v l :=
  ⟨(h x (List.mem_cons_self ..)).1, (h x (List.mem_cons_self ..)).2, fun y hy => h y (List.mem_cons_of_mem _ hy)⟩
theorem sc_v_l {a b : List Nat} (h : sc_v (a ++ b)) : sc_v a := fun x hx => h x (List.mem_append_left _ hx)
theorem sc_v_r {a b : List Nat} (h : sc_v (a ++ b)) : sc_v b := fun x hx => h x (List.mem_append_right _ hx)
theorem sc_v_rep (m : Nat) : sc_v (List.replicate m 2) := by
  intro x hx
  have := List.eq_of_mem_replicate hx
  omega
theorem sc_u_rep (m : Nat) : sc_u (List.replicate m 2) = m := by
  induction m with
  | zero => rfl
  | succ m ih => rw [List.replicate_succ, sc_u, ih]; simp; omega
theorem sc_c_rep (w : Nat → Nat) (m : Nat) : sc_c w (List.replicate m 2) = m * w 2 := by
  induction m with
  | zero => simp [sc_c]
  | succ m ih => rw [List.replicate_succ, sc_c, ih, Nat.succ_mul]; omega
theorem sc_len {w : Nat → Nat} (hw : sc_w w) : ∀ {l : List Nat}, sc_v l → l.length ≤ sc_c w l + sc_u l
  | [], _ => by simp
  | x :: l, h => by
    obtain ⟨h1, h2, h3⟩ := sc_v_cons h
    have ih := sc_len hw h3
    rw [List.length_cons, sc_c, sc_u]
    by_cases hx : x < 9
    · rw [if_pos hx]; omega
    · have := hw x (by omega) h2
      omega
theorem sc_nil {w : Nat → Nat} (hw : sc_w w) {l : List Nat} (h : sc_v l) (hc : sc_c w l = 0) (hu : sc_u l = 0) : l = [] := by
  have := sc_len hw h
  exact List.eq_nil_of_length_eq_zero (by omega)
theorem sc_p_lt : ∀ (n : Nat) {l : List Nat}, sc_v l → sc_p n l < 16 ^ n
  | 0, _, _ => by simp [sc_p]
  | n + 1, [], _ => by
    rw [sc_p]
    exact Nat.pos_of_ne_zero (by simp)
  | n + 1, x :: l, h => by
    obtain ⟨h1, h2, h3⟩ := sc_v_cons h
    have ih := sc_p_lt n h3
    have e : x * 16 ^ n ≤ 15 * 16 ^ n := Nat.mul_le_mul_right _ (by omega)
    rw [sc_p, Nat.pow_succ]
    omega
theorem sc_p_nil (n : Nat) : sc_p n [] = 0 := by cases n <;> rfl
theorem sc_p_app : ∀ (n : Nat) (a b : List Nat), a.length ≤ n → sc_p n (a ++ b) = sc_p n a + sc_p (n - a.length) b
  | n, [], b, _ => by rw [List.nil_append, sc_p_nil, List.length_nil, Nat.sub_zero, Nat.zero_add]
  | 0, x :: a, b, h => by simp at h
  | n + 1, x :: a, b, h => by
    have h' : a.length ≤ n := by simpa using h
    rw [List.cons_append, sc_p, sc_p, sc_p_app n a b h', List.length_cons, Nat.add_sub_add_right, Nat.add_assoc]
theorem sc_p_up : ∀ (m e : Nat) (l : List Nat), l.length ≤ m → sc_p (m + e) l = sc_p m l * 16 ^ e
  | m, e, [], _ => by rw [sc_p_nil, sc_p_nil, Nat.zero_mul]
  | 0, e, x :: l, h => by simp at h
  | m + 1, e, x :: l, h => by
    have h' : l.length ≤ m := by simpa using h
    rw [show m + 1 + e = (m + e) + 1 by omega, sc_p, sc_p, sc_p_up m e l h', Nat.add_mul, Nat.mul_assoc, ← Nat.pow_add]
theorem sc_cmp : ∀ (n : Nat) (a b : List Nat), sc_v a → sc_v b → sc_p n a < sc_p n b → (∃ t, b = a ++ t) ∨ ∀ c d, sc_v c → sc_v d → sc_p n (a ++ c) < sc_p n (b ++ d)
  | n, [], b, _, _, _ => Or.inl ⟨b, rfl⟩
  | n, x :: a, [], _, _, h => by rw [sc_p_nil] at h; omega
  | 0, x :: a, y :: b, _, _, h => by simp [sc_p] at h
  | n + 1, x :: a, y :: b, ha, hb, h => by
    obtain ⟨x1, x2, x3⟩ := sc_v_cons ha
    obtain ⟨y1, y2, y3⟩ := sc_v_cons hb
    rw [sc_p, sc_p] at h
    have la := sc_p_lt n x3
    have lb := sc_p_lt n y3
    rcases Nat.lt_trichotomy x y with z | z | z
    · refine Or.inr fun c d hc hd => ?_
      rw [List.cons_append, List.cons_append, sc_p, sc_p]
      have l1 := sc_p_lt n (sc_v_app x3 hc)
      have e : (x + 1) * 16 ^ n ≤ y * 16 ^ n := Nat.mul_le_mul_right _ z
      rw [Nat.succ_mul] at e
      omega
    · subst z
      rcases sc_cmp n a b x3 y3 (by omega) with ⟨t, rfl⟩ | k
      · exact Or.inl ⟨t, rfl⟩
      · refine Or.inr fun c d hc hd => ?_
        rw [List.cons_append, List.cons_append, sc_p, sc_p]
        have := k c d hc hd
        omega
    · have e : (y + 1) * 16 ^ n ≤ x * 16 ^ n := Nat.mul_le_mul_right _ z
      rw [Nat.succ_mul] at e
      omega
theorem sc_inj : ∀ (n : Nat) (a b : List Nat), sc_v a → sc_v b → a.length ≤ n → b.length ≤ n → sc_p n a = sc_p n b → a = b
  | n, [], [], _, _, _, _, _ => rfl
  | 0, [], y :: b, _, _, _, h, _ => by simp at h
  | 0, x :: a, _, _, _, h, _, _ => by simp at h
  | n + 1, [], y :: b, _, hb, _, _, h => by
    obtain ⟨y1, y2, y3⟩ := sc_v_cons hb
    rw [sc_p_nil, sc_p] at h
    have e : 1 * 16 ^ n ≤ y * 16 ^ n := Nat.mul_le_mul_right _ y1
    have : 0 < 16 ^ n := Nat.pos_of_ne_zero (by simp)
    omega
  | n + 1, x :: a, [], ha, _, _, _, h => by
    obtain ⟨y1, y2, y3⟩ := sc_v_cons ha
    rw [sc_p_nil, sc_p] at h
    have e : 1 * 16 ^ n ≤ x * 16 ^ n := Nat.mul_le_mul_right _ y1
    have : 0 < 16 ^ n := Nat.pos_of_ne_zero (by simp)
    omega
  | n + 1, x :: a, y :: b, ha, hb, la, lb, h => by
    obtain ⟨x1, x2, x3⟩ := sc_v_cons ha
    obtain ⟨y1, y2, y3⟩ := sc_v_cons hb
    rw [sc_p, sc_p] at h
    have pa := sc_p_lt n x3
    have pb := sc_p_lt n y3
    have e : x = y := by
      rcases Nat.lt_trichotomy x y with z | z | z
      · have e : (x + 1) * 16 ^ n ≤ y * 16 ^ n := Nat.mul_le_mul_right _ z
        rw [Nat.succ_mul] at e
        omega
      · exact z
      · have e : (y + 1) * 16 ^ n ≤ x * 16 ^ n := Nat.mul_le_mul_right _ z
        rw [Nat.succ_mul] at e
        omega
    subst e
    rw [sc_inj n a b x3 y3 (by simpa using la) (by simpa using lb) (by omega)]
/-- the order by cost, then by the packed number -/
def sc_le (w : Nat → Nat) (a b : List Nat) : Prop := sc_c w a < sc_c w b ∨ (sc_c w a = sc_c w b ∧ sc_p 15 a ≤ sc_p 15 b)
def sc_lt (w : Nat → Nat) (a b : List Nat) : Prop := sc_c w a < sc_c w b ∨ (sc_c w a = sc_c w b ∧ sc_p 15 a < sc_p 15 b)
theorem sc_le_r (w : Nat → Nat) (a : List Nat) : sc_le w a a := Or.inr ⟨rfl, Nat.le_refl _⟩
theorem sc_le_t {w : Nat → Nat} {a b c : List Nat} (h : sc_le w a b) (k : sc_le w b c) : sc_le w a c := by
  unfold sc_le at *; omega
theorem sc_le_c {w : Nat → Nat} {a b : List Nat} (h : sc_le w a b) : sc_c w a ≤ sc_c w b := by
  unfold sc_le at *; omega
theorem sc_nle {w : Nat → Nat} {a b : List Nat} (h : ¬ sc_le w a b) : sc_lt w b a := by
  unfold sc_le at h; unfold sc_lt; omega
theorem sc_lt_nle {w : Nat → Nat} {a b : List Nat} (h : sc_lt w b a) : ¬ sc_le w a b := by
  unfold sc_le; unfold sc_lt at h; omega
theorem sc_lt_le {w : Nat → Nat} {a b : List Nat} (h : sc_lt w a b) : sc_le w a b := by
  unfold sc_le; unfold sc_lt at h; omega
theorem sc_ltR {w : Nat → Nat} (hw : sc_w w) {a b c : List Nat} (ha : sc_v a) (hb : sc_v b) (hc : sc_v c) (hu : sc_u a = sc_u b) (h : sc_lt w a b) : sc_lt w (a ++ c) (b ++ c) := by
  unfold sc_lt at *
  rw [sc_c_app, sc_c_app]
  rcases h with h | ⟨h1, h2⟩
  · exact Or.inl (by omega)
  · refine Or.inr ⟨by omega, ?_⟩
    rcases sc_cmp 15 a b ha hb h2 with ⟨t, rfl⟩ | k
    · have tv : sc_v t := sc_v_r hb
      rw [sc_c_app] at h1
      rw [sc_u_app] at hu
      have : t = [] := sc_nil hw tv (by omega) (by omega)
      subst this
      rw [List.append_nil] at h2
      omega
    · exact k c c hc hc
theorem sc_ltL {w : Nat → Nat} {a b c : List Nat} (hla : c.length + a.length ≤ 15) (hlb : c.length + b.length ≤ 15) (h : sc_lt w a b) : sc_lt w (c ++ a) (c ++ b) := by
  unfold sc_lt at *
  rw [sc_c_app, sc_c_app]
  rcases h with h | ⟨h1, h2⟩
  · exact Or.inl (by omega)
  · refine Or.inr ⟨by omega, ?_⟩
    rw [sc_p_app 15 c a (by omega), sc_p_app 15 c b (by omega)]
    have e : 15 = (15 - c.length) + c.length := by omega
    rw [e, sc_p_up _ _ a (by omega), sc_p_up _ _ b (by omega)] at h2
    have := Nat.lt_of_mul_lt_mul_right h2
    omega
theorem sc_le_cases {w : Nat → Nat} {a b : List Nat} (ha : sc_v a) (hb : sc_v b) (la : a.length ≤ 15) (lb : b.length ≤ 15) (h : sc_le w a b) : a = b ∨ sc_lt w a b := by
  unfold sc_le at h
  unfold sc_lt
  by_cases e : sc_p 15 a = sc_p 15 b
  · by_cases e2 : sc_c w a = sc_c w b
    · exact Or.inl (sc_inj 15 a b ha hb la lb e)
    · exact Or.inr (by omega)
  · exact Or.inr (by omega)
theorem sc_mono {w : Nat → Nat} (hw : sc_w w) {a b a' b' : List Nat} (va : sc_v a) (vb : sc_v b) (va' : sc_v a') (vb' : sc_v b') (ua : sc_u a = sc_u a') (ub : sc_u b = sc_u b')
    (hc : sc_c w a' + sc_c w b' ≤ 9) (hu : sc_u a' + sc_u b' ≤ 6) (h1 : sc_le w a a') (h2 : sc_le w b b') : sc_le w (a ++ b) (a' ++ b') := by
  have c1 := sc_le_c h1
  have c2 := sc_le_c h2
  have l1 := sc_len hw va
  have l2 := sc_len hw vb
  have l3 := sc_len hw va'
  have l4 := sc_len hw vb'
  have s1 : sc_le w (a ++ b) (a' ++ b) := by
    rcases sc_le_cases va va' (by omega) (by omega) h1 with e | e
    · rw [e]; exact sc_le_r _ _
    · exact sc_lt_le (sc_ltR hw va va' vb ua e)
  have s2 : sc_le w (a' ++ b) (a' ++ b') := by
    rcases sc_le_cases vb vb' (by omega) (by omega) h2 with e | e
    · rw [e]; exact sc_le_r _ _
    · exact sc_lt_le (sc_ltL (by omega) (by omega) e)
  exact sc_le_t s1 s2
/-- the order of settling: cost, then the later origin, then the packed number -/
def sc_od (w : Nat → Nat) (o : Nat) (a : List Nat) (o' : Nat) (b : List Nat) : Prop :=
  sc_c w a < sc_c w b ∨ (sc_c w a = sc_c w b ∧ (o' < o ∨ (o = o' ∧ sc_p 15 a ≤ sc_p 15 b)))
theorem sc_od_t {w : Nat → Nat} {o o' o'' : Nat} {a b c : List Nat} (h : sc_od w o a o' b) (k : sc_od w o' b o'' c) : sc_od w o a o'' c := by
  unfold sc_od at *; omega
theorem sc_od_le {w : Nat → Nat} {o : Nat} {a b : List Nat} (h : sc_od w o a o b) : sc_le w a b := by
  unfold sc_od at h; unfold sc_le; omega
theorem sc_le_od {w : Nat → Nat} {o : Nat} {a b : List Nat} (h : sc_le w a b) : sc_od w o a o b := by
  unfold sc_le at h; unfold sc_od; omega
theorem sc_od_r {w : Nat → Nat} (hw : sc_w w) {o : Nat} {a b : List Nat} (vb : sc_v b) (ub : sc_u b = 0) : sc_od w o a o (a ++ b) := by
  unfold sc_od
  rw [sc_c_app]
  by_cases h : sc_c w b = 0
  · rw [sc_nil hw vb h ub, List.append_nil]
    exact Or.inr ⟨rfl, Or.inr ⟨rfl, Nat.le_refl _⟩⟩
  · exact Or.inl (by omega)
theorem sc_od_l {w : Nat → Nat} (hw : sc_w w) {o k : Nat} {a b : List Nat} (va : sc_v a) (ua : sc_u a = k - o) (h : o ≤ k) : sc_od w k b o (a ++ b) := by
  unfold sc_od
  rw [sc_c_app]
  by_cases h0 : sc_c w a = 0
  · rcases Nat.lt_or_ge o k with z | z
    · exact Or.inr ⟨by omega, Or.inl z⟩
    · rw [sc_nil hw va h0 (by omega), List.nil_append]
      exact Or.inr ⟨by rw [sc_c]; omega, Or.inr ⟨by omega, Nat.le_refl _⟩⟩
  · exact Or.inl (by omega)
end
section
/-! packed scripts as longs -/
theorem sc_pw (m : Nat) : 2 ^ (4 * m) = 16 ^ m := by rw [Nat.pow_mul]
theorem sc_p60 {l : List Nat} (h : sc_v l) : sc_p 15 l < 1152921504606846976 := sc_p_lt 15 h
theorem sc_p63 {l : List Nat} (h : sc_v l) : sc_p 15 l < 2 ^ 63 := Nat.lt_trans (sc_p_lt 15 h) (by decide)
theorem sc_p_one {x m : Nat} : sc_p (m + 1) [x] = x * 16 ^ m := by rw [sc_p, sc_p_nil, Nat.add_zero]
theorem sc_p_len {l : List Nat} (h : l.length ≤ 15) : sc_p 15 l = sc_p l.length l * 16 ^ (15 - l.length) := by
  have := sc_p_up l.length (15 - l.length) l (Nat.le_refl _)
  rw [show l.length + (15 - l.length) = 15 by omega] at this
  exact this
theorem sc_or {a : List Nat} {q : Nat} (va : sc_v a) (ha : a.length ≤ 15) (hq : q < 16 ^ (15 - a.length)) : lN (sc_p 15 a) ||| lN q = lN (sc_p 15 a + q) := by
  have h1 : sc_p a.length a < 16 ^ a.length := sc_p_lt _ va
  rw [sc_p_len ha]
  refine g_or (k := 4 * (15 - a.length)) (sc_pw _) hq ?_
  have e : sc_p a.length a * 16 ^ (15 - a.length) + 16 ^ (15 - a.length) ≤ 16 ^ a.length * 16 ^ (15 - a.length) := by
    rw [← Nat.succ_mul]
    exact Nat.mul_le_mul_right _ h1
  rw [← Nat.pow_add, show a.length + (15 - a.length) = 15 by omega] at e
  have : (16 : Nat) ^ 15 < 2 ^ 64 := by decide
  omega
theorem sc_or1 {l : List Nat} {x : Nat} (va : sc_v l) (hx : x ≤ 14) (hl : l.length ≤ 14) :
    lN (sc_p 15 l) ||| (lN x <<< ((nI (56 - 4 * l.length)).toInt64 &&& 63)) = lN (sc_p 15 (l ++ [x])) := by
  have e : 15 - l.length = (14 - l.length) + 1 := by omega
  have p : x * 16 ^ (14 - l.length) < 16 ^ (15 - l.length) := by
    rw [e, Nat.pow_succ]
    have := Nat.mul_le_mul_right (16 ^ (14 - l.length)) hx
    have : 0 < 16 ^ (14 - l.length) := Nat.pos_of_ne_zero (by simp)
    omega
  rw [wb_shl x (by omega), show 56 - 4 * l.length = 4 * (14 - l.length) by omega, sc_pw, sc_or va (by omega) p, sc_p_app 15 l [x] (by omega), e, sc_p_one]
theorem sc_sh {a b : List Nat} (h : a.length + b.length ≤ 15) : sc_p 15 b / 2 ^ (4 * a.length) = sc_p (15 - a.length) b := by
  have := sc_p_up (15 - a.length) a.length b (by omega)
  rw [show 15 - a.length + a.length = 15 by omega] at this
  rw [this, sc_pw, Nat.mul_div_cancel _ (Nat.pos_of_ne_zero (by simp))]
theorem sc_or2 {a b : List Nat} (va : sc_v a) (vb : sc_v b) (h : a.length + b.length ≤ 15) : lN (sc_p 15 a) ||| lN (sc_p 15 b / 2 ^ (4 * a.length)) = lN (sc_p 15 (a ++ b)) := by
  rw [sc_sh h, sc_or va (by omega) (sc_p_lt _ vb), sc_p_app 15 a b (by omega)]
theorem sc_at : ∀ (n : Nat) (l : List Nat) (k : Nat), sc_v l → k < n → sc_p n l / 16 ^ (n - 1 - k) % 16 = l.getD k 0
  | n, [], k, _, _ => by rw [sc_p_nil, Nat.zero_div]; simp
  | 0, _ :: _, k, _, h => by omega
  | n + 1, x :: l, 0, hv, _ => by
    obtain ⟨h1, h2, h3⟩ := sc_v_cons hv
    have := sc_p_lt n h3
    rw [sc_p, show n + 1 - 1 - 0 = n by omega, Nat.mul_comm, Nat.mul_add_div (Nat.pos_of_ne_zero (by simp)), Nat.div_eq_of_lt this]
    simp
    omega
  | n + 1, x :: l, k + 1, hv, h => by
    obtain ⟨h1, h2, h3⟩ := sc_v_cons hv
    have ih := sc_at n l k h3 (by omega)
    have e : 16 ^ n = 16 ^ (n - 1 - k) * (16 * 16 ^ k) := by
      rw [← Nat.pow_succ', ← Nat.pow_add]
      congr 1
      omega
    rw [sc_p, show n + 1 - 1 - (k + 1) = n - 1 - k by omega, e, Nat.mul_left_comm, Nat.mul_add_div (Nat.pos_of_ne_zero (by simp)), Nat.mul_left_comm, Nat.mul_add_mod, ih]
    simp
theorem sc_at15 {l : List Nat} {k : Nat} (hv : sc_v l) (hk : k < 15) : sc_p 15 l / 2 ^ (4 * (14 - k)) % 16 = l.getD k 0 := by
  rw [sc_pw]
  exact sc_at 15 l k hv hk
theorem sc_getD {l : List Nat} {k : Nat} (hv : sc_v l) (hk : k < l.length) : 1 ≤ l.getD k 0 ∧ l.getD k 0 ≤ 14 := by
  have e : l.getD k 0 = l[k] := by simp [List.getD, hk]
  rw [e]
  exact hv _ (List.getElem_mem hk)
theorem sc_m15 {q : Nat} (h : q < 2 ^ 64) : lN q &&& 15 = lN (q % 16) := wb_mask (k := 4) h (by decide)
/-- the rank at place k, unsigned shift -/
theorem sc_rku {l : List Nat} {k : Nat} (hv : sc_v l) (hk : k < 15) :
    ((((lN (sc_p 15 l)).toUInt64 >>> ((nI (4 * (14 - k))).toInt64.toUInt64 &&& Int64.toUInt64 63)).toInt64) &&& 15).toInt32 = nI (l.getD k 0) := by
  have h := sc_p63 hv
  have h2 : sc_p 15 l / 2 ^ (4 * (14 - k)) ≤ sc_p 15 l := Nat.div_le_self _ _
  rw [wb_shr (by omega) (by omega), sc_m15 (by omega), sc_at15 hv hk, lN_i]
/-- the same, signed shift -/
theorem sc_rks {l : List Nat} {k : Nat} (hv : sc_v l) (hk : k < 15) :
    ((lN (sc_p 15 l) >>> ((nI (4 * (14 - k))).toInt64 &&& 63)) &&& 15).toInt32 = nI (l.getD k 0) := by
  have h := sc_p60 hv
  have h2 : sc_p 15 l / 2 ^ (4 * (14 - k)) ≤ sc_p 15 l := Nat.div_le_self _ _
  have s : ((((nI (4 * (14 - k))).toInt64 &&& 63)).toBitVec.smod 64).toNat = 4 * (14 - k) := by
    rw [wb_c _ (by omega), wb_tb, wb_sm _ (by omega), BitVec.toNat_ofNat]
    exact Nat.mod_eq_of_lt (by omega)
  rw [pf_shr s (by omega), sc_m15 (by omega), sc_at15 hv hk, lN_i]
theorem sc_shs {q k : Nat} (hq : q < 2 ^ 62) (hk : k < 64) : lN q >>> ((nI k).toInt64 &&& 63) = lN (q / 2 ^ k) := by
  refine pf_shr ?_ hq
  rw [wb_c _ hk, wb_tb, wb_sm _ hk, BitVec.toNat_ofNat]
  exact Nat.mod_eq_of_lt (by omega)
end
section
/-! items as a least closed set: (rule, dot, origin, set, script) -/
section
variable (sy : Nat → Nat → Nat) (nr : Nat) (tk : Nat → Nat) (n : Nat)
/-- the symbol behind the dot, 10 at the end -/
def xd_n (r d : Nat) : Nat := if d < 3 then sy r (d + 1) else 10
/-- the rank that uses token k for terminal t -/
def xd_o (k t : Nat) : Nat := if tk k = t then 1 else 3 + t
def xd_z (S : Nat → Nat → Nat → Nat → List Nat → Prop) : Prop :=
  (∀ r o, r < nr → o ≤ n → S r 0 o o []) ∧
  (∀ r d o k l, S r d o k l → xd_n sy r d < 6 → S r (d + 1) o k (l ++ [9 + xd_n sy r d])) ∧
  (∀ r d o k l, S r d o k l → xd_n sy r d < 6 → k < n → S r (d + 1) o (k + 1) (l ++ [xd_o tk k (xd_n sy r d)])) ∧
  (∀ r d o k l, S r d o k l → xd_n sy r d < 6 → k < n → S r d o (k + 1) (l ++ [2])) ∧
  (∀ r d o k l r' d' k' l', S r d o k l → S r' d' k k' l' → xd_n sy r d ≠ 10 → sy r' 0 = xd_n sy r d → xd_n sy r' d' = 10 → S r (d + 1) o k' (l ++ l'))
def xd_i (r d o k : Nat) (l : List Nat) : Prop := ∀ S, xd_z sy nr tk n S → S r d o k l
/-- a finished rule of the nonterminal N -/
def xd_N (N o k : Nat) (l : List Nat) : Prop := ∃ r d, xd_n sy r d = 10 ∧ sy r 0 = N ∧ xd_i sy nr tk n r d o k l
/-- the grammar is well formed -/
def xd_g : Prop := nr ≤ 8 ∧ n ≤ 6 ∧ ∀ r, r < nr → 6 ≤ sy r 0 ∧ sy r 0 ≤ 9 ∧ sy r 1 ≤ 10 ∧ sy r 2 ≤ 10 ∧ sy r 3 ≤ 10 ∧ (sy r 1 = 10 → sy r 2 = 10) ∧ (sy r 2 = 10 → sy r 3 = 10)
end
section
variable {sy : Nat → Nat → Nat} {nr : Nat} {tk : Nat → Nat} {n : Nat}
theorem xd_n_lt {r d : Nat} (h : xd_n sy r d ≠ 10) : d < 3 ∧ xd_n sy r d = sy r (d + 1) := by
  unfold xd_n at *
  by_cases z : d < 3
  · rw [if_pos z]; exact ⟨z, rfl⟩
  · rw [if_neg z] at h; exact absurd rfl h
theorem xd_n_le (hg : xd_g sy nr n) {r d : Nat} (hr : r < nr) : xd_n sy r d ≤ 10 := by
  obtain ⟨_, _, h⟩ := hg
  have := h r hr
  unfold xd_n
  by_cases z : d < 3
  · rw [if_pos z]
    rcases (by omega : d = 0 ∨ d = 1 ∨ d = 2) with e | e | e <;> subst e <;> simp only [Nat.zero_add, Nat.reduceAdd] <;> omega
  · rw [if_neg z]; omega
theorem xd_o_r (tk : Nat → Nat) {k t : Nat} (h : t < 6) : 1 ≤ xd_o tk k t ∧ xd_o tk k t < 9 := by
  unfold xd_o
  by_cases z : tk k = t
  · rw [if_pos z]; omega
  · rw [if_neg z]; omega
theorem xd_closed : xd_z sy nr tk n (xd_i sy nr tk n) := by
  refine ⟨fun r o hr ho S hS => hS.1 r o hr ho, fun r d o k l h h6 S hS => hS.2.1 r d o k l (h S hS) h6,
    fun r d o k l h h6 hk S hS => hS.2.2.1 r d o k l (h S hS) h6 hk, fun r d o k l h h6 hk S hS => hS.2.2.2.1 r d o k l (h S hS) h6 hk,
    fun r d o k l r' d' k' l' h h' h1 h2 h3 S hS => hS.2.2.2.2 r d o k l r' d' k' l' (h S hS) (h' S hS) h1 h2 h3⟩
/-- induction over items, the premises being items themselves -/
theorem xd_ind {P : Nat → Nat → Nat → Nat → List Nat → Prop}
    (h0 : ∀ r o, r < nr → o ≤ n → P r 0 o o [])
    (h1 : ∀ r d o k l, xd_i sy nr tk n r d o k l → P r d o k l → xd_n sy r d < 6 → P r (d + 1) o k (l ++ [9 + xd_n sy r d]))
    (h2 : ∀ r d o k l, xd_i sy nr tk n r d o k l → P r d o k l → xd_n sy r d < 6 → k < n → P r (d + 1) o (k + 1) (l ++ [xd_o tk k (xd_n sy r d)]))
    (h3 : ∀ r d o k l, xd_i sy nr tk n r d o k l → P r d o k l → xd_n sy r d < 6 → k < n → P r d o (k + 1) (l ++ [2]))
    (h4 : ∀ r d o k l r' d' k' l', xd_i sy nr tk n r d o k l → P r d o k l → xd_i sy nr tk n r' d' k k' l' → P r' d' k k' l' → xd_n sy r d ≠ 10 → sy r' 0 = xd_n sy r d → xd_n sy r' d' = 10 → P r (d + 1) o k' (l ++ l'))
    {r d o k : Nat} {l : List Nat} (h : xd_i sy nr tk n r d o k l) : P r d o k l := by
  have C := @xd_closed sy nr tk n
  refine (h (fun r d o k l => xd_i sy nr tk n r d o k l ∧ P r d o k l) ⟨?_, ?_, ?_, ?_, ?_⟩).2
  · exact fun r o hr ho => ⟨C.1 r o hr ho, h0 r o hr ho⟩
  · exact fun r d o k l q h6 => ⟨C.2.1 r d o k l q.1 h6, h1 r d o k l q.1 q.2 h6⟩
  · exact fun r d o k l q h6 hk => ⟨C.2.2.1 r d o k l q.1 h6 hk, h2 r d o k l q.1 q.2 h6 hk⟩
  · exact fun r d o k l q h6 hk => ⟨C.2.2.2.1 r d o k l q.1 h6 hk, h3 r d o k l q.1 q.2 h6 hk⟩
  · exact fun r d o k l r' d' k' l' q q' a b c => ⟨C.2.2.2.2 r d o k l r' d' k' l' q.1 q'.1 a b c, h4 r d o k l r' d' k' l' q.1 q.2 q'.1 q'.2 a b c⟩
def xd_f (nr n r d o k : Nat) (l : List Nat) : Prop := r < nr ∧ d ≤ 3 ∧ o ≤ k ∧ k ≤ n ∧ sc_v l ∧ sc_u l = k - o ∧ (d = 0 → l = List.replicate (k - o) 2)
theorem xd_facts {r d o k : Nat} {l : List Nat} (h : xd_i sy nr tk n r d o k l) : xd_f nr n r d o k l := by
  refine xd_ind (P := xd_f nr n) ?_ ?_ ?_ ?_ ?_ h
  · exact fun r o hr ho => ⟨hr, by omega, Nat.le_refl _, ho, sc_v_nil, by rw [sc_u]; omega, fun _ => by simp⟩
  · rintro r d o k l _ ⟨a1, a2, a3, a4, a5, a6, a7⟩ h6
    have hd := (xd_n_lt (sy := sy) (r := r) (d := d) (by omega)).1
    refine ⟨a1, by omega, a3, a4, sc_v_app a5 (sc_v_1 (by omega) (by omega)), ?_, by omega⟩
    rw [sc_u_app, sc_u_1, if_neg (by omega)]; omega
  · rintro r d o k l _ ⟨a1, a2, a3, a4, a5, a6, a7⟩ h6 hk
    have hd := (xd_n_lt (sy := sy) (r := r) (d := d) (by omega)).1
    have ho := xd_o_r tk (k := k) h6
    refine ⟨a1, by omega, by omega, by omega, sc_v_app a5 (sc_v_1 (by omega) (by omega)), ?_, by omega⟩
    rw [sc_u_app, sc_u_1, if_pos (by omega)]; omega
  · rintro r d o k l _ ⟨a1, a2, a3, a4, a5, a6, a7⟩ h6 hk
    refine ⟨a1, a2, by omega, by omega, sc_v_app a5 (sc_v_1 (by omega) (by omega)), ?_, fun z => ?_⟩
    · rw [sc_u_app, sc_u_1, if_pos (by omega)]; omega
    · rw [a7 z, show k + 1 - o = (k - o) + 1 by omega, List.replicate_succ']
  · rintro r d o k l r' d' k' l' _ ⟨a1, a2, a3, a4, a5, a6, a7⟩ _ ⟨b1, b2, b3, b4, b5, b6, b7⟩ h1 h2 h3
    have hd := (xd_n_lt h1).1
    refine ⟨a1, by omega, by omega, b4, sc_v_app a5 b5, ?_, by omega⟩
    rw [sc_u_app]; omega
end
/-! the run: chart g, settled flags IT, spans sp, predicted pd -/
def xm_x (k o r d : Nat) : Nat := k * 224 + o * 32 + r * 4 + d
def xm_y (k o N : Nat) : Nat := k * 28 + o * 4 + (N - 6)
def xm_b (k o r d : Nat) : Prop := k ≤ 6 ∧ o ≤ 6 ∧ r < 8 ∧ d < 4
def xm_has (w : Nat → Nat) (g : Nat → Option (List Nat)) (x : Nat) (l : List Nat) : Prop := ∃ l', g x = some l' ∧ sc_le w l' l
def xm_imp (w : Nat → Nat) (k : Nat) (IT : Nat → Int32) (g g' : Nat → Option (List Nat)) : Prop :=
  (∀ x l, g x = some l → xm_has w g' x l) ∧ (∀ x, IT x ≠ 0 → g' x = g x) ∧ (∀ x, x < k * 224 → g' x = g x)
theorem xm_x_inj {k o r d k' o' r' d' : Nat} (h : xm_b k o r d) (h' : xm_b k' o' r' d') (e : xm_x k o r d = xm_x k' o' r' d') : k = k' ∧ o = o' ∧ r = r' ∧ d = d' := by
  unfold xm_b xm_x at *; omega
theorem xm_x_lt {k o r d : Nat} (h : xm_b k o r d) : xm_x k o r d < 1568 := by
  unfold xm_b xm_x at *; omega
theorem xm_x_of {x : Nat} (h : x < 1568) : ∃ k o r d, xm_b k o r d ∧ x = xm_x k o r d := by
  refine ⟨x / 224, x % 224 / 32, x % 32 / 4, x % 4, ?_, ?_⟩
  · unfold xm_b; omega
  · unfold xm_x; omega
theorem xm_y_inj {k o N k' o' N' : Nat} (h : k ≤ 6 ∧ o ≤ 6 ∧ 6 ≤ N ∧ N ≤ 9) (h' : k' ≤ 6 ∧ o' ≤ 6 ∧ 6 ≤ N' ∧ N' ≤ 9) (e : xm_y k o N = xm_y k' o' N') : k = k' ∧ o = o' ∧ N = N' := by
  unfold xm_y at e; omega
theorem xm_y_lt {k o N : Nat} (h : k ≤ 6 ∧ o ≤ 6 ∧ 6 ≤ N ∧ N ≤ 9) : xm_y k o N < 196 := by
  unfold xm_y; omega
theorem xm_has_t {w : Nat → Nat} {g : Nat → Option (List Nat)} {x : Nat} {l l' : List Nat} (h : xm_has w g x l) (k : sc_le w l l') : xm_has w g x l' := by
  obtain ⟨a, b, c⟩ := h
  exact ⟨a, b, sc_le_t c k⟩
theorem xm_has_i {w : Nat → Nat} {k : Nat} {IT : Nat → Int32} {g g' : Nat → Option (List Nat)} {x : Nat} {l : List Nat} (i : xm_imp w k IT g g') (h : xm_has w g x l) : xm_has w g' x l := by
  obtain ⟨a, b, c⟩ := h
  exact xm_has_t (i.1 x a b) c
theorem xm_imp_r (w : Nat → Nat) (k : Nat) (IT : Nat → Int32) (g : Nat → Option (List Nat)) : xm_imp w k IT g g := ⟨fun _ l h => ⟨l, h, sc_le_r _ _⟩, fun _ _ => rfl, fun _ _ => rfl⟩
theorem xm_imp_t {w : Nat → Nat} {k : Nat} {IT : Nat → Int32} {g g' g'' : Nat → Option (List Nat)} (h : xm_imp w k IT g g') (q : xm_imp w k IT g' g'') : xm_imp w k IT g g'' :=
  ⟨fun x l e => xm_has_i q (h.1 x l e), fun x e => (q.2.1 x e).trans (h.2.1 x e), fun x e => (q.2.2 x e).trans (h.2.2 x e)⟩
section
variable (sy : Nat → Nat → Nat) (nr : Nat) (tk : Nat → Nat) (n : Nat) (w : Nat → Nat) (lm : Nat)
/-- what holds all the time: values are items, settled ones are best, spans are best -/
def xm_m (g : Nat → Option (List Nat)) (IT : Nat → Int32) (sp : Nat → Option (List Nat)) (pd : Nat → Nat → Prop) : Prop :=
  (∀ k o r d l, xm_b k o r d → g (xm_x k o r d) = some l → xd_i sy nr tk n r d o k l ∧ sc_c w l ≤ lm ∧ pd o (sy r 0)) ∧
  (∀ k o r d, xm_b k o r d → IT (xm_x k o r d) ≠ 0 → ∃ l, g (xm_x k o r d) = some l ∧ ∀ l', xd_i sy nr tk n r d o k l' → sc_c w l' ≤ lm → sc_le w l l') ∧
  (∀ k o N l, k ≤ 6 ∧ o ≤ 6 ∧ 6 ≤ N ∧ N ≤ 9 → sp (xm_y k o N) = some l → xd_N sy nr tk n N o k l ∧ sc_c w l ≤ lm ∧ ∀ l', xd_N sy nr tk n N o k l' → sc_c w l' ≤ lm → sc_le w l l')
/-- what holds between two settlings in set k -/
def xm_c (k : Nat) (g : Nat → Option (List Nat)) (IT : Nat → Int32) (sp : Nat → Option (List Nat)) (pd : Nat → Nat → Prop) : Prop :=
  (∀ k' o r d, xm_b k' o r d → IT (xm_x k' o r d) ≠ 0 → xd_n sy r d = 10 → ∃ l, sp (xm_y k' o (sy r 0)) = some l) ∧
  (∀ k' o r d, xm_b k' o r d → IT (xm_x k' o r d) ≠ 0 → 6 ≤ xd_n sy r d → xd_n sy r d ≤ 9 → pd k' (xd_n sy r d)) ∧
  (∀ k' o r d l, xm_b k' o r d → IT (xm_x k' o r d) ≠ 0 → g (xm_x k' o r d) = some l → xd_n sy r d < 6 →
    (sc_c w l + w (9 + xd_n sy r d) ≤ lm → xm_has w g (xm_x k' o r (d + 1)) (l ++ [9 + xd_n sy r d])) ∧
    (k' < n → sc_c w l + w (xd_o tk k' (xd_n sy r d)) ≤ lm → xm_has w g (xm_x (k' + 1) o r (d + 1)) (l ++ [xd_o tk k' (xd_n sy r d)])) ∧
    (k' < n → sc_c w l + w 2 ≤ lm → xm_has w g (xm_x (k' + 1) o r d) (l ++ [2]))) ∧
  (∀ k' o r d l k'' l2, xm_b k' o r d → IT (xm_x k' o r d) ≠ 0 → g (xm_x k' o r d) = some l → 6 ≤ xd_n sy r d → xd_n sy r d ≤ 9 → k'' ≤ 6 →
    sp (xm_y k'' k' (xd_n sy r d)) = some l2 → sc_c w l + sc_c w l2 ≤ lm → xm_has w g (xm_x k'' o r (d + 1)) (l ++ l2)) ∧
  (∀ k' o r d l, xm_b k' o r d → k' < k → g (xm_x k' o r d) = some l → IT (xm_x k' o r d) ≠ 0) ∧
  (∀ k' o r d, xm_b k' o r d → k < k' → IT (xm_x k' o r d) = 0) ∧
  (∀ k' o N, k' ≤ 6 ∧ o ≤ 6 ∧ 6 ≤ N ∧ N ≤ 9 → k < k' → sp (xm_y k' o N) = none) ∧
  (∀ o N, pd o N → ∀ r, r < nr → sy r 0 = N → ∃ l, g (xm_x o o r 0) = some l)
/-- an item of set k that waits to be settled -/
def xm_w (k : Nat) (g : Nat → Option (List Nat)) (IT : Nat → Int32) (o r d : Nat) (l : List Nat) : Prop :=
  xm_b k o r d ∧ g (xm_x k o r d) = some l ∧ IT (xm_x k o r d) = 0
end
end
section
/-! the frontier: whatever can be derived is settled, or something that comes first still waits -/
section
variable {sy : Nat → Nat → Nat} {nr : Nat} {tk : Nat → Nat} {n : Nat} {w : Nat → Nat} {lm : Nat}
variable {k : Nat} {g : Nat → Option (List Nat)} {IT : Nat → Int32} {sp : Nat → Option (List Nat)} {pd : Nat → Nat → Prop}
def xm_fr (w : Nat → Nat) (k : Nat) (g : Nat → Option (List Nat)) (IT : Nat → Int32) (r d o k' : Nat) (l : List Nat) : Prop :=
  (IT (xm_x k' o r d) ≠ 0 ∧ xm_has w g (xm_x k' o r d) l) ∨ (k' = k ∧ ∃ o2 r2 d2 l2, xm_w k g IT o2 r2 d2 l2 ∧ sc_od w o2 l2 o l)
theorem xm_b_of (hg : xd_g sy nr n) {r d o k' : Nat} {l : List Nat} (h : xd_i sy nr tk n r d o k' l) : xm_b k' o r d := by
  obtain ⟨a1, a2, a3, a4, _⟩ := xd_facts h
  obtain ⟨b1, b2, _⟩ := hg
  exact ⟨by omega, by omega, by omega, by omega⟩
theorem xm_fr_of (C : xm_c sy nr tk n w lm k g IT sp pd) {r d o k' : Nat} {l : List Nat} (hb : xm_b k' o r d) (hk : k' ≤ k) (h : xm_has w g (xm_x k' o r d) l) : xm_fr w k g IT r d o k' l := by
  by_cases z : IT (xm_x k' o r d) = 0
  · obtain ⟨l', h1, h2⟩ := h
    have e : k' = k := by
      rcases Nat.lt_or_ge k' k with q | q
      · exact absurd z (C.2.2.2.2.1 k' o r d l' hb q h1)
      · omega
    subst e
    exact Or.inr ⟨rfl, o, r, d, l', ⟨hb, h1, z⟩, sc_le_od h2⟩
  · exact Or.inl ⟨z, h⟩
theorem xm_front (hg : xd_g sy nr n) (hw : sc_w w) (hlm : lm ≤ 9) (M : xm_m sy nr tk n w lm g IT sp pd) (C : xm_c sy nr tk n w lm k g IT sp pd)
    {r d o k' : Nat} {l : List Nat} (h : xd_i sy nr tk n r d o k' l) : k' ≤ k → sc_c w l ≤ lm → pd o (sy r 0) → xm_fr w k g IT r d o k' l := by
  have HC := @xd_closed sy nr tk n
  refine xd_ind (P := fun r d o k' l => k' ≤ k → sc_c w l ≤ lm → pd o (sy r 0) → xm_fr w k g IT r d o k' l) ?_ ?_ ?_ ?_ ?_ h
  · intro r o hr ho hk hc hp
    have hi := HC.1 r o hr ho
    have hb := xm_b_of hg hi
    obtain ⟨l, hl⟩ := C.2.2.2.2.2.2.2 o _ hp r hr rfl
    have := (xd_facts (M.1 _ _ _ _ _ hb hl).1).2.2.2.2.2.2 rfl
    rw [Nat.sub_self] at this
    refine xm_fr_of C hb hk ⟨l, hl, ?_⟩
    rw [this]
    exact sc_le_r _ _
  · intro r d o k' l hi ih h6 hk hc hp
    have hb := xm_b_of hg hi
    have hb' := xm_b_of hg (HC.2.1 _ _ _ _ _ hi h6)
    obtain ⟨a1, a2, a3, a4, a5, a6, a7⟩ := xd_facts hi
    have hn := hg.2.1
    rw [sc_c_app, sc_c_1] at hc
    rcases ih hk (by omega) hp with ⟨s, l1, e1, e2⟩ | ⟨rfl, o2, r2, d2, l2, hw2, ho2⟩
    · obtain ⟨b1, b2, b3⟩ := M.1 _ _ _ _ _ hb e1
      obtain ⟨_, _, _, _, b5, b6, _⟩ := xd_facts b1
      have c1 := sc_le_c e2
      have hv : sc_v [9 + xd_n sy r d] := sc_v_1 (by omega) (by omega)
      refine xm_fr_of C hb' hk (xm_has_t ((C.2.2.1 _ _ _ _ _ hb s e1 h6).1 (by omega)) ?_)
      refine sc_mono hw b5 hv a5 hv (by omega) rfl (by rw [sc_c_1]; omega) ?_ e2 (sc_le_r _ _)
      rw [sc_u_1, if_neg (by omega)]; omega
    · refine Or.inr ⟨rfl, o2, r2, d2, l2, hw2, sc_od_t ho2 (sc_od_r hw (sc_v_1 (by omega) (by omega)) ?_)⟩
      rw [sc_u_1, if_neg (by omega)]
  · intro r d o k' l hi ih h6 hkn hk hc hp
    have hb := xm_b_of hg hi
    have hb' := xm_b_of hg (HC.2.2.1 _ _ _ _ _ hi h6 hkn)
    obtain ⟨a1, a2, a3, a4, a5, a6, a7⟩ := xd_facts hi
    have hn := hg.2.1
    have ho := xd_o_r tk (k := k') h6
    rw [sc_c_app, sc_c_1] at hc
    rcases ih (by omega) (by omega) hp with ⟨s, l1, e1, e2⟩ | ⟨e, _⟩
    · obtain ⟨b1, b2, b3⟩ := M.1 _ _ _ _ _ hb e1
      obtain ⟨_, _, _, _, b5, b6, _⟩ := xd_facts b1
      have c1 := sc_le_c e2
      have hv : sc_v [xd_o tk k' (xd_n sy r d)] := sc_v_1 (by omega) (by omega)
      refine xm_fr_of C hb' hk (xm_has_t ((C.2.2.1 _ _ _ _ _ hb s e1 h6).2.1 hkn (by omega)) ?_)
      refine sc_mono hw b5 hv a5 hv (by omega) rfl (by rw [sc_c_1]; omega) ?_ e2 (sc_le_r _ _)
      rw [sc_u_1, if_pos (by omega)]; omega
    · omega
  · intro r d o k' l hi ih h6 hkn hk hc hp
    have hb := xm_b_of hg hi
    have hb' := xm_b_of hg (HC.2.2.2.1 _ _ _ _ _ hi h6 hkn)
    obtain ⟨a1, a2, a3, a4, a5, a6, a7⟩ := xd_facts hi
    have hn := hg.2.1
    rw [sc_c_app, sc_c_1] at hc
    rcases ih (by omega) (by omega) hp with ⟨s, l1, e1, e2⟩ | ⟨e, _⟩
    · obtain ⟨b1, b2, b3⟩ := M.1 _ _ _ _ _ hb e1
      obtain ⟨_, _, _, _, b5, b6, _⟩ := xd_facts b1
      have c1 := sc_le_c e2
      have hv : sc_v [2] := sc_v_1 (by omega) (by omega)
      refine xm_fr_of C hb' hk (xm_has_t ((C.2.2.1 _ _ _ _ _ hb s e1 h6).2.2 hkn (by omega)) ?_)
      refine sc_mono hw b5 hv a5 hv (by omega) rfl (by rw [sc_c_1]; omega) ?_ e2 (sc_le_r _ _)
      rw [sc_u_1, if_pos (by omega)]; omega
    · omega
  · intro r d o k1 l1 r' d' k2 l2 hi1 ih1 hi2 ih2 hne hsy hend hk hc hp
    have hb1 := xm_b_of hg hi1
    have hb2 := xm_b_of hg hi2
    have hb' := xm_b_of hg (HC.2.2.2.2 _ _ _ _ _ _ _ _ _ hi1 hi2 hne hsy hend)
    obtain ⟨a1, a2, a3, a4, a5, a6, a7⟩ := xd_facts hi1
    obtain ⟨b1, b2, b3, b4, b5, b6, b7⟩ := xd_facts hi2
    have hn := hg.2.1
    have hN := hg.2.2 r' b1
    rw [sc_c_app] at hc
    rcases ih1 (by omega) (by omega) hp with ⟨s1, l1', e1, f1⟩ | ⟨e, o2, r2, d2, l3, hw2, ho2⟩
    · obtain ⟨c1, c2, c3⟩ := M.1 _ _ _ _ _ hb1 e1
      obtain ⟨_, _, _, _, c5, c6, _⟩ := xd_facts c1
      have cc := sc_le_c f1
      have hpd : pd k1 (sy r' 0) := by
        rw [hsy]
        exact C.2.1 _ _ _ _ hb1 s1 (by omega) (by omega)
      rcases ih2 hk (by omega) hpd with ⟨s2, l2', e2, f2⟩ | ⟨e, o2, r2, d2, l3, hw2, ho2⟩
      · obtain ⟨ls, hs⟩ := C.1 _ _ _ _ hb2 s2 hend
        obtain ⟨⟨rs, ds, p1, p2, p3⟩, g2, g3⟩ := M.2.2 _ _ _ _ ⟨hb'.1, by omega, hN.1, hN.2.1⟩ hs
        obtain ⟨_, _, _, _, d5, d6, _⟩ := xd_facts p3
        have fs := g3 l2 ⟨r', d', hend, rfl, hi2⟩ (by omega)
        have cs := sc_le_c fs
        rw [hsy] at hs
        refine xm_fr_of C hb' hk (xm_has_t (C.2.2.2.1 _ _ _ _ _ _ _ hb1 s1 e1 (by omega) (by omega) hb'.1 hs (by omega)) ?_)
        exact sc_mono hw c5 d5 a5 b5 (by omega) (by omega) (by omega) (by omega) f1 fs
      · exact Or.inr ⟨e, o2, r2, d2, l3, hw2, sc_od_t ho2 (sc_od_l hw a5 a6 a3)⟩
    · refine Or.inr ⟨by omega, o2, r2, d2, l3, hw2, sc_od_t ho2 (sc_od_r hw b5 (by omega))⟩
/-- what is settled first is best -/
theorem xm_best (hg : xd_g sy nr n) (hw : sc_w w) (hlm : lm ≤ 9) (M : xm_m sy nr tk n w lm g IT sp pd) (C : xm_c sy nr tk n w lm k g IT sp pd)
    {o r d : Nat} {l : List Nat} (h : xm_w k g IT o r d l) (hm : ∀ o2 r2 d2 l2, xm_w k g IT o2 r2 d2 l2 → sc_od w o l o2 l2)
    {r' d' : Nat} {l' : List Nat} (hi : xd_i sy nr tk n r' d' o k l') (hc : sc_c w l' ≤ lm) (hr : sy r' 0 = sy r 0) :
    (IT (xm_x k o r' d') ≠ 0 ∧ xm_has w g (xm_x k o r' d') l') ∨ sc_le w l l' := by
  obtain ⟨a1, a2, a3⟩ := M.1 _ _ _ _ _ h.1 h.2.1
  rcases xm_front hg hw hlm M C hi (Nat.le_refl _) hc (by rw [hr]; exact a3) with q | ⟨_, o2, r2, d2, l2, q1, q2⟩
  · exact Or.inl q
  · exact Or.inr (sc_od_le (sc_od_t (hm _ _ _ _ q1) q2))
/-- marking the best one keeps what holds all the time -/
theorem xm_mark (hg : xd_g sy nr n) (hw : sc_w w) (hlm : lm ≤ 9) (M : xm_m sy nr tk n w lm g IT sp pd) (C : xm_c sy nr tk n w lm k g IT sp pd)
    {o r d : Nat} {l : List Nat} (h : xm_w k g IT o r d l) (hm : ∀ o2 r2 d2 l2, xm_w k g IT o2 r2 d2 l2 → sc_od w o l o2 l2) :
    xm_m sy nr tk n w lm g (upd IT (xm_x k o r d) 1) sp pd := by
  refine ⟨M.1, fun k' o' r' d' hb hs => ?_, M.2.2⟩
  by_cases e : xm_x k' o' r' d' = xm_x k o r d
  · obtain ⟨rfl, rfl, rfl, rfl⟩ := xm_x_inj hb h.1 e
    refine ⟨l, h.2.1, fun l' hi hc => ?_⟩
    rcases xm_best hg hw hlm M C h hm hi hc rfl with ⟨q, _⟩ | q
    · exact absurd h.2.2 q
    · exact q
  · rw [pk_un e] at hs
    exact M.2.1 _ _ _ _ hb hs
/-- the first finished rule gives the best span -/
theorem xm_span (hg : xd_g sy nr n) (hw : sc_w w) (hlm : lm ≤ 9) (M : xm_m sy nr tk n w lm g IT sp pd) (C : xm_c sy nr tk n w lm k g IT sp pd)
    {o r d : Nat} {l : List Nat} (h : xm_w k g IT o r d l) (hm : ∀ o2 r2 d2 l2, xm_w k g IT o2 r2 d2 l2 → sc_od w o l o2 l2)
    (hend : xd_n sy r d = 10) (hs : sp (xm_y k o (sy r 0)) = none) : xd_N sy nr tk n (sy r 0) o k l ∧ sc_c w l ≤ lm ∧ ∀ l', xd_N sy nr tk n (sy r 0) o k l' → sc_c w l' ≤ lm → sc_le w l l' := by
  obtain ⟨a1, a2, a3⟩ := M.1 _ _ _ _ _ h.1 h.2.1
  refine ⟨⟨r, d, hend, rfl, a1⟩, a2, ?_⟩
  rintro l' ⟨r', d', q1, q2, q3⟩ hc
  rcases xm_best hg hw hlm M C h hm q3 hc q2 with ⟨z, _⟩ | q
  · obtain ⟨l2, z2⟩ := C.1 _ _ _ _ (xm_b_of hg q3) z q1
    rw [q2, hs] at z2
    cases z2
  · exact q
/-- when nothing waits, set k is complete -/
theorem xm_full (hg : xd_g sy nr n) (hw : sc_w w) (hlm : lm ≤ 9) (M : xm_m sy nr tk n w lm g IT sp pd) (C : xm_c sy nr tk n w lm k g IT sp pd)
    (hno : ∀ o r d l, ¬ xm_w k g IT o r d l) {N o : Nat} {l : List Nat} (hp : pd o N) (h : xd_N sy nr tk n N o k l) (hc : sc_c w l ≤ lm) :
    ∃ l', sp (xm_y k o N) = some l' ∧ sc_le w l' l := by
  obtain ⟨r, d, h1, h2, h3⟩ := h
  have hr := (xd_facts h3).1
  have hN := hg.2.2 r hr
  have hb := xm_b_of hg h3
  rcases xm_front hg hw hlm M C h3 (Nat.le_refl _) hc (by rw [h2]; exact hp) with ⟨q, _⟩ | ⟨_, o2, r2, d2, l2, q1, q2⟩
  · obtain ⟨l', q3⟩ := C.1 _ _ _ _ hb q h1
    have := (M.2.2 _ _ _ _ ⟨hb.1, hb.2.1, hN.1, hN.2.1⟩ q3).2.2 l ⟨r, d, h1, rfl, h3⟩ hc
    rw [h2] at q3
    exact ⟨l', q3, this⟩
  · exact absurd q1 (hno _ _ _ _)
end
end
section
/-! one settling keeps what holds between two settlings; the next set; the goal -/
section
variable {sy : Nat → Nat → Nat} {nr : Nat} {tk : Nat → Nat} {n : Nat} {w : Nat → Nat} {lm : Nat}
variable {k : Nat} {g g' : Nat → Option (List Nat)} {IT : Nat → Int32} {sp sp' : Nat → Option (List Nat)} {pd pd' : Nat → Nat → Prop}
theorem xm_next (C : xm_c sy nr tk n w lm k g IT sp pd) {o r d : Nat} {l : List Nat} (hx : xm_b k o r d) (hl : g (xm_x k o r d) = some l)
    (M' : xm_m sy nr tk n w lm g' (upd IT (xm_x k o r d) 1) sp' pd')
    (i : xm_imp w k (upd IT (xm_x k o r d) 1) g g')
    (s1 : ∀ y l, sp y = some l → sp' y = some l)
    (s2 : ∀ k'' k' N l2, k'' ≤ 6 ∧ k' ≤ 6 ∧ 6 ≤ N ∧ N ≤ 9 → sp' (xm_y k'' k' N) = some l2 → sp (xm_y k'' k' N) = some l2 ∨ (k'' = k ∧ ∀ o2 r2 d2 lw, xm_b k' o2 r2 d2 → upd IT (xm_x k o r d) 1 (xm_x k' o2 r2 d2) ≠ 0 → g' (xm_x k' o2 r2 d2) = some lw → xd_n sy r2 d2 = N → sc_c w lw + sc_c w l2 ≤ lm → xm_has w g' (xm_x k o2 r2 (d2 + 1)) (lw ++ l2)))
    (p1 : ∀ o N, pd o N → pd' o N) (p2 : ∀ o N, pd' o N → ∀ r, r < nr → sy r 0 = N → ∃ l, g' (xm_x o o r 0) = some l)
    (e1 : xd_n sy r d = 10 → ∃ l, sp' (xm_y k o (sy r 0)) = some l)
    (e2 : 6 ≤ xd_n sy r d → xd_n sy r d ≤ 9 → pd' k (xd_n sy r d))
    (e3 : xd_n sy r d < 6 →
      (sc_c w l + w (9 + xd_n sy r d) ≤ lm → xm_has w g' (xm_x k o r (d + 1)) (l ++ [9 + xd_n sy r d])) ∧
      (k < n → sc_c w l + w (xd_o tk k (xd_n sy r d)) ≤ lm → xm_has w g' (xm_x (k + 1) o r (d + 1)) (l ++ [xd_o tk k (xd_n sy r d)])) ∧
      (k < n → sc_c w l + w 2 ≤ lm → xm_has w g' (xm_x (k + 1) o r d) (l ++ [2])))
    (e4 : 6 ≤ xd_n sy r d → xd_n sy r d ≤ 9 → ∀ l2, sp' (xm_y k k (xd_n sy r d)) = some l2 → sc_c w l + sc_c w l2 ≤ lm → xm_has w g' (xm_x k o r (d + 1)) (l ++ l2)) :
    xm_c sy nr tk n w lm k g' (upd IT (xm_x k o r d) 1) sp' pd' := by
  obtain ⟨c1, c2, c3, c4, c5, c6, c7, c8⟩ := C
  have same : ∀ {k' o' r' d'}, xm_b k' o' r' d' → upd IT (xm_x k o r d) 1 (xm_x k' o' r' d') ≠ 0 → (k' = k ∧ o' = o ∧ r' = r ∧ d' = d) ∨ IT (xm_x k' o' r' d') ≠ 0 := by
    intro k' o' r' d' hb h
    by_cases e : xm_x k' o' r' d' = xm_x k o r d
    · exact Or.inl (xm_x_inj hb hx e)
    · rw [pk_un e] at h
      exact Or.inr h
  have gx : g' (xm_x k o r d) = some l := by rw [i.2.1 _ (by rw [pk_us]; decide), hl]
  refine ⟨?_, ?_, ?_, ?_, ?_, ?_, ?_, p2⟩
  · intro k' o' r' d' hb h hend
    rcases same hb h with ⟨rfl, rfl, rfl, rfl⟩ | h2
    · exact e1 hend
    · obtain ⟨l', q⟩ := c1 _ _ _ _ hb h2 hend
      exact ⟨l', s1 _ _ q⟩
  · intro k' o' r' d' hb h q1 q2
    rcases same hb h with ⟨rfl, rfl, rfl, rfl⟩ | h2
    · exact e2 q1 q2
    · exact p1 _ _ (c2 _ _ _ _ hb h2 q1 q2)
  · intro k' o' r' d' l' hb h hg' h6
    rcases same hb h with ⟨rfl, rfl, rfl, rfl⟩ | h2
    · rw [gx] at hg'
      cases hg'
      exact e3 h6
    · rw [i.2.1 _ h] at hg'
      obtain ⟨t1, t2, t3⟩ := c3 _ _ _ _ _ hb h2 hg' h6
      exact ⟨fun z => xm_has_i i (t1 z), fun z1 z2 => xm_has_i i (t2 z1 z2), fun z1 z2 => xm_has_i i (t3 z1 z2)⟩
  · intro k' o' r' d' l' k'' l2 hb h hg' q1 q2 hk'' hs hc
    rcases s2 _ _ _ _ ⟨hk'', hb.1, q1, q2⟩ hs with hs' | ⟨rfl, hs'⟩
    · rcases same hb h with ⟨rfl, rfl, rfl, rfl⟩ | h2
      · rw [gx] at hg'
        cases hg'
        obtain ⟨⟨rs, ds, _, _, u3⟩, _⟩ := M'.2.2 _ _ _ _ ⟨hk'', hb.1, q1, q2⟩ hs
        have u4 := (xd_facts u3).2.2.1
        rcases Nat.lt_or_ge k' k'' with z | z
        · rw [c7 _ _ _ ⟨hk'', hb.1, q1, q2⟩ z] at hs'
          cases hs'
        · have e : k'' = k' := by omega
          subst e
          exact e4 q1 q2 _ hs hc
      · rw [i.2.1 _ h] at hg'
        exact xm_has_i i (c4 _ _ _ _ _ _ _ hb h2 hg' q1 q2 hk'' hs' hc)
    · exact hs' _ _ _ _ hb h hg' rfl hc
  · intro k' o' r' d' l' hb hk hg'
    have ne : xm_x k' o' r' d' ≠ xm_x k o r d := fun e => by
      have := (xm_x_inj hb hx e).1
      omega
    rw [pk_un ne]
    refine c5 _ _ _ _ l' hb hk ?_
    rw [← hg']
    refine (i.2.2 _ ?_).symm
    unfold xm_x
    have := hb.2.1
    have := hb.2.2.1
    have := hb.2.2.2
    omega
  · intro k' o' r' d' hb hk
    have ne : xm_x k' o' r' d' ≠ xm_x k o r d := fun e => by
      have := (xm_x_inj hb hx e).1
      omega
    rw [pk_un ne]
    exact c6 _ _ _ _ hb hk
  · intro k' o' N hb hk
    cases hs : sp' (xm_y k' o' N) with
    | none => rfl
    | some l2 =>
      rcases s2 _ _ _ _ hb hs with q | ⟨q, _⟩
      · rw [c7 _ _ _ hb hk] at q
        cases q
      · omega
/-- from a closed set to the next one -/
theorem xm_set (C : xm_c sy nr tk n w lm k g IT sp pd) (hno : ∀ o r d l, ¬ xm_w k g IT o r d l) : xm_c sy nr tk n w lm (k + 1) g IT sp pd := by
  obtain ⟨c1, c2, c3, c4, c5, c6, c7, c8⟩ := C
  refine ⟨c1, c2, c3, c4, ?_, fun k' o r d hb hk => c6 _ _ _ _ hb (by omega), fun k' o N hb hk => c7 _ _ _ hb (by omega), c8⟩
  intro k' o r d l hb hk hgx hz
  rcases Nat.lt_or_ge k' k with z | z
  · exact c5 _ _ _ _ _ hb z hgx hz
  · have e : k' = k := by omega
    subst e
    exact hno o r d l ⟨hb, hgx, hz⟩
/-- a store of a better value -/
def xm_st (g : Nat → Option (List Nat)) (x : Nat) (l : List Nat) : Nat → Option (List Nat) := fun j => if j = x then some l else g j
theorem xm_st_s {g : Nat → Option (List Nat)} {x : Nat} {l : List Nat} : xm_st g x l x = some l := if_pos rfl
theorem xm_st_n {g : Nat → Option (List Nat)} {x j : Nat} {l : List Nat} (h : j ≠ x) : xm_st g x l j = g j := if_neg h
/-- what an offer does -/
def xm_off (w : Nat → Nat) (IT : Nat → Int32) (g : Nat → Option (List Nat)) (x : Nat) (l : List Nat) (g' : Nat → Option (List Nat)) : Prop :=
  (g' = g ∧ (IT x ≠ 0 ∨ ∃ l0, g x = some l0 ∧ sc_le w l0 l)) ∨ (g' = xm_st g x l ∧ IT x = 0 ∧ ∀ l0, g x = some l0 → sc_lt w l l0)
theorem xm_offer {o r d k' : Nat} {l : List Nat} (hb : xm_b k' o r d) (hk : k ≤ k') (M : xm_m sy nr tk n w lm g IT sp pd)
    (hi : xd_i sy nr tk n r d o k' l) (hc : sc_c w l ≤ lm) (hp : pd o (sy r 0)) (h : xm_off w IT g (xm_x k' o r d) l g') :
    xm_m sy nr tk n w lm g' IT sp pd ∧ xm_imp w k IT g g' ∧ xm_has w g' (xm_x k' o r d) l := by
  rcases h with ⟨rfl, h⟩ | ⟨rfl, h1, h2⟩
  · refine ⟨M, xm_imp_r _ _ _ _, ?_⟩
    rcases h with h | h
    · obtain ⟨l0, q1, q2⟩ := M.2.1 _ _ _ _ hb h
      exact ⟨l0, q1, q2 _ hi hc⟩
    · exact h
  · refine ⟨⟨?_, ?_, M.2.2⟩, ⟨?_, ?_, ?_⟩, l, xm_st_s, sc_le_r _ _⟩
    · intro k2 o2 r2 d2 l2 hb2 e
      by_cases z : xm_x k2 o2 r2 d2 = xm_x k' o r d
      · obtain ⟨rfl, rfl, rfl, rfl⟩ := xm_x_inj hb2 hb z
        rw [xm_st_s] at e
        cases e
        exact ⟨hi, hc, hp⟩
      · rw [xm_st_n z] at e
        exact M.1 _ _ _ _ _ hb2 e
    · intro k2 o2 r2 d2 hb2 hs
      have z : xm_x k2 o2 r2 d2 ≠ xm_x k' o r d := fun e => hs (by rw [e, h1])
      rw [xm_st_n z]
      exact M.2.1 _ _ _ _ hb2 hs
    · intro x l0 e
      by_cases z : x = xm_x k' o r d
      · subst z
        exact ⟨l, xm_st_s, sc_lt_le (h2 _ e)⟩
      · exact ⟨l0, by rw [xm_st_n z, e], sc_le_r _ _⟩
    · intro x hs
      exact xm_st_n (fun e => hs (by rw [e, h1]))
    · intro x hx
      refine xm_st_n (fun e => ?_)
      rw [e] at hx
      unfold xm_x at hx
      omega
/-- a larger set of predicted nonterminals -/
theorem xm_m_pd (M : xm_m sy nr tk n w lm g IT sp pd) (h : ∀ o N, pd o N → pd' o N) : xm_m sy nr tk n w lm g IT sp pd' :=
  ⟨fun k o r d l hb e => ⟨(M.1 k o r d l hb e).1, (M.1 k o r d l hb e).2.1, h _ _ (M.1 k o r d l hb e).2.2⟩, M.2.1, M.2.2⟩
/-- a new span -/
theorem xm_m_sp {N o k' : Nat} {l : List Nat} (hb : k' ≤ 6 ∧ o ≤ 6 ∧ 6 ≤ N ∧ N ≤ 9) (M : xm_m sy nr tk n w lm g IT sp pd)
    (h : xd_N sy nr tk n N o k' l ∧ sc_c w l ≤ lm ∧ ∀ l', xd_N sy nr tk n N o k' l' → sc_c w l' ≤ lm → sc_le w l l') : xm_m sy nr tk n w lm g IT (xm_st sp (xm_y k' o N) l) pd := by
  refine ⟨M.1, M.2.1, fun k2 o2 N2 l2 hb2 e => ?_⟩
  by_cases z : xm_y k2 o2 N2 = xm_y k' o N
  · obtain ⟨rfl, rfl, rfl⟩ := xm_y_inj hb2 hb z
    rw [xm_st_s] at e
    cases e
    exact h
  · rw [xm_st_n z] at e
    exact M.2.2 _ _ _ _ hb2 e
end
/-- the best of a set of scripts within the limit -/
def xm_bst (w : Nat → Nat) (lm : Nat) (P : List Nat → Prop) (go : Option (List Nat)) : Prop :=
  (∀ l, go = some l → P l ∧ sc_c w l ≤ lm) ∧ (∀ l, P l → sc_c w l ≤ lm → ∃ l', go = some l' ∧ sc_le w l' l)
/-- whole sentences ahead of set k -/
def xm_gs (A : Nat → List Nat → Prop) : Nat → List Nat → Prop
  | 0, _ => False
  | k + 1, l => (∃ l0, l = l0 ++ [2] ∧ xm_gs A k l0) ∨ A k l
theorem xm_gs_1 {A : Nat → List Nat → Prop} : ∀ {k : Nat} {l : List Nat}, xm_gs A k l → ∃ m l', m < k ∧ l = l' ++ List.replicate m 2 ∧ A (k - 1 - m) l'
  | 0, _, h => h.elim
  | k + 1, l, h => by
    rcases h with ⟨l0, rfl, h⟩ | h
    · obtain ⟨m, l', h1, rfl, h3⟩ := xm_gs_1 h
      refine ⟨m + 1, l', by omega, ?_, ?_⟩
      · rw [List.replicate_succ', List.append_assoc]
      · rw [show k + 1 - 1 - (m + 1) = k - 1 - m by omega]; exact h3
    · exact ⟨0, l, by omega, by simp, h⟩
theorem xm_gs_2 {A : Nat → List Nat → Prop} : ∀ (m : Nat) {k : Nat} {l : List Nat}, m < k → A (k - 1 - m) l → xm_gs A k (l ++ List.replicate m 2)
  | 0, k + 1, l, _, h => by
    refine Or.inr ?_
    simpa using h
  | m + 1, k + 1, l, h0, h => by
    refine Or.inl ⟨l ++ List.replicate m 2, ?_, xm_gs_2 m (by omega) ?_⟩
    · rw [List.replicate_succ', List.append_assoc]
    · rw [show k - 1 - m = k + 1 - 1 - (m + 1) by omega]; exact h
/-- the former best and a deletion -/
theorem xm_bst_d {w : Nat → Nat} (hw : sc_w w) {lm q : Nat} (hlm : lm ≤ 9) (hq : q < 6) {P : List Nat → Prop} (hP : ∀ l, P l → sc_v l ∧ sc_u l = q) {go go' : Option (List Nat)} (h : xm_bst w lm P go)
    (hn : go = none → go' = none) (hs : ∀ l, go = some l → (sc_c w l + w 2 ≤ lm → go' = some (l ++ [2])) ∧ (lm < sc_c w l + w 2 → go' = none)) :
    xm_bst w lm (fun l => ∃ l0, l = l0 ++ [2] ∧ P l0) go' := by
  have hv : sc_v [2] := sc_v_1 (by omega) (by omega)
  refine ⟨fun l e => ?_, ?_⟩
  · cases hg : go with
    | none => rw [hn hg] at e; cases e
    | some l0 =>
      obtain ⟨a1, a2⟩ := h.1 _ hg
      obtain ⟨b1, b2⟩ := hs _ hg
      rcases Nat.lt_or_ge lm (sc_c w l0 + w 2) with z | z
      · rw [b2 z] at e; cases e
      · rw [b1 z] at e
        cases e
        exact ⟨⟨l0, rfl, a1⟩, by rw [sc_c_app, sc_c_1]; exact z⟩
  · rintro l ⟨l0, rfl, h0⟩ hc
    rw [sc_c_app, sc_c_1] at hc
    obtain ⟨l', e, hle⟩ := h.2 l0 h0 (by omega)
    have c1 := sc_le_c hle
    obtain ⟨v1, u1⟩ := hP _ h0
    obtain ⟨v2, u2⟩ := hP _ (h.1 _ e).1
    refine ⟨l' ++ [2], (hs _ e).1 (by omega), sc_mono hw v2 hv v1 hv (by omega) rfl (by rw [sc_c_1]; omega) ?_ hle (sc_le_r _ _)⟩
    rw [sc_u_1, if_pos (by omega)]; omega
/-- the better one of two -/
theorem xm_bst_2 {w : Nat → Nat} {lm : Nat} {P Q : List Nat → Prop} {a b c : Option (List Nat)} (ha : xm_bst w lm P a) (hb : xm_bst w lm Q b)
    (h : (b = none ∧ c = a) ∨ (∃ l, b = some l ∧ ((c = b ∧ (a = none ∨ ∃ l0, a = some l0 ∧ sc_lt w l l0)) ∨ (c = a ∧ ∃ l0, a = some l0 ∧ sc_le w l0 l)))) :
    xm_bst w lm (fun l => P l ∨ Q l) c := by
  rcases h with ⟨rfl, rfl⟩ | ⟨l, rfl, ⟨rfl, h⟩ | ⟨rfl, l0, rfl, h⟩⟩
  · refine ⟨fun l e => ⟨Or.inl (ha.1 l e).1, (ha.1 l e).2⟩, ?_⟩
    rintro l (hl | hl) hc
    · exact ha.2 l hl hc
    · obtain ⟨_, e, _⟩ := hb.2 l hl hc
      cases e
  · refine ⟨fun l e => ⟨Or.inr (hb.1 l e).1, (hb.1 l e).2⟩, ?_⟩
    rintro l1 (hl | hl) hc
    · obtain ⟨l2, e, h2⟩ := ha.2 l1 hl hc
      rcases h with rfl | ⟨l0, rfl, h⟩
      · cases e
      · cases e
        exact ⟨l, rfl, sc_le_t (sc_lt_le h) h2⟩
    · exact hb.2 l1 hl hc
  · refine ⟨fun l e => ⟨Or.inl (ha.1 l e).1, (ha.1 l e).2⟩, ?_⟩
    rintro l1 (hl | hl) hc
    · exact ha.2 l1 hl hc
    · obtain ⟨l2, e, h2⟩ := hb.2 l1 hl hc
      cases e
      exact ⟨l0, rfl, sc_le_t h h2⟩
end
section
/-! the reference's table: derivations by height -/
section
variable (sy : Nat → Nat → Nat) (nr : Nat) (tk : Nat → Nat) (n : Nat)
def yd_b (s i j : Nat) (l : List Nat) : Prop := i ≤ j ∧ j ≤ n ∧
  ((s = 10 ∧ l = List.replicate (j - i) 2) ∨ (s < 6 ∧ ∃ p, i ≤ p ∧ p ≤ j ∧
    (l = List.replicate (p - i) 2 ++ ([9 + s] ++ List.replicate (j - p) 2) ∨ (p < j ∧ l = List.replicate (p - i) 2 ++ ([xd_o tk p s] ++ List.replicate (j - p - 1) 2)))))
def yd_h : Nat → Nat → Nat → Nat → List Nat → Prop
  | 0, s, i, j, l => yd_b tk n s i j l
  | h + 1, s, i, j, l => yd_b tk n s i j l ∨ ∃ r p q a b c, r < nr ∧ s = sy r 0 ∧ l = a ++ b ++ c ∧ yd_h h (sy r 1) i p a ∧ yd_h h (sy r 2) p q b ∧ yd_h h (sy r 3) q j c
def yd_a (s i j : Nat) (l : List Nat) : Prop := ∃ h, yd_h sy nr tk n h s i j l
def yd_p (r o : Nat) : Nat → Nat → List Nat → Prop
  | 0, k, a => k = o ∧ a = []
  | d + 1, k, a => ∃ p a1 a2, a = a1 ++ a2 ∧ yd_p r o d p a1 ∧ yd_a sy nr tk n (sy r (d + 1)) p k a2
end
section
variable {sy : Nat → Nat → Nat} {nr : Nat} {tk : Nat → Nat} {n : Nat}
theorem yd_hb {s i j : Nat} {l : List Nat} (h : yd_b tk n s i j l) : ∀ m, yd_h sy nr tk n m s i j l
  | 0 => h
  | _ + 1 => Or.inl h
theorem yd_up : ∀ {h s i j : Nat} {l : List Nat}, yd_h sy nr tk n h s i j l → yd_h sy nr tk n (h + 1) s i j l
  | 0, _, _, _, _, q => Or.inl q
  | h + 1, s, i, j, l, q => by
    rcases q with q | ⟨r, p, q, a, b, c, h1, h2, h3, h4, h5, h6⟩
    · exact Or.inl q
    · exact Or.inr ⟨r, p, q, a, b, c, h1, h2, h3, yd_up h4, yd_up h5, yd_up h6⟩
theorem yd_ups {h h' s i j : Nat} {l : List Nat} (z : h ≤ h') (q : yd_h sy nr tk n h s i j l) : yd_h sy nr tk n h' s i j l := by
  obtain ⟨e, rfl⟩ : ∃ e, h' = h + e := ⟨h' - h, by omega⟩
  clear z
  induction e with
  | zero => exact q
  | succ e ih => exact yd_up ih
theorem yd_rule {r i p q j : Nat} {a b c : List Nat} (hr : r < nr) (ha : yd_a sy nr tk n (sy r 1) i p a) (hb : yd_a sy nr tk n (sy r 2) p q b) (hc : yd_a sy nr tk n (sy r 3) q j c) :
    yd_a sy nr tk n (sy r 0) i j (a ++ b ++ c) := by
  obtain ⟨x, ha⟩ := ha
  obtain ⟨y, hb⟩ := hb
  obtain ⟨z, hc⟩ := hc
  exact ⟨x + y + z + 1, Or.inr ⟨r, p, q, a, b, c, hr, rfl, rfl, yd_ups (by omega) ha, yd_ups (by omega) hb, yd_ups (by omega) hc⟩⟩
theorem yd_bf {s i j : Nat} {l : List Nat} (h : yd_b tk n s i j l) : i ≤ j ∧ j ≤ n ∧ sc_v l ∧ sc_u l = j - i := by
  obtain ⟨h1, h2, h3⟩ := h
  refine ⟨h1, h2, ?_⟩
  rcases h3 with ⟨_, rfl⟩ | ⟨hs, p, p1, p2, rfl | ⟨p3, rfl⟩⟩
  · exact ⟨sc_v_rep _, sc_u_rep _⟩
  · refine ⟨sc_v_app (sc_v_rep _) (sc_v_app (sc_v_1 (by omega) (by omega)) (sc_v_rep _)), ?_⟩
    rw [sc_u_app, sc_u_app, sc_u_rep, sc_u_rep, sc_u_1, if_neg (by omega)]; omega
  · have := xd_o_r tk (k := p) hs
    refine ⟨sc_v_app (sc_v_rep _) (sc_v_app (sc_v_1 (by omega) (by omega)) (sc_v_rep _)), ?_⟩
    rw [sc_u_app, sc_u_app, sc_u_rep, sc_u_rep, sc_u_1, if_pos (by omega)]; omega
theorem yd_f : ∀ {h s i j : Nat} {l : List Nat}, yd_h sy nr tk n h s i j l → i ≤ j ∧ j ≤ n ∧ sc_v l ∧ sc_u l = j - i
  | 0, _, _, _, _, q => yd_bf q
  | h + 1, s, i, j, l, q => by
    rcases q with q | ⟨r, p, q, a, b, c, h1, h2, rfl, h4, h5, h6⟩
    · exact yd_bf q
    · obtain ⟨a1, a2, a3, a4⟩ := yd_f h4
      obtain ⟨b1, b2, b3, b4⟩ := yd_f h5
      obtain ⟨c1, c2, c3, c4⟩ := yd_f h6
      refine ⟨by omega, c2, sc_v_app (sc_v_app a3 b3) c3, ?_⟩
      rw [sc_u_app, sc_u_app]; omega
theorem yd_af {s i j : Nat} {l : List Nat} (h : yd_a sy nr tk n s i j l) : i ≤ j ∧ j ≤ n ∧ sc_v l ∧ sc_u l = j - i := by
  obtain ⟨_, h⟩ := h
  exact yd_f h
theorem yd_rr (a b : Nat) : List.replicate a 2 ++ List.replicate b 2 = List.replicate (a + b) 2 := List.replicate_append_replicate
/-- deletions behind are taken in -/
theorem yd_del : ∀ {h s i j : Nat} {l : List Nat} (m : Nat), yd_h sy nr tk n h s i j l → j + m ≤ n → yd_h sy nr tk n h s i (j + m) (l ++ List.replicate m 2) := by
  have hb : ∀ {s i j : Nat} {l : List Nat} (m : Nat), yd_b tk n s i j l → j + m ≤ n → yd_b tk n s i (j + m) (l ++ List.replicate m 2) := by
    rintro s i j l m ⟨h1, h2, h3⟩ hm
    refine ⟨by omega, hm, ?_⟩
    rcases h3 with ⟨hs, rfl⟩ | ⟨hs, p, p1, p2, rfl | ⟨p3, rfl⟩⟩
    · exact Or.inl ⟨hs, by rw [yd_rr]; congr 1; omega⟩
    · refine Or.inr ⟨hs, p, p1, by omega, Or.inl ?_⟩
      rw [List.append_assoc, List.append_assoc, yd_rr, show j - p + m = j + m - p by omega]
    · refine Or.inr ⟨hs, p, p1, by omega, Or.inr ⟨by omega, ?_⟩⟩
      rw [List.append_assoc, List.append_assoc, yd_rr, show j - p - 1 + m = j + m - p - 1 by omega]
  intro h
  induction h with
  | zero => exact fun m q hm => hb m q hm
  | succ h ih =>
    intro s i j l m q hm
    rcases q with q | ⟨r, p, q, a, b, c, h1, h2, rfl, h4, h5, h6⟩
    · exact Or.inl (hb m q hm)
    · exact Or.inr ⟨r, p, q, a, b, c ++ List.replicate m 2, h1, h2, by simp [List.append_assoc], h4, h5, ih m h6 hm⟩
/-- an item is a beginning in the reference's sense, with deletions behind -/
theorem yd_fin (hg : xd_g sy nr n) {r o d k : Nat} {a : List Nat} (hr : r < nr) (hk : k ≤ n) (hd : d ≤ 3) (h : yd_p sy nr tk n r o d k a) (he : xd_n sy r d = 10) : yd_p sy nr tk n r o 3 k a := by
  have e0 : ∀ s, s = 10 → yd_a sy nr tk n s k k [] := fun s hs => ⟨0, Nat.le_refl _, hk, Or.inl ⟨hs, by simp⟩⟩
  have G := hg.2.2 r hr
  have st : ∀ {d : Nat} {a : List Nat}, yd_p sy nr tk n r o d k a → sy r (d + 1) = 10 → yd_p sy nr tk n r o (d + 1) k a := fun {d a} h q => ⟨k, a, [], by simp, h, e0 _ q⟩
  rcases (by omega : d = 0 ∨ d = 1 ∨ d = 2 ∨ d = 3) with rfl | rfl | rfl | rfl
  · have q : sy r 1 = 10 := he
    exact st (st (st h q) (G.2.2.2.2.2.1 q)) (G.2.2.2.2.2.2 (G.2.2.2.2.2.1 q))
  · have q : sy r 2 = 10 := he
    exact st (st h q) (G.2.2.2.2.2.2 q)
  · have q : sy r 3 = 10 := he
    exact st h q
  · exact h
theorem yd_p3 {r o k : Nat} {a : List Nat} (hr : r < nr) (h : yd_p sy nr tk n r o 3 k a) : yd_a sy nr tk n (sy r 0) o k a := by
  obtain ⟨q, a1, c, rfl, ⟨p, a2, b, rfl, ⟨o', a3, a', rfl, ⟨rfl, rfl⟩, h1⟩, h2⟩, h3⟩ := h
  exact yd_rule hr h1 h2 h3
def yd_s (sy : Nat → Nat → Nat) (nr : Nat) (tk : Nat → Nat) (n r d o k : Nat) (l : List Nat) : Prop :=
  ∃ m a, l = a ++ List.replicate m 2 ∧ m ≤ k ∧ o ≤ k - m ∧ yd_p sy nr tk n r o d (k - m) a ∧ (6 ≤ xd_n sy r d → m = 0)
theorem yd_of_x (hg : xd_g sy nr n) {r d o k : Nat} {l : List Nat} (h : xd_i sy nr tk n r d o k l) : yd_s sy nr tk n r d o k l := by
  refine xd_ind (P := yd_s sy nr tk n) ?_ ?_ ?_ ?_ ?_ h
  · exact fun r o hr ho => ⟨0, [], by simp, by omega, by omega, ⟨by omega, rfl⟩, fun _ => rfl⟩
  · rintro r d o k l hi ⟨m, a, rfl, h1, h2, h3, h4⟩ h6
    obtain ⟨f1, f2, f3, f4, _⟩ := xd_facts hi
    have hd := xd_n_lt (sy := sy) (r := r) (d := d) (by omega)
    refine ⟨0, a ++ (List.replicate m 2 ++ [9 + xd_n sy r d]), by simp [List.append_assoc], by omega, by omega, ⟨k - m, a, _, rfl, h3, 0, by omega, by omega, Or.inr ⟨by omega, k, by omega, by omega, Or.inl ?_⟩⟩, fun _ => rfl⟩
    rw [show k - (k - m) = m by omega, show k - 0 - k = 0 by omega, hd.2]
    simp
  · rintro r d o k l hi ⟨m, a, rfl, h1, h2, h3, h4⟩ h6 hk
    obtain ⟨f1, f2, f3, f4, _⟩ := xd_facts hi
    have hd := xd_n_lt (sy := sy) (r := r) (d := d) (by omega)
    refine ⟨0, a ++ (List.replicate m 2 ++ [xd_o tk k (xd_n sy r d)]), by simp [List.append_assoc], by omega, by omega, ⟨k - m, a, _, rfl, h3, 0, by omega, by omega, Or.inr ⟨by omega, k, by omega, by omega, Or.inr ⟨by omega, ?_⟩⟩⟩, fun _ => rfl⟩
    rw [show k - (k - m) = m by omega, show k + 1 - 0 - k - 1 = 0 by omega, hd.2]
    simp
  · rintro r d o k l hi ⟨m, a, rfl, h1, h2, h3, h4⟩ h6 hk
    refine ⟨m + 1, a, by rw [List.replicate_succ', List.append_assoc], by omega, by omega, ?_, by omega⟩
    rw [show k + 1 - (m + 1) = k - m by omega]
    exact h3
  · rintro r d o k l r' d' k' l' hi ⟨m, a, rfl, h1, h2, h3, h4⟩ hi' ⟨m', a', rfl, h1', h2', h3', h4'⟩ q1 q2 q3
    obtain ⟨f1, f2, f3, f4, _⟩ := xd_facts hi'
    have G := hg.2.2 r' f1
    have hd := xd_n_lt q1
    have e := h4 (by omega)
    have e' := h4' (by omega)
    subst e
    subst e'
    refine ⟨0, a ++ a', by simp, by omega, ?_, ⟨k - 0, a, a', rfl, h3, ?_⟩, fun _ => rfl⟩
    · have := (xd_facts hi).2.2.1
      omega
    · rw [← hd.2, ← q2]
      exact yd_p3 f1 (yd_fin hg f1 (by omega) f2 h3' q3)
theorem yd_of_N (hg : xd_g sy nr n) {N o k : Nat} {l : List Nat} (h : xd_N sy nr tk n N o k l) : yd_a sy nr tk n N o k l := by
  obtain ⟨r, d, h1, rfl, h3⟩ := h
  obtain ⟨f1, f2, f3, f4, _⟩ := xd_facts h3
  obtain ⟨m, a, rfl, q1, q2, q3, q4⟩ := yd_of_x hg h3
  have e := q4 (by omega)
  subst e
  have := yd_p3 f1 (yd_fin hg f1 (by omega) f2 q3 h1)
  simpa using this
/-- and back: a derivation of the reference, with the deletions shifted behind -/
def yd_t (sy : Nat → Nat → Nat) (nr : Nat) (tk : Nat → Nat) (n s i j : Nat) (l : List Nat) : Prop :=
  ∀ a, a ≤ i → ∃ m l', List.replicate a 2 ++ l = l' ++ List.replicate m 2 ∧ m ≤ j ∧ i - a ≤ j - m ∧ (s = 10 → l' = [] ∧ j - m = i - a) ∧
    (s ≠ 10 → ∀ r d o x, xd_i sy nr tk n r d o (i - a) x → xd_n sy r d = s → xd_i sy nr tk n r (d + 1) o (j - m) (x ++ l')) ∧
    (6 ≤ s → s ≤ 9 → xd_N sy nr tk n s (i - a) (j - m) l')
theorem yd_dels {r d o k : Nat} {x : List Nat} (h : xd_i sy nr tk n r d o k x) (h6 : xd_n sy r d < 6) : ∀ m, k + m ≤ n → xd_i sy nr tk n r d o (k + m) (x ++ List.replicate m 2)
  | 0, _ => by simpa using h
  | m + 1, hm => by
    have := xd_closed.2.2.2.1 _ _ _ _ _ (yd_dels h h6 m (by omega)) h6 (by omega)
    rw [List.replicate_succ', ← List.append_assoc]
    exact this
theorem yd_tb {s i j : Nat} {l : List Nat} (h : yd_b tk n s i j l) : yd_t sy nr tk n s i j l := by
  obtain ⟨h1, h2, h3⟩ := h
  intro a ha
  rcases h3 with ⟨hs, rfl⟩ | ⟨hs, p, p1, p2, rfl | ⟨p3, rfl⟩⟩
  · exact ⟨a + (j - i), [], by rw [yd_rr]; simp, by omega, by omega, fun _ => ⟨rfl, by omega⟩, fun z => absurd hs z, by omega⟩
  · refine ⟨j - p, List.replicate (a + (p - i)) 2 ++ [9 + s], by simp only [← List.append_assoc, yd_rr], by omega, by omega, by omega, ?_, by omega⟩
    intro _ r d o x hx hn
    have q := yd_dels hx (by omega) (a + (p - i)) (by omega)
    have := xd_closed.2.1 _ _ _ _ _ q (by omega)
    rw [← List.append_assoc, show j - (j - p) = i - a + (a + (p - i)) by omega, ← hn]
    exact this
  · refine ⟨j - p - 1, List.replicate (a + (p - i)) 2 ++ [xd_o tk p s], by simp only [← List.append_assoc, yd_rr], by omega, by omega, by omega, ?_, by omega⟩
    intro _ r d o x hx hn
    have q := yd_dels hx (by omega) (a + (p - i)) (by omega)
    have := xd_closed.2.2.1 _ _ _ _ _ q (by omega) (by omega)
    rw [← List.append_assoc, show j - (j - p - 1) = i - a + (a + (p - i)) + 1 by omega]
    rw [show i - a + (a + (p - i)) = p by omega] at this ⊢
    rw [hn] at this
    exact this
theorem yd_to_x (hg : xd_g sy nr n) : ∀ {h s i j : Nat} {l : List Nat}, yd_h sy nr tk n h s i j l → yd_t sy nr tk n s i j l := by
  intro h
  induction h with
  | zero => exact fun q => yd_tb q
  | succ h ih =>
    intro s i j l q
    rcases q with q | ⟨r, p, q, x, y, z, hr, rfl, rfl, hx, hy, hz⟩
    · exact yd_tb q
    · intro a ha
      have G := hg.2.2 r hr
      obtain ⟨x1, x2, _⟩ := yd_f hx
      obtain ⟨y1, y2, _⟩ := yd_f hy
      obtain ⟨z1, z2, _⟩ := yd_f hz
      obtain ⟨m1, l1, e1, b1, c1, d1, f1, _⟩ := ih hx a ha
      obtain ⟨m2, l2, e2, b2, c2, d2, f2, _⟩ := ih hy m1 b1
      obtain ⟨m3, l3, e3, b3, c3, d3, f3, _⟩ := ih hz m2 b2
      have N : xd_N sy nr tk n (sy r 0) (i - a) (j - m3) (l1 ++ l2 ++ l3) := by
        have I0 := (@xd_closed sy nr tk n).1 r (i - a) hr (by omega)
        by_cases q1 : sy r 1 = 10
        · have q2 := G.2.2.2.2.2.1 q1
          have q3 := G.2.2.2.2.2.2 q2
          refine ⟨r, 0, q1, rfl, ?_⟩
          rw [(d1 q1).1, (d2 q2).1, (d3 q3).1, (d3 q3).2, (d2 q2).2, (d1 q1).2]
          exact I0
        · have I1 := f1 q1 r 0 (i - a) [] I0 rfl
          rw [List.nil_append] at I1
          by_cases q2 : sy r 2 = 10
          · have q3 := G.2.2.2.2.2.2 q2
            refine ⟨r, 1, q2, rfl, ?_⟩
            rw [(d2 q2).1, (d3 q3).1, (d3 q3).2, (d2 q2).2, List.append_nil, List.append_nil]
            exact I1
          · have I2 := f2 q2 r 1 (i - a) l1 I1 rfl
            by_cases q3 : sy r 3 = 10
            · refine ⟨r, 2, q3, rfl, ?_⟩
              rw [(d3 q3).1, (d3 q3).2, List.append_nil]
              exact I2
            · exact ⟨r, 3, rfl, rfl, f3 q3 r 2 (i - a) (l1 ++ l2) I2 rfl⟩
      refine ⟨m3, l1 ++ l2 ++ l3, ?_, b3, by omega, by omega, ?_, fun _ _ => N⟩
      · rw [← List.append_assoc, ← List.append_assoc, e1, List.append_assoc l1, e2, ← List.append_assoc, List.append_assoc (l1 ++ l2), e3, ← List.append_assoc]
      · intro hne r2 d2 o2 x2 hx2 hn2
        obtain ⟨r3, d3, t1, t2, t3⟩ := N
        exact xd_closed.2.2.2.2 _ _ _ _ _ _ _ _ _ hx2 t3 (by omega) (by omega) t1
end
end
section
/-! no derivation needs to be higher than 112: levels and pigeons -/
theorem yd_ph : ∀ (N H : Nat) (P : Nat → Nat → Prop), (∀ m, m < H → ∃ c, c < N ∧ P m c) → (∀ m m' c, P m c → P m' c → m = m') → H ≤ N
  | 0, H, P, h, _ => by
    rcases Nat.eq_zero_or_pos H with z | z
    · omega
    · obtain ⟨c, hc, _⟩ := h 0 z
      omega
  | N + 1, H, P, h, u => by
    by_cases e : ∃ m, m < H ∧ P m N
    · obtain ⟨m0, hm0, hP⟩ := e
      have := yd_ph N (H - 1) (fun m c => P (if m < m0 then m else m + 1) c) (fun m hm => ?_) (fun m m' c h1 h2 => ?_)
      · omega
      · have hlt : (if m < m0 then m else m + 1) < H := by split <;> omega
        have hne : (if m < m0 then m else m + 1) ≠ m0 := by split <;> omega
        obtain ⟨c, hc, hPc⟩ := h _ hlt
        refine ⟨c, ?_, hPc⟩
        rcases Nat.lt_or_ge c N with z | z
        · exact z
        · have : c = N := by omega
          subst this
          exact absurd (u _ _ _ hPc hP) hne
      · have := u _ _ _ h1 h2
        revert this
        split <;> split <;> omega
    · have := yd_ph N H P (fun m hm => ?_) u
      · omega
      · obtain ⟨c, hc, hP⟩ := h m hm
        refine ⟨c, ?_, hP⟩
        rcases Nat.lt_or_ge c N with z | z
        · exact z
        · have : c = N := by omega
          subst this
          exact absurd ⟨m, hm, hP⟩ e
theorem sc_min {w : Nat → Nat} {P : List Nat → Prop} (h : ∃ l, P l) : ∃ l, P l ∧ ∀ l', P l' → sc_le w l l' := by
  obtain ⟨l, hl⟩ := h
  obtain ⟨c, ⟨l1, h1, e1⟩, m1⟩ := pk_least (fun c => ∃ l, P l ∧ sc_c w l = c) ⟨_, l, hl, rfl⟩
  obtain ⟨q, ⟨l2, h2, e2, f2⟩, m2⟩ := pk_least (fun q => ∃ l, P l ∧ sc_c w l = c ∧ sc_p 15 l = q) ⟨_, l1, h1, e1, rfl⟩
  refine ⟨l2, h2, fun l' h' => ?_⟩
  unfold sc_le
  rcases Nat.lt_or_ge (sc_c w l') (sc_c w l2) with z | z
  · exact absurd ⟨l', h', rfl⟩ (m1 _ (by omega))
  · rcases Nat.eq_or_lt_of_le z with z | z
    · refine Or.inr ⟨z, ?_⟩
      rcases Nat.lt_or_ge (sc_p 15 l') (sc_p 15 l2) with y | y
      · exact absurd ⟨l', h', by omega, rfl⟩ (m2 _ (by omega))
      · exact y
    · exact Or.inl z
def yd_tri (j : Nat) : Nat := if j = 0 then 0 else if j = 1 then 1 else if j = 2 then 3 else if j = 3 then 6 else if j = 4 then 10 else if j = 5 then 15 else 21
theorem yd_tri_in {i j : Nat} (h : i ≤ j) (hj : j ≤ 6) : yd_tri j + i < 28 := by
  unfold yd_tri
  repeat' split
  all_goals omega
theorem yd_tri_j {i j i' j' : Nat} (h : i ≤ j) (hj : j ≤ 6) (h' : i' ≤ j') (hj' : j' ≤ 6) (e : yd_tri j + i = yd_tri j' + i') : i = i' ∧ j = j' := by
  have a : ∀ j : Fin 7, ∀ i : Fin 7, ∀ j' : Fin 7, ∀ i' : Fin 7, i.val ≤ j.val → i'.val ≤ j'.val → yd_tri j.val + i.val = yd_tri j'.val + i'.val → i.val = i'.val ∧ j.val = j'.val := by decide +kernel
  exact a ⟨j, by omega⟩ ⟨i, by omega⟩ ⟨j', by omega⟩ ⟨i', by omega⟩ h h' e
section
variable (sy : Nat → Nat → Nat) (nr : Nat) (tk : Nat → Nat) (n : Nat) (w : Nat → Nat)
def yd_opt (s i j : Nat) (l : List Nat) : Prop := yd_a sy nr tk n s i j l ∧ sc_c w l ≤ 9 ∧ ∀ l', yd_a sy nr tk n s i j l' → sc_c w l' ≤ 9 → sc_le w l l'
def yd_lev (m s i j : Nat) : Prop := ∃ l, yd_opt sy nr tk n w s i j l ∧ yd_h sy nr tk n (m + 1) s i j l ∧ ∀ l', yd_h sy nr tk n m s i j l' → ¬ sc_le w l' l
end
section
variable {sy : Nat → Nat → Nat} {nr : Nat} {tk : Nat → Nat} {n : Nat} {w : Nat → Nat}
theorem yd_lev_n (hg : xd_g sy nr n) {m s i j : Nat} (h : yd_lev sy nr tk n w m s i j) : 6 ≤ s ∧ s ≤ 9 ∧ i ≤ j ∧ j ≤ n := by
  obtain ⟨l, _, h1, h2⟩ := h
  have f := yd_f h1
  rcases h1 with h1 | ⟨r, p, q, a, b, c, hr, rfl, _⟩
  · exact absurd (sc_le_r w l) (h2 l (yd_hb h1 m))
  · have := hg.2.2 r hr
    exact ⟨this.1, this.2.1, f.1, f.2.1⟩
theorem yd_lev_u {m m' s i j : Nat} (h : yd_lev sy nr tk n w m s i j) (h' : yd_lev sy nr tk n w m' s i j) : m = m' := by
  have key : ∀ {m m' : Nat}, yd_lev sy nr tk n w m s i j → yd_lev sy nr tk n w m' s i j → ¬ m < m' := by
    rintro m m' ⟨l, o, h1, _⟩ ⟨l', o', h1', h2'⟩ z
    exact h2' l (yd_ups (by omega) h1) (o.2.2 l' o'.1 o'.2.1)
  have a := key h h'
  have b := key h' h
  omega
theorem yd_lev_d (hg : xd_g sy nr n) (hw : sc_w w) {m s i j : Nat} (h : yd_lev sy nr tk n w (m + 1) s i j) : ∃ s' i' j', yd_lev sy nr tk n w m s' i' j' := by
  obtain ⟨l, ⟨o1, o2, o3⟩, h1, h2⟩ := h
  rcases h1 with h1 | ⟨r, p, q, a, b, c, hr, rfl, rfl, ha, hb, hc⟩
  · exact absurd (sc_le_r w l) (h2 l (yd_hb h1 _))
  · obtain ⟨a1, a2, a3, a4⟩ := yd_f ha
    obtain ⟨b1, b2, b3, b4⟩ := yd_f hb
    obtain ⟨c1, c2, c3, c4⟩ := yd_f hc
    have hn := hg.2.1
    rw [sc_c_app, sc_c_app] at o2
    have la := sc_len hw a3
    have lb := sc_len hw b3
    have lc := sc_len hw c3
    have oa : yd_opt sy nr tk n w (sy r 1) i p a := by
      refine ⟨⟨_, ha⟩, by omega, fun a' ha' hc' => Classical.byContradiction fun z => ?_⟩
      have z1 := sc_nle z
      obtain ⟨_, _, e3, e4⟩ := yd_af ha'
      have z2 := sc_ltR hw (sc_v_app e3 b3) (sc_v_app a3 b3) c3 (by rw [sc_u_app, sc_u_app]; omega) (sc_ltR hw e3 a3 b3 (by omega) z1)
      have z3 := sc_le_c (sc_lt_le z2)
      simp only [sc_c_app] at z3
      refine sc_lt_nle z2 (o3 _ (yd_rule hr ha' ⟨_, hb⟩ ⟨_, hc⟩) ?_)
      simp only [sc_c_app]; omega
    have ob : yd_opt sy nr tk n w (sy r 2) p q b := by
      refine ⟨⟨_, hb⟩, by omega, fun b' hb' hc' => Classical.byContradiction fun z => ?_⟩
      have z1 := sc_nle z
      have z0 := sc_le_c (sc_lt_le z1)
      obtain ⟨_, _, e3, e4⟩ := yd_af hb'
      have lb' := sc_len hw e3
      have z2 := sc_ltR hw (sc_v_app a3 e3) (sc_v_app a3 b3) c3 (by rw [sc_u_app, sc_u_app]; omega) (sc_ltL (c := a) (by omega) (by omega) z1)
      have z3 := sc_le_c (sc_lt_le z2)
      simp only [sc_c_app] at z3
      refine sc_lt_nle z2 (o3 _ (yd_rule hr ⟨_, ha⟩ hb' ⟨_, hc⟩) ?_)
      simp only [sc_c_app]; omega
    have oc : yd_opt sy nr tk n w (sy r 3) q j c := by
      refine ⟨⟨_, hc⟩, by omega, fun c' hc' hc'' => Classical.byContradiction fun z => ?_⟩
      have z1 := sc_nle z
      have z0 := sc_le_c (sc_lt_le z1)
      obtain ⟨_, _, e3, e4⟩ := yd_af hc'
      have lc' := sc_len hw e3
      have z2 := sc_ltL (c := a ++ b) (by rw [List.length_append]; omega) (by rw [List.length_append]; omega) z1
      have z3 := sc_le_c (sc_lt_le z2)
      simp only [sc_c_app] at z3
      refine sc_lt_nle z2 (o3 _ (yd_rule hr ⟨_, ha⟩ ⟨_, hb⟩ hc') ?_)
      simp only [sc_c_app]; omega
    by_cases na : ∃ a', yd_h sy nr tk n m (sy r 1) i p a' ∧ sc_le w a' a
    · by_cases nb : ∃ b', yd_h sy nr tk n m (sy r 2) p q b' ∧ sc_le w b' b
      · by_cases nc : ∃ c', yd_h sy nr tk n m (sy r 3) q j c' ∧ sc_le w c' c
        · obtain ⟨a', ya, za⟩ := na
          obtain ⟨b', yb, zb⟩ := nb
          obtain ⟨c', yc, zc⟩ := nc
          obtain ⟨_, _, va, ua⟩ := yd_f ya
          obtain ⟨_, _, vb, ub⟩ := yd_f yb
          obtain ⟨_, _, vc, uc⟩ := yd_f yc
          refine absurd ?_ (h2 (a' ++ b' ++ c') (Or.inr ⟨r, p, q, a', b', c', hr, rfl, rfl, ya, yb, yc⟩))
          refine sc_mono hw (sc_v_app va vb) vc (sc_v_app a3 b3) c3 (by rw [sc_u_app, sc_u_app]; omega) (by omega) (by rw [sc_c_app]; omega) (by rw [sc_u_app]; omega) ?_ zc
          exact sc_mono hw va vb a3 b3 (by omega) (by omega) (by omega) (by omega) za zb
        · exact ⟨_, _, _, c, oc, hc, fun c' h z => nc ⟨c', h, z⟩⟩
      · exact ⟨_, _, _, b, ob, hb, fun b' h z => nb ⟨b', h, z⟩⟩
    · exact ⟨_, _, _, a, oa, ha, fun a' h z => na ⟨a', h, z⟩⟩
theorem yd_lev_all (hg : xd_g sy nr n) (hw : sc_w w) : ∀ {H s i j : Nat}, yd_lev sy nr tk n w H s i j → ∀ m, m < H + 1 → ∃ s' i' j', yd_lev sy nr tk n w m s' i' j'
  | 0, s, i, j, h, m, hm => ⟨s, i, j, by rw [show m = 0 by omega]; exact h⟩
  | H + 1, s, i, j, h, m, hm => by
    rcases Nat.lt_or_ge m (H + 1) with z | z
    · obtain ⟨s', i', j', q⟩ := yd_lev_d hg hw h
      exact yd_lev_all hg hw q m z
    · exact ⟨s, i, j, by rw [show m = H + 1 by omega]; exact h⟩
theorem yd_lev_112 (hg : xd_g sy nr n) (hw : sc_w w) {H s i j : Nat} (h : yd_lev sy nr tk n w H s i j) : H + 1 ≤ 112 := by
  refine yd_ph 112 (H + 1) (fun m c => ∃ s i j, yd_lev sy nr tk n w m s i j ∧ c = (s - 6) * 28 + (yd_tri j + i)) ?_ ?_
  · intro m hm
    obtain ⟨s', i', j', q⟩ := yd_lev_all hg hw h m hm
    obtain ⟨q1, q2, q3, q4⟩ := yd_lev_n hg q
    have := yd_tri_in q3 (Nat.le_trans q4 hg.2.1)
    exact ⟨_, by omega, s', i', j', q, rfl⟩
  · rintro m m' c ⟨s1, i1, j1, q, rfl⟩ ⟨s2, i2, j2, q', e⟩
    obtain ⟨q1, q2, q3, q4⟩ := yd_lev_n hg q
    obtain ⟨p1, p2, p3, p4⟩ := yd_lev_n hg q'
    have hn := hg.2.1
    have t1 := yd_tri_in q3 (Nat.le_trans q4 hn)
    have t2 := yd_tri_in p3 (Nat.le_trans p4 hn)
    have es : s1 = s2 := by omega
    obtain ⟨ei, ej⟩ := yd_tri_j q3 (Nat.le_trans q4 hn) p3 (Nat.le_trans p4 hn) (by omega)
    subst es
    subst ei
    subst ej
    exact yd_lev_u q q'
theorem yd_112 (hg : xd_g sy nr n) (hw : sc_w w) {s i j : Nat} {l : List Nat} (h : yd_a sy nr tk n s i j l) (hc : sc_c w l ≤ 9) : ∃ l', yd_h sy nr tk n 112 s i j l' ∧ sc_le w l' l := by
  obtain ⟨l0, ⟨⟨h0, y0⟩, c0⟩, m0⟩ := sc_min (w := w) (P := fun l => yd_a sy nr tk n s i j l ∧ sc_c w l ≤ 9) ⟨l, h, hc⟩
  obtain ⟨k, ⟨l1, y1, e1⟩, mk⟩ := pk_least (fun k => ∃ l', yd_h sy nr tk n k s i j l' ∧ sc_le w l' l0) ⟨h0, l0, y0, sc_le_r _ _⟩
  have le1 : sc_le w l1 l := sc_le_t e1 (m0 l ⟨h, hc⟩)
  have hk : k ≤ 112 := by
    cases k with
    | zero => omega
    | succ m =>
      refine yd_lev_112 (tk := tk) (s := s) (i := i) (j := j) hg hw ⟨l1, ⟨⟨_, y1⟩, ?_, ?_⟩, y1, ?_⟩
      · exact Nat.le_trans (sc_le_c e1) c0
      · exact fun l' y' c' => sc_le_t e1 (m0 l' ⟨y', c'⟩)
      · exact fun l' y' z => mk m (by omega) ⟨l', y', sc_le_t z e1⟩
  exact ⟨l1, yd_ups hk y1, le1⟩
end
/-! the rounds -/
def yr_x (s i j : Nat) : Nat := (s * 7 + i) * 7 + j
def yr_b (n s i j : Nat) : Prop := s ≤ 10 ∧ i ≤ j ∧ j ≤ n
section
variable (sy : Nat → Nat → Nat) (nr : Nat) (tk : Nat → Nat) (n : Nat) (w : Nat → Nat)
def yr_s (T : Nat → Option (List Nat)) : Prop := ∀ s i j l, yr_b n s i j → T (yr_x s i j) = some l → yd_a sy nr tk n s i j l ∧ sc_c w l ≤ 9
def yr_c (h : Nat) (T : Nat → Option (List Nat)) : Prop := ∀ s i j l, yd_h sy nr tk n h s i j l → sc_c w l ≤ 9 → xm_has w T (yr_x s i j) l
/-- one round over all rules -/
def yr_r (T T' : Nat → Option (List Nat)) : Prop := (∀ x l, T x = some l → xm_has w T' x l) ∧
  ∀ r i p q j a b c, r < nr → i ≤ p → p ≤ q → q ≤ j → j ≤ n → T (yr_x (sy r 1) i p) = some a → T (yr_x (sy r 2) p q) = some b → T (yr_x (sy r 3) q j) = some c → sc_c w a + sc_c w b + sc_c w c ≤ 9 → xm_has w T' (yr_x (sy r 0) i j) (a ++ b ++ c)
end
section
variable {sy : Nat → Nat → Nat} {nr : Nat} {tk : Nat → Nat} {n : Nat} {w : Nat → Nat}
theorem yr_next (hg : xd_g sy nr n) (hw : sc_w w) {T T' : Nat → Option (List Nat)} (S : yr_s sy nr tk n w T) (R : yr_r sy nr n w T T') {h : Nat} (C : yr_c sy nr tk n w h T) : yr_c sy nr tk n w (h + 1) T' := by
  intro s i j l y hc
  rcases y with y | ⟨r, p, q, a, b, c, hr, rfl, rfl, ha, hb, hcc⟩
  · obtain ⟨l', e, z⟩ := C s i j l (yd_hb y h) hc
    exact xm_has_t (R.1 _ _ e) z
  · have G := hg.2.2 r hr
    have hn := hg.2.1
    obtain ⟨a1, a2, a3, a4⟩ := yd_f ha
    obtain ⟨b1, b2, b3, b4⟩ := yd_f hb
    obtain ⟨c1, c2, c3, c4⟩ := yd_f hcc
    rw [sc_c_app, sc_c_app] at hc
    obtain ⟨a', ea, za⟩ := C _ _ _ _ ha (by omega)
    obtain ⟨b', eb, zb⟩ := C _ _ _ _ hb (by omega)
    obtain ⟨c', ec, zc⟩ := C _ _ _ _ hcc (by omega)
    obtain ⟨_, _, va, ua⟩ := yd_af (S _ _ _ _ ⟨by omega, by omega, by omega⟩ ea).1
    obtain ⟨_, _, vb, ub⟩ := yd_af (S _ _ _ _ ⟨by omega, by omega, by omega⟩ eb).1
    obtain ⟨_, _, vc, uc⟩ := yd_af (S _ _ _ _ ⟨by omega, by omega, by omega⟩ ec).1
    have ka := sc_le_c za
    have kb := sc_le_c zb
    have kc := sc_le_c zc
    refine xm_has_t (R.2 r i p q j a' b' c' hr a1 b1 c1 c2 ea eb ec (by omega)) ?_
    refine sc_mono hw (sc_v_app va vb) vc (sc_v_app a3 b3) c3 (by rw [sc_u_app, sc_u_app]; omega) (by omega) (by rw [sc_c_app]; omega) (by rw [sc_u_app]; omega) ?_ zc
    exact sc_mono hw va vb a3 b3 (by omega) (by omega) (by omega) (by omega) za zb
theorem yr_stop (hg : xd_g sy nr n) (hw : sc_w w) {T : Nat → Option (List Nat)} (S : yr_s sy nr tk n w T) (R : yr_r sy nr n w T T) {h : Nat} (C : yr_c sy nr tk n w h T) : ∀ m, yr_c sy nr tk n w (h + m) T
  | 0 => C
  | m + 1 => yr_next hg hw S R (yr_stop hg hw S R C m)
def yr_full (sy : Nat → Nat → Nat) (nr : Nat) (tk : Nat → Nat) (n : Nat) (w : Nat → Nat) (T : Nat → Option (List Nat)) : Prop := ∀ s i j l, yd_a sy nr tk n s i j l → sc_c w l ≤ 9 → xm_has w T (yr_x s i j) l
theorem yr_full_1 (hg : xd_g sy nr n) (hw : sc_w w) {T : Nat → Option (List Nat)} (S : yr_s sy nr tk n w T) (R : yr_r sy nr n w T T) {h : Nat} (C : yr_c sy nr tk n w h T) : yr_full sy nr tk n w T := by
  rintro s i j l ⟨m, y⟩ hc
  exact yr_stop hg hw S R C m s i j l (yd_ups (by omega) y) hc
theorem yr_full_2 (hg : xd_g sy nr n) (hw : sc_w w) {T : Nat → Option (List Nat)} (C : yr_c sy nr tk n w 112 T) : yr_full sy nr tk n w T := by
  intro s i j l y hc
  obtain ⟨l', y', z⟩ := yd_112 hg hw y hc
  exact xm_has_t (C s i j l' y' (Nat.le_trans (sc_le_c z) hc)) z
/-- both answer alike -/
theorem xy_same (hg : xd_g sy nr n) (hw : sc_w w) {lm s : Nat} (hlm : lm ≤ 9) (hs : 6 ≤ s ∧ s ≤ 9) {go : Option (List Nat)} {T : Nat → Option (List Nat)}
    (B : xm_bst w lm (xm_gs (fun k l => xd_N sy nr tk n s 0 k l) (n + 1)) go) (S : yr_s sy nr tk n w T) (F : yr_full sy nr tk n w T) :
    (∀ l, go = some l → sc_v l ∧ sc_u l = n ∧ sc_c w l ≤ lm ∧ ∃ l2, T (yr_x s 0 n) = some l2 ∧ sc_c w l2 = sc_c w l ∧ sc_p 15 l2 = sc_p 15 l) ∧ (go = none → ∀ l2, T (yr_x s 0 n) = some l2 → lm < sc_c w l2) := by
  have Y : ∀ l2, T (yr_x s 0 n) = some l2 → sc_c w l2 ≤ lm → ∃ l', go = some l' ∧ sc_le w l' l2 := by
    intro l2 e hc
    obtain ⟨⟨h, y⟩, _⟩ := S s 0 n l2 ⟨by omega, by omega, by omega⟩ e
    obtain ⟨m, l', e1, e2, e3, _, _, e6⟩ := yd_to_x hg y 0 (by omega)
    rw [List.replicate_zero, List.nil_append] at e1
    have : xm_gs (fun k l => xd_N sy nr tk n s 0 k l) (n + 1) (l' ++ List.replicate m 2) := xm_gs_2 m (by omega) (by rw [Nat.add_sub_cancel]; exact e6 hs.1 hs.2)
    rw [← e1] at this
    exact B.2 _ this hc
  refine ⟨fun l e => ?_, fun e l2 e2 => ?_⟩
  · obtain ⟨b1, b2⟩ := B.1 _ e
    obtain ⟨m, l', q1, rfl, q3⟩ := xm_gs_1 b1
    obtain ⟨h, y⟩ := yd_of_N hg q3
    have y2 := yd_del m y (by omega)
    rw [show n + 1 - 1 - m + m = n by omega] at y2
    obtain ⟨_, _, f3, f4⟩ := yd_f y2
    refine ⟨f3, by omega, b2, ?_⟩
    obtain ⟨l2, e2, z2⟩ := F s 0 n _ ⟨h, y2⟩ (by omega)
    obtain ⟨l3, e3, z3⟩ := Y l2 e2 (Nat.le_trans (sc_le_c z2) b2)
    rw [e] at e3
    cases e3
    refine ⟨l2, e2, ?_⟩
    unfold sc_le at z2 z3
    omega
  · rcases Nat.lt_or_ge lm (sc_c w l2) with z | z
    · exact z
    · obtain ⟨_, e3, _⟩ := Y l2 e2 z
      rw [e] at e3
      cases e3
end
end
section
/-! the component's chart against the ghost chart -/
def xr_v (w : Nat → Nat) (o : Option (List Nat)) (c l : Int32) (s : Int64) : Prop :=
  (o = none → c = -1) ∧ (∀ a, o = some a → c = nI (sc_c w a) ∧ l = nI a.length ∧ s = lN (sc_p 15 a))
def xr_c (w : Nat → Nat) (g sp : Nat → Option (List Nat)) (IC IL : Nat → Int32) (IS : Nat → Int64) (SC SL : Nat → Int32) (SS : Nat → Int64) : Prop :=
  (∀ x, x < 1568 → xr_v w (g x) (IC x) (IL x) (IS x)) ∧ (∀ y, y < 196 → xr_v w (sp y) (SC y) (SL y) (SS y))
theorem xr_st {w : Nat → Nat} {g : Nat → Option (List Nat)} {IC IL : Nat → Int32} {IS : Nat → Int64} {x : Nat} {l : List Nat} {N : Nat} (h : ∀ x, x < N → xr_v w (g x) (IC x) (IL x) (IS x)) :
    ∀ j, j < N → xr_v w (xm_st g x l j) (upd IC x (nI (sc_c w l)) j) (upd IL x (nI l.length) j) (vp_updL IS x (lN (sc_p 15 l)) j) := by
  intro j hj
  by_cases z : j = x
  · subst z
    rw [xm_st_s, pk_us, pk_us, pk_uLs]
    exact ⟨(fun e => by cases e), (fun a e => by cases e; exact ⟨rfl, rfl, rfl⟩)⟩
  · rw [xm_st_n z, pk_un z, pk_un z, pk_uLn z]
    exact h j hj
theorem xr_m1 {q : Nat} (h : q < 2 ^ 31) : ¬ nI q = -1 := by
  intro e
  have := congrArg Int32.toInt e
  rw [nI_toInt h] at this
  have z : (-1 : Int32).toInt = -1 := by decide
  omega
section
variable {ci cd cr lm nr s n : Nat} {fs fr fo fp gc gl : Int32} {gs : Int64} {R ml T ok os rp IC IL : Nat → Int32} {IS : Nat → Int64} {IT SC SL : Nat → Int32} {SS : Nat → Int64}
variable {w : Nat → Nat} {g sp : Nat → Option (List Nat)}
theorem xw_store {post : SX → Prop} {x : Nat} {l : List Nat} (hx : x < 1568) (h1 : IT x = 0) (h2 : ∀ l0, g x = some l0 → sc_lt w l l0) (H : xr_c w g sp IC IL IS SC SL SS)
    (K : ∀ g' IC' IL' IS', xm_off w IT g x l g' → xr_c w g' sp IC' IL' IS' SC SL SS → post (nI ci, nI cd, nI cr, nI lm, nI nr, nI s, nI n, fs, fr, fo, fp, gc, gl, gs, R, ml, T, ok, os, rp, IC', IL', IS', IT, SC, SL, SS)) :
    wX_offer_47 post (nI x) (nI (sc_c w l)) (lN (sc_p 15 l)) (nI l.length) (nI ci) (nI cd) (nI cr) (nI lm) (nI nr) (nI s) (nI n) fs fr fo fp gc gl gs R ml T ok os rp IC IL IS IT SC SL SS := by
  unfold wX_offer_47
  have hi : vp_in (nI x) 1568 := pk_in x 1568 hx
  rw [nI_clamp (by omega)]
  refine ⟨hi, nm_e ⟨hi, nm_e ⟨hi, nm_e ?_⟩⟩⟩
  exact K _ _ _ _ (Or.inr ⟨rfl, h1, h2⟩) ⟨xr_st H.1, H.2⟩
theorem xw_offer {post : SX → Prop} {x : Nat} {l : List Nat} (hx : x < 1568) (hc : sc_c w l ≤ 9) (hv : sc_v l) (hb : ∀ l0, g x = some l0 → sc_v l0 ∧ sc_c w l0 ≤ 9) (H : xr_c w g sp IC IL IS SC SL SS)
    (K : ∀ g' IC' IL' IS', xm_off w IT g x l g' → xr_c w g' sp IC' IL' IS' SC SL SS → post (nI ci, nI cd, nI cr, nI lm, nI nr, nI s, nI n, fs, fr, fo, fp, gc, gl, gs, R, ml, T, ok, os, rp, IC', IL', IS', IT, SC, SL, SS)) :
    wpX_offer post (nI ci, nI cd, nI cr, nI lm, nI nr, nI s, nI n, fs, fr, fo, fp, gc, gl, gs, R, ml, T, ok, os, rp, IC, IL, IS, IT, SC, SL, SS) (nI x) (nI (sc_c w l)) (lN (sc_p 15 l)) (nI l.length) := by
  unfold wpX_offer
  dsimp only
  have hi : vp_in (nI x) 1568 := pk_in x 1568 hx
  rw [nI_clamp (by omega)]
  refine ⟨hi, ?_⟩
  by_cases z : IT x = 0
  · refine br_t z ⟨hi, nm_e ?_⟩
    cases e : g x with
    | none =>
      rw [((H.1 x hx).1 e)]
      exact br_t rfl (xw_store hx z (fun l0 q => by rw [e] at q; cases q) H K)
    | some l0 =>
      obtain ⟨q1, q2, q3⟩ := (H.1 x hx).2 l0 e
      obtain ⟨v0, c0⟩ := hb l0 e
      have p0 := sc_p63 v0
      have p1 := sc_p63 hv
      rw [q1, q3]
      refine br_f (xr_m1 (by omega)) (pk_lt _ _ (fun lt => ?_) fun ge => pk_eq _ _ (fun eq => ⟨hi, ?_⟩) fun ne => ?_)
      · exact xw_store hx z (fun l1 q => by rw [e] at q; cases q; exact Or.inl lt) H K
      · rw [pk_lLE p0 p1]
        refine ⟨fun le => ?_, fun nle => ?_⟩
        · exact K g IC IL IS (Or.inl ⟨rfl, Or.inr ⟨l0, e, Or.inr ⟨eq.symm, le⟩⟩⟩) H
        · exact xw_store hx z (fun l1 q => by rw [e] at q; cases q; exact Or.inr ⟨eq, by omega⟩) H K
      · exact K g IC IL IS (Or.inl ⟨rfl, Or.inr ⟨l0, e, Or.inl (by omega)⟩⟩) H
  · exact br_f z (K g IC IL IS (Or.inl ⟨rfl, Or.inl z⟩) H)
end
end
section
/-! step, join, predict -/
def xl_e (s : Nat) : Int32 := if s = 10 then -1 else nI s
/-- the arrays hold the grammar, the tokens and the costs -/
def xl (sy : Nat → Nat → Nat) (tk w : Nat → Nat) (R T : Nat → Int32) (ci cd cr lm nr n : Nat) : Prop :=
  xd_g sy nr n ∧ sc_w w ∧ lm ≤ 9 ∧ (∀ r p, r < nr → p < 4 → R (r * 4 + p) = xl_e (sy r p)) ∧ (∀ i, i < n → T i = nI (tk i) ∧ tk i ≤ 5) ∧
  w 1 = 0 ∧ w 2 = cd ∧ (∀ t, t < 6 → w (3 + t) = cr) ∧ (∀ t, t < 6 → w (9 + t) = ci) ∧ (1 ≤ ci ∧ ci ≤ 3 ∧ 1 ≤ cd ∧ cd ≤ 3 ∧ 1 ≤ cr ∧ cr ≤ 3)
theorem xl_e_n {s : Nat} (h : s ≠ 10) : xl_e s = nI s := if_neg h
theorem xl_e_10 : xl_e 10 = -1 := rfl
theorem xl_e_m {s : Nat} (h : s ≤ 10) : xl_e s = -1 ↔ s = 10 := by
  refine ⟨fun e => ?_, fun e => by rw [e]; rfl⟩
  by_cases z : s = 10
  · exact z
  · rw [xl_e_n z] at e
    exact absurd e (xr_m1 (by omega))
theorem xl_e_i {s N : Nat} (h : s ≤ 10) (hN : N < 10) : xl_e s = nI N ↔ s = N := by
  refine ⟨fun e => ?_, fun e => by rw [e, xl_e_n (by omega)]⟩
  by_cases z : s = 10
  · rw [z, xl_e_10] at e
    exact absurd e.symm (xr_m1 (by omega))
  · rw [xl_e_n z, nI_eq (by omega) (by omega)] at e
    exact e
theorem xl_x (k o r d : Nat) : nI k * 224 + nI o * 32 + nI r * 4 + nI d = nI (xm_x k o r d) := by
  rw [show (224 : Int32) = nI 224 from rfl, show (32 : Int32) = nI 32 from rfl, show (4 : Int32) = nI 4 from rfl, pk_mul, pk_mul, pk_mul, nI_add, nI_add, nI_add]
  rfl
theorem xl_x0 (k o r : Nat) : nI k * 224 + nI o * 32 + nI r * 4 = nI (xm_x k o r 0) := by
  rw [show (224 : Int32) = nI 224 from rfl, show (32 : Int32) = nI 32 from rfl, show (4 : Int32) = nI 4 from rfl, pk_mul, pk_mul, pk_mul, nI_add, nI_add]
  rfl
theorem xl_x1 (k o r d : Nat) : nI (xm_x k o r d) + 1 = nI (xm_x k o r (d + 1)) := by
  rw [nI_1]
  rfl
theorem xl_x2 (k o r d : Nat) : nI (xm_x k o r d) + 224 = nI (xm_x (k + 1) o r d) := by
  rw [show (224 : Int32) = nI 224 from rfl, nI_add]
  refine congrArg nI ?_
  unfold xm_x
  omega
theorem xl_y (k o N : Nat) (h : 6 ≤ N) : nI k * 28 + nI o * 4 + (nI N - 6) = nI (xm_y k o N) := by
  rw [show (28 : Int32) = nI 28 from rfl, show (6 : Int32) = nI 6 from rfl, show (4 : Int32) = nI 4 from rfl, pk_mul, pk_mul, pk_sub h, nI_add, nI_add]
  rfl
section
variable {ci cd cr lm nr s n : Nat} {fs fr fo fp gc gl : Int32} {gs : Int64} {R ml T ok os rp IC IL : Nat → Int32} {IS : Nat → Int64} {IT SC SL : Nat → Int32} {SS : Nat → Int64}
variable {sy : Nat → Nat → Nat} {tk w : Nat → Nat} {g sp : Nat → Option (List Nat)} {pd : Nat → Nat → Prop} {k : Nat}
theorem xw_off {post : SX → Prop} (L : xl sy tk w R T ci cd cr lm nr n) (M : xm_m sy nr tk n w lm g IT sp pd) (H : xr_c w g sp IC IL IS SC SL SS) {k' o r d : Nat} {l : List Nat} (hk : k ≤ k')
    (hi : xd_i sy nr tk n r d o k' l) (hc : sc_c w l ≤ lm) (hp : pd o (sy r 0))
    (K : ∀ g' IC' IL' IS', xm_m sy nr tk n w lm g' IT sp pd → xr_c w g' sp IC' IL' IS' SC SL SS → xm_imp w k IT g g' → xm_has w g' (xm_x k' o r d) l → post (nI ci, nI cd, nI cr, nI lm, nI nr, nI s, nI n, fs, fr, fo, fp, gc, gl, gs, R, ml, T, ok, os, rp, IC', IL', IS', IT, SC, SL, SS)) :
    wpX_offer post (nI ci, nI cd, nI cr, nI lm, nI nr, nI s, nI n, fs, fr, fo, fp, gc, gl, gs, R, ml, T, ok, os, rp, IC, IL, IS, IT, SC, SL, SS) (nI (xm_x k' o r d)) (nI (sc_c w l)) (lN (sc_p 15 l)) (nI l.length) := by
  have hb := xm_b_of L.1 hi
  have hf := xd_facts hi
  refine xw_offer (xm_x_lt hb) (Nat.le_trans hc L.2.2.1) hf.2.2.2.2.1 ?_ H ?_
  · intro l0 e
    obtain ⟨a, b, _⟩ := M.1 _ _ _ _ _ hb e
    exact ⟨(xd_facts a).2.2.2.2.1, Nat.le_trans b L.2.2.1⟩
  · intro g' IC' IL' IS' q1 q2
    obtain ⟨a, b, c⟩ := xm_offer (k := k) hb hk M hi hc hp q1
    exact K g' IC' IL' IS' a q2 b c
theorem xw_len {l : List Nat} (L : xl sy tk w R T ci cd cr lm nr n) {k' o r d : Nat} (hi : xd_i sy nr tk n r d o k' l) (hc : sc_c w l ≤ lm) : l.length ≤ 15 := by
  obtain ⟨_, _, a, b, c, e, _⟩ := xd_facts hi
  have := sc_len L.2.1 c
  have := L.1.2.1
  have := L.2.2.1
  omega
theorem xw_step {post : SX → Prop} (L : xl sy tk w R T ci cd cr lm nr n) (M : xm_m sy nr tk n w lm g IT sp pd) (H : xr_c w g sp IC IL IS SC SL SS) {k0 k' o r d d' q pr : Nat} {l : List Nat} (hk : k ≤ k')
    (hb : xm_b k0 o r d) (e : g (xm_x k0 o r d) = some l) (hq : 1 ≤ q ∧ q ≤ 14) (hw : w q = pr ∧ w q ≤ 3) (hi : xd_i sy nr tk n r d' o k' (l ++ [q]))
    (K : ∀ g' IC' IL' IS', xm_m sy nr tk n w lm g' IT sp pd → xr_c w g' sp IC' IL' IS' SC SL SS → xm_imp w k IT g g' → (sc_c w l + w q ≤ lm → xm_has w g' (xm_x k' o r d') (l ++ [q])) → post (nI ci, nI cd, nI cr, nI lm, nI nr, nI s, nI n, fs, fr, fo, fp, gc, gl, gs, R, ml, T, ok, os, rp, IC', IL', IS', IT, SC, SL, SS)) :
    wpX_step post (nI ci, nI cd, nI cr, nI lm, nI nr, nI s, nI n, fs, fr, fo, fp, gc, gl, gs, R, ml, T, ok, os, rp, IC, IL, IS, IT, SC, SL, SS) (nI (xm_x k0 o r d)) (nI (xm_x k' o r d')) (nI q) (nI pr) := by
  obtain ⟨rfl, hw⟩ := hw
  obtain ⟨m1, m2, m3⟩ := M.1 _ _ _ _ _ hb e
  have hx := xm_x_lt hb
  have hin : vp_in (nI (xm_x k0 o r d)) 1568 := pk_in _ 1568 hx
  obtain ⟨c1, c2, c3⟩ := (H.1 _ hx).2 l e
  have lm9 := L.2.2.1
  unfold wpX_step
  dsimp only
  rw [nI_clamp (by omega), c1, c2, c3]
  refine ⟨hin, nm_r (nI_add _ _) (pk_le _ _ (fun le => ⟨hin, nm_e (nm_e ⟨hin, ?_⟩)⟩) fun gt => ?_)⟩
  · have hc : sc_c w (l ++ [q]) ≤ lm := by rw [sc_c_app, sc_c_1]; exact le
    have ll := xw_len L hi hc
    rw [List.length_append, List.length_singleton] at ll
    have e1 : (56 : Int32) - 4 * nI l.length = nI (56 - 4 * l.length) := by
      rw [show (4 : Int32) = nI 4 from rfl, show (56 : Int32) = nI 56 from rfl, pk_mul, pk_sub (by omega)]
    rw [e1, nI_l (by omega), sc_or1 (xd_facts m1).2.2.2.2.1 hq.2 (by omega), nI_1]
    have e2 : l.length + 1 = (l ++ [q]).length := by rw [List.length_append, List.length_singleton]
    have e3 : sc_c w l + w q = sc_c w (l ++ [q]) := by rw [sc_c_app, sc_c_1]
    rw [e2, e3]
    exact xw_off (k := k) L M H hk hi hc m3 fun g' IC' IL' IS' a b c f => K g' IC' IL' IS' a b c (fun _ => f)
  · exact K g IC IL IS M H (xm_imp_r _ _ _ _) (fun z => by omega)
theorem xw_join {post : SX → Prop} (L : xl sy tk w R T ci cd cr lm nr n) (M : xm_m sy nr tk n w lm g IT sp pd) (H : xr_c w g sp IC IL IS SC SL SS) {k0 k' o r d N : Nat} {l1 l2 : List Nat} (hk : k ≤ k') (hk' : k' ≤ 6) (hN : 6 ≤ N ∧ N ≤ 9)
    (hb : xm_b k0 o r d) (e : g (xm_x k0 o r d) = some l1) (e2 : sp (xm_y k' k0 N) = some l2) (hs : xd_n sy r d = N)
    (K : ∀ g' IC' IL' IS', xm_m sy nr tk n w lm g' IT sp pd → xr_c w g' sp IC' IL' IS' SC SL SS → xm_imp w k IT g g' → (sc_c w l1 + sc_c w l2 ≤ lm → xm_has w g' (xm_x k' o r (d + 1)) (l1 ++ l2)) → post (nI ci, nI cd, nI cr, nI lm, nI nr, nI s, nI n, fs, fr, fo, fp, gc, gl, gs, R, ml, T, ok, os, rp, IC', IL', IS', IT, SC, SL, SS)) :
    wpX_join post (nI ci, nI cd, nI cr, nI lm, nI nr, nI s, nI n, fs, fr, fo, fp, gc, gl, gs, R, ml, T, ok, os, rp, IC, IL, IS, IT, SC, SL, SS) (nI (xm_x k0 o r d)) (nI (xm_y k' k0 N)) (nI (xm_x k' o r (d + 1))) := by
  obtain ⟨m1, m2, m3⟩ := M.1 _ _ _ _ _ hb e
  have hyb : k' ≤ 6 ∧ k0 ≤ 6 ∧ 6 ≤ N ∧ N ≤ 9 := ⟨hk', hb.1, hN.1, hN.2⟩
  obtain ⟨⟨r', d', s1, s2, s3⟩, t2, _⟩ := M.2.2 _ _ _ _ hyb e2
  have hi : xd_i sy nr tk n r (d + 1) o k' (l1 ++ l2) := xd_closed.2.2.2.2 _ _ _ _ _ _ _ _ _ m1 s3 (by omega) (by omega) s1
  have hx := xm_x_lt hb
  have hy := xm_y_lt hyb
  have hin : vp_in (nI (xm_x k0 o r d)) 1568 := pk_in _ 1568 hx
  have hyn : vp_in (nI (xm_y k' k0 N)) 196 := pk_in _ 196 hy
  obtain ⟨c1, c2, c3⟩ := (H.1 _ hx).2 l1 e
  obtain ⟨d1, d2, d3⟩ := (H.2 _ hy).2 l2 e2
  have lm9 := L.2.2.1
  unfold wpX_join
  dsimp only
  rw [nI_clamp (by omega), nI_clamp (by omega), c1, c2, c3, d1, d2, d3]
  refine ⟨hin, hyn, nm_r (nI_add _ _) (pk_le _ _ (fun le => ⟨hin, nm_e ⟨hin, hyn, nm_e ⟨hyn, ?_⟩⟩⟩) fun gt => ?_)⟩
  · have hc : sc_c w (l1 ++ l2) ≤ lm := by rw [sc_c_app]; exact le
    have ll := xw_len L hi hc
    rw [List.length_append] at ll
    have v1 := (xd_facts m1).2.2.2.2.1
    have v2 := (xd_facts s3).2.2.2.2.1
    have e1 : (4 : Int32) * nI l1.length = nI (4 * l1.length) := by
      rw [show (4 : Int32) = nI 4 from rfl, pk_mul]
    have p2 := sc_p63 v2
    rw [e1, wb_shr (by omega) (by omega), sc_or2 v1 v2 ll, nI_add]
    have e2 : l1.length + l2.length = (l1 ++ l2).length := by rw [List.length_append]
    have e3 : sc_c w l1 + sc_c w l2 = sc_c w (l1 ++ l2) := by rw [sc_c_app]
    rw [e2, e3]
    exact xw_off (k := k) L M H hk hi hc m3 fun g' IC' IL' IS' a b c f => K g' IC' IL' IS' a b c (fun _ => f)
  · exact K g IC IL IS M H (xm_imp_r _ _ _ _) (fun z => by omega)
theorem xl_R (L : xl sy tk w R T ci cd cr lm nr n) {r p : Nat} (hr : r < nr) (hp : p < 4) : R (r * 4 + p) = xl_e (sy r p) := L.2.2.2.1 r p hr hp
theorem xl_R0 (L : xl sy tk w R T ci cd cr lm nr n) {r : Nat} (hr : r < nr) : R (r * 4) = nI (sy r 0) := by
  have := xl_R L hr (p := 0) (by omega)
  rw [Nat.add_zero] at this
  rw [this, xl_e_n]
  have := L.1.2.2 r hr
  omega
theorem xl_i4 (r : Nat) : nI r * 4 = nI (r * 4) := by rw [show (4 : Int32) = nI 4 from rfl, pk_mul]
end
section
variable {ci cd cr lm nr s n : Nat} {fs fr fo fp gc gl : Int32} {gs : Int64} {R ml T ok os rp IC IL : Nat → Int32} {IS : Nat → Int64} {IT SC SL : Nat → Int32} {SS : Nat → Int64}
variable {sy : Nat → Nat → Nat} {tk w : Nat → Nat} {sp : Nat → Option (List Nat)} {pd : Nat → Nat → Prop} {k : Nat}
theorem xw_pred2 {post : SX → Prop} (L : xl sy tk w R T ci cd cr lm nr n) {N : Nat} (hN : 6 ≤ N ∧ N ≤ 9) (hk : k ≤ n) (hp : pd k N) : ∀ (f j : Nat) {g : Nat → Option (List Nat)} {IC IL : Nat → Int32} {IS : Nat → Int64}, j ≤ nr → nr - j < f →
    xm_m sy nr tk n w lm g IT sp pd → xr_c w g sp IC IL IS SC SL SS →
    (∀ g' IC' IL' IS', xm_m sy nr tk n w lm g' IT sp pd → xr_c w g' sp IC' IL' IS' SC SL SS → xm_imp w k IT g g' → (∀ r, j ≤ r → r < nr → sy r 0 = N → xm_has w g' (xm_x k k r 0) []) → post (nI ci, nI cd, nI cr, nI lm, nI nr, nI s, nI n, fs, fr, fo, fp, gc, gl, gs, R, ml, T, ok, os, rp, IC', IL', IS', IT, SC, SL, SS)) →
    wX_predict_2 post (nI N) (nI k) f (nI j) (nI ci) (nI cd) (nI cr) (nI lm) (nI nr) (nI s) (nI n) fs fr fo fp gc gl gs R ml T ok os rp IC IL IS IT SC SL SS
  | 0, _, _, _, _, _, _, h, _, _, _ => by omega
  | f + 1, j, g, IC, IL, IS, hj, hf, M, H, K => by
    have hnr := L.1.1
    unfold wX_predict_2
    refine pk_le _ _ (fun le => ?_) fun gt => ?_
    · exact K g IC IL IS M H (xm_imp_r _ _ _ _) (fun r h1 h2 => by omega)
    · rw [xl_i4, nI_clamp (by omega), xl_R0 L gt]
      have G := L.1.2.2 j gt
      refine ⟨pk_in (j * 4) 32 (by omega), pk_eq _ _ (fun eq => nm_r (e' := nI (xm_x k k j 0)) ?_ ?_) fun ne => nm_r (nI_1 j) ?_⟩
      · rw [← xl_i4]
        exact xl_x0 k k j
      · refine xw_off (k := k) (l := []) L M H (Nat.le_refl _) (xd_closed.1 j k gt hk) (by rw [sc_c]; omega) (by rw [eq]; exact hp) fun g' IC' IL' IS' a b c d => ?_
        refine nm_r (nI_1 j) (xw_pred2 L hN hk hp f (j + 1) gt (by omega) a b fun g2 IC2 IL2 IS2 a2 b2 c2 d2 => ?_)
        refine K g2 IC2 IL2 IS2 a2 b2 (xm_imp_t c c2) fun r h1 h2 h3 => ?_
        rcases Nat.eq_or_lt_of_le h1 with z | z
        · subst z
          exact xm_has_i c2 d
        · exact d2 r z h2 h3
      · refine xw_pred2 L hN hk hp f (j + 1) gt (by omega) M H fun g2 IC2 IL2 IS2 a2 b2 c2 d2 => ?_
        refine K g2 IC2 IL2 IS2 a2 b2 c2 fun r h1 h2 h3 => ?_
        rcases Nat.eq_or_lt_of_le h1 with z | z
        · subst z
          exact absurd h3 ne
        · exact d2 r z h2 h3
theorem xw_predict {post : SX → Prop} (L : xl sy tk w R T ci cd cr lm nr n) {N : Nat} (hN : 6 ≤ N ∧ N ≤ 9) (hk : k ≤ n) (hp : pd k N) {g : Nat → Option (List Nat)}
    (M : xm_m sy nr tk n w lm g IT sp pd) (H : xr_c w g sp IC IL IS SC SL SS)
    (K : ∀ g' IC' IL' IS', xm_m sy nr tk n w lm g' IT sp pd → xr_c w g' sp IC' IL' IS' SC SL SS → xm_imp w k IT g g' → (∀ r, r < nr → sy r 0 = N → xm_has w g' (xm_x k k r 0) []) → post (nI ci, nI cd, nI cr, nI lm, nI nr, nI s, nI n, fs, fr, fo, fp, gc, gl, gs, R, ml, T, ok, os, rp, IC', IL', IS', IT, SC, SL, SS)) :
    wpX_predict post (nI ci, nI cd, nI cr, nI lm, nI nr, nI s, nI n, fs, fr, fo, fp, gc, gl, gs, R, ml, T, ok, os, rp, IC, IL, IS, IT, SC, SL, SS) (nI N) (nI k) :=
  ⟨nr + 1, xw_pred2 L hN hk hp (nr + 1) 0 (Nat.zero_le _) (by omega) M H fun g' IC' IL' IS' a b c d => K g' IC' IL' IS' a b c fun r h1 h2 => d r (Nat.zero_le _) h1 h2⟩
end
end
section
/-! complete: all that wait for the nonterminal are moved on -/
section
variable {ci cd cr lm nr s n : Nat} {fs fr fo fp gc gl : Int32} {gs : Int64} {R ml T ok os rp IC IL : Nat → Int32} {IS : Nat → Int64} {IT SC SL : Nat → Int32} {SS : Nat → Int64}
variable {sy : Nat → Nat → Nat} {tk w : Nat → Nat} {sp : Nat → Option (List Nat)} {pd : Nat → Nat → Prop} {k : Nat}
/-- the waiting item (o2, r2, d2) of set o has been moved on by the span l -/
def xc_p (sy : Nat → Nat → Nat) (w : Nat → Nat) (lm k o N : Nat) (IT : Nat → Int32) (l : List Nat) (g : Nat → Option (List Nat)) (f r d : Nat) : Prop :=
  IT (xm_x o f r d) ≠ 0 → sy r (d + 1) = N → ∀ lw, g (xm_x o f r d) = some lw → sc_c w lw + sc_c w l ≤ lm → xm_has w g (xm_x k f r (d + 1)) (lw ++ l)
theorem xc_p_i {lm o N f r d : Nat} {l : List Nat} {g g' : Nat → Option (List Nat)} (i : xm_imp w k IT g g') (h : xc_p sy w lm k o N IT l g f r d) : xc_p sy w lm k o N IT l g' f r d := by
  intro a b lw c e
  rw [i.2.1 _ a] at c
  exact xm_has_i i (h a b lw c e)
theorem xw_c102 {post : SX → Prop} (L : xl sy tk w R T ci cd cr lm nr n) {N o : Nat} {l : List Nat} (hN : 6 ≤ N ∧ N ≤ 9) (hk : k ≤ n) (hok : o ≤ k) (hs : sp (xm_y k o N) = some l) {f r : Nat} (hf : f ≤ o) (hr : r < nr)
    {J81 J90 : Int32 → Int32 → Int32 → Int32 → Int32 → Int32 → Int32 → Int32 → Int32 → Int32 → Int32 → Int32 → Int32 → Int32 → Int64 → (Nat → Int32) → (Nat → Int32) → (Nat → Int32) → (Nat → Int32) → (Nat → Int32) → (Nat → Int32) → (Nat → Int32) → (Nat → Int32) → (Nat → Int64) → (Nat → Int32) → (Nat → Int32) → (Nat → Int32) → (Nat → Int64) → Prop} : ∀ (u d : Nat) {g : Nat → Option (List Nat)} {IC IL : Nat → Int32} {IS : Nat → Int64}, d ≤ 3 → 3 - d < u →
    xm_m sy nr tk n w lm g IT sp pd → xr_c w g sp IC IL IS SC SL SS →
    (∀ g' IC' IL' IS', xm_m sy nr tk n w lm g' IT sp pd → xr_c w g' sp IC' IL' IS' SC SL SS → xm_imp w k IT g g' → (∀ d2, d ≤ d2 → d2 < 3 → xc_p sy w lm k o N IT l g' f r d2) → J90 (nI (r + 1)) (nI ci) (nI cd) (nI cr) (nI lm) (nI nr) (nI s) (nI n) fs fr fo fp gc gl gs R ml T ok os rp IC' IL' IS' IT SC SL SS) →
    wX_complete_102 post J81 J90 (nI o) (nI N) (nI (xm_y k o N)) (nI ((k - o) * 224 + 1)) (nI f) (nI r) u (nI d) (nI ci) (nI cd) (nI cr) (nI lm) (nI nr) (nI s) (nI n) fs fr fo fp gc gl gs R ml T ok os rp IC IL IS IT SC SL SS
  | 0, _, _, _, _, _, _, h, _, _, _ => by omega
  | u + 1, d, g, IC, IL, IS, hd, hu, M, H, K => by
    have hnr := L.1.1
    have hn6 := L.1.2.1
    unfold wX_complete_102
    refine pk_le 3 d (fun le => nm_r (nI_1 r) ?_) fun gt => nm_r (xl_x o f r d) ?_
    · exact K g IC IL IS M H (xm_imp_r _ _ _ _) (fun d2 h1 h2 => by omega)
    · have hb : xm_b o f r d := ⟨by omega, by omega, by omega, by omega⟩
      have hx := xm_x_lt hb
      rw [nI_clamp (by omega)]
      refine ⟨pk_in _ 1568 hx, ?_⟩
      by_cases z : IT (xm_x o f r d) = 0
      · refine br_t z (nm_r (nI_1 d) (xw_c102 L hN hk hok hs hf hr u (d + 1) (by omega) (by omega) M H fun g2 IC2 IL2 IS2 a2 b2 c2 d2 => ?_))
        refine K g2 IC2 IL2 IS2 a2 b2 c2 fun e h1 h2 => ?_
        rcases Nat.eq_or_lt_of_le h1 with y | y
        · subst y
          exact fun q => absurd z q
        · exact d2 e y h2
      · refine br_f z ?_
        have e1 : nI r * 4 + nI d + 1 = nI (r * 4 + (d + 1)) := by
          rw [xl_i4, nI_add, nI_1, Nat.add_assoc]
        have G := xd_n_le L.1 (d := d) hr
        rw [e1, nI_clamp (by omega), xl_R L hr (by omega)]
        have hdn : xd_n sy r d = sy r (d + 1) := if_pos gt
        rw [hdn] at G
        refine ⟨pk_in (r * 4 + (d + 1)) 32 (by omega), ?_⟩
        by_cases y : sy r (d + 1) = N
        · have y' : xl_e (sy r (d + 1)) = nI N := (xl_e_i G (by omega)).mpr y
          refine br_t y' ?_
          have e2 : nI (xm_x o f r d) + nI ((k - o) * 224 + 1) = nI (xm_x k f r (d + 1)) := by
            rw [nI_add]
            refine congrArg nI ?_
            unfold xm_x
            omega
          rw [e2]
          obtain ⟨lw, hlw, _⟩ := M.2.1 _ _ _ _ hb z
          refine xw_join (k := k) L M H (Nat.le_refl _) (by omega) hN hb hlw hs (by omega) fun g' IC' IL' IS' a b c p => ?_
          refine nm_r (nI_1 d) (xw_c102 L hN hk hok hs hf hr u (d + 1) (by omega) (by omega) a b fun g2 IC2 IL2 IS2 a2 b2 c2 d2 => ?_)
          refine K g2 IC2 IL2 IS2 a2 b2 (xm_imp_t c c2) fun e h1 h2 => ?_
          rcases Nat.eq_or_lt_of_le h1 with y | y
          · subst y
            intro q1 q2 lw' q3 q4
            rw [c2.2.1 _ q1, c.2.1 _ q1, hlw] at q3
            cases q3
            exact xm_has_i c2 (p q4)
          · exact d2 e y h2
        · have y' : ¬ xl_e (sy r (d + 1)) = nI N := fun q => y ((xl_e_i G (by omega)).mp q)
          refine br_f y' (nm_r (nI_1 d) (xw_c102 L hN hk hok hs hf hr u (d + 1) (by omega) (by omega) M H fun g2 IC2 IL2 IS2 a2 b2 c2 d2 => ?_))
          refine K g2 IC2 IL2 IS2 a2 b2 c2 fun e h1 h2 => ?_
          rcases Nat.eq_or_lt_of_le h1 with x | x
          · subst x
            exact fun _ q => absurd q y
          · exact d2 e x h2
theorem xw_c90 {post : SX → Prop} (L : xl sy tk w R T ci cd cr lm nr n) {N o : Nat} {l : List Nat} (hN : 6 ≤ N ∧ N ≤ 9) (hk : k ≤ n) (hok : o ≤ k) (hs : sp (xm_y k o N) = some l) {f : Nat} (hf : f ≤ o)
    {J81 : Int32 → Int32 → Int32 → Int32 → Int32 → Int32 → Int32 → Int32 → Int32 → Int32 → Int32 → Int32 → Int32 → Int32 → Int64 → (Nat → Int32) → (Nat → Int32) → (Nat → Int32) → (Nat → Int32) → (Nat → Int32) → (Nat → Int32) → (Nat → Int32) → (Nat → Int32) → (Nat → Int64) → (Nat → Int32) → (Nat → Int32) → (Nat → Int32) → (Nat → Int64) → Prop} : ∀ (u r : Nat) {g : Nat → Option (List Nat)} {IC IL : Nat → Int32} {IS : Nat → Int64}, r ≤ nr → nr - r < u →
    xm_m sy nr tk n w lm g IT sp pd → xr_c w g sp IC IL IS SC SL SS →
    (∀ g' IC' IL' IS', xm_m sy nr tk n w lm g' IT sp pd → xr_c w g' sp IC' IL' IS' SC SL SS → xm_imp w k IT g g' → (∀ r2 d2, r ≤ r2 → r2 < nr → d2 < 3 → xc_p sy w lm k o N IT l g' f r2 d2) → J81 (nI (f + 1)) (nI ci) (nI cd) (nI cr) (nI lm) (nI nr) (nI s) (nI n) fs fr fo fp gc gl gs R ml T ok os rp IC' IL' IS' IT SC SL SS) →
    wX_complete_90 post J81 (nI o) (nI N) (nI (xm_y k o N)) (nI ((k - o) * 224 + 1)) (nI f) u (nI r) (nI ci) (nI cd) (nI cr) (nI lm) (nI nr) (nI s) (nI n) fs fr fo fp gc gl gs R ml T ok os rp IC IL IS IT SC SL SS
  | 0, _, _, _, _, _, _, h, _, _, _ => by omega
  | u + 1, r, g, IC, IL, IS, hr, hu, M, H, K => by
    have hnr := L.1.1
    unfold wX_complete_90
    refine pk_le _ _ (fun le => nm_r (nI_1 f) ?_) fun gt => ⟨4, xw_c102 L hN hk hok hs hf gt 4 0 (by omega) (by omega) M H fun g' IC' IL' IS' a b c p => ?_⟩
    · exact K g IC IL IS M H (xm_imp_r _ _ _ _) (fun r2 d2 h1 h2 => by omega)
    · refine xw_c90 L hN hk hok hs hf u (r + 1) gt (by omega) a b fun g2 IC2 IL2 IS2 a2 b2 c2 p2 => ?_
      refine K g2 IC2 IL2 IS2 a2 b2 (xm_imp_t c c2) fun r2 d2 h1 h2 h3 => ?_
      rcases Nat.eq_or_lt_of_le h1 with y | y
      · subst y
        exact xc_p_i c2 (p d2 (Nat.zero_le _) h3)
      · exact p2 r2 d2 y h2 h3
theorem xw_c81 {post : SX → Prop} (L : xl sy tk w R T ci cd cr lm nr n) {N o : Nat} {l : List Nat} (hN : 6 ≤ N ∧ N ≤ 9) (hk : k ≤ n) (hok : o ≤ k) (hs : sp (xm_y k o N) = some l) :
    ∀ (u f : Nat) {g : Nat → Option (List Nat)} {IC IL : Nat → Int32} {IS : Nat → Int64}, f ≤ o + 1 → o + 1 - f < u →
    xm_m sy nr tk n w lm g IT sp pd → xr_c w g sp IC IL IS SC SL SS →
    (∀ g' IC' IL' IS', xm_m sy nr tk n w lm g' IT sp pd → xr_c w g' sp IC' IL' IS' SC SL SS → xm_imp w k IT g g' → (∀ f2 r2 d2, f ≤ f2 → f2 ≤ o → r2 < nr → d2 < 3 → xc_p sy w lm k o N IT l g' f2 r2 d2) → post (nI ci, nI cd, nI cr, nI lm, nI nr, nI s, nI n, fs, fr, fo, fp, gc, gl, gs, R, ml, T, ok, os, rp, IC', IL', IS', IT, SC, SL, SS)) →
    wX_complete_81 post (nI o) (nI N) (nI (xm_y k o N)) (nI ((k - o) * 224 + 1)) u (nI f) (nI ci) (nI cd) (nI cr) (nI lm) (nI nr) (nI s) (nI n) fs fr fo fp gc gl gs R ml T ok os rp IC IL IS IT SC SL SS
  | 0, _, _, _, _, _, _, h, _, _, _ => by omega
  | u + 1, f, g, IC, IL, IS, hf, hu, M, H, K => by
    have hnr := L.1.1
    have hn6 := L.1.2.1
    unfold wX_complete_81
    refine pk_lt _ _ (fun lt => ?_) fun ge => ⟨nr + 1, xw_c90 L hN hk hok hs ge (nr + 1) 0 (by omega) (by omega) M H fun g' IC' IL' IS' a b c p => ?_⟩
    · exact K g IC IL IS M H (xm_imp_r _ _ _ _) (fun f2 r2 d2 h1 h2 => by omega)
    · refine xw_c81 L hN hk hok hs u (f + 1) (by omega) (by omega) a b fun g2 IC2 IL2 IS2 a2 b2 c2 p2 => ?_
      refine K g2 IC2 IL2 IS2 a2 b2 (xm_imp_t c c2) fun f2 r2 d2 h1 h2 h3 h4 => ?_
      rcases Nat.eq_or_lt_of_le h1 with y | y
      · subst y
        exact xc_p_i c2 (p r2 d2 (Nat.zero_le _) h3 h4)
      · exact p2 f2 r2 d2 y h2 h3 h4
/-- complete, when the span is there already -/
theorem xw_comp1 {post : SX → Prop} {x o N : Nat} {l : List Nat} {g : Nat → Option (List Nat)} (hb : k ≤ 6 ∧ o ≤ 6 ∧ 6 ≤ N ∧ N ≤ 9) (M : xm_m sy nr tk n w lm g IT sp pd) (hlm : lm ≤ 9) (H : xr_c w g sp IC IL IS SC SL SS) (hs : sp (xm_y k o N) = some l)
    (K : post (nI ci, nI cd, nI cr, nI lm, nI nr, nI s, nI n, fs, fr, fo, fp, gc, gl, gs, R, ml, T, ok, os, rp, IC, IL, IS, IT, SC, SL, SS)) : wpX_complete post (nI ci, nI cd, nI cr, nI lm, nI nr, nI s, nI n, fs, fr, fo, fp, gc, gl, gs, R, ml, T, ok, os, rp, IC, IL, IS, IT, SC, SL, SS) (nI x) (nI k) (nI o) (nI N) := by
  have hy := xm_y_lt hb
  unfold wpX_complete
  dsimp only
  refine nm_r (xl_y k o N hb.2.2.1) ?_
  have hc := (M.2.2 _ _ _ _ hb hs).2.1
  rw [nI_clamp (by omega), ((H.2 _ hy).2 l hs).1]
  exact ⟨pk_in _ 196 hy, br_f (xr_m1 (by omega)) K⟩
theorem xr_st2 {g : Nat → Option (List Nat)} {y : Nat} {l : List Nat} (H : xr_c w g sp IC IL IS SC SL SS) : xr_c w g (xm_st sp y l) IC IL IS (upd SC y (nI (sc_c w l))) (upd SL y (nI l.length)) (vp_updL SS y (lN (sc_p 15 l))) :=
  ⟨H.1, xr_st H.2⟩
/-- complete, the first time -/
theorem xw_comp2 {post : SX → Prop} (L : xl sy tk w R T ci cd cr lm nr n) {o r d N : Nat} {l : List Nat} {g : Nat → Option (List Nat)} (hN : 6 ≤ N ∧ N ≤ 9) (hk : k ≤ n) (hok : o ≤ k) (hb : xm_b k o r d) (e : g (xm_x k o r d) = some l)
    (M : xm_m sy nr tk n w lm g IT (xm_st sp (xm_y k o N) l) pd) (H : xr_c w g sp IC IL IS SC SL SS) (hs : sp (xm_y k o N) = none)
    (K : ∀ g' IC' IL' IS' SC' SL' SS', xm_m sy nr tk n w lm g' IT (xm_st sp (xm_y k o N) l) pd → xr_c w g' (xm_st sp (xm_y k o N) l) IC' IL' IS' SC' SL' SS' → xm_imp w k IT g g' → (∀ f2 r2 d2, f2 ≤ o → r2 < nr → d2 < 3 → xc_p sy w lm k o N IT l g' f2 r2 d2) → post (nI ci, nI cd, nI cr, nI lm, nI nr, nI s, nI n, fs, fr, fo, fp, gc, gl, gs, R, ml, T, ok, os, rp, IC', IL', IS', IT, SC', SL', SS')) :
    wpX_complete post (nI ci, nI cd, nI cr, nI lm, nI nr, nI s, nI n, fs, fr, fo, fp, gc, gl, gs, R, ml, T, ok, os, rp, IC, IL, IS, IT, SC, SL, SS) (nI (xm_x k o r d)) (nI k) (nI o) (nI N) := by
  have hn6 := L.1.2.1
  have hyb : k ≤ 6 ∧ o ≤ 6 ∧ 6 ≤ N ∧ N ≤ 9 := ⟨hb.1, hb.2.1, hN.1, hN.2⟩
  have hy := xm_y_lt hyb
  have hx := xm_x_lt hb
  have hin : vp_in (nI (xm_x k o r d)) 1568 := pk_in _ 1568 hx
  have hyn : vp_in (nI (xm_y k o N)) 196 := pk_in _ 196 hy
  obtain ⟨c1, c2, c3⟩ := (H.1 _ hx).2 l e
  unfold wpX_complete
  dsimp only
  refine nm_r (xl_y k o N hN.1) ?_
  rw [nI_clamp (by omega), nI_clamp (by omega), c1, c2, c3]
  refine ⟨hyn, br_t ((H.2 _ hy).1 hs) ⟨hin, hyn, nm_e ⟨hin, hyn, nm_e ⟨hin, hyn, nm_e (nm_r (e' := nI ((k - o) * 224 + 1)) ?_ ⟨o + 2, ?_⟩)⟩⟩⟩⟩
  · rw [pk_sub hok, show (224 : Int32) = nI 224 from rfl, pk_mul, nI_1]
  · refine xw_c81 L hN hk hok xm_st_s (o + 2) 0 (by omega) (by omega) M (xr_st2 H) fun g' IC' IL' IS' a b c p => ?_
    exact K g' IC' IL' IS' _ _ _ a b c fun f2 r2 d2 h1 h2 h3 => p f2 r2 d2 (Nat.zero_le _) h1 h2 h3
end
end
section
/-! scan and settle -/
section
variable {ci cd cr lm nr s n : Nat} {fs fr fo fp gc gl : Int32} {gs : Int64} {R ml T ok os rp IC IL : Nat → Int32} {IS : Nat → Int64} {IT SC SL : Nat → Int32} {SS : Nat → Int64}
variable {sy : Nat → Nat → Nat} {tk w : Nat → Nat} {sp : Nat → Option (List Nat)} {pd : Nat → Nat → Prop} {k : Nat}
theorem xl_w (L : xl sy tk w R T ci cd cr lm nr n) : (∀ t, t < 6 → w (9 + t) = ci ∧ w (9 + t) ≤ 3) ∧ (w 2 = cd ∧ w 2 ≤ 3) ∧ w 1 = 0 ∧ (∀ t, t < 6 → w (3 + t) = cr ∧ w (3 + t) ≤ 3) := by
  obtain ⟨_, _, _, _, _, h1, h2, h3, h4, h5⟩ := L
  refine ⟨fun t ht => ⟨h4 t ht, ?_⟩, ⟨h2, by omega⟩, h1, fun t ht => ⟨h3 t ht, ?_⟩⟩
  · rw [h4 t ht]; omega
  · rw [h3 t ht]; omega
theorem xw_scan {post : SX → Prop} (L : xl sy tk w R T ci cd cr lm nr n) {o r d : Nat} {l : List Nat} {g : Nat → Option (List Nat)} (hb : xm_b k o r d) (e : g (xm_x k o r d) = some l) (hst : IT (xm_x k o r d) ≠ 0) (h6 : xd_n sy r d < 6) (hkn : k ≤ n)
    (M : xm_m sy nr tk n w lm g IT sp pd) (H : xr_c w g sp IC IL IS SC SL SS)
    (K : ∀ g' IC' IL' IS', xm_m sy nr tk n w lm g' IT sp pd → xr_c w g' sp IC' IL' IS' SC SL SS → xm_imp w k IT g g' →
      (sc_c w l + w (9 + xd_n sy r d) ≤ lm → xm_has w g' (xm_x k o r (d + 1)) (l ++ [9 + xd_n sy r d])) →
      (k < n → sc_c w l + w (xd_o tk k (xd_n sy r d)) ≤ lm → xm_has w g' (xm_x (k + 1) o r (d + 1)) (l ++ [xd_o tk k (xd_n sy r d)])) →
      (k < n → sc_c w l + w 2 ≤ lm → xm_has w g' (xm_x (k + 1) o r d) (l ++ [2])) → post (nI ci, nI cd, nI cr, nI lm, nI nr, nI s, nI n, fs, fr, fo, fp, gc, gl, gs, R, ml, T, ok, os, rp, IC', IL', IS', IT, SC, SL, SS)) :
    wpX_scan post (nI ci, nI cd, nI cr, nI lm, nI nr, nI s, nI n, fs, fr, fo, fp, gc, gl, gs, R, ml, T, ok, os, rp, IC, IL, IS, IT, SC, SL, SS) (nI (xm_x k o r d)) (nI k) (nI (xd_n sy r d)) := by
  have HC := @xd_closed sy nr tk n
  obtain ⟨w9, w2, w1, w3⟩ := xl_w L
  have hi := (M.1 _ _ _ _ _ hb e).1
  have hn6 := L.1.2.1
  have hT := L.2.2.2.2.1
  unfold wpX_scan
  dsimp only
  have e9 : (9 : Int32) + nI (xd_n sy r d) = nI (9 + xd_n sy r d) := by rw [show (9 : Int32) = nI 9 from rfl, nI_add]
  rw [xl_x1, e9]
  refine xw_step (k := k) L M H (Nat.le_refl _) hb e ⟨by omega, by omega⟩ (w9 _ h6) (HC.2.1 _ _ _ _ _ hi h6) fun g1 IC1 IL1 IS1 a1 b1 c1 p1 => ?_
  dsimp only
  have e1 : g1 (xm_x k o r d) = some l := by rw [c1.2.1 _ hst, e]
  refine pk_le _ _ (fun le => ?_) fun gt => nm_r (xl_x2 k o r d) ?_
  · exact K g1 IC1 IL1 IS1 a1 b1 c1 p1 (fun z => by omega) (fun z => by omega)
  · have D : ∀ {g2 : Nat → Option (List Nat)} {IC2 IL2 : Nat → Int32} {IS2 : Nat → Int64}, xm_m sy nr tk n w lm g2 IT sp pd → xr_c w g2 sp IC2 IL2 IS2 SC SL SS → xm_imp w k IT g1 g2 →
        (sc_c w l + w (xd_o tk k (xd_n sy r d)) ≤ lm → xm_has w g2 (xm_x (k + 1) o r (d + 1)) (l ++ [xd_o tk k (xd_n sy r d)])) →
        wX_scan_71 post (nI (xm_x k o r d)) (nI (xm_x (k + 1) o r d)) (nI ci) (nI cd) (nI cr) (nI lm) (nI nr) (nI s) (nI n) fs fr fo fp gc gl gs R ml T ok os rp IC2 IL2 IS2 IT SC SL SS := by
      intro g2 IC2 IL2 IS2 a2 b2 c2 p2
      unfold wX_scan_71
      have e2 : g2 (xm_x k o r d) = some l := by rw [c2.2.1 _ hst, e1]
      refine xw_step (k := k) (q := 2) L a2 b2 (by omega) hb e2 ⟨by omega, by omega⟩ w2 (HC.2.2.2.1 _ _ _ _ _ hi h6 gt) fun g3 IC3 IL3 IS3 a3 b3 c3 p3 => ?_
      exact K g3 IC3 IL3 IS3 a3 b3 (xm_imp_t c1 (xm_imp_t c2 c3)) (fun z => xm_has_i c3 (xm_has_i c2 (p1 z))) (fun _ z => xm_has_i c3 (p2 z)) (fun _ z => p3 z)
    obtain ⟨t1, t2⟩ := hT k gt
    rw [nI_clamp (by omega), t1, xl_x1]
    refine ⟨pk_in k 6 (by omega), pk_eq _ _ (fun eq => ?_) fun ne => ?_⟩
    · have eo : xd_o tk k (xd_n sy r d) = 1 := if_pos eq
      refine xw_step (k := k) (q := 1) (pr := 0) L a1 b1 (by omega) hb e1 ⟨by omega, by omega⟩ ⟨w1, by omega⟩ (by have := HC.2.2.1 _ _ _ _ _ hi h6 gt; rw [eo] at this; exact this) fun g2 IC2 IL2 IS2 a2 b2 c2 p2 => ?_
      exact D a2 b2 c2 (by rw [eo]; exact p2)
    · have eo : xd_o tk k (xd_n sy r d) = 3 + xd_n sy r d := if_neg ne
      have e3 : (3 : Int32) + nI (xd_n sy r d) = nI (3 + xd_n sy r d) := by rw [show (3 : Int32) = nI 3 from rfl, nI_add]
      rw [e3]
      refine xw_step (k := k) L a1 b1 (by omega) hb e1 ⟨by omega, by omega⟩ (w3 _ h6) (by have := HC.2.2.1 _ _ _ _ _ hi h6 gt; rw [eo] at this; exact this) fun g2 IC2 IL2 IS2 a2 b2 c2 p2 => ?_
      exact D a2 b2 c2 (by rw [eo]; exact p2)
theorem xw_sym {post : Int32 → Prop} (L : xl sy tk w R T ci cd cr lm nr n) {r d : Nat} (hr : r < nr) (hd : d < 4) (K : post (xl_e (xd_n sy r d))) : wpX_symbolAfter post (nI ci, nI cd, nI cr, nI lm, nI nr, nI s, nI n, fs, fr, fo, fp, gc, gl, gs, R, ml, T, ok, os, rp, IC, IL, IS, IT, SC, SL, SS) (nI r) (nI d) := by
  have hnr := L.1.1
  unfold wpX_symbolAfter
  dsimp only
  by_cases h : d < 3
  · have e : xd_n sy r d = sy r (d + 1) := if_pos h
    rw [e] at K
    refine br_t (nI_lt (a := d) (b := 3) h (by decide)) ?_
    have e1 : nI r * 4 + nI d + 1 = nI (r * 4 + (d + 1)) := by
      rw [xl_i4, nI_add, nI_1, Nat.add_assoc]
    rw [e1, nI_clamp (by omega), xl_R L hr (by omega)]
    exact ⟨pk_in (r * 4 + (d + 1)) 32 (by omega), K⟩
  · have e : xd_n sy r d = 10 := if_neg h
    rw [e] at K
    exact br_f (nI_nlt (a := d) (b := 3) (by omega) (by omega)) K
theorem xl_dv {k o r d : Nat} (hb : xm_b k o r d) : nI (xm_x k o r d) - nI k * 224 = nI (o * 32 + r * 4 + d) ∧ nI (o * 32 + r * 4 + d) / 32 = nI o ∧
    (nI (o * 32 + r * 4 + d) - nI (o * 32 + r * 4 + d) / 32 * 32) / 4 = nI r ∧ nI (o * 32 + r * 4 + d) - nI (o * 32 + r * 4 + d) / 4 * 4 = nI d := by
  obtain ⟨b1, b2, b3, b4⟩ := hb
  rw [show (224 : Int32) = nI 224 from rfl, show (32 : Int32) = nI 32 from rfl, show (4 : Int32) = nI 4 from rfl, pk_mul]
  refine ⟨?_, ?_, ?_, ?_⟩
  · rw [pk_sub (by unfold xm_x; omega)]
    exact congrArg nI (by unfold xm_x; omega)
  · rw [pk_div (by omega) (by omega) (by omega)]
    exact congrArg nI (by omega)
  · rw [pk_rem (by omega) (by omega) (by omega), pk_div (by omega) (by omega) (by omega)]
    exact congrArg nI (by omega)
  · rw [pk_rem (by omega) (by omega) (by omega)]
    exact congrArg nI (by omega)
theorem xw_nb : vp_nar .boolean 1 = 1 := rfl
theorem xw_nb0 : vp_nar .boolean 0 = 0 := rfl
theorem xw_settle {post : SX → Prop} (L : xl sy tk w R T ci cd cr lm nr n) {o r d : Nat} {l : List Nat} {g : Nat → Option (List Nat)} (hkn : k ≤ n)
    (M : xm_m sy nr tk n w lm g IT sp pd) (C : xm_c sy nr tk n w lm k g IT sp pd) (H : xr_c w g sp IC IL IS SC SL SS)
    (h : xm_w k g IT o r d l) (hm : ∀ o2 r2 d2 l2, xm_w k g IT o2 r2 d2 l2 → sc_od w o l o2 l2)
    (K : ∀ g' sp' pd' IC' IL' IS' SC' SL' SS', xm_m sy nr tk n w lm g' (upd IT (xm_x k o r d) 1) sp' pd' → xm_c sy nr tk n w lm k g' (upd IT (xm_x k o r d) 1) sp' pd' → xr_c w g' sp' IC' IL' IS' SC' SL' SS' →
      (∀ o2 N2, pd o2 N2 → pd' o2 N2) → post (nI ci, nI cd, nI cr, nI lm, nI nr, nI s, nI n, fs, fr, fo, fp, gc, gl, gs, R, ml, T, ok, os, rp, IC', IL', IS', upd IT (xm_x k o r d) 1, SC', SL', SS')) :
    wpX_settle post (nI ci, nI cd, nI cr, nI lm, nI nr, nI s, nI n, fs, fr, fo, fp, gc, gl, gs, R, ml, T, ok, os, rp, IC, IL, IS, IT, SC, SL, SS) (nI (xm_x k o r d)) (nI k) := by
  have hg := L.1
  have hw := L.2.1
  have hlm := L.2.2.1
  obtain ⟨m1, m2, m3⟩ := M.1 _ _ _ _ _ h.1 h.2.1
  have hf := xd_facts m1
  have hb := h.1
  have hn6 := hg.2.1
  have hnr := hg.1
  have hr1 := hf.1
  have hr2 := hf.2.2.1
  have hx := xm_x_lt hb
  have hin : vp_in (nI (xm_x k o r d)) 1568 := pk_in _ 1568 hx
  have G := hg.2.2 r hf.1
  have hle := xd_n_le hg (d := d) hf.1
  have M1 := xm_mark hg hw hlm M C h hm
  have hst : upd IT (xm_x k o r d) 1 (xm_x k o r d) ≠ 0 := by rw [pk_us]; decide
  obtain ⟨dv1, dv2, dv3, dv4⟩ := xl_dv hb
  unfold wpX_settle
  dsimp only
  rw [nI_clamp (by omega), xw_nb]
  refine ⟨hin, nm_e (nm_r dv1 ⟨by decide, nm_r dv2 ⟨by decide, by decide, nm_r dv3 ⟨by decide, nm_r dv4 (xw_sym L hf.1 hb.2.2.2 ?_)⟩⟩⟩)⟩
  by_cases h10 : xd_n sy r d = 10
  · rw [h10, xl_e_10]
    refine br_t rfl ?_
    rw [xl_i4, nI_clamp (by omega), xl_R0 L hf.1]
    refine ⟨pk_in (r * 4) 32 (by omega), ?_⟩
    have hyb : k ≤ 6 ∧ o ≤ 6 ∧ 6 ≤ sy r 0 ∧ sy r 0 ≤ 9 := ⟨by omega, by omega, G.1, G.2.1⟩
    cases es : sp (xm_y k o (sy r 0)) with
    | some l2 =>
      refine xw_comp1 hyb M1 hlm H es ?_
      refine K g sp pd IC IL IS SC SL SS M1 ?_ H (fun _ _ z => z)
      exact xm_next C hb h.2.1 M1 (xm_imp_r _ _ _ _) (fun _ _ z => z) (fun _ _ _ _ _ z => Or.inl z) (fun _ _ z => z) C.2.2.2.2.2.2.2 (fun _ => ⟨l2, es⟩) (fun _ _ => by omega) (fun _ => by omega) (fun _ _ => by omega)
    | none =>
      have SP := xm_span hg hw hlm M C h hm h10 es
      refine xw_comp2 L ⟨G.1, G.2.1⟩ hkn hf.2.2.1 hb h.2.1 (xm_m_sp hyb M1 SP) H es fun g' IC' IL' IS' SC' SL' SS' a b c p => ?_
      refine K g' _ pd IC' IL' IS' SC' SL' SS' a ?_ b (fun _ _ z => z)
      refine xm_next C hb h.2.1 a c ?_ ?_ (fun _ _ z => z) ?_ (fun _ => ⟨l, xm_st_s⟩) (fun _ _ => by omega) (fun _ => by omega) (fun _ _ => by omega)
      · intro y l2 e2
        by_cases z : y = xm_y k o (sy r 0)
        · rw [z, es] at e2
          cases e2
        · rw [xm_st_n z, e2]
      · intro k2 o2 N2 l2 hb2 e2
        by_cases z : xm_y k2 o2 N2 = xm_y k o (sy r 0)
        · obtain ⟨rfl, rfl, rfl⟩ := xm_y_inj hb2 hyb z
          rw [xm_st_s] at e2
          cases e2
          refine Or.inr ⟨rfl, fun o3 r3 d3 lw hb3 s3 e3 n3 c3 => ?_⟩
          have q := xd_facts (a.1 _ _ _ _ _ hb3 e3).1
          have hd3 := xd_n_lt (sy := sy) (r := r3) (d := d3) (by omega)
          exact p o3 r3 d3 q.2.2.1 q.1 hd3.1 s3 (by omega) lw e3 c3
        · rw [xm_st_n z] at e2
          exact Or.inl e2
      · intro o2 N2 z r2 h2 n2
        obtain ⟨l2, e2⟩ := C.2.2.2.2.2.2.2 o2 N2 z r2 h2 n2
        obtain ⟨l3, e3, _⟩ := c.1 _ _ e2
        exact ⟨l3, e3⟩
  · rw [xl_e_n h10]
    refine br_f (xr_m1 (by omega)) (pk_lt 5 (xd_n sy r d) (fun lt => ?_) fun ge => ?_)
    · have hN : 6 ≤ xd_n sy r d ∧ xd_n sy r d ≤ 9 := ⟨by omega, by omega⟩
      have M2 : xm_m sy nr tk n w lm g (upd IT (xm_x k o r d) 1) sp (fun o2 N2 => pd o2 N2 ∨ (o2 = k ∧ N2 = xd_n sy r d)) := xm_m_pd M1 (fun _ _ z => Or.inl z)
      refine xw_predict L hN hkn (Or.inr ⟨rfl, rfl⟩) M2 H fun g1 IC1 IL1 IS1 a b c p => ?_
      dsimp only
      have hyb : k ≤ 6 ∧ k ≤ 6 ∧ 6 ≤ xd_n sy r d ∧ xd_n sy r d ≤ 9 := ⟨by omega, by omega, hN.1, hN.2⟩
      have hy := xm_y_lt hyb
      have e1 : g1 (xm_x k o r d) = some l := by rw [c.2.1 _ hst, h.2.1]
      have p2 : ∀ {g2 : Nat → Option (List Nat)}, xm_imp w k (upd IT (xm_x k o r d) 1) g1 g2 → ∀ o2 N2, (pd o2 N2 ∨ (o2 = k ∧ N2 = xd_n sy r d)) → ∀ r2, r2 < nr → sy r2 0 = N2 → ∃ l2, g2 (xm_x o2 o2 r2 0) = some l2 := by
        intro g2 c2 o2 N2 z r2 h2 n2
        rcases z with z | ⟨rfl, rfl⟩
        · obtain ⟨l2, e2⟩ := C.2.2.2.2.2.2.2 o2 N2 z r2 h2 n2
          obtain ⟨l3, e3, _⟩ := (xm_imp_t c c2).1 _ _ e2
          exact ⟨l3, e3⟩
        · obtain ⟨l3, e3, _⟩ := xm_has_i c2 (p r2 h2 n2)
          exact ⟨l3, e3⟩
      refine nm_r (xl_y k k (xd_n sy r d) hN.1) ?_
      rw [nI_clamp (by omega)]
      refine ⟨pk_in _ 196 hy, ?_⟩
      cases es : sp (xm_y k k (xd_n sy r d)) with
      | none =>
        refine br_t ((b.2 _ hy).1 es) ?_
        refine K g1 sp _ IC1 IL1 IS1 SC SL SS a ?_ b (fun _ _ z => Or.inl z)
        exact xm_next C hb h.2.1 a c (fun _ _ z => z) (fun _ _ _ _ _ z => Or.inl z) (fun _ _ z => Or.inl z) (p2 (xm_imp_r _ _ _ _)) (fun _ => by omega) (fun _ _ => Or.inr ⟨rfl, rfl⟩) (fun _ => by omega) (fun _ _ l2 z => by rw [es] at z; cases z)
      | some l2 =>
        have hc2 := (a.2.2 _ _ _ _ hyb es).2.1
        refine br_f (by rw [((b.2 _ hy).2 l2 es).1]; exact xr_m1 (by omega)) ?_
        rw [xl_x1]
        refine xw_join (k := k) L a b (Nat.le_refl _) (by omega) hN hb e1 es rfl fun g2 IC2 IL2 IS2 a2 b2 c2 q2 => ?_
        dsimp only
        refine K g2 sp _ IC2 IL2 IS2 SC SL SS a2 ?_ b2 (fun _ _ z => Or.inl z)
        refine xm_next C hb h.2.1 a2 (xm_imp_t c c2) (fun _ _ z => z) (fun _ _ _ _ _ z => Or.inl z) (fun _ _ z => Or.inl z) (p2 c2) (fun _ => by omega) (fun _ _ => Or.inr ⟨rfl, rfl⟩) (fun _ => by omega) (fun _ _ l3 z hc => ?_)
        rw [es] at z
        cases z
        exact q2 hc
    · refine xw_scan L hb h.2.1 hst (by omega) hkn M1 H fun g1 IC1 IL1 IS1 a b c p1 p2 p3 => ?_
      refine K g1 sp pd IC1 IL1 IS1 SC SL SS a ?_ b (fun _ _ z => z)
      refine xm_next C hb h.2.1 a c (fun _ _ z => z) (fun _ _ _ _ _ z => Or.inl z) (fun _ _ z => z) ?_ (fun _ => by omega) (fun _ _ => by omega) (fun _ => ⟨p1, p2, p3⟩) (fun _ _ => by omega)
      intro o2 N2 z r2 h2 n2
      obtain ⟨l2, e2⟩ := C.2.2.2.2.2.2.2 o2 N2 z r2 h2 n2
      obtain ⟨l3, e3, _⟩ := c.1 _ _ e2
      exact ⟨l3, e3⟩
end
end
section
/-! bestOpen: the waiting item that comes first -/
def xb (w : Nat → Nat) (k : Nat) (g : Nat → Option (List Nat)) (IT : Nat → Int32) (Q : Nat → Nat → Prop) (x2 x3 : Int32) : Prop :=
  (x2 = -1 ∧ ∀ o r d l, xm_w k g IT o r d l → ¬ Q o (r * 4 + d)) ∨
  ∃ ob rb db lb, x2 = nI (xm_x k ob rb db) ∧ x3 = nI ob ∧ xm_w k g IT ob rb db lb ∧ Q ob (rb * 4 + db) ∧ ∀ o r d l, xm_w k g IT o r d l → Q o (r * 4 + d) → sc_od w ob lb o l
def xb_q (o c : Nat) : Nat → Nat → Prop := fun o' e => o < o' ∨ (o' = o ∧ e < c)
section
variable {w : Nat → Nat} {k : Nat} {g : Nat → Option (List Nat)} {IT : Nat → Int32}
theorem xb_c {Q Q' : Nat → Nat → Prop} {x2 x3 : Int32} (h : ∀ o e, e < 32 → (Q o e ↔ Q' o e)) (b : xb w k g IT Q x2 x3) : xb w k g IT Q' x2 x3 := by
  have lt : ∀ {o r d l}, xm_w k g IT o r d l → r * 4 + d < 32 := by
    rintro o r d l ⟨⟨_, _, a, b⟩, _⟩
    omega
  rcases b with ⟨e, b⟩ | ⟨ob, rb, db, lb, e1, e2, e3, e4, e5⟩
  · exact Or.inl ⟨e, fun o r d l hw q => b o r d l hw ((h _ _ (lt hw)).mpr q)⟩
  · exact Or.inr ⟨ob, rb, db, lb, e1, e2, e3, (h _ _ (lt e3)).mp e4, fun o r d l hw q => e5 o r d l hw ((h _ _ (lt hw)).mpr q)⟩
theorem xb_new {o c : Nat} {o' r d : Nat} {l : List Nat} (hw : xm_w k g IT o' r d l) (q : xb_q o (c + 1) o' (r * 4 + d)) : xb_q o c o' (r * 4 + d) ∨ (o' = o ∧ r = c / 4 ∧ d = c % 4) := by
  obtain ⟨⟨_, _, a, b⟩, _⟩ := hw
  unfold xb_q at *
  rcases q with q | ⟨q1, q2⟩
  · exact Or.inl (Or.inl q)
  · by_cases z : r * 4 + d < c
    · exact Or.inl (Or.inr ⟨q1, z⟩)
    · exact Or.inr ⟨q1, by omega, by omega⟩
theorem xb_qs {o c o' e : Nat} (q : xb_q o c o' e) : xb_q o (c + 1) o' e := by
  unfold xb_q at *
  omega
theorem xb_skip {o c : Nat} {x2 x3 : Int32} (b : xb w k g IT (xb_q o c) x2 x3) (hn : ∀ l, ¬ xm_w k g IT o (c / 4) (c % 4) l) : xb w k g IT (xb_q o (c + 1)) x2 x3 := by
  rcases b with ⟨e, b⟩ | ⟨ob, rb, db, lb, e1, e2, e3, e4, e5⟩
  · refine Or.inl ⟨e, fun o' r d l hw q => ?_⟩
    rcases xb_new hw q with q | ⟨rfl, rfl, rfl⟩
    · exact b _ _ _ _ hw q
    · exact hn l hw
  · refine Or.inr ⟨ob, rb, db, lb, e1, e2, e3, xb_qs e4, fun o' r d l hw q => ?_⟩
    rcases xb_new hw q with q | ⟨rfl, rfl, rfl⟩
    · exact e5 _ _ _ _ hw q
    · exact absurd hw (hn l)
theorem xb_keep {o c ob rb db : Nat} {l lb : List Nat} (hl : xm_w k g IT o (c / 4) (c % 4) l) (e3 : xm_w k g IT ob rb db lb) (e4 : xb_q o c ob (rb * 4 + db)) (e5 : ∀ o' r d l, xm_w k g IT o' r d l → xb_q o c o' (r * 4 + d) → sc_od w ob lb o' l)
    (h : sc_od w ob lb o l) : xb w k g IT (xb_q o (c + 1)) (nI (xm_x k ob rb db)) (nI ob) := by
  refine Or.inr ⟨ob, rb, db, lb, rfl, rfl, e3, xb_qs e4, fun o' r d l' hw q => ?_⟩
  rcases xb_new hw q with q | ⟨rfl, rfl, rfl⟩
  · exact e5 _ _ _ _ hw q
  · have : l = l' := by
      have := hl.2.1
      rw [hw.2.1] at this
      cases this
      rfl
    subst this
    exact h
theorem xb_take {o c : Nat} {l : List Nat} (hc : c < 32) (hl : xm_w k g IT o (c / 4) (c % 4) l) (h : ∀ o' r d l', xm_w k g IT o' r d l' → xb_q o c o' (r * 4 + d) → sc_od w o l o' l') :
    xb w k g IT (xb_q o (c + 1)) (nI (xm_x k o (c / 4) (c % 4))) (nI o) := by
  refine Or.inr ⟨o, c / 4, c % 4, l, rfl, rfl, hl, Or.inr ⟨rfl, by omega⟩, fun o' r d l' hw q => ?_⟩
  rcases xb_new hw q with q | ⟨rfl, rfl, rfl⟩
  · exact h _ _ _ _ hw q
  · have : l = l' := by
      have := hl.2.1
      rw [hw.2.1] at this
      cases this
      rfl
    subst this
    exact sc_le_od (sc_le_r _ _)
end
section
variable {ci cd cr lm nr s n : Nat} {fs fr fo fp gc gl : Int32} {gs : Int64} {R ml T ok os rp IC IL : Nat → Int32} {IS : Nat → Int64} {IT SC SL : Nat → Int32} {SS : Nat → Int64}
variable {sy : Nat → Nat → Nat} {tk w : Nat → Nat} {g sp : Nat → Option (List Nat)} {pd : Nat → Nat → Prop} {k : Nat}
theorem xw_b29 {post : Int32 → Prop} (L : xl sy tk w R T ci cd cr lm nr n) (M : xm_m sy nr tk n w lm g IT sp pd) (H : xr_c w g sp IC IL IS SC SL SS) (hk : k ≤ n) {o : Nat} (ho : o ≤ k) {J7 : Int32 → Int32 → Int32 → Prop}
    (K : ∀ x2 x3, xb w k g IT (xb_q o 32) x2 x3 → J7 x2 x3 (nI o + (-1))) : ∀ (u c : Nat) {x2 x3 : Int32}, c ≤ 32 → 32 - c < u → xb w k g IT (xb_q o c) x2 x3 →
    wX_bestOpen_29 post J7 (nI k) (nI o) (nI (k * 224 + o * 32)) (nI ci) (nI cd) (nI cr) (nI lm) (nI nr) (nI s) (nI n) fs fr fo fp gc gl gs R ml T ok os rp IC IL IS IT SC SL SS u x2 x3 (nI (k * 224 + o * 32 + c))
  | 0, _, _, _, _, h, _ => by omega
  | u + 1, c, x2, x3, hc, hu, b => by
    have hn6 := L.1.2.1
    have lm9 := L.2.2.1
    unfold wX_bestOpen_29
    have e32 : nI (k * 224 + o * 32) + 32 = nI (k * 224 + o * 32 + 32) := by rw [show (32 : Int32) = nI 32 from rfl, nI_add]
    rw [e32]
    refine pk_le _ _ (fun le => nm_e ?_) fun gt => ?_
    · have e : c = 32 := by omega
      subst e
      exact K _ _ b
    · have hb : xm_b k o (c / 4) (c % 4) := ⟨by omega, by omega, by omega, by omega⟩
      have ex : k * 224 + o * 32 + c = xm_x k o (c / 4) (c % 4) := by unfold xm_x; omega
      have hx := xm_x_lt hb
      have hin : vp_in (nI (xm_x k o (c / 4) (c % 4))) 1568 := pk_in _ 1568 hx
      have nx : nI (xm_x k o (c / 4) (c % 4)) + 1 = nI (k * 224 + o * 32 + (c + 1)) := by rw [nI_1, ← ex, Nat.add_assoc]
      have go := fun {y2 y3 : Int32} (q : xb w k g IT (xb_q o (c + 1)) y2 y3) => xw_b29 (post := post) L M H hk ho K u (c + 1) (by omega) (by omega) q
      rw [ex, nI_clamp (by omega)]
      refine ⟨hin, ?_⟩
      cases eg : g (xm_x k o (c / 4) (c % 4)) with
      | none =>
        refine br_t ((H.1 _ hx).1 eg) (nm_r nx (go (xb_skip b fun l q => ?_)))
        rw [q.2.1] at eg
        cases eg
      | some l =>
        obtain ⟨q1, q2, q3⟩ := (H.1 _ hx).2 l eg
        obtain ⟨m1, m2, m3⟩ := M.1 _ _ _ _ _ hb eg
        have v1 := sc_p63 (xd_facts m1).2.2.2.2.1
        rw [q1]
        refine br_f (xr_m1 (by omega)) ⟨hin, ?_⟩
        by_cases z : IT (xm_x k o (c / 4) (c % 4)) = 0
        · refine br_t z ?_
          have hl : xm_w k g IT o (c / 4) (c % 4) l := ⟨hb, eg, z⟩
          have take : (∀ o' r d l', xm_w k g IT o' r d l' → xb_q o c o' (r * 4 + d) → sc_od w o l o' l') → wX_bestOpen_120 post J7 (wX_bestOpen_29 post J7 (nI k) (nI o) (nI (k * 224 + o * 32)) (nI ci) (nI cd) (nI cr) (nI lm) (nI nr) (nI s) (nI n) fs fr fo fp gc gl gs R ml T ok os rp IC IL IS IT SC SL SS u) (nI k) x2 x3 (nI o) (nI (k * 224 + o * 32)) (nI (xm_x k o (c / 4) (c % 4))) (nI ci) (nI cd) (nI cr) (nI lm) (nI nr) (nI s) (nI n) fs fr fo fp gc gl gs R ml T ok os rp IC IL IS IT SC SL SS := by
            intro q
            unfold wX_bestOpen_120 wX_bestOpen_125
            exact br_f (by decide) (nm_r nx (go (xb_take (by omega) hl q)))
          rcases b with ⟨rfl, b⟩ | ⟨ob, rb, db, lb, rfl, rfl, e3, e4, e5⟩
          · exact br_t rfl (take fun o' r d l' h1 h2 => absurd h2 (b _ _ _ _ h1))
          · have hb2 := e3.1
            have hx2 := xm_x_lt hb2
            have hin2 : vp_in (nI (xm_x k ob rb db)) 1568 := pk_in _ 1568 hx2
            obtain ⟨p1, p2, p3⟩ := (H.1 _ hx2).2 lb e3.2.1
            obtain ⟨n1, n2, n3⟩ := M.1 _ _ _ _ _ hb2 e3.2.1
            have v2 := sc_p63 (xd_facts n1).2.2.2.2.1
            have keep : sc_od w ob lb o l → wX_bestOpen_124 post J7 (wX_bestOpen_29 post J7 (nI k) (nI o) (nI (k * 224 + o * 32)) (nI ci) (nI cd) (nI cr) (nI lm) (nI nr) (nI s) (nI n) fs fr fo fp gc gl gs R ml T ok os rp IC IL IS IT SC SL SS u) (nI k) (nI (xm_x k ob rb db)) (nI ob) (nI o) (nI (k * 224 + o * 32)) (nI (xm_x k o (c / 4) (c % 4))) (nI ci) (nI cd) (nI cr) (nI lm) (nI nr) (nI s) (nI n) fs fr fo fp gc gl gs R ml T ok os rp IC IL IS IT SC SL SS := by
              intro q
              unfold wX_bestOpen_124 wX_bestOpen_125
              exact br_t rfl (nm_r nx (go (xb_keep hl e3 e4 e5 q)))
            have hob : o ≤ ob := by
              unfold xb_q at e4
              omega
            have hob6 := hb2.2.1
            refine br_f (xr_m1 (by omega)) ?_
            rw [nI_clamp (by omega), p1, p3, q3]
            refine ⟨hin, hin2, pk_lt _ _ (fun lt => take fun o' r d l' h1 h2 => ?_) fun ge => ⟨hin, hin2, pk_eq _ _ (fun eq => pk_eq _ _ (fun eo => ⟨hin, hin2, ?_⟩) fun no => keep ?_) fun ne => keep ?_⟩⟩
            · have := e5 _ _ _ _ h1 h2
              unfold sc_od at *
              omega
            · rw [pk_lLE v2 v1]
              refine ⟨fun le => keep ?_, fun nle => take fun o' r d l' h1 h2 => ?_⟩
              · unfold sc_od
                omega
              · have := e5 _ _ _ _ h1 h2
                unfold sc_od at *
                omega
            · unfold sc_od
              omega
            · unfold sc_od
              omega
        · refine br_f z (nm_r nx (go (xb_skip b fun l q => ?_)))
          exact z q.2.2
theorem xw_b7 {post : Int32 → Prop} (L : xl sy tk w R T ci cd cr lm nr n) (M : xm_m sy nr tk n w lm g IT sp pd) (H : xr_c w g sp IC IL IS SC SL SS) (hk : k ≤ n)
    (K : ∀ x2 x3, xb w k g IT (fun _ _ => True) x2 x3 → post x2) : ∀ (u j : Nat) {x2 x3 : Int32}, j ≤ k + 1 → j < u → xb w k g IT (fun o' _ => j ≤ o') x2 x3 →
    wX_bestOpen_7 post (nI k) (nI ci) (nI cd) (nI cr) (nI lm) (nI nr) (nI s) (nI n) fs fr fo fp gc gl gs R ml T ok os rp IC IL IS IT SC SL SS u x2 x3 (nI j + (-1))
  | 0, _, _, _, _, h, _ => by omega
  | u + 1, 0, x2, x3, _, _, b => by
    unfold wX_bestOpen_7
    exact br_t (by decide) (K x2 x3 (xb_c (fun o e _ => ⟨fun _ => trivial, fun _ => Nat.zero_le _⟩) b))
  | u + 1, j + 1, x2, x3, hj, hu, b => by
    have hn6 := L.1.2.1
    unfold wX_bestOpen_7
    rw [pk_m1]
    refine br_f (nI_pos (by omega)) (nm_r (e' := nI (k * 224 + j * 32)) ?_ ⟨33, ?_⟩)
    · rw [show (224 : Int32) = nI 224 from rfl, show (32 : Int32) = nI 32 from rfl, pk_mul, pk_mul, nI_add]
    · refine xw_b29 L M H hk (by omega) (fun y2 y3 q => ?_) 33 0 (by omega) (by omega) (xb_c (fun o e _ => ?_) b)
      · refine xw_b7 L M H hk K u j (by omega) (by omega) (xb_c (fun o e h => ?_) q)
        unfold xb_q
        omega
      · unfold xb_q
        omega
/-- bestOpen answers -1 where nothing waits, else the place of the first one -/
theorem xw_best {post : Int32 → Prop} (L : xl sy tk w R T ci cd cr lm nr n) (M : xm_m sy nr tk n w lm g IT sp pd) (H : xr_c w g sp IC IL IS SC SL SS) (hk : k ≤ n)
    (K1 : (∀ o r d l, ¬ xm_w k g IT o r d l) → post (-1))
    (K2 : ∀ o r d l, xm_w k g IT o r d l → (∀ o2 r2 d2 l2, xm_w k g IT o2 r2 d2 l2 → sc_od w o l o2 l2) → post (nI (xm_x k o r d))) :
    wpX_bestOpen post (nI ci, nI cd, nI cr, nI lm, nI nr, nI s, nI n, fs, fr, fo, fp, gc, gl, gs, R, ml, T, ok, os, rp, IC, IL, IS, IT, SC, SL, SS) (nI k) := by
  unfold wpX_bestOpen
  dsimp only
  refine ⟨k + 2, ?_⟩
  have W := xw_b7 (post := post) (fs := fs) (fr := fr) (fo := fo) (fp := fp) (gc := gc) (gl := gl) (gs := gs) (ml := ml) (ok := ok) (os := os) (rp := rp) (s := s) L M H hk (fun x2 x3 b => ?_) (k + 2) (k + 1) (x2 := -1) (x3 := -1) (by omega) (by omega) (Or.inl ⟨rfl, fun o r d l hw => ?_⟩)
  · rw [pk_m1] at W
    exact W
  · rcases b with ⟨rfl, b⟩ | ⟨ob, rb, db, lb, rfl, rfl, e3, e4, e5⟩
    · exact K1 fun o r d l q => b o r d l q trivial
    · exact K2 ob rb db lb e3 fun o2 r2 d2 l2 q => e5 _ _ _ _ q trivial
  · have := (xd_facts (M.1 _ _ _ _ _ hw.1 hw.2.1).1).2.2.1
    omega
end
end
section
/-! closeSet, clearChart, updateGoal -/
def xs_n (IT : Nat → Int32) (k : Nat) : Nat → Nat
  | 0 => 0
  | e + 1 => xs_n IT k e + (if IT (k * 224 + e) = 0 then 0 else 1)
theorem xs_le (IT : Nat → Int32) (k : Nat) : ∀ e, xs_n IT k e ≤ e
  | 0 => Nat.le_refl _
  | e + 1 => by
    have := xs_le IT k e
    rw [xs_n]
    split <;> omega
theorem xs_full {IT : Nat → Int32} {k : Nat} : ∀ {e : Nat}, e ≤ xs_n IT k e → ∀ j, j < e → IT (k * 224 + j) ≠ 0
  | 0, _, j, h => by omega
  | e + 1, he, j, h => by
    have := xs_le IT k e
    rw [xs_n] at he
    by_cases z : IT (k * 224 + e) = 0
    · rw [if_pos z] at he
      omega
    · rw [if_neg z] at he
      rcases Nat.eq_or_lt_of_le (Nat.le_of_lt_succ h) with y | y
      · subst y
        exact z
      · exact xs_full (by omega) j y
theorem xs_upd {IT : Nat → Int32} {k j : Nat} (h : IT (k * 224 + j) = 0) : ∀ {e : Nat}, (j < e → xs_n (upd IT (k * 224 + j) 1) k e = xs_n IT k e + 1) ∧ (e ≤ j → xs_n (upd IT (k * 224 + j) 1) k e = xs_n IT k e)
  | 0 => ⟨fun z => by omega, fun _ => rfl⟩
  | e + 1 => by
    obtain ⟨a, b⟩ := xs_upd h (e := e)
    rw [xs_n, xs_n]
    refine ⟨fun z => ?_, fun z => ?_⟩
    · rcases Nat.eq_or_lt_of_le (Nat.le_of_lt_succ z) with y | y
      · subst y
        rw [b (Nat.le_refl _), pk_us, if_neg (by decide), if_pos h]
      · rw [a y, pk_un (by omega)]
        omega
    · rw [b (by omega), pk_un (by omega)]
section
variable {ci cd cr lm nr s n : Nat} {fs fr fo fp gc gl : Int32} {gs : Int64} {R ml T ok os rp IC IL : Nat → Int32} {IS : Nat → Int64} {IT SC SL : Nat → Int32} {SS : Nat → Int64}
variable {sy : Nat → Nat → Nat} {tk w : Nat → Nat} {k : Nat}
theorem xw_cl2 {post : SX → Prop} (L : xl sy tk w R T ci cd cr lm nr n) (hk : k ≤ n) : ∀ (u j : Nat) {g sp : Nat → Option (List Nat)} {pd : Nat → Nat → Prop} {IC IL : Nat → Int32} {IS : Nat → Int64} {IT SC SL : Nat → Int32} {SS : Nat → Int64}, j ≤ 224 → 224 - j < u → j ≤ xs_n IT k 224 →
    xm_m sy nr tk n w lm g IT sp pd → xm_c sy nr tk n w lm k g IT sp pd → xr_c w g sp IC IL IS SC SL SS →
    (∀ g' sp' pd' IC' IL' IS' IT' SC' SL' SS', xm_m sy nr tk n w lm g' IT' sp' pd' → xm_c sy nr tk n w lm k g' IT' sp' pd' → xr_c w g' sp' IC' IL' IS' SC' SL' SS' → (∀ o r d l, ¬ xm_w k g' IT' o r d l) → (∀ o N, pd o N → pd' o N) → post (nI ci, nI cd, nI cr, nI lm, nI nr, nI s, nI n, fs, fr, fo, fp, gc, gl, gs, R, ml, T, ok, os, rp, IC', IL', IS', IT', SC', SL', SS')) →
    wX_closeSet_2 post (nI k) u (nI j) (nI ci) (nI cd) (nI cr) (nI lm) (nI nr) (nI s) (nI n) fs fr fo fp gc gl gs R ml T ok os rp IC IL IS IT SC SL SS
  | 0, _, _, _, _, _, _, _, _, _, _, _, _, h, _, _, _, _, _ => by omega
  | u + 1, j, g, sp, pd, IC, IL, IS, IT, SC, SL, SS, hj, hu, hn, M, C, H, K => by
    have hn6 := L.1.2.1
    unfold wX_closeSet_2
    refine pk_le 224 j (fun le => ?_) fun gt => ?_
    · refine K g sp pd IC IL IS IT SC SL SS M C H (fun o r d l q => ?_) (fun _ _ z => z)
      have e : j = 224 := by omega
      subst e
      have hb := q.1
      refine xs_full hn (o * 32 + r * 4 + d) ?_ ?_
      · unfold xm_b at hb
        omega
      · have := q.2.2
        unfold xm_x at this
        rw [← Nat.add_assoc, ← Nat.add_assoc]
        exact this
    · refine xw_best L M H hk (fun no => br_t rfl (K g sp pd IC IL IS IT SC SL SS M C H no (fun _ _ z => z))) fun o r d l hl hm => ?_
      have hx := xm_x_lt hl.1
      refine br_f (xr_m1 (by omega)) (xw_settle L hk M C H hl hm fun g' sp' pd' IC' IL' IS' SC' SL' SS' a b c e => ?_)
      dsimp only
      refine nm_r (nI_1 j) (xw_cl2 L hk u (j + 1) (by omega) (by omega) ?_ a b c fun g2 sp2 pd2 IC2 IL2 IS2 IT2 SC2 SL2 SS2 a2 b2 c2 d2 e2 => ?_)
      · have hb := hl.1
        have z := hl.2.2
        unfold xm_b at hb
        have ex : xm_x k o r d = k * 224 + (o * 32 + r * 4 + d) := by unfold xm_x; omega
        rw [ex] at z ⊢
        rw [(xs_upd z).1 (by omega)]
        omega
      · exact K g2 sp2 pd2 IC2 IL2 IS2 IT2 SC2 SL2 SS2 a2 b2 c2 d2 (fun o N z => e2 _ _ (e _ _ z))
theorem xw_close {post : SX → Prop} (L : xl sy tk w R T ci cd cr lm nr n) (hk : k ≤ n) {g sp : Nat → Option (List Nat)} {pd : Nat → Nat → Prop}
    (M : xm_m sy nr tk n w lm g IT sp pd) (C : xm_c sy nr tk n w lm k g IT sp pd) (H : xr_c w g sp IC IL IS SC SL SS)
    (K : ∀ g' sp' pd' IC' IL' IS' IT' SC' SL' SS', xm_m sy nr tk n w lm g' IT' sp' pd' → xm_c sy nr tk n w lm k g' IT' sp' pd' → xr_c w g' sp' IC' IL' IS' SC' SL' SS' → (∀ o r d l, ¬ xm_w k g' IT' o r d l) → (∀ o N, pd o N → pd' o N) → post (nI ci, nI cd, nI cr, nI lm, nI nr, nI s, nI n, fs, fr, fo, fp, gc, gl, gs, R, ml, T, ok, os, rp, IC', IL', IS', IT', SC', SL', SS')) :
    wpX_closeSet post (nI ci, nI cd, nI cr, nI lm, nI nr, nI s, nI n, fs, fr, fo, fp, gc, gl, gs, R, ml, T, ok, os, rp, IC, IL, IS, IT, SC, SL, SS) (nI k) :=
  ⟨225, xw_cl2 L hk 225 0 (by omega) (by omega) (Nat.zero_le _) M C H K⟩
theorem xw_cc31 {post : SX → Prop} : ∀ (u j : Nat) {SC : Nat → Int32}, j ≤ 196 → 196 - j < u → (∀ i, i < j → SC i = -1) →
    (∀ SC', (∀ i, i < 196 → SC' i = -1) → post (nI ci, nI cd, nI cr, nI lm, nI nr, nI s, nI n, fs, fr, fo, fp, -1, 0, 0, R, ml, T, ok, os, rp, IC, IL, IS, IT, SC', SL, SS)) → wX_clearChart_31 post (nI ci) (nI cd) (nI cr) (nI lm) (nI nr) (nI s) (nI n) fs fr fo fp gc gl gs u (nI j) R ml T ok os rp IC IL IS IT SC SL SS
  | 0, _, _, _, h, _, _ => by omega
  | u + 1, j, SC, hj, hu, hs, K => by
    unfold wX_clearChart_31
    refine pk_le 196 j (fun le => ?_) fun gt => ⟨pk_in j 196 gt, nm_e (nm_r (nI_1 j) ?_)⟩
    · exact K SC fun i hi => hs i (by omega)
    · rw [nI_clamp (by omega)]
      refine xw_cc31 u (j + 1) (by omega) (by omega) (fun i hi => ?_) K
      by_cases z : i = j
      · subst z
        exact pk_us
      · rw [pk_un z]
        exact hs i (by omega)
theorem xw_cc2 {post : SX → Prop} : ∀ (u j : Nat) {IC IT : Nat → Int32}, j ≤ 1568 → 1568 - j < u → (∀ i, i < j → IC i = -1 ∧ IT i = 0) →
    (∀ IC' IT' SC', (∀ i, i < 1568 → IC' i = -1 ∧ IT' i = 0) → (∀ i, i < 196 → SC' i = -1) → post (nI ci, nI cd, nI cr, nI lm, nI nr, nI s, nI n, fs, fr, fo, fp, -1, 0, 0, R, ml, T, ok, os, rp, IC', IL, IS, IT', SC', SL, SS)) → wX_clearChart_2 post (nI ci) (nI cd) (nI cr) (nI lm) (nI nr) (nI s) (nI n) fs fr fo fp gc gl gs u (nI j) R ml T ok os rp IC IL IS IT SC SL SS
  | 0, _, _, _, _, h, _, _ => by omega
  | u + 1, j, IC, IT, hj, hu, hs, K => by
    unfold wX_clearChart_2
    refine pk_le 1568 j (fun le => ?_) fun gt => ⟨pk_in j 1568 gt, nm_e ⟨pk_in j 1568 gt, nm_e (nm_r (nI_1 j) ?_)⟩⟩
    · exact ⟨197, xw_cc31 197 0 (by omega) (by omega) (fun i hi => by omega) fun SC' h => K IC IT SC' (fun i hi => hs i (by omega)) h⟩
    · rw [nI_clamp (by omega), xw_nb0]
      refine xw_cc2 u (j + 1) (by omega) (by omega) (fun i hi => ?_) K
      by_cases z : i = j
      · subst z
        exact ⟨pk_us, pk_us⟩
      · rw [pk_un z, pk_un z]
        exact hs i (by omega)
theorem xw_clear {post : SX → Prop} (K : ∀ IC' IT' SC', (∀ i, i < 1568 → IC' i = -1 ∧ IT' i = 0) → (∀ i, i < 196 → SC' i = -1) → post (nI ci, nI cd, nI cr, nI lm, nI nr, nI s, nI n, fs, fr, fo, fp, -1, 0, 0, R, ml, T, ok, os, rp, IC', IL, IS, IT', SC', SL, SS)) : wpX_clearChart post (nI ci, nI cd, nI cr, nI lm, nI nr, nI s, nI n, fs, fr, fo, fp, gc, gl, gs, R, ml, T, ok, os, rp, IC, IL, IS, IT, SC, SL, SS) :=
  ⟨1569, xw_cc2 1569 0 (by omega) (by omega) (fun i hi => by omega) K⟩
theorem xw_g145 {post : SX → Prop} {g sp : Nat → Option (List Nat)} {y : Nat} {l : List Nat} (hy : y < 196) (H : xr_c w g sp IC IL IS SC SL SS) (e : sp y = some l)
    (K : ∀ gc' gl' gs', xr_v w (some l) gc' gl' gs' → post (nI ci, nI cd, nI cr, nI lm, nI nr, nI s, nI n, fs, fr, fo, fp, gc', gl', gs', R, ml, T, ok, os, rp, IC, IL, IS, IT, SC, SL, SS)) : wX_updateGoal_145 post (nI y) (nI (sc_c w l)) (nI ci) (nI cd) (nI cr) (nI lm) (nI nr) (nI s) (nI n) fs fr fo fp gc gl gs R ml T ok os rp IC IL IS IT SC SL SS := by
  obtain ⟨q1, q2, q3⟩ := (H.2 _ hy).2 l e
  unfold wX_updateGoal_145
  rw [nI_clamp (by omega), q2, q3]
  refine ⟨pk_in y 196 hy, nm_e ⟨pk_in y 196 hy, nm_e (K _ _ _ ⟨(fun z => by cases z), (fun a z => by cases z; exact ⟨rfl, rfl, rfl⟩)⟩)⟩⟩
theorem xw_g81 {post : SX → Prop} (L : xl sy tk w R T ci cd cr lm nr n) (hk : k ≤ n) (hs : 6 ≤ s ∧ s ≤ 9) {g sp : Nat → Option (List Nat)} (H : xr_c w g sp IC IL IS SC SL SS) {P Q : List Nat → Prop} {go : Option (List Nat)}
    (hP : ∀ l, P l → sc_v l) (hQ : ∀ l, Q l → sc_v l) (B : xm_bst w lm P go) (S : xm_bst w lm Q (sp (xm_y k 0 s))) (V : xr_v w go gc gl gs)
    (K : ∀ go' gc' gl' gs', xr_v w go' gc' gl' gs' → xm_bst w lm (fun l => P l ∨ Q l) go' → post (nI ci, nI cd, nI cr, nI lm, nI nr, nI s, nI n, fs, fr, fo, fp, gc', gl', gs', R, ml, T, ok, os, rp, IC, IL, IS, IT, SC, SL, SS)) : wX_updateGoal_81 post (nI k) (nI ci) (nI cd) (nI cr) (nI lm) (nI nr) (nI s) (nI n) fs fr fo fp gc gl gs R ml T ok os rp IC IL IS IT SC SL SS := by
  have hn6 := L.1.2.1
  have lm9 := L.2.2.1
  have hy : xm_y k 0 s < 196 := xm_y_lt ⟨by omega, by omega, hs.1, hs.2⟩
  have hin : vp_in (nI (xm_y k 0 s)) 196 := pk_in _ 196 hy
  unfold wX_updateGoal_81
  refine nm_r (e' := nI (xm_y k 0 s)) ?_ ?_
  · rw [show (28 : Int32) = nI 28 from rfl, show (6 : Int32) = nI 6 from rfl, pk_mul, pk_sub hs.1, nI_add]
    exact congrArg nI (by unfold xm_y; omega)
  · rw [nI_clamp (by omega)]
    refine ⟨hin, nm_e ?_⟩
    cases es : sp (xm_y k 0 s) with
    | none =>
      rw [es] at S
      rw [(H.2 _ hy).1 es]
      exact br_t rfl (K go gc gl gs V (xm_bst_2 B S (Or.inl ⟨rfl, rfl⟩)))
    | some l =>
      rw [es] at S
      obtain ⟨q1, q2, q3⟩ := (H.2 _ hy).2 l es
      obtain ⟨s1, s2⟩ := S.1 l rfl
      have p1 := sc_p63 (hQ _ s1)
      rw [q1, q3]
      refine br_f (xr_m1 (by omega)) ?_
      cases go with
      | none =>
        rw [V.1 rfl]
        exact br_t rfl (xw_g145 hy H es fun gc' gl' gs' v => K (some l) gc' gl' gs' v (xm_bst_2 B S (Or.inr ⟨l, rfl, Or.inl ⟨rfl, Or.inl rfl⟩⟩)))
      | some l0 =>
        obtain ⟨v1, v2, v3⟩ := V.2 l0 rfl
        obtain ⟨b1, b2⟩ := B.1 l0 rfl
        have p0 := sc_p63 (hP _ b1)
        subst v1
        subst v3
        refine br_f (xr_m1 (by omega)) (pk_lt _ _ (fun lt => ?_) fun ge => pk_eq _ _ (fun eq => ⟨hin, ?_⟩) fun ne => ?_)
        · exact xw_g145 hy H es fun gc' gl' gs' v => K (some l) gc' gl' gs' v (xm_bst_2 B S (Or.inr ⟨l, rfl, Or.inl ⟨rfl, Or.inr ⟨l0, rfl, Or.inl lt⟩⟩⟩))
        · rw [pk_lLE p0 p1]
          refine ⟨fun le => ?_, fun nle => ?_⟩
          · exact K (some l0) _ _ _ V (xm_bst_2 B S (Or.inr ⟨l, rfl, Or.inr ⟨rfl, l0, rfl, Or.inr ⟨eq.symm, le⟩⟩⟩))
          · exact xw_g145 hy H es fun gc' gl' gs' v => K (some l) gc' gl' gs' v (xm_bst_2 B S (Or.inr ⟨l, rfl, Or.inl ⟨rfl, Or.inr ⟨l0, rfl, Or.inr ⟨eq, by omega⟩⟩⟩⟩))
        · exact K (some l0) _ _ _ V (xm_bst_2 B S (Or.inr ⟨l, rfl, Or.inr ⟨rfl, l0, rfl, Or.inl (by omega)⟩⟩))
theorem xw_goal {post : SX → Prop} (L : xl sy tk w R T ci cd cr lm nr n) (hk : k ≤ n) (hs : 6 ≤ s ∧ s ≤ 9) {g sp : Nat → Option (List Nat)} (H : xr_c w g sp IC IL IS SC SL SS) {P Q : List Nat → Prop} {go : Option (List Nat)} {q : Nat} (hq : q < 6)
    (hP : ∀ l, P l → sc_v l ∧ sc_u l = q) (hQ : ∀ l, Q l → sc_v l) (B : xm_bst w lm P go) (S : xm_bst w lm Q (sp (xm_y k 0 s))) (V : xr_v w go gc gl gs)
    (K : ∀ go' gc' gl' gs', xr_v w go' gc' gl' gs' → xm_bst w lm (fun l => (∃ l0, l = l0 ++ [2] ∧ P l0) ∨ Q l) go' → post (nI ci, nI cd, nI cr, nI lm, nI nr, nI s, nI n, fs, fr, fo, fp, gc', gl', gs', R, ml, T, ok, os, rp, IC, IL, IS, IT, SC, SL, SS)) : wpX_updateGoal post (nI ci, nI cd, nI cr, nI lm, nI nr, nI s, nI n, fs, fr, fo, fp, gc, gl, gs, R, ml, T, ok, os, rp, IC, IL, IS, IT, SC, SL, SS) (nI k) := by
  have hn6 := L.1.2.1
  have lm9 := L.2.2.1
  have hw2 := (xl_w L).2.1
  have hP' : ∀ l, (∃ l0, l = l0 ++ [2] ∧ P l0) → sc_v l := by
    rintro l ⟨l0, rfl, h0⟩
    exact sc_v_app (hP l0 h0).1 (sc_v_1 (by omega) (by omega))
  unfold wpX_updateGoal
  dsimp only
  cases go with
  | none =>
    have B' := xm_bst_d L.2.1 lm9 hq hP B (go' := none) (fun _ => rfl) (fun l z => by cases z)
    rw [V.1 rfl]
    exact br_t rfl (xw_g81 L hk hs H hP' hQ B' S ⟨(fun _ => rfl), (fun a z => by cases z)⟩ K)
  | some l0 =>
    obtain ⟨v1, v2, v3⟩ := V.2 l0 rfl
    obtain ⟨b1, b2⟩ := B.1 l0 rfl
    obtain ⟨b3, b4⟩ := hP _ b1
    have ll := sc_len L.2.1 b3
    subst v1
    subst v2
    subst v3
    refine br_f (xr_m1 (by omega)) (nm_r (nI_add _ _) (pk_le _ _ (fun le => ?_) fun gt => ?_))
    · have e1 : (56 : Int32) - 4 * nI l0.length = nI (56 - 4 * l0.length) := by
        rw [show (4 : Int32) = nI 4 from rfl, show (56 : Int32) = nI 56 from rfl, pk_mul, pk_sub (by omega)]
      have e2 : lN (sc_p 15 l0) ||| ((2 : Int64) <<< ((56 - 4 * nI l0.length).toInt64 &&& 63)) = lN (sc_p 15 (l0 ++ [2])) := by
        rw [e1]
        exact sc_or1 (x := 2) b3 (by omega) (by omega)
      have B' := xm_bst_d L.2.1 lm9 hq hP B (go' := some (l0 ++ [2])) (fun z => by cases z) (fun l z => by cases z; exact ⟨fun _ => rfl, fun z => by omega⟩)
      refine nm_r e2 (nm_r (nI_1 _) (xw_g81 L hk hs H hP' hQ B' S ⟨(fun z => by cases z), (fun a z => ?_)⟩ K))
      cases z
      refine ⟨?_, ?_, rfl⟩
      · rw [sc_c_app, sc_c_1, hw2.1]
      · rw [List.length_append, List.length_singleton]
    · have B' := xm_bst_d L.2.1 lm9 hq hP B (go' := none) (fun z => by cases z) (fun l z => by cases z; exact ⟨fun z => by omega, fun _ => rfl⟩)
      exact xw_g81 L hk hs H hP' hQ B' S ⟨(fun _ => rfl), (fun a z => by cases z)⟩ K
end
end
section
/-! unpackGoal and parse -/
def rs_u (l : List Nat) : Nat → Nat
  | 0 => 0
  | i + 1 => rs_u l i + (if l.getD i 0 < 9 then 1 else 0)
def rs_c (l : List Nat) : Nat → Nat
  | 0 => 0
  | i + 1 => rs_c l i + (if l.getD i 0 = 2 then 0 else 1)
def rs_k (x : Nat) : Nat := if 9 ≤ x then 4 else if 3 ≤ x then 3 else x
def rs_s (T : Nat → Int32) (l : List Nat) (i : Nat) : Int32 := if 9 ≤ l.getD i 0 then nI (l.getD i 0 - 9) else if 3 ≤ l.getD i 0 then nI (l.getD i 0 - 3) else T (rs_u l i)
def rs_r (T : Nat → Int32) (l : List Nat) (m : Nat) (ok os rp : Nat → Int32) : Prop :=
  ∀ i, i < m → ok i = nI (rs_k (l.getD i 0)) ∧ os i = rs_s T l i ∧ (l.getD i 0 ≠ 2 → rp (rs_c l i) = rs_s T l i)
theorem rs_u_cons (x : Nat) (l : List Nat) : ∀ i, rs_u (x :: l) (i + 1) = (if x < 9 then 1 else 0) + rs_u l i
  | 0 => by simp [rs_u]
  | i + 1 => by
    rw [rs_u, rs_u_cons x l i, rs_u]
    simp only [List.getD_cons_succ]
    omega
theorem rs_u_all : ∀ l : List Nat, rs_u l l.length = sc_u l
  | [] => rfl
  | x :: l => by rw [List.length_cons, rs_u_cons, rs_u_all l, sc_u]
theorem rs_u_mono (l : List Nat) {i j : Nat} (h : i ≤ j) : rs_u l i ≤ rs_u l j := by
  obtain ⟨e, rfl⟩ : ∃ e, j = i + e := ⟨j - i, by omega⟩
  clear h
  induction e with
  | zero => exact Nat.le_refl _
  | succ e ih => rw [← Nat.add_assoc, rs_u]; omega
theorem rs_c_mono (l : List Nat) {i j : Nat} (h : i ≤ j) : rs_c l i ≤ rs_c l j := by
  obtain ⟨e, rfl⟩ : ∃ e, j = i + e := ⟨j - i, by omega⟩
  clear h
  induction e with
  | zero => exact Nat.le_refl _
  | succ e ih => rw [← Nat.add_assoc, rs_c]; omega
theorem rs_c_le (l : List Nat) : ∀ i, rs_c l i ≤ i
  | 0 => Nat.le_refl _
  | i + 1 => by
    have := rs_c_le l i
    rw [rs_c]
    split <;> omega
theorem rs_u_lt {l : List Nat} {n i : Nat} (hu : sc_u l = n) (hi : i < l.length) (h9 : l.getD i 0 < 9) : rs_u l i < n := by
  have a := rs_u_mono l (show i + 1 ≤ l.length from hi)
  rw [rs_u_all, hu, rs_u, if_pos h9] at a
  omega
section
variable {ci cd cr lm nr s n : Nat} {fs fr fo fp gc gl : Int32} {gs : Int64} {R ml T ok os rp IC IL : Nat → Int32} {IS : Nat → Int64} {IT SC SL : Nat → Int32} {SS : Nat → Int64}
theorem xu_142 {post : SX → Prop} {J : Int32 → Int32 → Int32 → Int32 → (Nat → Int32) → (Nat → Int32) → (Nat → Int32) → (Nat → Int32) → (Nat → Int32) → (Nat → Int32) → (Nat → Int32) → (Nat → Int32) → (Nat → Int64) → (Nat → Int32) → (Nat → Int32) → (Nat → Int32) → (Nat → Int64) → Prop} {i : Nat} {kd sv x1 : Int32} (hi : i < 15)
    (K : J x1 (nI (i + 1)) (nI (i + 1)) fp R ml T (upd ok i kd) (upd os i sv) rp IC IL IS IT SC SL SS) : wX_unpackGoal_142 post J x1 (nI i) kd sv (nI ci) (nI cd) (nI cr) (nI lm) (nI nr) (nI s) (nI n) fs fr (nI i) fp gc gl gs R ml T ok os rp IC IL IS IT SC SL SS := by
  unfold wX_unpackGoal_142
  rw [nI_clamp (by omega)]
  exact ⟨pk_in i 15 hi, nm_e ⟨pk_in i 15 hi, nm_e (nm_r (nI_1 i) (nm_r (nI_1 i) K))⟩⟩
theorem xu_106 {post : SX → Prop} {J : Int32 → Int32 → Int32 → Int32 → (Nat → Int32) → (Nat → Int32) → (Nat → Int32) → (Nat → Int32) → (Nat → Int32) → (Nat → Int32) → (Nat → Int32) → (Nat → Int32) → (Nat → Int64) → (Nat → Int32) → (Nat → Int32) → (Nat → Int32) → (Nat → Int64) → Prop} {l : List Nat} {i : Nat} (hi : i < l.length) (h15 : l.length ≤ 15) (hv : sc_v l) {kd : Nat} (hkd : kd = rs_k (l.getD i 0)) {sv : Int32} (hsv : sv = rs_s T l i)
    (H : rs_r T l i ok os rp)
    (K : ∀ ok' os' rp', rs_r T l (i + 1) ok' os' rp' → J (nI (rs_u l (i + 1))) (nI (i + 1)) (nI (i + 1)) (nI (rs_c l (i + 1))) R ml T ok' os' rp' IC IL IS IT SC SL SS) :
    wX_unpackGoal_106 post J (nI (rs_u l i)) (nI i) (nI kd) sv (nI ci) (nI cd) (nI cr) (nI lm) (nI nr) (nI s) (nI n) fs fr (nI i) (nI (rs_c l i)) gc gl gs R ml T ok os rp IC IL IS IT SC SL SS := by
  have hx := sc_getD hv hi
  have c15 := rs_c_le l i
  have k4 : kd = 4 ↔ 9 ≤ l.getD i 0 := by
    subst hkd
    unfold rs_k
    split
    · omega
    · split <;> omega
  have k2 : kd = 2 ↔ l.getD i 0 = 2 := by
    subst hkd
    unfold rs_k
    split
    · omega
    · split <;> omega
  have kle : kd ≤ 4 := by
    subst hkd
    unfold rs_k
    split
    · omega
    · split <;> omega
  have W : wX_unpackGoal_115 post J (nI (rs_u l (i + 1))) (nI i) (nI kd) sv (nI ci) (nI cd) (nI cr) (nI lm) (nI nr) (nI s) (nI n) fs fr (nI i) (nI (rs_c l i)) gc gl gs R ml T ok os rp IC IL IS IT SC SL SS := by
    unfold wX_unpackGoal_115
    refine pk_eq kd 2 (fun eq => ?_) fun ne => ⟨pk_in _ 15 (by omega : rs_c l i < 15), nm_e (nm_r (nI_1 _) ?_)⟩
    · refine xu_142 (by omega) ?_
      have e : rs_c l (i + 1) = rs_c l i := by rw [rs_c, if_pos (k2.mp eq)]; omega
      rw [← e]
      refine K _ _ rp fun j hj => ?_
      by_cases z : j = i
      · subst z
        rw [pk_us, pk_us]
        exact ⟨by rw [hkd], hsv, fun q => absurd (k2.mp eq) q⟩
      · rw [pk_un z, pk_un z]
        exact H j (by omega)
    · rw [nI_clamp (by omega)]
      refine xu_142 (by omega) ?_
      have e : rs_c l (i + 1) = rs_c l i + 1 := by rw [rs_c, if_neg (fun q => ne (k2.mpr q))]
      rw [← e]
      refine K _ _ _ fun j hj => ?_
      by_cases z : j = i
      · subst z
        rw [pk_us, pk_us, pk_us]
        exact ⟨by rw [hkd], hsv, fun _ => hsv⟩
      · rw [pk_un z, pk_un z]
        obtain ⟨a, b, c⟩ := H j (by omega)
        refine ⟨a, b, fun q => ?_⟩
        have m := rs_c_mono l (show j + 1 ≤ i by omega)
        rw [rs_c, if_neg q] at m
        rw [pk_un (by omega)]
        exact c q
  unfold wX_unpackGoal_106
  refine pk_eq kd 4 (fun eq => ?_) fun ne => nm_r (nI_1 _) ?_
  · have e : rs_u l (i + 1) = rs_u l i := by
      have := k4.mp eq
      rw [rs_u, if_neg (by omega)]; omega
    rw [e] at W
    exact W
  · have e : rs_u l (i + 1) = rs_u l i + 1 := by
      have : ¬ 9 ≤ l.getD i 0 := fun q => ne (k4.mpr q)
      rw [rs_u, if_pos (by omega)]
    rw [e] at W
    exact W
theorem xu_tok {post : Int32 → Prop} {i : Nat} (hi : i < n) (hn : n ≤ 6) (K : post (T i)) : wpX_tokenAt post (nI ci, nI cd, nI cr, nI lm, nI nr, nI s, nI n, fs, fr, fo, fp, gc, gl, gs, R, ml, T, ok, os, rp, IC, IL, IS, IT, SC, SL, SS) (nI i) := by
  unfold wpX_tokenAt
  dsimp only
  refine br_f (nI_pos (by omega)) (br_t (nI_lt hi (by omega)) ⟨pk_in i 6 (by omega), ?_⟩)
  rw [nI_clamp (by omega)]
  exact K
theorem xu_22 {post : SX → Prop} {l : List Nat} (hn : n ≤ 6) (h15 : l.length ≤ 15) (hv : sc_v l) (hu : sc_u l = n) : ∀ (u i : Nat) {ok os rp : Nat → Int32}, i ≤ l.length → l.length - i < u → rs_r T l i ok os rp →
    (∀ ok' os' rp', rs_r T l l.length ok' os' rp' → post (nI ci, nI cd, nI cr, nI lm, nI nr, nI s, nI n, fs, fr, nI l.length, nI (rs_c l l.length), gc, nI l.length, lN (sc_p 15 l), R, ml, T, ok', os', rp', IC, IL, IS, IT, SC, SL, SS)) →
    wX_unpackGoal_22 post (nI ci) (nI cd) (nI cr) (nI lm) (nI nr) (nI s) (nI n) fs fr gc (nI l.length) (lN (sc_p 15 l)) u (nI (rs_u l i)) (nI i) (nI i) (nI (rs_c l i)) R ml T ok os rp IC IL IS IT SC SL SS
  | 0, _, _, _, _, _, h, _, _ => by omega
  | u + 1, i, ok, os, rp, hi, hu2, H, K => by
    unfold wX_unpackGoal_22
    refine pk_le l.length i (fun le => ?_) fun gt => pk_le 15 i (fun le => by omega) fun gt15 => nm_r (e' := nI (l.getD i 0)) ?_ ?_
    · have e : i = l.length := by omega
      subst e
      exact K _ _ _ H
    · have e1 : (56 : Int32) - 4 * nI i = nI (4 * (14 - i)) := by
        rw [show (4 : Int32) = nI 4 from rfl, show (56 : Int32) = nI 56 from rfl, pk_mul, pk_sub (by omega)]
        exact congrArg nI (by omega)
      rw [e1]
      exact sc_rku hv gt15
    · have hx := sc_getD hv gt
      have G := fun {kd : Nat} {sv : Int32} (a : kd = rs_k (l.getD i 0)) (b : sv = rs_s T l i) => xu_106 (post := post) (fs := fs) (fr := fr) (gc := gc) (gl := nI l.length) (gs := lN (sc_p 15 l)) (ci := ci) (cd := cd) (cr := cr) (lm := lm) (nr := nr) (s := s) (n := n) (R := R) (ml := ml) (IC := IC) (IL := IL) (IS := IS) (IT := IT) (SC := SC) (SL := SL) (SS := SS) gt h15 hv a b H
        (J := wX_unpackGoal_22 post (nI ci) (nI cd) (nI cr) (nI lm) (nI nr) (nI s) (nI n) fs fr gc (nI l.length) (lN (sc_p 15 l)) u) fun ok' os' rp' h => xu_22 hn h15 hv hu u (i + 1) gt (by omega) h K
      refine pk_lt _ 9 (fun lt9 => pk_lt _ 3 (fun lt3 => ?_) fun ge3 => nm_r (e' := nI (l.getD i 0 - 3)) ?_ ?_) fun ge9 => nm_r (e' := nI (l.getD i 0 - 9)) ?_ ?_
      · have es : T (rs_u l i) = rs_s T l i := by
          unfold rs_s
          rw [if_neg (by omega), if_neg (by omega)]
        have ek : l.getD i 0 = rs_k (l.getD i 0) := by
          unfold rs_k
          rw [if_neg (by omega), if_neg (by omega)]
        refine pk_eq _ 2 (fun eq => ?_) fun ne => ?_
        · unfold wX_unpackGoal_97
          exact xu_tok (rs_u_lt hu gt lt9) hn (G (kd := 2) (by omega) es)
        · unfold wX_unpackGoal_97
          exact xu_tok (rs_u_lt hu gt lt9) hn (G (kd := 1) (by omega) es)
      · exact pk_sub ge3
      · refine G (kd := 3) ?_ ?_
        · unfold rs_k
          rw [if_neg (by omega), if_pos ge3]
        · unfold rs_s
          rw [if_neg (by omega), if_pos ge3]
      · exact pk_sub ge9
      · refine G (kd := 4) ?_ ?_
        · unfold rs_k
          rw [if_pos ge9]
        · unfold rs_s
          rw [if_pos ge9]
theorem xu_unpack {post : SX → Prop} {l : List Nat} (hn : n ≤ 6) (h15 : l.length ≤ 15) (hv : sc_v l) (hu : sc_u l = n)
    (K : ∀ ok' os' rp', rs_r T l l.length ok' os' rp' → post (nI ci, nI cd, nI cr, nI lm, nI nr, nI s, nI n, fs, gc, nI l.length, nI (rs_c l l.length), gc, nI l.length, lN (sc_p 15 l), R, ml, T, ok', os', rp', IC, IL, IS, IT, SC, SL, SS)) :
    wpX_unpackGoal post (nI ci, nI cd, nI cr, nI lm, nI nr, nI s, nI n, fs, fr, fo, fp, gc, nI l.length, lN (sc_p 15 l), R, ml, T, ok, os, rp, IC, IL, IS, IT, SC, SL, SS) :=
  ⟨l.length + 1, xu_22 hn h15 hv hu (l.length + 1) 0 (by omega) (by omega) (fun i hi => by omega) K⟩
end
end
section
/-! parse of the component -/
section
variable {sy : Nat → Nat → Nat} {nr : Nat} {tk w : Nat → Nat} {n : Nat}
theorem xp_gs {s k : Nat} {l : List Nat} (h : xm_gs (fun k l => xd_N sy nr tk n s 0 k l) k l) : sc_v l ∧ sc_u l = k - 1 := by
  obtain ⟨m, l', h1, rfl, r, d, _, _, h2⟩ := xm_gs_1 h
  obtain ⟨_, _, _, _, a, b, _⟩ := xd_facts h2
  refine ⟨sc_v_app a (sc_v_rep _), ?_⟩
  rw [sc_u_app, sc_u_rep]
  omega
theorem xp_N {N o k : Nat} {l : List Nat} (h : xd_N sy nr tk n N o k l) : sc_v l ∧ sc_u l = k - o := by
  obtain ⟨r, d, _, _, h2⟩ := h
  obtain ⟨_, _, _, _, a, b, _⟩ := xd_facts h2
  exact ⟨a, b⟩
end
section
variable {ci cd cr lm nr s n : Nat} {fs fr fo fp gc gl : Int32} {gs : Int64} {R ml T ok os rp IC IL : Nat → Int32} {IS : Nat → Int64} {IT SC SL : Nat → Int32} {SS : Nat → Int64}
variable {sy : Nat → Nat → Nat} {tk w : Nat → Nat}
theorem xp_45 {post : Int32 → SX → Prop} (L : xl sy tk w R T ci cd cr lm nr n) (hs : 6 ≤ s ∧ s ≤ 9)
    (K1 : xm_bst w lm (xm_gs (fun k l => xd_N sy nr tk n s 0 k l) (n + 1)) none → ∀ gc gl gs IC IL IS IT SC SL SS, post 3 (nI ci, nI cd, nI cr, nI lm, nI nr, nI s, nI n, 3, fr, fo, fp, gc, gl, gs, R, ml, T, ok, os, rp, IC, IL, IS, IT, SC, SL, SS))
    (K2 : ∀ l, xm_bst w lm (xm_gs (fun k l => xd_N sy nr tk n s 0 k l) (n + 1)) (some l) → ∀ st ok os rp, (sc_c w l = 0 → st = 1) → (¬ sc_c w l = 0 → st = 2) → rs_r T l l.length ok os rp → ∀ gc gl gs IC IL IS IT SC SL SS, post st (nI ci, nI cd, nI cr, nI lm, nI nr, nI s, nI n, st, nI (sc_c w l), nI l.length, nI (rs_c l l.length), gc, gl, gs, R, ml, T, ok, os, rp, IC, IL, IS, IT, SC, SL, SS)) :
    ∀ (u k : Nat) {g sp : Nat → Option (List Nat)} {pd : Nat → Nat → Prop} {go : Option (List Nat)} {gc gl : Int32} {gs : Int64} {IC IL : Nat → Int32} {IS : Nat → Int64} {IT SC SL : Nat → Int32} {SS : Nat → Int64}, k ≤ n + 1 → n + 1 - k < u → (k ≤ n → xm_c sy nr tk n w lm k g IT sp pd) →
    xm_m sy nr tk n w lm g IT sp pd → xr_c w g sp IC IL IS SC SL SS → pd 0 s → xm_bst w lm (xm_gs (fun k l => xd_N sy nr tk n s 0 k l) k) go → xr_v w go gc gl gs →
    wX_parse_45 post u (nI k) (nI ci) (nI cd) (nI cr) (nI lm) (nI nr) (nI s) (nI n) fs fr fo fp gc gl gs R ml T ok os rp IC IL IS IT SC SL SS
  | 0, _, _, _, _, _, _, _, _, _, _, _, _, _, _, _, _, h, _, _, _, _, _, _ => by omega
  | u + 1, k, g, sp, pd, go, gc, gl, gs, IC, IL, IS, IT, SC, SL, SS, hk, hu, C, M, H, hp, B, V => by
    have hn6 := L.1.2.1
    have lm9 := L.2.2.1
    unfold wX_parse_45
    refine pk_lt n k (fun lt => ?_) fun ge => ?_
    · have e : k = n + 1 := by omega
      subst e
      cases go with
      | none =>
        rw [V.1 rfl]
        exact br_t rfl (K1 B _ _ _ _ _ _ _ _ _ _)
      | some l =>
        obtain ⟨v1, v2, v3⟩ := V.2 l rfl
        obtain ⟨b1, b2⟩ := B.1 l rfl
        obtain ⟨b3, b4⟩ := xp_gs b1
        have ll := sc_len L.2.1 b3
        subst v1
        subst v2
        subst v3
        refine br_f (xr_m1 (by omega)) (xu_unpack hn6 (by omega) b3 (by omega) fun ok' os' rp' h => ?_)
        dsimp only
        refine pk_eq (sc_c w l) 0 (fun eq => ?_) fun ne => ?_
        · exact K2 l B 1 ok' os' rp' (fun _ => rfl) (fun z => absurd eq z) h _ _ _ _ _ _ _ _ _ _
        · exact K2 l B 2 ok' os' rp' (fun z => absurd z ne) (fun _ => rfl) h _ _ _ _ _ _ _ _ _ _
    · refine xw_close L ge M (C ge) H fun g' sp' pd' IC' IL' IS' IT' SC' SL' SS' a b c no mono => ?_
      dsimp only
      have hyb : k ≤ 6 ∧ 0 ≤ 6 ∧ 6 ≤ s ∧ s ≤ 9 := ⟨by omega, by omega, hs.1, hs.2⟩
      have S : xm_bst w lm (fun l => xd_N sy nr tk n s 0 k l) (sp' (xm_y k 0 s)) := by
        refine ⟨fun l e => ?_, fun l hl hc => ?_⟩
        · obtain ⟨q1, q2, _⟩ := a.2.2 _ _ _ _ hyb e
          exact ⟨q1, q2⟩
        · exact xm_full L.1 L.2.1 lm9 a b no (mono _ _ hp) hl hc
      refine xw_goal (q := k - 1) L ge hs c (by omega) (fun l hl => xp_gs hl) (fun l hl => (xp_N hl).1) B S V fun go' gc' gl' gs' v' b' => ?_
      dsimp only
      refine nm_r (nI_1 k) (xp_45 L hs K1 K2 u (k + 1) (by omega) (by omega) (fun _ => xm_set b no) a c (mono _ _ hp) ?_ v')
      exact b'
theorem xp_parse {post : Int32 → SX → Prop} (L : xl sy tk w R T ci cd cr lm nr n) (hs : 6 ≤ s ∧ s ≤ 9)
    (K0 : ml (s - 6) = -1 → post 4 (nI ci, nI cd, nI cr, nI lm, nI nr, nI s, nI n, 4, 0, 0, 0, gc, gl, gs, R, ml, T, ok, os, rp, IC, IL, IS, IT, SC, SL, SS))
    (K1 : ml (s - 6) ≠ -1 → xm_bst w lm (xm_gs (fun k l => xd_N sy nr tk n s 0 k l) (n + 1)) none → ∀ gc gl gs IC IL IS IT SC SL SS, post 3 (nI ci, nI cd, nI cr, nI lm, nI nr, nI s, nI n, 3, 0, 0, 0, gc, gl, gs, R, ml, T, ok, os, rp, IC, IL, IS, IT, SC, SL, SS))
    (K2 : ml (s - 6) ≠ -1 → ∀ l, xm_bst w lm (xm_gs (fun k l => xd_N sy nr tk n s 0 k l) (n + 1)) (some l) → ∀ st ok os rp, (sc_c w l = 0 → st = 1) → (¬ sc_c w l = 0 → st = 2) → rs_r T l l.length ok os rp → ∀ gc gl gs IC IL IS IT SC SL SS, post st (nI ci, nI cd, nI cr, nI lm, nI nr, nI s, nI n, st, nI (sc_c w l), nI l.length, nI (rs_c l l.length), gc, gl, gs, R, ml, T, ok, os, rp, IC, IL, IS, IT, SC, SL, SS)) :
    wpX_parse post (nI ci, nI cd, nI cr, nI lm, nI nr, nI s, nI n, fs, fr, fo, fp, gc, gl, gs, R, ml, T, ok, os, rp, IC, IL, IS, IT, SC, SL, SS) := by
  have e6 : nI s - 6 = nI (s - 6) := pk_sub hs.1
  unfold wpX_parse
  dsimp only
  unfold wpX_dropResult
  dsimp only
  rw [e6, nI_clamp (by omega)]
  refine ⟨pk_in (s - 6) 4 (by omega), br_c K0 fun hne => ?_⟩
  refine xw_clear fun IC' IT' SC' h1 h2 => ?_
  dsimp only
  have H : xr_c w (fun _ => none) (fun _ => none) IC' IL IS SC' SL SS := by
    refine ⟨fun x hx => ⟨fun _ => (h1 x hx).1, (fun a z => by cases z)⟩, fun y hy => ⟨fun _ => h2 y hy, (fun a z => by cases z)⟩⟩
  have z0 : ∀ k o r d, xm_b k o r d → IT' (xm_x k o r d) = 0 := fun k o r d hb => (h1 _ (xm_x_lt hb)).2
  have M : xm_m sy nr tk n w lm (fun _ => none) IT' (fun _ => none) (fun o N => o = 0 ∧ N = s) := by
    refine ⟨(fun k o r d l _ z => by cases z), fun k o r d hb z => absurd (z0 _ _ _ _ hb) z, (fun k o N l _ z => by cases z)⟩
  refine xw_predict (k := 0) L hs (Nat.zero_le _) ⟨rfl, rfl⟩ M H fun g' IC2 IL2 IS2 a b c p => ?_
  dsimp only
  refine ⟨n + 2, xp_45 L hs (K1 hne) (K2 hne) (n + 2) 0 (go := none) (by omega) (by omega) (fun _ => ?_) a b ⟨rfl, rfl⟩ ⟨(fun l z => by cases z), fun l hl => hl.elim⟩ ⟨fun _ => rfl, (fun a z => by cases z)⟩⟩
  refine ⟨fun k o r d hb z => absurd (z0 _ _ _ _ hb) z, fun k o r d hb z => absurd (z0 _ _ _ _ hb) z, fun k o r d l hb z => absurd (z0 _ _ _ _ hb) z, fun k o r d l k2 l2 hb z => absurd (z0 _ _ _ _ hb) z, fun k o r d l hb hk => by omega, fun k o r d hb _ => z0 _ _ _ _ hb, fun _ _ _ _ _ => rfl, ?_⟩
  rintro o N ⟨rfl, rfl⟩ r hr hN
  obtain ⟨l, e, _⟩ := p r hr hN
  exact ⟨l, e⟩
end
end
section
/-! the reference: ranks, lengths, joins, simple scripts, offers -/
section
variable {ci cd cr lm nr s n : Nat} {fs fc : Int32} {fq : Int64} {fh : Int32} {R T sa sh BC : Nat → Int32} {BS : Nat → Int64}
theorem yw_rank {post : Int32 → Prop} {l : List Nat} {k : Nat} (hv : sc_v l) (hk : k < 15) (K : post (nI (l.getD k 0))) : wpY_rankAt post (nI ci, nI cd, nI cr, nI lm, nI nr, nI s, nI n, fs, fc, fq, fh, R, T, sa, sh, BC, BS) (lN (sc_p 15 l)) (nI k) := by
  unfold wpY_rankAt
  dsimp only
  have e1 : (4 : Int32) * (14 - nI k) = nI (4 * (14 - k)) := by
    rw [show (4 : Int32) = nI 4 from rfl, show (14 : Int32) = nI 14 from rfl, pk_sub (by omega), pk_mul]
  rw [e1, sc_rks hv hk]
  exact K
theorem yw_gd0 {l : List Nat} {k : Nat} (h : l.length ≤ k) : l.getD k 0 = 0 := by
  simp [List.getD, List.getElem?_eq_none h]
theorem yw_len5 {post : Int32 → Prop} {l : List Nat} (hv : sc_v l) (h15 : l.length ≤ 15) (K : post (nI l.length)) : ∀ (u k : Nat) {c : Nat}, k ≤ 15 → 15 - k < u → c = (if k ≤ l.length then k else l.length) →
    wY_lengthOf_5 post (lN (sc_p 15 l)) (nI ci) (nI cd) (nI cr) (nI lm) (nI nr) (nI s) (nI n) fs fc fq fh R T sa sh BC BS u (nI c) (nI k)
  | 0, _, _, _, h, _ => by omega
  | u + 1, k, c, hk, hu, hc => by
    unfold wY_lengthOf_5
    refine pk_le 15 k (fun le => ?_) fun gt => ?_
    · have e : c = l.length := by
        rw [hc]
        split <;> omega
      rw [e]
      exact K
    · refine yw_rank hv gt (pk_eq _ 0 (fun eq => nm_r (nI_1 k) ?_) (fun ne => nm_r (nI_1 c) (nm_r (nI_1 k) ?_)) (ha := ?_))
      · refine yw_len5 hv h15 K u (k + 1) (by omega) (by omega) ?_
        have : ¬ k < l.length := fun z => by
          have := sc_getD hv z
          omega
        rw [hc]
        split <;> split <;> omega
      · refine yw_len5 hv h15 K u (k + 1) (by omega) (by omega) ?_
        have : k < l.length := Nat.lt_of_not_le fun z => ne (yw_gd0 z)
        rw [hc]
        split <;> split <;> omega
      · rcases Nat.lt_or_ge k l.length with z | z
        · have := sc_getD hv z
          omega
        · rw [yw_gd0 z]
          omega
theorem yw_len {post : Int32 → Prop} {l : List Nat} (hv : sc_v l) (h15 : l.length ≤ 15) (K : post (nI l.length)) : wpY_lengthOf post (nI ci, nI cd, nI cr, nI lm, nI nr, nI s, nI n, fs, fc, fq, fh, R, T, sa, sh, BC, BS) (lN (sc_p 15 l)) :=
  ⟨16, yw_len5 hv h15 K 16 0 (c := 0) (by omega) (by omega) (by simp)⟩
theorem yw_join {post : Int64 → Prop} {a b : List Nat} (va : sc_v a) (vb : sc_v b) (h : a.length + b.length ≤ 15) (K : post (lN (sc_p 15 (a ++ b)))) : wpY_join post (nI ci, nI cd, nI cr, nI lm, nI nr, nI s, nI n, fs, fc, fq, fh, R, T, sa, sh, BC, BS) (lN (sc_p 15 a)) (lN (sc_p 15 b)) := by
  unfold wpY_join
  dsimp only
  refine yw_len va (by omega) ?_
  have e1 : (4 : Int32) * nI a.length = nI (4 * a.length) := by rw [show (4 : Int32) = nI 4 from rfl, pk_mul]
  have p := sc_p60 vb
  rw [e1, sc_shs (by omega) (by omega), sc_or2 va vb h]
  exact K
theorem yw_put {l : List Nat} {x : Nat} (va : sc_v l) (hx : x ≤ 14) (hl : l.length ≤ 14) : lN (sc_p 15 l) ||| (lN x <<< ((4 * nI (14 - l.length)).toInt64 &&& 63)) = lN (sc_p 15 (l ++ [x])) := by
  have e1 : (4 : Int32) * nI (14 - l.length) = nI (56 - 4 * l.length) := by
    rw [show (4 : Int32) = nI 4 from rfl, pk_mul]
    exact congrArg nI (by omega)
  rw [e1]
  exact sc_or1 va hx hl
theorem yw_dn {m : Nat} (h : m < 14) : nI (14 - m) + (-1) = nI (14 - (m + 1)) := by
  rw [show 14 - m = (14 - (m + 1)) + 1 by omega, pk_m1]
theorem yw_s60 {post : Int64 → Prop} {m : Nat} (hm : m ≤ 12) : ∀ (u i : Nat) {l : List Nat}, i ≤ m → m - i < u → sc_v l → l.length + (m - i) ≤ 13 → post (lN (sc_p 15 (l ++ List.replicate (m - i) 2))) →
    wY_simple_60 post (nI m) (nI ci) (nI cd) (nI cr) (nI lm) (nI nr) (nI s) (nI n) fs fc fq fh R T sa sh BC BS u (lN (sc_p 15 l)) (nI (14 - l.length)) (nI i)
  | 0, _, _, _, h, _, _, _ => by omega
  | u + 1, i, l, hi, hu, hv, hl, K => by
    unfold wY_simple_60
    refine pk_le m i (fun le => ?_) (fun gt => nm_r (yw_put (x := 2) hv (by omega) (by omega)) (nm_r (yw_dn (by omega)) (nm_r (nI_1 i) ?_))) (ha := by omega) (hb := by omega)
    · rw [show m - i = 0 by omega, List.replicate_zero, List.append_nil] at K
      exact K
    · have e : l.length + 1 = (l ++ [2]).length := by rw [List.length_append, List.length_singleton]
      rw [e]
      refine yw_s60 hm u (i + 1) (by omega) (by omega) (sc_v_app hv (sc_v_1 (by omega) (by omega))) (by rw [← e]; omega) ?_
      rw [List.append_assoc, ← List.replicate_one (a := 2), yd_rr, show 1 + (m - (i + 1)) = m - i by omega]
      exact K
theorem yw_s10 {post : Int64 → Prop} {b m q : Nat} (hq : q ≤ 14) (hbb : b ≤ 12) : ∀ (u i : Nat) {l : List Nat}, i ≤ b → b - i < u → sc_v l → l.length + (b - i) + m ≤ 12 →
    post (lN (sc_p 15 (l ++ (List.replicate (b - i) 2 ++ ((if q = 0 then [] else [q]) ++ List.replicate m 2))))) →
    wY_simple_10 post (nI b) (nI q) (nI m) (nI ci) (nI cd) (nI cr) (nI lm) (nI nr) (nI s) (nI n) fs fc fq fh R T sa sh BC BS u (lN (sc_p 15 l)) (nI (14 - l.length)) (nI i)
  | 0, _, _, _, h, _, _, _ => by omega
  | u + 1, i, l, hi, hu, hv, hl, K => by
    unfold wY_simple_10
    refine pk_le b i (fun le => ?_) (fun gt => nm_r (yw_put (x := 2) hv (by omega) (by omega)) (nm_r (yw_dn (by omega)) (nm_r (nI_1 i) ?_))) (ha := by omega) (hb := by omega)
    · rw [show b - i = 0 by omega, List.replicate_zero, List.nil_append] at K
      refine pk_eq q 0 (fun eq => ⟨m + 1, ?_⟩) fun ne => ?_
      · rw [if_pos eq, List.nil_append] at K
        exact yw_s60 (by omega) (m + 1) 0 (Nat.zero_le _) (by omega) hv (by omega) K
      · rw [if_neg ne] at K
        rw [nI_l (by omega)]
        refine nm_r (yw_put hv hq (by omega)) (nm_r (yw_dn (by omega)) ⟨m + 1, ?_⟩)
        have e : l.length + 1 = (l ++ [q]).length := by rw [List.length_append, List.length_singleton]
        rw [e]
        refine yw_s60 (by omega) (m + 1) 0 (Nat.zero_le _) (by omega) (sc_v_app hv (sc_v_1 (by omega) (by omega))) (by rw [← e]; omega) ?_
        rw [List.append_assoc]
        exact K
    · have e : l.length + 1 = (l ++ [2]).length := by rw [List.length_append, List.length_singleton]
      rw [e]
      refine yw_s10 hq hbb u (i + 1) (by omega) (by omega) (sc_v_app hv (sc_v_1 (by omega) (by omega))) (by rw [← e]; omega) ?_
      rw [List.append_assoc, ← List.replicate_one (a := 2), ← List.append_assoc (List.replicate 1 2), yd_rr, show 1 + (b - (i + 1)) = b - i by omega]
      exact K
theorem yw_simple {post : Int64 → Prop} {b m q : Nat} (hq : q ≤ 14) (hl : b + m ≤ 12) (K : post (lN (sc_p 15 (List.replicate b 2 ++ ((if q = 0 then [] else [q]) ++ List.replicate m 2))))) :
    wpY_simple post (nI ci, nI cd, nI cr, nI lm, nI nr, nI s, nI n, fs, fc, fq, fh, R, T, sa, sh, BC, BS) (nI b) (nI q) (nI m) :=
  ⟨b + 1, yw_s10 (l := []) hq (by omega) (b + 1) 0 (Nat.zero_le _) (by omega) sc_v_nil (by simp; omega) K⟩
theorem yw_cell {post : Int32 → Prop} {a i j : Nat} (K : post (nI (yr_x a i j))) : wpY_cell post (nI ci, nI cd, nI cr, nI lm, nI nr, nI s, nI n, fs, fc, fq, fh, R, T, sa, sh, BC, BS) (nI a) (nI i) (nI j) := by
  unfold wpY_cell
  dsimp only
  rw [show (7 : Int32) = nI 7 from rfl, pk_mul, nI_add, pk_mul, nI_add]
  exact K
end
def yq_v (w : Nat → Nat) (o : Option (List Nat)) (c : Int32) (s : Int64) : Prop := (o = none → c = 10) ∧ (∀ a, o = some a → c = nI (sc_c w a) ∧ s = lN (sc_p 15 a))
def yq_c (w : Nat → Nat) (n : Nat) (D : Nat → Nat → Prop) (Q : Nat → Option (List Nat)) (BC : Nat → Int32) (BS : Nat → Int64) : Prop :=
  ∀ a i j, yr_b n a i j → D i j → yq_v w (Q (yr_x a i j)) (BC (yr_x a i j)) (BS (yr_x a i j))
theorem yr_x_lt {n a i j : Nat} (hn : n ≤ 6) (h : yr_b n a i j) : yr_x a i j < 539 := by
  unfold yr_b yr_x at *
  omega
theorem yr_x_inj {n a i j a' i' j' : Nat} (hn : n ≤ 6) (h : yr_b n a i j) (h' : yr_b n a' i' j') (e : yr_x a i j = yr_x a' i' j') : a = a' ∧ i = i' ∧ j = j' := by
  unfold yr_b yr_x at *
  omega
/-- the table has not got worse -/
def yq_i (w : Nat → Nat) (Q Q' : Nat → Option (List Nat)) : Prop := ∀ x l, Q x = some l → xm_has w Q' x l
theorem yq_i_r (w : Nat → Nat) (Q : Nat → Option (List Nat)) : yq_i w Q Q := fun _ l h => ⟨l, h, sc_le_r _ _⟩
theorem yq_h {w : Nat → Nat} {Q Q' : Nat → Option (List Nat)} {x : Nat} {l : List Nat} (i : yq_i w Q Q') (h : xm_has w Q x l) : xm_has w Q' x l := by
  obtain ⟨a, b, c⟩ := h
  exact xm_has_t (i x a b) c
theorem yq_i_t {w : Nat → Nat} {Q Q' Q'' : Nat → Option (List Nat)} (h : yq_i w Q Q') (k : yq_i w Q' Q'') : yq_i w Q Q'' := fun x l e => yq_h k (h x l e)
section
variable {ci cd cr lm nr s n : Nat} {fs fc : Int32} {fq : Int64} {fh : Int32} {R T sa sh BC : Nat → Int32} {BS : Nat → Int64}
variable {sy : Nat → Nat → Nat} {tk w : Nat → Nat}
theorem yw_offer {post : SY → Prop} (hn : n ≤ 6) {D : Nat → Nat → Prop} {Q : Nat → Option (List Nat)} (S : yr_s sy nr tk n w Q) (H : yq_c w n D Q BC BS) {a i j : Nat} {l : List Nat} (hb : yr_b n a i j) (hD : D i j) (hy : yd_a sy nr tk n a i j l) (hc : sc_c w l < 1000)
    (K : ∀ Q' BC' BS' fh', yr_s sy nr tk n w Q' → yq_c w n D Q' BC' BS' → yq_i w Q Q' → (sc_c w l ≤ 9 → xm_has w Q' (yr_x a i j) l) → ((fh' = fh ∧ Q' = Q) ∨ fh' = 1) → (∀ x, x ≠ yr_x a i j → Q' x = Q x) → post (nI ci, nI cd, nI cr, nI lm, nI nr, nI s, nI n, fs, fc, fq, fh', R, T, sa, sh, BC', BS')) :
    wpY_offer post (nI ci, nI cd, nI cr, nI lm, nI nr, nI s, nI n, fs, fc, fq, fh, R, T, sa, sh, BC, BS) (nI (yr_x a i j)) (nI (sc_c w l)) (lN (sc_p 15 l)) := by
  have hx := yr_x_lt hn hb
  have hin : vp_in (nI (yr_x a i j)) 539 := pk_in _ 539 hx
  have pl := sc_p63 (yd_af hy).2.2.1
  have st : (sc_c w l ≤ 9) → (∀ l0, Q (yr_x a i j) = some l0 → sc_lt w l l0) → wY_offer_38 post (nI (yr_x a i j)) (nI (sc_c w l)) (lN (sc_p 15 l)) (nI ci) (nI cd) (nI cr) (nI lm) (nI nr) (nI s) (nI n) fs fc fq fh R T sa sh BC BS := by
    intro h9 hlt
    unfold wY_offer_38
    rw [nI_clamp (by omega)]
    refine ⟨hin, nm_e ⟨hin, nm_e (K (xm_st Q (yr_x a i j) l) _ _ _ ?_ ?_ ?_ (fun _ => ⟨l, xm_st_s, sc_le_r _ _⟩) (Or.inr rfl) (fun x hx => xm_st_n hx))⟩⟩
    · intro a' i' j' l' hb' e
      by_cases z : yr_x a' i' j' = yr_x a i j
      · obtain ⟨rfl, rfl, rfl⟩ := yr_x_inj hn hb' hb z
        rw [xm_st_s] at e
        cases e
        exact ⟨hy, h9⟩
      · rw [xm_st_n z] at e
        exact S _ _ _ _ hb' e
    · intro a' i' j' hb' hd
      by_cases z : yr_x a' i' j' = yr_x a i j
      · rw [z, xm_st_s, pk_us, pk_uLs]
        exact ⟨(fun e => by cases e), (fun a e => by cases e; exact ⟨rfl, rfl⟩)⟩
      · rw [xm_st_n z, pk_un z, pk_uLn z]
        exact H _ _ _ hb' hd
    · intro x l0 e
      by_cases z : x = yr_x a i j
      · subst z
        exact ⟨l, xm_st_s, sc_lt_le (hlt _ e)⟩
      · exact ⟨l0, by rw [xm_st_n z, e], sc_le_r _ _⟩
  have no : (sc_c w l ≤ 9 → xm_has w Q (yr_x a i j) l) → post (nI ci, nI cd, nI cr, nI lm, nI nr, nI s, nI n, fs, fc, fq, fh, R, T, sa, sh, BC, BS) := fun h => K Q BC BS fh S H (yq_i_r _ _) h (Or.inl ⟨rfl, rfl⟩) (fun _ _ => rfl)
  unfold wpY_offer
  dsimp only
  refine pk_lt (sc_c w l) 10 (fun lt => ⟨hin, ?_⟩) fun ge => no (fun z => by omega)
  rw [nI_clamp (by omega)]
  have V := H _ _ _ hb hD
  cases e : Q (yr_x a i j) with
  | none =>
    rw [V.1 e]
    exact br_t (nI_lt (a := sc_c w l) (b := 10) lt (by decide)) (st (by omega) (fun l0 z => by rw [e] at z; cases z))
  | some l0 =>
    obtain ⟨v1, v2⟩ := V.2 l0 e
    obtain ⟨s1, s2⟩ := S _ _ _ _ hb e
    have p0 := sc_p63 (yd_af s1).2.2.1
    rw [v1, v2]
    refine pk_lt _ _ (fun lt2 => ?_) fun ge2 => ⟨hin, pk_eq _ _ (fun eq => ⟨hin, ?_⟩) fun ne => ?_⟩
    · exact st (by omega) (fun l1 z => by rw [e] at z; cases z; exact Or.inl lt2)
    · rw [pk_lLE p0 pl]
      refine ⟨fun le => ?_, fun nle => ?_⟩
      · exact no (fun _ => ⟨l0, e, Or.inr ⟨eq.symm, le⟩⟩)
      · exact st (by omega) (fun l1 z => by rw [e] at z; cases z; exact Or.inr ⟨eq, by omega⟩)
    · exact no (fun _ => ⟨l0, e, Or.inl (by omega)⟩)
end
end
section
/-! fillSpan -/
section
variable {ci cd cr lm nr s n : Nat} {fs fc : Int32} {fq : Int64} {fh : Int32} {R T sa sh BC : Nat → Int32} {BS : Nat → Int64}
variable {sy : Nat → Nat → Nat} {tk w : Nat → Nat}
/-- the two base scripts of a terminal -/
def yf_1 (t i j p : Nat) : List Nat := List.replicate (p - i) 2 ++ ([9 + t] ++ List.replicate (j - p) 2)
def yf_2 (tk : Nat → Nat) (t i j p : Nat) : List Nat := List.replicate (p - i) 2 ++ ([xd_o tk p t] ++ List.replicate (j - p - 1) 2)
def yf_p (tk w : Nat → Nat) (Q : Nat → Option (List Nat)) (t i j p : Nat) : Prop :=
  (sc_c w (yf_1 t i j p) ≤ 9 → xm_has w Q (yr_x t i j) (yf_1 t i j p)) ∧ (p < j → sc_c w (yf_2 tk t i j p) ≤ 9 → xm_has w Q (yr_x t i j) (yf_2 tk t i j p))
theorem yf_p_i {Q Q' : Nat → Option (List Nat)} {t i j p : Nat} (k : yq_i w Q Q') (h : yf_p tk w Q t i j p) : yf_p tk w Q' t i j p :=
  ⟨fun z => yq_h k (h.1 z), fun z1 z2 => yq_h k (h.2 z1 z2)⟩
theorem yf_c1 (L : xl sy tk w R T ci cd cr lm nr n) {t i j p : Nat} (ht : t < 6) (h1 : i ≤ p) (h2 : p ≤ j) : sc_c w (yf_1 t i j p) = (j - i) * cd + ci := by
  obtain ⟨w9, w2, w1, w3⟩ := xl_w L
  unfold yf_1
  rw [sc_c_app, sc_c_app, sc_c_rep, sc_c_rep, sc_c_1, w2.1, (w9 t ht).1, show j - i = (p - i) + (j - p) by omega, Nat.add_mul]
  omega
theorem yf_c2 (L : xl sy tk w R T ci cd cr lm nr n) {t i j p : Nat} (h1 : i ≤ p) (h2 : p < j) : sc_c w (yf_2 tk t i j p) = (j - i - 1) * cd + w (xd_o tk p t) := by
  obtain ⟨w9, w2, w1, w3⟩ := xl_w L
  unfold yf_2
  rw [sc_c_app, sc_c_app, sc_c_rep, sc_c_rep, sc_c_1, w2.1, show j - i - 1 = (p - i) + (j - p - 1) by omega, Nat.add_mul]
  omega
theorem yf_m3 {a cd : Nat} (h1 : a ≤ 6) (h2 : cd ≤ 3) : a * cd ≤ 18 := Nat.mul_le_mul h1 h2
theorem yf_179 {post : SY → Prop} (L : xl sy tk w R T ci cd cr lm nr n) {i j t p : Nat} (hj : j ≤ n) (ht : t < 6) (h1 : i ≤ p) (h2 : p < j) {D : Nat → Nat → Prop} (hD : D i j) {Q : Nat → Option (List Nat)} (S : yr_s sy nr tk n w Q) (H : yq_c w n D Q BC BS)
    {J78 J97 : Int32 → Int32 → Int32 → Int32 → Int32 → Int32 → Int32 → Int32 → Int32 → Int32 → Int64 → Int32 → (Nat → Int32) → (Nat → Int32) → (Nat → Int32) → (Nat → Int32) → (Nat → Int32) → (Nat → Int64) → Prop} {q pr : Nat} (hq : q = xd_o tk p t) (hpr : pr = w (xd_o tk p t))
    (K : ∀ Q' BC' BS' fh', yr_s sy nr tk n w Q' → yq_c w n D Q' BC' BS' → yq_i w Q Q' → (sc_c w (yf_2 tk t i j p) ≤ 9 → xm_has w Q' (yr_x t i j) (yf_2 tk t i j p)) → (∀ x, x ≠ yr_x t i j → Q' x = Q x) → J97 (nI (p + 1)) (nI ci) (nI cd) (nI cr) (nI lm) (nI nr) (nI s) (nI n) fs fc fq fh' R T sa sh BC' BS') :
    wY_fillSpan_179 post J78 J97 (nI i) (nI j) (nI t) (nI (yr_x t i j)) (nI p) (nI q) (nI pr) (nI ci) (nI cd) (nI cr) (nI lm) (nI nr) (nI s) (nI n) fs fc fq fh R T sa sh BC BS := by
  have hn6 := L.1.2.1
  have ho := xd_o_r tk (k := p) ht
  have c3 := L.2.2.2.2.2.2.2.2.2
  have hc := yf_c2 L (t := t) h1 h2
  have m3 := yf_m3 (a := j - i - 1) (cd := cd) (by omega) (by omega)
  have w3 : w (xd_o tk p t) ≤ 3 := by
    obtain ⟨w9, w2, w1, w3⟩ := xl_w L
    unfold xd_o
    split
    · omega
    · exact (w3 t ht).2
  unfold wY_fillSpan_179
  subst hq hpr
  have e1 : nI p - nI i = nI (p - i) := pk_sub h1
  have e2 : nI j - nI p - 1 = nI (j - p - 1) := by
    rw [pk_sub (by omega), show (1 : Int32) = nI 1 from rfl, pk_sub (by omega)]
  have e3 : (nI j - nI i - 1) * nI cd + nI (w (xd_o tk p t)) = nI (sc_c w (yf_2 tk t i j p)) := by
    rw [pk_sub (by omega), show (1 : Int32) = nI 1 from rfl, pk_sub (by omega), pk_mul, nI_add, hc]
  rw [e1, e2, e3]
  refine yw_simple (by omega) (by omega) ?_
  rw [if_neg (by omega)]
  have hy : yd_a sy nr tk n t i j (yf_2 tk t i j p) := ⟨0, by omega, hj, Or.inr ⟨ht, p, h1, by omega, Or.inr ⟨h2, rfl⟩⟩⟩
  refine yw_offer hn6 S H ⟨by omega, by omega, hj⟩ hD hy (by omega) fun Q' BC' BS' fh' a b c d _ f => ?_
  dsimp only
  exact nm_r (nI_1 p) (K Q' BC' BS' fh' a b c d f)
theorem yf_97 {post : SY → Prop} (L : xl sy tk w R T ci cd cr lm nr n) {i j t : Nat} (hij : i ≤ j) (hj : j ≤ n) (ht : t < 6) {D : Nat → Nat → Prop} (hD : D i j)
    {J78 : Int32 → Int32 → Int32 → Int32 → Int32 → Int32 → Int32 → Int32 → Int32 → Int32 → Int64 → Int32 → (Nat → Int32) → (Nat → Int32) → (Nat → Int32) → (Nat → Int32) → (Nat → Int32) → (Nat → Int64) → Prop} : ∀ (u p : Nat) {Q : Nat → Option (List Nat)} {fh : Int32} {BC : Nat → Int32} {BS : Nat → Int64}, i ≤ p → p ≤ j + 1 → j + 1 - p < u →
    yr_s sy nr tk n w Q → yq_c w n D Q BC BS →
    (∀ Q' BC' BS' fh', yr_s sy nr tk n w Q' → yq_c w n D Q' BC' BS' → yq_i w Q Q' → (∀ p', p ≤ p' → p' ≤ j → yf_p tk w Q' t i j p') → (∀ x, x ≠ yr_x t i j → Q' x = Q x) → J78 (nI (t + 1)) (nI ci) (nI cd) (nI cr) (nI lm) (nI nr) (nI s) (nI n) fs fc fq fh' R T sa sh BC' BS') →
    wY_fillSpan_97 post J78 (nI i) (nI j) (nI t) (nI (yr_x t i j)) u (nI p) (nI ci) (nI cd) (nI cr) (nI lm) (nI nr) (nI s) (nI n) fs fc fq fh R T sa sh BC BS
  | 0, _, _, _, _, _, _, _, h, _, _, _ => by omega
  | u + 1, p, Q, fh, BC, BS, hip, hpj, hu, S, H, K => by
    have hn6 := L.1.2.1
    have c3 := L.2.2.2.2.2.2.2.2.2
    have hT := L.2.2.2.2.1
    obtain ⟨w9, w2, w1, w3⟩ := xl_w L
    unfold wY_fillSpan_97
    refine pk_lt j p (fun lt => nm_r (nI_1 t) ?_) fun ge => ?_
    · exact K Q BC BS fh S H (yq_i_r _ _) (fun p' h1 h2 => by omega) (fun _ _ => rfl)
    · have hc := yf_c1 L ht hip ge
      have m3 := yf_m3 (a := j - i) (cd := cd) (by omega) (by omega)
      have e1 : nI p - nI i = nI (p - i) := pk_sub hip
      have e2 : nI j - nI p = nI (j - p) := pk_sub ge
      have e3 : (nI j - nI i) * nI cd + nI ci = nI (sc_c w (yf_1 t i j p)) := by
        rw [pk_sub hij, pk_mul, nI_add, hc]
      have e9 : (9 : Int32) + nI t = nI (9 + t) := by rw [show (9 : Int32) = nI 9 from rfl, nI_add]
      rw [e1, e2, e3, e9]
      refine yw_simple (by omega) (by omega) ?_
      rw [if_neg (by omega)]
      have hy : yd_a sy nr tk n t i j (yf_1 t i j p) := ⟨0, by omega, hj, Or.inr ⟨ht, p, hip, ge, Or.inl rfl⟩⟩
      refine yw_offer hn6 S H ⟨by omega, by omega, hj⟩ hD hy (by omega) fun Q1 BC1 BS1 fh1 a b c d _ f => ?_
      dsimp only
      refine pk_le j p (fun le => nm_r (nI_1 p) ?_) fun gt => nm_r (e' := nI (3 + t)) ?_ ?_
      · refine yf_97 L hij hj ht hD u (p + 1) (by omega) (by omega) (by omega) a b fun Q2 BC2 BS2 fh2 a2 b2 c2 d2 f2 => ?_
        refine K Q2 BC2 BS2 fh2 a2 b2 (yq_i_t c c2) (fun p' h1 h2 => ?_) (fun x hx => (f2 x hx).trans (f x hx))
        rcases Nat.eq_or_lt_of_le h1 with z | z
        · subst z
          exact ⟨fun y => yq_h c2 (d y), fun y => by omega⟩
        · exact d2 p' z h2
      · rw [show (3 : Int32) = nI 3 from rfl, nI_add]
      · obtain ⟨t1, t2⟩ := hT p (by omega)
        have G := fun {q pr : Nat} (hq : q = xd_o tk p t) (hpr : pr = w (xd_o tk p t)) => yf_179 (post := post) (ci := ci) (cd := cd) (cr := cr) (lm := lm) (nr := nr) (s := s) (n := n) (fs := fs) (fc := fc) (fq := fq) (R := R) (T := T) (sa := sa) (sh := sh) (fh := fh1) L hj ht hip gt hD a b (J78 := J78) (J97 := wY_fillSpan_97 post J78 (nI i) (nI j) (nI t) (nI (yr_x t i j)) u) hq hpr
          fun Q2 BC2 BS2 fh2 a2 b2 c2 d2 f2 => yf_97 L hij hj ht hD u (p + 1) (by omega) (by omega) (by omega) a2 b2 fun Q3 BC3 BS3 fh3 a3 b3 c3 d3 f3 => by
            refine K Q3 BC3 BS3 fh3 a3 b3 (yq_i_t c (yq_i_t c2 c3)) (fun p' h1 h2 => ?_) (fun x hx => (f3 x hx).trans ((f2 x hx).trans (f x hx)))
            rcases Nat.eq_or_lt_of_le h1 with z | z
            · subst z
              exact ⟨fun y => yq_h c3 (yq_h c2 (d y)), fun _ y => yq_h c3 (d2 y)⟩
            · exact d3 p' z h2
        rw [nI_clamp (by omega), t1]
        refine ⟨pk_in p 6 (by omega), pk_eq _ _ (fun eq => ?_) fun ne => ?_⟩
        · have eo : xd_o tk p t = 1 := if_pos eq
          exact G (q := 1) (pr := 0) (by rw [eo]) (by rw [eo, w1])
        · have eo : xd_o tk p t = 3 + t := if_neg ne
          exact G (q := 3 + t) (pr := cr) (by rw [eo]) (by rw [eo, (w3 t ht).1])
theorem yf_78 {post : SY → Prop} (L : xl sy tk w R T ci cd cr lm nr n) {i j : Nat} (hij : i ≤ j) (hj : j ≤ n) {D : Nat → Nat → Prop} (hD : D i j) : ∀ (u t : Nat) {Q : Nat → Option (List Nat)} {fh : Int32} {BC : Nat → Int32} {BS : Nat → Int64}, t ≤ 6 → 6 - t < u →
    yr_s sy nr tk n w Q → yq_c w n D Q BC BS →
    (∀ Q' BC' BS' fh', yr_s sy nr tk n w Q' → yq_c w n D Q' BC' BS' → yq_i w Q Q' → (∀ t' p', t ≤ t' → t' < 6 → i ≤ p' → p' ≤ j → yf_p tk w Q' t' i j p') → (∀ x, (∀ a, a ≤ 10 → x ≠ yr_x a i j) → Q' x = Q x) → post (nI ci, nI cd, nI cr, nI lm, nI nr, nI s, nI n, fs, fc, fq, fh', R, T, sa, sh, BC', BS')) →
    wY_fillSpan_78 post (nI i) (nI j) u (nI t) (nI ci) (nI cd) (nI cr) (nI lm) (nI nr) (nI s) (nI n) fs fc fq fh R T sa sh BC BS
  | 0, _, _, _, _, _, _, h, _, _, _ => by omega
  | u + 1, t, Q, fh, BC, BS, ht, hu, S, H, K => by
    have hn6 := L.1.2.1
    unfold wY_fillSpan_78
    refine pk_lt 5 t (fun lt => ?_) fun ge => yw_cell ⟨j + 2 - i, ?_⟩
    · exact K Q BC BS fh S H (yq_i_r _ _) (fun p' t' h1 h2 => by omega) (fun _ _ => rfl)
    · refine yf_97 L hij hj (by omega) hD (j + 2 - i) i (by omega) (by omega) (by omega) S H fun Q1 BC1 BS1 fh1 a b c d f => ?_
      refine yf_78 L hij hj hD u (t + 1) (by omega) (by omega) a b fun Q2 BC2 BS2 fh2 a2 b2 c2 d2 f2 => ?_
      refine K Q2 BC2 BS2 fh2 a2 b2 (yq_i_t c c2) (fun t' p' h1 h2 h3 h4 => ?_) (fun x hx => (f2 x hx).trans (f x (hx t (by omega))))
      rcases Nat.eq_or_lt_of_le h1 with z | z
      · subst z
        exact yf_p_i c2 (d p' h3 h4)
      · exact d2 t' p' z h2 h3 h4
theorem yf_2l {post : SY → Prop} (L : xl sy tk w R T ci cd cr lm nr n) {i j : Nat} (hij : i ≤ j) (hj : j ≤ n) {D : Nat → Nat → Prop} {Q : Nat → Option (List Nat)} (S : yr_s sy nr tk n w Q) (hN : ∀ a, a ≤ 10 → Q (yr_x a i j) = none)
    (K : ∀ Q' BC' BS' fh', yr_s sy nr tk n w Q' → yq_c w n (fun i' j' => D i' j' ∨ (i' = i ∧ j' = j)) Q' BC' BS' → (∀ a l, yd_b tk n a i j l → sc_c w l ≤ 9 → xm_has w Q' (yr_x a i j) l) → (∀ x, (∀ a, a ≤ 10 → x ≠ yr_x a i j) → Q' x = Q x) → post (nI ci, nI cd, nI cr, nI lm, nI nr, nI s, nI n, fs, fc, fq, fh', R, T, sa, sh, BC', BS')) :
    ∀ (u a : Nat) {BC : Nat → Int32} {BS : Nat → Int64}, a ≤ 11 → 11 - a < u → (∀ a', a' < a → BC (yr_x a' i j) = 10) → (∀ a' i' j', yr_b n a' i' j' → D i' j' → ¬ (i' = i ∧ j' = j) → yq_v w (Q (yr_x a' i' j')) (BC (yr_x a' i' j')) (BS (yr_x a' i' j'))) →
    wY_fillSpan_2 post (nI i) (nI j) (nI ci) (nI cd) (nI cr) (nI lm) (nI nr) (nI s) (nI n) fs fc fq fh u (nI a) R T sa sh BC BS
  | 0, _, _, _, _, h, _, _ => by omega
  | u + 1, a, BC, BS, ha, hu, hz, H => by
    have hn6 := L.1.2.1
    have c3 := L.2.2.2.2.2.2.2.2.2
    obtain ⟨w9, w2, w1, w3⟩ := xl_w L
    unfold wY_fillSpan_2
    refine pk_lt 10 a (fun lt => ?_) fun ge => ?_
    · have H' : yq_c w n (fun i' j' => D i' j' ∨ (i' = i ∧ j' = j)) Q BC BS := by
        intro a' i' j' hb hd
        by_cases z : i' = i ∧ j' = j
        · obtain ⟨rfl, rfl⟩ := z
          have h10 := hb.1
          refine ⟨fun _ => hz a' (by omega), fun l e => ?_⟩
          rw [hN a' h10] at e
          cases e
        · rcases hd with hd | hd
          · exact H _ _ _ hb hd z
          · exact absurd hd z
      refine yw_cell (a := 10) ?_
      have m3 := yf_m3 (a := j - i) (cd := cd) (by omega) (by omega)
      have e1 : nI j - nI i = nI (j - i) := pk_sub hij
      have e2 : nI (j - i) * nI cd = nI (sc_c w (List.replicate (j - i) 2)) := by rw [pk_mul, sc_c_rep, w2.1]
      rw [e1, e2]
      refine yw_simple (q := 0) (m := 0) (by omega) (by omega) ?_
      rw [if_pos rfl, List.replicate_zero, List.nil_append, List.append_nil]
      have hy : yd_a sy nr tk n 10 i j (List.replicate (j - i) 2) := ⟨0, hij, hj, Or.inl ⟨rfl, rfl⟩⟩
      have hc : sc_c w (List.replicate (j - i) 2) < 1000 := by rw [sc_c_rep, w2.1]; omega
      refine yw_offer hn6 S H' ⟨by omega, hij, hj⟩ (Or.inr ⟨rfl, rfl⟩) hy hc fun Q1 BC1 BS1 fh1 a1 b1 c1 d1 _ f1 => ?_
      dsimp only
      refine ⟨7, yf_78 L hij hj (Or.inr ⟨rfl, rfl⟩) 7 0 (by omega) (by omega) a1 b1 fun Q2 BC2 BS2 fh2 a2 b2 c2 d2 f2 => ?_⟩
      refine K Q2 BC2 BS2 fh2 a2 b2 ?_ (fun x hx => (f2 x hx).trans (f1 x (hx 10 (by omega))))
      rintro a l ⟨_, _, ⟨rfl, rfl⟩ | ⟨hs, p, p1, p2, rfl | ⟨p3, rfl⟩⟩⟩ hcl
      · exact yq_h c2 (d1 hcl)
      · exact (d2 a p (Nat.zero_le _) hs p1 p2).1 hcl
      · exact (d2 a p (Nat.zero_le _) hs p1 p2).2 p3 hcl
    · refine yw_cell ?_
      have hb : yr_b n a i j := ⟨by omega, hij, hj⟩
      have hx := yr_x_lt hn6 hb
      rw [nI_clamp (by omega)]
      refine ⟨pk_in _ 539 hx, nm_e ⟨pk_in _ 539 hx, nm_e (nm_r (nI_1 a) ?_)⟩⟩
      refine yf_2l L hij hj S hN K u (a + 1) (by omega) (by omega) (fun a' ha' => ?_) (fun a' i' j' hb' hd' z => ?_)
      · by_cases z : a' = a
        · subst z
          exact pk_us
        · have : yr_x a' i j ≠ yr_x a i j := fun e => z (yr_x_inj hn6 ⟨by omega, hij, hj⟩ hb e).1
          rw [pk_un this]
          exact hz a' (by omega)
      · have : yr_x a' i' j' ≠ yr_x a i j := fun e => z (yr_x_inj hn6 hb' hb e).2
        rw [pk_un this, pk_uLn this]
        exact H _ _ _ hb' hd' z
theorem yw_fill {post : SY → Prop} (L : xl sy tk w R T ci cd cr lm nr n) {i j : Nat} (hij : i ≤ j) (hj : j ≤ n) {D : Nat → Nat → Prop} {Q : Nat → Option (List Nat)} (S : yr_s sy nr tk n w Q) (H : yq_c w n D Q BC BS) (hN : ∀ a, a ≤ 10 → Q (yr_x a i j) = none)
    (K : ∀ Q' BC' BS' fh', yr_s sy nr tk n w Q' → yq_c w n (fun i' j' => D i' j' ∨ (i' = i ∧ j' = j)) Q' BC' BS' → (∀ a l, yd_b tk n a i j l → sc_c w l ≤ 9 → xm_has w Q' (yr_x a i j) l) → (∀ x, (∀ a, a ≤ 10 → x ≠ yr_x a i j) → Q' x = Q x) → post (nI ci, nI cd, nI cr, nI lm, nI nr, nI s, nI n, fs, fc, fq, fh', R, T, sa, sh, BC', BS')) :
    wpY_fillSpan post (nI ci, nI cd, nI cr, nI lm, nI nr, nI s, nI n, fs, fc, fq, fh, R, T, sa, sh, BC, BS) (nI i) (nI j) :=
  ⟨12, yf_2l L hij hj S hN K 12 0 (by omega) (by omega) (fun a h => by omega) (fun a i' j' hb hd _ => H a i' j' hb hd)⟩
end
end
section
/-! applyRule -/
def yc_v (w : Nat → Nat) : Option (List Nat) → Nat
  | none => 10
  | some l => sc_c w l
theorem yc_e {w : Nat → Nat} {o : Option (List Nat)} {c : Int32} {s : Int64} (h : yq_v w o c s) : c = nI (yc_v w o) := by
  cases o with
  | none => exact h.1 rfl
  | some l => exact (h.2 l rfl).1
section
variable {ci cd cr lm nr s n : Nat} {fs fc : Int32} {fq : Int64} {fh : Int32} {R T sa sh BC : Nat → Int32} {BS : Nat → Int64}
variable {sy : Nat → Nat → Nat} {tk w : Nat → Nat}
/-- the state within a round that began with the table Q0 -/
def ya_s (sy : Nat → Nat → Nat) (nr : Nat) (tk : Nat → Nat) (n : Nat) (w : Nat → Nat) (Q0 Q : Nat → Option (List Nat)) (fh : Int32) (BC : Nat → Int32) (BS : Nat → Int64) : Prop :=
  yr_s sy nr tk n w Q ∧ yq_c w n (fun _ _ => True) Q BC BS ∧ yq_i w Q0 Q ∧ (fh = 0 → Q = Q0)
def ya_p (sy : Nat → Nat → Nat) (w : Nat → Nat) (Q0 Q : Nat → Option (List Nat)) (r i p q j : Nat) : Prop :=
  ∀ a b c, Q0 (yr_x (sy r 1) i p) = some a → Q0 (yr_x (sy r 2) p q) = some b → Q0 (yr_x (sy r 3) q j) = some c → sc_c w a + sc_c w b + sc_c w c ≤ 9 → xm_has w Q (yr_x (sy r 0) i j) (a ++ b ++ c)
theorem ya_p_i {Q0 Q Q' : Nat → Option (List Nat)} {r i p q j : Nat} (k : yq_i w Q Q') (h : ya_p sy w Q0 Q r i p q j) : ya_p sy w Q0 Q' r i p q j :=
  fun a b c h1 h2 h3 h4 => yq_h k (h a b c h1 h2 h3 h4)
theorem ya_rs {post : Int32 → Prop} (L : xl sy tk w R T ci cd cr lm nr n) {r p : Nat} (hr : r < nr) (hp : p < 4) (K : post (nI (sy r p))) : wpY_rightSymbol post (nI ci, nI cd, nI cr, nI lm, nI nr, nI s, nI n, fs, fc, fq, fh, R, T, sa, sh, BC, BS) (nI r) (nI p) := by
  have hnr := L.1.1
  unfold wpY_rightSymbol
  dsimp only
  rw [xl_i4, nI_add, nI_clamp (by omega), xl_R L hr hp]
  refine ⟨pk_in (r * 4 + p) 32 (by omega), nm_e ?_⟩
  by_cases z : sy r p = 10
  · rw [z] at K ⊢
    exact br_t rfl K
  · have : sy r p ≤ 10 := by
      have G := L.1.2.2 r hr
      rcases (by omega : p = 0 ∨ p = 1 ∨ p = 2 ∨ p = 3) with e | e | e | e <;> subst e <;> omega
    rw [xl_e_n z]
    exact br_f (xr_m1 (by omega)) K
theorem ya_74 {post : SY → Prop} (L : xl sy tk w R T ci cd cr lm nr n) {Q0 : Nat → Option (List Nat)} (S0 : yr_s sy nr tk n w Q0) {r i p q : Nat} (hr : r < nr) (h1 : i ≤ p) (h2 : p ≤ q) (h3 : q ≤ n)
    {J35 J48 J61 : Int32 → Int32 → Int32 → Int32 → Int32 → Int32 → Int32 → Int32 → Int32 → Int32 → Int64 → Int32 → (Nat → Int32) → (Nat → Int32) → (Nat → Int32) → (Nat → Int32) → (Nat → Int32) → (Nat → Int64) → Prop} : ∀ (u j : Nat) {Q : Nat → Option (List Nat)} {fh : Int32} {BC : Nat → Int32} {BS : Nat → Int64}, q ≤ j → j ≤ n + 1 → n + 1 - j < u →
    ya_s sy nr tk n w Q0 Q fh BC BS →
    (∀ Q' BC' BS' fh', ya_s sy nr tk n w Q0 Q' fh' BC' BS' → yq_i w Q Q' → (∀ j', j ≤ j' → j' ≤ n → ya_p sy w Q0 Q' r i p q j') → J61 (nI (q + 1)) (nI ci) (nI cd) (nI cr) (nI lm) (nI nr) (nI s) (nI n) fs fc fq fh' R T sa sh BC' BS') →
    wY_applyRule_74 post J35 J48 J61 (nI (sy r 0)) (nI (sy r 1)) (nI (sy r 2)) (nI (sy r 3)) (nI i) (nI p) (nI q) u (nI j) (nI ci) (nI cd) (nI cr) (nI lm) (nI nr) (nI s) (nI n) fs fc fq fh R T sa sh BC BS
  | 0, _, _, _, _, _, _, _, h, _, _ => by omega
  | u + 1, j, Q, fh, BC, BS, hqj, hj, hu, A, K => by
    have hn6 := L.1.2.1
    have hw := L.2.1
    have G := L.1.2.2 r hr
    unfold wY_applyRule_74
    refine pk_lt n j (fun lt => nm_r (nI_1 q) ?_) fun ge => ?_
    · exact K Q BC BS fh A (yq_i_r _ _) (fun j' h1 h2 => by omega)
    · obtain ⟨S, H, I, F⟩ := A
      have ba : yr_b n (sy r 1) i p := ⟨by omega, by omega, by omega⟩
      have bb : yr_b n (sy r 2) p q := ⟨by omega, by omega, by omega⟩
      have bc : yr_b n (sy r 3) q j := ⟨by omega, by omega, by omega⟩
      have bz : yr_b n (sy r 0) i j := ⟨by omega, by omega, by omega⟩
      have xa := yr_x_lt hn6 ba
      have xb := yr_x_lt hn6 bb
      have xc := yr_x_lt hn6 bc
      have ia : vp_in (nI (yr_x (sy r 1) i p)) 539 := pk_in _ 539 xa
      have ib : vp_in (nI (yr_x (sy r 2) p q)) 539 := pk_in _ 539 xb
      have ic : vp_in (nI (yr_x (sy r 3) q j)) 539 := pk_in _ 539 xc
      have va := H _ _ _ ba trivial
      have vb := H _ _ _ bb trivial
      have vc := H _ _ _ bc trivial
      have nxt := fun {Q1 : Nat → Option (List Nat)} {fh1 : Int32} {BC1 : Nat → Int32} {BS1 : Nat → Int64} (A1 : ya_s sy nr tk n w Q0 Q1 fh1 BC1 BS1) (I1 : yq_i w Q Q1) (P : ya_p sy w Q0 Q1 r i p q j) =>
        ya_74 (post := post) (J35 := J35) (J48 := J48) (J61 := J61) L S0 hr h1 h2 h3 u (j + 1) (by omega) (by omega) (by omega) A1 fun Q2 BC2 BS2 fh2 a2 c2 d2 => by
          refine K Q2 BC2 BS2 fh2 a2 (yq_i_t I1 c2) fun j' e1 e2 => ?_
          rcases Nat.eq_or_lt_of_le e1 with z | z
          · subst z
            exact ya_p_i c2 P
          · exact d2 j' z e2
      refine yw_cell (yw_cell (yw_cell ⟨ia, ib, ic, ?_⟩))
      rw [nI_clamp (by omega), nI_clamp (by omega), nI_clamp (by omega), yc_e va, yc_e vb, yc_e vc]
      have le10 : ∀ {a i j : Nat}, yr_b n a i j → yc_v w (Q (yr_x a i j)) ≤ 10 := by
        intro a i j hb
        cases e : Q (yr_x a i j) with
        | none => exact Nat.le_refl _
        | some l =>
          have := (S _ _ _ _ hb e).2
          show sc_c w l ≤ 10
          omega
      have la := le10 ba
      have lb := le10 bb
      have lc := le10 bc
      refine nm_r (e' := nI (yc_v w (Q (yr_x (sy r 1) i p)) + yc_v w (Q (yr_x (sy r 2) p q)) + yc_v w (Q (yr_x (sy r 3) q j)))) (by rw [nI_add, nI_add]) ?_
      have val : ∀ {a i j : Nat} {l : List Nat}, Q0 (yr_x a i j) = some l → ∃ l', Q (yr_x a i j) = some l' ∧ sc_le w l' l := fun e => I _ _ e
      refine pk_le 10 _ (fun le => nm_r (nI_1 j) (nxt ⟨S, H, I, F⟩ (yq_i_r _ _) ?_)) (fun gt => ?_) (hb := by omega)
      · intro a b c ea eb ec hc
        obtain ⟨a', ea', ka⟩ := val ea
        obtain ⟨b', eb', kb⟩ := val eb
        obtain ⟨c', ec', kc⟩ := val ec
        have := sc_le_c ka
        have := sc_le_c kb
        have := sc_le_c kc
        rw [ea', eb', ec'] at le
        have le' : 10 ≤ sc_c w a' + sc_c w b' + sc_c w c' := le
        omega
      · cases ea : Q (yr_x (sy r 1) i p) with
        | none =>
          rw [ea] at gt
          have : 10 + yc_v w (Q (yr_x (sy r 2) p q)) + yc_v w (Q (yr_x (sy r 3) q j)) < 10 := gt
          omega
        | some a =>
          cases eb : Q (yr_x (sy r 2) p q) with
          | none =>
            rw [eb] at gt
            have : yc_v w (Q (yr_x (sy r 1) i p)) + 10 + yc_v w (Q (yr_x (sy r 3) q j)) < 10 := gt
            omega
          | some b =>
            cases ec : Q (yr_x (sy r 3) q j) with
            | none =>
              rw [ec] at gt
              have : yc_v w (Q (yr_x (sy r 1) i p)) + yc_v w (Q (yr_x (sy r 2) p q)) + 10 < 10 := gt
              omega
            | some c =>
              rw [ea, eb, ec] at gt
              have gt' : sc_c w a + sc_c w b + sc_c w c < 10 := gt
              obtain ⟨ya, _⟩ := S _ _ _ _ ba ea
              obtain ⟨yb, _⟩ := S _ _ _ _ bb eb
              obtain ⟨yc, _⟩ := S _ _ _ _ bc ec
              obtain ⟨_, _, a3, a4⟩ := yd_af ya
              obtain ⟨_, _, b3, b4⟩ := yd_af yb
              obtain ⟨_, _, c3, c4⟩ := yd_af yc
              have l1 := sc_len hw a3
              have l2 := sc_len hw b3
              have l3 := sc_len hw c3
              refine yw_cell ⟨ia, ib, ?_⟩
              rw [(va.2 a ea).2, (vb.2 b eb).2]
              refine yw_join a3 b3 (by omega) ⟨ic, ?_⟩
              rw [(vc.2 c ec).2]
              refine yw_join (sc_v_app a3 b3) c3 (by rw [List.length_append]; omega) ?_
              have e1 : yc_v w (some a) + yc_v w (some b) + yc_v w (some c) = sc_c w (a ++ b ++ c) := by rw [sc_c_app, sc_c_app]; rfl
              rw [e1]
              refine yw_offer hn6 S H bz trivial (yd_rule hr ya yb yc) (by rw [sc_c_app, sc_c_app]; omega) fun Q1 BC1 BS1 fh1 a1 b1 c1 d1 e1 _ => ?_
              dsimp only
              refine nm_r (nI_1 j) (nxt ⟨a1, b1, yq_i_t I c1, ?_⟩ c1 ?_)
              · intro hz
                rcases e1 with ⟨z1, z2⟩ | z1
                · rw [z2]
                  exact F (by rw [← z1]; exact hz)
                · rw [hz] at z1
                  exact absurd z1 (by decide)
              · intro a' b' c' ea' eb' ec' hc'
                obtain ⟨a2, f1, ka⟩ := val ea'
                obtain ⟨b2, f2, kb⟩ := val eb'
                obtain ⟨c2, f3, kc⟩ := val ec'
                rw [ea] at f1
                rw [eb] at f2
                rw [ec] at f3
                cases f1
                cases f2
                cases f3
                obtain ⟨_, _, a5, a6⟩ := yd_af (S0 _ _ _ _ ba ea').1
                obtain ⟨_, _, b5, b6⟩ := yd_af (S0 _ _ _ _ bb eb').1
                obtain ⟨_, _, c5, c6⟩ := yd_af (S0 _ _ _ _ bc ec').1
                refine xm_has_t (d1 (by rw [sc_c_app, sc_c_app]; omega)) ?_
                refine sc_mono hw (sc_v_app a3 b3) c3 (sc_v_app a5 b5) c5 (by rw [sc_u_app, sc_u_app]; omega) (by omega) (by rw [sc_c_app]; omega) (by rw [sc_u_app]; omega) ?_ kc
                exact sc_mono hw a3 b3 a5 b5 (by omega) (by omega) (by omega) (by omega) ka kb
theorem ya_61 {post : SY → Prop} (L : xl sy tk w R T ci cd cr lm nr n) {Q0 : Nat → Option (List Nat)} (S0 : yr_s sy nr tk n w Q0) {r i p : Nat} (hr : r < nr) (h1 : i ≤ p) (h2 : p ≤ n)
    {J35 J48 : Int32 → Int32 → Int32 → Int32 → Int32 → Int32 → Int32 → Int32 → Int32 → Int32 → Int64 → Int32 → (Nat → Int32) → (Nat → Int32) → (Nat → Int32) → (Nat → Int32) → (Nat → Int32) → (Nat → Int64) → Prop} : ∀ (u q : Nat) {Q : Nat → Option (List Nat)} {fh : Int32} {BC : Nat → Int32} {BS : Nat → Int64}, p ≤ q → q ≤ n + 1 → n + 1 - q < u →
    ya_s sy nr tk n w Q0 Q fh BC BS →
    (∀ Q' BC' BS' fh', ya_s sy nr tk n w Q0 Q' fh' BC' BS' → yq_i w Q Q' → (∀ q' j', q ≤ q' → q' ≤ j' → j' ≤ n → ya_p sy w Q0 Q' r i p q' j') → J48 (nI (p + 1)) (nI ci) (nI cd) (nI cr) (nI lm) (nI nr) (nI s) (nI n) fs fc fq fh' R T sa sh BC' BS') →
    wY_applyRule_61 post J35 J48 (nI (sy r 0)) (nI (sy r 1)) (nI (sy r 2)) (nI (sy r 3)) (nI i) (nI p) u (nI q) (nI ci) (nI cd) (nI cr) (nI lm) (nI nr) (nI s) (nI n) fs fc fq fh R T sa sh BC BS
  | 0, _, _, _, _, _, _, _, h, _, _ => by omega
  | u + 1, q, Q, fh, BC, BS, hpq, hq, hu, A, K => by
    have hn6 := L.1.2.1
    unfold wY_applyRule_61
    refine pk_lt n q (fun lt => nm_r (nI_1 p) ?_) fun ge => ⟨n + 2 - q, ?_⟩
    · exact K Q BC BS fh A (yq_i_r _ _) (fun q' j' h1 h2 h3 => by omega)
    · refine ya_74 L S0 hr h1 hpq ge (n + 2 - q) q (Nat.le_refl _) (by omega) (by omega) A fun Q1 BC1 BS1 fh1 a1 c1 d1 => ?_
      refine ya_61 L S0 hr h1 h2 u (q + 1) (by omega) (by omega) (by omega) a1 fun Q2 BC2 BS2 fh2 a2 c2 d2 => ?_
      refine K Q2 BC2 BS2 fh2 a2 (yq_i_t c1 c2) fun q' j' e1 e2 e3 => ?_
      rcases Nat.eq_or_lt_of_le e1 with z | z
      · subst z
        exact ya_p_i c2 (d1 j' e2 e3)
      · exact d2 q' j' z e2 e3
theorem ya_48 {post : SY → Prop} (L : xl sy tk w R T ci cd cr lm nr n) {Q0 : Nat → Option (List Nat)} (S0 : yr_s sy nr tk n w Q0) {r i : Nat} (hr : r < nr) (h1 : i ≤ n)
    {J35 : Int32 → Int32 → Int32 → Int32 → Int32 → Int32 → Int32 → Int32 → Int32 → Int32 → Int64 → Int32 → (Nat → Int32) → (Nat → Int32) → (Nat → Int32) → (Nat → Int32) → (Nat → Int32) → (Nat → Int64) → Prop} : ∀ (u p : Nat) {Q : Nat → Option (List Nat)} {fh : Int32} {BC : Nat → Int32} {BS : Nat → Int64}, i ≤ p → p ≤ n + 1 → n + 1 - p < u →
    ya_s sy nr tk n w Q0 Q fh BC BS →
    (∀ Q' BC' BS' fh', ya_s sy nr tk n w Q0 Q' fh' BC' BS' → yq_i w Q Q' → (∀ p' q' j', p ≤ p' → p' ≤ q' → q' ≤ j' → j' ≤ n → ya_p sy w Q0 Q' r i p' q' j') → J35 (nI (i + 1)) (nI ci) (nI cd) (nI cr) (nI lm) (nI nr) (nI s) (nI n) fs fc fq fh' R T sa sh BC' BS') →
    wY_applyRule_48 post J35 (nI (sy r 0)) (nI (sy r 1)) (nI (sy r 2)) (nI (sy r 3)) (nI i) u (nI p) (nI ci) (nI cd) (nI cr) (nI lm) (nI nr) (nI s) (nI n) fs fc fq fh R T sa sh BC BS
  | 0, _, _, _, _, _, _, _, h, _, _ => by omega
  | u + 1, p, Q, fh, BC, BS, hip, hp, hu, A, K => by
    have hn6 := L.1.2.1
    unfold wY_applyRule_48
    refine pk_lt n p (fun lt => nm_r (nI_1 i) ?_) fun ge => ⟨n + 2 - p, ?_⟩
    · exact K Q BC BS fh A (yq_i_r _ _) (fun p' q' j' h1 h2 h3 h4 => by omega)
    · refine ya_61 L S0 hr hip ge (n + 2 - p) p (Nat.le_refl _) (by omega) (by omega) A fun Q1 BC1 BS1 fh1 a1 c1 d1 => ?_
      refine ya_48 L S0 hr h1 u (p + 1) (by omega) (by omega) (by omega) a1 fun Q2 BC2 BS2 fh2 a2 c2 d2 => ?_
      refine K Q2 BC2 BS2 fh2 a2 (yq_i_t c1 c2) fun p' q' j' e1 e2 e3 e4 => ?_
      rcases Nat.eq_or_lt_of_le e1 with z | z
      · subst z
        exact ya_p_i c2 (d1 q' j' e2 e3 e4)
      · exact d2 p' q' j' z e2 e3 e4
theorem ya_35 {post : SY → Prop} (L : xl sy tk w R T ci cd cr lm nr n) {Q0 : Nat → Option (List Nat)} (S0 : yr_s sy nr tk n w Q0) {r : Nat} (hr : r < nr) :
    ∀ (u i : Nat) {Q : Nat → Option (List Nat)} {fh : Int32} {BC : Nat → Int32} {BS : Nat → Int64}, i ≤ n + 1 → n + 1 - i < u →
    ya_s sy nr tk n w Q0 Q fh BC BS →
    (∀ Q' BC' BS' fh', ya_s sy nr tk n w Q0 Q' fh' BC' BS' → yq_i w Q Q' → (∀ i' p' q' j', i ≤ i' → i' ≤ p' → p' ≤ q' → q' ≤ j' → j' ≤ n → ya_p sy w Q0 Q' r i' p' q' j') → post (nI ci, nI cd, nI cr, nI lm, nI nr, nI s, nI n, fs, fc, fq, fh', R, T, sa, sh, BC', BS')) →
    wY_applyRule_35 post (nI (sy r 0)) (nI (sy r 1)) (nI (sy r 2)) (nI (sy r 3)) u (nI i) (nI ci) (nI cd) (nI cr) (nI lm) (nI nr) (nI s) (nI n) fs fc fq fh R T sa sh BC BS
  | 0, _, _, _, _, _, _, h, _, _ => by omega
  | u + 1, i, Q, fh, BC, BS, hi, hu, A, K => by
    have hn6 := L.1.2.1
    unfold wY_applyRule_35
    refine pk_lt n i (fun lt => ?_) fun ge => ⟨n + 2 - i, ?_⟩
    · exact K Q BC BS fh A (yq_i_r _ _) (fun i' p' q' j' h1 h2 h3 h4 h5 => by omega)
    · refine ya_48 L S0 hr ge (n + 2 - i) i (Nat.le_refl _) (by omega) (by omega) A fun Q1 BC1 BS1 fh1 a1 c1 d1 => ?_
      refine ya_35 L S0 hr u (i + 1) (by omega) (by omega) a1 fun Q2 BC2 BS2 fh2 a2 c2 d2 => ?_
      refine K Q2 BC2 BS2 fh2 a2 (yq_i_t c1 c2) fun i' p' q' j' e1 e2 e3 e4 e5 => ?_
      rcases Nat.eq_or_lt_of_le e1 with z | z
      · subst z
        exact ya_p_i c2 (d1 p' q' j' e2 e3 e4 e5)
      · exact d2 i' p' q' j' z e2 e3 e4 e5
theorem ya_rule {post : SY → Prop} (L : xl sy tk w R T ci cd cr lm nr n) {Q0 Q : Nat → Option (List Nat)} (S0 : yr_s sy nr tk n w Q0) {r : Nat} (hr : r < nr) (A : ya_s sy nr tk n w Q0 Q fh BC BS)
    (K : ∀ Q' BC' BS' fh', ya_s sy nr tk n w Q0 Q' fh' BC' BS' → yq_i w Q Q' → (∀ i' p' q' j', i' ≤ p' → p' ≤ q' → q' ≤ j' → j' ≤ n → ya_p sy w Q0 Q' r i' p' q' j') → post (nI ci, nI cd, nI cr, nI lm, nI nr, nI s, nI n, fs, fc, fq, fh', R, T, sa, sh, BC', BS')) :
    wpY_applyRule post (nI ci, nI cd, nI cr, nI lm, nI nr, nI s, nI n, fs, fc, fq, fh, R, T, sa, sh, BC, BS) (nI r) := by
  have hnr := L.1.1
  unfold wpY_applyRule
  dsimp only
  rw [xl_i4, nI_clamp (by omega), xl_R0 L hr]
  refine ⟨pk_in (r * 4) 32 (by omega), nm_e (ya_rs (p := 1) L hr (by omega) (ya_rs (p := 2) L hr (by omega) (ya_rs (p := 3) L hr (by omega) ⟨n + 2, ?_⟩)))⟩
  exact ya_35 L S0 hr (n + 2) 0 (by omega) (by omega) A fun Q1 BC1 BS1 fh1 a1 c1 d1 => K Q1 BC1 BS1 fh1 a1 c1 fun i' p' q' j' e2 e3 e4 e5 => d1 i' p' q' j' (Nat.zero_le _) e2 e3 e4 e5
end
end
section
/-! the loops of the reference's parse -/
def yp_D (i j : Nat) : Nat → Nat → Prop := fun i' j' => i' < i ∨ (i' = i ∧ j' < j)
section
variable {ci cd cr lm nr s n : Nat} {fs fc : Int32} {fq : Int64} {fh : Int32} {R T sa sh BC : Nat → Int32} {BS : Nat → Int64}
variable {sy : Nat → Nat → Nat} {tk w : Nat → Nat}
theorem yq_c_m {D D' : Nat → Nat → Prop} {Q : Nat → Option (List Nat)} (h : ∀ a i j, yr_b n a i j → D' i j → D i j) (H : yq_c w n D Q BC BS) : yq_c w n D' Q BC BS :=
  fun a i j hb hd => H a i j hb (h a i j hb hd)
/-- the end of parse -/
theorem yp_118 {post : Int32 → SY → Prop} (L : xl sy tk w R T ci cd cr lm nr n) (hs : 6 ≤ s ∧ s ≤ 9) {Q : Nat → Option (List Nat)} (S : yr_s sy nr tk n w Q) (H : yq_c w n (fun _ _ => True) Q BC BS)
    (K1 : (∀ l, Q (yr_x s 0 n) = some l → lm < sc_c w l) → post 3 (nI ci, nI cd, nI cr, nI lm, nI nr, nI s, nI n, 3, fc, fq, fh, R, T, sa, sh, BC, BS))
    (K2 : ∀ l, Q (yr_x s 0 n) = some l → sc_c w l ≤ lm → ∀ st, (sc_c w l = 0 → st = 1) → (¬ sc_c w l = 0 → st = 2) → post st (nI ci, nI cd, nI cr, nI lm, nI nr, nI s, nI n, st, nI (sc_c w l), lN (sc_p 15 l), fh, R, T, sa, sh, BC, BS)) :
    wY_parse_118 post (nI ci) (nI cd) (nI cr) (nI lm) (nI nr) (nI s) (nI n) fs fc fq fh R T sa sh BC BS := by
  have hn6 := L.1.2.1
  have lm9 := L.2.2.1
  have hb : yr_b n s 0 n := ⟨by omega, by omega, by omega⟩
  have hx := yr_x_lt hn6 hb
  have hin : vp_in (nI (yr_x s 0 n)) 539 := pk_in _ 539 hx
  have V := H _ _ _ hb trivial
  unfold wY_parse_118
  refine yw_cell (i := 0) ⟨hin, ?_⟩
  rw [nI_clamp (by omega)]
  cases e : Q (yr_x s 0 n) with
  | none =>
    rw [V.1 e]
    exact br_f (nI_ge (a := lm) (b := 10) (by omega) (by decide)) (K1 fun l z => by rw [e] at z; cases z)
  | some l =>
    obtain ⟨v1, v2⟩ := V.2 l e
    obtain ⟨s1, s2⟩ := S _ _ _ _ hb e
    rw [v1, v2]
    refine pk_le _ _ (fun le => ⟨hin, nm_e ⟨hin, nm_e (pk_eq (sc_c w l) 0 (fun eq => ?_) fun ne => ?_)⟩⟩) fun gt => ?_
    · exact K2 l e le 1 (fun _ => rfl) (fun z => absurd eq z)
    · exact K2 l e le 2 (fun z => absurd z ne) (fun _ => rfl)
    · exact K1 fun l' z => by
        rw [e] at z
        cases z
        exact gt
theorem yp_93 {post : Int32 → SY → Prop} (L : xl sy tk w R T ci cd cr lm nr n) {Q0 : Nat → Option (List Nat)} (S0 : yr_s sy nr tk n w Q0) {m : Nat}
    {J73 : Int32 → Int32 → Int32 → Int32 → Int32 → Int32 → Int32 → Int32 → Int32 → Int32 → Int64 → Int32 → (Nat → Int32) → (Nat → Int32) → (Nat → Int32) → (Nat → Int32) → (Nat → Int32) → (Nat → Int64) → Prop} : ∀ (u r : Nat) {Q : Nat → Option (List Nat)} {fh : Int32} {BC : Nat → Int32} {BS : Nat → Int64}, r ≤ nr → nr - r < u →
    ya_s sy nr tk n w Q0 Q fh BC BS →
    (∀ Q' BC' BS' fh', ya_s sy nr tk n w Q0 Q' fh' BC' BS' → yq_i w Q Q' → (∀ r' i p q j, r ≤ r' → r' < nr → i ≤ p → p ≤ q → q ≤ j → j ≤ n → ya_p sy w Q0 Q' r' i p q j) → J73 (nI (m + 1)) (nI ci) (nI cd) (nI cr) (nI lm) (nI nr) (nI s) (nI n) fs fc fq fh' R T sa sh BC' BS') →
    wY_parse_93 post J73 (nI m) u (nI r) (nI ci) (nI cd) (nI cr) (nI lm) (nI nr) (nI s) (nI n) fs fc fq fh R T sa sh BC BS
  | 0, _, _, _, _, _, _, h, _, _ => by omega
  | u + 1, r, Q, fh, BC, BS, hr, hu, A, K => by
    have hnr := L.1.1
    unfold wY_parse_93
    refine pk_le nr r (fun le => nm_r (nI_1 m) ?_) fun gt => ?_
    · exact K Q BC BS fh A (yq_i_r _ _) (fun r' i p q j h1 h2 => by omega)
    · refine ya_rule L S0 gt A fun Q1 BC1 BS1 fh1 a1 c1 d1 => ?_
      dsimp only
      refine nm_r (nI_1 r) (yp_93 L S0 u (r + 1) gt (by omega) a1 fun Q2 BC2 BS2 fh2 a2 c2 d2 => ?_)
      refine K Q2 BC2 BS2 fh2 a2 (yq_i_t c1 c2) fun r' i p q j e1 e2 e3 e4 e5 e6 => ?_
      rcases Nat.eq_or_lt_of_le e1 with z | z
      · subst z
        exact ya_p_i c2 (d1 i p q j e3 e4 e5 e6)
      · exact d2 r' i p q j z e2 e3 e4 e5 e6
theorem yp_73 {post : Int32 → SY → Prop} (L : xl sy tk w R T ci cd cr lm nr n) (hs : 6 ≤ s ∧ s ≤ 9)
    (K : ∀ Q BC BS fh, yr_s sy nr tk n w Q → yq_c w n (fun _ _ => True) Q BC BS → yr_full sy nr tk n w Q → wY_parse_118 post (nI ci) (nI cd) (nI cr) (nI lm) (nI nr) (nI s) (nI n) fs fc fq fh R T sa sh BC BS) :
    ∀ (u m : Nat) {Q : Nat → Option (List Nat)} {fh : Int32} {BC : Nat → Int32} {BS : Nat → Int64}, m ≤ 112 → 112 - m < u →
    yr_s sy nr tk n w Q → yq_c w n (fun _ _ => True) Q BC BS → yr_c sy nr tk n w m Q → (fh = 0 → yr_full sy nr tk n w Q) →
    wY_parse_73 post u (nI m) (nI ci) (nI cd) (nI cr) (nI lm) (nI nr) (nI s) (nI n) fs fc fq fh R T sa sh BC BS
  | 0, _, _, _, _, _, _, h, _, _, _, _ => by omega
  | u + 1, m, Q, fh, BC, BS, hm, hu, S, H, C, F => by
    have hnr := L.1.1
    unfold wY_parse_73
    refine pk_le 112 m (fun le => ?_) fun gt => br_c (fun z => K Q BC BS fh S H (F z)) fun _ => ⟨nr + 1, ?_⟩
    · have e : m = 112 := by omega
      subst e
      exact K Q BC BS fh S H (yr_full_2 L.1 L.2.1 C)
    · refine yp_93 L S (nr + 1) 0 (by omega) (by omega) ⟨S, H, yq_i_r _ _, fun _ => rfl⟩ fun Q1 BC1 BS1 fh1 a1 c1 d1 => ?_
      have Rr : yr_r sy nr n w Q Q1 := ⟨c1, fun r i p q j a b c hr h1 h2 h3 h4 ea eb ec hc => d1 r i p q j (Nat.zero_le _) hr h1 h2 h3 h4 a b c ea eb ec hc⟩
      refine yp_73 L hs K u (m + 1) (by omega) (by omega) a1.1 a1.2.1 (yr_next L.1 L.2.1 S Rr C) fun z => ?_
      have e := a1.2.2.2 z
      rw [e] at Rr ⊢
      exact yr_full_1 L.1 L.2.1 S Rr C
/-- the state while the spans are filled -/
def yp_s (sy : Nat → Nat → Nat) (nr : Nat) (tk : Nat → Nat) (n : Nat) (w : Nat → Nat) (i j : Nat) (Q : Nat → Option (List Nat)) (BC : Nat → Int32) (BS : Nat → Int64) : Prop :=
  yr_s sy nr tk n w Q ∧ yq_c w n (yp_D i j) Q BC BS ∧ (∀ a i' j' l, yd_b tk n a i' j' l → yp_D i j i' j' → sc_c w l ≤ 9 → xm_has w Q (yr_x a i' j') l) ∧ (∀ a i' j', yr_b n a i' j' → ¬ yp_D i j i' j' → Q (yr_x a i' j') = none)
theorem yd_b10 {n' : Nat} {a i j : Nat} {l : List Nat} (h : yd_b tk n' a i j l) : yr_b n' a i j := by
  obtain ⟨h1, h2, h3⟩ := h
  refine ⟨?_, h1, h2⟩
  rcases h3 with ⟨h3, _⟩ | ⟨h3, _⟩ <;> omega
theorem yp_40 {post : Int32 → SY → Prop} (L : xl sy tk w R T ci cd cr lm nr n) {i : Nat} (hi : i ≤ n)
    {J30 : Int32 → Int32 → Int32 → Int32 → Int32 → Int32 → Int32 → Int32 → Int32 → Int32 → Int64 → Int32 → (Nat → Int32) → (Nat → Int32) → (Nat → Int32) → (Nat → Int32) → (Nat → Int32) → (Nat → Int64) → Prop}
    (K : ∀ Q BC BS fh, yp_s sy nr tk n w (i + 1) (i + 1) Q BC BS → J30 (nI (i + 1)) (nI ci) (nI cd) (nI cr) (nI lm) (nI nr) (nI s) (nI n) fs fc fq fh R T sa sh BC BS) : ∀ (u j : Nat) {Q : Nat → Option (List Nat)} {fh : Int32} {BC : Nat → Int32} {BS : Nat → Int64}, i ≤ j → j ≤ n + 1 → n + 1 - j < u →
    yp_s sy nr tk n w i j Q BC BS → wY_parse_40 post J30 (nI i) u (nI j) (nI ci) (nI cd) (nI cr) (nI lm) (nI nr) (nI s) (nI n) fs fc fq fh R T sa sh BC BS
  | 0, _, _, _, _, _, _, _, h, _ => by omega
  | u + 1, j, Q, fh, BC, BS, hij, hj, hu, A => by
    have hn6 := L.1.2.1
    obtain ⟨S, H, C, N⟩ := A
    unfold wY_parse_40
    refine pk_lt n j (fun lt => nm_r (nI_1 i) (K Q BC BS fh ⟨S, ?_, ?_, ?_⟩)) fun ge => ?_
    · refine yq_c_m (fun a i' j' hb hd => ?_) H
      unfold yr_b at hb
      unfold yp_D at *
      omega
    · intro a i' j' l hy hd hc
      have hb := yd_b10 hy
      refine C a i' j' l hy ?_ hc
      unfold yr_b at hb
      unfold yp_D at *
      omega
    · intro a i' j' hb hd
      refine N a i' j' hb ?_
      unfold yr_b at hb
      unfold yp_D at *
      omega
    · refine yw_fill L hij ge S H (fun a ha => N a i j ⟨ha, hij, ge⟩ ?_) fun Q1 BC1 BS1 fh1 a1 b1 c1 d1 => ?_
      · unfold yp_D
        omega
      · have ne : ∀ {a' i' j'}, yr_b n a' i' j' → ¬ (i' = i ∧ j' = j) → Q1 (yr_x a' i' j') = Q (yr_x a' i' j') := by
          intro a' i' j' hb' z
          exact d1 _ fun a ha e => z (yr_x_inj hn6 hb' ⟨ha, hij, ge⟩ e).2
        dsimp only
        refine nm_r (nI_1 j) (yp_40 L hi K u (j + 1) (by omega) (by omega) (by omega) ⟨a1, ?_, ?_, ?_⟩)
        · refine yq_c_m (fun a i' j' hb hd => ?_) b1
          unfold yp_D at *
          omega
        · intro a i' j' l hy hd hc
          by_cases z : i' = i ∧ j' = j
          · obtain ⟨rfl, rfl⟩ := z
            exact c1 a l hy hc
          · have := C a i' j' l hy (by unfold yp_D at *; omega) hc
            unfold xm_has at *
            rw [ne (yd_b10 hy) z]
            exact this
        · intro a i' j' hb hd
          have z : ¬ (i' = i ∧ j' = j) := by
            unfold yp_D at hd
            omega
          rw [ne hb z]
          refine N a i' j' hb ?_
          unfold yp_D at *
          omega
theorem yp_30 {post : Int32 → SY → Prop} (L : xl sy tk w R T ci cd cr lm nr n) (hs : 6 ≤ s ∧ s ≤ 9)
    (K : ∀ Q BC BS fh, yr_s sy nr tk n w Q → yq_c w n (fun _ _ => True) Q BC BS → yr_full sy nr tk n w Q → wY_parse_118 post (nI ci) (nI cd) (nI cr) (nI lm) (nI nr) (nI s) (nI n) fs fc fq fh R T sa sh BC BS) :
    ∀ (u i : Nat) {Q : Nat → Option (List Nat)} {fh : Int32} {BC : Nat → Int32} {BS : Nat → Int64}, i ≤ n + 1 → n + 1 - i < u →
    yp_s sy nr tk n w i i Q BC BS → wY_parse_30 post u (nI i) (nI ci) (nI cd) (nI cr) (nI lm) (nI nr) (nI s) (nI n) fs fc fq fh R T sa sh BC BS
  | 0, _, _, _, _, _, _, h, _ => by omega
  | u + 1, i, Q, fh, BC, BS, hi, hu, A => by
    have hn6 := L.1.2.1
    unfold wY_parse_30
    refine pk_lt n i (fun lt => ⟨113, ?_⟩) fun ge => ⟨n + 2 - i, ?_⟩
    · obtain ⟨S, H, C, N⟩ := A
      refine yp_73 L hs K 113 0 (by omega) (by omega) S (yq_c_m (fun a i' j' hb _ => ?_) H) ?_ (fun z => absurd z (by decide))
      · unfold yr_b at hb
        unfold yp_D
        omega
      · intro a i' j' l hy hc
        have hb := yd_b10 hy
        refine C a i' j' l hy ?_ hc
        unfold yr_b at hb
        unfold yp_D
        omega
    · exact yp_40 L ge (fun Q1 BC1 BS1 fh1 a1 => yp_30 L hs K u (i + 1) (by omega) (by omega) a1) (n + 2 - i) i (Nat.le_refl _) (by omega) (by omega) A
theorem yp_all {post : Int32 → SY → Prop} (L : xl sy tk w R T ci cd cr lm nr n) (hs : 6 ≤ s ∧ s ≤ 9)
    (K1 : ∀ Q, yr_s sy nr tk n w Q → yr_full sy nr tk n w Q → (∀ l, Q (yr_x s 0 n) = some l → lm < sc_c w l) → ∀ fh BC BS, post 3 (nI ci, nI cd, nI cr, nI lm, nI nr, nI s, nI n, 3, fc, fq, fh, R, T, sa, sh, BC, BS))
    (K2 : ∀ Q, yr_s sy nr tk n w Q → yr_full sy nr tk n w Q → ∀ l, Q (yr_x s 0 n) = some l → sc_c w l ≤ lm → ∀ st, (sc_c w l = 0 → st = 1) → (¬ sc_c w l = 0 → st = 2) → ∀ fh BC BS, post st (nI ci, nI cd, nI cr, nI lm, nI nr, nI s, nI n, st, nI (sc_c w l), lN (sc_p 15 l), fh, R, T, sa, sh, BC, BS)) :
    ∃ u, wY_parse_30 post u 0 (nI ci) (nI cd) (nI cr) (nI lm) (nI nr) (nI s) (nI n) fs fc fq fh R T sa sh BC BS := by
  refine ⟨n + 2, yp_30 L hs (fun Q BC BS fh S H F => ?_) (n + 2) 0 (Q := fun _ => none) (by omega) (by omega) ⟨(fun a i j l _ z => by cases z), fun a i j hb hd => ?_, fun a i j l _ hd => ?_, fun _ _ _ _ _ => rfl⟩⟩
  · exact yp_118 L hs S H (fun z => K1 Q S F z fh BC BS) (fun l e hl st h1 h2 => K2 Q S F l e hl st h1 h2 fh BC BS)
  · unfold yp_D at hd
    omega
  · unfold yp_D at hd
    omega
end
end
section
/-! shortest lengths: one pure function for both sides -/
def sl_v (m : Nat → Option Nat) (a : Nat) : Option Nat := if a < 6 then some 1 else if a = 10 then some 0 else m a
def sl_a : Option Nat → Option Nat → Option Nat
  | some a, some b => some (a + b)
  | _, _ => none
def sl_p (sy : Nat → Nat → Nat) (m : Nat → Option Nat) (r : Nat) : Nat → Option Nat
  | 0 => some 0
  | p + 1 => sl_a (sl_p sy m r p) (sl_v m (sy r (p + 1)))
def sl_t (m : Nat → Option Nat) (a v : Nat) : Nat → Option Nat := fun j => if j = a then some v else m j
def sl_u (m : Nat → Option Nat) (a : Nat) : Option Nat → (Nat → Option Nat)
  | none => m
  | some v => match m a with
    | none => sl_t m a v
    | some x => if v < x then sl_t m a v else m
def sl_k (sy : Nat → Nat → Nat) (m : Nat → Option Nat) : Nat → (Nat → Option Nat)
  | 0 => m
  | r + 1 => sl_u (sl_k sy m r) (sy r 0) (sl_p sy (sl_k sy m r) r 3)
def sl_q (sy : Nat → Nat → Nat) (nr : Nat) : Nat → (Nat → Option Nat)
  | 0 => fun _ => none
  | k + 1 => sl_k sy (sl_q sy nr k) nr
def sl_e : Option Nat → Int32
  | none => -1
  | some v => nI v
def sl_c (o : Option Nat) : Nat := match o with
  | none => 0
  | some _ => 1
def sl_n (m : Nat → Option Nat) : Nat := sl_c (m 6) + sl_c (m 7) + sl_c (m 8) + sl_c (m 9)
/-- known values are at most 3 to the number of known ones -/
def sl_b (m : Nat → Option Nat) : Prop := ∀ a v, 6 ≤ a → a ≤ 9 → m a = some v → v ≤ 3 ^ sl_n m
theorem sl_c_le (o : Option Nat) : sl_c o ≤ 1 := by cases o <;> simp [sl_c]
theorem sl_n_le (m : Nat → Option Nat) : sl_n m ≤ 4 := by
  have := sl_c_le (m 6)
  have := sl_c_le (m 7)
  have := sl_c_le (m 8)
  have := sl_c_le (m 9)
  unfold sl_n
  omega
theorem sl_b81 {m : Nat → Option Nat} (h : sl_b m) {a v : Nat} (h1 : 6 ≤ a) (h2 : a ≤ 9) (e : m a = some v) : v ≤ 81 := by
  have a1 := h a v h1 h2 e
  have a2 : 3 ^ sl_n m ≤ 3 ^ 4 := Nat.pow_le_pow_right (by decide) (sl_n_le m)
  have a3 : (3 : Nat) ^ 4 = 81 := by decide
  omega
theorem sl_v_b {m : Nat → Option Nat} (h : sl_b m) {a v : Nat} (h2 : a ≤ 10) (e : sl_v m a = some v) : v ≤ 3 ^ sl_n m := by
  have p : 0 < 3 ^ sl_n m := Nat.pos_of_ne_zero (by simp)
  unfold sl_v at e
  by_cases z : a < 6
  · rw [if_pos z] at e
    cases e
    omega
  · rw [if_neg z] at e
    by_cases y : a = 10
    · rw [if_pos y] at e
      cases e
      omega
    · rw [if_neg y] at e
      exact h a v (by omega) (by omega) e
theorem sl_a_some {x y : Option Nat} {v : Nat} (h : sl_a x y = some v) : ∃ a b, x = some a ∧ y = some b ∧ v = a + b := by
  cases x with
  | none => cases h
  | some a =>
    cases y with
    | none => cases h
    | some b =>
      cases h
      exact ⟨a, b, rfl, rfl, rfl⟩
theorem sl_p_b {sy : Nat → Nat → Nat} {m : Nat → Option Nat} (h : sl_b m) {r : Nat} (hr : sy r 1 ≤ 10 ∧ sy r 2 ≤ 10 ∧ sy r 3 ≤ 10) {v : Nat} (e : sl_p sy m r 3 = some v) : v ≤ 3 ^ (sl_n m + 1) := by
  obtain ⟨x, c, e1, e2, rfl⟩ := sl_a_some e
  obtain ⟨y, b, e3, e4, rfl⟩ := sl_a_some e1
  obtain ⟨z, a, e5, e6, rfl⟩ := sl_a_some e3
  cases e5
  have := sl_v_b h hr.2.2 e2
  have := sl_v_b h hr.2.1 e4
  have := sl_v_b h hr.1 e6
  rw [Nat.pow_succ]
  omega
theorem sl_p_n {sy : Nat → Nat → Nat} {m : Nat → Option Nat} {r p : Nat} (h : sl_p sy m r p = none) : ∀ e, sl_p sy m r (p + e) = none
  | 0 => h
  | e + 1 => by
    show sl_a (sl_p sy m r (p + e)) _ = none
    rw [sl_p_n h e]
    rfl
theorem sl_p_n3 {sy : Nat → Nat → Nat} {m : Nat → Option Nat} {r p : Nat} (h : sl_p sy m r p = none) (hp : p ≤ 3) : sl_p sy m r 3 = none := by
  have := sl_p_n h (3 - p)
  rw [show p + (3 - p) = 3 by omega] at this
  exact this
theorem sl_t_n {m : Nat → Option Nat} {a v : Nat} (h1 : 6 ≤ a) (h2 : a ≤ 9) : sl_n (sl_t m a v) = sl_n m + 1 - sl_c (m a) := by
  have := sl_c_le (m a)
  have e : ∀ j, sl_c (sl_t m a v j) = if j = a then 1 else sl_c (m j) := by
    intro j
    unfold sl_t
    by_cases z : j = a
    · rw [if_pos z, if_pos z]
      rfl
    · rw [if_neg z, if_neg z]
  unfold sl_n
  rw [e, e, e, e]
  rcases (by omega : a = 6 ∨ a = 7 ∨ a = 8 ∨ a = 9) with rfl | rfl | rfl | rfl <;> simp <;> omega
theorem sl_u_b {m : Nat → Option Nat} {a : Nat} {o : Option Nat} (h : sl_b m) (h1 : 6 ≤ a) (h2 : a ≤ 9) (ho : ∀ v, o = some v → v ≤ 3 ^ (sl_n m + 1)) : sl_b (sl_u m a o) := by
  cases o with
  | none => exact h
  | some v =>
    have hv := ho v rfl
    cases e : m a with
    | none =>
      have eu : sl_u m a (some v) = sl_t m a v := by simp [sl_u, e]
      have en : sl_n (sl_t m a v) = sl_n m + 1 := by
        rw [sl_t_n h1 h2, e]
        rfl
      rw [eu]
      intro b x hb1 hb2 eb
      rw [en]
      unfold sl_t at eb
      by_cases z : b = a
      · rw [if_pos z] at eb
        cases eb
        exact hv
      · rw [if_neg z] at eb
        exact Nat.le_trans (h b x hb1 hb2 eb) (Nat.pow_le_pow_right (by decide) (by omega))
    | some x =>
      by_cases z : v < x
      · have eu : sl_u m a (some v) = sl_t m a v := by simp [sl_u, e, z]
        have en : sl_n (sl_t m a v) = sl_n m := by
          rw [sl_t_n h1 h2, e]
          rfl
        rw [eu]
        intro b y hb1 hb2 eb
        rw [en]
        unfold sl_t at eb
        by_cases q : b = a
        · rw [if_pos q] at eb
          cases eb
          have := h a x h1 h2 e
          omega
        · rw [if_neg q] at eb
          exact h b y hb1 hb2 eb
      · have eu : sl_u m a (some v) = m := by simp [sl_u, e, z]
        rw [eu]
        exact h
theorem sl_k_b {sy : Nat → Nat → Nat} {nr n : Nat} (hg : xd_g sy nr n) {m : Nat → Option Nat} (h : sl_b m) : ∀ {r : Nat}, r ≤ nr → sl_b (sl_k sy m r)
  | 0, _ => h
  | r + 1, hr => by
    have ih := sl_k_b hg h (r := r) (by omega)
    have G := hg.2.2 r hr
    exact sl_u_b ih G.1 G.2.1 fun v e => sl_p_b ih ⟨G.2.2.1, G.2.2.2.1, G.2.2.2.2.1⟩ e
theorem sl_q_b {sy : Nat → Nat → Nat} {nr n : Nat} (hg : xd_g sy nr n) : ∀ k, sl_b (sl_q sy nr k)
  | 0 => fun _ _ _ _ e => by cases e
  | k + 1 => sl_k_b hg (sl_q_b hg k) (Nat.le_refl _)
/-- the component's array -/
def sl_x (m : Nat → Option Nat) (ml : Nat → Int32) : Prop := ∀ a, 6 ≤ a → a ≤ 9 → ml (a - 6) = sl_e (m a)
/-- the reference's array -/
def sl_y (m : Nat → Option Nat) (sh : Nat → Int32) : Prop := ∀ a, a ≤ 10 → sh a = sl_e (sl_v m a)
theorem sl_v_t {m : Nat → Option Nat} {a v j : Nat} (h1 : 6 ≤ a) (h2 : a ≤ 9) : sl_v (sl_t m a v) j = if j = a then some v else sl_v m j := by
  unfold sl_v sl_t
  by_cases z : j = a
  · subst z
    rw [if_neg (by omega), if_neg (by omega), if_pos rfl, if_pos rfl]
  · rw [if_neg z, if_neg z]
theorem sl_x_t {m : Nat → Option Nat} {ml : Nat → Int32} (h : sl_x m ml) {a v : Nat} (h1 : 6 ≤ a) : sl_x (sl_t m a v) (upd ml (a - 6) (nI v)) := by
  intro b hb1 hb2
  unfold sl_t
  by_cases z : b = a
  · subst z
    rw [if_pos rfl, pk_us]
    rfl
  · rw [if_neg z, pk_un (by omega)]
    exact h b hb1 hb2
theorem sl_y_t {m : Nat → Option Nat} {sh : Nat → Int32} (h : sl_y m sh) {a v : Nat} (h1 : 6 ≤ a) (h2 : a ≤ 9) : sl_y (sl_t m a v) (upd sh a (nI v)) := by
  intro b hb
  rw [sl_v_t h1 h2]
  by_cases z : b = a
  · subst z
    rw [if_pos rfl, pk_us]
    rfl
  · rw [if_neg z, pk_un z]
    exact h b hb
theorem sl_v_m {m : Nat → Option Nat} {a : Nat} (h1 : 6 ≤ a) (h2 : a ≤ 9) : sl_v m a = m a := by
  unfold sl_v
  rw [if_neg (by omega), if_neg (by omega)]
end
section
/-! refreshShortest of the component -/
section
variable {ci cd cr lm nr s n : Nat} {fs fr fo fp gc gl : Int32} {gs : Int64} {R ml T ok os rp IC IL : Nat → Int32} {IS : Nat → Int64} {IT SC SL : Nat → Int32} {SS : Nat → Int64}
variable {sy : Nat → Nat → Nat} {tk w : Nat → Nat} {m : Nat → Option Nat}
theorem sx_r4 {post : Int32 → Prop} (L : xl sy tk w R T ci cd cr lm nr n) (hb : sl_b m) (hx : sl_x m ml) {r : Nat} (hr : r < nr) (K : post (sl_e (sl_p sy m r 3))) : ∀ (u p a : Nat), p ≤ 3 → 3 - p < u → sl_p sy m r p = some a →
    wX_shortestRight_4 post (nI r) (nI ci) (nI cd) (nI cr) (nI lm) (nI nr) (nI s) (nI n) fs fr fo fp gc gl gs R ml T ok os rp IC IL IS IT SC SL SS u (nI a) (nI (p + 1))
  | 0, _, _, _, h, _ => by omega
  | u + 1, p, a, hp, hu, e => by
    have hnr := L.1.1
    unfold wX_shortestRight_4
    refine pk_lt 3 (p + 1) (fun lt => ?_) fun ge => ?_
    · have z : p = 3 := by omega
      subst z
      rw [e] at K
      exact K
    · have G := L.1.2.2 r hr
      have s10 : sy r (p + 1) ≤ 10 := by
        rcases (by omega : p = 0 ∨ p = 1 ∨ p = 2) with z | z | z <;> subst z <;> simp only [Nat.zero_add, Nat.reduceAdd] <;> omega
      rw [xl_i4, nI_add, nI_clamp (by omega), xl_R L hr (by omega)]
      refine ⟨pk_in (r * 4 + (p + 1)) 32 (by omega), nm_e ?_⟩
      have nxt := fun {b : Nat} (q : sl_v m (sy r (p + 1)) = some b) => sx_r4 (post := post) L hb hx hr K u (p + 1) (a + b) (by omega) (by omega) (by show sl_a _ _ = _; rw [e, q]; rfl)
      by_cases z : sy r (p + 1) = 10
      · rw [z, xl_e_10]
        refine br_t (by decide) (br_t rfl (nm_r (nI_1 _) ?_))
        have := nxt (b := 0) (by unfold sl_v; rw [z]; rfl)
        exact this
      · rw [xl_e_n z]
        refine pk_lt _ 6 (fun lt => br_f (xr_m1 (by omega)) (nm_r (nI_1 a) (nm_r (nI_1 _) ?_))) (fun ge6 => ?_)
        · exact nxt (b := 1) (by unfold sl_v; rw [if_pos lt])
        · have e6 : nI (sy r (p + 1)) - 6 = nI (sy r (p + 1) - 6) := pk_sub ge6
          rw [e6, nI_clamp (by omega), hx _ ge6 (by omega)]
          refine ⟨pk_in (sy r (p + 1) - 6) 4 (by omega), nm_e ?_⟩
          have ev := sl_v_m (m := m) (a := sy r (p + 1)) ge6 (by omega)
          cases em : m (sy r (p + 1)) with
          | none =>
            refine br_t rfl ?_
            have : sl_p sy m r (p + 1) = none := by
              show sl_a _ _ = _
              rw [e, ev, em]
              rfl
            rw [sl_p_n3 this (by omega)] at K
            exact K
          | some v =>
            have := sl_b81 hb ge6 (by omega) em
            refine br_f (xr_m1 (by omega)) (nm_r (nI_add _ _) (nm_r (nI_1 _) (nxt (by rw [ev, em]))))
theorem sx_right {post : Int32 → Prop} (L : xl sy tk w R T ci cd cr lm nr n) (hb : sl_b m) (hx : sl_x m ml) {r : Nat} (hr : r < nr) (K : post (sl_e (sl_p sy m r 3))) : wpX_shortestRight post (nI ci, nI cd, nI cr, nI lm, nI nr, nI s, nI n, fs, fr, fo, fp, gc, gl, gs, R, ml, T, ok, os, rp, IC, IL, IS, IT, SC, SL, SS) (nI r) :=
  ⟨4, sx_r4 L hb hx hr K 4 0 0 (by omega) (by omega) rfl⟩
theorem sx_29 {post : SX → Prop} (L : xl sy tk w R T ci cd cr lm nr n) (hb : sl_b m) {q : Nat} {J22 : Int32 → (Nat → Int32) → (Nat → Int32) → (Nat → Int32) → (Nat → Int32) → (Nat → Int32) → (Nat → Int32) → (Nat → Int32) → (Nat → Int32) → (Nat → Int64) → (Nat → Int32) → (Nat → Int32) → (Nat → Int32) → (Nat → Int64) → Prop}
    (K : ∀ ml, sl_x (sl_k sy m nr) ml → J22 (nI (q + 1)) R ml T ok os rp IC IL IS IT SC SL SS) : ∀ (u r : Nat) {ml : Nat → Int32}, r ≤ nr → nr - r < u → sl_x (sl_k sy m r) ml → wX_refreshShortest_29 post J22 (nI q) (nI ci) (nI cd) (nI cr) (nI lm) (nI nr) (nI s) (nI n) fs fr fo fp gc gl gs u (nI r) R ml T ok os rp IC IL IS IT SC SL SS
  | 0, _, _, _, h, _ => by omega
  | u + 1, r, ml, hr, hu, hx => by
    have hnr := L.1.1
    unfold wX_refreshShortest_29
    refine pk_le nr r (fun le => nm_r (nI_1 q) ?_) fun gt => ?_
    · have e : r = nr := by omega
      subst e
      exact K ml hx
    · have B := sl_k_b L.1 hb hr
      have G := L.1.2.2 r gt
      have nxt := fun {ml' : Nat → Int32} (h : sl_x (sl_k sy m (r + 1)) ml') => sx_29 (post := post) L hb (J22 := J22) K u (r + 1) gt (by omega) h
      refine sx_right L B hx gt ?_
      rw [xl_i4, nI_clamp (by omega), xl_R0 L gt]
      refine ⟨pk_in (r * 4) 32 (by omega), nm_r (e' := nI (sy r 0 - 6)) (pk_sub G.1) ?_⟩
      rw [nI_clamp (by omega)]
      have hin : vp_in (nI (sy r 0 - 6)) 4 := pk_in (sy r 0 - 6) 4 (by omega)
      have U : sl_k sy m (r + 1) = sl_u (sl_k sy m r) (sy r 0) (sl_p sy (sl_k sy m r) r 3) := rfl
      cases ep : sl_p sy (sl_k sy m r) r 3 with
      | none =>
        rw [ep] at U
        refine br_t rfl (nm_r (nI_1 r) (nxt ?_))
        rw [U]
        exact hx
      | some v =>
        rw [ep] at U
        have v1 := sl_p_b B ⟨G.2.2.1, G.2.2.2.1, G.2.2.2.2.1⟩ ep
        have v2 : 3 ^ (sl_n (sl_k sy m r) + 1) ≤ 3 ^ 5 := Nat.pow_le_pow_right (by decide) (by have := sl_n_le (sl_k sy m r); omega)
        have v3 : (3 : Nat) ^ 5 = 243 := by decide
        refine br_f (xr_m1 (by omega)) ⟨hin, ?_⟩
        rw [hx _ G.1 G.2.1]
        cases em : sl_k sy m r (sy r 0) with
        | none =>
          have U2 : sl_k sy m (r + 1) = sl_t (sl_k sy m r) (sy r 0) v := by rw [U]; simp [sl_u, em]
          refine br_t rfl ⟨hin, nm_e (nm_r (nI_1 r) (nxt ?_))⟩
          rw [U2]
          exact sl_x_t hx G.1
        | some x =>
          have x1 := sl_b81 B G.1 G.2.1 em
          refine br_f (xr_m1 (by omega)) ⟨hin, pk_le x v (fun le => nm_r (nI_1 r) (nxt ?_)) fun gt2 => ⟨hin, nm_e (nm_r (nI_1 r) (nxt ?_))⟩⟩
          · have U2 : sl_k sy m (r + 1) = sl_k sy m r := by rw [U]; simp [sl_u, em, Nat.not_lt.mpr le]
            rw [U2]
            exact hx
          · have U2 : sl_k sy m (r + 1) = sl_t (sl_k sy m r) (sy r 0) v := by rw [U]; simp [sl_u, em, gt2]
            rw [U2]
            exact sl_x_t hx G.1
end
section
variable {ci cd cr lm nr s n : Nat} {fs fr fo fp gc gl : Int32} {gs : Int64} {R ml T ok os rp IC IL : Nat → Int32} {IS : Nat → Int64} {IT SC SL : Nat → Int32} {SS : Nat → Int64}
variable {sy : Nat → Nat → Nat} {tk w : Nat → Nat}
theorem sx_22 {post : SX → Prop} (L : xl sy tk w R T ci cd cr lm nr n) (K : ∀ ml, sl_x (sl_q sy nr 4) ml → post (nI ci, nI cd, nI cr, nI lm, nI nr, nI s, nI n, fs, fr, fo, fp, gc, gl, gs, R, ml, T, ok, os, rp, IC, IL, IS, IT, SC, SL, SS)) : ∀ (u q : Nat) {ml : Nat → Int32}, q ≤ 4 → 4 - q < u → sl_x (sl_q sy nr q) ml → wX_refreshShortest_22 post (nI ci) (nI cd) (nI cr) (nI lm) (nI nr) (nI s) (nI n) fs fr fo fp gc gl gs u (nI q) R ml T ok os rp IC IL IS IT SC SL SS
  | 0, _, _, _, h, _ => by omega
  | u + 1, q, ml, hq, hu, hx => by
    unfold wX_refreshShortest_22
    refine pk_le 4 q (fun le => ?_) fun gt => ⟨nr + 1, ?_⟩
    · have e : q = 4 := by omega
      subst e
      exact K ml hx
    · exact sx_29 L (sl_q_b L.1 q) (fun ml' h => sx_22 L K u (q + 1) (by omega) (by omega) h) (nr + 1) 0 (by omega) (by omega) hx
theorem sx_2 {post : SX → Prop} (L : xl sy tk w R T ci cd cr lm nr n) (K : ∀ ml, sl_x (sl_q sy nr 4) ml → post (nI ci, nI cd, nI cr, nI lm, nI nr, nI s, nI n, fs, fr, fo, fp, gc, gl, gs, R, ml, T, ok, os, rp, IC, IL, IS, IT, SC, SL, SS)) : ∀ (u q : Nat) {ml : Nat → Int32}, q ≤ 4 → 4 - q < u → (∀ i, i < q → ml i = -1) → wX_refreshShortest_2 post (nI ci) (nI cd) (nI cr) (nI lm) (nI nr) (nI s) (nI n) fs fr fo fp gc gl gs u (nI q) R ml T ok os rp IC IL IS IT SC SL SS
  | 0, _, _, _, h, _ => by omega
  | u + 1, q, ml, hq, hu, hx => by
    unfold wX_refreshShortest_2
    refine pk_le 4 q (fun le => ⟨5, ?_⟩) fun gt => ⟨pk_in q 4 gt, nm_e (nm_r (nI_1 q) ?_)⟩
    · exact sx_22 L K 5 0 (by omega) (by omega) fun a h1 h2 => hx (a - 6) (by omega)
    · rw [nI_clamp (by omega)]
      refine sx_2 L K u (q + 1) (by omega) (by omega) fun i hi => ?_
      by_cases z : i = q
      · subst z
        exact pk_us
      · rw [pk_un z]
        exact hx i (by omega)
theorem sx_refresh {post : SX → Prop} (L : xl sy tk w R T ci cd cr lm nr n) (K : ∀ ml, sl_x (sl_q sy nr 4) ml → post (nI ci, nI cd, nI cr, nI lm, nI nr, nI s, nI n, fs, fr, fo, fp, gc, gl, gs, R, ml, T, ok, os, rp, IC, IL, IS, IT, SC, SL, SS)) : wpX_refreshShortest post (nI ci, nI cd, nI cr, nI lm, nI nr, nI s, nI n, fs, fr, fo, fp, gc, gl, gs, R, ml, T, ok, os, rp, IC, IL, IS, IT, SC, SL, SS) :=
  ⟨5, sx_2 L K 5 0 (by omega) (by omega) fun i hi => by omega⟩
end
end
section
/-! shortestLength of the reference -/
section
variable {ci cd cr lm nr s n : Nat} {fs fc : Int32} {fq : Int64} {fh : Int32} {R T sa sh BC : Nat → Int32} {BS : Nat → Int64}
variable {sy : Nat → Nat → Nat} {tk w : Nat → Nat} {m : Nat → Option Nat}
theorem sy_93 {post : Int32 → SY → Prop} (L : xl sy tk w R T ci cd cr lm nr n) (hb : sl_b m) (hx : sl_y m sh) {r q : Nat} (hr : r < nr) {N : Int32} {J59 J66 : Int32 → (Nat → Int32) → (Nat → Int32) → (Nat → Int32) → (Nat → Int32) → (Nat → Int32) → (Nat → Int64) → Prop}
    (K : ∀ sh, sl_y (sl_u m (sy r 0) (sl_p sy m r 3)) sh → J66 (nI (r + 1)) R T sa sh BC BS) : ∀ (u p : Nat) {x5 x6 : Int32}, p ≤ 3 → 3 - p < u → ((x6 = 1 ∧ ∃ a, sl_p sy m r p = some a ∧ x5 = nI a) ∨ (x6 = 0 ∧ sl_p sy m r p = none)) →
    wY_shortestLength_93 post J59 J66 N (nI q) (nI r) (nI (sy r 0)) (nI ci) (nI cd) (nI cr) (nI lm) (nI nr) (nI s) (nI n) fs fc fq fh R T sa sh BC BS u x5 x6 (nI (p + 1))
  | 0, _, _, _, _, h, _ => by omega
  | u + 1, p, x5, x6, hp, hu, hs => by
    have hnr := L.1.1
    have G := L.1.2.2 r hr
    unfold wY_shortestLength_93
    refine pk_lt 3 (p + 1) (fun lt => ?_) fun ge => ?_
    · have z : p = 3 := by omega
      subst z
      have hin : vp_in (nI (sy r 0)) 11 := pk_in (sy r 0) 11 (by omega)
      rcases hs with ⟨rfl, a, e, rfl⟩ | ⟨rfl, e⟩
      · rw [e] at K
        have v1 := sl_p_b hb ⟨G.2.2.1, G.2.2.2.1, G.2.2.2.2.1⟩ e
        have v2 : 3 ^ (sl_n m + 1) ≤ 3 ^ 5 := Nat.pow_le_pow_right (by decide) (by have := sl_n_le m; omega)
        have v3 : (3 : Nat) ^ 5 = 243 := by decide
        refine br_f (by decide) ⟨hin, ?_⟩
        rw [nI_clamp (by omega), hx _ (by omega), sl_v_m G.1 G.2.1]
        cases em : m (sy r 0) with
        | none =>
          have U2 : sl_u m (sy r 0) (some a) = sl_t m (sy r 0) a := by simp [sl_u, em]
          rw [U2] at K
          exact br_t rfl ⟨hin, nm_e (nm_r (nI_1 r) (K _ (sl_y_t hx G.1 G.2.1)))⟩
        | some x =>
          have x1 := sl_b81 hb G.1 G.2.1 em
          refine br_f (xr_m1 (by omega)) ⟨hin, pk_le x a (fun le => nm_r (nI_1 r) (K _ ?_)) fun gt2 => ⟨hin, nm_e (nm_r (nI_1 r) (K _ ?_))⟩⟩
          · have U2 : sl_u m (sy r 0) (some a) = m := by simp [sl_u, em, Nat.not_lt.mpr le]
            rw [U2]
            exact hx
          · have U2 : sl_u m (sy r 0) (some a) = sl_t m (sy r 0) a := by simp [sl_u, em, gt2]
            rw [U2]
            exact sl_y_t hx G.1 G.2.1
      · rw [e] at K
        exact br_t rfl (nm_r (nI_1 r) (K _ hx))
    · have s10 : sy r (p + 1) ≤ 10 := by
        rcases (by omega : p = 0 ∨ p = 1 ∨ p = 2) with z | z | z <;> subst z <;> simp only [Nat.zero_add, Nat.reduceAdd] <;> omega
      refine ya_rs L hr (by omega) ⟨pk_in (sy r (p + 1)) 11 (by omega), ?_⟩
      rw [nI_clamp (by omega), hx _ s10]
      have nxt := fun {x5 x6 : Int32} q => sy_93 (post := post) (q := q) (N := N) (J59 := J59) L hb hx hr K u (p + 1) (x5 := x5) (x6 := x6) (by omega) (by omega)
      have hin : vp_in (nI (sy r (p + 1))) 11 := pk_in (sy r (p + 1)) 11 (by omega)
      have e1 : sl_p sy m r (p + 1) = sl_a (sl_p sy m r p) (sl_v m (sy r (p + 1))) := rfl
      cases ev : sl_v m (sy r (p + 1)) with
      | none =>
        refine br_t rfl ?_
        unfold wY_shortestLength_122
        refine ⟨hin, nm_e (nm_r (nI_1 _) (nxt _ (Or.inr ⟨rfl, ?_⟩)))⟩
        rw [e1, ev]
        cases sl_p sy m r p <;> rfl
      | some v =>
        have v1 : v ≤ 81 := by
          have a1 := sl_v_b hb s10 ev
          have a2 : 3 ^ sl_n m ≤ 3 ^ 4 := Nat.pow_le_pow_right (by decide) (sl_n_le m)
          have a3 : (3 : Nat) ^ 4 = 81 := by decide
          omega
        refine br_f (xr_m1 (by omega)) ?_
        unfold wY_shortestLength_122
        rw [nI_clamp (by omega), hx _ s10, ev]
        rcases hs with ⟨rfl, a, e, rfl⟩ | ⟨rfl, e⟩
        · refine ⟨hin, nm_r (nI_add _ _) (nm_r (nI_1 _) (nxt _ (Or.inl ⟨rfl, a + v, ?_, rfl⟩)))⟩
          rw [e1, e, ev]
          rfl
        · refine ⟨hin, nm_e (nm_r (nI_1 _) (nxt _ (Or.inr ⟨rfl, ?_⟩)))⟩
          rw [e1, e]
          rfl
end
section
variable {ci cd cr lm nr s n : Nat} {fs fc : Int32} {fq : Int64} {fh : Int32} {R T sa sh BC : Nat → Int32} {BS : Nat → Int64}
variable {sy : Nat → Nat → Nat} {tk w : Nat → Nat} {m : Nat → Option Nat}
theorem sy_66 {post : Int32 → SY → Prop} (L : xl sy tk w R T ci cd cr lm nr n) (hb : sl_b m) {q : Nat} {N : Int32} {J59 : Int32 → (Nat → Int32) → (Nat → Int32) → (Nat → Int32) → (Nat → Int32) → (Nat → Int32) → (Nat → Int64) → Prop}
    (K : ∀ sh, sl_y (sl_k sy m nr) sh → J59 (nI (q + 1)) R T sa sh BC BS) : ∀ (u r : Nat) {sh : Nat → Int32}, r ≤ nr → nr - r < u → sl_y (sl_k sy m r) sh → wY_shortestLength_66 post J59 N (nI q) (nI ci) (nI cd) (nI cr) (nI lm) (nI nr) (nI s) (nI n) fs fc fq fh u (nI r) R T sa sh BC BS
  | 0, _, _, _, h, _ => by omega
  | u + 1, r, sh, hr, hu, hx => by
    have hnr := L.1.1
    unfold wY_shortestLength_66
    refine pk_le nr r (fun le => nm_r (nI_1 q) ?_) fun gt => ?_
    · have e : r = nr := by omega
      subst e
      exact K sh hx
    · rw [xl_i4, nI_clamp (by omega), xl_R0 L gt]
      refine ⟨pk_in (r * 4) 32 (by omega), nm_e ⟨4, ?_⟩⟩
      exact sy_93 L (sl_k_b L.1 hb hr) hx gt (fun sh' h => sy_66 L hb K u (r + 1) gt (by omega) h) 4 0 (by omega) (by omega) (Or.inl ⟨rfl, 0, rfl, rfl⟩)
theorem sy_59 {post : Int32 → SY → Prop} (L : xl sy tk w R T ci cd cr lm nr n) {N : Nat} (hN : 6 ≤ N ∧ N ≤ 9) (K : ∀ sh, post (sl_e (sl_q sy nr 4 N)) (nI ci, nI cd, nI cr, nI lm, nI nr, nI s, nI n, fs, fc, fq, fh, R, T, sa, sh, BC, BS)) : ∀ (u q : Nat) {sh : Nat → Int32}, q ≤ 4 → 4 - q < u → sl_y (sl_q sy nr q) sh → wY_shortestLength_59 post (nI N) (nI ci) (nI cd) (nI cr) (nI lm) (nI nr) (nI s) (nI n) fs fc fq fh u (nI q) R T sa sh BC BS
  | 0, _, _, _, h, _ => by omega
  | u + 1, q, sh, hq, hu, hx => by
    unfold wY_shortestLength_59
    refine pk_le 4 q (fun le => ?_) fun gt => ⟨nr + 1, ?_⟩
    · have e : q = 4 := by omega
      subst e
      rw [nI_clamp (by omega), hx N (by omega), sl_v_m hN.1 hN.2]
      exact ⟨pk_in N 11 (by omega), K sh⟩
    · exact sy_66 L (sl_q_b L.1 q) (fun sh' h => sy_59 L hN K u (q + 1) (by omega) (by omega) h) (nr + 1) 0 (by omega) (by omega) hx
theorem sy_13 {post : Int32 → SY → Prop} (L : xl sy tk w R T ci cd cr lm nr n) {N : Nat} (hN : 6 ≤ N ∧ N ≤ 9) (K : ∀ sh, post (sl_e (sl_q sy nr 4 N)) (nI ci, nI cd, nI cr, nI lm, nI nr, nI s, nI n, fs, fc, fq, fh, R, T, sa, sh, BC, BS)) : ∀ (u q : Nat) {sh : Nat → Int32}, q ≤ 11 → 11 - q < u → (∀ a, a < q → sh a = sl_e (sl_v (fun _ => none) a)) → wY_shortestLength_13 post (nI N) (nI ci) (nI cd) (nI cr) (nI lm) (nI nr) (nI s) (nI n) fs fc fq fh u (nI q) R T sa sh BC BS
  | 0, _, _, _, h, _ => by omega
  | u + 1, q, sh, hq, hu, hx => by
    unfold wY_shortestLength_13
    refine pk_lt 10 q (fun lt => ⟨5, ?_⟩) fun ge => ⟨pk_in q 11 (by omega), nm_e ?_⟩
    · exact sy_59 L hN K 5 0 (by omega) (by omega) fun a ha => hx a (by omega)
    · have hin : vp_in (nI q) 11 := pk_in q 11 (by omega)
      have keep : ∀ {sh' : Nat → Int32}, sh' q = sl_e (sl_v (fun _ => none) q) → (∀ a, a ≠ q → sh' a = sh a) → ∀ a, a < q + 1 → sh' a = sl_e (sl_v (fun _ => none) a) := by
        intro sh' h1 h2 a ha
        by_cases z : a = q
        · rw [z]
          exact h1
        · rw [h2 a z]
          exact hx a (by omega)
      rw [nI_clamp (by omega)]
      refine pk_lt 5 q (fun lt5 => ?_) fun ge5 => ⟨hin, nm_e ?_⟩
      · unfold wY_shortestLength_38
        rw [nI_clamp (by omega)]
        refine pk_eq q 10 (fun eq => ⟨hin, nm_e (nm_r (nI_1 q) ?_)⟩) fun ne => nm_r (nI_1 q) ?_
        · refine sy_13 L hN K u (q + 1) (by omega) (by omega) (keep ?_ fun a ha => ?_)
          · rw [pk_us]
            subst eq
            rfl
          · rw [pk_un ha, pk_un ha]
        · refine sy_13 L hN K u (q + 1) (by omega) (by omega) (keep ?_ fun a ha => ?_)
          · rw [pk_us, sl_v_m (by omega) (by omega)]
            rfl
          · rw [pk_un ha]
      · unfold wY_shortestLength_38
        refine br_f ?_ (nm_r (nI_1 q) ?_)
        · intro z
          rw [show (10 : Int32) = nI 10 from rfl, nI_eq (by omega) (by omega)] at z
          omega
        · refine sy_13 L hN K u (q + 1) (by omega) (by omega) (keep ?_ fun a ha => ?_)
          · rw [pk_us]
            unfold sl_v
            rw [if_pos (by omega)]
            rfl
          · rw [pk_un ha, pk_un ha]
theorem sy_short {post : Int32 → SY → Prop} (L : xl sy tk w R T ci cd cr lm nr n) {N : Nat} (hN : 6 ≤ N ∧ N ≤ 9) (K : ∀ sh, post (sl_e (sl_q sy nr 4 N)) (nI ci, nI cd, nI cr, nI lm, nI nr, nI s, nI n, fs, fc, fq, fh, R, T, sa, sh, BC, BS)) : wpY_shortestLength post (nI ci, nI cd, nI cr, nI lm, nI nr, nI s, nI n, fs, fc, fq, fh, R, T, sa, sh, BC, BS) (nI N) := by
  unfold wpY_shortestLength
  dsimp only
  unfold wpY_isNonterminal
  dsimp only
  refine br_f (nI_nlt (a := N) (b := 6) (by omega) (by omega)) (br_f (nI_nlt (a := 9) (b := N) (by omega) (by omega)) (br_f (by decide) ⟨12, ?_⟩))
  exact sy_13 L hN K 12 0 (by omega) (by omega) fun a ha => by omega
theorem yp_parse {post : Int32 → SY → Prop} (L : xl sy tk w R T ci cd cr lm nr n) (hs : 6 ≤ s ∧ s ≤ 9)
    (K0 : sl_e (sl_q sy nr 4 s) = -1 → ∀ sh, post 4 (nI ci, nI cd, nI cr, nI lm, nI nr, nI s, nI n, 4, 0, 0, fh, R, T, sa, sh, BC, BS))
    (K1 : sl_e (sl_q sy nr 4 s) ≠ -1 → ∀ Q, yr_s sy nr tk n w Q → yr_full sy nr tk n w Q → (∀ l, Q (yr_x s 0 n) = some l → lm < sc_c w l) → ∀ fh sh BC BS, post 3 (nI ci, nI cd, nI cr, nI lm, nI nr, nI s, nI n, 3, 0, 0, fh, R, T, sa, sh, BC, BS))
    (K2 : sl_e (sl_q sy nr 4 s) ≠ -1 → ∀ Q, yr_s sy nr tk n w Q → yr_full sy nr tk n w Q → ∀ l, Q (yr_x s 0 n) = some l → sc_c w l ≤ lm → ∀ st, (sc_c w l = 0 → st = 1) → (¬ sc_c w l = 0 → st = 2) → ∀ fh sh BC BS, post st (nI ci, nI cd, nI cr, nI lm, nI nr, nI s, nI n, st, nI (sc_c w l), lN (sc_p 15 l), fh, R, T, sa, sh, BC, BS)) :
    wpY_parse post (nI ci, nI cd, nI cr, nI lm, nI nr, nI s, nI n, fs, fc, fq, fh, R, T, sa, sh, BC, BS) := by
  unfold wpY_parse
  dsimp only
  unfold wpY_drop
  dsimp only
  refine sy_short L hs fun sh' => ?_
  dsimp only
  refine br_c (fun e => K0 e sh') fun ne => ?_
  exact yp_all L hs (fun Q S F h fh BC BS => K1 ne Q S F h fh sh' BC BS) (fun Q S F l e hl st h1 h2 fh BC BS => K2 ne Q S F l e hl st h1 h2 fh sh' BC BS)
end
end
section
/-! reading the result -/
section
variable {ci cd cr lm nr s n : Nat} {fs fc : Int32} {fq : Int64} {fh : Int32} {R T sa sh BC : Nat → Int32} {BS : Nat → Int64}
theorem yg_rd {post : Int32 → Prop} (h : fs = 1 ∨ fs = 2) (K : post 1) : wpY_readable post (nI ci, nI cd, nI cr, nI lm, nI nr, nI s, nI n, fs, fc, fq, fh, R, T, sa, sh, BC, BS) := by
  unfold wpY_readable
  dsimp only
  rcases h with h | h
  · exact br_t h K
  · subst h
    exact br_f (by decide) (br_t rfl K)
theorem yg_nr {post : Int32 → Prop} (h : fs ≠ 1 ∧ fs ≠ 2) (K : post 0) : wpY_readable post (nI ci, nI cd, nI cr, nI lm, nI nr, nI s, nI n, fs, fc, fq, fh, R, T, sa, sh, BC, BS) := by
  unfold wpY_readable
  dsimp only
  exact br_f h.1 (br_f h.2 K)
theorem yg_s64 {post : Int32 → Prop} {l : List Nat} {i : Nat} (hn : n ≤ 6) (hv : sc_v l) (h15 : l.length ≤ 15) (hi : i < l.length) (hu : rs_u l i < n) (K : post (T (rs_u l i))) : ∀ (u j : Nat), j ≤ i → i - j < u →
    wY_opSymbol_64 post (nI i) (nI ci) (nI cd) (nI cr) (nI lm) (nI nr) (nI s) (nI n) fs fc (lN (sc_p 15 l)) fh R T sa sh BC BS u (nI (rs_u l j)) (nI j)
  | 0, _, _, h => by omega
  | u + 1, j, hj, hu2 => by
    unfold wY_opSymbol_64
    refine pk_le i j (fun le => ?_) fun gt => ?_
    · have e : j = i := by omega
      subst e
      refine br_t (nI_lt hu (by omega)) ⟨pk_in _ 6 (by omega : rs_u l j < 6), ?_⟩
      rw [nI_clamp (by omega)]
      exact K
    · refine yw_rank hv (by omega) ?_
      have hx := sc_getD hv (show j < l.length by omega)
      refine pk_le 9 _ (fun le => nm_r (nI_1 j) ?_) fun gt9 => nm_r (nI_1 _) (nm_r (nI_1 j) ?_)
      · have e : rs_u l (j + 1) = rs_u l j := by rw [rs_u, if_neg (by omega)]; omega
        have := yg_s64 hn hv h15 hi hu K u (j + 1) (by omega) (by omega)
        rw [e] at this
        exact this
      · have e : rs_u l (j + 1) = rs_u l j + 1 := by rw [rs_u, if_pos (by omega)]
        have := yg_s64 hn hv h15 hi hu K u (j + 1) (by omega) (by omega)
        rw [e] at this
        exact this
theorem yg_sym {post : Int32 → Prop} {l : List Nat} {i : Nat} (h : fs = 1 ∨ fs = 2) (hn : n ≤ 6) (hv : sc_v l) (h15 : l.length ≤ 15) (hu : sc_u l = n) (hi : i < l.length) (K : post (rs_s T l i)) : wpY_opSymbol post (nI ci, nI cd, nI cr, nI lm, nI nr, nI s, nI n, fs, fc, lN (sc_p 15 l), fh, R, T, sa, sh, BC, BS) (nI i) := by
  have hx := sc_getD hv hi
  unfold wpY_opSymbol
  dsimp only
  refine yg_rd h (br_f (by decide) (br_f (nI_pos (by omega)) (yw_len hv h15 (br_t (nI_lt hi (by omega)) (yw_rank hv (by omega) ?_)))))
  unfold rs_s at K
  refine pk_lt _ 9 (fun lt9 => pk_lt _ 3 (fun lt3 => ⟨i + 1, ?_⟩) fun ge3 => ?_) fun ge9 => ?_
  · rw [if_neg (by omega), if_neg (by omega)] at K
    exact yg_s64 hn hv h15 hi (rs_u_lt hu hi lt9) K (i + 1) 0 (Nat.zero_le _) (by omega)
  · rw [if_neg (by omega), if_pos (by omega)] at K
    rw [show (3 : Int32) = nI 3 from rfl, pk_sub ge3]
    exact K
  · rw [if_pos (by omega)] at K
    rw [show (9 : Int32) = nI 9 from rfl, pk_sub ge9]
    exact K
theorem yg_kind {post : Int32 → Prop} {l : List Nat} {i : Nat} (h : fs = 1 ∨ fs = 2) (hv : sc_v l) (h15 : l.length ≤ 15) (hi : i < l.length) (K : post (nI (rs_k (l.getD i 0)))) : wpY_opKind post (nI ci, nI cd, nI cr, nI lm, nI nr, nI s, nI n, fs, fc, lN (sc_p 15 l), fh, R, T, sa, sh, BC, BS) (nI i) := by
  have hx := sc_getD hv hi
  unfold wpY_opKind
  dsimp only
  refine yg_rd h (br_f (by decide) (br_f (nI_pos (by omega)) (yw_len hv h15 (br_t (nI_lt hi (by omega)) (yw_rank hv (by omega) ?_)))))
  unfold rs_k at K
  refine pk_lt _ 9 (fun lt9 => pk_lt _ 3 (fun lt3 => ?_) fun ge3 => ?_) fun ge9 => ?_
  · rw [if_neg (by omega), if_neg (by omega)] at K
    exact K
  · rw [if_neg (by omega), if_pos (by omega)] at K
    exact K
  · rw [if_pos (by omega)] at K
    exact K
theorem yg_l23 {post : Int32 → Prop} {l : List Nat} (hv : sc_v l) (h15 : l.length ≤ 15) (K : post (nI (rs_c l l.length))) : ∀ (u j : Nat), j ≤ l.length → l.length - j < u →
    wY_repairedLength_23 post (nI l.length) (nI ci) (nI cd) (nI cr) (nI lm) (nI nr) (nI s) (nI n) fs fc (lN (sc_p 15 l)) fh R T sa sh BC BS u (nI (rs_c l j)) (nI j)
  | 0, _, _, h => by omega
  | u + 1, j, hj, hu => by
    unfold wY_repairedLength_23
    refine pk_le l.length j (fun le => ?_) fun gt => ?_
    · have e : j = l.length := by omega
      subst e
      exact K
    · have hx := sc_getD hv gt
      have nx := yg_l23 hv h15 K u (j + 1) (by omega) (by omega)
      refine yw_rank hv (by omega) (pk_eq _ 2 (fun eq => nm_r (nI_1 j) ?_) fun ne => nm_r (nI_1 _) (nm_r (nI_1 j) ?_))
      · have e : rs_c l (j + 1) = rs_c l j := by rw [rs_c, if_pos eq]; omega
        rw [e] at nx
        exact nx
      · have e : rs_c l (j + 1) = rs_c l j + 1 := by rw [rs_c, if_neg ne]
        rw [e] at nx
        exact nx
theorem yg_rlen {post : Int32 → Prop} {l : List Nat} (h : fs = 1 ∨ fs = 2) (hv : sc_v l) (h15 : l.length ≤ 15) (K : post (nI (rs_c l l.length))) : wpY_repairedLength post (nI ci, nI cd, nI cr, nI lm, nI nr, nI s, nI n, fs, fc, lN (sc_p 15 l), fh, R, T, sa, sh, BC, BS) := by
  unfold wpY_repairedLength
  dsimp only
  exact yg_rd h (br_f (by decide) (yw_len hv h15 ⟨l.length + 1, yg_l23 hv h15 K (l.length + 1) 0 (by omega) (by omega)⟩))
theorem yg_r31 {post : Int32 → Prop} {l : List Nat} {i : Nat} (h : fs = 1 ∨ fs = 2) (hn : n ≤ 6) (hv : sc_v l) (h15 : l.length ≤ 15) (hu : sc_u l = n) (hi31 : i < 2 ^ 31) (K1 : ∀ j, j < l.length → rs_c l j = i → l.getD j 0 ≠ 2 → post (rs_s T l j)) (K2 : rs_c l l.length ≤ i → post (-5)) :
    ∀ (u j : Nat), j ≤ l.length → l.length - j < u → rs_c l j ≤ i →
    wY_repairedAt_31 post (nI i) (nI l.length) (nI ci) (nI cd) (nI cr) (nI lm) (nI nr) (nI s) (nI n) fs fc (lN (sc_p 15 l)) fh R T sa sh BC BS u (nI (rs_c l j)) (nI j)
  | 0, _, _, h, _ => by omega
  | u + 1, j, hj, hu2, hc => by
    have c15 := rs_c_le l j
    unfold wY_repairedAt_31
    refine pk_le l.length j (fun le => ?_) fun gt => ?_
    · have e : j = l.length := by omega
      subst e
      exact K2 hc
    · have hx := sc_getD hv gt
      have nx := yg_r31 h hn hv h15 hu hi31 K1 K2 u (j + 1) (by omega) (by omega)
      refine yw_rank hv (by omega) (pk_eq _ 2 (fun eq => nm_r (nI_1 j) ?_) fun ne => pk_eq _ _ (fun ei => ?_) fun ni => nm_r (nI_1 _) (nm_r (nI_1 j) ?_))
      · have e : rs_c l (j + 1) = rs_c l j := by rw [rs_c, if_pos eq]; omega
        rw [e] at nx
        exact nx hc
      · exact yg_sym h hn hv h15 hu gt (K1 j gt ei ne)
      · have e : rs_c l (j + 1) = rs_c l j + 1 := by rw [rs_c, if_neg ne]
        rw [e] at nx
        exact nx (by omega)
theorem yg_rat {post : Int32 → Prop} {l : List Nat} {i : Nat} (h : fs = 1 ∨ fs = 2) (hn : n ≤ 6) (hv : sc_v l) (h15 : l.length ≤ 15) (hu : sc_u l = n) (hi31 : i < 2 ^ 31) (K1 : ∀ j, j < l.length → rs_c l j = i → l.getD j 0 ≠ 2 → post (rs_s T l j)) (K2 : rs_c l l.length ≤ i → post (-5)) :
    wpY_repairedAt post (nI ci, nI cd, nI cr, nI lm, nI nr, nI s, nI n, fs, fc, lN (sc_p 15 l), fh, R, T, sa, sh, BC, BS) (nI i) := by
  unfold wpY_repairedAt
  dsimp only
  exact yg_rd h (br_f (by decide) (br_t (nI_pos' hi31) (yw_len hv h15 ⟨l.length + 1, yg_r31 h hn hv h15 hu hi31 K1 K2 (l.length + 1) 0 (by omega) (by omega) (Nat.zero_le _)⟩)))
end
section
variable {ci cd cr lm nr s n : Nat} {fs fr fo fp gc gl : Int32} {gs : Int64} {R ml T ok os rp IC IL : Nat → Int32} {IS : Nat → Int64} {IT SC SL : Nat → Int32} {SS : Nat → Int64}
theorem xg_rd {post : Int32 → Prop} (h : fs = 1 ∨ fs = 2) (K : post 1) : wpX_isReadable post (nI ci, nI cd, nI cr, nI lm, nI nr, nI s, nI n, fs, fr, fo, fp, gc, gl, gs, R, ml, T, ok, os, rp, IC, IL, IS, IT, SC, SL, SS) := by
  unfold wpX_isReadable
  dsimp only
  rcases h with h | h
  · exact br_t h K
  · subst h
    exact br_f (by decide) (br_t rfl K)
theorem xg_nr {post : Int32 → Prop} (h : fs ≠ 1 ∧ fs ≠ 2) (K : post 0) : wpX_isReadable post (nI ci, nI cd, nI cr, nI lm, nI nr, nI s, nI n, fs, fr, fo, fp, gc, gl, gs, R, ml, T, ok, os, rp, IC, IL, IS, IT, SC, SL, SS) := by
  unfold wpX_isReadable
  dsimp only
  exact br_f h.1 (br_f h.2 K)
end
end
section
/-! the relation -/
/-- the result: not readable, or one script behind both -/
def rz (T : Nat → Int32) (n : Nat) (fs fr fo fp : Int32) (ok os rp : Nat → Int32) (fc : Int32) (fq : Int64) : Prop :=
  (fs ≠ 1 ∧ fs ≠ 2) ∨ ((fs = 1 ∨ fs = 2) ∧ ∃ l, sc_v l ∧ l.length ≤ 15 ∧ sc_u l = n ∧ rs_r T l l.length ok os rp ∧ fr = fc ∧ fo = nI l.length ∧ fp = nI (rs_c l l.length) ∧ fq = lN (sc_p 15 l))
def i_Rel (k : Nat) (u : SX) (v : SY) : Prop :=
  ∃ sy : Nat → Nat → Nat, ∃ tk : Nat → Nat, ∃ w : Nat → Nat, ∃ ci : Nat, ∃ cd : Nat, ∃ cr : Nat, ∃ lm : Nat, ∃ nr : Nat, ∃ s : Nat, ∃ n : Nat, ∃ fs : Int32, ∃ fr : Int32, ∃ fo : Int32, ∃ fp : Int32, ∃ gc : Int32, ∃ gl : Int32, ∃ gs : Int64, ∃ R : Nat → Int32, ∃ ml : Nat → Int32, ∃ T : Nat → Int32, ∃ ok : Nat → Int32, ∃ os : Nat → Int32, ∃ rp : Nat → Int32, ∃ IC : Nat → Int32, ∃ IL : Nat → Int32, ∃ IS : Nat → Int64, ∃ IT : Nat → Int32, ∃ SC : Nat → Int32, ∃ SL : Nat → Int32, ∃ SS : Nat → Int64, ∃ fc : Int32, ∃ fq : Int64, ∃ fh : Int32, ∃ sa : Nat → Int32, ∃ sh : Nat → Int32, ∃ BC : Nat → Int32, ∃ BS : Nat → Int64,
  u = (nI ci, nI cd, nI cr, nI lm, nI nr, nI s, nI n, fs, fr, fo, fp, gc, gl, gs, R, ml, T, ok, os, rp, IC, IL, IS, IT, SC, SL, SS) ∧ v = (nI ci, nI cd, nI cr, nI lm, nI nr, nI s, nI n, fs, fc, fq, fh, R, T, sa, sh, BC, BS) ∧ xl sy tk w R T ci cd cr lm nr n ∧ (6 ≤ s ∧ s ≤ 9) ∧ sl_x (sl_q sy nr 4) ml ∧ rz T n fs fr fo fp ok os rp fc fq
theorem i_up {k : Nat} {u : SX} {v : SY} (h : i_Rel k u v) : i_Rel (k + 5) u v := h
theorem zz_el {k : Nat} {u : SX} {v : SY} {P : SX → SY → Prop} (h : ∀ (sy : Nat → Nat → Nat) (tk : Nat → Nat) (w : Nat → Nat) (ci : Nat) (cd : Nat) (cr : Nat) (lm : Nat) (nr : Nat) (s : Nat) (n : Nat) (fs : Int32) (fr : Int32) (fo : Int32) (fp : Int32) (gc : Int32) (gl : Int32) (gs : Int64) (R : Nat → Int32) (ml : Nat → Int32) (T : Nat → Int32) (ok : Nat → Int32) (os : Nat → Int32) (rp : Nat → Int32) (IC : Nat → Int32) (IL : Nat → Int32) (IS : Nat → Int64) (IT : Nat → Int32) (SC : Nat → Int32) (SL : Nat → Int32) (SS : Nat → Int64) (fc : Int32) (fq : Int64) (fh : Int32) (sa : Nat → Int32) (sh : Nat → Int32) (BC : Nat → Int32) (BS : Nat → Int64), xl sy tk w R T ci cd cr lm nr n → (6 ≤ s ∧ s ≤ 9) → sl_x (sl_q sy nr 4) ml → rz T n fs fr fo fp ok os rp fc fq → P (nI ci, nI cd, nI cr, nI lm, nI nr, nI s, nI n, fs, fr, fo, fp, gc, gl, gs, R, ml, T, ok, os, rp, IC, IL, IS, IT, SC, SL, SS) (nI ci, nI cd, nI cr, nI lm, nI nr, nI s, nI n, fs, fc, fq, fh, R, T, sa, sh, BC, BS)) (I : i_Rel k u v) : P u v :=
  Exists.elim I fun sy I => Exists.elim I fun tk I => Exists.elim I fun w I => Exists.elim I fun ci I => Exists.elim I fun cd I => Exists.elim I fun cr I => Exists.elim I fun lm I => Exists.elim I fun nr I => Exists.elim I fun s I => Exists.elim I fun n I => Exists.elim I fun fs I => Exists.elim I fun fr I => Exists.elim I fun fo I => Exists.elim I fun fp I => Exists.elim I fun gc I => Exists.elim I fun gl I => Exists.elim I fun gs I => Exists.elim I fun R I => Exists.elim I fun ml I => Exists.elim I fun T I => Exists.elim I fun ok I => Exists.elim I fun os I => Exists.elim I fun rp I => Exists.elim I fun IC I => Exists.elim I fun IL I => Exists.elim I fun IS I => Exists.elim I fun IT I => Exists.elim I fun SC I => Exists.elim I fun SL I => Exists.elim I fun SS I => Exists.elim I fun fc I => Exists.elim I fun fq I => Exists.elim I fun fh I => Exists.elim I fun sa I => Exists.elim I fun sh I => Exists.elim I fun BC I => Exists.elim I fun BS I =>
    (by rw [I.1, I.2.1]; exact h sy tk w ci cd cr lm nr s n fs fr fo fp gc gl gs R ml T ok os rp IC IL IS IT SC SL SS fc fq fh sa sh BC BS I.2.2.1 I.2.2.2.1 I.2.2.2.2.1 I.2.2.2.2.2)
theorem zz_in {k : Nat} {sy : Nat → Nat → Nat} {tk w : Nat → Nat} {ci cd cr lm nr s n : Nat} {fs fr fo fp gc gl : Int32} {gs : Int64} {R ml T ok os rp IC IL : Nat → Int32} {IS : Nat → Int64} {IT SC SL : Nat → Int32} {SS : Nat → Int64} {fc : Int32} {fq : Int64} {fh : Int32} {sa sh BC : Nat → Int32} {BS : Nat → Int64}
    (a : xl sy tk w R T ci cd cr lm nr n) (b : 6 ≤ s ∧ s ≤ 9) (c : sl_x (sl_q sy nr 4) ml) (d : rz T n fs fr fo fp ok os rp fc fq) : i_Rel k (nI ci, nI cd, nI cr, nI lm, nI nr, nI s, nI n, fs, fr, fo, fp, gc, gl, gs, R, ml, T, ok, os, rp, IC, IL, IS, IT, SC, SL, SS) (nI ci, nI cd, nI cr, nI lm, nI nr, nI s, nI n, fs, fc, fq, fh, R, T, sa, sh, BC, BS) :=
  ⟨sy, tk, w, ci, cd, cr, lm, nr, s, n, fs, fr, fo, fp, gc, gl, gs, R, ml, T, ok, os, rp, IC, IL, IS, IT, SC, SL, SS, fc, fq, fh, sa, sh, BC, BS, rfl, rfl, a, b, c, d⟩
end
section
/-! the getters -/
theorem i_vc_status {k : Nat} {u : SX} {v : SY} (I : i_Rel k u v) (hk : k + 5 ≤ 2564) : wpX_status (fun r => wpY_status (fun r' => r' = r ∧ i_Rel (k + 5) u v) v) u := by
  refine zz_el (P := fun u v => wpX_status (fun r => wpY_status (fun r' => r' = r ∧ i_Rel (k + 5) u v) v) u) ?_ I
  intro sy tk w ci cd cr lm nr s n fs fr fo fp gc gl gs R ml T ok os rp IC IL IS IT SC SL SS fc fq fh sa sh BC BS L hs hm Z
  exact And.intro rfl (zz_in L hs hm Z)
theorem i_vc_ruleCount {k : Nat} {u : SX} {v : SY} (I : i_Rel k u v) (hk : k + 5 ≤ 2564) : wpX_ruleCount (fun r => wpY_ruleCount (fun r' => r' = r ∧ i_Rel (k + 5) u v) v) u := by
  refine zz_el (P := fun u v => wpX_ruleCount (fun r => wpY_ruleCount (fun r' => r' = r ∧ i_Rel (k + 5) u v) v) u) ?_ I
  intro sy tk w ci cd cr lm nr s n fs fr fo fp gc gl gs R ml T ok os rp IC IL IS IT SC SL SS fc fq fh sa sh BC BS L hs hm Z
  exact And.intro rfl (zz_in L hs hm Z)
theorem i_vc_start {k : Nat} {u : SX} {v : SY} (I : i_Rel k u v) (hk : k + 5 ≤ 2564) : wpX_start (fun r => wpY_start (fun r' => r' = r ∧ i_Rel (k + 5) u v) v) u := by
  refine zz_el (P := fun u v => wpX_start (fun r => wpY_start (fun r' => r' = r ∧ i_Rel (k + 5) u v) v) u) ?_ I
  intro sy tk w ci cd cr lm nr s n fs fr fo fp gc gl gs R ml T ok os rp IC IL IS IT SC SL SS fc fq fh sa sh BC BS L hs hm Z
  exact And.intro rfl (zz_in L hs hm Z)
theorem i_vc_tokenCount {k : Nat} {u : SX} {v : SY} (I : i_Rel k u v) (hk : k + 5 ≤ 2564) : wpX_tokenCount (fun r => wpY_tokenCount (fun r' => r' = r ∧ i_Rel (k + 5) u v) v) u := by
  refine zz_el (P := fun u v => wpX_tokenCount (fun r => wpY_tokenCount (fun r' => r' = r ∧ i_Rel (k + 5) u v) v) u) ?_ I
  intro sy tk w ci cd cr lm nr s n fs fr fo fp gc gl gs R ml T ok os rp IC IL IS IT SC SL SS fc fq fh sa sh BC BS L hs hm Z
  exact And.intro rfl (zz_in L hs hm Z)
theorem i_vc_setting {k : Nat} {u : SX} {v : SY} (I : i_Rel k u v) (hk : k + 5 ≤ 2564) (v1 : Int32) : wpX_setting (fun r => wpY_setting (fun r' => r' = r ∧ i_Rel (k + 5) u v) v v1) u v1 := by
  refine zz_el (P := fun u v => wpX_setting (fun r => wpY_setting (fun r' => r' = r ∧ i_Rel (k + 5) u v) v v1) u v1) ?_ I
  intro sy tk w ci cd cr lm nr s n fs fr fo fp gc gl gs R ml T ok os rp IC IL IS IT SC SL SS fc fq fh sa sh BC BS L hs hm Z
  unfold wpX_setting wpY_setting
  dsimp only
  have I' := zz_in (k := k + 5) (gc := gc) (gl := gl) (gs := gs) (IC := IC) (IL := IL) (IS := IS) (IT := IT) (SC := SC) (SL := SL) (SS := SS) (fh := fh) (sa := sa) (sh := sh) (BC := BC) (BS := BS) L hs hm Z
  refine br_c (fun h1 => br_t h1 ⟨rfl, I'⟩) fun h1 => ?_
  refine br_c (fun h2 => br_f h1 (br_t h2 ⟨rfl, I'⟩)) fun h2 => ?_
  refine br_c (fun h3 => br_f h1 (br_f h2 (br_t h3 ⟨rfl, I'⟩))) fun h3 => ?_
  refine br_c (fun h4 => br_f h1 (br_f h2 (br_f h3 (br_t h4 ⟨rfl, I'⟩)))) fun h4 => ?_
  exact br_c (fun h5 => br_f h1 (br_f h2 (br_f h3 (br_f h4 (br_t h5 ⟨rfl, I'⟩))))) fun h5 => br_f h1 (br_f h2 (br_f h3 (br_f h4 (br_f h5 ⟨rfl, I'⟩))))
theorem i_vc_tokenAt {k : Nat} {u : SX} {v : SY} (I : i_Rel k u v) (hk : k + 5 ≤ 2564) (v1 : Int32) : wpX_tokenAt (fun r => wpY_tokenAt (fun r' => r' = r ∧ i_Rel (k + 5) u v) v v1) u v1 := by
  refine zz_el (P := fun u v => wpX_tokenAt (fun r => wpY_tokenAt (fun r' => r' = r ∧ i_Rel (k + 5) u v) v v1) u v1) ?_ I
  intro sy tk w ci cd cr lm nr s n fs fr fo fp gc gl gs R ml T ok os rp IC IL IS IT SC SL SS fc fq fh sa sh BC BS L hs hm Z
  have hn6 := L.1.2.1
  unfold wpX_tokenAt wpY_tokenAt
  dsimp only
  have I' := zz_in (k := k + 5) (gc := gc) (gl := gl) (gs := gs) (IC := IC) (IL := IL) (IS := IS) (IT := IT) (SC := SC) (SL := SL) (SS := SS) (fh := fh) (sa := sa) (sh := sh) (BC := BC) (BS := BS) L hs hm Z
  refine br_c (fun h1 => br_t h1 ⟨rfl, I'⟩) fun h1 => br_c (fun h2 => ?_) fun h2 => br_f h1 (br_f h2 ⟨rfl, I'⟩)
  obtain ⟨j, hj, rfl⟩ := nI_of h1
  have hjn : j < n := (nI_ltI hj (by omega)).mp h2
  exact ⟨pk_in j 6 (by omega), br_f h1 (br_t h2 ⟨pk_in j 6 (by omega), rfl, I'⟩)⟩
theorem i_vc_ruleSymbol {k : Nat} {u : SX} {v : SY} (I : i_Rel k u v) (hk : k + 5 ≤ 2564) (v1 : Int32) (v2 : Int32) : wpX_ruleSymbol (fun r => wpY_ruleSymbol (fun r' => r' = r ∧ i_Rel (k + 5) u v) v v1 v2) u v1 v2 := by
  refine zz_el (P := fun u v => wpX_ruleSymbol (fun r => wpY_ruleSymbol (fun r' => r' = r ∧ i_Rel (k + 5) u v) v v1 v2) u v1 v2) ?_ I
  intro sy tk w ci cd cr lm nr s n fs fr fo fp gc gl gs R ml T ok os rp IC IL IS IT SC SL SS fc fq fh sa sh BC BS L hs hm Z
  have hnr := L.1.1
  unfold wpX_ruleSymbol wpY_ruleSymbol
  dsimp only
  have I' := zz_in (k := k + 5) (gc := gc) (gl := gl) (gs := gs) (IC := IC) (IL := IL) (IS := IS) (IT := IT) (SC := SC) (SL := SL) (SS := SS) (fh := fh) (sa := sa) (sh := sh) (BC := BC) (BS := BS) L hs hm Z
  refine br_c (fun h1 => br_t h1 ⟨rfl, I'⟩) fun h1 => br_c (fun h2 => ?_) fun h2 => br_f h1 (br_f h2 ⟨rfl, I'⟩)
  refine br_c (fun h3 => br_f h1 (br_t h2 (br_t h3 ⟨rfl, I'⟩))) fun h3 => br_c (fun h4 => ?_) fun h4 => br_f h1 (br_t h2 (br_f h3 (br_f h4 ⟨rfl, I'⟩)))
  obtain ⟨j, hj, rfl⟩ := nI_of h1
  have hjn : j < nr := (nI_ltI hj (by omega)).mp h2
  obtain ⟨q, hq, rfl⟩ := nI_of h3
  have hq4 : q ≤ 3 := (nI_leI (b := 3) hq (by decide)).mp h4
  have hin : vp_in (nI j * 4 + nI q) 32 := by
    rw [xl_i4, nI_add]
    exact pk_in (j * 4 + q) 32 (by omega)
  exact ⟨hin, br_f h1 (br_t h2 (br_f h3 (br_t h4 ⟨hin, rfl, I'⟩)))⟩
theorem i_vc_cost {k : Nat} {u : SX} {v : SY} (I : i_Rel k u v) (hk : k + 5 ≤ 2564) : wpX_cost (fun r => wpY_cost (fun r' => r' = r ∧ i_Rel (k + 5) u v) v) u := by
  refine zz_el (P := fun u v => wpX_cost (fun r => wpY_cost (fun r' => r' = r ∧ i_Rel (k + 5) u v) v) u) ?_ I
  intro sy tk w ci cd cr lm nr s n fs fr fo fp gc gl gs R ml T ok os rp IC IL IS IT SC SL SS fc fq fh sa sh BC BS L hs hm Z
  unfold wpX_cost wpY_cost
  dsimp only
  have I' := zz_in (k := k + 5) (gc := gc) (gl := gl) (gs := gs) (IC := IC) (IL := IL) (IS := IS) (IT := IT) (SC := SC) (SL := SL) (SS := SS) (fh := fh) (sa := sa) (sh := sh) (BC := BC) (BS := BS) L hs hm Z
  rcases Z with z | ⟨z, l, z1, z2, z3, z4, z5, z6, z7, z8⟩
  · exact xg_nr z (br_t rfl (yg_nr z (br_t rfl ⟨rfl, I'⟩)))
  · exact xg_rd z (br_f (by decide) (yg_rd z (br_f (by decide) ⟨z5.symm, I'⟩)))
theorem i_vc_scriptLength {k : Nat} {u : SX} {v : SY} (I : i_Rel k u v) (hk : k + 5 ≤ 2564) : wpX_scriptLength (fun r => wpY_scriptLength (fun r' => r' = r ∧ i_Rel (k + 5) u v) v) u := by
  refine zz_el (P := fun u v => wpX_scriptLength (fun r => wpY_scriptLength (fun r' => r' = r ∧ i_Rel (k + 5) u v) v) u) ?_ I
  intro sy tk w ci cd cr lm nr s n fs fr fo fp gc gl gs R ml T ok os rp IC IL IS IT SC SL SS fc fq fh sa sh BC BS L hs hm Z
  unfold wpX_scriptLength wpY_scriptLength
  dsimp only
  have I' := zz_in (k := k + 5) (gc := gc) (gl := gl) (gs := gs) (IC := IC) (IL := IL) (IS := IS) (IT := IT) (SC := SC) (SL := SL) (SS := SS) (fh := fh) (sa := sa) (sh := sh) (BC := BC) (BS := BS) L hs hm Z
  rcases Z with z | ⟨z, l, z1, z2, z3, z4, z5, z6, z7, z8⟩
  · exact xg_nr z (br_t rfl (yg_nr z (br_t rfl ⟨rfl, I'⟩)))
  · subst z8
    exact xg_rd z (br_f (by decide) (yg_rd z (br_f (by decide) (yw_len z1 z2 ⟨z6.symm, I'⟩))))
theorem i_vc_repairedLength {k : Nat} {u : SX} {v : SY} (I : i_Rel k u v) (hk : k + 5 ≤ 2564) : wpX_repairedLength (fun r => wpY_repairedLength (fun r' => r' = r ∧ i_Rel (k + 5) u v) v) u := by
  refine zz_el (P := fun u v => wpX_repairedLength (fun r => wpY_repairedLength (fun r' => r' = r ∧ i_Rel (k + 5) u v) v) u) ?_ I
  intro sy tk w ci cd cr lm nr s n fs fr fo fp gc gl gs R ml T ok os rp IC IL IS IT SC SL SS fc fq fh sa sh BC BS L hs hm Z
  unfold wpX_repairedLength
  dsimp only
  have I' := zz_in (k := k + 5) (gc := gc) (gl := gl) (gs := gs) (IC := IC) (IL := IL) (IS := IS) (IT := IT) (SC := SC) (SL := SL) (SS := SS) (fh := fh) (sa := sa) (sh := sh) (BC := BC) (BS := BS) L hs hm Z
  rcases Z with z | ⟨z, l, z1, z2, z3, z4, z5, z6, z7, z8⟩
  · unfold wpY_repairedLength
    dsimp only
    exact xg_nr z (br_t rfl (yg_nr z (br_t rfl ⟨rfl, I'⟩)))
  · subst z8
    exact xg_rd z (br_f (by decide) (yg_rlen z z1 z2 ⟨z7.symm, I'⟩))
theorem i_vc_opKind {k : Nat} {u : SX} {v : SY} (I : i_Rel k u v) (hk : k + 5 ≤ 2564) (v1 : Int32) : wpX_opKind (fun r => wpY_opKind (fun r' => r' = r ∧ i_Rel (k + 5) u v) v v1) u v1 := by
  refine zz_el (P := fun u v => wpX_opKind (fun r => wpY_opKind (fun r' => r' = r ∧ i_Rel (k + 5) u v) v v1) u v1) ?_ I
  intro sy tk w ci cd cr lm nr s n fs fr fo fp gc gl gs R ml T ok os rp IC IL IS IT SC SL SS fc fq fh sa sh BC BS L hs hm Z
  unfold wpX_opKind
  dsimp only
  have I' := zz_in (k := k + 5) (gc := gc) (gl := gl) (gs := gs) (IC := IC) (IL := IL) (IS := IS) (IT := IT) (SC := SC) (SL := SL) (SS := SS) (fh := fh) (sa := sa) (sh := sh) (BC := BC) (BS := BS) L hs hm Z
  rcases Z with z | ⟨z, l, z1, z2, z3, z4, z5, z6, z7, z8⟩
  · unfold wpY_opKind
    dsimp only
    exact xg_nr z (br_t rfl (yg_nr z (br_t rfl ⟨rfl, I'⟩)))
  · subst z8
    subst z6
    refine xg_rd z (br_f (by decide) (br_c (fun h1 => ?_) fun h1 => br_c (fun h2 => ?_) fun h2 => ?_))
    · unfold wpY_opKind
      dsimp only
      exact yg_rd z (br_f (by decide) (br_t h1 ⟨rfl, I'⟩))
    · obtain ⟨j, hj, rfl⟩ := nI_of h1
      have hjn : j < l.length := (nI_ltI hj (by omega)).mp h2
      refine ⟨pk_in j 15 (by omega), yg_kind z z1 z2 hjn ⟨?_, I'⟩⟩
      rw [nI_clamp hj, (z4 j hjn).1]
    · unfold wpY_opKind
      dsimp only
      exact yg_rd z (br_f (by decide) (br_f h1 (yw_len z1 z2 (br_f h2 ⟨rfl, I'⟩))))
theorem i_vc_opSymbol {k : Nat} {u : SX} {v : SY} (I : i_Rel k u v) (hk : k + 5 ≤ 2564) (v1 : Int32) : wpX_opSymbol (fun r => wpY_opSymbol (fun r' => r' = r ∧ i_Rel (k + 5) u v) v v1) u v1 := by
  refine zz_el (P := fun u v => wpX_opSymbol (fun r => wpY_opSymbol (fun r' => r' = r ∧ i_Rel (k + 5) u v) v v1) u v1) ?_ I
  intro sy tk w ci cd cr lm nr s n fs fr fo fp gc gl gs R ml T ok os rp IC IL IS IT SC SL SS fc fq fh sa sh BC BS L hs hm Z
  have hn6 := L.1.2.1
  unfold wpX_opSymbol
  dsimp only
  have I' := zz_in (k := k + 5) (gc := gc) (gl := gl) (gs := gs) (IC := IC) (IL := IL) (IS := IS) (IT := IT) (SC := SC) (SL := SL) (SS := SS) (fh := fh) (sa := sa) (sh := sh) (BC := BC) (BS := BS) L hs hm Z
  rcases Z with z | ⟨z, l, z1, z2, z3, z4, z5, z6, z7, z8⟩
  · unfold wpY_opSymbol
    dsimp only
    exact xg_nr z (br_t rfl (yg_nr z (br_t rfl ⟨rfl, I'⟩)))
  · subst z8
    subst z6
    refine xg_rd z (br_f (by decide) (br_c (fun h1 => ?_) fun h1 => br_c (fun h2 => ?_) fun h2 => ?_))
    · unfold wpY_opSymbol
      dsimp only
      exact yg_rd z (br_f (by decide) (br_t h1 ⟨rfl, I'⟩))
    · obtain ⟨j, hj, rfl⟩ := nI_of h1
      have hjn : j < l.length := (nI_ltI hj (by omega)).mp h2
      refine ⟨pk_in j 15 (by omega), yg_sym z hn6 z1 z2 z3 hjn ⟨?_, I'⟩⟩
      rw [nI_clamp hj, (z4 j hjn).2.1]
    · unfold wpY_opSymbol
      dsimp only
      exact yg_rd z (br_f (by decide) (br_f h1 (yw_len z1 z2 (br_f h2 ⟨rfl, I'⟩))))
theorem i_vc_repairedAt {k : Nat} {u : SX} {v : SY} (I : i_Rel k u v) (hk : k + 5 ≤ 2564) (v1 : Int32) : wpX_repairedAt (fun r => wpY_repairedAt (fun r' => r' = r ∧ i_Rel (k + 5) u v) v v1) u v1 := by
  refine zz_el (P := fun u v => wpX_repairedAt (fun r => wpY_repairedAt (fun r' => r' = r ∧ i_Rel (k + 5) u v) v v1) u v1) ?_ I
  intro sy tk w ci cd cr lm nr s n fs fr fo fp gc gl gs R ml T ok os rp IC IL IS IT SC SL SS fc fq fh sa sh BC BS L hs hm Z
  have hn6 := L.1.2.1
  unfold wpX_repairedAt
  dsimp only
  have I' := zz_in (k := k + 5) (gc := gc) (gl := gl) (gs := gs) (IC := IC) (IL := IL) (IS := IS) (IT := IT) (SC := SC) (SL := SL) (SS := SS) (fh := fh) (sa := sa) (sh := sh) (BC := BC) (BS := BS) L hs hm Z
  rcases Z with z | ⟨z, l, z1, z2, z3, z4, z5, z6, z7, z8⟩
  · unfold wpY_repairedAt
    dsimp only
    exact xg_nr z (br_t rfl (yg_nr z (br_t rfl ⟨rfl, I'⟩)))
  · subst z8
    subst z7
    have c15 := rs_c_le l l.length
    refine xg_rd z (br_f (by decide) (br_c (fun h1 => ?_) fun h1 => br_c (fun h2 => ?_) fun h2 => ?_))
    · unfold wpY_repairedAt
      dsimp only
      exact yg_rd z (br_f (by decide) (br_f (Int32.not_le.mpr h1) ⟨rfl, I'⟩))
    · obtain ⟨j, hj, rfl⟩ := nI_of h1
      have hjn : j < rs_c l l.length := (nI_ltI hj (by omega)).mp h2
      refine ⟨pk_in j 15 (by omega), yg_rat z hn6 z1 z2 z3 hj (fun i hi e ne => ⟨?_, I'⟩) fun le => by omega⟩
      rw [nI_clamp hj, ← (z4 i hi).2.2 ne, e]
    · obtain ⟨j, hj, rfl⟩ := nI_of h1
      have hjn : ¬ j < rs_c l l.length := fun q => h2 ((nI_ltI hj (by omega)).mpr q)
      refine yg_rat z hn6 z1 z2 z3 hj (fun i hi e ne => ?_) fun _ => ⟨rfl, I'⟩
      have m := rs_c_mono l (show i + 1 ≤ l.length from hi)
      rw [rs_c, if_neg ne] at m
      omega
theorem zz_nt {v : Int32} (h1 : ¬ v < 6) (h2 : ¬ 9 < v) : ∃ N, (6 ≤ N ∧ N ≤ 9) ∧ v = nI N := by
  have h0 : ¬ v < 0 := fun z => h1 (Int32.lt_trans z (by decide))
  obtain ⟨j, hj, rfl⟩ := nI_of h0
  have a : ¬ j < 6 := fun z => h1 (nI_lt (b := 6) z (by decide))
  have b : ¬ 9 < j := fun z => h2 (nI_lt (a := 9) z hj)
  exact ⟨j, ⟨by omega, by omega⟩, rfl⟩
theorem i_vc_shortestLength {k : Nat} {u : SX} {v : SY} (I : i_Rel k u v) (hk : k + 5 ≤ 2564) (v1 : Int32) : wpX_shortestLength (fun r => wpY_shortestLength (fun r' v' => r' = r ∧ i_Rel (k + 5) u v') v v1) u v1 := by
  refine zz_el (P := fun u v => wpX_shortestLength (fun r => wpY_shortestLength (fun r' v' => r' = r ∧ i_Rel (k + 5) u v') v v1) u v1) ?_ I
  intro sy tk w ci cd cr lm nr s n fs fr fo fp gc gl gs R ml T ok os rp IC IL IS IT SC SL SS fc fq fh sa sh BC BS L hs hm Z
  unfold wpX_shortestLength
  dsimp only
  unfold wpX_isNonterminal
  dsimp only
  refine br_c (fun h1 => br_t rfl ?_) fun h1 => br_c (fun h2 => br_t rfl ?_) fun h2 => br_f (by decide) ?_
  · unfold wpY_shortestLength wpY_isNonterminal
    dsimp only
    exact br_t h1 (br_t rfl ⟨rfl, zz_in L hs hm Z⟩)
  · unfold wpY_shortestLength wpY_isNonterminal
    dsimp only
    exact br_f h1 (br_t h2 (br_t rfl ⟨rfl, zz_in L hs hm Z⟩))
  · obtain ⟨N, hN, rfl⟩ := zz_nt h1 h2
    have e6 : nI N - 6 = nI (N - 6) := pk_sub hN.1
    rw [e6, nI_clamp (by omega), hm N hN.1 hN.2]
    exact ⟨pk_in (N - 6) 4 (by omega), sy_short L hN fun sh' => ⟨rfl, zz_in L hs hm Z⟩⟩
end
section
/-! tokens, start symbol, parse, adopt -/
theorem xl_T {sy : Nat → Nat → Nat} {tk tk' w : Nat → Nat} {R T T' : Nat → Int32} {ci cd cr lm nr n n' : Nat} (L : xl sy tk w R T ci cd cr lm nr n) (hn : n' ≤ 6) (hT : ∀ i, i < n' → T' i = nI (tk' i) ∧ tk' i ≤ 5) : xl sy tk' w R T' ci cd cr lm nr n' := by
  obtain ⟨⟨a1, a2, a3⟩, b, c, d, e, f⟩ := L
  exact ⟨⟨a1, hn, a3⟩, b, c, d, hT, f⟩
theorem rz_0 {T : Nat → Int32} {n : Nat} {fr fo fp : Int32} {ok os rp : Nat → Int32} {fc : Int32} {fq : Int64} : rz T n 0 fr fo fp ok os rp fc fq := Or.inl ⟨by decide, by decide⟩
theorem i_vc_setStart {k : Nat} {u : SX} {v : SY} (I : i_Rel k u v) (hk : k + 5 ≤ 2564) (v1 : Int32) : wpX_setStart (fun r u' => wpY_setStart (fun r' v' => r' = r ∧ i_Rel (k + 5) u' v') v v1) u v1 := by
  refine zz_el (P := fun u v => wpX_setStart (fun r u' => wpY_setStart (fun r' v' => r' = r ∧ i_Rel (k + 5) u' v') v v1) u v1) ?_ I
  intro sy tk w ci cd cr lm nr s n fs fr fo fp gc gl gs R ml T ok os rp IC IL IS IT SC SL SS fc fq fh sa sh BC BS L hs hm Z
  unfold wpX_setStart wpY_setStart
  dsimp only
  unfold wpX_isNonterminal wpY_isNonterminal
  dsimp only
  refine br_c (fun h1 => br_t rfl (br_t h1 (br_t rfl ⟨rfl, zz_in L hs hm Z⟩))) fun h1 => br_c (fun h2 => br_t rfl (br_f h1 (br_t h2 (br_t rfl ⟨rfl, zz_in L hs hm Z⟩)))) fun h2 => br_f (by decide) ?_
  obtain ⟨N, hN, rfl⟩ := zz_nt h1 h2
  unfold wpX_dropResult
  dsimp only
  refine br_f h1 (br_f h2 (br_f (by decide) ?_))
  unfold wpY_drop
  dsimp only
  exact ⟨rfl, zz_in L hN hm rz_0⟩
theorem i_vc_clearTokens {k : Nat} {u : SX} {v : SY} (I : i_Rel k u v) (hk : k + 5 ≤ 2564) : wpX_clearTokens (fun r u' => wpY_clearTokens (fun r' v' => r' = r ∧ i_Rel (k + 5) u' v') v) u := by
  refine zz_el (P := fun u v => wpX_clearTokens (fun r u' => wpY_clearTokens (fun r' v' => r' = r ∧ i_Rel (k + 5) u' v') v) u) ?_ I
  intro sy tk w ci cd cr lm nr s n fs fr fo fp gc gl gs R ml T ok os rp IC IL IS IT SC SL SS fc fq fh sa sh BC BS L hs hm Z
  unfold wpX_clearTokens wpY_clearTokens wpX_dropResult wpY_drop
  dsimp only
  exact ⟨rfl, zz_in (n := 0) (tk := tk) (xl_T L (by omega) (fun i hi => by omega)) hs hm rz_0⟩
theorem i_vc_addToken {k : Nat} {u : SX} {v : SY} (I : i_Rel k u v) (hk : k + 5 ≤ 2564) (v1 : Int32) : wpX_addToken (fun r u' => wpY_addToken (fun r' v' => r' = r ∧ i_Rel (k + 5) u' v') v v1) u v1 := by
  refine zz_el (P := fun u v => wpX_addToken (fun r u' => wpY_addToken (fun r' v' => r' = r ∧ i_Rel (k + 5) u' v') v v1) u v1) ?_ I
  intro sy tk w ci cd cr lm nr s n fs fr fo fp gc gl gs R ml T ok os rp IC IL IS IT SC SL SS fc fq fh sa sh BC BS L hs hm Z
  have hn6 := L.1.2.1
  unfold wpX_addToken wpY_addToken
  dsimp only
  refine br_c (fun h1 => br_t h1 ⟨rfl, zz_in L hs hm Z⟩) fun h1 => br_c (fun h2 => ?_) fun h2 => br_f h1 (br_f h2 ⟨rfl, zz_in L hs hm Z⟩)
  refine br_c (fun h3 => ?_) fun h3 => br_f h1 (br_t h2 (br_f h3 ⟨rfl, zz_in L hs hm Z⟩))
  obtain ⟨j, hj, rfl⟩ := nI_of h1
  have hj5 : j ≤ 5 := (nI_leI (b := 5) hj (by decide)).mp h2
  have hn : n < 6 := (nI_ltI (b := 6) (by omega) (by decide)).mp h3
  have hin : vp_in (nI n) 6 := pk_in n 6 hn
  refine ⟨hin, nm_e (nm_r (nI_1 n) ?_)⟩
  unfold wpX_dropResult
  dsimp only
  refine br_f h1 (br_t h2 (br_t h3 ⟨hin, nm_e (nm_r (nI_1 n) ?_)⟩))
  unfold wpY_drop
  dsimp only
  refine ⟨rfl, zz_in (tk := fun i => if i = n then j else tk i) (xl_T L (by omega) (fun i hi => ?_)) hs hm rz_0⟩
  rw [nI_clamp (by omega)]
  by_cases z : i = n
  · subst z
    rw [pk_us, if_pos rfl]
    exact ⟨rfl, hj5⟩
  · rw [pk_un z, if_neg z]
    exact L.2.2.2.2.1 i (by omega)
/-- entries from lo to j moved down by d -/
def rm_a (R : Nat → Int32) (d lo j : Nat) : Nat → Int32 := fun i => if lo ≤ i ∧ i < j then R (i + d) else R i
theorem rm_0 (R : Nat → Int32) (d lo : Nat) : rm_a R d lo lo = R := by
  funext i
  unfold rm_a
  rw [if_neg (by omega)]
theorem rm_1 (R : Nat → Int32) {d lo j : Nat} (h : lo ≤ j) (hd : 0 < d) : upd (rm_a R d lo j) j (rm_a R d lo j (j + d)) = rm_a R d lo (j + 1) := by
  funext i
  by_cases z : i = j
  · subst z
    rw [pk_us]
    unfold rm_a
    rw [if_neg (by omega), if_pos (by omega)]
  · rw [pk_un z]
    unfold rm_a
    by_cases y : lo ≤ i ∧ i < j
    · rw [if_pos y, if_pos (by omega)]
    · rw [if_neg y, if_neg (by omega)]
section
variable {ci cd cr lm nr s n : Nat} {fs fr fo fp gc gl : Int32} {gs : Int64} {R ml T ok os rp IC IL : Nat → Int32} {IS : Nat → Int64} {IT SC SL : Nat → Int32} {SS : Nat → Int64}
theorem xt_rm {post : Int32 → SX → Prop} {T0 : Nat → Int32} {lo e : Nat} (hn : n ≤ 6) (he : e + 1 = n) (K : post 0 (nI ci, nI cd, nI cr, nI lm, nI nr, nI s, nI e, 0, 0, 0, 0, gc, gl, gs, R, ml, rm_a T0 1 lo e, ok, os, rp, IC, IL, IS, IT, SC, SL, SS)) : ∀ (u j : Nat), lo ≤ j → j ≤ e → e - j < u → wX_removeToken_24 post (nI e) (nI ci) (nI cd) (nI cr) (nI lm) (nI nr) (nI s) (nI n) fs fr fo fp gc gl gs u (nI j) R ml (rm_a T0 1 lo j) ok os rp IC IL IS IT SC SL SS
  | 0, _, _, _, h => by omega
  | u + 1, j, hlo, hj, hu => by
    unfold wX_removeToken_24
    refine pk_le e j (fun le => nm_r (e' := nI e) ?_ ?_) fun gt => ?_
    · rw [show (1 : Int32) = nI 1 from rfl, pk_sub (by omega)]
      exact congrArg nI (by omega)
    · have z : j = e := by omega
      subst z
      unfold wpX_dropResult
      exact K
    · rw [nI_1, nI_clamp (by omega), nI_clamp (by omega)]
      refine ⟨pk_in (j + 1) 6 (by omega), pk_in j 6 (by omega), nm_r (rm_1 T0 hlo (by omega)) (nm_e ?_)⟩
      exact xt_rm hn he K u (j + 1) (by omega) (by omega) (by omega)
end
section
variable {ci cd cr lm nr s n : Nat} {fs fc : Int32} {fq : Int64} {fh : Int32} {R T sa sh BC : Nat → Int32} {BS : Nat → Int64}
theorem yt_rm {post : Int32 → SY → Prop} {T0 : Nat → Int32} {lo e : Nat} (hn : n ≤ 6) (he : e + 1 = n) (K : post 0 (nI ci, nI cd, nI cr, nI lm, nI nr, nI s, nI e, 0, 0, 0, fh, R, rm_a T0 1 lo e, sa, sh, BC, BS)) : ∀ (u j : Nat), lo ≤ j → j ≤ e → e - j < u → wY_removeToken_17 post (nI ci) (nI cd) (nI cr) (nI lm) (nI nr) (nI s) (nI n) fs fc fq fh u (nI j) R (rm_a T0 1 lo j) sa sh BC BS
  | 0, _, _, _, h => by omega
  | u + 1, j, hlo, hj, hu => by
    have e1 : nI n - 1 = nI e := by
      rw [show (1 : Int32) = nI 1 from rfl, pk_sub (by omega)]
      exact congrArg nI (by omega)
    unfold wY_removeToken_17
    rw [e1]
    refine pk_le e j (fun le => nm_e ?_) fun gt => ?_
    · have z : j = e := by omega
      subst z
      unfold wpY_drop
      exact K
    · rw [nI_1, nI_clamp (by omega), nI_clamp (by omega)]
      refine ⟨pk_in (j + 1) 6 (by omega), pk_in j 6 (by omega), nm_r (rm_1 T0 hlo (by omega)) (nm_e ?_)⟩
      exact yt_rm hn he K u (j + 1) (by omega) (by omega) (by omega)
end
theorem i_vc_removeToken {k : Nat} {u : SX} {v : SY} (I : i_Rel k u v) (hk : k + 5 ≤ 2564) (v1 : Int32) : wpX_removeToken (fun r u' => wpY_removeToken (fun r' v' => r' = r ∧ i_Rel (k + 5) u' v') v v1) u v1 := by
  refine zz_el (P := fun u v => wpX_removeToken (fun r u' => wpY_removeToken (fun r' v' => r' = r ∧ i_Rel (k + 5) u' v') v v1) u v1) ?_ I
  intro sy tk w ci cd cr lm nr s n fs fr fo fp gc gl gs R ml T ok os rp IC IL IS IT SC SL SS fc fq fh sa sh BC BS L hs hm Z
  have hn6 := L.1.2.1
  unfold wpX_removeToken wpY_removeToken
  dsimp only
  refine br_c (fun h1 => br_t h1 ⟨rfl, zz_in L hs hm Z⟩) fun h1 => br_c (fun h2 => ?_) fun h2 => br_f h1 (br_f h2 ⟨rfl, zz_in L hs hm Z⟩)
  obtain ⟨j, hj, rfl⟩ := nI_of h1
  have hjn : j < n := (nI_ltI hj (by omega)).mp h2
  have e1 : nI n - 1 = nI (n - 1) := pk_sub (a := n) (b := 1) (by omega)
  refine nm_r e1 ⟨n + 1, ?_⟩
  have WX := fun (post : Int32 → SX → Prop) K => xt_rm (post := post) (ci := ci) (cd := cd) (cr := cr) (lm := lm) (nr := nr) (s := s) (n := n) (fs := fs) (fr := fr) (fo := fo) (fp := fp) (gc := gc) (gl := gl) (gs := gs) (R := R) (ml := ml) (ok := ok) (os := os) (rp := rp) (IC := IC) (IL := IL) (IS := IS) (IT := IT) (SC := SC) (SL := SL) (SS := SS) (T0 := T) (lo := j) (e := n - 1) hn6 (by omega) K (n + 1) j (by omega) (by omega) (by omega)
  have WY := fun (post : Int32 → SY → Prop) K => yt_rm (post := post) (ci := ci) (cd := cd) (cr := cr) (lm := lm) (nr := nr) (s := s) (n := n) (fs := fs) (fc := fc) (fq := fq) (fh := fh) (R := R) (sa := sa) (sh := sh) (BC := BC) (BS := BS) (T0 := T) (lo := j) (e := n - 1) hn6 (by omega) K (n + 1) j (by omega) (by omega) (by omega)
  rw [rm_0] at WX WY
  refine WX _ (br_f h1 (br_t h2 ⟨n + 1, WY _ ⟨rfl, zz_in (tk := fun i => if j ≤ i then tk (i + 1) else tk i) (xl_T L (by omega) fun i hi => ?_) hs hm rz_0⟩⟩))
  unfold rm_a
  by_cases z : j ≤ i
  · rw [if_pos ⟨z, hi⟩, if_pos z]
    exact L.2.2.2.2.1 (i + 1) (by omega)
  · rw [if_neg (by omega), if_neg z]
    exact L.2.2.2.2.1 i (by omega)
end
section
/-! parse and adopt -/
theorem i_vc_parse {k : Nat} {u : SX} {v : SY} (I : i_Rel k u v) (hk : k + 5 ≤ 2564) : wpX_parse (fun r u' => wpY_parse (fun r' v' => r' = r ∧ i_Rel (k + 5) u' v') v) u := by
  refine zz_el (P := fun u v => wpX_parse (fun r u' => wpY_parse (fun r' v' => r' = r ∧ i_Rel (k + 5) u' v') v) u) ?_ I
  intro sy tk w ci cd cr lm nr s n fs fr fo fp gc gl gs R ml T ok os rp IC IL IS IT SC SL SS fc fq fh sa sh BC BS L hs hm Z
  have hn6 := L.1.2.1
  have lm9 := L.2.2.1
  have hml := hm s hs.1 hs.2
  refine xp_parse L hs (fun e0 => ?_) (fun e0 B gc gl gs IC IL IS IT SC SL SS => ?_) (fun e0 l B st ok os rp st1 st2 hr gc gl gs IC IL IS IT SC SL SS => ?_)
  · rw [hml] at e0
    refine yp_parse L hs (fun _ sh => ⟨rfl, zz_in L hs hm (Or.inl ⟨by decide, by decide⟩)⟩) (fun z => absurd e0 z) (fun z => absurd e0 z)
  · rw [hml] at e0
    refine yp_parse L hs (fun z => absurd z e0) (fun _ Q S F h fh sh BC BS => ⟨rfl, zz_in L hs hm (Or.inl ⟨by decide, by decide⟩)⟩) (fun _ Q S F l e hl st h1 h2 fh sh BC BS => ?_)
    have := (xy_same L.1 L.2.1 lm9 hs B S F).2 rfl l e
    omega
  · rw [hml] at e0
    refine yp_parse L hs (fun z => absurd z e0) (fun _ Q S F h fh sh BC BS => ?_) (fun _ Q S F l2 e hl st' h1 h2 fh sh BC BS => ?_)
    · obtain ⟨_, _, c1, l2, e2, c2, _⟩ := (xy_same L.1 L.2.1 lm9 hs B S F).1 l rfl
      have := h l2 e2
      omega
    · obtain ⟨v1, v2, c1, l3, e3, c2, p2⟩ := (xy_same L.1 L.2.1 lm9 hs B S F).1 l rfl
      rw [e] at e3
      cases e3
      have ll := sc_len L.2.1 v1
      have es : st' = st := by
        by_cases z : sc_c w l = 0
        · rw [st1 z, h1 (by omega)]
        · rw [st2 z, h2 (by omega)]
      subst es
      refine ⟨rfl, zz_in L hs hm (Or.inr ⟨?_, l, v1, by omega, v2, hr, by rw [c2], rfl, rfl, by rw [p2]⟩)⟩
      by_cases z : sc_c w l = 0
      · exact Or.inl (st1 z)
      · exact Or.inr (st2 z)
/-- the first j entries taken from the first function -/
def cp_a (P T : Nat → Int32) (j : Nat) : Nat → Int32 := fun i => if i < j then P i else T i
theorem cp_0 (P T : Nat → Int32) : cp_a P T 0 = T := by
  funext i
  exact if_neg (by omega)
theorem cp_1 (P T : Nat → Int32) (j : Nat) : upd (cp_a P T j) j (P j) = cp_a P T (j + 1) := by
  funext i
  unfold cp_a
  by_cases z : i = j
  · subst z
    rw [pk_us, if_pos (by omega)]
  · rw [pk_un z]
    by_cases y : i < j
    · rw [if_pos y, if_pos (by omega)]
    · rw [if_neg y, if_neg (by omega)]
section
variable {ci cd cr lm nr s n : Nat} {fs fr fo fp gc gl : Int32} {gs : Int64} {R ml T ok os rp IC IL : Nat → Int32} {IS : Nat → Int64} {IT SC SL : Nat → Int32} {SS : Nat → Int64}
theorem xa_24 {post : Int32 → SX → Prop} {T0 : Nat → Int32} {m : Nat} (hm : m ≤ 6) (K : post 0 (nI ci, nI cd, nI cr, nI lm, nI nr, nI s, nI m, 0, 0, 0, 0, gc, gl, gs, R, ml, cp_a rp T0 m, ok, os, rp, IC, IL, IS, IT, SC, SL, SS)) : ∀ (u j : Nat), j ≤ m → m - j < u → wX_adopt_24 post (nI ci) (nI cd) (nI cr) (nI lm) (nI nr) (nI s) (nI n) fs fr fo (nI m) gc gl gs u (nI j) R ml (cp_a rp T0 j) ok os rp IC IL IS IT SC SL SS
  | 0, _, _, h => by omega
  | u + 1, j, hj, hu => by
    unfold wX_adopt_24
    refine pk_le m j (fun le => ?_) fun gt => ?_
    · have z : j = m := by omega
      subst z
      unfold wpX_dropResult
      exact K
    · rw [nI_clamp (by omega)]
      refine ⟨pk_in j 15 (by omega), pk_in j 6 (by omega), nm_r (cp_1 rp T0 j) (nm_r (nI_1 j) ?_)⟩
      exact xa_24 hm K u (j + 1) (by omega) (by omega)
end
section
variable {ci cd cr lm nr s n : Nat} {fs fc : Int32} {fq : Int64} {fh : Int32} {R T sa sh BC : Nat → Int32} {BS : Nat → Int64}
theorem ya_50 {post : Int32 → SY → Prop} {T0 : Nat → Int32} {m : Nat} (hm : m ≤ 6) (K : post 0 (nI ci, nI cd, nI cr, nI lm, nI nr, nI s, nI m, 0, 0, 0, fh, R, cp_a sa T0 m, sa, sh, BC, BS)) : ∀ (u j : Nat), j ≤ m → m - j < u → wY_adopt_50 post (nI m) (nI ci) (nI cd) (nI cr) (nI lm) (nI nr) (nI s) (nI n) fs fc fq fh u (nI j) R (cp_a sa T0 j) sa sh BC BS
  | 0, _, _, h => by omega
  | u + 1, j, hj, hu => by
    unfold wY_adopt_50
    refine pk_le m j (fun le => ?_) fun gt => ?_
    · have z : j = m := by omega
      subst z
      unfold wpY_drop
      exact K
    · rw [nI_clamp (by omega)]
      refine ⟨pk_in j 6 (by omega), pk_in j 6 (by omega), nm_r (cp_1 sa T0 j) (nm_r (nI_1 j) ?_)⟩
      exact ya_50 hm K u (j + 1) (by omega) (by omega)
theorem ya_26 {post : Int32 → SY → Prop} {rp : Nat → Int32} {l : List Nat} (hr : fs = 1 ∨ fs = 2) (hn : n ≤ 6) (hv : sc_v l) (h15 : l.length ≤ 15) (hu : sc_u l = n) (hrp : ∀ i, i < l.length → l.getD i 0 ≠ 2 → rp (rs_c l i) = rs_s T l i) (hm : rs_c l l.length ≤ 6)
    (K : ∀ sa, (∀ i, i < rs_c l l.length → sa i = rp i) → post 0 (nI ci, nI cd, nI cr, nI lm, nI nr, nI s, nI (rs_c l l.length), 0, 0, 0, fh, R, cp_a sa T (rs_c l l.length), sa, sh, BC, BS)) : ∀ (u j : Nat) {sa : Nat → Int32}, j ≤ rs_c l l.length → rs_c l l.length - j < u → (∀ i, i < j → sa i = rp i) →
    wY_adopt_26 post (nI (rs_c l l.length)) (nI ci) (nI cd) (nI cr) (nI lm) (nI nr) (nI s) (nI n) fs fc (lN (sc_p 15 l)) fh u (nI j) R T sa sh BC BS
  | 0, _, _, _, h, _ => by omega
  | u + 1, j, sa, hj, hu2, hs => by
    unfold wY_adopt_26
    refine pk_le (rs_c l l.length) j (fun le => ⟨rs_c l l.length + 1, ?_⟩) fun gt => ?_
    · have W := ya_50 (post := post) (sa := sa) (T0 := T) (ci := ci) (cd := cd) (cr := cr) (lm := lm) (nr := nr) (s := s) (n := n) (fs := fs) (fc := fc) (fq := lN (sc_p 15 l)) (fh := fh) (R := R) (sh := sh) (BC := BC) (BS := BS) hm (K sa fun i hi => hs i (by omega)) (rs_c l l.length + 1) 0 (by omega) (by omega)
      rw [cp_0] at W
      exact W
    · refine yg_rat hr hn hv h15 hu (by omega) (fun i hi e ne => ⟨pk_in j 6 (by omega), nm_e (nm_r (nI_1 j) ?_)⟩) fun le => by omega
      refine ya_26 hr hn hv h15 hu hrp hm K u (j + 1) (by omega) (by omega) fun i' hi' => ?_
      rw [nI_clamp (by omega)]
      by_cases z : i' = j
      · subst z
        rw [pk_us, ← hrp i hi ne, e]
      · rw [pk_un z]
        exact hs i' (by omega)
end
theorem rs_c_at {l : List Nat} {i : Nat} : ∀ {q : Nat}, i < rs_c l q → ∃ j, j < q ∧ rs_c l j = i ∧ l.getD j 0 ≠ 2
  | 0, h => by
    unfold rs_c at h
    omega
  | q + 1, h => by
    rw [rs_c] at h
    by_cases z : l.getD q 0 = 2
    · rw [if_pos z] at h
      obtain ⟨j, h1, h2, h3⟩ := rs_c_at (q := q) (by omega)
      exact ⟨j, by omega, h2, h3⟩
    · rw [if_neg z] at h
      rcases Nat.eq_or_lt_of_le (Nat.le_of_lt_succ h) with y | y
      · exact ⟨q, by omega, y.symm, z⟩
      · obtain ⟨j, h1, h2, h3⟩ := rs_c_at (q := q) y
        exact ⟨j, by omega, h2, h3⟩
theorem rs_s5 {T : Nat → Int32} {tk : Nat → Nat} {n : Nat} {l : List Nat} (hT : ∀ i, i < n → T i = nI (tk i) ∧ tk i ≤ 5) (hv : sc_v l) (hu : sc_u l = n) {j : Nat} (hj : j < l.length) : ∃ a, a ≤ 5 ∧ rs_s T l j = nI a := by
  have hx := sc_getD hv hj
  unfold rs_s
  by_cases h9 : 9 ≤ l.getD j 0
  · rw [if_pos h9]
    exact ⟨_, by omega, rfl⟩
  · rw [if_neg h9]
    by_cases h3 : 3 ≤ l.getD j 0
    · rw [if_pos h3]
      exact ⟨_, by omega, rfl⟩
    · rw [if_neg h3]
      obtain ⟨a, b⟩ := hT _ (rs_u_lt hu hj (by omega))
      exact ⟨_, b, a⟩
theorem i_vc_adopt {k : Nat} {u : SX} {v : SY} (I : i_Rel k u v) (hk : k + 5 ≤ 2564) : wpX_adopt (fun r u' => wpY_adopt (fun r' v' => r' = r ∧ i_Rel (k + 5) u' v') v) u := by
  refine zz_el (P := fun u v => wpX_adopt (fun r u' => wpY_adopt (fun r' v' => r' = r ∧ i_Rel (k + 5) u' v') v) u) ?_ I
  intro sy tk w ci cd cr lm nr s n fs fr fo fp gc gl gs R ml T ok os rp IC IL IS IT SC SL SS fc fq fh sa sh BC BS L hs hm Z
  have hn6 := L.1.2.1
  have I' := zz_in (k := k + 5) (gc := gc) (gl := gl) (gs := gs) (IC := IC) (IL := IL) (IS := IS) (IT := IT) (SC := SC) (SL := SL) (SS := SS) (fh := fh) (sa := sa) (sh := sh) (BC := BC) (BS := BS) L hs hm Z
  unfold wpX_adopt wpY_adopt
  dsimp only
  rcases Z with z | ⟨z, l, z1, z2, z3, z4, z5, z6, z7, z8⟩
  · exact xg_nr z (br_t rfl (yg_nr z (br_t rfl ⟨rfl, I'⟩)))
  · subst z8
    subst z7
    have c15 := rs_c_le l l.length
    refine xg_rd z (br_f (by decide) (br_c (fun h6 => ⟨rs_c l l.length + 1, ?_⟩) fun h6 => yg_rd z (br_f (by decide) (yg_rlen z z1 z2 (br_f h6 ⟨rfl, I'⟩)))))
    have m6 : rs_c l l.length ≤ 6 := (nI_leI (b := 6) (by omega) (by decide)).mp h6
    have WX := fun (post : Int32 → SX → Prop) K => xa_24 (post := post) (ci := ci) (cd := cd) (cr := cr) (lm := lm) (nr := nr) (s := s) (n := n) (fs := fs) (fr := fr) (fo := fo) (gc := gc) (gl := gl) (gs := gs) (R := R) (ml := ml) (ok := ok) (os := os) (rp := rp) (IC := IC) (IL := IL) (IS := IS) (IT := IT) (SC := SC) (SL := SL) (SS := SS) (T0 := T) m6 K (rs_c l l.length + 1) 0 (by omega) (by omega)
    rw [cp_0] at WX
    refine WX _ (yg_rd z (br_f (by decide) (yg_rlen z z1 z2 (br_t h6 ⟨rs_c l l.length + 1, ?_⟩))))
    refine ya_26 (rp := rp) z hn6 z1 z2 z3 (fun i hi => (z4 i hi).2.2) m6 (fun sa' hsa => ?_) (rs_c l l.length + 1) 0 (by omega) (by omega) (fun i hi => by omega)
    have ec : cp_a sa' T (rs_c l l.length) = cp_a rp T (rs_c l l.length) := by
      funext i
      unfold cp_a
      by_cases y : i < rs_c l l.length
      · rw [if_pos y, if_pos y, hsa i y]
      · rw [if_neg y, if_neg y]
    rw [ec]
    refine ⟨rfl, zz_in (tk := fun i => (rp i).toNatClampNeg) (xl_T L m6 fun i hi => ?_) hs hm rz_0⟩
    obtain ⟨j, j1, j2, j3⟩ := rs_c_at hi
    obtain ⟨a, a5, ea⟩ := rs_s5 L.2.2.2.2.1 z1 z3 j1
    have er : rp i = nI a := by rw [← ea, ← (z4 j j1).2.2 j3, j2]
    unfold cp_a
    rw [if_pos hi]
    show rp i = nI (rp i).toNatClampNeg ∧ (rp i).toNatClampNeg ≤ 5
    rw [er, nI_clamp (by omega)]
    exact ⟨rfl, a5⟩
end
section
/-! rules and the constructors -/
def zr_G (v : Int32) : Prop := ¬ v < -1 ∧ v ≤ 9
def zr_N (v : Int32) : Prop := ¬ v < 6 ∧ ¬ 9 < v
def zr_S (v2 v3 v4 : Int32) : Prop := (v2 = -1 ∧ (v3 ≠ -1 ∨ v4 ≠ -1)) ∨ (v3 = -1 ∧ v4 ≠ -1)
theorem zr_Ge {v : Int32} (h : zr_G v) : ∃ a, a ≤ 10 ∧ v = xl_e a := by
  by_cases z : v < 0
  · refine ⟨10, by omega, ?_⟩
    have h1 := h.1
    rw [Int32.lt_iff_toInt_lt] at z h1
    have a : (-1 : Int32).toInt = -1 := by decide
    have b : (0 : Int32).toInt = 0 := by decide
    refine Int32.toInt_inj.mp ?_
    rw [xl_e_10]
    omega
  · obtain ⟨j, hj, rfl⟩ := nI_of z
    have : j ≤ 9 := (nI_leI (b := 9) hj (by decide)).mp h.2
    exact ⟨j, by omega, (xl_e_n (by omega)).symm⟩
section
variable {ci cd cr lm nr s n : Nat} {fs fr fo fp gc gl : Int32} {gs : Int64} {R ml T ok os rp IC IL : Nat → Int32} {IS : Nat → Int64} {IT SC SL : Nat → Int32} {SS : Nat → Int64}
theorem xr_sym {post : Int32 → Prop} {v : Int32} (K1 : zr_G v → post 1) (K0 : ¬ zr_G v → post 0) : wpX_isSymbolOrNone post (nI ci, nI cd, nI cr, nI lm, nI nr, nI s, nI n, fs, fr, fo, fp, gc, gl, gs, R, ml, T, ok, os, rp, IC, IL, IS, IT, SC, SL, SS) v := by
  unfold wpX_isSymbolOrNone
  dsimp only
  exact br_c (fun h => K0 fun z => z.1 h) fun h => br_c (fun h2 => K0 fun z => absurd z.2 (Int32.not_le.mpr h2)) fun h2 => K1 ⟨h, Int32.not_lt.mp h2⟩
theorem xr_nt {post : Int32 → Prop} {v : Int32} (K1 : zr_N v → post 1) (K0 : ¬ zr_N v → post 0) : wpX_isNonterminal post (nI ci, nI cd, nI cr, nI lm, nI nr, nI s, nI n, fs, fr, fo, fp, gc, gl, gs, R, ml, T, ok, os, rp, IC, IL, IS, IT, SC, SL, SS) v := by
  unfold wpX_isNonterminal
  dsimp only
  exact br_c (fun h => K0 fun z => z.1 h) fun h => br_c (fun h2 => K0 fun z => z.2 h2) fun h2 => K1 ⟨h, h2⟩
/-- the rule array with one more rule -/
def zr_R (R : Nat → Int32) (nr : Nat) (v1 v2 v3 v4 : Int32) : Nat → Int32 := upd (upd (upd (upd R (nr * 4) v1) (nr * 4 + 1) v2) (nr * 4 + 2) v3) (nr * 4 + 3) v4
theorem xr_84 {post : Int32 → SX → Prop} {v1 v2 v3 v4 : Int32} (hnr : nr ≤ 8) (Kc : nr = 8 → post (-4) (nI ci, nI cd, nI cr, nI lm, nI nr, nI s, nI n, fs, fr, fo, fp, gc, gl, gs, R, ml, T, ok, os, rp, IC, IL, IS, IT, SC, SL, SS))
    (Kd : nr < 8 → wpX_refreshShortest (fun u => match u with | (a1, a2, a3, a4, a5, a6, a7, a8, a9, a10, a11, a12, a13, a14, a15, a16, a17, a18, a19, a20, a21, a22, a23, a24, a25, a26, a27) => post 0 (a1, a2, a3, a4, a5, a6, a7, 0, 0, 0, 0, a12, a13, a14, a15, a16, a17, a18, a19, a20, a21, a22, a23, a24, a25, a26, a27)) (nI ci, nI cd, nI cr, nI lm, nI (nr + 1), nI s, nI n, fs, fr, fo, fp, gc, gl, gs, zr_R R nr v1 v2 v3 v4, ml, T, ok, os, rp, IC, IL, IS, IT, SC, SL, SS)) :
    wX_addRule_84 post v1 v2 v3 v4 (nI ci) (nI cd) (nI cr) (nI lm) (nI nr) (nI s) (nI n) fs fr fo fp gc gl gs R ml T ok os rp IC IL IS IT SC SL SS := by
  unfold wX_addRule_84
  refine pk_lt nr 8 (fun lt => nm_r (xl_i4 nr) ?_) fun ge => Kc (by omega)
  have e1 : nI (nr * 4) + 1 = nI (nr * 4 + 1) := nI_1 _
  have e2 : nI (nr * 4) + 2 = nI (nr * 4 + 2) := by rw [show (2 : Int32) = nI 2 from rfl, nI_add]
  have e3 : nI (nr * 4) + 3 = nI (nr * 4 + 3) := by rw [show (3 : Int32) = nI 3 from rfl, nI_add]
  rw [e1, e2, e3, nI_clamp (by omega), nI_clamp (by omega), nI_clamp (by omega), nI_clamp (by omega)]
  exact ⟨pk_in (nr * 4) 32 (by omega), nm_e ⟨pk_in (nr * 4 + 1) 32 (by omega), nm_e ⟨pk_in (nr * 4 + 2) 32 (by omega), nm_e ⟨pk_in (nr * 4 + 3) 32 (by omega), nm_e (nm_r (nI_1 nr) (Kd lt))⟩⟩⟩⟩
theorem xr_70 {post : Int32 → SX → Prop} {v1 v2 v3 v4 : Int32} (K : ¬ (v3 = -1 ∧ v4 ≠ -1) → wX_addRule_84 post v1 v2 v3 v4 (nI ci) (nI cd) (nI cr) (nI lm) (nI nr) (nI s) (nI n) fs fr fo fp gc gl gs R ml T ok os rp IC IL IS IT SC SL SS) (Kb : v3 = -1 ∧ v4 ≠ -1 → post (-3) (nI ci, nI cd, nI cr, nI lm, nI nr, nI s, nI n, fs, fr, fo, fp, gc, gl, gs, R, ml, T, ok, os, rp, IC, IL, IS, IT, SC, SL, SS)) : wX_addRule_70 post v1 v2 v3 v4 (nI ci) (nI cd) (nI cr) (nI lm) (nI nr) (nI s) (nI n) fs fr fo fp gc gl gs R ml T ok os rp IC IL IS IT SC SL SS := by
  unfold wX_addRule_70
  exact br_c (fun h => br_c (fun h2 => K fun z => z.2 h2) fun h2 => Kb ⟨h, h2⟩) fun h => K fun z => h z.1
theorem xr_add {post : Int32 → SX → Prop} {v1 v2 v3 v4 : Int32} (Ka : ¬ (zr_N v1 ∧ zr_G v2 ∧ zr_G v3 ∧ zr_G v4) → post (-2) (nI ci, nI cd, nI cr, nI lm, nI nr, nI s, nI n, fs, fr, fo, fp, gc, gl, gs, R, ml, T, ok, os, rp, IC, IL, IS, IT, SC, SL, SS)) (Kb : zr_N v1 ∧ zr_G v2 ∧ zr_G v3 ∧ zr_G v4 → zr_S v2 v3 v4 → post (-3) (nI ci, nI cd, nI cr, nI lm, nI nr, nI s, nI n, fs, fr, fo, fp, gc, gl, gs, R, ml, T, ok, os, rp, IC, IL, IS, IT, SC, SL, SS))
    (K : zr_N v1 ∧ zr_G v2 ∧ zr_G v3 ∧ zr_G v4 → ¬ zr_S v2 v3 v4 → wX_addRule_84 post v1 v2 v3 v4 (nI ci) (nI cd) (nI cr) (nI lm) (nI nr) (nI s) (nI n) fs fr fo fp gc gl gs R ml T ok os rp IC IL IS IT SC SL SS) : wpX_addRule post (nI ci, nI cd, nI cr, nI lm, nI nr, nI s, nI n, fs, fr, fo, fp, gc, gl, gs, R, ml, T, ok, os, rp, IC, IL, IS, IT, SC, SL, SS) v1 v2 v3 v4 := by
  unfold wpX_addRule
  dsimp only
  refine xr_nt (fun h1 => br_f (by decide) ?_) fun h1 => br_t rfl (Ka fun z => h1 z.1)
  refine xr_sym (fun h2 => ?_) fun h2 => ?_
  · refine xr_sym (fun h3 => ?_) fun h3 => ?_
    · refine xr_sym (fun h4 => br_f (by decide) (br_f (by decide) (br_f (by decide) ?_))) fun h4 => br_f (by decide) (br_f (by decide) (br_t rfl (Ka fun z => h4 z.2.2.2)))
      have A : zr_N v1 ∧ zr_G v2 ∧ zr_G v3 ∧ zr_G v4 := ⟨h1, h2, h3, h4⟩
      refine br_c (fun e2 => br_c (fun e3 => br_c (fun e4 => ?_) fun e4 => Kb A (Or.inl ⟨e2, Or.inr e4⟩)) fun e3 => Kb A (Or.inl ⟨e2, Or.inl e3⟩)) fun e2 => ?_
      · refine xr_70 (fun z => K A ?_) fun z => Kb A (Or.inr z)
        rintro (⟨_, q | q⟩ | q)
        · exact q e3
        · exact q e4
        · exact z q
      · refine xr_70 (fun z => K A ?_) fun z => Kb A (Or.inr z)
        rintro (⟨q, _⟩ | q)
        · exact e2 q
        · exact z q
    · exact xr_sym (fun h4 => br_f (by decide) (br_t rfl (Ka fun z => h3 z.2.2.1))) fun h4 => br_f (by decide) (br_t rfl (Ka fun z => h3 z.2.2.1))
  · exact xr_sym (fun h3 => xr_sym (fun h4 => br_t rfl (Ka fun z => h2 z.2.1)) fun h4 => br_t rfl (Ka fun z => h2 z.2.1)) fun h3 => xr_sym (fun h4 => br_t rfl (Ka fun z => h2 z.2.1)) fun h4 => br_t rfl (Ka fun z => h2 z.2.1)
end
section
variable {ci cd cr lm nr s n : Nat} {fs fc : Int32} {fq : Int64} {fh : Int32} {R T sa sh BC : Nat → Int32} {BS : Nat → Int64}
theorem yr_88 {post : Int32 → SY → Prop} {v1 v2 v3 v4 : Int32} (hnr : nr ≤ 8) (Kc : nr = 8 → post (-4) (nI ci, nI cd, nI cr, nI lm, nI nr, nI s, nI n, fs, fc, fq, fh, R, T, sa, sh, BC, BS)) (Kd : nr < 8 → post 0 (nI ci, nI cd, nI cr, nI lm, nI (nr + 1), nI s, nI n, 0, 0, 0, fh, zr_R R nr v1 v2 v3 v4, T, sa, sh, BC, BS)) :
    wY_addRule_88 post v1 v2 v3 v4 (nI ci) (nI cd) (nI cr) (nI lm) (nI nr) (nI s) (nI n) fs fc fq fh R T sa sh BC BS := by
  unfold wY_addRule_88
  rw [xl_i4]
  have e1 : nI (nr * 4) + 1 = nI (nr * 4 + 1) := nI_1 _
  have e2 : nI (nr * 4) + 2 = nI (nr * 4 + 2) := by rw [show (2 : Int32) = nI 2 from rfl, nI_add]
  have e3 : nI (nr * 4) + 3 = nI (nr * 4 + 3) := by rw [show (3 : Int32) = nI 3 from rfl, nI_add]
  rw [e1, e2, e3, nI_clamp (by omega), nI_clamp (by omega), nI_clamp (by omega), nI_clamp (by omega)]
  refine pk_lt nr 8 (fun lt => ⟨pk_in (nr * 4) 32 (by omega), nm_e ⟨pk_in (nr * 4 + 1) 32 (by omega), nm_e ⟨pk_in (nr * 4 + 2) 32 (by omega), nm_e ⟨pk_in (nr * 4 + 3) 32 (by omega), nm_e (nm_r (nI_1 nr) ?_)⟩⟩⟩⟩) fun ge => Kc (by omega)
  unfold wpY_drop
  exact Kd lt
theorem yr_74 {post : Int32 → SY → Prop} {v1 v2 v3 v4 : Int32} (K : ¬ (v3 = -1 ∧ v4 ≠ -1) → wY_addRule_88 post v1 v2 v3 v4 (nI ci) (nI cd) (nI cr) (nI lm) (nI nr) (nI s) (nI n) fs fc fq fh R T sa sh BC BS) (Kb : v3 = -1 ∧ v4 ≠ -1 → post (-3) (nI ci, nI cd, nI cr, nI lm, nI nr, nI s, nI n, fs, fc, fq, fh, R, T, sa, sh, BC, BS)) : wY_addRule_74 post v1 v2 v3 v4 (nI ci) (nI cd) (nI cr) (nI lm) (nI nr) (nI s) (nI n) fs fc fq fh R T sa sh BC BS := by
  unfold wY_addRule_74
  exact br_c (fun h => br_c (fun h2 => K fun z => z.2 h2) fun h2 => Kb ⟨h, h2⟩) fun h => K fun z => h z.1
theorem yr_add {post : Int32 → SY → Prop} {v1 v2 v3 v4 : Int32} (Ka : ¬ (zr_N v1 ∧ zr_G v2 ∧ zr_G v3 ∧ zr_G v4) → post (-2) (nI ci, nI cd, nI cr, nI lm, nI nr, nI s, nI n, fs, fc, fq, fh, R, T, sa, sh, BC, BS)) (Kb : zr_N v1 ∧ zr_G v2 ∧ zr_G v3 ∧ zr_G v4 → zr_S v2 v3 v4 → post (-3) (nI ci, nI cd, nI cr, nI lm, nI nr, nI s, nI n, fs, fc, fq, fh, R, T, sa, sh, BC, BS))
    (K : zr_N v1 ∧ zr_G v2 ∧ zr_G v3 ∧ zr_G v4 → ¬ zr_S v2 v3 v4 → wY_addRule_88 post v1 v2 v3 v4 (nI ci) (nI cd) (nI cr) (nI lm) (nI nr) (nI s) (nI n) fs fc fq fh R T sa sh BC BS) : wpY_addRule post (nI ci, nI cd, nI cr, nI lm, nI nr, nI s, nI n, fs, fc, fq, fh, R, T, sa, sh, BC, BS) v1 v2 v3 v4 := by
  unfold wpY_addRule
  dsimp only
  unfold wpY_isNonterminal
  dsimp only
  refine br_c (fun h => br_t rfl (Ka fun z => z.1.1 h)) fun h => br_c (fun h' => br_t rfl (Ka fun z => z.1.2 h')) fun h' => br_f (by decide) ?_
  have h1 : zr_N v1 := ⟨h, h'⟩
  refine br_c (fun a => Ka fun z => z.2.1.1 a) fun a2 => br_c (fun b2 => ?_) fun b => Ka fun z => b z.2.1.2
  refine br_c (fun a => Ka fun z => z.2.2.1.1 a) fun a3 => br_c (fun b3 => ?_) fun b => Ka fun z => b z.2.2.1.2
  refine br_c (fun a => Ka fun z => z.2.2.2.1 a) fun a4 => br_c (fun b4 => ?_) fun b => Ka fun z => b z.2.2.2.2
  have A : zr_N v1 ∧ zr_G v2 ∧ zr_G v3 ∧ zr_G v4 := ⟨h1, ⟨a2, b2⟩, ⟨a3, b3⟩, ⟨a4, b4⟩⟩
  refine br_c (fun e2 => br_c (fun e3 => br_c (fun e4 => ?_) fun e4 => Kb A (Or.inl ⟨e2, Or.inr e4⟩)) fun e3 => Kb A (Or.inl ⟨e2, Or.inl e3⟩)) fun e2 => ?_
  · refine yr_74 (fun z => K A ?_) fun z => Kb A (Or.inr z)
    rintro (⟨_, q | q⟩ | q)
    · exact q e3
    · exact q e4
    · exact z q
  · refine yr_74 (fun z => K A ?_) fun z => Kb A (Or.inr z)
    rintro (⟨q, _⟩ | q)
    · exact e2 q
    · exact z q
end
end
section
/-! rules added and removed; the constructors -/
theorem zr_L {sy : Nat → Nat → Nat} {tk w : Nat → Nat} {R T : Nat → Int32} {ci cd cr lm nr n : Nat} (L : xl sy tk w R T ci cd cr lm nr n) (hnr : nr < 8) {a1 a2 a3 a4 : Nat} (h1 : 6 ≤ a1 ∧ a1 ≤ 9) (h2 : a2 ≤ 10) (h3 : a3 ≤ 10) (h4 : a4 ≤ 10) (h5 : a2 = 10 → a3 = 10) (h6 : a3 = 10 → a4 = 10) :
    xl (fun r p => if r = nr then (if p = 0 then a1 else if p = 1 then a2 else if p = 2 then a3 else a4) else sy r p) tk w (zr_R R nr (nI a1) (xl_e a2) (xl_e a3) (xl_e a4)) T ci cd cr lm (nr + 1) n := by
  obtain ⟨⟨b1, b2, b3⟩, c1, c2, c3, c4⟩ := L
  refine ⟨⟨by omega, b2, fun r hr => ?_⟩, c1, c2, fun r p hr hp => ?_, c4⟩
  · by_cases z : r = nr
    · simp only [if_pos z]
      exact ⟨h1.1, h1.2, h2, h3, h4, h5, h6⟩
    · simp only [if_neg z]
      exact b3 r (by omega)
  · unfold zr_R
    by_cases z : r = nr
    · simp only [if_pos z]
      subst z
      rcases (by omega : p = 0 ∨ p = 1 ∨ p = 2 ∨ p = 3) with rfl | rfl | rfl | rfl
      · rw [pk_un (by omega), pk_un (by omega), pk_un (by omega), Nat.add_zero, pk_us]
        exact (xl_e_n (by omega)).symm
      · rw [pk_un (by omega), pk_un (by omega), pk_us]
        rfl
      · rw [pk_un (by omega), pk_us]
        rfl
      · rw [pk_us]
        rfl
    · simp only [if_neg z]
      rw [pk_un (by omega), pk_un (by omega), pk_un (by omega), pk_un (by omega)]
      exact c3 r p (by omega) hp
theorem i_vc_addRule {k : Nat} {u : SX} {v : SY} (I : i_Rel k u v) (hk : k + 5 ≤ 2564) (v1 : Int32) (v2 : Int32) (v3 : Int32) (v4 : Int32) : wpX_addRule (fun r u' => wpY_addRule (fun r' v' => r' = r ∧ i_Rel (k + 5) u' v') v v1 v2 v3 v4) u v1 v2 v3 v4 := by
  refine zz_el (P := fun u v => wpX_addRule (fun r u' => wpY_addRule (fun r' v' => r' = r ∧ i_Rel (k + 5) u' v') v v1 v2 v3 v4) u v1 v2 v3 v4) ?_ I
  intro sy tk w ci cd cr lm nr s n fs fr fo fp gc gl gs R ml T ok os rp IC IL IS IT SC SL SS fc fq fh sa sh BC BS L hs hm Z
  have hnr := L.1.1
  have I' := zz_in (k := k + 5) (gc := gc) (gl := gl) (gs := gs) (IC := IC) (IL := IL) (IS := IS) (IT := IT) (SC := SC) (SL := SL) (SS := SS) (fh := fh) (sa := sa) (sh := sh) (BC := BC) (BS := BS) L hs hm Z
  refine xr_add (fun h => yr_add (fun _ => ⟨rfl, I'⟩) (fun z => absurd z h) fun z => absurd z h) (fun h hS => yr_add (fun z => absurd h z) (fun _ _ => ⟨rfl, I'⟩) fun _ z => absurd hS z) fun h hS => ?_
  refine xr_84 hnr (fun h8 => yr_add (fun z => absurd h z) (fun _ z => absurd z hS) fun _ _ => yr_88 hnr (fun _ => ⟨rfl, I'⟩) fun z => by omega) fun lt => ?_
  obtain ⟨g1, g2, g3, g4⟩ := h
  obtain ⟨a1, h1, rfl⟩ := zz_nt g1.1 g1.2
  obtain ⟨a2, h2, rfl⟩ := zr_Ge g2
  obtain ⟨a3, h3, rfl⟩ := zr_Ge g3
  obtain ⟨a4, h4, rfl⟩ := zr_Ge g4
  have h5 : a2 = 10 → a3 = 10 := fun z => Classical.byContradiction fun y => hS (Or.inl ⟨(xl_e_m h2).mpr z, Or.inl fun q => y ((xl_e_m h3).mp q)⟩)
  have h6 : a3 = 10 → a4 = 10 := fun z => Classical.byContradiction fun y => hS (Or.inr ⟨(xl_e_m h3).mpr z, fun q => y ((xl_e_m h4).mp q)⟩)
  have L' := zr_L L lt h1 h2 h3 h4 h5 h6
  refine sx_refresh L' fun ml' hm' => ?_
  dsimp only
  exact yr_add (fun z => absurd ⟨g1, g2, g3, g4⟩ z) (fun _ z => absurd z hS) fun _ _ => yr_88 hnr (fun z => by omega) fun _ => ⟨rfl, zz_in L' hs hm' rz_0⟩
section
variable {ci cd cr lm nr s n : Nat} {fs fr fo fp gc gl : Int32} {gs : Int64} {R ml T ok os rp IC IL : Nat → Int32} {IS : Nat → Int64} {IT SC SL : Nat → Int32} {SS : Nat → Int64}
theorem xr_rm {post : Int32 → SX → Prop} {R0 : Nat → Int32} {lo q : Nat} (hn : nr ≤ 8) (hq : q + 1 = nr)
    (K : wpX_refreshShortest (fun u => match u with | (a1, a2, a3, a4, a5, a6, a7, a8, a9, a10, a11, a12, a13, a14, a15, a16, a17, a18, a19, a20, a21, a22, a23, a24, a25, a26, a27) => post 0 (a1, a2, a3, a4, a5, a6, a7, 0, 0, 0, 0, a12, a13, a14, a15, a16, a17, a18, a19, a20, a21, a22, a23, a24, a25, a26, a27)) (nI ci, nI cd, nI cr, nI lm, nI q, nI s, nI n, fs, fr, fo, fp, gc, gl, gs, rm_a R0 4 lo (q * 4), ml, T, ok, os, rp, IC, IL, IS, IT, SC, SL, SS)) :
    ∀ (u j : Nat), lo ≤ j → j ≤ q * 4 → q * 4 - j < u → wX_removeRule_28 post (nI (q * 4)) (nI ci) (nI cd) (nI cr) (nI lm) (nI nr) (nI s) (nI n) fs fr fo fp gc gl gs u (nI j) (rm_a R0 4 lo j) ml T ok os rp IC IL IS IT SC SL SS
  | 0, _, _, _, h => by omega
  | u + 1, j, hlo, hj, hu => by
    unfold wX_removeRule_28
    refine pk_le (q * 4) j (fun le => nm_r (e' := nI q) ?_ ?_) fun gt => ?_
    · rw [show (1 : Int32) = nI 1 from rfl, pk_sub (by omega)]
      exact congrArg nI (by omega)
    · have z : j = q * 4 := by omega
      subst z
      exact K
    · have e4 : nI j + 4 = nI (j + 4) := by rw [show (4 : Int32) = nI 4 from rfl, nI_add]
      rw [e4, nI_clamp (by omega), nI_clamp (by omega)]
      refine ⟨pk_in (j + 4) 32 (by omega), pk_in j 32 (by omega), nm_r (rm_1 R0 hlo (by omega)) (nm_r (nI_1 j) ?_)⟩
      exact xr_rm hn hq K u (j + 1) (by omega) (by omega) (by omega)
end
section
variable {ci cd cr lm nr s n : Nat} {fs fc : Int32} {fq : Int64} {fh : Int32} {R T sa sh BC : Nat → Int32} {BS : Nat → Int64}
theorem yr_rm {post : Int32 → SY → Prop} {R0 : Nat → Int32} {lo q : Nat} (hn : nr ≤ 8) (hq : q + 1 = nr) (K : post 0 (nI ci, nI cd, nI cr, nI lm, nI q, nI s, nI n, 0, 0, 0, fh, rm_a R0 4 lo (q * 4), T, sa, sh, BC, BS)) :
    ∀ (u j : Nat), lo ≤ j → j ≤ q * 4 → q * 4 - j < u → wY_removeRule_19 post (nI ci) (nI cd) (nI cr) (nI lm) (nI nr) (nI s) (nI n) fs fc fq fh u (nI j) (rm_a R0 4 lo j) T sa sh BC BS
  | 0, _, _, _, h => by omega
  | u + 1, j, hlo, hj, hu => by
    have e1 : nI nr - 1 = nI q := by
      rw [show (1 : Int32) = nI 1 from rfl, pk_sub (by omega)]
      exact congrArg nI (by omega)
    unfold wY_removeRule_19
    rw [e1, xl_i4]
    refine pk_le (q * 4) j (fun le => nm_e ?_) fun gt => ?_
    · have z : j = q * 4 := by omega
      subst z
      unfold wpY_drop
      exact K
    · have e4 : nI j + 4 = nI (j + 4) := by rw [show (4 : Int32) = nI 4 from rfl, nI_add]
      rw [e4, nI_clamp (by omega), nI_clamp (by omega)]
      refine ⟨pk_in (j + 4) 32 (by omega), pk_in j 32 (by omega), nm_r (rm_1 R0 hlo (by omega)) (nm_r (nI_1 j) ?_)⟩
      exact yr_rm hn hq K u (j + 1) (by omega) (by omega) (by omega)
end
theorem i_vc_removeRule {k : Nat} {u : SX} {v : SY} (I : i_Rel k u v) (hk : k + 5 ≤ 2564) (v1 : Int32) : wpX_removeRule (fun r u' => wpY_removeRule (fun r' v' => r' = r ∧ i_Rel (k + 5) u' v') v v1) u v1 := by
  refine zz_el (P := fun u v => wpX_removeRule (fun r u' => wpY_removeRule (fun r' v' => r' = r ∧ i_Rel (k + 5) u' v') v v1) u v1) ?_ I
  intro sy tk w ci cd cr lm nr s n fs fr fo fp gc gl gs R ml T ok os rp IC IL IS IT SC SL SS fc fq fh sa sh BC BS L hs hm Z
  have hnr := L.1.1
  unfold wpX_removeRule wpY_removeRule
  dsimp only
  refine br_c (fun h1 => br_t h1 ⟨rfl, zz_in L hs hm Z⟩) fun h1 => br_c (fun h2 => ?_) fun h2 => br_f h1 (br_f h2 ⟨rfl, zz_in L hs hm Z⟩)
  obtain ⟨j, hj, rfl⟩ := nI_of h1
  have hjn : j < nr := (nI_ltI hj (by omega)).mp h2
  have e1 : (nI nr - 1) * 4 = nI ((nr - 1) * 4) := by
    rw [show (1 : Int32) = nI 1 from rfl, pk_sub (by omega), xl_i4]
  refine nm_r e1 (nm_r (xl_i4 j) ⟨nr * 4 + 1, ?_⟩)
  have WX := fun (post : Int32 → SX → Prop) K => xr_rm (post := post) (ci := ci) (cd := cd) (cr := cr) (lm := lm) (nr := nr) (s := s) (n := n) (fs := fs) (fr := fr) (fo := fo) (fp := fp) (gc := gc) (gl := gl) (gs := gs) (T := T) (ml := ml) (ok := ok) (os := os) (rp := rp) (IC := IC) (IL := IL) (IS := IS) (IT := IT) (SC := SC) (SL := SL) (SS := SS) (R0 := R) (lo := j * 4) (q := nr - 1) hnr (by omega) K (nr * 4 + 1) (j * 4) (by omega) (by omega) (by omega)
  have WY := fun (post : Int32 → SY → Prop) K => yr_rm (post := post) (ci := ci) (cd := cd) (cr := cr) (lm := lm) (nr := nr) (s := s) (n := n) (fs := fs) (fc := fc) (fq := fq) (fh := fh) (T := T) (sa := sa) (sh := sh) (BC := BC) (BS := BS) (R0 := R) (lo := j * 4) (q := nr - 1) hnr (by omega) K (nr * 4 + 1) (j * 4) (by omega) (by omega) (by omega)
  rw [rm_0] at WX WY
  have L' : xl (fun r p => if r < j then sy r p else sy (r + 1) p) tk w (rm_a R 4 (j * 4) ((nr - 1) * 4)) T ci cd cr lm (nr - 1) n := by
    obtain ⟨⟨b1, b2, b3⟩, c1, c2, c3, c4⟩ := L
    refine ⟨⟨by omega, b2, fun r hr => ?_⟩, c1, c2, fun r p hr hp => ?_, c4⟩
    · by_cases z : r < j
      · simp only [if_pos z]
        exact b3 r (by omega)
      · simp only [if_neg z]
        exact b3 (r + 1) (by omega)
    · unfold rm_a
      by_cases z : r < j
      · simp only [if_pos z]
        rw [if_neg (by omega)]
        exact c3 r p (by omega) hp
      · simp only [if_neg z]
        rw [if_pos (by omega), show r * 4 + p + 4 = (r + 1) * 4 + p by omega]
        exact c3 (r + 1) p (by omega) hp
  refine WX _ (sx_refresh L' fun ml' hm' => ?_)
  dsimp only
  exact br_f h1 (br_t h2 (nm_r (xl_i4 j) ⟨nr * 4 + 1, WY _ ⟨rfl, zz_in L' hs hm' rz_0⟩⟩))
/-- both clamp alike -/
theorem zc (p : Int32) (lo hi : Nat) (h : lo ≤ hi) (hh : hi < 100) : ∃ c, (lo ≤ c ∧ c ≤ hi) ∧ (∀ (post : Int32 → Prop) (u : SX), post (nI c) → wpX_clamp post u p (nI lo) (nI hi)) ∧ (∀ (post : Int32 → Prop) (u : SY), post (nI c) → wpY_clamp post u p (nI lo) (nI hi)) := by
  by_cases h1 : nI lo ≤ p
  · have h0 : ¬ p < 0 := fun z => absurd (Int32.lt_of_le_of_lt h1 z) (nI_pos (by omega))
    obtain ⟨j, hj, rfl⟩ := nI_of h0
    have hl : lo ≤ j := (nI_leI (by omega) hj).mp h1
    by_cases h2 : nI j ≤ nI hi
    · have hr : j ≤ hi := (nI_leI hj (by omega)).mp h2
      exact ⟨j, ⟨hl, hr⟩, fun post u K => by unfold wpX_clamp; exact br_t h1 (br_t h2 K), fun post u K => by unfold wpY_clamp; exact br_t h1 (br_t h2 K)⟩
    · exact ⟨hi, ⟨h, Nat.le_refl _⟩, fun post u K => by unfold wpX_clamp; exact br_t h1 (br_f h2 K), fun post u K => by unfold wpY_clamp; exact br_t h1 (br_f h2 K)⟩
  · exact ⟨lo, ⟨Nat.le_refl _, h⟩, fun post u K => by unfold wpX_clamp; exact br_f h1 K, fun post u K => by unfold wpY_clamp; exact br_f h1 K⟩
def zc_w (ci cd cr : Nat) (x : Nat) : Nat := if x = 1 then 0 else if x = 2 then cd else if x < 9 then cr else ci
theorem zc_L {ci cd cr lm : Nat} (h1 : 1 ≤ ci ∧ ci ≤ 3) (h2 : 1 ≤ cd ∧ cd ≤ 3) (h3 : 1 ≤ cr ∧ cr ≤ 3) (h4 : lm ≤ 9) : xl (fun _ _ => 0) (fun _ => 0) (zc_w ci cd cr) (fun _ => 0) (fun _ => 0) ci cd cr lm 0 0 := by
  refine ⟨⟨by omega, by omega, fun r hr => by omega⟩, ?_, h4, fun r p hr => by omega, fun i hi => by omega, rfl, rfl, ?_, ?_, by omega⟩
  · intro x hx1 hx2
    unfold zc_w
    rw [if_neg (by omega)]
    split
    · omega
    · split <;> omega
  · intro t ht
    unfold zc_w
    rw [if_neg (by omega), if_neg (by omega), if_pos (by omega)]
  · intro t ht
    unfold zc_w
    rw [if_neg (by omega), if_neg (by omega), if_neg (by omega)]
theorem i_vc0 (k0 : Int32) (k1 : Int32) (k2 : Int32) (k3 : Int32) : wpX_init (fun u => wpY_init (fun v => i_Rel 4 u v) k0 k1 k2 k3) k0 k1 k2 k3 := by
  obtain ⟨ci, h1, x1, y1⟩ := zc k0 1 3 (by omega) (by omega)
  obtain ⟨cd, h2, x2, y2⟩ := zc k1 1 3 (by omega) (by omega)
  obtain ⟨cr, h3, x3, y3⟩ := zc k2 1 3 (by omega) (by omega)
  obtain ⟨lm, h4, x4, y4⟩ := zc k3 0 9 (by omega) (by omega)
  have L := zc_L h1 h2 h3 h4.2
  unfold wpX_init
  refine x1 _ _ (x2 _ _ (x3 _ _ (x4 _ _ ?_)))
  refine sx_refresh (nr := 0) (s := 6) (n := 0) L fun ml' hm' => ?_
  dsimp only
  unfold wpX_dropResult
  dsimp only
  unfold wpY_init
  refine y1 _ _ (y2 _ _ (y3 _ _ (y4 _ _ ?_)))
  exact zz_in (nr := 0) (s := 6) (n := 0) L ⟨by omega, by omega⟩ hm' rz_0
end
