section
/-! rows pasted out of the kit's kit/rows (starting texts) -/
theorem pk_us {f : Nat → Int32} {k : Nat} {x : Int32} : upd f k x k = x := if_pos rfl
theorem pk_un {f : Nat → Int32} {k j : Nat} {x : Int32} (h : j ≠ k) : upd f k x j = f j := if_neg h
theorem pk_uLs {f : Nat → Int64} {k : Nat} {x : Int64} : vp_updL f k x k = x := if_pos rfl
theorem pk_uLn {f : Nat → Int64} {k j : Nat} {x : Int64} (h : j ≠ k) : vp_updL f k x j = f j := if_neg h
theorem pk_sub {a b : Nat} (h : b ≤ a) : nI a - nI b = nI (a - b) := by
  obtain ⟨c, rfl⟩ : ∃ c, a = c + b := ⟨a - b, by omega⟩
  rw [← nI_add, Int32.add_sub_cancel, Nat.add_sub_cancel]
theorem pk_ix (x : Int32) {n : Nat} (hn : n < 2 ^ 31) : x < 0 ∨ nI n ≤ x ∨ ∃ j : Nat, j < n ∧ x = nI j := by
  by_cases h : x < 0
  · exact Or.inl h
  · obtain ⟨j, hj, rfl⟩ := nI_of h
    by_cases h2 : j < n
    · exact Or.inr (Or.inr ⟨j, h2, rfl⟩)
    · exact Or.inr (Or.inl (nI_le (by omega) hj))
theorem pk_le {x y : Int32} {A B : Prop} (a b : Nat) (f : a ≤ b → A) (g : b < a → B) (hx : x = nI a := by rfl) (hy : y = nI b := by rfl) (ha : a < 2 ^ 31 := by omega) (hb : b < 2 ^ 31 := by omega) : (x ≤ y → A) ∧ (¬ x ≤ y → B) := by
  subst hx hy
  rw [nI_leI ha hb]
  exact ⟨f, fun z => g (by omega)⟩
theorem pk_lt {x y : Int32} {A B : Prop} (a b : Nat) (f : a < b → A) (g : b ≤ a → B) (hx : x = nI a := by rfl) (hy : y = nI b := by rfl) (ha : a < 2 ^ 31 := by omega) (hb : b < 2 ^ 31 := by omega) : (x < y → A) ∧ (¬ x < y → B) := by
  subst hx hy
  rw [nI_ltI ha hb]
  exact ⟨f, fun z => g (by omega)⟩
theorem pk_in {x : Int32} (n N : Nat) (h : n < N) (hx : x = nI n := by rfl) (hN : N < 2 ^ 31 := by omega) : vp_in x N := by
  subst hx
  exact vp_in_nI h hN
theorem pk_cl {x : Int32} (n : Nat) (hx : x = nI n := by rfl) (h : n < 2 ^ 31 := by omega) : x.toNatClampNeg = n := by
  subst hx
  exact nI_clamp h
theorem pk_tn {n : Nat} (h : n < 2 ^ 32) : (nI n).toBitVec.toNat = n := Nat.mod_eq_of_lt h
theorem pk_and (x : Int32) {m : Int32} (k : Nat) (hm : m.toBitVec.toNat = 2 ^ k - 1) : x &&& m = nI (x.toBitVec.toNat % 2 ^ k) := by
  apply Int32.toBitVec_inj.mp
  apply BitVec.eq_of_toNat_eq
  rw [Int32.toBitVec_and, BitVec.toNat_and, hm, Nat.and_two_pow_sub_one_eq_mod]
  show _ = (BitVec.ofNat 32 _).toNat
  rw [BitVec.toNat_ofNat]
  exact (Nat.mod_eq_of_lt (Nat.lt_of_le_of_lt (Nat.mod_le _ _) x.toBitVec.isLt)).symm
theorem pk_andE (x : Int32) {m : Int32} (k : Nat) (hm : m.toBitVec.toNat = 2 ^ k - 1) : ∃ j : Nat, j < 2 ^ k ∧ x &&& m = nI j := ⟨_, Nat.mod_lt _ (Nat.two_pow_pos k), pk_and x k hm⟩
theorem pk_charN {q : Nat} (hq : q < 65536) : narrow .char (.int (nI q)) = .int (nI q) ∧ fits .char (.int (nI q)) = true := by
  constructor
  · have e : (nI q).toUInt32.toUInt16.toUInt32.toInt32 = nI q := by
      apply Int32.toBitVec_inj.mp
      apply BitVec.eq_of_toNat_eq
      show (nI q).toUInt32.toUInt16.toUInt32.toNat = q % 2 ^ 32
      rw [UInt16.toNat_toUInt32, UInt32.toNat_toUInt16, show (nI q).toUInt32.toNat = q % 2 ^ 32 from rfl]
      omega
    exact congrArg Value.int e
  · have a : (0 : Int32) ≤ nI q := nI_pos' (by omega)
    have b : nI q ≤ 65535 := nI_le (b := 65535) (by omega) (by decide)
    show (decide ((0 : Int32) ≤ nI q) && decide (nI q ≤ 65535)) = true
    rw [decide_eq_true a, decide_eq_true b]
    rfl
theorem pk_char (x : Int32) : (x.toUInt32 % 65536).toInt32 = nI (x.toBitVec.toNat % 65536) := by
  apply Int32.toBitVec_inj.mp
  apply BitVec.eq_of_toNat_eq
  rw [pk_tn (by omega)]
  show (x.toUInt32 % 65536).toNat = _
  rw [UInt32.toNat_mod]
  rfl
theorem pk_nc (x : Int32) : narrow .char (.int (x.toUInt32 % 65536).toInt32) = .int (x.toUInt32 % 65536).toInt32 := by
  rw [pk_char]
  exact (pk_charN (Nat.mod_lt _ (by decide))).1
theorem pk_vb (z : Int32) : vp_nar .byte z.toInt8.toInt32 = z.toInt8.toInt32 := by rw [vp_nar_byte]; simp
theorem pk_vs (z : Int32) : vp_nar .short z.toInt16.toInt32 = z.toInt16.toInt32 := by rw [vp_nar_short]; simp
theorem pk_vc (z : Int32) : vp_nar .char (z.toUInt32 % 65536).toInt32 = (z.toUInt32 % 65536).toInt32 := Value.int.inj (pk_nc z)
def bt (x : Int32) (i : Nat) : Bool := x.toBitVec.getLsbD i
theorem b_ext {x y : Int32} (h : ∀ i, i < 32 → bt x i = bt y i) : x = y := Int32.toBitVec_inj.mp (BitVec.eq_of_getLsbD_eq (fun i hi => h i hi))
theorem b_or (x y : Int32) (i : Nat) : bt (x ||| y) i = (bt x i || bt y i) := by unfold bt; rw [Int32.toBitVec_or, BitVec.getLsbD_or]
theorem b_and (x y : Int32) (i : Nat) : bt (x &&& y) i = (bt x i && bt y i) := by unfold bt; rw [Int32.toBitVec_and, BitVec.getLsbD_and]
theorem b_xor (x y : Int32) (i : Nat) : bt (x ^^^ y) i = (bt x i ^^ bt y i) := by unfold bt; rw [Int32.toBitVec_xor, BitVec.getLsbD_xor]
theorem b_big {x : Int32} {i : Nat} (h : 32 ≤ i) : bt x i = false := BitVec.getLsbD_of_ge _ _ h
theorem b_255 (i : Nat) : bt 255 i = decide (i < 8) := by
  rcases Nat.lt_or_ge i 32 with h | h
  · exact (by decide +kernel : ∀ i, i < 32 → bt 255 i = decide (i < 8)) i h
  · rw [b_big h, decide_eq_false (by omega)]
theorem b_65535 (i : Nat) : bt 65535 i = decide (i < 16) := by
  rcases Nat.lt_or_ge i 32 with h | h
  · exact (by decide +kernel : ∀ i, i < 32 → bt 65535 i = decide (i < 16)) i h
  · rw [b_big h, decide_eq_false (by omega)]
theorem b_0 (i : Nat) : bt 0 i = false := BitVec.getLsbD_zero
theorem s_l : ∀ n, n < 32 → ((nI n &&& 31).toBitVec.smod 32).toNat = n := by decide +kernel
theorem s_u : ∀ n, n < 32 → (((nI n).toUInt32 &&& Int32.toUInt32 31).toBitVec % 32).toNat = n := by decide +kernel
theorem b_ushr (n : Nat) (hn : n < 32) (x : Int32) (i : Nat) : bt ((x.toUInt32 >>> ((nI n).toUInt32 &&& Int32.toUInt32 31)).toInt32) i = bt x (n + i) := by
  show (x.toUInt32 >>> ((nI n).toUInt32 &&& Int32.toUInt32 31)).toBitVec.getLsbD i = x.toUInt32.toBitVec.getLsbD (n + i)
  rw [UInt32.toBitVec_shiftRight]
  show (x.toUInt32.toBitVec >>> (((nI n).toUInt32 &&& Int32.toUInt32 31).toBitVec % 32).toNat).getLsbD i = _
  rw [s_u n hn, BitVec.getLsbD_ushiftRight]
theorem b_sshr (n : Nat) (hn : n < 32) (x : Int32) {i : Nat} (hi : i < 32) : bt (x >>> (nI n &&& 31)) i = if n + i < 32 then bt x (n + i) else bt x 31 := by
  unfold bt
  rw [Int32.toBitVec_shiftRight]
  show (x.toBitVec.sshiftRight ((nI n &&& 31).toBitVec.smod 32).toNat).getLsbD i = _
  rw [s_l n hn, BitVec.getLsbD_sshiftRight, BitVec.msb_eq_getLsbD_last]
  simp [hi]
theorem b_sshr8 (x : Int32) {i : Nat} (hi : i < 32) : bt (x >>> ((8 : Int32) &&& 31)) i = if 8 + i < 32 then bt x (8 + i) else bt x 31 := b_sshr 8 (by omega) x hi
theorem em_w (v : Int32) : ∃ w : Nat, w < 65536 ∧ (v.toUInt32 % 65536).toInt32 = nI w ∧ v &&& 65535 = nI w := by
  have hr := lw_u16_r v
  have h0 : (0 : Int32).toInt = 0 := by decide
  obtain ⟨w, h1, h2⟩ := nI_of (x := lw_u16 v) (by rw [Int32.lt_iff_toInt_lt]; omega)
  have h3 : (v.toUInt32 % 65536).toInt32 = nI w := h2
  rw [h2, nI_toInt h1] at hr
  exact ⟨w, by omega, h3, by rw [← lg_i2c_mask, ← lg_i2c_nf, h3]⟩
theorem ts_bit {w : Int64} {s : UInt64} {j : Nat} (hj : j < 64) (hs : s.toNat = j) : ((w.toUInt64 >>> s).toInt64 &&& 1) = 0 ↔ w.toBitVec.getLsbD j = false := by
  have e : (w.toUInt64 >>> s).toInt64.toBitVec = w.toBitVec >>> j := by
    apply BitVec.eq_of_toNat_eq
    show (w.toUInt64 >>> s).toNat = _
    rw [UInt64.toNat_shiftRight, hs, Nat.mod_eq_of_lt hj, BitVec.toNat_ushiftRight]
    rfl
  rw [← Int64.toBitVec_inj, Int64.toBitVec_and, e]
  show w.toBitVec >>> j &&& 1#64 = 0#64 ↔ _
  constructor
  · intro h
    have t := congrArg (fun x => x.getLsbD 0) h
    simpa using t
  · intro h
    apply BitVec.eq_of_getLsbD_eq
    intro i hi
    cases i with
    | zero => simp [h]
    | succ i => simp
theorem wb_cu : ∀ k, k < 64 → ((nI k).toInt64.toUInt64 &&& Int64.toUInt64 63) = UInt64.ofNat k := by decide +kernel
theorem u_tn {n : Nat} (h : n < 2 ^ 64) : (UInt64.ofNat n).toNat = n := Nat.mod_eq_of_lt h
end
section
/-! bits: the kind words, the casts, the packed answers -/
/-- the operand byte of a kind word, as the reference takes it -/
def an_op (w : Int32) : Int32 := (w >>> ((8 : Int32) &&& 31)) &&& 255
theorem an_opb (x : Int32) {i : Nat} (hi : i < 32) : bt (an_op x) i = (decide (i < 8) && bt x (8 + i)) := by
  unfold an_op
  rw [b_and, b_255, b_sshr8 x hi]
  by_cases h : i < 8
  · rw [if_pos (show 8 + i < 32 by omega), decide_eq_true h, Bool.and_true, Bool.true_and]
  · rw [decide_eq_false h, Bool.and_false, Bool.false_and]
theorem an_bs (x : Int32) {i : Nat} (hi : i < 16) : bt (x.toInt16.toInt32) i = bt x i := by
  unfold bt
  rw [Int16.toBitVec_toInt32, Int32.toBitVec_toInt16, BitVec.getLsbD_signExtend, BitVec.getLsbD_signExtend, if_pos hi, if_pos (show i < 32 by omega), decide_eq_true hi, decide_eq_true (show i < 32 by omega), Bool.true_and, Bool.true_and]
theorem an_bs2 (x : Int32) {i : Nat} (h : 16 ≤ i) (hi : i < 32) : bt (x.toInt16.toInt32) i = bt x 15 := by
  unfold bt
  rw [Int16.toBitVec_toInt32, Int32.toBitVec_toInt16, BitVec.getLsbD_signExtend, if_neg (show ¬ i < 16 by omega), BitVec.msb_eq_getLsbD_last, BitVec.getLsbD_signExtend, decide_eq_true hi, Bool.true_and]
  simp
theorem an_m8 (y : Int32) : (y &&& 65535) &&& 255 = y &&& 255 := by
  rw [Int32.and_assoc]
  exact congrArg (y &&& ·) (by decide)
theorem an_8192 (y : Int32) : (y &&& 65535) &&& 8192 = y &&& 8192 := by
  rw [Int32.and_assoc]
  exact congrArg (y &&& ·) (by decide)
theorem an_16384 (y : Int32) : (y &&& 65535) &&& 16384 = y &&& 16384 := by
  rw [Int32.and_assoc]
  exact congrArg (y &&& ·) (by decide)
theorem an_u8 (x : Int32) : ((x.toUInt32 >>> ((8 : Int32).toUInt32 &&& Int32.toUInt32 31)).toInt32) &&& 255 = an_op x := by
  apply b_ext
  intro i hi
  have e : bt ((x.toUInt32 >>> ((8 : Int32).toUInt32 &&& Int32.toUInt32 31)).toInt32) i = bt x (8 + i) := b_ushr 8 (by omega) x i
  rw [an_opb x hi, b_and, b_255, e, Bool.and_comm]
theorem an_o8 (y : Int32) : an_op (y &&& 65535) = an_op y := by
  apply b_ext
  intro i hi
  rw [an_opb _ hi, an_opb _ hi, b_and, b_65535]
  by_cases h : i < 8
  · rw [decide_eq_true (show 8 + i < 16 by omega), Bool.and_true]
  · rw [decide_eq_false h, Bool.false_and, Bool.false_and]
theorem an_os (y : Int32) : an_op y.toInt16.toInt32 = an_op y := by
  apply b_ext
  intro i hi
  rw [an_opb _ hi, an_opb _ hi]
  by_cases h : i < 8
  · rw [an_bs y (show 8 + i < 16 by omega)]
  · rw [decide_eq_false h, Bool.false_and, Bool.false_and]
theorem an_s8 (y : Int32) : y.toInt16.toInt32 &&& 255 = y &&& 255 := by
  apply b_ext
  intro i hi
  rw [b_and, b_and, b_255]
  by_cases h : i < 8
  · rw [an_bs y (show i < 16 by omega)]
  · rw [decide_eq_false h, Bool.and_false, Bool.and_false]
theorem an_s16 (y : Int32) : y &&& 65535 = y.toInt16.toInt32 &&& 65535 := by
  apply b_ext
  intro i hi
  rw [b_and, b_and, b_65535]
  by_cases h : i < 16
  · rw [an_bs y h]
  · rw [decide_eq_false h, Bool.and_false, Bool.and_false]
theorem an_16s (y : Int32) : y.toInt16.toInt32 = (y &&& 65535).toInt16.toInt32 := by
  apply b_ext
  intro i hi
  by_cases h : i < 16
  · rw [an_bs _ h, an_bs _ h, b_and, b_65535, decide_eq_true h, Bool.and_true]
  · rw [an_bs2 _ (by omega) hi, an_bs2 _ (by omega) hi, b_and, b_65535, decide_eq_true (by omega), Bool.and_true]
/-- a kind word as the class holds it (16 bits unsigned) and as the reference holds it (a short) -/
def an_k (x y : Int32) : Prop := y = x.toInt16.toInt32 ∧ x = y &&& 65535
theorem an_kn (v : Int32) : an_k (v &&& 65535) v.toInt16.toInt32 := ⟨an_16s v, an_s16 v⟩
theorem an_k0 : an_k 0 0 := ⟨by decide, by decide⟩
theorem an_kt {x y : Int32} (h : an_k x y) : x &&& 255 = y &&& 255 := by
  rw [h.2, an_m8]
theorem an_ko {x y : Int32} (h : an_k x y) : ((x.toUInt32 >>> ((8 : Int32).toUInt32 &&& Int32.toUInt32 31)).toInt32) &&& 255 = an_op y := by
  rw [an_u8, h.2, an_o8]
theorem an_ke {x y x' y' : Int32} (h : an_k x y) (h' : an_k x' y') : x = x' ↔ y' = y := by
  constructor
  · intro e
    rw [h.1, h'.1, e]
  · intro e
    rw [h.2, h'.2, e]
theorem an_xor (x y : Int32) : ((x ^^^ y) &&& 255) = 0 ↔ x &&& 255 = y &&& 255 := by
  constructor
  · intro e
    apply b_ext
    intro i _
    have e2 := congrArg (fun z => bt z i) e
    rw [b_and, b_xor, b_0] at e2
    rw [b_and, b_and]
    revert e2
    cases bt x i <;> cases bt y i <;> cases bt 255 i <;> simp
  · intro e
    apply b_ext
    intro i _
    have e2 := congrArg (fun z => bt z i) e
    rw [b_and, b_and] at e2
    rw [b_and, b_xor, b_0]
    revert e2
    cases bt x i <;> cases bt y i <;> cases bt 255 i <;> simp
theorem an_nm (v : Int32) : vp_nar .char ((v.toUInt32 % 65536).toInt32) = v &&& 65535 := by
  obtain ⟨w, _, h1, h2⟩ := em_w v
  rw [pk_vc, h1, h2]
theorem an_nc (v : Int32) : (v.toUInt32 % 65536).toInt32 = v &&& 65535 := by
  obtain ⟨w, _, h1, h2⟩ := em_w v
  rw [h1, h2]
theorem an_byte : ∀ j, j < 3 → (nI j).toInt8.toInt32 = nI j := by decide +kernel
theorem an_char : ∀ j, j < 16 → ((nI j).toUInt32 % 65536).toInt32 = nI j := by decide +kernel
/-! longs -/
theorem an_tp : ∀ j, j < 63 → BitVec.twoPow 64 j + BitVec.twoPow 64 j = BitVec.twoPow 64 (j + 1) := by decide +kernel
theorem an_tp0 : ∀ j, j < 64 → BitVec.twoPow 64 j ≠ 0#64 := by decide +kernel
theorem an_dbl {b : Int64} {j : Nat} (hj : j < 63) (h : b.toBitVec = BitVec.twoPow 64 j) : (b + b).toBitVec = BitVec.twoPow 64 (j + 1) := by
  rw [Int64.toBitVec_add, h, an_tp j hj]
theorem an_and {w b : Int64} {j : Nat} (hj : j < 64) (h : b.toBitVec = BitVec.twoPow 64 j) : (w &&& b) = 0 ↔ w.toBitVec.getLsbD j = false := by
  rw [← Int64.toBitVec_inj, Int64.toBitVec_and, h, BitVec.and_twoPow]
  show _ = 0#64 ↔ _
  cases hb : w.toBitVec.getLsbD j
  · exact ⟨fun _ => rfl, fun _ => by simp⟩
  · exact ⟨fun z => absurd ((if_pos rfl).symm.trans z) (an_tp0 j hj), fun z => absurd z (by decide)⟩
theorem an_shr (w : Int64) {j : Nat} (hj : j < 64) : ((w.toUInt64 >>> ((nI j).toInt64.toUInt64 &&& Int64.toUInt64 63)).toInt64 &&& 1) = 0 ↔ w.toBitVec.getLsbD j = false := ts_bit hj (by rw [wb_cu j hj]; exact u_tn (by omega))
/-- the low half of an answer -/
def an_lo (v : Int32) : Int64 := v.toInt64 &&& 4294967295
theorem an_pk {post : Int64 → Prop} {st low : Int32} {K : Int64} (hK : st.toInt64 <<< ((32 : Int32).toInt64 &&& 63) = K) (h : post (K ||| an_lo low)) : wpX_pack post st low := by
  unfold wpX_pack
  rw [hK]
  exact h
theorem an_pk0 {post : Int64 → Prop} {low : Int32} (h : post (an_lo low)) : wpX_pack post 0 low := by
  refine an_pk (K := 0) (by decide) ?_
  rw [Int64.zero_or]
  exact h
theorem an_pk2 {post : Int64 → Prop} {low : Int32} (h : post (8589934592 ||| an_lo low)) : wpX_pack post 2 low := an_pk (by decide) h
theorem an_pk3 {post : Int64 → Prop} {low : Int32} (h : post (12884901888 ||| an_lo low)) : wpX_pack post 3 low := an_pk (by decide) h
theorem an_pk4 {post : Int64 → Prop} {low : Int32} (h : post (17179869184 ||| an_lo low)) : wpX_pack post 4 low := an_pk (by decide) h
theorem an_pk1 {post : Int64 → Prop} {low : Int32} (h : post (4294967296 ||| an_lo low)) : wpX_pack post 1 low := an_pk (by decide) h
theorem an_z5 : (21474836480 : Int64) ||| an_lo 0 = 21474836480 := by decide
theorem an_z6 : (25769803776 : Int64) ||| an_lo 0 = 25769803776 := by decide
theorem an_z7 : (30064771072 : Int64) ||| an_lo 0 = 30064771072 := by decide
theorem an_pk5 {post : Int64 → Prop} (h : post 21474836480) : wpX_pack post 5 0 := an_pk (K := 21474836480) (by decide) (by rw [an_z5]; exact h)
theorem an_pk6 {post : Int64 → Prop} (h : post 25769803776) : wpX_pack post 6 0 := an_pk (K := 25769803776) (by decide) (by rw [an_z6]; exact h)
theorem an_pk7 {post : Int64 → Prop} (h : post 30064771072) : wpX_pack post 7 0 := an_pk (K := 30064771072) (by decide) (by rw [an_z7]; exact h)
end
section
/-! the private questions: badKind / kindOk, shownType / shown -/
def an_ok (t : Nat) (TS : Nat → Int32) (w : Int32) : Prop :=
  (w &&& 255 = 101 ∧ an_op w < nI t ∧ 0 ≤ TS (an_op w).toNatClampNeg) ∨ w &&& 255 = 73 ∨ w &&& 255 = 74 ∨ w &&& 255 = 90 ∨ w &&& 255 = 115 ∨ w &&& 255 = 99
theorem an_okm {t : Nat} {TS : Nat → Int32} (w : Int32) : an_ok t TS (w &&& 65535) ↔ an_ok t TS w := by
  unfold an_ok
  rw [an_m8, an_o8]
theorem an_oks {t : Nat} {TS : Nat → Int32} (w : Int32) : an_ok t TS w.toInt16.toInt32 ↔ an_ok t TS w := by
  unfold an_ok
  rw [an_s8, an_os]
theorem an_oke {t : Nat} {TS : Nat → Int32} {w : Int32} (c : w &&& 255 = 101) : an_ok t TS w ↔ an_op w < nI t ∧ 0 ≤ TS (an_op w).toNatClampNeg := by
  constructor
  · intro h
    rcases h with h | h
    · exact h.2
    · rw [c] at h
      exact absurd h (by decide)
  · intro h
    exact Or.inl ⟨c, h⟩
theorem an_opn (w : Int32) : ∃ j : Nat, j < 256 ∧ an_op w = nI j := pk_andE (w >>> ((8 : Int32) &&& 31)) (m := 255) 8 (by decide)
theorem an_opi {t : Nat} {w : Int32} (ht : t ≤ 3) (h : an_op w < nI t) : vp_in (an_op w) 3 := by
  obtain ⟨j, hj, e⟩ := an_opn w
  rw [e] at h ⊢
  have := (nI_ltI (by omega) (by omega)).mp h
  exact vp_in_nI (by omega) (by omega)
/-- what a stored pair's kind keeps: an enum kind names a held type -/
def an_pv (t : Nat) (w : Int32) : Prop := w &&& 255 = 101 → ∃ j : Nat, j < t ∧ an_op w = nI j
theorem an_pvo {t : Nat} {TS : Nat → Int32} {w : Int32} (ht : t ≤ 3) (h : an_ok t TS w) : an_pv t w := by
  intro c
  obtain ⟨j, hj, e⟩ := an_opn w
  have h2 := ((an_oke c).mp h).1
  rw [e] at h2
  exact ⟨j, (nI_ltI (by omega) (by omega)).mp h2, e⟩
def an_sh (t : Nat) (TS YA : Nat → Int32) (x : Int32) : Prop :=
  ¬ x < 0 ∧ x < nI t ∧ 0 ≤ TS x.toNatClampNeg ∧ ¬ (YA x.toNatClampNeg &&& 8192) = 0 ∧ (TS x.toNatClampNeg &&& 3) = 2
theorem an_xin {t : Nat} {x : Int32} (ht : t ≤ 3) (c : ¬ x < 0) (d : x < nI t) : vp_in x 3 := by
  obtain ⟨j, hj, rfl⟩ := nI_of c
  have := (nI_ltI hj (by omega)).mp d
  exact vp_in_nI (by omega) (by omega)
theorem an_xin4 {t : Nat} {x : Int32} (ht : t ≤ 3) (c : ¬ x < 0) (d : x < nI t) : vp_in x 4 := by
  obtain ⟨j, hj, rfl⟩ := nI_of c
  have := (nI_ltI hj (by omega)).mp d
  exact vp_in_nI (by omega) (by omega)
section
variable {t m a p : Nat} {XA YA TS : Nat → Int32} {TK : Nat → Int64} {MO MN XM YM MH MD : Nat → Int32} {YD M : Nat → Int64} {AT PA PN XP YP PV C : Nat → Int32}
theorem an_x53 {post : Int32 → Prop} {w : Int32} (ht : t ≤ 3) (hk : w &&& 255 = 101 ∨ w &&& 255 = 73 ∨ w &&& 255 = 74 ∨ w &&& 255 = 90 ∨ w &&& 255 = 115 ∨ w &&& 255 = 99) (h0 : an_ok t TS w → post 0) (h1 : ¬ an_ok t TS w → post 1) : wX_badKind_53 post (w &&& 255) (an_op w) (nI t) (nI m) (nI a) (nI p) XA TS TK MO MN XM MH MD AT PA PN XP PV := by
  unfold wX_badKind_53
  refine br_c (fun c => br_c (fun d => ⟨an_opi ht d, br_c (fun f => h0 ((an_oke c).mpr ⟨d, f⟩)) (fun f => h1 (fun z => f ((an_oke c).mp z).2))⟩) (fun d => h1 (fun z => d ((an_oke c).mp z).1))) (fun c => h0 (Or.inr (hk.resolve_left c)))
theorem an_xbad {post : Int32 → Prop} {w : Int32} (ht : t ≤ 3) (h0 : an_ok t TS w → post 0) (h1 : ¬ an_ok t TS w → post 1) : wpX_badKind post (nI t, nI m, nI a, nI p, XA, TS, TK, MO, MN, XM, MH, MD, AT, PA, PN, XP, PV) w := by
  unfold wpX_badKind
  dsimp only
  refine nm_e (nm_r (an_u8 w) ?_)
  refine br_c (fun c => an_x53 ht (Or.inr (Or.inl c)) h0 h1) (fun c1 => ?_)
  refine br_c (fun c => an_x53 ht (Or.inr (Or.inr (Or.inl c))) h0 h1) (fun c2 => ?_)
  refine br_c (fun c => an_x53 ht (Or.inr (Or.inr (Or.inr (Or.inl c)))) h0 h1) (fun c3 => ?_)
  refine br_c (fun c => an_x53 ht (Or.inr (Or.inr (Or.inr (Or.inr (Or.inl c))))) h0 h1) (fun c4 => ?_)
  refine br_c (fun c => an_x53 ht (Or.inl c) h0 h1) (fun c5 => ?_)
  refine br_c (fun c => an_x53 ht (Or.inr (Or.inr (Or.inr (Or.inr (Or.inr c))))) h0 h1) (fun c6 => ?_)
  refine h1 (fun z => ?_)
  rcases z with z | z | z | z | z | z
  · exact c5 z.1
  · exact c1 z
  · exact c2 z
  · exact c3 z
  · exact c4 z
  · exact c6 z
theorem an_yok {post : Int32 → Prop} {w : Int32} (ht : t ≤ 3) (h1 : an_ok t TS w → post 1) (h0 : ¬ an_ok t TS w → post 0) : wpY_kindOk post (nI t, nI m, nI a, nI p, YA, YM, YP, TS, MO, MN, PN, C, TK, YD, M, AT, PV) w := by
  unfold wpY_kindOk
  dsimp only
  refine nm_e (nm_r (e' := an_op w) rfl ?_)
  refine br_c (fun c => ?_) (fun c => ?_)
  · refine br_c (fun d => h0 (fun z => Int32.not_lt.mpr d ((an_oke c).mp z).1)) (fun d => ?_)
    have d2 := Int32.not_le.mp d
    exact ⟨an_opi ht d2, br_c (fun f => h0 (fun z => Int32.not_le.mpr f ((an_oke c).mp z).2)) (fun f => h1 ((an_oke c).mpr ⟨d2, Int32.not_lt.mp f⟩))⟩
  · refine br_c (fun d => h1 (Or.inr (Or.inl d))) (fun c1 => ?_)
    refine br_c (fun d => h1 (Or.inr (Or.inr (Or.inl d)))) (fun c2 => ?_)
    refine br_c (fun d => h1 (Or.inr (Or.inr (Or.inr (Or.inl d))))) (fun c3 => ?_)
    refine br_c (fun d => h1 (Or.inr (Or.inr (Or.inr (Or.inr (Or.inl d)))))) (fun c4 => ?_)
    refine br_c (fun d => h1 (Or.inr (Or.inr (Or.inr (Or.inr (Or.inr d)))))) (fun c5 => ?_)
    refine h0 (fun z => ?_)
    rcases z with z | z | z | z | z | z
    · exact c z.1
    · exact c1 z
    · exact c2 z
    · exact c3 z
    · exact c4 z
    · exact c5 z
theorem an_xsh {post : Int32 → Prop} {x : Int32} (ht : t ≤ 3) (hA : ∀ i, XA i = YA i &&& 65535) (h1 : an_sh t TS YA x → post 1) (h0 : ¬ an_sh t TS YA x → post 0) : wpX_shownType post (nI t, nI m, nI a, nI p, XA, TS, TK, MO, MN, XM, MH, MD, AT, PA, PN, XP, PV) x := by
  unfold wpX_shownType
  dsimp only
  refine br_c (fun c => h0 (fun z => z.1 c)) (fun c => br_c (fun d => ?_) (fun d => h0 (fun z => d z.2.1)))
  have hi : vp_in x 3 := an_xin ht c d
  refine ⟨hi, br_c (fun e => ⟨hi, ?_⟩) (fun e => h0 (fun z => e z.2.2.1))⟩
  rw [hA, an_8192]
  exact br_c (fun f => h0 (fun z => z.2.2.2.1 f)) (fun f => ⟨hi, br_c (fun g => h1 ⟨c, d, e, f, g⟩) (fun g => h0 (fun z => g z.2.2.2.2))⟩)
theorem an_ysh {post : Int32 → Prop} {i : Nat} (hi3 : i < 3) (ht : t ≤ 3) (h1 : an_sh t TS YA (AT i) → post 1) (h0 : ¬ an_sh t TS YA (AT i) → post 0) : wpY_shown post (nI t, nI m, nI a, nI p, YA, YM, YP, TS, MO, MN, PN, C, TK, YD, M, AT, PV) (nI i) := by
  unfold wpY_shown
  dsimp only
  refine ⟨vp_in_nI hi3 (by omega), nm_r (e' := AT i) (by rw [nI_clamp (by omega)]) ?_⟩
  refine br_c (fun c => h0 (fun z => z.1 c)) (fun c => br_c (fun d => h0 (fun z => Int32.not_lt.mpr d z.2.1)) (fun d => ?_))
  have d2 := Int32.not_le.mp d
  have hi : vp_in (AT i) 3 := an_xin ht c d2
  exact ⟨hi, br_c (fun e => ⟨hi, br_c (fun f => h0 (fun z => z.2.2.2.1 f)) (fun f => ⟨hi, br_c (fun g => h1 ⟨c, d2, e, f, g⟩) (fun g => h0 (fun z => g z.2.2.2.2))⟩)⟩) (fun e => h0 (fun z => e z.2.2.1))⟩
end
end
section
/-! visibleCount: one outcome for both -/
/-- the reference's counts of the types that are shown, after i annotations with no type twice -/
def an_inv (t : Nat) (TS YA AT : Nat → Int32) (i : Nat) (M : Nat → Int64) : Prop :=
  ∀ x : Int32, an_sh t TS YA x → (M x.toNatClampNeg = 0 ∧ ∀ j, j < i → ¬ AT j = x) ∨ (M x.toNatClampNeg = 1 ∧ ∃ j, j < i ∧ AT j = x)
theorem an_clE {x y : Int32} (hx : ¬ x < 0) (hy : ¬ y < 0) (h : x.toNatClampNeg = y.toNatClampNeg) : x = y := by
  obtain ⟨i, hi, rfl⟩ := nI_of hx
  obtain ⟨j, hj, rfl⟩ := nI_of hy
  rw [nI_clamp hi, nI_clamp hj] at h
  rw [h]
theorem an_inv_n {t : Nat} {TS YA AT : Nat → Int32} {i : Nat} {M : Nat → Int64} (hs : ¬ an_sh t TS YA (AT i)) (h : an_inv t TS YA AT i M) : an_inv t TS YA AT (i + 1) M := by
  intro x hx
  rcases h x hx with ⟨h1, h2⟩ | ⟨h1, j, h2, h3⟩
  · exact Or.inl ⟨h1, lt_s h2 (fun z => hs (by rw [z]; exact hx))⟩
  · exact Or.inr ⟨h1, j, by omega, h3⟩
theorem an_inv_s {t : Nat} {TS YA AT : Nat → Int32} {i : Nat} {M : Nat → Int64} (hs : an_sh t TS YA (AT i)) (hd : ∀ j, j < i → ¬ AT j = AT i) (h : an_inv t TS YA AT i M) : an_inv t TS YA AT (i + 1) (vp_updL M (AT i).toNatClampNeg (M (AT i).toNatClampNeg + 1)) := by
  intro x hx
  by_cases e : x = AT i
  · refine Or.inr ⟨?_, i, by omega, e.symm⟩
    rw [e, pk_uLs]
    rcases h _ hs with ⟨h1, _⟩ | ⟨_, j, h2, h3⟩
    · rw [h1]; decide
    · exact absurd h3 (hd j h2)
  · rw [pk_uLn (fun z => e (an_clE hx.1 hs.1 z))]
    rcases h x hx with ⟨h1, h2⟩ | ⟨h1, j, h2, h3⟩
    · exact Or.inl ⟨h1, lt_s h2 (fun z => e z.symm)⟩
    · exact Or.inr ⟨h1, j, by omega, h3⟩
section
variable {t m a p : Nat} {XA YA TS : Nat → Int32} {TK : Nat → Int64} {MO MN XM YM MH MD : Nat → Int32} {YD : Nat → Int64} {AT PA PN XP YP PV C : Nat → Int32}
theorem an_x27 {post : Int32 → Prop} {J : Int32 → Int32 → Prop} {c i : Nat} (hi : i < 3) (hd : (∃ j, j < i ∧ AT j = AT i) → post (-6)) (hn : (∀ j, j < i → ¬ AT j = AT i) → J (nI (c + 1)) (nI (i + 1))) : ∀ d j n, j + d = i → d < n → (∀ l, l < j → ¬ AT l = AT i) → wX_visibleCount_27 post J (nI c) (nI i) (nI t) (nI m) (nI a) (nI p) XA TS TK MO MN XM MH MD AT PA PN XP PV n (nI j) := by
  intro d
  induction d with
  | zero =>
    intro j n e hf hl
    obtain ⟨n, rfl⟩ : ∃ k, n = k + 1 := ⟨n - 1, by omega⟩
    have e2 : j = i := by omega
    subst e2
    exact br_t (nI_le (Nat.le_refl _) (by omega)) (nm_r (nI_1 c) (nm_r (nI_1 j) (hn hl)))
  | succ d ih =>
    intro j n e hf hl
    obtain ⟨n, rfl⟩ : ∃ k, n = k + 1 := ⟨n - 1, by omega⟩
    refine br_f (nI_ge (by omega) (by omega)) ⟨vp_in_nI (by omega) (by omega), vp_in_nI hi (by omega), ?_⟩
    rw [nI_clamp (show j < 2 ^ 31 by omega), nI_clamp (show i < 2 ^ 31 by omega)]
    exact br_c (fun z => hd ⟨j, by omega, z⟩) (fun z => nm_r (nI_1 j) (ih (j + 1) n (by omega) (by omega) (lt_s hl z)))
theorem an_vis (ht : t ≤ 3) (ha : a ≤ 3) (hA : ∀ i, XA i = YA i &&& 65535) : ∀ d i c, i + d = a → c ≤ i → ∃ r : Int32, (r = -6 ∨ (¬ r = -6 ∧ 0 ≤ r)) ∧ (∀ (post : Int32 → Prop) n, d < n → post r → wX_visibleCount_4 post (nI t) (nI m) (nI a) (nI p) XA TS TK MO MN XM MH MD AT PA PN XP PV n (nI c) (nI i)) ∧ (∀ (M : Nat → Int64), an_inv t TS YA AT i M → ∀ (post : Int32 → SY → Prop) n, d < n → (∀ M', post r (nI t, nI m, nI a, nI p, YA, YM, YP, TS, MO, MN, PN, C, TK, YD, M', AT, PV)) → wY_visibleCount_24 post (nI t) (nI m) (nI a) (nI p) n (nI c) (nI i) YA YM YP TS MO MN PN C TK YD M AT PV) := by
  intro d
  induction d with
  | zero =>
    intro i c e hc
    have e2 : i = a := by omega
    subst e2
    refine ⟨nI c, Or.inr ⟨fun z => absurd (nI_pos' (show c < 2 ^ 31 by omega)) (by rw [z]; decide), nI_pos' (by omega)⟩, fun post n hf h => ?_, fun M _ post n hf h => ?_⟩
    · obtain ⟨n, rfl⟩ : ∃ k, n = k + 1 := ⟨n - 1, by omega⟩
      exact br_t (nI_le (Nat.le_refl _) (by omega)) h
    · obtain ⟨n, rfl⟩ : ∃ k, n = k + 1 := ⟨n - 1, by omega⟩
      exact br_t (nI_le (Nat.le_refl _) (by omega)) (h M)
  | succ d ih =>
    intro i c e hc
    have cl : (nI i).toNatClampNeg = i := nI_clamp (by omega)
    by_cases hs : an_sh t TS YA (AT i)
    · have i4 : vp_in (AT i) 4 := an_xin4 ht hs.1 hs.2.1
      by_cases hd : ∃ j, j < i ∧ AT j = AT i
      · refine ⟨-6, Or.inl rfl, fun post n hf h => ?_, fun M hM post n hf h => ?_⟩
        · obtain ⟨n, rfl⟩ : ∃ k, n = k + 1 := ⟨n - 1, by omega⟩
          refine br_f (nI_ge (by omega) (by omega)) ⟨vp_in_nI (by omega) (by omega), ?_⟩
          rw [cl]
          refine an_xsh ht hA (fun _ => br_f (by decide) ⟨i + 1, ?_⟩) (fun z => absurd hs z)
          exact an_x27 (by omega) (fun _ => h) (fun z => absurd hd (fun ⟨j, h1, h2⟩ => z j h1 h2)) i 0 (i + 1) (by omega) (by omega) lt_0
        · obtain ⟨n, rfl⟩ : ∃ k, n = k + 1 := ⟨n - 1, by omega⟩
          refine br_f (nI_ge (by omega) (by omega)) (an_ysh (by omega) ht (fun _ => br_f (by decide) ⟨vp_in_nI (by omega) (by omega), ?_⟩) (fun z => absurd hs z))
          rw [cl]
          refine ⟨i4, i4, nm_e ?_⟩
          have h1 : M (AT i).toNatClampNeg = 1 := by
            rcases hM _ hs with ⟨_, h2⟩ | ⟨h1, _⟩
            · obtain ⟨j, h3, h4⟩ := hd
              exact absurd h4 (h2 j h3)
            · exact h1
          rw [h1]
          exact br_f (by decide) (h _)
      · have hd2 : ∀ j, j < i → ¬ AT j = AT i := fun j h1 h2 => hd ⟨j, h1, h2⟩
        obtain ⟨r, hr, hX, hY⟩ := ih (i + 1) (c + 1) (by omega) (by omega)
        refine ⟨r, hr, fun post n hf h => ?_, fun M hM post n hf h => ?_⟩
        · obtain ⟨n, rfl⟩ : ∃ k, n = k + 1 := ⟨n - 1, by omega⟩
          refine br_f (nI_ge (by omega) (by omega)) ⟨vp_in_nI (by omega) (by omega), ?_⟩
          rw [cl]
          refine an_xsh ht hA (fun _ => br_f (by decide) ⟨i + 1, ?_⟩) (fun z => absurd hs z)
          exact an_x27 (by omega) (fun z => absurd z hd) (fun _ => hX post n (by omega) h) i 0 (i + 1) (by omega) (by omega) lt_0
        · obtain ⟨n, rfl⟩ : ∃ k, n = k + 1 := ⟨n - 1, by omega⟩
          refine br_f (nI_ge (by omega) (by omega)) (an_ysh (by omega) ht (fun _ => br_f (by decide) ⟨vp_in_nI (by omega) (by omega), ?_⟩) (fun z => absurd hs z))
          rw [cl]
          refine ⟨i4, i4, nm_e ?_⟩
          have h0 : M (AT i).toNatClampNeg = 0 := by
            rcases hM _ hs with ⟨h0, _⟩ | ⟨_, h2⟩
            · exact h0
            · exact absurd h2 hd
          refine br_t (by rw [h0]; decide) (nm_r (nI_1 c) (nm_r (nI_1 i) ?_))
          exact hY _ (an_inv_s hs hd2 hM) post n (by omega) h
    · obtain ⟨r, hr, hX, hY⟩ := ih (i + 1) c (by omega) (by omega)
      refine ⟨r, hr, fun post n hf h => ?_, fun M hM post n hf h => ?_⟩
      · obtain ⟨n, rfl⟩ : ∃ k, n = k + 1 := ⟨n - 1, by omega⟩
        refine br_f (nI_ge (by omega) (by omega)) ⟨vp_in_nI (by omega) (by omega), ?_⟩
        rw [cl]
        exact an_xsh ht hA (fun z => absurd z hs) (fun _ => br_t rfl (nm_r (nI_1 i) (hX post n (by omega) h)))
      · obtain ⟨n, rfl⟩ : ∃ k, n = k + 1 := ⟨n - 1, by omega⟩
        exact br_f (nI_ge (by omega) (by omega)) (an_ysh (by omega) ht (fun z => absurd z hs) (fun _ => br_t rfl (nm_r (nI_1 i) (hY M (an_inv_n hs hM) post n (by omega) h))))
theorem an_y2 {post : Int32 → SY → Prop} (H : ∀ M : Nat → Int64, (∀ j, j < 4 → M j = 0) → ∃ n, wY_visibleCount_24 post (nI t) (nI m) (nI a) (nI p) n 0 0 YA YM YP TS MO MN PN C TK YD M AT PV) : ∀ d i n (M : Nat → Int64), i + d = 4 → d < n → (∀ j, j < i → M j = 0) → wY_visibleCount_2 post (nI t) (nI m) (nI a) (nI p) n (nI i) YA YM YP TS MO MN PN C TK YD M AT PV := by
  intro d
  induction d with
  | zero =>
    intro i n M e hf hM
    obtain ⟨n, rfl⟩ : ∃ k, n = k + 1 := ⟨n - 1, by omega⟩
    have e2 : i = 4 := by omega
    subst e2
    exact br_t (by decide) (H M hM)
  | succ d ih =>
    intro i n M e hf hM
    obtain ⟨n, rfl⟩ : ∃ k, n = k + 1 := ⟨n - 1, by omega⟩
    refine br_f (nI_ge (b := 4) (by omega) (by omega)) ⟨vp_in_nI (by omega) (by omega), ?_⟩
    rw [nI_clamp (show i < 2 ^ 31 by omega)]
    refine nm_e (nm_r (nI_1 i) (ih (i + 1) n _ (by omega) (by omega) (lt_s (fun j hj => ?_) pk_uLs)))
    rw [pk_uLn (by omega)]
    exact hM j hj
theorem an_vcount (ht : t ≤ 3) (ha : a ≤ 3) (hA : ∀ i, XA i = YA i &&& 65535) : ∃ r : Int32, (r = -6 ∨ (¬ r = -6 ∧ 0 ≤ r)) ∧ (∀ (post : Int32 → Prop), post r → wpX_visibleCount post (nI t, nI m, nI a, nI p, XA, TS, TK, MO, MN, XM, MH, MD, AT, PA, PN, XP, PV)) ∧ (∀ (M : Nat → Int64) (post : Int32 → SY → Prop), (∀ M', post r (nI t, nI m, nI a, nI p, YA, YM, YP, TS, MO, MN, PN, C, TK, YD, M', AT, PV)) → wpY_visibleCount post (nI t, nI m, nI a, nI p, YA, YM, YP, TS, MO, MN, PN, C, TK, YD, M, AT, PV)) := by
  obtain ⟨r, hr, hX, hY⟩ := an_vis (m := m) (p := p) (XA := XA) (YA := YA) (TS := TS) (TK := TK) (MO := MO) (MN := MN) (XM := XM) (YM := YM) (MH := MH) (MD := MD) (YD := YD) (AT := AT) (PA := PA) (PN := PN) (XP := XP) (YP := YP) (PV := PV) (C := C) ht ha hA a 0 0 (by omega) (by omega)
  refine ⟨r, hr, fun post h => ?_, fun M post h => ?_⟩
  · unfold wpX_visibleCount
    dsimp only
    exact ⟨a + 1, hX post (a + 1) (by omega) h⟩
  · unfold wpY_visibleCount
    dsimp only
    refine ⟨5, an_y2 (fun M hM => ⟨a + 1, hY M (fun x hx => Or.inl ⟨?_, lt_0⟩) post (a + 1) (by omega) h⟩) 4 0 5 M (by omega) (by omega) lt_0⟩
    obtain ⟨j, hj, e⟩ := vp_in_of (an_xin4 ht hx.1 hx.2.1) (by omega)
    rw [e, nI_clamp (by omega)]
    exact hM j hj
end
end
section
/-! a pair's value against a member: the pure answer, and both walks to it -/
def an_ev (t : Nat) (TS YA : Nat → Int32) (TK : Nat → Int64) (mk pk v : Int32) : Int64 :=
  if pk &&& 255 = 101 then
    if mk = pk then
      if YA (an_op pk).toNatClampNeg &&& 16384 = 0 then 8589934592 ||| an_lo v
      else if v < 0 then 12884901888 ||| an_lo v
      else if v ≤ 63 then
        if (TK (an_op pk).toNatClampNeg).toBitVec.getLsbD v.toNatClampNeg = false then 12884901888 ||| an_lo v else an_lo v
      else 12884901888 ||| an_lo v
    else 8589934592 ||| an_lo v
  else if pk &&& 255 = 99 then
    if v < 0 then 17179869184 ||| an_lo v
    else if v < nI t then
      if 0 ≤ TS v.toNatClampNeg then
        if mk &&& 255 = 99 then an_lo v else 8589934592 ||| an_lo v
      else 17179869184 ||| an_lo v
    else 17179869184 ||| an_lo v
  else if mk &&& 255 = pk &&& 255 then an_lo v else 8589934592 ||| an_lo v
section
variable {t m a p : Nat} {XA YA TS : Nat → Int32} {TK : Nat → Int64} {MO MN XM YM MH MD : Nat → Int32} {YD M : Nat → Int64} {AT PA PN XP YP PV C : Nat → Int32}
theorem an_xe {post : Int64 → Prop} {x1 : Int32} {q k n : Nat} (ht : t ≤ 3) (hp : p ≤ 5) (hq : q < 5) (hk : k < 4) (hA : ∀ i, XA i = YA i &&& 65535) (hM : an_k (XM k) (YM k)) (hP : an_k (XP q) (YP q)) (hv : an_pv t (YP q)) (h : post (an_ev t TS YA TK (YM k) (YP q) (PV q))) : wX_memberValue_99 post x1 (nI k) (nI t) (nI m) (nI a) (nI p) XA TS TK MO MN XM MH MD AT PA PN XP PV (n + 1) (nI q) (nI p) := by
  have cq : (nI q).toNatClampNeg = q := nI_clamp (by omega)
  have ck : (nI k).toNatClampNeg = k := nI_clamp (by omega)
  refine br_t (nI_le (Nat.le_refl p) (by omega)) (br_t (nI_pos' (by omega)) ⟨vp_in_nI hq (by omega), nm_r (e' := XP q) (by rw [cq]) ⟨vp_in_nI hk (by omega), nm_r (e' := XM k) (by rw [ck]) ⟨vp_in_nI hq (by omega), nm_r (e' := PV q) (by rw [cq]) (nm_r (e' := YP q &&& 255) (an_kt hP) (nm_r (e' := YM k &&& 255) (an_kt hM) ?_))⟩⟩⟩)
  unfold an_ev at h
  by_cases c : YP q &&& 255 = 101
  · rw [if_pos c] at h
    obtain ⟨j, hj, ej⟩ := hv c
    have cj : (nI j).toNatClampNeg = j := nI_clamp (by omega)
    refine br_t c (nm_r (e' := nI j) ((an_ko hP).trans ej) ?_)
    rw [ej, cj] at h
    rw [cj, hA, an_16384]
    by_cases d : YM k = YP q
    · rw [if_pos d] at h
      refine br_t ((an_ke hP hM).mpr d) (br_t (nI_lt hj (by omega)) ⟨vp_in_nI (by omega) (by omega), ?_⟩)
      by_cases f : YA j &&& 16384 = 0
      · rw [if_pos f] at h
        exact br_t f (an_pk2 h)
      · rw [if_neg f] at h
        refine br_f f ?_
        by_cases g : PV q < 0
        · rw [if_pos g] at h
          exact br_t g (an_pk3 h)
        · rw [if_neg g] at h
          refine br_f g ?_
          by_cases g2 : PV q ≤ 63
          · rw [if_pos g2] at h
            refine br_t g2 ⟨vp_in_nI (by omega) (by omega), ?_⟩
            obtain ⟨V, hV, eV⟩ := nI_of2 (M := 63) (n := 63) (by decide) g g2
            rw [eV] at h ⊢
            rw [nI_clamp (show V < 2 ^ 31 by omega)] at h
            by_cases b : (TK j).toBitVec.getLsbD V = false
            · rw [if_pos b] at h
              exact br_t ((an_shr _ (by omega)).mpr b) (an_pk3 h)
            · rw [if_neg b] at h
              exact br_f (fun z => b ((an_shr _ (by omega)).mp z)) (an_pk0 h)
          · rw [if_neg g2] at h
            exact br_f g2 (an_pk3 h)
    · rw [if_neg d] at h
      exact br_f (fun z => d ((an_ke hP hM).mp z)) (an_pk2 h)
  · rw [if_neg c] at h
    refine br_f c ?_
    by_cases c2 : YP q &&& 255 = 99
    · rw [if_pos c2] at h
      refine br_t c2 ?_
      by_cases g : PV q < 0
      · rw [if_pos g] at h
        exact br_t g (an_pk4 h)
      · rw [if_neg g] at h
        refine br_f g ?_
        by_cases g2 : PV q < nI t
        · rw [if_pos g2] at h
          refine br_t g2 ⟨an_xin ht g g2, ?_⟩
          by_cases g3 : 0 ≤ TS (PV q).toNatClampNeg
          · rw [if_pos g3] at h
            refine br_t g3 ?_
            by_cases g4 : YM k &&& 255 = 99
            · rw [if_pos g4] at h
              exact br_t g4 (an_pk0 h)
            · rw [if_neg g4] at h
              exact br_f g4 (an_pk2 h)
          · rw [if_neg g3] at h
            exact br_f g3 (an_pk4 h)
        · rw [if_neg g2] at h
          exact br_f g2 (an_pk4 h)
    · rw [if_neg c2] at h
      refine br_f c2 ?_
      by_cases g4 : YM k &&& 255 = YP q &&& 255
      · rw [if_pos g4] at h
        exact br_t g4.symm (an_pk0 h)
      · rw [if_neg g4] at h
        exact br_f (fun z => g4 z.symm) (an_pk2 h)
theorem an_y175 {post : Int64 → Prop} {mk pk : Int32} {x4 : Int64} (h : post (if mk &&& 255 = pk &&& 255 then x4 else 8589934592 ||| x4)) : wY_eval_175 post mk pk x4 (nI t) (nI m) (nI a) (nI p) YA YM YP TS MO MN PN C TK YD M AT PV := by
  unfold wY_eval_175
  by_cases c : mk &&& 255 = pk &&& 255
  · rw [if_pos c] at h
    exact br_t ((an_xor mk pk).mpr c) h
  · rw [if_neg c] at h
    exact br_f (fun z => c ((an_xor mk pk).mp z)) h
theorem an_y95 {post : Int64 → Prop} {pk : Int32} {x4 : Int64} {j V : Nat} (hj : j < 3) (ej : an_op pk = nI j) (hV : V < 64) (h : post (if (TK j).toBitVec.getLsbD V = false then 12884901888 ||| x4 else x4)) : ∀ d i n (b : Int64), i + d = V → d < n → b.toBitVec = BitVec.twoPow 64 i → wY_eval_95 post pk (nI V) x4 (nI t) (nI m) (nI a) (nI p) YA YM YP TS MO MN PN C TK YD M AT PV n b (nI i) := by
  intro d
  induction d with
  | zero =>
    intro i n b e hf hb
    obtain ⟨n, rfl⟩ : ∃ k, n = k + 1 := ⟨n - 1, by omega⟩
    have e2 : i = V := by omega
    subst e2
    have e3 : (pk >>> ((8 : Int32) &&& 31)) &&& 255 = nI j := ej
    refine br_t (nI_le (Nat.le_refl _) (by omega)) ?_
    rw [e3, nI_clamp (show j < 2 ^ 31 by omega)]
    refine ⟨vp_in_nI hj (by omega), ?_⟩
    by_cases c : (TK j).toBitVec.getLsbD i = false
    · rw [if_pos c] at h
      exact br_t ((an_and hV hb).mpr c) h
    · rw [if_neg c] at h
      exact br_f (fun z => c ((an_and hV hb).mp z)) h
  | succ d ih =>
    intro i n b e hf hb
    obtain ⟨n, rfl⟩ : ∃ k, n = k + 1 := ⟨n - 1, by omega⟩
    exact br_f (nI_ge (by omega) (by omega)) (nm_e (nm_r (nI_1 i) (ih (i + 1) n (b + b) (by omega) (by omega) (an_dbl (by omega) hb))))
theorem an_ye {post : Int64 → Prop} {mk pk v : Int32} (ht : t ≤ 3) (hv : an_pv t pk) (h : post (an_ev t TS YA TK mk pk v)) : wpY_eval post (nI t, nI m, nI a, nI p, YA, YM, YP, TS, MO, MN, PN, C, TK, YD, M, AT, PV) mk pk v := by
  unfold wpY_eval
  dsimp only
  refine nm_r (e' := an_lo v) rfl (nm_e ?_)
  unfold an_ev at h
  by_cases c : pk &&& 255 = 101
  · rw [if_pos c] at h
    obtain ⟨j, hj, ej⟩ := hv c
    have cj : (nI j).toNatClampNeg = j := nI_clamp (by omega)
    have e3 : (pk >>> ((8 : Int32) &&& 31)) &&& 255 = nI j := ej
    refine br_f (by rw [c]; decide) (br_t c ?_)
    rw [ej, cj] at h
    by_cases d : mk = pk
    · rw [if_pos d] at h
      refine br_t d ?_
      rw [e3, cj]
      refine ⟨vp_in_nI (by omega) (by omega), ?_⟩
      by_cases f : YA j &&& 16384 = 0
      · rw [if_pos f] at h
        exact br_t f h
      · rw [if_neg f] at h
        refine br_f f ?_
        by_cases g : v < 0
        · rw [if_pos g] at h
          exact br_t g h
        · rw [if_neg g] at h
          refine br_f g ?_
          by_cases g2 : v ≤ 63
          · rw [if_pos g2] at h
            obtain ⟨V, hV, rfl⟩ := nI_of2 (M := 63) (n := 63) (by decide) g g2
            rw [nI_clamp (show V < 2 ^ 31 by omega)] at h
            exact br_t g2 ⟨V + 1, an_y95 (by omega) ej (by omega) h V 0 (V + 1) 1 (by omega) (by omega) (by decide)⟩
          · rw [if_neg g2] at h
            exact br_f g2 h
    · rw [if_neg d] at h
      exact br_f d h
  · rw [if_neg c] at h
    by_cases c2 : pk &&& 255 = 99
    · rw [if_pos c2] at h
      refine br_t c2 ?_
      by_cases g : v < 0
      · rw [if_pos g] at h
        exact br_t g h
      · rw [if_neg g] at h
        refine br_f g ?_
        by_cases g2 : v < nI t
        · rw [if_pos g2] at h
          refine br_f (Int32.not_le.mpr g2) ⟨an_xin ht g g2, ?_⟩
          by_cases g3 : 0 ≤ TS v.toNatClampNeg
          · rw [if_pos g3] at h
            refine br_t g3 (an_y175 ?_)
            rw [c2]
            exact h
          · rw [if_neg g3] at h
            exact br_f g3 h
        · rw [if_neg g2] at h
          exact br_t (Int32.not_lt.mp g2) h
    · rw [if_neg c2] at h
      exact br_f c2 (br_f c (an_y175 h))
end
end
section
/-! memberValue: the last pair that names the member, one outcome for both -/
def an_df (h d : Int32) (y : Int64) : Prop := (h = 0 → y = 21474836480) ∧ (¬ h = 0 → y = 4294967296 ||| an_lo d)
/-- the facts of the relation -/
def an_F (t m a p : Nat) (XA YA XM YM MH MD : Nat → Int32) (YD : Nat → Int64) (PA XP YP C : Nat → Int32) (s : Nat → Nat) : Prop :=
  (t ≤ 3 ∧ m ≤ 4 ∧ a ≤ 3 ∧ p ≤ 5) ∧
  (∀ i, XA i = YA i &&& 65535) ∧
  (∀ i, an_k (XM i) (YM i)) ∧
  (∀ i, an_k (XP i) (YP i)) ∧
  (∀ i, i < m → an_df (MH i) (MD i) (YD i)) ∧
  (∀ i, i < p → an_pv t (YP i)) ∧
  (s 0 = 0 ∧ (∀ b, s b ≤ s (b + 1)) ∧ (∀ b, s b ≤ p) ∧ (∀ b, a ≤ b → s b = p)) ∧
  (∀ b, b < 3 → C b = nI (s (b + 1) - s b)) ∧
  (∀ i b, i < p → b < 3 → (PA i = nI b ↔ s b ≤ i ∧ i < s (b + 1)))
/-- 1 + the last pair ahead of i that names the member, or 0 -/
def an_fd (PA PN : Nat → Int32) (x nm : Int32) : Nat → Nat
  | 0 => 0
  | i + 1 => if PA i = x ∧ PN i = nm then i + 1 else an_fd PA PN x nm i
def an_gx : Nat → Int32
  | 0 => -1
  | q + 1 => nI q
def an_gv (d : Int64) (e : Nat → Int64) : Nat → Int64
  | 0 => d
  | q + 1 => e q
theorem an_fdt {PA PN : Nat → Int32} {x nm : Int32} {i : Nat} (h : PA i = x ∧ PN i = nm) : an_fd PA PN x nm (i + 1) = i + 1 := if_pos h
theorem an_fdf {PA PN : Nat → Int32} {x nm : Int32} {i : Nat} (h : ¬ (PA i = x ∧ PN i = nm)) : an_fd PA PN x nm (i + 1) = an_fd PA PN x nm i := if_neg h
theorem an_fdl {PA PN : Nat → Int32} {x nm : Int32} : ∀ i, an_fd PA PN x nm i ≤ i := by
  intro i
  induction i with
  | zero => exact Nat.le_refl _
  | succ i ih =>
    by_cases h : PA i = x ∧ PN i = nm
    · rw [an_fdt h]
      omega
    · rw [an_fdf h]
      omega
theorem an_fdk {PA PN : Nat → Int32} {x nm : Int32} {i : Nat} : ∀ d, (∀ l, i ≤ l → l < i + d → ¬ PA l = x) → an_fd PA PN x nm (i + d) = an_fd PA PN x nm i := by
  intro d
  induction d with
  | zero => intro _; rfl
  | succ d ih =>
    intro h
    have e : an_fd PA PN x nm (i + d + 1) = an_fd PA PN x nm (i + d) := an_fdf (fun z => h (i + d) (by omega) (by omega) z.1)
    exact e.trans (ih (fun l h1 h2 => h l h1 (by omega)))
section
variable {t m a p : Nat} {XA YA TS : Nat → Int32} {TK : Nat → Int64} {MO MN XM YM MH MD : Nat → Int32} {YD : Nat → Int64} {AT PA PN XP YP PV C : Nat → Int32} {s : Nat → Nat}
theorem an_x99 {post : Int64 → Prop} {an k : Nat} (hp : p ≤ 5) (hk : k < 4) (H : ∀ n, wX_memberValue_99 post (nI an) (nI k) (nI t) (nI m) (nI a) (nI p) XA TS TK MO MN XM MH MD AT PA PN XP PV (n + 1) (an_gx (an_fd PA PN (nI an) (MN k) p)) (nI p)) : ∀ d i n, i + d = p → d < n → wX_memberValue_99 post (nI an) (nI k) (nI t) (nI m) (nI a) (nI p) XA TS TK MO MN XM MH MD AT PA PN XP PV n (an_gx (an_fd PA PN (nI an) (MN k) i)) (nI i) := by
  intro d
  induction d with
  | zero =>
    intro i n e hf
    obtain ⟨n, rfl⟩ : ∃ k, n = k + 1 := ⟨n - 1, by omega⟩
    have e2 : i = p := by omega
    rw [e2]
    exact H n
  | succ d ih =>
    intro i n e hf
    obtain ⟨n, rfl⟩ : ∃ k, n = k + 1 := ⟨n - 1, by omega⟩
    have R := ih (i + 1) n (by omega) (by omega)
    refine br_f (nI_ge (by omega) (by omega)) ⟨vp_in_nI (by omega) (by omega), ?_⟩
    rw [nI_clamp (show i < 2 ^ 31 by omega), nI_clamp (show k < 2 ^ 31 by omega)]
    refine br_c (fun c => ⟨vp_in_nI (by omega) (by omega), vp_in_nI (by omega) (by omega), br_c (fun d => nm_r (nI_1 i) ?_) (fun d => nm_r (nI_1 i) ?_)⟩) (fun c => nm_r (nI_1 i) ?_)
    · rw [an_fdt ⟨c, d⟩] at R
      exact R
    · rw [an_fdf (fun z => d z.2)] at R
      exact R
    · rw [an_fdf (fun z => c z.1)] at R
      exact R
theorem an_x0 {post : Int64 → Prop} {x1 : Int32} {k n : Nat} (hp : p ≤ 5) (hk : k < 4) (hd : an_df (MH k) (MD k) (YD k)) (h : post (YD k)) : wX_memberValue_99 post x1 (nI k) (nI t) (nI m) (nI a) (nI p) XA TS TK MO MN XM MH MD AT PA PN XP PV (n + 1) (-1) (nI p) := by
  refine br_t (nI_le (Nat.le_refl p) (by omega)) (br_f (by decide) ⟨vp_in_nI hk (by omega), ?_⟩)
  rw [nI_clamp (show k < 2 ^ 31 by omega)]
  by_cases c : MH k = 0
  · rw [hd.1 c] at h
    exact br_t c (an_pk5 h)
  · rw [hd.2 c] at h
    exact br_f c ⟨vp_in_nI hk (by omega), an_pk1 h⟩
theorem an_put {M : Nat → Int64} {post : Int64 → SY → Prop} {i : Nat} {v : Int64} (hi : i < 4) (h : ∀ r, post r (nI t, nI m, nI a, nI p, YA, YM, YP, TS, MO, MN, PN, C, TK, YD, vp_updL M i v, AT, PV)) : wpY_put post (nI t, nI m, nI a, nI p, YA, YM, YP, TS, MO, MN, PN, C, TK, YD, M, AT, PV) (nI i) v := by
  unfold wpY_put
  dsimp only
  exact ⟨vp_in_nI hi (by omega), nm_e ⟨vp_in_nI hi (by omega), nm_r (e' := vp_updL M i v) (by rw [nI_clamp (by omega)]) (h _)⟩⟩
theorem an_y68 {post : Int64 → SY → Prop} {x1 x2 : Int32} (hm : m ≤ 4) (H : ∀ M : Nat → Int64, (∀ j, j < m → M j = YD j) → ∃ n, wY_memberValue_99 post x1 x2 (nI t) (nI m) (nI a) (nI p) YA YM YP TS MO MN PN C TK YD M AT PV n 0 0) : ∀ d i n (M : Nat → Int64), i + d = m → d < n → (∀ j, j < i → M j = YD j) → wY_memberValue_68 post x1 x2 (nI t) (nI m) (nI a) (nI p) n (nI i) YA YM YP TS MO MN PN C TK YD M AT PV := by
  intro d
  induction d with
  | zero =>
    intro i n M e hf hM
    obtain ⟨n, rfl⟩ : ∃ k, n = k + 1 := ⟨n - 1, by omega⟩
    have e2 : i = m := by omega
    subst e2
    exact br_t (nI_le (Nat.le_refl _) (by omega)) (H M hM)
  | succ d ih =>
    intro i n M e hf hM
    obtain ⟨n, rfl⟩ : ∃ k, n = k + 1 := ⟨n - 1, by omega⟩
    refine br_f (nI_ge (by omega) (by omega)) ⟨vp_in_nI (by omega) (by omega), vp_in_nI (by omega) (by omega), ?_⟩
    rw [nI_clamp (show i < 2 ^ 31 by omega)]
    refine nm_e (nm_r (nI_1 i) (ih (i + 1) n _ (by omega) (by omega) (lt_s (fun j hj => ?_) pk_uLs)))
    rw [pk_uLn (by omega)]
    exact hM j hj
theorem an_y99 {M : Nat → Int64} {post : Int64 → SY → Prop} {an : Nat} {x2 : Int32} (han : an < 3) (h5 : ∀ b, s b ≤ 5) (hs : ∀ b, s b ≤ s (b + 1)) (hC : ∀ b, b < 3 → C b = nI (s (b + 1) - s b)) (H : ∃ n, wY_memberValue_131 post (nI an) x2 (nI (s (an + 1))) n (nI (s an)) (nI t) (nI m) (nI a) (nI p) YA YM YP TS MO MN PN C TK YD M AT PV) : ∀ d i n, i + d = an → d < n → wY_memberValue_99 post (nI an) x2 (nI t) (nI m) (nI a) (nI p) YA YM YP TS MO MN PN C TK YD M AT PV n (nI (s i)) (nI i) := by
  have hc : ∀ i, i < 3 → nI (s i) + C (nI i).toNatClampNeg = nI (s (i + 1)) := by
    intro i hi
    have h1 := hs i
    rw [nI_clamp (by omega), hC i hi, nI_add]
    exact congrArg nI (by omega)
  intro d
  induction d with
  | zero =>
    intro i n e hf
    obtain ⟨n, rfl⟩ : ∃ k, n = k + 1 := ⟨n - 1, by omega⟩
    have e2 : i = an := by omega
    subst e2
    exact br_t (nI_le (Nat.le_refl _) (by omega)) ⟨vp_in_nI (by omega) (by omega), nm_r (hc i han) H⟩
  | succ d ih =>
    intro i n e hf
    obtain ⟨n, rfl⟩ : ∃ k, n = k + 1 := ⟨n - 1, by omega⟩
    exact br_f (nI_ge (by omega) (by omega)) ⟨vp_in_nI (by omega) (by omega), nm_r (hc i (by omega)) (nm_r (nI_1 i) (ih (i + 1) n (by omega) (by omega)))⟩
theorem an_y140 {post : Int64 → SY → Prop} {J : Int32 → Int32 → Int32 → Int32 → Int32 → (Nat → Int32) → (Nat → Int32) → (Nat → Int32) → (Nat → Int32) → (Nat → Int32) → (Nat → Int32) → (Nat → Int32) → (Nat → Int32) → (Nat → Int64) → (Nat → Int64) → (Nat → Int64) → (Nat → Int32) → (Nat → Int32) → Prop} {an k q : Nat} {x2 x4 : Int32} {v0 v1 : Int64} (ht : t ≤ 3) (hm : m ≤ 4) (han : an < 3) (hq : q < 5) (hk : k < m) (hv : an_pv t (YP q)) (h1 : MO k = AT an → MN k = PN q → v1 = an_ev t TS YA TK (YM k) (YP q) (PV q)) (h2 : ¬ (MO k = AT an ∧ MN k = PN q) → v1 = v0) (H : ∀ M : Nat → Int64, M k = v1 → J (nI (q + 1)) (nI t) (nI m) (nI a) (nI p) YA YM YP TS MO MN PN C TK YD M AT PV) : ∀ d i n (M : Nat → Int64), i + d = m → d < n → (k < i → M k = v1) → (i ≤ k → M k = v0) → wY_memberValue_140 post J (nI an) x2 (nI q) x4 n (nI i) (nI t) (nI m) (nI a) (nI p) YA YM YP TS MO MN PN C TK YD M AT PV := by
  intro d
  induction d with
  | zero =>
    intro i n M e hf g1 g2
    obtain ⟨n, rfl⟩ : ∃ k, n = k + 1 := ⟨n - 1, by omega⟩
    exact br_t (nI_le (by omega) (by omega)) (nm_r (nI_1 q) (H M (g1 (by omega))))
  | succ d ih =>
    intro i n M e hf g1 g2
    obtain ⟨n, rfl⟩ : ∃ k, n = k + 1 := ⟨n - 1, by omega⟩
    have i4 : vp_in (nI i) 4 := vp_in_nI (by omega) (by omega)
    have q5 : vp_in (nI q) 5 := vp_in_nI (by omega) (by omega)
    have ci : (nI i).toNatClampNeg = i := nI_clamp (by omega)
    have cq : (nI q).toNatClampNeg = q := nI_clamp (by omega)
    have ca : (nI an).toNatClampNeg = an := nI_clamp (by omega)
    have skip : ¬ (MO i = AT an ∧ MN i = PN q) → wY_memberValue_140 post J (nI an) x2 (nI q) x4 n (nI (i + 1)) (nI t) (nI m) (nI a) (nI p) YA YM YP TS MO MN PN C TK YD M AT PV := by
      intro c
      refine ih (i + 1) n M (by omega) (by omega) (fun z => ?_) (fun z => g2 (by omega))
      by_cases e2 : k = i
      · rw [← e2] at c
        rw [h2 c]
        exact g2 (by omega)
      · exact g1 (by omega)
    refine br_f (nI_ge (by omega) (by omega)) ⟨i4, vp_in_nI han (by omega), ?_⟩
    rw [ci, cq, ca]
    refine br_c (fun c => ⟨i4, q5, br_c (fun d => ⟨i4, q5, q5, an_ye ht hv (an_put (by omega) (fun r => ?_))⟩) (fun d => nm_r (nI_1 i) (skip (fun z => d z.2)))⟩) (fun c => nm_r (nI_1 i) (skip (fun z => c z.1)))
    dsimp only
    refine nm_r (nI_1 i) (ih (i + 1) n _ (by omega) (by omega) (fun z => ?_) (fun z => ?_))
    · by_cases e2 : k = i
      · subst e2
        rw [pk_uLs, h1 c d]
      · rw [pk_uLn e2]
        exact g1 (by omega)
    · rw [pk_uLn (by omega)]
      exact g2 (by omega)
theorem an_y131 {post : Int64 → SY → Prop} {an k E B : Nat} (val : Nat → Int64) (ht : t ≤ 3) (hm : m ≤ 4) (han : an < 3) (hk : k < m) (hE : E ≤ 5) (hv : ∀ q, q < E → an_pv t (YP q)) (h1 : ∀ q, B ≤ q → q < E → MO k = AT an → MN k = PN q → val (q + 1) = an_ev t TS YA TK (YM k) (YP q) (PV q)) (h2 : ∀ q, B ≤ q → q < E → ¬ (MO k = AT an ∧ MN k = PN q) → val (q + 1) = val q) (H : ∀ M : Nat → Int64, post (val E) (nI t, nI m, nI a, nI p, YA, YM, YP, TS, MO, MN, PN, C, TK, YD, M, AT, PV)) : ∀ d q n (M : Nat → Int64), q + d = E → B ≤ q → d < n → M k = val q → wY_memberValue_131 post (nI an) (nI k) (nI E) n (nI q) (nI t) (nI m) (nI a) (nI p) YA YM YP TS MO MN PN C TK YD M AT PV := by
  intro d
  induction d with
  | zero =>
    intro q n M e hb hf g
    obtain ⟨n, rfl⟩ : ∃ k, n = k + 1 := ⟨n - 1, by omega⟩
    have e2 : q = E := by omega
    subst e2
    refine br_t (nI_le (Nat.le_refl _) (by omega)) ⟨vp_in_nI (by omega) (by omega), ?_⟩
    rw [nI_clamp (show k < 2 ^ 31 by omega), g]
    exact H M
  | succ d ih =>
    intro q n M e hb hf g
    obtain ⟨n, rfl⟩ : ∃ k, n = k + 1 := ⟨n - 1, by omega⟩
    exact br_f (nI_ge (by omega) (by omega)) ⟨m + 1, an_y140 (v0 := val q) (v1 := val (q + 1)) ht hm han (by omega) hk (hv q (by omega)) (h1 q hb (by omega)) (h2 q hb (by omega)) (fun M' h => ih (q + 1) n M' (by omega) (by omega) (by omega) h) m 0 (m + 1) M (by omega) (by omega) (fun z => absurd z (by omega)) (fun _ => g)⟩
end
end
section
/-! memberValue, joined -/
section
variable {t m a p : Nat} {XA YA TS : Nat → Int32} {TK : Nat → Int64} {MO MN XM YM MH MD : Nat → Int32} {YD : Nat → Int64} {AT PA PN XP YP PV C : Nat → Int32} {s : Nat → Nat}
theorem an_xend {post : Int64 → Prop} {x1 : Int32} {k f n : Nat} (F : an_F t m a p XA YA XM YM MH MD YD PA XP YP C s) (hk : k < m) (hf : f ≤ p) (h : post (an_gv (YD k) (fun q => an_ev t TS YA TK (YM k) (YP q) (PV q)) f)) : wX_memberValue_99 post x1 (nI k) (nI t) (nI m) (nI a) (nI p) XA TS TK MO MN XM MH MD AT PA PN XP PV (n + 1) (an_gx f) (nI p) := by
  obtain ⟨⟨ht, hm, ha, hp⟩, hA, hXM, hXP, hD, hV, ⟨s0, s1, s2, s3⟩, hC, hPA⟩ := F
  cases f with
  | zero => exact an_x0 hp (by omega) (hD k hk) h
  | succ q => exact an_xe ht hp (by omega) (by omega) hA (hXM k) (hXP q) (hV q (by omega)) h
/-- the answer when the member is one of the annotation's type -/
def an_val (t : Nat) (TS YA : Nat → Int32) (TK : Nat → Int64) (MN YM : Nat → Int32) (YD : Nat → Int64) (PA PN YP PV : Nat → Int32) (an k q : Nat) : Int64 :=
  an_gv (YD k) (fun q => an_ev t TS YA TK (YM k) (YP q) (PV q)) (an_fd PA PN (nI an) (MN k) q)
theorem an_xmain {post : Int64 → Prop} {an k : Nat} (F : an_F t m a p XA YA XM YM MH MD YD PA XP YP C s) (hk : k < m) (h : post (an_val t TS YA TK MN YM YD PA PN YP PV an k p)) : ∃ n, wX_memberValue_99 post (nI an) (nI k) (nI t) (nI m) (nI a) (nI p) XA TS TK MO MN XM MH MD AT PA PN XP PV n (-1) 0 := by
  have hp : p ≤ 5 := F.1.2.2.2
  have hm : m ≤ 4 := F.1.2.1
  exact ⟨p + 1, an_x99 (an := an) (k := k) hp (by omega) (fun n => an_xend F hk (an_fdl p) h) p 0 (p + 1) (by omega) (by omega)⟩
theorem an_ymain {M : Nat → Int64} {post : Int64 → SY → Prop} {an k : Nat} (F : an_F t m a p XA YA XM YM MH MD YD PA XP YP C s) (hk : k < m) (han : an < a) (ho : MO k = AT an) (h : ∀ M', post (an_val t TS YA TK MN YM YD PA PN YP PV an k p) (nI t, nI m, nI a, nI p, YA, YM, YP, TS, MO, MN, PN, C, TK, YD, M', AT, PV)) : ∃ n, wY_memberValue_68 post (nI an) (nI k) (nI t) (nI m) (nI a) (nI p) n 0 YA YM YP TS MO MN PN C TK YD M AT PV := by
  obtain ⟨⟨ht, hm, ha, hp⟩, hA, hXM, hXP, hD, hV, ⟨s0, s1, s2, s3⟩, hC, hPA⟩ := F
  have hE : s (an + 1) ≤ p := s2 _
  have hB : s an ≤ s (an + 1) := s1 _
  have a3 : an < 3 := by omega
  have e0 : an_fd PA PN (nI an) (MN k) (s an) = 0 := by
    have z := an_fdk (PA := PA) (PN := PN) (x := nI an) (nm := MN k) (i := 0) (s an) (fun l _ h2 h3 => by
      have := ((hPA l an (by omega) a3).mp h3).1
      omega)
    rw [Nat.zero_add] at z
    exact z
  have eE : an_fd PA PN (nI an) (MN k) p = an_fd PA PN (nI an) (MN k) (s (an + 1)) := by
    have z := an_fdk (PA := PA) (PN := PN) (x := nI an) (nm := MN k) (i := s (an + 1)) (p - s (an + 1)) (fun l h1 h2 h3 => by
      have := ((hPA l an (by omega) a3).mp h3).2
      omega)
    rw [show s (an + 1) + (p - s (an + 1)) = p by omega] at z
    exact z
  have vE : an_val t TS YA TK MN YM YD PA PN YP PV an k p = an_val t TS YA TK MN YM YD PA PN YP PV an k (s (an + 1)) := by
    unfold an_val
    rw [eE]
  refine ⟨m + 1, an_y68 hm (fun M hM => ⟨an + 1, ?_⟩) m 0 (m + 1) M (by omega) (by omega) lt_0⟩
  have K := an_y99 (t := t) (m := m) (a := a) (p := p) (YA := YA) (TS := TS) (TK := TK) (MO := MO) (MN := MN) (YM := YM) (YD := YD) (AT := AT) (PN := PN) (YP := YP) (PV := PV) (C := C) (s := s) (M := M) (post := post) (an := an) (x2 := nI k) a3 (fun b => Nat.le_trans (s2 b) hp) s1 hC ⟨s (an + 1) - s an + 1, an_y131 (an_val t TS YA TK MN YM YD PA PN YP PV an k) (B := s an) ht hm a3 hk (by omega) (fun q hq => hV q (by omega)) (fun q h1 h2 _ h4 => ?_) (fun q h1 h2 h3 => ?_) (fun M' => by rw [← vE]; exact h M') (s (an + 1) - s an) (s an) _ M (by omega) (by omega) (by omega) ?_⟩ an 0 (an + 1) (by omega) (by omega)
  · rw [s0] at K
    exact K
  · unfold an_val
    rw [an_fdt ⟨(hPA q an (by omega) a3).mpr ⟨h1, h2⟩, h4.symm⟩]
    rfl
  · unfold an_val
    rw [an_fdf (fun z => h3 ⟨ho, z.2.symm⟩)]
  · unfold an_val
    rw [e0]
    exact hM k hk
theorem an_mv (F : an_F t m a p XA YA XM YM MH MD YD PA XP YP C s) (v1 v2 : Int32) : ∃ r : Int64, (∀ post : Int64 → Prop, post r → wpX_memberValue post (nI t, nI m, nI a, nI p, XA, TS, TK, MO, MN, XM, MH, MD, AT, PA, PN, XP, PV) v1 v2) ∧ (∀ (M : Nat → Int64) (post : Int64 → SY → Prop), (∀ M', post r (nI t, nI m, nI a, nI p, YA, YM, YP, TS, MO, MN, PN, C, TK, YD, M', AT, PV)) → wpY_memberValue post (nI t, nI m, nI a, nI p, YA, YM, YP, TS, MO, MN, PN, C, TK, YD, M, AT, PV) v1 v2) := by
  have F' := F
  obtain ⟨⟨ht, hm, ha, hp⟩, hA, hXM, hXP, hD, hV, ⟨s0, s1, s2, s3⟩, hC, hPA⟩ := F'
  obtain ⟨r, hr, hX, hY⟩ := an_vcount (m := m) (p := p) (XA := XA) (YA := YA) (TS := TS) (TK := TK) (MO := MO) (MN := MN) (XM := XM) (YM := YM) (MH := MH) (MD := MD) (YD := YD) (AT := AT) (PA := PA) (PN := PN) (XP := XP) (YP := YP) (PV := PV) (C := C) ht ha hA
  unfold wpX_memberValue wpY_memberValue
  dsimp only
  rcases hr with hr | ⟨h6, h0⟩
  · refine ⟨30064771072, fun post h => hX _ (br_t hr (an_pk7 h)), fun M post h => hY M _ (fun M' => ?_)⟩
    exact br_f (by rw [hr]; decide) (h M')
  · by_cases c : v1 < 0
    · exact ⟨25769803776, fun post h => hX _ (br_f h6 (br_t c (an_pk6 h))), fun M post h => hY M _ (fun M' => br_t h0 (br_t c (h M')))⟩
    · obtain ⟨an, han, rfl⟩ := nI_of c
      by_cases d : an < a
      · have x1 : nI an < nI a := nI_lt d (by omega)
        have y1 : ¬ nI a ≤ nI an := nI_ge d (by omega)
        have i3 : vp_in (nI an) 3 := vp_in_nI (by omega) (by omega)
        have ca : (nI an).toNatClampNeg = an := nI_clamp han
        have ea : AT (nI an).toNatClampNeg = AT an := by rw [ca]
        by_cases hs : an_sh t TS YA (AT an)
        · by_cases e : v2 < 0
          · exact ⟨25769803776, fun post h => hX _ (br_f h6 (br_f c (br_t x1 ⟨i3, nm_r ea (an_xsh ht hA (fun _ => br_f (by decide) (br_t e (an_pk6 h))) (fun z => absurd hs z))⟩))), fun M post h => hY M _ (fun M' => br_t h0 (br_f c (br_f y1 (an_ysh (by omega) ht (fun _ => br_f (by decide) (br_t e (h M'))) (fun z => absurd hs z)))))⟩
          · obtain ⟨k, hk, rfl⟩ := nI_of e
            by_cases f : k < m
            · have x2 : nI k < nI m := nI_lt f (by omega)
              have y2 : ¬ nI m ≤ nI k := nI_ge f (by omega)
              have i4 : vp_in (nI k) 4 := vp_in_nI (by omega) (by omega)
              have ck : (nI k).toNatClampNeg = k := nI_clamp hk
              by_cases g : MO k = AT an
              · refine ⟨an_val t TS YA TK MN YM YD PA PN YP PV an k p, fun post h => hX _ (br_f h6 (br_f c (br_t x1 ⟨i3, nm_r ea (an_xsh ht hA (fun _ => br_f (by decide) (br_f e (br_t x2 ⟨i4, br_t ?_ (an_xmain F f h)⟩))) (fun z => absurd hs z))⟩))), fun M post h => hY M _ (fun M' => br_t h0 (br_f c (br_f y1 (an_ysh (by omega) ht (fun _ => br_f (by decide) (br_f e (br_f y2 ⟨i4, i3, br_t ?_ (an_ymain F f d g h)⟩))) (fun z => absurd hs z)))))⟩
                · rw [ck]
                  exact g
                · rw [ck, ca]
                  exact g
              · refine ⟨25769803776, fun post h => hX _ (br_f h6 (br_f c (br_t x1 ⟨i3, nm_r ea (an_xsh ht hA (fun _ => br_f (by decide) (br_f e (br_t x2 ⟨i4, br_f ?_ (an_pk6 h)⟩))) (fun z => absurd hs z))⟩))), fun M post h => hY M _ (fun M' => br_t h0 (br_f c (br_f y1 (an_ysh (by omega) ht (fun _ => br_f (by decide) (br_f e (br_f y2 ⟨i4, i3, br_f ?_ (h M')⟩))) (fun z => absurd hs z)))))⟩
                · rw [ck]
                  exact g
                · rw [ck, ca]
                  exact g
            · have x2 : ¬ nI k < nI m := nI_nlt (by omega) hk
              have y2 : nI m ≤ nI k := nI_le (by omega) hk
              exact ⟨25769803776, fun post h => hX _ (br_f h6 (br_f c (br_t x1 ⟨i3, nm_r ea (an_xsh ht hA (fun _ => br_f (by decide) (br_f e (br_f x2 (an_pk6 h)))) (fun z => absurd hs z))⟩))), fun M post h => hY M _ (fun M' => br_t h0 (br_f c (br_f y1 (an_ysh (by omega) ht (fun _ => br_f (by decide) (br_f e (br_t y2 (h M')))) (fun z => absurd hs z)))))⟩
        · exact ⟨25769803776, fun post h => hX _ (br_f h6 (br_f c (br_t x1 ⟨i3, nm_r ea (an_xsh ht hA (fun z => absurd z hs) (fun _ => br_t rfl (an_pk6 h)))⟩))), fun M post h => hY M _ (fun M' => br_t h0 (br_f c (br_f y1 (an_ysh (by omega) ht (fun z => absurd z hs) (fun _ => br_t rfl (h M'))))))⟩
      · have x1 : ¬ nI an < nI a := nI_nlt (by omega) han
        have y1 : nI a ≤ nI an := nI_le (by omega) han
        exact ⟨25769803776, fun post h => hX _ (br_f h6 (br_f c (br_f x1 (an_pk6 h)))), fun M post h => hY M _ (fun M' => br_t h0 (br_f c (br_t y1 (h M'))))⟩
end
end
section
/-! addMember, addPair: their loops and their ends -/
section
variable {t m a p : Nat} {XA YA TS : Nat → Int32} {TK : Nat → Int64} {MO MN XM YM MH MD : Nat → Int32} {YD M : Nat → Int64} {AT PA PN XP YP PV C : Nat → Int32} {s : Nat → Nat}
theorem an_xm {post : Int32 → SX → Prop} {x1 x4 x5 x6 x7 : Int32} (hm : m ≤ 4) (H1 : (∃ j, j < m ∧ MO j = x1 ∧ MN j = x7) → post (-4) (nI t, nI m, nI a, nI p, XA, TS, TK, MO, MN, XM, MH, MD, AT, PA, PN, XP, PV)) (H2 : (∀ j, j < m → ¬ (MO j = x1 ∧ MN j = x7)) → ∀ n, wX_addMember_52 post x1 x4 x5 x6 x7 (nI t) (nI m) (nI a) (nI p) XA TS TK MO MN XM MH MD AT PA PN XP PV (n + 1) (nI m)) : ∀ d i n, i + d = m → d < n → (∀ j, j < i → ¬ (MO j = x1 ∧ MN j = x7)) → wX_addMember_52 post x1 x4 x5 x6 x7 (nI t) (nI m) (nI a) (nI p) XA TS TK MO MN XM MH MD AT PA PN XP PV n (nI i) := by
  intro d
  induction d with
  | zero =>
    intro i n e hf hl
    obtain ⟨n, rfl⟩ : ∃ k, n = k + 1 := ⟨n - 1, by omega⟩
    have e2 : i = m := by omega
    subst e2
    exact H2 hl n
  | succ d ih =>
    intro i n e hf hl
    obtain ⟨n, rfl⟩ : ∃ k, n = k + 1 := ⟨n - 1, by omega⟩
    have i4 : vp_in (nI i) 4 := vp_in_nI (by omega) (by omega)
    refine br_f (nI_ge (by omega) (by omega)) ⟨i4, ?_⟩
    rw [nI_clamp (show i < 2 ^ 31 by omega)]
    exact br_c (fun c => ⟨i4, br_c (fun d => H1 ⟨i, by omega, c, d⟩) (fun d => nm_r (nI_1 i) (ih (i + 1) n (by omega) (by omega) (lt_s hl (fun z => d z.2))))⟩) (fun c => nm_r (nI_1 i) (ih (i + 1) n (by omega) (by omega) (lt_s hl (fun z => c z.1))))
theorem an_ym {post : Int32 → SY → Prop} {x1 x2 x4 x5 x6 nm : Int32} (hm : m ≤ 4) (hn : (x2.toUInt32 % 65536).toInt32 = nm) (H1 : (∃ j, j < m ∧ MO j = x1 ∧ MN j = nm) → post (-4) (nI t, nI m, nI a, nI p, YA, YM, YP, TS, MO, MN, PN, C, TK, YD, M, AT, PV)) (H2 : (∀ j, j < m → ¬ (MO j = x1 ∧ MN j = nm)) → ∀ n, wY_addMember_44 post x1 x2 x4 x5 x6 (nI t) (nI m) (nI a) (nI p) YA YM YP TS MO MN PN C TK YD M AT PV (n + 1) (nI m)) : ∀ d i n, i + d = m → d < n → (∀ j, j < i → ¬ (MO j = x1 ∧ MN j = nm)) → wY_addMember_44 post x1 x2 x4 x5 x6 (nI t) (nI m) (nI a) (nI p) YA YM YP TS MO MN PN C TK YD M AT PV n (nI i) := by
  intro d
  induction d with
  | zero =>
    intro i n e hf hl
    obtain ⟨n, rfl⟩ : ∃ k, n = k + 1 := ⟨n - 1, by omega⟩
    have e2 : i = m := by omega
    subst e2
    exact H2 hl n
  | succ d ih =>
    intro i n e hf hl
    obtain ⟨n, rfl⟩ : ∃ k, n = k + 1 := ⟨n - 1, by omega⟩
    have i4 : vp_in (nI i) 4 := vp_in_nI (by omega) (by omega)
    refine br_f (nI_ge (by omega) (by omega)) ⟨i4, ?_⟩
    rw [nI_clamp (show i < 2 ^ 31 by omega), hn]
    exact br_c (fun c => ⟨i4, br_c (fun d => H1 ⟨i, by omega, c, d⟩) (fun d => nm_r (nI_1 i) (ih (i + 1) n (by omega) (by omega) (lt_s hl (fun z => d z.2))))⟩) (fun c => nm_r (nI_1 i) (ih (i + 1) n (by omega) (by omega) (lt_s hl (fun z => c z.1))))
theorem an_nb {x : Int32} (h : x = 0 ∨ x = 1) : vp_nar .boolean x = x := by
  rcases h with rfl | rfl
  · rfl
  · rfl
theorem an_xmx {post : Int32 → SX → Prop} {x1 x4 x5 x6 x7 : Int32} (hm : m < 4) (h4 : x4 = 0 ∨ x4 = 1) (h : post (nI m) (nI t, nI (m + 1), nI a, nI p, XA, TS, TK, upd MO m x1, upd MN m x7, upd XM m x6, upd MH m x4, upd MD m (if x4 = 0 then 0 else x5), AT, PA, PN, XP, PV)) (n : Nat) : wX_addMember_52 post x1 x4 x5 x6 x7 (nI t) (nI m) (nI a) (nI p) XA TS TK MO MN XM MH MD AT PA PN XP PV (n + 1) (nI m) := by
  have cm : (nI m).toNatClampNeg = m := nI_clamp (by omega)
  have m4 : vp_in (nI m) 4 := vp_in_nI hm (by omega)
  refine br_t (nI_le (Nat.le_refl _) (by omega)) ⟨m4, nm_r (e' := upd MO m x1) (by rw [cm]) ⟨m4, nm_r (e' := upd MN m x7) (by rw [cm]) ⟨m4, nm_r (e' := upd XM m x6) (by rw [cm]) ⟨m4, nm_r (e' := upd MH m x4) (by rw [cm, an_nb h4]) ?_⟩⟩⟩⟩
  by_cases c : x4 = 0
  · rw [if_pos c] at h
    exact br_t c ⟨m4, nm_r (e' := upd MD m 0) (by rw [cm]) (nm_r (nI_1 m) h)⟩
  · rw [if_neg c] at h
    exact br_f c ⟨m4, nm_r (e' := upd MD m x5) (by rw [cm]) (nm_r (nI_1 m) h)⟩
theorem an_ymx {post : Int32 → SY → Prop} {x1 x2 x4 x5 x6 nm : Int32} (hm : m < 4) (hb : vp_nar .byte x1.toInt8.toInt32 = x1) (hn : vp_nar .char ((x2.toUInt32 % 65536).toInt32) = nm) (hs : vp_nar .short x6 = x6) (h : post (nI m) (nI t, nI (m + 1), nI a, nI p, YA, upd YM m x6, YP, TS, upd MO m x1, upd MN m nm, PN, C, TK, vp_updL YD m (if x4 = 0 then 21474836480 else 4294967296 ||| an_lo x5), M, AT, PV)) (n : Nat) : wY_addMember_44 post x1 x2 x4 x5 x6 (nI t) (nI m) (nI a) (nI p) YA YM YP TS MO MN PN C TK YD M AT PV (n + 1) (nI m) := by
  have cm : (nI m).toNatClampNeg = m := nI_clamp (by omega)
  have m4 : vp_in (nI m) 4 := vp_in_nI hm (by omega)
  refine br_t (nI_le (Nat.le_refl _) (by omega)) ⟨m4, nm_r (e' := upd MO m x1) (by rw [cm, hb]) ⟨m4, nm_r (e' := upd MN m nm) (by rw [cm, hn]) ⟨m4, nm_r (e' := upd YM m x6) (by rw [cm, hs]) ?_⟩⟩⟩
  by_cases c : x4 = 0
  · rw [if_pos c] at h
    exact br_t c ⟨m4, nm_r (e' := vp_updL YD m 21474836480) (by rw [cm]) (nm_r (nI_1 m) h)⟩
  · rw [if_neg c] at h
    exact br_f c ⟨m4, nm_r (e' := vp_updL YD m (4294967296 ||| an_lo x5)) (by rw [cm]; rfl) (nm_r (nI_1 m) h)⟩
theorem an_xp {post : Int32 → SX → Prop} {x1 x3 x4 : Int32} {b : Nat} (hb : b < 3) (hp : p ≤ 5) (hs : s (b + 1) = p) (hPA : ∀ i b, i < p → b < 3 → (PA i = nI b ↔ s b ≤ i ∧ i < s (b + 1))) (H : ∀ n, wX_addPair_52 post x1 x3 x4 (nI b) (nI t) (nI m) (nI a) (nI p) XA TS TK MO MN XM MH MD AT PA PN XP PV (n + 1) (nI (p - s b)) (nI p)) : ∀ d i n, i + d = p → d < n → wX_addPair_52 post x1 x3 x4 (nI b) (nI t) (nI m) (nI a) (nI p) XA TS TK MO MN XM MH MD AT PA PN XP PV n (nI (i - s b)) (nI i) := by
  intro d
  induction d with
  | zero =>
    intro i n e hf
    obtain ⟨n, rfl⟩ : ∃ k, n = k + 1 := ⟨n - 1, by omega⟩
    have e2 : i = p := by omega
    rw [e2]
    exact H n
  | succ d ih =>
    intro i n e hf
    obtain ⟨n, rfl⟩ : ∃ k, n = k + 1 := ⟨n - 1, by omega⟩
    have R := ih (i + 1) n (by omega) (by omega)
    have q := hPA i b (by omega) hb
    refine br_f (nI_ge (by omega) (by omega)) ⟨vp_in_nI (by omega) (by omega), ?_⟩
    rw [nI_clamp (show i < 2 ^ 31 by omega)]
    refine br_c (fun c => nm_r (e' := nI (i + 1 - s b)) ?_ (nm_r (nI_1 i) R)) (fun c => nm_r (nI_1 i) ?_)
    · have q1 := (q.mp c).1
      rw [nI_1]
      exact congrArg nI (by omega)
    · have q2 : ¬ s b ≤ i := fun z => c (q.mpr ⟨z, by omega⟩)
      rw [show i - s b = i + 1 - s b by omega]
      exact R
theorem an_xp0 {post : Int32 → SX → Prop} {x1 x3 x4 : Int32} {b : Nat} (hb : b < 3) (hp : p ≤ 5) (hs : s (b + 1) = p) (hPA : ∀ i b, i < p → b < 3 → (PA i = nI b ↔ s b ≤ i ∧ i < s (b + 1))) (H : ∀ n, wX_addPair_52 post x1 x3 x4 (nI b) (nI t) (nI m) (nI a) (nI p) XA TS TK MO MN XM MH MD AT PA PN XP PV (n + 1) (nI (p - s b)) (nI p)) : wX_addPair_52 post x1 x3 x4 (nI b) (nI t) (nI m) (nI a) (nI p) XA TS TK MO MN XM MH MD AT PA PN XP PV (p + 1) 0 0 := by
  have h := an_xp hb hp hs hPA H p 0 (p + 1) (by omega) (by omega)
  rw [Nat.zero_sub] at h
  exact h
theorem an_xpx {post : Int32 → SX → Prop} {x1 x3 x4 x5 x6 : Int32} (hp : p < 5) (h : post x6 (nI t, nI m, nI a, nI (p + 1), XA, TS, TK, MO, MN, XM, MH, MD, AT, upd PA p x5, upd PN p (x1 &&& 65535), upd XP p x4, upd PV p x3)) (n : Nat) : wX_addPair_52 post x1 x3 x4 x5 (nI t) (nI m) (nI a) (nI p) XA TS TK MO MN XM MH MD AT PA PN XP PV (n + 1) x6 (nI p) := by
  have cp : (nI p).toNatClampNeg = p := nI_clamp (by omega)
  have p5 : vp_in (nI p) 5 := vp_in_nI hp (by omega)
  exact br_t (nI_le (Nat.le_refl _) (by omega)) ⟨p5, nm_r (e' := upd PA p x5) (by rw [cp]) ⟨p5, nm_r (e' := upd PN p (x1 &&& 65535)) (by rw [cp]) ⟨p5, nm_r (e' := upd XP p x4) (by rw [cp]) ⟨p5, nm_r (e' := upd PV p x3) (by rw [cp]) (nm_r (nI_1 p) h)⟩⟩⟩⟩
end
end
section
/-- the relation: one picture of both states; the reference's map is free -/
def i_Rel (k : Nat) (u : SX) (v : SY) : Prop :=
  ∃ (t m a p : Nat) (XA YA TS : Nat → Int32) (TK : Nat → Int64) (MO MN XM YM MH MD : Nat → Int32) (YD M : Nat → Int64) (AT PA PN XP YP PV C : Nat → Int32) (s : Nat → Nat),
    u = (nI t, nI m, nI a, nI p, XA, TS, TK, MO, MN, XM, MH, MD, AT, PA, PN, XP, PV) ∧ v = (nI t, nI m, nI a, nI p, YA, YM, YP, TS, MO, MN, PN, C, TK, YD, M, AT, PV) ∧ an_F t m a p XA YA XM YM MH MD YD PA XP YP C s
theorem an_el {P : SX → SY → Prop} {k : Nat} {u : SX} {v : SY} (h : ∀ (t m a p : Nat) (XA YA TS : Nat → Int32) (TK : Nat → Int64) (MO MN XM YM MH MD : Nat → Int32) (YD M : Nat → Int64) (AT PA PN XP YP PV C : Nat → Int32) (s : Nat → Nat), an_F t m a p XA YA XM YM MH MD YD PA XP YP C s → P (nI t, nI m, nI a, nI p, XA, TS, TK, MO, MN, XM, MH, MD, AT, PA, PN, XP, PV) (nI t, nI m, nI a, nI p, YA, YM, YP, TS, MO, MN, PN, C, TK, YD, M, AT, PV)) (I : i_Rel k u v) : P u v := by
  obtain ⟨t, m, a, p, XA, YA, TS, TK, MO, MN, XM, YM, MH, MD, YD, M, AT, PA, PN, XP, YP, PV, C, s, rfl, rfl, F⟩ := I
  exact h t m a p XA YA TS TK MO MN XM YM MH MD YD M AT PA PN XP YP PV C s F
theorem an_in {k t m a p : Nat} {XA YA TS : Nat → Int32} {TK : Nat → Int64} {MO MN XM YM MH MD : Nat → Int32} {YD M : Nat → Int64} {AT PA PN XP YP PV C : Nat → Int32} {s : Nat → Nat} (F : an_F t m a p XA YA XM YM MH MD YD PA XP YP C s) : i_Rel k (nI t, nI m, nI a, nI p, XA, TS, TK, MO, MN, XM, MH, MD, AT, PA, PN, XP, PV) (nI t, nI m, nI a, nI p, YA, YM, YP, TS, MO, MN, PN, C, TK, YD, M, AT, PV) :=
  ⟨t, m, a, p, XA, YA, TS, TK, MO, MN, XM, YM, MH, MD, YD, M, AT, PA, PN, XP, YP, PV, C, s, rfl, rfl, F⟩
theorem an_kU {f g : Nat → Int32} {x y : Int32} {n : Nat} (h : ∀ i, an_k (f i) (g i)) (hx : an_k x y) : ∀ i, an_k (upd f n x i) (upd g n y i) := by
  intro i
  by_cases e : i = n
  · rw [e, pk_us, pk_us]
    exact hx
  · rw [pk_un e, pk_un e]
    exact h i
theorem i_up {k : Nat} {u : SX} {v : SY} (h : i_Rel k u v) : i_Rel (k + 6) u v := h
theorem i_vc0 : wpX_init (fun u => wpY_init (fun v => i_Rel 0 u v)) := by
  unfold wpX_init wpY_init
  exact an_in (t := 0) (m := 0) (a := 0) (p := 0) (s := fun _ => 0) ⟨⟨by omega, by omega, by omega, by omega⟩, fun _ => (by decide : (0 : Int32) = 0 &&& 65535), fun _ => an_k0, fun _ => an_k0, lt_0, lt_0, ⟨rfl, fun _ => Nat.le_refl _, fun _ => Nat.le_refl _, fun _ _ => rfl⟩, fun _ _ => rfl, fun i b h => absurd h (by omega)⟩
theorem i_vc_addType {k : Nat} {u : SX} {v : SY} (I : i_Rel k u v) (hk : k + 6 ≤ 3072) (v1 : Int32) (v2 : Int32) (a2 : Int64) : wpX_addType (fun r u' => wpY_addType (fun r' v' => r' = r ∧ i_Rel (k + 6) u' v') v v1 v2 a2) u v1 v2 a2 := by
  refine an_el (P := fun u v => wpX_addType (fun r u' => wpY_addType (fun r' v' => r' = r ∧ i_Rel (k + 6) u' v') v v1 v2 a2) u v1 v2 a2) ?_ I
  intro t m a p XA YA TS TK MO MN XM YM MH MD YD M AT PA PN XP YP PV C s F
  have R : i_Rel (k + 6) (nI t, nI m, nI a, nI p, XA, TS, TK, MO, MN, XM, MH, MD, AT, PA, PN, XP, PV) (nI t, nI m, nI a, nI p, YA, YM, YP, TS, MO, MN, PN, C, TK, YD, M, AT, PV) := an_in F
  obtain ⟨⟨ht, hm, ha, hp⟩, hA, hXM, hXP, hD, hV, hs, hC, hPA⟩ := F
  unfold wpX_addType wpY_addType
  dsimp only
  by_cases c : t < 3
  · have xc : nI t < 3 := nI_lt (b := 3) c (by omega)
    have ct : (nI t).toNatClampNeg = t := nI_clamp (by omega)
    have t3 : vp_in (nI t) 3 := vp_in_nI c (by omega)
    refine br_t xc ⟨t3, nm_r (e' := upd XA t (v1 &&& 65535)) (by rw [ct]) ⟨t3, nm_r (e' := upd TS t v2.toInt8.toInt32) (by rw [ct, pk_vb]) ⟨t3, nm_r (e' := vp_updL TK t a2) (by rw [ct]) (nm_r (nI_1 t) ?_)⟩⟩⟩
    refine br_t xc ⟨t3, nm_r (e' := upd YA t v1.toInt16.toInt32) (by rw [ct, pk_vs]) ⟨t3, nm_r (e' := upd TS t v2.toInt8.toInt32) (by rw [ct, pk_vb]) ⟨t3, nm_r (e' := vp_updL TK t a2) (by rw [ct]) (nm_r (nI_1 t) ⟨rfl, an_in (s := s) ⟨⟨by omega, hm, ha, hp⟩, fun i => ?_, hXM, hXP, hD, fun i hi z => ?_, hs, hC, hPA⟩⟩)⟩⟩⟩
    · by_cases e : i = t
      · rw [e, pk_us, pk_us]
        exact an_s16 v1
      · rw [pk_un e, pk_un e]
        exact hA i
    · obtain ⟨j, h1, h2⟩ := hV i hi z
      exact ⟨j, by omega, h2⟩
  · have xc : ¬ nI t < 3 := nI_nlt (b := 3) (by omega) (by omega)
    exact br_f xc (br_f xc ⟨rfl, R⟩)
theorem i_vc_addMember {k : Nat} {u : SX} {v : SY} (I : i_Rel k u v) (hk : k + 6 ≤ 3072) (v1 : Int32) (v2 : Int32) (v3 : Int32) (v4 : Int32) (v5 : Int32) : wpX_addMember (fun r u' => wpY_addMember (fun r' v' => r' = r ∧ i_Rel (k + 6) u' v') v v1 v2 v3 (lw_bz v4) v5) u v1 v2 v3 (lw_bz v4) v5 := by
  refine an_el (P := fun u v => wpX_addMember (fun r u' => wpY_addMember (fun r' v' => r' = r ∧ i_Rel (k + 6) u' v') v v1 v2 v3 (lw_bz v4) v5) u v1 v2 v3 (lw_bz v4) v5) ?_ I
  intro t m a p XA YA TS TK MO MN XM YM MH MD YD M AT PA PN XP YP PV C s F
  have R : i_Rel (k + 6) (nI t, nI m, nI a, nI p, XA, TS, TK, MO, MN, XM, MH, MD, AT, PA, PN, XP, PV) (nI t, nI m, nI a, nI p, YA, YM, YP, TS, MO, MN, PN, C, TK, YD, M, AT, PV) := an_in F
  obtain ⟨⟨ht, hm, ha, hp⟩, hA, hXM, hXP, hD, hV, hs, hC, hPA⟩ := F
  have h4 := lw_bz_01 v4
  generalize lw_bz v4 = x4 at h4 ⊢
  unfold wpX_addMember wpY_addMember
  dsimp only
  by_cases c : m < 4
  · have xc : nI m < 4 := nI_lt (b := 4) c (by omega)
    refine br_t xc ?_
    by_cases d : v1 < 0
    · exact br_t d (br_t xc (br_t d ⟨rfl, R⟩))
    · refine br_f d ?_
      by_cases e : v1 < nI t
      · refine br_t e (nm_e (an_xbad ht (fun ok => ?_) (fun ok => ?_)))
        · have ok2 : an_ok t TS v3.toInt16.toInt32 := (an_oks v3).mpr ((an_okm v3).mp ok)
          refine br_t rfl (nm_e ?_)
          by_cases dup : ∃ j, j < m ∧ MO j = v1 ∧ MN j = v2 &&& 65535
          · refine ⟨m + 1, an_xm hm (fun _ => ?_) (fun z => absurd dup (fun ⟨j, h1, h2⟩ => z j h1 h2)) m 0 (m + 1) (by omega) (by omega) lt_0⟩
            refine br_t xc (br_f d (br_t e (an_yok ht (fun _ => br_f (by decide) ⟨m + 1, ?_⟩) (fun z => absurd ok2 z))))
            exact an_ym hm (an_nc v2) (fun _ => ⟨rfl, R⟩) (fun z => absurd dup (fun ⟨j, h1, h2⟩ => z j h1 h2)) m 0 (m + 1) (by omega) (by omega) lt_0
          · obtain ⟨b, hb, rfl⟩ := nI_of d
            have hb3 : b < 3 := by
              have := (nI_ltI hb (by omega)).mp e
              omega
            refine ⟨m + 1, an_xm hm (fun z => absurd z dup) (fun _ n => an_xmx c h4 ?_ n) m 0 (m + 1) (by omega) (by omega) lt_0⟩
            refine br_t xc (br_f d (br_t e (an_yok ht (fun _ => br_f (by decide) ⟨m + 1, ?_⟩) (fun z => absurd ok2 z))))
            refine an_ym hm (an_nc v2) (fun z => absurd z dup) (fun _ n => an_ymx c (by rw [pk_vb, an_byte b hb3]) (an_nm v2) (pk_vs v3) ⟨rfl, ?_⟩ n) m 0 (m + 1) (by omega) (by omega) lt_0
            refine an_in (s := s) ⟨⟨ht, by omega, ha, hp⟩, hA, an_kU hXM (an_kn v3), hXP, lt_s (fun i hi => ?_) ?_, hV, hs, hC, hPA⟩
            · rw [pk_un (by omega), pk_un (by omega), pk_uLn (by omega)]
              exact hD i hi
            · rw [pk_us, pk_us, pk_uLs]
              exact ⟨fun z => if_pos z, fun z => by rw [if_neg z, if_neg z]⟩
        · have ok2 : ¬ an_ok t TS v3.toInt16.toInt32 := fun z => ok ((an_okm v3).mpr ((an_oks v3).mp z))
          exact br_f (by decide) (br_t xc (br_f d (br_t e (an_yok ht (fun z => absurd z ok2) (fun _ => br_t rfl ⟨rfl, R⟩)))))
      · exact br_f e (br_t xc (br_f d (br_f e ⟨rfl, R⟩)))
  · have xc : ¬ nI m < 4 := nI_nlt (b := 4) (by omega) (by omega)
    exact br_f xc (br_f xc ⟨rfl, R⟩)
theorem i_vc_addAnno {k : Nat} {u : SX} {v : SY} (I : i_Rel k u v) (hk : k + 6 ≤ 3072) (v1 : Int32) : wpX_addAnno (fun r u' => wpY_addAnno (fun r' v' => r' = r ∧ i_Rel (k + 6) u' v') v v1) u v1 := by
  refine an_el (P := fun u v => wpX_addAnno (fun r u' => wpY_addAnno (fun r' v' => r' = r ∧ i_Rel (k + 6) u' v') v v1) u v1) ?_ I
  intro t m a p XA YA TS TK MO MN XM YM MH MD YD M AT PA PN XP YP PV C s F
  have R : i_Rel (k + 6) (nI t, nI m, nI a, nI p, XA, TS, TK, MO, MN, XM, MH, MD, AT, PA, PN, XP, PV) (nI t, nI m, nI a, nI p, YA, YM, YP, TS, MO, MN, PN, C, TK, YD, M, AT, PV) := an_in F
  obtain ⟨⟨ht, hm, ha, hp⟩, hA, hXM, hXP, hD, hV, ⟨s0, s1, s2, s3⟩, hC, hPA⟩ := F
  unfold wpX_addAnno wpY_addAnno
  dsimp only
  by_cases c : a < 3
  · have xc : nI a < 3 := nI_lt (b := 3) c (by omega)
    have ca : (nI a).toNatClampNeg = a := nI_clamp (by omega)
    have a3 : vp_in (nI a) 3 := vp_in_nI c (by omega)
    exact br_t xc ⟨a3, nm_r (e' := upd AT a v1) (by rw [ca]) (nm_r (nI_1 a) (br_t xc ⟨a3, nm_r (e' := upd AT a v1) (by rw [ca]) (nm_r (nI_1 a) ⟨rfl, an_in (s := s) ⟨⟨ht, hm, by omega, hp⟩, hA, hXM, hXP, hD, hV, ⟨s0, s1, s2, fun b hb => s3 b (by omega)⟩, hC, hPA⟩⟩)⟩))⟩
  · have xc : ¬ nI a < 3 := nI_nlt (b := 3) (by omega) (by omega)
    exact br_f xc (br_f xc ⟨rfl, R⟩)
theorem i_vc_addPair {k : Nat} {u : SX} {v : SY} (I : i_Rel k u v) (hk : k + 6 ≤ 3072) (v1 : Int32) (v2 : Int32) (v3 : Int32) : wpX_addPair (fun r u' => wpY_addPair (fun r' v' => r' = r ∧ i_Rel (k + 6) u' v') v v1 v2 v3) u v1 v2 v3 := by
  refine an_el (P := fun u v => wpX_addPair (fun r u' => wpY_addPair (fun r' v' => r' = r ∧ i_Rel (k + 6) u' v') v v1 v2 v3) u v1 v2 v3) ?_ I
  intro t m a p XA YA TS TK MO MN XM YM MH MD YD M AT PA PN XP YP PV C s F
  have R : i_Rel (k + 6) (nI t, nI m, nI a, nI p, XA, TS, TK, MO, MN, XM, MH, MD, AT, PA, PN, XP, PV) (nI t, nI m, nI a, nI p, YA, YM, YP, TS, MO, MN, PN, C, TK, YD, M, AT, PV) := an_in F
  obtain ⟨⟨ht, hm, ha, hp⟩, hA, hXM, hXP, hD, hV, ⟨s0, s1, s2, s3⟩, hC, hPA⟩ := F
  unfold wpX_addPair wpY_addPair
  dsimp only
  by_cases c : p < 5
  · have xc : nI p < 5 := nI_lt (b := 5) c (by omega)
    refine br_t xc ?_
    cases a with
    | zero => exact br_f (by decide) (br_t xc (br_t rfl ⟨rfl, R⟩))
    | succ b =>
      have x0 : (0 : Int32) < nI (b + 1) := nI_lt (a := 0) (by omega) (by omega)
      have y0 : ¬ nI (b + 1) = 0 := nI_ne0 (by omega) (by omega)
      refine br_t x0 (nm_e (an_xbad ht (fun ok => ?_) (fun ok => ?_)))
      · have ok2 : an_ok t TS v2 := (an_okm v2).mp ok
        have cp : (nI p).toNatClampNeg = p := nI_clamp (by omega)
        have cb : (nI b).toNatClampNeg = b := nI_clamp (by omega)
        have p5 : vp_in (nI p) 5 := vp_in_nI c (by omega)
        have b3 : vp_in (nI b) 3 := vp_in_nI (by omega) (by omega)
        have eC : C b = nI (p - s b) := by rw [hC b (by omega), s3 (b + 1) (by omega)]
        have lb : s b ≤ p := s2 b
        refine br_t rfl (nm_r (nI_pred b) ⟨p + 1, ?_⟩)
        refine an_xp0 (s := s) (b := b) (by omega) hp (s3 _ (by omega)) hPA (fun n => an_xpx c ?_ n)
        refine br_t xc (br_f y0 (an_yok ht (fun _ => br_f (by decide) ⟨p5, nm_r (e' := upd PN p (v1 &&& 65535)) (by rw [cp, an_nm]) ⟨p5, nm_r (e' := upd YP p v2.toInt16.toInt32) (by rw [cp, pk_vs]) ⟨p5, nm_r (e' := upd PV p v3) (by rw [cp]) (nm_r (nI_1 p) ?_)⟩⟩⟩) (fun z => absurd ok2 z)))
        rw [nI_pred, cb, eC]
        refine ⟨b3, b3, nm_r (e' := upd C b (nI (p - s b + 1))) (by rw [nI_1, pk_vc, an_char _ (by omega)]) ⟨rfl, an_in (s := fun c => if c ≤ b then s c else p + 1) ⟨⟨ht, hm, ha, by omega⟩, hA, hXM, an_kU hXP (an_kn v2), hD, lt_s (fun i hi => ?_) ?_, ⟨?_, fun c => ?_, fun c => ?_, fun c hc => ?_⟩, fun c hc => ?_, fun i c hi hc => ?_⟩⟩⟩
        · rw [pk_un (by omega)]
          exact hV i hi
        · rw [pk_us]
          exact an_pvo (TS := TS) ht ((an_oks v2).mpr ok2)
        · dsimp only
          rw [if_pos (by omega)]
          exact s0
        · dsimp only
          have h1 := s1 c
          have h2 := s2 c
          by_cases z : c + 1 ≤ b
          · rw [if_pos z, if_pos (by omega)]
            exact h1
          · rw [if_neg z]
            by_cases y : c ≤ b
            · rw [if_pos y]
              omega
            · rw [if_neg y]
              omega
        · dsimp only
          have h2 := s2 c
          by_cases y : c ≤ b
          · rw [if_pos y]
            omega
          · rw [if_neg y]
            omega
        · dsimp only
          rw [if_neg (by omega)]
        · dsimp only
          rcases Nat.lt_trichotomy c b with z | z | z
          · rw [pk_un (by omega), if_pos (by omega), if_pos (by omega)]
            exact hC c hc
          · rw [z, pk_us, if_neg (by omega), if_pos (by omega)]
            exact congrArg nI (by omega)
          · rw [pk_un (by omega), if_neg (by omega), if_neg (by omega), hC c hc, s3 c (by omega), s3 (c + 1) (by omega)]
            exact congrArg nI (by omega)
        · dsimp only
          have h2 := s2 (c + 1)
          have h3 := s2 c
          rcases Nat.lt_or_ge i p with hi2 | hi2
          · rw [pk_un (by omega), hPA i c hi2 hc]
            rcases Nat.lt_trichotomy c b with z | z | z
            · rw [if_pos (by omega), if_pos (by omega)]
            · have h4 := s3 (c + 1) (by omega)
              rw [if_pos (by omega), if_neg (by omega)]
              omega
            · have h4 := s3 c (by omega)
              rw [if_neg (by omega), if_neg (by omega)]
              omega
          · have e1 : i = p := by omega
            rw [e1, pk_us, nI_eq (by omega) (by omega)]
            rcases Nat.lt_trichotomy c b with z | z | z
            · rw [if_pos (by omega), if_pos (by omega)]
              omega
            · rw [if_pos (by omega), if_neg (by omega)]
              omega
            · rw [if_neg (by omega), if_neg (by omega)]
              omega
      · have ok2 : ¬ an_ok t TS v2 := fun z => ok ((an_okm v2).mpr z)
        exact br_f (by decide) (br_t xc (br_f y0 (an_yok ht (fun z => absurd z ok2) (fun _ => br_t rfl ⟨rfl, R⟩))))
  · have xc : ¬ nI p < 5 := nI_nlt (b := 5) (by omega) (by omega)
    exact br_f xc (br_f xc ⟨rfl, R⟩)
theorem i_vc_visibleCount {k : Nat} {u : SX} {v : SY} (I : i_Rel k u v) (hk : k + 6 ≤ 3072) : wpX_visibleCount (fun r => wpY_visibleCount (fun r' v' => r' = r ∧ i_Rel (k + 6) u v') v) u := by
  refine an_el (P := fun u v => wpX_visibleCount (fun r => wpY_visibleCount (fun r' v' => r' = r ∧ i_Rel (k + 6) u v') v) u) ?_ I
  intro t m a p XA YA TS TK MO MN XM YM MH MD YD M AT PA PN XP YP PV C s F
  obtain ⟨r, _, hX, hY⟩ := an_vcount (m := m) (p := p) (XA := XA) (YA := YA) (TS := TS) (TK := TK) (MO := MO) (MN := MN) (XM := XM) (YM := YM) (MH := MH) (MD := MD) (YD := YD) (AT := AT) (PA := PA) (PN := PN) (XP := XP) (YP := YP) (PV := PV) (C := C) F.1.1 F.1.2.2.1 F.2.1
  exact hX _ (hY M _ (fun M' => ⟨rfl, an_in F⟩))
theorem i_vc_memberValue {k : Nat} {u : SX} {v : SY} (I : i_Rel k u v) (hk : k + 6 ≤ 3072) (v1 : Int32) (v2 : Int32) : wpX_memberValue (fun r => wpY_memberValue (fun r' v' => r' = r ∧ i_Rel (k + 6) u v') v v1 v2) u v1 v2 := by
  refine an_el (P := fun u v => wpX_memberValue (fun r => wpY_memberValue (fun r' v' => r' = r ∧ i_Rel (k + 6) u v') v v1 v2) u v1 v2) ?_ I
  intro t m a p XA YA TS TK MO MN XM YM MH MD YD M AT PA PN XP YP PV C s F
  obtain ⟨r, hX, hY⟩ := an_mv (TS := TS) (TK := TK) (MO := MO) (MN := MN) (AT := AT) (PN := PN) (PV := PV) F v1 v2
  exact hX _ (hY M _ (fun M' => ⟨rfl, an_in F⟩))
end
