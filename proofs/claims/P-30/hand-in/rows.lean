section
theorem pk_us {f : Nat → Int32} {k : Nat} {x : Int32} : upd f k x k = x := if_pos rfl
theorem pk_un {f : Nat → Int32} {k j : Nat} {x : Int32} (h : j ≠ k) : upd f k x j = f j := if_neg h
theorem pk_uLs {f : Nat → Int64} {k : Nat} {x : Int64} : vp_updL f k x k = x := if_pos rfl
theorem pk_uLn {f : Nat → Int64} {k j : Nat} {x : Int64} (h : j ≠ k) : vp_updL f k x j = f j := if_neg h
theorem pk_sub {a b : Nat} (h : b ≤ a) : nI a - nI b = nI (a - b) := by
  obtain ⟨c, rfl⟩ : ∃ c, a = c + b := ⟨a - b, by omega⟩
  rw [← nI_add, Int32.add_sub_cancel, Nat.add_sub_cancel]
theorem pk_div {a d : Nat} (ha : a < 2 ^ 31) (h0 : 0 < d) (hd : d < 2 ^ 31) : nI a / nI d = nI (a / d) := by
  apply Int32.toInt_inj.mp
  rw [lg_idiv_nonneg (by rw [nI_toInt ha]; omega) (by rw [nI_toInt hd]; omega), nI_toInt ha, nI_toInt hd, nI_toInt (Nat.lt_of_le_of_lt (Nat.div_le_self a d) ha)]
  first | rfl | exact (Int.natCast_ediv _ _).symm
theorem pk_ix (x : Int32) {n : Nat} (hn : n < 2 ^ 31) : x < 0 ∨ nI n ≤ x ∨ ∃ j : Nat, j < n ∧ x = nI j := by
  by_cases h : x < 0
  · exact Or.inl h
  · obtain ⟨j, hj, rfl⟩ := nI_of h
    by_cases h2 : j < n
    · exact Or.inr (Or.inr ⟨j, h2, rfl⟩)
    · exact Or.inr (Or.inl (nI_le (by omega) hj))
theorem pk_tn {n : Nat} (h : n < 2 ^ 32) : (nI n).toBitVec.toNat = n := Nat.mod_eq_of_lt h
theorem pk_shr (a s : Int32) (k : Nat) (hs : (s.toBitVec.smod 32).toNat = k) : (a >>> s).toInt = a.toInt >>> k := by
  show (a.toBitVec.sshiftRight (s.toBitVec.smod 32).toNat).toInt = _
  rw [hs, BitVec.toInt_sshiftRight]
  rfl
theorem pk_shrN {n : Nat} (h : n < 2 ^ 31) (s : Int32) (k : Nat) (hs : (s.toBitVec.smod 32).toNat = k) : nI n >>> s = nI (n / 2 ^ k) := by
  apply Int32.toInt_inj.mp
  have h2 : n / 2 ^ k ≤ n := Nat.div_le_self _ _
  rw [pk_shr _ _ k hs, nI_toInt h, nI_toInt (by omega), Int.shiftRight_eq_div_pow]
  rfl
theorem pk_charN {q : Nat} (hq : q < 65536) : narrow .char (.int (nI q)) = .int (nI q) ∧ fits .char (.int (nI q)) = true := by
  constructor
  · have e : (nI q).toUInt32.toUInt16.toUInt32.toInt32 = nI q := by
      apply Int32.toBitVec_inj.mp
      apply BitVec.eq_of_toNat_eq
      show (nI q).toUInt32.toUInt16.toUInt32.toNat = q % 2 ^ 32
      rw [UInt16.toNat_toUInt32, UInt32.toNat_toUInt16, show (nI q).toUInt32.toNat = q % 2 ^ 32 from rfl]
      omega
    exact congrArg Value.int e
  · have a : (0 : Int32) ≤ nI q := nI_pos' (by omega)
    have b : nI q ≤ 65535 := nI_le (b := 65535) (by omega) (by decide)
    show (decide ((0 : Int32) ≤ nI q) && decide (nI q ≤ 65535)) = true
    rw [decide_eq_true a, decide_eq_true b]
    rfl
theorem pk_char (x : Int32) : (x.toUInt32 % 65536).toInt32 = nI (x.toBitVec.toNat % 65536) := by
  apply Int32.toBitVec_inj.mp
  apply BitVec.eq_of_toNat_eq
  rw [pk_tn (by omega)]
  show (x.toUInt32 % 65536).toNat = _
  rw [UInt32.toNat_mod]
  rfl
theorem pk_nc (x : Int32) : narrow .char (.int (x.toUInt32 % 65536).toInt32) = .int (x.toUInt32 % 65536).toInt32 := by
  rw [pk_char]
  exact (pk_charN (Nat.mod_lt _ (by decide))).1
theorem pk_vb (z : Int32) : vp_nar .byte z.toInt8.toInt32 = z.toInt8.toInt32 := by rw [vp_nar_byte]; simp
theorem pk_vs (z : Int32) : vp_nar .short z.toInt16.toInt32 = z.toInt16.toInt32 := by rw [vp_nar_short]; simp
theorem pk_vc (z : Int32) : vp_nar .char (z.toUInt32 % 65536).toInt32 = (z.toUInt32 % 65536).toInt32 := Value.int.inj (pk_nc z)
theorem wb_tb (n : Nat) : (lN n).toBitVec = BitVec.ofNat 64 n := rfl
theorem wb_inj {a b : Int64} (h : a.toBitVec = b.toBitVec) : a = b := Int64.toBitVec_inj.mp h
theorem wb_tn {n : Nat} (h : n < 2 ^ 64) : (lN n).toBitVec.toNat = n := by rw [wb_tb, BitVec.toNat_ofNat, Nat.mod_eq_of_lt h]
theorem wb_of (x : Int64) : ∃ n, n < 2 ^ 64 ∧ x = lN n := ⟨x.toBitVec.toNat, x.toBitVec.isLt, wb_inj (by rw [wb_tb]; simp)⟩
theorem wb_c : ∀ k, k < 64 → ((nI k).toInt64 &&& 63) = lN k := by decide +kernel
theorem wb_cu : ∀ k, k < 64 → ((nI k).toInt64.toUInt64 &&& Int64.toUInt64 63) = UInt64.ofNat k := by decide +kernel
theorem wb_sm : ∀ k, k < 64 → (BitVec.ofNat 64 k).smod 64 = BitVec.ofNat 64 k := by decide +kernel
theorem wb_lt2 {a b : Nat} (h : a < b) : 2 ^ a < 2 ^ b := Nat.pow_lt_pow_right (by decide) h
theorem wb_mod (n : Nat) : lN n = lN (n % 2 ^ 64) := wb_inj (by rw [wb_tb, wb_tb]; apply BitVec.eq_of_toNat_eq; rw [BitVec.toNat_ofNat, BitVec.toNat_ofNat, Nat.mod_mod])
theorem wb_shr {n k : Nat} (hn : n < 2 ^ 64) (hk : k < 64) : ((lN n).toUInt64 >>> ((nI k).toInt64.toUInt64 &&& Int64.toUInt64 63)).toInt64 = lN (n / 2 ^ k) := by
  rw [wb_cu k hk]
  apply wb_inj
  apply BitVec.eq_of_toNat_eq
  show ((lN n).toUInt64 >>> UInt64.ofNat k).toNat = (BitVec.ofNat 64 _).toNat
  have h1 : (UInt64.ofNat k).toNat = k := by
    show (BitVec.ofNat 64 k).toNat = k
    rw [BitVec.toNat_ofNat, Nat.mod_eq_of_lt (by omega)]
  have h2 : (lN n).toUInt64.toNat = n := wb_tn hn
  rw [UInt64.toNat_shiftRight, h1, h2, Nat.mod_eq_of_lt hk, Nat.shiftRight_eq_div_pow, BitVec.toNat_ofNat, Nat.mod_eq_of_lt (Nat.lt_of_le_of_lt (Nat.div_le_self _ _) hn)]
theorem wb_shl (n : Nat) {k : Nat} (hk : k < 64) : lN n <<< ((nI k).toInt64 &&& 63) = lN (n * 2 ^ k) := by
  rw [wb_c k hk]
  apply wb_inj
  rw [Int64.toBitVec_shiftLeft, wb_tb, wb_tb, wb_tb, wb_sm k hk]
  apply BitVec.eq_of_toNat_eq
  rw [BitVec.shiftLeft_eq', BitVec.toNat_shiftLeft, BitVec.toNat_ofNat, BitVec.toNat_ofNat, BitVec.toNat_ofNat, Nat.mod_eq_of_lt (show k < 2 ^ 64 by omega), Nat.shiftLeft_eq, Nat.mul_mod, Nat.mod_mod, ← Nat.mul_mod]
theorem wb_and {a b : Nat} (ha : a < 2 ^ 64) (hb : b < 2 ^ 64) : lN a &&& lN b = lN (a &&& b) := by
  apply wb_inj
  rw [Int64.toBitVec_and, wb_tb, wb_tb, wb_tb]
  apply BitVec.eq_of_toNat_eq
  rw [BitVec.toNat_and, BitVec.toNat_ofNat, BitVec.toNat_ofNat, BitVec.toNat_ofNat, Nat.mod_eq_of_lt ha, Nat.mod_eq_of_lt hb, Nat.mod_eq_of_lt (Nat.and_lt_two_pow _ hb)]
theorem wb_mask {n k : Nat} (hn : n < 2 ^ 64) (hk : k < 64) : lN n &&& lN (2 ^ k - 1) = lN (n % 2 ^ k) := by
  rw [wb_and hn (by have := wb_lt2 hk; omega), Nat.and_two_pow_sub_one_eq_mod]
theorem wb_a1 {n : Nat} (hn : n < 2 ^ 64) : lN n &&& 1 = lN (n % 2) := wb_mask (k := 1) hn (by decide)
end
section
/-! bits: what the casts, masks and shifts of both sides say -/
theorem az_sxb (X : BitVec 64) (k w : Nat) (h : k + w = 64) (h0 : 0 < w) : (X <<< k).sshiftRight k = (X.signExtend w).signExtend 64 := by
  apply BitVec.eq_of_getLsbD_eq
  intro i hi
  have c3 : ¬ 64 ≤ i := by omega
  have e1 : ¬ 64 - 1 < k := by omega
  have e2 : 64 - 1 - k = w - 1 := by omega
  have e3 : w - 1 < w := by omega
  have e4 : w - 1 < 64 := by omega
  have e5 : (64 : Nat) - 1 < 64 := by decide
  rw [BitVec.getLsbD_sshiftRight, BitVec.getLsbD_signExtend]
  by_cases c : i < w
  · have c1 : k + i < 64 := by omega
    have c2 : ¬ k + i < k := by omega
    rw [if_pos c1, if_pos c, BitVec.getLsbD_shiftLeft, BitVec.getLsbD_signExtend, if_pos hi, Nat.add_sub_cancel_left, decide_eq_false c3, decide_eq_true c1, decide_eq_false c2, decide_eq_true hi, decide_eq_true c]
    rfl
  · have c1 : ¬ k + i < 64 := by omega
    rw [if_neg c1, if_neg c, BitVec.msb_eq_getLsbD_last, BitVec.msb_eq_getLsbD_last (x := X.signExtend w), BitVec.getLsbD_shiftLeft, BitVec.getLsbD_signExtend, if_pos e4, e2, decide_eq_false c3, decide_eq_true e5, decide_eq_false e1, decide_eq_true hi, decide_eq_true e3]
    rfl
theorem az_sh (b : Int64) (k : Nat) (hk : k < 64) : ((b <<< ((nI k).toInt64 &&& 63)) >>> ((nI k).toInt64 &&& 63)).toBitVec = (b.toBitVec <<< k).sshiftRight k := by
  rw [wb_c k hk, Int64.toBitVec_shiftRight, Int64.toBitVec_shiftLeft, wb_tb, wb_sm k hk, BitVec.sshiftRight', BitVec.shiftLeft_eq', BitVec.toNat_ofNat, Nat.mod_eq_of_lt (show k < 2 ^ 64 by omega)]
theorem az_s8 (b : Int64) : (b <<< ((56 : Int32).toInt64 &&& 63)) >>> ((56 : Int32).toInt64 &&& 63) = b.toInt8.toInt64 :=
  wb_inj ((az_sh b 56 (by decide)).trans (az_sxb b.toBitVec 56 8 rfl (by decide)))
theorem az_s16 (b : Int64) : (b <<< ((48 : Int32).toInt64 &&& 63)) >>> ((48 : Int32).toInt64 &&& 63) = b.toInt16.toInt64 :=
  wb_inj ((az_sh b 48 (by decide)).trans (az_sxb b.toBitVec 48 16 rfl (by decide)))
theorem az_s32 (b : Int64) : (b <<< ((32 : Int32).toInt64 &&& 63)) >>> ((32 : Int32).toInt64 &&& 63) = b.toInt32.toInt64 :=
  wb_inj ((az_sh b 32 (by decide)).trans (az_sxb b.toBitVec 32 32 rfl (by decide)))
/-- << k >>> k keeps the low 64 - k bits -/
theorem az_lo (b : Int64) (k w : Nat) (h : k + w = 64) (hk : k < 64) (hw : w < 64) : ((b <<< ((nI k).toInt64 &&& 63)).toUInt64 >>> ((nI k).toInt64.toUInt64 &&& Int64.toUInt64 63)).toInt64 = b &&& lN (2 ^ w - 1) := by
  obtain ⟨m, hm, rfl⟩ := wb_of b
  rw [wb_shl m hk, wb_mod, wb_shr (Nat.mod_lt _ (by decide)) hk, wb_mask hm hw]
  have e : 2 ^ 64 = 2 ^ w * 2 ^ k := by rw [← Nat.pow_add, Nat.add_comm, h]
  rw [e, Nat.mul_mod_mul_right, Nat.mul_div_cancel _ (Nat.two_pow_pos k)]
theorem az_lo16 (b : Int64) : ((b <<< ((48 : Int32).toInt64 &&& 63)).toUInt64 >>> ((48 : Int32).toInt64.toUInt64 &&& Int64.toUInt64 63)).toInt64 = b &&& 65535 := az_lo b 48 16 rfl (by decide) (by decide)
theorem az_lo56 (b : Int64) : ((b <<< ((8 : Int32).toInt64 &&& 63)).toUInt64 >>> ((8 : Int32).toInt64.toUInt64 &&& Int64.toUInt64 63)).toInt64 = b &&& 72057594037927935 := az_lo b 8 56 rfl (by decide) (by decide)
theorem az_16 (b : Int64) : ∃ m, m < 65536 ∧ b &&& 65535 = lN m ∧ b.toInt32.toBitVec.toNat % 65536 = m := by
  obtain ⟨n, hn, rfl⟩ := wb_of b
  refine ⟨n % 65536, Nat.mod_lt _ (by decide), wb_mask (k := 16) hn (by decide), ?_⟩
  rw [lN_i]
  show n % 2 ^ 32 % 65536 = n % 65536
  omega
theorem az_c1 (b : Int64) : b &&& 1 = 0 ∨ b &&& 1 = 1 := by
  obtain ⟨n, hn, rfl⟩ := wb_of b
  rw [wb_a1 hn]
  rcases Nat.mod_two_eq_zero_or_one n with e | e <;> rw [e]
  · exact Or.inl rfl
  · exact Or.inr rfl
/-! what an element's array holds, read again as a long -/
theorem az_p4 (b : Int64) : (vp_nar .byte (((b &&& 1).toInt32).toInt8.toInt32)).toInt64 = b &&& 1 := by
  rw [pk_vb]
  rcases az_c1 b with e | e <;> rw [e] <;> decide
theorem az_p5 (b : Int64) : (vp_nar .char ((b.toInt32.toUInt32 % 65536).toInt32)).toInt64 = b &&& 65535 := by
  obtain ⟨m, hm, e, e2⟩ := az_16 b
  rw [pk_vc, pk_char, e2, e, nI_l (by omega)]
theorem az_p8 (b : Int64) : (vp_nar .byte b.toInt32.toInt8.toInt32).toInt64 = b.toInt8.toInt64 := by
  rw [pk_vb]; simp
theorem az_p9 (b : Int64) : (vp_nar .short b.toInt32.toInt16.toInt32).toInt64 = b.toInt16.toInt64 := by
  rw [pk_vs]; simp
end
section
/-! one picture for both sides: a value as a kind holds it, widening, the elements -/
def az_val (k : Int32) (b : Int64) : Int64 := if k = 4 then b &&& 1 else if k = 5 then b &&& 65535 else if k = 8 then b.toInt8.toInt64 else if k = 9 then b.toInt16.toInt64 else if k = 10 then b.toInt32.toInt64 else b
theorem az_v4 (b : Int64) : az_val 4 b = b &&& 1 := by unfold az_val; rw [if_pos rfl]
theorem az_v5 (b : Int64) : az_val 5 b = b &&& 65535 := by unfold az_val; rw [if_neg (by decide), if_pos rfl]
theorem az_v8 (b : Int64) : az_val 8 b = b.toInt8.toInt64 := by unfold az_val; rw [if_neg (by decide), if_neg (by decide), if_pos rfl]
theorem az_v9 (b : Int64) : az_val 9 b = b.toInt16.toInt64 := by unfold az_val; rw [if_neg (by decide), if_neg (by decide), if_neg (by decide), if_pos rfl]
theorem az_v10 (b : Int64) : az_val 10 b = b.toInt32.toInt64 := by unfold az_val; rw [if_neg (by decide), if_neg (by decide), if_neg (by decide), if_neg (by decide), if_pos rfl]
theorem az_vo {k : Int32} (b : Int64) (h4 : ¬ k = 4) (h5 : ¬ k = 5) (h8 : ¬ k = 8) (h9 : ¬ k = 9) (h10 : ¬ k = 10) : az_val k b = b := by
  unfold az_val; rw [if_neg h4, if_neg h5, if_neg h8, if_neg h9, if_neg h10]
def az_wid (f e : Int32) : Int32 := if f = e then 1 else if f = 8 then (if e = 9 then 1 else if e = 10 then 1 else if e = 11 then 1 else 0) else if f = 5 then (if e = 10 then 1 else if e = 11 then 1 else 0) else if f = 9 then (if e = 10 then 1 else if e = 11 then 1 else 0) else if f = 10 then (if e = 11 then 1 else 0) else 0
theorem az_if {c : Prop} [Decidable c] {x y : Int32} {A B : Prop} (post : Int32 → Prop) (h : post (if c then x else y)) (hA : post x → A) (hB : post y → B) : (c → A) ∧ (¬ c → B) :=
  ⟨fun z => hA (by rw [if_pos z] at h; exact h), fun z => hB (by rw [if_neg z] at h; exact h)⟩
/-- a value of kind f is one of kind e as it stands, where f widens to e -/
theorem az_wv {f e : Int32} (b : Int64) (h : ¬ az_wid f e = 0) : az_val e (az_val f b) = az_val f b := by
  have m16 : (b &&& 65535).toInt32.toInt64 = b &&& 65535 := by
    obtain ⟨m, hm, e, _⟩ := az_16 b
    rw [e, lN_i, nI_l (by omega)]
  have o11 : ∀ c : Int64, az_val 11 c = c := fun c => az_vo c (by decide) (by decide) (by decide) (by decide) (by decide)
  unfold az_wid at h
  by_cases h0 : f = e
  · subst h0
    by_cases h4 : f = 4
    · subst h4; rw [az_v4, az_v4, Int64.and_assoc]; rfl
    by_cases h5 : f = 5
    · subst h5; rw [az_v5, az_v5, Int64.and_assoc]; rfl
    by_cases h8 : f = 8
    · subst h8; rw [az_v8, az_v8]; simp
    by_cases h9 : f = 9
    · subst h9; rw [az_v9, az_v9]; simp
    by_cases h10 : f = 10
    · subst h10; rw [az_v10, az_v10]; simp
    rw [az_vo _ h4 h5 h8 h9 h10]
  rw [if_neg h0] at h
  by_cases h8 : f = 8
  · subst h8
    rw [if_pos rfl] at h
    by_cases e9 : e = 9
    · subst e9; rw [az_v8, az_v9]; simp
    rw [if_neg e9] at h
    by_cases e10 : e = 10
    · subst e10; rw [az_v8, az_v10]; simp
    rw [if_neg e10] at h
    by_cases e11 : e = 11
    · subst e11; exact o11 _
    rw [if_neg e11] at h
    exact absurd rfl h
  rw [if_neg h8] at h
  by_cases h5 : f = 5
  · subst h5
    rw [if_pos rfl] at h
    by_cases e10 : e = 10
    · subst e10; rw [az_v5, az_v10]; exact m16
    rw [if_neg e10] at h
    by_cases e11 : e = 11
    · subst e11; exact o11 _
    rw [if_neg e11] at h
    exact absurd rfl h
  rw [if_neg h5] at h
  by_cases h9 : f = 9
  · subst h9
    rw [if_pos rfl] at h
    by_cases e10 : e = 10
    · subst e10; rw [az_v9, az_v10]; simp
    rw [if_neg e10] at h
    by_cases e11 : e = 11
    · subst e11; exact o11 _
    rw [if_neg e11] at h
    exact absurd rfl h
  rw [if_neg h9] at h
  by_cases h10 : f = 10
  · subst h10
    rw [if_pos rfl] at h
    by_cases e11 : e = 11
    · subst e11; exact o11 _
    rw [if_neg e11] at h
    exact absurd rfl h
  rw [if_neg h10] at h
  exact absurd rfl h
/-! the shapes -/
def az_ok (e : Int32) : Prop := e = 0 ∨ e = 1 ∨ e = 4 ∨ e = 5 ∨ e = 8 ∨ e = 9 ∨ e = 10 ∨ e = 11 ∨ ∃ b : Nat, b < 8 ∧ e = nI (16 + b)
theorem az_16t : ∀ b, b < 8 → (¬ nI (16 + b) = 0 ∧ ¬ nI (16 + b) = 1 ∧ ¬ nI (16 + b) = 4 ∧ ¬ nI (16 + b) = 5) := by decide +kernel
theorem az_16u : ∀ b, b < 8 → (¬ nI (16 + b) = 8 ∧ ¬ nI (16 + b) = 9 ∧ ¬ nI (16 + b) = 10 ∧ 16 ≤ nI (16 + b)) := by decide +kernel
theorem az_16w : ∀ b, b < 8 → (¬ nI (16 + b) < 4 ∧ 10 < nI (16 + b) ∧ ¬ nI (16 + b) < 16 ∧ ¬ 23 < nI (16 + b)) := by decide +kernel
theorem az_16x : ∀ b, b < 8 → (¬ nI (16 + b) < 8 ∧ ¬ nI (16 + b) ≤ 11 ∧ 4 ≤ nI (16 + b) ∧ nI (16 + b) - 16 = nI b) := by decide +kernel
theorem az_16y : ∀ b, b < 8 → (11 < nI (16 + b) ∧ nI (16 + b) ≤ 23) := by decide +kernel
theorem az_cls {e : Int32} {P : Prop} (ok : az_ok e) (h4 : e = 4 → P) (h5 : e = 5 → P) (h8 : e = 8 → P) (h9 : e = 9 → P) (h10 : e = 10 → P)
    (hl : (e < 4 ∨ (¬ e < 4 ∧ 10 < e)) → ¬ e = 4 → ¬ e = 5 → ¬ e = 8 → ¬ e = 9 → ¬ e = 10 → P) : P := by
  rcases ok with h | h | h | h | h | h | h | h | ⟨b, hb, h⟩
  · subst h; exact hl (Or.inl (by decide)) (by decide) (by decide) (by decide) (by decide) (by decide)
  · subst h; exact hl (Or.inl (by decide)) (by decide) (by decide) (by decide) (by decide) (by decide)
  · exact h4 h
  · exact h5 h
  · exact h8 h
  · exact h9 h
  · exact h10 h
  · subst h; exact hl (Or.inr ⟨by decide, by decide⟩) (by decide) (by decide) (by decide) (by decide) (by decide)
  · subst h
    have t := az_16t b hb
    have u := az_16u b hb
    have w := az_16w b hb
    exact hl (Or.inr ⟨w.1, w.2.1⟩) t.2.2.1 t.2.2.2 u.1 u.2.1 u.2.2.1
/-- the shapes with no element -/
theorem az_lt4 {e : Int32} (ok : az_ok e) (h : e < 4) : e = 0 ∨ e = 1 := by
  rcases ok with h' | h' | h' | h' | h' | h' | h' | h' | ⟨b, hb, h'⟩
  · exact Or.inl h'
  · exact Or.inr h'
  · subst h'; exact absurd h (by decide)
  · subst h'; exact absurd h (by decide)
  · subst h'; exact absurd h (by decide)
  · subst h'; exact absurd h (by decide)
  · subst h'; exact absurd h (by decide)
  · subst h'; exact absurd h (by decide)
  · subst h'; exact absurd h (az_16w b hb).1
theorem az_ne01 {e : Int32} (h : ¬ e < 4) : ¬ e = 0 ∧ ¬ e = 1 := ⟨fun z => h (by rw [z]; decide), fun z => h (by rw [z]; decide)⟩
/-- a shape below 16 that has elements -/
def az_pr (e : Int32) : Prop := ¬ e = 0 ∧ ¬ e = 1 ∧ ¬ e < 4 ∧ ¬ 16 ≤ e ∧ e < 16
theorem az_split {e : Int32} {P : Prop} (ok : az_ok e) (h0 : e = 0 → P) (h1 : e = 1 → P) (hp : az_pr e → P) (hr : ∀ b : Nat, b < 8 → e = nI (16 + b) → P) : P := by
  rcases ok with h | h | h | h | h | h | h | h | ⟨b, hb, h⟩
  · exact h0 h
  · exact h1 h
  · exact hp (by subst h; exact ⟨by decide, by decide, by decide, by decide, by decide⟩)
  · exact hp (by subst h; exact ⟨by decide, by decide, by decide, by decide, by decide⟩)
  · exact hp (by subst h; exact ⟨by decide, by decide, by decide, by decide, by decide⟩)
  · exact hp (by subst h; exact ⟨by decide, by decide, by decide, by decide, by decide⟩)
  · exact hp (by subst h; exact ⟨by decide, by decide, by decide, by decide, by decide⟩)
  · exact hp (by subst h; exact ⟨by decide, by decide, by decide, by decide, by decide⟩)
  · exact hr b hb h
/-! the elements that the reference's arrays hold -/
def az_g (e : Int32) (bs cs ss ns : Nat → Int32) (ls : Nat → Int64) (j : Nat) : Int64 := if e = 4 then (bs j).toInt64 else if e = 8 then (bs j).toInt64 else if e = 5 then (cs j).toInt64 else if e = 9 then (ss j).toInt64 else if e = 10 then (ns j).toInt64 else ls j
section
variable {bs cs ss ns : Nat → Int32} {ls : Nat → Int64} {j : Nat}
theorem az_g4 : az_g 4 bs cs ss ns ls j = (bs j).toInt64 := by unfold az_g; rw [if_pos rfl]
theorem az_g8 : az_g 8 bs cs ss ns ls j = (bs j).toInt64 := by unfold az_g; rw [if_neg (by decide), if_pos rfl]
theorem az_g5 : az_g 5 bs cs ss ns ls j = (cs j).toInt64 := by unfold az_g; rw [if_neg (by decide), if_neg (by decide), if_pos rfl]
theorem az_g9 : az_g 9 bs cs ss ns ls j = (ss j).toInt64 := by unfold az_g; rw [if_neg (by decide), if_neg (by decide), if_neg (by decide), if_pos rfl]
theorem az_g10 : az_g 10 bs cs ss ns ls j = (ns j).toInt64 := by unfold az_g; rw [if_neg (by decide), if_neg (by decide), if_neg (by decide), if_neg (by decide), if_pos rfl]
theorem az_go {e : Int32} (h4 : ¬ e = 4) (h5 : ¬ e = 5) (h8 : ¬ e = 8) (h9 : ¬ e = 9) (h10 : ¬ e = 10) : az_g e bs cs ss ns ls j = ls j := by
  unfold az_g; rw [if_neg h4, if_neg h8, if_neg h5, if_neg h9, if_neg h10]
end
theorem az_ui (f : Nat → Int32) (i j : Nat) (x : Int32) (w : Int64) (hx : x.toInt64 = w) : (upd f i x j).toInt64 = if j = i then w else (f j).toInt64 := by
  by_cases hj : j = i
  · rw [if_pos hj, hj, pk_us, hx]
  · rw [if_neg hj, pk_un hj]
theorem az_ul (f : Nat → Int64) (i j : Nat) (x : Int64) : vp_updL f i x j = if j = i then x else f j := rfl
/-- the cells as they are seen: zero from the length on -/
def az_w (n : Nat) (g : Nat → Int64) (j : Nat) : Int64 := if j < n then g j else 0
theorem az_w1 {n : Nat} {g : Nat → Int64} {j : Nat} (h : j < n) : az_w n g j = g j := if_pos h
theorem az_w0 {n : Nat} {g : Nat → Int64} {j : Nat} (h : ¬ j < n) : az_w n g j = 0 := if_neg h
theorem az_ge {n : Nat} {p : Int32} (hn : n ≤ 8) (h : nI n ≤ p) : ¬ p < 0 ∧ ¬ p < nI n := ⟨Int32.not_lt.mpr (Int32.le_trans (nI_pos' (by omega)) h), Int32.not_lt.mpr h⟩
theorem az_in {n i : Nat} (hn : n ≤ 8) (h : i < n) : ¬ nI i < 0 ∧ nI i < nI n ∧ ¬ nI n ≤ nI i := ⟨nI_pos (by omega), nI_lt h (by omega), nI_ge h (by omega)⟩
/-! the count of the cells that differ -/
def az_cnt (w bf : Nat → Int64) : Nat → Nat
  | 0 => 0
  | j + 1 => if w j = bf j then az_cnt w bf j else az_cnt w bf j + 1
theorem az_cntS (w bf : Nat → Int64) (j : Nat) : az_cnt w bf (j + 1) = if w j = bf j then az_cnt w bf j else az_cnt w bf j + 1 := rfl
theorem az_cnt0 {w bf : Nat → Int64} : ∀ j, j ≤ 8 → (∀ q, q < 8 → bf q = w q) → az_cnt w bf j = 0 := by
  intro j
  induction j with
  | zero => intro _ _; rfl
  | succ j ih => intro hj h; rw [az_cntS, if_pos (h j (by omega)).symm]; exact ih (by omega) h
theorem az_cnt1 {w bf : Nat → Int64} {i : Nat} (hi : ¬ w i = bf i) (h : ∀ q, q < 8 → q ≠ i → w q = bf q) : ∀ j, j ≤ 8 → az_cnt w bf j = if i < j then 1 else 0 := by
  intro j
  induction j with
  | zero => intro _; rw [if_neg (by omega)]; rfl
  | succ j ih =>
    intro hj
    by_cases e : j = i
    · subst e
      rw [az_cntS, if_neg hi, ih (by omega), if_neg (by omega), if_pos (by omega)]
    · rw [az_cntS, if_pos (h j (by omega) e), ih (by omega)]
      by_cases c : i < j
      · rw [if_pos c, if_pos (by omega)]
      · rw [if_neg c, if_neg (by omega)]
/-- the changed count against the snapshot -/
def az_C (c : Int32) (w bf : Nat → Int64) : Prop := (c = 0 ∧ ∀ j, j < 8 → bf j = w j) ∨ (c = 1 ∧ ∃ i, i < 8 ∧ ¬ w i = bf i ∧ ∀ j, j < 8 → j ≠ i → w j = bf j)
theorem az_Cn {c : Int32} {w bf : Nat → Int64} (h : az_C c w bf) : nI (az_cnt w bf 8) = c := by
  rcases h with ⟨rfl, h⟩ | ⟨rfl, i, hi, hn, h⟩
  · rw [az_cnt0 8 (by omega) h]; exact nI_0
  · rw [az_cnt1 hn h 8 (by omega), if_pos hi]; rfl
/-! the way up from a kind to its parent, three times at most -/
def az_st (b a : Nat) : Nat := if b < a then (a - 1) / 2 else a
def az_fin (b a : Nat) : Nat := az_st b (az_st b (az_st b a))
theorem az_finS : ∀ b, b < 8 → ∀ a, a < 8 → b < a → az_fin b ((a - 1) / 2) = az_fin b a := by decide +kernel
theorem az_finE : ∀ b, b < 8 → ∀ a, a < 8 → ¬ b < a → az_fin b a = a := by decide +kernel
theorem az_par : ∀ a, a < 8 → 0 < a → ((nI a - 1) / 2 = nI ((a - 1) / 2) ∧ (nI a - 1) >>> ((1 : Int32) &&& 31) = nI ((a - 1) / 2)) := by decide +kernel
theorem az_stlt {b a : Nat} (h : a < 8) : az_st b a < 8 := by unfold az_st; split <;> omega
end
section
/-! the component's walks -/
theorem az_xval {post : Int64 → Prop} (k : Int32) (b : Int64) (h : post (az_val k b)) : wpX_valueOf post k b := by
  unfold wpX_valueOf
  by_cases h4 : k = 4
  · subst h4; rw [az_v4] at h; exact br_t rfl h
  refine br_f h4 ?_
  by_cases h5 : k = 5
  · subst h5; rw [az_v5] at h; exact br_t rfl h
  refine br_f h5 ?_
  by_cases h8 : k = 8
  · subst h8; rw [az_v8, ← az_s8] at h; exact br_t rfl h
  refine br_f h8 ?_
  by_cases h9 : k = 9
  · subst h9; rw [az_v9, ← az_s16] at h; exact br_t rfl h
  refine br_f h9 ?_
  by_cases h10 : k = 10
  · subst h10; rw [az_v10, ← az_s32] at h; exact br_t rfl h
  rw [az_vo b h4 h5 h8 h9 h10] at h
  exact br_f h10 h
theorem az_xwid {post : Int32 → Prop} (f e : Int32) (h : post (az_wid f e)) : wpX_widens post f e := by
  unfold az_wid at h
  unfold wpX_widens wX_widens_48
  exact az_if post h id fun h => az_if post h (fun h => az_if post h id fun h => az_if post h id fun h => az_if post h id id) fun h =>
    az_if post h (fun h => az_if post h id fun h => az_if post h id id) fun h => az_if post h (fun h => az_if post h id fun h => az_if post h id id) fun h =>
    az_if post h (fun h => az_if post h id id) id
theorem az_xstore {post : SX → Prop} {e fl : Int32} {x : Nat → Int64} {i : Nat} (v : Int64) (hi : i < 8)
    (h : ∀ c : Int32, (x i = v → c = 0) → (¬ x i = v → c = 1) → post (e, fl, c, vp_updL x i v)) : wpX_store post (e, fl, 0, x) (nI i) v := by
  have hin : vp_in (nI i) 8 := vp_in_nI hi (by decide)
  have hc : (nI i).toNatClampNeg = i := nI_clamp (by omega)
  unfold wpX_store
  dsimp only
  rw [hc]
  refine ⟨hin, fun z => ⟨hin, nm_e (h 0 (fun _ => rfl) (fun y => absurd z y))⟩, fun z => ⟨hin, nm_e (h 1 (fun y => absurd y z) (fun _ => rfl))⟩⟩
/-! load -/
theorem az_xload1 {post : Int32 → SX → Prop} {e fl c p q : Int32} {x : Nat → Int64} (ok : az_ok p) (h : wX_load_53 post p q 1 e fl 0 x) : wpX_load post (e, fl, c, x) p q := by
  have k : wX_load_48 post p q e fl 0 x := h
  unfold wpX_load
  dsimp only
  rcases ok with h' | h' | h' | h' | h' | h' | h' | h' | ⟨b, hb, h'⟩
  · subst h'; exact br_t rfl k
  · subst h'; exact br_f (by decide) (br_t rfl k)
  · subst h'; exact br_f (by decide) (br_f (by decide) (br_t rfl k))
  · subst h'; exact br_f (by decide) (br_f (by decide) (br_f (by decide) (br_t rfl k)))
  · subst h'; exact br_f (by decide) (br_f (by decide) (br_f (by decide) (br_f (by decide) (br_f (by decide) (br_t (by decide) k)))))
  · subst h'; exact br_f (by decide) (br_f (by decide) (br_f (by decide) (br_f (by decide) (br_f (by decide) (br_t (by decide) k)))))
  · subst h'; exact br_f (by decide) (br_f (by decide) (br_f (by decide) (br_f (by decide) (br_f (by decide) (br_t (by decide) k)))))
  · subst h'; exact br_f (by decide) (br_f (by decide) (br_f (by decide) (br_f (by decide) (br_f (by decide) (br_t (by decide) k)))))
  · subst h'
    have t := az_16t b hb
    have w := az_16w b hb
    have y := az_16x b hb
    have k2 : wX_load_36 post (nI (16 + b)) q e fl 0 x := br_f w.2.2.1 (br_f w.2.2.2 k)
    exact br_f t.1 (br_f t.2.1 (br_f t.2.2.1 (br_f t.2.2.2 (br_f y.1 (br_f y.2.1 k2)))))
/-- an int from 8 to 11, from 16 to 23 -/
theorem az_811 {p : Int32} (h : ¬ p < 8) (h2 : p ≤ 11) : p = 8 ∨ p = 9 ∨ p = 10 ∨ p = 11 := by
  have t : ∀ j, j ≤ 11 → ¬ nI j < 8 → (nI j = 8 ∨ nI j = 9 ∨ nI j = 10 ∨ nI j = 11) := by decide +kernel
  have h0 : ¬ p < 0 := fun z => h (Int32.lt_trans z (by decide))
  obtain ⟨j, hj, rfl⟩ := nI_of2 (M := 11) (n := 11) (by decide) h0 h2
  exact t j hj h
theorem az_1623 {p : Int32} (h : ¬ p < 16) (h2 : ¬ 23 < p) : ∃ b : Nat, b < 8 ∧ p = nI (16 + b) := by
  have t : ∀ j, j ≤ 23 → ¬ nI j < 16 → 16 ≤ j := by decide +kernel
  have h0 : ¬ p < 0 := fun z => h (Int32.lt_trans z (by decide))
  obtain ⟨j, hj, rfl⟩ := nI_of2 (M := 23) (n := 23) (by decide) h0 (Int32.not_lt.mp h2)
  have := t j hj h
  exact ⟨j - 16, by omega, congrArg nI (by omega)⟩
theorem az_411 {p : Int32} (h : ¬ p < 4) (h2 : p ≤ 11) : ∃ t : Nat, 4 ≤ t ∧ t ≤ 11 ∧ p = nI t := by
  have t : ∀ j, j ≤ 11 → ¬ nI j < 4 → 4 ≤ j := by decide +kernel
  have h0 : ¬ p < 0 := fun z => h (Int32.lt_trans z (by decide))
  obtain ⟨j, hj, rfl⟩ := nI_of2 (M := 11) (n := 11) (by decide) h0 h2
  exact ⟨j, t j hj h, hj, rfl⟩
/-- what a shape that isn't known isn't -/
theorem az_nok {p : Int32} (h : ¬ az_ok p) : ¬ p = 0 ∧ ¬ p = 1 ∧ ¬ p = 4 ∧ ¬ p = 5 ∧ (¬ p < 8 → ¬ p ≤ 11) ∧ (¬ p < 16 → 23 < p) := by
  refine ⟨fun z => h (Or.inl z), fun z => h (Or.inr (Or.inl z)), fun z => h (Or.inr (Or.inr (Or.inl z))), fun z => h (Or.inr (Or.inr (Or.inr (Or.inl z)))), fun z1 z2 => h ?_, fun z1 => Classical.byContradiction fun z2 => h ?_⟩
  · rcases az_811 z1 z2 with z | z | z | z
    · exact Or.inr (Or.inr (Or.inr (Or.inr (Or.inl z))))
    · exact Or.inr (Or.inr (Or.inr (Or.inr (Or.inr (Or.inl z)))))
    · exact Or.inr (Or.inr (Or.inr (Or.inr (Or.inr (Or.inr (Or.inl z))))))
    · exact Or.inr (Or.inr (Or.inr (Or.inr (Or.inr (Or.inr (Or.inr (Or.inl z)))))))
  · exact Or.inr (Or.inr (Or.inr (Or.inr (Or.inr (Or.inr (Or.inr (Or.inr (az_1623 z1 z2))))))))
theorem az_xload0 {post : Int32 → SX → Prop} {e fl c p q : Int32} {x : Nat → Int64} (ok : ¬ az_ok p) (h : post (-1) (e, fl, 0, x)) : wpX_load post (e, fl, c, x) p q := by
  obtain ⟨a0, a1, a4, a5, a8, a16⟩ := az_nok ok
  have k : wX_load_52 post p q e fl 0 x := br_t rfl h
  have k2 : wX_load_36 post p q e fl 0 x := br_c (fun _ => k) (fun z => br_t (a16 z) k)
  unfold wpX_load
  dsimp only
  exact br_f a0 (br_f a1 (br_f a4 (br_f a5 (br_c (fun _ => k2) (fun z => br_f (a8 z) k2)))))
theorem az_xzero {post : Int32 → SX → Prop} {e fl c : Int32} (h : ∀ x : Nat → Int64, (∀ j, j < 8 → x j = 0) → post 0 (e, fl, c, x)) :
    ∀ d i (x : Nat → Int64), i + d = 8 → (∀ j, j < i → x j = 0) → wX_load_102 post e fl c (d + 1) (nI i) x := by
  intro d
  induction d with
  | zero =>
    intro i x hi hx
    have h8 : (8 : Int32) ≤ nI i := nI_le (a := 8) (by omega) (by omega)
    exact br_t h8 (h x (fun j hj => hx j (by omega)))
  | succ d ih =>
    intro i x hi hx
    have h8 : ¬ (8 : Int32) ≤ nI i := nI_ge (b := 8) (by omega) (by decide)
    have hc : (nI i).toNatClampNeg = i := nI_clamp (by omega)
    refine br_f h8 ⟨vp_in_nI (by omega) (by decide), ?_⟩
    rw [hc]
    refine nm_e (nm_r (nI_1 i) (ih (i + 1) _ (by omega) ?_))
    intro j hj
    by_cases e : j = i
    · rw [e, pk_uLs]
    · rw [pk_uLn e]; exact hx j (by omega)
/-- the length that a load gives -/
def az_len (p : Int32) (m : Nat) : Nat := if p < 4 then 0 else m
theorem az_len0 {p : Int32} {m : Nat} (h : p < 4) : az_len p m = 0 := if_pos h
theorem az_len1 {p : Int32} {m : Nat} (h : ¬ p < 4) : az_len p m = m := if_neg h
theorem az_xloadin {post : Int32 → SX → Prop} {e fl p : Int32} {m : Nat} {x : Nat → Int64} (ok : az_ok p) (hm : m ≤ 8)
    (h : ∀ x : Nat → Int64, (∀ j, j < 8 → x j = 0) → post 0 (p, nI (az_len p m), 0, x)) : wX_load_53 post p (nI m) 1 e fl 0 x := by
  refine br_f (by decide) (br_f (nI_pos (by omega)) (br_t (nI_le (b := 8) hm (by decide)) ?_))
  have k := az_xzero h 8 0 x (by omega) (fun j hj => absurd hj (Nat.not_lt_zero j))
  by_cases h4 : p < 4
  · rw [az_len0 h4, nI_0] at k
    rcases az_lt4 ok h4 with z | z
    · exact br_t z ⟨_, k⟩
    · exact br_f (by rw [z]; decide) (br_t z ⟨_, k⟩)
  · rw [az_len1 h4, nI_0] at k
    exact br_f (az_ne01 h4).1 (br_f (az_ne01 h4).2 ⟨_, k⟩)
end
section
/-! the reference's walks -/
theorem az_ycan {post : Int64 → Prop} (k : Int32) (b : Int64) (h : post (az_val k b)) : wpY_canon post k b := by
  unfold wpY_canon
  by_cases h4 : k = 4
  · subst h4; rw [az_v4] at h; exact br_f (by decide) (br_f (by decide) (br_t rfl h))
  by_cases h5 : k = 5
  · subst h5; rw [az_v5, ← az_lo16] at h; exact br_f (by decide) (br_f (by decide) (br_f (by decide) (br_t rfl h)))
  by_cases h8 : k = 8
  · subst h8; rw [az_v8, ← az_s8] at h; exact br_f (by decide) (br_f (by decide) (br_f (by decide) (br_f (by decide) (br_f (by decide) (br_f (by decide) (br_t rfl h))))))
  by_cases h9 : k = 9
  · subst h9; rw [az_v9, ← az_s16] at h; exact br_f (by decide) (br_f (by decide) (br_f (by decide) (br_f (by decide) (br_f (by decide) (br_f (by decide) (br_f (by decide) (br_t rfl h)))))))
  by_cases h10 : k = 10
  · subst h10; rw [az_v10, ← az_s32] at h; exact br_f (by decide) (br_f (by decide) (br_f (by decide) (br_f (by decide) (br_f (by decide) (br_f (by decide) (br_f (by decide) (br_f (by decide) (br_t rfl h))))))))
  rw [az_vo b h4 h5 h8 h9 h10] at h
  exact br_c (fun _ => h) fun _ => br_c (fun _ => h) fun _ => br_f h4 (br_f h5 (br_c (fun _ => h) fun _ => br_c (fun _ => h) fun _ => br_f h8 (br_f h9 (br_f h10 trivial))))
theorem az_ywid {post : Int32 → Prop} (f e : Int32) (h : post (az_wid f e)) : wpY_widens post f e := by
  unfold az_wid at h
  unfold wpY_widens wY_widens_72
  by_cases h0 : f = e
  · rw [if_pos h0] at h; exact br_t h0 h
  rw [if_neg h0] at h
  refine br_f h0 ?_
  by_cases h8 : f = 8
  · subst h8
    rw [if_pos rfl] at h
    exact br_f (by decide) (br_f (by decide) (br_f (by decide) (br_f (by decide) (br_f (by decide) (br_t rfl (az_if post h id fun h => az_if post h id fun h => az_if post h id id))))))
  rw [if_neg h8] at h
  by_cases h5 : f = 5
  · subst h5
    rw [if_pos rfl] at h
    exact br_f (by decide) (br_f (by decide) (br_t rfl (az_if post h id fun h => az_if post h id id)))
  rw [if_neg h5] at h
  by_cases h9 : f = 9
  · subst h9
    rw [if_pos rfl] at h
    exact br_f (by decide) (br_f (by decide) (br_f (by decide) (br_f (by decide) (br_f (by decide) (br_f (by decide) (br_t rfl (az_if post h id fun h => az_if post h id id)))))))
  rw [if_neg h9] at h
  by_cases h10 : f = 10
  · subst h10
    rw [if_pos rfl] at h
    exact br_f (by decide) (br_f (by decide) (br_f (by decide) (br_f (by decide) (br_f (by decide) (br_f (by decide) (br_f (by decide) (br_t rfl (az_if post h id id))))))))
  rw [if_neg h10] at h
  exact br_c (fun _ => h) fun _ => br_c (fun _ => h) fun _ => br_f h5 (br_c (fun _ => h) fun _ => br_c (fun _ => h) fun _ => br_f h8 (br_f h9 (br_f h10 trivial)))
section
variable {e fl vt : Int32} {vb : Int64} {bs cs ss ns : Nat → Int32} {ls bf : Nat → Int64} {n : Nat}
theorem az_yput {post : Int64 → SY → Prop} {i : Nat} (v : Int64) (ok : az_ok e) (hi : i < 8)
    (h : ∀ (r : Int64) (bs' cs' ss' ns' : Nat → Int32) (ls' : Nat → Int64), (∀ j, az_g e bs' cs' ss' ns' ls' j = if j = i then az_val e v else az_g e bs cs ss ns ls j) → post r (e, fl, vt, vb, bs', cs', ss', ns', ls', bf)) :
    wpY_put post (e, fl, vt, vb, bs, cs, ss, ns, ls, bf) (nI i) v := by
  have hin : vp_in (nI i) 8 := vp_in_nI hi (by decide)
  have hc : (nI i).toNatClampNeg = i := nI_clamp (by omega)
  unfold wpY_put
  dsimp only
  rw [hc]
  refine az_cls ok (fun z => ?_) (fun z => ?_) (fun z => ?_) (fun z => ?_) (fun z => ?_) (fun z z4 z5 z8 z9 z10 => ?_)
  · subst z
    refine br_f (by decide) (br_f (by decide) (br_t rfl ⟨hin, nm_e (h _ _ _ _ _ _ (fun j => ?_))⟩))
    rw [az_g4, az_g4, az_v4]
    exact az_ui bs i j _ _ (az_p4 v)
  · subst z
    refine br_f (by decide) (br_f (by decide) (br_f (by decide) (br_t rfl ⟨hin, nm_e (h _ _ _ _ _ _ (fun j => ?_))⟩)))
    rw [az_g5, az_g5, az_v5]
    exact az_ui cs i j _ _ (az_p5 v)
  · subst z
    refine br_f (by decide) (br_f (by decide) (br_f (by decide) (br_f (by decide) (br_f (by decide) (br_f (by decide) (br_t rfl ⟨hin, nm_e (h _ _ _ _ _ _ (fun j => ?_))⟩))))))
    rw [az_g8, az_g8, az_v8]
    exact az_ui bs i j _ _ (az_p8 v)
  · subst z
    refine br_f (by decide) (br_f (by decide) (br_f (by decide) (br_f (by decide) (br_f (by decide) (br_f (by decide) (br_f (by decide) (br_t rfl ⟨hin, nm_e (h _ _ _ _ _ _ (fun j => ?_))⟩)))))))
    rw [az_g9, az_g9, az_v9]
    exact az_ui ss i j _ _ (az_p9 v)
  · subst z
    refine br_f (by decide) (br_f (by decide) (br_f (by decide) (br_f (by decide) (br_f (by decide) (br_f (by decide) (br_f (by decide) (br_f (by decide) (br_t rfl ⟨hin, nm_e (h _ _ _ _ _ _ (fun j => ?_))⟩))))))))
    rw [az_g10, az_g10, az_v10]
    exact az_ui ns i j _ _ rfl
  · have k : ∀ j, az_g e bs cs ss ns (vp_updL ls i v) j = if j = i then az_val e v else az_g e bs cs ss ns ls j := by
      intro j
      rw [az_go z4 z5 z8 z9 z10, az_go z4 z5 z8 z9 z10, az_vo v z4 z5 z8 z9 z10]
      exact az_ul ls i j v
    rcases z with z | ⟨z, z'⟩
    · exact br_t z ⟨hin, nm_e (h _ _ _ _ _ _ k)⟩
    · exact br_f z (br_t z' ⟨hin, nm_e (h _ _ _ _ _ _ k)⟩)
theorem az_ycin {post : Int64 → Prop} {i : Nat} (ok : az_ok e) (hn : n ≤ 8) (h0 : e < 4 → n = 0) (hi : i < n) (h : post (az_g e bs cs ss ns ls i)) :
    wpY_cell post (e, nI n, vt, vb, bs, cs, ss, ns, ls, bf) (nI i) := by
  have hin : vp_in (nI i) 8 := vp_in_nI (by omega) (by decide)
  have hc : (nI i).toNatClampNeg = i := nI_clamp (by omega)
  have h4 : ¬ e < 4 := fun z => by have := h0 z; omega
  have hb := az_in hn hi
  unfold wpY_cell
  dsimp only
  rw [hc]
  refine br_f h4 (br_f hb.1 (br_t hb.2.1 (br_f h4 ?_)))
  refine az_cls ok (fun z => ?_) (fun z => ?_) (fun z => ?_) (fun z => ?_) (fun z => ?_) (fun z z4 z5 z8 z9 z10 => ?_)
  · subst z; rw [az_g4] at h
    exact br_f (by decide) (br_t rfl ⟨hin, h⟩)
  · subst z; rw [az_g5] at h
    exact br_f (by decide) (br_f (by decide) (br_t rfl ⟨hin, h⟩))
  · subst z; rw [az_g8] at h
    exact br_f (by decide) (br_f (by decide) (br_f (by decide) (br_f (by decide) (br_f (by decide) (br_t rfl ⟨hin, h⟩)))))
  · subst z; rw [az_g9] at h
    exact br_f (by decide) (br_f (by decide) (br_f (by decide) (br_f (by decide) (br_f (by decide) (br_f (by decide) (br_t rfl ⟨hin, h⟩))))))
  · subst z; rw [az_g10] at h
    exact br_f (by decide) (br_f (by decide) (br_f (by decide) (br_f (by decide) (br_f (by decide) (br_f (by decide) (br_f (by decide) (br_t rfl ⟨hin, h⟩)))))))
  · rw [az_go z4 z5 z8 z9 z10] at h
    rcases z with z | ⟨z, z'⟩
    · exact absurd z h4
    · exact br_t z' ⟨hin, h⟩
theorem az_ycout {post : Int64 → Prop} {p : Int32} (hp : p < 0 ∨ ¬ p < fl) (h : post 0) : wpY_cell post (e, fl, vt, vb, bs, cs, ss, ns, ls, bf) p := by
  unfold wpY_cell
  dsimp only
  refine br_c (fun _ => h) fun _ => br_c (fun _ => h) fun z => ?_
  rcases hp with y | y
  · exact absurd y z
  · exact br_f y h
theorem az_ycell {post : Int64 → Prop} {i : Nat} (ok : az_ok e) (hn : n ≤ 8) (h0 : e < 4 → n = 0) (hi : i < 8) (h : post (az_w n (az_g e bs cs ss ns ls) i)) :
    wpY_cell post (e, nI n, vt, vb, bs, cs, ss, ns, ls, bf) (nI i) := by
  by_cases c : i < n
  · rw [az_w1 c] at h; exact az_ycin ok hn h0 c h
  · rw [az_w0 c] at h; exact az_ycout (Or.inr (nI_nlt (by omega) (by omega))) h
theorem az_ymarkl {post : SY → Prop} (ok : az_ok e) (hn : n ≤ 8) (h0 : e < 4 → n = 0)
    (h : ∀ bf : Nat → Int64, (∀ j, j < 8 → bf j = az_w n (az_g e bs cs ss ns ls) j) → post (e, nI n, vt, vb, bs, cs, ss, ns, ls, bf)) :
    ∀ d i (bf : Nat → Int64), i + d = 8 → (∀ j, j < i → bf j = az_w n (az_g e bs cs ss ns ls) j) → wY_mark_2 post e (nI n) vt vb (d + 1) (nI i) bs cs ss ns ls bf := by
  intro d
  induction d with
  | zero =>
    intro i bf hi hx
    have h8 : (8 : Int32) ≤ nI i := nI_le (a := 8) (by omega) (by omega)
    exact br_t h8 (h bf (fun j hj => hx j (by omega)))
  | succ d ih =>
    intro i bf hi hx
    have h8 : ¬ (8 : Int32) ≤ nI i := nI_ge (b := 8) (by omega) (by decide)
    have hc : (nI i).toNatClampNeg = i := nI_clamp (by omega)
    refine br_f h8 (az_ycell ok hn h0 (by omega) ⟨vp_in_nI (by omega) (by decide), ?_⟩)
    rw [hc]
    refine nm_e (nm_r (nI_1 i) (ih (i + 1) _ (by omega) ?_))
    intro j hj
    by_cases c : j = i
    · rw [c, pk_uLs]
    · rw [pk_uLn c]; exact hx j (by omega)
theorem az_ymark {post : SY → Prop} (ok : az_ok e) (hn : n ≤ 8) (h0 : e < 4 → n = 0)
    (h : ∀ bf : Nat → Int64, (∀ j, j < 8 → bf j = az_w n (az_g e bs cs ss ns ls) j) → post (e, nI n, vt, vb, bs, cs, ss, ns, ls, bf)) :
    wpY_mark post (e, nI n, vt, vb, bs, cs, ss, ns, ls, bf) := by
  have k := az_ymarkl ok hn h0 h 8 0 bf (by omega) (fun j hj => absurd hj (Nat.not_lt_zero j))
  rw [nI_0] at k
  unfold wpY_mark
  exact Exists.intro _ k
theorem az_ychl {post : Int32 → Prop} (ok : az_ok e) (hn : n ≤ 8) (h0 : e < 4 → n = 0) (h : post (nI (az_cnt (az_w n (az_g e bs cs ss ns ls)) bf 8))) :
    ∀ d i, i + d = 8 → wY_changed_4 post e (nI n) vt vb bs cs ss ns ls bf (d + 1) (nI (az_cnt (az_w n (az_g e bs cs ss ns ls)) bf i)) (nI i) := by
  intro d
  induction d with
  | zero =>
    intro i hi
    have h8 : (8 : Int32) ≤ nI i := nI_le (a := 8) (by omega) (by omega)
    have e8 : i = 8 := by omega
    subst e8
    exact br_t h8 h
  | succ d ih =>
    intro i hi
    have h8 : ¬ (8 : Int32) ≤ nI i := nI_ge (b := 8) (by omega) (by decide)
    have hc : (nI i).toNatClampNeg = i := nI_clamp (by omega)
    have k := ih (i + 1) (by omega)
    rw [az_cntS] at k
    refine br_f h8 (az_ycell ok hn h0 (by omega) ⟨vp_in_nI (by omega) (by decide), ?_⟩)
    rw [hc]
    by_cases c : az_w n (az_g e bs cs ss ns ls) i = bf i
    · rw [if_pos c] at k
      exact br_t c (nm_r (nI_1 i) k)
    · rw [if_neg c] at k
      exact br_f c (nm_r (nI_1 _) (nm_r (nI_1 i) k))
theorem az_ych {post : Int32 → Prop} (ok : az_ok e) (hn : n ≤ 8) (h0 : e < 4 → n = 0) (h : post (nI (az_cnt (az_w n (az_g e bs cs ss ns ls)) bf 8))) :
    wpY_changed post (e, nI n, vt, vb, bs, cs, ss, ns, ls, bf) := by
  have k := az_ychl (vt := vt) (vb := vb) ok hn h0 h 8 0 (by omega)
  unfold wpY_changed
  exact Exists.intro _ k
/-! load -/
theorem az_yload1 {post : Int32 → SY → Prop} {p q : Int32} (ok : az_ok p) (h : wY_load_50 post p q (-1) 1 e fl vt vb bs cs ss ns ls bf) : wpY_load post (e, fl, vt, vb, bs, cs, ss, ns, ls, bf) p q := by
  have k : wY_load_45 post p q (-1) e fl vt vb bs cs ss ns ls bf := h
  unfold wpY_load
  dsimp only
  rcases ok with h' | h' | h' | h' | h' | h' | h' | h' | ⟨b, hb, h'⟩
  · subst h'; exact br_t rfl k
  · subst h'; exact br_f (by decide) (br_t rfl k)
  · subst h'; exact br_f (by decide) (br_f (by decide) (br_t rfl k))
  · subst h'; exact br_f (by decide) (br_f (by decide) (br_f (by decide) (br_t rfl k)))
  · subst h'; exact br_f (by decide) (br_f (by decide) (br_f (by decide) (br_f (by decide) (br_f (by decide) (br_t (by decide) k)))))
  · subst h'; exact br_f (by decide) (br_f (by decide) (br_f (by decide) (br_f (by decide) (br_f (by decide) (br_t (by decide) k)))))
  · subst h'; exact br_f (by decide) (br_f (by decide) (br_f (by decide) (br_f (by decide) (br_f (by decide) (br_t (by decide) k)))))
  · subst h'; exact br_f (by decide) (br_f (by decide) (br_f (by decide) (br_f (by decide) (br_f (by decide) (br_t (by decide) k)))))
  · subst h'
    have t := az_16t b hb
    have w := az_16w b hb
    have y := az_16x b hb
    have k2 : wY_load_33 post (nI (16 + b)) q (-1) e fl vt vb bs cs ss ns ls bf := br_f w.2.2.1 (br_f w.2.2.2 k)
    exact br_f t.1 (br_f t.2.1 (br_f t.2.2.1 (br_f t.2.2.2 (br_f y.1 (br_f y.2.1 k2)))))
theorem az_yload0 {post : Int32 → SY → Prop} {p q : Int32} (ok : ¬ az_ok p) (h : wY_load_112 post (-1) e fl vt vb bs cs ss ns ls bf) : wpY_load post (e, fl, vt, vb, bs, cs, ss, ns, ls, bf) p q := by
  obtain ⟨a0, a1, a4, a5, a8, a16⟩ := az_nok ok
  have k : wY_load_49 post p q (-1) e fl vt vb bs cs ss ns ls bf := br_t rfl h
  have k2 : wY_load_33 post p q (-1) e fl vt vb bs cs ss ns ls bf := br_c (fun _ => k) (fun z => br_t (a16 z) k)
  unfold wpY_load
  dsimp only
  exact br_f a0 (br_f a1 (br_f a4 (br_f a5 (br_c (fun _ => k2) (fun z => br_f (a8 z) k2)))))
theorem az_y112 {post : Int32 → SY → Prop} {r : Int32} (ok : az_ok e) (hn : n ≤ 8) (h0 : e < 4 → n = 0)
    (h : ∀ bf : Nat → Int64, (∀ j, j < 8 → bf j = az_w n (az_g e bs cs ss ns ls) j) → post r (e, nI n, vt, vb, bs, cs, ss, ns, ls, bf)) :
    wY_load_112 post r e (nI n) vt vb bs cs ss ns ls bf := by
  unfold wY_load_112
  exact az_ymark ok hn h0 h
theorem az_v0 (e : Int32) : az_val e 0 = 0 := by
  unfold az_val
  split
  · decide
  split
  · decide
  split
  · decide
  split
  · decide
  split
  · decide
  rfl
end
section
variable {e fl vt : Int32} {vb : Int64}
theorem az_yzero {post : Int32 → SY → Prop} {bf : Nat → Int64} (ok : az_ok e)
    (h : ∀ (bs cs ss ns : Nat → Int32) (ls : Nat → Int64), (∀ j, j < 8 → az_g e bs cs ss ns ls j = 0) → wY_load_112 post 0 e fl vt vb bs cs ss ns ls bf) :
    ∀ d i (bs cs ss ns : Nat → Int32) (ls : Nat → Int64), i + d = 8 → (∀ j, j < i → az_g e bs cs ss ns ls j = 0) → wY_load_89 post (d + 1) (nI i) e fl vt vb bs cs ss ns ls bf := by
  intro d
  induction d with
  | zero =>
    intro i bs cs ss ns ls hi hx
    have h8 : (8 : Int32) ≤ nI i := nI_le (a := 8) (by omega) (by omega)
    exact br_t h8 (h bs cs ss ns ls (fun j hj => hx j (by omega)))
  | succ d ih =>
    intro i bs cs ss ns ls hi hx
    have h8 : ¬ (8 : Int32) ≤ nI i := nI_ge (b := 8) (by omega) (by decide)
    refine br_f h8 (az_yput 0 ok (by omega) (fun r bs' cs' ss' ns' ls' hg => ?_))
    refine nm_r (nI_1 i) (ih (i + 1) bs' cs' ss' ns' ls' (by omega) ?_)
    intro j hj
    rw [hg j]
    by_cases c : j = i
    · rw [if_pos c, az_v0]
    · rw [if_neg c]; exact hx j (by omega)
theorem az_yloadin {post : Int32 → SY → Prop} {p : Int32} {m : Nat} {bs cs ss ns : Nat → Int32} {ls bf : Nat → Int64} (ok : az_ok p) (hm : m ≤ 8)
    (h : ∀ (bs cs ss ns : Nat → Int32) (ls bf : Nat → Int64), (∀ j, j < 8 → az_g p bs cs ss ns ls j = 0) → (∀ j, j < 8 → bf j = az_w (az_len p m) (az_g p bs cs ss ns ls) j) → post 0 (p, nI (az_len p m), vt, vb, bs, cs, ss, ns, ls, bf)) :
    wY_load_50 post p (nI m) (-1) 1 e fl vt vb bs cs ss ns ls bf := by
  refine br_f (by decide) (br_f (nI_pos (by omega)) (br_f (nI_nlt (a := 8) hm (by decide)) ?_))
  have hl : az_len p m ≤ 8 := by unfold az_len; split <;> omega
  have k := az_yzero (e := p) (fl := nI (az_len p m)) (vt := vt) (vb := vb) (post := post) (bf := bf) ok
    (fun bs cs ss ns ls hz => az_y112 ok hl (fun z => az_len0 z) (fun bf hb => h bs cs ss ns ls bf hz hb)) 8 0 bs cs ss ns ls (by omega) (fun j hj => absurd hj (Nat.not_lt_zero j))
  by_cases h4 : p < 4
  · rw [az_len0 h4, nI_0] at k
    exact br_f (Int32.not_le.mpr h4) ⟨_, k⟩
  · rw [az_len1 h4, nI_0] at k
    exact br_t (Int32.not_lt.mp h4) ⟨_, k⟩
end
end
section
/-! the relation: shape and length alike, the component's cells are the reference's elements, the count is that of the cells that differ from the snapshot -/
def az_B (e : Int32) (n : Nat) (x g : Nat → Int64) : Prop := az_ok e ∧ n ≤ 8 ∧ (e < 4 → n = 0) ∧ ∀ j, j < n → x j = g j
def i_Rel (_ : Nat) (u : SX) (v : SY) : Prop := ∃ (e : Int32) (n : Nat) (c : Int32) (x : Nat → Int64) (vt : Int32) (vb : Int64) (bs cs ss ns : Nat → Int32) (ls bf : Nat → Int64),
  u = (e, nI n, c, x) ∧ v = (e, nI n, vt, vb, bs, cs, ss, ns, ls, bf) ∧ az_B e n x (az_g e bs cs ss ns ls) ∧ az_C c (az_w n (az_g e bs cs ss ns ls)) bf
theorem i_up {k : Nat} {u : SX} {v : SY} (h : i_Rel k u v) : i_Rel (k + 5) u v := h
theorem i_vc0 : wpX_init (fun u => wpY_init (fun v => i_Rel 0 u v)) := by
  unfold wpX_init wpY_init
  refine ⟨0, 0, 0, fun _ => 0, 0, 0, fun _ => 0, fun _ => 0, fun _ => 0, fun _ => 0, fun _ => 0, fun _ => 0, ?_, ?_, ⟨Or.inl rfl, by omega, fun _ => rfl, fun j hj => absurd hj (Nat.not_lt_zero j)⟩, Or.inl ⟨rfl, fun j _ => (az_w0 (Nat.not_lt_zero j)).symm⟩⟩
  · rw [nI_0]
  · rw [nI_0]
section
variable {e vt : Int32} {vb : Int64} {bs cs ss ns bs' cs' ss' ns' : Nat → Int32} {ls bf ls' : Nat → Int64} {n : Nat} {x : Nat → Int64} {k : Nat}
/-- related behind a snapshot -/
theorem az_r0 (B : az_B e n x (az_g e bs cs ss ns ls)) (hb : ∀ j, j < 8 → bf j = az_w n (az_g e bs cs ss ns ls) j) :
    i_Rel k (e, nI n, 0, x) (e, nI n, vt, vb, bs, cs, ss, ns, ls, bf) :=
  ⟨e, n, 0, x, vt, vb, bs, cs, ss, ns, ls, bf, rfl, rfl, B, Or.inl ⟨rfl, hb⟩⟩
theorem az_Bput {i : Nat} {v : Int64} (B : az_B e n x (az_g e bs cs ss ns ls))
    (hg : ∀ j, az_g e bs' cs' ss' ns' ls' j = if j = i then v else az_g e bs cs ss ns ls j) : az_B e n (vp_updL x i v) (az_g e bs' cs' ss' ns' ls') := by
  refine ⟨B.1, B.2.1, B.2.2.1, fun j hj => ?_⟩
  rw [hg j, az_ul]
  by_cases c : j = i
  · rw [if_pos c, if_pos c]
  · rw [if_neg c, if_neg c]; exact B.2.2.2 j hj
/-- related behind a snapshot and one store -/
theorem az_r1 {i : Nat} {v : Int64} {c : Int32} (B : az_B e n x (az_g e bs cs ss ns ls)) (hb : ∀ j, j < 8 → bf j = az_w n (az_g e bs cs ss ns ls) j) (hi : i < n)
    (hg : ∀ j, az_g e bs' cs' ss' ns' ls' j = if j = i then v else az_g e bs cs ss ns ls j) (c0 : x i = v → c = 0) (c1 : ¬ x i = v → c = 1) :
    i_Rel k (e, nI n, c, vp_updL x i v) (e, nI n, vt, vb, bs', cs', ss', ns', ls', bf) := by
  refine ⟨e, n, c, _, vt, vb, bs', cs', ss', ns', ls', bf, rfl, rfl, az_Bput B hg, ?_⟩
  have hi8 : i < 8 := Nat.lt_of_lt_of_le hi B.2.1
  have ho : ∀ j, j < 8 → j ≠ i → az_w n (az_g e bs' cs' ss' ns' ls') j = bf j := by
    intro j hj hn
    rw [hb j hj]
    by_cases q : j < n
    · rw [az_w1 q, az_w1 q, hg j, if_neg hn]
    · rw [az_w0 q, az_w0 q]
  have hv : az_w n (az_g e bs' cs' ss' ns' ls') i = v := by rw [az_w1 hi, hg i, if_pos rfl]
  have hf : bf i = x i := by rw [hb i hi8, az_w1 hi, B.2.2.2 i hi]
  by_cases z : x i = v
  · refine Or.inl ⟨c0 z, fun j hj => ?_⟩
    by_cases q : j = i
    · rw [q, hv, hf, z]
    · exact (ho j hj q).symm
  · exact Or.inr ⟨c1 z, i, hi8, fun y => z (by rw [← hf, ← y, hv]), ho⟩
end
end
section
theorem i_vc_cell {k : Nat} {u : SX} {v : SY} (I : i_Rel k u v) (hk : k + 5 ≤ 2560) (v1 : Int32) : wpX_cell (fun r => wpY_cell (fun r' => r' = r ∧ i_Rel (k + 5) u v) v v1) u v1 := by
  have I5 := i_up I
  obtain ⟨e, n, c, x, vt, vb, bs, cs, ss, ns, ls, bf, hu, hv, ⟨ok, hn, h0, hx⟩, hC⟩ := I
  subst hu hv
  unfold wpX_cell
  dsimp only
  by_cases h4 : e < 4
  · have y : wpY_cell (fun r' => r' = 0 ∧ i_Rel (k + 5) (e, nI n, c, x) (e, nI n, vt, vb, bs, cs, ss, ns, ls, bf)) (e, nI n, vt, vb, bs, cs, ss, ns, ls, bf) v1 := by
      unfold wpY_cell
      exact br_t h4 ⟨rfl, I5⟩
    rcases az_lt4 ok h4 with z | z
    · exact br_t z y
    · exact br_f (by rw [z]; decide) (br_t z y)
  · refine br_f (az_ne01 h4).1 (br_f (az_ne01 h4).2 ?_)
    rcases pk_ix v1 (show n < 2 ^ 31 by omega) with z | z | ⟨i, hi, rfl⟩
    · exact br_t z (az_ycout (Or.inl z) ⟨rfl, I5⟩)
    · have z' := az_ge hn z
      exact br_f z'.1 (br_f z'.2 (az_ycout (Or.inr z'.2) ⟨rfl, I5⟩))
    · have z' := az_in hn hi
      refine br_f z'.1 (br_t z'.2.1 ⟨vp_in_nI (by omega) (by decide), ?_⟩)
      rw [nI_clamp (show i < 2 ^ 31 by omega)]
      exact az_ycin ok hn h0 hi ⟨(hx i hi).symm, I5⟩
theorem i_vc_changed {k : Nat} {u : SX} {v : SY} (I : i_Rel k u v) (hk : k + 5 ≤ 2560) : wpX_changed (fun r => wpY_changed (fun r' => r' = r ∧ i_Rel (k + 5) u v) v) u := by
  have I5 := i_up I
  obtain ⟨e, n, c, x, vt, vb, bs, cs, ss, ns, ls, bf, hu, hv, ⟨ok, hn, h0, hx⟩, hC⟩ := I
  subst hu hv
  unfold wpX_changed
  dsimp only
  exact az_ych ok hn h0 ⟨az_Cn hC, I5⟩
theorem i_vc_load {k : Nat} {u : SX} {v : SY} (I : i_Rel k u v) (hk : k + 5 ≤ 2560) (v1 : Int32) (v2 : Int32) : wpX_load (fun r u' => wpY_load (fun r' v' => r' = r ∧ i_Rel (k + 5) u' v') v v1 v2) u v1 v2 := by
  obtain ⟨e, n, c, x, vt, vb, bs, cs, ss, ns, ls, bf, hu, hv, B, hC⟩ := I
  subst hu hv
  have y : wY_load_112 (fun r' v' => r' = -1 ∧ i_Rel (k + 5) (e, nI n, 0, x) v') (-1) e (nI n) vt vb bs cs ss ns ls bf :=
    az_y112 B.1 B.2.1 B.2.2.1 (fun bf' hb => ⟨rfl, az_r0 B hb⟩)
  by_cases ok : az_ok v1
  · refine az_xload1 ok ?_
    by_cases h0 : v2 < 0
    · exact br_f (by decide) (br_t h0 (az_yload1 ok (br_f (by decide) (br_t h0 y))))
    · by_cases h8 : v2 ≤ 8
      · obtain ⟨m, hm, rfl⟩ := nI_of2 (M := 8) (n := 8) (by decide) h0 h8
        refine az_xloadin ok hm (fun x' hx' => az_yload1 ok (az_yloadin ok hm (fun bs' cs' ss' ns' ls' bf' hz hb => ⟨rfl, az_r0 ⟨ok, ?_, fun z => az_len0 z, fun j hj => ?_⟩ hb⟩)))
        · unfold az_len; split <;> omega
        · have hj8 : j < 8 := by
            have : az_len v1 m ≤ m := by unfold az_len; split <;> omega
            omega
          rw [hx' j hj8, hz j hj8]
      · exact br_f (by decide) (br_f h0 (br_f h8 (az_yload1 ok (br_f (by decide) (br_f h0 (br_t (Int32.not_le.mp h8) y))))))
  · exact az_xload0 ok (az_yload0 ok y)
theorem az_xpoke {post : Int32 → SX → Prop} {e c : Int32} {x : Nat → Int64} {n i : Nat} (h4 : ¬ e < 4) (hn : n ≤ 8) (hi : i < n) (b : Int64)
    (h : post 0 (e, nI n, 0, vp_updL x i (az_val e b))) : wpX_poke post (e, nI n, c, x) (nI i) b := by
  have z := az_in hn hi
  have hin : vp_in (nI i) 8 := vp_in_nI (by omega) (by decide)
  have hc : (nI i).toNatClampNeg = i := nI_clamp (by omega)
  unfold wpX_poke
  dsimp only
  rw [hc]
  refine br_f (az_ne01 h4).1 (br_f (az_ne01 h4).2 (br_f z.1 (br_t z.2.1 (br_c (fun g => ⟨hin, nm_e ?_⟩) (fun g => az_xval e b ⟨hin, nm_e h⟩)))))
  have w : az_val e b = b := by
    refine az_vo b (fun y => ?_) (fun y => ?_) (fun y => ?_) (fun y => ?_) (fun y => ?_) <;> exact absurd g (by rw [y]; decide)
  rw [w] at h
  exact h
theorem i_vc_poke {k : Nat} {u : SX} {v : SY} (I : i_Rel k u v) (hk : k + 5 ≤ 2560) (v1 : Int32) (a1 : Int64) : wpX_poke (fun r u' => wpY_poke (fun r' v' => r' = r ∧ i_Rel (k + 5) u' v') v v1 a1) u v1 a1 := by
  obtain ⟨e, n, c, x, vt, vb, bs, cs, ss, ns, ls, bf, hu, hv, B, hC⟩ := I
  subst hu hv
  have y : wY_poke_33 (fun r' v' => r' = -1 ∧ i_Rel (k + 5) (e, nI n, 0, x) v') (-1) e (nI n) vt vb bs cs ss ns ls bf := by
    unfold wY_poke_33
    exact az_ymark B.1 B.2.1 B.2.2.1 (fun bf' hb => ⟨rfl, az_r0 B hb⟩)
  by_cases h4 : e < 4
  · unfold wpX_poke wpY_poke
    dsimp only
    rcases az_lt4 B.1 h4 with z | z
    · exact br_t z (br_t h4 y)
    · exact br_f (by rw [z]; decide) (br_t z (br_t h4 y))
  · rcases pk_ix v1 (show n < 2 ^ 31 by have := B.2.1; omega) with z | z | ⟨i, hi, rfl⟩
    · unfold wpX_poke wpY_poke
      dsimp only
      exact br_f (az_ne01 h4).1 (br_f (az_ne01 h4).2 (br_t z (br_f h4 (br_t z y))))
    · have z' := az_ge B.2.1 z
      unfold wpX_poke wpY_poke
      dsimp only
      exact br_f (az_ne01 h4).1 (br_f (az_ne01 h4).2 (br_f z'.1 (br_f z'.2 (br_f h4 (br_f z'.1 (br_t z y))))))
    · have z' := az_in B.2.1 hi
      refine az_xpoke h4 B.2.1 hi a1 ?_
      unfold wpY_poke
      dsimp only
      refine br_f h4 (br_f z'.1 (br_f z'.2.2 (az_yput a1 B.1 (Nat.lt_of_lt_of_le hi B.2.1) (fun r bs' cs' ss' ns' ls' hg => ?_))))
      show wY_poke_33 _ 0 e (nI n) vt vb bs' cs' ss' ns' ls' bf
      unfold wY_poke_33
      exact az_ymark B.1 B.2.1 B.2.2.1 (fun bf' hb => ⟨rfl, az_r0 (az_Bput B hg) hb⟩)
end
section
section
variable {e vt : Int32} {vb : Int64} {bs cs ss ns : Nat → Int32} {ls bf : Nat → Int64} {n : Nat} {x : Nat → Int64}
/-! a store of a value of a primitive kind: each side -/
theorem az_ystin {post : Int32 → SY → Prop} {i : Nat} (ok : az_ok e) (hn : n ≤ 8) (hi : i < n) (h2 : az_wid vt e = 0 → post 2 (e, nI n, vt, vb, bs, cs, ss, ns, ls, bf))
    (h : ¬ az_wid vt e = 0 → ∀ (bs' cs' ss' ns' : Nat → Int32) (ls' : Nat → Int64), (∀ j, az_g e bs' cs' ss' ns' ls' j = if j = i then az_val vt vb else az_g e bs cs ss ns ls j) → post 0 (e, nI n, vt, vb, bs', cs', ss', ns', ls', bf)) :
    wpY_store post (e, nI n, vt, vb, bs, cs, ss, ns, ls, bf) (nI i) := by
  have z := az_in hn hi
  unfold wpY_store
  dsimp only
  refine br_f z.1 (br_t z.2.1 (az_ywid vt e (br_c h2 (fun w => az_ycan vt vb (az_yput _ ok (by omega) (fun r bs' cs' ss' ns' ls' hg => ?_))))))
  rw [az_wv vb w] at hg
  exact h w bs' cs' ss' ns' ls' hg
theorem az_ystout {post : Int32 → SY → Prop} {p : Int32} (hp : p < 0 ∨ ¬ p < nI n) (h : post 3 (e, nI n, vt, vb, bs, cs, ss, ns, ls, bf)) :
    wpY_store post (e, nI n, vt, vb, bs, cs, ss, ns, ls, bf) p := by
  unfold wpY_store
  dsimp only
  refine br_c (fun _ => h) fun z => ?_
  rcases hp with y | y
  · exact absurd y z
  · exact br_f y h
end
theorem i_vc_setPrim {k : Nat} {u : SX} {v : SY} (I : i_Rel k u v) (hk : k + 5 ≤ 2560) (v1 : Int32) (v2 : Int32) (a2 : Int64) : wpX_setPrim (fun r u' => wpY_setPrim (fun r' v' => r' = r ∧ i_Rel (k + 5) u' v') v v1 v2 a2) u v1 v2 a2 := by
  obtain ⟨e, n, c, x, vt, vb, bs, cs, ss, ns, ls, bf, hu, hv, B, hC⟩ := I
  subst hu hv
  unfold wpX_setPrim wpY_setPrim
  dsimp only
  by_cases h4 : v1 < 4
  · exact br_t h4 (az_ymark B.1 B.2.1 B.2.2.1 (fun bf' hb => br_t h4 ⟨rfl, az_r0 B hb⟩))
  by_cases h11 : v1 ≤ 11
  · refine br_f h4 (br_t h11 ?_)
    refine az_split B.1 (fun z => ?_) (fun z => ?_) (fun z => ?_) (fun b hb' z => ?_)
    · exact br_t z (az_ymark B.1 B.2.1 B.2.2.1 (fun bf' hb => br_f h4 (br_t h11 (br_t z ⟨rfl, az_r0 B hb⟩))))
    · have z0 : ¬ e = 0 := by rw [z]; decide
      exact br_f z0 (br_t z (az_ymark B.1 B.2.1 B.2.2.1 (fun bf' hb => br_f h4 (br_t h11 (br_f z0 (br_t z ⟨rfl, az_r0 B hb⟩))))))
    · obtain ⟨z0, z1, z4, z16, zl⟩ := z
      refine br_f z0 (br_f z1 (br_t zl ?_))
      rcases pk_ix v2 (show n < 2 ^ 31 by have := B.2.1; omega) with y | y | ⟨i, hi, rfl⟩
      · exact br_t y (az_ymark B.1 B.2.1 B.2.2.1 (fun bf' hb => br_f h4 (br_t h11 (br_f z0 (br_f z1 (br_t zl (az_ystout (Or.inl y) ⟨rfl, az_r0 B hb⟩)))))))
      · have y' := az_ge B.2.1 y
        exact br_f y'.1 (br_f y'.2 (az_ymark B.1 B.2.1 B.2.2.1 (fun bf' hb => br_f h4 (br_t h11 (br_f z0 (br_f z1 (br_t zl (az_ystout (Or.inr y'.2) ⟨rfl, az_r0 B hb⟩))))))))
      · have y' := az_in B.2.1 hi
        refine br_f y'.1 (br_t y'.2.1 (az_xwid v1 e (br_c (fun w => ?_) (fun w => az_xval v1 a2 (az_xstore _ (Nat.lt_of_lt_of_le hi B.2.1) (fun c' c0 c1 => ?_))))))
        · exact az_ymark B.1 B.2.1 B.2.2.1 (fun bf' hb => br_f h4 (br_t h11 (br_f z0 (br_f z1 (br_t zl (az_ystin B.1 B.2.1 hi (fun _ => ⟨rfl, az_r0 B hb⟩) (fun w' => absurd w w')))))))
        · exact az_ymark B.1 B.2.1 B.2.2.1 (fun bf' hb => br_f h4 (br_t h11 (br_f z0 (br_f z1 (br_t zl (az_ystin B.1 B.2.1 hi (fun w' => absurd w' w) (fun _ bs' cs' ss' ns' ls' hg => ⟨rfl, az_r1 B hb hi hg c0 c1⟩)))))))
    · have z0 : ¬ e = 0 := by rw [z]; exact (az_16t b hb').1
      have z1 : ¬ e = 1 := by rw [z]; exact (az_16t b hb').2.1
      have zl : ¬ e < 16 := by rw [z]; exact (az_16w b hb').2.2.1
      exact br_f z0 (br_f z1 (br_f zl (az_ymark B.1 B.2.1 B.2.2.1 (fun bf' hb => br_f h4 (br_t h11 (br_f z0 (br_f z1 (br_f zl ⟨rfl, az_r0 B hb⟩))))))))
  · exact br_f h4 (br_f h11 (az_ymark B.1 B.2.1 B.2.2.1 (fun bf' hb => br_f h4 (br_f h11 ⟨rfl, az_r0 B hb⟩))))
end
section
/-! setRef: the tags. z: the reference's 'wrapper' -/
def az_tag (t z : Int32) : Prop := (t = 0 ∧ z = 0) ∨ (z = 1 ∧ ¬ t = 0 ∧ ¬ t < 4 ∧ t ≤ 11 ∧ ¬ 16 ≤ t ∧ t < 16) ∨ (z = 0 ∧ ∃ a : Nat, a < 8 ∧ t = nI (16 + a))
theorem az_tagw {t : Int32} (h : ¬ t < 4) (h2 : t ≤ 11) : az_tag t 1 := by
  have q : ∀ j, j ≤ 11 → ¬ nI j < 4 → (¬ nI j = 0 ∧ ¬ 16 ≤ nI j ∧ nI j < 16) := by decide +kernel
  obtain ⟨j, h4, hj, rfl⟩ := az_411 h h2
  have := q j hj h
  exact Or.inr (Or.inl ⟨rfl, this.1, h, h2, this.2.1, this.2.2⟩)
section
variable {e fl vt : Int32} {vb : Int64} {bs cs ss ns : Nat → Int32} {ls bf : Nat → Int64} {n : Nat} {x : Nat → Int64}
theorem az_xref1 {post : Int32 → SX → Prop} {c p t z : Int32} {b : Int64} (T : az_tag t z) (h : wX_setRef_37 post p t b 1 e fl 0 x) : wpX_setRef post (e, fl, c, x) p t b := by
  have k : wX_setRef_32 post p t b e fl 0 x := h
  unfold wpX_setRef
  dsimp only
  rcases T with ⟨t0, _⟩ | ⟨_, t0, t4, t11, _⟩ | ⟨_, a, ha, ta⟩
  · exact br_t t0 k
  · exact br_f t0 (br_f t4 (br_t t11 k))
  · subst ta
    have q := az_16w a ha
    exact br_f (az_16t a ha).1 (br_f q.1 (br_f (az_16x a ha).2.1 (br_f q.2.2.1 (br_f q.2.2.2 k))))
theorem az_xref0 {post : Int32 → SX → Prop} {c p t : Int32} {b : Int64} (t0 : ¬ t = 0) (t4 : ¬ t < 4 → ¬ t ≤ 11) (t16 : ¬ t < 16 → 23 < t) (h : post (-1) (e, fl, 0, x)) : wpX_setRef post (e, fl, c, x) p t b := by
  have k : wX_setRef_36 post p t b e fl 0 x := br_t rfl h
  have k2 : wX_setRef_20 post p t b e fl 0 x := br_c (fun _ => k) (fun z => br_t (t16 z) k)
  unfold wpX_setRef
  dsimp only
  exact br_f t0 (br_c (fun _ => k2) (fun z => br_f (t4 z) k2))
theorem az_yref1 {post : Int32 → SY → Prop} {p t z : Int32} {b : Int64} (T : az_tag t z) (ok : az_ok e) (hn : n ≤ 8) (h0 : e < 4 → n = 0)
    (h : ∀ bf : Nat → Int64, (∀ j, j < 8 → bf j = az_w n (az_g e bs cs ss ns ls) j) → wY_setRef_66 post p t b z e (nI n) t b bs cs ss ns ls bf) :
    wpY_setRef post (e, nI n, vt, vb, bs, cs, ss, ns, ls, bf) p t b := by
  unfold wpY_setRef
  dsimp only
  refine az_ymark ok hn h0 (fun bf' hb => ?_)
  have k := h bf' hb
  dsimp only
  rcases T with ⟨t0, z0⟩ | ⟨z1, t0, t4, t11, _⟩ | ⟨z0, a, ha, ta⟩
  · subst z0
    have k1 : wY_setRef_38 post p t b 0 e (nI n) t b bs cs ss ns ls bf' := br_t t0 k
    exact br_t (by rw [t0]; decide) k1
  · subst z1
    have k1 : wY_setRef_38 post p t b 1 e (nI n) t b bs cs ss ns ls bf' := br_f t0 (br_f (by decide) k)
    exact br_f t4 (br_f (Int32.not_lt.mpr t11) k1)
  · subst z0 ta
    have q := az_16y a ha
    have k1 : wY_setRef_38 post p (nI (16 + a)) b 0 e (nI n) (nI (16 + a)) b bs cs ss ns ls bf' := br_f (az_16t a ha).1 (br_t rfl (br_f (az_16w a ha).2.2.1 (br_t q.2 k)))
    exact br_f (az_16w a ha).1 (br_t q.1 k1)
theorem az_yref0 {post : Int32 → SY → Prop} {p t : Int32} {b : Int64} (t0 : ¬ t = 0) (t4 : ¬ t < 4 → ¬ t ≤ 11) (t16 : ¬ t < 16 → 23 < t) (ok : az_ok e) (hn : n ≤ 8) (h0 : e < 4 → n = 0)
    (h : ∀ bf : Nat → Int64, (∀ j, j < 8 → bf j = az_w n (az_g e bs cs ss ns ls) j) → post (-1) (e, nI n, t, b, bs, cs, ss, ns, ls, bf)) :
    wpY_setRef post (e, nI n, vt, vb, bs, cs, ss, ns, ls, bf) p t b := by
  unfold wpY_setRef
  dsimp only
  refine az_ymark ok hn h0 (fun bf' hb => ?_)
  have k := h bf' hb
  dsimp only
  have k1 : wY_setRef_38 post p t b 0 e (nI n) t b bs cs ss ns ls bf' := br_f t0 (br_t rfl (br_c (fun _ => k) (fun z => br_f (Int32.not_le.mpr (t16 z)) k)))
  exact br_c (fun _ => k1) (fun z => br_t (Int32.not_le.mp (t4 z)) k1)
/-! the two ways up -/
theorem az_xup {post : Int32 → SX → Prop} {p t c : Int32} {q : Int64} {b : Nat} (hb : b < 8) :
    ∀ m a, a < m → a < 8 → wX_setRef_216 post p t q (if az_fin b a = b then 1 else 0) e fl c x → wX_setRef_184 post p t q (nI b) e fl c x m (nI a) := by
  intro m
  induction m with
  | zero => intro a h; omega
  | succ m ih =>
    intro a hm ha h
    by_cases c1 : b < a
    · have q1 := (az_par a ha (by omega)).1
      rw [← az_finS b hb a ha c1] at h
      exact br_f (nI_ge c1 (by omega)) ⟨by decide, nm_r q1 (ih ((a - 1) / 2) (by omega) (by omega) h)⟩
    · rw [az_finE b hb a ha c1] at h
      refine br_t (nI_le (by omega) (by omega)) ?_
      by_cases c2 : a = b
      · rw [if_pos c2] at h
        exact br_t (congrArg nI c2) h
      · rw [if_neg c2] at h
        exact br_f (fun z => c2 ((nI_eq (by omega) (by omega)).mp z)) h
theorem az_yup1 {post : Int32 → SY → Prop} {p t : Int32} {q : Int64} {b a m s : Nat} (hb : b < 8) (ha : a < 8) (hs : s < 3)
    (h : wY_setRef_186 post p t q (nI b) e fl vt vb bs cs ss ns ls bf m (nI (az_st b a)) (nI (s + 1))) : wY_setRef_186 post p t q (nI b) e fl vt vb bs cs ss ns ls bf (m + 1) (nI a) (nI s) := by
  have h3 : ¬ (3 : Int32) ≤ nI s := nI_ge (b := 3) hs (by decide)
  refine br_f h3 ?_
  unfold az_st at h
  by_cases c1 : b < a
  · rw [if_pos c1] at h
    exact br_f (nI_ge c1 (by omega)) (nm_r (az_par a ha (by omega)).2 (nm_r (nI_1 s) h))
  · rw [if_neg c1] at h
    exact br_t (nI_le (by omega) (by omega)) (nm_r (nI_1 s) h)
theorem az_yup {post : Int32 → SY → Prop} {p t : Int32} {q : Int64} {b a : Nat} (hb : b < 8) (ha : a < 8)
    (h : wY_setRef_186 post p t q (nI b) e fl vt vb bs cs ss ns ls bf 1 (nI (az_fin b a)) (nI 3)) : ∃ m, wY_setRef_186 post p t q (nI b) e fl vt vb bs cs ss ns ls bf m (nI a) 0 := by
  refine ⟨4, ?_⟩
  have k := az_yup1 hb ha (by decide) (az_yup1 (s := 1) hb (az_stlt ha) (by decide) (az_yup1 (s := 2) hb (az_stlt (az_stlt ha)) (by decide) h))
  exact k
end
end
section
/-! setRef: the value that a slot takes, and both sides' walks from a known tag on -/
def az_rv (t : Int32) (b : Int64) : Int64 := (t.toInt64 <<< ((56 : Int32).toInt64 &&& 63)) ||| (b &&& 72057594037927935)
theorem az_rvy (t : Int32) (b : Int64) : (((b <<< ((8 : Int32).toInt64 &&& 63)).toUInt64 >>> ((8 : Int32).toInt64.toUInt64 &&& Int64.toUInt64 63)).toInt64) ||| (t.toInt64 <<< ((56 : Int32).toInt64 &&& 63)) = az_rv t b := by
  rw [az_lo56]; exact Int64.or_comm _ _
theorem az_v16 {b : Nat} (hb : b < 8) (v : Int64) : az_val (nI (16 + b)) v = v := by
  have t := az_16t b hb
  have u := az_16u b hb
  exact az_vo v t.2.2.1 t.2.2.2 u.1 u.2.1 u.2.2.1
section
variable {e fl vt : Int32} {vb : Int64} {bs cs ss ns : Nat → Int32} {ls bf : Nat → Int64} {n : Nat} {x : Nat → Int64}
theorem az_x216 {post : Int32 → SX → Prop} {t : Int32} {q : Int64} {i a b : Nat} (hi : i < 8)
    (h1 : az_fin b a = b → ∀ c : Int32, (x i = az_rv t q → c = 0) → (¬ x i = az_rv t q → c = 1) → post 0 (e, fl, c, vp_updL x i (az_rv t q)))
    (h2 : ¬ az_fin b a = b → post 2 (e, fl, 0, x)) : wX_setRef_216 post (nI i) t q (if az_fin b a = b then 1 else 0) e fl 0 x := by
  by_cases D : az_fin b a = b
  · rw [if_pos D]
    exact br_f (by decide) (az_xstore (az_rv t q) hi (fun c c0 c1 => h1 D c c0 c1))
  · rw [if_neg D]
    exact br_t rfl (h2 D)
theorem az_y172 {post : Int32 → SY → Prop} {t : Int32} {q : Int64} {i a b : Nat} (hb : b < 8) (ha : a < 8) (hi : i < 8)
    (h1 : az_fin b a = b → ∀ (bs' cs' ss' ns' : Nat → Int32) (ls' : Nat → Int64), (∀ j, az_g (nI (16 + b)) bs' cs' ss' ns' ls' j = if j = i then az_rv t q else az_g (nI (16 + b)) bs cs ss ns ls j) → post 0 (nI (16 + b), fl, vt, vb, bs', cs', ss', ns', ls', bf))
    (h2 : ¬ az_fin b a = b → post 2 (nI (16 + b), fl, vt, vb, bs, cs, ss, ns, ls, bf)) : wY_setRef_172 post (nI i) t q (nI a) (nI (16 + b)) fl vt vb bs cs ss ns ls bf := by
  have ok : az_ok (nI (16 + b)) := Or.inr (Or.inr (Or.inr (Or.inr (Or.inr (Or.inr (Or.inr (Or.inr ⟨b, hb, rfl⟩)))))))
  have hf : az_fin b a < 8 := az_stlt (az_stlt (az_stlt ha))
  unfold wY_setRef_172
  refine nm_r (az_16x b hb).2.2.2 (az_yup hb ha (br_t (nI_le (a := 3) (by omega) (by omega)) ?_))
  by_cases D : az_fin b a = b
  · refine br_t (congrArg nI D) ?_
    rw [az_rvy]
    refine az_yput _ ok hi (fun r bs' cs' ss' ns' ls' hg => ?_)
    rw [az_v16 hb] at hg
    exact h1 D bs' cs' ss' ns' ls' hg
  · exact br_f (fun z => D ((nI_eq (by omega) (by omega)).mp z)) (h2 D)
theorem az_body {k : Nat} {Q : Int32 → SX → Prop} {p t z : Int32} {q : Int64} (T : az_tag t z) (B : az_B e n x (az_g e bs cs ss ns ls))
    (HY : ∀ (r : Int32) (u' : SX), (∀ bf : Nat → Int64, (∀ j, j < 8 → bf j = az_w n (az_g e bs cs ss ns ls) j) → wY_setRef_66 (fun r' v' => r' = r ∧ i_Rel k u' v') p t q z e (nI n) t q bs cs ss ns ls bf) → Q r u') :
    wX_setRef_37 Q p t q 1 e (nI n) 0 x := by
  have hn : n < 2 ^ 31 := by have := B.2.1; omega
  refine br_f (by decide) ?_
  refine az_split B.1 (fun z0 => ?_) (fun z1 => ?_) (fun zp => ?_) (fun b hb ze => ?_)
  · exact br_t z0 (HY 1 _ (fun bf' hm => br_t z0 ⟨rfl, az_r0 B hm⟩))
  · have n0 : ¬ e = 0 := by rw [z1]; decide
    exact br_f n0 (br_t z1 (HY 2 _ (fun bf' hm => br_f n0 (br_t z1 ⟨rfl, az_r0 B hm⟩))))
  · obtain ⟨z0, z1, z4, z16, zl⟩ := zp
    refine br_f z0 (br_f z1 (br_f z16 ?_))
    rcases T with ⟨t0, w⟩ | ⟨w, t0, t4, t11, t16, tl⟩ | ⟨w, a, ha, ta⟩
    · exact br_t t0 (HY 2 _ (fun bf' hm => br_f z0 (br_f z1 (br_f z16 (br_t w (br_t t0 ⟨rfl, az_r0 B hm⟩))))))
    · have w0 : ¬ z = 0 := by rw [w]; decide
      refine br_f t0 ?_
      rcases pk_ix p hn with y | y | ⟨i, hi, rfl⟩
      · exact br_t y (HY 3 _ (fun bf' hm => br_f z0 (br_f z1 (br_f z16 (br_f w0 (az_ystout (Or.inl y) ⟨rfl, az_r0 B hm⟩))))))
      · have y' := az_ge B.2.1 y
        exact br_f y'.1 (br_f y'.2 (HY 3 _ (fun bf' hm => br_f z0 (br_f z1 (br_f z16 (br_f w0 (az_ystout (Or.inr y'.2) ⟨rfl, az_r0 B hm⟩)))))))
      · have y' := az_in B.2.1 hi
        refine br_f y'.1 (br_t y'.2.1 (br_f z16 (br_t tl (az_xwid t e (br_c (fun wd => ?_) (fun wd => az_xval t q (az_xstore _ (Nat.lt_of_lt_of_le hi B.2.1) (fun c' c0 c1 => ?_))))))))
        · exact HY 2 _ (fun bf' hm => br_f z0 (br_f z1 (br_f z16 (br_f w0 (az_ystin B.1 B.2.1 hi (fun _ => ⟨rfl, az_r0 B hm⟩) (fun w' => absurd wd w'))))))
        · exact HY 0 _ (fun bf' hm => br_f z0 (br_f z1 (br_f z16 (br_f w0 (az_ystin B.1 B.2.1 hi (fun w' => absurd w' wd) (fun _ bs' cs' ss' ns' ls' hg => ⟨rfl, az_r1 B hm hi hg c0 c1⟩))))))
    · subst ta
      have t0 := (az_16t a ha).1
      refine br_f t0 ?_
      rcases pk_ix p hn with y | y | ⟨i, hi, rfl⟩
      · exact br_t y (HY 3 _ (fun bf' hm => br_f z0 (br_f z1 (br_f z16 (br_t w (br_f t0 (br_t y ⟨rfl, az_r0 B hm⟩)))))))
      · have y' := az_ge B.2.1 y
        exact br_f y'.1 (br_f y'.2 (HY 3 _ (fun bf' hm => br_f z0 (br_f z1 (br_f z16 (br_t w (br_f t0 (br_f y'.1 (br_f y'.2 ⟨rfl, az_r0 B hm⟩)))))))))
      · have y' := az_in B.2.1 hi
        exact br_f y'.1 (br_t y'.2.1 (br_f z16 (br_f (az_16w a ha).2.2.1 (HY 2 _ (fun bf' hm => br_f z0 (br_f z1 (br_f z16 (br_t w (br_f t0 (br_f y'.1 (br_t y'.2.1 ⟨rfl, az_r0 B hm⟩)))))))))))
  · subst ze
    have z0 := (az_16t b hb).1
    have z1 := (az_16t b hb).2.1
    have z16 := (az_16u b hb).2.2.2
    have eb := (az_16x b hb).2.2.2
    refine br_f z0 (br_f z1 (br_t z16 ?_))
    rcases pk_ix p hn with y | y | ⟨i, hi, rfl⟩
    · exact br_t y (HY 3 _ (fun bf' hm => br_f z0 (br_f z1 (br_t z16 (br_t y ⟨rfl, az_r0 B hm⟩)))))
    · have y' := az_ge B.2.1 y
      exact br_f y'.1 (br_f y'.2 (HY 3 _ (fun bf' hm => br_f z0 (br_f z1 (br_t z16 (br_f y'.1 (br_f y'.2 ⟨rfl, az_r0 B hm⟩)))))))
    · have y' := az_in B.2.1 hi
      have hi8 : i < 8 := Nat.lt_of_lt_of_le hi B.2.1
      refine br_f y'.1 (br_t y'.2.1 (br_t z16 ?_))
      rcases T with ⟨t0, w⟩ | ⟨w, t0, t4, t11, t16, tl⟩ | ⟨w, a, ha, ta⟩
      · refine br_t t0 (az_xstore 0 hi8 (fun c' c0 c1 => ?_))
        refine HY 0 _ (fun bf' hm => br_f z0 (br_f z1 (br_t z16 (br_f y'.1 (br_t y'.2.1 (br_t t0 (az_yput 0 B.1 hi8 (fun r bs' cs' ss' ns' ls' hg => ?_))))))))
        rw [az_v0] at hg
        exact ⟨rfl, az_r1 B hm hi hg c0 c1⟩
      · have w0 : ¬ z = 0 := by rw [w]; decide
        have k : wX_setRef_216 Q (nI i) t q (if az_fin b 0 = b then 1 else 0) (nI (16 + b)) (nI n) 0 x := by
          refine az_x216 hi8 (fun D c' c0 c1 => ?_) (fun D => ?_)
          · exact HY 0 _ (fun bf' hm => br_f z0 (br_f z1 (br_t z16 (br_f y'.1 (br_t y'.2.1 (br_f t0 (br_f w0 (az_y172 (a := 0) hb (by decide) hi8 (fun _ bs' cs' ss' ns' ls' hg => ⟨rfl, az_r1 B hm hi hg c0 c1⟩) (fun D' => absurd D D')))))))))
          · exact HY 2 _ (fun bf' hm => br_f z0 (br_f z1 (br_t z16 (br_f y'.1 (br_t y'.2.1 (br_f t0 (br_f w0 (az_y172 (a := 0) hb (by decide) hi8 (fun D' => absurd D' D) (fun _ => ⟨rfl, az_r0 B hm⟩)))))))))
        rw [az_finE b hb 0 (by decide) (by omega)] at k
        refine br_f t0 (nm_r eb (br_f t16 ?_))
        by_cases b0 : 0 = b
        · rw [if_pos b0] at k
          exact br_t (by rw [← b0]; exact nI_0) k
        · rw [if_neg b0] at k
          exact br_f (nI_ne0 (by omega) (by omega)) k
      · subst ta
        have t0 := (az_16t a ha).1
        have ea := (az_16x a ha).2.2.2
        have k : wX_setRef_216 Q (nI i) (nI (16 + a)) q (if az_fin b a = b then 1 else 0) (nI (16 + b)) (nI n) 0 x := by
          refine az_x216 hi8 (fun D c' c0 c1 => ?_) (fun D => ?_)
          · refine HY 0 _ (fun bf' hm => br_f z0 (br_f z1 (br_t z16 (br_f y'.1 (br_t y'.2.1 (br_f t0 (br_t w ?_)))))))
            rw [ea]
            exact az_y172 hb ha hi8 (fun _ bs' cs' ss' ns' ls' hg => ⟨rfl, az_r1 B hm hi hg c0 c1⟩) (fun D' => absurd D D')
          · refine HY 2 _ (fun bf' hm => br_f z0 (br_f z1 (br_t z16 (br_f y'.1 (br_t y'.2.1 (br_f t0 (br_t w ?_)))))))
            rw [ea]
            exact az_y172 hb ha hi8 (fun D' => absurd D' D) (fun _ => ⟨rfl, az_r0 B hm⟩)
        exact br_f t0 (nm_r eb (br_t (az_16u a ha).2.2.2 (nm_r ea (Exists.intro 8 (az_xup hb 8 a ha ha k)))))
end
end
section
theorem i_vc_setRef {k : Nat} {u : SX} {v : SY} (I : i_Rel k u v) (hk : k + 5 ≤ 2560) (v1 : Int32) (v2 : Int32) (a2 : Int64) : wpX_setRef (fun r u' => wpY_setRef (fun r' v' => r' = r ∧ i_Rel (k + 5) u' v') v v1 v2 a2) u v1 v2 a2 := by
  obtain ⟨e, n, c, x, vt, vb, bs, cs, ss, ns, ls, bf, hu, hv, B, hC⟩ := I
  subst hu hv
  have go : ∀ z : Int32, az_tag v2 z → wpX_setRef (fun r u' => wpY_setRef (fun r' v' => r' = r ∧ i_Rel (k + 5) u' v') (e, nI n, vt, vb, bs, cs, ss, ns, ls, bf) v1 v2 a2) (e, nI n, c, x) v1 v2 a2 :=
    fun z T => az_xref1 T (az_body (z := z) T B (fun r u' hy => az_yref1 T B.1 B.2.1 B.2.2.1 hy))
  by_cases t0 : v2 = 0
  · exact go 0 (Or.inl ⟨t0, rfl⟩)
  by_cases t4 : v2 < 4
  · have t16 : v2 < 16 := Int32.lt_trans t4 (by decide)
    exact az_xref0 t0 (fun y => absurd t4 y) (fun y => absurd t16 y) (az_yref0 t0 (fun y => absurd t4 y) (fun y => absurd t16 y) B.1 B.2.1 B.2.2.1 (fun bf' hm => ⟨rfl, az_r0 B hm⟩))
  by_cases t11 : v2 ≤ 11
  · exact go 1 (az_tagw t4 t11)
  by_cases t16 : v2 < 16
  · exact az_xref0 t0 (fun _ => t11) (fun y => absurd t16 y) (az_yref0 t0 (fun _ => t11) (fun y => absurd t16 y) B.1 B.2.1 B.2.2.1 (fun bf' hm => ⟨rfl, az_r0 B hm⟩))
  by_cases t23 : 23 < v2
  · exact az_xref0 t0 (fun _ => t11) (fun _ => t23) (az_yref0 t0 (fun _ => t11) (fun _ => t23) B.1 B.2.1 B.2.2.1 (fun bf' hm => ⟨rfl, az_r0 B hm⟩))
  · exact go 0 (Or.inr (Or.inr ⟨rfl, az_1623 t16 t23⟩))
end
