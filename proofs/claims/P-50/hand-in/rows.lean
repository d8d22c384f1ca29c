section
theorem pk_us {f : Nat → Int32} {k : Nat} {x : Int32} : upd f k x k = x := if_pos rfl
theorem pk_un {f : Nat → Int32} {k j : Nat} {x : Int32} (h : j ≠ k) : upd f k x j = f j := if_neg h
theorem pk_uLs {f : Nat → Int64} {k : Nat} {x : Int64} : vp_updL f k x k = x := if_pos rfl
theorem pk_uLn {f : Nat → Int64} {k j : Nat} {x : Int64} (h : j ≠ k) : vp_updL f k x j = f j := if_neg h
theorem pk_sub {a b : Nat} (h : b ≤ a) : nI a - nI b = nI (a - b) := by
  obtain ⟨c, rfl⟩ : ∃ c, a = c + b := ⟨a - b, by omega⟩
  rw [← nI_add, Int32.add_sub_cancel, Nat.add_sub_cancel]
theorem pk_mul (a b : Nat) : nI a * nI b = nI (a * b) := (Int32.ofNat_mul a b).symm
theorem pk_div {a d : Nat} (ha : a < 2 ^ 31) (h0 : 0 < d) (hd : d < 2 ^ 31) : nI a / nI d = nI (a / d) := by
  apply Int32.toInt_inj.mp
  rw [lg_idiv_nonneg (by rw [nI_toInt ha]; omega) (by rw [nI_toInt hd]; omega), nI_toInt ha, nI_toInt hd, nI_toInt (Nat.lt_of_le_of_lt (Nat.div_le_self a d) ha)]
  first | rfl | exact (Int.natCast_ediv _ _).symm
theorem pk_rem {a d : Nat} (ha : a < 2 ^ 31) (h0 : 0 < d) (hd : d < 2 ^ 31) : nI a - nI a / nI d * nI d = nI (a % d) := by
  rw [pk_div ha h0 hd, pk_mul, pk_sub (Nat.div_mul_le_self a d)]
  exact congrArg nI (by have := Nat.div_add_mod' a d; omega)
theorem pk_le {x y : Int32} {A B : Prop} (a b : Nat) (f : a ≤ b → A) (g : b < a → B) (hx : x = nI a := by rfl) (hy : y = nI b := by rfl) (ha : a < 2 ^ 31 := by omega) (hb : b < 2 ^ 31 := by omega) : (x ≤ y → A) ∧ (¬ x ≤ y → B) := by
  subst hx hy
  rw [nI_leI ha hb]
  exact ⟨f, fun z => g (by omega)⟩
theorem pk_lt {x y : Int32} {A B : Prop} (a b : Nat) (f : a < b → A) (g : b ≤ a → B) (hx : x = nI a := by rfl) (hy : y = nI b := by rfl) (ha : a < 2 ^ 31 := by omega) (hb : b < 2 ^ 31 := by omega) : (x < y → A) ∧ (¬ x < y → B) := by
  subst hx hy
  rw [nI_ltI ha hb]
  exact ⟨f, fun z => g (by omega)⟩
theorem pk_eq {x y : Int32} {A B : Prop} (a b : Nat) (f : a = b → A) (g : a ≠ b → B) (hx : x = nI a := by rfl) (hy : y = nI b := by rfl) (ha : a < 2 ^ 31 := by omega) (hb : b < 2 ^ 31 := by omega) : (x = y → A) ∧ (¬ x = y → B) := by
  subst hx hy
  rw [nI_eq ha hb]
  exact ⟨f, g⟩
theorem pk_in {x : Int32} (n N : Nat) (h : n < N) (hx : x = nI n := by rfl) (hN : N < 2 ^ 31 := by omega) : vp_in x N := by
  subst hx
  exact vp_in_nI h hN
theorem pk_cl {x : Int32} (n : Nat) (hx : x = nI n := by rfl) (h : n < 2 ^ 31 := by omega) : x.toNatClampNeg = n := by
  subst hx
  exact nI_clamp h
theorem nx_and (a b : Nat) : nI a &&& nI b = nI (a &&& b) := by
  apply Int32.toBitVec_inj.1
  show BitVec.ofNat 32 a &&& BitVec.ofNat 32 b = BitVec.ofNat 32 (a &&& b)
  apply BitVec.eq_of_getLsbD_eq
  intro i hi
  simp [hi]
theorem nx_xor (a b : Nat) : nI a ^^^ nI b = nI (a ^^^ b) := by
  apply Int32.toBitVec_inj.1
  show BitVec.ofNat 32 a ^^^ BitVec.ofNat 32 b = BitVec.ofNat 32 (a ^^^ b)
  apply BitVec.eq_of_getLsbD_eq
  intro i hi
  simp [hi]
theorem nx_cnt : ∀ j : Fin 32, (UInt32.ofNat j.val &&& Int32.toUInt32 31).toNat % 32 = j.val := by decide +kernel
theorem nx_ush {k j : Nat} (hk : k < 65536) (hj : j < 32) : ((nI k).toUInt32 >>> ((nI j).toUInt32 &&& Int32.toUInt32 31)).toInt32 = nI (k >>> j) := by
  have hs : k >>> j ≤ k := by
    rw [Nat.shiftRight_eq_div_pow]
    exact Nat.div_le_self _ _
  have e2 : UInt32.ofNat k >>> (UInt32.ofNat j &&& Int32.toUInt32 31) = UInt32.ofNat (k >>> j) := by
    apply UInt32.toNat_inj.1
    have h1 : (UInt32.ofNat k).toNat = k := Nat.mod_eq_of_lt (by omega)
    have h2 : (UInt32.ofNat (k >>> j)).toNat = k >>> j := Nat.mod_eq_of_lt (by omega)
    rw [UInt32.toNat_shiftRight, nx_cnt ⟨j, hj⟩, h1, h2]
  show (UInt32.ofNat k >>> (UInt32.ofNat j &&& Int32.toUInt32 31)).toInt32 = _
  rw [e2]
  rfl
theorem nx_mod (k : Nat) : nI k &&& 65535 = nI (k % 65536) := by
  show nI k &&& nI 65535 = _
  rw [nx_and, show (65535 : Nat) = 2 ^ 16 - 1 from rfl, Nat.and_two_pow_sub_one_eq_mod]
theorem nx_mask (x : Int32) : ∃ k, k < 65536 ∧ x &&& 65535 = nI k := by
  have e : x = nI x.toBitVec.toNat := by
    apply Int32.toBitVec_inj.1
    show x.toBitVec = BitVec.ofNat 32 x.toBitVec.toNat
    simp
  refine ⟨x.toBitVec.toNat % 65536, Nat.mod_lt _ (by omega), ?_⟩
  rw [← nx_mod, ← e]
theorem wb_tb (n : Nat) : (lN n).toBitVec = BitVec.ofNat 64 n := rfl
theorem wb_inj {a b : Int64} (h : a.toBitVec = b.toBitVec) : a = b := Int64.toBitVec_inj.mp h
theorem wb_tn {n : Nat} (h : n < 2 ^ 64) : (lN n).toBitVec.toNat = n := by rw [wb_tb, BitVec.toNat_ofNat, Nat.mod_eq_of_lt h]
theorem wb_of (x : Int64) : ∃ n, n < 2 ^ 64 ∧ x = lN n := ⟨x.toBitVec.toNat, x.toBitVec.isLt, wb_inj (by rw [wb_tb]; simp)⟩
theorem wb_of32 (x : Int32) : ∃ n, n < 2 ^ 32 ∧ x = nI n := ⟨x.toBitVec.toNat, x.toBitVec.isLt, Int32.toBitVec_inj.mp (by show _ = BitVec.ofNat 32 _; simp)⟩
theorem wb_c : ∀ k, k < 64 → ((nI k).toInt64 &&& 63) = lN k := by decide +kernel
theorem wb_sm : ∀ k, k < 64 → (BitVec.ofNat 64 k).smod 64 = BitVec.ofNat 64 k := by decide +kernel
theorem wb_lt2 {a b : Nat} (h : a < b) : 2 ^ a < 2 ^ b := Nat.pow_lt_pow_right (by decide) h
theorem wb_shl (n : Nat) {k : Nat} (hk : k < 64) : lN n <<< ((nI k).toInt64 &&& 63) = lN (n * 2 ^ k) := by
  rw [wb_c k hk]
  apply wb_inj
  rw [Int64.toBitVec_shiftLeft, wb_tb, wb_tb, wb_tb, wb_sm k hk]
  apply BitVec.eq_of_toNat_eq
  rw [BitVec.shiftLeft_eq', BitVec.toNat_shiftLeft, BitVec.toNat_ofNat, BitVec.toNat_ofNat, BitVec.toNat_ofNat, Nat.mod_eq_of_lt (show k < 2 ^ 64 by omega), Nat.shiftLeft_eq, Nat.mul_mod, Nat.mod_mod, ← Nat.mul_mod]
theorem wb_and {a b : Nat} (ha : a < 2 ^ 64) (hb : b < 2 ^ 64) : lN a &&& lN b = lN (a &&& b) := by
  apply wb_inj
  rw [Int64.toBitVec_and, wb_tb, wb_tb, wb_tb]
  apply BitVec.eq_of_toNat_eq
  rw [BitVec.toNat_and, BitVec.toNat_ofNat, BitVec.toNat_ofNat, BitVec.toNat_ofNat, Nat.mod_eq_of_lt ha, Nat.mod_eq_of_lt hb, Nat.mod_eq_of_lt (Nat.and_lt_two_pow _ hb)]
theorem wb_mask {n k : Nat} (hn : n < 2 ^ 64) (hk : k < 64) : lN n &&& lN (2 ^ k - 1) = lN (n % 2 ^ k) := by
  rw [wb_and hn (by have := wb_lt2 hk; omega), Nat.and_two_pow_sub_one_eq_mod]
end
section
/-! a bit as an int; has, u2; branches with one post -/
def mb_i (b : Bool) : Int32 := if b = true then 1 else 0
theorem mb_i0 (b : Bool) : (mb_i b = 0) = (b = false) := propext (by cases b <;> decide)
theorem mb_i1 (b : Bool) : (mb_i b = 1) = (b = true) := propext (by cases b <;> decide)
theorem mb_br (post : Int32 → Prop) (c : Prop) [Decidable c] (a b : Int32) : ((c → post a) ∧ (¬ c → post b)) = post (if c then a else b) := by
  apply propext
  by_cases h : c
  · rw [if_pos h]; exact ⟨fun z => z.1 h, fun z => br_t h z⟩
  · rw [if_neg h]; exact ⟨fun z => z.2 h, fun z => br_f h z⟩
theorem mb_sh {w : Nat} (j : Nat) (hw : w < 65536) : w >>> j < 65536 := by
  rw [Nat.shiftRight_eq_div_pow]
  exact Nat.lt_of_le_of_lt (Nat.div_le_self _ _) hw
theorem mb_tb (w j : Nat) : w.testBit j = decide ((w >>> j) % 2 = 1) := by
  rw [Nat.testBit_eq_decide_div_mod_eq, Nat.shiftRight_eq_div_pow]
theorem mb_m2 (a : Nat) : nI (a % 2) = mb_i (decide (a % 2 = 1)) := by
  rcases Nat.mod_two_eq_zero_or_one a with h | h
  · rw [h]; decide
  · rw [h]; decide
theorem mb_has (post : Int32 → Prop) {w j : Nat} {x : Int32} (hx : x = nI j) (hw : w < 65536) (hj : j < 32) : wpY_has post (nI w) x = post (mb_i (w.testBit j)) := by
  subst hx
  have hs := mb_sh j hw
  have e2 : nI (w >>> j) - nI (w >>> j) / 2 * 2 = nI ((w >>> j) % 2) := pk_rem (d := 2) (by omega) (by omega) (by omega)
  have e3 : nI ((w >>> j) % 2) = mb_i (w.testBit j) := by rw [mb_tb]; exact mb_m2 _
  unfold wpY_has
  rw [nx_ush hw hj, e2, e3]
  generalize w.testBit j = b
  apply propext
  cases b
  · exact ⟨fun z => z.2.2 (by decide), fun z => ⟨by decide, br_f (by decide) z⟩⟩
  · exact ⟨fun z => z.2.1 (by decide), fun z => ⟨by decide, br_t (by decide) z⟩⟩
theorem mb_bit {w : Nat} (j : Nat) {x : Int32} (hx : x = nI j) (hw : w < 65536) (hj : j < 32) : (((nI w).toUInt32 >>> (x.toUInt32 &&& Int32.toUInt32 31)).toInt32 &&& 1) = mb_i (w.testBit j) := by
  subst hx
  rw [nx_ush hw hj, mb_tb]
  show nI (w >>> j) &&& nI 1 = _
  rw [nx_and, Nat.and_one_is_mod]
  exact mb_m2 _
theorem mb_bit0 (w : Nat) : (nI w &&& 1) = mb_i (w.testBit 0) := by
  rw [mb_tb]
  show nI w &&& nI 1 = _
  rw [nx_and, Nat.and_one_is_mod]
  exact mb_m2 _
theorem mb_u2 (x : Int32) : x.toInt16.toInt32 &&& 65535 = x &&& 65535 := by
  apply Int32.toBitVec_inj.mp
  rw [Int32.toBitVec_and, Int32.toBitVec_and, Int16.toBitVec_toInt32, Int32.toBitVec_toInt16]
  apply BitVec.eq_of_getLsbD_eq
  intro i hi
  rw [BitVec.getLsbD_and, BitVec.getLsbD_and]
  have hm : ∀ i < 32, 16 ≤ i → (65535 : Int32).toBitVec.getLsbD i = false := by decide
  rcases Nat.lt_or_ge i 16 with z | z
  · rw [BitVec.getLsbD_signExtend, BitVec.getLsbD_signExtend, if_pos z, if_pos hi]
    simp only [z, hi, decide_true, Bool.true_and]
  · rw [hm i hi z]; simp
theorem mb_w16 {w : Nat} (hw : w < 65536) : nI w &&& 65535 = nI w := by rw [nx_mod, Nat.mod_eq_of_lt hw]
/-! masks -/
theorem mb_ba (w i : Nat) : (w &&& 2 ^ i = 0) ↔ w.testBit i = false := by
  constructor
  · intro h
    have e : (w &&& 2 ^ i).testBit i = false := by rw [h]; exact Nat.zero_testBit i
    rw [Nat.testBit_and, Nat.testBit_two_pow_self, Bool.and_true] at e
    exact e
  · intro h
    apply Nat.eq_of_testBit_eq
    intro k
    rw [Nat.testBit_and, Nat.testBit_two_pow, Nat.zero_testBit]
    by_cases z : i = k
    · rw [← z, h]; rfl
    · rw [decide_eq_false z, Bool.and_false]
theorem mb_zs (w i M : Nat) : (w &&& (2 ^ i ||| M) = 0) ↔ (w.testBit i = false ∧ w &&& M = 0) := by
  rw [Nat.and_or_distrib_left, Nat.or_eq_zero_iff, mb_ba]
theorem mb_fl (w M : Nat) : (w &&& M = M) ↔ ∀ k, M.testBit k = true → w.testBit k = true := by
  constructor
  · intro h k hk
    have e : (w &&& M).testBit k = M.testBit k := by rw [h]
    rw [Nat.testBit_and, hk] at e
    simpa using e
  · intro h
    apply Nat.eq_of_testBit_eq
    intro k
    rw [Nat.testBit_and]
    cases e : M.testBit k
    · simp
    · rw [h k e]; rfl
theorem mb_fs (w i M : Nat) : (w &&& (2 ^ i ||| M) = (2 ^ i ||| M)) ↔ (w.testBit i = true ∧ w &&& M = M) := by
  rw [mb_fl, mb_fl]
  constructor
  · intro h
    refine ⟨h i ?_, fun k hk => h k ?_⟩
    · rw [Nat.testBit_or, Nat.testBit_two_pow_self]; rfl
    · rw [Nat.testBit_or, hk, Bool.or_true]
  · intro h k hk
    rw [Nat.testBit_or, Nat.testBit_two_pow] at hk
    by_cases z : i = k
    · rw [← z]; exact h.1
    · rw [decide_eq_false z, Bool.false_or] at hk
      exact h.2 k hk
theorem mb_z {w : Nat} (hw : w < 65536) (M : Nat) : (nI w &&& nI M = 0) ↔ (w &&& M = 0) := by
  have h : w &&& M ≤ w := Nat.and_le_left
  rw [nx_and, ← nI_0, nI_eq (by omega) (by omega)]
theorem mb_f {w : Nat} (hw : w < 65536) (M : Nat) (hM : M < 65536) : (nI w &&& nI M = nI M) ↔ (w &&& M = M) := by
  have h : w &&& M ≤ w := Nat.and_le_left
  rw [nx_and, nI_eq (by omega) (by omega)]
theorem mb_z512 {w : Nat} (hw : w < 65536) : ((nI w &&& 512) = 0) = ((w.testBit 9) = false) := by
  have e : (nI w &&& 512 = 0) ↔ (w &&& (2 ^ 9 ||| 0) = 0) := mb_z hw 512
  rw [e, mb_zs, Nat.and_zero]
  generalize w.testBit 9 = b9
  apply propext
  cases b9 <;> decide
theorem mb_z8192 {w : Nat} (hw : w < 65536) : ((nI w &&& 8192) = 0) = ((w.testBit 13) = false) := by
  have e : (nI w &&& 8192 = 0) ↔ (w &&& (2 ^ 13 ||| 0) = 0) := mb_z hw 8192
  rw [e, mb_zs, Nat.and_zero]
  generalize w.testBit 13 = b13
  apply propext
  cases b13 <;> decide
theorem mb_z16432 {w : Nat} (hw : w < 65536) : ((nI w &&& 16432) = 0) = ((w.testBit 4 || w.testBit 5 || w.testBit 14) = false) := by
  have e : (nI w &&& 16432 = 0) ↔ (w &&& (2 ^ 4 ||| (2 ^ 5 ||| (2 ^ 14 ||| 0))) = 0) := mb_z hw 16432
  rw [e, mb_zs, mb_zs, mb_zs, Nat.and_zero]
  generalize w.testBit 4 = b4
  generalize w.testBit 5 = b5
  generalize w.testBit 14 = b14
  apply propext
  cases b4 <;> cases b5 <;> cases b14 <;> decide
theorem mb_z1024 {w : Nat} (hw : w < 65536) : ((nI w &&& 1024) = 0) = ((w.testBit 10) = false) := by
  have e : (nI w &&& 1024 = 0) ↔ (w &&& (2 ^ 10 ||| 0) = 0) := mb_z hw 1024
  rw [e, mb_zs, Nat.and_zero]
  generalize w.testBit 10 = b10
  apply propext
  cases b10 <;> decide
theorem mb_z2362 {w : Nat} (hw : w < 65536) : ((nI w &&& 2362) = 0) = ((w.testBit 1 || w.testBit 3 || w.testBit 4 || w.testBit 5 || w.testBit 8 || w.testBit 11) = false) := by
  have e : (nI w &&& 2362 = 0) ↔ (w &&& (2 ^ 1 ||| (2 ^ 3 ||| (2 ^ 4 ||| (2 ^ 5 ||| (2 ^ 8 ||| (2 ^ 11 ||| 0)))))) = 0) := mb_z hw 2362
  rw [e, mb_zs, mb_zs, mb_zs, mb_zs, mb_zs, mb_zs, Nat.and_zero]
  generalize w.testBit 1 = b1
  generalize w.testBit 3 = b3
  generalize w.testBit 4 = b4
  generalize w.testBit 5 = b5
  generalize w.testBit 8 = b8
  generalize w.testBit 11 = b11
  apply propext
  cases b1 <;> cases b3 <;> cases b4 <;> cases b5 <;> cases b8 <;> cases b11 <;> decide
theorem mb_z16582 {w : Nat} (hw : w < 65536) : ((nI w &&& 16582) = 0) = ((w.testBit 1 || w.testBit 2 || w.testBit 6 || w.testBit 7 || w.testBit 14) = false) := by
  have e : (nI w &&& 16582 = 0) ↔ (w &&& (2 ^ 1 ||| (2 ^ 2 ||| (2 ^ 6 ||| (2 ^ 7 ||| (2 ^ 14 ||| 0))))) = 0) := mb_z hw 16582
  rw [e, mb_zs, mb_zs, mb_zs, mb_zs, mb_zs, Nat.and_zero]
  generalize w.testBit 1 = b1
  generalize w.testBit 2 = b2
  generalize w.testBit 6 = b6
  generalize w.testBit 7 = b7
  generalize w.testBit 14 = b14
  apply propext
  cases b1 <;> cases b2 <;> cases b6 <;> cases b7 <;> cases b14 <;> decide
theorem mb_z308 {w : Nat} (hw : w < 65536) : ((nI w &&& 308) = 0) = ((w.testBit 2 || w.testBit 4 || w.testBit 5 || w.testBit 8) = false) := by
  have e : (nI w &&& 308 = 0) ↔ (w &&& (2 ^ 2 ||| (2 ^ 4 ||| (2 ^ 5 ||| (2 ^ 8 ||| 0)))) = 0) := mb_z hw 308
  rw [e, mb_zs, mb_zs, mb_zs, mb_zs, Nat.and_zero]
  generalize w.testBit 2 = b2
  generalize w.testBit 4 = b4
  generalize w.testBit 5 = b5
  generalize w.testBit 8 = b8
  apply propext
  cases b2 <;> cases b4 <;> cases b5 <;> cases b8 <;> decide
theorem mb_z32768 {w : Nat} (hw : w < 65536) : ((nI w &&& 32768) = 0) = ((w.testBit 15) = false) := by
  have e : (nI w &&& 32768 = 0) ↔ (w &&& (2 ^ 15 ||| 0) = 0) := mb_z hw 32768
  rw [e, mb_zs, Nat.and_zero]
  generalize w.testBit 15 = b15
  apply propext
  cases b15 <;> decide
theorem mb_f1040 {w : Nat} (hw : w < 65536) : ((nI w &&& 1040) = 1040) = ((w.testBit 4 && w.testBit 10) = true) := by
  have e : (nI w &&& 1040 = 1040) ↔ (w &&& (2 ^ 4 ||| (2 ^ 10 ||| 0)) = (2 ^ 4 ||| (2 ^ 10 ||| 0))) := mb_f hw 1040 (by decide)
  rw [e, mb_fs, mb_fs, Nat.and_zero]
  generalize w.testBit 4 = b4
  generalize w.testBit 10 = b10
  apply propext
  cases b4 <;> cases b10 <;> decide
theorem mb_f80 {w : Nat} (hw : w < 65536) : ((nI w &&& 80) = 80) = ((w.testBit 4 && w.testBit 6) = true) := by
  have e : (nI w &&& 80 = 80) ↔ (w &&& (2 ^ 4 ||| (2 ^ 6 ||| 0)) = (2 ^ 4 ||| (2 ^ 6 ||| 0))) := mb_f hw 80 (by decide)
  rw [e, mb_fs, mb_fs, Nat.and_zero]
  generalize w.testBit 4 = b4
  generalize w.testBit 6 = b6
  apply propext
  cases b4 <;> cases b6 <;> decide
theorem mb_f25 {w : Nat} (hw : w < 65536) : ((nI w &&& 25) = 25) = ((w.testBit 0 && w.testBit 3 && w.testBit 4) = true) := by
  have e : (nI w &&& 25 = 25) ↔ (w &&& (2 ^ 0 ||| (2 ^ 3 ||| (2 ^ 4 ||| 0))) = (2 ^ 0 ||| (2 ^ 3 ||| (2 ^ 4 ||| 0)))) := mb_f hw 25 (by decide)
  rw [e, mb_fs, mb_fs, mb_fs, Nat.and_zero]
  generalize w.testBit 0 = b0
  generalize w.testBit 3 = b3
  generalize w.testBit 4 = b4
  apply propext
  cases b0 <;> cases b3 <;> cases b4 <;> decide
theorem mb_f1025 {w : Nat} (hw : w < 65536) : ((nI w &&& 1025) = 1025) = ((w.testBit 0 && w.testBit 10) = true) := by
  have e : (nI w &&& 1025 = 1025) ↔ (w &&& (2 ^ 0 ||| (2 ^ 10 ||| 0)) = (2 ^ 0 ||| (2 ^ 10 ||| 0))) := mb_f hw 1025 (by decide)
  rw [e, mb_fs, mb_fs, Nat.and_zero]
  generalize w.testBit 0 = b0
  generalize w.testBit 10 = b10
  apply propext
  cases b0 <;> cases b10 <;> decide
/-! sums of bits -/
def mb_sum (c : Nat → Bool) : Nat → Nat
  | 0 => 0
  | b + 1 => mb_sum c b + (if c b = true then 2 ^ b else 0)
theorem mb_sum_lt (c : Nat → Bool) : ∀ n, mb_sum c n < 2 ^ n := by
  intro n
  induction n with
  | zero => exact Nat.zero_lt_one
  | succ n ih =>
    show mb_sum c n + (if c n = true then 2 ^ n else 0) < 2 ^ (n + 1)
    rw [Nat.pow_succ]
    split <;> omega
theorem mb_sum_bit (c : Nat → Bool) : ∀ n i, (mb_sum c n).testBit i = (decide (i < n) && c i) := by
  intro n
  induction n with
  | zero => intro i; show (0 : Nat).testBit i = _; simp
  | succ n ih =>
    intro i
    have hl := mb_sum_lt c n
    rcases Nat.lt_trichotomy i n with h | h | h
    · show (mb_sum c n + (if c n = true then 2 ^ n else 0)).testBit i = _
      have e : (mb_sum c n + (if c n = true then 2 ^ n else 0)).testBit i = (mb_sum c n).testBit i := by
        split
        · rw [Nat.add_comm, Nat.testBit_two_pow_add_gt h]
        · rw [Nat.add_zero]
      rw [e, ih, decide_eq_true h, decide_eq_true (show i < n + 1 by omega)]
    · subst h
      show (mb_sum c i + (if c i = true then 2 ^ i else 0)).testBit i = _
      rw [decide_eq_true (show i < i + 1 by omega), Bool.true_and]
      by_cases z : c i = true
      · rw [if_pos z, Nat.add_comm, Nat.testBit_two_pow_add_eq, Nat.testBit_lt_two_pow hl, z]; rfl
      · rw [if_neg z, Nat.add_zero, Nat.testBit_lt_two_pow hl]
        cases e : c i
        · rfl
        · exact absurd e z
    · have h2 := mb_sum_lt c (n + 1)
      rw [Nat.testBit_lt_two_pow (Nat.lt_of_lt_of_le h2 (Nat.pow_le_pow_right (by decide) h)), decide_eq_false (show ¬ i < n + 1 by omega)]
      rfl
theorem mb_sum_t {c : Nat → Bool} {b : Nat} (h : c b = true) : mb_sum c (b + 1) = mb_sum c b + 2 ^ b := by
  show mb_sum c b + (if c b = true then 2 ^ b else 0) = _
  rw [if_pos h]
theorem mb_sum_f {c : Nat → Bool} {b : Nat} (h : c b = false) : mb_sum c (b + 1) = mb_sum c b := by
  show mb_sum c b + (if c b = true then 2 ^ b else 0) = _
  rw [h]; rfl
theorem mb_sum_c {c c' : Nat → Bool} : ∀ n, (∀ b, b < n → c b = c' b) → mb_sum c n = mb_sum c' n := by
  intro n
  induction n with
  | zero => intro _; rfl
  | succ n ih =>
    intro h
    show mb_sum c n + (if c n = true then 2 ^ n else 0) = mb_sum c' n + (if c' n = true then 2 ^ n else 0)
    rw [ih (fun b hb => h b (by omega)), h n (by omega)]
theorem mb_dbl (b : Nat) : nI (2 ^ b) + nI (2 ^ b) = nI (2 ^ (b + 1)) := by
  rw [nI_add]
  exact congrArg nI (by rw [Nat.pow_succ]; omega)
theorem mb_ix (p b : Nat) : nI p * 16 + nI b = nI (p * 16 + b) := by
  have e : nI p * 16 = nI (p * 16) := pk_mul p 16
  rw [e, nI_add]
end
section
/-! the tables -/
def mb_A (t : Nat → Nat) : Nat → Int32 := fun j => nI (t j)
def mb_put (t : Nat → Nat) (p m x c : Nat) : Nat → Nat := fun j => if j / 16 = p ∧ j % 16 < c ∧ m.testBit (j % 16) = true then x else t j
theorem mb_put0 (t : Nat → Nat) (p m x : Nat) : mb_put t p m x 0 = t := by
  funext j
  exact if_neg (fun h => Nat.not_lt_zero _ h.2.1)
theorem mb_put_f {t : Nat → Nat} {p m x b : Nat} (h : m.testBit b = false) : mb_put t p m x (b + 1) = mb_put t p m x b := by
  funext j
  by_cases q : j / 16 = p ∧ j % 16 < b ∧ m.testBit (j % 16) = true
  · exact (if_pos ⟨q.1, Nat.lt_succ_of_lt q.2.1, q.2.2⟩).trans (if_pos q).symm
  · have q' : ¬ (j / 16 = p ∧ j % 16 < b + 1 ∧ m.testBit (j % 16) = true) := by
      intro r
      rcases Nat.lt_or_eq_of_le (Nat.le_of_lt_succ r.2.1) with z | z
      · exact q ⟨r.1, z, r.2.2⟩
      · have r3 := r.2.2
        rw [z, h] at r3
        exact absurd r3 (by decide)
    exact (if_neg q').trans (if_neg q).symm
theorem mb_put_t {t : Nat → Nat} {p m x b : Nat} (hb : b < 16) (h : m.testBit b = true) : upd (mb_A (mb_put t p m x b)) (p * 16 + b) (nI x) = mb_A (mb_put t p m x (b + 1)) := by
  funext j
  by_cases z : j = p * 16 + b
  · rw [z, pk_us]
    have e1 : (p * 16 + b) / 16 = p := by omega
    have e2 : (p * 16 + b) % 16 = b := by omega
    have e3 : mb_put t p m x (b + 1) (p * 16 + b) = x := if_pos ⟨e1, by omega, by rw [e2]; exact h⟩
    show nI x = nI (mb_put t p m x (b + 1) (p * 16 + b))
    rw [e3]
  · rw [pk_un z]
    show nI (mb_put t p m x b j) = nI (mb_put t p m x (b + 1) j)
    refine congrArg nI ?_
    by_cases q : j / 16 = p ∧ j % 16 < b ∧ m.testBit (j % 16) = true
    · exact (if_pos q).trans (if_pos ⟨q.1, Nat.lt_succ_of_lt q.2.1, q.2.2⟩).symm
    · have q' : ¬ (j / 16 = p ∧ j % 16 < b + 1 ∧ m.testBit (j % 16) = true) := by
        intro r
        have r1 := r.1
        have r2 := r.2.1
        exact q ⟨r1, by omega, r.2.2⟩
      exact (if_neg q).trans (if_neg q').symm
theorem mb_putL {post : SY → Prop} {p m x y : Nat} {f : Int64} {l : Int32} {t s : Nat → Nat} {pr : Nat → Int64} (hp : p < 5) (hm : m < 65536) (hx : vp_nar .short (nI x).toInt16.toInt32 = nI x) (hy : vp_nar .char ((nI y).toUInt32 % 65536).toInt32 = nI y) (h : post (f, l, mb_A (mb_put t p m x 16), mb_A (mb_put s p m y 16), pr)) : ∀ d b, b + d = 16 → wY_put_3 post (nI p) (nI m) (nI x) (nI y) f l (d + 1) (nI b) (mb_A (mb_put t p m x b)) (mb_A (mb_put s p m y b)) pr := by
  intro d
  induction d with
  | zero =>
    intro b hb
    have e : b = 16 := by omega
    subst e
    exact br_t (nI_le (a := 16) (b := 16) (by omega) (by decide)) h
  | succ d ih =>
    intro b hb
    have hb16 : b < 16 := by omega
    have h16 : ¬ (16 : Int32) ≤ nI b := nI_ge (b := 16) hb16 (by decide)
    have hi : vp_in (nI p * 16 + nI b) 80 := by rw [mb_ix]; exact vp_in_nI (by omega) (by decide)
    have hc : (nI p * 16 + nI b).toNatClampNeg = p * 16 + b := by rw [mb_ix]; exact nI_clamp (by omega)
    have r := ih (b + 1) (by omega)
    refine br_f h16 ?_
    rw [mb_has (j := b) _ rfl hm (by omega)]
    cases e : m.testBit b
    · rw [mb_put_f e, mb_put_f e] at r
      exact br_t (by decide) (nm_r (nI_1 b) r)
    · rw [← mb_put_t hb16 e, ← mb_put_t hb16 e] at r
      exact br_f (by decide) ⟨hi, nm_r (e' := upd (mb_A (mb_put t p m x b)) (p * 16 + b) (nI x)) (by rw [hc, hx]) ⟨hi, nm_r (e' := upd (mb_A (mb_put s p m y b)) (p * 16 + b) (nI y)) (by rw [hc, hy]) (nm_r (nI_1 b) r)⟩⟩
theorem mb_putW {post : SY → Prop} {P M X Y : Int32} {f : Int64} {l : Int32} {t s : Nat → Nat} {pr : Nat → Int64} (p m x y : Nat) (hP : P = nI p) (hM : M = nI m) (hX : X = nI x) (hY : Y = nI y) (hp : p < 5) (hm : m < 65536) (hx : (nI x).toInt16.toInt32.toInt16.toInt32 = nI x) (hy : ((nI y).toUInt32 % 65536).toInt32.toUInt32.toUInt16.toUInt32.toInt32 = nI y) (h : post (f, l, mb_A (mb_put t p m x 16), mb_A (mb_put s p m y 16), pr)) : wpY_put post (f, l, mb_A t, mb_A s, pr) P M X Y := by
  subst hP hM hX hY
  have r := mb_putL hp hm (by rw [vp_nar_short]; exact hx) (by rw [vp_nar_char]; exact hy) h 16 0 rfl
  rw [mb_put0, mb_put0] at r
  exact ⟨17, r⟩
def mb_S : Nat → Nat := (mb_put (mb_put (mb_put (mb_put (mb_put (mb_put (mb_put (mb_put (mb_put (mb_put (mb_put (fun _ => 0) 0 1585 45 16) 0 28672 49 16) 0 32768 53 16) 1 1567 45 16) 1 28672 49 16) 2 223 45 16) 2 20480 49 16) 3 1343 45 16) 3 2048 46 16) 3 4288 49 16) 4 36880 52 16)
def mb_U : Nat → Nat := (mb_put (mb_put (mb_put (mb_put (mb_put (mb_put (mb_put (mb_put (mb_put (mb_put (mb_put (fun _ => 0) 0 1585 65535 16) 0 28672 65535 16) 0 32768 65535 16) 1 1567 65535 16) 1 28672 65535 16) 2 223 65535 16) 2 20480 65535 16) 3 1343 65535 16) 3 2048 60 16) 3 4288 65535 16) 4 36880 65535 16)
/-! the prints at first -/
def mb_pr : Nat → Nat → Int64
  | 0 => fun _ => 0
  | b + 1 => vp_updL (mb_pr b) b (-3750763034362895579)
theorem mb_xi {post : SX → Prop} {f : Int64} {l : Int32} (h : post (0, 0, mb_pr 5)) : ∀ d b, b + d = 5 → wX_init_13 post f l (d + 1) (nI b) (mb_pr b) := by
  intro d
  induction d with
  | zero =>
    intro b hb
    have e : b = 5 := by omega
    subst e
    exact br_t (nI_le (a := 5) (b := 5) (by omega) (by decide)) h
  | succ d ih =>
    intro b hb
    have h5 : ¬ (5 : Int32) ≤ nI b := nI_ge (b := 5) (by omega) (by decide)
    exact br_f h5 ⟨vp_in_nI (by omega) (by decide), nm_r (e' := mb_pr (b + 1)) (by rw [nI_clamp (by omega)]; rfl) (nm_r (nI_1 b) (ih (b + 1) (by omega)))⟩
theorem mb_yi {post : SY → Prop} {f : Int64} {l : Int32} {s u : Nat → Int32} (h : post (f, l, s, u, mb_pr 5)) : ∀ d b, b + d = 5 → wY_init_159 post f l (d + 1) (nI b) s u (mb_pr b) := by
  intro d
  induction d with
  | zero =>
    intro b hb
    have e : b = 5 := by omega
    subst e
    exact br_t (nI_le (a := 5) (b := 5) (by omega) (by decide)) h
  | succ d ih =>
    intro b hb
    have h5 : ¬ (5 : Int32) ≤ nI b := nI_ge (b := 5) (by omega) (by decide)
    exact br_f h5 ⟨vp_in_nI (by omega) (by decide), nm_r (e' := mb_pr (b + 1)) (by rw [nI_clamp (by omega)]; rfl) (nm_r (nI_1 b) (ih (b + 1) (by omega)))⟩
theorem mb_init {post : SY → Prop} (h : post (0, 0, mb_A mb_S, mb_A mb_U, mb_pr 5)) : wpY_init post := by
  unfold wpY_init
  refine mb_putW (t := fun _ => 0) (s := fun _ => 0) 0 1585 45 65535 rfl rfl rfl rfl (by decide) (by decide) (by decide) (by decide) ?_
  dsimp only
  refine mb_putW 0 28672 49 65535 rfl rfl rfl rfl (by decide) (by decide) (by decide) (by decide) ?_
  dsimp only
  refine mb_putW 0 32768 53 65535 rfl rfl rfl rfl (by decide) (by decide) (by decide) (by decide) ?_
  dsimp only
  refine mb_putW 1 1567 45 65535 rfl rfl rfl rfl (by decide) (by decide) (by decide) (by decide) ?_
  dsimp only
  refine mb_putW 1 28672 49 65535 rfl rfl rfl rfl (by decide) (by decide) (by decide) (by decide) ?_
  dsimp only
  refine mb_putW 2 223 45 65535 rfl rfl rfl rfl (by decide) (by decide) (by decide) (by decide) ?_
  dsimp only
  refine mb_putW 2 20480 49 65535 rfl rfl rfl rfl (by decide) (by decide) (by decide) (by decide) ?_
  dsimp only
  refine mb_putW 3 1343 45 65535 rfl rfl rfl rfl (by decide) (by decide) (by decide) (by decide) ?_
  dsimp only
  refine mb_putW 3 2048 46 60 rfl rfl rfl rfl (by decide) (by decide) (by decide) (by decide) ?_
  dsimp only
  refine mb_putW 3 4288 49 65535 rfl rfl rfl rfl (by decide) (by decide) (by decide) (by decide) ?_
  dsimp only
  refine mb_putW 4 36880 52 65535 rfl rfl rfl rfl (by decide) (by decide) (by decide) (by decide) ?_
  dsimp only
  exact ⟨6, mb_yi h 5 0 rfl⟩
end
section
/-! knownBits: both sides answer nI (mb_K p v) -/
def mb_c (v j : Nat) : Bool := decide (mb_S j ≠ 0) && (decide (mb_S j ≤ v) && decide (v ≤ mb_U j))
theorem mb_SU : ∀ j, j < 80 → (mb_S j < 65536 ∧ mb_U j < 65536) ∧ (mb_S j = 0 ∨ (mb_S j ≤ 53 ∧ (mb_U j = 60 ∨ mb_U j = 65535))) := by decide +kernel
def mb_K (p v : Nat) : Nat :=
  if v < 45 then 0
  else if p = 0 then (if v < 49 then 1585 else if v < 53 then 30257 else 63025)
  else if p = 1 then (if v < 49 then 1567 else 30239)
  else if p = 2 then (if v < 49 then 223 else 20703)
  else if p = 3 then (if v < 46 then 1343 else if v < 49 then 3391 else if v ≤ 60 then 7679 else 5631)
  else (if v < 52 then 0 else 36880)
theorem mb_K_lt (p v : Nat) : mb_K p v < 65536 := by
  unfold mb_K
  (repeat' split) <;> omega
theorem mb_K61 {p v : Nat} (h : 61 ≤ v) : mb_K p v = mb_K p 61 := by
  unfold mb_K
  (repeat' split) <;> omega
theorem mb_c61 {v j : Nat} (h : 61 ≤ v) (hv : v < 65536) (hj : j < 80) : mb_c v j = mb_c 61 j := by
  unfold mb_c
  rcases (mb_SU j hj).2 with z | ⟨z1, z2⟩
  · rw [z]; rfl
  · rw [decide_eq_true (show mb_S j ≤ v by omega), decide_eq_true (show mb_S j ≤ 61 by omega)]
    rcases z2 with z | z
    · rw [decide_eq_false (show ¬ v ≤ mb_U j by omega), decide_eq_false (show ¬ 61 ≤ mb_U j by omega)]
    · rw [decide_eq_true (show v ≤ mb_U j by omega), decide_eq_true (show 61 ≤ mb_U j by omega)]
theorem mb_KS : ∀ p, p < 5 → ∀ v, v < 62 → mb_sum (fun b => mb_c v (p * 16 + b)) 16 = mb_K p v := by decide +kernel
theorem mb_KY {p v : Nat} (hp : p < 5) (hv : v < 65536) : mb_sum (fun b => mb_c v (p * 16 + b)) 16 = mb_K p v := by
  by_cases z : v < 62
  · exact mb_KS p hp v z
  · rw [mb_K61 (show 61 ≤ v by omega), ← mb_KS p hp 61 (by decide)]
    exact mb_sum_c 16 (fun b hb => mb_c61 (by omega) hv (by omega))
theorem mb_kL {post : Int32 → Prop} {p v : Nat} {f : Int64} {l : Int32} {pr : Nat → Int64} (hp : p < 5) (hv : v < 65536) (h : post (nI (mb_sum (fun b => mb_c v (p * 16 + b)) 16))) : ∀ d b, b + d = 16 → wY_knownBits_31 post (nI p) (nI v) f l (mb_A mb_S) (mb_A mb_U) pr (d + 1) (nI (mb_sum (fun b => mb_c v (p * 16 + b)) b)) (nI (2 ^ b)) (nI b) := by
  intro d
  induction d with
  | zero =>
    intro b hb
    have e : b = 16 := by omega
    subst e
    exact br_t (nI_le (a := 16) (b := 16) (by omega) (by decide)) h
  | succ d ih =>
    intro b hb
    have h16 : ¬ (16 : Int32) ≤ nI b := nI_ge (b := 16) (by omega) (by decide)
    have hi : vp_in (nI p * 16 + nI b) 80 := by rw [mb_ix]; exact vp_in_nI (by omega) (by decide)
    have hc : (nI p * 16 + nI b).toNatClampNeg = p * 16 + b := by rw [mb_ix]; exact nI_clamp (by omega)
    have eS : mb_A mb_S (nI p * 16 + nI b).toNatClampNeg = nI (mb_S (p * 16 + b)) := by rw [hc]; rfl
    have eU : mb_A mb_U (nI p * 16 + nI b).toNatClampNeg = nI (mb_U (p * 16 + b)) := by rw [hc]; rfl
    have hq := (mb_SU (p * 16 + b) (by omega)).1
    have r := ih (b + 1) (by omega)
    have kf : mb_c v (p * 16 + b) = false → wY_knownBits_31 post (nI p) (nI v) f l (mb_A mb_S) (mb_A mb_U) pr (d + 1) (nI (mb_sum (fun b => mb_c v (p * 16 + b)) b)) (nI (2 ^ (b + 1))) (nI (b + 1)) := by
      intro z
      rw [mb_sum_f (c := fun b => mb_c v (p * 16 + b)) z] at r
      exact r
    have kt : mb_c v (p * 16 + b) = true → nI (mb_sum (fun b => mb_c v (p * 16 + b)) b) + nI (2 ^ b) = nI (mb_sum (fun b => mb_c v (p * 16 + b)) (b + 1)) := by
      intro z
      rw [mb_sum_t (c := fun b => mb_c v (p * 16 + b)) z, nI_add]
    have hq1 := hq.1
    have hq2 := hq.2
    clear ih hq
    have hcd : mb_c v (p * 16 + b) = (decide (mb_S (p * 16 + b) ≠ 0) && (decide (mb_S (p * 16 + b) ≤ v) && decide (v ≤ mb_U (p * 16 + b)))) := rfl
    refine br_f h16 ⟨hi, nm_r eS (pk_eq (mb_S (p * 16 + b)) 0 (fun z => ?_) (fun z => pk_lt v (mb_S (p * 16 + b)) (fun z2 => ?_) (fun z2 => ⟨hi, pk_lt (mb_U (p * 16 + b)) v (fun z3 => ?_) (fun z3 => ?_) eU⟩)))⟩
    · exact nm_r (mb_dbl b) (nm_r (nI_1 b) (kf (by rw [hcd, z]; rfl)))
    · exact nm_r (mb_dbl b) (nm_r (nI_1 b) (kf (by rw [hcd, decide_eq_false (show ¬ (mb_S (p * 16 + b)) ≤ v by omega), Bool.false_and, Bool.and_false])))
    · exact nm_r (mb_dbl b) (nm_r (nI_1 b) (kf (by rw [hcd, decide_eq_false (show ¬ v ≤ (mb_U (p * 16 + b)) by omega), Bool.and_false, Bool.and_false])))
    · exact nm_r (kt (by rw [hcd, decide_eq_true (show v ≤ (mb_U (p * 16 + b)) by omega), decide_eq_true (show (mb_S (p * 16 + b)) ≤ v by omega), decide_eq_true z]; rfl)) (nm_r (mb_dbl b) (nm_r (nI_1 b) r))
theorem mb_kY {post : Int32 → Prop} {p v : Nat} {x : Int32} {f : Int64} {l : Int32} {pr : Nat → Int64} (hp : p < 5) (hv : v < 65536) (hx : x &&& 65535 = nI v) (h : post (nI (mb_K p v))) : wpY_knownBits post (f, l, mb_A mb_S, mb_A mb_U, pr) (nI p) x := by
  refine br_f (nI_pos (by omega)) (br_t (nI_le (a := p) (b := 4) (by omega) (by decide)) ?_)
  show ∃ n31 : Nat, wY_knownBits_31 post (nI p) (x.toInt16.toInt32 &&& 65535) f l (mb_A mb_S) (mb_A mb_U) pr n31 0 1 0
  rw [mb_u2, hx]
  rw [← mb_KY hp hv] at h
  exact ⟨17, mb_kL hp hv h 16 0 rfl⟩
theorem mb_lf {post : Int32 → Prop} {k : Nat} {x : Int32} (h : post (nI k)) (m : Nat) (e : k = m) (hx : x = nI m) : post x := by
  subst e hx
  exact h
theorem mb_kX {post : Int32 → Prop} {p v : Nat} {x : Int32} {f : Int64} {l : Int32} {pr : Nat → Int64} (hp : p < 5) (hv : v < 65536) (hx : x &&& 65535 = nI v) (h : post (nI (mb_K p v))) : wpX_knownBits post (f, l, pr) (nI p) x := by
  unfold wpX_knownBits
  dsimp only
  refine nm_r hx (br_f (nI_pos (by omega)) (br_t (nI_le (a := p) (b := 4) (by omega) (by decide)) (pk_le 45 v (fun h45 => ?_) (fun h45 => mb_lf h 0 (if_pos h45) rfl))))
  refine pk_eq p 0 (fun e0 => ?_) (fun e0 => pk_eq p 1 (fun e1 => ?_) (fun e1 => pk_eq p 2 (fun e2 => ?_) (fun e2 => pk_eq p 3 (fun e3 => ?_) (fun e3 => ?_))))
  · unfold wX_knownBits_50
    refine pk_lt v 49 (fun z => pk_lt v 53 (fun y => mb_lf h 1585 ?_ rfl) (fun y => absurd z (by omega))) (fun z => nm_e (pk_lt v 53 (fun y => mb_lf h 30257 ?_ rfl) (fun y => nm_e (mb_lf h 63025 ?_ rfl))))
    all_goals (unfold mb_K; (repeat' split) <;> omega)
  · refine pk_lt v 49 (fun z => mb_lf h 1567 ?_ rfl) (fun z => nm_e (mb_lf h 30239 ?_ rfl))
    all_goals (unfold mb_K; (repeat' split) <;> omega)
  · refine pk_lt v 49 (fun z => mb_lf h 223 ?_ rfl) (fun z => nm_e (mb_lf h 20703 ?_ rfl))
    all_goals (unfold mb_K; (repeat' split) <;> omega)
  · unfold wX_knownBits_150
    refine pk_lt v 46 (fun z => pk_lt v 49 (fun y => mb_lf h 1343 ?_ rfl) (fun y => absurd z (by omega))) (fun z => pk_lt 60 v (fun y => pk_lt v 49 (fun q => absurd q (by omega)) (fun q => nm_e (mb_lf h 5631 ?_ rfl))) (fun y => nm_e (pk_lt v 49 (fun q => mb_lf h 3391 ?_ rfl) (fun q => nm_e (mb_lf h 7679 ?_ rfl)))))
    all_goals (unfold mb_K; (repeat' split) <;> omega)
  · refine pk_lt v 52 (fun z => mb_lf h 0 ?_ rfl) (fun z => mb_lf h 36880 ?_ rfl)
    all_goals (unfold mb_K; (repeat' split) <;> omega)
end
section
/-! mirror: the reference answers nI (w &&& mb_M p) -/
def mb_M (p : Nat) : Nat := if p = 0 then 30225 else if p = 1 then 30239 else if p = 2 then 20703 else 7679
def mb_mt (p b : Nat) : Bool := decide (mb_S (p * 16 + b) ≠ 0) && !(decide (p = 0) && decide (b = 5))
def mb_mc (w p b : Nat) : Bool := w.testBit b && mb_mt p b
theorem mb_mtM : ∀ p, p < 4 → ∀ b, b < 15 → mb_mt p b = (mb_M p).testBit b := by decide +kernel
theorem mb_M_lt : ∀ p, p < 4 → mb_M p < 2 ^ 15 := by decide +kernel
theorem mb_mir {w p : Nat} (hp : p < 4) : mb_sum (mb_mc w p) 15 = w &&& mb_M p := by
  apply Nat.eq_of_testBit_eq
  intro i
  rw [mb_sum_bit, Nat.testBit_and]
  by_cases z : i < 15
  · rw [decide_eq_true z, Bool.true_and, ← mb_mtM p hp i z]
    rfl
  · rw [decide_eq_false z, Bool.false_and, Nat.testBit_lt_two_pow (Nat.lt_of_lt_of_le (mb_M_lt p hp) (Nat.pow_le_pow_right (by decide) (by omega))), Bool.and_false]
theorem mb_1sh : ∀ b, b < 16 → (1 : Int32) <<< (nI b &&& 31) = nI (2 ^ b) := by decide +kernel
theorem mb_mL {post : Int32 → Prop} {w p : Nat} {f : Int64} {l : Int32} {u : Nat → Int32} {pr : Nat → Int64} (hp : p < 5) (hw : w < 65536) (h : post (nI (mb_sum (mb_mc w p) 15))) : ∀ d b, b + d = 15 → wY_mirror_5 post (nI w) (nI p) f l (mb_A mb_S) u pr (d + 1) (nI (mb_sum (mb_mc w p) b)) (nI b) := by
  intro d
  induction d with
  | zero =>
    intro b hb
    have e : b = 15 := by omega
    subst e
    exact br_t (nI_le (a := 15) (b := 15) (by omega) (by decide)) h
  | succ d ih =>
    intro b hb
    have h15 : ¬ (15 : Int32) ≤ nI b := nI_ge (b := 15) (by omega) (by decide)
    have hi : vp_in (nI p * 16 + nI b) 80 := by rw [mb_ix]; exact vp_in_nI (by omega) (by decide)
    have hc : (nI p * 16 + nI b).toNatClampNeg = p * 16 + b := by rw [mb_ix]; exact nI_clamp (by omega)
    have eS : mb_A mb_S (nI p * 16 + nI b).toNatClampNeg = nI (mb_S (p * 16 + b)) := by rw [hc]; rfl
    have hq := (mb_SU (p * 16 + b) (by omega)).1.1
    have r := ih (b + 1) (by omega)
    clear ih
    have kf : mb_mc w p b = false → wY_mirror_5 post (nI w) (nI p) f l (mb_A mb_S) u pr (d + 1) (nI (mb_sum (mb_mc w p) b)) (nI (b + 1)) := by
      intro z
      rw [mb_sum_f z] at r
      exact r
    have kt : mb_mc w p b = true → wY_mirror_46 post (wY_mirror_5 post (nI w) (nI p) f l (mb_A mb_S) u pr (d + 1)) (nI w) (nI p) (nI (mb_sum (mb_mc w p) b)) (nI b) f l (mb_A mb_S) u pr := by
      intro z
      unfold wY_mirror_46
      exact nm_r (e' := nI (mb_sum (mb_mc w p) (b + 1))) (by rw [mb_sum_t z, mb_1sh b (by omega), nI_add]) (nm_r (nI_1 b) r)
    refine br_f h15 ?_
    rw [mb_has (j := b) _ rfl hw (by omega)]
    have ec : mb_mc w p b = (w.testBit b && (decide (mb_S (p * 16 + b) ≠ 0) && !(decide (p = 0) && decide (b = 5)))) := rfl
    cases e : w.testBit b
    · exact br_t (by decide) (nm_r (nI_1 b) (kf (by rw [ec, e]; rfl)))
    · refine br_f (by decide) ⟨hi, ?_⟩
      refine pk_eq (mb_S (p * 16 + b)) 0 (fun z => nm_r (nI_1 b) (kf (by rw [ec, decide_eq_false (show ¬ (mb_S (p * 16 + b) ≠ 0) by omega), Bool.false_and, Bool.and_false]))) (fun z => ?_) eS
      refine pk_eq p 0 (fun y => ?_) (fun y => kt (by rw [ec, e, decide_eq_true z, decide_eq_false y]; rfl))
      refine pk_eq b 5 (fun q => nm_r (nI_1 b) (kf (by rw [ec, decide_eq_true y, decide_eq_true q]; simp))) (fun q => kt (by rw [ec, e, decide_eq_true z, decide_eq_false q, Bool.and_false]; rfl))
theorem mb_mY {post : Int32 → Prop} {w p : Nat} {f : Int64} {l : Int32} {u : Nat → Int32} {pr : Nat → Int64} (hp : p < 4) (hw : w < 65536) (h : post (nI (w &&& mb_M p))) : wpY_mirror post (f, l, mb_A mb_S, u, pr) (nI w) (nI p) := by
  rw [← mb_mir hp] at h
  exact ⟨16, mb_mL (by omega) hw h 15 0 rfl⟩
end
section
/-! judge: the pure answers -/
def mb_j01 (b4 b5 b9 b10 b13 b14 v5 : Bool) : Int32 := if b9 = true then (if (v5 && !b10) = true then 4 else if (b4 || b5 || b14) = true then 5 else 0) else if b13 = true then 6 else if (b4 && b10) = true then 7 else 0
def mb_vis (b0 b1 b2 : Bool) : Bool := (b0 && b1) || (b0 && b2) || (b1 && b2)
def mb_j2 (b0 b3 b4 b6 b7 b14 t : Bool) : Int32 := if (b4 && b6) = true then 9 else if (t && (!b0 || !b3 || !b4 || b7 || b14)) = true then 10 else 0
def mb_j3 (b0 b1 b2 b3 b4 b5 b8 b10 b11 t v2 : Bool) : Int32 := if (t && (b2 || b4 || b5 || b8 || (v2 && !b0 && !b1) || (!v2 && (!b0 || !b10)))) = true then 10 else if (b10 && (b1 || b3 || b4 || b5 || b8 || b11)) = true then 11 else 0
def mb_J0 (b4 b5 b9 b10 b13 b14 b15 z v5 : Bool) : Int32 := if (b15 && !z) = true then 3 else mb_j01 b4 b5 b9 b10 b13 b14 v5
def mb_J1 (b0 b1 b2 b4 b5 b9 b10 b13 b14 v5 : Bool) : Int32 := if mb_vis b0 b1 b2 = true then 8 else mb_j01 b4 b5 b9 b10 b13 b14 v5
def mb_J2 (b0 b1 b2 b3 b4 b6 b7 b14 t : Bool) : Int32 := if mb_vis b0 b1 b2 = true then 8 else mb_j2 b0 b3 b4 b6 b7 b14 t
def mb_J3 (b0 b1 b2 b3 b4 b5 b8 b10 b11 t v2 : Bool) : Int32 := if mb_vis b0 b1 b2 = true then 8 else mb_j3 b0 b1 b2 b3 b4 b5 b8 b10 b11 t v2
def mb_J (p w v : Nat) (t : Bool) : Int32 :=
  if p = 0 then mb_J0 (w.testBit 4) (w.testBit 5) (w.testBit 9) (w.testBit 10) (w.testBit 13) (w.testBit 14) (w.testBit 15) (decide (w % 32768 = 0)) (decide (50 ≤ v))
  else if p = 1 then mb_J1 (w.testBit 0) (w.testBit 1) (w.testBit 2) (w.testBit 4) (w.testBit 5) (w.testBit 9) (w.testBit 10) (w.testBit 13) (w.testBit 14) (decide (50 ≤ v))
  else if p = 2 then mb_J2 (w.testBit 0) (w.testBit 1) (w.testBit 2) (w.testBit 3) (w.testBit 4) (w.testBit 6) (w.testBit 7) (w.testBit 14) t
  else if p = 3 then mb_J3 (w.testBit 0) (w.testBit 1) (w.testBit 2) (w.testBit 3) (w.testBit 4) (w.testBit 5) (w.testBit 8) (w.testBit 10) (w.testBit 11) t (decide (52 ≤ v))
  else 0
def mb_F (p w v : Nat) (t : Bool) : Int32 := if mb_K p v &&& w = w then mb_J p w v t else 2
theorem mb_Jr0 : ∀ b4 b5 b9 b10 b13 b14 b15 z v5 : Bool, mb_J0 b4 b5 b9 b10 b13 b14 b15 z v5 = 0 ∨ 2 ≤ mb_J0 b4 b5 b9 b10 b13 b14 b15 z v5 := by decide +kernel
theorem mb_Jr1 : ∀ b0 b1 b2 b4 b5 b9 b10 b13 b14 v5 : Bool, mb_J1 b0 b1 b2 b4 b5 b9 b10 b13 b14 v5 = 0 ∨ 2 ≤ mb_J1 b0 b1 b2 b4 b5 b9 b10 b13 b14 v5 := by decide +kernel
theorem mb_Jr2 : ∀ b0 b1 b2 b3 b4 b6 b7 b14 t : Bool, mb_J2 b0 b1 b2 b3 b4 b6 b7 b14 t = 0 ∨ 2 ≤ mb_J2 b0 b1 b2 b3 b4 b6 b7 b14 t := by decide +kernel
theorem mb_Jr3 : ∀ b0 b1 b2 b3 b4 b5 b8 b10 b11 t v2 : Bool, mb_J3 b0 b1 b2 b3 b4 b5 b8 b10 b11 t v2 = 0 ∨ 2 ≤ mb_J3 b0 b1 b2 b3 b4 b5 b8 b10 b11 t v2 := by decide +kernel
theorem mb_Fr (p w v : Nat) (t : Bool) : mb_F p w v t = 0 ∨ 2 ≤ mb_F p w v t := by
  unfold mb_F
  split
  · unfold mb_J
    split
    · exact mb_Jr0 _ _ _ _ _ _ _ _ _
    · split
      · exact mb_Jr1 _ _ _ _ _ _ _ _ _ _
      · split
        · exact mb_Jr2 _ _ _ _ _ _ _ _ _
        · split
          · exact mb_Jr3 _ _ _ _ _ _ _ _ _ _ _
          · exact Or.inl rfl
  · exact Or.inr (by decide)
/-! the conditions -/
theorem mb_c50 {v : Nat} (hv : v < 65536) : (nI v < 50) = (decide (50 ≤ v) = false) := by
  have e : nI v < 50 ↔ v < 50 := nI_ltI (b := 50) (by omega) (by decide)
  rw [e]
  exact propext ⟨fun z => decide_eq_false (by omega), fun z => by have := of_decide_eq_false z; omega⟩
theorem mb_c52 {v : Nat} (hv : v < 65536) : (52 ≤ nI v) = (decide (52 ≤ v) = true) := by
  have e : 52 ≤ nI v ↔ 52 ≤ v := nI_leI (a := 52) (by decide) (by omega)
  rw [e]
  exact propext ⟨fun z => decide_eq_true z, fun z => of_decide_eq_true z⟩
theorem mb_c15 {w : Nat} (hw : w < 65536) : (nI w &&& 32767 = 0) = (decide (w % 32768 = 0) = true) := by
  have e : nI w &&& 32767 = nI (w % 32768) := by
    show nI w &&& nI 32767 = _
    rw [nx_and, show (32767 : Nat) = 2 ^ 15 - 1 from rfl, Nat.and_two_pow_sub_one_eq_mod]
  rw [e, ← nI_0, nI_eq (by omega) (by decide)]
  exact propext ⟨fun z => decide_eq_true z, fun z => of_decide_eq_true z⟩
theorem mb_c32 {w : Nat} (hw : w < 65536) : (nI w = 32768) = ((w.testBit 15 && decide (w % 32768 = 0)) = true) := by
  have e : nI w = 32768 ↔ w = 32768 := nI_eq (b := 32768) (by omega) (by decide)
  rw [e, Nat.testBit_eq_decide_div_mod_eq]
  apply propext
  constructor
  · intro z
    rw [z]
    decide
  · intro z
    rw [Bool.and_eq_true] at z
    have z1 := of_decide_eq_true z.1
    have z2 := of_decide_eq_true z.2
    omega
theorem mb_k32 {w k : Nat} (hw : w < 65536) (hk : w.testBit k = true) : k < 16 := by
  rcases Nat.lt_or_ge k 16 with z | z
  · exact z
  · have e := Nat.testBit_lt_two_pow (Nat.lt_of_lt_of_le (show w < 2 ^ 16 from hw) (Nat.pow_le_pow_right (by decide) z))
    rw [hk] at e
    exact absurd e (by decide)
theorem mb_xU {w K : Nat} (hw : w < 65536) : (nI w &&& (nI K ^^^ (-1)) = 0) ↔ (K &&& w = w) := by
  rw [mb_fl, show (-1 : Int32) = nI (2 ^ 32 - 1) from by decide, nx_xor, mb_z hw]
  constructor
  · intro h k hk
    have e : (w &&& (K ^^^ (2 ^ 32 - 1))).testBit k = false := by rw [h]; exact Nat.zero_testBit k
    have hk2 := mb_k32 hw hk
    rw [Nat.testBit_and, Nat.testBit_xor, Nat.testBit_two_pow_sub_one, hk, Bool.true_and, decide_eq_true (show k < 32 by omega)] at e
    cases z : K.testBit k
    · rw [z] at e; exact absurd e (by decide)
    · rfl
  · intro h
    apply Nat.eq_of_testBit_eq
    intro k
    rw [Nat.testBit_and, Nat.testBit_xor, Nat.testBit_two_pow_sub_one, Nat.zero_testBit]
    cases z : w.testBit k
    · rfl
    · have hk2 := mb_k32 hw z
      rw [h k z, decide_eq_true (show k < 32 by omega)]
      rfl
/-! the component's judge -/
theorem mb_xt0 {post : Int32 → Prop} {w v : Nat} {t : Bool} {f : Int64} {l : Int32} {a : Nat → Int64} (hw : w < 65536) (hv : v < 65536) (h : post (mb_J0 (w.testBit 4) (w.testBit 5) (w.testBit 9) (w.testBit 10) (w.testBit 13) (w.testBit 14) (w.testBit 15) (decide (w % 32768 = 0)) (decide (50 ≤ v)))) : ((nI w &&& 32768) = 0 → wX_judge_80 post (nI w) (nI 0) (nI v) (mb_i t) f l a) ∧ (¬ (nI w &&& 32768) = 0 → (((nI w &&& 32767) = 0 → wX_judge_80 post (nI w) (nI 0) (nI v) (mb_i t) f l a) ∧ (¬ (nI w &&& 32767) = 0 → post 3))) := by
  have q0 : (nI 0 = 0) = True := eq_true rfl
  have q1 : (nI 0 = 1) = False := eq_false (by decide)
  have q2 : (nI 0 = 2) = False := eq_false (by decide)
  have s1 := mb_bit (w := w) 1 (x := 1) rfl hw (by decide)
  have s2 := mb_bit (w := w) 2 (x := 2) rfl hw (by decide)
  simp only [wX_judge_80, wX_judge_89, wX_judge_113, wX_judge_250, q0, q1, q2, s1, s2, mb_bit0, mb_i0, mb_z512 hw, mb_z8192 hw, mb_z16432 hw, mb_z1024 hw, mb_z2362 hw, mb_z16582 hw, mb_z308 hw, mb_z32768 hw, mb_f1040 hw, mb_f80 hw, mb_f25 hw, mb_f1025 hw, mb_c50 hv, mb_c52 hv, mb_c15 hw, false_implies, true_implies, not_false_eq_true, not_true_eq_false, true_and, and_true, forall_eq]
  simp only [mb_br post]
  refine Eq.mp (congrArg post ?_) h
  clear h
  generalize w.testBit 4 = b4
  generalize w.testBit 5 = b5
  generalize w.testBit 9 = b9
  generalize w.testBit 10 = b10
  generalize w.testBit 13 = b13
  generalize w.testBit 14 = b14
  generalize w.testBit 15 = b15
  generalize decide (w % 32768 = 0) = z
  generalize decide (50 ≤ v) = v5
  revert b4 b5 b9 b10 b13 b14 b15 z v5
  decide +kernel
theorem mb_xt1 {post : Int32 → Prop} {w v : Nat} {t : Bool} {f : Int64} {l : Int32} {a : Nat → Int64} (hw : w < 65536) (hv : v < 65536) (h : post (mb_J1 (w.testBit 0) (w.testBit 1) (w.testBit 2) (w.testBit 4) (w.testBit 5) (w.testBit 9) (w.testBit 10) (w.testBit 13) (w.testBit 14) (decide (50 ≤ v)))) : (((nI w &&& 1) + ((((nI w).toUInt32 >>> ((1 : Int32).toUInt32 &&& Int32.toUInt32 31)).toInt32) &&& 1)) + ((((nI w).toUInt32 >>> ((2 : Int32).toUInt32 &&& Int32.toUInt32 31)).toInt32) &&& 1) ≤ 1 → wX_judge_80 post (nI w) (nI 1) (nI v) (mb_i t) f l a) ∧ (¬ ((nI w &&& 1) + ((((nI w).toUInt32 >>> ((1 : Int32).toUInt32 &&& Int32.toUInt32 31)).toInt32) &&& 1)) + ((((nI w).toUInt32 >>> ((2 : Int32).toUInt32 &&& Int32.toUInt32 31)).toInt32) &&& 1) ≤ 1 → post 8) := by
  have q0 : (nI 1 = 0) = False := eq_false (by decide)
  have q1 : (nI 1 = 1) = True := eq_true rfl
  have q2 : (nI 1 = 2) = False := eq_false (by decide)
  have s1 := mb_bit (w := w) 1 (x := 1) rfl hw (by decide)
  have s2 := mb_bit (w := w) 2 (x := 2) rfl hw (by decide)
  simp only [wX_judge_80, wX_judge_89, wX_judge_113, wX_judge_250, q0, q1, q2, s1, s2, mb_bit0, mb_i0, mb_z512 hw, mb_z8192 hw, mb_z16432 hw, mb_z1024 hw, mb_z2362 hw, mb_z16582 hw, mb_z308 hw, mb_z32768 hw, mb_f1040 hw, mb_f80 hw, mb_f25 hw, mb_f1025 hw, mb_c50 hv, mb_c52 hv, mb_c15 hw, false_implies, true_implies, not_false_eq_true, not_true_eq_false, true_and, and_true, forall_eq]
  simp only [mb_br post]
  refine Eq.mp (congrArg post ?_) h
  clear h
  generalize w.testBit 0 = b0
  generalize w.testBit 1 = b1
  generalize w.testBit 2 = b2
  generalize w.testBit 4 = b4
  generalize w.testBit 5 = b5
  generalize w.testBit 9 = b9
  generalize w.testBit 10 = b10
  generalize w.testBit 13 = b13
  generalize w.testBit 14 = b14
  generalize decide (50 ≤ v) = v5
  revert b0 b1 b2 b4 b5 b9 b10 b13 b14 v5
  decide +kernel
theorem mb_xt2 {post : Int32 → Prop} {w v : Nat} {t : Bool} {f : Int64} {l : Int32} {a : Nat → Int64} (hw : w < 65536) (hv : v < 65536) (h : post (mb_J2 (w.testBit 0) (w.testBit 1) (w.testBit 2) (w.testBit 3) (w.testBit 4) (w.testBit 6) (w.testBit 7) (w.testBit 14) t)) : (((nI w &&& 1) + ((((nI w).toUInt32 >>> ((1 : Int32).toUInt32 &&& Int32.toUInt32 31)).toInt32) &&& 1)) + ((((nI w).toUInt32 >>> ((2 : Int32).toUInt32 &&& Int32.toUInt32 31)).toInt32) &&& 1) ≤ 1 → wX_judge_80 post (nI w) (nI 2) (nI v) (mb_i t) f l a) ∧ (¬ ((nI w &&& 1) + ((((nI w).toUInt32 >>> ((1 : Int32).toUInt32 &&& Int32.toUInt32 31)).toInt32) &&& 1)) + ((((nI w).toUInt32 >>> ((2 : Int32).toUInt32 &&& Int32.toUInt32 31)).toInt32) &&& 1) ≤ 1 → post 8) := by
  have q0 : (nI 2 = 0) = False := eq_false (by decide)
  have q1 : (nI 2 = 1) = False := eq_false (by decide)
  have q2 : (nI 2 = 2) = True := eq_true rfl
  have s1 := mb_bit (w := w) 1 (x := 1) rfl hw (by decide)
  have s2 := mb_bit (w := w) 2 (x := 2) rfl hw (by decide)
  simp only [wX_judge_80, wX_judge_89, wX_judge_113, wX_judge_250, q0, q1, q2, s1, s2, mb_bit0, mb_i0, mb_z512 hw, mb_z8192 hw, mb_z16432 hw, mb_z1024 hw, mb_z2362 hw, mb_z16582 hw, mb_z308 hw, mb_z32768 hw, mb_f1040 hw, mb_f80 hw, mb_f25 hw, mb_f1025 hw, mb_c50 hv, mb_c52 hv, mb_c15 hw, false_implies, true_implies, not_false_eq_true, not_true_eq_false, true_and, and_true, forall_eq]
  simp only [mb_br post]
  refine Eq.mp (congrArg post ?_) h
  clear h
  generalize w.testBit 0 = b0
  generalize w.testBit 1 = b1
  generalize w.testBit 2 = b2
  generalize w.testBit 3 = b3
  generalize w.testBit 4 = b4
  generalize w.testBit 6 = b6
  generalize w.testBit 7 = b7
  generalize w.testBit 14 = b14
  revert b0 b1 b2 b3 b4 b6 b7 b14 t
  decide +kernel
theorem mb_xt3 {post : Int32 → Prop} {w v : Nat} {t : Bool} {f : Int64} {l : Int32} {a : Nat → Int64} (hw : w < 65536) (hv : v < 65536) (h : post (mb_J3 (w.testBit 0) (w.testBit 1) (w.testBit 2) (w.testBit 3) (w.testBit 4) (w.testBit 5) (w.testBit 8) (w.testBit 10) (w.testBit 11) t (decide (52 ≤ v)))) : (((nI w &&& 1) + ((((nI w).toUInt32 >>> ((1 : Int32).toUInt32 &&& Int32.toUInt32 31)).toInt32) &&& 1)) + ((((nI w).toUInt32 >>> ((2 : Int32).toUInt32 &&& Int32.toUInt32 31)).toInt32) &&& 1) ≤ 1 → wX_judge_80 post (nI w) (nI 3) (nI v) (mb_i t) f l a) ∧ (¬ ((nI w &&& 1) + ((((nI w).toUInt32 >>> ((1 : Int32).toUInt32 &&& Int32.toUInt32 31)).toInt32) &&& 1)) + ((((nI w).toUInt32 >>> ((2 : Int32).toUInt32 &&& Int32.toUInt32 31)).toInt32) &&& 1) ≤ 1 → post 8) := by
  have q0 : (nI 3 = 0) = False := eq_false (by decide)
  have q1 : (nI 3 = 1) = False := eq_false (by decide)
  have q2 : (nI 3 = 2) = False := eq_false (by decide)
  have s1 := mb_bit (w := w) 1 (x := 1) rfl hw (by decide)
  have s2 := mb_bit (w := w) 2 (x := 2) rfl hw (by decide)
  simp only [wX_judge_80, wX_judge_89, wX_judge_113, wX_judge_250, q0, q1, q2, s1, s2, mb_bit0, mb_i0, mb_z512 hw, mb_z8192 hw, mb_z16432 hw, mb_z1024 hw, mb_z2362 hw, mb_z16582 hw, mb_z308 hw, mb_z32768 hw, mb_f1040 hw, mb_f80 hw, mb_f25 hw, mb_f1025 hw, mb_c50 hv, mb_c52 hv, mb_c15 hw, false_implies, true_implies, not_false_eq_true, not_true_eq_false, true_and, and_true, forall_eq]
  simp only [mb_br post]
  refine Eq.mp (congrArg post ?_) h
  clear h
  generalize w.testBit 0 = b0
  generalize w.testBit 1 = b1
  generalize w.testBit 2 = b2
  generalize w.testBit 3 = b3
  generalize w.testBit 4 = b4
  generalize w.testBit 5 = b5
  generalize w.testBit 8 = b8
  generalize w.testBit 10 = b10
  generalize w.testBit 11 = b11
  generalize decide (52 ≤ v) = v2
  revert b0 b1 b2 b3 b4 b5 b8 b10 b11 t v2
  decide +kernel
theorem mb_xj {post : Int32 → Prop} {p w v : Nat} {t : Bool} {f : Int64} {l : Int32} {a : Nat → Int64} (hp : p < 5) (hw : w < 65536) (hv : v < 65536) (h : post (mb_F p w v t)) : wpX_judge post (f, l, a) (nI w) (nI p) (nI v) (mb_i t) := by
  unfold wpX_judge
  dsimp only
  refine br_f (nI_pos (by omega)) (br_t (nI_le (a := p) (b := 4) (by omega) (by decide)) (mb_kX hp hv (mb_w16 hv) ?_))
  unfold mb_F at h
  by_cases U : mb_K p v &&& w = w
  · rw [if_pos U] at h
    refine br_t ((mb_xU hw).mpr U) ?_
    clear U
    have hc : p = 0 ∨ p = 1 ∨ p = 2 ∨ p = 3 ∨ p = 4 := by omega
    rcases hc with rfl | rfl | rfl | rfl | rfl
    · exact br_f (by decide) (br_t rfl (mb_xt0 hw hv h))
    · exact br_f (by decide) (br_f (by decide) (nm_e (mb_xt1 hw hv h)))
    · exact br_f (by decide) (br_f (by decide) (nm_e (mb_xt2 hw hv h)))
    · exact br_f (by decide) (br_f (by decide) (nm_e (mb_xt3 hw hv h)))
    · exact br_t rfl h
  · rw [if_neg U] at h
    exact br_f (fun z => U ((mb_xU hw).mp z)) h
/-! the reference's judge -/
theorem mb_yt0 {post : Int32 → Prop} {w v : Nat} {t : Bool} {f : Int64} {l : Int32} {s u : Nat → Int32} {a : Nat → Int64} (hw : w < 65536) (hv : v < 65536) (h : post (mb_J0 (w.testBit 4) (w.testBit 5) (w.testBit 9) (w.testBit 10) (w.testBit 13) (w.testBit 14) (w.testBit 15) (decide (w % 32768 = 0)) (decide (50 ≤ v)))) : wpY_has (fun r_73 => (((r_73 = 0 → (wY_judge_163 post (nI w) (nI 0) (nI v) (mb_i t) (mb_i (w.testBit 0)) (mb_i (w.testBit 1)) (mb_i (w.testBit 2)) (mb_i (w.testBit 3)) (mb_i (w.testBit 4)) (mb_i (w.testBit 10)) f l s u a)) ∧ (¬ r_73 = 0 → (((nI w = 32768 → (wY_judge_163 post (nI w) (nI 0) (nI v) (mb_i t) (mb_i (w.testBit 0)) (mb_i (w.testBit 1)) (mb_i (w.testBit 2)) (mb_i (w.testBit 3)) (mb_i (w.testBit 4)) (mb_i (w.testBit 10)) f l s u a)) ∧ (¬ nI w = 32768 → (post 3)))))))) (nI w) 15 := by
  have h0 : ∀ post : Int32 → Prop, wpY_has post (nI w) 0 = post (mb_i (w.testBit 0)) := fun post => mb_has post rfl hw (by decide)
  have h1 : ∀ post : Int32 → Prop, wpY_has post (nI w) 1 = post (mb_i (w.testBit 1)) := fun post => mb_has post rfl hw (by decide)
  have h2 : ∀ post : Int32 → Prop, wpY_has post (nI w) 2 = post (mb_i (w.testBit 2)) := fun post => mb_has post rfl hw (by decide)
  have h3 : ∀ post : Int32 → Prop, wpY_has post (nI w) 3 = post (mb_i (w.testBit 3)) := fun post => mb_has post rfl hw (by decide)
  have h4 : ∀ post : Int32 → Prop, wpY_has post (nI w) 4 = post (mb_i (w.testBit 4)) := fun post => mb_has post rfl hw (by decide)
  have h5 : ∀ post : Int32 → Prop, wpY_has post (nI w) 5 = post (mb_i (w.testBit 5)) := fun post => mb_has post rfl hw (by decide)
  have h6 : ∀ post : Int32 → Prop, wpY_has post (nI w) 6 = post (mb_i (w.testBit 6)) := fun post => mb_has post rfl hw (by decide)
  have h7 : ∀ post : Int32 → Prop, wpY_has post (nI w) 7 = post (mb_i (w.testBit 7)) := fun post => mb_has post rfl hw (by decide)
  have h8 : ∀ post : Int32 → Prop, wpY_has post (nI w) 8 = post (mb_i (w.testBit 8)) := fun post => mb_has post rfl hw (by decide)
  have h9 : ∀ post : Int32 → Prop, wpY_has post (nI w) 9 = post (mb_i (w.testBit 9)) := fun post => mb_has post rfl hw (by decide)
  have h10 : ∀ post : Int32 → Prop, wpY_has post (nI w) 10 = post (mb_i (w.testBit 10)) := fun post => mb_has post rfl hw (by decide)
  have h11 : ∀ post : Int32 → Prop, wpY_has post (nI w) 11 = post (mb_i (w.testBit 11)) := fun post => mb_has post rfl hw (by decide)
  have h13 : ∀ post : Int32 → Prop, wpY_has post (nI w) 13 = post (mb_i (w.testBit 13)) := fun post => mb_has post rfl hw (by decide)
  have h14 : ∀ post : Int32 → Prop, wpY_has post (nI w) 14 = post (mb_i (w.testBit 14)) := fun post => mb_has post rfl hw (by decide)
  have h15 : ∀ post : Int32 → Prop, wpY_has post (nI w) 15 = post (mb_i (w.testBit 15)) := fun post => mb_has post rfl hw (by decide)
  have q2 : (nI 0 = 2) = False := eq_false (by decide)
  have q3 : ((2 : Int32) ≤ nI 0) = False := eq_false (by decide)
  simp only [wY_judge_138, wY_judge_146, wY_judge_154, wY_judge_163, wY_judge_190, wY_judge_263, wY_judge_373, q2, q3, h0, h1, h2, h3, h4, h5, h6, h7, h8, h9, h10, h11, h13, h14, h15, mb_i0, mb_c50 hv, mb_c52 hv, mb_c32 hw, false_implies, true_implies, not_false_eq_true, not_true_eq_false, true_and, and_true, forall_eq]
  simp only [mb_br post]
  refine Eq.mp (congrArg post ?_) h
  clear h h0 h1 h2 h3 h4 h5 h6 h7 h8 h9 h10 h11 h13 h14 h15
  generalize w.testBit 4 = b4
  generalize w.testBit 5 = b5
  generalize w.testBit 9 = b9
  generalize w.testBit 10 = b10
  generalize w.testBit 13 = b13
  generalize w.testBit 14 = b14
  generalize w.testBit 15 = b15
  generalize decide (w % 32768 = 0) = z
  generalize decide (50 ≤ v) = v5
  revert b4 b5 b9 b10 b13 b14 b15 z v5
  decide +kernel
theorem mb_yt1 {post : Int32 → Prop} {w v : Nat} {t : Bool} {f : Int64} {l : Int32} {s u : Nat → Int32} {a : Nat → Int64} (hw : w < 65536) (hv : v < 65536) (h : post (mb_J1 (w.testBit 0) (w.testBit 1) (w.testBit 2) (w.testBit 4) (w.testBit 5) (w.testBit 9) (w.testBit 10) (w.testBit 13) (w.testBit 14) (decide (50 ≤ v)))) : (mb_i (w.testBit 0) = 0 → wY_judge_138 post (nI w) (nI 1) (nI v) (mb_i t) (mb_i (w.testBit 0)) (mb_i (w.testBit 1)) (mb_i (w.testBit 2)) (mb_i (w.testBit 3)) (mb_i (w.testBit 4)) (mb_i (w.testBit 10)) 0 f l s u a) ∧ (¬ mb_i (w.testBit 0) = 0 → (∀ x12_72 : Int32, x12_72 = 0 + 1 → wY_judge_138 post (nI w) (nI 1) (nI v) (mb_i t) (mb_i (w.testBit 0)) (mb_i (w.testBit 1)) (mb_i (w.testBit 2)) (mb_i (w.testBit 3)) (mb_i (w.testBit 4)) (mb_i (w.testBit 10)) x12_72 f l s u a)) := by
  have h0 : ∀ post : Int32 → Prop, wpY_has post (nI w) 0 = post (mb_i (w.testBit 0)) := fun post => mb_has post rfl hw (by decide)
  have h1 : ∀ post : Int32 → Prop, wpY_has post (nI w) 1 = post (mb_i (w.testBit 1)) := fun post => mb_has post rfl hw (by decide)
  have h2 : ∀ post : Int32 → Prop, wpY_has post (nI w) 2 = post (mb_i (w.testBit 2)) := fun post => mb_has post rfl hw (by decide)
  have h3 : ∀ post : Int32 → Prop, wpY_has post (nI w) 3 = post (mb_i (w.testBit 3)) := fun post => mb_has post rfl hw (by decide)
  have h4 : ∀ post : Int32 → Prop, wpY_has post (nI w) 4 = post (mb_i (w.testBit 4)) := fun post => mb_has post rfl hw (by decide)
  have h5 : ∀ post : Int32 → Prop, wpY_has post (nI w) 5 = post (mb_i (w.testBit 5)) := fun post => mb_has post rfl hw (by decide)
  have h6 : ∀ post : Int32 → Prop, wpY_has post (nI w) 6 = post (mb_i (w.testBit 6)) := fun post => mb_has post rfl hw (by decide)
  have h7 : ∀ post : Int32 → Prop, wpY_has post (nI w) 7 = post (mb_i (w.testBit 7)) := fun post => mb_has post rfl hw (by decide)
  have h8 : ∀ post : Int32 → Prop, wpY_has post (nI w) 8 = post (mb_i (w.testBit 8)) := fun post => mb_has post rfl hw (by decide)
  have h9 : ∀ post : Int32 → Prop, wpY_has post (nI w) 9 = post (mb_i (w.testBit 9)) := fun post => mb_has post rfl hw (by decide)
  have h10 : ∀ post : Int32 → Prop, wpY_has post (nI w) 10 = post (mb_i (w.testBit 10)) := fun post => mb_has post rfl hw (by decide)
  have h11 : ∀ post : Int32 → Prop, wpY_has post (nI w) 11 = post (mb_i (w.testBit 11)) := fun post => mb_has post rfl hw (by decide)
  have h13 : ∀ post : Int32 → Prop, wpY_has post (nI w) 13 = post (mb_i (w.testBit 13)) := fun post => mb_has post rfl hw (by decide)
  have h14 : ∀ post : Int32 → Prop, wpY_has post (nI w) 14 = post (mb_i (w.testBit 14)) := fun post => mb_has post rfl hw (by decide)
  have h15 : ∀ post : Int32 → Prop, wpY_has post (nI w) 15 = post (mb_i (w.testBit 15)) := fun post => mb_has post rfl hw (by decide)
  have q2 : (nI 1 = 2) = False := eq_false (by decide)
  have q3 : ((2 : Int32) ≤ nI 1) = False := eq_false (by decide)
  simp only [wY_judge_138, wY_judge_146, wY_judge_154, wY_judge_163, wY_judge_190, wY_judge_263, wY_judge_373, q2, q3, h0, h1, h2, h3, h4, h5, h6, h7, h8, h9, h10, h11, h13, h14, h15, mb_i0, mb_c50 hv, mb_c52 hv, mb_c32 hw, false_implies, true_implies, not_false_eq_true, not_true_eq_false, true_and, and_true, forall_eq]
  simp only [mb_br post]
  refine Eq.mp (congrArg post ?_) h
  clear h h0 h1 h2 h3 h4 h5 h6 h7 h8 h9 h10 h11 h13 h14 h15
  generalize w.testBit 0 = b0
  generalize w.testBit 1 = b1
  generalize w.testBit 2 = b2
  generalize w.testBit 4 = b4
  generalize w.testBit 5 = b5
  generalize w.testBit 9 = b9
  generalize w.testBit 10 = b10
  generalize w.testBit 13 = b13
  generalize w.testBit 14 = b14
  generalize decide (50 ≤ v) = v5
  revert b0 b1 b2 b4 b5 b9 b10 b13 b14 v5
  decide +kernel
theorem mb_yt2 {post : Int32 → Prop} {w v : Nat} {t : Bool} {f : Int64} {l : Int32} {s u : Nat → Int32} {a : Nat → Int64} (hw : w < 65536) (hv : v < 65536) (h : post (mb_J2 (w.testBit 0) (w.testBit 1) (w.testBit 2) (w.testBit 3) (w.testBit 4) (w.testBit 6) (w.testBit 7) (w.testBit 14) t)) : (mb_i (w.testBit 0) = 0 → wY_judge_138 post (nI w) (nI 2) (nI v) (mb_i t) (mb_i (w.testBit 0)) (mb_i (w.testBit 1)) (mb_i (w.testBit 2)) (mb_i (w.testBit 3)) (mb_i (w.testBit 4)) (mb_i (w.testBit 10)) 0 f l s u a) ∧ (¬ mb_i (w.testBit 0) = 0 → (∀ x12_72 : Int32, x12_72 = 0 + 1 → wY_judge_138 post (nI w) (nI 2) (nI v) (mb_i t) (mb_i (w.testBit 0)) (mb_i (w.testBit 1)) (mb_i (w.testBit 2)) (mb_i (w.testBit 3)) (mb_i (w.testBit 4)) (mb_i (w.testBit 10)) x12_72 f l s u a)) := by
  have h0 : ∀ post : Int32 → Prop, wpY_has post (nI w) 0 = post (mb_i (w.testBit 0)) := fun post => mb_has post rfl hw (by decide)
  have h1 : ∀ post : Int32 → Prop, wpY_has post (nI w) 1 = post (mb_i (w.testBit 1)) := fun post => mb_has post rfl hw (by decide)
  have h2 : ∀ post : Int32 → Prop, wpY_has post (nI w) 2 = post (mb_i (w.testBit 2)) := fun post => mb_has post rfl hw (by decide)
  have h3 : ∀ post : Int32 → Prop, wpY_has post (nI w) 3 = post (mb_i (w.testBit 3)) := fun post => mb_has post rfl hw (by decide)
  have h4 : ∀ post : Int32 → Prop, wpY_has post (nI w) 4 = post (mb_i (w.testBit 4)) := fun post => mb_has post rfl hw (by decide)
  have h5 : ∀ post : Int32 → Prop, wpY_has post (nI w) 5 = post (mb_i (w.testBit 5)) := fun post => mb_has post rfl hw (by decide)
  have h6 : ∀ post : Int32 → Prop, wpY_has post (nI w) 6 = post (mb_i (w.testBit 6)) := fun post => mb_has post rfl hw (by decide)
  have h7 : ∀ post : Int32 → Prop, wpY_has post (nI w) 7 = post (mb_i (w.testBit 7)) := fun post => mb_has post rfl hw (by decide)
  have h8 : ∀ post : Int32 → Prop, wpY_has post (nI w) 8 = post (mb_i (w.testBit 8)) := fun post => mb_has post rfl hw (by decide)
  have h9 : ∀ post : Int32 → Prop, wpY_has post (nI w) 9 = post (mb_i (w.testBit 9)) := fun post => mb_has post rfl hw (by decide)
  have h10 : ∀ post : Int32 → Prop, wpY_has post (nI w) 10 = post (mb_i (w.testBit 10)) := fun post => mb_has post rfl hw (by decide)
  have h11 : ∀ post : Int32 → Prop, wpY_has post (nI w) 11 = post (mb_i (w.testBit 11)) := fun post => mb_has post rfl hw (by decide)
  have h13 : ∀ post : Int32 → Prop, wpY_has post (nI w) 13 = post (mb_i (w.testBit 13)) := fun post => mb_has post rfl hw (by decide)
  have h14 : ∀ post : Int32 → Prop, wpY_has post (nI w) 14 = post (mb_i (w.testBit 14)) := fun post => mb_has post rfl hw (by decide)
  have h15 : ∀ post : Int32 → Prop, wpY_has post (nI w) 15 = post (mb_i (w.testBit 15)) := fun post => mb_has post rfl hw (by decide)
  have q2 : (nI 2 = 2) = True := eq_true rfl
  have q3 : ((2 : Int32) ≤ nI 2) = True := eq_true (by decide)
  simp only [wY_judge_138, wY_judge_146, wY_judge_154, wY_judge_163, wY_judge_190, wY_judge_263, wY_judge_373, q2, q3, h0, h1, h2, h3, h4, h5, h6, h7, h8, h9, h10, h11, h13, h14, h15, mb_i0, mb_c50 hv, mb_c52 hv, mb_c32 hw, false_implies, true_implies, not_false_eq_true, not_true_eq_false, true_and, and_true, forall_eq]
  simp only [mb_br post]
  refine Eq.mp (congrArg post ?_) h
  clear h h0 h1 h2 h3 h4 h5 h6 h7 h8 h9 h10 h11 h13 h14 h15
  generalize w.testBit 0 = b0
  generalize w.testBit 1 = b1
  generalize w.testBit 2 = b2
  generalize w.testBit 3 = b3
  generalize w.testBit 4 = b4
  generalize w.testBit 6 = b6
  generalize w.testBit 7 = b7
  generalize w.testBit 14 = b14
  revert b0 b1 b2 b3 b4 b6 b7 b14 t
  decide +kernel
theorem mb_yt3 {post : Int32 → Prop} {w v : Nat} {t : Bool} {f : Int64} {l : Int32} {s u : Nat → Int32} {a : Nat → Int64} (hw : w < 65536) (hv : v < 65536) (h : post (mb_J3 (w.testBit 0) (w.testBit 1) (w.testBit 2) (w.testBit 3) (w.testBit 4) (w.testBit 5) (w.testBit 8) (w.testBit 10) (w.testBit 11) t (decide (52 ≤ v)))) : (mb_i (w.testBit 0) = 0 → wY_judge_138 post (nI w) (nI 3) (nI v) (mb_i t) (mb_i (w.testBit 0)) (mb_i (w.testBit 1)) (mb_i (w.testBit 2)) (mb_i (w.testBit 3)) (mb_i (w.testBit 4)) (mb_i (w.testBit 10)) 0 f l s u a) ∧ (¬ mb_i (w.testBit 0) = 0 → (∀ x12_72 : Int32, x12_72 = 0 + 1 → wY_judge_138 post (nI w) (nI 3) (nI v) (mb_i t) (mb_i (w.testBit 0)) (mb_i (w.testBit 1)) (mb_i (w.testBit 2)) (mb_i (w.testBit 3)) (mb_i (w.testBit 4)) (mb_i (w.testBit 10)) x12_72 f l s u a)) := by
  have h0 : ∀ post : Int32 → Prop, wpY_has post (nI w) 0 = post (mb_i (w.testBit 0)) := fun post => mb_has post rfl hw (by decide)
  have h1 : ∀ post : Int32 → Prop, wpY_has post (nI w) 1 = post (mb_i (w.testBit 1)) := fun post => mb_has post rfl hw (by decide)
  have h2 : ∀ post : Int32 → Prop, wpY_has post (nI w) 2 = post (mb_i (w.testBit 2)) := fun post => mb_has post rfl hw (by decide)
  have h3 : ∀ post : Int32 → Prop, wpY_has post (nI w) 3 = post (mb_i (w.testBit 3)) := fun post => mb_has post rfl hw (by decide)
  have h4 : ∀ post : Int32 → Prop, wpY_has post (nI w) 4 = post (mb_i (w.testBit 4)) := fun post => mb_has post rfl hw (by decide)
  have h5 : ∀ post : Int32 → Prop, wpY_has post (nI w) 5 = post (mb_i (w.testBit 5)) := fun post => mb_has post rfl hw (by decide)
  have h6 : ∀ post : Int32 → Prop, wpY_has post (nI w) 6 = post (mb_i (w.testBit 6)) := fun post => mb_has post rfl hw (by decide)
  have h7 : ∀ post : Int32 → Prop, wpY_has post (nI w) 7 = post (mb_i (w.testBit 7)) := fun post => mb_has post rfl hw (by decide)
  have h8 : ∀ post : Int32 → Prop, wpY_has post (nI w) 8 = post (mb_i (w.testBit 8)) := fun post => mb_has post rfl hw (by decide)
  have h9 : ∀ post : Int32 → Prop, wpY_has post (nI w) 9 = post (mb_i (w.testBit 9)) := fun post => mb_has post rfl hw (by decide)
  have h10 : ∀ post : Int32 → Prop, wpY_has post (nI w) 10 = post (mb_i (w.testBit 10)) := fun post => mb_has post rfl hw (by decide)
  have h11 : ∀ post : Int32 → Prop, wpY_has post (nI w) 11 = post (mb_i (w.testBit 11)) := fun post => mb_has post rfl hw (by decide)
  have h13 : ∀ post : Int32 → Prop, wpY_has post (nI w) 13 = post (mb_i (w.testBit 13)) := fun post => mb_has post rfl hw (by decide)
  have h14 : ∀ post : Int32 → Prop, wpY_has post (nI w) 14 = post (mb_i (w.testBit 14)) := fun post => mb_has post rfl hw (by decide)
  have h15 : ∀ post : Int32 → Prop, wpY_has post (nI w) 15 = post (mb_i (w.testBit 15)) := fun post => mb_has post rfl hw (by decide)
  have q2 : (nI 3 = 2) = False := eq_false (by decide)
  have q3 : ((2 : Int32) ≤ nI 3) = True := eq_true (by decide)
  simp only [wY_judge_138, wY_judge_146, wY_judge_154, wY_judge_163, wY_judge_190, wY_judge_263, wY_judge_373, q2, q3, h0, h1, h2, h3, h4, h5, h6, h7, h8, h9, h10, h11, h13, h14, h15, mb_i0, mb_c50 hv, mb_c52 hv, mb_c32 hw, false_implies, true_implies, not_false_eq_true, not_true_eq_false, true_and, and_true, forall_eq]
  simp only [mb_br post]
  refine Eq.mp (congrArg post ?_) h
  clear h h0 h1 h2 h3 h4 h5 h6 h7 h8 h9 h10 h11 h13 h14 h15
  generalize w.testBit 0 = b0
  generalize w.testBit 1 = b1
  generalize w.testBit 2 = b2
  generalize w.testBit 3 = b3
  generalize w.testBit 4 = b4
  generalize w.testBit 5 = b5
  generalize w.testBit 8 = b8
  generalize w.testBit 10 = b10
  generalize w.testBit 11 = b11
  generalize decide (52 ≤ v) = v2
  revert b0 b1 b2 b3 b4 b5 b8 b10 b11 t v2
  decide +kernel
theorem mb_l22 {post : Int32 → Prop} {w K : Nat} {x2 x3 x4 : Int32} {f : Int64} {l : Int32} {s u : Nat → Int32} {a : Nat → Int64} (hw : w < 65536) (hK : K < 65536) : ∀ d b, b + d = 16 → ((∀ i, b ≤ i → i < 16 → w.testBit i = true → K.testBit i = true) → wY_judge_22 post (nI w) x2 x3 x4 (nI K) f l s u a 1 (nI 16)) → ((i : Nat) → w.testBit i = true → K.testBit i = false → post 2) → wY_judge_22 post (nI w) x2 x3 x4 (nI K) f l s u a (d + 1) (nI b) := by
  intro d
  induction d with
  | zero =>
    intro b hb h1 h2
    have e : b = 16 := by omega
    subst e
    exact h1 (fun i a b => absurd b (by omega))
  | succ d ih =>
    intro b hb h1 h2
    have h16 : ¬ (16 : Int32) ≤ nI b := nI_ge (b := 16) (by omega) (by decide)
    refine br_f h16 ?_
    rw [mb_has (j := b) _ rfl hw (by omega)]
    cases e : w.testBit b
    · refine br_t (by decide) (nm_r (nI_1 b) (ih (b + 1) (by omega) (fun q => h1 (fun i a1 a2 a3 => ?_)) h2))
      rcases Nat.lt_or_eq_of_le a1 with z | z
      · exact q i z a2 a3
      · rw [← z, e] at a3
        exact absurd a3 (by decide)
    · refine br_f (by decide) ?_
      rw [mb_has (j := b) _ rfl hK (by omega)]
      cases e2 : K.testBit b
      · exact br_t (by decide) (h2 b e e2)
      · refine br_f (by decide) (nm_r (nI_1 b) (ih (b + 1) (by omega) (fun q => h1 (fun i a1 a2 a3 => ?_)) h2))
        rcases Nat.lt_or_eq_of_le a1 with z | z
        · exact q i z a2 a3
        · rw [← z]; exact e2
theorem mb_y16 {post : Int32 → Prop} {p w v : Nat} {t : Bool} {x5 : Int32} {f : Int64} {l : Int32} {s u : Nat → Int32} {a : Nat → Int64} (hp : p < 5) (hw : w < 65536) (hv : v < 65536) (h : post (mb_J p w v t)) : wY_judge_22 post (nI w) (nI p) (nI v) (mb_i t) x5 f l s u a 1 (nI 16) := by
  have hc : p = 0 ∨ p = 1 ∨ p = 2 ∨ p = 3 ∨ p = 4 := by omega
  have h0 : ∀ post : Int32 → Prop, wpY_has post (nI w) 0 = post (mb_i (w.testBit 0)) := fun post => mb_has post rfl hw (by decide)
  have h1 : ∀ post : Int32 → Prop, wpY_has post (nI w) 1 = post (mb_i (w.testBit 1)) := fun post => mb_has post rfl hw (by decide)
  have h2 : ∀ post : Int32 → Prop, wpY_has post (nI w) 2 = post (mb_i (w.testBit 2)) := fun post => mb_has post rfl hw (by decide)
  have h3 : ∀ post : Int32 → Prop, wpY_has post (nI w) 3 = post (mb_i (w.testBit 3)) := fun post => mb_has post rfl hw (by decide)
  have h4 : ∀ post : Int32 → Prop, wpY_has post (nI w) 4 = post (mb_i (w.testBit 4)) := fun post => mb_has post rfl hw (by decide)
  have h5 : ∀ post : Int32 → Prop, wpY_has post (nI w) 5 = post (mb_i (w.testBit 5)) := fun post => mb_has post rfl hw (by decide)
  have h6 : ∀ post : Int32 → Prop, wpY_has post (nI w) 6 = post (mb_i (w.testBit 6)) := fun post => mb_has post rfl hw (by decide)
  have h7 : ∀ post : Int32 → Prop, wpY_has post (nI w) 7 = post (mb_i (w.testBit 7)) := fun post => mb_has post rfl hw (by decide)
  have h8 : ∀ post : Int32 → Prop, wpY_has post (nI w) 8 = post (mb_i (w.testBit 8)) := fun post => mb_has post rfl hw (by decide)
  have h9 : ∀ post : Int32 → Prop, wpY_has post (nI w) 9 = post (mb_i (w.testBit 9)) := fun post => mb_has post rfl hw (by decide)
  have h10 : ∀ post : Int32 → Prop, wpY_has post (nI w) 10 = post (mb_i (w.testBit 10)) := fun post => mb_has post rfl hw (by decide)
  have h11 : ∀ post : Int32 → Prop, wpY_has post (nI w) 11 = post (mb_i (w.testBit 11)) := fun post => mb_has post rfl hw (by decide)
  have h13 : ∀ post : Int32 → Prop, wpY_has post (nI w) 13 = post (mb_i (w.testBit 13)) := fun post => mb_has post rfl hw (by decide)
  have h14 : ∀ post : Int32 → Prop, wpY_has post (nI w) 14 = post (mb_i (w.testBit 14)) := fun post => mb_has post rfl hw (by decide)
  have h15 : ∀ post : Int32 → Prop, wpY_has post (nI w) 15 = post (mb_i (w.testBit 15)) := fun post => mb_has post rfl hw (by decide)
  refine br_t (nI_le (a := 16) (b := 16) (by omega) (by decide)) ?_
  rcases hc with rfl | rfl | rfl | rfl | rfl
  · refine br_f (by decide) ?_
    rw [h0, h1, h2, h3, h4, h10]
    exact br_t rfl (mb_yt0 hw hv h)
  · refine br_f (by decide) ?_
    rw [h0, h1, h2, h3, h4, h10]
    exact br_f (by decide) (mb_yt1 hw hv h)
  · refine br_f (by decide) ?_
    rw [h0, h1, h2, h3, h4, h10]
    exact br_f (by decide) (mb_yt2 hw hv h)
  · refine br_f (by decide) ?_
    rw [h0, h1, h2, h3, h4, h10]
    exact br_f (by decide) (mb_yt3 hw hv h)
  · exact br_t rfl h
theorem mb_yj {post : Int32 → Prop} {p w v : Nat} {t : Bool} {f : Int64} {l : Int32} {a : Nat → Int64} (hp : p < 5) (hw : w < 65536) (hv : v < 65536) (h : post (mb_F p w v t)) : wpY_judge post (f, l, mb_A mb_S, mb_A mb_U, a) (nI w) (nI p) (nI v) (mb_i t) := by
  unfold wpY_judge
  dsimp only
  refine br_f (nI_pos (by omega)) (br_t (nI_le (a := p) (b := 4) (by omega) (by decide)) (mb_kY hp hv (mb_w16 hv) ?_))
  refine ⟨17, mb_l22 hw (mb_K_lt p v) 16 0 rfl (fun q => mb_y16 hp hw hv ?_) (fun i h1 h2 => ?_)⟩
  · have U : mb_K p v &&& w = w := (mb_fl _ _).mpr (fun k hk => q k (Nat.zero_le k) (mb_k32 hw hk) hk)
    unfold mb_F at h
    rw [if_pos U] at h
    exact h
  · have U : ¬ mb_K p v &&& w = w := by
      intro z
      have z2 := (mb_fl _ _).mp z i h1
      rw [h2] at z2
      exact absurd z2 (by decide)
    unfold mb_F at h
    rw [if_neg U] at h
    exact h
end
section
/-! the prints: times, fold; legalFlags on both sides -/
theorem mb_times (h : Int64) : ((((((h <<< ((40 : Int32).toInt64 &&& 63)) + (h <<< ((8 : Int32).toInt64 &&& 63))) + (h <<< ((7 : Int32).toInt64 &&& 63))) + (h <<< ((5 : Int32).toInt64 &&& 63))) + (h <<< ((4 : Int32).toInt64 &&& 63))) + (h <<< ((1 : Int32).toInt64 &&& 63))) + h = h * 1099511628211 := by
  obtain ⟨n, hn, rfl⟩ := wb_of h
  have e40 : lN n <<< ((40 : Int32).toInt64 &&& 63) = lN (n * 2 ^ 40) := wb_shl n (k := 40) (by decide)
  have e8 : lN n <<< ((8 : Int32).toInt64 &&& 63) = lN (n * 2 ^ 8) := wb_shl n (k := 8) (by decide)
  have e7 : lN n <<< ((7 : Int32).toInt64 &&& 63) = lN (n * 2 ^ 7) := wb_shl n (k := 7) (by decide)
  have e5 : lN n <<< ((5 : Int32).toInt64 &&& 63) = lN (n * 2 ^ 5) := wb_shl n (k := 5) (by decide)
  have e4 : lN n <<< ((4 : Int32).toInt64 &&& 63) = lN (n * 2 ^ 4) := wb_shl n (k := 4) (by decide)
  have e1 : lN n <<< ((1 : Int32).toInt64 &&& 63) = lN (n * 2 ^ 1) := wb_shl n (k := 1) (by decide)
  have em : lN n * 1099511628211 = lN (n * 1099511628211) := lN_mul n 1099511628211
  rw [e40, e8, e7, e5, e4, e1, em, lN_add, lN_add, lN_add, lN_add, lN_add, lN_add]
  exact congrArg lN (by omega)
theorem mb_uu {a : Nat → Int64} {i : Nat} {x y : Int64} : vp_updL (vp_updL a i x) i y = vp_updL a i y := by
  funext j
  by_cases z : j = i
  · rw [z, pk_uLs, pk_uLs]
  · rw [pk_uLn z, pk_uLn z, pk_uLn z]
theorem mb_fold {post : Int64 → SY → Prop} {p : Nat} {x : Int32} {f : Int64} {l : Int32} {s u : Nat → Int32} {a : Nat → Int64} (hp : p < 5) (h : post ((a p ^^^ x.toInt64) * 1099511628211) (f, l, s, u, vp_updL a p ((a p ^^^ x.toInt64) * 1099511628211))) : wpY_fold post (f, l, s, u, a) (nI p) x := by
  have hc : (nI p).toNatClampNeg = p := nI_clamp (by omega)
  have hi : vp_in (nI p) 5 := vp_in_nI hp (by decide)
  unfold wpY_fold
  dsimp only
  refine ⟨hi, hi, nm_r (e' := vp_updL a p (a p ^^^ x.toInt64)) (by rw [hc]) ⟨hi, ?_⟩⟩
  unfold wpY_times
  rw [mb_times, hc, pk_uLs]
  exact ⟨hi, nm_r mb_uu h⟩
def mb_h (h : Int64) (w : Nat) (r : Int32) (g : Int64) : Int64 := (((((h ^^^ (nI (w / 256)).toInt64) * 1099511628211) ^^^ (nI (w % 256)).toInt64) * 1099511628211 ^^^ r.toInt64) * 1099511628211 ^^^ (g &&& 255)) * 1099511628211
theorem mb_w8 {w : Nat} (hw : w < 65536) : ((nI w).toUInt32 >>> ((8 : Int32).toUInt32 &&& Int32.toUInt32 31)).toInt32 = nI (w / 256) := by
  have e := nx_ush (k := w) (j := 8) hw (by decide)
  rw [Nat.shiftRight_eq_div_pow] at e
  exact e
theorem mb_wr {w : Nat} (hw : w < 65536) : nI w - nI w / 256 * 256 = nI (w % 256) := pk_rem (d := 256) (by omega) (by decide) (by decide)
theorem mb_wa (w : Nat) : nI w &&& 255 = nI (w % 256) := by
  show nI w &&& nI 255 = _
  rw [nx_and, show (255 : Nat) = 2 ^ 8 - 1 from rfl, Nat.and_two_pow_sub_one_eq_mod]
theorem mb_la (g : Int64) : (g &&& 255).toInt32.toInt64 = g &&& 255 := by
  obtain ⟨n, hn, rfl⟩ := wb_of g
  have e : lN n &&& 255 = lN (n % 2 ^ 8) := wb_mask (k := 8) hn (by decide)
  rw [e, lN_i, nI_l (by omega)]
theorem mb_bz (v : Int32) : ∃ t : Bool, lw_bz v = mb_i t := by
  rcases lw_bz_01 v with h | h
  · exact ⟨false, h⟩
  · exact ⟨true, h⟩
theorem mb_xl {post : Int32 → SX → Prop} {x y : Int32} {p w v : Nat} {t : Bool} {f : Int64} {l : Int32} {a : Nat → Int64} (hp : p < 5) (hw : w < 65536) (hv : v < 65536) (hx : x &&& 65535 = nI w) (hy : y &&& 65535 = nI v) (h0 : mb_F p w v t = 0 → post (mb_F p w v t) (f, mb_F p w v t, a)) (h1 : ¬ mb_F p w v t = 0 → post (mb_F p w v t) (f + 1, mb_F p w v t, vp_updL a p (mb_h (a p) w (mb_F p w v t) (f + 1)))) : wpX_legalFlags post (f, l, a) x (nI p) y (mb_i t) := by
  have hc : (nI p).toNatClampNeg = p := nI_clamp (by omega)
  have hi : vp_in (nI p) 5 := vp_in_nI hp (by decide)
  unfold wpX_legalFlags
  dsimp only
  refine nm_r hx (nm_r hy (mb_xj hp hw hv ?_))
  have hr := mb_Fr p w v t
  generalize mb_F p w v t = r at *
  refine br_c h0 (fun z => nm_e (br_f ?_ ⟨hi, ?_⟩))
  · rcases hr with q | q
    · exact absurd q z
    · exact Int32.not_lt.mpr q
  · rw [hc, mb_w8 hw, mb_wa]
    exact nm_e (nm_e (nm_e (nm_e (nm_e ⟨hi, nm_e (h1 z)⟩))))
theorem mb_yl {post : Int32 → SY → Prop} {x y : Int32} {p w v : Nat} {t : Bool} {f : Int64} {l : Int32} {a : Nat → Int64} (hp : p < 5) (hw : w < 65536) (hv : v < 65536) (hx : x &&& 65535 = nI w) (hy : y &&& 65535 = nI v) (h0 : mb_F p w v t = 0 → post (mb_F p w v t) (f, mb_F p w v t, mb_A mb_S, mb_A mb_U, a)) (h1 : ¬ mb_F p w v t = 0 → post (mb_F p w v t) (f + 1, mb_F p w v t, mb_A mb_S, mb_A mb_U, vp_updL a p (mb_h (a p) w (mb_F p w v t) (f + 1)))) : wpY_legalFlags post (f, l, mb_A mb_S, mb_A mb_U, a) x (nI p) y (mb_i t) := by
  unfold wpY_legalFlags wpY_u2
  dsimp only
  rw [mb_u2, mb_u2, hx, hy]
  refine mb_yj hp hw hv ?_
  have hr := mb_Fr p w v t
  generalize mb_F p w v t = r at *
  refine br_c h0 (fun z => nm_e (nm_e (br_f ?_ ?_)))
  · rcases hr with q | q
    · exact absurd q z
    · intro e
      rw [e] at q
      exact absurd q (by decide)
  · have h2 := h1 z
    rw [mb_w8 hw, mb_wr hw]
    refine mb_fold hp ?_
    dsimp only
    refine ⟨by decide, mb_fold hp ?_⟩
    dsimp only
    rw [pk_uLs, mb_uu]
    refine mb_fold hp ?_
    dsimp only
    rw [pk_uLs, mb_uu]
    refine mb_fold hp ?_
    dsimp only
    rw [pk_uLs, mb_uu, mb_la]
    exact h2
theorem mb_xo {post : Int32 → SX → Prop} {x z y q : Int32} {f : Int64} {l : Int32} {a : Nat → Int64} (hz : z < 0 ∨ ¬ z ≤ 4) (h : post 1 (f + 1, 1, a)) : wpX_legalFlags post (f, l, a) x z y q := by
  unfold wpX_legalFlags
  dsimp only
  have k : ∀ (P : Int32 → Prop) (c d : Int32), P 1 → wpX_judge P (f, l, a) c z d q := by
    intro P c d hP
    rcases hz with g | g
    · exact br_t g hP
    · exact br_c (fun _ => hP) (fun _ => br_f g hP)
  exact nm_e (nm_e (k _ _ _ (br_f (by decide) (nm_e (br_t (by decide) h)))))
theorem mb_yo {post : Int32 → SY → Prop} {x z y q : Int32} {f : Int64} {l : Int32} {s u : Nat → Int32} {a : Nat → Int64} (hz : z < 0 ∨ ¬ z ≤ 4) (h : post 1 (f + 1, 1, s, u, a)) : wpY_legalFlags post (f, l, s, u, a) x z y q := by
  unfold wpY_legalFlags wpY_u2
  dsimp only
  have k : ∀ (P : Int32 → Prop) (c d : Int32), P 1 → wpY_judge P (f, l, s, u, a) c z d q := by
    intro P c d hP
    rcases hz with g | g
    · exact br_t g hP
    · exact br_c (fun _ => hP) (fun _ => br_f g hP)
  exact k _ _ _ (br_f (by decide) (nm_e (nm_e (br_t rfl h))))
theorem mb_loc (x : Int32) : (x < 0 ∨ ¬ x ≤ 4) ∨ ∃ p : Nat, p < 5 ∧ x = nI p := by
  by_cases h : x < 0
  · exact Or.inl (Or.inl h)
  · by_cases h4 : x ≤ 4
    · obtain ⟨j, hj, e⟩ := nI_of2 (M := 4) (n := 4) (by decide) h h4
      exact Or.inr ⟨j, by omega, e⟩
    · exact Or.inl (Or.inr h4)
theorem mb_or {w M : Nat} (hw : w < 65536) (hM : M.testBit 10 = true) : nI (w &&& M) ||| 1024 = if w.testBit 10 = true then nI (w &&& M) else nI (w &&& M) + 1024 := by
  have hb : (w &&& M).testBit 10 = w.testBit 10 := by rw [Nat.testBit_and, hM, Bool.and_true]
  have hle : w &&& M ≤ w := Nat.and_le_left
  generalize w &&& M = x at *
  rw [← hb]
  by_cases z : x.testBit 10 = true
  · rw [if_pos z]
    apply Int32.toBitVec_inj.mp
    rw [Int32.toBitVec_or]
    show BitVec.ofNat 32 x ||| BitVec.ofNat 32 1024 = BitVec.ofNat 32 x
    apply BitVec.eq_of_getLsbD_eq
    intro i hi
    rw [BitVec.getLsbD_or, BitVec.getLsbD_ofNat, BitVec.getLsbD_ofNat, show (1024 : Nat) = 2 ^ 10 from rfl, Nat.testBit_two_pow]
    by_cases q : 10 = i
    · rw [← q, z]; rfl
    · rw [decide_eq_false q, Bool.and_false, Bool.or_false]
  · rw [if_neg z]
    apply Int32.toBitVec_inj.mp
    rw [Int32.toBitVec_or, Int32.toBitVec_add]
    show BitVec.ofNat 32 x ||| BitVec.ofNat 32 1024 = BitVec.ofNat 32 x + BitVec.ofNat 32 1024
    refine (BitVec.add_eq_or_of_and_eq_zero _ _ ?_).symm
    apply BitVec.eq_of_getLsbD_eq
    intro i hi
    rw [BitVec.getLsbD_and, BitVec.getLsbD_ofNat, BitVec.getLsbD_ofNat, show (1024 : Nat) = 2 ^ 10 from rfl, Nat.testBit_two_pow, BitVec.getLsbD_zero]
    by_cases q : 10 = i
    · rw [← q]
      cases y : x.testBit 10
      · rfl
      · exact absurd y z
    · rw [decide_eq_false q, Bool.and_false, Bool.and_false]
def mb_cv (w v M : Nat) : Int32 := if v < 50 ∧ w.testBit 9 = true ∧ w.testBit 10 = false then nI (w &&& M) + 1024 else nI (w &&& M)
theorem mb_cv50 {w v M : Nat} (h : 50 ≤ v) : mb_cv w v M = nI (w &&& M) := if_neg (fun q => absurd q.1 (by omega))
theorem mb_cv9 {w v M : Nat} (h : w.testBit 9 = false) : mb_cv w v M = nI (w &&& M) := if_neg (fun q => absurd (h.symm.trans q.2.1) (by decide))
theorem mb_cv10 {w v M : Nat} (h : w.testBit 10 = true) : mb_cv w v M = nI (w &&& M) := if_neg (fun q => absurd (h.symm.trans q.2.2) (by decide))
theorem mb_cvt {w v M : Nat} (hv : v < 50) (h9 : w.testBit 9 = true) (h10 : w.testBit 10 = false) : mb_cv w v M = nI (w &&& M) + 1024 := if_pos ⟨hv, h9, h10⟩
theorem mb_at {post : Int32 → Prop} {x y : Int32} (h : post y) (e : y = x) : post x := e ▸ h
/-- classModifiers' last sentence: w the taken word, v the major word -/
theorem mb_cx {post : Int32 → Prop} {w v M : Nat} {g : Int64} {m : Int32} {a : Nat → Int64} (hw : w < 65536) (hv : v < 65536) (hM : M.testBit 10 = true) (h : post (mb_cv w v M)) : wX_classModifiers_42 post (nI v) (nI w) (nI (w &&& M)) g m a := by
  unfold wX_classModifiers_42
  refine pk_le 50 v (fun z => mb_at h (mb_cv50 z)) (fun z => ?_)
  rw [mb_z512 hw, mb_or hw hM]
  cases e9 : w.testBit 9
  · exact br_t rfl (mb_at h (mb_cv9 e9))
  · refine br_f (by decide) (nm_e ?_)
    cases e10 : w.testBit 10
    · exact mb_at h (mb_cvt z e9 e10)
    · exact mb_at h (mb_cv10 e10)
theorem mb_cy {post : Int32 → Prop} {w v p : Nat} {x4 z0 : Int32} {f : Int64} {l : Int32} {a : Nat → Int64} {u : Nat → Int32} (hz : z0 = nI p) (hp : p < 4) (hw : w < 65536) (hv : v < 65536) (hx : x4 &&& 65535 = nI v) (h : post (mb_cv w v (mb_M p))) : wY_classModifiers_29 post x4 (nI w) z0 (nI w) f l (mb_A mb_S) u a := by
  subst hz
  unfold wY_classModifiers_29 wpY_u2
  refine mb_mY hp hw ?_
  dsimp only
  rw [mb_has (j := 9) (x := 9) _ rfl hw (by decide)]
  cases e9 : w.testBit 9
  · exact br_t (by decide) (mb_at h (mb_cv9 e9))
  · refine br_f (by decide) ?_
    rw [mb_has (j := 10) (x := 10) _ rfl hw (by decide)]
    cases e10 : w.testBit 10
    · rw [mb_u2, hx]
      exact br_t (by decide) (pk_le 50 v (fun z => mb_at h (mb_cv50 z)) (fun z => nm_e (mb_at h (mb_cvt z e9 e10))))
    · exact br_f (by decide) (mb_at h (mb_cv10 e10))
end
section
/-- the two objects hold the same count, code and prints; the reference's tables are mb_S, mb_U -/
def i_Rel (_ : Nat) (u : SX) (v : SY) : Prop := ∃ (f : Int64) (l : Int32) (a : Nat → Int64), u = (f, l, a) ∧ v = (f, l, mb_A mb_S, mb_A mb_U, a)
theorem i_up {k : Nat} {u : SX} {v : SY} (h : i_Rel k u v) : i_Rel (k + 5) u v := h
theorem i_vc0 : wpX_init (fun u => wpY_init (fun v => i_Rel 0 u v)) :=
  ⟨6, mb_xi (mb_init ⟨0, 0, mb_pr 5, rfl, rfl⟩) 5 0 rfl⟩
theorem i_vc_knownBits {k : Nat} {u : SX} {v : SY} (I : i_Rel k u v) (hk : k + 5 ≤ 2560) (v1 : Int32) (v2 : Int32) : wpX_knownBits (fun r => wpY_knownBits (fun r' => r' = r ∧ i_Rel (k + 5) u v) v v1 v2) u v1 v2 := by
  have I2 := I
  obtain ⟨f, l, a, rfl, rfl⟩ := I
  obtain ⟨w, hw, ew⟩ := nx_mask v2
  rcases mb_loc v1 with h | ⟨p, hp, rfl⟩
  · rcases h with g | g
    · exact nm_e (br_t g (br_t g ⟨rfl, I2⟩))
    · exact nm_e (br_c (fun g0 => br_t g0 ⟨rfl, I2⟩) (fun g0 => br_f g (br_f g0 (br_f g ⟨rfl, I2⟩))))
  · exact mb_kX hp hw ew (mb_kY hp hw ew ⟨rfl, I2⟩)
theorem i_vc_classModifiers {k : Nat} {u : SX} {v : SY} (I : i_Rel k u v) (hk : k + 5 ≤ 2560) (v1 : Int32) (v2 : Int32) (v3 : Int32) (v4 : Int32) : wpX_classModifiers (fun r => wpY_classModifiers (fun r' => r' = r ∧ i_Rel (k + 5) u v) v v1 (lw_bz v2) v3 v4) u v1 (lw_bz v2) v3 v4 := by
  have I2 := I
  obtain ⟨f, l, a, rfl, rfl⟩ := I
  obtain ⟨m, hm, em⟩ := nx_mask v4
  obtain ⟨t, et⟩ := mb_bz v2
  rw [et]
  cases t
  · obtain ⟨w, hw, ew⟩ := nx_mask v1
    refine nm_r em (br_t (by decide) (nm_r ew (nm_r (e' := nI (w &&& 30225)) (nx_and w 30225) (mb_cx hw hm (by decide) ?_))))
    unfold wpY_classModifiers wpY_u2
    dsimp only
    rw [mb_u2, ew]
    exact br_t (by decide) (br_t (by decide) (mb_cy (p := 0) rfl (by decide) hw hm em ⟨rfl, I2⟩))
  · obtain ⟨w, hw, ew⟩ := nx_mask v3
    refine nm_r em (br_f (by decide) (nm_r ew (nm_r (e' := nI (w &&& 30239)) (nx_and w 30239) (mb_cx hw hm (by decide) ?_))))
    unfold wpY_classModifiers wpY_u2
    dsimp only
    rw [mb_u2 v3, ew]
    exact br_f (by decide) (br_f (by decide) (mb_cy (p := 1) rfl (by decide) hw hm em ⟨rfl, I2⟩))
theorem mb_am {x : Int32} {w M : Nat} (hx : x &&& 65535 = nI w) (hM : 65535 &&& M = M) : x &&& nI M = nI (w &&& M) := by
  rw [← nx_and, ← hx, Int32.and_assoc]
  have e : (65535 : Int32) &&& nI M = nI M := (nx_and 65535 M).trans (congrArg nI hM)
  rw [e]
theorem i_vc_fieldModifiers {k : Nat} {u : SX} {v : SY} (I : i_Rel k u v) (hk : k + 5 ≤ 2560) (v1 : Int32) : wpX_fieldModifiers (fun r => wpY_fieldModifiers (fun r' => r' = r ∧ i_Rel (k + 5) u v) v v1) u v1 := by
  have I2 := I
  obtain ⟨f, l, a, rfl, rfl⟩ := I
  obtain ⟨w, hw, ew⟩ := nx_mask v1
  unfold wpX_fieldModifiers wpY_fieldModifiers wpY_u2
  dsimp only
  rw [mb_u2, ew]
  exact mb_mY (p := 2) (by decide) hw ⟨(mb_am ew (by decide)).symm, I2⟩
theorem i_vc_methodModifiers {k : Nat} {u : SX} {v : SY} (I : i_Rel k u v) (hk : k + 5 ≤ 2560) (v1 : Int32) : wpX_methodModifiers (fun r => wpY_methodModifiers (fun r' => r' = r ∧ i_Rel (k + 5) u v) v v1) u v1 := by
  have I2 := I
  obtain ⟨f, l, a, rfl, rfl⟩ := I
  obtain ⟨w, hw, ew⟩ := nx_mask v1
  unfold wpX_methodModifiers wpY_methodModifiers wpY_u2
  dsimp only
  rw [mb_u2, ew]
  exact mb_mY (p := 3) (by decide) hw ⟨(mb_am ew (by decide)).symm, I2⟩
theorem i_vc_legalFlags {k : Nat} {u : SX} {v : SY} (I : i_Rel k u v) (hk : k + 5 ≤ 2560) (v1 : Int32) (v2 : Int32) (v3 : Int32) (v4 : Int32) : wpX_legalFlags (fun r u' => wpY_legalFlags (fun r' v' => r' = r ∧ i_Rel (k + 5) u' v') v v1 v2 v3 (lw_bz v4)) u v1 v2 v3 (lw_bz v4) := by
  obtain ⟨f, l, a, rfl, rfl⟩ := I
  obtain ⟨w, hw, ew⟩ := nx_mask v1
  obtain ⟨m, hm, em⟩ := nx_mask v3
  obtain ⟨t, et⟩ := mb_bz v4
  rw [et]
  rcases mb_loc v2 with h | ⟨p, hp, rfl⟩
  · exact mb_xo h (mb_yo h ⟨rfl, f + 1, 1, a, rfl, rfl⟩)
  · refine mb_xl hp hw hm ew em (fun z => ?_) (fun z => ?_)
    · exact mb_yl hp hw hm ew em (fun _ => ⟨rfl, f, _, a, rfl, rfl⟩) (fun q => absurd z q)
    · exact mb_yl hp hw hm ew em (fun q => absurd q z) (fun _ => ⟨rfl, f + 1, _, _, rfl, rfl⟩)
theorem mb_rep (f : Int64) : f <<< ((8 : Int32).toInt64 &&& 63) = f * 256 := by
  obtain ⟨n, hn, rfl⟩ := wb_of f
  have e8 : lN n <<< ((8 : Int32).toInt64 &&& 63) = lN (n * 2 ^ 8) := wb_shl n (k := 8) (by decide)
  rw [e8]
  exact (lN_mul n 256).symm
theorem i_vc_report {k : Nat} {u : SX} {v : SY} (I : i_Rel k u v) (hk : k + 5 ≤ 2560) (v1 : Int32) : wpX_report (fun r => wpY_report (fun r' => r' = r ∧ i_Rel (k + 5) u v) v v1) u v1 := by
  have I2 := I
  obtain ⟨f, l, a, rfl, rfl⟩ := I
  have e : (f <<< ((8 : Int32).toInt64 &&& 63)) + l.toInt64 = f * 256 + l.toInt64 := by rw [mb_rep]
  rcases mb_loc v1 with h | ⟨p, hp, rfl⟩
  · have h2 : v1 < 0 ∨ (¬ v1 < 0 ∧ ¬ v1 ≤ 4) := by
      by_cases z : v1 < 0
      · exact Or.inl z
      · rcases h with h | h
        · exact absurd h z
        · exact Or.inr ⟨z, h⟩
    rcases h2 with g | ⟨g0, g⟩
    · exact br_t g (br_t g ⟨e, I2⟩)
    · exact br_f g0 (br_t (Int32.not_le.mp g) (br_f g0 (br_f g ⟨e, I2⟩)))
  · have hi : vp_in (nI p) 5 := vp_in_nI hp (by decide)
    have h0 : ¬ nI p < 0 := nI_pos (by omega)
    have h4 : nI p ≤ 4 := nI_le (a := p) (b := 4) (by omega) (by decide)
    have h5 : ¬ 4 < nI p := nI_nlt (a := 4) (b := p) (by omega) (by decide)
    exact br_f h0 (br_f h5 ⟨hi, br_f h0 (br_t h4 ⟨hi, rfl, I2⟩)⟩)
end
