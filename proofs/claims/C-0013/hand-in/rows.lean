section
/-! rows of the kit's paste files, chosen by paste.py -/
theorem pk_us {f : Nat → Int32} {k : Nat} {x : Int32} : upd f k x k = x := if_pos rfl
theorem pk_un {f : Nat → Int32} {k j : Nat} {x : Int32} (h : j ≠ k) : upd f k x j = f j := if_neg h
theorem pk_uLs {f : Nat → Int64} {k : Nat} {x : Int64} : vp_updL f k x k = x := if_pos rfl
theorem pk_uLn {f : Nat → Int64} {k j : Nat} {x : Int64} (h : j ≠ k) : vp_updL f k x j = f j := if_neg h
theorem pk_sub {a b : Nat} (h : b ≤ a) : nI a - nI b = nI (a - b) := by
  obtain ⟨c, rfl⟩ : ∃ c, a = c + b := ⟨a - b, by omega⟩
  rw [← nI_add, Int32.add_sub_cancel, Nat.add_sub_cancel]
theorem pk_m1 (n : Nat) : nI (n + 1) + (-1) = nI n := by
  rw [← nI_1, Int32.add_assoc, show (1 : Int32) + (-1) = 0 from rfl, Int32.add_zero]
theorem pk_mul (a b : Nat) : nI a * nI b = nI (a * b) := (Int32.ofNat_mul a b).symm
theorem pk_le {x y : Int32} {A B : Prop} (a b : Nat) (f : a ≤ b → A) (g : b < a → B) (hx : x = nI a := by rfl) (hy : y = nI b := by rfl) (ha : a < 2 ^ 31 := by omega) (hb : b < 2 ^ 31 := by omega) : (x ≤ y → A) ∧ (¬ x ≤ y → B) := by
  subst hx hy
  rw [nI_leI ha hb]
  exact ⟨f, fun z => g (by omega)⟩
theorem pk_lt {x y : Int32} {A B : Prop} (a b : Nat) (f : a < b → A) (g : b ≤ a → B) (hx : x = nI a := by rfl) (hy : y = nI b := by rfl) (ha : a < 2 ^ 31 := by omega) (hb : b < 2 ^ 31 := by omega) : (x < y → A) ∧ (¬ x < y → B) := by
  subst hx hy
  rw [nI_ltI ha hb]
  exact ⟨f, fun z => g (by omega)⟩
theorem pk_eq {x y : Int32} {A B : Prop} (a b : Nat) (f : a = b → A) (g : a ≠ b → B) (hx : x = nI a := by rfl) (hy : y = nI b := by rfl) (ha : a < 2 ^ 31 := by omega) (hb : b < 2 ^ 31 := by omega) : (x = y → A) ∧ (¬ x = y → B) := by
  subst hx hy
  rw [nI_eq ha hb]
  exact ⟨f, g⟩
theorem pk_in {x : Int32} (n N : Nat) (h : n < N) (hx : x = nI n := by rfl) (hN : N < 2 ^ 31 := by omega) : vp_in x N := by
  subst hx
  exact vp_in_nI h hN
theorem pk_cl {x : Int32} (n : Nat) (hx : x = nI n := by rfl) (h : n < 2 ^ 31 := by omega) : x.toNatClampNeg = n := by
  subst hx
  exact nI_clamp h
theorem pk_tn {n : Nat} (h : n < 2 ^ 32) : (nI n).toBitVec.toNat = n := Nat.mod_eq_of_lt h
theorem pk_and (x : Int32) {m : Int32} (k : Nat) (hm : m.toBitVec.toNat = 2 ^ k - 1) : x &&& m = nI (x.toBitVec.toNat % 2 ^ k) := by
  apply Int32.toBitVec_inj.mp
  apply BitVec.eq_of_toNat_eq
  rw [Int32.toBitVec_and, BitVec.toNat_and, hm, Nat.and_two_pow_sub_one_eq_mod]
  show _ = (BitVec.ofNat 32 _).toNat
  rw [BitVec.toNat_ofNat]
  exact (Nat.mod_eq_of_lt (Nat.lt_of_le_of_lt (Nat.mod_le _ _) x.toBitVec.isLt)).symm
theorem pk_andN {n : Nat} (h : n < 2 ^ 32) {m : Int32} (k : Nat) (hm : m.toBitVec.toNat = 2 ^ k - 1) : nI n &&& m = nI (n % 2 ^ k) := by
  rw [pk_and _ k hm, pk_tn h]
theorem pk_shl (a s : Int32) (k : Nat) (hs : (s.toBitVec.smod 32).toNat = k) : (a <<< s).toBitVec.toNat = a.toBitVec.toNat * 2 ^ k % 2 ^ 32 := by
  show (a.toBitVec <<< (s.toBitVec.smod 32).toNat).toNat = _
  rw [hs, BitVec.toNat_shiftLeft, Nat.shiftLeft_eq]
theorem pk_shlN {n : Nat} (s : Int32) (k : Nat) (hs : (s.toBitVec.smod 32).toNat = k) (h : n * 2 ^ k < 2 ^ 32) : nI n <<< s = nI (n * 2 ^ k) := by
  apply Int32.toBitVec_inj.mp
  apply BitVec.eq_of_toNat_eq
  have hn : n < 2 ^ 32 := Nat.lt_of_le_of_lt (Nat.le_mul_of_pos_right n (Nat.two_pow_pos k)) h
  rw [pk_shl _ _ k hs, pk_tn hn, pk_tn h, Nat.mod_eq_of_lt h]
theorem pk_shr (a s : Int32) (k : Nat) (hs : (s.toBitVec.smod 32).toNat = k) : (a >>> s).toInt = a.toInt >>> k := by
  show (a.toBitVec.sshiftRight (s.toBitVec.smod 32).toNat).toInt = _
  rw [hs, BitVec.toInt_sshiftRight]
  rfl
theorem pk_shrN {n : Nat} (h : n < 2 ^ 31) (s : Int32) (k : Nat) (hs : (s.toBitVec.smod 32).toNat = k) : nI n >>> s = nI (n / 2 ^ k) := by
  apply Int32.toInt_inj.mp
  have h2 : n / 2 ^ k ≤ n := Nat.div_le_self _ _
  rw [pk_shr _ _ k hs, nI_toInt h, nI_toInt (by omega), Int.shiftRight_eq_div_pow]
  rfl
theorem pk_lT {n : Nat} (h : n < 2 ^ 63) : (lN n).toInt = (n : Int) := lg_ofNat_toInt h
theorem pk_lLT {a b : Nat} (ha : a < 2 ^ 63) (hb : b < 2 ^ 63) : lN a < lN b ↔ a < b := by
  rw [Int64.lt_iff_toInt_lt, pk_lT ha, pk_lT hb]; omega
theorem pk_lLE {a b : Nat} (ha : a < 2 ^ 63) (hb : b < 2 ^ 63) : lN a ≤ lN b ↔ a ≤ b := by
  rw [Int64.le_iff_toInt_le, pk_lT ha, pk_lT hb]; omega
theorem pk_lEQ {a b : Nat} (ha : a < 2 ^ 63) (hb : b < 2 ^ 63) : lN a = lN b ↔ a = b := by
  rw [← Int64.toInt_inj, pk_lT ha, pk_lT hb]; omega
def bt (x : Int32) (i : Nat) : Bool := x.toBitVec.getLsbD i
theorem b_ext {x y : Int32} (h : ∀ i, i < 32 → bt x i = bt y i) : x = y := Int32.toBitVec_inj.mp (BitVec.eq_of_getLsbD_eq (fun i hi => h i hi))
theorem b_or (x y : Int32) (i : Nat) : bt (x ||| y) i = (bt x i || bt y i) := by unfold bt; rw [Int32.toBitVec_or, BitVec.getLsbD_or]
theorem b_and (x y : Int32) (i : Nat) : bt (x &&& y) i = (bt x i && bt y i) := by unfold bt; rw [Int32.toBitVec_and, BitVec.getLsbD_and]
theorem b_xor (x y : Int32) (i : Nat) : bt (x ^^^ y) i = (bt x i ^^ bt y i) := by unfold bt; rw [Int32.toBitVec_xor, BitVec.getLsbD_xor]
theorem b_m1 : ∀ i, i < 32 → bt (-1) i = true := by decide +kernel
theorem b_0 (i : Nat) : bt 0 i = false := BitVec.getLsbD_zero
theorem wb_tb (n : Nat) : (lN n).toBitVec = BitVec.ofNat 64 n := rfl
theorem wb_inj {a b : Int64} (h : a.toBitVec = b.toBitVec) : a = b := Int64.toBitVec_inj.mp h
theorem wb_tn {n : Nat} (h : n < 2 ^ 64) : (lN n).toBitVec.toNat = n := by rw [wb_tb, BitVec.toNat_ofNat, Nat.mod_eq_of_lt h]
theorem wb_cu : ∀ k, k < 64 → ((nI k).toInt64.toUInt64 &&& Int64.toUInt64 63) = UInt64.ofNat k := by decide +kernel
theorem wb_pw {a b : Nat} (h : a ≤ b) : 2 ^ b = 2 ^ a * 2 ^ (b - a) := by rw [← Nat.pow_add]; congr 1; omega
theorem wb_lt2 {a b : Nat} (h : a < b) : 2 ^ a < 2 ^ b := Nat.pow_lt_pow_right (by decide) h
theorem wb_shr {n k : Nat} (hn : n < 2 ^ 64) (hk : k < 64) : ((lN n).toUInt64 >>> ((nI k).toInt64.toUInt64 &&& Int64.toUInt64 63)).toInt64 = lN (n / 2 ^ k) := by
  rw [wb_cu k hk]
  apply wb_inj
  apply BitVec.eq_of_toNat_eq
  show ((lN n).toUInt64 >>> UInt64.ofNat k).toNat = (BitVec.ofNat 64 _).toNat
  have h1 : (UInt64.ofNat k).toNat = k := by
    show (BitVec.ofNat 64 k).toNat = k
    rw [BitVec.toNat_ofNat, Nat.mod_eq_of_lt (by omega)]
  have h2 : (lN n).toUInt64.toNat = n := wb_tn hn
  rw [UInt64.toNat_shiftRight, h1, h2, Nat.mod_eq_of_lt hk, Nat.shiftRight_eq_div_pow, BitVec.toNat_ofNat, Nat.mod_eq_of_lt (Nat.lt_of_le_of_lt (Nat.div_le_self _ _) hn)]
theorem wb_and {a b : Nat} (ha : a < 2 ^ 64) (hb : b < 2 ^ 64) : lN a &&& lN b = lN (a &&& b) := by
  apply wb_inj
  rw [Int64.toBitVec_and, wb_tb, wb_tb, wb_tb]
  apply BitVec.eq_of_toNat_eq
  rw [BitVec.toNat_and, BitVec.toNat_ofNat, BitVec.toNat_ofNat, BitVec.toNat_ofNat, Nat.mod_eq_of_lt ha, Nat.mod_eq_of_lt hb, Nat.mod_eq_of_lt (Nat.and_lt_two_pow _ hb)]
theorem wb_mask {n k : Nat} (hn : n < 2 ^ 64) (hk : k < 64) : lN n &&& lN (2 ^ k - 1) = lN (n % 2 ^ k) := by
  rw [wb_and hn (by have := wb_lt2 hk; omega), Nat.and_two_pow_sub_one_eq_mod]
end
section
/-! the field: an integer a stands for its remainder; sc_i a as an int, sc_l a as a long -/
def sc_f (a : Int) : Nat := (a % 2147483647).toNat
def sc_i (a : Int) : Int32 := nI (sc_f a)
def sc_l (a : Int) : Int64 := lN (sc_f a)
theorem sc_c (a : Int) : (sc_f a : Int) = a % 2147483647 := by unfold sc_f; omega
theorem sc_lt (a : Int) : sc_f a < 2147483647 := by have := sc_c a; omega
theorem sc_fe {a b : Int} (h : a % 2147483647 = b % 2147483647) : sc_f a = sc_f b := by unfold sc_f; rw [h]
theorem sc_ff {a b : Int} (h : sc_f a = sc_f b) : a % 2147483647 = b % 2147483647 := by rw [← sc_c, ← sc_c, h]
theorem sc_fn {n : Nat} (h : n < 2147483647) : sc_f (n : Int) = n := by have := sc_c (n : Int); omega
theorem sc_in {n : Nat} (h : n < 2147483647) : nI n = sc_i (n : Int) := by unfold sc_i; rw [sc_fn h]
theorem sc_ln {n : Nat} (h : n < 2147483647) : lN n = sc_l (n : Int) := by unfold sc_l; rw [sc_fn h]
theorem sc_il (a : Int) : (sc_i a).toInt64 = sc_l a := nI_l (by have := sc_lt a; omega)
theorem sc_li (a : Int) : (sc_l a).toInt32 = sc_i a := lN_i _
theorem sc_ii (a b : Int) : sc_i a = sc_i b ↔ sc_f a = sc_f b := nI_eq (by have := sc_lt a; omega) (by have := sc_lt b; omega)
theorem sc_ll (a b : Int) : sc_l a = sc_l b ↔ sc_f a = sc_f b := lN_eq (by have := sc_lt a; omega) (by have := sc_lt b; omega)
theorem sc_lm {a b : Int} (h : a % 2147483647 = b % 2147483647) : sc_l a = sc_l b := congrArg lN (sc_fe h)
theorem sc_im {a b : Int} (h : a % 2147483647 = b % 2147483647) : sc_i a = sc_i b := congrArg nI (sc_fe h)
theorem sc_lt64 (a : Int) : (sc_l a).toInt = a % 2147483647 := by
  have h := sc_lt a
  unfold sc_l
  rw [lN_toInt (by omega), sc_c]
/-! X's three operations -/
theorem sc_plus {post : Int32 → Prop} {a b : Int} (h : post (sc_i (a + b))) : wpX_plus post (sc_i a) (sc_i b) := by
  intro x ex
  have ha := sc_lt a
  have hb := sc_lt b
  have ea := sc_c a
  have eb := sc_c b
  have es := sc_c (a + b)
  have hx : x = lN (sc_f a + sc_f b) := by
    rw [ex, sc_il, sc_il]
    exact lN_add _ _
  subst hx
  have hc : lN (sc_f a + sc_f b) < 2147483647 ↔ sc_f a + sc_f b < 2147483647 := pk_lLT (b := 2147483647) (by omega) (by omega)
  rw [hc]
  refine ⟨fun hl => ?_, fun hg => ?_⟩
  · rw [lN_i]
    have e : sc_f (a + b) = sc_f a + sc_f b := by omega
    rw [← e]
    exact h
  · have e : sc_f (a + b) = sc_f a + sc_f b - 2147483647 := by omega
    have e2 : lN (sc_f a + sc_f b) - 2147483647 = lN (sc_f a + sc_f b - 2147483647) := lN_sub (b := 2147483647) (by omega)
    rw [e2, lN_i, ← e]
    exact h
theorem sc_sub_t {a b : Nat} (ha : a < 2147483647) (hb : b < 2147483647) : (nI a - nI b).toInt = (a : Int) - b := by
  rw [Jvm.Kit.i32_sub (by rw [nI_toInt (by omega), nI_toInt (by omega)]; omega) (by rw [nI_toInt (by omega), nI_toInt (by omega)]; omega), nI_toInt (by omega), nI_toInt (by omega)]
theorem sc_minus {post : Int32 → Prop} {a b : Int} (h : post (sc_i (a - b))) : wpX_minus post (sc_i a) (sc_i b) := by
  intro x ex
  have ha := sc_lt a
  have hb := sc_lt b
  have ea := sc_c a
  have eb := sc_c b
  have es := sc_c (a - b)
  have hx : x = nI (sc_f a) - nI (sc_f b) := ex
  have ht : x.toInt = (sc_f a : Int) - sc_f b := by rw [hx]; exact sc_sub_t ha hb
  have hc : (0 : Int32) ≤ x ↔ 0 ≤ (sc_f a : Int) - sc_f b := by rw [Jvm.Kit.i32_nonneg, ht]
  rw [hc]
  refine ⟨fun hl => ?_, fun hg => ?_⟩
  · have e : sc_f (a - b) = sc_f a - sc_f b := by omega
    rw [hx, pk_sub (by omega), ← e]
    exact h
  · have e : sc_f (a - b) = sc_f a + 2147483647 - sc_f b := by omega
    have e2 : x + 2147483647 = nI (sc_f a + 2147483647 - sc_f b) := by
      rw [← pk_sub (by omega), ← nI_add, hx]
      show nI (sc_f a) - nI (sc_f b) + nI 2147483647 = _
      grind
    rw [e2, ← e]
    exact h
theorem sc_mul_f (a b : Int) : sc_f (a * b) = sc_f a * sc_f b % 2147483647 := by
  have h : (sc_f (a * b) : Int) = ((sc_f a * sc_f b : Nat) : Int) % 2147483647 := by
    rw [Int.natCast_mul, sc_c, sc_c, sc_c]
    exact Int.mul_emod a b _
  generalize sc_f a * sc_f b = M at *
  omega
theorem sc_mul_b (a b : Int) : sc_f a * sc_f b ≤ 4611686009837453316 := Nat.mul_le_mul (Nat.le_of_lt_succ (sc_lt a) : sc_f a ≤ 2147483646) (Nat.le_of_lt_succ (sc_lt b) : sc_f b ≤ 2147483646)
theorem sc_times {post : Int32 → Prop} {a b : Int} (h : post (sc_i (a * b))) : wpX_times post (sc_i a) (sc_i b) := by
  intro x ex y ey
  have hm := sc_mul_b a b
  have hf := sc_mul_f a b
  have hx : x = lN (sc_f a * sc_f b) := by
    rw [ex, sc_il, sc_il]
    exact lN_mul _ _
  subst hx
  generalize hM : sc_f a * sc_f b = M at *
  have e1 : lN M &&& 2147483647 = lN (M % 2147483648) := wb_mask (n := M) (k := 31) (by omega) (by omega)
  have e2 : ((lN M).toUInt64 >>> ((31 : Int32).toInt64.toUInt64 &&& Int64.toUInt64 63)).toInt64 = lN (M / 2147483648) := wb_shr (n := M) (k := 31) (by omega) (by omega)
  rw [e1, e2, lN_add] at ey
  subst ey
  have hc : lN (M % 2147483648 + M / 2147483648) < 2147483647 ↔ M % 2147483648 + M / 2147483648 < 2147483647 := pk_lLT (b := 2147483647) (by omega) (by omega)
  rw [hc]
  refine ⟨fun hl => ?_, fun hg => ?_⟩
  · have e : sc_f (a * b) = M % 2147483648 + M / 2147483648 := by omega
    rw [lN_i, ← e]
    exact h
  · have e : sc_f (a * b) = M % 2147483648 + M / 2147483648 - 2147483647 := by omega
    have e2 : lN (M % 2147483648 + M / 2147483648) - 2147483647 = lN (M % 2147483648 + M / 2147483648 - 2147483647) := lN_sub (b := 2147483647) (by omega)
    rw [e2, lN_i, ← e]
    exact h
theorem sc_blend {post : Int32 → Prop} {a b r : Int} (h : post (sc_i (a + (b - a) * r))) : wpX_blend post (sc_i a) (sc_i b) (sc_i r) := sc_minus (sc_times (sc_plus h))
theorem sc_beyondOne {post : Int32 → Prop} {a b : Int} (h : post (sc_i (b + b - a))) : wpX_beyondOne post (sc_i a) (sc_i b) := sc_plus (sc_minus h)
theorem sc_steep {post : Int32 → Prop} {g : Int} {t : Nat} (ht : t < 3) (h : post (sc_i (if t = 0 then g else if t = 1 then 0 else 0 - g))) : wpX_steep post (sc_i g) (nI t) := by
  refine pk_eq t 0 (fun e => ?_) (fun e => pk_eq t 1 (fun e2 => ?_) (fun e2 => ?_))
  · rw [if_pos e] at h; exact h
  · rw [if_neg e, if_pos e2] at h; exact h
  · rw [if_neg e, if_neg e2] at h
    exact sc_minus (a := 0) h
/-! Y's one -/
theorem sc_field {post : Int64 → Prop} {u : SY} {e : Int64} {a : Int} (he : e.toInt % 2147483647 = a % 2147483647) (h : post (sc_l a)) : wpY_field post u e := by
  obtain ⟨f_n, f_how, f_doing, f_given, f_value, a_clauses, a_pos, a_neg, a_said, a_asked, a_z⟩ := u
  refine And.intro (by decide) (fun x ex => ?_)
  have hp : (2147483647 : Int64).toInt = 2147483647 := by decide
  have ht : x.toInt = e.toInt.tmod 2147483647 := by rw [ex, Jvm.Kit.i64_rem, hp]
  have ea := sc_lt64 a
  rw [Jvm.Kit.i64_nonneg, ht]
  have hm : e.toInt.tmod 2147483647 = if 0 ≤ e.toInt then e.toInt % 2147483647 else - ((- e.toInt) % 2147483647) := by
    by_cases h0 : 0 ≤ e.toInt
    · rw [if_pos h0, Int.tmod_eq_emod_of_nonneg h0]
    · rw [if_neg h0, ← Int.tmod_eq_emod_of_nonneg (by omega), Int.neg_tmod, Int.neg_neg]
  generalize e.toInt = E at *
  refine ⟨fun h0 => ?_, fun h0 => ?_⟩
  · have q : x = sc_l a := Int64.toInt_inj.mp (by rw [ht, ea]; split at hm <;> omega)
    rw [q]; exact h
  · have q : x + 2147483647 = sc_l a := by
      apply Int64.toInt_inj.mp
      have b1 : -2147483647 < x.toInt ∧ x.toInt < 0 := by rw [ht]; split at hm <;> omega
      rw [Jvm.Kit.i64_add (by rw [hp]; omega) (by rw [hp]; omega), hp, ht, ea]
      split at hm <;> omega
    rw [q]; exact h
theorem sc_lb (a : Int) : 0 ≤ (sc_l a).toInt ∧ (sc_l a).toInt < 2147483647 := by rw [sc_lt64]; omega
theorem sc_lmul (a b : Int) : (sc_l a * sc_l b).toInt % 2147483647 = (a * b) % 2147483647 := by
  have hm := sc_mul_b a b
  have e : sc_l a * sc_l b = lN (sc_f a * sc_f b) := lN_mul _ _
  rw [e, pk_lT (by omega), Int.natCast_mul, sc_c, sc_c, ← Int.mul_emod]
theorem sc_ladd (a b : Int) : (sc_l a + sc_l b).toInt % 2147483647 = (a + b) % 2147483647 := by
  have h1 := sc_lb a
  have h2 := sc_lb b
  rw [Jvm.Kit.i64_add (by omega) (by omega), sc_lt64, sc_lt64]
  omega
theorem sc_lsub (a b : Int) : (sc_l a - sc_l b).toInt % 2147483647 = (a - b) % 2147483647 := by
  have h1 := sc_lb a
  have h2 := sc_lb b
  rw [Jvm.Kit.i64_sub (by omega) (by omega), sc_lt64, sc_lt64]
  omega
theorem sc_laddn (a b : Int) : (sc_l a + (- sc_l b)).toInt % 2147483647 = (a - b) % 2147483647 := by
  have e : sc_l a + (- sc_l b) = sc_l a - sc_l b := by grind
  rw [e]; exact sc_lsub a b
theorem sc_lsub2 (a b c : Int) : (sc_l a - sc_l b - sc_l c).toInt % 2147483647 = (a - b - c) % 2147483647 := by
  have h1 := sc_lb a
  have h2 := sc_lb b
  have h3 := sc_lb c
  have e := Jvm.Kit.i64_sub (x := sc_l a) (y := sc_l b) (by omega) (by omega)
  rw [Jvm.Kit.i64_sub (by omega) (by omega), e, sc_lt64, sc_lt64, sc_lt64]
  omega
theorem sc_lsubadd (a b c : Int) : (sc_l a - sc_l b + sc_l c).toInt % 2147483647 = (a - b + c) % 2147483647 := by
  have h1 := sc_lb a
  have h2 := sc_lb b
  have h3 := sc_lb c
  have e := Jvm.Kit.i64_sub (x := sc_l a) (y := sc_l b) (by omega) (by omega)
  rw [Jvm.Kit.i64_add (by omega) (by omega), e, sc_lt64, sc_lt64, sc_lt64]
  omega
theorem sc_l0 : (0 : Int64) = sc_l 0 := by decide
theorem sc_l1 : (1 : Int64) = sc_l 1 := by decide
theorem sc_l2 : (2 : Int64) = sc_l 2 := by decide
theorem sc_lh : (1073741824 : Int64) = sc_l 1073741824 := by decide
theorem sc_i0 : (0 : Int32) = sc_i 0 := by decide
theorem sc_i1 : (1 : Int32) = sc_i 1 := by decide
theorem sc_ih : (1073741824 : Int32) = sc_i 1073741824 := by decide
/-! a script's int as a field element -/
theorem sc_arg {v : Int32} (h0 : ¬ v < 0) (h1 : ¬ v = 2147483647) : ∃ a : Int, v = sc_i a := by
  obtain ⟨j, hj, rfl⟩ := nI_of h0
  have hne : ¬ j = 2147483647 := fun e => h1 (by rw [e]; rfl)
  exact ⟨j, sc_in (by omega)⟩
theorem sc_element {post : Int32 → Prop} {v : Int32} (hb : v < 0 ∨ v = 2147483647 → post 0) (hg : ¬ v < 0 → ¬ v = 2147483647 → post 1) : wpX_element post v := by
  refine br_c (fun h => hb (Or.inl h)) (fun h => br_c (fun h2 => hb (Or.inr ?_)) (fun h2 => hg h ?_))
  · apply Int32.toInt_inj.mp
    rw [Int32.le_iff_toInt_le] at h2
    have e : (2147483647 : Int32).toInt = 2147483647 := by decide
    have := v.toInt_lt
    omega
  · intro e
    exact h2 (by rw [e]; exact Int32.le_refl _)
/-! the same with equations for the arguments -/
theorem sc_plusE {post : Int32 → Prop} {p q : Int32} {a b : Int} (hp : p = sc_i a) (hq : q = sc_i b) (h : post (sc_i (a + b))) : wpX_plus post p q := by
  rw [hp, hq]; exact sc_plus h
theorem sc_minusE {post : Int32 → Prop} {p q : Int32} {a b : Int} (hp : p = sc_i a) (hq : q = sc_i b) (h : post (sc_i (a - b))) : wpX_minus post p q := by
  rw [hp, hq]; exact sc_minus h
theorem sc_timesE {post : Int32 → Prop} {p q : Int32} {a b : Int} (hp : p = sc_i a) (hq : q = sc_i b) (h : post (sc_i (a * b))) : wpX_times post p q := by
  rw [hp, hq]; exact sc_times h
theorem sc_blendE {post : Int32 → Prop} {p q s : Int32} {a b r : Int} (hp : p = sc_i a) (hq : q = sc_i b) (hs : s = sc_i r) (h : post (sc_i (a + (b - a) * r))) : wpX_blend post p q s := by
  rw [hp, hq, hs]; exact sc_blend h
theorem sc_beyondOneE {post : Int32 → Prop} {p q : Int32} {a b : Int} (hp : p = sc_i a) (hq : q = sc_i b) (h : post (sc_i (b + b - a))) : wpX_beyondOne post p q := by
  rw [hp, hq]; exact sc_beyondOne h
end
section
/-! the plain law: extensions by sums and by folding, over the integers -/
def sc_S (f : Nat → Int) : Nat → Int
  | 0 => 0
  | n + 1 => sc_S f n + f n
def sc_fac (z : Nat → Int) (x i : Nat) : Int := if x / 2 ^ i % 2 = 1 then z i else 1 - z i
def sc_pr (z : Nat → Int) (x : Nat) : Nat → Int
  | 0 => 1
  | i + 1 => sc_pr z x i * sc_fac z x i
def sc_E (F : Nat → Int) (z : Nat → Int) (n : Nat) : Int := sc_S (fun x => F x * sc_pr z x n) (2 ^ n)
def sc_fold (F : Nat → Int) (r : Int) (j : Nat) : Int := F (2 * j) + (F (2 * j + 1) - F (2 * j)) * r
def sc_tab (F : Nat → Int) (r : Nat → Int) : Nat → Nat → Int
  | 0 => F
  | g + 1 => sc_fold (sc_tab F r g) (r g)
theorem sc_S_c {f g : Nat → Int} {n : Nat} (h : ∀ i, i < n → f i = g i) : sc_S f n = sc_S g n := by
  induction n with
  | zero => rfl
  | succ n ih =>
    show sc_S f n + f n = sc_S g n + g n
    rw [ih (fun i hi => h i (by omega)), h n (by omega)]
theorem sc_S_2 (f : Nat → Int) (n : Nat) : sc_S f (2 * n) = sc_S (fun j => f (2 * j) + f (2 * j + 1)) n := by
  induction n with
  | zero => rfl
  | succ n ih =>
    show sc_S f (2 * n) + f (2 * n) + f (2 * n + 1) = sc_S _ n + (f (2 * n) + f (2 * n + 1))
    rw [ih, Int.add_assoc]
theorem sc_dd (x i : Nat) : x / 2 ^ (i + 1) = x / 2 / 2 ^ i := by
  rw [Nat.div_div_eq_div_mul, Nat.pow_succ, Nat.mul_comm]
theorem sc_fac_s (z : Nat → Int) (x i : Nat) : sc_fac z x (i + 1) = sc_fac (fun k => z (k + 1)) (x / 2) i := by
  unfold sc_fac
  rw [sc_dd]
theorem sc_pr_s (z : Nat → Int) (x m : Nat) : sc_pr z x (m + 1) = sc_fac z x 0 * sc_pr (fun k => z (k + 1)) (x / 2) m := by
  induction m with
  | zero => show 1 * sc_fac z x 0 = sc_fac z x 0 * 1; rw [Int.one_mul, Int.mul_one]
  | succ m ih =>
    show sc_pr z x (m + 1) * sc_fac z x (m + 1) = sc_fac z x 0 * (sc_pr (fun k => z (k + 1)) (x / 2) m * sc_fac (fun k => z (k + 1)) (x / 2) m)
    rw [ih, sc_fac_s, Int.mul_assoc]
theorem sc_fac_e (z : Nat → Int) (j : Nat) : sc_fac z (2 * j) 0 = 1 - z 0 := by
  unfold sc_fac
  rw [if_neg (by rw [Nat.pow_zero, Nat.div_one]; omega)]
theorem sc_fac_o (z : Nat → Int) (j : Nat) : sc_fac z (2 * j + 1) 0 = z 0 := by
  unfold sc_fac
  rw [if_pos (by rw [Nat.pow_zero, Nat.div_one]; omega)]
/-- one variable set: the table folds -/
theorem sc_E_s (F : Nat → Int) (z : Nat → Int) (m : Nat) : sc_E F z (m + 1) = sc_E (sc_fold F (z 0)) (fun k => z (k + 1)) m := by
  unfold sc_E
  rw [show 2 ^ (m + 1) = 2 * 2 ^ m from by rw [Nat.pow_succ, Nat.mul_comm], sc_S_2]
  apply sc_S_c
  intro j _
  show F (2 * j) * sc_pr z (2 * j) (m + 1) + F (2 * j + 1) * sc_pr z (2 * j + 1) (m + 1) = sc_fold F (z 0) j * sc_pr (fun k => z (k + 1)) j m
  rw [sc_pr_s, sc_pr_s, sc_fac_e, sc_fac_o, show 2 * j / 2 = j from by omega, show (2 * j + 1) / 2 = j from by omega]
  unfold sc_fold
  generalize sc_pr (fun k => z (k + 1)) j m = p
  generalize F (2 * j) = a
  generalize F (2 * j + 1) = b
  generalize z 0 = t
  grind
theorem sc_E_0 (F : Nat → Int) (z : Nat → Int) : sc_E F z 0 = F 0 := by
  show 0 + F 0 * 1 = F 0
  rw [Int.mul_one, Int.zero_add]
theorem sc_tab_c {F : Nat → Int} {z r : Nat → Int} {g : Nat} (h : ∀ i, i < g → z i = r i) : sc_tab F z g = sc_tab F r g := by
  induction g with
  | zero => rfl
  | succ g ih =>
    show sc_fold (sc_tab F z g) (z g) = sc_fold (sc_tab F r g) (r g)
    rw [ih (fun i hi => h i (by omega)), h g (by omega)]
theorem sc_E_g (F : Nat → Int) (z : Nat → Int) (g : Nat) : ∀ m, sc_E F z (g + m) = sc_E (sc_tab F z g) (fun i => z (g + i)) m := by
  induction g with
  | zero =>
    intro m
    rw [Nat.zero_add]
    show sc_E F z m = sc_E F (fun i => z (0 + i)) m
    congr 1
    funext i
    rw [Nat.zero_add]
  | succ g ih =>
    intro m
    rw [show g + 1 + m = g + (m + 1) from by omega, ih (m + 1), sc_E_s]
    show sc_E (sc_fold (sc_tab F z g) (z (g + 0))) (fun k => z (g + (k + 1))) m = sc_E (sc_fold (sc_tab F z g) (z g)) (fun i => z (g + 1 + i)) m
    congr 1
    funext i
    rw [show g + (i + 1) = g + 1 + i from by omega]
def sc_bit (x i : Nat) : Int := ((x / 2 ^ i % 2 : Nat) : Int)
/-- at the corners the extension is the table itself -/
theorem sc_E_b (m : Nat) : ∀ (T : Nat → Int) (j : Nat), j < 2 ^ m → sc_E T (sc_bit j) m = T j := by
  induction m with
  | zero =>
    intro T j hj
    rw [sc_E_0, show j = 0 from by rw [Nat.pow_zero] at hj; omega]
  | succ m ih =>
    intro T j hj
    rw [sc_E_s]
    have hb : (fun k => sc_bit j (k + 1)) = sc_bit (j / 2) := by
      funext k
      unfold sc_bit
      rw [sc_dd]
    have h0 : sc_bit j 0 = ((j % 2 : Nat) : Int) := by
      unfold sc_bit
      rw [Nat.pow_zero, Nat.div_one]
    rw [hb, h0, ih _ _ (by rw [Nat.pow_succ] at hj; omega)]
    unfold sc_fold
    rcases Nat.mod_two_eq_zero_or_one j with e | e
    · rw [e, show 2 * (j / 2) = j from by omega]
      simp
    · rw [e, show 2 * (j / 2) + 1 = j from by omega]
      simp
      omega
/-- the point that Y looks at in a round -/
def sc_Z (r : Nat → Int) (g : Nat) (t : Int) (y : Nat) (i : Nat) : Int := if i < g then r i else if i = g then t else sc_bit y (i - g - 1)
theorem sc_E_Z (F : Nat → Int) (r : Nat → Int) (g m : Nat) (t : Int) (y : Nat) (hy : y < 2 ^ m) : sc_E F (sc_Z r g t y) (g + (m + 1)) = sc_fold (sc_tab F r g) t y := by
  rw [sc_E_g, sc_E_s]
  have h1 : sc_tab F (sc_Z r g t y) g = sc_tab F r g := sc_tab_c (fun i hi => if_pos hi)
  have h2 : sc_Z r g t y (g + 0) = t := by
    unfold sc_Z
    rw [if_neg (by omega), if_pos (by omega)]
  have h3 : (fun k => sc_Z r g t y (g + (k + 1))) = sc_bit y := by
    funext k
    unfold sc_Z
    rw [if_neg (by omega), if_neg (by omega), show g + (k + 1) - g - 1 = k from by omega]
  show sc_E (sc_fold (sc_tab F (sc_Z r g t y) g) (sc_Z r g t y (g + 0))) (fun k => sc_Z r g t y (g + (k + 1))) m = _
  rw [h1, h2, h3, sc_E_b m _ _ hy]
theorem sc_E_n (F : Nat → Int) (z r : Nat → Int) (n : Nat) (h : ∀ i, i < n → z i = r i) : sc_E F z n = sc_tab F r n 0 := by
  have e := sc_E_g F z n 0
  rw [Nat.add_zero] at e
  rw [e, sc_E_0, sc_tab_c h]
/-- the sum that is sent at t, by the tables -/
def sc_H (A B : Nat → Int) (t : Nat) : Nat → Int := sc_S (fun j => sc_fold A t j * sc_fold B t j)
theorem sc_fold0 (A : Nat → Int) (j : Nat) : sc_fold A ((0 : Nat) : Int) j = A (2 * j) := by
  show A (2 * j) + (A (2 * j + 1) - A (2 * j)) * (0 : Int) = _
  omega
theorem sc_fold1 (A : Nat → Int) (j : Nat) : sc_fold A ((1 : Nat) : Int) j = A (2 * j + 1) := by
  show A (2 * j) + (A (2 * j + 1) - A (2 * j)) * (1 : Int) = _
  omega
theorem sc_fold2 (A : Nat → Int) (j : Nat) : sc_fold A ((2 : Nat) : Int) j = A (2 * j + 1) + A (2 * j + 1) - A (2 * j) := by
  show A (2 * j) + (A (2 * j + 1) - A (2 * j)) * (2 : Int) = _
  omega
theorem sc_3 {P : Nat → Prop} (h0 : P 0) (h1 : P 1) (h2 : P 2) : ∀ t, t < 3 → P t := by
  intro t ht
  rcases (by omega : t = 0 ∨ t = 1 ∨ t = 2) with rfl | rfl | rfl
  · exact h0
  · exact h1
  · exact h2
/-- the values that are sent -/
def sc_gap (A B : Nat → Int) (w : Int) (h : Nat) : Int := w - sc_H A B 0 h - sc_H A B 1 h
def sc_sh (m : Int32) (gap : Int) (t : Nat) : Int := if m = 1 then gap * 1073741824 else if m = 2 then (if t = 0 then gap else if t = 1 then 0 else 0 - gap) else 0
def sc_sent (m : Int32) (A B : Nat → Int) (w : Int) (h : Nat) (t : Nat) : Int := sc_H A B t h + sc_sh m (sc_gap A B w h) t
/-- the value at r of the polynomial that was sent: X's way and Y's -/
def sc_via (s : Nat → Int) (r : Int) : Int := s 0 + (s 1 - s 0) * r + r * (r - 1) * 1073741824 * (s 0 + s 2 - (s 1 + s 1))
theorem sc_via_y (s : Nat → Int) (r : Int) : (s 0 * ((r - 1) * (r - 2)) * 1073741824 - s 1 * (r * (r - 2)) + s 2 * (r * (r - 1)) * 1073741824) % 2147483647 = sc_via s r % 2147483647 := by
  unfold sc_via
  generalize s 0 = a
  generalize s 1 = b
  generalize s 2 = c
  have e : a + (b - a) * r + r * (r - 1) * 1073741824 * (a + c - (b + b)) = (a * ((r - 1) * (r - 2)) * 1073741824 - b * (r * (r - 2)) + c * (r * (r - 1)) * 1073741824) + 2147483647 * (a * (r - 1) - b * (r * (r - 1))) := by grind
  rw [e]
  exact (Int.add_mul_emod_self_left _ _ _).symm
end
section
/-! clauses: what X's value and Y's holds say -/
def sc_lit (p q x : Int32) : Bool := decide (¬ ((p &&& x) ||| (q &&& (x ^^^ (-1)))) = 0)
def sc_v (cp cn : Nat → Int32) (b : Nat) (x : Int32) : Nat → Bool
  | 0 => true
  | k + 1 => sc_v cp cn b x k && sc_lit (cp (b + k)) (cn (b + k)) x
def sc_b : Bool → Int32
  | true => 1
  | false => 0
theorem sc_v_f {cp cn : Nat → Int32} {b : Nat} {x : Int32} {k : Nat} (h : sc_v cp cn b x k = false) : ∀ d, sc_v cp cn b x (k + d) = false := by
  intro d
  induction d with
  | zero => exact h
  | succ d ih =>
    show (sc_v cp cn b x (k + d) && _) = false
    rw [ih]
    rfl
theorem sc_or0 (a b : Int32) : (a ||| b) = 0 ↔ a = 0 ∧ b = 0 := by
  rw [← Int32.toBitVec_inj, ← Int32.toBitVec_inj, ← Int32.toBitVec_inj, Int32.toBitVec_or]
  exact BitVec.or_eq_zero_iff
theorem sc_lit_y (p q x : Int32) : sc_lit p q x = true ↔ (¬ (x &&& p) = 0 ∨ ¬ ((x ^^^ (-1)) &&& q) = 0) := by
  unfold sc_lit
  rw [decide_eq_true_iff, sc_or0, Int32.and_comm p x, Int32.and_comm q]
  exact Decidable.not_and_iff_not_or_not
theorem sc_shl : ∀ n, n < 6 → (1 : Int32) <<< (nI n &&& 31) = nI (2 ^ n) := by decide +kernel
theorem sc_mask : ∀ n, n < 6 → (nI (2 ^ n) - 1).toBitVec.toNat = 2 ^ n - 1 := by decide +kernel
theorem sc_bey0 : ∀ n, n < 6 → ∀ j, j < 2 ^ n → (nI j &&& ((nI (2 ^ n) - 1) ^^^ (-1))) = 0 := by decide +kernel
theorem sc_bey {n : Nat} (hn : n ≤ 5) (p : Int32) : (p &&& ((((1 : Int32) <<< (nI n &&& 31)) - 1) ^^^ (-1))) = 0 ↔ ∃ j, j < 2 ^ n ∧ p = nI j := by
  rw [sc_shl n (by omega)]
  constructor
  · intro h
    have e : p = p &&& (nI (2 ^ n) - 1) := by
      apply b_ext
      intro i hi
      have h2 : bt (p &&& ((nI (2 ^ n) - 1) ^^^ (-1))) i = false := by rw [h]; exact b_0 i
      rw [b_and, b_xor, b_m1 i hi] at h2
      rw [b_and]
      revert h2
      cases bt p i <;> cases bt (nI (2 ^ n) - 1) i <;> decide
    rw [pk_and p n (sc_mask n (by omega))] at e
    exact ⟨_, Nat.mod_lt _ (Nat.two_pow_pos n), e⟩
  · intro ⟨j, hj, e⟩
    rw [e]
    exact sc_bey0 n (by omega) j hj
theorem sc_pow {n : Nat} (hn : n ≤ 5) : 2 ^ n ≤ 32 := Nat.pow_le_pow_right (n := 2) (by decide) hn
theorem sc_nb (x : Int32) {j : Nat} (hj : j < 32) (h : x = nI j) : vp_nar .byte x.toInt8.toInt32 = x := by
  subst h
  rw [vp_nar_byte, lg_i2b_small (v := nI j) (by rw [nI_toInt (by omega)]; omega) (by rw [nI_toInt (by omega)]; omega), lg_i2b_small (v := nI j) (by rw [nI_toInt (by omega)]; omega) (by rw [nI_toInt (by omega)]; omega)]
theorem sc_ff2 {A B : Prop} {f : Nat} (hf : f < 2) (h : A) : (nI f = 0 → A) ∧ (¬ nI f = 0 → ((nI f = 1 → A) ∧ (¬ nI f = 1 → B))) := by
  rcases (by omega : f = 0 ∨ f = 1) with rfl | rfl
  · exact br_t rfl h
  · exact br_f (by decide) (br_t rfl h)
section sc04
variable {vn vm vs vg vr vt : Int32} {cp cn cc ch se ho ta tb : Nat → Int32} {wn wm ws wg : Int32} {wv : Int64} {dc dp dn : Nat → Int32} {sd ak zz : Nat → Int64} {n : Nat}
theorem sc_beyond {post : Int32 → Prop} (hn : n ≤ 5) {p : Int32} (h0 : ∀ j, j < 2 ^ n → p = nI j → post 0) (h1 : (¬ ∃ j, j < 2 ^ n ∧ p = nI j) → post 1) : wpX_beyond post (nI n, vm, vs, vg, vr, vt, cp, cn, cc, ch, se, ho, ta, tb) p := by
  refine br_c (fun h => ?_) (fun h => ?_)
  · obtain ⟨j, a, b⟩ := (sc_bey hn p).mp h
    exact h0 j a b
  · exact h1 (fun e => h ((sc_bey hn p).mpr e))
theorem sc_isF {post : Int32 → Prop} {p : Int32} (h1 : ∀ f, f < 2 → p = nI f → post 1) (h0 : ¬ p = 0 → ¬ p = 1 → post 0) : wpX_isFormula post p :=
  br_c (fun h => h1 0 (by omega) h) (fun h => br_c (fun h2 => h1 1 (by omega) h2) (fun h2 => h0 h h2))
theorem sc_ix (f k : Nat) : nI f * 6 + nI k = nI (6 * f + k) := by
  show nI f * nI 6 + nI k = _
  rw [pk_mul, nI_add, Nat.mul_comm]
theorem sc_ixy (f k : Nat) : 6 * nI f + nI k = nI (6 * f + k) := by
  show nI 6 * nI f + nI k = _
  rw [pk_mul, nI_add]
theorem sc_xval {post : Int32 → Prop} {f c : Nat} (hf : f < 2) (hc : cc f = nI c) (h6 : c ≤ 6) {x : Int32} (hp : post (sc_b (sc_v cp cn (6 * f) x c))) : ∀ d k, k + d = c → sc_v cp cn (6 * f) x k = true → wX_value_2 post (nI f) x vn vm vs vg vr vt cp cn cc ch se ho ta tb (d + 1) (nI k) := by
  have ef : (nI f).toNatClampNeg = f := nI_clamp (by omega)
  have hi : vp_in (nI f) 2 := vp_in_nI hf (by omega)
  intro d
  induction d with
  | zero =>
    intro k hk hv
    refine ⟨hi, br_t ?_ ?_⟩
    · rw [ef, hc]
      exact nI_le (by omega) (by omega)
    · rw [← hk, Nat.add_zero, hv] at hp
      exact hp
  | succ d ih =>
    intro k hk hv
    have hj : vp_in (nI (6 * f + k)) 12 := vp_in_nI (by omega) (by omega)
    have ej : (nI (6 * f + k)).toNatClampNeg = 6 * f + k := nI_clamp (by omega)
    refine ⟨hi, br_f ?_ (nm_r (sc_ix f k) ⟨hj, hj, ?_⟩)⟩
    · rw [ef, hc]
      exact nI_ge (by omega) (by omega)
    · rw [ej]
      refine br_c (fun h => ?_) (fun h => ?_)
      · have e : sc_v cp cn (6 * f) x (k + 1) = false := by
          show (sc_v cp cn (6 * f) x k && decide (¬ _ = 0)) = false
          rw [hv, decide_eq_false (fun z => z h)]
          rfl
        have e2 := sc_v_f e d
        rw [show k + 1 + d = c from by omega] at e2
        rw [e2] at hp
        exact hp
      · refine nm_r (nI_1 k) (ih (k + 1) (by omega) ?_)
        show (sc_v cp cn (6 * f) x k && decide (¬ _ = 0)) = true
        rw [hv, decide_eq_true h]
        rfl
theorem sc_value {post : Int32 → Prop} {f c : Nat} (hf : f < 2) (hc : cc f = nI c) (h6 : c ≤ 6) {x : Int32} (hp : post (sc_b (sc_v cp cn (6 * f) x c))) : wpX_value post (vn, vm, vs, vg, vr, vt, cp, cn, cc, ch, se, ho, ta, tb) (nI f) x :=
  ⟨c + 1, sc_xval hf hc h6 hp c 0 (by omega) rfl⟩
theorem sc_nrb (t : Bool) : narrow .boolean (.int (sc_b t)) = .int (sc_b t) := by cases t <;> rfl
theorem sc_yhold {post : Int32 → Prop} {f c : Nat} (hf : f < 2) (hc : dc f = nI c) (h6 : c ≤ 6) {x : Int32} (hp : post (sc_b (sc_v dp dn (6 * f) x c))) : ∀ d k, k + d = c → wY_holds_30 post (nI f) x wn wm ws wg wv dc dp dn sd ak zz (d + 1) (sc_b (sc_v dp dn (6 * f) x k)) (nI k) := by
  have ef : (nI f).toNatClampNeg = f := nI_clamp (by omega)
  have hi : vp_in (nI f) 2 := vp_in_nI hf (by omega)
  intro d
  induction d with
  | zero =>
    intro k hk
    refine ⟨hi, br_t ?_ ⟨sc_nrb _, ?_⟩⟩
    · rw [ef, hc]
      exact nI_le (by omega) (by omega)
    · rw [← hk, Nat.add_zero] at hp
      exact hp
  | succ d ih =>
    intro k hk
    have ih2 := ih (k + 1) (by omega)
    have hj : vp_in (6 * nI f + nI k) 12 := by rw [sc_ixy]; exact vp_in_nI (by omega) (by omega)
    have ej : (6 * nI f + nI k).toNatClampNeg = 6 * f + k := by rw [sc_ixy]; exact nI_clamp (by omega)
    have hs : sc_v dp dn (6 * f) x (k + 1) = (sc_v dp dn (6 * f) x k && sc_lit (dp (6 * f + k)) (dn (6 * f + k)) x) := rfl
    have hl := sc_lit_y (dp (6 * f + k)) (dn (6 * f + k)) x
    refine ⟨hi, br_f ?_ (br_f (nI_ge (b := 6) (by omega) (by omega)) ?_)⟩
    · rw [ef, hc]
      exact nI_ge (by omega) (by omega)
    · cases hv : sc_v dp dn (6 * f) x k with
      | false =>
        rw [hs, hv] at ih2
        exact br_t rfl (nm_r (nI_1 k) ih2)
      | true =>
        rw [hs, hv, Bool.true_and] at ih2
        refine br_f (by decide) ⟨hj, ?_⟩
        rw [ej]
        refine br_c (fun h => ⟨hj, br_c (fun h2 => nm_r (nI_1 k) ?_) (fun h2 => nm_r (nI_1 k) ?_)⟩) (fun h => nm_r (nI_1 k) ?_)
        · have e : sc_lit (dp (6 * f + k)) (dn (6 * f + k)) x = false := by
            rw [← Bool.not_eq_true, hl]
            exact fun z => z.elim (fun a => a h) (fun a => a h2)
          rw [e] at ih2
          exact ih2
        · rw [hl.mpr (Or.inr h2)] at ih2
          exact ih2
        · rw [hl.mpr (Or.inl h)] at ih2
          exact ih2
theorem sc_holds9 {post : Int32 → Prop} {f c : Nat} (hf : f < 2) (hc : dc f = nI c) (h6 : c ≤ 6) (hn : n ≤ 5) {j : Nat} (hj : j < 2 ^ n) (hp : post (sc_b (sc_v dp dn (6 * f) (nI j) c))) : wY_holds_9 post (nI f) (nI j) (nI n) wm ws wg wv dc dp dn sd ak zz := by
  have h32 := sc_pow hn
  refine br_f (nI_pos (by omega)) (br_t ?_ ⟨c + 1, sc_yhold hf hc h6 hp c 0 (by omega)⟩)
  rw [sc_shl n (by omega)]
  exact nI_lt hj (by omega)
theorem sc_holds {post : Int32 → Prop} {f c : Nat} (hf : f < 2) (hc : dc f = nI c) (h6 : c ≤ 6) (hn : n ≤ 5) {j : Nat} (hj : j < 2 ^ n) (hp : post (sc_b (sc_v dp dn (6 * f) (nI j) c))) : wpY_holds post (nI n, wm, ws, wg, wv, dc, dp, dn, sd, ak, zz) (nI f) (nI j) := by
  have h := sc_holds9 (wm := wm) (ws := ws) (wg := wg) (wv := wv) (sd := sd) (ak := ak) (zz := zz) hf hc h6 hn hj hp
  exact sc_ff2 hf h
/-! the count -/
def sc_cnt (a b : Nat → Bool) : Nat → Int32
  | 0 => 0
  | x + 1 => sc_cnt a b x + sc_b (a x && b x)
theorem sc_bm (a b : Bool) : sc_b a * sc_b b = sc_b (a && b) := by cases a <;> cases b <;> decide
theorem sc_xcnt {post : Int32 → Prop} {c0 c1 : Nat} (h0 : cc 0 = nI c0) (h06 : c0 ≤ 6) (h1 : cc 1 = nI c1) (h16 : c1 ≤ 6) (hn : n ≤ 5) (hp : post (sc_cnt (fun x => sc_v cp cn 0 (nI x) c0) (fun x => sc_v cp cn 6 (nI x) c1) (2 ^ n))) : ∀ d x, x + d = 2 ^ n → wX_count_11 post (nI (2 ^ n)) vn vm vs vg vr vt cp cn cc ch se ho ta tb (d + 1) (sc_cnt (fun x => sc_v cp cn 0 (nI x) c0) (fun x => sc_v cp cn 6 (nI x) c1) x) (nI x) := by
  have h32 := sc_pow hn
  intro d
  induction d with
  | zero =>
    intro x hx
    refine br_t (nI_le (by omega) (by omega)) ?_
    rw [show x = 2 ^ n from by omega]
    exact hp
  | succ d ih =>
    intro x hx
    refine br_f (nI_ge (by omega) (by omega)) (sc_value (f := 0) (by omega) h0 h06 (sc_value (f := 1) (by omega) h1 h16 (nm_r ?_ (nm_r (nI_1 x) (ih (x + 1) (by omega))))))
    rw [sc_bm]
    rfl
theorem sc_ycnt {post : Int32 → Prop} {c0 c1 : Nat} (h0 : dc 0 = nI c0) (h06 : c0 ≤ 6) (h1 : dc 1 = nI c1) (h16 : c1 ≤ 6) (hn : n ≤ 5) (hp : post (sc_cnt (fun x => sc_v dp dn 0 (nI x) c0) (fun x => sc_v dp dn 6 (nI x) c1) (2 ^ n))) : ∀ d x, x + d = 2 ^ n → wY_count_4 post (nI n) wm ws wg wv dc dp dn sd ak zz (d + 1) (sc_cnt (fun x => sc_v dp dn 0 (nI x) c0) (fun x => sc_v dp dn 6 (nI x) c1) x) (nI x) := by
  have h32 := sc_pow hn
  intro d
  induction d with
  | zero =>
    intro x hx
    refine br_t ?_ ?_
    · rw [sc_shl n (by omega)]
      exact nI_le (by omega) (by omega)
    · rw [show x = 2 ^ n from by omega]
      exact hp
  | succ d ih =>
    intro x hx
    have ih2 := ih (x + 1) (by omega)
    have hs : sc_cnt (fun x => sc_v dp dn 0 (nI x) c0) (fun x => sc_v dp dn 6 (nI x) c1) (x + 1) = sc_cnt (fun x => sc_v dp dn 0 (nI x) c0) (fun x => sc_v dp dn 6 (nI x) c1) x + sc_b (sc_v dp dn 0 (nI x) c0 && sc_v dp dn 6 (nI x) c1) := rfl
    rw [hs] at ih2
    refine br_f ?_ (sc_holds (f := 0) (by omega) h0 h06 hn (by omega) ?_)
    · rw [sc_shl n (by omega)]
      exact nI_ge (by omega) (by omega)
    · show (sc_b (sc_v dp dn 0 (nI x) c0) = 0 → _) ∧ (¬ sc_b (sc_v dp dn 0 (nI x) c0) = 0 → _)
      cases hv : sc_v dp dn 0 (nI x) c0 with
      | false =>
        rw [hv] at ih2
        exact br_t rfl (nm_e (nm_r (nI_1 x) ih2))
      | true =>
        rw [hv, Bool.true_and] at ih2
        refine br_f (by decide) (sc_holds (f := 1) (by omega) h1 h16 hn (by omega) ?_)
        show (sc_b (sc_v dp dn 6 (nI x) c1) = 0 → _) ∧ (¬ sc_b (sc_v dp dn 6 (nI x) c1) = 0 → _)
        cases hv2 : sc_v dp dn 6 (nI x) c1 with
        | false =>
          rw [hv2] at ih2
          exact br_t rfl (nm_e (nm_r (nI_1 x) ih2))
        | true =>
          rw [hv2] at ih2
          exact br_f (by decide) (nm_e (nm_r (nI_1 x) ih2))
end sc04
end
section
/-! Y: extensions, sums, sending, interpolation -/
def sc_T (cp cn : Nat → Int32) (f c x : Nat) : Int := if sc_v cp cn (6 * f) (nI x) c = true then 1 else 0
def sc_st (a b : Int) : Int32 := if sc_f a = sc_f b then 1 else 3
theorem sc_bitI : ∀ x, x < 32 → ∀ i, i < 5 → (nI x >>> (nI i &&& 31)) &&& 1 = nI (x / 2 ^ i % 2) := by decide +kernel
theorem sc_lmulE {p : Int64} {a : Int} (hp : p = sc_l a) (b : Int) : (p * sc_l b).toInt % 2147483647 = (a * b) % 2147483647 := by
  rw [hp]; exact sc_lmul a b
theorem sc_lsub_1 (a : Int) : (sc_l a - 1).toInt % 2147483647 = (a - 1) % 2147483647 := by
  rw [sc_l1]; exact sc_lsub a 1
theorem sc_lsub_2 (a : Int) : (sc_l a - 2).toInt % 2147483647 = (a - 2) % 2147483647 := by
  rw [sc_l2]; exact sc_lsub a 2
theorem sc_l1sub {p : Int64} {a : Int} (hp : p = sc_l a) : (1 - p).toInt % 2147483647 = (1 - a) % 2147483647 := by
  rw [hp, sc_l1]; exact sc_lsub 1 a
theorem sc_lmul_h (a : Int) : (sc_l a * 1073741824).toInt % 2147483647 = (a * 1073741824) % 2147483647 := by
  rw [sc_lh]; exact sc_lmul a _
theorem sc_ladd0 (a : Int) : (sc_l a + 0).toInt % 2147483647 = (a + 0) % 2147483647 := by
  rw [sc_l0]; exact sc_ladd a 0
theorem sc_laddE {p q : Int64} {a b : Int} (hp : p = sc_l a) (hq : q = sc_l b) : (p + q).toInt % 2147483647 = (a + b) % 2147483647 := by
  rw [hp, hq]; exact sc_ladd a b
section sc05
variable {wn wm ws wg : Int32} {wv : Int64} {dc dp dn : Nat → Int32} {sd ak zz : Nat → Int64} {n g m c0 c1 : Nat}
theorem sc_at32 {post : Int64 → Prop} {J5 : Int64 → Int32 → Prop} {x1 : Int32} {z : Nat → Int} {s : Int} {x : Nat} (hn : n ≤ 5) (hx : x < 32) (hz : ∀ i, i < n → zz i = sc_l (z i)) (HJ : J5 (sc_l (s + sc_pr z x n)) (nI (x + 1))) : ∀ d i, i + d = n → wY_at_32 post J5 x1 (sc_l s) (nI x) (nI n) wm ws wg wv dc dp dn sd ak zz (d + 1) (sc_l (sc_pr z x i)) (nI i) := by
  intro d
  induction d with
  | zero =>
    intro i hi
    refine br_t (nI_le (by omega) (by omega)) (sc_field (sc_ladd _ _) (nm_r (nI_1 x) ?_))
    rw [show i = n from by omega]
    exact HJ
  | succ d ih =>
    intro i hi
    have ih2 := ih (i + 1) (by omega)
    have hin : vp_in (nI i) 5 := vp_in_nI (by omega) (by omega)
    have ei : zz (nI i).toNatClampNeg = sc_l (z i) := by rw [nI_clamp (by omega), hz i (by omega)]
    refine br_f (nI_ge (by omega) (by omega)) ?_
    rw [sc_bitI x hx i (by omega)]
    refine pk_eq (x / 2 ^ i % 2) 1 (fun e => ⟨hin, ?_⟩) (fun e => ⟨hin, ?_⟩)
    · have ef : sc_pr z x (i + 1) = sc_pr z x i * z i := by
        show _ * sc_fac z x i = _
        unfold sc_fac
        rw [if_pos e]
      rw [ef] at ih2
      unfold wY_at_78
      rw [ei]
      exact sc_field (sc_lmul _ _) (nm_r (nI_1 i) ih2)
    · have ef : sc_pr z x (i + 1) = sc_pr z x i * (1 - z i) := by
        show _ * sc_fac z x i = _
        unfold sc_fac
        rw [if_neg e]
      rw [ef] at ih2
      exact sc_field (sc_l1sub ei) (sc_field (sc_lmul _ _) (nm_r (nI_1 i) ih2))
theorem sc_at5 {post : Int64 → Prop} {z : Nat → Int} {f c : Nat} (hf : f < 2) (hc : dc f = nI c) (h6 : c ≤ 6) (hn : n ≤ 5) (hz : ∀ i, i < n → zz i = sc_l (z i)) (hp : post (sc_l (sc_E (sc_T dp dn f c) z n))) : ∀ d x, x + d = 2 ^ n → wY_at_5 post (nI f) (nI n) wm ws wg wv dc dp dn sd ak zz (d + 1) (sc_l (sc_S (fun x => sc_T dp dn f c x * sc_pr z x n) x)) (nI x) := by
  have h32 := sc_pow hn
  intro d
  induction d with
  | zero =>
    intro x hx
    refine br_t ?_ ?_
    · rw [sc_shl n (by omega)]
      exact nI_le (by omega) (by omega)
    · rw [show x = 2 ^ n from by omega]
      exact hp
  | succ d ih =>
    intro x hx
    have ih2 := ih (x + 1) (by omega)
    have hs : sc_S (fun x => sc_T dp dn f c x * sc_pr z x n) (x + 1) = sc_S (fun x => sc_T dp dn f c x * sc_pr z x n) x + sc_T dp dn f c x * sc_pr z x n := rfl
    rw [hs] at ih2
    refine br_f ?_ (sc_holds hf hc h6 hn (by omega) ?_)
    · rw [sc_shl n (by omega)]
      exact nI_ge (by omega) (by omega)
    · show (sc_b (sc_v dp dn (6 * f) (nI x) c) = 0 → _) ∧ (¬ sc_b (sc_v dp dn (6 * f) (nI x) c) = 0 → _)
      cases hv : sc_v dp dn (6 * f) (nI x) c with
      | false =>
        have e : sc_T dp dn f c x = 0 := by
          unfold sc_T
          rw [hv]
          rfl
        rw [e, Int.zero_mul, Int.add_zero] at ih2
        exact br_t rfl (nm_r (nI_1 x) ih2)
      | true =>
        have e : sc_T dp dn f c x = 1 := by
          unfold sc_T
          rw [hv]
          rfl
        rw [e, Int.one_mul] at ih2
        have k := sc_at32 (post := post) (x1 := nI f) (wm := wm) (ws := ws) (wg := wg) (wv := wv) (dc := dc) (dp := dp) (dn := dn) (sd := sd) (ak := ak) hn (show x < 32 by omega) hz ih2 n 0 (by omega)
        have e1 : sc_l (sc_pr z x 0) = 1 := sc_l1.symm
        rw [e1] at k
        exact br_f (by decide) ⟨n + 1, k⟩
theorem sc_at {post : Int64 → Prop} {z : Nat → Int} {f c : Nat} (hf : f < 2) (hc : dc f = nI c) (h6 : c ≤ 6) (hn : n ≤ 5) (hz : ∀ i, i < n → zz i = sc_l (z i)) (hp : post (sc_l (sc_E (sc_T dp dn f c) z n))) : wpY_at post (nI n, wm, ws, wg, wv, dc, dp, dn, sd, ak, zz) (nI f) := by
  have k := sc_at5 (wm := wm) (ws := ws) (wg := wg) (wv := wv) (sd := sd) (ak := ak) hf hc h6 hn hz hp (2 ^ n) 0 (by omega)
  have e1 : sc_l (sc_S (fun x => sc_T dp dn f c x * sc_pr z x n) 0) = 0 := sc_l0.symm
  rw [e1] at k
  exact ⟨2 ^ n + 1, k⟩
theorem sc_both {post : Int64 → Prop} {z : Nat → Int} (h0 : dc 0 = nI c0) (h06 : c0 ≤ 6) (h1 : dc 1 = nI c1) (h16 : c1 ≤ 6) (hn : n ≤ 5) (hz : ∀ i, i < n → zz i = sc_l (z i)) (hp : post (sc_l (sc_E (sc_T dp dn 0 c0) z n * sc_E (sc_T dp dn 1 c1) z n))) : wpY_both post (nI n, wm, ws, wg, wv, dc, dp, dn, sd, ak, zz) :=
  sc_at (f := 0) (by omega) h0 h06 hn hz (sc_at (f := 1) (by omega) h1 h16 hn hz (sc_field (sc_lmul _ _) hp))
theorem sc_updL {z : Nat → Int} {i : Nat} {v : Int64} (hi : i < 5) (h : ∀ k, k < i → zz k = sc_l (z k)) (hv : v = sc_l (z i)) : ∀ k, k < i + 1 → vp_updL zz (nI i).toNatClampNeg v k = sc_l (z k) := by
  intro k hk
  rw [nI_clamp (by omega)]
  by_cases e : k = i
  · rw [e, pk_uLs, hv]
  · rw [pk_uLn e, h k (by omega)]
theorem sc_g26 {post : Int64 → SY → Prop} {J5 : Int64 → Int32 → (Nat → Int32) → (Nat → Int32) → (Nat → Int32) → (Nat → Int64) → (Nat → Int64) → (Nat → Int64) → Prop} {r : Nat → Int} {s : Int} {t y : Nat} (h0 : dc 0 = nI c0) (h06 : c0 ≤ 6) (h1 : dc 1 = nI c1) (h16 : c1 ≤ 6) (hn : n ≤ 5) (hg : g < n) (ht : t < 3) (hy : y < 32) (hak : ∀ i, i < g → ak i = sc_l (r i)) (HJ : ∀ zz', J5 (sc_l (s + sc_E (sc_T dp dn 0 c0) (sc_Z r g t y) n * sc_E (sc_T dp dn 1 c1) (sc_Z r g t y) n)) (nI (y + 1)) dc dp dn sd ak zz') : ∀ d i zz, i + d = n → (∀ k, k < i → zz k = sc_l (sc_Z r g t y k)) → wY_g_26 post J5 (nI t) (sc_l s) (nI y) (nI n) wm ws (nI g) wv (d + 1) (nI i) dc dp dn sd ak zz := by
  intro d
  induction d with
  | zero =>
    intro i zz hi hz
    have e : i = n := by omega
    rw [e] at hz
    exact br_t (nI_le (by omega) (by omega)) (sc_both h0 h06 h1 h16 hn hz (sc_field (sc_ladd _ _) (nm_r (nI_1 y) (HJ zz))))
  | succ d ih =>
    intro i zz hi hz
    have hin : vp_in (nI i) 5 := vp_in_nI (by omega) (by omega)
    refine br_f (nI_ge (by omega) (by omega)) (pk_le g i (fun hgi => pk_eq i g (fun e => ⟨hin, nm_e (nm_r (nI_1 i) (ih (i + 1) _ (by omega) (sc_updL (by omega) hz ?_)))⟩) (fun e => ⟨hin, nm_e (nm_r (nI_1 i) (ih (i + 1) _ (by omega) (sc_updL (by omega) hz ?_)))⟩)) (fun hgi => ⟨hin, hin, nm_e (nm_r (nI_1 i) (ih (i + 1) _ (by omega) (sc_updL (by omega) hz ?_)))⟩))
    · unfold sc_Z
      rw [if_neg (by omega), if_pos e, nI_l (by omega), sc_ln (by omega)]
    · unfold sc_Z sc_bit
      rw [if_neg (by omega), if_neg e, pk_sub hgi, show i - g = (i - g - 1) + 1 from by omega, nI_pred, sc_bitI y hy _ (by omega), nI_l (by omega), sc_ln (by omega)]
      rfl
    · unfold sc_Z
      rw [if_pos hgi, nI_clamp (by omega), hak i hgi]
theorem sc_g5 {post : Int64 → SY → Prop} {r : Nat → Int} {t : Nat} (h0 : dc 0 = nI c0) (h06 : c0 ≤ 6) (h1 : dc 1 = nI c1) (h16 : c1 ≤ 6) (hn : g + (m + 1) ≤ 5) (ht : t < 3) (hak : ∀ i, i < g → ak i = sc_l (r i)) (H : ∀ zz', post (sc_l (sc_H (sc_tab (sc_T dp dn 0 c0) r g) (sc_tab (sc_T dp dn 1 c1) r g) t (2 ^ m))) (nI (g + (m + 1)), wm, ws, nI g, wv, dc, dp, dn, sd, ak, zz')) : ∀ d y zz, y + d = 2 ^ m → wY_g_5 post (nI t) (nI (g + (m + 1))) wm ws (nI g) wv (d + 1) (sc_l (sc_H (sc_tab (sc_T dp dn 0 c0) r g) (sc_tab (sc_T dp dn 1 c1) r g) t y)) (nI y) dc dp dn sd ak zz := by
  have h32 : 2 ^ m ≤ 32 := sc_pow (by omega)
  have em : (1 : Int32) <<< (((nI (g + (m + 1)) - 1) - nI g) &&& 31) = nI (2 ^ m) := by
    rw [← Nat.add_assoc, nI_pred, pk_sub (by omega), Nat.add_sub_cancel_left, sc_shl m (by omega)]
  intro d
  induction d with
  | zero =>
    intro y zz hy
    refine br_t ?_ ?_
    · rw [em]
      exact nI_le (by omega) (by omega)
    · rw [show y = 2 ^ m from by omega]
      exact H zz
  | succ d ih =>
    intro y zz hy
    refine br_f ?_ ⟨g + (m + 1) + 1, sc_g26 (r := r) h0 h06 h1 h16 hn (by omega) ht (by omega) hak (fun zz' => ?_) (g + (m + 1)) 0 zz (by omega) (fun k hk => absurd hk (by omega))⟩
    · rw [em]
      exact nI_ge (by omega) (by omega)
    · rw [sc_E_Z _ _ _ _ _ _ (by omega), sc_E_Z _ _ _ _ _ _ (by omega)]
      exact ih (y + 1) zz' (by omega)
theorem sc_g {post : Int64 → SY → Prop} {r : Nat → Int} {t : Nat} (h0 : dc 0 = nI c0) (h06 : c0 ≤ 6) (h1 : dc 1 = nI c1) (h16 : c1 ≤ 6) (hn : g + (m + 1) ≤ 5) (ht : t < 3) (hak : ∀ i, i < g → ak i = sc_l (r i)) (H : ∀ zz', post (sc_l (sc_H (sc_tab (sc_T dp dn 0 c0) r g) (sc_tab (sc_T dp dn 1 c1) r g) t (2 ^ m))) (nI (g + (m + 1)), wm, ws, nI g, wv, dc, dp, dn, sd, ak, zz')) : wpY_g post (nI (g + (m + 1)), wm, ws, nI g, wv, dc, dp, dn, sd, ak, zz) (nI t) := by
  have k := sc_g5 h0 h06 h1 h16 hn ht hak H (2 ^ m) 0 zz (by omega)
  have e1 : sc_l (sc_H (sc_tab (sc_T dp dn 0 c0) r g) (sc_tab (sc_T dp dn 1 c1) r g) t 0) = 0 := sc_l0.symm
  rw [e1] at k
  exact ⟨2 ^ m + 1, k⟩
theorem sc_s146 {post : SY → Prop} {z0 z1 : Int64} {a w s0 s1 : Int} (he : (z1 + z0).toInt % 2147483647 = a % 2147483647) (hs0 : sd 0 = sc_l s0) (hs1 : sd 1 = sc_l s1) (H : ∀ sd', sd' 0 = sc_l s0 → sd' 1 = sc_l s1 → sd' 2 = sc_l a → post (wn, wm, sc_st (s0 + s1) w, wg, sc_l w, dc, dp, dn, sd', ak, zz)) : wY_send_146 post z0 z1 2 wn wm ws wg (sc_l w) dc dp dn sd ak zz := by
  have e2 : (2 : Int32).toNatClampNeg = 2 := by decide
  have k := H (vp_updL sd 2 (sc_l a)) ((pk_uLn (by decide)).trans hs0) ((pk_uLn (by decide)).trans hs1) pk_uLs
  refine sc_field he ⟨vp_in_nI (n := 2) (by omega) (by omega), nm_r (congrArg (fun j => vp_updL sd j (sc_l a)) e2) (sc_field (sc_laddE ((pk_uLn (by decide)).trans hs0) ((pk_uLn (by decide)).trans hs1)) (br_c (fun h => ?_) (fun h => ?_)))⟩
  · have e : sc_st (s0 + s1) w = 1 := if_pos ((sc_ll _ _).mp h)
    rw [e] at k
    exact k
  · have e : sc_st (s0 + s1) w = 3 := if_neg (fun q => h ((sc_ll _ _).mpr q))
    rw [e] at k
    exact k
theorem sc_s105 {post : SY → Prop} {z0 z1 : Int64} {h2 gap w s0 s1 : Int} (he : (z1 + z0).toInt % 2147483647 = s1 % 2147483647) (hs0 : sd 0 = sc_l s0) (H : ∀ sd', sd' 0 = sc_l s0 → sd' 1 = sc_l s1 → sd' 2 = sc_l (h2 + sc_sh wm gap 2) → post (wn, wm, sc_st (s0 + s1) w, wg, sc_l w, dc, dp, dn, sd', ak, zz)) : wY_send_105 post (sc_l h2) (sc_l gap) (sc_l (gap * 1073741824)) z0 z1 1 wn wm ws wg (sc_l w) dc dp dn sd ak zz := by
  have e1 : (1 : Int32).toNatClampNeg = 1 := by decide
  refine sc_field he ⟨vp_in_nI (n := 1) (by omega) (by omega), nm_r (congrArg (fun j => vp_updL sd j (sc_l s1)) e1) (br_c (fun h => ?_) (fun h => br_c (fun h' => ?_) (fun h' => ?_)))⟩
  · refine sc_s146 ?_ ((pk_uLn (by decide)).trans hs0) pk_uLs H
    rw [show sc_sh wm gap 2 = gap * 1073741824 from if_pos h]
    exact sc_ladd _ _
  · refine sc_s146 ?_ ((pk_uLn (by decide)).trans hs0) pk_uLs H
    rw [show sc_sh wm gap 2 = 0 - gap from (if_neg h).trans (if_pos h'), show h2 + (0 - gap) = h2 - gap from by omega]
    exact sc_laddn _ _
  · refine sc_s146 ?_ ((pk_uLn (by decide)).trans hs0) pk_uLs H
    rw [show sc_sh wm gap 2 = 0 from (if_neg h).trans (if_neg h')]
    exact sc_ladd0 _
theorem sc_s79 {post : SY → Prop} {z0 z1 : Int64} {h1 h2 gap w s0 : Int} (he : (z1 + z0).toInt % 2147483647 = s0 % 2147483647) (H : ∀ sd', sd' 0 = sc_l s0 → sd' 1 = sc_l (h1 + sc_sh wm gap 1) → sd' 2 = sc_l (h2 + sc_sh wm gap 2) → post (wn, wm, sc_st (s0 + (h1 + sc_sh wm gap 1)) w, wg, sc_l w, dc, dp, dn, sd', ak, zz)) : wY_send_79 post (sc_l h1) (sc_l h2) (sc_l gap) (sc_l (gap * 1073741824)) z0 z1 0 wn wm ws wg (sc_l w) dc dp dn sd ak zz := by
  have e1 : (0 : Int32).toNatClampNeg = 0 := by decide
  refine sc_field he ⟨vp_in_nI (n := 0) (by omega) (by omega), nm_r (congrArg (fun j => vp_updL sd j (sc_l s0)) e1) (br_c (fun h => ?_) (fun h => ?_))⟩
  · refine sc_s105 ?_ pk_uLs H
    rw [show sc_sh wm gap 1 = gap * 1073741824 from if_pos h]
    exact sc_ladd _ _
  · refine sc_s105 ?_ pk_uLs H
    have e : sc_sh wm gap 1 = 0 := by
      unfold sc_sh
      rw [if_neg h]
      split <;> rfl
    rw [e]
    exact sc_ladd0 _
theorem sc_ysend {post : SY → Prop} {r : Nat → Int} {w : Int} {A B : Nat → Int} (hnm : n = g + (m + 1)) (hA : A = sc_tab (sc_T dp dn 0 c0) r g) (hB : B = sc_tab (sc_T dp dn 1 c1) r g) (h0 : dc 0 = nI c0) (h06 : c0 ≤ 6) (h1 : dc 1 = nI c1) (h16 : c1 ≤ 6) (hn : n ≤ 5) (hak : ∀ i, i < g → ak i = sc_l (r i)) (H : ∀ sd' zz', (∀ t, t < 3 → sd' t = sc_l (sc_sent wm A B w (2 ^ m) t)) → post (nI n, wm, sc_st (sc_sent wm A B w (2 ^ m) 0 + sc_sent wm A B w (2 ^ m) 1) w, nI g, sc_l w, dc, dp, dn, sd', ak, zz')) : wpY_send post (nI n, wm, ws, nI g, sc_l w, dc, dp, dn, sd, ak, zz) := by
  subst hA hB hnm
  refine sc_g (t := 0) h0 h06 h1 h16 hn (by omega) hak (fun z1 => sc_g (t := 1) h0 h06 h1 h16 hn (by omega) hak (fun z2 => sc_g (t := 2) h0 h06 h1 h16 hn (by omega) hak (fun z3 => sc_field (sc_lsub2 w _ _) (sc_field (sc_lmul_h _) ?_))))
  refine br_c (fun h => sc_s79 (s0 := sc_sent wm _ _ w (2 ^ m) 0) ?_ (fun sd' a b c => H sd' z3 (sc_3 a b c))) (fun h => br_c (fun h' => sc_s79 (s0 := sc_sent wm _ _ w (2 ^ m) 0) ?_ (fun sd' a b c => H sd' z3 (sc_3 a b c))) (fun h' => sc_s79 (s0 := sc_sent wm _ _ w (2 ^ m) 0) ?_ (fun sd' a b c => H sd' z3 (sc_3 a b c))))
  · unfold sc_sent
    rw [show ∀ gap, sc_sh wm gap 0 = gap * 1073741824 from fun gap => if_pos h]
    exact sc_ladd _ _
  · unfold sc_sent
    rw [show ∀ gap, sc_sh wm gap 0 = gap from fun gap => (if_neg h).trans (if_pos h')]
    exact sc_ladd _ _
  · unfold sc_sent
    rw [show ∀ gap, sc_sh wm gap 0 = 0 from fun gap => (if_neg h).trans (if_neg h')]
    exact sc_ladd0 _
theorem sc_through {post : Int64 → Prop} {s : Nat → Int} {r : Int} (hs : ∀ t, t < 3 → sd t = sc_l (s t)) (h : post (sc_l (sc_via s r))) : wpY_through post (wn, wm, ws, wg, wv, dc, dp, dn, sd, ak, zz) (sc_l r) := by
  rw [← sc_lm (sc_via_y s r)] at h
  unfold wpY_through
  dsimp only
  exact sc_field (sc_lsub_1 r) (sc_field (sc_lsub_2 r) (sc_field (sc_lmul _ _) (sc_field (sc_lsub_2 r) (sc_field (sc_lmul _ _) (sc_field (sc_lsub_1 r) (sc_field (sc_lmul _ _) (sc_field (sc_lmulE (hs 0 (by omega)) _) (sc_field (sc_lmul_h _) (sc_field (sc_lmulE (hs 1 (by omega)) _) (sc_field (sc_lmulE (hs 2 (by omega)) _) (sc_field (sc_lmul_h _) (sc_field (sc_lsubadd _ _ _) h))))))))))))
end sc05
end
section
/-! X: sums, sending, start, folding, interpolation -/
theorem sc_2 (j : Nat) : 2 * nI j = nI (2 * j) := pk_mul 2 j
theorem sc_21 (j : Nat) : 2 * nI j + 1 = nI (2 * j + 1) := by rw [sc_2, nI_1]
theorem sc_bT (cp cn : Nat → Int32) (f c x : Nat) : sc_b (sc_v cp cn (6 * f) (nI x) c) = sc_i (sc_T cp cn f c x) := by
  unfold sc_T
  cases sc_v cp cn (6 * f) (nI x) c
  · exact sc_i0
  · exact sc_i1
theorem sc_minusG {post : Int32 → Prop} {p q : Int32} {a b c : Int} (hp : p = sc_i a) (hq : q = sc_i b) (hc : a - b = c) (h : post (sc_i c)) : wpX_minus post p q := by
  subst hc
  exact sc_minusE hp hq h
theorem sc_upd {z : Nat → Int} {a : Nat → Int32} {i : Nat} {v : Int32} (hi : i < 32) (h : ∀ k, k < i → a k = sc_i (z k)) (hv : v = sc_i (z i)) : ∀ k, k < i + 1 → upd a (nI i).toNatClampNeg v k = sc_i (z k) := by
  intro k hk
  rw [nI_clamp (by omega)]
  by_cases e : k = i
  · rw [e, pk_us, hv]
  · rw [pk_un e, h k (by omega)]
section sc06
variable {vn vm vs vg vr vt : Int32} {cp cn cc ch se ho ta tb : Nat → Int32} {n g m c0 c1 : Nat} {A B : Nat → Int}
theorem sc_addTo {post : SX → Prop} {t : Nat} {p q : Int32} {a b h : Int} (ht : t < 3) (hp : p = sc_i a) (hq : q = sc_i b) (hh : ho t = sc_i h) (H : post (vn, vm, vs, vg, vr, vt, cp, cn, cc, ch, se, upd ho t (sc_i (h + a * b)), ta, tb)) : wpX_addTo post (vn, vm, vs, vg, vr, vt, cp, cn, cc, ch, se, ho, ta, tb) (nI t) p q := by
  have et : (nI t).toNatClampNeg = t := nI_clamp (by omega)
  have hi : vp_in (nI t) 3 := vp_in_nI ht (by omega)
  unfold wpX_addTo
  dsimp only
  refine sc_timesE hp hq ⟨hi, ?_⟩
  rw [et]
  exact sc_plusE hh rfl ⟨hi, nm_e H⟩
theorem sc_xsum30 {post : SX → Prop} {h : Nat} (hh : h ≤ 16) (hA : ∀ j, j < 2 * h → ta j = sc_i (A j)) (hB : ∀ j, j < 2 * h → tb j = sc_i (B j)) (H : ∀ ho', (∀ t, t < 3 → ho' t = sc_i (sc_H A B t h)) → post (vn, vm, vs, vg, vr, vt, cp, cn, cc, ch, se, ho', ta, tb)) : ∀ d j ho, j + d = h → ho 0 = sc_i (sc_H A B 0 j) → ho 1 = sc_i (sc_H A B 1 j) → ho 2 = sc_i (sc_H A B 2 j) → wX_sum_30 post (nI h) (d + 1) (nI j) vn vm vs vg vr vt cp cn cc ch se ho ta tb := by
  intro d
  induction d with
  | zero =>
    intro j ho hj h0 h1 h2
    have e : j = h := by omega
    rw [e] at h0 h1 h2
    exact br_t (nI_le (by omega) (by omega)) (H ho (sc_3 h0 h1 h2))
  | succ d ih =>
    intro j ho hj h0 h1 h2
    have i2 : vp_in (2 * nI j) 32 := by rw [sc_2]; exact vp_in_nI (by omega) (by omega)
    have i21 : vp_in (2 * nI j + 1) 32 := by rw [sc_21]; exact vp_in_nI (by omega) (by omega)
    have a0 : ta (2 * nI j).toNatClampNeg = sc_i (A (2 * j)) := by rw [sc_2, nI_clamp (by omega), hA _ (by omega)]
    have a1 : ta (2 * nI j + 1).toNatClampNeg = sc_i (A (2 * j + 1)) := by rw [sc_21, nI_clamp (by omega), hA _ (by omega)]
    have b0 : tb (2 * nI j).toNatClampNeg = sc_i (B (2 * j)) := by rw [sc_2, nI_clamp (by omega), hB _ (by omega)]
    have b1 : tb (2 * nI j + 1).toNatClampNeg = sc_i (B (2 * j + 1)) := by rw [sc_21, nI_clamp (by omega), hB _ (by omega)]
    have s0 : sc_H A B 0 (j + 1) = sc_H A B 0 j + A (2 * j) * B (2 * j) := by
      show sc_H A B 0 j + sc_fold A ((0 : Nat) : Int) j * sc_fold B ((0 : Nat) : Int) j = _
      rw [sc_fold0, sc_fold0]
    have s1 : sc_H A B 1 (j + 1) = sc_H A B 1 j + A (2 * j + 1) * B (2 * j + 1) := by
      show sc_H A B 1 j + sc_fold A ((1 : Nat) : Int) j * sc_fold B ((1 : Nat) : Int) j = _
      rw [sc_fold1, sc_fold1]
    have s2 : sc_H A B 2 (j + 1) = sc_H A B 2 j + (A (2 * j + 1) + A (2 * j + 1) - A (2 * j)) * (B (2 * j + 1) + B (2 * j + 1) - B (2 * j)) := by
      show sc_H A B 2 j + sc_fold A ((2 : Nat) : Int) j * sc_fold B ((2 : Nat) : Int) j = _
      rw [sc_fold2, sc_fold2]
    refine br_f (nI_ge (by omega) (by omega)) ⟨i2, i2, sc_addTo (t := 0) (by omega) a0 b0 h0 ⟨i21, i21, sc_addTo (t := 1) (by omega) a1 b1 ((pk_un (by decide)).trans h1) ⟨i2, i21, sc_beyondOneE a0 a1 ⟨i2, i21, sc_beyondOneE b0 b1 (sc_addTo (t := 2) (by omega) rfl rfl ((pk_un (by decide)).trans ((pk_un (by decide)).trans h2)) (nm_r (nI_1 j) (ih (j + 1) _ (by omega) ?_ ?_ ?_)))⟩⟩⟩⟩
    · rw [s0, pk_un (by decide), pk_un (by decide), pk_us]
    · rw [s1, pk_un (by decide), pk_us]
    · rw [s2, pk_us]
theorem sc_xsum {post : SX → Prop} {h : Nat} (hh : h ≤ 16) (hA : ∀ j, j < 2 * h → ta j = sc_i (A j)) (hB : ∀ j, j < 2 * h → tb j = sc_i (B j)) (H : ∀ ho', (∀ t, t < 3 → ho' t = sc_i (sc_H A B t h)) → post (vn, vm, vs, vg, vr, nI (2 * h), cp, cn, cc, ch, se, ho', ta, tb)) : wpX_sum post (vn, vm, vs, vg, vr, nI (2 * h), cp, cn, cc, ch, se, ho, ta, tb) := by
  have e : nI (2 * h) >>> ((1 : Int32) &&& 31) = nI h := by
    rw [pk_shrN (by omega) _ 1 (by decide)]
    exact congrArg nI (by omega)
  refine nm_e (nm_e (nm_e (nm_r e ⟨h + 1, sc_xsum30 hh hA hB H h 0 _ (by omega) ?_ ?_ ?_⟩)))
  · exact (pk_un (by decide)).trans ((pk_un (by decide)).trans (pk_us.trans sc_i0))
  · exact (pk_un (by decide)).trans (pk_us.trans sc_i0)
  · exact pk_us.trans sc_i0
theorem sc_x78 {post : SX → Prop} {J : Int32 → (Nat → Int32) → (Nat → Int32) → (Nat → Int32) → (Nat → Int32) → (Nat → Int32) → (Nat → Int32) → (Nat → Int32) → (Nat → Int32) → Prop} {x2 x3 x5 : Int32} {t : Nat} {S : Nat → Int} {a h : Int} (ht : t < 3) (hx : x5 = sc_i a) (hh : ho t = sc_i h) (hS : S t = h + a) (hs : ∀ k, k < t → se k = sc_i (S k)) (HJ : ∀ se', (∀ k, k < t + 1 → se' k = sc_i (S k)) → J (nI (t + 1)) cp cn cc ch se' ho ta tb) : wX_send_78 post J x2 x3 (nI t) x5 vn vm vs vg vr vt cp cn cc ch se ho ta tb := by
  have hi : vp_in (nI t) 3 := vp_in_nI ht (by omega)
  have et : ho (nI t).toNatClampNeg = sc_i h := by rw [nI_clamp (by omega), hh]
  exact ⟨hi, sc_plusE et hx ⟨hi, nm_e (nm_r (nI_1 t) (HJ _ (sc_upd (by omega) hs (by rw [hS]))))⟩⟩
theorem sc_xsend39 {post : SX → Prop} {h : Nat} {w : Int} (hho : ∀ t, t < 3 → ho t = sc_i (sc_H A B t h)) (H : ∀ se', (∀ t, t < 3 → se' t = sc_i (sc_sent vm A B w h t)) → post (vn, vm, sc_st (sc_sent vm A B w h 0 + sc_sent vm A B w h 1) w, vg, sc_i w, vt, cp, cn, cc, ch, se', ho, ta, tb)) : ∀ d t se, t + d = 3 → (∀ k, k < t → se k = sc_i (sc_sent vm A B w h k)) → wX_send_39 post (sc_i (sc_gap A B w h)) (sc_i (sc_gap A B w h * 1073741824)) vn vm vs vg (sc_i w) vt (d + 1) (nI t) cp cn cc ch se ho ta tb := by
  intro d
  induction d with
  | zero =>
    intro t se ht hs
    have e3 : t = 3 := by omega
    subst e3
    have k := H se hs
    refine br_t (nI_le (a := 3) (b := 3) (by omega) (by omega)) (sc_plusE (hs 0 (by omega)) (hs 1 (by omega)) (br_c (fun q => ?_) (fun q => ?_)))
    · have e : sc_st (sc_sent vm A B w h 0 + sc_sent vm A B w h 1) w = 1 := if_pos ((sc_ii _ _).mp q)
      rw [e] at k
      exact k
    · have e : sc_st (sc_sent vm A B w h 0 + sc_sent vm A B w h 1) w = 3 := if_neg (fun z => q ((sc_ii _ _).mpr z))
      rw [e] at k
      exact k
  | succ d ih =>
    intro t se ht hs
    have t3 : t < 3 := by omega
    refine br_f (nI_ge (b := 3) (by omega) (by omega)) (br_c (fun q => ?_) (fun q => br_c (fun q' => sc_steep t3 ?_) (fun q' => ?_)))
    · exact sc_x78 (S := sc_sent vm A B w h) t3 rfl (hho t t3) (congrArg (sc_H A B t h + ·) (if_pos q)) hs (fun se' hs' => ih (t + 1) se' (by omega) hs')
    · exact sc_x78 (S := sc_sent vm A B w h) t3 rfl (hho t t3) (congrArg (sc_H A B t h + ·) ((if_neg q).trans (if_pos q'))) hs (fun se' hs' => ih (t + 1) se' (by omega) hs')
    · exact sc_x78 (S := sc_sent vm A B w h) t3 sc_i0 (hho t t3) (congrArg (sc_H A B t h + ·) ((if_neg q).trans (if_neg q'))) hs (fun se' hs' => ih (t + 1) se' (by omega) hs')
theorem sc_xsend {post : SX → Prop} {h : Nat} {w : Int} (hh : h ≤ 16) (hA : ∀ j, j < 2 * h → ta j = sc_i (A j)) (hB : ∀ j, j < 2 * h → tb j = sc_i (B j)) (H : ∀ se' ho', (∀ t, t < 3 → se' t = sc_i (sc_sent vm A B w h t)) → post (vn, vm, sc_st (sc_sent vm A B w h 0 + sc_sent vm A B w h 1) w, vg, sc_i w, nI (2 * h), cp, cn, cc, ch, se', ho', ta, tb)) : wpX_send post (vn, vm, vs, vg, sc_i w, nI (2 * h), cp, cn, cc, ch, se, ho, ta, tb) := by
  refine sc_xsum hh hA hB (fun ho' hho => sc_plusE (hho 0 (by omega)) (hho 1 (by omega)) (sc_minusG (c := sc_gap A B w h) rfl rfl ?_ (sc_timesE rfl sc_ih ⟨4, sc_xsend39 hho (fun se' hs => H se' ho' hs) 3 0 se (by omega) (fun k hk => absurd hk (by omega))⟩)))
  unfold sc_gap
  omega
theorem sc_xstart {post : Int32 → SX → Prop} {w : Int} (h0 : cc 0 = nI c0) (h06 : c0 ≤ 6) (h1 : cc 1 = nI c1) (h16 : c1 ≤ 6) (hm : m + 1 ≤ 5) (hA : A = sc_T cp cn 0 c0) (hB : B = sc_T cp cn 1 c1) (H : ∀ se' ho' ta' tb', (∀ t, t < 3 → se' t = sc_i (sc_sent vm A B w (2 ^ m) t)) → (∀ j, j < 2 ^ (m + 1) → ta' j = sc_i (A j)) → (∀ j, j < 2 ^ (m + 1) → tb' j = sc_i (B j)) → post (sc_st (sc_sent vm A B w (2 ^ m) 0 + sc_sent vm A B w (2 ^ m) 1) w) (nI (m + 1), vm, sc_st (sc_sent vm A B w (2 ^ m) 0 + sc_sent vm A B w (2 ^ m) 1) w, 0, sc_i w, nI (2 ^ (m + 1)), cp, cn, cc, ch, se', ho', ta', tb')) : ∀ d x ta tb, x + d = 2 ^ (m + 1) → (∀ j, j < x → ta j = sc_i (A j)) → (∀ j, j < x → tb j = sc_i (B j)) → wX_start_21 post (sc_i w) (nI (m + 1)) vm vs vg vr (nI (2 ^ (m + 1))) (d + 1) (nI x) cp cn cc ch se ho ta tb := by
  have h32 : 2 ^ (m + 1) ≤ 32 := sc_pow hm
  have e2 : 2 ^ (m + 1) = 2 * 2 ^ m := by rw [Nat.pow_succ, Nat.mul_comm]
  intro d
  induction d with
  | zero =>
    intro x ta tb hx ha hb
    have ex : x = 2 ^ (m + 1) := by omega
    rw [ex] at ha hb
    have H2 := H
    rw [e2] at ha hb H2
    refine br_t (nI_le (by omega) (by omega)) ?_
    rw [e2]
    exact sc_xsend (by omega) ha hb (fun se' ho' hs => H2 se' ho' ta tb hs ha hb)
  | succ d ih =>
    intro x ta tb hx ha hb
    have hin : vp_in (nI x) 32 := vp_in_nI (by omega) (by omega)
    refine br_f (nI_ge (by omega) (by omega)) (sc_value (f := 0) (by omega) h0 h06 ⟨hin, nm_e (sc_value (f := 1) (by omega) h1 h16 ⟨hin, nm_e (nm_r (nI_1 x) (ih (x + 1) _ _ (by omega) (sc_upd (by omega) ha ?_) (sc_upd (by omega) hb ?_)))⟩)⟩)
    · rw [hA]; exact sc_bT _ _ _ _ _
    · rw [hB]; exact sc_bT _ _ _ _ _
theorem sc_upd_f {F : Nat → Int} {a : Nat → Int32} {j h : Nat} {r : Int} (hj : j < 32) (h1 : ∀ k, k < j → a k = sc_i (sc_fold F r k)) (h2 : ∀ k, 2 * j ≤ k → k < 2 * h → a k = sc_i (F k)) : (∀ k, k < j + 1 → upd a (nI j).toNatClampNeg (sc_i (F (2 * j) + (F (2 * j + 1) - F (2 * j)) * r)) k = sc_i (sc_fold F r k)) ∧ (∀ k, 2 * (j + 1) ≤ k → k < 2 * h → upd a (nI j).toNatClampNeg (sc_i (F (2 * j) + (F (2 * j + 1) - F (2 * j)) * r)) k = sc_i (F k)) := by
  refine ⟨sc_upd hj h1 rfl, fun k hk hk2 => ?_⟩
  rw [nI_clamp (by omega), pk_un (by omega), h2 k (by omega) hk2]
theorem sc_xfold12 {post : SX → Prop} {h : Nat} {r : Int} (hh : h ≤ 16) (H : ∀ ta' tb', (∀ j, j < h → ta' j = sc_i (sc_fold A r j)) → (∀ j, j < h → tb' j = sc_i (sc_fold B r j)) → post (vn, vm, vs, vg, vr, nI h, cp, cn, cc, ch, se, ho, ta', tb')) : ∀ d j ta tb, j + d = h → (∀ k, k < j → ta k = sc_i (sc_fold A r k)) → (∀ k, 2 * j ≤ k → k < 2 * h → ta k = sc_i (A k)) → (∀ k, k < j → tb k = sc_i (sc_fold B r k)) → (∀ k, 2 * j ≤ k → k < 2 * h → tb k = sc_i (B k)) → wX_fold_12 post (sc_i r) vn vm vs vg vr (nI h) (d + 1) (nI j) cp cn cc ch se ho ta tb := by
  intro d
  induction d with
  | zero =>
    intro j ta tb hj a1 a2 b1 b2
    have e : j = h := by omega
    rw [e] at a1 b1
    exact br_t (nI_le (by omega) (by omega)) (H ta tb a1 b1)
  | succ d ih =>
    intro j ta tb hj a1 a2 b1 b2
    have i1 : vp_in (nI j) 32 := vp_in_nI (by omega) (by omega)
    have i2 : vp_in (2 * nI j) 32 := by rw [sc_2]; exact vp_in_nI (by omega) (by omega)
    have i21 : vp_in (2 * nI j + 1) 32 := by rw [sc_21]; exact vp_in_nI (by omega) (by omega)
    have p0 : ta (2 * nI j).toNatClampNeg = sc_i (A (2 * j)) := by rw [sc_2, nI_clamp (by omega), a2 _ (by omega) (by omega)]
    have p1 : ta (2 * nI j + 1).toNatClampNeg = sc_i (A (2 * j + 1)) := by rw [sc_21, nI_clamp (by omega), a2 _ (by omega) (by omega)]
    have q0 : tb (2 * nI j).toNatClampNeg = sc_i (B (2 * j)) := by rw [sc_2, nI_clamp (by omega), b2 _ (by omega) (by omega)]
    have q1 : tb (2 * nI j + 1).toNatClampNeg = sc_i (B (2 * j + 1)) := by rw [sc_21, nI_clamp (by omega), b2 _ (by omega) (by omega)]
    have fa := sc_upd_f (h := h) (r := r) (show j < 32 by omega) a1 a2
    have fb := sc_upd_f (h := h) (r := r) (show j < 32 by omega) b1 b2
    exact br_f (nI_ge (by omega) (by omega)) ⟨i2, i21, sc_blendE p0 p1 rfl ⟨i1, nm_e ⟨i2, i21, sc_blendE q0 q1 rfl ⟨i1, nm_e (nm_r (nI_1 j) (ih (j + 1) _ _ (by omega) fa.1 fa.2 fb.1 fb.2))⟩⟩⟩⟩
theorem sc_xfold {post : SX → Prop} {h : Nat} {r : Int} (hh : h ≤ 16) (hA : ∀ j, j < 2 * h → ta j = sc_i (A j)) (hB : ∀ j, j < 2 * h → tb j = sc_i (B j)) (H : ∀ ta' tb', (∀ j, j < h → ta' j = sc_i (sc_fold A r j)) → (∀ j, j < h → tb' j = sc_i (sc_fold B r j)) → post (vn, vm, vs, vg, vr, nI h, cp, cn, cc, ch, se, ho, ta', tb')) : wpX_fold post (vn, vm, vs, vg, vr, nI (2 * h), cp, cn, cc, ch, se, ho, ta, tb) (sc_i r) := by
  have e : nI (2 * h) >>> ((1 : Int32) &&& 31) = nI h := by
    rw [pk_shrN (by omega) _ 1 (by decide)]
    exact congrArg nI (by omega)
  exact nm_r e ⟨h + 1, sc_xfold12 hh H h 0 ta tb (by omega) (fun k hk => absurd hk (by omega)) (fun k _ hk => hA k hk) (fun k hk => absurd hk (by omega)) (fun k _ hk => hB k hk)⟩
theorem sc_between {post : Int32 → Prop} {s : Nat → Int} {r : Int} (hs : ∀ t, t < 3 → se t = sc_i (s t)) (h : post (sc_i (sc_via s r))) : wpX_between post (vn, vm, vs, vg, vr, vt, cp, cn, cc, ch, se, ho, ta, tb) (sc_i r) :=
  sc_blendE (hs 0 (by omega)) (hs 1 (by omega)) rfl (sc_plusE (hs 1 (by omega)) (hs 1 (by omega)) (sc_plusE (hs 0 (by omega)) (hs 2 (by omega)) (sc_minus (sc_minusE rfl sc_i1 (sc_times (sc_timesE rfl sc_ih (sc_times (sc_plus h))))))))
end sc06
end
section
/-! the relation -/
def sc_Run (n : Nat) (A B : Nat → Int) (vs vg wg vr vt : Int32) (wv : Int64) (ch se ta tb : Nat → Int32) (sd ak : Nat → Int64) : Prop :=
  ∃ (g : Nat) (r s : Nat → Int) (w : Int), vg = nI g ∧ wg = nI g ∧ g ≤ n ∧ (vs = 1 → g < n) ∧ vr = sc_i w ∧ wv = sc_l w ∧ (∀ t, t < 3 → se t = sc_i (s t)) ∧ (∀ t, t < 3 → sd t = sc_l (s t)) ∧ (∀ i, i < g → ch i = sc_i (r i)) ∧ (∀ i, i < g → ak i = sc_l (r i)) ∧ vt = nI (2 ^ (n - g)) ∧ (∀ j, j < 2 ^ (n - g) → ta j = sc_i (sc_tab A r g j)) ∧ (∀ j, j < 2 ^ (n - g) → tb j = sc_i (sc_tab B r g j))
def sc_Cl (n c0 c1 : Nat) (cc : Nat → Int32) : Prop := 1 ≤ n ∧ n ≤ 5 ∧ cc 0 = nI c0 ∧ c0 ≤ 6 ∧ cc 1 = nI c1 ∧ c1 ≤ 6
/-- the relation at the head of a turn whose first cell is k -/
def i_Rel (_ : Nat) (u : SX) (v : SY) : Prop :=
  ∃ (n c0 c1 : Nat) (vm vs vg vr vt wg : Int32) (wv : Int64) (cp cn cc ch se ho ta tb : Nat → Int32) (sd ak zz : Nat → Int64),
    u = (nI n, vm, vs, vg, vr, vt, cp, cn, cc, ch, se, ho, ta, tb) ∧ v = (nI n, vm, vs, wg, wv, cc, cp, cn, sd, ak, zz) ∧ sc_Cl n c0 c1 cc ∧ (vs = 0 → vg = 0) ∧ (¬ vs = 0 → sc_Run n (sc_T cp cn 0 c0) (sc_T cp cn 1 c1) vs vg wg vr vt wv ch se ta tb sd ak)
theorem sc_el {k : Nat} {u : SX} {v : SY} {P : SX → SY → Prop} (I : i_Rel k u v)
    (h : ∀ (n c0 c1 : Nat) (vm vs vg vr vt wg : Int32) (wv : Int64) (cp cn cc ch se ho ta tb : Nat → Int32) (sd ak zz : Nat → Int64), sc_Cl n c0 c1 cc → (vs = 0 → vg = 0) → (¬ vs = 0 → sc_Run n (sc_T cp cn 0 c0) (sc_T cp cn 1 c1) vs vg wg vr vt wv ch se ta tb sd ak) → P (nI n, vm, vs, vg, vr, vt, cp, cn, cc, ch, se, ho, ta, tb) (nI n, vm, vs, wg, wv, cc, cp, cn, sd, ak, zz)) : P u v :=
  I.elim fun n I => I.elim fun c0 I => I.elim fun c1 I => I.elim fun vm I => I.elim fun vs I => I.elim fun vg I => I.elim fun vr I => I.elim fun vt I => I.elim fun wg I => I.elim fun wv I => I.elim fun cp I => I.elim fun cn I => I.elim fun cc I => I.elim fun ch I => I.elim fun se I => I.elim fun ho I => I.elim fun ta I => I.elim fun tb I => I.elim fun sd I => I.elim fun ak I => I.elim fun zz I => by
    have e1 := I.1
    have e2 := I.2.1
    rw [e1, e2]
    exact h n c0 c1 vm vs vg vr vt wg wv cp cn cc ch se ho ta tb sd ak zz I.2.2.1 I.2.2.2.1 I.2.2.2.2
theorem sc_mk {k n c0 c1 : Nat} {vm vs vg vr vt wg : Int32} {wv : Int64} {cp cn cc ch se ho ta tb : Nat → Int32} {sd ak zz : Nat → Int64} (hc : sc_Cl n c0 c1 cc) (h0 : vs = 0 → vg = 0) (hr : ¬ vs = 0 → sc_Run n (sc_T cp cn 0 c0) (sc_T cp cn 1 c1) vs vg wg vr vt wv ch se ta tb sd ak) : i_Rel k (nI n, vm, vs, vg, vr, vt, cp, cn, cc, ch, se, ho, ta, tb) (nI n, vm, vs, wg, wv, cc, cp, cn, sd, ak, zz) :=
  ⟨n, c0, c1, vm, vs, vg, vr, vt, wg, wv, cp, cn, cc, ch, se, ho, ta, tb, sd, ak, zz, rfl, rfl, hc, h0, hr⟩
theorem i_up {k : Nat} {u : SX} {v : SY} (h : i_Rel k u v) : i_Rel (k + 4) u v := h
theorem sc_new {n : Nat} (h1 : 1 ≤ n) (h5 : n ≤ 5) : i_Rel 1 (nI n, 0, 0, 0, 0, 0, (fun _ => 0), (fun _ => 0), (fun _ => 0), (fun _ => 0), (fun _ => 0), (fun _ => 0), (fun _ => 0), (fun _ => 0)) (nI n, 0, 0, 0, 0, (fun _ => 0), (fun _ => 0), (fun _ => 0), (fun _ => 0), (fun _ => 0), (fun _ => 0)) :=
  sc_mk (c0 := 0) (c1 := 0) ⟨h1, h5, rfl, by omega, rfl, by omega⟩ (fun _ => rfl) (fun h => absurd rfl h)
theorem i_vc0 (k0 : Int32) : wpX_init (fun u => wpY_init (fun v => i_Rel 1 u v) k0) k0 := by
  refine br_c (fun h => br_c (fun h2 => ?_) (fun h2 => ?_)) (fun h => ?_)
  · have h0 : ¬ k0 < 0 := by
      rw [Int32.lt_iff_toInt_lt]
      rw [Int32.le_iff_toInt_le] at h
      have e1 : (1 : Int32).toInt = 1 := by decide
      have e0 : (0 : Int32).toInt = 0 := by decide
      omega
    obtain ⟨j, hj, e⟩ := nI_of2 (M := 5) (n := 5) (by decide) h0 h2
    subst e
    exact br_t h (br_t h2 (sc_new ((nI_leI (a := 1) (by omega) (by omega)).mp h) hj))
  · exact br_t h (br_f h2 (sc_new (n := 5) (by omega) (by omega)))
  · exact br_f h (sc_new (n := 1) (by omega) (by omega))
section sc07
variable {n c0 c1 : Nat} {vm vs vg vr vt wg : Int32} {wv : Int64} {cp cn cc ch se ho ta tb : Nat → Int32} {sd ak zz : Nat → Int64}
theorem sc_Cl_f {f : Nat} (C : sc_Cl n c0 c1 cc) (hf : f < 2) : ∃ c, cc f = nI c ∧ c ≤ 6 := by
  rcases (by omega : f = 0 ∨ f = 1) with rfl | rfl
  · exact ⟨c0, C.2.2.1, C.2.2.2.1⟩
  · exact ⟨c1, C.2.2.2.2.1, C.2.2.2.2.2⟩
theorem sc_Cl_u {f c : Nat} (C : sc_Cl n c0 c1 cc) (hf : f < 2) (hc : c ≤ 6) : ∃ d0 d1, sc_Cl n d0 d1 (upd cc f (nI c)) := by
  rcases (by omega : f = 0 ∨ f = 1) with rfl | rfl
  · exact ⟨c, c1, C.1, C.2.1, pk_us, hc, (pk_un (by decide)).trans C.2.2.2.2.1, C.2.2.2.2.2⟩
  · exact ⟨c0, c, C.1, C.2.1, (pk_un (by decide)).trans C.2.2.1, C.2.2.2.1, pk_us, hc⟩
end sc07
end
section
/-! the methods that need no field -/
theorem sc_10 : ¬ (1 : Int32) = 0 := by decide
theorem i_vc_clause {k : Nat} {u : SX} {v : SY} (I : i_Rel k u v) (hk : k + 4 ≤ 2049) (v1 : Int32) (v2 : Int32) (v3 : Int32) : wpX_clause (fun r u' => wpY_clause (fun r' v' => r' = r ∧ i_Rel (k + 4) u' v') v v1 v2 v3) u v1 v2 v3 := by
  refine sc_el (P := fun u v => wpX_clause (fun r u' => wpY_clause (fun r' v' => r' = r ∧ i_Rel (k + 4) u' v') v v1 v2 v3) u v1 v2 v3) I ?_
  intro n c0 c1 vm vs vg vr vt wg wv cp cn cc ch se ho ta tb sd ak zz C h0 hr
  have hn := C.2.1
  have h32 := sc_pow hn
  unfold wpX_clause
  dsimp only
  refine sc_isF (fun f hf e => br_f sc_10 (sc_beyond hn (fun j hj ej => br_t rfl (sc_beyond hn (fun i hi ei => br_t rfl ?_) (fun hb => br_f sc_10 ?_))) (fun hb => br_f sc_10 ?_))) (fun a b => br_t rfl ?_)
  · subst e
    obtain ⟨c, hc, h6⟩ := sc_Cl_f C hf
    have ef : (nI f).toNatClampNeg = f := nI_clamp (by omega)
    have hif : vp_in (nI f) 2 := vp_in_nI hf (by omega)
    have hcc : cc (nI f).toNatClampNeg = nI c := by rw [ef, hc]
    have m2 := (sc_bey hn v2).mpr ⟨j, hj, ej⟩
    have m3 := (sc_bey hn v3).mpr ⟨i, hi, ei⟩
    refine ⟨hif, nm_r hcc (pk_lt c 6 (fun h => ?_) (fun h => ?_))⟩
    · have hix : vp_in (nI f * 6 + nI c) 12 := by rw [sc_ix]; exact vp_in_nI (by omega) (by omega)
      have eix : (nI f * 6 + nI c).toNatClampNeg = 6 * f + c := by rw [sc_ix]; exact nI_clamp (by omega)
      have hiy : vp_in (6 * nI f + cc (nI f).toNatClampNeg) 12 := by rw [hcc, sc_ixy]; exact vp_in_nI (by omega) (by omega)
      have eiy : (6 * nI f + cc (nI f).toNatClampNeg).toNatClampNeg = 6 * f + c := by rw [hcc, sc_ixy]; exact nI_clamp (by omega)
      have hlt : cc (nI f).toNatClampNeg < 6 := by rw [hcc]; exact nI_lt (b := 6) h (by omega)
      have x1 : upd cp (nI f * 6 + nI c).toNatClampNeg (vp_nar .byte v2.toInt8.toInt32) = upd cp (6 * f + c) v2 := by rw [eix, sc_nb v2 (by omega) ej]
      have x2 : upd cn (nI f * 6 + nI c).toNatClampNeg (vp_nar .byte v3.toInt8.toInt32) = upd cn (6 * f + c) v3 := by rw [eix, sc_nb v3 (by omega) ei]
      have x3 : upd cc (nI f).toNatClampNeg (vp_nar .byte ((cc (nI f).toNatClampNeg + 1).toInt8.toInt32)) = upd cc f (nI (c + 1)) := by rw [hcc, ef, nI_1, sc_nb (nI (c + 1)) (j := c + 1) (by omega) rfl]
      have y1 : upd cp (6 * nI f + cc (nI f).toNatClampNeg).toNatClampNeg v2 = upd cp (6 * f + c) v2 := by rw [eiy]
      have y2 : upd cn (6 * nI f + cc (nI f).toNatClampNeg).toNatClampNeg v3 = upd cn (6 * f + c) v3 := by rw [eiy]
      have y3 : upd cc (nI f).toNatClampNeg (cc (nI f).toNatClampNeg + 1) = upd cc f (nI (c + 1)) := by rw [hcc, ef, nI_1]
      obtain ⟨d0, d1, D⟩ := sc_Cl_u C hf (show c + 1 ≤ 6 by omega)
      refine ⟨hix, nm_r x1 ⟨hix, nm_r x2 ⟨hif, hif, nm_r x3 ?_⟩⟩⟩
      exact nm_e (sc_ff2 hf (br_t m2 (br_t m3 ⟨hif, br_t hlt ⟨hif, hiy, nm_r y1 ⟨hif, hiy, nm_r y2 ⟨hif, hif, nm_r y3 ⟨rfl, sc_mk D (fun _ => rfl) (fun z => absurd rfl z)⟩⟩⟩⟩⟩)))
    · have hlt : ¬ cc (nI f).toNatClampNeg < 6 := by rw [hcc]; exact nI_nlt (b := 6) h (by omega)
      exact nm_e (sc_ff2 hf (br_t m2 (br_t m3 ⟨hif, br_f hlt ⟨rfl, sc_mk C h0 hr⟩⟩)))
  · subst e
    have m2 := (sc_bey hn v2).mpr ⟨j, hj, ej⟩
    exact nm_e (sc_ff2 hf (br_t m2 (br_f (fun z => hb ((sc_bey hn v3).mp z)) ⟨rfl, sc_mk C h0 hr⟩)))
  · subst e
    exact nm_e (sc_ff2 hf (br_f (fun z => hb ((sc_bey hn v2).mp z)) ⟨rfl, sc_mk C h0 hr⟩))
  · exact nm_e (br_f a (br_f b ⟨rfl, sc_mk C h0 hr⟩))
theorem i_vc_clear {k : Nat} {u : SX} {v : SY} (I : i_Rel k u v) (hk : k + 4 ≤ 2049) (v1 : Int32) : wpX_clear (fun r u' => wpY_clear (fun r' v' => r' = r ∧ i_Rel (k + 4) u' v') v v1) u v1 := by
  refine sc_el (P := fun u v => wpX_clear (fun r u' => wpY_clear (fun r' v' => r' = r ∧ i_Rel (k + 4) u' v') v v1) u v1) I ?_
  intro n c0 c1 vm vs vg vr vt wg wv cp cn cc ch se ho ta tb sd ak zz C h0 hr
  unfold wpX_clear
  dsimp only
  refine sc_isF (fun f hf e => br_f sc_10 ?_) (fun a b => br_t rfl (br_f a (br_f b ⟨rfl, sc_mk C h0 hr⟩)))
  subst e
  have ef : (nI f).toNatClampNeg = f := nI_clamp (by omega)
  have hif : vp_in (nI f) 2 := vp_in_nI hf (by omega)
  have x1 : upd cc (nI f).toNatClampNeg (vp_nar .byte 0) = upd cc f (nI 0) := by rw [ef, vp_nar_byte]; rfl
  have y1 : upd cc (nI f).toNatClampNeg 0 = upd cc f (nI 0) := by rw [ef]; rfl
  obtain ⟨d0, d1, D⟩ := sc_Cl_u C hf (show 0 ≤ 6 by omega)
  exact ⟨hif, nm_r x1 (sc_ff2 hf ⟨hif, nm_r y1 ⟨rfl, sc_mk D (fun _ => rfl) (fun z => absurd rfl z)⟩⟩)⟩
theorem i_vc_holds {k : Nat} {u : SX} {v : SY} (I : i_Rel k u v) (hk : k + 4 ≤ 2049) (v1 : Int32) (v2 : Int32) : wpX_holds (fun r => wpY_holds (fun r' => r' = r ∧ i_Rel (k + 4) u v) v v1 v2) u v1 v2 := by
  refine sc_el (P := fun u v => wpX_holds (fun r => wpY_holds (fun r' => r' = r ∧ i_Rel (k + 4) u v) v v1 v2) u v1 v2) I ?_
  intro n c0 c1 vm vs vg vr vt wg wv cp cn cc ch se ho ta tb sd ak zz C h0 hr
  have hn := C.2.1
  have h32 := sc_pow hn
  unfold wpX_holds
  dsimp only
  refine sc_isF (fun f hf e => br_f sc_10 (sc_beyond hn (fun j hj ej => br_t rfl ?_) (fun hb => br_f sc_10 ?_))) (fun a b => br_t rfl (br_f a (br_f b ⟨rfl, sc_mk C h0 hr⟩)))
  · subst e ej
    obtain ⟨c, hc, h6⟩ := sc_Cl_f C hf
    refine sc_value hf hc h6 (br_c (fun h => ?_) (fun h => ?_))
    · exact sc_holds hf hc h6 hn hj ⟨h, sc_mk C h0 hr⟩
    · refine sc_holds hf hc h6 hn hj ⟨?_, sc_mk C h0 hr⟩
      revert h
      cases sc_v cp cn (6 * f) (nI j) c
      · exact fun _ => rfl
      · exact fun z => absurd rfl z
  · subst e
    refine sc_ff2 hf (br_c (fun _ => ⟨rfl, sc_mk C h0 hr⟩) (fun hp => br_f ?_ ⟨rfl, sc_mk C h0 hr⟩))
    obtain ⟨j, hj, e⟩ := nI_of hp
    rw [sc_shl n (by omega), e]
    exact fun z => hb ⟨j, (nI_ltI hj (by omega)).mp z, e⟩
theorem i_vc_count {k : Nat} {u : SX} {v : SY} (I : i_Rel k u v) (hk : k + 4 ≤ 2049) : wpX_count (fun r => wpY_count (fun r' => r' = r ∧ i_Rel (k + 4) u v) v) u := by
  refine sc_el (P := fun u v => wpX_count (fun r => wpY_count (fun r' => r' = r ∧ i_Rel (k + 4) u v) v) u) I ?_
  intro n c0 c1 vm vs vg vr vt wg wv cp cn cc ch se ho ta tb sd ak zz C h0 hr
  have hn := C.2.1
  exact nm_r (sc_shl n (by omega)) ⟨2 ^ n + 1, sc_xcnt C.2.2.1 C.2.2.2.1 C.2.2.2.2.1 C.2.2.2.2.2 hn ⟨2 ^ n + 1, sc_ycnt C.2.2.1 C.2.2.2.1 C.2.2.2.2.1 C.2.2.2.2.2 hn ⟨rfl, sc_mk C h0 hr⟩ (2 ^ n) 0 (by omega)⟩ (2 ^ n) 0 (by omega)⟩
theorem i_vc_manner {k : Nat} {u : SX} {v : SY} (I : i_Rel k u v) (hk : k + 4 ≤ 2049) (v1 : Int32) : wpX_manner (fun r u' => wpY_manner (fun r' v' => r' = r ∧ i_Rel (k + 4) u' v') v v1) u v1 := by
  refine sc_el (P := fun u v => wpX_manner (fun r u' => wpY_manner (fun r' v' => r' = r ∧ i_Rel (k + 4) u' v') v v1) u v1) I ?_
  intro n c0 c1 vm vs vg vr vt wg wv cp cn cc ch se ho ta tb sd ak zz C h0 hr
  exact br_c (fun h => br_t h ⟨rfl, sc_mk C h0 hr⟩) (fun h => br_c (fun h2 => br_f h (br_t h2 ⟨rfl, sc_mk C h0 hr⟩)) (fun h2 => br_f h (br_f h2 ⟨rfl, sc_mk C h0 hr⟩)))
theorem i_vc_status {k : Nat} {u : SX} {v : SY} (I : i_Rel k u v) (hk : k + 4 ≤ 2049) : wpX_status (fun r => wpY_status (fun r' => r' = r ∧ i_Rel (k + 4) u v) v) u := by
  refine sc_el (P := fun u v => wpX_status (fun r => wpY_status (fun r' => r' = r ∧ i_Rel (k + 4) u v) v) u) I ?_
  intro n c0 c1 vm vs vg vr vt wg wv cp cn cc ch se ho ta tb sd ak zz C h0 hr
  exact And.intro rfl (sc_mk C h0 hr)
theorem i_vc_round {k : Nat} {u : SX} {v : SY} (I : i_Rel k u v) (hk : k + 4 ≤ 2049) : wpX_round (fun r => wpY_round (fun r' => r' = r ∧ i_Rel (k + 4) u v) v) u := by
  refine sc_el (P := fun u v => wpX_round (fun r => wpY_round (fun r' => r' = r ∧ i_Rel (k + 4) u v) v) u) I ?_
  intro n c0 c1 vm vs vg vr vt wg wv cp cn cc ch se ho ta tb sd ak zz C h0 hr
  refine br_c (fun h => ⟨(h0 h).symm, sc_mk C h0 hr⟩) (fun h => ⟨?_, sc_mk C h0 hr⟩)
  obtain ⟨g, r, s, w, e1, e2, _⟩ := hr h
  rw [e1, e2]
theorem i_vc_message {k : Nat} {u : SX} {v : SY} (I : i_Rel k u v) (hk : k + 4 ≤ 2049) (v1 : Int32) : wpX_message (fun r => wpY_message (fun r' => r' = r ∧ i_Rel (k + 4) u v) v v1) u v1 := by
  refine sc_el (P := fun u v => wpX_message (fun r => wpY_message (fun r' => r' = r ∧ i_Rel (k + 4) u v) v v1) u v1) I ?_
  intro n c0 c1 vm vs vg vr vt wg wv cp cn cc ch se ho ta tb sd ak zz C h0 hr
  refine br_c (fun h => br_t h ⟨rfl, sc_mk C h0 hr⟩) (fun h => br_c (fun h1 => br_f h (br_t h1 ⟨rfl, sc_mk C h0 hr⟩)) (fun h1 => br_c (fun h2 => ?_) (fun h2 => br_f h (br_f h1 (br_f h2 ⟨rfl, sc_mk C h0 hr⟩)))))
  obtain ⟨t, ht, e⟩ := nI_of2 (M := 2) (n := 2) (by decide) h1 h2
  have hin : vp_in v1 3 := by rw [e]; exact vp_in_nI (by omega) (by omega)
  refine ⟨hin, br_f h (br_f h1 (br_t h2 ⟨hin, ?_, sc_mk C h0 hr⟩))⟩
  obtain ⟨g, r, s, w, _, _, _, _, _, _, e7, e8, _⟩ := hr h
  rw [e, nI_clamp (by omega), e7 t (by omega), e8 t (by omega), sc_li]
theorem i_vc_running {k : Nat} {u : SX} {v : SY} (I : i_Rel k u v) (hk : k + 4 ≤ 2049) : wpX_running (fun r => wpY_running (fun r' => r' = r ∧ i_Rel (k + 4) u v) v) u := by
  refine sc_el (P := fun u v => wpX_running (fun r => wpY_running (fun r' => r' = r ∧ i_Rel (k + 4) u v) v) u) I ?_
  intro n c0 c1 vm vs vg vr vt wg wv cp cn cc ch se ho ta tb sd ak zz C h0 hr
  refine br_c (fun h => br_t h ⟨rfl, sc_mk C h0 hr⟩) (fun h => br_f h ⟨?_, sc_mk C h0 hr⟩)
  obtain ⟨g, r, s, w, _, _, _, _, e5, e6, _⟩ := hr h
  rw [e5, e6, sc_li]
theorem i_vc_challengeAt {k : Nat} {u : SX} {v : SY} (I : i_Rel k u v) (hk : k + 4 ≤ 2049) (v1 : Int32) : wpX_challengeAt (fun r => wpY_challengeAt (fun r' => r' = r ∧ i_Rel (k + 4) u v) v v1) u v1 := by
  refine sc_el (P := fun u v => wpX_challengeAt (fun r => wpY_challengeAt (fun r' => r' = r ∧ i_Rel (k + 4) u v) v v1) u v1) I ?_
  intro n c0 c1 vm vs vg vr vt wg wv cp cn cc ch se ho ta tb sd ak zz C h0 hr
  have hn := C.2.1
  by_cases h : vs = 0
  · have e := h0 h
    exact br_c (fun h1 => br_t h ⟨rfl, sc_mk C h0 hr⟩) (fun h1 => br_f (by rw [e]; exact h1) (br_t h ⟨rfl, sc_mk C h0 hr⟩))
  · obtain ⟨g, r, s, w, e1, e2, e3, _, _, _, _, _, e9, e10, _⟩ := hr h
    refine br_c (fun h1 => br_f h (br_t h1 ⟨rfl, sc_mk C h0 hr⟩)) (fun h1 => br_c (fun h2 => ?_) (fun h2 => br_f h (br_f h1 (br_f (by rw [e2, ← e1]; exact h2) ⟨rfl, sc_mk C h0 hr⟩))))
    obtain ⟨t, ht, e⟩ := nI_of h1
    have h2' := h2
    rw [e, e1, nI_ltI ht (by omega)] at h2'
    have hin : vp_in v1 5 := by rw [e]; exact vp_in_nI (by omega) (by omega)
    refine ⟨hin, br_f h (br_f h1 (br_t (by rw [e2, ← e1]; exact h2) ⟨hin, ?_, sc_mk C h0 hr⟩))⟩
    rw [e, nI_clamp ht, e9 t h2', e10 t h2', sc_li]
end
section
/-! challenge and extension, each side for itself -/
def sc_fs (a b : Int) : Int32 := if sc_f a = sc_f b then 2 else 3
def sc_ru (r : Nat → Int) (g : Nat) (a : Int) (i : Nat) : Int := if i = g then a else r i
theorem sc_tab_u (F : Nat → Int) (r : Nat → Int) (g : Nat) (a : Int) : sc_tab F (sc_ru r g a) (g + 1) = sc_fold (sc_tab F r g) a := by
  show sc_fold (sc_tab F (sc_ru r g a) g) (sc_ru r g a g) = _
  have e : sc_tab F (sc_ru r g a) g = sc_tab F r g := sc_tab_c (fun i hi => if_neg (by omega))
  rw [e, show sc_ru r g a g = a from if_pos rfl]
theorem sc_st_ne (a b : Int) : ¬ sc_st a b = 0 := by
  unfold sc_st
  split <;> decide
theorem sc_fs_ne (a b : Int) : ¬ sc_fs a b = 0 := by
  unfold sc_fs
  split <;> decide
theorem sc_fs_n1 (a b : Int) : ¬ sc_fs a b = 1 := by
  unfold sc_fs
  split <;> decide
theorem sc_ru_l {ak : Nat → Int64} {r : Nat → Int} {g : Nat} {a : Int} (h : ∀ i, i < g → ak i = sc_l (r i)) : ∀ i, i < g + 1 → vp_updL ak g (sc_l a) i = sc_l (sc_ru r g a i) := by
  intro i hi
  unfold sc_ru
  by_cases e : i = g
  · rw [e, pk_uLs, if_pos rfl]
  · rw [pk_uLn e, if_neg e, h i (by omega)]
theorem sc_ru_i {ch : Nat → Int32} {r : Nat → Int} {g : Nat} {a : Int} (h : ∀ i, i < g → ch i = sc_i (r i)) : ∀ i, i < g + 1 → upd ch g (sc_i a) i = sc_i (sc_ru r g a i) := by
  intro i hi
  unfold sc_ru
  by_cases e : i = g
  · rw [e, pk_us, if_pos rfl]
  · rw [pk_un e, if_neg e, h i (by omega)]
section sc09
variable {vn vm vs vg vr vt : Int32} {cp cn cc ch se ho ta tb : Nat → Int32} {wn wm ws wg : Int32} {wv : Int64} {dc dp dn : Nat → Int32} {sd ak zz : Nat → Int64} {n g m c0 c1 : Nat} {A B r s : Nat → Int} {a w : Int}
theorem sc_c71 {post : Int32 → SY → Prop} (h0 : dc 0 = nI c0) (h06 : c0 ≤ 6) (h1 : dc 1 = nI c1) (h16 : c1 ≤ 6) (hn : n ≤ 5) (hak : ∀ i, i < n → ak i = sc_l (r i)) (H : ∀ zz', post (sc_fs w (sc_tab (sc_T dp dn 0 c0) r n 0 * sc_tab (sc_T dp dn 1 c1) r n 0)) (nI n, wm, sc_fs w (sc_tab (sc_T dp dn 0 c0) r n 0 * sc_tab (sc_T dp dn 1 c1) r n 0), wg, sc_l w, dc, dp, dn, sd, ak, zz')) : ∀ d i zz, i + d = n → (∀ j, j < i → zz j = sc_l (r j)) → wY_challenge_71 post (nI n) wm ws wg (sc_l w) (d + 1) (nI i) dc dp dn sd ak zz := by
  intro d
  induction d with
  | zero =>
    intro i zz hi hz
    have e : i = n := by omega
    rw [e] at hz
    have k := H zz
    refine br_t (nI_le (by omega) (by omega)) (sc_both h0 h06 h1 h16 hn hz ?_)
    rw [sc_E_n _ r r n (fun _ _ => rfl), sc_E_n _ r r n (fun _ _ => rfl)]
    refine br_c (fun q => ?_) (fun q => ?_)
    · have e : sc_fs w (sc_tab (sc_T dp dn 0 c0) r n 0 * sc_tab (sc_T dp dn 1 c1) r n 0) = 2 := if_pos ((sc_ll _ _).mp q).symm
      rw [e] at k
      exact k
    · have e : sc_fs w (sc_tab (sc_T dp dn 0 c0) r n 0 * sc_tab (sc_T dp dn 1 c1) r n 0) = 3 := if_neg (fun z => q ((sc_ll _ _).mpr z.symm))
      rw [e] at k
      exact k
  | succ d ih =>
    intro i zz hi hz
    have hin : vp_in (nI i) 5 := vp_in_nI (by omega) (by omega)
    refine br_f (nI_ge (by omega) (by omega)) ⟨hin, hin, nm_e (nm_r (nI_1 i) (ih (i + 1) _ (by omega) (sc_updL (by omega) hz ?_)))⟩
    rw [nI_clamp (by omega), hak i (by omega)]
theorem sc_ychal_fin {post : Int32 → SY → Prop} {v : Int32} (h0 : dc 0 = nI c0) (h06 : c0 ≤ 6) (h1 : dc 1 = nI c1) (h16 : c1 ≤ 6) (hn : n ≤ 5) (hg : g + 1 = n) (hd : ws = 1) (p1 : ¬ v < 0) (p2 : ¬ v = 2147483647) (hv : v = sc_i a) (hsd : ∀ t, t < 3 → sd t = sc_l (s t)) (hak : ∀ i, i < g → ak i = sc_l (r i)) (H : ∀ zz', post (sc_fs (sc_via s a) (sc_tab (sc_T dp dn 0 c0) (sc_ru r g a) n 0 * sc_tab (sc_T dp dn 1 c1) (sc_ru r g a) n 0)) (nI n, wm, sc_fs (sc_via s a) (sc_tab (sc_T dp dn 0 c0) (sc_ru r g a) n 0 * sc_tab (sc_T dp dn 1 c1) (sc_ru r g a) n 0), nI (g + 1), sc_l (sc_via s a), dc, dp, dn, sd, vp_updL ak g (sc_l a), zz')) : wpY_challenge post (nI n, wm, ws, nI g, wv, dc, dp, dn, sd, ak, zz) v := by
  have ea : vp_updL ak (nI g).toNatClampNeg v.toInt64 = vp_updL ak g (sc_l a) := by rw [nI_clamp (by omega), hv, sc_il]
  have ev : v.toInt64 = sc_l a := by rw [hv, sc_il]
  refine br_t hd (br_f p1 (br_f p2 ⟨vp_in_nI (by omega) (by omega), nm_r ea (nm_r (nI_1 g) ?_)⟩))
  rw [ev]
  refine sc_through hsd (br_t (nI_le (by omega) (by omega)) ⟨n + 1, sc_c71 h0 h06 h1 h16 hn (by rw [← hg]; exact sc_ru_l hak) H n 0 zz (by omega) (fun j hj => absurd hj (by omega))⟩)
theorem sc_ychal_more {post : Int32 → SY → Prop} {v : Int32} (h0 : dc 0 = nI c0) (h06 : c0 ≤ 6) (h1 : dc 1 = nI c1) (h16 : c1 ≤ 6) (hn : n ≤ 5) (hg : n = g + 1 + (m + 1)) (hd : ws = 1) (p1 : ¬ v < 0) (p2 : ¬ v = 2147483647) (hv : v = sc_i a) (hsd : ∀ t, t < 3 → sd t = sc_l (s t)) (hak : ∀ i, i < g → ak i = sc_l (r i)) (hA : A = sc_tab (sc_T dp dn 0 c0) (sc_ru r g a) (g + 1)) (hB : B = sc_tab (sc_T dp dn 1 c1) (sc_ru r g a) (g + 1)) (H : ∀ sd' zz', (∀ t, t < 3 → sd' t = sc_l (sc_sent wm A B (sc_via s a) (2 ^ m) t)) → post (sc_st (sc_sent wm A B (sc_via s a) (2 ^ m) 0 + sc_sent wm A B (sc_via s a) (2 ^ m) 1) (sc_via s a)) (nI n, wm, sc_st (sc_sent wm A B (sc_via s a) (2 ^ m) 0 + sc_sent wm A B (sc_via s a) (2 ^ m) 1) (sc_via s a), nI (g + 1), sc_l (sc_via s a), dc, dp, dn, sd', vp_updL ak g (sc_l a), zz')) : wpY_challenge post (nI n, wm, ws, nI g, wv, dc, dp, dn, sd, ak, zz) v := by
  have ea : vp_updL ak (nI g).toNatClampNeg v.toInt64 = vp_updL ak g (sc_l a) := by rw [nI_clamp (by omega), hv, sc_il]
  have ev : v.toInt64 = sc_l a := by rw [hv, sc_il]
  refine br_t hd (br_f p1 (br_f p2 ⟨vp_in_nI (by omega) (by omega), nm_r ea (nm_r (nI_1 g) ?_)⟩))
  rw [ev]
  exact sc_through hsd (br_f (nI_ge (by omega) (by omega)) (sc_ysend hg hA hB h0 h06 h1 h16 hn (sc_ru_l hak) (fun sd' zz' hs => H sd' zz' hs)))
theorem sc_xchal_fin {post : Int32 → SX → Prop} {v : Int32} (hn : n ≤ 5) (hg : g + 1 = n) (hd : vs = 1) (p1 : ¬ v < 0) (p2 : ¬ v = 2147483647) (hv : v = sc_i a) (hse : ∀ t, t < 3 → se t = sc_i (s t)) (hA : ∀ j, j < 2 * 1 → ta j = sc_i (A j)) (hB : ∀ j, j < 2 * 1 → tb j = sc_i (B j)) (H : ∀ ta' tb', (∀ j, j < 1 → ta' j = sc_i (sc_fold A a j)) → (∀ j, j < 1 → tb' j = sc_i (sc_fold B a j)) → post (sc_fs (sc_via s a) (sc_fold A a 0 * sc_fold B a 0)) (nI n, vm, sc_fs (sc_via s a) (sc_fold A a 0 * sc_fold B a 0), nI (g + 1), sc_i (sc_via s a), nI 1, cp, cn, cc, upd ch g (sc_i a), se, ho, ta', tb')) : wpX_challenge post (nI n, vm, vs, nI g, vr, nI (2 * 1), cp, cn, cc, ch, se, ho, ta, tb) v := by
  have ea : upd ch (nI g).toNatClampNeg v = upd ch g (sc_i a) := by rw [nI_clamp (by omega), hv]
  refine br_t hd (sc_element (fun z => absurd z (by rintro (z | z); exact p1 z; exact p2 z)) (fun _ _ => br_f sc_10 ?_))
  subst hv
  refine sc_between hse ⟨vp_in_nI (by omega) (by omega), nm_r ea (nm_r (nI_1 g) (sc_xfold (h := 1) (by omega) hA hB (fun ta' tb' ha hb => ?_)))⟩
  have k := H ta' tb' ha hb
  refine br_t (nI_le (by omega) (by omega)) (sc_timesE (ha 0 (by omega)) (hb 0 (by omega)) (br_c (fun q => ?_) (fun q => ?_)))
  · have e : sc_fs (sc_via s a) (sc_fold A a 0 * sc_fold B a 0) = 2 := if_pos ((sc_ii _ _).mp q)
    rw [e] at k
    exact k
  · have e : sc_fs (sc_via s a) (sc_fold A a 0 * sc_fold B a 0) = 3 := if_neg (fun z => q ((sc_ii _ _).mpr z))
    rw [e] at k
    exact k
theorem sc_xchal_more {post : Int32 → SX → Prop} {v : Int32} {A' B' : Nat → Int} {h : Nat} (hn : n ≤ 5) (hg : g + 1 < n) (hd : vs = 1) (p1 : ¬ v < 0) (p2 : ¬ v = 2147483647) (hv : v = sc_i a) (hh : h ≤ 8) (hse : ∀ t, t < 3 → se t = sc_i (s t)) (hA : ∀ j, j < 2 * (2 * h) → ta j = sc_i (A j)) (hB : ∀ j, j < 2 * (2 * h) → tb j = sc_i (B j)) (eA : A' = sc_fold A a) (eB : B' = sc_fold B a) (H : ∀ se' ho' ta' tb', (∀ t, t < 3 → se' t = sc_i (sc_sent vm A' B' (sc_via s a) h t)) → (∀ j, j < 2 * h → ta' j = sc_i (A' j)) → (∀ j, j < 2 * h → tb' j = sc_i (B' j)) → post (sc_st (sc_sent vm A' B' (sc_via s a) h 0 + sc_sent vm A' B' (sc_via s a) h 1) (sc_via s a)) (nI n, vm, sc_st (sc_sent vm A' B' (sc_via s a) h 0 + sc_sent vm A' B' (sc_via s a) h 1) (sc_via s a), nI (g + 1), sc_i (sc_via s a), nI (2 * h), cp, cn, cc, upd ch g (sc_i a), se', ho', ta', tb')) : wpX_challenge post (nI n, vm, vs, nI g, vr, nI (2 * (2 * h)), cp, cn, cc, ch, se, ho, ta, tb) v := by
  have ea : upd ch (nI g).toNatClampNeg v = upd ch g (sc_i a) := by rw [nI_clamp (by omega), hv]
  refine br_t hd (sc_element (fun z => absurd z (by rintro (z | z); exact p1 z; exact p2 z)) (fun _ _ => br_f sc_10 ?_))
  subst hv eA eB
  exact sc_between hse ⟨vp_in_nI (by omega) (by omega), nm_r ea (nm_r (nI_1 g) (sc_xfold (h := 2 * h) (by omega) hA hB (fun ta' tb' ha hb => br_f (nI_ge (by omega) (by omega)) (sc_xsend (by omega) ha hb (fun se' ho' hs => H se' ho' ta' tb' hs ha hb)))))⟩
theorem sc_e31 {post : Int32 → SY → Prop} {f c : Nat} (hf : f < 2) (hc : dc f = nI c) (h6 : c ≤ 6) (hn : n ≤ 5) (hak : ∀ i, i < n → ak i = sc_l (r i)) (H : ∀ zz', post (sc_i (sc_tab (sc_T dp dn f c) r n 0)) (nI n, wm, ws, wg, wv, dc, dp, dn, sd, ak, zz')) : ∀ d i zz, i + d = n → (∀ j, j < i → zz j = sc_l (r j)) → wY_extension_31 post (nI f) (nI n) wm ws wg wv (d + 1) (nI i) dc dp dn sd ak zz := by
  intro d
  induction d with
  | zero =>
    intro i zz hi hz
    have e : i = n := by omega
    rw [e] at hz
    refine br_t (nI_le (by omega) (by omega)) (sc_at hf hc h6 hn hz ?_)
    rw [sc_E_n _ r r n (fun _ _ => rfl), sc_li]
    exact H zz
  | succ d ih =>
    intro i zz hi hz
    have hin : vp_in (nI i) 5 := vp_in_nI (by omega) (by omega)
    refine br_f (nI_ge (by omega) (by omega)) ⟨hin, hin, nm_e (nm_r (nI_1 i) (ih (i + 1) _ (by omega) (sc_updL (by omega) hz ?_)))⟩
    rw [nI_clamp (by omega), hak i (by omega)]
end sc09
end
section
/-! start, challenge, extension -/
theorem i_vc_start {k : Nat} {u : SX} {v : SY} (I : i_Rel k u v) (hk : k + 4 ≤ 2049) (v1 : Int32) : wpX_start (fun r u' => wpY_start (fun r' v' => r' = r ∧ i_Rel (k + 4) u' v') v v1) u v1 := by
  refine sc_el (P := fun u v => wpX_start (fun r u' => wpY_start (fun r' v' => r' = r ∧ i_Rel (k + 4) u' v') v v1) u v1) I ?_
  intro n c0 c1 vm vs vg vr vt wg wv cp cn cc ch se ho ta tb sd ak zz C h0 hr
  unfold wpX_start
  dsimp only
  refine sc_element (fun hb => br_t rfl (br_c (fun _ => ⟨rfl, sc_mk C h0 hr⟩) (fun hn => br_t (hb.resolve_left hn) ⟨rfl, sc_mk C h0 hr⟩))) (fun p1 p2 => br_f sc_10 ?_)
  obtain ⟨a, hv⟩ := sc_arg p1 p2
  have C' := C
  obtain ⟨n1, n5, e0, e06, e1, e16⟩ := C'
  obtain ⟨m, rfl⟩ : ∃ m, n = m + 1 := ⟨n - 1, by omega⟩
  subst hv
  refine nm_r (sc_shl (m + 1) (by omega)) ⟨2 ^ (m + 1) + 1, sc_xstart e0 e06 e1 e16 n5 rfl rfl (fun se' ho' ta' tb' hs ha hb => ?_) (2 ^ (m + 1)) 0 ta tb (by omega) (fun j hj => absurd hj (by omega)) (fun j hj => absurd hj (by omega))⟩
  refine br_f p1 (br_f p2 ?_)
  rw [sc_il]
  refine sc_ysend (g := 0) (m := m) (r := fun _ => 0) (by omega) rfl rfl e0 e06 e1 e16 n5 (fun j hj => absurd hj (by omega)) (fun sd' zz' hs' => ⟨rfl, sc_mk C (fun _ => rfl) (fun _ => ?_)⟩)
  exact ⟨0, fun _ => 0, _, a, rfl, rfl, by omega, fun _ => by omega, rfl, rfl, hs, hs', fun j hj => absurd hj (by omega), fun j hj => absurd hj (by omega), rfl, ha, hb⟩
theorem i_vc_challenge {k : Nat} {u : SX} {v : SY} (I : i_Rel k u v) (hk : k + 4 ≤ 2049) (v1 : Int32) : wpX_challenge (fun r u' => wpY_challenge (fun r' v' => r' = r ∧ i_Rel (k + 4) u' v') v v1) u v1 := by
  refine sc_el (P := fun u v => wpX_challenge (fun r u' => wpY_challenge (fun r' v' => r' = r ∧ i_Rel (k + 4) u' v') v v1) u v1) I ?_
  intro n c0 c1 vm vs vg vr vt wg wv cp cn cc ch se ho ta tb sd ak zz C h0 hr
  by_cases h : vs = 1
  · by_cases p : v1 < 0 ∨ v1 = 2147483647
    · exact br_t h (sc_element (fun hb => br_t rfl (br_t h (br_c (fun _ => ⟨rfl, sc_mk C h0 hr⟩) (fun hn => br_t (hb.resolve_left hn) ⟨rfl, sc_mk C h0 hr⟩)))) (fun p1 p2 => absurd p (fun z => z.elim p1 p2)))
    · have p1 : ¬ v1 < 0 := fun z => p (Or.inl z)
      have p2 : ¬ v1 = 2147483647 := fun z => p (Or.inr z)
      obtain ⟨a, hv⟩ := sc_arg p1 p2
      obtain ⟨g, r, s, w, eg, eg', hgn, hg1, er, er', hse, hsd, hch, hak, et, hta, htb⟩ := hr (by rw [h]; decide)
      have hgl := hg1 h
      have C' := C
      obtain ⟨n1, n5, e0, e06, e1, e16⟩ := C'
      obtain ⟨d, hd⟩ : ∃ d, n = g + 1 + d := ⟨n - (g + 1), by omega⟩
      subst eg eg' et
      cases d with
      | zero =>
        have en : n - g = 1 := by omega
        rw [en] at hta htb ⊢
        refine sc_xchal_fin (a := a) (s := s) n5 (by omega) h p1 p2 hv hse hta htb (fun ta' tb' ha hb => sc_ychal_fin e0 e06 e1 e16 n5 (by omega) h p1 p2 hv hsd hak (fun zz' => ?_))
        rw [show n = g + 1 from by omega, sc_tab_u, sc_tab_u]
        refine ⟨rfl, sc_mk (by rw [← show n = g + 1 from by omega]; exact C) (fun z => absurd z (sc_fs_ne _ _)) (fun _ => ⟨g + 1, sc_ru r g a, s, sc_via s a, rfl, rfl, by omega, fun z => absurd z (sc_fs_n1 _ _), rfl, rfl, hse, hsd, sc_ru_i hch, sc_ru_l hak, ?_, ?_, ?_⟩)⟩
        · rw [Nat.sub_self]
        · rw [Nat.sub_self, sc_tab_u]
          exact ha
        · rw [Nat.sub_self, sc_tab_u]
          exact hb
      | succ m =>
        have en : 2 ^ (n - g) = 2 * (2 * 2 ^ m) := by
          rw [show n - g = m + 1 + 1 from by omega, Nat.pow_succ, Nat.pow_succ]
          omega
        have en1 : 2 ^ (n - (g + 1)) = 2 * 2 ^ m := by
          rw [show n - (g + 1) = m + 1 from by omega, Nat.pow_succ]
          omega
        have hm : 2 ^ m ≤ 8 := Nat.pow_le_pow_right (n := 2) (j := 3) (by decide) (by omega)
        rw [en] at hta htb ⊢
        refine sc_xchal_more (a := a) (s := s) n5 (by omega) h p1 p2 hv hm hse hta htb (sc_tab_u _ r g a) (sc_tab_u _ r g a) (fun se' ho' ta' tb' hs ha hb => sc_ychal_more e0 e06 e1 e16 n5 hd h p1 p2 hv hsd hak rfl rfl (fun sd' zz' hs' => ⟨rfl, sc_mk C (fun z => absurd z (sc_st_ne _ _)) (fun _ => ⟨g + 1, sc_ru r g a, _, sc_via s a, rfl, rfl, by omega, fun _ => by omega, rfl, rfl, hs, hs', sc_ru_i hch, sc_ru_l hak, ?_, ?_, ?_⟩)⟩))
        · rw [en1]
        · rw [en1]
          exact ha
        · rw [en1]
          exact hb
  · exact br_f h (br_f h ⟨rfl, sc_mk C h0 hr⟩)
theorem i_vc_extension {k : Nat} {u : SX} {v : SY} (I : i_Rel k u v) (hk : k + 4 ≤ 2049) (v1 : Int32) : wpX_extension (fun r => wpY_extension (fun r' v' => r' = r ∧ i_Rel (k + 4) u v') v v1) u v1 := by
  refine sc_el (P := fun u v => wpX_extension (fun r => wpY_extension (fun r' v' => r' = r ∧ i_Rel (k + 4) u v') v v1) u v1) I ?_
  intro n c0 c1 vm vs vg vr vt wg wv cp cn cc ch se ho ta tb sd ak zz C h0 hr
  unfold wpX_extension
  dsimp only
  by_cases h : vs = 0
  · exact sc_isF (fun f hf e => br_f sc_10 (br_t h (br_t h ⟨rfl, sc_mk C h0 hr⟩))) (fun _ _ => br_t rfl (br_t h ⟨rfl, sc_mk C h0 hr⟩))
  · have R := hr h
    obtain ⟨g, r, s, w, eg, eg', hgn, hg1, er, er', hse, hsd, hch, hak, et, hta, htb⟩ := R
    have C' := C
    obtain ⟨n1, n5, e0, e06, e1, e16⟩ := C'
    subst eg eg'
    by_cases q : g < n
    · have q1 : nI g < nI n := nI_lt q (by omega)
      exact sc_isF (fun f hf e => br_f sc_10 (br_f h (br_f (nI_ge q (by omega)) (br_f h (br_t q1 ⟨rfl, sc_mk C h0 hr⟩))))) (fun _ _ => br_t rfl (br_f h (br_t q1 ⟨rfl, sc_mk C h0 hr⟩)))
    · have q1 : ¬ nI g < nI n := nI_nlt (by omega) (by omega)
      have en : g = n := by omega
      subst en
      rw [Nat.sub_self] at hta htb
      refine sc_isF (fun f hf e => br_f sc_10 (br_f h (br_t (nI_le (by omega) (by omega)) ?_))) (fun a b => br_t rfl (br_f h (br_f q1 (br_f a (br_f b ⟨rfl, sc_mk C h0 hr⟩)))))
      rcases (by omega : f = 0 ∨ f = 1) with rfl | rfl
      · have e' : v1 = 0 := e
        subst e'
        exact br_t rfl (br_f h (br_f q1 (br_t rfl ⟨g + 1, sc_e31 (f := 0) (by omega) e0 e06 n5 hak (fun zz' => ⟨(hta 0 (by decide)).symm, sc_mk C h0 hr⟩) g 0 zz (by omega) (fun j hj => absurd hj (by omega))⟩)))
      · have e' : v1 = 1 := e
        subst e'
        exact br_f sc_10 (br_f h (br_f q1 (br_f sc_10 (br_t rfl ⟨g + 1, sc_e31 (f := 1) (by omega) e1 e16 n5 hak (fun zz' => ⟨(htb 0 (by decide)).symm, sc_mk C h0 hr⟩) g 0 zz (by omega) (fun j hj => absurd hj (by omega))⟩))))
end
