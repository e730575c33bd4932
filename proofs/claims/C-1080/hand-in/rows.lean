section
-- pasted from kit/rows (starting text): pk_, nx_, s_l
theorem pk_us {f : Nat → Int32} {k : Nat} {x : Int32} : upd f k x k = x := if_pos rfl
theorem pk_un {f : Nat → Int32} {k j : Nat} {x : Int32} (h : j ≠ k) : upd f k x j = f j := if_neg h
theorem pk_uLs {f : Nat → Int64} {k : Nat} {x : Int64} : vp_updL f k x k = x := if_pos rfl
theorem pk_uLn {f : Nat → Int64} {k j : Nat} {x : Int64} (h : j ≠ k) : vp_updL f k x j = f j := if_neg h
theorem pk_sub {a b : Nat} (h : b ≤ a) : nI a - nI b = nI (a - b) := by
  obtain ⟨c, rfl⟩ : ∃ c, a = c + b := ⟨a - b, by omega⟩
  rw [← nI_add, Int32.add_sub_cancel, Nat.add_sub_cancel]
theorem pk_m1 (n : Nat) : nI (n + 1) + (-1) = nI n := by
  rw [← nI_1, Int32.add_assoc, show (1 : Int32) + (-1) = 0 from rfl, Int32.add_zero]
theorem pk_mul (a b : Nat) : nI a * nI b = nI (a * b) := (Int32.ofNat_mul a b).symm
theorem pk_div {a d : Nat} (ha : a < 2 ^ 31) (h0 : 0 < d) (hd : d < 2 ^ 31) : nI a / nI d = nI (a / d) := by
  apply Int32.toInt_inj.mp
  rw [lg_idiv_nonneg (by rw [nI_toInt ha]; omega) (by rw [nI_toInt hd]; omega), nI_toInt ha, nI_toInt hd, nI_toInt (Nat.lt_of_le_of_lt (Nat.div_le_self a d) ha)]
  first | rfl | exact (Int.natCast_ediv _ _).symm
theorem pk_rem {a d : Nat} (ha : a < 2 ^ 31) (h0 : 0 < d) (hd : d < 2 ^ 31) : nI a - nI a / nI d * nI d = nI (a % d) := by
  rw [pk_div ha h0 hd, pk_mul, pk_sub (Nat.div_mul_le_self a d)]
  exact congrArg nI (by have := Nat.div_add_mod' a d; omega)
theorem pk_sub_toInt {a b : Nat} (ha : a < 2 ^ 30) (hb : b < 2 ^ 30) : (nI a - nI b).toInt = (a : Int) - b := by
  rw [Int32.toInt_sub, nI_toInt (by omega), nI_toInt (by omega)]
  exact Int.bmod_eq_of_le (by omega) (by omega)
theorem pk_sneg {a b : Nat} (hb : b < 2 ^ 30) (h : a < b) : nI a - nI b < 0 := by
  rw [Int32.lt_iff_toInt_lt, pk_sub_toInt (by omega) hb, show (0 : Int32).toInt = 0 from by decide]
  omega
theorem pk_ix (x : Int32) {n : Nat} (hn : n < 2 ^ 31) : x < 0 ∨ nI n ≤ x ∨ ∃ j : Nat, j < n ∧ x = nI j := by
  by_cases h : x < 0
  · exact Or.inl h
  · obtain ⟨j, hj, rfl⟩ := nI_of h
    by_cases h2 : j < n
    · exact Or.inr (Or.inr ⟨j, h2, rfl⟩)
    · exact Or.inr (Or.inl (nI_le (by omega) hj))
theorem pk_le {x y : Int32} {A B : Prop} (a b : Nat) (f : a ≤ b → A) (g : b < a → B) (hx : x = nI a := by rfl) (hy : y = nI b := by rfl) (ha : a < 2 ^ 31 := by omega) (hb : b < 2 ^ 31 := by omega) : (x ≤ y → A) ∧ (¬ x ≤ y → B) := by
  subst hx hy
  rw [nI_leI ha hb]
  exact ⟨f, fun z => g (by omega)⟩
theorem pk_lt {x y : Int32} {A B : Prop} (a b : Nat) (f : a < b → A) (g : b ≤ a → B) (hx : x = nI a := by rfl) (hy : y = nI b := by rfl) (ha : a < 2 ^ 31 := by omega) (hb : b < 2 ^ 31 := by omega) : (x < y → A) ∧ (¬ x < y → B) := by
  subst hx hy
  rw [nI_ltI ha hb]
  exact ⟨f, fun z => g (by omega)⟩
theorem pk_eq {x y : Int32} {A B : Prop} (a b : Nat) (f : a = b → A) (g : a ≠ b → B) (hx : x = nI a := by rfl) (hy : y = nI b := by rfl) (ha : a < 2 ^ 31 := by omega) (hb : b < 2 ^ 31 := by omega) : (x = y → A) ∧ (¬ x = y → B) := by
  subst hx hy
  rw [nI_eq ha hb]
  exact ⟨f, g⟩
theorem pk_in {x : Int32} (n N : Nat) (h : n < N) (hx : x = nI n := by rfl) (hN : N < 2 ^ 31 := by omega) : vp_in x N := by
  subst hx
  exact vp_in_nI h hN
theorem pk_cl {x : Int32} (n : Nat) (hx : x = nI n := by rfl) (h : n < 2 ^ 31 := by omega) : x.toNatClampNeg = n := by
  subst hx
  exact nI_clamp h
theorem pk_tn {n : Nat} (h : n < 2 ^ 32) : (nI n).toBitVec.toNat = n := Nat.mod_eq_of_lt h
theorem pk_and (x : Int32) {m : Int32} (k : Nat) (hm : m.toBitVec.toNat = 2 ^ k - 1) : x &&& m = nI (x.toBitVec.toNat % 2 ^ k) := by
  apply Int32.toBitVec_inj.mp
  apply BitVec.eq_of_toNat_eq
  rw [Int32.toBitVec_and, BitVec.toNat_and, hm, Nat.and_two_pow_sub_one_eq_mod]
  show _ = (BitVec.ofNat 32 _).toNat
  rw [BitVec.toNat_ofNat]
  exact (Nat.mod_eq_of_lt (Nat.lt_of_le_of_lt (Nat.mod_le _ _) x.toBitVec.isLt)).symm
theorem pk_andN {n : Nat} (h : n < 2 ^ 32) {m : Int32} (k : Nat) (hm : m.toBitVec.toNat = 2 ^ k - 1) : nI n &&& m = nI (n % 2 ^ k) := by
  rw [pk_and _ k hm, pk_tn h]
theorem pk_andE (x : Int32) {m : Int32} (k : Nat) (hm : m.toBitVec.toNat = 2 ^ k - 1) : ∃ j : Nat, j < 2 ^ k ∧ x &&& m = nI j := ⟨_, Nat.mod_lt _ (Nat.two_pow_pos k), pk_and x k hm⟩
theorem pk_andIn (x : Int32) {m : Int32} (k : Nat) (hm : m.toBitVec.toNat = 2 ^ k - 1) (hk : k ≤ 30) : vp_in (x &&& m) (2 ^ k) := by
  obtain ⟨j, hj, e⟩ := pk_andE x k hm
  rw [e]
  exact vp_in_nI hj (Nat.lt_of_le_of_lt (Nat.pow_le_pow_right (by decide) hk) (by decide))
theorem pk_shl (a s : Int32) (k : Nat) (hs : (s.toBitVec.smod 32).toNat = k) : (a <<< s).toBitVec.toNat = a.toBitVec.toNat * 2 ^ k % 2 ^ 32 := by
  show (a.toBitVec <<< (s.toBitVec.smod 32).toNat).toNat = _
  rw [hs, BitVec.toNat_shiftLeft, Nat.shiftLeft_eq]
theorem pk_shlN {n : Nat} (s : Int32) (k : Nat) (hs : (s.toBitVec.smod 32).toNat = k) (h : n * 2 ^ k < 2 ^ 32) : nI n <<< s = nI (n * 2 ^ k) := by
  apply Int32.toBitVec_inj.mp
  apply BitVec.eq_of_toNat_eq
  have hn : n < 2 ^ 32 := Nat.lt_of_le_of_lt (Nat.le_mul_of_pos_right n (Nat.two_pow_pos k)) h
  rw [pk_shl _ _ k hs, pk_tn hn, pk_tn h, Nat.mod_eq_of_lt h]
theorem pk_shr (a s : Int32) (k : Nat) (hs : (s.toBitVec.smod 32).toNat = k) : (a >>> s).toInt = a.toInt >>> k := by
  show (a.toBitVec.sshiftRight (s.toBitVec.smod 32).toNat).toInt = _
  rw [hs, BitVec.toInt_sshiftRight]
  rfl
theorem pk_shrN {n : Nat} (h : n < 2 ^ 31) (s : Int32) (k : Nat) (hs : (s.toBitVec.smod 32).toNat = k) : nI n >>> s = nI (n / 2 ^ k) := by
  apply Int32.toInt_inj.mp
  have h2 : n / 2 ^ k ≤ n := Nat.div_le_self _ _
  rw [pk_shr _ _ k hs, nI_toInt h, nI_toInt (by omega), Int.shiftRight_eq_div_pow]
  rfl
theorem pk_vb (z : Int32) : vp_nar .byte z.toInt8.toInt32 = z.toInt8.toInt32 := by rw [vp_nar_byte]; simp
theorem pk_vs (z : Int32) : vp_nar .short z.toInt16.toInt32 = z.toInt16.toInt32 := by rw [vp_nar_short]; simp
theorem nx_and (a b : Nat) : nI a &&& nI b = nI (a &&& b) := by
  apply Int32.toBitVec_inj.1
  show BitVec.ofNat 32 a &&& BitVec.ofNat 32 b = BitVec.ofNat 32 (a &&& b)
  apply BitVec.eq_of_getLsbD_eq
  intro i hi
  simp [hi]
theorem nx_xor (a b : Nat) : nI a ^^^ nI b = nI (a ^^^ b) := by
  apply Int32.toBitVec_inj.1
  show BitVec.ofNat 32 a ^^^ BitVec.ofNat 32 b = BitVec.ofNat 32 (a ^^^ b)
  apply BitVec.eq_of_getLsbD_eq
  intro i hi
  simp [hi]
theorem s_l : ∀ n, n < 32 → ((nI n &&& 31).toBitVec.smod 32).toNat = n := by decide +kernel
-- own rows from here
def cN (f : Nat → Nat) : Nat → Int32 := fun i => nI (f i)
theorem ba_ap (f : Nat → Nat) (i : Nat) : cN f i = nI (f i) := rfl
def un (f : Nat → Nat) (k x : Nat) : Nat → Nat := fun j => if j = k then x else f j
theorem un_s {f : Nat → Nat} {k x : Nat} : un f k x k = x := if_pos rfl
theorem un_n {f : Nat → Nat} {k x j : Nat} (h : j ≠ k) : un f k x j = f j := if_neg h
theorem un_d (f : Nat → Nat) (k x j : Nat) : un f k x j = if j = k then x else f j := rfl
theorem un_id (f : Nat → Nat) (k x : Nat) (h : f k = x) : un f k x = f := by
  funext j
  by_cases e : j = k
  · rw [e, un_s, h]
  · rw [un_n e]
theorem ba_upd (f : Nat → Nat) (k x : Nat) : upd (cN f) k (nI x) = cN (un f k x) := by
  funext j
  by_cases h : j = k
  · subst h; rw [pk_us, ba_ap, un_s]
  · rw [pk_un h, ba_ap, ba_ap, un_n h]
theorem ba_in {n N : Nat} (h : n < N) (hN : N < 2 ^ 31) : vp_in (nI n) N = True := eq_true (vp_in_nI h hN)
theorem cT_le {a b : Nat} (h : a ≤ b) (hb : b < 2 ^ 31) : (nI a ≤ nI b) = True := eq_true (nI_le h hb)
theorem cF_le {a b : Nat} (h : b < a) (hb : a < 2 ^ 31) : (nI a ≤ nI b) = False := eq_false (nI_ge h hb)
theorem cT_lt {a b : Nat} (h : a < b) (hb : b < 2 ^ 31) : (nI a < nI b) = True := eq_true (nI_lt h hb)
theorem cF_lt {a b : Nat} (h : b ≤ a) (hb : a < 2 ^ 31) : (nI a < nI b) = False := eq_false (nI_nlt h hb)
theorem cT_eq {a b : Nat} (h : a = b) : (nI a = nI b) = True := eq_true (congrArg nI h)
theorem cF_eq {a b : Nat} (h : a ≠ b) (ha : a < 2 ^ 31) (hb : b < 2 ^ 31) : (nI a = nI b) = False := eq_false (fun e => h ((nI_eq ha hb).mp e))
theorem nb_1 {x : Nat} (h : x < 128) : vp_nar .byte (nI x).toInt8.toInt32 = nI x := by
  rw [pk_vb]; exact lg_i2b_small (by rw [nI_toInt (by omega)]; omega) (by rw [nI_toInt (by omega)]; omega)
theorem nb_2 {x : Nat} (h : x < 128) : vp_nar .byte (nI x) = nI x := by
  rw [vp_nar_byte]; exact lg_i2b_small (by rw [nI_toInt (by omega)]; omega) (by rw [nI_toInt (by omega)]; omega)
theorem ns_1 {x : Nat} (h : x < 32768) : vp_nar .short (nI x).toInt16.toInt32 = nI x := by
  rw [pk_vs]; exact lg_i2s_small (by rw [nI_toInt (by omega)]; omega) (by rw [nI_toInt (by omega)]; omega)
theorem ns_2 {x : Nat} (h : x < 32768) : vp_nar .short (nI x) = nI x := by
  rw [vp_nar_short]; exact lg_i2s_small (by rw [nI_toInt (by omega)]; omega) (by rw [nI_toInt (by omega)]; omega)
theorem nz_1 {x : Nat} (h : x < 2) : vp_nar .boolean (nI x) = nI x := by
  rcases (show x = 0 ∨ x = 1 by omega) with rfl | rfl <;> rfl
theorem nz_2 {x : Nat} (h : x < 2) : (narrow .boolean (.int (nI x)) = .int (nI x)) = True := by
  rcases (show x = 0 ∨ x = 1 by omega) with rfl | rfl <;> exact eq_true rfl
theorem li_0 : (0 : Int32) = nI 0 := rfl
theorem li_1 : (1 : Int32) = nI 1 := rfl
theorem li_2 : (2 : Int32) = nI 2 := rfl
theorem li_3 : (3 : Int32) = nI 3 := rfl
theorem li_4 : (4 : Int32) = nI 4 := rfl
theorem li_5 : (5 : Int32) = nI 5 := rfl
theorem li_6 : (6 : Int32) = nI 6 := rfl
theorem li_7 : (7 : Int32) = nI 7 := rfl
theorem li_8 : (8 : Int32) = nI 8 := rfl
theorem li_9 : (9 : Int32) = nI 9 := rfl
theorem li_10 : (10 : Int32) = nI 10 := rfl
theorem li_11 : (11 : Int32) = nI 11 := rfl
theorem li_12 : (12 : Int32) = nI 12 := rfl
theorem li_15 : (15 : Int32) = nI 15 := rfl
theorem li_16 : (16 : Int32) = nI 16 := rfl
theorem li_20 : (20 : Int32) = nI 20 := rfl
theorem li_21 : (21 : Int32) = nI 21 := rfl
theorem li_24 : (24 : Int32) = nI 24 := rfl
theorem li_31 : (31 : Int32) = nI 31 := rfl
theorem li_36 : (36 : Int32) = nI 36 := rfl
theorem li_100 : (100 : Int32) = nI 100 := rfl
theorem li_255 : (255 : Int32) = nI 255 := rfl
theorem li_256 : (256 : Int32) = nI 256 := rfl
theorem li_1000 : (1000 : Int32) = nI 1000 := rfl
theorem li_6000 : (6000 : Int32) = nI 6000 := rfl
theorem li_M : (1000000 : Int32) = nI 1000000 := rfl
theorem ng_1 : (nI 0 ≤ -nI 1) = False := eq_false (by decide)
theorem ng_2 : (-nI 1 < nI 0) = True := eq_true (by decide)
theorem ng_3 {n : Nat} (h : n < 2 ^ 31) : (nI n = -nI 1) = False := eq_false (by
  intro e
  have := congrArg Int32.toInt e
  rw [nI_toInt h, show (-nI 1).toInt = -1 from by decide] at this
  omega)
theorem ng_4 {n : Nat} (h : n < 2 ^ 31) : (-nI 1 = nI n) = False := by
  exact eq_false (fun e => by have := ng_3 h; rw [e] at this; simp at this)
theorem ng_5 {n : Nat} (h : n < 2 ^ 31) : (nI n < -nI 1) = False := eq_false (by
  rw [Int32.lt_iff_toInt_lt, nI_toInt h, show (-nI 1).toInt = -1 from by decide]; omega)
theorem ng_6 {n : Nat} (h : n < 2 ^ 31) : (nI n < nI 0) = False := eq_false (by
  rw [Int32.lt_iff_toInt_lt, nI_toInt h, show (nI 0).toInt = 0 from by decide]; omega)
theorem ba_m1 {n : Nat} (h : 0 < n) : nI n + -nI 1 = nI (n - 1) := by
  obtain ⟨m, rfl⟩ : ∃ m, n = m + 1 := ⟨n - 1, by omega⟩
  exact pk_m1 m
theorem nx_or (a b : Nat) : nI a ||| nI b = nI (a ||| b) := by
  apply Int32.toBitVec_inj.1
  show BitVec.ofNat 32 a ||| BitVec.ofNat 32 b = BitVec.ofNat 32 (a ||| b)
  apply BitVec.eq_of_getLsbD_eq
  intro i hi
  simp [hi]
theorem ba_shl {i : Nat} (h : i < 31) : nI 1 <<< (nI i &&& nI 31) = nI (2 ^ i) := by
  have e := pk_shlN (n := 1) (nI i &&& nI 31) i (s_l i (by omega)) (by
    rw [Nat.one_mul]; exact Nat.lt_trans (Nat.pow_lt_pow_right (by decide) h) (by decide))
  rw [e, Nat.one_mul]
theorem ba_shr {x i : Nat} (h : i < 32) (hx : x < 2 ^ 31) : nI x >>> (nI i &&& nI 31) = nI (x / 2 ^ i) := pk_shrN hx _ i (s_l i h)
theorem ba_a1 (x : Nat) : nI x &&& nI 1 = nI (x % 2) := by rw [nx_and, Nat.and_one_is_mod]
theorem ba_n1 : -nI 1 = nI 4294967295 := by decide
theorem ba_no {a : Nat} (h0 : 0 < a) (h : a < 2 ^ 31) : (nI a = nI 0) = False := cF_eq (by omega) h (by decide)
/-- z &&& 1 is 0 or 1 -/
theorem ba_01 (z : Int32) : z &&& nI 1 = nI 0 ∨ z &&& nI 1 = nI 1 := by
  obtain ⟨j, hj, e⟩ := pk_andE z (m := nI 1) 1 (by decide)
  rcases (show j = 0 ∨ j = 1 by omega) with rfl | rfl
  · exact Or.inl e
  · exact Or.inr e
theorem ba_10 (z : Int32) : (z &&& nI 1 = nI 0) = ¬ (z &&& nI 1 = nI 1) := by
  apply propext
  constructor
  · intro h e; rw [h] at e; exact absurd e (by decide)
  · intro h; rcases ba_01 z with a | a
    · exact a
    · exact absurd a h
end
section
section
variable {spent : Int32} {now ch goal val known : Nat} {coins up base rate status who latest row bal many frm amt sec xpy born dead publd pubs since held outm least path xsum : Nat → Nat} {knows guard : Nat → Int32}
def sI (who : Nat → Nat) (c p : Nat) : Int32 := if who (2 * c) = p then nI 0 else if who (2 * c + 1) = p then nI 1 else -nI 1
def rdy (status up who : Nat → Nat) (c : Nat) : Nat := if status c = 0 ∧ up (who (2 * c)) ≠ 0 ∧ up (who (2 * c + 1)) ≠ 0 then 1 else 0
def ltN (a b : Nat) : Nat := if a < b then 1 else 0
theorem sI_0 {who : Nat → Nat} {c p : Nat} (h : who (2 * c) = p) : sI who c p = nI 0 := if_pos h
theorem sI_1 {who : Nat → Nat} {c p : Nat} (h0 : who (2 * c) ≠ p) (h : who (2 * c + 1) = p) : sI who c p = nI 1 := by unfold sI; rw [if_neg h0, if_pos h]
theorem sI_2 {who : Nat → Nat} {c p : Nat} (h0 : who (2 * c) ≠ p) (h : who (2 * c + 1) ≠ p) : sI who c p = -nI 1 := by unfold sI; rw [if_neg h0, if_neg h]
theorem xw_in {post : Int32 → Prop} {a n : Nat} (h : a < n) (hn : n < 2 ^ 31) : wpX_in post (nI a) (nI n) = post (nI 1) := by
  simp (disch := omega) only [wpX_in, li_0, li_1, li_2, li_3, li_4, li_5, li_6, li_7, li_8, li_9, li_10, li_11, li_12, li_15, li_16, li_20, li_21, li_24, li_31, li_36, li_100, li_255, li_256, li_1000, li_6000, li_M, un_s, un_n, ba_ap, ba_upd, ba_in, cT_le, cF_le, cT_lt, cF_lt, cT_eq, cF_eq, nb_1, nb_2, ns_1, ns_2, nz_1, nz_2, ng_1, ng_2, ng_3, ng_4, ng_5, nI_clamp, nI_add, pk_mul, pk_sub, forall_eq, true_and, and_true, true_imp_iff, false_imp_iff, not_true_eq_false, not_false_eq_true, implies_true]
theorem xw_inF {post : Int32 → Prop} {a n : Nat} (h : n ≤ a) (hn : a < 2 ^ 31) : wpX_in post (nI a) (nI n) = post (nI 0) := by
  simp (disch := omega) only [wpX_in, li_0, li_1, li_2, li_3, li_4, li_5, li_6, li_7, li_8, li_9, li_10, li_11, li_12, li_15, li_16, li_20, li_21, li_24, li_31, li_36, li_100, li_255, li_256, li_1000, li_6000, li_M, un_s, un_n, ba_ap, ba_upd, ba_in, cT_le, cF_le, cT_lt, cF_lt, cT_eq, cF_eq, nb_1, nb_2, ns_1, ns_2, nz_1, nz_2, ng_1, ng_2, ng_3, ng_4, ng_5, nI_clamp, nI_add, pk_mul, pk_sub, forall_eq, true_and, and_true, true_imp_iff, false_imp_iff, not_true_eq_false, not_false_eq_true, implies_true]
theorem xw_inN {post : Int32 → Prop} {x y : Int32} (h : x < nI 0) : wpX_in post x y = post (nI 0) := by
  simp (disch := omega) only [wpX_in, h, li_0, li_1, li_2, li_3, li_4, li_5, li_6, li_7, li_8, li_9, li_10, li_11, li_12, li_15, li_16, li_20, li_21, li_24, li_31, li_36, li_100, li_255, li_256, li_1000, li_6000, li_M, un_s, un_n, ba_ap, ba_upd, ba_in, cT_le, cF_le, cT_lt, cF_lt, cT_eq, cF_eq, nb_1, nb_2, ns_1, ns_2, nz_1, nz_2, ng_1, ng_2, ng_3, ng_4, ng_5, nI_clamp, nI_add, pk_mul, pk_sub, forall_eq, true_and, and_true, true_imp_iff, false_imp_iff, not_true_eq_false, not_false_eq_true, implies_true]
theorem xw_isChannel {post : Int32 → Prop} {c : Nat} (hc : c < ch) (h : ch < 2 ^ 31) : wpX_isChannel post (spent, nI now, nI ch, nI goal, nI val, nI known, cN coins, cN up, knows, cN base, cN rate, guard, cN status, cN who, cN latest, cN row, cN bal, cN many, cN frm, cN amt, cN sec, cN xpy, cN born, cN dead, cN publd, cN pubs, cN since, cN held, cN outm, cN least, cN path, cN xsum) (nI c) = post (nI 1) := by
  simp (disch := omega) only [wpX_isChannel, wpX_in, li_0, li_1, li_2, li_3, li_4, li_5, li_6, li_7, li_8, li_9, li_10, li_11, li_12, li_15, li_16, li_20, li_21, li_24, li_31, li_36, li_100, li_255, li_256, li_1000, li_6000, li_M, un_s, un_n, ba_ap, ba_upd, ba_in, cT_le, cF_le, cT_lt, cF_lt, cT_eq, cF_eq, nb_1, nb_2, ns_1, ns_2, nz_1, nz_2, ng_1, ng_2, ng_3, ng_4, ng_5, nI_clamp, nI_add, pk_mul, pk_sub, forall_eq, true_and, and_true, true_imp_iff, false_imp_iff, not_true_eq_false, not_false_eq_true, implies_true]
theorem xw_sideOf {post : Int32 → Prop} {c p : Nat} (hc : c < 8) (hp : p < 2 ^ 31) (h0 : who (2 * c) < 6) (h1 : who (2 * c + 1) < 6) : wpX_sideOf post (spent, nI now, nI ch, nI goal, nI val, nI known, cN coins, cN up, knows, cN base, cN rate, guard, cN status, cN who, cN latest, cN row, cN bal, cN many, cN frm, cN amt, cN sec, cN xpy, cN born, cN dead, cN publd, cN pubs, cN since, cN held, cN outm, cN least, cN path, cN xsum) (nI c) (nI p) = post (sI who c p) := by
  unfold sI
  split
  · simp (disch := omega) only [wpX_sideOf, li_0, li_1, li_2, li_3, li_4, li_5, li_6, li_7, li_8, li_9, li_10, li_11, li_12, li_15, li_16, li_20, li_21, li_24, li_31, li_36, li_100, li_255, li_256, li_1000, li_6000, li_M, un_s, un_n, ba_ap, ba_upd, ba_in, cT_le, cF_le, cT_lt, cF_lt, cT_eq, cF_eq, nb_1, nb_2, ns_1, ns_2, nz_1, nz_2, ng_1, ng_2, ng_3, ng_4, ng_5, nI_clamp, nI_add, pk_mul, pk_sub, forall_eq, true_and, and_true, true_imp_iff, false_imp_iff, not_true_eq_false, not_false_eq_true, implies_true]
  · split
    · simp (disch := omega) only [wpX_sideOf, li_0, li_1, li_2, li_3, li_4, li_5, li_6, li_7, li_8, li_9, li_10, li_11, li_12, li_15, li_16, li_20, li_21, li_24, li_31, li_36, li_100, li_255, li_256, li_1000, li_6000, li_M, un_s, un_n, ba_ap, ba_upd, ba_in, cT_le, cF_le, cT_lt, cF_lt, cT_eq, cF_eq, nb_1, nb_2, ns_1, ns_2, nz_1, nz_2, ng_1, ng_2, ng_3, ng_4, ng_5, nI_clamp, nI_add, pk_mul, pk_sub, forall_eq, true_and, and_true, true_imp_iff, false_imp_iff, not_true_eq_false, not_false_eq_true, implies_true]
    · simp (disch := omega) only [wpX_sideOf, li_0, li_1, li_2, li_3, li_4, li_5, li_6, li_7, li_8, li_9, li_10, li_11, li_12, li_15, li_16, li_20, li_21, li_24, li_31, li_36, li_100, li_255, li_256, li_1000, li_6000, li_M, un_s, un_n, ba_ap, ba_upd, ba_in, cT_le, cF_le, cT_lt, cF_lt, cT_eq, cF_eq, nb_1, nb_2, ns_1, ns_2, nz_1, nz_2, ng_1, ng_2, ng_3, ng_4, ng_5, nI_clamp, nI_add, pk_mul, pk_sub, forall_eq, true_and, and_true, true_imp_iff, false_imp_iff, not_true_eq_false, not_false_eq_true, implies_true]
theorem xw_isReady {post : Int32 → Prop} {c : Nat} (hc : c < 8) (hs : status c < 3) (h0 : who (2 * c) < 6) (h1 : who (2 * c + 1) < 6) (hu : ∀ p, p < 6 → up p < 2) : wpX_isReady post (spent, nI now, nI ch, nI goal, nI val, nI known, cN coins, cN up, knows, cN base, cN rate, guard, cN status, cN who, cN latest, cN row, cN bal, cN many, cN frm, cN amt, cN sec, cN xpy, cN born, cN dead, cN publd, cN pubs, cN since, cN held, cN outm, cN least, cN path, cN xsum) (nI c) = post (nI (rdy status up who c)) := by
  have u0 := hu _ h0
  have u1 := hu _ h1
  unfold rdy
  by_cases a : status c = 0
  · by_cases b : up (who (2 * c)) = 0
    · rw [if_neg (by omega)]
      simp (disch := omega) only [wpX_isReady, li_0, li_1, li_2, li_3, li_4, li_5, li_6, li_7, li_8, li_9, li_10, li_11, li_12, li_15, li_16, li_20, li_21, li_24, li_31, li_36, li_100, li_255, li_256, li_1000, li_6000, li_M, un_s, un_n, ba_ap, ba_upd, ba_in, cT_le, cF_le, cT_lt, cF_lt, cT_eq, cF_eq, nb_1, nb_2, ns_1, ns_2, nz_1, nz_2, ng_1, ng_2, ng_3, ng_4, ng_5, nI_clamp, nI_add, pk_mul, pk_sub, forall_eq, true_and, and_true, true_imp_iff, false_imp_iff, not_true_eq_false, not_false_eq_true, implies_true]
    · by_cases d : up (who (2 * c + 1)) = 0
      · rw [if_neg (by omega)]
        simp (disch := omega) only [wpX_isReady, li_0, li_1, li_2, li_3, li_4, li_5, li_6, li_7, li_8, li_9, li_10, li_11, li_12, li_15, li_16, li_20, li_21, li_24, li_31, li_36, li_100, li_255, li_256, li_1000, li_6000, li_M, un_s, un_n, ba_ap, ba_upd, ba_in, cT_le, cF_le, cT_lt, cF_lt, cT_eq, cF_eq, nb_1, nb_2, ns_1, ns_2, nz_1, nz_2, ng_1, ng_2, ng_3, ng_4, ng_5, nI_clamp, nI_add, pk_mul, pk_sub, forall_eq, true_and, and_true, true_imp_iff, false_imp_iff, not_true_eq_false, not_false_eq_true, implies_true]
      · rw [if_pos ⟨a, b, d⟩]
        simp (disch := omega) only [wpX_isReady, li_0, li_1, li_2, li_3, li_4, li_5, li_6, li_7, li_8, li_9, li_10, li_11, li_12, li_15, li_16, li_20, li_21, li_24, li_31, li_36, li_100, li_255, li_256, li_1000, li_6000, li_M, un_s, un_n, ba_ap, ba_upd, ba_in, cT_le, cF_le, cT_lt, cF_lt, cT_eq, cF_eq, nb_1, nb_2, ns_1, ns_2, nz_1, nz_2, ng_1, ng_2, ng_3, ng_4, ng_5, nI_clamp, nI_add, pk_mul, pk_sub, forall_eq, true_and, and_true, true_imp_iff, false_imp_iff, not_true_eq_false, not_false_eq_true, implies_true]
  · rw [if_neg (fun h => a h.1)]
    simp (disch := omega) only [wpX_isReady, li_0, li_1, li_2, li_3, li_4, li_5, li_6, li_7, li_8, li_9, li_10, li_11, li_12, li_15, li_16, li_20, li_21, li_24, li_31, li_36, li_100, li_255, li_256, li_1000, li_6000, li_M, un_s, un_n, ba_ap, ba_upd, ba_in, cT_le, cF_le, cT_lt, cF_lt, cT_eq, cF_eq, nb_1, nb_2, ns_1, ns_2, nz_1, nz_2, ng_1, ng_2, ng_3, ng_4, ng_5, nI_clamp, nI_add, pk_mul, pk_sub, forall_eq, true_and, and_true, true_imp_iff, false_imp_iff, not_true_eq_false, not_false_eq_true, implies_true]
theorem xw_canChange {post : Int32 → Prop} {c : Nat} (hc : c < 8) (hl : latest c < 12) : wpX_canChange post (spent, nI now, nI ch, nI goal, nI val, nI known, cN coins, cN up, knows, cN base, cN rate, guard, cN status, cN who, cN latest, cN row, cN bal, cN many, cN frm, cN amt, cN sec, cN xpy, cN born, cN dead, cN publd, cN pubs, cN since, cN held, cN outm, cN least, cN path, cN xsum) (nI c) = post (nI (ltN (latest c) 11)) := by
  unfold ltN
  by_cases a : latest c < 11
  · rw [if_pos a]
    simp (disch := omega) only [wpX_canChange, li_0, li_1, li_2, li_3, li_4, li_5, li_6, li_7, li_8, li_9, li_10, li_11, li_12, li_15, li_16, li_20, li_21, li_24, li_31, li_36, li_100, li_255, li_256, li_1000, li_6000, li_M, un_s, un_n, ba_ap, ba_upd, ba_in, cT_le, cF_le, cT_lt, cF_lt, cT_eq, cF_eq, nb_1, nb_2, ns_1, ns_2, nz_1, nz_2, ng_1, ng_2, ng_3, ng_4, ng_5, nI_clamp, nI_add, pk_mul, pk_sub, forall_eq, true_and, and_true, true_imp_iff, false_imp_iff, not_true_eq_false, not_false_eq_true, implies_true]
  · rw [if_neg a]
    simp (disch := omega) only [wpX_canChange, li_0, li_1, li_2, li_3, li_4, li_5, li_6, li_7, li_8, li_9, li_10, li_11, li_12, li_15, li_16, li_20, li_21, li_24, li_31, li_36, li_100, li_255, li_256, li_1000, li_6000, li_M, un_s, un_n, ba_ap, ba_upd, ba_in, cT_le, cF_le, cT_lt, cF_lt, cT_eq, cF_eq, nb_1, nb_2, ns_1, ns_2, nz_1, nz_2, ng_1, ng_2, ng_3, ng_4, ng_5, nI_clamp, nI_add, pk_mul, pk_sub, forall_eq, true_and, and_true, true_imp_iff, false_imp_iff, not_true_eq_false, not_false_eq_true, implies_true]
theorem xw_place {post : Int32 → Prop} {c k : Nat} : wpX_place post (nI c) (nI k) = post (nI (2 * (12 * c + k))) := by
  simp (disch := omega) only [wpX_place, li_0, li_1, li_2, li_3, li_4, li_5, li_6, li_7, li_8, li_9, li_10, li_11, li_12, li_15, li_16, li_20, li_21, li_24, li_31, li_36, li_100, li_255, li_256, li_1000, li_6000, li_M, un_s, un_n, ba_ap, ba_upd, ba_in, cT_le, cF_le, cT_lt, cF_lt, cT_eq, cF_eq, nb_1, nb_2, ns_1, ns_2, nz_1, nz_2, ng_1, ng_2, ng_3, ng_4, ng_5, nI_clamp, nI_add, pk_mul, pk_sub, forall_eq, true_and, and_true, true_imp_iff, false_imp_iff, not_true_eq_false, not_false_eq_true, implies_true]
theorem xw_begin {post : SX → Prop} {c a b : Nat} (hc : c < 8) (ha : a < 32768) (hb : b < 32768) : wpX_begin post (spent, nI now, nI ch, nI goal, nI val, nI known, cN coins, cN up, knows, cN base, cN rate, guard, cN status, cN who, cN latest, cN row, cN bal, cN many, cN frm, cN amt, cN sec, cN xpy, cN born, cN dead, cN publd, cN pubs, cN since, cN held, cN outm, cN least, cN path, cN xsum) (nI c) (nI a) (nI b) = post (spent, nI now, nI ch, nI goal, nI val, nI 0, cN coins, cN up, knows, cN base, cN rate, guard, cN status, cN who, cN (un latest c 0), cN (un row c 0), cN (un (un bal (2 * (12 * c + 0)) a) (2 * (12 * c + 0) + 1) b), cN (un many c 0), cN frm, cN amt, cN sec, cN xpy, cN born, cN dead, cN publd, cN pubs, cN since, cN held, cN outm, cN least, cN path, cN xsum) := by
  simp (disch := omega) only [wpX_begin, wpX_place, li_0, li_1, li_2, li_3, li_4, li_5, li_6, li_7, li_8, li_9, li_10, li_11, li_12, li_15, li_16, li_20, li_21, li_24, li_31, li_36, li_100, li_255, li_256, li_1000, li_6000, li_M, un_s, un_n, ba_ap, ba_upd, ba_in, cT_le, cF_le, cT_lt, cF_lt, cT_eq, cF_eq, nb_1, nb_2, ns_1, ns_2, nz_1, nz_2, ng_1, ng_2, ng_3, ng_4, ng_5, nI_clamp, nI_add, pk_mul, pk_sub, forall_eq, true_and, and_true, true_imp_iff, false_imp_iff, not_true_eq_false, not_false_eq_true, implies_true]
theorem xw_change {post : Int32 → SX → Prop} {c : Nat} (hc : c < 8) (hl : latest c < 11) (h0 : bal (2 * (12 * c + latest c)) < 32768) (h1 : bal (2 * (12 * c + latest c) + 1) < 32768) : wpX_change post (spent, nI now, nI ch, nI goal, nI val, nI known, cN coins, cN up, knows, cN base, cN rate, guard, cN status, cN who, cN latest, cN row, cN bal, cN many, cN frm, cN amt, cN sec, cN xpy, cN born, cN dead, cN publd, cN pubs, cN since, cN held, cN outm, cN least, cN path, cN xsum) (nI c) = post (nI (2 * (12 * c + latest c) + 2)) (spent, nI now, nI ch, nI goal, nI val, nI 0, cN coins, cN up, knows, cN base, cN rate, guard, cN status, cN who, cN (un latest c (latest c + 1)), cN row, cN (un (un bal (2 * (12 * c + latest c) + 2) (bal (2 * (12 * c + latest c)))) (2 * (12 * c + latest c) + 3) (bal (2 * (12 * c + latest c) + 1))), cN many, cN frm, cN amt, cN sec, cN xpy, cN born, cN dead, cN publd, cN pubs, cN since, cN held, cN outm, cN least, cN path, cN xsum) := by
  simp (disch := omega) only [wpX_change, wpX_place, li_0, li_1, li_2, li_3, li_4, li_5, li_6, li_7, li_8, li_9, li_10, li_11, li_12, li_15, li_16, li_20, li_21, li_24, li_31, li_36, li_100, li_255, li_256, li_1000, li_6000, li_M, un_s, un_n, ba_ap, ba_upd, ba_in, cT_le, cF_le, cT_lt, cF_lt, cT_eq, cF_eq, nb_1, nb_2, ns_1, ns_2, nz_1, nz_2, ng_1, ng_2, ng_3, ng_4, ng_5, nI_clamp, nI_add, pk_mul, pk_sub, forall_eq, true_and, and_true, true_imp_iff, false_imp_iff, not_true_eq_false, not_false_eq_true, implies_true]
theorem xw_other {post : Int32 → Prop} {c p : Nat} (hc : c < 8) (hp : p < 6) (h0 : who (2 * c) < 6) (h1 : who (2 * c + 1) < 6) : wpX_other post (spent, nI now, nI ch, nI goal, nI val, nI known, cN coins, cN up, knows, cN base, cN rate, guard, cN status, cN who, cN latest, cN row, cN bal, cN many, cN frm, cN amt, cN sec, cN xpy, cN born, cN dead, cN publd, cN pubs, cN since, cN held, cN outm, cN least, cN path, cN xsum) (nI c) (nI p) = post (nI (if who (2 * c) = p then who (2 * c + 1) else who (2 * c))) := by
  split
  · simp (disch := omega) only [wpX_other, li_0, li_1, li_2, li_3, li_4, li_5, li_6, li_7, li_8, li_9, li_10, li_11, li_12, li_15, li_16, li_20, li_21, li_24, li_31, li_36, li_100, li_255, li_256, li_1000, li_6000, li_M, un_s, un_n, ba_ap, ba_upd, ba_in, cT_le, cF_le, cT_lt, cF_lt, cT_eq, cF_eq, nb_1, nb_2, ns_1, ns_2, nz_1, nz_2, ng_1, ng_2, ng_3, ng_4, ng_5, nI_clamp, nI_add, pk_mul, pk_sub, forall_eq, true_and, and_true, true_imp_iff, false_imp_iff, not_true_eq_false, not_false_eq_true, implies_true]
  · simp (disch := omega) only [wpX_other, li_0, li_1, li_2, li_3, li_4, li_5, li_6, li_7, li_8, li_9, li_10, li_11, li_12, li_15, li_16, li_20, li_21, li_24, li_31, li_36, li_100, li_255, li_256, li_1000, li_6000, li_M, un_s, un_n, ba_ap, ba_upd, ba_in, cT_le, cF_le, cT_lt, cF_lt, cT_eq, cF_eq, nb_1, nb_2, ns_1, ns_2, nz_1, nz_2, ng_1, ng_2, ng_3, ng_4, ng_5, nI_clamp, nI_add, pk_mul, pk_sub, forall_eq, true_and, and_true, true_imp_iff, false_imp_iff, not_true_eq_false, not_false_eq_true, implies_true]
theorem xw_isPair {post : Int32 → Prop} {p q : Nat} (hp : p < 6) (hq : q < 6) (h : p ≠ q) : wpX_isPair post (nI p) (nI q) = post (nI 1) := by
  simp (disch := omega) only [wpX_isPair, wpX_in, li_0, li_1, li_2, li_3, li_4, li_5, li_6, li_7, li_8, li_9, li_10, li_11, li_12, li_15, li_16, li_20, li_21, li_24, li_31, li_36, li_100, li_255, li_256, li_1000, li_6000, li_M, un_s, un_n, ba_ap, ba_upd, ba_in, cT_le, cF_le, cT_lt, cF_lt, cT_eq, cF_eq, nb_1, nb_2, ns_1, ns_2, nz_1, nz_2, ng_1, ng_2, ng_3, ng_4, ng_5, nI_clamp, nI_add, pk_mul, pk_sub, forall_eq, true_and, and_true, true_imp_iff, false_imp_iff, not_true_eq_false, not_false_eq_true, implies_true]
theorem xw_isValue {post : Int32 → Prop} {v : Nat} (h0 : 0 < v) (h : v < 256) : wpX_isValue post (nI v) = post (nI 1) := by
  simp (disch := omega) only [wpX_isValue, li_0, li_1, li_2, li_3, li_4, li_5, li_6, li_7, li_8, li_9, li_10, li_11, li_12, li_15, li_16, li_20, li_21, li_24, li_31, li_36, li_100, li_255, li_256, li_1000, li_6000, li_M, un_s, un_n, ba_ap, ba_upd, ba_in, cT_le, cF_le, cT_lt, cF_lt, cT_eq, cF_eq, nb_1, nb_2, ns_1, ns_2, nz_1, nz_2, ng_1, ng_2, ng_3, ng_4, ng_5, nI_clamp, nI_add, pk_mul, pk_sub, forall_eq, true_and, and_true, true_imp_iff, false_imp_iff, not_true_eq_false, not_false_eq_true, implies_true]
theorem xw_learn {post : SX → Prop} {p s : Nat} (hp : p < 6) : wpX_learn post (spent, nI now, nI ch, nI goal, nI val, nI known, cN coins, cN up, knows, cN base, cN rate, guard, cN status, cN who, cN latest, cN row, cN bal, cN many, cN frm, cN amt, cN sec, cN xpy, cN born, cN dead, cN publd, cN pubs, cN since, cN held, cN outm, cN least, cN path, cN xsum) (nI p) (nI s) = post (spent, nI now, nI ch, nI goal, nI val, nI known, cN coins, cN up, upd knows p (knows p ||| (nI 1 <<< (nI s &&& nI 31))), cN base, cN rate, guard, cN status, cN who, cN latest, cN row, cN bal, cN many, cN frm, cN amt, cN sec, cN xpy, cN born, cN dead, cN publd, cN pubs, cN since, cN held, cN outm, cN least, cN path, cN xsum) := by
  simp (disch := omega) only [wpX_learn, li_0, li_1, li_2, li_3, li_4, li_5, li_6, li_7, li_8, li_9, li_10, li_11, li_12, li_15, li_16, li_20, li_21, li_24, li_31, li_36, li_100, li_255, li_256, li_1000, li_6000, li_M, un_s, un_n, ba_ap, ba_upd, ba_in, cT_le, cF_le, cT_lt, cF_lt, cT_eq, cF_eq, nb_1, nb_2, ns_1, ns_2, nz_1, nz_2, ng_1, ng_2, ng_3, ng_4, ng_5, nI_clamp, nI_add, pk_mul, pk_sub, forall_eq, true_and, and_true, true_imp_iff, false_imp_iff, not_true_eq_false, not_false_eq_true, implies_true]
def knw (knows : Nat → Int32) (p s : Nat) : Prop := (knows p >>> (nI s &&& nI 31)) &&& nI 1 = nI 1
theorem xw_knowsT {post : Int32 → Prop} {p l : Nat} (hp : p < 6) (hl : l < 88) (h : knw knows p (sec l)) : wpX_knowsOf post (spent, nI now, nI ch, nI goal, nI val, nI known, cN coins, cN up, knows, cN base, cN rate, guard, cN status, cN who, cN latest, cN row, cN bal, cN many, cN frm, cN amt, cN sec, cN xpy, cN born, cN dead, cN publd, cN pubs, cN since, cN held, cN outm, cN least, cN path, cN xsum) (nI p) (nI l) = post (nI 1) := by
  unfold knw at h
  simp (disch := omega) only [wpX_knowsOf, h, li_0, li_1, li_2, li_3, li_4, li_5, li_6, li_7, li_8, li_9, li_10, li_11, li_12, li_15, li_16, li_20, li_21, li_24, li_31, li_36, li_100, li_255, li_256, li_1000, li_6000, li_M, un_s, un_n, ba_ap, ba_upd, ba_in, cT_le, cF_le, cT_lt, cF_lt, cT_eq, cF_eq, nb_1, nb_2, ns_1, ns_2, nz_1, nz_2, ng_1, ng_2, ng_3, ng_4, ng_5, nI_clamp, nI_add, pk_mul, pk_sub, forall_eq, true_and, and_true, true_imp_iff, false_imp_iff, not_true_eq_false, not_false_eq_true, implies_true]
theorem xw_knowsF {post : Int32 → Prop} {p l : Nat} (hp : p < 6) (hl : l < 88) (h : ¬ knw knows p (sec l)) : wpX_knowsOf post (spent, nI now, nI ch, nI goal, nI val, nI known, cN coins, cN up, knows, cN base, cN rate, guard, cN status, cN who, cN latest, cN row, cN bal, cN many, cN frm, cN amt, cN sec, cN xpy, cN born, cN dead, cN publd, cN pubs, cN since, cN held, cN outm, cN least, cN path, cN xsum) (nI p) (nI l) = post (nI 0) := by
  unfold knw at h
  simp (disch := omega) only [wpX_knowsOf, h, li_0, li_1, li_2, li_3, li_4, li_5, li_6, li_7, li_8, li_9, li_10, li_11, li_12, li_15, li_16, li_20, li_21, li_24, li_31, li_36, li_100, li_255, li_256, li_1000, li_6000, li_M, un_s, un_n, ba_ap, ba_upd, ba_in, cT_le, cF_le, cT_lt, cF_lt, cT_eq, cF_eq, nb_1, nb_2, ns_1, ns_2, nz_1, nz_2, ng_1, ng_2, ng_3, ng_4, ng_5, nI_clamp, nI_add, pk_mul, pk_sub, forall_eq, true_and, and_true, true_imp_iff, false_imp_iff, not_true_eq_false, not_false_eq_true, implies_true]
theorem xw_isOld {post : Int32 → Prop} {c : Nat} (hc : c < 8) (h0 : publd c < 12) (h1 : latest c < 12) : wpX_isOld post (spent, nI now, nI ch, nI goal, nI val, nI known, cN coins, cN up, knows, cN base, cN rate, guard, cN status, cN who, cN latest, cN row, cN bal, cN many, cN frm, cN amt, cN sec, cN xpy, cN born, cN dead, cN publd, cN pubs, cN since, cN held, cN outm, cN least, cN path, cN xsum) (nI c) = post (nI (if publd c = latest c then 0 else 1)) := by
  split
  · simp (disch := omega) only [wpX_isOld, li_0, li_1, li_2, li_3, li_4, li_5, li_6, li_7, li_8, li_9, li_10, li_11, li_12, li_15, li_16, li_20, li_21, li_24, li_31, li_36, li_100, li_255, li_256, li_1000, li_6000, li_M, un_s, un_n, ba_ap, ba_upd, ba_in, cT_le, cF_le, cT_lt, cF_lt, cT_eq, cF_eq, nb_1, nb_2, ns_1, ns_2, nz_1, nz_2, ng_1, ng_2, ng_3, ng_4, ng_5, nI_clamp, nI_add, pk_mul, pk_sub, forall_eq, true_and, and_true, true_imp_iff, false_imp_iff, not_true_eq_false, not_false_eq_true, implies_true]
  · simp (disch := omega) only [wpX_isOld, li_0, li_1, li_2, li_3, li_4, li_5, li_6, li_7, li_8, li_9, li_10, li_11, li_12, li_15, li_16, li_20, li_21, li_24, li_31, li_36, li_100, li_255, li_256, li_1000, li_6000, li_M, un_s, un_n, ba_ap, ba_upd, ba_in, cT_le, cF_le, cT_lt, cF_lt, cT_eq, cF_eq, nb_1, nb_2, ns_1, ns_2, nz_1, nz_2, ng_1, ng_2, ng_3, ng_4, ng_5, nI_clamp, nI_add, pk_mul, pk_sub, forall_eq, true_and, and_true, true_imp_iff, false_imp_iff, not_true_eq_false, not_false_eq_true, implies_true]
theorem xw_get {post : SX → Prop} {c s v : Nat} (hc : c < 8) (hs : s < 2) (hp : pubs c < 2) (hw : who (2 * c + s) < 6) (hv : held c + v < 32768) : wpX_get post (spent, nI now, nI ch, nI goal, nI val, nI known, cN coins, cN up, knows, cN base, cN rate, guard, cN status, cN who, cN latest, cN row, cN bal, cN many, cN frm, cN amt, cN sec, cN xpy, cN born, cN dead, cN publd, cN pubs, cN since, cN held, cN outm, cN least, cN path, cN xsum) (nI c) (nI s) (nI v) = if pubs c = s then post (spent, nI now, nI ch, nI goal, nI val, nI known, cN coins, cN up, knows, cN base, cN rate, guard, cN status, cN who, cN latest, cN row, cN bal, cN many, cN frm, cN amt, cN sec, cN xpy, cN born, cN dead, cN publd, cN pubs, cN since, cN (un held c (held c + v)), cN outm, cN least, cN path, cN xsum) else post (spent, nI now, nI ch, nI goal, nI val, nI known, cN (un coins (who (2 * c + s)) (coins (who (2 * c + s)) + v)), cN up, knows, cN base, cN rate, guard, cN status, cN who, cN latest, cN row, cN bal, cN many, cN frm, cN amt, cN sec, cN xpy, cN born, cN dead, cN publd, cN pubs, cN since, cN held, cN outm, cN least, cN path, cN xsum) := by
  split
  · simp (disch := omega) only [wpX_get, li_0, li_1, li_2, li_3, li_4, li_5, li_6, li_7, li_8, li_9, li_10, li_11, li_12, li_15, li_16, li_20, li_21, li_24, li_31, li_36, li_100, li_255, li_256, li_1000, li_6000, li_M, un_s, un_n, ba_ap, ba_upd, ba_in, cT_le, cF_le, cT_lt, cF_lt, cT_eq, cF_eq, nb_1, nb_2, ns_1, ns_2, nz_1, nz_2, ng_1, ng_2, ng_3, ng_4, ng_5, nI_clamp, nI_add, pk_mul, pk_sub, forall_eq, true_and, and_true, true_imp_iff, false_imp_iff, not_true_eq_false, not_false_eq_true, implies_true]
  · simp (disch := omega) only [wpX_get, li_0, li_1, li_2, li_3, li_4, li_5, li_6, li_7, li_8, li_9, li_10, li_11, li_12, li_15, li_16, li_20, li_21, li_24, li_31, li_36, li_100, li_255, li_256, li_1000, li_6000, li_M, un_s, un_n, ba_ap, ba_upd, ba_in, cT_le, cF_le, cT_lt, cF_lt, cT_eq, cF_eq, nb_1, nb_2, ns_1, ns_2, nz_1, nz_2, ng_1, ng_2, ng_3, ng_4, ng_5, nI_clamp, nI_add, pk_mul, pk_sub, forall_eq, true_and, and_true, true_imp_iff, false_imp_iff, not_true_eq_false, not_false_eq_true, implies_true]
end
end
section
def fe (base rate : Nat → Nat) (w x : Nat) : Nat := x + base w + x * rate w / 100
def sd (who : Nat → Nat) (c p : Nat) : Nat := if who (2 * c) = p then 0 else if who (2 * c + 1) = p then 1 else 2
def ot (who : Nat → Nat) (c p : Nat) : Nat := if who (2 * c) = p then who (2 * c + 1) else who (2 * c)
def ob (q v : Nat) (base rate : Nat → Nat) (go w nx : Nat) : Nat := if go = 1 then (if w = q then v else 1000000) else if nx < 1000000 then fe base rate w nx else 1000000
def us (who : Nat → Nat) (cap : Nat → Nat → Nat) (c p o : Nat) : Nat := if sd who c p < 2 ∧ o < cap c (sd who c p) then o else 1000000
def mnr (h : Nat → Nat) : Nat → Nat
  | 0 => 1000000
  | n + 1 => if h n < mnr h n then h n else mnr h n
def lst (ch q v : Nat) (who base rate : Nat → Nat) (cap : Nat → Nat → Nat) : Nat → Nat → Nat
  | 0 => fun _ => 1000000
  | g + 1 => fun p => mnr (fun c => us who cap c p (ob q v base rate (g + 1) (ot who c p) (lst ch q v who base rate cap g (ot who c p)))) ch
def hh (ch q v : Nat) (who base rate : Nat → Nat) (cap : Nat → Nat → Nat) (g p c : Nat) : Nat := us who cap c p (ob q v base rate (g + 1) (ot who c p) (lst ch q v who base rate cap g (ot who c p)))
def cst (q v : Nat) (who base rate : Nat → Nat) (cap : Nat → Nat → Nat) : Nat → List Nat → Nat
  | _, [] => 1000000
  | p, c :: cs => us who cap c p (ob q v base rate (cs.length + 1) (ot who c p) (cst q v who base rate cap (ot who c p) cs))
def ff (h : Nat → Nat) (d : Nat) : Nat → Nat → Nat
  | 0, c => c
  | k + 1, c => if h c = d then c else ff h d k (c + 1)
def grd (ch q v : Nat) (who base rate : Nat → Nat) (cap : Nat → Nat → Nat) : Nat → Nat → List Nat
  | 0, _ => []
  | g + 1, p => ff (hh ch q v who base rate cap g p) (lst ch q v who base rate cap (g + 1) p) ch 0 :: grd ch q v who base rate cap g (ot who (ff (hh ch q v who base rate cap g p) (lst ch q v who base rate cap (g + 1) p) ch 0) p)
def lxl : List Nat → List Nat → Prop
  | [], _ => True
  | _ :: _, [] => False
  | a :: s, b :: t => a < b ∨ (a = b ∧ lxl s t)
def fmr (F : Nat → List (List Nat)) : Nat → Nat → List (List Nat)
  | 0, _ => []
  | k + 1, c => F c ++ fmr F k (c + 1)
def stp (q : Nat) (rd who : Nat → Nat) (vis : List Nat) (p : Nat) (R : List Nat → Nat → List (List Nat)) (c : Nat) : List (List Nat) :=
  if rd c = 1 ∧ sd who c p < 2 ∧ ¬ ot who c p ∈ vis then (if ot who c p = q then [[c]] else (R (vis ++ [ot who c p]) (ot who c p)).map (fun s => c :: s)) else []
/-- all simple ways from p, at most d channels, in the order of the search -/
def wys (ch q : Nat) (rd who : Nat → Nat) : Nat → List Nat → Nat → List (List Nat)
  | 0 => fun _ _ => []
  | d + 1 => fun vis p => fmr (stp q rd who vis p (wys ch q rd who d)) ch 0
section
variable {ch q v : Nat} {who base rate : Nat → Nat} {cap : Nat → Nat → Nat}
theorem fe_lt {w x y : Nat} (h : x < y) : fe base rate w x < fe base rate w y := by
  unfold fe
  have : x * rate w / 100 ≤ y * rate w / 100 := Nat.div_le_div_right (Nat.mul_le_mul_right _ (Nat.le_of_lt h))
  omega
theorem fe_le {w x y : Nat} (h : x ≤ y) : fe base rate w x ≤ fe base rate w y := by
  rcases Nat.lt_or_eq_of_le h with h | h
  · exact Nat.le_of_lt (fe_lt h)
  · rw [h]; exact Nat.le_refl _
theorem fe_ge (w x : Nat) : x ≤ fe base rate w x := by unfold fe; omega
theorem mnr_le (h : Nat → Nat) : ∀ n, mnr h n ≤ 1000000 ∧ (∀ c, c < n → mnr h n ≤ h c) ∧ (mnr h n < 1000000 → ∃ c, c < n ∧ h c = mnr h n) := by
  intro n
  induction n with
  | zero => exact ⟨Nat.le_refl _, fun c hc => absurd hc (Nat.not_lt_zero _), fun z => absurd z (Nat.lt_irrefl _)⟩
  | succ n ih =>
    obtain ⟨a, b, d⟩ := ih
    unfold mnr
    by_cases z : h n < mnr h n
    · rw [if_pos z]
      refine ⟨by omega, fun c hc => ?_, fun _ => ⟨n, by omega, rfl⟩⟩
      by_cases e : c = n
      · rw [e]; exact Nat.le_refl _
      · have := b c (by omega); omega
    · rw [if_neg z]
      refine ⟨a, fun c hc => ?_, fun z' => ?_⟩
      · by_cases e : c = n
        · rw [e]; omega
        · exact b c (by omega)
      · obtain ⟨c, hc, e⟩ := d z'
        exact ⟨c, by omega, e⟩
theorem us_M (hc : ∀ c s, cap c s ≤ 1000000) (c p o : Nat) : us who cap c p o ≤ 1000000 := by
  unfold us
  split
  · have := hc c (sd who c p); omega
  · exact Nat.le_refl _
theorem us_lt {c p o : Nat} (h : us who cap c p o < 1000000) : sd who c p < 2 ∧ o < cap c (sd who c p) ∧ us who cap c p o = o := by
  unfold us at h ⊢
  split at h
  · rename_i z; rw [if_pos z]; exact ⟨z.1, z.2, rfl⟩
  · exact absurd h (Nat.lt_irrefl _)
theorem us_of {c p o : Nat} (h1 : sd who c p < 2) (h2 : o < cap c (sd who c p)) : us who cap c p o = o := if_pos ⟨h1, h2⟩
theorem us_big (hc : ∀ c s, cap c s ≤ 1000000) {c p o : Nat} (h : 1000000 ≤ o) : us who cap c p o = 1000000 := by
  unfold us
  split
  · rename_i z; have := hc c (sd who c p); omega
  · rfl
theorem ob_mono2 (hc : ∀ c s, cap c s ≤ 1000000) {c p go w x y v' : Nat} (hv : v' ≤ v) (h : x ≤ y) : us who cap c p (ob q v' base rate go w x) ≤ us who cap c p (ob q v base rate go w y) := by
  have key : ∀ X Y : Nat, X ≤ Y → us who cap c p X ≤ us who cap c p Y := by
    intro X Y e
    unfold us
    by_cases z : sd who c p < 2 ∧ Y < cap c (sd who c p)
    · rw [if_pos z, if_pos ⟨z.1, by omega⟩]; exact e
    · rw [if_neg z]; exact us_M hc _ _ _
  unfold ob
  by_cases g : go = 1
  · rw [if_pos g, if_pos g]
    by_cases b : w = q
    · rw [if_pos b, if_pos b]; exact key _ _ hv
    · rw [if_neg b, if_neg b]; exact Nat.le_refl _
  · rw [if_neg g, if_neg g]
    by_cases b : y < 1000000
    · rw [if_pos b, if_pos (by omega)]
      exact key _ _ (fe_le h)
    · rw [if_neg b, us_big hc (o := 1000000) (Nat.le_refl _)]; exact us_M hc _ _ _
theorem ob_mono (hc : ∀ c s, cap c s ≤ 1000000) {c p go w x y : Nat} (h : x ≤ y) : us who cap c p (ob q v base rate go w x) ≤ us who cap c p (ob q v base rate go w y) := ob_mono2 hc (Nat.le_refl _) h
theorem cst_mono (hc : ∀ c s, cap c s ≤ 1000000) {v' : Nat} (hv : v' ≤ v) : ∀ (cs : List Nat) (p : Nat), cst q v' who base rate cap p cs ≤ cst q v who base rate cap p cs := by
  intro cs
  induction cs with
  | nil => intro p; exact Nat.le_refl _
  | cons c cs ih => intro p; exact ob_mono2 hc hv (ih _)
theorem ob_inj {c p go w x y : Nat} (g : go ≠ 1) (h : x ≤ y) (e : us who cap c p (ob q v base rate go w x) = us who cap c p (ob q v base rate go w y)) (l : us who cap c p (ob q v base rate go w y) < 1000000) : x = y := by
  have a := us_lt l
  rw [← e] at l
  have b := us_lt l
  rw [a.2.2, b.2.2] at e
  rw [b.2.2] at l
  unfold ob at e l
  rw [if_neg g] at l
  rw [if_neg g, if_neg g] at e
  by_cases z : y < 1000000
  · rw [if_pos z, if_pos (by omega)] at e
    rcases Nat.lt_or_eq_of_le h with h | h
    · have := fe_lt (base := base) (rate := rate) (w := w) h; omega
    · exact h
  · rw [if_neg z] at e
    rw [e] at l
    exact absurd l (Nat.lt_irrefl _)
theorem lst_s (g p : Nat) : lst ch q v who base rate cap (g + 1) p = mnr (hh ch q v who base rate cap g p) ch := rfl
theorem lst_M (g p : Nat) : lst ch q v who base rate cap g p ≤ 1000000 := by
  cases g with
  | zero => exact Nat.le_refl _
  | succ g => rw [lst_s]; exact (mnr_le _ _).1
/-- the table is a lower bound -/
theorem lst_cst (hc : ∀ c s, cap c s ≤ 1000000) : ∀ (cs : List Nat) (p : Nat), (∀ c, c ∈ cs → c < ch) → lst ch q v who base rate cap cs.length p ≤ cst q v who base rate cap p cs := by
  intro cs
  induction cs with
  | nil => intro p _; exact Nat.le_refl _
  | cons c cs ih =>
    intro p h
    have i := ih (ot who c p) (fun d hd => h d (List.mem_cons_of_mem _ hd))
    rw [List.length_cons, lst_s]
    refine Nat.le_trans ((mnr_le _ ch).2.1 c (h c (List.mem_cons_self ..))) ?_
    exact ob_mono hc i
theorem ff_sp (h : Nat → Nat) (d : Nat) : ∀ k c, (∃ x, c ≤ x ∧ x < c + k ∧ h x = d) → h (ff h d k c) = d ∧ c ≤ ff h d k c ∧ ff h d k c < c + k ∧ ∀ x, c ≤ x → x < ff h d k c → h x ≠ d := by
  intro k
  induction k with
  | zero => intro c ⟨x, a, b, _⟩; omega
  | succ k ih =>
    intro c ⟨x, a, b, e⟩
    unfold ff
    by_cases z : h c = d
    · rw [if_pos z]; exact ⟨z, Nat.le_refl _, by omega, fun x a b => by omega⟩
    · rw [if_neg z]
      have hx : x ≠ c := fun e' => z (e' ▸ e)
      obtain ⟨i1, i2, i3, i4⟩ := ih (c + 1) ⟨x, by omega, by omega, e⟩
      refine ⟨i1, by omega, by omega, fun y ya yb => ?_⟩
      by_cases e' : y = c
      · rw [e']; exact z
      · exact i4 y (by omega) yb
/-- the greedy first channel -/
theorem grd_c {g p : Nat} (h : lst ch q v who base rate cap (g + 1) p < 1000000) :
    ∃ c, c = ff (hh ch q v who base rate cap g p) (lst ch q v who base rate cap (g + 1) p) ch 0 ∧ c < ch ∧ hh ch q v who base rate cap g p c = lst ch q v who base rate cap (g + 1) p ∧ ∀ x, x < c → hh ch q v who base rate cap g p x ≠ lst ch q v who base rate cap (g + 1) p := by
  rw [lst_s] at h
  obtain ⟨c, hc, e⟩ := (mnr_le _ ch).2.2 h
  obtain ⟨a, b, d, f⟩ := ff_sp (hh ch q v who base rate cap g p) (lst ch q v who base rate cap (g + 1) p) ch 0 ⟨c, Nat.zero_le _, by omega, by rw [lst_s]; exact e⟩
  exact ⟨_, rfl, by omega, a, fun x hx => f x (Nat.zero_le _) hx⟩
theorem grd_len : ∀ g p, (grd ch q v who base rate cap g p).length = g := by
  intro g
  induction g with
  | zero => intro p; rfl
  | succ g ih => intro p; unfold grd; rw [List.length_cons, ih]
theorem grd_lt : ∀ g p, lst ch q v who base rate cap g p < 1000000 → ∀ c, c ∈ grd ch q v who base rate cap g p → c < ch := by
  intro g
  induction g with
  | zero => intro p _ c hc; cases hc
  | succ g ih =>
    intro p h c hc
    obtain ⟨d, e, dl, de, _⟩ := grd_c h
    unfold grd at hc
    rw [← e] at hc
    rcases List.mem_cons.mp hc with rfl | hc
    · exact dl
    · cases g with
      | zero => cases hc
      | succ g =>
        refine ih _ ?_ c hc
        rw [← de] at h
        unfold hh at h
        have a := us_lt h
        rw [a.2.2] at h
        unfold ob at h
        rw [if_neg (by omega)] at h
        split at h
        · rename_i z; exact z
        · exact absurd h (Nat.lt_irrefl _)
/-- a finite amount over a channel with more to go: what lies behind is finite, and less -/
theorem hh_s {g p c : Nat} (hg : 0 < g) (h : hh ch q v who base rate cap g p c < 1000000) : sd who c p < 2 ∧ lst ch q v who base rate cap g (ot who c p) < 1000000 ∧ hh ch q v who base rate cap g p c = fe base rate (ot who c p) (lst ch q v who base rate cap g (ot who c p)) ∧ hh ch q v who base rate cap g p c < cap c (sd who c p) := by
  unfold hh at h ⊢
  have a := us_lt h
  rw [a.2.2] at h ⊢
  have b := a.2.1
  unfold ob at h b ⊢
  rw [if_neg (by omega)] at h b ⊢
  split at h
  · rename_i z
    rw [if_pos z] at b ⊢
    exact ⟨a.1, z, rfl, b⟩
  · exact absurd h (Nat.lt_irrefl _)
theorem hh_0 {p c : Nat} (h : hh ch q v who base rate cap 0 p c < 1000000) : sd who c p < 2 ∧ ot who c p = q ∧ hh ch q v who base rate cap 0 p c = v ∧ v < cap c (sd who c p) := by
  unfold hh at h ⊢
  have a := us_lt h
  rw [a.2.2] at h ⊢
  have b := a.2.1
  unfold ob at h b ⊢
  rw [if_pos rfl] at h b ⊢
  split at h
  · rename_i z
    rw [if_pos z] at b ⊢
    exact ⟨a.1, z, rfl, b⟩
  · exact absurd h (Nat.lt_irrefl _)
/-- the greedy way has the least amount -/
theorem grd_cst : ∀ g p, lst ch q v who base rate cap g p < 1000000 → cst q v who base rate cap p (grd ch q v who base rate cap g p) = lst ch q v who base rate cap g p := by
  intro g
  induction g with
  | zero => intro p h; exact absurd h (Nat.lt_irrefl _)
  | succ g ih =>
    intro p h
    obtain ⟨d, e, dl, de, _⟩ := grd_c h
    unfold grd
    rw [← e]
    rw [← de] at h ⊢
    unfold cst
    rw [grd_len]
    cases g with
    | zero => rfl
    | succ g => rw [ih _ (hh_s (Nat.succ_pos _) h).2.1]; rfl
/-- every way with the least amount comes behind the greedy one -/
theorem grd_lx (hc : ∀ c s, cap c s ≤ 1000000) : ∀ (cs : List Nat) (p : Nat), (∀ c, c ∈ cs → c < ch) → cst q v who base rate cap p cs = lst ch q v who base rate cap cs.length p → lst ch q v who base rate cap cs.length p < 1000000 → lxl (grd ch q v who base rate cap cs.length p) cs := by
  intro cs
  induction cs with
  | nil => intro p _ _ _; exact trivial
  | cons c cs ih =>
    intro p h e l
    rw [List.length_cons] at e l ⊢
    obtain ⟨d, de, dl, dh, df⟩ := grd_c l
    unfold grd
    rw [← de]
    have hcl := h c (List.mem_cons_self ..)
    have low : lst ch q v who base rate cap cs.length (ot who c p) ≤ cst q v who base rate cap (ot who c p) cs := lst_cst hc cs _ (fun x hx => h x (List.mem_cons_of_mem _ hx))
    have h1 : hh ch q v who base rate cap cs.length p c ≤ cst q v who base rate cap p (c :: cs) := ob_mono hc low
    have h2 : lst ch q v who base rate cap (cs.length + 1) p ≤ hh ch q v who base rate cap cs.length p c := (mnr_le _ ch).2.1 c hcl
    have h3 : hh ch q v who base rate cap cs.length p c = lst ch q v who base rate cap (cs.length + 1) p := by omega
    unfold lxl
    by_cases z : d < c
    · exact Or.inl z
    · have : ¬ c < d := fun x => df c x h3
      have ec : d = c := by omega
      refine Or.inr ⟨ec, ?_⟩
      rw [ec]
      cases cs with
      | nil => exact trivial
      | cons c' cs' =>
        have hg : (0 : Nat) < (c' :: cs').length := by rw [List.length_cons]; omega
        have k := hh_s hg (by rw [h3]; exact l)
        refine ih _ (fun x hx => h x (List.mem_cons_of_mem _ hx)) ?_ k.2.1
        refine (ob_inj (who := who) (cap := cap) (q := q) (v := v) (base := base) (rate := rate) (c := c) (p := p) (go := (c' :: cs').length + 1) (w := ot who c p) (by omega) low ?_ ?_).symm
        · exact h3.trans e.symm
        · show cst q v who base rate cap p (c :: c' :: cs') < 1000000
          rw [e]; exact l
theorem lst_v (hv : v < 1000000) : ∀ g p, v ≤ lst ch q v who base rate cap g p := by
  intro g
  induction g with
  | zero => intro p; exact Nat.le_of_lt hv
  | succ g ih =>
    intro p
    by_cases z : lst ch q v who base rate cap (g + 1) p < 1000000
    · obtain ⟨c, _, _, e, _⟩ := grd_c z
      rw [← e] at z ⊢
      cases g with
      | zero => rw [(hh_0 z).2.2.1]; exact Nat.le_refl _
      | succ g =>
        rw [(hh_s (Nat.succ_pos _) z).2.2.1]
        exact Nat.le_trans (ih _) (fe_ge _ _)
    · have := hv; omega
theorem fmr_mem {F : Nat → List (List Nat)} {Q : List Nat} : ∀ k c, Q ∈ fmr F k c → ∃ x, c ≤ x ∧ x < c + k ∧ Q ∈ F x := by
  intro k
  induction k with
  | zero => intro c h; cases h
  | succ k ih =>
    intro c h
    unfold fmr at h
    rcases List.mem_append.mp h with h | h
    · exact ⟨c, Nat.le_refl _, by omega, h⟩
    · obtain ⟨x, a, b, d⟩ := ih _ h
      exact ⟨x, by omega, by omega, d⟩
theorem fmr_split (F : Nat → List (List Nat)) : ∀ k c x, c ≤ x → x < c + k → ∃ L2, fmr F k c = fmr F (x - c) c ++ (F x ++ L2) := by
  intro k
  induction k with
  | zero => intro c x a b; omega
  | succ k ih =>
    intro c x a b
    by_cases e : x = c
    · refine ⟨fmr F k (c + 1), ?_⟩
      rw [e, Nat.sub_self]
      rfl
    · obtain ⟨L2, h⟩ := ih (c + 1) x (by omega) (by omega)
      refine ⟨L2, ?_⟩
      have e2 : x - c = (x - (c + 1)) + 1 := by omega
      rw [e2]
      unfold fmr
      rw [h, List.append_assoc]
variable {rd : Nat → Nat}
theorem stp_hd {vis : List Nat} {p c : Nat} {R : List Nat → Nat → List (List Nat)} {Q : List Nat} (h : Q ∈ stp q rd who vis p R c) : ∃ s, Q = c :: s ∧ (s = [] ∨ ∃ vis' p', s ∈ R vis' p') := by
  unfold stp at h
  split at h
  · split at h
    · rw [List.mem_singleton] at h; exact ⟨[], h, Or.inl rfl⟩
    · obtain ⟨s, hs, e⟩ := List.mem_map.mp h
      exact ⟨s, e.symm, Or.inr ⟨_, _, hs⟩⟩
  · cases h
theorem wys_mem : ∀ d vis p (Q : List Nat), Q ∈ wys ch q rd who d vis p → (∀ c, c ∈ Q → c < ch) ∧ 1 ≤ Q.length ∧ Q.length ≤ d := by
  intro d
  induction d with
  | zero => intro vis p Q h; cases h
  | succ d ih =>
    intro vis p Q h
    obtain ⟨x, _, b, hx⟩ := fmr_mem _ _ h
    obtain ⟨s, rfl, z⟩ := stp_hd hx
    rcases z with rfl | ⟨vis', p', z⟩
    · refine ⟨fun c hc => ?_, Nat.le_refl _, by rw [List.length_singleton]; omega⟩
      rw [List.mem_singleton] at hc; omega
    · obtain ⟨i1, i2, i3⟩ := ih _ _ _ z
      refine ⟨fun c hc => ?_, by rw [List.length_cons]; omega, by rw [List.length_cons]; omega⟩
      rcases List.mem_cons.mp hc with rfl | hc
      · omega
      · exact i1 c hc
theorem lxl_n {a b : Nat} {s t : List Nat} (h : b < a) : ¬ lxl (a :: s) (b :: t) := by
  intro z
  unfold lxl at z
  omega
/-- the greedy way is one of the simple ways, and those ahead of it aren't behind it in the order -/
theorem grd_in (hv : v < 1000000) (hrd : ∀ c s o, o < cap c s → rd c = 1) : ∀ d g vis p, g + 1 ≤ d → lst ch q v who base rate cap (g + 1) p < 1000000 → p ∈ vis → (∀ x, x ∈ vis → x ≠ q) →
    (∀ x, x ∈ vis → ∀ k, 1 ≤ k → k < g + 1 → lst ch q v who base rate cap (g + 1) p < lst ch q v who base rate cap k x) →
    ∃ L1 L2, wys ch q rd who d vis p = L1 ++ grd ch q v who base rate cap (g + 1) p :: L2 ∧ ∀ Q, Q ∈ L1 → ¬ lxl (grd ch q v who base rate cap (g + 1) p) Q := by
  intro d
  induction d with
  | zero => intro g vis p h; omega
  | succ d ih =>
    intro g vis p hg hl hp hq hs
    obtain ⟨c, ce, cl, ch1, _⟩ := grd_c hl
    have hl' : hh ch q v who base rate cap g p c < 1000000 := by rw [ch1]; exact hl
    obtain ⟨M2, hsp⟩ := fmr_split (stp q rd who vis p (wys ch q rd who d)) ch 0 c (Nat.zero_le _) (by omega)
    have hd : ∀ Q s, Q ∈ fmr (stp q rd who vis p (wys ch q rd who d)) (c - 0) 0 → ¬ lxl (c :: s) Q := by
      intro Q s h
      obtain ⟨x, _, b, hx⟩ := fmr_mem _ _ h
      obtain ⟨t, rfl, _⟩ := stp_hd hx
      exact lxl_n (by omega)
    cases g with
    | zero =>
      obtain ⟨k1, k2, k3, k4⟩ := hh_0 hl'
      have hr := hrd _ _ _ k4
      have nv : ¬ ot who c p ∈ vis := fun z => hq _ z k2
      have ef : stp q rd who vis p (wys ch q rd who d) c = [[c]] := by
        unfold stp; rw [if_pos ⟨hr, k1, nv⟩, if_pos k2]
      have eg : grd ch q v who base rate cap (0 + 1) p = [c] := by unfold grd; rw [← ce]; rfl
      rw [eg]
      refine ⟨_, M2, ?_, fun Q hQ => hd Q [] hQ⟩
      show fmr _ ch 0 = _
      rw [hsp, ef]
      rfl
    | succ g =>
      obtain ⟨k1, k2, k3, k4⟩ := hh_s (show 0 < g + 1 by omega) hl'
      have hr := hrd _ _ _ k4
      have hle : lst ch q v who base rate cap (g + 1) (ot who c p) ≤ lst ch q v who base rate cap (g + 1 + 1) p := by
        rw [← ch1, k3]; exact fe_ge _ _
      have nv : ¬ ot who c p ∈ vis := by
        intro z
        have := hs _ z (g + 1) (by omega) (by omega)
        omega
      have nq : ot who c p ≠ q := by
        intro z
        have a := hs _ hp 1 (Nat.le_refl _) (by omega)
        have b : lst ch q v who base rate cap 1 p ≤ hh ch q v who base rate cap 0 p c := (mnr_le _ ch).2.1 c cl
        have e : hh ch q v who base rate cap 0 p c = v := by
          unfold hh ob
          rw [if_pos rfl, if_pos z]
          refine us_of k1 ?_
          have := lst_v (ch := ch) (q := q) (who := who) (base := base) (rate := rate) (cap := cap) hv (g + 1 + 1) p
          rw [ch1] at k4
          omega
        have := lst_v (ch := ch) (q := q) (who := who) (base := base) (rate := rate) (cap := cap) hv (g + 1 + 1) p
        omega
      have ef : stp q rd who vis p (wys ch q rd who d) c = (wys ch q rd who d (vis ++ [ot who c p]) (ot who c p)).map (fun s => c :: s) := by
        unfold stp; rw [if_pos ⟨hr, k1, nv⟩, if_neg nq]
      have eg : grd ch q v who base rate cap (g + 1 + 1) p = c :: grd ch q v who base rate cap (g + 1) (ot who c p) := by
        rw [grd, ← ce]
      obtain ⟨L1, L2, e1, e2⟩ := ih g (vis ++ [ot who c p]) (ot who c p) (by omega) k2 (List.mem_append.mpr (Or.inr (List.mem_singleton.mpr rfl))) (by
        intro x hx
        rcases List.mem_append.mp hx with hx | hx
        · exact hq x hx
        · rw [List.mem_singleton] at hx; rw [hx]; exact nq) (by
        intro x hx k hk1 hk2
        rcases List.mem_append.mp hx with hx | hx
        · have := hs x hx k hk1 (by omega); omega
        · rw [List.mem_singleton] at hx
          rw [hx]
          refine Nat.lt_of_not_le fun z => ?_
          have a := hs p hp (k + 1) (by omega) (by omega)
          have b : lst ch q v who base rate cap (k + 1) p ≤ hh ch q v who base rate cap k p c := (mnr_le _ ch).2.1 c cl
          have e : hh ch q v who base rate cap k p c ≤ lst ch q v who base rate cap (g + 1 + 1) p := by
            rw [← ch1, k3]
            unfold hh ob
            rw [if_neg (by omega), if_pos (by omega)]
            have f := fe_le (base := base) (rate := rate) (w := ot who c p) z
            rw [us_of k1 (by rw [k3] at k4; omega)]
            exact f
          omega)
      rw [eg]
      refine ⟨fmr (stp q rd who vis p (wys ch q rd who d)) (c - 0) 0 ++ L1.map (fun s => c :: s), L2.map (fun s => c :: s) ++ M2, ?_, ?_⟩
      · show fmr _ ch 0 = _
        rw [hsp, ef, e1, List.map_append, List.map_cons, List.append_assoc, List.append_assoc]
        rfl
      · intro Q hQ
        rcases List.mem_append.mp hQ with hQ | hQ
        · exact hd Q _ hQ
        · obtain ⟨s, hs1, rfl⟩ := List.mem_map.mp hQ
          intro z
          unfold lxl at z
          rcases z with z | z
          · omega
          · exact e2 s hs1 z.2
def hpn (f : Nat → Nat) : Nat → Nat × Nat
  | 0 => (0, 1000000)
  | g + 1 => if f (g + 1) < (hpn f g).2 then (g + 1, f (g + 1)) else hpn f g
theorem hpn_sp (f : Nat → Nat) : ∀ k, ((hpn f k).1 = 0 ∧ (hpn f k).2 = 1000000 ∧ ∀ g, 1 ≤ g → g ≤ k → 1000000 ≤ f g) ∨
    (1 ≤ (hpn f k).1 ∧ (hpn f k).1 ≤ k ∧ (hpn f k).2 = f (hpn f k).1 ∧ f (hpn f k).1 < 1000000 ∧ ∀ g, 1 ≤ g → g ≤ k → f (hpn f k).1 ≤ f g ∧ (g < (hpn f k).1 → f (hpn f k).1 < f g)) := by
  intro k
  induction k with
  | zero => exact Or.inl ⟨rfl, rfl, fun g a b => by omega⟩
  | succ k ih =>
    unfold hpn
    by_cases z : f (k + 1) < (hpn f k).2
    · rw [if_pos z]
      refine Or.inr ⟨by show 1 ≤ k + 1; omega, Nat.le_refl _, rfl, ?_, ?_⟩
      · show f (k + 1) < 1000000
        rcases ih with ⟨_, b, _⟩ | ⟨_, _, b, d, _⟩ <;> omega
      · intro g a b
        show f (k + 1) ≤ f g ∧ (g < k + 1 → f (k + 1) < f g)
        by_cases e : g = k + 1
        · rw [e]; exact ⟨Nat.le_refl _, fun x => absurd x (Nat.lt_irrefl _)⟩
        · rcases ih with ⟨_, i2, i3⟩ | ⟨_, _, i2, i3, i4⟩
          · have := i3 g a (by omega); omega
          · have := (i4 g a (by omega)).1; omega
    · rw [if_neg z]
      rcases ih with ⟨i1, i2, i3⟩ | ⟨i1, i2, i3, i4, i5⟩
      · refine Or.inl ⟨i1, i2, fun g a b => ?_⟩
        by_cases e : g = k + 1
        · rw [e]; omega
        · exact i3 g a (by omega)
      · refine Or.inr ⟨i1, by omega, i3, i4, fun g a b => ?_⟩
        by_cases e : g = k + 1
        · rw [e]; exact ⟨by omega, fun x => by omega⟩
        · exact i5 g a (by omega)
def stB (K : List Nat → Nat) (b : Option (List Nat)) (Q : List Nat) : Option (List Nat) :=
  if K Q < 1000000 then (match b with
    | none => some Q
    | some B => if K Q < K B ∨ (K Q = K B ∧ Q.length < B.length) then some Q else some B) else b
theorem stB_1 {K : List Nat → Nat} {b : Option (List Nat)} {Q : List Nat} (h : ¬ K Q < 1000000) : stB K b Q = b := if_neg h
theorem stB_2 {K : List Nat → Nat} {Q : List Nat} (h : K Q < 1000000) : stB K none Q = some Q := if_pos h
theorem stB_3 {K : List Nat → Nat} {B Q : List Nat} (h : K Q < 1000000) (h2 : K Q < K B ∨ (K Q = K B ∧ Q.length < B.length)) : stB K (some B) Q = some Q := by
  unfold stB; rw [if_pos h]; exact if_pos h2
theorem stB_4 {K : List Nat → Nat} {B Q : List Nat} (h2 : ¬ (K Q < K B ∨ (K Q = K B ∧ Q.length < B.length))) : stB K (some B) Q = some B := by
  unfold stB
  split
  · exact if_neg h2
  · rfl
theorem fo_none {K : List Nat → Nat} : ∀ (L : List (List Nat)) (b : Option (List Nat)), (∀ Q, Q ∈ L → ¬ K Q < 1000000) → L.foldl (stB K) b = b := by
  intro L
  induction L with
  | nil => intro b _; rfl
  | cons Q L ih =>
    intro b h
    rw [List.foldl_cons, stB_1 (h Q (List.mem_cons_self ..))]
    exact ih b (fun x hx => h x (List.mem_cons_of_mem _ hx))
theorem fo_keep {K : List Nat → Nat} {P : List Nat} : ∀ (L : List (List Nat)), (∀ Q, Q ∈ L → ¬ (K Q < K P ∨ (K Q = K P ∧ Q.length < P.length))) → L.foldl (stB K) (some P) = some P := by
  intro L
  induction L with
  | nil => intro _; rfl
  | cons Q L ih =>
    intro h
    rw [List.foldl_cons, stB_4 (h Q (List.mem_cons_self ..))]
    exact ih (fun x hx => h x (List.mem_cons_of_mem _ hx))
theorem fo_pre {K : List Nat → Nat} {P : List Nat} : ∀ (L : List (List Nat)) (b : Option (List Nat)), (∀ B, b = some B → K P < K B ∨ (K P = K B ∧ P.length < B.length)) → (∀ Q, Q ∈ L → K Q < 1000000 → K P < K Q ∨ (K P = K Q ∧ P.length < Q.length)) → ∀ B, L.foldl (stB K) b = some B → K P < K B ∨ (K P = K B ∧ P.length < B.length) := by
  intro L
  induction L with
  | nil => intro b h _ B e; exact h B e
  | cons Q L ih =>
    intro b h h2
    rw [List.foldl_cons]
    refine ih _ ?_ (fun x hx => h2 x (List.mem_cons_of_mem _ hx))
    intro B e
    by_cases z : K Q < 1000000
    · have hq := h2 Q (List.mem_cons_self ..) z
      cases b with
      | none => rw [stB_2 z] at e; cases e; exact hq
      | some B0 =>
        by_cases y : K Q < K B0 ∨ (K Q = K B0 ∧ Q.length < B0.length)
        · rw [stB_3 z y] at e; cases e; exact hq
        · rw [stB_4 y] at e; cases e; exact h _ rfl
    · rw [stB_1 z] at e; exact h B e
theorem fo_best {K : List Nat → Nat} {P : List Nat} {L1 L2 : List (List Nat)} (hP : K P < 1000000) (h1 : ∀ Q, Q ∈ L1 → K Q < 1000000 → K P < K Q ∨ (K P = K Q ∧ P.length < Q.length)) (h2 : ∀ Q, Q ∈ L2 → ¬ (K Q < K P ∨ (K Q = K P ∧ Q.length < P.length))) : (L1 ++ P :: L2).foldl (stB K) none = some P := by
  rw [List.foldl_append, List.foldl_cons]
  have a := fo_pre (K := K) (P := P) L1 none (fun B e => by cases e) h1
  have e : stB K (L1.foldl (stB K) none) P = some P := by
    cases z : L1.foldl (stB K) none with
    | none => exact stB_2 hP
    | some B => exact stB_3 hP (a B z)
  rw [e]
  exact fo_keep L2 h2
/-- the reference's search keeps the greedy way -/
theorem ro_main (hc : ∀ c s, cap c s ≤ 1000000) (hv : v < 1000000) (hrd : ∀ c s o, o < cap c s → rd c = 1) {p : Nat} (hpq : p ≠ q) :
    (wys ch q rd who 4 [p] p).foldl (stB (cst q v who base rate cap p)) none =
      if (hpn (fun g => lst ch q v who base rate cap g p) 4).1 = 0 then none else some (grd ch q v who base rate cap (hpn (fun g => lst ch q v who base rate cap g p) 4).1 p) := by
  have low : ∀ Q, Q ∈ wys ch q rd who 4 [p] p → 1 ≤ Q.length ∧ Q.length ≤ 4 ∧ lst ch q v who base rate cap Q.length p ≤ cst q v who base rate cap p Q := by
    intro Q hQ
    obtain ⟨a, b, d⟩ := wys_mem _ _ _ _ hQ
    exact ⟨b, d, lst_cst hc Q p a⟩
  rcases hpn_sp (fun g => lst ch q v who base rate cap g p) 4 with ⟨i1, i2, i3⟩ | ⟨i1, i2, i3, i4, i5⟩
  · rw [if_pos i1]
    refine fo_none _ _ fun Q hQ z => ?_
    obtain ⟨a, b, d⟩ := low Q hQ
    have := i3 _ a b
    omega
  · rw [if_neg (by omega)]
    generalize (hpn (fun g => lst ch q v who base rate cap g p) 4).1 = n at i1 i2 i3 i4 i5 ⊢
    obtain ⟨g, rfl⟩ : ∃ g, n = g + 1 := ⟨n - 1, by omega⟩
    obtain ⟨L1, L2, e1, e2⟩ := grd_in (rd := rd) hv hrd 4 g [p] p i2 i4 (List.mem_singleton.mpr rfl) (fun x hx => by rw [List.mem_singleton] at hx; rw [hx]; exact hpq) (fun x hx k hk1 hk2 => by
      rw [List.mem_singleton] at hx; rw [hx]; exact (i5 k hk1 (by omega)).2 hk2)
    have kc := grd_cst (ch := ch) (q := q) (v := v) (who := who) (base := base) (rate := rate) (cap := cap) (g + 1) p i4
    have kl := grd_len (ch := ch) (q := q) (v := v) (who := who) (base := base) (rate := rate) (cap := cap) (g + 1) p
    rw [e1]
    refine fo_best (by rw [kc]; exact i4) ?_ ?_
    · intro Q hQ z
      obtain ⟨a, b, d⟩ := low Q (by rw [e1]; exact List.mem_append.mpr (Or.inl hQ))
      rw [kc, kl]
      have f := i5 _ a b
      by_cases y : cst q v who base rate cap p Q = lst ch q v who base rate cap (g + 1) p
      · refine Or.inr ⟨y.symm, ?_⟩
        refine Nat.lt_of_not_le fun yy => ?_
        have f2 : ¬ Q.length < g + 1 := fun x => by have := f.2 x; omega
        have f3 : Q.length = g + 1 := by omega
        refine e2 Q hQ ?_
        rw [← f3] at y i4 ⊢
        exact grd_lx hc Q p (wys_mem _ _ _ _ (by rw [e1]; exact List.mem_append.mpr (Or.inl hQ))).1 y i4
      · exact Or.inl (by omega)
    · intro Q hQ z
      obtain ⟨a, b, d⟩ := low Q (by rw [e1]; exact List.mem_append.mpr (Or.inr (List.mem_cons_of_mem _ hQ)))
      rw [kc, kl] at z
      have f := i5 _ a b
      rcases z with z | z
      · omega
      · have := f.2 z.2; omega
/-- there is a way for v if and only if the table says so -/
theorem ro_ex (hc : ∀ c s, cap c s ≤ 1000000) (hv : v < 1000000) (hrd : ∀ c s o, o < cap c s → rd c = 1) {p : Nat} (hpq : p ≠ q) :
    (0 < (hpn (fun g => lst ch q v who base rate cap g p) 4).1) ↔ ∃ Q, Q ∈ wys ch q rd who 4 [p] p ∧ cst q v who base rate cap p Q < 1000000 := by
  rcases hpn_sp (fun g => lst ch q v who base rate cap g p) 4 with ⟨i1, i2, i3⟩ | ⟨i1, i2, i3, i4, i5⟩
  · constructor
    · intro z; omega
    · intro ⟨Q, hQ, z⟩
      obtain ⟨a, b, d⟩ := wys_mem _ _ _ _ hQ
      have l := lst_cst (q := q) (v := v) (who := who) (base := base) (rate := rate) hc Q p a
      have := i3 _ b d
      omega
  · refine ⟨fun _ => ?_, fun _ => i1⟩
    generalize (hpn (fun g => lst ch q v who base rate cap g p) 4).1 = n at i1 i2 i3 i4 i5 ⊢
    obtain ⟨g, rfl⟩ : ∃ g, n = g + 1 := ⟨n - 1, by omega⟩
    obtain ⟨L1, L2, e1, e2⟩ := grd_in (rd := rd) hv hrd 4 g [p] p i2 i4 (List.mem_singleton.mpr rfl) (fun x hx => by rw [List.mem_singleton] at hx; rw [hx]; exact hpq) (fun x hx k hk1 hk2 => by
      rw [List.mem_singleton] at hx; rw [hx]; exact (i5 k hk1 (by omega)).2 hk2)
    refine ⟨_, by rw [e1]; exact List.mem_append.mpr (Or.inr (List.mem_cons_self ..)), ?_⟩
    rw [grd_cst (g + 1) p i4]; exact i4
def dnm (P : Nat → Nat) (m : Nat) : Nat → Nat
  | 0 => m
  | w + 1 => if w + 1 ≤ m then m else if P (w + 1) < 1000000 then w + 1 else dnm P m w
theorem dnm_sp (P : Nat → Nat) (m : Nat) : ∀ k, m ≤ dnm P m k ∧ (dnm P m k = m ∨ (dnm P m k ≤ k ∧ P (dnm P m k) < 1000000)) ∧ ∀ w, m < w → w ≤ k → P w < 1000000 → w ≤ dnm P m k := by
  intro k
  induction k with
  | zero => exact ⟨Nat.le_refl _, Or.inl rfl, fun w a b => by omega⟩
  | succ k ih =>
    unfold dnm
    by_cases z : k + 1 ≤ m
    · rw [if_pos z]; exact ⟨Nat.le_refl _, Or.inl rfl, fun w a b => by omega⟩
    · rw [if_neg z]
      by_cases y : P (k + 1) < 1000000
      · rw [if_pos y]; exact ⟨by omega, Or.inr ⟨Nat.le_refl _, y⟩, fun w a b _ => b⟩
      · rw [if_neg y]
        obtain ⟨i1, i2, i3⟩ := ih
        refine ⟨i1, ?_, fun w a b c => ?_⟩
        · rcases i2 with i2 | i2
          · exact Or.inl i2
          · exact Or.inr ⟨by omega, i2.2⟩
        · by_cases e : w = k + 1
          · rw [e] at c; exact absurd c y
          · exact i3 w a (by omega) c
theorem mo_fold (P : List Nat → Nat → Nat) : ∀ (L : List (List Nat)) (m : Nat), m ≤ 255 → m ≤ L.foldl (fun m Q => dnm (P Q) m 255) m ∧ L.foldl (fun m Q => dnm (P Q) m 255) m ≤ 255 ∧
    (L.foldl (fun m Q => dnm (P Q) m 255) m = m ∨ ∃ Q, Q ∈ L ∧ P Q (L.foldl (fun m Q => dnm (P Q) m 255) m) < 1000000) ∧ ∀ Q, Q ∈ L → ∀ w, m < w → w ≤ 255 → P Q w < 1000000 → w ≤ L.foldl (fun m Q => dnm (P Q) m 255) m := by
  intro L
  induction L with
  | nil => intro m hm; exact ⟨Nat.le_refl _, hm, Or.inl rfl, fun Q hQ => by cases hQ⟩
  | cons Q L ih =>
    intro m hm
    obtain ⟨d1, d2, d3⟩ := dnm_sp (P Q) m 255
    have d4 : dnm (P Q) m 255 ≤ 255 := by rcases d2 with d2 | d2 <;> omega
    obtain ⟨i1, i2, i3, i4⟩ := ih (dnm (P Q) m 255) d4
    rw [List.foldl_cons]
    generalize hr : L.foldl (fun m Q => dnm (P Q) m 255) (dnm (P Q) m 255) = r at i1 i2 i3 i4 ⊢
    refine ⟨by omega, i2, ?_, ?_⟩
    · rcases i3 with i3 | ⟨x, hx, i3⟩
      · rcases d2 with d2 | d2
        · exact Or.inl (by omega)
        · exact Or.inr ⟨Q, List.mem_cons_self .., by rw [i3]; exact d2.2⟩
      · exact Or.inr ⟨x, List.mem_cons_of_mem _ hx, i3⟩
    · intro x hx w a b c
      rcases List.mem_cons.mp hx with rfl | hx
      · have := d3 w a b c; omega
      · by_cases z : w ≤ dnm (P Q) m 255
        · omega
        · exact i4 x hx w (by omega) b c
/-- the reference's greatest amount -/
def mst (ch q : Nat) (rd who base rate : Nat → Nat) (cap : Nat → Nat → Nat) (p : Nat) : Nat := (wys ch q rd who 4 [p] p).foldl (fun m Q => dnm (fun w => cst q w who base rate cap p Q) m 255) 0
theorem mst_sp (hc : ∀ c s, cap c s ≤ 1000000) (hrd : ∀ c s o, o < cap c s → rd c = 1) {p : Nat} (hpq : p ≠ q) : mst ch q rd who base rate cap p ≤ 255 ∧ ∀ w, 1 ≤ w → w ≤ 255 → (0 < (hpn (fun g => lst ch q w who base rate cap g p) 4).1 ↔ w ≤ mst ch q rd who base rate cap p) := by
  obtain ⟨a, b, d, e⟩ := mo_fold (fun Q w => cst q w who base rate cap p Q) (wys ch q rd who 4 [p] p) 0 (by omega)
  refine ⟨b, fun w h1 h2 => ?_⟩
  rw [ro_ex (rd := rd) hc (by omega) hrd hpq]
  constructor
  · intro ⟨Q, hQ, z⟩
    exact e Q hQ w h1 h2 z
  · intro h
    rcases d with d | ⟨Q, hQ, z⟩
    · unfold mst at h; omega
    · exact ⟨Q, hQ, Nat.lt_of_le_of_lt (cst_mono hc h Q p) z⟩
end
end
section
abbrev LK : Type := Nat × Nat × Nat × Nat
abbrev SA : Type := Int32 × Nat × Nat × (Nat → Nat) × (Nat → Nat) × (Nat → Int32) × (Nat → Nat) × (Nat → Nat) × (Nat → Int32) × (Nat → Nat) × (Nat → Nat) × (Nat → Nat) × (Nat → Nat) × (Nat → Nat) × (Nat → Nat) × (Nat → Nat) × (Nat → Nat) × (Nat → Nat → List LK) × (Nat → List LK)
def ga_spent (z : SA) : Int32 := z.1
def ga_now (z : SA) : Nat := z.2.1
def ga_ch (z : SA) : Nat := z.2.2.1
def ga_coins (z : SA) : Nat → Nat := z.2.2.2.1
def ga_up (z : SA) : Nat → Nat := z.2.2.2.2.1
def ga_knows (z : SA) : Nat → Int32 := z.2.2.2.2.2.1
def ga_base (z : SA) : Nat → Nat := z.2.2.2.2.2.2.1
def ga_rate (z : SA) : Nat → Nat := z.2.2.2.2.2.2.2.1
def ga_guard (z : SA) : Nat → Int32 := z.2.2.2.2.2.2.2.2.1
def ga_status (z : SA) : Nat → Nat := z.2.2.2.2.2.2.2.2.2.1
def ga_who (z : SA) : Nat → Nat := z.2.2.2.2.2.2.2.2.2.2.1
def ga_latest (z : SA) : Nat → Nat := z.2.2.2.2.2.2.2.2.2.2.2.1
def ga_bal (z : SA) : Nat → Nat := z.2.2.2.2.2.2.2.2.2.2.2.2.1
def ga_publd (z : SA) : Nat → Nat := z.2.2.2.2.2.2.2.2.2.2.2.2.2.1
def ga_pubs (z : SA) : Nat → Nat := z.2.2.2.2.2.2.2.2.2.2.2.2.2.2.1
def ga_since (z : SA) : Nat → Nat := z.2.2.2.2.2.2.2.2.2.2.2.2.2.2.2.1
def ga_held (z : SA) : Nat → Nat := z.2.2.2.2.2.2.2.2.2.2.2.2.2.2.2.2.1
def ga_rows (z : SA) : Nat → Nat → List LK := z.2.2.2.2.2.2.2.2.2.2.2.2.2.2.2.2.2.1
def ga_outs (z : SA) : Nat → List LK := z.2.2.2.2.2.2.2.2.2.2.2.2.2.2.2.2.2.2
abbrev OX : Type := Nat × Nat × Nat × (Nat → Nat) × (Nat → Nat) × (Nat → Nat) × (Nat → Nat) × (Nat → Nat) × (Nat → Nat) × (Nat → Nat) × (Nat → Nat) × (Nat → Nat) × (Nat → Nat) × (Nat → Nat) × (Nat → Nat)
def gx_goal (z : OX) : Nat := z.1
def gx_val (z : OX) : Nat := z.2.1
def gx_known (z : OX) : Nat := z.2.2.1
def gx_row (z : OX) : Nat → Nat := z.2.2.2.1
def gx_many (z : OX) : Nat → Nat := z.2.2.2.2.1
def gx_frm (z : OX) : Nat → Nat := z.2.2.2.2.2.1
def gx_amt (z : OX) : Nat → Nat := z.2.2.2.2.2.2.1
def gx_sec (z : OX) : Nat → Nat := z.2.2.2.2.2.2.2.1
def gx_xpy (z : OX) : Nat → Nat := z.2.2.2.2.2.2.2.2.1
def gx_born (z : OX) : Nat → Nat := z.2.2.2.2.2.2.2.2.2.1
def gx_dead (z : OX) : Nat → Nat := z.2.2.2.2.2.2.2.2.2.2.1
def gx_outm (z : OX) : Nat → Nat := z.2.2.2.2.2.2.2.2.2.2.2.1
def gx_least (z : OX) : Nat → Nat := z.2.2.2.2.2.2.2.2.2.2.2.2.1
def gx_path (z : OX) : Nat → Nat := z.2.2.2.2.2.2.2.2.2.2.2.2.2.1
def gx_xsum (z : OX) : Nat → Nat := z.2.2.2.2.2.2.2.2.2.2.2.2.2.2
abbrev OY : Type := Nat × (Nat → Nat) × (Nat → Nat) × (Nat → Nat) × (Nat → Nat) × (Nat → Nat) × (Nat → Nat) × (Nat → Nat) × (Nat → Nat) × (Nat → Nat) × (Nat → Nat) × (Nat → Nat) × (Nat → Int32) × (Nat → Nat) × (Nat → Nat) × (Nat → Nat) × (Nat → Nat)
def gy_len (z : OY) : Nat := z.1
def gy_ypub (z : OY) : Nat → Nat := z.2.1
def gy_outn (z : OY) : Nat → Nat := z.2.2.1
def gy_lks (z : OY) : Nat → Nat := z.2.2.2.1
def gy_yf (z : OY) : Nat → Nat := z.2.2.2.2.1
def gy_ya (z : OY) : Nat → Nat := z.2.2.2.2.2.1
def gy_ys (z : OY) : Nat → Nat := z.2.2.2.2.2.2.1
def gy_ye (z : OY) : Nat → Nat := z.2.2.2.2.2.2.2.1
def gy_qf (z : OY) : Nat → Nat := z.2.2.2.2.2.2.2.2.1
def gy_qa (z : OY) : Nat → Nat := z.2.2.2.2.2.2.2.2.2.1
def gy_qs (z : OY) : Nat → Nat := z.2.2.2.2.2.2.2.2.2.2.1
def gy_qe (z : OY) : Nat → Nat := z.2.2.2.2.2.2.2.2.2.2.2.1
def gy_way (z : OY) : Nat → Int32 := z.2.2.2.2.2.2.2.2.2.2.2.2.1
def gy_part (z : OY) : Nat → Nat := z.2.2.2.2.2.2.2.2.2.2.2.2.2.1
def gy_ysum (z : OY) : Nat → Nat := z.2.2.2.2.2.2.2.2.2.2.2.2.2.2.1
def gy_bst (z : OY) : Nat → Nat := z.2.2.2.2.2.2.2.2.2.2.2.2.2.2.2.1
def gy_bsm (z : OY) : Nat → Nat := z.2.2.2.2.2.2.2.2.2.2.2.2.2.2.2.2
def mX (a : SA) (x : OX) : SX := (ga_spent a, nI (ga_now a), nI (ga_ch a), nI (gx_goal x), nI (gx_val x), nI (gx_known x), cN (ga_coins a), cN (ga_up a), ga_knows a, cN (ga_base a), cN (ga_rate a), ga_guard a, cN (ga_status a), cN (ga_who a), cN (ga_latest a), cN (gx_row x), cN (ga_bal a), cN (gx_many x), cN (gx_frm x), cN (gx_amt x), cN (gx_sec x), cN (gx_xpy x), cN (gx_born x), cN (gx_dead x), cN (ga_publd a), cN (ga_pubs a), cN (ga_since a), cN (ga_held a), cN (gx_outm x), cN (gx_least x), cN (gx_path x), cN (gx_xsum x))
def mY (a : SA) (y : OY) : SY := (nI (ga_now a), ga_spent a, nI (ga_ch a), nI (gy_len y), cN (ga_coins a), cN (ga_base a), cN (ga_rate a), ga_guard a, ga_knows a, cN (ga_up a), cN (ga_who a), cN (ga_status a), cN (ga_latest a), cN (ga_publd a), cN (gy_ypub y), cN (ga_since a), cN (ga_held a), cN (gy_outn y), cN (ga_bal a), cN (gy_lks y), cN (gy_yf y), cN (gy_ya y), cN (gy_ys y), cN (gy_ye y), cN (gy_qf y), cN (gy_qa y), cN (gy_qs y), cN (gy_qe y), gy_way y, cN (gy_part y), cN (gy_ysum y), cN (gy_bst y), cN (gy_bsm y))
def unR (rows : Nat → Nat → List LK) (c k : Nat) (R : List LK) : Nat → Nat → List LK := fun d j => if d = c ∧ j = k then R else rows d j
def unO (outs : Nat → List LK) (c : Nat) (R : List LK) : Nat → List LK := fun d => if d = c then R else outs d
def sumL : List LK → Nat
  | [] => 0
  | l :: t => l.2.1 + sumL t
def aNew (a : SA) (c b0 b1 : Nat) (R : List LK) : SA := (ga_spent a, ga_now a, ga_ch a, ga_coins a, ga_up a, ga_knows a, ga_base a, ga_rate a, ga_guard a, ga_status a, ga_who a, un (ga_latest a) c (ga_latest a c + 1), un (un (ga_bal a) (2 * (12 * c + ga_latest a c) + 2) b0) (2 * (12 * c + ga_latest a c) + 3) b1, ga_publd a, ga_pubs a, ga_since a, ga_held a, unR (ga_rows a) c (ga_latest a c + 1) R, ga_outs a)
theorem aNew_spent (a : SA) (c b0 b1 : Nat) (R : List LK) : ga_spent (aNew a c b0 b1 R) = ga_spent a := rfl
theorem aNew_now (a : SA) (c b0 b1 : Nat) (R : List LK) : ga_now (aNew a c b0 b1 R) = ga_now a := rfl
theorem aNew_ch (a : SA) (c b0 b1 : Nat) (R : List LK) : ga_ch (aNew a c b0 b1 R) = ga_ch a := rfl
theorem aNew_coins (a : SA) (c b0 b1 : Nat) (R : List LK) : ga_coins (aNew a c b0 b1 R) = ga_coins a := rfl
theorem aNew_up (a : SA) (c b0 b1 : Nat) (R : List LK) : ga_up (aNew a c b0 b1 R) = ga_up a := rfl
theorem aNew_knows (a : SA) (c b0 b1 : Nat) (R : List LK) : ga_knows (aNew a c b0 b1 R) = ga_knows a := rfl
theorem aNew_base (a : SA) (c b0 b1 : Nat) (R : List LK) : ga_base (aNew a c b0 b1 R) = ga_base a := rfl
theorem aNew_rate (a : SA) (c b0 b1 : Nat) (R : List LK) : ga_rate (aNew a c b0 b1 R) = ga_rate a := rfl
theorem aNew_guard (a : SA) (c b0 b1 : Nat) (R : List LK) : ga_guard (aNew a c b0 b1 R) = ga_guard a := rfl
theorem aNew_status (a : SA) (c b0 b1 : Nat) (R : List LK) : ga_status (aNew a c b0 b1 R) = ga_status a := rfl
theorem aNew_who (a : SA) (c b0 b1 : Nat) (R : List LK) : ga_who (aNew a c b0 b1 R) = ga_who a := rfl
theorem aNew_latest (a : SA) (c b0 b1 : Nat) (R : List LK) : ga_latest (aNew a c b0 b1 R) = un (ga_latest a) c (ga_latest a c + 1) := rfl
theorem aNew_bal (a : SA) (c b0 b1 : Nat) (R : List LK) : ga_bal (aNew a c b0 b1 R) = un (un (ga_bal a) (2 * (12 * c + ga_latest a c) + 2) b0) (2 * (12 * c + ga_latest a c) + 3) b1 := rfl
theorem aNew_publd (a : SA) (c b0 b1 : Nat) (R : List LK) : ga_publd (aNew a c b0 b1 R) = ga_publd a := rfl
theorem aNew_pubs (a : SA) (c b0 b1 : Nat) (R : List LK) : ga_pubs (aNew a c b0 b1 R) = ga_pubs a := rfl
theorem aNew_since (a : SA) (c b0 b1 : Nat) (R : List LK) : ga_since (aNew a c b0 b1 R) = ga_since a := rfl
theorem aNew_held (a : SA) (c b0 b1 : Nat) (R : List LK) : ga_held (aNew a c b0 b1 R) = ga_held a := rfl
theorem aNew_rows (a : SA) (c b0 b1 : Nat) (R : List LK) : ga_rows (aNew a c b0 b1 R) = unR (ga_rows a) c (ga_latest a c + 1) R := rfl
theorem aNew_outs (a : SA) (c b0 b1 : Nat) (R : List LK) : ga_outs (aNew a c b0 b1 R) = ga_outs a := rfl
def aBeg (a : SA) (c b0 b1 : Nat) : SA := (ga_spent a, ga_now a, ga_ch a, ga_coins a, ga_up a, ga_knows a, ga_base a, ga_rate a, ga_guard a, ga_status a, ga_who a, un (ga_latest a) c 0, un (un (ga_bal a) (2 * (12 * c + 0)) b0) (2 * (12 * c + 0) + 1) b1, ga_publd a, ga_pubs a, ga_since a, ga_held a, unR (ga_rows a) c 0 [], ga_outs a)
theorem aBeg_spent (a : SA) (c b0 b1 : Nat) : ga_spent (aBeg a c b0 b1) = ga_spent a := rfl
theorem aBeg_now (a : SA) (c b0 b1 : Nat) : ga_now (aBeg a c b0 b1) = ga_now a := rfl
theorem aBeg_ch (a : SA) (c b0 b1 : Nat) : ga_ch (aBeg a c b0 b1) = ga_ch a := rfl
theorem aBeg_coins (a : SA) (c b0 b1 : Nat) : ga_coins (aBeg a c b0 b1) = ga_coins a := rfl
theorem aBeg_up (a : SA) (c b0 b1 : Nat) : ga_up (aBeg a c b0 b1) = ga_up a := rfl
theorem aBeg_knows (a : SA) (c b0 b1 : Nat) : ga_knows (aBeg a c b0 b1) = ga_knows a := rfl
theorem aBeg_base (a : SA) (c b0 b1 : Nat) : ga_base (aBeg a c b0 b1) = ga_base a := rfl
theorem aBeg_rate (a : SA) (c b0 b1 : Nat) : ga_rate (aBeg a c b0 b1) = ga_rate a := rfl
theorem aBeg_guard (a : SA) (c b0 b1 : Nat) : ga_guard (aBeg a c b0 b1) = ga_guard a := rfl
theorem aBeg_status (a : SA) (c b0 b1 : Nat) : ga_status (aBeg a c b0 b1) = ga_status a := rfl
theorem aBeg_who (a : SA) (c b0 b1 : Nat) : ga_who (aBeg a c b0 b1) = ga_who a := rfl
theorem aBeg_latest (a : SA) (c b0 b1 : Nat) : ga_latest (aBeg a c b0 b1) = un (ga_latest a) c 0 := rfl
theorem aBeg_bal (a : SA) (c b0 b1 : Nat) : ga_bal (aBeg a c b0 b1) = un (un (ga_bal a) (2 * (12 * c + 0)) b0) (2 * (12 * c + 0) + 1) b1 := rfl
theorem aBeg_publd (a : SA) (c b0 b1 : Nat) : ga_publd (aBeg a c b0 b1) = ga_publd a := rfl
theorem aBeg_pubs (a : SA) (c b0 b1 : Nat) : ga_pubs (aBeg a c b0 b1) = ga_pubs a := rfl
theorem aBeg_since (a : SA) (c b0 b1 : Nat) : ga_since (aBeg a c b0 b1) = ga_since a := rfl
theorem aBeg_held (a : SA) (c b0 b1 : Nat) : ga_held (aBeg a c b0 b1) = ga_held a := rfl
theorem aBeg_rows (a : SA) (c b0 b1 : Nat) : ga_rows (aBeg a c b0 b1) = unR (ga_rows a) c 0 [] := rfl
theorem aBeg_outs (a : SA) (c b0 b1 : Nat) : ga_outs (aBeg a c b0 b1) = ga_outs a := rfl
def aCoi (a : SA) (f : Nat → Nat) : SA := (ga_spent a, ga_now a, ga_ch a, f, ga_up a, ga_knows a, ga_base a, ga_rate a, ga_guard a, ga_status a, ga_who a, ga_latest a, ga_bal a, ga_publd a, ga_pubs a, ga_since a, ga_held a, ga_rows a, ga_outs a)
theorem aCoi_spent (a : SA) (f : Nat → Nat) : ga_spent (aCoi a f) = ga_spent a := rfl
theorem aCoi_now (a : SA) (f : Nat → Nat) : ga_now (aCoi a f) = ga_now a := rfl
theorem aCoi_ch (a : SA) (f : Nat → Nat) : ga_ch (aCoi a f) = ga_ch a := rfl
theorem aCoi_coins (a : SA) (f : Nat → Nat) : ga_coins (aCoi a f) = f := rfl
theorem aCoi_up (a : SA) (f : Nat → Nat) : ga_up (aCoi a f) = ga_up a := rfl
theorem aCoi_knows (a : SA) (f : Nat → Nat) : ga_knows (aCoi a f) = ga_knows a := rfl
theorem aCoi_base (a : SA) (f : Nat → Nat) : ga_base (aCoi a f) = ga_base a := rfl
theorem aCoi_rate (a : SA) (f : Nat → Nat) : ga_rate (aCoi a f) = ga_rate a := rfl
theorem aCoi_guard (a : SA) (f : Nat → Nat) : ga_guard (aCoi a f) = ga_guard a := rfl
theorem aCoi_status (a : SA) (f : Nat → Nat) : ga_status (aCoi a f) = ga_status a := rfl
theorem aCoi_who (a : SA) (f : Nat → Nat) : ga_who (aCoi a f) = ga_who a := rfl
theorem aCoi_latest (a : SA) (f : Nat → Nat) : ga_latest (aCoi a f) = ga_latest a := rfl
theorem aCoi_bal (a : SA) (f : Nat → Nat) : ga_bal (aCoi a f) = ga_bal a := rfl
theorem aCoi_publd (a : SA) (f : Nat → Nat) : ga_publd (aCoi a f) = ga_publd a := rfl
theorem aCoi_pubs (a : SA) (f : Nat → Nat) : ga_pubs (aCoi a f) = ga_pubs a := rfl
theorem aCoi_since (a : SA) (f : Nat → Nat) : ga_since (aCoi a f) = ga_since a := rfl
theorem aCoi_held (a : SA) (f : Nat → Nat) : ga_held (aCoi a f) = ga_held a := rfl
theorem aCoi_rows (a : SA) (f : Nat → Nat) : ga_rows (aCoi a f) = ga_rows a := rfl
theorem aCoi_outs (a : SA) (f : Nat → Nat) : ga_outs (aCoi a f) = ga_outs a := rfl
def aShw (a : SA) (c s k : Nat) : SA := (ga_spent a, ga_now a, ga_ch a, un (ga_coins a) (ga_who a (2 * c + 1 - s)) (ga_coins a (ga_who a (2 * c + 1 - s)) + ga_bal a (2 * (12 * c + k) + 1 - s)), ga_up a, ga_knows a, ga_base a, ga_rate a, ga_guard a, un (ga_status a) c 1, ga_who a, ga_latest a, ga_bal a, un (ga_publd a) c k, un (ga_pubs a) c s, un (ga_since a) c (ga_now a), un (ga_held a) c (ga_bal a (2 * (12 * c + k) + s)), ga_rows a, unO (ga_outs a) c (ga_rows a c k))
theorem aShw_spent (a : SA) (c s k : Nat) : ga_spent (aShw a c s k) = ga_spent a := rfl
theorem aShw_now (a : SA) (c s k : Nat) : ga_now (aShw a c s k) = ga_now a := rfl
theorem aShw_ch (a : SA) (c s k : Nat) : ga_ch (aShw a c s k) = ga_ch a := rfl
theorem aShw_coins (a : SA) (c s k : Nat) : ga_coins (aShw a c s k) = un (ga_coins a) (ga_who a (2 * c + 1 - s)) (ga_coins a (ga_who a (2 * c + 1 - s)) + ga_bal a (2 * (12 * c + k) + 1 - s)) := rfl
theorem aShw_up (a : SA) (c s k : Nat) : ga_up (aShw a c s k) = ga_up a := rfl
theorem aShw_knows (a : SA) (c s k : Nat) : ga_knows (aShw a c s k) = ga_knows a := rfl
theorem aShw_base (a : SA) (c s k : Nat) : ga_base (aShw a c s k) = ga_base a := rfl
theorem aShw_rate (a : SA) (c s k : Nat) : ga_rate (aShw a c s k) = ga_rate a := rfl
theorem aShw_guard (a : SA) (c s k : Nat) : ga_guard (aShw a c s k) = ga_guard a := rfl
theorem aShw_status (a : SA) (c s k : Nat) : ga_status (aShw a c s k) = un (ga_status a) c 1 := rfl
theorem aShw_who (a : SA) (c s k : Nat) : ga_who (aShw a c s k) = ga_who a := rfl
theorem aShw_latest (a : SA) (c s k : Nat) : ga_latest (aShw a c s k) = ga_latest a := rfl
theorem aShw_bal (a : SA) (c s k : Nat) : ga_bal (aShw a c s k) = ga_bal a := rfl
theorem aShw_publd (a : SA) (c s k : Nat) : ga_publd (aShw a c s k) = un (ga_publd a) c k := rfl
theorem aShw_pubs (a : SA) (c s k : Nat) : ga_pubs (aShw a c s k) = un (ga_pubs a) c s := rfl
theorem aShw_since (a : SA) (c s k : Nat) : ga_since (aShw a c s k) = un (ga_since a) c (ga_now a) := rfl
theorem aShw_held (a : SA) (c s k : Nat) : ga_held (aShw a c s k) = un (ga_held a) c (ga_bal a (2 * (12 * c + k) + s)) := rfl
theorem aShw_rows (a : SA) (c s k : Nat) : ga_rows (aShw a c s k) = ga_rows a := rfl
theorem aShw_outs (a : SA) (c s k : Nat) : ga_outs (aShw a c s k) = unO (ga_outs a) c (ga_rows a c k) := rfl
def aLrn (a : SA) (p s : Nat) : SA := (ga_spent a, ga_now a, ga_ch a, ga_coins a, ga_up a, upd (ga_knows a) p (ga_knows a p ||| (nI 1 <<< (nI s &&& nI 31))), ga_base a, ga_rate a, ga_guard a, ga_status a, ga_who a, ga_latest a, ga_bal a, ga_publd a, ga_pubs a, ga_since a, ga_held a, ga_rows a, ga_outs a)
theorem aLrn_spent (a : SA) (p s : Nat) : ga_spent (aLrn a p s) = ga_spent a := rfl
theorem aLrn_now (a : SA) (p s : Nat) : ga_now (aLrn a p s) = ga_now a := rfl
theorem aLrn_ch (a : SA) (p s : Nat) : ga_ch (aLrn a p s) = ga_ch a := rfl
theorem aLrn_coins (a : SA) (p s : Nat) : ga_coins (aLrn a p s) = ga_coins a := rfl
theorem aLrn_up (a : SA) (p s : Nat) : ga_up (aLrn a p s) = ga_up a := rfl
theorem aLrn_knows (a : SA) (p s : Nat) : ga_knows (aLrn a p s) = upd (ga_knows a) p (ga_knows a p ||| (nI 1 <<< (nI s &&& nI 31))) := rfl
theorem aLrn_base (a : SA) (p s : Nat) : ga_base (aLrn a p s) = ga_base a := rfl
theorem aLrn_rate (a : SA) (p s : Nat) : ga_rate (aLrn a p s) = ga_rate a := rfl
theorem aLrn_guard (a : SA) (p s : Nat) : ga_guard (aLrn a p s) = ga_guard a := rfl
theorem aLrn_status (a : SA) (p s : Nat) : ga_status (aLrn a p s) = ga_status a := rfl
theorem aLrn_who (a : SA) (p s : Nat) : ga_who (aLrn a p s) = ga_who a := rfl
theorem aLrn_latest (a : SA) (p s : Nat) : ga_latest (aLrn a p s) = ga_latest a := rfl
theorem aLrn_bal (a : SA) (p s : Nat) : ga_bal (aLrn a p s) = ga_bal a := rfl
theorem aLrn_publd (a : SA) (p s : Nat) : ga_publd (aLrn a p s) = ga_publd a := rfl
theorem aLrn_pubs (a : SA) (p s : Nat) : ga_pubs (aLrn a p s) = ga_pubs a := rfl
theorem aLrn_since (a : SA) (p s : Nat) : ga_since (aLrn a p s) = ga_since a := rfl
theorem aLrn_held (a : SA) (p s : Nat) : ga_held (aLrn a p s) = ga_held a := rfl
theorem aLrn_rows (a : SA) (p s : Nat) : ga_rows (aLrn a p s) = ga_rows a := rfl
theorem aLrn_outs (a : SA) (p s : Nat) : ga_outs (aLrn a p s) = ga_outs a := rfl
def aKn (a : SA) (f : Nat → Int32) : SA := (ga_spent a, ga_now a, ga_ch a, ga_coins a, ga_up a, f, ga_base a, ga_rate a, ga_guard a, ga_status a, ga_who a, ga_latest a, ga_bal a, ga_publd a, ga_pubs a, ga_since a, ga_held a, ga_rows a, ga_outs a)
theorem aKn_spent (a : SA) (f : Nat → Int32) : ga_spent (aKn a f) = ga_spent a := rfl
theorem aKn_now (a : SA) (f : Nat → Int32) : ga_now (aKn a f) = ga_now a := rfl
theorem aKn_ch (a : SA) (f : Nat → Int32) : ga_ch (aKn a f) = ga_ch a := rfl
theorem aKn_coins (a : SA) (f : Nat → Int32) : ga_coins (aKn a f) = ga_coins a := rfl
theorem aKn_up (a : SA) (f : Nat → Int32) : ga_up (aKn a f) = ga_up a := rfl
theorem aKn_knows (a : SA) (f : Nat → Int32) : ga_knows (aKn a f) = f := rfl
theorem aKn_base (a : SA) (f : Nat → Int32) : ga_base (aKn a f) = ga_base a := rfl
theorem aKn_rate (a : SA) (f : Nat → Int32) : ga_rate (aKn a f) = ga_rate a := rfl
theorem aKn_guard (a : SA) (f : Nat → Int32) : ga_guard (aKn a f) = ga_guard a := rfl
theorem aKn_status (a : SA) (f : Nat → Int32) : ga_status (aKn a f) = ga_status a := rfl
theorem aKn_who (a : SA) (f : Nat → Int32) : ga_who (aKn a f) = ga_who a := rfl
theorem aKn_latest (a : SA) (f : Nat → Int32) : ga_latest (aKn a f) = ga_latest a := rfl
theorem aKn_bal (a : SA) (f : Nat → Int32) : ga_bal (aKn a f) = ga_bal a := rfl
theorem aKn_publd (a : SA) (f : Nat → Int32) : ga_publd (aKn a f) = ga_publd a := rfl
theorem aKn_pubs (a : SA) (f : Nat → Int32) : ga_pubs (aKn a f) = ga_pubs a := rfl
theorem aKn_since (a : SA) (f : Nat → Int32) : ga_since (aKn a f) = ga_since a := rfl
theorem aKn_held (a : SA) (f : Nat → Int32) : ga_held (aKn a f) = ga_held a := rfl
theorem aKn_rows (a : SA) (f : Nat → Int32) : ga_rows (aKn a f) = ga_rows a := rfl
theorem aKn_outs (a : SA) (f : Nat → Int32) : ga_outs (aKn a f) = ga_outs a := rfl
def aTk (a : SA) (c s v : Nat) (K : Nat → Int32) (R : List LK) : SA := (ga_spent a, ga_now a, ga_ch a, if ga_pubs a c = s then ga_coins a else un (ga_coins a) (ga_who a (2 * c + s)) (ga_coins a (ga_who a (2 * c + s)) + v), ga_up a, K, ga_base a, ga_rate a, ga_guard a, ga_status a, ga_who a, ga_latest a, ga_bal a, ga_publd a, ga_pubs a, ga_since a, if ga_pubs a c = s then un (ga_held a) c (ga_held a c + v) else ga_held a, ga_rows a, unO (ga_outs a) c R)
theorem aTk_spent (a : SA) (c s v : Nat) (K : Nat → Int32) (R : List LK) : ga_spent (aTk a c s v K R) = ga_spent a := rfl
theorem aTk_now (a : SA) (c s v : Nat) (K : Nat → Int32) (R : List LK) : ga_now (aTk a c s v K R) = ga_now a := rfl
theorem aTk_ch (a : SA) (c s v : Nat) (K : Nat → Int32) (R : List LK) : ga_ch (aTk a c s v K R) = ga_ch a := rfl
theorem aTk_coins (a : SA) (c s v : Nat) (K : Nat → Int32) (R : List LK) : ga_coins (aTk a c s v K R) = if ga_pubs a c = s then ga_coins a else un (ga_coins a) (ga_who a (2 * c + s)) (ga_coins a (ga_who a (2 * c + s)) + v) := rfl
theorem aTk_up (a : SA) (c s v : Nat) (K : Nat → Int32) (R : List LK) : ga_up (aTk a c s v K R) = ga_up a := rfl
theorem aTk_knows (a : SA) (c s v : Nat) (K : Nat → Int32) (R : List LK) : ga_knows (aTk a c s v K R) = K := rfl
theorem aTk_base (a : SA) (c s v : Nat) (K : Nat → Int32) (R : List LK) : ga_base (aTk a c s v K R) = ga_base a := rfl
theorem aTk_rate (a : SA) (c s v : Nat) (K : Nat → Int32) (R : List LK) : ga_rate (aTk a c s v K R) = ga_rate a := rfl
theorem aTk_guard (a : SA) (c s v : Nat) (K : Nat → Int32) (R : List LK) : ga_guard (aTk a c s v K R) = ga_guard a := rfl
theorem aTk_status (a : SA) (c s v : Nat) (K : Nat → Int32) (R : List LK) : ga_status (aTk a c s v K R) = ga_status a := rfl
theorem aTk_who (a : SA) (c s v : Nat) (K : Nat → Int32) (R : List LK) : ga_who (aTk a c s v K R) = ga_who a := rfl
theorem aTk_latest (a : SA) (c s v : Nat) (K : Nat → Int32) (R : List LK) : ga_latest (aTk a c s v K R) = ga_latest a := rfl
theorem aTk_bal (a : SA) (c s v : Nat) (K : Nat → Int32) (R : List LK) : ga_bal (aTk a c s v K R) = ga_bal a := rfl
theorem aTk_publd (a : SA) (c s v : Nat) (K : Nat → Int32) (R : List LK) : ga_publd (aTk a c s v K R) = ga_publd a := rfl
theorem aTk_pubs (a : SA) (c s v : Nat) (K : Nat → Int32) (R : List LK) : ga_pubs (aTk a c s v K R) = ga_pubs a := rfl
theorem aTk_since (a : SA) (c s v : Nat) (K : Nat → Int32) (R : List LK) : ga_since (aTk a c s v K R) = ga_since a := rfl
theorem aTk_held (a : SA) (c s v : Nat) (K : Nat → Int32) (R : List LK) : ga_held (aTk a c s v K R) = if ga_pubs a c = s then un (ga_held a) c (ga_held a c + v) else ga_held a := rfl
theorem aTk_rows (a : SA) (c s v : Nat) (K : Nat → Int32) (R : List LK) : ga_rows (aTk a c s v K R) = ga_rows a := rfl
theorem aTk_outs (a : SA) (c s v : Nat) (K : Nat → Int32) (R : List LK) : ga_outs (aTk a c s v K R) = unO (ga_outs a) c R := rfl
def aPu (a : SA) (c p : Nat) : SA := (ga_spent a, ga_now a, ga_ch a, un (ga_coins a) p (ga_coins a p + (ga_held a c + sumL (ga_outs a c))), ga_up a, ga_knows a, ga_base a, ga_rate a, ga_guard a, ga_status a, ga_who a, ga_latest a, ga_bal a, ga_publd a, ga_pubs a, ga_since a, un (ga_held a) c 0, ga_rows a, unO (ga_outs a) c [])
theorem aPu_spent (a : SA) (c p : Nat) : ga_spent (aPu a c p) = ga_spent a := rfl
theorem aPu_now (a : SA) (c p : Nat) : ga_now (aPu a c p) = ga_now a := rfl
theorem aPu_ch (a : SA) (c p : Nat) : ga_ch (aPu a c p) = ga_ch a := rfl
theorem aPu_coins (a : SA) (c p : Nat) : ga_coins (aPu a c p) = un (ga_coins a) p (ga_coins a p + (ga_held a c + sumL (ga_outs a c))) := rfl
theorem aPu_up (a : SA) (c p : Nat) : ga_up (aPu a c p) = ga_up a := rfl
theorem aPu_knows (a : SA) (c p : Nat) : ga_knows (aPu a c p) = ga_knows a := rfl
theorem aPu_base (a : SA) (c p : Nat) : ga_base (aPu a c p) = ga_base a := rfl
theorem aPu_rate (a : SA) (c p : Nat) : ga_rate (aPu a c p) = ga_rate a := rfl
theorem aPu_guard (a : SA) (c p : Nat) : ga_guard (aPu a c p) = ga_guard a := rfl
theorem aPu_status (a : SA) (c p : Nat) : ga_status (aPu a c p) = ga_status a := rfl
theorem aPu_who (a : SA) (c p : Nat) : ga_who (aPu a c p) = ga_who a := rfl
theorem aPu_latest (a : SA) (c p : Nat) : ga_latest (aPu a c p) = ga_latest a := rfl
theorem aPu_bal (a : SA) (c p : Nat) : ga_bal (aPu a c p) = ga_bal a := rfl
theorem aPu_publd (a : SA) (c p : Nat) : ga_publd (aPu a c p) = ga_publd a := rfl
theorem aPu_pubs (a : SA) (c p : Nat) : ga_pubs (aPu a c p) = ga_pubs a := rfl
theorem aPu_since (a : SA) (c p : Nat) : ga_since (aPu a c p) = ga_since a := rfl
theorem aPu_held (a : SA) (c p : Nat) : ga_held (aPu a c p) = un (ga_held a) c 0 := rfl
theorem aPu_rows (a : SA) (c p : Nat) : ga_rows (aPu a c p) = ga_rows a := rfl
theorem aPu_outs (a : SA) (c p : Nat) : ga_outs (aPu a c p) = unO (ga_outs a) c [] := rfl
def aHd (a : SA) (c p : Nat) : SA := (ga_spent a, ga_now a, ga_ch a, un (ga_coins a) p (ga_coins a p + ga_held a c), ga_up a, ga_knows a, ga_base a, ga_rate a, ga_guard a, ga_status a, ga_who a, ga_latest a, ga_bal a, ga_publd a, ga_pubs a, ga_since a, un (ga_held a) c 0, ga_rows a, ga_outs a)
theorem aHd_spent (a : SA) (c p : Nat) : ga_spent (aHd a c p) = ga_spent a := rfl
theorem aHd_now (a : SA) (c p : Nat) : ga_now (aHd a c p) = ga_now a := rfl
theorem aHd_ch (a : SA) (c p : Nat) : ga_ch (aHd a c p) = ga_ch a := rfl
theorem aHd_coins (a : SA) (c p : Nat) : ga_coins (aHd a c p) = un (ga_coins a) p (ga_coins a p + ga_held a c) := rfl
theorem aHd_up (a : SA) (c p : Nat) : ga_up (aHd a c p) = ga_up a := rfl
theorem aHd_knows (a : SA) (c p : Nat) : ga_knows (aHd a c p) = ga_knows a := rfl
theorem aHd_base (a : SA) (c p : Nat) : ga_base (aHd a c p) = ga_base a := rfl
theorem aHd_rate (a : SA) (c p : Nat) : ga_rate (aHd a c p) = ga_rate a := rfl
theorem aHd_guard (a : SA) (c p : Nat) : ga_guard (aHd a c p) = ga_guard a := rfl
theorem aHd_status (a : SA) (c p : Nat) : ga_status (aHd a c p) = ga_status a := rfl
theorem aHd_who (a : SA) (c p : Nat) : ga_who (aHd a c p) = ga_who a := rfl
theorem aHd_latest (a : SA) (c p : Nat) : ga_latest (aHd a c p) = ga_latest a := rfl
theorem aHd_bal (a : SA) (c p : Nat) : ga_bal (aHd a c p) = ga_bal a := rfl
theorem aHd_publd (a : SA) (c p : Nat) : ga_publd (aHd a c p) = ga_publd a := rfl
theorem aHd_pubs (a : SA) (c p : Nat) : ga_pubs (aHd a c p) = ga_pubs a := rfl
theorem aHd_since (a : SA) (c p : Nat) : ga_since (aHd a c p) = ga_since a := rfl
theorem aHd_held (a : SA) (c p : Nat) : ga_held (aHd a c p) = un (ga_held a) c 0 := rfl
theorem aHd_rows (a : SA) (c p : Nat) : ga_rows (aHd a c p) = ga_rows a := rfl
theorem aHd_outs (a : SA) (c p : Nat) : ga_outs (aHd a c p) = ga_outs a := rfl
def aOut (a : SA) (c : Nat) (R : List LK) : SA := (ga_spent a, ga_now a, ga_ch a, ga_coins a, ga_up a, ga_knows a, ga_base a, ga_rate a, ga_guard a, ga_status a, ga_who a, ga_latest a, ga_bal a, ga_publd a, ga_pubs a, ga_since a, ga_held a, ga_rows a, unO (ga_outs a) c R)
theorem aOut_spent (a : SA) (c : Nat) (R : List LK) : ga_spent (aOut a c R) = ga_spent a := rfl
theorem aOut_now (a : SA) (c : Nat) (R : List LK) : ga_now (aOut a c R) = ga_now a := rfl
theorem aOut_ch (a : SA) (c : Nat) (R : List LK) : ga_ch (aOut a c R) = ga_ch a := rfl
theorem aOut_coins (a : SA) (c : Nat) (R : List LK) : ga_coins (aOut a c R) = ga_coins a := rfl
theorem aOut_up (a : SA) (c : Nat) (R : List LK) : ga_up (aOut a c R) = ga_up a := rfl
theorem aOut_knows (a : SA) (c : Nat) (R : List LK) : ga_knows (aOut a c R) = ga_knows a := rfl
theorem aOut_base (a : SA) (c : Nat) (R : List LK) : ga_base (aOut a c R) = ga_base a := rfl
theorem aOut_rate (a : SA) (c : Nat) (R : List LK) : ga_rate (aOut a c R) = ga_rate a := rfl
theorem aOut_guard (a : SA) (c : Nat) (R : List LK) : ga_guard (aOut a c R) = ga_guard a := rfl
theorem aOut_status (a : SA) (c : Nat) (R : List LK) : ga_status (aOut a c R) = ga_status a := rfl
theorem aOut_who (a : SA) (c : Nat) (R : List LK) : ga_who (aOut a c R) = ga_who a := rfl
theorem aOut_latest (a : SA) (c : Nat) (R : List LK) : ga_latest (aOut a c R) = ga_latest a := rfl
theorem aOut_bal (a : SA) (c : Nat) (R : List LK) : ga_bal (aOut a c R) = ga_bal a := rfl
theorem aOut_publd (a : SA) (c : Nat) (R : List LK) : ga_publd (aOut a c R) = ga_publd a := rfl
theorem aOut_pubs (a : SA) (c : Nat) (R : List LK) : ga_pubs (aOut a c R) = ga_pubs a := rfl
theorem aOut_since (a : SA) (c : Nat) (R : List LK) : ga_since (aOut a c R) = ga_since a := rfl
theorem aOut_held (a : SA) (c : Nat) (R : List LK) : ga_held (aOut a c R) = ga_held a := rfl
theorem aOut_rows (a : SA) (c : Nat) (R : List LK) : ga_rows (aOut a c R) = ga_rows a := rfl
theorem aOut_outs (a : SA) (c : Nat) (R : List LK) : ga_outs (aOut a c R) = unO (ga_outs a) c R := rfl
def aHel (a : SA) (c h : Nat) : SA := (ga_spent a, ga_now a, ga_ch a, ga_coins a, ga_up a, ga_knows a, ga_base a, ga_rate a, ga_guard a, ga_status a, ga_who a, ga_latest a, ga_bal a, ga_publd a, ga_pubs a, ga_since a, un (ga_held a) c h, ga_rows a, ga_outs a)
theorem aHel_spent (a : SA) (c h : Nat) : ga_spent (aHel a c h) = ga_spent a := rfl
theorem aHel_now (a : SA) (c h : Nat) : ga_now (aHel a c h) = ga_now a := rfl
theorem aHel_ch (a : SA) (c h : Nat) : ga_ch (aHel a c h) = ga_ch a := rfl
theorem aHel_coins (a : SA) (c h : Nat) : ga_coins (aHel a c h) = ga_coins a := rfl
theorem aHel_up (a : SA) (c h : Nat) : ga_up (aHel a c h) = ga_up a := rfl
theorem aHel_knows (a : SA) (c h : Nat) : ga_knows (aHel a c h) = ga_knows a := rfl
theorem aHel_base (a : SA) (c h : Nat) : ga_base (aHel a c h) = ga_base a := rfl
theorem aHel_rate (a : SA) (c h : Nat) : ga_rate (aHel a c h) = ga_rate a := rfl
theorem aHel_guard (a : SA) (c h : Nat) : ga_guard (aHel a c h) = ga_guard a := rfl
theorem aHel_status (a : SA) (c h : Nat) : ga_status (aHel a c h) = ga_status a := rfl
theorem aHel_who (a : SA) (c h : Nat) : ga_who (aHel a c h) = ga_who a := rfl
theorem aHel_latest (a : SA) (c h : Nat) : ga_latest (aHel a c h) = ga_latest a := rfl
theorem aHel_bal (a : SA) (c h : Nat) : ga_bal (aHel a c h) = ga_bal a := rfl
theorem aHel_publd (a : SA) (c h : Nat) : ga_publd (aHel a c h) = ga_publd a := rfl
theorem aHel_pubs (a : SA) (c h : Nat) : ga_pubs (aHel a c h) = ga_pubs a := rfl
theorem aHel_since (a : SA) (c h : Nat) : ga_since (aHel a c h) = ga_since a := rfl
theorem aHel_held (a : SA) (c h : Nat) : ga_held (aHel a c h) = un (ga_held a) c h := rfl
theorem aHel_rows (a : SA) (c h : Nat) : ga_rows (aHel a c h) = ga_rows a := rfl
theorem aHel_outs (a : SA) (c h : Nat) : ga_outs (aHel a c h) = ga_outs a := rfl
def aSta (a : SA) (c s : Nat) : SA := (ga_spent a, ga_now a, ga_ch a, ga_coins a, ga_up a, ga_knows a, ga_base a, ga_rate a, ga_guard a, un (ga_status a) c s, ga_who a, ga_latest a, ga_bal a, ga_publd a, ga_pubs a, ga_since a, ga_held a, ga_rows a, ga_outs a)
theorem aSta_spent (a : SA) (c s : Nat) : ga_spent (aSta a c s) = ga_spent a := rfl
theorem aSta_now (a : SA) (c s : Nat) : ga_now (aSta a c s) = ga_now a := rfl
theorem aSta_ch (a : SA) (c s : Nat) : ga_ch (aSta a c s) = ga_ch a := rfl
theorem aSta_coins (a : SA) (c s : Nat) : ga_coins (aSta a c s) = ga_coins a := rfl
theorem aSta_up (a : SA) (c s : Nat) : ga_up (aSta a c s) = ga_up a := rfl
theorem aSta_knows (a : SA) (c s : Nat) : ga_knows (aSta a c s) = ga_knows a := rfl
theorem aSta_base (a : SA) (c s : Nat) : ga_base (aSta a c s) = ga_base a := rfl
theorem aSta_rate (a : SA) (c s : Nat) : ga_rate (aSta a c s) = ga_rate a := rfl
theorem aSta_guard (a : SA) (c s : Nat) : ga_guard (aSta a c s) = ga_guard a := rfl
theorem aSta_status (a : SA) (c s : Nat) : ga_status (aSta a c s) = un (ga_status a) c s := rfl
theorem aSta_who (a : SA) (c s : Nat) : ga_who (aSta a c s) = ga_who a := rfl
theorem aSta_latest (a : SA) (c s : Nat) : ga_latest (aSta a c s) = ga_latest a := rfl
theorem aSta_bal (a : SA) (c s : Nat) : ga_bal (aSta a c s) = ga_bal a := rfl
theorem aSta_publd (a : SA) (c s : Nat) : ga_publd (aSta a c s) = ga_publd a := rfl
theorem aSta_pubs (a : SA) (c s : Nat) : ga_pubs (aSta a c s) = ga_pubs a := rfl
theorem aSta_since (a : SA) (c s : Nat) : ga_since (aSta a c s) = ga_since a := rfl
theorem aSta_held (a : SA) (c s : Nat) : ga_held (aSta a c s) = ga_held a := rfl
theorem aSta_rows (a : SA) (c s : Nat) : ga_rows (aSta a c s) = ga_rows a := rfl
theorem aSta_outs (a : SA) (c s : Nat) : ga_outs (aSta a c s) = ga_outs a := rfl
def aNow (a : SA) (t : Nat) : SA := (ga_spent a, t, ga_ch a, ga_coins a, ga_up a, ga_knows a, ga_base a, ga_rate a, ga_guard a, ga_status a, ga_who a, ga_latest a, ga_bal a, ga_publd a, ga_pubs a, ga_since a, ga_held a, ga_rows a, ga_outs a)
theorem aNow_spent (a : SA) (t : Nat) : ga_spent (aNow a t) = ga_spent a := rfl
theorem aNow_now (a : SA) (t : Nat) : ga_now (aNow a t) = t := rfl
theorem aNow_ch (a : SA) (t : Nat) : ga_ch (aNow a t) = ga_ch a := rfl
theorem aNow_coins (a : SA) (t : Nat) : ga_coins (aNow a t) = ga_coins a := rfl
theorem aNow_up (a : SA) (t : Nat) : ga_up (aNow a t) = ga_up a := rfl
theorem aNow_knows (a : SA) (t : Nat) : ga_knows (aNow a t) = ga_knows a := rfl
theorem aNow_base (a : SA) (t : Nat) : ga_base (aNow a t) = ga_base a := rfl
theorem aNow_rate (a : SA) (t : Nat) : ga_rate (aNow a t) = ga_rate a := rfl
theorem aNow_guard (a : SA) (t : Nat) : ga_guard (aNow a t) = ga_guard a := rfl
theorem aNow_status (a : SA) (t : Nat) : ga_status (aNow a t) = ga_status a := rfl
theorem aNow_who (a : SA) (t : Nat) : ga_who (aNow a t) = ga_who a := rfl
theorem aNow_latest (a : SA) (t : Nat) : ga_latest (aNow a t) = ga_latest a := rfl
theorem aNow_bal (a : SA) (t : Nat) : ga_bal (aNow a t) = ga_bal a := rfl
theorem aNow_publd (a : SA) (t : Nat) : ga_publd (aNow a t) = ga_publd a := rfl
theorem aNow_pubs (a : SA) (t : Nat) : ga_pubs (aNow a t) = ga_pubs a := rfl
theorem aNow_since (a : SA) (t : Nat) : ga_since (aNow a t) = ga_since a := rfl
theorem aNow_held (a : SA) (t : Nat) : ga_held (aNow a t) = ga_held a := rfl
theorem aNow_rows (a : SA) (t : Nat) : ga_rows (aNow a t) = ga_rows a := rfl
theorem aNow_outs (a : SA) (t : Nat) : ga_outs (aNow a t) = ga_outs a := rfl
def aUp (a : SA) (p b : Nat) : SA := (ga_spent a, ga_now a, ga_ch a, ga_coins a, un (ga_up a) p b, ga_knows a, ga_base a, ga_rate a, ga_guard a, ga_status a, ga_who a, ga_latest a, ga_bal a, ga_publd a, ga_pubs a, ga_since a, ga_held a, ga_rows a, ga_outs a)
theorem aUp_spent (a : SA) (p b : Nat) : ga_spent (aUp a p b) = ga_spent a := rfl
theorem aUp_now (a : SA) (p b : Nat) : ga_now (aUp a p b) = ga_now a := rfl
theorem aUp_ch (a : SA) (p b : Nat) : ga_ch (aUp a p b) = ga_ch a := rfl
theorem aUp_coins (a : SA) (p b : Nat) : ga_coins (aUp a p b) = ga_coins a := rfl
theorem aUp_up (a : SA) (p b : Nat) : ga_up (aUp a p b) = un (ga_up a) p b := rfl
theorem aUp_knows (a : SA) (p b : Nat) : ga_knows (aUp a p b) = ga_knows a := rfl
theorem aUp_base (a : SA) (p b : Nat) : ga_base (aUp a p b) = ga_base a := rfl
theorem aUp_rate (a : SA) (p b : Nat) : ga_rate (aUp a p b) = ga_rate a := rfl
theorem aUp_guard (a : SA) (p b : Nat) : ga_guard (aUp a p b) = ga_guard a := rfl
theorem aUp_status (a : SA) (p b : Nat) : ga_status (aUp a p b) = ga_status a := rfl
theorem aUp_who (a : SA) (p b : Nat) : ga_who (aUp a p b) = ga_who a := rfl
theorem aUp_latest (a : SA) (p b : Nat) : ga_latest (aUp a p b) = ga_latest a := rfl
theorem aUp_bal (a : SA) (p b : Nat) : ga_bal (aUp a p b) = ga_bal a := rfl
theorem aUp_publd (a : SA) (p b : Nat) : ga_publd (aUp a p b) = ga_publd a := rfl
theorem aUp_pubs (a : SA) (p b : Nat) : ga_pubs (aUp a p b) = ga_pubs a := rfl
theorem aUp_since (a : SA) (p b : Nat) : ga_since (aUp a p b) = ga_since a := rfl
theorem aUp_held (a : SA) (p b : Nat) : ga_held (aUp a p b) = ga_held a := rfl
theorem aUp_rows (a : SA) (p b : Nat) : ga_rows (aUp a p b) = ga_rows a := rfl
theorem aUp_outs (a : SA) (p b : Nat) : ga_outs (aUp a p b) = ga_outs a := rfl
def aTrm (a : SA) (p b r : Nat) (g : Int32) : SA := (ga_spent a, ga_now a, ga_ch a, ga_coins a, ga_up a, ga_knows a, un (ga_base a) p b, un (ga_rate a) p r, upd (ga_guard a) p g, ga_status a, ga_who a, ga_latest a, ga_bal a, ga_publd a, ga_pubs a, ga_since a, ga_held a, ga_rows a, ga_outs a)
theorem aTrm_spent (a : SA) (p b r : Nat) (g : Int32) : ga_spent (aTrm a p b r g) = ga_spent a := rfl
theorem aTrm_now (a : SA) (p b r : Nat) (g : Int32) : ga_now (aTrm a p b r g) = ga_now a := rfl
theorem aTrm_ch (a : SA) (p b r : Nat) (g : Int32) : ga_ch (aTrm a p b r g) = ga_ch a := rfl
theorem aTrm_coins (a : SA) (p b r : Nat) (g : Int32) : ga_coins (aTrm a p b r g) = ga_coins a := rfl
theorem aTrm_up (a : SA) (p b r : Nat) (g : Int32) : ga_up (aTrm a p b r g) = ga_up a := rfl
theorem aTrm_knows (a : SA) (p b r : Nat) (g : Int32) : ga_knows (aTrm a p b r g) = ga_knows a := rfl
theorem aTrm_base (a : SA) (p b r : Nat) (g : Int32) : ga_base (aTrm a p b r g) = un (ga_base a) p b := rfl
theorem aTrm_rate (a : SA) (p b r : Nat) (g : Int32) : ga_rate (aTrm a p b r g) = un (ga_rate a) p r := rfl
theorem aTrm_guard (a : SA) (p b r : Nat) (g : Int32) : ga_guard (aTrm a p b r g) = upd (ga_guard a) p g := rfl
theorem aTrm_status (a : SA) (p b r : Nat) (g : Int32) : ga_status (aTrm a p b r g) = ga_status a := rfl
theorem aTrm_who (a : SA) (p b r : Nat) (g : Int32) : ga_who (aTrm a p b r g) = ga_who a := rfl
theorem aTrm_latest (a : SA) (p b r : Nat) (g : Int32) : ga_latest (aTrm a p b r g) = ga_latest a := rfl
theorem aTrm_bal (a : SA) (p b r : Nat) (g : Int32) : ga_bal (aTrm a p b r g) = ga_bal a := rfl
theorem aTrm_publd (a : SA) (p b r : Nat) (g : Int32) : ga_publd (aTrm a p b r g) = ga_publd a := rfl
theorem aTrm_pubs (a : SA) (p b r : Nat) (g : Int32) : ga_pubs (aTrm a p b r g) = ga_pubs a := rfl
theorem aTrm_since (a : SA) (p b r : Nat) (g : Int32) : ga_since (aTrm a p b r g) = ga_since a := rfl
theorem aTrm_held (a : SA) (p b r : Nat) (g : Int32) : ga_held (aTrm a p b r g) = ga_held a := rfl
theorem aTrm_rows (a : SA) (p b r : Nat) (g : Int32) : ga_rows (aTrm a p b r g) = ga_rows a := rfl
theorem aTrm_outs (a : SA) (p b r : Nat) (g : Int32) : ga_outs (aTrm a p b r g) = ga_outs a := rfl
def aChn (a : SA) (p q : Nat) : SA := (ga_spent a, ga_now a, ga_ch a + 1, ga_coins a, ga_up a, ga_knows a, ga_base a, ga_rate a, ga_guard a, ga_status a, un (un (ga_who a) (2 * ga_ch a) p) (2 * ga_ch a + 1) q, ga_latest a, ga_bal a, ga_publd a, ga_pubs a, ga_since a, ga_held a, ga_rows a, ga_outs a)
theorem aChn_spent (a : SA) (p q : Nat) : ga_spent (aChn a p q) = ga_spent a := rfl
theorem aChn_now (a : SA) (p q : Nat) : ga_now (aChn a p q) = ga_now a := rfl
theorem aChn_ch (a : SA) (p q : Nat) : ga_ch (aChn a p q) = ga_ch a + 1 := rfl
theorem aChn_coins (a : SA) (p q : Nat) : ga_coins (aChn a p q) = ga_coins a := rfl
theorem aChn_up (a : SA) (p q : Nat) : ga_up (aChn a p q) = ga_up a := rfl
theorem aChn_knows (a : SA) (p q : Nat) : ga_knows (aChn a p q) = ga_knows a := rfl
theorem aChn_base (a : SA) (p q : Nat) : ga_base (aChn a p q) = ga_base a := rfl
theorem aChn_rate (a : SA) (p q : Nat) : ga_rate (aChn a p q) = ga_rate a := rfl
theorem aChn_guard (a : SA) (p q : Nat) : ga_guard (aChn a p q) = ga_guard a := rfl
theorem aChn_status (a : SA) (p q : Nat) : ga_status (aChn a p q) = ga_status a := rfl
theorem aChn_who (a : SA) (p q : Nat) : ga_who (aChn a p q) = un (un (ga_who a) (2 * ga_ch a) p) (2 * ga_ch a + 1) q := rfl
theorem aChn_latest (a : SA) (p q : Nat) : ga_latest (aChn a p q) = ga_latest a := rfl
theorem aChn_bal (a : SA) (p q : Nat) : ga_bal (aChn a p q) = ga_bal a := rfl
theorem aChn_publd (a : SA) (p q : Nat) : ga_publd (aChn a p q) = ga_publd a := rfl
theorem aChn_pubs (a : SA) (p q : Nat) : ga_pubs (aChn a p q) = ga_pubs a := rfl
theorem aChn_since (a : SA) (p q : Nat) : ga_since (aChn a p q) = ga_since a := rfl
theorem aChn_held (a : SA) (p q : Nat) : ga_held (aChn a p q) = ga_held a := rfl
theorem aChn_rows (a : SA) (p q : Nat) : ga_rows (aChn a p q) = ga_rows a := rfl
theorem aChn_outs (a : SA) (p q : Nat) : ga_outs (aChn a p q) = ga_outs a := rfl
def aSpe (a : SA) (s : Int32) : SA := (s, ga_now a, ga_ch a, ga_coins a, ga_up a, ga_knows a, ga_base a, ga_rate a, ga_guard a, ga_status a, ga_who a, ga_latest a, ga_bal a, ga_publd a, ga_pubs a, ga_since a, ga_held a, ga_rows a, ga_outs a)
theorem aSpe_spent (a : SA) (s : Int32) : ga_spent (aSpe a s) = s := rfl
theorem aSpe_now (a : SA) (s : Int32) : ga_now (aSpe a s) = ga_now a := rfl
theorem aSpe_ch (a : SA) (s : Int32) : ga_ch (aSpe a s) = ga_ch a := rfl
theorem aSpe_coins (a : SA) (s : Int32) : ga_coins (aSpe a s) = ga_coins a := rfl
theorem aSpe_up (a : SA) (s : Int32) : ga_up (aSpe a s) = ga_up a := rfl
theorem aSpe_knows (a : SA) (s : Int32) : ga_knows (aSpe a s) = ga_knows a := rfl
theorem aSpe_base (a : SA) (s : Int32) : ga_base (aSpe a s) = ga_base a := rfl
theorem aSpe_rate (a : SA) (s : Int32) : ga_rate (aSpe a s) = ga_rate a := rfl
theorem aSpe_guard (a : SA) (s : Int32) : ga_guard (aSpe a s) = ga_guard a := rfl
theorem aSpe_status (a : SA) (s : Int32) : ga_status (aSpe a s) = ga_status a := rfl
theorem aSpe_who (a : SA) (s : Int32) : ga_who (aSpe a s) = ga_who a := rfl
theorem aSpe_latest (a : SA) (s : Int32) : ga_latest (aSpe a s) = ga_latest a := rfl
theorem aSpe_bal (a : SA) (s : Int32) : ga_bal (aSpe a s) = ga_bal a := rfl
theorem aSpe_publd (a : SA) (s : Int32) : ga_publd (aSpe a s) = ga_publd a := rfl
theorem aSpe_pubs (a : SA) (s : Int32) : ga_pubs (aSpe a s) = ga_pubs a := rfl
theorem aSpe_since (a : SA) (s : Int32) : ga_since (aSpe a s) = ga_since a := rfl
theorem aSpe_held (a : SA) (s : Int32) : ga_held (aSpe a s) = ga_held a := rfl
theorem aSpe_rows (a : SA) (s : Int32) : ga_rows (aSpe a s) = ga_rows a := rfl
theorem aSpe_outs (a : SA) (s : Int32) : ga_outs (aSpe a s) = ga_outs a := rfl
def xBeg (x : OX) (c : Nat) : OX := (gx_goal x, gx_val x, 0, un (gx_row x) c 0, un (gx_many x) c 0, gx_frm x, gx_amt x, gx_sec x, gx_xpy x, gx_born x, gx_dead x, gx_outm x, gx_least x, gx_path x, gx_xsum x)
theorem xBeg_goal (x : OX) (c : Nat) : gx_goal (xBeg x c) = gx_goal x := rfl
theorem xBeg_val (x : OX) (c : Nat) : gx_val (xBeg x c) = gx_val x := rfl
theorem xBeg_known (x : OX) (c : Nat) : gx_known (xBeg x c) = 0 := rfl
theorem xBeg_row (x : OX) (c : Nat) : gx_row (xBeg x c) = un (gx_row x) c 0 := rfl
theorem xBeg_many (x : OX) (c : Nat) : gx_many (xBeg x c) = un (gx_many x) c 0 := rfl
theorem xBeg_frm (x : OX) (c : Nat) : gx_frm (xBeg x c) = gx_frm x := rfl
theorem xBeg_amt (x : OX) (c : Nat) : gx_amt (xBeg x c) = gx_amt x := rfl
theorem xBeg_sec (x : OX) (c : Nat) : gx_sec (xBeg x c) = gx_sec x := rfl
theorem xBeg_xpy (x : OX) (c : Nat) : gx_xpy (xBeg x c) = gx_xpy x := rfl
theorem xBeg_born (x : OX) (c : Nat) : gx_born (xBeg x c) = gx_born x := rfl
theorem xBeg_dead (x : OX) (c : Nat) : gx_dead (xBeg x c) = gx_dead x := rfl
theorem xBeg_outm (x : OX) (c : Nat) : gx_outm (xBeg x c) = gx_outm x := rfl
theorem xBeg_least (x : OX) (c : Nat) : gx_least (xBeg x c) = gx_least x := rfl
theorem xBeg_path (x : OX) (c : Nat) : gx_path (xBeg x c) = gx_path x := rfl
theorem xBeg_xsum (x : OX) (c : Nat) : gx_xsum (xBeg x c) = gx_xsum x := rfl
def xAdd (x : OX) (c m s v t e b : Nat) : OX := (gx_goal x, gx_val x, 0, un (gx_row x) c (gx_row x c ||| 2 ^ m), un (gx_many x) c (m + 1), un (gx_frm x) (11 * c + m) s, un (gx_amt x) (11 * c + m) v, un (gx_sec x) (11 * c + m) t, un (gx_xpy x) (11 * c + m) e, un (gx_born x) (11 * c + m) b, un (gx_dead x) (11 * c + m) 12, gx_outm x, gx_least x, gx_path x, gx_xsum x)
theorem xAdd_goal (x : OX) (c m s v t e b : Nat) : gx_goal (xAdd x c m s v t e b) = gx_goal x := rfl
theorem xAdd_val (x : OX) (c m s v t e b : Nat) : gx_val (xAdd x c m s v t e b) = gx_val x := rfl
theorem xAdd_known (x : OX) (c m s v t e b : Nat) : gx_known (xAdd x c m s v t e b) = 0 := rfl
theorem xAdd_row (x : OX) (c m s v t e b : Nat) : gx_row (xAdd x c m s v t e b) = un (gx_row x) c (gx_row x c ||| 2 ^ m) := rfl
theorem xAdd_many (x : OX) (c m s v t e b : Nat) : gx_many (xAdd x c m s v t e b) = un (gx_many x) c (m + 1) := rfl
theorem xAdd_frm (x : OX) (c m s v t e b : Nat) : gx_frm (xAdd x c m s v t e b) = un (gx_frm x) (11 * c + m) s := rfl
theorem xAdd_amt (x : OX) (c m s v t e b : Nat) : gx_amt (xAdd x c m s v t e b) = un (gx_amt x) (11 * c + m) v := rfl
theorem xAdd_sec (x : OX) (c m s v t e b : Nat) : gx_sec (xAdd x c m s v t e b) = un (gx_sec x) (11 * c + m) t := rfl
theorem xAdd_xpy (x : OX) (c m s v t e b : Nat) : gx_xpy (xAdd x c m s v t e b) = un (gx_xpy x) (11 * c + m) e := rfl
theorem xAdd_born (x : OX) (c m s v t e b : Nat) : gx_born (xAdd x c m s v t e b) = un (gx_born x) (11 * c + m) b := rfl
theorem xAdd_dead (x : OX) (c m s v t e b : Nat) : gx_dead (xAdd x c m s v t e b) = un (gx_dead x) (11 * c + m) 12 := rfl
theorem xAdd_outm (x : OX) (c m s v t e b : Nat) : gx_outm (xAdd x c m s v t e b) = gx_outm x := rfl
theorem xAdd_least (x : OX) (c m s v t e b : Nat) : gx_least (xAdd x c m s v t e b) = gx_least x := rfl
theorem xAdd_path (x : OX) (c m s v t e b : Nat) : gx_path (xAdd x c m s v t e b) = gx_path x := rfl
theorem xAdd_xsum (x : OX) (c m s v t e b : Nat) : gx_xsum (xAdd x c m s v t e b) = gx_xsum x := rfl
def xFin (x : OX) (c i r b : Nat) : OX := (gx_goal x, gx_val x, 0, un (gx_row x) c r, gx_many x, gx_frm x, gx_amt x, gx_sec x, gx_xpy x, gx_born x, un (gx_dead x) (11 * c + i) b, gx_outm x, gx_least x, gx_path x, gx_xsum x)
theorem xFin_goal (x : OX) (c i r b : Nat) : gx_goal (xFin x c i r b) = gx_goal x := rfl
theorem xFin_val (x : OX) (c i r b : Nat) : gx_val (xFin x c i r b) = gx_val x := rfl
theorem xFin_known (x : OX) (c i r b : Nat) : gx_known (xFin x c i r b) = 0 := rfl
theorem xFin_row (x : OX) (c i r b : Nat) : gx_row (xFin x c i r b) = un (gx_row x) c r := rfl
theorem xFin_many (x : OX) (c i r b : Nat) : gx_many (xFin x c i r b) = gx_many x := rfl
theorem xFin_frm (x : OX) (c i r b : Nat) : gx_frm (xFin x c i r b) = gx_frm x := rfl
theorem xFin_amt (x : OX) (c i r b : Nat) : gx_amt (xFin x c i r b) = gx_amt x := rfl
theorem xFin_sec (x : OX) (c i r b : Nat) : gx_sec (xFin x c i r b) = gx_sec x := rfl
theorem xFin_xpy (x : OX) (c i r b : Nat) : gx_xpy (xFin x c i r b) = gx_xpy x := rfl
theorem xFin_born (x : OX) (c i r b : Nat) : gx_born (xFin x c i r b) = gx_born x := rfl
theorem xFin_dead (x : OX) (c i r b : Nat) : gx_dead (xFin x c i r b) = un (gx_dead x) (11 * c + i) b := rfl
theorem xFin_outm (x : OX) (c i r b : Nat) : gx_outm (xFin x c i r b) = gx_outm x := rfl
theorem xFin_least (x : OX) (c i r b : Nat) : gx_least (xFin x c i r b) = gx_least x := rfl
theorem xFin_path (x : OX) (c i r b : Nat) : gx_path (xFin x c i r b) = gx_path x := rfl
theorem xFin_xsum (x : OX) (c i r b : Nat) : gx_xsum (xFin x c i r b) = gx_xsum x := rfl
def xOut (x : OX) (c m : Nat) : OX := (gx_goal x, gx_val x, gx_known x, gx_row x, gx_many x, gx_frm x, gx_amt x, gx_sec x, gx_xpy x, gx_born x, gx_dead x, un (gx_outm x) c m, gx_least x, gx_path x, gx_xsum x)
theorem xOut_goal (x : OX) (c m : Nat) : gx_goal (xOut x c m) = gx_goal x := rfl
theorem xOut_val (x : OX) (c m : Nat) : gx_val (xOut x c m) = gx_val x := rfl
theorem xOut_known (x : OX) (c m : Nat) : gx_known (xOut x c m) = gx_known x := rfl
theorem xOut_row (x : OX) (c m : Nat) : gx_row (xOut x c m) = gx_row x := rfl
theorem xOut_many (x : OX) (c m : Nat) : gx_many (xOut x c m) = gx_many x := rfl
theorem xOut_frm (x : OX) (c m : Nat) : gx_frm (xOut x c m) = gx_frm x := rfl
theorem xOut_amt (x : OX) (c m : Nat) : gx_amt (xOut x c m) = gx_amt x := rfl
theorem xOut_sec (x : OX) (c m : Nat) : gx_sec (xOut x c m) = gx_sec x := rfl
theorem xOut_xpy (x : OX) (c m : Nat) : gx_xpy (xOut x c m) = gx_xpy x := rfl
theorem xOut_born (x : OX) (c m : Nat) : gx_born (xOut x c m) = gx_born x := rfl
theorem xOut_dead (x : OX) (c m : Nat) : gx_dead (xOut x c m) = gx_dead x := rfl
theorem xOut_outm (x : OX) (c m : Nat) : gx_outm (xOut x c m) = un (gx_outm x) c m := rfl
theorem xOut_least (x : OX) (c m : Nat) : gx_least (xOut x c m) = gx_least x := rfl
theorem xOut_path (x : OX) (c m : Nat) : gx_path (xOut x c m) = gx_path x := rfl
theorem xOut_xsum (x : OX) (c m : Nat) : gx_xsum (xOut x c m) = gx_xsum x := rfl
def xKno (x : OX) (k : Nat) : OX := (gx_goal x, gx_val x, k, gx_row x, gx_many x, gx_frm x, gx_amt x, gx_sec x, gx_xpy x, gx_born x, gx_dead x, gx_outm x, gx_least x, gx_path x, gx_xsum x)
theorem xKno_goal (x : OX) (k : Nat) : gx_goal (xKno x k) = gx_goal x := rfl
theorem xKno_val (x : OX) (k : Nat) : gx_val (xKno x k) = gx_val x := rfl
theorem xKno_known (x : OX) (k : Nat) : gx_known (xKno x k) = k := rfl
theorem xKno_row (x : OX) (k : Nat) : gx_row (xKno x k) = gx_row x := rfl
theorem xKno_many (x : OX) (k : Nat) : gx_many (xKno x k) = gx_many x := rfl
theorem xKno_frm (x : OX) (k : Nat) : gx_frm (xKno x k) = gx_frm x := rfl
theorem xKno_amt (x : OX) (k : Nat) : gx_amt (xKno x k) = gx_amt x := rfl
theorem xKno_sec (x : OX) (k : Nat) : gx_sec (xKno x k) = gx_sec x := rfl
theorem xKno_xpy (x : OX) (k : Nat) : gx_xpy (xKno x k) = gx_xpy x := rfl
theorem xKno_born (x : OX) (k : Nat) : gx_born (xKno x k) = gx_born x := rfl
theorem xKno_dead (x : OX) (k : Nat) : gx_dead (xKno x k) = gx_dead x := rfl
theorem xKno_outm (x : OX) (k : Nat) : gx_outm (xKno x k) = gx_outm x := rfl
theorem xKno_least (x : OX) (k : Nat) : gx_least (xKno x k) = gx_least x := rfl
theorem xKno_path (x : OX) (k : Nat) : gx_path (xKno x k) = gx_path x := rfl
theorem xKno_xsum (x : OX) (k : Nat) : gx_xsum (xKno x k) = gx_xsum x := rfl
def xTab (x : OX) (g v k : Nat) (f : Nat → Nat) : OX := (g, v, k, gx_row x, gx_many x, gx_frm x, gx_amt x, gx_sec x, gx_xpy x, gx_born x, gx_dead x, gx_outm x, f, gx_path x, gx_xsum x)
theorem xTab_goal (x : OX) (g v k : Nat) (f : Nat → Nat) : gx_goal (xTab x g v k f) = g := rfl
theorem xTab_val (x : OX) (g v k : Nat) (f : Nat → Nat) : gx_val (xTab x g v k f) = v := rfl
theorem xTab_known (x : OX) (g v k : Nat) (f : Nat → Nat) : gx_known (xTab x g v k f) = k := rfl
theorem xTab_row (x : OX) (g v k : Nat) (f : Nat → Nat) : gx_row (xTab x g v k f) = gx_row x := rfl
theorem xTab_many (x : OX) (g v k : Nat) (f : Nat → Nat) : gx_many (xTab x g v k f) = gx_many x := rfl
theorem xTab_frm (x : OX) (g v k : Nat) (f : Nat → Nat) : gx_frm (xTab x g v k f) = gx_frm x := rfl
theorem xTab_amt (x : OX) (g v k : Nat) (f : Nat → Nat) : gx_amt (xTab x g v k f) = gx_amt x := rfl
theorem xTab_sec (x : OX) (g v k : Nat) (f : Nat → Nat) : gx_sec (xTab x g v k f) = gx_sec x := rfl
theorem xTab_xpy (x : OX) (g v k : Nat) (f : Nat → Nat) : gx_xpy (xTab x g v k f) = gx_xpy x := rfl
theorem xTab_born (x : OX) (g v k : Nat) (f : Nat → Nat) : gx_born (xTab x g v k f) = gx_born x := rfl
theorem xTab_dead (x : OX) (g v k : Nat) (f : Nat → Nat) : gx_dead (xTab x g v k f) = gx_dead x := rfl
theorem xTab_outm (x : OX) (g v k : Nat) (f : Nat → Nat) : gx_outm (xTab x g v k f) = gx_outm x := rfl
theorem xTab_least (x : OX) (g v k : Nat) (f : Nat → Nat) : gx_least (xTab x g v k f) = f := rfl
theorem xTab_path (x : OX) (g v k : Nat) (f : Nat → Nat) : gx_path (xTab x g v k f) = gx_path x := rfl
theorem xTab_xsum (x : OX) (g v k : Nat) (f : Nat → Nat) : gx_xsum (xTab x g v k f) = gx_xsum x := rfl
def xWay (x : OX) (f g : Nat → Nat) : OX := (gx_goal x, gx_val x, gx_known x, gx_row x, gx_many x, gx_frm x, gx_amt x, gx_sec x, gx_xpy x, gx_born x, gx_dead x, gx_outm x, gx_least x, f, g)
theorem xWay_goal (x : OX) (f g : Nat → Nat) : gx_goal (xWay x f g) = gx_goal x := rfl
theorem xWay_val (x : OX) (f g : Nat → Nat) : gx_val (xWay x f g) = gx_val x := rfl
theorem xWay_known (x : OX) (f g : Nat → Nat) : gx_known (xWay x f g) = gx_known x := rfl
theorem xWay_row (x : OX) (f g : Nat → Nat) : gx_row (xWay x f g) = gx_row x := rfl
theorem xWay_many (x : OX) (f g : Nat → Nat) : gx_many (xWay x f g) = gx_many x := rfl
theorem xWay_frm (x : OX) (f g : Nat → Nat) : gx_frm (xWay x f g) = gx_frm x := rfl
theorem xWay_amt (x : OX) (f g : Nat → Nat) : gx_amt (xWay x f g) = gx_amt x := rfl
theorem xWay_sec (x : OX) (f g : Nat → Nat) : gx_sec (xWay x f g) = gx_sec x := rfl
theorem xWay_xpy (x : OX) (f g : Nat → Nat) : gx_xpy (xWay x f g) = gx_xpy x := rfl
theorem xWay_born (x : OX) (f g : Nat → Nat) : gx_born (xWay x f g) = gx_born x := rfl
theorem xWay_dead (x : OX) (f g : Nat → Nat) : gx_dead (xWay x f g) = gx_dead x := rfl
theorem xWay_outm (x : OX) (f g : Nat → Nat) : gx_outm (xWay x f g) = gx_outm x := rfl
theorem xWay_least (x : OX) (f g : Nat → Nat) : gx_least (xWay x f g) = gx_least x := rfl
theorem xWay_path (x : OX) (f g : Nat → Nat) : gx_path (xWay x f g) = f := rfl
theorem xWay_xsum (x : OX) (f g : Nat → Nat) : gx_xsum (xWay x f g) = g := rfl
def yBeg (y : OY) (c : Nat) : OY := (gy_len y, gy_ypub y, gy_outn y, un (gy_lks y) (12 * c) 0, gy_yf y, gy_ya y, gy_ys y, gy_ye y, gy_qf y, gy_qa y, gy_qs y, gy_qe y, gy_way y, gy_part y, gy_ysum y, gy_bst y, gy_bsm y)
theorem yBeg_len (y : OY) (c : Nat) : gy_len (yBeg y c) = gy_len y := rfl
theorem yBeg_ypub (y : OY) (c : Nat) : gy_ypub (yBeg y c) = gy_ypub y := rfl
theorem yBeg_outn (y : OY) (c : Nat) : gy_outn (yBeg y c) = gy_outn y := rfl
theorem yBeg_lks (y : OY) (c : Nat) : gy_lks (yBeg y c) = un (gy_lks y) (12 * c) 0 := rfl
theorem yBeg_yf (y : OY) (c : Nat) : gy_yf (yBeg y c) = gy_yf y := rfl
theorem yBeg_ya (y : OY) (c : Nat) : gy_ya (yBeg y c) = gy_ya y := rfl
theorem yBeg_ys (y : OY) (c : Nat) : gy_ys (yBeg y c) = gy_ys y := rfl
theorem yBeg_ye (y : OY) (c : Nat) : gy_ye (yBeg y c) = gy_ye y := rfl
theorem yBeg_qf (y : OY) (c : Nat) : gy_qf (yBeg y c) = gy_qf y := rfl
theorem yBeg_qa (y : OY) (c : Nat) : gy_qa (yBeg y c) = gy_qa y := rfl
theorem yBeg_qs (y : OY) (c : Nat) : gy_qs (yBeg y c) = gy_qs y := rfl
theorem yBeg_qe (y : OY) (c : Nat) : gy_qe (yBeg y c) = gy_qe y := rfl
theorem yBeg_way (y : OY) (c : Nat) : gy_way (yBeg y c) = gy_way y := rfl
theorem yBeg_part (y : OY) (c : Nat) : gy_part (yBeg y c) = gy_part y := rfl
theorem yBeg_ysum (y : OY) (c : Nat) : gy_ysum (yBeg y c) = gy_ysum y := rfl
theorem yBeg_bst (y : OY) (c : Nat) : gy_bst (yBeg y c) = gy_bst y := rfl
theorem yBeg_bsm (y : OY) (c : Nat) : gy_bsm (yBeg y c) = gy_bsm y := rfl
def yNew (y : OY) (n f g s e : Nat → Nat) : OY := (gy_len y, gy_ypub y, gy_outn y, n, f, g, s, e, gy_qf y, gy_qa y, gy_qs y, gy_qe y, gy_way y, gy_part y, gy_ysum y, gy_bst y, gy_bsm y)
theorem yNew_len (y : OY) (n f g s e : Nat → Nat) : gy_len (yNew y n f g s e) = gy_len y := rfl
theorem yNew_ypub (y : OY) (n f g s e : Nat → Nat) : gy_ypub (yNew y n f g s e) = gy_ypub y := rfl
theorem yNew_outn (y : OY) (n f g s e : Nat → Nat) : gy_outn (yNew y n f g s e) = gy_outn y := rfl
theorem yNew_lks (y : OY) (n f g s e : Nat → Nat) : gy_lks (yNew y n f g s e) = n := rfl
theorem yNew_yf (y : OY) (n f g s e : Nat → Nat) : gy_yf (yNew y n f g s e) = f := rfl
theorem yNew_ya (y : OY) (n f g s e : Nat → Nat) : gy_ya (yNew y n f g s e) = g := rfl
theorem yNew_ys (y : OY) (n f g s e : Nat → Nat) : gy_ys (yNew y n f g s e) = s := rfl
theorem yNew_ye (y : OY) (n f g s e : Nat → Nat) : gy_ye (yNew y n f g s e) = e := rfl
theorem yNew_qf (y : OY) (n f g s e : Nat → Nat) : gy_qf (yNew y n f g s e) = gy_qf y := rfl
theorem yNew_qa (y : OY) (n f g s e : Nat → Nat) : gy_qa (yNew y n f g s e) = gy_qa y := rfl
theorem yNew_qs (y : OY) (n f g s e : Nat → Nat) : gy_qs (yNew y n f g s e) = gy_qs y := rfl
theorem yNew_qe (y : OY) (n f g s e : Nat → Nat) : gy_qe (yNew y n f g s e) = gy_qe y := rfl
theorem yNew_way (y : OY) (n f g s e : Nat → Nat) : gy_way (yNew y n f g s e) = gy_way y := rfl
theorem yNew_part (y : OY) (n f g s e : Nat → Nat) : gy_part (yNew y n f g s e) = gy_part y := rfl
theorem yNew_ysum (y : OY) (n f g s e : Nat → Nat) : gy_ysum (yNew y n f g s e) = gy_ysum y := rfl
theorem yNew_bst (y : OY) (n f g s e : Nat → Nat) : gy_bst (yNew y n f g s e) = gy_bst y := rfl
theorem yNew_bsm (y : OY) (n f g s e : Nat → Nat) : gy_bsm (yNew y n f g s e) = gy_bsm y := rfl
def yOut (y : OY) (n f g s e : Nat → Nat) : OY := (gy_len y, gy_ypub y, n, gy_lks y, gy_yf y, gy_ya y, gy_ys y, gy_ye y, f, g, s, e, gy_way y, gy_part y, gy_ysum y, gy_bst y, gy_bsm y)
theorem yOut_len (y : OY) (n f g s e : Nat → Nat) : gy_len (yOut y n f g s e) = gy_len y := rfl
theorem yOut_ypub (y : OY) (n f g s e : Nat → Nat) : gy_ypub (yOut y n f g s e) = gy_ypub y := rfl
theorem yOut_outn (y : OY) (n f g s e : Nat → Nat) : gy_outn (yOut y n f g s e) = n := rfl
theorem yOut_lks (y : OY) (n f g s e : Nat → Nat) : gy_lks (yOut y n f g s e) = gy_lks y := rfl
theorem yOut_yf (y : OY) (n f g s e : Nat → Nat) : gy_yf (yOut y n f g s e) = gy_yf y := rfl
theorem yOut_ya (y : OY) (n f g s e : Nat → Nat) : gy_ya (yOut y n f g s e) = gy_ya y := rfl
theorem yOut_ys (y : OY) (n f g s e : Nat → Nat) : gy_ys (yOut y n f g s e) = gy_ys y := rfl
theorem yOut_ye (y : OY) (n f g s e : Nat → Nat) : gy_ye (yOut y n f g s e) = gy_ye y := rfl
theorem yOut_qf (y : OY) (n f g s e : Nat → Nat) : gy_qf (yOut y n f g s e) = f := rfl
theorem yOut_qa (y : OY) (n f g s e : Nat → Nat) : gy_qa (yOut y n f g s e) = g := rfl
theorem yOut_qs (y : OY) (n f g s e : Nat → Nat) : gy_qs (yOut y n f g s e) = s := rfl
theorem yOut_qe (y : OY) (n f g s e : Nat → Nat) : gy_qe (yOut y n f g s e) = e := rfl
theorem yOut_way (y : OY) (n f g s e : Nat → Nat) : gy_way (yOut y n f g s e) = gy_way y := rfl
theorem yOut_part (y : OY) (n f g s e : Nat → Nat) : gy_part (yOut y n f g s e) = gy_part y := rfl
theorem yOut_ysum (y : OY) (n f g s e : Nat → Nat) : gy_ysum (yOut y n f g s e) = gy_ysum y := rfl
theorem yOut_bst (y : OY) (n f g s e : Nat → Nat) : gy_bst (yOut y n f g s e) = gy_bst y := rfl
theorem yOut_bsm (y : OY) (n f g s e : Nat → Nat) : gy_bsm (yOut y n f g s e) = gy_bsm y := rfl
def yPub (y : OY) (f : Nat → Nat) : OY := (gy_len y, f, gy_outn y, gy_lks y, gy_yf y, gy_ya y, gy_ys y, gy_ye y, gy_qf y, gy_qa y, gy_qs y, gy_qe y, gy_way y, gy_part y, gy_ysum y, gy_bst y, gy_bsm y)
theorem yPub_len (y : OY) (f : Nat → Nat) : gy_len (yPub y f) = gy_len y := rfl
theorem yPub_ypub (y : OY) (f : Nat → Nat) : gy_ypub (yPub y f) = f := rfl
theorem yPub_outn (y : OY) (f : Nat → Nat) : gy_outn (yPub y f) = gy_outn y := rfl
theorem yPub_lks (y : OY) (f : Nat → Nat) : gy_lks (yPub y f) = gy_lks y := rfl
theorem yPub_yf (y : OY) (f : Nat → Nat) : gy_yf (yPub y f) = gy_yf y := rfl
theorem yPub_ya (y : OY) (f : Nat → Nat) : gy_ya (yPub y f) = gy_ya y := rfl
theorem yPub_ys (y : OY) (f : Nat → Nat) : gy_ys (yPub y f) = gy_ys y := rfl
theorem yPub_ye (y : OY) (f : Nat → Nat) : gy_ye (yPub y f) = gy_ye y := rfl
theorem yPub_qf (y : OY) (f : Nat → Nat) : gy_qf (yPub y f) = gy_qf y := rfl
theorem yPub_qa (y : OY) (f : Nat → Nat) : gy_qa (yPub y f) = gy_qa y := rfl
theorem yPub_qs (y : OY) (f : Nat → Nat) : gy_qs (yPub y f) = gy_qs y := rfl
theorem yPub_qe (y : OY) (f : Nat → Nat) : gy_qe (yPub y f) = gy_qe y := rfl
theorem yPub_way (y : OY) (f : Nat → Nat) : gy_way (yPub y f) = gy_way y := rfl
theorem yPub_part (y : OY) (f : Nat → Nat) : gy_part (yPub y f) = gy_part y := rfl
theorem yPub_ysum (y : OY) (f : Nat → Nat) : gy_ysum (yPub y f) = gy_ysum y := rfl
theorem yPub_bst (y : OY) (f : Nat → Nat) : gy_bst (yPub y f) = gy_bst y := rfl
theorem yPub_bsm (y : OY) (f : Nat → Nat) : gy_bsm (yPub y f) = gy_bsm y := rfl
def ySek (y : OY) (l : Nat) (w : Nat → Int32) (p s b m : Nat → Nat) : OY := (l, gy_ypub y, gy_outn y, gy_lks y, gy_yf y, gy_ya y, gy_ys y, gy_ye y, gy_qf y, gy_qa y, gy_qs y, gy_qe y, w, p, s, b, m)
theorem ySek_len (y : OY) (l : Nat) (w : Nat → Int32) (p s b m : Nat → Nat) : gy_len (ySek y l w p s b m) = l := rfl
theorem ySek_ypub (y : OY) (l : Nat) (w : Nat → Int32) (p s b m : Nat → Nat) : gy_ypub (ySek y l w p s b m) = gy_ypub y := rfl
theorem ySek_outn (y : OY) (l : Nat) (w : Nat → Int32) (p s b m : Nat → Nat) : gy_outn (ySek y l w p s b m) = gy_outn y := rfl
theorem ySek_lks (y : OY) (l : Nat) (w : Nat → Int32) (p s b m : Nat → Nat) : gy_lks (ySek y l w p s b m) = gy_lks y := rfl
theorem ySek_yf (y : OY) (l : Nat) (w : Nat → Int32) (p s b m : Nat → Nat) : gy_yf (ySek y l w p s b m) = gy_yf y := rfl
theorem ySek_ya (y : OY) (l : Nat) (w : Nat → Int32) (p s b m : Nat → Nat) : gy_ya (ySek y l w p s b m) = gy_ya y := rfl
theorem ySek_ys (y : OY) (l : Nat) (w : Nat → Int32) (p s b m : Nat → Nat) : gy_ys (ySek y l w p s b m) = gy_ys y := rfl
theorem ySek_ye (y : OY) (l : Nat) (w : Nat → Int32) (p s b m : Nat → Nat) : gy_ye (ySek y l w p s b m) = gy_ye y := rfl
theorem ySek_qf (y : OY) (l : Nat) (w : Nat → Int32) (p s b m : Nat → Nat) : gy_qf (ySek y l w p s b m) = gy_qf y := rfl
theorem ySek_qa (y : OY) (l : Nat) (w : Nat → Int32) (p s b m : Nat → Nat) : gy_qa (ySek y l w p s b m) = gy_qa y := rfl
theorem ySek_qs (y : OY) (l : Nat) (w : Nat → Int32) (p s b m : Nat → Nat) : gy_qs (ySek y l w p s b m) = gy_qs y := rfl
theorem ySek_qe (y : OY) (l : Nat) (w : Nat → Int32) (p s b m : Nat → Nat) : gy_qe (ySek y l w p s b m) = gy_qe y := rfl
theorem ySek_way (y : OY) (l : Nat) (w : Nat → Int32) (p s b m : Nat → Nat) : gy_way (ySek y l w p s b m) = w := rfl
theorem ySek_part (y : OY) (l : Nat) (w : Nat → Int32) (p s b m : Nat → Nat) : gy_part (ySek y l w p s b m) = p := rfl
theorem ySek_ysum (y : OY) (l : Nat) (w : Nat → Int32) (p s b m : Nat → Nat) : gy_ysum (ySek y l w p s b m) = s := rfl
theorem ySek_bst (y : OY) (l : Nat) (w : Nat → Int32) (p s b m : Nat → Nat) : gy_bst (ySek y l w p s b m) = b := rfl
theorem ySek_bsm (y : OY) (l : Nat) (w : Nat → Int32) (p s b m : Nat → Nat) : gy_bsm (ySek y l w p s b m) = m := rfl
end
section
def msk : List Nat → Nat
  | [] => 0
  | i :: l => 2 ^ i ||| msk l
theorem msk_tb : ∀ (l : List Nat) (i : Nat), (msk l).testBit i = decide (i ∈ l) := by
  intro l
  induction l with
  | nil => intro i; unfold msk; rw [Nat.zero_testBit]; exact (decide_eq_false (by intro h; cases h)).symm
  | cons j l ih =>
    intro i
    unfold msk
    rw [Nat.testBit_or, ih, Nat.testBit_two_pow]
    by_cases h : j = i
    · subst h; simp
    · have h' : ¬ i = j := fun e => h e.symm
      simp [h, h']
theorem msk_ext {l m : List Nat} (h : ∀ i, i ∈ l ↔ i ∈ m) : msk l = msk m := by
  apply Nat.eq_of_testBit_eq
  intro i
  rw [msk_tb, msk_tb]
  exact decide_eq_decide.mpr (h i)
theorem msk_snoc (l : List Nat) (m : Nat) : msk l ||| 2 ^ m = msk (l ++ [m]) := by
  apply Nat.eq_of_testBit_eq
  intro i
  rw [Nat.testBit_or, msk_tb, msk_tb, Nat.testBit_two_pow]
  by_cases h : m = i
  · subst h; simp
  · have h' : ¬ i = m := fun e => h e.symm
    simp [h, h']
theorem msk_lt {l : List Nat} {n : Nat} (h : ∀ i, i ∈ l → i < n) : msk l < 2 ^ n := by
  induction l with
  | nil => exact Nat.two_pow_pos n
  | cons j l ih =>
    unfold msk
    exact Nat.or_lt_two_pow (Nat.pow_lt_pow_right (by decide) (h j (List.mem_cons_self ..))) (ih fun i hi => h i (List.mem_cons_of_mem _ hi))
theorem msk_clr {l : List Nat} (hl : ∀ i, i ∈ l → i < 32) (i : Nat) : msk l &&& (2 ^ i ^^^ 4294967295) = msk (l.filter (fun x => decide (x ≠ i))) := by
  apply Nat.eq_of_testBit_eq
  intro j
  rw [Nat.testBit_and, Nat.testBit_xor, msk_tb, msk_tb, Nat.testBit_two_pow, show (4294967295 : Nat) = 2 ^ 32 - 1 from rfl, Nat.testBit_two_pow_sub_one]
  by_cases h : j ∈ l
  · have := hl j h
    by_cases e : i = j
    · subst e; simp [h, this]
    · have e' : ¬ j = i := fun z => e z.symm
      simp [h, this, e, e']
  · simp [h]
theorem msk_ne {i : Nat} {l : List Nat} : msk (i :: l) ≠ 0 := by
  intro e
  have := msk_tb (i :: l) i
  rw [e, Nat.zero_testBit] at this
  simp at this
theorem msk_z {l : List Nat} (h : msk l = 0) : l = [] := by
  cases l with
  | nil => rfl
  | cons i l => exact absurd h msk_ne
theorem msk_pos {i : Nat} {l : List Nat} : 0 < msk (i :: l) := Nat.pos_of_ne_zero msk_ne
/-- the lowest one goes -/
theorem msk_low {i : Nat} {l : List Nat} (h : ∀ j, j ∈ l → i < j) : msk (i :: l) &&& (msk (i :: l) - 1) = msk l := by
  have hb : ∀ j, (msk (i :: l)).testBit j = decide (j = i ∨ j ∈ l) := by
    intro j; rw [msk_tb]; exact decide_eq_decide.mpr List.mem_cons
  generalize hX : msk (i :: l) = X at hb ⊢
  have h0 : X % 2 ^ i = 0 := by
    apply Nat.eq_of_testBit_eq
    intro j
    rw [Nat.testBit_mod_two_pow, hb, Nat.zero_testBit]
    by_cases z : j < i
    · have : ¬ (j = i ∨ j ∈ l) := by
        intro y; rcases y with y | y
        · omega
        · have := h j y; omega
      simp [this]
    · simp [z]
  have h1 : X / 2 ^ i % 2 = 1 := by
    have := hb i
    rw [Nat.testBit_eq_decide_div_mod_eq] at this
    simpa using this
  obtain ⟨y, hy⟩ : ∃ y, X / 2 ^ i = 2 * y + 1 := ⟨X / 2 ^ i / 2, by omega⟩
  have hx : X = 2 ^ i * (2 * y + 1) + 0 := by
    have := Nat.div_add_mod X (2 ^ i)
    rw [h0, hy] at this
    exact this.symm
  have hp : 0 < 2 ^ i := Nat.two_pow_pos i
  have hx1 : X - 1 = 2 ^ i * (2 * y) + (2 ^ i - 1) := by
    rw [hx, Nat.mul_add, Nat.mul_one]; omega
  apply Nat.eq_of_testBit_eq
  intro j
  rw [Nat.testBit_and, msk_tb, hx1, Nat.testBit_two_pow_mul_add _ (by omega)]
  by_cases z : j < i
  · have n1 : ¬ (j = i ∨ j ∈ l) := by
      intro y; rcases y with y | y
      · omega
      · have := h j y; omega
    have n2 : ¬ j ∈ l := fun w => n1 (Or.inr w)
    rw [hb, decide_eq_false n1, decide_eq_false n2, Bool.false_and]
  · rw [if_neg z]
    by_cases e : j = i
    · subst e
      have n2 : ¬ j ∈ l := fun w => absurd (h j w) (Nat.lt_irrefl _)
      rw [decide_eq_false n2, Nat.sub_self, Nat.testBit_zero]
      have : ¬ 2 * y % 2 = 1 := by omega
      simp [this]
    · obtain ⟨m, hm⟩ : ∃ m, j - i = m + 1 := ⟨j - i - 1, by omega⟩
      have q1 : X.testBit j = y.testBit m := by
        rw [hx, Nat.testBit_two_pow_mul_add _ hp, if_neg z, hm, Nat.testBit_succ]
        congr 1; omega
      have q2 : (2 * y).testBit (j - i) = y.testBit m := by
        rw [hm, Nat.testBit_succ]; congr 1; omega
      rw [q2, ← q1, hb]
      by_cases w : j ∈ l
      · simp [w]
      · simp [w, e]
/-- sorted: each ahead of the next ones -/
def srt : List Nat → Prop
  | [] => True
  | i :: l => (∀ j, j ∈ l → i < j) ∧ srt l
theorem srt_flt (p : Nat → Bool) : ∀ l, srt l → srt (l.filter p) := by
  intro l
  induction l with
  | nil => intro _; exact trivial
  | cons i l ih =>
    intro h
    rw [List.filter_cons]
    split
    · exact ⟨fun j hj => h.1 j (List.mem_filter.mp hj).1, ih h.2⟩
    · exact ih h.2
theorem srt_app : ∀ l m, srt l → srt m → (∀ i j, i ∈ l → j ∈ m → i < j) → srt (l ++ m) := by
  intro l
  induction l with
  | nil => intro m _ h _; exact h
  | cons i l ih =>
    intro m h1 h2 h3
    refine ⟨fun j hj => ?_, ih m h1.2 h2 fun a b ha hb => h3 a b (List.mem_cons_of_mem _ ha) hb⟩
    rcases List.mem_append.mp hj with hj | hj
    · exact h1.1 j hj
    · exact h3 i j (List.mem_cons_self ..) hj
theorem srt_rng : ∀ n, srt (List.range n) := by
  intro n
  induction n with
  | zero => exact trivial
  | succ n ih =>
    rw [List.range_succ]
    refine srt_app _ _ ih ⟨fun j hj => (by cases hj), trivial⟩ fun i j hi hj => ?_
    rw [List.mem_singleton] at hj
    have := List.mem_range.mp hi
    omega
theorem srt_tl : ∀ l m, srt (l ++ m) → srt m := by
  intro l
  induction l with
  | nil => intro m h; exact h
  | cons i l ih => intro m h; exact ih m h.2
theorem srt_rm : ∀ l (i : Nat) m, srt (l ++ i :: m) → (l ++ i :: m).filter (fun x => decide (x ≠ i)) = l ++ m := by
  intro l
  induction l with
  | nil =>
    intro i m h
    rw [List.nil_append, List.filter_cons]
    simp only [ne_eq, not_true_eq_false, decide_false, Bool.false_eq_true, if_false]
    rw [List.nil_append]
    apply List.filter_eq_self.mpr
    intro a ha
    have := h.1 a ha
    exact decide_eq_true (by omega)
  | cons j l ih =>
    intro i m h
    have hj : j < i := h.1 i (List.mem_append.mpr (Or.inr (List.mem_cons_self ..)))
    rw [List.cons_append, List.filter_cons, if_pos (decide_eq_true (by omega)), ih i m h.2]
    rfl
theorem srt_rm2 {l : List Nat} {i : Nat} {m : List Nat} (h : srt (l ++ i :: m)) : srt (l ++ m) := by
  rw [← srt_rm l i m h]; exact srt_flt _ _ h
/-- the locks of X by their numbers -/
def tb (frm amt sec xpy born dead : Nat → Nat) (c i : Nat) : LK × (Nat × Nat) := ((frm (11 * c + i), amt (11 * c + i), sec (11 * c + i), xpy (11 * c + i)), (born (11 * c + i), dead (11 * c + i)))
def ids (m : Nat) (T : Nat → LK × (Nat × Nat)) (k : Nat) : List Nat := (List.range m).filter (fun i => decide ((T i).2.1 ≤ k ∧ k < (T i).2.2))
def xL (L : Nat) (rw : Nat → List LK) (row m : Nat) (T : Nat → LK × (Nat × Nat)) : Prop :=
  m ≤ L ∧ (∀ i, i < m → 1 ≤ (T i).2.1 ∧ (T i).2.1 ≤ L ∧ ((T i).2.2 ≤ L ∨ (T i).2.2 = 12)) ∧ row = msk (ids m T L) ∧ ∀ k, k ≤ L → rw k = (ids m T k).map (fun i => (T i).1)
theorem ids_srt (m : Nat) (T : Nat → LK × (Nat × Nat)) (k : Nat) : srt (ids m T k) := srt_flt _ _ (srt_rng m)
theorem ids_lt {m : Nat} {T : Nat → LK × (Nat × Nat)} {k i : Nat} (h : i ∈ ids m T k) : i < m := List.mem_range.mp (List.mem_filter.mp h).1
theorem ids_congr {m : Nat} {T T' : Nat → LK × (Nat × Nat)} {k : Nat} (h : ∀ i, i < m → (((T' i).2.1 ≤ k ∧ k < (T' i).2.2) ↔ ((T i).2.1 ≤ k ∧ k < (T i).2.2))) : ids m T' k = ids m T k := by
  unfold ids
  apply List.filter_congr
  intro i hi
  exact decide_eq_decide.mpr (h i (List.mem_range.mp hi))
theorem xL_congr {L : Nat} {rw : Nat → List LK} {row m : Nat} {T T' : Nat → LK × (Nat × Nat)} (h : ∀ i, i < m → T' i = T i) (x : xL L rw row m T) : xL L rw row m T' := by
  obtain ⟨a, b, c, d⟩ := x
  have e : ∀ k, ids m T' k = ids m T k := fun k => ids_congr fun i hi => by rw [h i hi]
  refine ⟨a, fun i hi => by rw [h i hi]; exact b i hi, by rw [e]; exact c, fun k hk => ?_⟩
  rw [d k hk, e]
  apply List.map_congr_left
  intro i hi
  rw [h i (ids_lt hi)]
theorem xL_rw {L : Nat} {rw rw' : Nat → List LK} {row m : Nat} {T : Nat → LK × (Nat × Nat)} (h : ∀ k, k ≤ L → rw' k = rw k) (x : xL L rw row m T) : xL L rw' row m T :=
  ⟨x.1, x.2.1, x.2.2.1, fun k hk => (h k hk).trans (x.2.2.2 k hk)⟩
theorem xL_beg {rw : Nat → List LK} {T : Nat → LK × (Nat × Nat)} (h : rw 0 = []) : xL 0 rw 0 0 T :=
  ⟨Nat.le_refl _, fun i hi => absurd hi (Nat.not_lt_zero _), rfl, fun k hk => by
    have e : k = 0 := by omega
    rw [e, h]; rfl⟩
theorem xL_add {L : Nat} {rw rw' : Nat → List LK} {row m : Nat} {T T' : Nat → LK × (Nat × Nat)} {lk : LK} (hL : L < 11) (x : xL L rw row m T) (h1 : ∀ i, i < m → T' i = T i) (h2 : T' m = (lk, (L + 1, 12))) (r1 : ∀ k, k ≤ L → rw' k = rw k) (r2 : rw' (L + 1) = rw L ++ [lk]) : xL (L + 1) rw' (row ||| 2 ^ m) (m + 1) T' := by
  have x' := xL_rw r1 (xL_congr h1 x)
  obtain ⟨a, b, c, d⟩ := x'
  have e1 : ∀ k, k ≤ L → ids (m + 1) T' k = ids m T' k := by
    intro k hk
    unfold ids
    rw [List.range_succ, List.filter_append, List.filter_cons, h2]
    have : ¬ (L + 1 ≤ k ∧ k < 12) := by omega
    simp [this]
  have e2 : ids (m + 1) T' (L + 1) = ids m T' L ++ [m] := by
    have : ids m T' (L + 1) = ids m T' L := by
      unfold ids
      apply List.filter_congr
      intro i hi
      have q := b i (List.mem_range.mp hi)
      exact decide_eq_decide.mpr (by omega)
    rw [← this]
    unfold ids
    rw [List.range_succ, List.filter_append, List.filter_cons, h2]
    have : L + 1 ≤ L + 1 ∧ L + 1 < 12 := by omega
    simp [this]
  refine ⟨by omega, fun i hi => ?_, ?_, fun k hk => ?_⟩
  · by_cases e : i = m
    · rw [e, h2]; exact ⟨by show 1 ≤ L + 1; omega, Nat.le_refl _, Or.inr rfl⟩
    · have q := b i (by omega); omega
  · rw [c, e2, msk_snoc]
  · by_cases e : k = L + 1
    · rw [e, r2, e2, List.map_append, ← d L (Nat.le_refl _), r1 L (Nat.le_refl _)]
      show _ ++ [lk] = _ ++ [(T' m).1]
      rw [h2]
    · rw [e1 k (by omega)]; exact d k (by omega)
theorem xL_fin {L : Nat} {rw rw' : Nat → List LK} {row m i : Nat} {T T' : Nat → LK × (Nat × Nat)} {l1 l2 : List Nat} (hL : L < 11) (x : xL L rw row m T) (hi : ids m T L = l1 ++ i :: l2) (h1 : ∀ j, j < m → j ≠ i → T' j = T j) (h2 : T' i = ((T i).1, ((T i).2.1, L + 1))) (r1 : ∀ k, k ≤ L → rw' k = rw k) (r2 : rw' (L + 1) = (l1 ++ l2).map (fun i => (T i).1)) : xL (L + 1) rw' (row &&& (2 ^ i ^^^ 4294967295)) m T' := by
  obtain ⟨a, b, c, d⟩ := x
  have im : i ∈ ids m T L := by rw [hi]; exact List.mem_append.mpr (Or.inr (List.mem_cons_self ..))
  have il := ids_lt im
  have ia : (T i).2.1 ≤ L ∧ L < (T i).2.2 := of_decide_eq_true (List.mem_filter.mp im).2
  have i12 : (T i).2.2 = 12 := by have := (b i il).2.2; omega
  have eT : ∀ j, j < m → (T' j).1 = (T j).1 := by
    intro j hj
    by_cases e : j = i
    · rw [e, h2]
    · rw [h1 j hj e]
  have e1 : ∀ k, k ≤ L → ids m T' k = ids m T k := by
    intro k hk
    apply ids_congr
    intro j hj
    by_cases e : j = i
    · rw [e, h2]
      show ((T i).2.1 ≤ k ∧ k < L + 1) ↔ _
      omega
    · rw [h1 j hj e]
  have e2 : ids m T' (L + 1) = l1 ++ l2 := by
    rw [← srt_rm l1 i l2 (by rw [← hi]; exact ids_srt _ _ _), ← hi]
    unfold ids
    rw [List.filter_filter]
    apply List.filter_congr
    intro j hj
    have hj := List.mem_range.mp hj
    by_cases e : j = i
    · rw [e, h2]
      have : ¬ (L + 1 < L + 1) := Nat.lt_irrefl _
      simp
    · rw [h1 j hj e]
      have q := b j hj
      have : ((T j).2.1 ≤ L + 1 ∧ L + 1 < (T j).2.2) ↔ ((T j).2.1 ≤ L ∧ L < (T j).2.2) := by omega
      simp [this, e]
  refine ⟨by omega, fun j hj => ?_, ?_, fun k hk => ?_⟩
  · by_cases e : j = i
    · rw [e, h2]; exact ⟨(b i il).1, by show (T i).2.1 ≤ L + 1; omega, Or.inl (Nat.le_refl _)⟩
    · rw [h1 j hj e]; have q := b j hj; omega
  · rw [c, e2, hi, msk_clr, srt_rm _ _ _ (by rw [← hi]; exact ids_srt _ _ _)]
    intro j hj
    rw [← hi] at hj
    have := ids_lt hj; omega
  · by_cases e : k = L + 1
    · rw [e, r2, e2]
      apply List.map_congr_left
      intro j hj
      refine (eT j ?_).symm
      rw [← e2] at hj
      exact ids_lt hj
    · rw [e1 k (by omega), r1 k (by omega), d k (by omega)]
      apply List.map_congr_left
      intro j hj
      exact (eT j (ids_lt hj)).symm
/-- a stretch of Y's locks -/
def lsF (F : Nat → LK) (o n : Nat) : List LK := (List.range n).map (fun j => F (o + j))
theorem lsF_len (F : Nat → LK) (o n : Nat) : (lsF F o n).length = n := by unfold lsF; rw [List.length_map, List.length_range]
theorem lsF_congr {F G : Nat → LK} {o o' n : Nat} (h : ∀ j, j < n → F (o + j) = G (o' + j)) : lsF F o n = lsF G o' n := by
  unfold lsF
  apply List.map_congr_left
  intro j hj
  exact h j (List.mem_range.mp hj)
theorem lsF_snoc {F : Nat → LK} {o n : Nat} : lsF F o (n + 1) = lsF F o n ++ [F (o + n)] := by
  unfold lsF
  rw [List.range_succ, List.map_append]
  rfl
theorem lsF_cons {F : Nat → LK} {o n : Nat} : lsF F o (n + 1) = F o :: lsF F (o + 1) n := by
  unfold lsF
  rw [List.range_succ_eq_map, List.map_cons, List.map_map]
  congr 1
  apply List.map_congr_left
  intro j _
  show F (o + (j + 1)) = F (o + 1 + j)
  rw [show o + (j + 1) = o + 1 + j by omega]
theorem lsF_app (F : Nat → LK) : ∀ n m o, lsF F o (n + m) = lsF F o n ++ lsF F (o + n) m := by
  intro n
  induction n with
  | zero => intro m o; rw [Nat.zero_add]; rfl
  | succ n ih =>
    intro m o
    rw [show n + 1 + m = (n + m) + 1 by omega, lsF_cons, lsF_cons, ih m (o + 1), show o + 1 + n = o + (n + 1) by omega]
    rfl
/-- a stretch that is two lists with one between: where that one is -/
theorem lsF_mid {F : Nat → LK} {o n : Nat} {R1 R2 : List LK} {l : LK} (h : R1 ++ l :: R2 = lsF F o n) : n = R1.length + 1 + R2.length ∧ R1 = lsF F o R1.length ∧ F (o + R1.length) = l ∧ R2 = lsF F (o + R1.length + 1) R2.length := by
  have hn : n = R1.length + 1 + R2.length := by
    have := congrArg List.length h
    rw [lsF_len, List.length_append, List.length_cons] at this
    omega
  refine ⟨hn, ?_⟩
  rw [hn, Nat.add_assoc, lsF_app, Nat.add_comm 1 R2.length, lsF_cons] at h
  have := List.append_inj h (by rw [lsF_len])
  obtain ⟨e1, e2⟩ := this
  have e3 := List.cons.inj e2
  exact ⟨e1, e3.1.symm, e3.2⟩
theorem map_mid {α β : Type} {f : α → β} {l : List α} {R1 R2 : List β} {b : β} (h : R1 ++ b :: R2 = l.map f) : ∃ l1 i l2, l = l1 ++ i :: l2 ∧ l1.map f = R1 ∧ f i = b ∧ l2.map f = R2 := by
  obtain ⟨l1, l', e1, e2, e3⟩ := List.map_eq_append_iff.mp h.symm
  obtain ⟨i, l2, e4, e5, e6⟩ := List.map_eq_cons_iff.mp e3
  exact ⟨l1, i, l2, by rw [e1, e4], e2, e5, e6⟩
/-- first of a list that has a property -/
theorem fst_or {α : Type} (p : α → Bool) : ∀ l : List α, (∀ x, x ∈ l → p x = false) ∨ ∃ R1 x R2, l = R1 ++ x :: R2 ∧ (∀ y, y ∈ R1 → p y = false) ∧ p x = true := by
  intro l
  induction l with
  | nil => exact Or.inl fun x h => by cases h
  | cons a l ih =>
    by_cases h : p a = true
    · exact Or.inr ⟨[], a, l, rfl, fun y hy => (by cases hy), h⟩
    · have h' : p a = false := by cases z : p a with
        | false => rfl
        | true => exact absurd z h
      rcases ih with ih | ⟨R1, x, R2, e, b, c⟩
      · refine Or.inl fun x hx => ?_
        rcases List.mem_cons.mp hx with rfl | hx
        · exact h'
        · exact ih x hx
      · refine Or.inr ⟨a :: R1, x, R2, by rw [e]; rfl, fun y hy => ?_, c⟩
        rcases List.mem_cons.mp hy with rfl | hy
        · exact h'
        · exact b y hy
theorem sumL_app : ∀ l m : List LK, sumL (l ++ m) = sumL l + sumL m := by
  intro l
  induction l with
  | nil => intro m; unfold sumL; exact (Nat.zero_add _).symm
  | cons a l ih => intro m; show a.2.1 + sumL (l ++ m) = (a.2.1 + sumL l) + sumL m; rw [ih]; omega
def smN (f : Nat → Nat) : Nat → Nat
  | 0 => 0
  | n + 1 => smN f n + f n
theorem smN_congr {f g : Nat → Nat} : ∀ n, (∀ i, i < n → f i = g i) → smN f n = smN g n := by
  intro n
  induction n with
  | zero => intro _; rfl
  | succ n ih => intro h; unfold smN; rw [ih fun i hi => h i (by omega), h n (by omega)]
theorem smN_ch {f g : Nat → Nat} {k : Nat} : ∀ n, k < n → (∀ i, i < n → i ≠ k → f i = g i) → smN f n + g k = smN g n + f k := by
  intro n
  induction n with
  | zero => intro h; omega
  | succ n ih =>
    intro h e
    unfold smN
    by_cases z : k = n
    · subst z
      rw [smN_congr k fun i hi => e i (by omega) (by omega)]
      omega
    · have := ih (by omega) fun i hi => e i (by omega)
      rw [e n (by omega) (fun y => z y.symm)]
      omega
theorem smN_le {f : Nat → Nat} {k : Nat} : ∀ n, k < n → f k ≤ smN f n := by
  intro n
  induction n with
  | zero => intro h; omega
  | succ n ih =>
    intro h
    unfold smN
    by_cases z : k = n
    · subst z; omega
    · have := ih (by omega); omega
theorem smN_un (f : Nat → Nat) {k x n : Nat} (h : k < n) : smN (un f k x) n + f k = smN f n + x := by
  have := smN_ch (f := un f k x) (g := f) n h fun i _ e => un_n e
  rw [un_s] at this
  exact this
end
section
def lkI (l : LK) : Prop := l.1 < 2 ∧ l.2.2.1 < 16 ∧ l.2.2.2 < 32768
def rowI (a : SA) (c k : Nat) : Prop := (ga_rows a c k).length ≤ 3 ∧ (∀ l, l ∈ ga_rows a c k → lkI l) ∧ ga_bal a (2 * (12 * c + k)) + ga_bal a (2 * (12 * c + k) + 1) + sumL (ga_rows a c k) = ga_bal a (2 * (12 * c + 0)) + ga_bal a (2 * (12 * c + 0) + 1)
def clsI (a : SA) (c : Nat) : Prop := ga_pubs a c < 2 ∧ ga_publd a c ≤ ga_latest a c ∧ ga_since a c ≤ ga_now a ∧ (ga_outs a c).length ≤ 3 ∧ ∀ l, l ∈ ga_outs a c → lkI l
def chI (a : SA) (c : Nat) : Prop := ga_status a c < 3 ∧ ga_who a (2 * c) < 6 ∧ ga_who a (2 * c + 1) < 6 ∧ ga_who a (2 * c) ≠ ga_who a (2 * c + 1) ∧ ga_latest a c < 12 ∧ ga_rows a c 0 = [] ∧ (∀ k, k ≤ ga_latest a c → rowI a c k) ∧ (ga_status a c = 1 → clsI a c)
def vf (a : SA) (c : Nat) : Nat := if ga_status a c = 0 then ga_bal a (2 * (12 * c + 0)) + ga_bal a (2 * (12 * c + 0) + 1) else if ga_status a c = 1 then ga_held a c + sumL (ga_outs a c) else 0
def Inv (T : Nat) (a : SA) : Prop := ga_ch a ≤ 8 ∧ ga_now a ≤ T ∧ (∀ p, p < 6 → ga_up a p < 2 ∧ ga_base a p < 10 ∧ ga_rate a p < 21) ∧ (∀ c, ga_ch a ≤ c → ga_status a c = 0) ∧ (∀ c, c < ga_ch a → chI a c) ∧ smN (ga_coins a) 6 + smN (vf a) (ga_ch a) = 6000
theorem rowI_congr {a a' : SA} {c k : Nat} (hb0 : ga_bal a' (2 * (12 * c + k)) = ga_bal a (2 * (12 * c + k))) (hb1 : ga_bal a' (2 * (12 * c + k) + 1) = ga_bal a (2 * (12 * c + k) + 1)) (h0 : ga_bal a' (2 * (12 * c + 0)) = ga_bal a (2 * (12 * c + 0))) (h1 : ga_bal a' (2 * (12 * c + 0) + 1) = ga_bal a (2 * (12 * c + 0) + 1)) (hr : ga_rows a' c k = ga_rows a c k) (h : rowI a c k) : rowI a' c k := by
  unfold rowI at h ⊢
  rw [hb0, hb1, h0, h1, hr]
  exact h
theorem clsI_congr {a a' : SA} {c : Nat} (h1 : ga_pubs a' c = ga_pubs a c) (h2 : ga_publd a' c = ga_publd a c) (h3 : ga_since a' c = ga_since a c) (h4 : ga_outs a' c = ga_outs a c) (h5 : ga_latest a' c = ga_latest a c) (h6 : ga_now a ≤ ga_now a') (h : clsI a c) : clsI a' c := by
  unfold clsI at h ⊢
  rw [h1, h2, h3, h4, h5]
  exact ⟨h.1, h.2.1, Nat.le_trans h.2.2.1 h6, h.2.2.2.1, h.2.2.2.2⟩
theorem chI_congr {a a' : SA} {c : Nat} (hs : ga_status a' c = ga_status a c) (hw0 : ga_who a' (2 * c) = ga_who a (2 * c)) (hw1 : ga_who a' (2 * c + 1) = ga_who a (2 * c + 1)) (hl : ga_latest a' c = ga_latest a c) (hb : ∀ k, k < 12 → ga_bal a' (2 * (12 * c + k)) = ga_bal a (2 * (12 * c + k)) ∧ ga_bal a' (2 * (12 * c + k) + 1) = ga_bal a (2 * (12 * c + k) + 1) ∧ ga_rows a' c k = ga_rows a c k)
    (hc : ga_status a c = 1 → clsI a c → clsI a' c) (h : chI a c) : chI a' c := by
  obtain ⟨i1, i2, i3, i4, i5, i6, i7, i8⟩ := h
  unfold chI
  rw [hs, hw0, hw1, hl]
  refine ⟨i1, i2, i3, i4, i5, ?_, fun k hk => ?_, fun z => hc z (i8 z)⟩
  · rw [(hb 0 (by omega)).2.2]; exact i6
  · obtain ⟨x, y, z⟩ := hb k (by omega)
    obtain ⟨x0, y0, _⟩ := hb 0 (by omega)
    exact rowI_congr x y x0 y0 z (i7 k hk)
theorem unR_s {rows : Nat → Nat → List LK} {c k : Nat} {R : List LK} : unR rows c k R c k = R := if_pos ⟨rfl, rfl⟩
theorem unR_n {rows : Nat → Nat → List LK} {c k d j : Nat} {R : List LK} (h : d ≠ c ∨ j ≠ k) : unR rows c k R d j = rows d j := if_neg (by omega)
theorem unO_s {outs : Nat → List LK} {c : Nat} {R : List LK} : unO outs c R c = R := if_pos rfl
theorem unO_n {outs : Nat → List LK} {c d : Nat} {R : List LK} (h : d ≠ c) : unO outs c R d = outs d := if_neg h
theorem inv_new {T : Nat} {a : SA} {c b0 b1 : Nat} {R : List LK} (I : Inv T a) (hc : c < ga_ch a) (hs : ga_status a c = 0) (hl : ga_latest a c < 11) (hR : R.length ≤ 3) (hR2 : ∀ l, l ∈ R → lkI l) (hm : b0 + b1 + sumL R = ga_bal a (2 * (12 * c + 0)) + ga_bal a (2 * (12 * c + 0) + 1)) : Inv T (aNew a c b0 b1 R) := by
  obtain ⟨i1, i2, i3, i4, i5, i6⟩ := I
  refine ⟨i1, i2, i3, i4, fun d hd => ?_, ?_⟩
  · have hd : d < ga_ch a := hd
    by_cases e : d = c
    · subst e
      obtain ⟨j1, j2, j3, j4, j5, j6, j7, j8⟩ := i5 d hd
      refine ⟨j1, j2, j3, j4, ?_, ?_, ?_, ?_⟩
      · rw [aNew_latest, un_s]; omega
      · rw [aNew_rows, unR_n (Or.inr (by omega))]; exact j6
      · intro k hk
        rw [aNew_latest, un_s] at hk
        by_cases z : k = ga_latest a d + 1
        · subst z
          unfold rowI
          rw [aNew_rows, unR_s, aNew_bal]
          refine ⟨hR, hR2, ?_⟩
          rw [un_n (j := 2 * (12 * d + 0)) (by omega), un_n (j := 2 * (12 * d + 0)) (by omega), un_n (j := 2 * (12 * d + 0) + 1) (by omega), un_n (j := 2 * (12 * d + 0) + 1) (by omega), un_n (j := 2 * (12 * d + (ga_latest a d + 1))) (by omega), show 2 * (12 * d + (ga_latest a d + 1)) = 2 * (12 * d + ga_latest a d) + 2 by omega, un_s, show 2 * (12 * d + ga_latest a d) + 2 + 1 = 2 * (12 * d + ga_latest a d) + 3 by omega, un_s]
          exact hm
        · refine rowI_congr ?_ ?_ ?_ ?_ ?_ (j7 k (by omega))
          · rw [aNew_bal, un_n (by omega), un_n (by omega)]
          · rw [aNew_bal, un_n (by omega), un_n (by omega)]
          · rw [aNew_bal, un_n (by omega), un_n (by omega)]
          · rw [aNew_bal, un_n (by omega), un_n (by omega)]
          · rw [aNew_rows, unR_n (Or.inr z)]
      · intro z
        rw [aNew_status, hs] at z; omega
    · refine chI_congr (a := a) rfl rfl rfl ?_ ?_ ?_ (i5 d hd)
      · rw [aNew_latest, un_n e]
      · intro k hk
        refine ⟨?_, ?_, ?_⟩
        · rw [aNew_bal, un_n (by omega), un_n (by omega)]
        · rw [aNew_bal, un_n (by omega), un_n (by omega)]
        · rw [aNew_rows, unR_n (Or.inl e)]
      · intro _ z
        exact clsI_congr (a := a) rfl rfl rfl rfl (by rw [aNew_latest, un_n e]) (Nat.le_refl _) z
  · rw [aNew_coins, aNew_ch, ← i6]
    congr 1
    apply smN_congr
    intro d hd
    unfold vf
    rw [aNew_status, aNew_held, aNew_outs, aNew_bal, un_n (j := 2 * (12 * d + 0)) (by omega), un_n (j := 2 * (12 * d + 0)) (by omega), un_n (j := 2 * (12 * d + 0) + 1) (by omega), un_n (j := 2 * (12 * d + 0) + 1) (by omega)]
/-- what changes coins, and of one channel its status, holdings and outputs -/
theorem inv_gen {T : Nat} {a a' : SA} {c : Nat} (I : Inv T a) (hc : c < ga_ch a) (e1 : ga_ch a' = ga_ch a) (e2 : ga_now a' = ga_now a) (e3 : ga_up a' = ga_up a) (e4 : ga_base a' = ga_base a) (e5 : ga_rate a' = ga_rate a) (e6 : ga_who a' = ga_who a) (e7 : ga_latest a' = ga_latest a) (e8 : ga_bal a' = ga_bal a) (e9 : ga_rows a' = ga_rows a)
    (ho : ∀ d, d ≠ c → ga_status a' d = ga_status a d ∧ ga_held a' d = ga_held a d ∧ ga_outs a' d = ga_outs a d ∧ ga_pubs a' d = ga_pubs a d ∧ ga_publd a' d = ga_publd a d ∧ ga_since a' d = ga_since a d) (h3 : ga_status a' c < 3) (hcl : ga_status a' c = 1 → clsI a' c) (hm : smN (ga_coins a') 6 + vf a' c = smN (ga_coins a) 6 + vf a c) : Inv T a' := by
  obtain ⟨i1, i2, i3, i4, i5, i6⟩ := I
  refine ⟨by rw [e1]; exact i1, by rw [e2]; exact i2, by rw [e3, e4, e5]; exact i3, ?_, fun d hd => ?_, ?_⟩
  · intro d hd
    rw [e1] at hd
    rw [(ho d (by omega)).1]; exact i4 d hd
  · rw [e1] at hd
    by_cases e : d = c
    · subst e
      obtain ⟨j1, j2, j3, j4, j5, j6, j7, j8⟩ := i5 d hd
      refine ⟨h3, by rw [e6]; exact j2, by rw [e6]; exact j3, by rw [e6]; exact j4, by rw [e7]; exact j5, by rw [e9]; exact j6, ?_, hcl⟩
      intro k hk
      rw [e7] at hk
      exact rowI_congr (by rw [e8]) (by rw [e8]) (by rw [e8]) (by rw [e8]) (by rw [e9]) (j7 k hk)
    · obtain ⟨o1, o2, o3, o4, o5, o6⟩ := ho d e
      exact chI_congr (a := a) o1 (by rw [e6]) (by rw [e6]) (by rw [e7]) (fun k _ => ⟨by rw [e8], by rw [e8], by rw [e9]⟩) (fun _ z => clsI_congr (a := a) o4 o5 o6 o3 (by rw [e7]) (by rw [e2]; exact Nat.le_refl _) z) (i5 d hd)
  · have q := smN_ch (f := vf a') (g := vf a) (k := c) (ga_ch a) hc (fun d _ e => by
      obtain ⟨o1, o2, o3, o4, o5, o6⟩ := ho d e
      unfold vf
      rw [o1, o2, o3, e8])
    rw [e1]
    omega
/-- bounds by the money -/
theorem inv_coins {T : Nat} {a : SA} (I : Inv T a) {p : Nat} (hp : p < 6) : ga_coins a p ≤ 6000 := by
  have := smN_le (f := ga_coins a) 6 hp
  have := I.2.2.2.2.2
  omega
theorem inv_vf {T : Nat} {a : SA} (I : Inv T a) {c : Nat} (hc : c < ga_ch a) : vf a c ≤ 6000 := by
  have := smN_le (f := vf a) (ga_ch a) hc
  have := I.2.2.2.2.2
  omega
theorem sumL_mem : ∀ (R : List LK) (l : LK), l ∈ R → l.2.1 ≤ sumL R := by
  intro R
  induction R with
  | nil => intro l h; cases h
  | cons a R ih =>
    intro l h
    show l.2.1 ≤ a.2.1 + sumL R
    rcases List.mem_cons.mp h with rfl | h
    · omega
    · have := ih l h; omega
theorem inv_open {T : Nat} {a : SA} (I : Inv T a) {c k : Nat} (hc : c < ga_ch a) (hs : ga_status a c = 0) (hk : k ≤ ga_latest a c) : ga_bal a (2 * (12 * c + k)) + ga_bal a (2 * (12 * c + k) + 1) + sumL (ga_rows a c k) ≤ 6000 := by
  have v := inv_vf I hc
  unfold vf at v
  rw [if_pos hs] at v
  have := ((I.2.2.2.2.1 c hc).2.2.2.2.2.2.1 k hk).2.2
  omega
theorem inv_closed {T : Nat} {a : SA} (I : Inv T a) {c : Nat} (hc : c < ga_ch a) (hs : ga_status a c = 1) : ga_held a c + sumL (ga_outs a c) ≤ 6000 := by
  have v := inv_vf I hc
  unfold vf at v
  rw [if_neg (by omega), if_pos hs] at v
  exact v
theorem inv_lrn {T : Nat} {a : SA} {p s : Nat} (I : Inv T a) : Inv T (aLrn a p s) := I
theorem inv_spe {T : Nat} {a : SA} {s : Int32} (I : Inv T a) : Inv T (aSpe a s) := I
theorem inv_T {T T' : Nat} {a : SA} (I : Inv T a) (h : T ≤ T') : Inv T' a := ⟨I.1, Nat.le_trans I.2.1 h, I.2.2⟩
theorem inv_now {T t : Nat} {a : SA} (I : Inv T a) (h : ga_now a ≤ t) : Inv t (aNow a t) := by
  obtain ⟨i1, i2, i3, i4, i5, i6⟩ := I
  refine ⟨i1, Nat.le_refl _, i3, i4, fun c hc => ?_, i6⟩
  exact chI_congr (a := a) rfl rfl rfl rfl (fun k _ => ⟨rfl, rfl, rfl⟩) (fun _ z => clsI_congr (a := a) rfl rfl rfl rfl rfl h z) (i5 c hc)
theorem inv_up {T : Nat} {a : SA} {p b : Nat} (I : Inv T a) (hb : b < 2) : Inv T (aUp a p b) := by
  obtain ⟨i1, i2, i3, i4, i5, i6⟩ := I
  refine ⟨i1, i2, fun d hd => ?_, i4, i5, i6⟩
  rw [aUp_up]
  refine ⟨?_, (i3 d hd).2⟩
  by_cases e : d = p
  · rw [e, un_s]; exact hb
  · rw [un_n e]; exact (i3 d hd).1
theorem inv_trm {T : Nat} {a : SA} {p b r : Nat} {g : Int32} (I : Inv T a) (hb : b < 10) (hr : r < 21) : Inv T (aTrm a p b r g) := by
  obtain ⟨i1, i2, i3, i4, i5, i6⟩ := I
  refine ⟨i1, i2, fun d hd => ?_, i4, i5, i6⟩
  rw [aTrm_base, aTrm_rate]
  refine ⟨(i3 d hd).1, ?_⟩
  by_cases e : d = p
  · rw [e, un_s, un_s]; exact ⟨hb, hr⟩
  · rw [un_n e, un_n e]; exact (i3 d hd).2
theorem inv_shw {T : Nat} {a : SA} {c s k : Nat} (I : Inv T a) (hc : c < ga_ch a) (hs0 : ga_status a c = 0) (hs : s < 2) (hk : k ≤ ga_latest a c) : Inv T (aShw a c s k) := by
  obtain ⟨j1, j2, j3, j4, j5, j6, j7, j8⟩ := I.2.2.2.2.1 c hc
  refine inv_gen I hc rfl rfl rfl rfl rfl rfl rfl rfl rfl (fun d e => ⟨?_, ?_, ?_, ?_, ?_, ?_⟩) ?_ ?_ ?_
  · rw [aShw_status, un_n e]
  · rw [aShw_held, un_n e]
  · rw [aShw_outs, unO_n e]
  · rw [aShw_pubs, un_n e]
  · rw [aShw_publd, un_n e]
  · rw [aShw_since, un_n e]
  · rw [aShw_status, un_s]; omega
  · intro _
    refine ⟨?_, ?_, ?_, ?_, ?_⟩
    · rw [aShw_pubs, un_s]; exact hs
    · rw [aShw_publd, un_s]; exact hk
    · rw [aShw_since, un_s]; exact Nat.le_refl _
    · rw [aShw_outs, unO_s]; exact (j7 k hk).1
    · rw [aShw_outs, unO_s]; exact (j7 k hk).2.1
  · have w : ga_who a (2 * c + 1 - s) < 6 := by
      rcases (show s = 0 ∨ s = 1 by omega) with rfl | rfl
      · exact j3
      · exact j2
    have q := smN_un (ga_coins a) (x := ga_coins a (ga_who a (2 * c + 1 - s)) + ga_bal a (2 * (12 * c + k) + 1 - s)) w
    have t := (j7 k hk).2.2
    unfold vf
    rw [aShw_coins, aShw_status, un_s, aShw_held, un_s, aShw_outs, unO_s, hs0]
    simp only [Nat.one_ne_zero, if_false, if_true]
    rcases (show s = 0 ∨ s = 1 by omega) with rfl | rfl
    · simp only [Nat.sub_zero, Nat.add_zero] at q t ⊢
      omega
    · simp only [Nat.add_sub_cancel, Nat.add_zero] at q t ⊢
      omega
theorem inv_cls {T : Nat} {a : SA} {c : Nat} (I : Inv T a) (hc : c < ga_ch a) (hs0 : ga_status a c = 0) (hr : ga_rows a c (ga_latest a c) = []) : Inv T (aSta (aCoi a (un (un (ga_coins a) (ga_who a (2 * c)) (ga_coins a (ga_who a (2 * c)) + ga_bal a (2 * (12 * c + ga_latest a c)))) (ga_who a (2 * c + 1)) (ga_coins a (ga_who a (2 * c + 1)) + ga_bal a (2 * (12 * c + ga_latest a c) + 1)))) c 2) := by
  obtain ⟨j1, j2, j3, j4, j5, j6, j7, j8⟩ := I.2.2.2.2.1 c hc
  refine inv_gen I hc rfl rfl rfl rfl rfl rfl rfl rfl rfl (fun d e => ⟨?_, rfl, rfl, rfl, rfl, rfl⟩) ?_ ?_ ?_
  · rw [aSta_status, un_n e]; rfl
  · rw [aSta_status, un_s]; omega
  · rw [aSta_status, un_s]; intro z; omega
  · have q := smN_un (ga_coins a) (x := ga_coins a (ga_who a (2 * c)) + ga_bal a (2 * (12 * c + ga_latest a c))) j2
    have q2 := smN_un (un (ga_coins a) (ga_who a (2 * c)) (ga_coins a (ga_who a (2 * c)) + ga_bal a (2 * (12 * c + ga_latest a c)))) (x := ga_coins a (ga_who a (2 * c + 1)) + ga_bal a (2 * (12 * c + ga_latest a c) + 1)) j3
    rw [un_n (fun e => j4 e.symm)] at q2
    have t := (j7 _ (Nat.le_refl _)).2.2
    rw [hr] at t
    unfold vf
    rw [aSta_coins, aCoi_coins, aSta_status, un_s, hs0]
    simp only [sumL, Nat.add_zero] at t ⊢
    simp only [show ¬ (2 : Nat) = 0 by omega, show ¬ (2 : Nat) = 1 by omega, if_false, if_true]
    omega
theorem inv_beg {T : Nat} {a : SA} {c b0 b1 : Nat} (i1 : ga_ch a ≤ 8) (i2 : ga_now a ≤ T) (i3 : ∀ p, p < 6 → ga_up a p < 2 ∧ ga_base a p < 10 ∧ ga_rate a p < 21) (i4 : ∀ d, ga_ch a ≤ d → ga_status a d = 0) (i5 : ∀ d, d < ga_ch a → d ≠ c → chI a d) (hs0 : ga_status a c = 0) (hw0 : ga_who a (2 * c) < 6) (hw1 : ga_who a (2 * c + 1) < 6) (hw : ga_who a (2 * c) ≠ ga_who a (2 * c + 1)) (i6 : smN (ga_coins a) 6 + smN (fun d => if d = c then b0 + b1 else vf a d) (ga_ch a) = 6000) : Inv T (aBeg a c b0 b1) := by
  refine ⟨i1, i2, i3, i4, fun d hd => ?_, ?_⟩
  · have hd : d < ga_ch a := hd
    by_cases e : d = c
    · subst e
      refine ⟨by rw [aBeg_status, hs0]; omega, hw0, hw1, hw, ?_, ?_, ?_, ?_⟩
      · rw [aBeg_latest, un_s]; omega
      · rw [aBeg_rows, unR_s]
      · intro k hk
        rw [aBeg_latest, un_s] at hk
        have : k = 0 := by omega
        subst this
        unfold rowI
        rw [aBeg_rows, unR_s]
        exact ⟨by simp, fun l hl => (by cases hl), by simp only [sumL, Nat.add_zero]⟩
      · intro z
        rw [aBeg_status, hs0] at z; omega
    · refine chI_congr (a := a) rfl rfl rfl ?_ ?_ ?_ (i5 d hd e)
      · rw [aBeg_latest, un_n e]
      · intro k hk
        refine ⟨?_, ?_, ?_⟩
        · rw [aBeg_bal, un_n (by omega), un_n (by omega)]
        · rw [aBeg_bal, un_n (by omega), un_n (by omega)]
        · rw [aBeg_rows, unR_n (Or.inl e)]
      · intro _ z
        exact clsI_congr (a := a) rfl rfl rfl rfl (by rw [aBeg_latest, un_n e]) (Nat.le_refl _) z
  · rw [aBeg_coins, aBeg_ch, ← i6]
    congr 1
    apply smN_congr
    intro d hd
    show vf (aBeg a c b0 b1) d = if d = c then b0 + b1 else vf a d
    unfold vf
    rw [aBeg_status, aBeg_held, aBeg_outs, aBeg_bal]
    by_cases e : d = c
    · subst e
      rw [if_pos rfl, if_pos hs0, un_n (j := 2 * (12 * d + 0)) (by omega), un_s, un_s]
    · rw [if_neg e, un_n (j := 2 * (12 * d + 0)) (by omega), un_n (j := 2 * (12 * d + 0)) (by omega), un_n (j := 2 * (12 * d + 0) + 1) (by omega), un_n (j := 2 * (12 * d + 0) + 1) (by omega)]
theorem inv_tak {T : Nat} {a : SA} {c p : Nat} {R1 R2 : List LK} {l : LK} (I : Inv T a) (hc : c < ga_ch a) (hs : ga_status a c = 1) (ho : ga_outs a c = R1 ++ l :: R2) : Inv T (aHel (aOut a c (R1 ++ R2)) c (ga_held a c + l.2.1)) ∧ (p < 6 → Inv T (aCoi (aOut a c (R1 ++ R2)) (un (ga_coins a) p (ga_coins a p + l.2.1)))) := by
  obtain ⟨j1, j2, j3, j4, j5, j6, j7, j8⟩ := I.2.2.2.2.1 c hc
  obtain ⟨k1, k2, k3, k4, k5⟩ := j8 hs
  have hlen : (R1 ++ R2).length ≤ 3 := by
    rw [ho] at k4
    rw [List.length_append, List.length_cons] at k4
    rw [List.length_append]; omega
  have hmem : ∀ x, x ∈ R1 ++ R2 → lkI x := by
    intro x hx
    refine k5 x ?_
    rw [ho]
    rcases List.mem_append.mp hx with hx | hx
    · exact List.mem_append.mpr (Or.inl hx)
    · exact List.mem_append.mpr (Or.inr (List.mem_cons_of_mem _ hx))
  have hsum : sumL (ga_outs a c) = sumL (R1 ++ R2) + l.2.1 := by
    rw [ho, sumL_app, sumL_app]
    show sumL R1 + (l.2.1 + sumL R2) = _
    omega
  constructor
  · refine inv_gen I hc rfl rfl rfl rfl rfl rfl rfl rfl rfl (fun d e => ⟨rfl, ?_, ?_, rfl, rfl, rfl⟩) j1 ?_ ?_
    · rw [aHel_held, un_n e]; rfl
    · rw [aHel_outs, aOut_outs, unO_n e]
    · intro _
      refine ⟨k1, k2, k3, ?_, ?_⟩
      · rw [aHel_outs, aOut_outs, unO_s]; exact hlen
      · rw [aHel_outs, aOut_outs, unO_s]; exact hmem
    · unfold vf
      rw [aHel_coins, aOut_coins, aHel_status, aOut_status, aHel_held, un_s, aHel_outs, aOut_outs, unO_s, hs]
      simp only [show ¬ (1 : Nat) = 0 by omega, if_false, if_true]
      omega
  · intro hp
    refine inv_gen I hc rfl rfl rfl rfl rfl rfl rfl rfl rfl (fun d e => ⟨rfl, rfl, ?_, rfl, rfl, rfl⟩) j1 ?_ ?_
    · rw [aCoi_outs, aOut_outs, unO_n e]
    · intro _
      refine ⟨k1, k2, k3, ?_, ?_⟩
      · rw [aCoi_outs, aOut_outs, unO_s]; exact hlen
      · rw [aCoi_outs, aOut_outs, unO_s]; exact hmem
    · have q := smN_un (ga_coins a) (x := ga_coins a p + l.2.1) hp
      unfold vf
      rw [aCoi_coins, aCoi_status, aOut_status, aCoi_held, aOut_held, aCoi_outs, aOut_outs, unO_s, hs]
      simp only [show ¬ (1 : Nat) = 0 by omega, if_false, if_true]
      omega
theorem inv_hld {T : Nat} {a : SA} {c p : Nat} (I : Inv T a) (hc : c < ga_ch a) (hs : ga_status a c = 1) (hp : p < 6) : Inv T (aHel (aCoi a (un (ga_coins a) p (ga_coins a p + ga_held a c))) c 0) := by
  obtain ⟨j1, j2, j3, j4, j5, j6, j7, j8⟩ := I.2.2.2.2.1 c hc
  refine inv_gen I hc rfl rfl rfl rfl rfl rfl rfl rfl rfl (fun d e => ⟨rfl, ?_, rfl, rfl, rfl, rfl⟩) j1 j8 ?_
  · rw [aHel_held, un_n e]; rfl
  · have q := smN_un (ga_coins a) (x := ga_coins a p + ga_held a c) hp
    unfold vf
    rw [aHel_coins, aCoi_coins, aHel_status, aCoi_status, aHel_held, un_s, aHel_outs, aCoi_outs, hs]
    simp only [show ¬ (1 : Nat) = 0 by omega, if_false, if_true]
    omega
theorem inv_pun {T : Nat} {a : SA} {c p : Nat} (I : Inv T a) (hc : c < ga_ch a) (hs : ga_status a c = 1) (hp : p < 6) : Inv T (aOut (aHel (aCoi a (un (ga_coins a) p (ga_coins a p + (ga_held a c + sumL (ga_outs a c))))) c 0) c []) := by
  obtain ⟨j1, j2, j3, j4, j5, j6, j7, j8⟩ := I.2.2.2.2.1 c hc
  obtain ⟨k1, k2, k3, k4, k5⟩ := j8 hs
  refine inv_gen I hc rfl rfl rfl rfl rfl rfl rfl rfl rfl (fun d e => ⟨rfl, ?_, ?_, rfl, rfl, rfl⟩) j1 ?_ ?_
  · rw [aOut_held, aHel_held, un_n e]; rfl
  · rw [aOut_outs, unO_n e]; rfl
  · intro _
    refine ⟨k1, k2, k3, ?_, ?_⟩
    · rw [aOut_outs, unO_s]; simp
    · rw [aOut_outs, unO_s]; intro l hl; cases hl
  · have q := smN_un (ga_coins a) (x := ga_coins a p + (ga_held a c + sumL (ga_outs a c))) hp
    unfold vf
    rw [aOut_coins, aHel_coins, aCoi_coins, aOut_status, aHel_status, aCoi_status, aOut_held, aHel_held, un_s, aOut_outs, unO_s, hs]
    simp only [show ¬ (1 : Nat) = 0 by omega, if_false, if_true, sumL]
    omega
theorem inv_fee {T : Nat} {a : SA} {c p q f : Nat} (I : Inv T a) (hc : c < ga_ch a) (hp : p < 6) (hq : q < 6) (hpq : p ≠ q) (hf : f ≤ ga_coins a q) : Inv T (aCoi a (un (un (ga_coins a) q (ga_coins a q - f)) p (ga_coins a p + f))) := by
  obtain ⟨j1, j2, j3, j4, j5, j6, j7, j8⟩ := I.2.2.2.2.1 c hc
  refine inv_gen I hc rfl rfl rfl rfl rfl rfl rfl rfl rfl (fun d e => ⟨rfl, rfl, rfl, rfl, rfl, rfl⟩) j1 j8 ?_
  have q1 := smN_un (ga_coins a) (x := ga_coins a q - f) hq
  have q2 := smN_un (un (ga_coins a) q (ga_coins a q - f)) (x := ga_coins a p + f) hp
  rw [un_n hpq] at q2
  show smN (un (un (ga_coins a) q (ga_coins a q - f)) p (ga_coins a p + f)) 6 + vf a c = _
  omega
end
section
section
variable {spent : Int32} {now ch goal val known : Nat} {coins up base rate status who latest row bal many frm amt sec xpy born dead publd pubs since held outm least path xsum : Nat → Nat} {knows guard : Nat → Int32}
theorem msk_0 : msk [] = 0 := rfl
theorem un_o0 (f : Nat → Nat) (p r a b x : Nat) (h : r ≠ p) : un (un (un f p a) r b) p x = un (un f p x) r b := by
  funext j
  by_cases h1 : j = p
  · subst h1; rw [un_s, un_n (fun e => h e.symm), un_s]
  · rw [un_n h1]
    by_cases h2 : j = r
    · subst h2; rw [un_s, un_s]
    · rw [un_n h2, un_n h2, un_n h1, un_n h1]
theorem un_o1 (f : Nat → Nat) (r b x : Nat) : un (un f r b) r x = un f r x := by
  funext j
  by_cases h1 : j = r
  · subst h1; rw [un_s, un_s]
  · rw [un_n h1, un_n h1, un_n h1]
theorem m_lt {l : List Nat} (h : ∀ i, i ∈ l → i < 11) : msk l < 2048 := msk_lt (n := 11) h
theorem m_sub {x : Nat} (h : 0 < x) : nI x &&& (nI x - nI 1) = nI (x &&& (x - 1)) := by rw [pk_sub h, nx_and]
theorem m_low {i : Nat} {l : List Nat} (h : ∀ j, j ∈ l → i < j) : nI (msk (i :: l)) &&& nI (msk (i :: l) - 1) = nI (msk l) := by rw [nx_and, msk_low h]
theorem ba_clr {r i : Nat} (h : i < 31) : nI r &&& ((nI 1 <<< (nI i &&& nI 31)) ^^^ -nI 1) = nI (r &&& (2 ^ i ^^^ 4294967295)) := by rw [ba_shl h, ba_n1, nx_xor, nx_and]
theorem xw_bits4 {post : Int32 → Prop} : ∀ (l : List Nat) (n m : Nat), srt l → (∀ i, i ∈ l → i < 11) → (wX_bits_4 post n (nI m) (nI (msk l)) ↔ (l.length < n ∧ post (nI (m + l.length)))) := by
  intro l
  induction l with
  | nil =>
    intro n m _ _
    cases n with
    | zero => simp only [wX_bits_4, Nat.not_lt_zero, false_and]
    | succ n => simp (disch := omega) only [wX_bits_4, msk_0, List.length_nil, Nat.add_zero, Nat.zero_lt_succ, li_0, li_1, li_2, li_3, li_4, li_5, li_6, li_7, li_8, li_9, li_10, li_11, li_12, li_15, li_16, li_20, li_21, li_24, li_31, li_36, li_100, li_255, li_256, li_1000, li_6000, li_M, un_s, un_n, ba_ap, ba_upd, ba_in, cT_le, cF_le, cT_lt, cF_lt, cT_eq, cF_eq, nb_1, nb_2, ns_1, ns_2, nz_1, nz_2, ng_1, ng_2, ng_3, ng_4, ng_5, nI_clamp, nI_add, pk_mul, pk_sub, forall_eq, true_and, and_true, true_imp_iff, false_imp_iff, not_true_eq_false, not_false_eq_true, implies_true]
  | cons i l ih =>
    intro n m hs hl
    have hl' : ∀ j, j ∈ l → j < 11 := fun j hj => hl j (List.mem_cons_of_mem _ hj)
    have h0 := msk_pos (i := i) (l := l)
    have h1 := m_lt hl
    cases n with
    | zero => simp only [wX_bits_4, Nat.not_lt_zero, false_and]
    | succ n =>
      simp (disch := omega) only [wX_bits_4, m_low hs.1, li_0, li_1, li_2, li_3, li_4, li_5, li_6, li_7, li_8, li_9, li_10, li_11, li_12, li_15, li_16, li_20, li_21, li_24, li_31, li_36, li_100, li_255, li_256, li_1000, li_6000, li_M, un_s, un_n, ba_ap, ba_upd, ba_in, cT_le, cF_le, cT_lt, cF_lt, cT_eq, cF_eq, nb_1, nb_2, ns_1, ns_2, nz_1, nz_2, ng_1, ng_2, ng_3, ng_4, ng_5, nI_clamp, nI_add, pk_mul, pk_sub, forall_eq, true_and, and_true, true_imp_iff, false_imp_iff, not_true_eq_false, not_false_eq_true, implies_true]
      rw [ih n (m + 1) hs.2 hl', List.length_cons, show m + 1 + l.length = m + (l.length + 1) by omega]
      exact and_congr_left fun _ => by omega
theorem xw_bits {post : Int32 → Prop} {l : List Nat} (hs : srt l) (hl : ∀ i, i ∈ l → i < 11) : wpX_bits post (nI (msk l)) = post (nI l.length) := by
  apply propext
  unfold wpX_bits
  constructor
  · intro ⟨n, h⟩
    rw [li_0, xw_bits4 l n 0 hs hl, Nat.zero_add] at h
    exact h.2
  · intro h
    refine ⟨l.length + 1, ?_⟩
    rw [li_0, xw_bits4 l _ 0 hs hl, Nat.zero_add]
    exact ⟨by omega, h⟩
theorem m_bit (X k : Nat) : X / 2 ^ k % 2 = if X.testBit k = true then 1 else 0 := by
  rw [Nat.testBit_eq_decide_div_mod_eq]
  by_cases h : X / 2 ^ k % 2 = 1
  · simp [h]
  · simp [h]; omega
theorem xw_nth33 {post : Int32 → Prop} {i : Nat} {l : List Nat} (hs : srt (i :: l)) (hl : ∀ j, j ∈ i :: l → j < 11) : ∀ n k, k ≤ i → (wX_nth_33 post (nI (msk (i :: l))) n (nI k) ↔ (i - k < n ∧ post (nI i))) := by
  have h1 := m_lt hl
  have hi : i < 11 := hl i (List.mem_cons_self ..)
  intro n
  induction n with
  | zero => intro k _; simp only [wX_nth_33, Nat.not_lt_zero, false_and]
  | succ n ih =>
    intro k hk
    by_cases e : k = i
    · subst e
      have b : msk (k :: l) / 2 ^ k % 2 = 1 := by rw [m_bit, msk_tb]; simp
      simp (disch := omega) only [wX_nth_33, ba_shr, ba_a1, b, li_0, li_1, li_2, li_3, li_4, li_5, li_6, li_7, li_8, li_9, li_10, li_11, li_12, li_15, li_16, li_20, li_21, li_24, li_31, li_36, li_100, li_255, li_256, li_1000, li_6000, li_M, un_s, un_n, ba_ap, ba_upd, ba_in, cT_le, cF_le, cT_lt, cF_lt, cT_eq, cF_eq, nb_1, nb_2, ns_1, ns_2, nz_1, nz_2, ng_1, ng_2, ng_3, ng_4, ng_5, nI_clamp, nI_add, pk_mul, pk_sub, forall_eq, true_and, and_true, true_imp_iff, false_imp_iff, not_true_eq_false, not_false_eq_true, implies_true]
      rw [Nat.sub_self]
      exact ⟨fun h => ⟨Nat.succ_pos n, h⟩, fun h => h.2⟩
    · have nk : ¬ k ∈ i :: l := by
        intro h
        rcases List.mem_cons.mp h with h | h
        · exact e h
        · have := hs.1 k h; omega
      have b : msk (i :: l) / 2 ^ k % 2 = 0 := by rw [m_bit, msk_tb, decide_eq_false nk]; rfl
      simp (disch := omega) only [wX_nth_33, ba_shr, ba_a1, b, li_0, li_1, li_2, li_3, li_4, li_5, li_6, li_7, li_8, li_9, li_10, li_11, li_12, li_15, li_16, li_20, li_21, li_24, li_31, li_36, li_100, li_255, li_256, li_1000, li_6000, li_M, un_s, un_n, ba_ap, ba_upd, ba_in, cT_le, cF_le, cT_lt, cF_lt, cT_eq, cF_eq, nb_1, nb_2, ns_1, ns_2, nz_1, nz_2, ng_1, ng_2, ng_3, ng_4, ng_5, nI_clamp, nI_add, pk_mul, pk_sub, forall_eq, true_and, and_true, true_imp_iff, false_imp_iff, not_true_eq_false, not_false_eq_true, implies_true]
      rw [ih (k + 1) (by omega)]
      exact and_congr_left fun _ => by omega
theorem xw_nth25 {post : Int32 → Prop} {i : Nat} {l : List Nat} (hs : srt (i :: l)) (hl : ∀ j, j ∈ i :: l → j < 11) : wX_nth_25 post (nI (msk (i :: l))) = post (nI i) := by
  have h0 := msk_pos (i := i) (l := l)
  have h1 := m_lt hl
  simp (disch := omega) only [wX_nth_25, li_0, li_1, li_2, li_3, li_4, li_5, li_6, li_7, li_8, li_9, li_10, li_11, li_12, li_15, li_16, li_20, li_21, li_24, li_31, li_36, li_100, li_255, li_256, li_1000, li_6000, li_M, un_s, un_n, ba_ap, ba_upd, ba_in, cT_le, cF_le, cT_lt, cF_lt, cT_eq, cF_eq, nb_1, nb_2, ns_1, ns_2, nz_1, nz_2, ng_1, ng_2, ng_3, ng_4, ng_5, nI_clamp, nI_add, pk_mul, pk_sub, forall_eq, true_and, and_true, true_imp_iff, false_imp_iff, not_true_eq_false, not_false_eq_true, implies_true]
  apply propext
  constructor
  · intro ⟨n, h⟩
    rw [xw_nth33 hs hl n 0 (Nat.zero_le _)] at h
    exact h.2
  · intro h
    exact ⟨i + 1, (xw_nth33 hs hl _ 0 (Nat.zero_le _)).mpr ⟨by omega, h⟩⟩
theorem xw_nth25n {post : Int32 → Prop} : wX_nth_25 post (nI (msk [])) = post (-nI 1) := by
  simp (disch := omega) only [wX_nth_25, msk_0, li_0, li_1, li_2, li_3, li_4, li_5, li_6, li_7, li_8, li_9, li_10, li_11, li_12, li_15, li_16, li_20, li_21, li_24, li_31, li_36, li_100, li_255, li_256, li_1000, li_6000, li_M, un_s, un_n, ba_ap, ba_upd, ba_in, cT_le, cF_le, cT_lt, cF_lt, cT_eq, cF_eq, nb_1, nb_2, ns_1, ns_2, nz_1, nz_2, ng_1, ng_2, ng_3, ng_4, ng_5, nI_clamp, nI_add, pk_mul, pk_sub, forall_eq, true_and, and_true, true_imp_iff, false_imp_iff, not_true_eq_false, not_false_eq_true, implies_true]
theorem xw_nth4 {post : Int32 → Prop} {j : Nat} (hj : j < 2 ^ 31) : ∀ n (l : List Nat) k, k < 2 ^ 31 → srt l → (∀ i, i ∈ l → i < 11) → (wX_nth_4 post (nI j) n (nI (msk l)) (nI k) ↔ ((j - k < n ∨ l.length < n) ∧ wX_nth_25 post (nI (msk (l.drop (j - k)))))) := by
  intro n
  induction n with
  | zero => intro l k _ _ _; simp only [wX_nth_4, Nat.not_lt_zero, or_self, false_and]
  | succ n ih =>
    intro l k hk hs hl
    by_cases h : j ≤ k
    · have e : j - k = 0 := by omega
      rw [e, List.drop_zero]
      simp (disch := omega) only [wX_nth_4, li_0, li_1, li_2, li_3, li_4, li_5, li_6, li_7, li_8, li_9, li_10, li_11, li_12, li_15, li_16, li_20, li_21, li_24, li_31, li_36, li_100, li_255, li_256, li_1000, li_6000, li_M, un_s, un_n, ba_ap, ba_upd, ba_in, cT_le, cF_le, cT_lt, cF_lt, cT_eq, cF_eq, nb_1, nb_2, ns_1, ns_2, nz_1, nz_2, ng_1, ng_2, ng_3, ng_4, ng_5, nI_clamp, nI_add, pk_mul, pk_sub, forall_eq, true_and, and_true, true_imp_iff, false_imp_iff, not_true_eq_false, not_false_eq_true, implies_true]
      exact ⟨fun x => ⟨Or.inl (Nat.succ_pos n), x⟩, fun x => x.2⟩
    · cases l with
      | nil =>
        rw [List.drop_nil]
        simp (disch := omega) only [wX_nth_4, msk_0, li_0, li_1, li_2, li_3, li_4, li_5, li_6, li_7, li_8, li_9, li_10, li_11, li_12, li_15, li_16, li_20, li_21, li_24, li_31, li_36, li_100, li_255, li_256, li_1000, li_6000, li_M, un_s, un_n, ba_ap, ba_upd, ba_in, cT_le, cF_le, cT_lt, cF_lt, cT_eq, cF_eq, nb_1, nb_2, ns_1, ns_2, nz_1, nz_2, ng_1, ng_2, ng_3, ng_4, ng_5, nI_clamp, nI_add, pk_mul, pk_sub, forall_eq, true_and, and_true, true_imp_iff, false_imp_iff, not_true_eq_false, not_false_eq_true, implies_true]
        exact ⟨fun x => ⟨Or.inr (Nat.succ_pos n), x⟩, fun x => x.2⟩
      | cons i l =>
        have h0 := msk_pos (i := i) (l := l)
        have h1 := m_lt hl
        simp (disch := omega) only [wX_nth_4, m_low hs.1, li_0, li_1, li_2, li_3, li_4, li_5, li_6, li_7, li_8, li_9, li_10, li_11, li_12, li_15, li_16, li_20, li_21, li_24, li_31, li_36, li_100, li_255, li_256, li_1000, li_6000, li_M, un_s, un_n, ba_ap, ba_upd, ba_in, cT_le, cF_le, cT_lt, cF_lt, cT_eq, cF_eq, nb_1, nb_2, ns_1, ns_2, nz_1, nz_2, ng_1, ng_2, ng_3, ng_4, ng_5, nI_clamp, nI_add, pk_mul, pk_sub, forall_eq, true_and, and_true, true_imp_iff, false_imp_iff, not_true_eq_false, not_false_eq_true, implies_true]
        rw [ih l (k + 1) (by omega) hs.2 (fun x hx => hl x (List.mem_cons_of_mem _ hx)), show j - k = (j - (k + 1)) + 1 by omega, List.drop_succ_cons, List.length_cons]
        exact and_congr_left fun _ => by omega
def nthI (l : List Nat) (j : Nat) : Int32 := match l[j]? with
  | none => -nI 1
  | some i => nI i
theorem srt_drop : ∀ (n : Nat) (l : List Nat), srt l → srt (l.drop n) := by
  intro n
  induction n with
  | zero => intro l h; exact h
  | succ n ih =>
    intro l h
    cases l with
    | nil => exact trivial
    | cons i l => exact ih l h.2
theorem xw_nth {post : Int32 → Prop} {l : List Nat} {j : Nat} (hj : j < 2 ^ 31) (hs : srt l) (hl : ∀ i, i ∈ l → i < 11) : wpX_nth post (nI (msk l)) (nI j) = post (nthI l j) := by
  have e : wX_nth_25 post (nI (msk (l.drop j))) = post (nthI l j) := by
    have hs' := srt_drop j l hs
    have hl' : ∀ i, i ∈ l.drop j → i < 11 := fun i hi => hl i (List.mem_of_mem_drop hi)
    have g : (l.drop j)[0]? = l[j]? := by rw [List.getElem?_drop, Nat.add_zero]
    unfold nthI
    rw [← g]
    cases z : l.drop j with
    | nil => exact xw_nth25n
    | cons i m => rw [z] at hs' hl'; exact xw_nth25 hs' hl'
  apply propext
  unfold wpX_nth
  constructor
  · intro ⟨n, h⟩
    rw [li_0, xw_nth4 hj n l 0 (by omega) hs hl, Nat.sub_zero, e] at h
    exact h.2
  · intro h
    refine ⟨j + 1, ?_⟩
    rw [li_0, xw_nth4 hj _ l 0 (by omega) hs hl, Nat.sub_zero, e]
    exact ⟨Or.inl (by omega), h⟩
theorem xw_nth0 {post : Int32 → Prop} {i : Nat} {l : List Nat} (hs : srt (i :: l)) (hl : ∀ j, j ∈ i :: l → j < 11) : wpX_nth post (nI (msk (i :: l))) (nI 0) = post (nI i) := xw_nth (by decide) hs hl
theorem xw_rowOf5 {post : Int32 → Prop} {c k : Nat} (hc : c < 8) (hk : k < 12) (hm : many c ≤ 11) (hb : ∀ i, i < many c → born (11 * c + i) ≤ 12 ∧ dead (11 * c + i) ≤ 12) : ∀ d i, i + d = many c → ∀ n, (wX_rowOf_5 post (nI c) (nI k) spent (nI now) (nI ch) (nI goal) (nI val) (nI known) (cN coins) (cN up) knows (cN base) (cN rate) guard (cN status) (cN who) (cN latest) (cN row) (cN bal) (cN many) (cN frm) (cN amt) (cN sec) (cN xpy) (cN born) (cN dead) (cN publd) (cN pubs) (cN since) (cN held) (cN outm) (cN least) (cN path) (cN xsum) n (nI (msk (ids i (tb frm amt sec xpy born dead c) k))) (nI i) ↔ (d < n ∧ post (nI (msk (ids (many c) (tb frm amt sec xpy born dead c) k))))) := by
  intro d
  induction d with
  | zero =>
    intro i hi n
    have e : i = many c := by omega
    subst e
    cases n with
    | zero => simp only [wX_rowOf_5, Nat.not_lt_zero, false_and]
    | succ n =>
      simp (disch := omega) only [wX_rowOf_5, li_0, li_1, li_2, li_3, li_4, li_5, li_6, li_7, li_8, li_9, li_10, li_11, li_12, li_15, li_16, li_20, li_21, li_24, li_31, li_36, li_100, li_255, li_256, li_1000, li_6000, li_M, un_s, un_n, ba_ap, ba_upd, ba_in, cT_le, cF_le, cT_lt, cF_lt, cT_eq, cF_eq, nb_1, nb_2, ns_1, ns_2, nz_1, nz_2, ng_1, ng_2, ng_3, ng_4, ng_5, nI_clamp, nI_add, pk_mul, pk_sub, forall_eq, true_and, and_true, true_imp_iff, false_imp_iff, not_true_eq_false, not_false_eq_true, implies_true]
      exact ⟨fun h => ⟨Nat.succ_pos n, h⟩, fun h => h.2⟩
  | succ d ih =>
    intro i hi n
    cases n with
    | zero => simp only [wX_rowOf_5, Nat.not_lt_zero, false_and]
    | succ n =>
      have b := hb i (by omega)
      have hid : ids (i + 1) (tb frm amt sec xpy born dead c) k = if born (11 * c + i) ≤ k ∧ k < dead (11 * c + i) then ids i (tb frm amt sec xpy born dead c) k ++ [i] else ids i (tb frm amt sec xpy born dead c) k := by
        unfold ids
        rw [List.range_succ, List.filter_append, List.filter_cons, List.filter_nil]
        show _ ++ (if decide (born (11 * c + i) ≤ k ∧ k < dead (11 * c + i)) = true then [i] else []) = _
        by_cases z : born (11 * c + i) ≤ k ∧ k < dead (11 * c + i)
        · rw [if_pos z, if_pos (decide_eq_true z)]
        · rw [if_neg z, if_neg (fun y => z (of_decide_eq_true y)), List.append_nil]
      have ih' := ih (i + 1) (by omega) n
      by_cases z1 : born (11 * c + i) ≤ k
      · by_cases z2 : k < dead (11 * c + i)
        · rw [hid, if_pos ⟨z1, z2⟩] at ih'
          simp (disch := omega) only [wX_rowOf_5, ba_shl, nx_or, msk_snoc, li_0, li_1, li_2, li_3, li_4, li_5, li_6, li_7, li_8, li_9, li_10, li_11, li_12, li_15, li_16, li_20, li_21, li_24, li_31, li_36, li_100, li_255, li_256, li_1000, li_6000, li_M, un_s, un_n, ba_ap, ba_upd, ba_in, cT_le, cF_le, cT_lt, cF_lt, cT_eq, cF_eq, nb_1, nb_2, ns_1, ns_2, nz_1, nz_2, ng_1, ng_2, ng_3, ng_4, ng_5, nI_clamp, nI_add, pk_mul, pk_sub, forall_eq, true_and, and_true, true_imp_iff, false_imp_iff, not_true_eq_false, not_false_eq_true, implies_true]
          rw [ih']
          exact and_congr_left fun _ => by omega
        · rw [hid, if_neg (fun h => z2 h.2)] at ih'
          simp (disch := omega) only [wX_rowOf_5, li_0, li_1, li_2, li_3, li_4, li_5, li_6, li_7, li_8, li_9, li_10, li_11, li_12, li_15, li_16, li_20, li_21, li_24, li_31, li_36, li_100, li_255, li_256, li_1000, li_6000, li_M, un_s, un_n, ba_ap, ba_upd, ba_in, cT_le, cF_le, cT_lt, cF_lt, cT_eq, cF_eq, nb_1, nb_2, ns_1, ns_2, nz_1, nz_2, ng_1, ng_2, ng_3, ng_4, ng_5, nI_clamp, nI_add, pk_mul, pk_sub, forall_eq, true_and, and_true, true_imp_iff, false_imp_iff, not_true_eq_false, not_false_eq_true, implies_true]
          rw [ih']
          exact and_congr_left fun _ => by omega
      · rw [hid, if_neg (fun h => z1 h.1)] at ih'
        simp (disch := omega) only [wX_rowOf_5, li_0, li_1, li_2, li_3, li_4, li_5, li_6, li_7, li_8, li_9, li_10, li_11, li_12, li_15, li_16, li_20, li_21, li_24, li_31, li_36, li_100, li_255, li_256, li_1000, li_6000, li_M, un_s, un_n, ba_ap, ba_upd, ba_in, cT_le, cF_le, cT_lt, cF_lt, cT_eq, cF_eq, nb_1, nb_2, ns_1, ns_2, nz_1, nz_2, ng_1, ng_2, ng_3, ng_4, ng_5, nI_clamp, nI_add, pk_mul, pk_sub, forall_eq, true_and, and_true, true_imp_iff, false_imp_iff, not_true_eq_false, not_false_eq_true, implies_true]
        rw [ih']
        exact and_congr_left fun _ => by omega
theorem xw_rowOf {post : Int32 → Prop} {c k : Nat} (hc : c < 8) (hk : k < 12) (hm : many c ≤ 11) (hb : ∀ i, i < many c → born (11 * c + i) ≤ 12 ∧ dead (11 * c + i) ≤ 12) : wpX_rowOf post (spent, nI now, nI ch, nI goal, nI val, nI known, cN coins, cN up, knows, cN base, cN rate, guard, cN status, cN who, cN latest, cN row, cN bal, cN many, cN frm, cN amt, cN sec, cN xpy, cN born, cN dead, cN publd, cN pubs, cN since, cN held, cN outm, cN least, cN path, cN xsum) (nI c) (nI k) = post (nI (msk (ids (many c) (tb frm amt sec xpy born dead c) k))) := by
  apply propext
  unfold wpX_rowOf
  dsimp only
  constructor
  · intro ⟨n, h⟩
    exact ((xw_rowOf5 (post := post) hc hk hm hb (many c) 0 (by omega) n).mp h).2
  · intro h
    exact ⟨many c + 1, (xw_rowOf5 (post := post) hc hk hm hb (many c) 0 (by omega) _).mpr ⟨by omega, h⟩⟩
def pls (s b v t : Nat) : Nat := if s = t then b + v else b
def mns (s b v t : Nat) : Nat := if s = t then b - v else b
theorem xw_add {post : SX → Prop} {c s v t e : Nat} (hc : c < 8) (hl : latest c < 11) (h0 : bal (2 * (12 * c + latest c)) < 32768) (h1 : bal (2 * (12 * c + latest c) + 1) < 32768) (hs : s < 2) (hv : v ≤ bal (2 * (12 * c + latest c) + s)) (ht : t < 16) (he : e < 32768) (hm : many c < 11) (hr : row c < 2048) :
    wpX_add post (spent, nI now, nI ch, nI goal, nI val, nI known, cN coins, cN up, knows, cN base, cN rate, guard, cN status, cN who, cN latest, cN row, cN bal, cN many, cN frm, cN amt, cN sec, cN xpy, cN born, cN dead, cN publd, cN pubs, cN since, cN held, cN outm, cN least, cN path, cN xsum) (nI c) (nI s) (nI v) (nI t) (nI e) = post (spent, nI now, nI ch, nI goal, nI val, nI 0, cN coins, cN up, knows, cN base, cN rate, guard, cN status, cN who, cN (un latest c (latest c + 1)), cN (un row c (row c ||| 2 ^ many c)), cN (un (un bal (2 * (12 * c + latest c) + 2) (mns 0 (bal (2 * (12 * c + latest c))) v s)) (2 * (12 * c + latest c) + 3) (mns 1 (bal (2 * (12 * c + latest c) + 1)) v s)), cN (un many c (many c + 1)), cN (un frm (11 * c + many c) s), cN (un amt (11 * c + many c) v), cN (un sec (11 * c + many c) t), cN (un xpy (11 * c + many c) e), cN (un born (11 * c + many c) (latest c + 1)), cN (un dead (11 * c + many c) 12), cN publd, cN pubs, cN since, cN held, cN outm, cN least, cN path, cN xsum) := by
  have hr2 : row c ||| 2 ^ many c < 32768 := by
    have : row c ||| 2 ^ many c < 2 ^ 11 := Nat.or_lt_two_pow hr (Nat.pow_lt_pow_right (by decide) hm)
    omega
  rcases (show s = 0 ∨ s = 1 by omega) with rfl | rfl
  · rw [Nat.add_zero] at hv
    simp (disch := omega) only [wpX_add, xw_change, ba_shl, nx_or, Nat.add_zero, un_o0, mns, if_true, show ¬ (1 : Nat) = 0 by omega, if_false, li_0, li_1, li_2, li_3, li_4, li_5, li_6, li_7, li_8, li_9, li_10, li_11, li_12, li_15, li_16, li_20, li_21, li_24, li_31, li_36, li_100, li_255, li_256, li_1000, li_6000, li_M, un_s, un_n, ba_ap, ba_upd, ba_in, cT_le, cF_le, cT_lt, cF_lt, cT_eq, cF_eq, nb_1, nb_2, ns_1, ns_2, nz_1, nz_2, ng_1, ng_2, ng_3, ng_4, ng_5, nI_clamp, nI_add, pk_mul, pk_sub, forall_eq, true_and, and_true, true_imp_iff, false_imp_iff, not_true_eq_false, not_false_eq_true, implies_true]
  · simp (disch := omega) only [wpX_add, xw_change, ba_shl, nx_or, Nat.add_assoc, Nat.reduceAdd, un_o1, mns, if_true, show ¬ (0 : Nat) = 1 by omega, if_false, li_0, li_1, li_2, li_3, li_4, li_5, li_6, li_7, li_8, li_9, li_10, li_11, li_12, li_15, li_16, li_20, li_21, li_24, li_31, li_36, li_100, li_255, li_256, li_1000, li_6000, li_M, un_s, un_n, ba_ap, ba_upd, ba_in, cT_le, cF_le, cT_lt, cF_lt, cT_eq, cF_eq, nb_1, nb_2, ns_1, ns_2, nz_1, nz_2, ng_1, ng_2, ng_3, ng_4, ng_5, nI_clamp, nI_add, pk_mul, pk_sub, forall_eq, true_and, and_true, true_imp_iff, false_imp_iff, not_true_eq_false, not_false_eq_true, implies_true]
theorem xw_finish {post : SX → Prop} {c s i : Nat} (hc : c < 8) (hl : latest c < 11) (h0 : bal (2 * (12 * c + latest c)) < 32768) (h1 : bal (2 * (12 * c + latest c) + 1) < 32768) (hs : s < 2) (hi : i < 11) (hv : bal (2 * (12 * c + latest c) + s) + amt (11 * c + i) < 32768) (hr : row c &&& (2 ^ i ^^^ 4294967295) < 2048) :
    wpX_finish post (spent, nI now, nI ch, nI goal, nI val, nI known, cN coins, cN up, knows, cN base, cN rate, guard, cN status, cN who, cN latest, cN row, cN bal, cN many, cN frm, cN amt, cN sec, cN xpy, cN born, cN dead, cN publd, cN pubs, cN since, cN held, cN outm, cN least, cN path, cN xsum) (nI c) (nI i) (nI s) = post (spent, nI now, nI ch, nI goal, nI val, nI 0, cN coins, cN up, knows, cN base, cN rate, guard, cN status, cN who, cN (un latest c (latest c + 1)), cN (un row c (row c &&& (2 ^ i ^^^ 4294967295))), cN (un (un bal (2 * (12 * c + latest c) + 2) (pls 0 (bal (2 * (12 * c + latest c))) (amt (11 * c + i)) s)) (2 * (12 * c + latest c) + 3) (pls 1 (bal (2 * (12 * c + latest c) + 1)) (amt (11 * c + i)) s)), cN many, cN frm, cN amt, cN sec, cN xpy, cN born, cN (un dead (11 * c + i) (latest c + 1)), cN publd, cN pubs, cN since, cN held, cN outm, cN least, cN path, cN xsum) := by
  rcases (show s = 0 ∨ s = 1 by omega) with rfl | rfl
  · rw [Nat.add_zero] at hv
    simp (disch := omega) only [wpX_finish, xw_change, ba_clr, Nat.add_zero, un_o0, pls, if_true, show ¬ (1 : Nat) = 0 by omega, if_false, li_0, li_1, li_2, li_3, li_4, li_5, li_6, li_7, li_8, li_9, li_10, li_11, li_12, li_15, li_16, li_20, li_21, li_24, li_31, li_36, li_100, li_255, li_256, li_1000, li_6000, li_M, un_s, un_n, ba_ap, ba_upd, ba_in, cT_le, cF_le, cT_lt, cF_lt, cT_eq, cF_eq, nb_1, nb_2, ns_1, ns_2, nz_1, nz_2, ng_1, ng_2, ng_3, ng_4, ng_5, nI_clamp, nI_add, pk_mul, pk_sub, forall_eq, true_and, and_true, true_imp_iff, false_imp_iff, not_true_eq_false, not_false_eq_true, implies_true]
  · simp (disch := omega) only [wpX_finish, xw_change, ba_clr, Nat.add_assoc, Nat.reduceAdd, un_o1, pls, if_true, show ¬ (0 : Nat) = 1 by omega, if_false, li_0, li_1, li_2, li_3, li_4, li_5, li_6, li_7, li_8, li_9, li_10, li_11, li_12, li_15, li_16, li_20, li_21, li_24, li_31, li_36, li_100, li_255, li_256, li_1000, li_6000, li_M, un_s, un_n, ba_ap, ba_upd, ba_in, cT_le, cF_le, cT_lt, cF_lt, cT_eq, cF_eq, nb_1, nb_2, ns_1, ns_2, nz_1, nz_2, ng_1, ng_2, ng_3, ng_4, ng_5, nI_clamp, nI_add, pk_mul, pk_sub, forall_eq, true_and, and_true, true_imp_iff, false_imp_iff, not_true_eq_false, not_false_eq_true, implies_true]
theorem xw_show {post : SX → Prop} {c s k : Nat} (hc : c < 8) (hk : k < 12) (hs : s < 2) (hm : many c ≤ 11) (hb : ∀ i, i < many c → born (11 * c + i) ≤ 12 ∧ dead (11 * c + i) ≤ 12) (hn : now < 32768) (hb0 : bal (2 * (12 * c + k)) < 32768) (hb1 : bal (2 * (12 * c + k) + 1) < 32768) (hw0 : who (2 * c) < 6) (hw1 : who (2 * c + 1) < 6) (hr : msk (ids (many c) (tb frm amt sec xpy born dead c) k) < 32768) :
    wpX_show post (spent, nI now, nI ch, nI goal, nI val, nI known, cN coins, cN up, knows, cN base, cN rate, guard, cN status, cN who, cN latest, cN row, cN bal, cN many, cN frm, cN amt, cN sec, cN xpy, cN born, cN dead, cN publd, cN pubs, cN since, cN held, cN outm, cN least, cN path, cN xsum) (nI c) (nI s) (nI k) = post (spent, nI now, nI ch, nI goal, nI val, nI 0, cN (un coins (who (2 * c + 1 - s)) (coins (who (2 * c + 1 - s)) + bal (2 * (12 * c + k) + 1 - s))), cN up, knows, cN base, cN rate, guard, cN (un status c 1), cN who, cN latest, cN row, cN bal, cN many, cN frm, cN amt, cN sec, cN xpy, cN born, cN dead, cN (un publd c k), cN (un pubs c s), cN (un since c now), cN (un held c (bal (2 * (12 * c + k) + s))), cN (un outm c (msk (ids (many c) (tb frm amt sec xpy born dead c) k))), cN least, cN path, cN xsum) := by
  rcases (show s = 0 ∨ s = 1 by omega) with rfl | rfl
  · simp (disch := omega) only [wpX_show, xw_place, xw_rowOf, Nat.add_zero, Nat.sub_zero, li_0, li_1, li_2, li_3, li_4, li_5, li_6, li_7, li_8, li_9, li_10, li_11, li_12, li_15, li_16, li_20, li_21, li_24, li_31, li_36, li_100, li_255, li_256, li_1000, li_6000, li_M, un_s, un_n, ba_ap, ba_upd, ba_in, cT_le, cF_le, cT_lt, cF_lt, cT_eq, cF_eq, nb_1, nb_2, ns_1, ns_2, nz_1, nz_2, ng_1, ng_2, ng_3, ng_4, ng_5, nI_clamp, nI_add, pk_mul, pk_sub, forall_eq, true_and, and_true, true_imp_iff, false_imp_iff, not_true_eq_false, not_false_eq_true, implies_true]
  · simp (disch := omega) only [wpX_show, xw_place, xw_rowOf, Nat.add_sub_cancel, li_0, li_1, li_2, li_3, li_4, li_5, li_6, li_7, li_8, li_9, li_10, li_11, li_12, li_15, li_16, li_20, li_21, li_24, li_31, li_36, li_100, li_255, li_256, li_1000, li_6000, li_M, un_s, un_n, ba_ap, ba_upd, ba_in, cT_le, cF_le, cT_lt, cF_lt, cT_eq, cF_eq, nb_1, nb_2, ns_1, ns_2, nz_1, nz_2, ng_1, ng_2, ng_3, ng_4, ng_5, nI_clamp, nI_add, pk_mul, pk_sub, forall_eq, true_and, and_true, true_imp_iff, false_imp_iff, not_true_eq_false, not_false_eq_true, implies_true]
end
end
section
section
variable {spent : Int32} {now ch len : Nat} {coins base rate up who status latest publd ypub since held outn bal lks yf ya ys ye qf qa qs qe part ysum bst bsm : Nat → Nat} {guard knows way : Nat → Int32}
theorem yw_isParty {post : Int32 → Prop} {p : Nat} (hp : p < 6) : wpY_isParty post (nI p) = post (nI 1) := by
  simp (disch := omega) only [wpY_isParty, li_0, li_1, li_2, li_3, li_4, li_5, li_6, li_7, li_8, li_9, li_10, li_11, li_12, li_15, li_16, li_20, li_21, li_24, li_31, li_36, li_100, li_255, li_256, li_1000, li_6000, li_M, un_s, un_n, ba_ap, ba_upd, ba_in, cT_le, cF_le, cT_lt, cF_lt, cT_eq, cF_eq, nb_1, nb_2, ns_1, ns_2, nz_1, nz_2, ng_1, ng_2, ng_3, ng_4, ng_5, nI_clamp, nI_add, pk_mul, pk_sub, forall_eq, true_and, and_true, true_imp_iff, false_imp_iff, not_true_eq_false, not_false_eq_true, implies_true]
theorem yw_isPartyN {post : Int32 → Prop} {x : Int32} (h : x < nI 0) : wpY_isParty post x = post (nI 0) := by
  simp (disch := omega) only [wpY_isParty, h, li_0, li_1, li_2, li_3, li_4, li_5, li_6, li_7, li_8, li_9, li_10, li_11, li_12, li_15, li_16, li_20, li_21, li_24, li_31, li_36, li_100, li_255, li_256, li_1000, li_6000, li_M, un_s, un_n, ba_ap, ba_upd, ba_in, cT_le, cF_le, cT_lt, cF_lt, cT_eq, cF_eq, nb_1, nb_2, ns_1, ns_2, nz_1, nz_2, ng_1, ng_2, ng_3, ng_4, ng_5, nI_clamp, nI_add, pk_mul, pk_sub, forall_eq, true_and, and_true, true_imp_iff, false_imp_iff, not_true_eq_false, not_false_eq_true, implies_true]
theorem yw_isPartyF {post : Int32 → Prop} {p : Nat} (hp : 6 ≤ p) (h : p < 2 ^ 31) : wpY_isParty post (nI p) = post (nI 0) := by
  simp (disch := omega) only [wpY_isParty, li_0, li_1, li_2, li_3, li_4, li_5, li_6, li_7, li_8, li_9, li_10, li_11, li_12, li_15, li_16, li_20, li_21, li_24, li_31, li_36, li_100, li_255, li_256, li_1000, li_6000, li_M, un_s, un_n, ba_ap, ba_upd, ba_in, cT_le, cF_le, cT_lt, cF_lt, cT_eq, cF_eq, nb_1, nb_2, ns_1, ns_2, nz_1, nz_2, ng_1, ng_2, ng_3, ng_4, ng_5, nI_clamp, nI_add, pk_mul, pk_sub, forall_eq, true_and, and_true, true_imp_iff, false_imp_iff, not_true_eq_false, not_false_eq_true, implies_true]
theorem yw_isChannel {post : Int32 → Prop} {c : Nat} (hc : c < ch) (h : ch < 2 ^ 31) : wpY_isChannel post (nI now, spent, nI ch, nI len, cN coins, cN base, cN rate, guard, knows, cN up, cN who, cN status, cN latest, cN publd, cN ypub, cN since, cN held, cN outn, cN bal, cN lks, cN yf, cN ya, cN ys, cN ye, cN qf, cN qa, cN qs, cN qe, way, cN part, cN ysum, cN bst, cN bsm) (nI c) = post (nI 1) := by
  simp (disch := omega) only [wpY_isChannel, li_0, li_1, li_2, li_3, li_4, li_5, li_6, li_7, li_8, li_9, li_10, li_11, li_12, li_15, li_16, li_20, li_21, li_24, li_31, li_36, li_100, li_255, li_256, li_1000, li_6000, li_M, un_s, un_n, ba_ap, ba_upd, ba_in, cT_le, cF_le, cT_lt, cF_lt, cT_eq, cF_eq, nb_1, nb_2, ns_1, ns_2, nz_1, nz_2, ng_1, ng_2, ng_3, ng_4, ng_5, nI_clamp, nI_add, pk_mul, pk_sub, forall_eq, true_and, and_true, true_imp_iff, false_imp_iff, not_true_eq_false, not_false_eq_true, implies_true]
theorem yw_now {post : Int32 → Prop} {c : Nat} (hc : c < 8) : wpY_now post (nI now, spent, nI ch, nI len, cN coins, cN base, cN rate, guard, knows, cN up, cN who, cN status, cN latest, cN publd, cN ypub, cN since, cN held, cN outn, cN bal, cN lks, cN yf, cN ya, cN ys, cN ye, cN qf, cN qa, cN qs, cN qe, way, cN part, cN ysum, cN bst, cN bsm) (nI c) = post (nI (12 * c + latest c)) := by
  simp (disch := omega) only [wpY_now, li_0, li_1, li_2, li_3, li_4, li_5, li_6, li_7, li_8, li_9, li_10, li_11, li_12, li_15, li_16, li_20, li_21, li_24, li_31, li_36, li_100, li_255, li_256, li_1000, li_6000, li_M, un_s, un_n, ba_ap, ba_upd, ba_in, cT_le, cF_le, cT_lt, cF_lt, cT_eq, cF_eq, nb_1, nb_2, ns_1, ns_2, nz_1, nz_2, ng_1, ng_2, ng_3, ng_4, ng_5, nI_clamp, nI_add, pk_mul, pk_sub, forall_eq, true_and, and_true, true_imp_iff, false_imp_iff, not_true_eq_false, not_false_eq_true, implies_true]
theorem yw_sideOf {post : Int32 → Prop} {c p : Nat} (hc : c < 8) (hp : p < 2 ^ 31) (h0 : who (2 * c) < 6) (h1 : who (2 * c + 1) < 6) : wpY_sideOf post (nI now, spent, nI ch, nI len, cN coins, cN base, cN rate, guard, knows, cN up, cN who, cN status, cN latest, cN publd, cN ypub, cN since, cN held, cN outn, cN bal, cN lks, cN yf, cN ya, cN ys, cN ye, cN qf, cN qa, cN qs, cN qe, way, cN part, cN ysum, cN bst, cN bsm) (nI c) (nI p) = post (sI who c p) := by
  unfold sI
  split
  · simp (disch := omega) only [wpY_sideOf, li_0, li_1, li_2, li_3, li_4, li_5, li_6, li_7, li_8, li_9, li_10, li_11, li_12, li_15, li_16, li_20, li_21, li_24, li_31, li_36, li_100, li_255, li_256, li_1000, li_6000, li_M, un_s, un_n, ba_ap, ba_upd, ba_in, cT_le, cF_le, cT_lt, cF_lt, cT_eq, cF_eq, nb_1, nb_2, ns_1, ns_2, nz_1, nz_2, ng_1, ng_2, ng_3, ng_4, ng_5, nI_clamp, nI_add, pk_mul, pk_sub, forall_eq, true_and, and_true, true_imp_iff, false_imp_iff, not_true_eq_false, not_false_eq_true, implies_true]
  · split
    · simp (disch := omega) only [wpY_sideOf, li_0, li_1, li_2, li_3, li_4, li_5, li_6, li_7, li_8, li_9, li_10, li_11, li_12, li_15, li_16, li_20, li_21, li_24, li_31, li_36, li_100, li_255, li_256, li_1000, li_6000, li_M, un_s, un_n, ba_ap, ba_upd, ba_in, cT_le, cF_le, cT_lt, cF_lt, cT_eq, cF_eq, nb_1, nb_2, ns_1, ns_2, nz_1, nz_2, ng_1, ng_2, ng_3, ng_4, ng_5, nI_clamp, nI_add, pk_mul, pk_sub, forall_eq, true_and, and_true, true_imp_iff, false_imp_iff, not_true_eq_false, not_false_eq_true, implies_true]
    · simp (disch := omega) only [wpY_sideOf, li_0, li_1, li_2, li_3, li_4, li_5, li_6, li_7, li_8, li_9, li_10, li_11, li_12, li_15, li_16, li_20, li_21, li_24, li_31, li_36, li_100, li_255, li_256, li_1000, li_6000, li_M, un_s, un_n, ba_ap, ba_upd, ba_in, cT_le, cF_le, cT_lt, cF_lt, cT_eq, cF_eq, nb_1, nb_2, ns_1, ns_2, nz_1, nz_2, ng_1, ng_2, ng_3, ng_4, ng_5, nI_clamp, nI_add, pk_mul, pk_sub, forall_eq, true_and, and_true, true_imp_iff, false_imp_iff, not_true_eq_false, not_false_eq_true, implies_true]
theorem yw_isReady {post : Int32 → Prop} {c : Nat} (hc : c < 8) (hs : status c < 3) (h0 : who (2 * c) < 6) (h1 : who (2 * c + 1) < 6) (hu : ∀ p, p < 6 → up p < 2) : wpY_isReady post (nI now, spent, nI ch, nI len, cN coins, cN base, cN rate, guard, knows, cN up, cN who, cN status, cN latest, cN publd, cN ypub, cN since, cN held, cN outn, cN bal, cN lks, cN yf, cN ya, cN ys, cN ye, cN qf, cN qa, cN qs, cN qe, way, cN part, cN ysum, cN bst, cN bsm) (nI c) = post (nI (rdy status up who c)) := by
  have u0 := hu _ h0
  have u1 := hu _ h1
  unfold rdy
  by_cases a : status c = 0
  · by_cases b : up (who (2 * c)) = 0
    · rw [if_neg (by omega)]
      simp (disch := omega) only [wpY_isReady, li_0, li_1, li_2, li_3, li_4, li_5, li_6, li_7, li_8, li_9, li_10, li_11, li_12, li_15, li_16, li_20, li_21, li_24, li_31, li_36, li_100, li_255, li_256, li_1000, li_6000, li_M, un_s, un_n, ba_ap, ba_upd, ba_in, cT_le, cF_le, cT_lt, cF_lt, cT_eq, cF_eq, nb_1, nb_2, ns_1, ns_2, nz_1, nz_2, ng_1, ng_2, ng_3, ng_4, ng_5, nI_clamp, nI_add, pk_mul, pk_sub, forall_eq, true_and, and_true, true_imp_iff, false_imp_iff, not_true_eq_false, not_false_eq_true, implies_true]
    · by_cases d : up (who (2 * c + 1)) = 0
      · rw [if_neg (by omega)]
        simp (disch := omega) only [wpY_isReady, li_0, li_1, li_2, li_3, li_4, li_5, li_6, li_7, li_8, li_9, li_10, li_11, li_12, li_15, li_16, li_20, li_21, li_24, li_31, li_36, li_100, li_255, li_256, li_1000, li_6000, li_M, un_s, un_n, ba_ap, ba_upd, ba_in, cT_le, cF_le, cT_lt, cF_lt, cT_eq, cF_eq, nb_1, nb_2, ns_1, ns_2, nz_1, nz_2, ng_1, ng_2, ng_3, ng_4, ng_5, nI_clamp, nI_add, pk_mul, pk_sub, forall_eq, true_and, and_true, true_imp_iff, false_imp_iff, not_true_eq_false, not_false_eq_true, implies_true]
      · rw [if_pos ⟨a, b, d⟩]
        simp (disch := omega) only [wpY_isReady, li_0, li_1, li_2, li_3, li_4, li_5, li_6, li_7, li_8, li_9, li_10, li_11, li_12, li_15, li_16, li_20, li_21, li_24, li_31, li_36, li_100, li_255, li_256, li_1000, li_6000, li_M, un_s, un_n, ba_ap, ba_upd, ba_in, cT_le, cF_le, cT_lt, cF_lt, cT_eq, cF_eq, nb_1, nb_2, ns_1, ns_2, nz_1, nz_2, ng_1, ng_2, ng_3, ng_4, ng_5, nI_clamp, nI_add, pk_mul, pk_sub, forall_eq, true_and, and_true, true_imp_iff, false_imp_iff, not_true_eq_false, not_false_eq_true, implies_true]
  · rw [if_neg (fun h => a h.1)]
    simp (disch := omega) only [wpY_isReady, li_0, li_1, li_2, li_3, li_4, li_5, li_6, li_7, li_8, li_9, li_10, li_11, li_12, li_15, li_16, li_20, li_21, li_24, li_31, li_36, li_100, li_255, li_256, li_1000, li_6000, li_M, un_s, un_n, ba_ap, ba_upd, ba_in, cT_le, cF_le, cT_lt, cF_lt, cT_eq, cF_eq, nb_1, nb_2, ns_1, ns_2, nz_1, nz_2, ng_1, ng_2, ng_3, ng_4, ng_5, nI_clamp, nI_add, pk_mul, pk_sub, forall_eq, true_and, and_true, true_imp_iff, false_imp_iff, not_true_eq_false, not_false_eq_true, implies_true]
/-- the channel can change -/
def cnc (status up who latest : Nat → Nat) (c : Nat) : Nat := if rdy status up who c = 1 ∧ latest c < 11 then 1 else 0
theorem rdy_01 (status up who : Nat → Nat) (c : Nat) : rdy status up who c = 0 ∨ rdy status up who c = 1 := by
  unfold rdy; split
  · exact Or.inr rfl
  · exact Or.inl rfl
theorem yw_changes {post : Int32 → Prop} {c : Nat} (hc : c < 8) (hs : status c < 3) (h0 : who (2 * c) < 6) (h1 : who (2 * c + 1) < 6) (hu : ∀ p, p < 6 → up p < 2) (hl : latest c < 12) : wpY_changes post (nI now, spent, nI ch, nI len, cN coins, cN base, cN rate, guard, knows, cN up, cN who, cN status, cN latest, cN publd, cN ypub, cN since, cN held, cN outn, cN bal, cN lks, cN yf, cN ya, cN ys, cN ye, cN qf, cN qa, cN qs, cN qe, way, cN part, cN ysum, cN bst, cN bsm) (nI c) = post (nI (cnc status up who latest c)) := by
  unfold cnc
  rcases rdy_01 status up who c with r | r
  · simp (disch := assumption) only [wpY_changes, yw_isReady]
    rw [r, if_neg (fun h => absurd h.1 (by decide))]
    simp (disch := omega) only [li_0, li_1, li_2, li_3, li_4, li_5, li_6, li_7, li_8, li_9, li_10, li_11, li_12, li_15, li_16, li_20, li_21, li_24, li_31, li_36, li_100, li_255, li_256, li_1000, li_6000, li_M, un_s, un_n, ba_ap, ba_upd, ba_in, cT_le, cF_le, cT_lt, cF_lt, cT_eq, cF_eq, nb_1, nb_2, ns_1, ns_2, nz_1, nz_2, ng_1, ng_2, ng_3, ng_4, ng_5, nI_clamp, nI_add, pk_mul, pk_sub, forall_eq, true_and, and_true, true_imp_iff, false_imp_iff, not_true_eq_false, not_false_eq_true, implies_true]
  · simp (disch := assumption) only [wpY_changes, yw_isReady]
    rw [r]
    by_cases z : latest c < 11
    · rw [if_pos ⟨rfl, z⟩]
      simp (disch := omega) only [li_0, li_1, li_2, li_3, li_4, li_5, li_6, li_7, li_8, li_9, li_10, li_11, li_12, li_15, li_16, li_20, li_21, li_24, li_31, li_36, li_100, li_255, li_256, li_1000, li_6000, li_M, un_s, un_n, ba_ap, ba_upd, ba_in, cT_le, cF_le, cT_lt, cF_lt, cT_eq, cF_eq, nb_1, nb_2, ns_1, ns_2, nz_1, nz_2, ng_1, ng_2, ng_3, ng_4, ng_5, nI_clamp, nI_add, pk_mul, pk_sub, forall_eq, true_and, and_true, true_imp_iff, false_imp_iff, not_true_eq_false, not_false_eq_true, implies_true]
    · rw [if_neg (fun h => z h.2)]
      simp (disch := omega) only [li_0, li_1, li_2, li_3, li_4, li_5, li_6, li_7, li_8, li_9, li_10, li_11, li_12, li_15, li_16, li_20, li_21, li_24, li_31, li_36, li_100, li_255, li_256, li_1000, li_6000, li_M, un_s, un_n, ba_ap, ba_upd, ba_in, cT_le, cF_le, cT_lt, cF_lt, cT_eq, cF_eq, nb_1, nb_2, ns_1, ns_2, nz_1, nz_2, ng_1, ng_2, ng_3, ng_4, ng_5, nI_clamp, nI_add, pk_mul, pk_sub, forall_eq, true_and, and_true, true_imp_iff, false_imp_iff, not_true_eq_false, not_false_eq_true, implies_true]
theorem yw_first {post : SY → Prop} {c a b : Nat} (hc : c < 8) : wpY_first post (nI now, spent, nI ch, nI len, cN coins, cN base, cN rate, guard, knows, cN up, cN who, cN status, cN latest, cN publd, cN ypub, cN since, cN held, cN outn, cN bal, cN lks, cN yf, cN ya, cN ys, cN ye, cN qf, cN qa, cN qs, cN qe, way, cN part, cN ysum, cN bst, cN bsm) (nI c) (nI a) (nI b) = post (nI now, spent, nI ch, nI len, cN coins, cN base, cN rate, guard, knows, cN up, cN who, cN status, cN (un latest c 0), cN publd, cN ypub, cN since, cN held, cN outn, cN (un (un bal (2 * (12 * c + 0)) a) (2 * (12 * c + 0) + 1) b), cN (un lks (12 * c) 0), cN yf, cN ya, cN ys, cN ye, cN qf, cN qa, cN qs, cN qe, way, cN part, cN ysum, cN bst, cN bsm) := by
  rw [show 2 * (12 * c + 0) = 24 * c by omega]
  simp (disch := omega) only [wpY_first, li_0, li_1, li_2, li_3, li_4, li_5, li_6, li_7, li_8, li_9, li_10, li_11, li_12, li_15, li_16, li_20, li_21, li_24, li_31, li_36, li_100, li_255, li_256, li_1000, li_6000, li_M, un_s, un_n, ba_ap, ba_upd, ba_in, cT_le, cF_le, cT_lt, cF_lt, cT_eq, cF_eq, nb_1, nb_2, ns_1, ns_2, nz_1, nz_2, ng_1, ng_2, ng_3, ng_4, ng_5, nI_clamp, nI_add, pk_mul, pk_sub, forall_eq, true_and, and_true, true_imp_iff, false_imp_iff, not_true_eq_false, not_false_eq_true, implies_true]
theorem yw_copy {post : SY → Prop} {k l : Nat} (hk : k < 288) (hl : l < 288) : wpY_copy post (nI now, spent, nI ch, nI len, cN coins, cN base, cN rate, guard, knows, cN up, cN who, cN status, cN latest, cN publd, cN ypub, cN since, cN held, cN outn, cN bal, cN lks, cN yf, cN ya, cN ys, cN ye, cN qf, cN qa, cN qs, cN qe, way, cN part, cN ysum, cN bst, cN bsm) (nI k) (nI l) = post (nI now, spent, nI ch, nI len, cN coins, cN base, cN rate, guard, knows, cN up, cN who, cN status, cN latest, cN publd, cN ypub, cN since, cN held, cN outn, cN bal, cN lks, cN (un yf l (yf k)), cN (un ya l (ya k)), cN (un ys l (ys k)), cN (un ye l (ye k)), cN qf, cN qa, cN qs, cN qe, way, cN part, cN ysum, cN bst, cN bsm) := by
  simp (disch := omega) only [wpY_copy, li_0, li_1, li_2, li_3, li_4, li_5, li_6, li_7, li_8, li_9, li_10, li_11, li_12, li_15, li_16, li_20, li_21, li_24, li_31, li_36, li_100, li_255, li_256, li_1000, li_6000, li_M, un_s, un_n, ba_ap, ba_upd, ba_in, cT_le, cF_le, cT_lt, cF_lt, cT_eq, cF_eq, nb_1, nb_2, ns_1, ns_2, nz_1, nz_2, ng_1, ng_2, ng_3, ng_4, ng_5, nI_clamp, nI_add, pk_mul, pk_sub, forall_eq, true_and, and_true, true_imp_iff, false_imp_iff, not_true_eq_false, not_false_eq_true, implies_true]
/-- n places from s on, copied to t on -/
def cpy (F : Nat → Nat) (s t n : Nat) : Nat → Nat := fun i => if t ≤ i ∧ i < t + n then F (s + (i - t)) else F i
theorem cpy_0 (F : Nat → Nat) (s t : Nat) : cpy F s t 0 = F := by
  funext i; unfold cpy; rw [if_neg (by omega)]
theorem cpy_s (F : Nat → Nat) {s t n : Nat} (h : s + n < t) : un (cpy F s t n) (t + n) (cpy F s t n (s + n)) = cpy F s t (n + 1) := by
  funext i
  by_cases e : i = t + n
  · subst e; rw [un_s]; unfold cpy; rw [if_neg (by omega), if_pos (by omega)]; congr 1; omega
  · rw [un_n e]; unfold cpy
    by_cases z : t ≤ i ∧ i < t + n
    · rw [if_pos z, if_pos (by omega)]
    · rw [if_neg z, if_neg (by omega)]
theorem yw_ch73 {post : SY → Prop} {s t : Nat} (hs : s < 96) (ht : t < 96) (hst : s < t) (hn : lks s ≤ 3) (h : post (nI now, spent, nI ch, nI len, cN coins, cN base, cN rate, guard, knows, cN up, cN who, cN status, cN latest, cN publd, cN ypub, cN since, cN held, cN outn, cN bal, cN lks, cN (cpy yf (3 * s) (3 * t) (lks s)), cN (cpy ya (3 * s) (3 * t) (lks s)), cN (cpy ys (3 * s) (3 * t) (lks s)), cN (cpy ye (3 * s) (3 * t) (lks s)), cN qf, cN qa, cN qs, cN qe, way, cN part, cN ysum, cN bst, cN bsm)) : ∀ d j, j + d = lks s → wY_change_73 post (nI s) (nI t) (d + 1) (nI j) (nI now) spent (nI ch) (nI len) (cN coins) (cN base) (cN rate) guard knows (cN up) (cN who) (cN status) (cN latest) (cN publd) (cN ypub) (cN since) (cN held) (cN outn) (cN bal) (cN lks) (cN (cpy yf (3 * s) (3 * t) j)) (cN (cpy ya (3 * s) (3 * t) j)) (cN (cpy ys (3 * s) (3 * t) j)) (cN (cpy ye (3 * s) (3 * t) j)) (cN qf) (cN qa) (cN qs) (cN qe) way (cN part) (cN ysum) (cN bst) (cN bsm) := by
  intro d
  induction d with
  | zero =>
    intro j hj
    have e : j = lks s := by omega
    subst e
    simp (disch := omega) only [wY_change_73, li_0, li_1, li_2, li_3, li_4, li_5, li_6, li_7, li_8, li_9, li_10, li_11, li_12, li_15, li_16, li_20, li_21, li_24, li_31, li_36, li_100, li_255, li_256, li_1000, li_6000, li_M, un_s, un_n, ba_ap, ba_upd, ba_in, cT_le, cF_le, cT_lt, cF_lt, cT_eq, cF_eq, nb_1, nb_2, ns_1, ns_2, nz_1, nz_2, ng_1, ng_2, ng_3, ng_4, ng_5, nI_clamp, nI_add, pk_mul, pk_sub, forall_eq, true_and, and_true, true_imp_iff, false_imp_iff, not_true_eq_false, not_false_eq_true, implies_true]
    exact h
  | succ d ih =>
    intro j hj
    have i := ih (j + 1) (by omega)
    rw [wY_change_73]
    simp (disch := omega) only [yw_copy, cpy_s, li_0, li_1, li_2, li_3, li_4, li_5, li_6, li_7, li_8, li_9, li_10, li_11, li_12, li_15, li_16, li_20, li_21, li_24, li_31, li_36, li_100, li_255, li_256, li_1000, li_6000, li_M, un_s, un_n, ba_ap, ba_upd, ba_in, cT_le, cF_le, cT_lt, cF_lt, cT_eq, cF_eq, nb_1, nb_2, ns_1, ns_2, nz_1, nz_2, ng_1, ng_2, ng_3, ng_4, ng_5, nI_clamp, nI_add, pk_mul, pk_sub, forall_eq, true_and, and_true, true_imp_iff, false_imp_iff, not_true_eq_false, not_false_eq_true, implies_true]
    exact i
theorem yw_change {post : SY → Prop} {c : Nat} (hc : c < 8) (hl : latest c < 11) (hn : lks (12 * c + latest c) ≤ 3)
    (h : post (nI now, spent, nI ch, nI len, cN coins, cN base, cN rate, guard, knows, cN up, cN who, cN status, cN (un latest c (latest c + 1)), cN publd, cN ypub, cN since, cN held, cN outn, cN (un (un bal (2 * (12 * c + latest c) + 2) (bal (2 * (12 * c + latest c)))) (2 * (12 * c + latest c) + 3) (bal (2 * (12 * c + latest c) + 1))), cN (un lks (12 * c + (latest c + 1)) (lks (12 * c + latest c))), cN (cpy yf (3 * (12 * c + latest c)) (3 * (12 * c + (latest c + 1))) (lks (12 * c + latest c))), cN (cpy ya (3 * (12 * c + latest c)) (3 * (12 * c + (latest c + 1))) (lks (12 * c + latest c))), cN (cpy ys (3 * (12 * c + latest c)) (3 * (12 * c + (latest c + 1))) (lks (12 * c + latest c))), cN (cpy ye (3 * (12 * c + latest c)) (3 * (12 * c + (latest c + 1))) (lks (12 * c + latest c))), cN qf, cN qa, cN qs, cN qe, way, cN part, cN ysum, cN bst, cN bsm)) : wpY_change post (nI now, spent, nI ch, nI len, cN coins, cN base, cN rate, guard, knows, cN up, cN who, cN status, cN latest, cN publd, cN ypub, cN since, cN held, cN outn, cN bal, cN lks, cN yf, cN ya, cN ys, cN ye, cN qf, cN qa, cN qs, cN qe, way, cN part, cN ysum, cN bst, cN bsm) (nI c) := by
  have e1 : 2 * (12 * c + (latest c + 1)) = 2 * (12 * c + latest c) + 2 := by omega
  have e2 : un lks (12 * c + (latest c + 1)) (lks (12 * c + latest c)) (12 * c + latest c) = lks (12 * c + latest c) := un_n (by omega)
  simp (disch := omega) only [wpY_change, yw_now, e1, Nat.add_assoc, Nat.reduceAdd, li_0, li_1, li_2, li_3, li_4, li_5, li_6, li_7, li_8, li_9, li_10, li_11, li_12, li_15, li_16, li_20, li_21, li_24, li_31, li_36, li_100, li_255, li_256, li_1000, li_6000, li_M, un_s, un_n, ba_ap, ba_upd, ba_in, cT_le, cF_le, cT_lt, cF_lt, cT_eq, cF_eq, nb_1, nb_2, ns_1, ns_2, nz_1, nz_2, ng_1, ng_2, ng_3, ng_4, ng_5, nI_clamp, nI_add, pk_mul, pk_sub, forall_eq, true_and, and_true, true_imp_iff, false_imp_iff, not_true_eq_false, not_false_eq_true, implies_true]
  refine ⟨lks (12 * c + latest c) + 1, ?_⟩
  have k := yw_ch73 (post := post) (s := 12 * c + latest c) (t := 12 * c + (latest c + 1)) (lks := un lks (12 * c + (latest c + 1)) (lks (12 * c + latest c))) (yf := yf) (ya := ya) (ys := ys) (ye := ye) (now := now) (spent := spent) (ch := ch) (len := len) (coins := coins) (base := base) (rate := rate) (guard := guard) (knows := knows) (up := up) (who := who) (status := status) (latest := un latest c (latest c + 1)) (publd := publd) (ypub := ypub) (since := since) (held := held) (outn := outn) (bal := un (un bal (2 * (12 * c + latest c) + 2) (bal (2 * (12 * c + latest c)))) (2 * (12 * c + latest c) + 3) (bal (2 * (12 * c + latest c) + 1))) (qf := qf) (qa := qa) (qs := qs) (qe := qe) (way := way) (part := part) (ysum := ysum) (bst := bst) (bsm := bsm) (by omega) (by omega) (by omega) (by rw [e2]; exact hn) (by rw [e2]; exact h) (lks (12 * c + latest c)) 0 (by rw [e2]; omega)
  rw [cpy_0, cpy_0, cpy_0, cpy_0] at k
  exact k
theorem yw_add {post : SY → Prop} {c s v u e : Nat} (hc : c < 8) (hl : latest c < 11) (hn : lks (12 * c + latest c) < 3) (hs : s < 2) (hv : v ≤ bal (2 * (12 * c + latest c) + s))
    (h : post (nI now, spent, nI ch, nI len, cN coins, cN base, cN rate, guard, knows, cN up, cN who, cN status, cN (un latest c (latest c + 1)), cN publd, cN ypub, cN since, cN held, cN outn, cN (un (un bal (2 * (12 * c + latest c) + 2) (mns 0 (bal (2 * (12 * c + latest c))) v s)) (2 * (12 * c + latest c) + 3) (mns 1 (bal (2 * (12 * c + latest c) + 1)) v s)), cN (un lks (12 * c + (latest c + 1)) (lks (12 * c + latest c) + 1)), cN (un (cpy yf (3 * (12 * c + latest c)) (3 * (12 * c + (latest c + 1))) (lks (12 * c + latest c))) (3 * (12 * c + (latest c + 1)) + lks (12 * c + latest c)) s), cN (un (cpy ya (3 * (12 * c + latest c)) (3 * (12 * c + (latest c + 1))) (lks (12 * c + latest c))) (3 * (12 * c + (latest c + 1)) + lks (12 * c + latest c)) v), cN (un (cpy ys (3 * (12 * c + latest c)) (3 * (12 * c + (latest c + 1))) (lks (12 * c + latest c))) (3 * (12 * c + (latest c + 1)) + lks (12 * c + latest c)) u), cN (un (cpy ye (3 * (12 * c + latest c)) (3 * (12 * c + (latest c + 1))) (lks (12 * c + latest c))) (3 * (12 * c + (latest c + 1)) + lks (12 * c + latest c)) e), cN qf, cN qa, cN qs, cN qe, way, cN part, cN ysum, cN bst, cN bsm)) : wpY_add post (nI now, spent, nI ch, nI len, cN coins, cN base, cN rate, guard, knows, cN up, cN who, cN status, cN latest, cN publd, cN ypub, cN since, cN held, cN outn, cN bal, cN lks, cN yf, cN ya, cN ys, cN ye, cN qf, cN qa, cN qs, cN qe, way, cN part, cN ysum, cN bst, cN bsm) (nI c) (nI s) (nI v) (nI u) (nI e) := by
  have e1 : 2 * (12 * c + (latest c + 1)) = 2 * (12 * c + latest c) + 2 := by omega
  unfold wpY_add
  dsimp only
  refine yw_change hc hl (by omega) ?_
  dsimp only
  rcases (show s = 0 ∨ s = 1 by omega) with rfl | rfl
  · rw [Nat.add_zero] at hv
    simp (disch := omega) only [yw_now, e1, Nat.add_zero, un_o0, un_o1, li_0, li_1, li_2, li_3, li_4, li_5, li_6, li_7, li_8, li_9, li_10, li_11, li_12, li_15, li_16, li_20, li_21, li_24, li_31, li_36, li_100, li_255, li_256, li_1000, li_6000, li_M, un_s, un_n, ba_ap, ba_upd, ba_in, cT_le, cF_le, cT_lt, cF_lt, cT_eq, cF_eq, nb_1, nb_2, ns_1, ns_2, nz_1, nz_2, ng_1, ng_2, ng_3, ng_4, ng_5, nI_clamp, nI_add, pk_mul, pk_sub, forall_eq, true_and, and_true, true_imp_iff, false_imp_iff, not_true_eq_false, not_false_eq_true, implies_true]
    simp only [mns, if_true, show ¬ (1 : Nat) = 0 by omega, if_false] at h
    exact h
  · simp (disch := omega) only [yw_now, e1, Nat.add_assoc, Nat.reduceAdd, un_o1, li_0, li_1, li_2, li_3, li_4, li_5, li_6, li_7, li_8, li_9, li_10, li_11, li_12, li_15, li_16, li_20, li_21, li_24, li_31, li_36, li_100, li_255, li_256, li_1000, li_6000, li_M, un_s, un_n, ba_ap, ba_upd, ba_in, cT_le, cF_le, cT_lt, cF_lt, cT_eq, cF_eq, nb_1, nb_2, ns_1, ns_2, nz_1, nz_2, ng_1, ng_2, ng_3, ng_4, ng_5, nI_clamp, nI_add, pk_mul, pk_sub, forall_eq, true_and, and_true, true_imp_iff, false_imp_iff, not_true_eq_false, not_false_eq_true, implies_true]
    simp only [mns, if_true, show ¬ (0 : Nat) = 1 by omega, if_false] at h
    exact h
/-- the places from a on move down by one, up to b -/
def shf (F : Nat → Nat) (a b : Nat) : Nat → Nat := fun i => if a ≤ i ∧ i < b then F (i + 1) else F i
theorem shf_0 (F : Nat → Nat) (a : Nat) : shf F a a = F := by funext i; unfold shf; rw [if_neg (by omega)]
theorem shf_s (F : Nat → Nat) {a b : Nat} (h : a ≤ b) : un (shf F a b) b (shf F a b (b + 1)) = shf F a (b + 1) := by
  funext i
  by_cases e : i = b
  · subst e; rw [un_s]; unfold shf; rw [if_neg (by omega), if_pos (by omega)]
  · rw [un_n e]; unfold shf
    by_cases z : a ≤ i ∧ i < b
    · rw [if_pos z, if_pos (by omega)]
    · rw [if_neg z, if_neg (by omega)]
theorem yw_end56 {post : SY → Prop} {t a : Nat} (ht : t < 96) (hn : lks t ≤ 2) (ha : 3 * t ≤ a) (h : post (nI now, spent, nI ch, nI len, cN coins, cN base, cN rate, guard, knows, cN up, cN who, cN status, cN latest, cN publd, cN ypub, cN since, cN held, cN outn, cN bal, cN lks, cN (shf yf a (3 * t + lks t)), cN (shf ya a (3 * t + lks t)), cN (shf ys a (3 * t + lks t)), cN (shf ye a (3 * t + lks t)), cN qf, cN qa, cN qs, cN qe, way, cN part, cN ysum, cN bst, cN bsm)) : ∀ d x, x + d = 3 * t + lks t → a ≤ x → wY_end_56 post (nI t) (d + 1) (nI x) (nI now) spent (nI ch) (nI len) (cN coins) (cN base) (cN rate) guard knows (cN up) (cN who) (cN status) (cN latest) (cN publd) (cN ypub) (cN since) (cN held) (cN outn) (cN bal) (cN lks) (cN (shf yf a x)) (cN (shf ya a x)) (cN (shf ys a x)) (cN (shf ye a x)) (cN qf) (cN qa) (cN qs) (cN qe) way (cN part) (cN ysum) (cN bst) (cN bsm) := by
  intro d
  induction d with
  | zero =>
    intro x hx hax
    have e : x = 3 * t + lks t := by omega
    subst e
    simp (disch := omega) only [wY_end_56, li_0, li_1, li_2, li_3, li_4, li_5, li_6, li_7, li_8, li_9, li_10, li_11, li_12, li_15, li_16, li_20, li_21, li_24, li_31, li_36, li_100, li_255, li_256, li_1000, li_6000, li_M, un_s, un_n, ba_ap, ba_upd, ba_in, cT_le, cF_le, cT_lt, cF_lt, cT_eq, cF_eq, nb_1, nb_2, ns_1, ns_2, nz_1, nz_2, ng_1, ng_2, ng_3, ng_4, ng_5, nI_clamp, nI_add, pk_mul, pk_sub, forall_eq, true_and, and_true, true_imp_iff, false_imp_iff, not_true_eq_false, not_false_eq_true, implies_true]
    exact h
  | succ d ih =>
    intro x hx hax
    have i := ih (x + 1) (by omega) (by omega)
    rw [wY_end_56]
    simp (disch := omega) only [yw_copy, shf_s, li_0, li_1, li_2, li_3, li_4, li_5, li_6, li_7, li_8, li_9, li_10, li_11, li_12, li_15, li_16, li_20, li_21, li_24, li_31, li_36, li_100, li_255, li_256, li_1000, li_6000, li_M, un_s, un_n, ba_ap, ba_upd, ba_in, cT_le, cF_le, cT_lt, cF_lt, cT_eq, cF_eq, nb_1, nb_2, ns_1, ns_2, nz_1, nz_2, ng_1, ng_2, ng_3, ng_4, ng_5, nI_clamp, nI_add, pk_mul, pk_sub, forall_eq, true_and, and_true, true_imp_iff, false_imp_iff, not_true_eq_false, not_false_eq_true, implies_true]
    exact i
theorem yw_end {post : SY → Prop} {c j s : Nat} (hc : c < 8) (hl : latest c < 11) (hn : lks (12 * c + latest c) ≤ 3) (hj : j < lks (12 * c + latest c)) (hs : s < 2)
    (h : post (nI now, spent, nI ch, nI len, cN coins, cN base, cN rate, guard, knows, cN up, cN who, cN status, cN (un latest c (latest c + 1)), cN publd, cN ypub, cN since, cN held, cN outn, cN (un (un bal (2 * (12 * c + latest c) + 2) (pls 0 (bal (2 * (12 * c + latest c))) (ya (3 * (12 * c + latest c) + j)) s)) (2 * (12 * c + latest c) + 3) (pls 1 (bal (2 * (12 * c + latest c) + 1)) (ya (3 * (12 * c + latest c) + j)) s)), cN (un lks (12 * c + (latest c + 1)) (lks (12 * c + latest c) - 1)), cN (shf (cpy yf (3 * (12 * c + latest c)) (3 * (12 * c + (latest c + 1))) (lks (12 * c + latest c))) (3 * (12 * c + (latest c + 1)) + j) (3 * (12 * c + (latest c + 1)) + (lks (12 * c + latest c) - 1))), cN (shf (cpy ya (3 * (12 * c + latest c)) (3 * (12 * c + (latest c + 1))) (lks (12 * c + latest c))) (3 * (12 * c + (latest c + 1)) + j) (3 * (12 * c + (latest c + 1)) + (lks (12 * c + latest c) - 1))), cN (shf (cpy ys (3 * (12 * c + latest c)) (3 * (12 * c + (latest c + 1))) (lks (12 * c + latest c))) (3 * (12 * c + (latest c + 1)) + j) (3 * (12 * c + (latest c + 1)) + (lks (12 * c + latest c) - 1))), cN (shf (cpy ye (3 * (12 * c + latest c)) (3 * (12 * c + (latest c + 1))) (lks (12 * c + latest c))) (3 * (12 * c + (latest c + 1)) + j) (3 * (12 * c + (latest c + 1)) + (lks (12 * c + latest c) - 1))), cN qf, cN qa, cN qs, cN qe, way, cN part, cN ysum, cN bst, cN bsm)) : wpY_end post (nI now, spent, nI ch, nI len, cN coins, cN base, cN rate, guard, knows, cN up, cN who, cN status, cN latest, cN publd, cN ypub, cN since, cN held, cN outn, cN bal, cN lks, cN yf, cN ya, cN ys, cN ye, cN qf, cN qa, cN qs, cN qe, way, cN part, cN ysum, cN bst, cN bsm) (nI c) (nI j) (nI s) := by
  have e1 : 2 * (12 * c + (latest c + 1)) = 2 * (12 * c + latest c) + 2 := by omega
  have e3 : cpy ya (3 * (12 * c + latest c)) (3 * (12 * c + (latest c + 1))) (lks (12 * c + latest c)) (3 * (12 * c + (latest c + 1)) + j) = ya (3 * (12 * c + latest c) + j) := by
    unfold cpy; rw [if_pos (by omega)]; congr 1; omega
  unfold wpY_end
  dsimp only
  refine yw_change hc hl (by omega) ?_
  dsimp only
  have fin : ∀ b : Nat → Nat, post (nI now, spent, nI ch, nI len, cN coins, cN base, cN rate, guard, knows, cN up, cN who, cN status, cN (un latest c (latest c + 1)), cN publd, cN ypub, cN since, cN held, cN outn, cN b, cN (un lks (12 * c + (latest c + 1)) (lks (12 * c + latest c) - 1)), cN (shf (cpy yf (3 * (12 * c + latest c)) (3 * (12 * c + (latest c + 1))) (lks (12 * c + latest c))) (3 * (12 * c + (latest c + 1)) + j) (3 * (12 * c + (latest c + 1)) + (lks (12 * c + latest c) - 1))), cN (shf (cpy ya (3 * (12 * c + latest c)) (3 * (12 * c + (latest c + 1))) (lks (12 * c + latest c))) (3 * (12 * c + (latest c + 1)) + j) (3 * (12 * c + (latest c + 1)) + (lks (12 * c + latest c) - 1))), cN (shf (cpy ys (3 * (12 * c + latest c)) (3 * (12 * c + (latest c + 1))) (lks (12 * c + latest c))) (3 * (12 * c + (latest c + 1)) + j) (3 * (12 * c + (latest c + 1)) + (lks (12 * c + latest c) - 1))), cN (shf (cpy ye (3 * (12 * c + latest c)) (3 * (12 * c + (latest c + 1))) (lks (12 * c + latest c))) (3 * (12 * c + (latest c + 1)) + j) (3 * (12 * c + (latest c + 1)) + (lks (12 * c + latest c) - 1))), cN qf, cN qa, cN qs, cN qe, way, cN part, cN ysum, cN bst, cN bsm) → ∃ n, wY_end_56 post (nI (12 * c + (latest c + 1))) n (nI (3 * (12 * c + (latest c + 1)) + j)) (nI now) spent (nI ch) (nI len) (cN coins) (cN base) (cN rate) guard knows (cN up) (cN who) (cN status) (cN (un latest c (latest c + 1))) (cN publd) (cN ypub) (cN since) (cN held) (cN outn) (cN b) (cN (un lks (12 * c + (latest c + 1)) (lks (12 * c + latest c) - 1))) (cN (cpy yf (3 * (12 * c + latest c)) (3 * (12 * c + (latest c + 1))) (lks (12 * c + latest c)))) (cN (cpy ya (3 * (12 * c + latest c)) (3 * (12 * c + (latest c + 1))) (lks (12 * c + latest c)))) (cN (cpy ys (3 * (12 * c + latest c)) (3 * (12 * c + (latest c + 1))) (lks (12 * c + latest c)))) (cN (cpy ye (3 * (12 * c + latest c)) (3 * (12 * c + (latest c + 1))) (lks (12 * c + latest c)))) (cN qf) (cN qa) (cN qs) (cN qe) way (cN part) (cN ysum) (cN bst) (cN bsm) := by
    intro b hb
    refine ⟨lks (12 * c + latest c) - 1 - j + 1, ?_⟩
    have k := yw_end56 (post := post) (t := 12 * c + (latest c + 1)) (a := 3 * (12 * c + (latest c + 1)) + j) (lks := un lks (12 * c + (latest c + 1)) (lks (12 * c + latest c) - 1)) (yf := cpy yf (3 * (12 * c + latest c)) (3 * (12 * c + (latest c + 1))) (lks (12 * c + latest c))) (ya := cpy ya (3 * (12 * c + latest c)) (3 * (12 * c + (latest c + 1))) (lks (12 * c + latest c))) (ys := cpy ys (3 * (12 * c + latest c)) (3 * (12 * c + (latest c + 1))) (lks (12 * c + latest c))) (ye := cpy ye (3 * (12 * c + latest c)) (3 * (12 * c + (latest c + 1))) (lks (12 * c + latest c))) (now := now) (spent := spent) (ch := ch) (len := len) (coins := coins) (base := base) (rate := rate) (guard := guard) (knows := knows) (up := up) (who := who) (status := status) (latest := un latest c (latest c + 1)) (publd := publd) (ypub := ypub) (since := since) (held := held) (outn := outn) (bal := b) (qf := qf) (qa := qa) (qs := qs) (qe := qe) (way := way) (part := part) (ysum := ysum) (bst := bst) (bsm := bsm) (by omega) (by rw [un_s]; omega) (by omega) (by rw [un_s]; exact hb) (lks (12 * c + latest c) - 1 - j) (3 * (12 * c + (latest c + 1)) + j) (by rw [un_s]; omega) (Nat.le_refl _)
    rw [shf_0, shf_0, shf_0, shf_0] at k
    exact k
  rcases (show s = 0 ∨ s = 1 by omega) with rfl | rfl
  · simp (disch := omega) only [yw_now, e1, e3, Nat.add_zero, un_o0, un_o1, li_0, li_1, li_2, li_3, li_4, li_5, li_6, li_7, li_8, li_9, li_10, li_11, li_12, li_15, li_16, li_20, li_21, li_24, li_31, li_36, li_100, li_255, li_256, li_1000, li_6000, li_M, un_s, un_n, ba_ap, ba_upd, ba_in, cT_le, cF_le, cT_lt, cF_lt, cT_eq, cF_eq, nb_1, nb_2, ns_1, ns_2, nz_1, nz_2, ng_1, ng_2, ng_3, ng_4, ng_5, nI_clamp, nI_add, pk_mul, pk_sub, forall_eq, true_and, and_true, true_imp_iff, false_imp_iff, not_true_eq_false, not_false_eq_true, implies_true]
    simp only [pls, if_true, show ¬ (1 : Nat) = 0 by omega, if_false] at h
    exact fin _ h
  · simp (disch := omega) only [yw_now, e1, e3, Nat.add_assoc, Nat.reduceAdd, un_o1, li_0, li_1, li_2, li_3, li_4, li_5, li_6, li_7, li_8, li_9, li_10, li_11, li_12, li_15, li_16, li_20, li_21, li_24, li_31, li_36, li_100, li_255, li_256, li_1000, li_6000, li_M, un_s, un_n, ba_ap, ba_upd, ba_in, cT_le, cF_le, cT_lt, cF_lt, cT_eq, cF_eq, nb_1, nb_2, ns_1, ns_2, nz_1, nz_2, ng_1, ng_2, ng_3, ng_4, ng_5, nI_clamp, nI_add, pk_mul, pk_sub, forall_eq, true_and, and_true, true_imp_iff, false_imp_iff, not_true_eq_false, not_false_eq_true, implies_true]
    simp only [pls, if_true, show ¬ (0 : Nat) = 1 by omega, if_false] at h
    exact fin _ h
def cp2 (Q F : Nat → Nat) (s t n : Nat) : Nat → Nat := fun i => if t ≤ i ∧ i < t + n then F (s + (i - t)) else Q i
theorem cp2_0 (Q F : Nat → Nat) (s t : Nat) : cp2 Q F s t 0 = Q := by
  funext i; unfold cp2; rw [if_neg (by omega)]
theorem cp2_s (Q F : Nat → Nat) (s t n : Nat) : un (cp2 Q F s t n) (t + n) (F (s + n)) = cp2 Q F s t (n + 1) := by
  funext i
  by_cases e : i = t + n
  · subst e; rw [un_s]; unfold cp2; rw [if_pos (by omega)]; congr 1; omega
  · rw [un_n e]; unfold cp2
    by_cases z : t ≤ i ∧ i < t + n
    · rw [if_pos z, if_pos (by omega)]
    · rw [if_neg z, if_neg (by omega)]
theorem yw_sh116 {post : SY → Prop} {c s : Nat} (hc : c < 8) (hs : s < 96) (hn : lks s ≤ 3) (h : post (nI now, spent, nI ch, nI len, cN coins, cN base, cN rate, guard, knows, cN up, cN who, cN status, cN latest, cN publd, cN ypub, cN since, cN held, cN outn, cN bal, cN lks, cN yf, cN ya, cN ys, cN ye, cN (cp2 qf yf (3 * s) (3 * c) (lks s)), cN (cp2 qa ya (3 * s) (3 * c) (lks s)), cN (cp2 qs ys (3 * s) (3 * c) (lks s)), cN (cp2 qe ye (3 * s) (3 * c) (lks s)), way, cN part, cN ysum, cN bst, cN bsm)) : ∀ d j, j + d = lks s → wY_show_116 post (nI c) (nI s) (nI now) spent (nI ch) (nI len) (d + 1) (nI j) (cN coins) (cN base) (cN rate) guard knows (cN up) (cN who) (cN status) (cN latest) (cN publd) (cN ypub) (cN since) (cN held) (cN outn) (cN bal) (cN lks) (cN yf) (cN ya) (cN ys) (cN ye) (cN (cp2 qf yf (3 * s) (3 * c) j)) (cN (cp2 qa ya (3 * s) (3 * c) j)) (cN (cp2 qs ys (3 * s) (3 * c) j)) (cN (cp2 qe ye (3 * s) (3 * c) j)) way (cN part) (cN ysum) (cN bst) (cN bsm) := by
  intro d
  induction d with
  | zero =>
    intro j hj
    have e : j = lks s := by omega
    subst e
    simp (disch := omega) only [wY_show_116, li_0, li_1, li_2, li_3, li_4, li_5, li_6, li_7, li_8, li_9, li_10, li_11, li_12, li_15, li_16, li_20, li_21, li_24, li_31, li_36, li_100, li_255, li_256, li_1000, li_6000, li_M, un_s, un_n, ba_ap, ba_upd, ba_in, cT_le, cF_le, cT_lt, cF_lt, cT_eq, cF_eq, nb_1, nb_2, ns_1, ns_2, nz_1, nz_2, ng_1, ng_2, ng_3, ng_4, ng_5, nI_clamp, nI_add, pk_mul, pk_sub, forall_eq, true_and, and_true, true_imp_iff, false_imp_iff, not_true_eq_false, not_false_eq_true, implies_true]
    exact h
  | succ d ih =>
    intro j hj
    have i := ih (j + 1) (by omega)
    rw [wY_show_116]
    simp (disch := omega) only [cp2_s, li_0, li_1, li_2, li_3, li_4, li_5, li_6, li_7, li_8, li_9, li_10, li_11, li_12, li_15, li_16, li_20, li_21, li_24, li_31, li_36, li_100, li_255, li_256, li_1000, li_6000, li_M, un_s, un_n, ba_ap, ba_upd, ba_in, cT_le, cF_le, cT_lt, cF_lt, cT_eq, cF_eq, nb_1, nb_2, ns_1, ns_2, nz_1, nz_2, ng_1, ng_2, ng_3, ng_4, ng_5, nI_clamp, nI_add, pk_mul, pk_sub, forall_eq, true_and, and_true, true_imp_iff, false_imp_iff, not_true_eq_false, not_false_eq_true, implies_true]
    exact i
theorem yw_show {post : SY → Prop} {p c k s : Nat} (hc : c < 8) (hp : p < 6) (hk : k < 12) (hs : s < 2) (hsd : sI who c p = nI s) (hw0 : who (2 * c) < 6) (hw1 : who (2 * c + 1) < 6) (hn : lks (12 * c + k) ≤ 3)
    (h : post (nI now, spent, nI ch, nI len, cN (un coins (who (2 * c + 1 - s)) (coins (who (2 * c + 1 - s)) + bal (2 * (12 * c + k) + 1 - s))), cN base, cN rate, guard, knows, cN up, cN who, cN (un status c 1), cN latest, cN (un publd c k), cN (un ypub c p), cN (un since c now), cN (un held c (bal (2 * (12 * c + k) + s))), cN (un outn c (lks (12 * c + k))), cN bal, cN lks, cN yf, cN ya, cN ys, cN ye, cN (cp2 qf yf (3 * (12 * c + k)) (3 * c) (lks (12 * c + k))), cN (cp2 qa ya (3 * (12 * c + k)) (3 * c) (lks (12 * c + k))), cN (cp2 qs ys (3 * (12 * c + k)) (3 * c) (lks (12 * c + k))), cN (cp2 qe ye (3 * (12 * c + k)) (3 * c) (lks (12 * c + k))), way, cN part, cN ysum, cN bst, cN bsm)) : wpY_show post (nI now, spent, nI ch, nI len, cN coins, cN base, cN rate, guard, knows, cN up, cN who, cN status, cN latest, cN publd, cN ypub, cN since, cN held, cN outn, cN bal, cN lks, cN yf, cN ya, cN ys, cN ye, cN qf, cN qa, cN qs, cN qe, way, cN part, cN ysum, cN bst, cN bsm) (nI p) (nI c) (nI k) := by
  have fin : ∃ n, wY_show_116 post (nI c) (nI (12 * c + k)) (nI now) spent (nI ch) (nI len) n (nI 0) (cN (un coins (who (2 * c + 1 - s)) (coins (who (2 * c + 1 - s)) + bal (2 * (12 * c + k) + 1 - s)))) (cN base) (cN rate) guard knows (cN up) (cN who) (cN (un status c 1)) (cN latest) (cN (un publd c k)) (cN (un ypub c p)) (cN (un since c now)) (cN (un held c (bal (2 * (12 * c + k) + s)))) (cN (un outn c (lks (12 * c + k)))) (cN bal) (cN lks) (cN yf) (cN ya) (cN ys) (cN ye) (cN qf) (cN qa) (cN qs) (cN qe) way (cN part) (cN ysum) (cN bst) (cN bsm) := by
    refine ⟨lks (12 * c + k) + 1, ?_⟩
    have q := yw_sh116 (post := post) (c := c) (s := 12 * c + k) (lks := lks) (yf := yf) (ya := ya) (ys := ys) (ye := ye) (now := now) (spent := spent) (ch := ch) (len := len) (coins := un coins (who (2 * c + 1 - s)) (coins (who (2 * c + 1 - s)) + bal (2 * (12 * c + k) + 1 - s))) (base := base) (rate := rate) (guard := guard) (knows := knows) (up := up) (who := who) (status := un status c 1) (latest := latest) (publd := un publd c k) (ypub := un ypub c p) (since := un since c now) (held := un held c (bal (2 * (12 * c + k) + s))) (outn := un outn c (lks (12 * c + k))) (bal := bal) (qf := qf) (qa := qa) (qs := qs) (qe := qe) (way := way) (part := part) (ysum := ysum) (bst := bst) (bsm := bsm) hc (by omega) hn h (lks (12 * c + k)) 0 (by omega)
    rw [cp2_0, cp2_0, cp2_0, cp2_0] at q
    exact q
  rcases (show s = 0 ∨ s = 1 by omega) with rfl | rfl
  · simp only [Nat.add_zero, Nat.sub_zero] at fin
    simp (disch := omega) only [wpY_show, yw_sideOf, hsd, Nat.add_zero, Nat.sub_zero, li_0, li_1, li_2, li_3, li_4, li_5, li_6, li_7, li_8, li_9, li_10, li_11, li_12, li_15, li_16, li_20, li_21, li_24, li_31, li_36, li_100, li_255, li_256, li_1000, li_6000, li_M, un_s, un_n, ba_ap, ba_upd, ba_in, cT_le, cF_le, cT_lt, cF_lt, cT_eq, cF_eq, nb_1, nb_2, ns_1, ns_2, nz_1, nz_2, ng_1, ng_2, ng_3, ng_4, ng_5, nI_clamp, nI_add, pk_mul, pk_sub, forall_eq, true_and, and_true, true_imp_iff, false_imp_iff, not_true_eq_false, not_false_eq_true, implies_true]
    exact fin
  · simp only [Nat.add_sub_cancel] at fin
    simp (disch := omega) only [wpY_show, yw_sideOf, hsd, Nat.add_sub_cancel, li_0, li_1, li_2, li_3, li_4, li_5, li_6, li_7, li_8, li_9, li_10, li_11, li_12, li_15, li_16, li_20, li_21, li_24, li_31, li_36, li_100, li_255, li_256, li_1000, li_6000, li_M, un_s, un_n, ba_ap, ba_upd, ba_in, cT_le, cF_le, cT_lt, cF_lt, cT_eq, cF_eq, nb_1, nb_2, ns_1, ns_2, nz_1, nz_2, ng_1, ng_2, ng_3, ng_4, ng_5, nI_clamp, nI_add, pk_mul, pk_sub, forall_eq, true_and, and_true, true_imp_iff, false_imp_iff, not_true_eq_false, not_false_eq_true, implies_true]
    exact fin
theorem yw_dr16 {post : SY → Prop} {c a : Nat} (hc : c < 8) (hn : outn c ≤ 2) (ha : 3 * c ≤ a) (h : post (nI now, spent, nI ch, nI len, cN coins, cN base, cN rate, guard, knows, cN up, cN who, cN status, cN latest, cN publd, cN ypub, cN since, cN held, cN outn, cN bal, cN lks, cN yf, cN ya, cN ys, cN ye, cN (shf qf a (3 * c + outn c)), cN (shf qa a (3 * c + outn c)), cN (shf qs a (3 * c + outn c)), cN (shf qe a (3 * c + outn c)), way, cN part, cN ysum, cN bst, cN bsm)) : ∀ d x, x + d = 3 * c + outn c → a ≤ x → wY_drop_16 post (nI c) (nI now) spent (nI ch) (nI len) (d + 1) (nI x) (cN coins) (cN base) (cN rate) guard knows (cN up) (cN who) (cN status) (cN latest) (cN publd) (cN ypub) (cN since) (cN held) (cN outn) (cN bal) (cN lks) (cN yf) (cN ya) (cN ys) (cN ye) (cN (shf qf a x)) (cN (shf qa a x)) (cN (shf qs a x)) (cN (shf qe a x)) way (cN part) (cN ysum) (cN bst) (cN bsm) := by
  intro d
  induction d with
  | zero =>
    intro x hx hax
    have e : x = 3 * c + outn c := by omega
    subst e
    simp (disch := omega) only [wY_drop_16, li_0, li_1, li_2, li_3, li_4, li_5, li_6, li_7, li_8, li_9, li_10, li_11, li_12, li_15, li_16, li_20, li_21, li_24, li_31, li_36, li_100, li_255, li_256, li_1000, li_6000, li_M, un_s, un_n, ba_ap, ba_upd, ba_in, cT_le, cF_le, cT_lt, cF_lt, cT_eq, cF_eq, nb_1, nb_2, ns_1, ns_2, nz_1, nz_2, ng_1, ng_2, ng_3, ng_4, ng_5, nI_clamp, nI_add, pk_mul, pk_sub, forall_eq, true_and, and_true, true_imp_iff, false_imp_iff, not_true_eq_false, not_false_eq_true, implies_true]
    exact h
  | succ d ih =>
    intro x hx hax
    have i := ih (x + 1) (by omega) (by omega)
    rw [wY_drop_16]
    simp (disch := omega) only [shf_s, li_0, li_1, li_2, li_3, li_4, li_5, li_6, li_7, li_8, li_9, li_10, li_11, li_12, li_15, li_16, li_20, li_21, li_24, li_31, li_36, li_100, li_255, li_256, li_1000, li_6000, li_M, un_s, un_n, ba_ap, ba_upd, ba_in, cT_le, cF_le, cT_lt, cF_lt, cT_eq, cF_eq, nb_1, nb_2, ns_1, ns_2, nz_1, nz_2, ng_1, ng_2, ng_3, ng_4, ng_5, nI_clamp, nI_add, pk_mul, pk_sub, forall_eq, true_and, and_true, true_imp_iff, false_imp_iff, not_true_eq_false, not_false_eq_true, implies_true]
    exact i
theorem yw_drop {post : SY → Prop} {c j : Nat} (hc : c < 8) (hn : outn c ≤ 3) (hj : j < outn c) (h : post (nI now, spent, nI ch, nI len, cN coins, cN base, cN rate, guard, knows, cN up, cN who, cN status, cN latest, cN publd, cN ypub, cN since, cN held, cN (un outn c (outn c - 1)), cN bal, cN lks, cN yf, cN ya, cN ys, cN ye, cN (shf qf (3 * c + j) (3 * c + (outn c - 1))), cN (shf qa (3 * c + j) (3 * c + (outn c - 1))), cN (shf qs (3 * c + j) (3 * c + (outn c - 1))), cN (shf qe (3 * c + j) (3 * c + (outn c - 1))), way, cN part, cN ysum, cN bst, cN bsm)) : wpY_drop post (nI now, spent, nI ch, nI len, cN coins, cN base, cN rate, guard, knows, cN up, cN who, cN status, cN latest, cN publd, cN ypub, cN since, cN held, cN outn, cN bal, cN lks, cN yf, cN ya, cN ys, cN ye, cN qf, cN qa, cN qs, cN qe, way, cN part, cN ysum, cN bst, cN bsm) (nI c) (nI j) := by
  simp (disch := omega) only [wpY_drop, li_0, li_1, li_2, li_3, li_4, li_5, li_6, li_7, li_8, li_9, li_10, li_11, li_12, li_15, li_16, li_20, li_21, li_24, li_31, li_36, li_100, li_255, li_256, li_1000, li_6000, li_M, un_s, un_n, ba_ap, ba_upd, ba_in, cT_le, cF_le, cT_lt, cF_lt, cT_eq, cF_eq, nb_1, nb_2, ns_1, ns_2, nz_1, nz_2, ng_1, ng_2, ng_3, ng_4, ng_5, nI_clamp, nI_add, pk_mul, pk_sub, forall_eq, true_and, and_true, true_imp_iff, false_imp_iff, not_true_eq_false, not_false_eq_true, implies_true]
  refine ⟨outn c - 1 - j + 1, ?_⟩
  have q := yw_dr16 (post := post) (c := c) (a := 3 * c + j) (outn := un outn c (outn c - 1)) (lks := lks) (yf := yf) (ya := ya) (ys := ys) (ye := ye) (now := now) (spent := spent) (ch := ch) (len := len) (coins := coins) (base := base) (rate := rate) (guard := guard) (knows := knows) (up := up) (who := who) (status := status) (latest := latest) (publd := publd) (ypub := ypub) (since := since) (held := held) (bal := bal) (qf := qf) (qa := qa) (qs := qs) (qe := qe) (way := way) (part := part) (ysum := ysum) (bst := bst) (bsm := bsm) hc (by rw [un_s]; omega) (by omega) (by rw [un_s]; exact h) (outn c - 1 - j) (3 * c + j) (by rw [un_s]; omega) (Nat.le_refl _)
  rw [shf_0, shf_0, shf_0, shf_0] at q
  exact q
def lk4 (f a s e : Nat → Nat) (i : Nat) : LK := (f i, a i, s i, e i)
theorem yw_pu10 {post : Int32 → SY → Prop} {p c : Nat} (hc : c < 8) (hp : p < 6) (hn : outn c ≤ 3) : ∀ d j acc, j + d = outn c → post (nI (acc + sumL (lsF (lk4 qf qa qs qe) (3 * c + j) d))) (nI now, spent, nI ch, nI len, cN (un coins p (coins p + (acc + sumL (lsF (lk4 qf qa qs qe) (3 * c + j) d)))), cN base, cN rate, guard, knows, cN up, cN who, cN status, cN latest, cN publd, cN ypub, cN since, cN (un held c 0), cN (un outn c 0), cN bal, cN lks, cN yf, cN ya, cN ys, cN ye, cN qf, cN qa, cN qs, cN qe, way, cN part, cN ysum, cN bst, cN bsm) → wY_punish_10 post (nI p) (nI c) (nI now) spent (nI ch) (nI len) (cN coins) (cN base) (cN rate) guard knows (cN up) (cN who) (cN status) (cN latest) (cN publd) (cN ypub) (cN since) (cN held) (cN outn) (cN bal) (cN lks) (cN yf) (cN ya) (cN ys) (cN ye) (cN qf) (cN qa) (cN qs) (cN qe) way (cN part) (cN ysum) (cN bst) (cN bsm) (d + 1) (nI acc) (nI j) := by
  intro d
  induction d with
  | zero =>
    intro j acc hj h
    have e : j = outn c := by omega
    subst e
    simp (disch := omega) only [wY_punish_10, li_0, li_1, li_2, li_3, li_4, li_5, li_6, li_7, li_8, li_9, li_10, li_11, li_12, li_15, li_16, li_20, li_21, li_24, li_31, li_36, li_100, li_255, li_256, li_1000, li_6000, li_M, un_s, un_n, ba_ap, ba_upd, ba_in, cT_le, cF_le, cT_lt, cF_lt, cT_eq, cF_eq, nb_1, nb_2, ns_1, ns_2, nz_1, nz_2, ng_1, ng_2, ng_3, ng_4, ng_5, nI_clamp, nI_add, pk_mul, pk_sub, forall_eq, true_and, and_true, true_imp_iff, false_imp_iff, not_true_eq_false, not_false_eq_true, implies_true]
    exact h
  | succ d ih =>
    intro j acc hj h
    rw [lsF_cons] at h
    rw [wY_punish_10]
    simp (disch := omega) only [li_0, li_1, li_2, li_3, li_4, li_5, li_6, li_7, li_8, li_9, li_10, li_11, li_12, li_15, li_16, li_20, li_21, li_24, li_31, li_36, li_100, li_255, li_256, li_1000, li_6000, li_M, un_s, un_n, ba_ap, ba_upd, ba_in, cT_le, cF_le, cT_lt, cF_lt, cT_eq, cF_eq, nb_1, nb_2, ns_1, ns_2, nz_1, nz_2, ng_1, ng_2, ng_3, ng_4, ng_5, nI_clamp, nI_add, pk_mul, pk_sub, forall_eq, true_and, and_true, true_imp_iff, false_imp_iff, not_true_eq_false, not_false_eq_true, implies_true]
    refine ih (j + 1) (acc + qa (3 * c + j)) (by omega) ?_
    have e : acc + qa (3 * c + j) + sumL (lsF (lk4 qf qa qs qe) (3 * c + (j + 1)) d) = acc + sumL (lk4 qf qa qs qe (3 * c + j) :: lsF (lk4 qf qa qs qe) (3 * c + j + 1) d) := by
      show _ = acc + (qa (3 * c + j) + _)
      rw [Nat.add_assoc, Nat.add_assoc (3 * c)]
    rw [e]
    exact h
theorem yw_punish {post : Int32 → SY → Prop} {p c : Nat} (hc : c < 8) (hp : p < 6) (hn : outn c ≤ 3) (h : post (nI (held c + sumL (lsF (lk4 qf qa qs qe) (3 * c) (outn c)))) (nI now, spent, nI ch, nI len, cN (un coins p (coins p + (held c + sumL (lsF (lk4 qf qa qs qe) (3 * c) (outn c))))), cN base, cN rate, guard, knows, cN up, cN who, cN status, cN latest, cN publd, cN ypub, cN since, cN (un held c 0), cN (un outn c 0), cN bal, cN lks, cN yf, cN ya, cN ys, cN ye, cN qf, cN qa, cN qs, cN qe, way, cN part, cN ysum, cN bst, cN bsm)) : wpY_punish post (nI now, spent, nI ch, nI len, cN coins, cN base, cN rate, guard, knows, cN up, cN who, cN status, cN latest, cN publd, cN ypub, cN since, cN held, cN outn, cN bal, cN lks, cN yf, cN ya, cN ys, cN ye, cN qf, cN qa, cN qs, cN qe, way, cN part, cN ysum, cN bst, cN bsm) (nI p) (nI c) := by
  simp (disch := omega) only [wpY_punish, li_0, li_1, li_2, li_3, li_4, li_5, li_6, li_7, li_8, li_9, li_10, li_11, li_12, li_15, li_16, li_20, li_21, li_24, li_31, li_36, li_100, li_255, li_256, li_1000, li_6000, li_M, un_s, un_n, ba_ap, ba_upd, ba_in, cT_le, cF_le, cT_lt, cF_lt, cT_eq, cF_eq, nb_1, nb_2, ns_1, ns_2, nz_1, nz_2, ng_1, ng_2, ng_3, ng_4, ng_5, nI_clamp, nI_add, pk_mul, pk_sub, forall_eq, true_and, and_true, true_imp_iff, false_imp_iff, not_true_eq_false, not_false_eq_true, implies_true]
  refine ⟨outn c + 1, ?_⟩
  exact yw_pu10 hc hp hn (outn c) 0 (held c) (by omega) h
end
end
section
def xT (x : OX) (c : Nat) : Nat → LK × (Nat × Nat) := tb (gx_frm x) (gx_amt x) (gx_sec x) (gx_xpy x) (gx_born x) (gx_dead x) c
def xO (a : SA) (x : OX) (c : Nat) : Prop := ∃ o : List Nat, srt o ∧ (∀ i, i ∈ o → i < gx_many x c) ∧ gx_outm x c = msk o ∧ ga_outs a c = o.map (fun i => (xT x c i).1)
def xC (a : SA) (x : OX) (c : Nat) : Prop := xL (ga_latest a c) (ga_rows a c) (gx_row x c) (gx_many x c) (xT x c) ∧ (ga_status a c = 1 → xO a x c)
def rdA (a : SA) (c : Nat) : Nat := rdy (ga_status a) (ga_up a) (ga_who a) c
def capA (a : SA) (c s : Nat) : Nat := if c < ga_ch a ∧ s < 2 ∧ rdA a c = 1 ∧ ga_latest a c < 11 ∧ (ga_rows a c (ga_latest a c)).length < 3 then ga_bal a (2 * (12 * c + ga_latest a c) + s) + 1 else 0
def lsA (a : SA) (q v g p : Nat) : Nat := lst (ga_ch a) q v (ga_who a) (ga_base a) (ga_rate a) (capA a) g p
def xK (a : SA) (x : OX) : Prop := gx_known x = 0 ∨ (gx_known x = 1 ∧ gx_goal x < 6 ∧ gx_val x < 256 ∧ ∀ g p, 1 ≤ g → g ≤ 4 → p < 6 → gx_least x (6 * g + p) = lsA a (gx_goal x) (gx_val x) g p)
def RX (a : SA) (x : OX) : Prop := (∀ c, c < ga_ch a → xC a x c) ∧ xK a x
def yF (y : OY) : Nat → LK := lk4 (gy_yf y) (gy_ya y) (gy_ys y) (gy_ye y)
def yQ (y : OY) : Nat → LK := lk4 (gy_qf y) (gy_qa y) (gy_qs y) (gy_qe y)
def yC (a : SA) (y : OY) (c : Nat) : Prop := (∀ k, k ≤ ga_latest a c → ga_rows a c k = lsF (yF y) (3 * (12 * c + k)) (gy_lks y (12 * c + k))) ∧ (ga_status a c = 1 → ga_outs a c = lsF (yQ y) (3 * c) (gy_outn y c) ∧ gy_ypub y c = ga_who a (2 * c + ga_pubs a c))
def RY (a : SA) (y : OY) : Prop := ∀ c, c < ga_ch a → yC a y c
theorem xC_congr {a a' : SA} {x x' : OX} {d : Nat} (hl : ga_latest a' d = ga_latest a d) (hr : ∀ k, k ≤ ga_latest a d → ga_rows a' d k = ga_rows a d k) (hrow : gx_row x' d = gx_row x d) (hm : gx_many x' d = gx_many x d) (h12 : ga_latest a d < 12) (hT : ∀ i, i < 11 → xT x' d i = xT x d i) (hs : ga_status a' d = 1 → ga_status a d = 1 ∧ ga_outs a' d = ga_outs a d ∧ gx_outm x' d = gx_outm x d) (h : xC a x d) : xC a' x' d := by
  obtain ⟨h1, h2⟩ := h
  have hmm := h1.1
  refine ⟨?_, fun z => ?_⟩
  · rw [hl, hrow, hm]
    exact xL_rw hr (xL_congr (fun i hi => hT i (by omega)) h1)
  · obtain ⟨z1, z2, z3⟩ := hs z
    obtain ⟨o, o1, o2, o3, o4⟩ := h2 z1
    refine ⟨o, o1, by rw [hm]; exact o2, by rw [z3]; exact o3, ?_⟩
    rw [z2, o4]
    apply List.map_congr_left
    intro i hi
    rw [hT i (by have := o2 i hi; omega)]
theorem yC_congr {a a' : SA} {y y' : OY} {d : Nat} (hl : ga_latest a' d = ga_latest a d) (hr : ∀ k, k ≤ ga_latest a d → ga_rows a' d k = ga_rows a d k ∧ gy_lks y' (12 * d + k) = gy_lks y (12 * d + k) ∧ ∀ j, j < 3 → yF y' (3 * (12 * d + k) + j) = yF y (3 * (12 * d + k) + j)) (h3 : ∀ k, k ≤ ga_latest a d → (ga_rows a d k).length ≤ 3)
    (hs : ga_status a' d = 1 → ga_status a d = 1 ∧ ga_outs a' d = ga_outs a d ∧ gy_outn y' d = gy_outn y d ∧ (ga_outs a d).length ≤ 3 ∧ (∀ j, j < 3 → yQ y' (3 * d + j) = yQ y (3 * d + j)) ∧ gy_ypub y' d = gy_ypub y d ∧ ga_who a' (2 * d + ga_pubs a' d) = ga_who a (2 * d + ga_pubs a d)) (h : yC a y d) : yC a' y' d := by
  obtain ⟨h1, h2⟩ := h
  refine ⟨fun k hk => ?_, fun z => ?_⟩
  · rw [hl] at hk
    obtain ⟨r1, r2, r3⟩ := hr k hk
    have e := h1 k hk
    have l3 := h3 k hk
    rw [e, lsF_len] at l3
    rw [r1, r2, e]
    exact lsF_congr fun j hj => (r3 j (by omega)).symm
  · obtain ⟨z1, z2, z3, z4, z5, z6, z7⟩ := hs z
    obtain ⟨e1, e2⟩ := h2 z1
    rw [e1, lsF_len] at z4
    refine ⟨?_, by rw [z6, z7]; exact e2⟩
    rw [z2, z3, e1]
    exact lsF_congr fun j hj => (z5 j (by omega)).symm
theorem tb_eq {f a s e b d f' a' s' e' b' d' : Nat → Nat} {c i : Nat} (h1 : f' (11 * c + i) = f (11 * c + i)) (h2 : a' (11 * c + i) = a (11 * c + i)) (h3 : s' (11 * c + i) = s (11 * c + i)) (h4 : e' (11 * c + i) = e (11 * c + i)) (h5 : b' (11 * c + i) = b (11 * c + i)) (h6 : d' (11 * c + i) = d (11 * c + i)) : tb f' a' s' e' b' d' c i = tb f a s e b d c i := by
  unfold tb; rw [h1, h2, h3, h4, h5, h6]
theorem lk_eq {f a s e f' a' s' e' : Nat → Nat} {i j : Nat} (h1 : f' i = f j) (h2 : a' i = a j) (h3 : s' i = s j) (h4 : e' i = e j) : lk4 f' a' s' e' i = lk4 f a s e j := by
  unfold lk4; rw [h1, h2, h3, h4]
theorem cpy_in (F : Nat → Nat) {s t n j : Nat} (h : j < n) : cpy F s t n (t + j) = F (s + j) := by
  unfold cpy; rw [if_pos (by omega)]; congr 1; omega
theorem cpy_out (F : Nat → Nat) {s t n i : Nat} (h : i < t ∨ t + n ≤ i) : cpy F s t n i = F i := by
  unfold cpy; rw [if_neg (by omega)]
theorem cp2_in (Q F : Nat → Nat) {s t n j : Nat} (h : j < n) : cp2 Q F s t n (t + j) = F (s + j) := by
  unfold cp2; rw [if_pos (by omega)]; congr 1; omega
theorem cp2_out (Q F : Nat → Nat) {s t n i : Nat} (h : i < t ∨ t + n ≤ i) : cp2 Q F s t n i = Q i := by
  unfold cp2; rw [if_neg (by omega)]
theorem shf_in (F : Nat → Nat) {a b i : Nat} (h : a ≤ i ∧ i < b) : shf F a b i = F (i + 1) := by
  unfold shf; rw [if_pos h]
theorem shf_out (F : Nat → Nat) {a b i : Nat} (h : i < a ∨ b ≤ i) : shf F a b i = F i := by
  unfold shf; rw [if_neg (by omega)]
/-- facts of a channel, by name -/
theorem ch8 {T : Nat} {a : SA} (I : Inv T a) {c : Nat} (hc : c < ga_ch a) : c < 8 := Nat.lt_of_lt_of_le hc I.1
theorem xm_11 {T : Nat} {a : SA} {x : OX} (I : Inv T a) (R : RX a x) {c : Nat} (hc : c < ga_ch a) : gx_many x c ≤ ga_latest a c ∧ gx_many x c ≤ 11 := by
  have h1 := (R.1 c hc).1.1
  have h2 := (I.2.2.2.2.1 c hc).2.2.2.2.1
  omega
theorem x_bd {T : Nat} {a : SA} {x : OX} (I : Inv T a) (R : RX a x) {c : Nat} (hc : c < ga_ch a) : ∀ i, i < gx_many x c → gx_born x (11 * c + i) ≤ 12 ∧ gx_dead x (11 * c + i) ≤ 12 := by
  intro i hi
  have h1 := (R.1 c hc).1.2.1 i hi
  have h2 := (I.2.2.2.2.1 c hc).2.2.2.2.1
  have e1 : (xT x c i).2.1 = gx_born x (11 * c + i) := rfl
  have e2 : (xT x c i).2.2 = gx_dead x (11 * c + i) := rfl
  rw [e1, e2] at h1
  omega
theorem ids_11 {T : Nat} {a : SA} {x : OX} (I : Inv T a) (R : RX a x) {c k : Nat} (hc : c < ga_ch a) : ∀ i, i ∈ ids (gx_many x c) (xT x c) k → i < 11 := by
  intro i hi
  have := ids_lt hi
  have := (xm_11 I R hc).2
  omega
-- X: a new state
theorem x2_add {T : Nat} {a : SA} {x : OX} {c s v t e : Nat} (I : Inv T a) (R : RX a x) (hc : c < ga_ch a) (h0 : ga_status a c = 0) (hl : ga_latest a c < 11) (hs : s < 2) (hv : v ≤ ga_bal a (2 * (12 * c + ga_latest a c) + s)) (ht : t < 16) (he : e < 32768) :
    ∃ x', RX (aNew a c (mns 0 (ga_bal a (2 * (12 * c + ga_latest a c))) v s) (mns 1 (ga_bal a (2 * (12 * c + ga_latest a c) + 1)) v s) (ga_rows a c (ga_latest a c) ++ [(s, v, t, e)])) x' ∧
      ∀ post : SX → Prop, wpX_add post (mX a x) (nI c) (nI s) (nI v) (nI t) (nI e) = post (mX (aNew a c (mns 0 (ga_bal a (2 * (12 * c + ga_latest a c))) v s) (mns 1 (ga_bal a (2 * (12 * c + ga_latest a c) + 1)) v s) (ga_rows a c (ga_latest a c) ++ [(s, v, t, e)])) x') ∧ (gx_path x' = gx_path x ∧ gx_xsum x' = gx_xsum x) := by
  have c8 := ch8 I hc
  have ho := inv_open I hc h0 (Nat.le_refl _)
  have xm := xm_11 I R hc
  have hx := (R.1 c hc).1
  have hrow : gx_row x c < 2048 := by rw [hx.2.2.1]; exact m_lt (ids_11 I R hc)
  refine ⟨xAdd x c (gx_many x c) s v t e (ga_latest a c + 1), ⟨fun d hd => ?_, Or.inl rfl⟩, fun post => ⟨?_, rfl, rfl⟩⟩
  · have hd : d < ga_ch a := hd
    have dl := (I.2.2.2.2.1 d hd).2.2.2.2.1
    have d8 := ch8 I hd
    by_cases z : d = c
    · subst z
      refine ⟨?_, fun y => ?_⟩
      · rw [aNew_latest, un_s, aNew_rows, xAdd_row, un_s, xAdd_many, un_s]
        refine xL_add hl hx (T' := xT (xAdd x d (gx_many x d) s v t e (ga_latest a d + 1)) d) (lk := (s, v, t, e)) (fun i hi => ?_) ?_ (fun k hk => unR_n (Or.inr (by omega))) unR_s
        · exact tb_eq (un_n (by omega)) (un_n (by omega)) (un_n (by omega)) (un_n (by omega)) (un_n (by omega)) (un_n (by omega))
        · unfold xT tb
          rw [xAdd_frm, xAdd_amt, xAdd_sec, xAdd_xpy, xAdd_born, xAdd_dead, un_s, un_s, un_s, un_s, un_s, un_s]
      · rw [aNew_status, h0] at y; omega
    · refine xC_congr (a := a) (x := x) (by rw [aNew_latest, un_n z]) (fun k _ => by rw [aNew_rows, unR_n (Or.inl z)]) (by rw [xAdd_row, un_n z]) (by rw [xAdd_many, un_n z]) dl (fun i hi => ?_) (fun y => ⟨y, rfl, rfl⟩) (R.1 d hd)
      exact tb_eq (un_n (by omega)) (un_n (by omega)) (un_n (by omega)) (un_n (by omega)) (un_n (by omega)) (un_n (by omega))
  · exact xw_add c8 hl (by omega) (by omega) hs hv ht he (by omega) hrow
theorem x2_fin {T : Nat} {a : SA} {x : OX} {c s i : Nat} {l1 l2 : List Nat} (I : Inv T a) (R : RX a x) (hc : c < ga_ch a) (h0 : ga_status a c = 0) (hl : ga_latest a c < 11) (hs : s < 2) (hi : ids (gx_many x c) (xT x c) (ga_latest a c) = l1 ++ i :: l2) :
    ∃ x', RX (aNew a c (pls 0 (ga_bal a (2 * (12 * c + ga_latest a c))) (xT x c i).1.2.1 s) (pls 1 (ga_bal a (2 * (12 * c + ga_latest a c) + 1)) (xT x c i).1.2.1 s) ((l1 ++ l2).map (fun i => (xT x c i).1))) x' ∧
      ∀ post : SX → Prop, wpX_finish post (mX a x) (nI c) (nI i) (nI s) = post (mX (aNew a c (pls 0 (ga_bal a (2 * (12 * c + ga_latest a c))) (xT x c i).1.2.1 s) (pls 1 (ga_bal a (2 * (12 * c + ga_latest a c) + 1)) (xT x c i).1.2.1 s) ((l1 ++ l2).map (fun i => (xT x c i).1))) x') := by
  have c8 := ch8 I hc
  have ho := inv_open I hc h0 (Nat.le_refl _)
  have xm := xm_11 I R hc
  have hx := (R.1 c hc).1
  have im : i ∈ ids (gx_many x c) (xT x c) (ga_latest a c) := by rw [hi]; exact List.mem_append.mpr (Or.inr (List.mem_cons_self ..))
  have i11 := ids_11 I R hc i im
  have hamt : (xT x c i).1.2.1 ≤ sumL (ga_rows a c (ga_latest a c)) := by
    rw [hx.2.2.2 _ (Nat.le_refl _)]
    exact sumL_mem _ _ (List.mem_map.mpr ⟨i, im, rfl⟩)
  have e1 : (xT x c i).1.2.1 = gx_amt x (11 * c + i) := rfl
  have hxf := fun (T' : Nat → LK × (Nat × Nat)) (rw' : Nat → List LK) => xL_fin (T' := T') (rw' := rw') hl hx hi
  have hrow : gx_row x c &&& (2 ^ i ^^^ 4294967295) < 2048 := by
    refine Nat.lt_of_le_of_lt Nat.and_le_left ?_
    rw [hx.2.2.1]; exact m_lt (ids_11 I R hc)
  have hb : ga_bal a (2 * (12 * c + ga_latest a c) + s) + gx_amt x (11 * c + i) < 32768 := by
    rcases (show s = 0 ∨ s = 1 by omega) with rfl | rfl
    · rw [Nat.add_zero]; omega
    · omega
  refine ⟨xFin x c i (gx_row x c &&& (2 ^ i ^^^ 4294967295)) (ga_latest a c + 1), ⟨fun d hd => ?_, Or.inl rfl⟩, fun post => ?_⟩
  · have hd : d < ga_ch a := hd
    have dl := (I.2.2.2.2.1 d hd).2.2.2.2.1
    have d8 := ch8 I hd
    by_cases z : d = c
    · subst z
      refine ⟨?_, fun y => ?_⟩
      · rw [aNew_latest, un_s, aNew_rows, xFin_row, un_s, xFin_many]
        refine hxf (xT (xFin x d i (gx_row x d &&& (2 ^ i ^^^ 4294967295)) (ga_latest a d + 1)) d) _ (fun j hj ji => ?_) ?_ (fun k hk => unR_n (Or.inr (by omega))) unR_s
        · exact tb_eq rfl rfl rfl rfl rfl (un_n (by omega))
        · unfold xT tb
          rw [xFin_dead, un_s]
          rfl
      · rw [aNew_status, h0] at y; omega
    · refine xC_congr (a := a) (x := x) (by rw [aNew_latest, un_n z]) (fun k _ => by rw [aNew_rows, unR_n (Or.inl z)]) (by rw [xFin_row, un_n z]) rfl dl (fun j hj => ?_) (fun y => ⟨y, rfl, rfl⟩) (R.1 d hd)
      exact tb_eq rfl rfl rfl rfl rfl (un_n (by omega))
  · exact xw_finish c8 hl (by omega) (by omega) hs i11 hb hrow
theorem x2_shw {T : Nat} {a : SA} {x : OX} {c s k : Nat} (I : Inv T a) (hT : T < 32768) (R : RX a x) (hc : c < ga_ch a) (h0 : ga_status a c = 0) (hs : s < 2) (hk : k ≤ ga_latest a c) :
    ∃ x', RX (aShw a c s k) x' ∧ ∀ post : SX → Prop, wpX_show post (mX a x) (nI c) (nI s) (nI k) = post (mX (aShw a c s k) x') := by
  have c8 := ch8 I hc
  have ho := inv_open I hc h0 hk
  have xm := xm_11 I R hc
  have hx := (R.1 c hc).1
  obtain ⟨j1, j2, j3, j4, j5, j6, j7, j8⟩ := I.2.2.2.2.1 c hc
  have hm := m_lt (ids_11 (k := k) I R hc)
  have hn := I.2.1
  refine ⟨xOut (xKno x 0) c (msk (ids (gx_many x c) (xT x c) k)), ⟨fun d hd => ?_, Or.inl rfl⟩, fun post => ?_⟩
  · have hd : d < ga_ch a := hd
    have dl := (I.2.2.2.2.1 d hd).2.2.2.2.1
    by_cases z : d = c
    · subst z
      refine ⟨hx, fun _ => ⟨ids (gx_many x d) (xT x d) k, ids_srt _ _ _, fun i hi => ids_lt hi, ?_, ?_⟩⟩
      · rw [xOut_outm, un_s]
      · rw [aShw_outs, unO_s]; exact hx.2.2.2 k hk
    · refine xC_congr (a := a) (x := x) rfl (fun k _ => rfl) rfl rfl dl (fun j hj => rfl) (fun y => ?_) (R.1 d hd)
      rw [aShw_status, un_n z] at y
      exact ⟨y, by rw [aShw_outs, unO_n z], by rw [xOut_outm, un_n z]; rfl⟩
  · exact xw_show c8 (by omega) hs xm.2 (x_bd I R hc) (by omega) (by omega) (by omega) j2 j3 (Nat.lt_trans hm (by decide))
theorem x2_beg {a : SA} {x : OX} {c b0 b1 : Nat} (c8 : ga_ch a ≤ 8) (hc : c < ga_ch a) (R : ∀ d, d < ga_ch a → d ≠ c → xC a x d ∧ ga_latest a d < 12) (h0 : ga_status a c = 0) (hb0 : b0 < 32768) (hb1 : b1 < 32768) :
    RX (aBeg a c b0 b1) (xBeg x c) ∧ ∀ post : SX → Prop, wpX_begin post (mX a x) (nI c) (nI b0) (nI b1) = post (mX (aBeg a c b0 b1) (xBeg x c)) := by
  refine ⟨⟨fun d hd => ?_, Or.inl rfl⟩, fun post => ?_⟩
  · have hd : d < ga_ch a := hd
    by_cases z : d = c
    · subst z
      refine ⟨?_, fun y => ?_⟩
      · rw [aBeg_latest, un_s, xBeg_row, un_s, xBeg_many, un_s]
        exact xL_beg (by rw [aBeg_rows, unR_s])
      · rw [aBeg_status, h0] at y; omega
    · refine xC_congr (a := a) (x := x) (by rw [aBeg_latest, un_n z]) (fun k _ => by rw [aBeg_rows, unR_n (Or.inl z)]) (by rw [xBeg_row, un_n z]) (by rw [xBeg_many, un_n z]) (R d hd z).2 (fun j hj => rfl) (fun y => ⟨y, rfl, rfl⟩) (R d hd z).1
  · exact xw_begin (by omega) hb0 hb1
end
section
theorem y_len {T : Nat} {a : SA} {y : OY} (I : Inv T a) (R : RY a y) {c k : Nat} (hc : c < ga_ch a) (hk : k ≤ ga_latest a c) : gy_lks y (12 * c + k) = (ga_rows a c k).length ∧ gy_lks y (12 * c + k) ≤ 3 := by
  have e := (R c hc).1 k hk
  have h3 := ((I.2.2.2.2.1 c hc).2.2.2.2.2.2.1 k hk).1
  have l := congrArg List.length e
  rw [lsF_len] at l
  omega
theorem y_outn {T : Nat} {a : SA} {y : OY} (I : Inv T a) (R : RY a y) {c : Nat} (hc : c < ga_ch a) (hs : ga_status a c = 1) : gy_outn y c = (ga_outs a c).length ∧ gy_outn y c ≤ 3 := by
  have e := ((R c hc).2 hs).1
  have h3 := ((I.2.2.2.2.1 c hc).2.2.2.2.2.2.2 hs).2.2.2.1
  have l := congrArg List.length e
  rw [lsF_len] at l
  omega
theorem y2_new {T : Nat} {a : SA} {y : OY} {c b0 b1 n : Nat} {Rw : List LK} {f g s e : Nat → Nat} (I : Inv T a) (R : RY a y) (hc : c < ga_ch a) (h0 : ga_status a c = 0) (hl : ga_latest a c < 11) (hR : Rw = lsF (lk4 f g s e) (3 * (12 * c + (ga_latest a c + 1))) n) (hf : ∀ i, i < 3 * (12 * c + (ga_latest a c + 1)) ∨ 3 * (12 * c + (ga_latest a c + 1)) + 3 ≤ i → lk4 f g s e i = yF y i) :
    RY (aNew a c b0 b1 Rw) (yNew y (un (gy_lks y) (12 * c + (ga_latest a c + 1)) n) f g s e) := by
  intro d hd
  have hd : d < ga_ch a := hd
  have dl := (I.2.2.2.2.1 d hd).2.2.2.2.1
  have d3 := fun k hk => ((I.2.2.2.2.1 d hd).2.2.2.2.2.2.1 k hk).1
  by_cases z : d = c
  · subst z
    refine ⟨fun k hk => ?_, fun w => ?_⟩
    · rw [aNew_latest, un_s] at hk
      by_cases w : k = ga_latest a d + 1
      · subst w
        rw [aNew_rows, unR_s, yNew_lks, un_s]; exact hR
      · rw [aNew_rows, unR_n (Or.inr w), yNew_lks, un_n (by omega), (R d hd).1 k (by omega)]
        have l3 := (y_len I R hd (k := k) (by omega)).2
        exact lsF_congr fun j hj => (hf _ (by omega)).symm
    · rw [aNew_status, h0] at w; omega
  · refine yC_congr (a := a) (y := y) (by rw [aNew_latest, un_n z]) (fun k hk => ⟨by rw [aNew_rows, unR_n (Or.inl z)], by rw [yNew_lks, un_n (by omega)], fun j hj => ?_⟩) d3 (fun w => ?_) (R d hd)
    · exact hf _ (by omega)
    · exact ⟨w, rfl, rfl, ((I.2.2.2.2.1 d hd).2.2.2.2.2.2.2 w).2.2.2.1, fun j _ => rfl, rfl, rfl⟩
theorem y2_add {T : Nat} {a : SA} {y : OY} {c s v t e : Nat} (I : Inv T a) (R : RY a y) (hc : c < ga_ch a) (h0 : ga_status a c = 0) (hl : ga_latest a c < 11) (hn : (ga_rows a c (ga_latest a c)).length < 3) (hs : s < 2) (hv : v ≤ ga_bal a (2 * (12 * c + ga_latest a c) + s)) :
    ∃ y', RY (aNew a c (mns 0 (ga_bal a (2 * (12 * c + ga_latest a c))) v s) (mns 1 (ga_bal a (2 * (12 * c + ga_latest a c) + 1)) v s) (ga_rows a c (ga_latest a c) ++ [(s, v, t, e)])) y' ∧ (gy_len y' = gy_len y ∧ gy_bst y' = gy_bst y ∧ gy_bsm y' = gy_bsm y) ∧
      ∀ post : SY → Prop, post (mY (aNew a c (mns 0 (ga_bal a (2 * (12 * c + ga_latest a c))) v s) (mns 1 (ga_bal a (2 * (12 * c + ga_latest a c) + 1)) v s) (ga_rows a c (ga_latest a c) ++ [(s, v, t, e)])) y') → wpY_add post (mY a y) (nI c) (nI s) (nI v) (nI t) (nI e) := by
  have c8 := ch8 I hc
  obtain ⟨n1, n2⟩ := y_len I R hc (Nat.le_refl _)
  refine ⟨yNew y (un (gy_lks y) (12 * c + (ga_latest a c + 1)) (gy_lks y (12 * c + ga_latest a c) + 1)) (un (cpy (gy_yf y) (3 * (12 * c + ga_latest a c)) (3 * (12 * c + (ga_latest a c + 1))) (gy_lks y (12 * c + ga_latest a c))) (3 * (12 * c + (ga_latest a c + 1)) + gy_lks y (12 * c + ga_latest a c)) s) (un (cpy (gy_ya y) (3 * (12 * c + ga_latest a c)) (3 * (12 * c + (ga_latest a c + 1))) (gy_lks y (12 * c + ga_latest a c))) (3 * (12 * c + (ga_latest a c + 1)) + gy_lks y (12 * c + ga_latest a c)) v) (un (cpy (gy_ys y) (3 * (12 * c + ga_latest a c)) (3 * (12 * c + (ga_latest a c + 1))) (gy_lks y (12 * c + ga_latest a c))) (3 * (12 * c + (ga_latest a c + 1)) + gy_lks y (12 * c + ga_latest a c)) t) (un (cpy (gy_ye y) (3 * (12 * c + ga_latest a c)) (3 * (12 * c + (ga_latest a c + 1))) (gy_lks y (12 * c + ga_latest a c))) (3 * (12 * c + (ga_latest a c + 1)) + gy_lks y (12 * c + ga_latest a c)) e), ?_, ⟨rfl, rfl, rfl⟩, fun post h => ?_⟩
  · refine y2_new I R hc h0 hl ?_ (fun i hi => ?_)
    · rw [lsF_snoc, (R c hc).1 _ (Nat.le_refl _)]
      congr 1
      · refine lsF_congr fun j hj => (lk_eq ?_ ?_ ?_ ?_).symm
        · rw [un_n (by omega), cpy_in _ hj]
        · rw [un_n (by omega), cpy_in _ hj]
        · rw [un_n (by omega), cpy_in _ hj]
        · rw [un_n (by omega), cpy_in _ hj]
      · unfold lk4; rw [un_s, un_s, un_s, un_s]
    · refine lk_eq ?_ ?_ ?_ ?_
      · rw [un_n (by omega), cpy_out _ (by omega)]
      · rw [un_n (by omega), cpy_out _ (by omega)]
      · rw [un_n (by omega), cpy_out _ (by omega)]
      · rw [un_n (by omega), cpy_out _ (by omega)]
  · exact yw_add c8 hl (by omega) hs hv h
theorem y2_fin {T : Nat} {a : SA} {y : OY} {c s : Nat} {R1 R2 : List LK} {l : LK} (I : Inv T a) (R : RY a y) (hc : c < ga_ch a) (h0 : ga_status a c = 0) (hl : ga_latest a c < 11) (hs : s < 2) (hr : ga_rows a c (ga_latest a c) = R1 ++ l :: R2) :
    ∃ y', RY (aNew a c (pls 0 (ga_bal a (2 * (12 * c + ga_latest a c))) l.2.1 s) (pls 1 (ga_bal a (2 * (12 * c + ga_latest a c) + 1)) l.2.1 s) (R1 ++ R2)) y' ∧
      ∀ post : SY → Prop, post (mY (aNew a c (pls 0 (ga_bal a (2 * (12 * c + ga_latest a c))) l.2.1 s) (pls 1 (ga_bal a (2 * (12 * c + ga_latest a c) + 1)) l.2.1 s) (R1 ++ R2)) y') → wpY_end post (mY a y) (nI c) (nI R1.length) (nI s) := by
  have c8 := ch8 I hc
  obtain ⟨n1, n2⟩ := y_len I R hc (Nat.le_refl _)
  have e := (R c hc).1 _ (Nat.le_refl _)
  rw [hr] at e
  obtain ⟨m1, m2, m3, m4⟩ := lsF_mid e
  have m3' : gy_ya y (3 * (12 * c + ga_latest a c) + R1.length) = l.2.1 := by rw [← m3]; rfl
  have em : ∀ F : Nat → Nat, ∀ j, j < R1.length → shf (cpy F (3 * (12 * c + ga_latest a c)) (3 * (12 * c + (ga_latest a c + 1))) (gy_lks y (12 * c + ga_latest a c))) (3 * (12 * c + (ga_latest a c + 1)) + R1.length) (3 * (12 * c + (ga_latest a c + 1)) + (gy_lks y (12 * c + ga_latest a c) - 1)) (3 * (12 * c + (ga_latest a c + 1)) + j) = F (3 * (12 * c + ga_latest a c) + j) := by
    intro F j hj
    rw [shf_out _ (by omega), cpy_in _ (by omega)]
  have em2 : ∀ F : Nat → Nat, ∀ j, j < R2.length → shf (cpy F (3 * (12 * c + ga_latest a c)) (3 * (12 * c + (ga_latest a c + 1))) (gy_lks y (12 * c + ga_latest a c))) (3 * (12 * c + (ga_latest a c + 1)) + R1.length) (3 * (12 * c + (ga_latest a c + 1)) + (gy_lks y (12 * c + ga_latest a c) - 1)) (3 * (12 * c + (ga_latest a c + 1)) + R1.length + j) = F (3 * (12 * c + ga_latest a c) + R1.length + 1 + j) := by
    intro F j hj
    rw [shf_in _ (by omega), show 3 * (12 * c + (ga_latest a c + 1)) + R1.length + j + 1 = 3 * (12 * c + (ga_latest a c + 1)) + (R1.length + 1 + j) by omega, cpy_in _ (by omega)]
    congr 1; omega
  have em3 : ∀ F : Nat → Nat, ∀ i, i < 3 * (12 * c + (ga_latest a c + 1)) ∨ 3 * (12 * c + (ga_latest a c + 1)) + 3 ≤ i → shf (cpy F (3 * (12 * c + ga_latest a c)) (3 * (12 * c + (ga_latest a c + 1))) (gy_lks y (12 * c + ga_latest a c))) (3 * (12 * c + (ga_latest a c + 1)) + R1.length) (3 * (12 * c + (ga_latest a c + 1)) + (gy_lks y (12 * c + ga_latest a c) - 1)) i = F i := by
    intro F i hi
    rw [shf_out _ (by omega), cpy_out _ (by omega)]
  refine ⟨yNew y (un (gy_lks y) (12 * c + (ga_latest a c + 1)) (gy_lks y (12 * c + ga_latest a c) - 1)) (shf (cpy (gy_yf y) (3 * (12 * c + ga_latest a c)) (3 * (12 * c + (ga_latest a c + 1))) (gy_lks y (12 * c + ga_latest a c))) (3 * (12 * c + (ga_latest a c + 1)) + R1.length) (3 * (12 * c + (ga_latest a c + 1)) + (gy_lks y (12 * c + ga_latest a c) - 1))) (shf (cpy (gy_ya y) (3 * (12 * c + ga_latest a c)) (3 * (12 * c + (ga_latest a c + 1))) (gy_lks y (12 * c + ga_latest a c))) (3 * (12 * c + (ga_latest a c + 1)) + R1.length) (3 * (12 * c + (ga_latest a c + 1)) + (gy_lks y (12 * c + ga_latest a c) - 1))) (shf (cpy (gy_ys y) (3 * (12 * c + ga_latest a c)) (3 * (12 * c + (ga_latest a c + 1))) (gy_lks y (12 * c + ga_latest a c))) (3 * (12 * c + (ga_latest a c + 1)) + R1.length) (3 * (12 * c + (ga_latest a c + 1)) + (gy_lks y (12 * c + ga_latest a c) - 1))) (shf (cpy (gy_ye y) (3 * (12 * c + ga_latest a c)) (3 * (12 * c + (ga_latest a c + 1))) (gy_lks y (12 * c + ga_latest a c))) (3 * (12 * c + (ga_latest a c + 1)) + R1.length) (3 * (12 * c + (ga_latest a c + 1)) + (gy_lks y (12 * c + ga_latest a c) - 1))), ?_, fun post h => ?_⟩
  · refine y2_new I R hc h0 hl ?_ (fun i hi => ?_)
    · rw [show gy_lks y (12 * c + ga_latest a c) - 1 = R1.length + R2.length by omega, lsF_app]
      rw [show gy_lks y (12 * c + ga_latest a c) - 1 = R1.length + R2.length by omega] at em em2
      congr 1
      · rw [m2, lsF_len]
        rw [m2, lsF_len] at em
        exact lsF_congr fun j hj => (lk_eq (em _ j hj) (em _ j hj) (em _ j hj) (em _ j hj)).symm
      · refine m4.trans ?_
        exact lsF_congr fun j hj => (lk_eq (em2 _ j hj) (em2 _ j hj) (em2 _ j hj) (em2 _ j hj)).symm
    · exact lk_eq (em3 _ i hi) (em3 _ i hi) (em3 _ i hi) (em3 _ i hi)
  · refine yw_end c8 hl n2 (by omega) hs ?_
    rw [m3']
    exact h
/-- the side of a party -/
theorem sI_s {who : Nat → Nat} {c p s : Nat} (h : sd who c p = s) (hs : s < 2) : sI who c p = nI s ∧ who (2 * c + s) = p ∧ who (2 * c + 1 - s) = ot who c p := by
  unfold sd at h
  unfold ot
  by_cases h0 : who (2 * c) = p
  · rw [if_pos h0] at h
    subst h
    rw [if_pos h0]
    exact ⟨sI_0 h0, h0, rfl⟩
  · rw [if_neg h0] at h
    by_cases h1 : who (2 * c + 1) = p
    · rw [if_pos h1] at h
      subst h
      rw [if_neg h0]
      exact ⟨sI_1 h0 h1, h1, rfl⟩
    · rw [if_neg h1] at h; omega
theorem sI_n {who : Nat → Nat} {c p : Nat} (h : ¬ sd who c p < 2) : sI who c p = -nI 1 := by
  unfold sd at h
  by_cases h0 : who (2 * c) = p
  · rw [if_pos h0] at h; omega
  · rw [if_neg h0] at h
    by_cases h1 : who (2 * c + 1) = p
    · rw [if_pos h1] at h; omega
    · exact sI_2 h0 h1
theorem sd_w {who : Nat → Nat} {c s : Nat} (hw : who (2 * c) ≠ who (2 * c + 1)) (hs : s < 2) : sd who c (who (2 * c + s)) = s := by
  unfold sd
  rcases (show s = 0 ∨ s = 1 by omega) with rfl | rfl
  · rw [Nat.add_zero, if_pos rfl]
  · rw [if_neg hw, if_pos rfl]
theorem y2_shw {T : Nat} {a : SA} {y : OY} {p c s k : Nat} (I : Inv T a) (R : RY a y) (hc : c < ga_ch a) (hp : p < 6) (h0 : ga_status a c = 0) (hs : s < 2) (hsd : sd (ga_who a) c p = s) (hk : k ≤ ga_latest a c) :
    ∃ y', RY (aShw a c s k) y' ∧ ∀ post : SY → Prop, post (mY (aShw a c s k) y') → wpY_show post (mY a y) (nI p) (nI c) (nI k) := by
  have c8 := ch8 I hc
  obtain ⟨j1, j2, j3, j4, j5, j6, j7, j8⟩ := I.2.2.2.2.1 c hc
  obtain ⟨n1, n2⟩ := y_len I R hc hk
  obtain ⟨s1, s2, s3⟩ := sI_s hsd hs
  refine ⟨yPub (yOut y (un (gy_outn y) c (gy_lks y (12 * c + k))) (cp2 (gy_qf y) (gy_yf y) (3 * (12 * c + k)) (3 * c) (gy_lks y (12 * c + k))) (cp2 (gy_qa y) (gy_ya y) (3 * (12 * c + k)) (3 * c) (gy_lks y (12 * c + k))) (cp2 (gy_qs y) (gy_ys y) (3 * (12 * c + k)) (3 * c) (gy_lks y (12 * c + k))) (cp2 (gy_qe y) (gy_ye y) (3 * (12 * c + k)) (3 * c) (gy_lks y (12 * c + k)))) (un (gy_ypub y) c p), ?_, fun post h => ?_⟩
  · intro d hd
    have hd : d < ga_ch a := hd
    have d3 := fun k hk => ((I.2.2.2.2.1 d hd).2.2.2.2.2.2.1 k hk).1
    by_cases z : d = c
    · subst z
      refine ⟨(R d hd).1, fun _ => ⟨?_, ?_⟩⟩
      · rw [aShw_outs, unO_s, (R d hd).1 k hk, yPub_outn, yOut_outn, un_s]
        refine lsF_congr fun j hj => (lk_eq ?_ ?_ ?_ ?_).symm
        · exact cp2_in _ _ hj
        · exact cp2_in _ _ hj
        · exact cp2_in _ _ hj
        · exact cp2_in _ _ hj
      · rw [yPub_ypub, un_s, aShw_pubs, un_s, aShw_who, s2]
    · refine yC_congr (a := a) (y := y) rfl (fun k hk => ⟨rfl, rfl, fun j _ => rfl⟩) d3 (fun w => ?_) (R d hd)
      rw [aShw_status, un_n z] at w
      refine ⟨w, by rw [aShw_outs, unO_n z], by rw [yPub_outn, yOut_outn, un_n z], ((I.2.2.2.2.1 d hd).2.2.2.2.2.2.2 w).2.2.2.1, fun j hj => ?_, by rw [yPub_ypub, un_n z], by rw [aShw_who, aShw_pubs, un_n z]⟩
      refine lk_eq ?_ ?_ ?_ ?_
      · exact cp2_out _ _ (by omega)
      · exact cp2_out _ _ (by omega)
      · exact cp2_out _ _ (by omega)
      · exact cp2_out _ _ (by omega)
  · exact yw_show c8 hp (by omega) hs s1 j2 j3 n2 h
theorem y2_beg {a : SA} {y : OY} {c b0 b1 : Nat} (c8 : ga_ch a ≤ 8) (hc : c < ga_ch a) (R : ∀ d, d < ga_ch a → d ≠ c → yC a y d ∧ chI a d) (h0 : ga_status a c = 0) :
    RY (aBeg a c b0 b1) (yBeg y c) ∧ ∀ post : SY → Prop, wpY_first post (mY a y) (nI c) (nI b0) (nI b1) = post (mY (aBeg a c b0 b1) (yBeg y c)) := by
  refine ⟨fun d hd => ?_, fun post => ?_⟩
  · have hd : d < ga_ch a := hd
    by_cases z : d = c
    · subst z
      refine ⟨fun k hk => ?_, fun w => ?_⟩
      · rw [aBeg_latest, un_s] at hk
        have : k = 0 := by omega
        subst this
        rw [aBeg_rows, unR_s, yBeg_lks, Nat.add_zero, un_s]; rfl
      · rw [aBeg_status, h0] at w; omega
    · obtain ⟨j1, j2, j3, j4, j5, j6, j7, j8⟩ := (R d hd z).2
      refine yC_congr (a := a) (y := y) (by rw [aBeg_latest, un_n z]) (fun k hk => ⟨by rw [aBeg_rows, unR_n (Or.inl z)], by rw [yBeg_lks, un_n (by omega)], fun j _ => rfl⟩) (fun k hk => (j7 k hk).1) (fun w => ?_) (R d hd z).1
      exact ⟨w, rfl, rfl, (j8 w).2.2.2.1, fun j _ => rfl, rfl, rfl⟩
  · exact yw_first (by omega)
end
section
def kB (knows : Nat → Int32) (p s : Nat) : Bool := decide ((knows p >>> (nI s &&& nI 31)) &&& nI 1 = nI 1)
theorem kB_t {knows : Nat → Int32} {p s : Nat} (h : kB knows p s = true) : knw knows p s := by unfold knw; exact of_decide_eq_true h
theorem kB_f {knows : Nat → Int32} {p s : Nat} (h : kB knows p s = false) : ¬ knw knows p s := by unfold knw; exact of_decide_eq_false h
def urB (now : Nat) (knows : Nat → Int32) (w s can : Nat) (l : LK) : Bool := if l.1 = s then decide (l.2.2.2 ≤ now) else (kB knows w l.2.2.1 && (decide (can = 1) || decide (l.2.2.2 ≤ now + 1)))
def b01 (b : Bool) : Nat := if b = true then 1 else 0
theorem cnc_1 {status up who latest : Nat → Nat} {c : Nat} (h1 : rdy status up who c = 1) (h2 : latest c < 11) : cnc status up who latest c = 1 := if_pos ⟨h1, h2⟩
theorem cnc_0 {status up who latest : Nat → Nat} {c : Nat} (h : ¬ (rdy status up who c = 1 ∧ latest c < 11)) : cnc status up who latest c = 0 := if_neg h
theorem cnc_i {status up who latest : Nat → Nat} {c : Nat} (h : cnc status up who latest c = 1) : rdy status up who c = 1 ∧ latest c < 11 := by
  unfold cnc at h; split at h
  · assumption
  · omega
theorem cnc_01 (status up who latest : Nat → Nat) (c : Nat) : cnc status up who latest c = 0 ∨ cnc status up who latest c = 1 := by
  unfold cnc; split
  · exact Or.inr rfl
  · exact Or.inl rfl
section
variable {spent : Int32} {now ch goal val known : Nat} {coins up base rate status who latest row bal many frm amt sec xpy born dead publd pubs since held outm least path xsum : Nat → Nat} {knows guard : Nat → Int32}
theorem xw_isUrgent {post : Int32 → Prop} {c s l : Nat} (hc : c < 8) (hs : s < 2) (hl : l < 88) (hf : frm l < 2) (he : xpy l < 32768) (hn : now < 32768) (hst : status c < 3) (h0 : who (2 * c) < 6) (h1 : who (2 * c + 1) < 6) (hu : ∀ p, p < 6 → up p < 2) (hla : latest c < 12) : wpX_isUrgent post (spent, nI now, nI ch, nI goal, nI val, nI known, cN coins, cN up, knows, cN base, cN rate, guard, cN status, cN who, cN latest, cN row, cN bal, cN many, cN frm, cN amt, cN sec, cN xpy, cN born, cN dead, cN publd, cN pubs, cN since, cN held, cN outm, cN least, cN path, cN xsum) (nI c) (nI s) (nI l) = post (nI (b01 (urB now knows (who (2 * c + s)) s (cnc status up who latest c) (frm l, amt l, sec l, xpy l)))) := by
  have hw : who (2 * c + s) < 6 := by
    rcases (show s = 0 ∨ s = 1 by omega) with rfl | rfl
    · exact h0
    · exact h1
  unfold urB
  dsimp only
  by_cases a : frm l = s
  · rw [if_pos a]
    by_cases b : xpy l ≤ now
    · rw [decide_eq_true b]
      simp (disch := omega) only [wpX_isUrgent, b01, if_true, li_0, li_1, li_2, li_3, li_4, li_5, li_6, li_7, li_8, li_9, li_10, li_11, li_12, li_15, li_16, li_20, li_21, li_24, li_31, li_36, li_100, li_255, li_256, li_1000, li_6000, li_M, un_s, un_n, ba_ap, ba_upd, ba_in, cT_le, cF_le, cT_lt, cF_lt, cT_eq, cF_eq, nb_1, nb_2, ns_1, ns_2, nz_1, nz_2, ng_1, ng_2, ng_3, ng_4, ng_5, nI_clamp, nI_add, pk_mul, pk_sub, forall_eq, true_and, and_true, true_imp_iff, false_imp_iff, not_true_eq_false, not_false_eq_true, implies_true]
    · rw [decide_eq_false b]
      simp (disch := omega) only [wpX_isUrgent, b01, Bool.false_eq_true, if_false, li_0, li_1, li_2, li_3, li_4, li_5, li_6, li_7, li_8, li_9, li_10, li_11, li_12, li_15, li_16, li_20, li_21, li_24, li_31, li_36, li_100, li_255, li_256, li_1000, li_6000, li_M, un_s, un_n, ba_ap, ba_upd, ba_in, cT_le, cF_le, cT_lt, cF_lt, cT_eq, cF_eq, nb_1, nb_2, ns_1, ns_2, nz_1, nz_2, ng_1, ng_2, ng_3, ng_4, ng_5, nI_clamp, nI_add, pk_mul, pk_sub, forall_eq, true_and, and_true, true_imp_iff, false_imp_iff, not_true_eq_false, not_false_eq_true, implies_true]
  · rw [if_neg a]
    cases z : kB knows (who (2 * c + s)) (sec l) with
    | false =>
      have k := kB_f z
      rw [Bool.false_and]
      simp (disch := omega) only [wpX_isUrgent, b01, Bool.false_eq_true, if_false, xw_knowsF hw hl k, li_0, li_1, li_2, li_3, li_4, li_5, li_6, li_7, li_8, li_9, li_10, li_11, li_12, li_15, li_16, li_20, li_21, li_24, li_31, li_36, li_100, li_255, li_256, li_1000, li_6000, li_M, un_s, un_n, ba_ap, ba_upd, ba_in, cT_le, cF_le, cT_lt, cF_lt, cT_eq, cF_eq, nb_1, nb_2, ns_1, ns_2, nz_1, nz_2, ng_1, ng_2, ng_3, ng_4, ng_5, nI_clamp, nI_add, pk_mul, pk_sub, forall_eq, true_and, and_true, true_imp_iff, false_imp_iff, not_true_eq_false, not_false_eq_true, implies_true]
    | true =>
      have k := kB_t z
      rw [Bool.true_and]
      by_cases r : rdy status up who c = 1 ∧ latest c < 11
      · have r1 := r.1
        have r2 := r.2
        rw [cnc_1 r1 r2, decide_eq_true rfl, Bool.true_or]
        simp (disch := omega) only [wpX_isUrgent, b01, if_true, xw_knowsT hw hl k, xw_isReady hc hst h0 h1 hu, r1, xw_canChange hc hla, ltN, r2, li_0, li_1, li_2, li_3, li_4, li_5, li_6, li_7, li_8, li_9, li_10, li_11, li_12, li_15, li_16, li_20, li_21, li_24, li_31, li_36, li_100, li_255, li_256, li_1000, li_6000, li_M, un_s, un_n, ba_ap, ba_upd, ba_in, cT_le, cF_le, cT_lt, cF_lt, cT_eq, cF_eq, nb_1, nb_2, ns_1, ns_2, nz_1, nz_2, ng_1, ng_2, ng_3, ng_4, ng_5, nI_clamp, nI_add, pk_mul, pk_sub, forall_eq, true_and, and_true, true_imp_iff, false_imp_iff, not_true_eq_false, not_false_eq_true, implies_true]
      · rw [cnc_0 r, decide_eq_false (show ¬ (0 : Nat) = 1 by omega), Bool.false_or]
        rcases rdy_01 status up who c with q | q
        · by_cases b : xpy l ≤ now + 1
          · rw [decide_eq_true b]
            simp (disch := omega) only [wpX_isUrgent, wX_isUrgent_65, b01, if_true, xw_knowsT hw hl k, xw_isReady hc hst h0 h1 hu, q, li_0, li_1, li_2, li_3, li_4, li_5, li_6, li_7, li_8, li_9, li_10, li_11, li_12, li_15, li_16, li_20, li_21, li_24, li_31, li_36, li_100, li_255, li_256, li_1000, li_6000, li_M, un_s, un_n, ba_ap, ba_upd, ba_in, cT_le, cF_le, cT_lt, cF_lt, cT_eq, cF_eq, nb_1, nb_2, ns_1, ns_2, nz_1, nz_2, ng_1, ng_2, ng_3, ng_4, ng_5, nI_clamp, nI_add, pk_mul, pk_sub, forall_eq, true_and, and_true, true_imp_iff, false_imp_iff, not_true_eq_false, not_false_eq_true, implies_true]
          · rw [decide_eq_false b]
            simp (disch := omega) only [wpX_isUrgent, wX_isUrgent_65, b01, Bool.false_eq_true, if_false, xw_knowsT hw hl k, xw_isReady hc hst h0 h1 hu, q, li_0, li_1, li_2, li_3, li_4, li_5, li_6, li_7, li_8, li_9, li_10, li_11, li_12, li_15, li_16, li_20, li_21, li_24, li_31, li_36, li_100, li_255, li_256, li_1000, li_6000, li_M, un_s, un_n, ba_ap, ba_upd, ba_in, cT_le, cF_le, cT_lt, cF_lt, cT_eq, cF_eq, nb_1, nb_2, ns_1, ns_2, nz_1, nz_2, ng_1, ng_2, ng_3, ng_4, ng_5, nI_clamp, nI_add, pk_mul, pk_sub, forall_eq, true_and, and_true, true_imp_iff, false_imp_iff, not_true_eq_false, not_false_eq_true, implies_true]
        · have r2 : ¬ latest c < 11 := fun y => r ⟨q, y⟩
          by_cases b : xpy l ≤ now + 1
          · rw [decide_eq_true b]
            simp (disch := omega) only [wpX_isUrgent, wX_isUrgent_65, b01, if_true, xw_knowsT hw hl k, xw_isReady hc hst h0 h1 hu, q, xw_canChange hc hla, ltN, r2, if_false, li_0, li_1, li_2, li_3, li_4, li_5, li_6, li_7, li_8, li_9, li_10, li_11, li_12, li_15, li_16, li_20, li_21, li_24, li_31, li_36, li_100, li_255, li_256, li_1000, li_6000, li_M, un_s, un_n, ba_ap, ba_upd, ba_in, cT_le, cF_le, cT_lt, cF_lt, cT_eq, cF_eq, nb_1, nb_2, ns_1, ns_2, nz_1, nz_2, ng_1, ng_2, ng_3, ng_4, ng_5, nI_clamp, nI_add, pk_mul, pk_sub, forall_eq, true_and, and_true, true_imp_iff, false_imp_iff, not_true_eq_false, not_false_eq_true, implies_true]
          · rw [decide_eq_false b]
            simp (disch := omega) only [wpX_isUrgent, wX_isUrgent_65, b01, Bool.false_eq_true, if_false, xw_knowsT hw hl k, xw_isReady hc hst h0 h1 hu, q, xw_canChange hc hla, ltN, r2, li_0, li_1, li_2, li_3, li_4, li_5, li_6, li_7, li_8, li_9, li_10, li_11, li_12, li_15, li_16, li_20, li_21, li_24, li_31, li_36, li_100, li_255, li_256, li_1000, li_6000, li_M, un_s, un_n, ba_ap, ba_upd, ba_in, cT_le, cF_le, cT_lt, cF_lt, cT_eq, cF_eq, nb_1, nb_2, ns_1, ns_2, nz_1, nz_2, ng_1, ng_2, ng_3, ng_4, ng_5, nI_clamp, nI_add, pk_mul, pk_sub, forall_eq, true_and, and_true, true_imp_iff, false_imp_iff, not_true_eq_false, not_false_eq_true, implies_true]
theorem xw_urg7 {post : Int32 → Prop} {c s : Nat} (hc : c < 8) (hs : s < 2) (hn : now < 32768) (hst : status c < 3) (h0 : who (2 * c) < 6) (h1 : who (2 * c + 1) < 6) (hu : ∀ p, p < 6 → up p < 2) (hla : latest c < 12) :
    ∀ l : List Nat, (∀ i, i ∈ l → frm (11 * c + i) < 2 ∧ xpy (11 * c + i) < 32768 ∧ urB now knows (who (2 * c + s)) s (cnc status up who latest c) (tb frm amt sec xpy born dead c i).1 = false) → ∀ m : List Nat, srt (l ++ m) → (∀ i, i ∈ l ++ m → i < 11) → ∀ n, wX_urgent_7 post (nI c) (nI s) spent (nI now) (nI ch) (nI goal) (nI val) (nI known) (cN coins) (cN up) knows (cN base) (cN rate) guard (cN status) (cN who) (cN latest) (cN row) (cN bal) (cN many) (cN frm) (cN amt) (cN sec) (cN xpy) (cN born) (cN dead) (cN publd) (cN pubs) (cN since) (cN held) (cN outm) (cN least) (cN path) (cN xsum) n (nI (msk m)) → wX_urgent_7 post (nI c) (nI s) spent (nI now) (nI ch) (nI goal) (nI val) (nI known) (cN coins) (cN up) knows (cN base) (cN rate) guard (cN status) (cN who) (cN latest) (cN row) (cN bal) (cN many) (cN frm) (cN amt) (cN sec) (cN xpy) (cN born) (cN dead) (cN publd) (cN pubs) (cN since) (cN held) (cN outm) (cN least) (cN path) (cN xsum) (n + l.length) (nI (msk (l ++ m))) := by
  intro l
  induction l with
  | nil => intro _ m _ _ n h; exact h
  | cons i l ih =>
    intro hl m hsr h11 n h
    have i11 := h11 i (List.mem_cons_self ..)
    obtain ⟨f2, f3, f4⟩ := hl i (List.mem_cons_self ..)
    have p0 := msk_pos (i := i) (l := l ++ m)
    have p1 := m_lt h11
    have k := ih (fun j hj => hl j (List.mem_cons_of_mem _ hj)) m hsr.2 (fun j hj => h11 j (List.mem_cons_of_mem _ hj)) n h
    rw [List.length_cons, show n + (l.length + 1) = (n + l.length) + 1 by omega, List.cons_append, wX_urgent_7]
    have u0 : (b01 (urB now knows (who (2 * c + s)) s (cnc status up who latest c) (frm (11 * c + i), amt (11 * c + i), sec (11 * c + i), xpy (11 * c + i)))) = 0 := by
      unfold b01
      rw [if_neg]
      intro y
      exact absurd (f4.symm.trans y) (by decide)
    rw [List.cons_append] at p1
    have hsr' : srt (i :: (l ++ m)) := hsr
    have h11' : ∀ j, j ∈ i :: (l ++ m) → j < 11 := h11
    simp (disch := omega) only [xw_nth0 hsr' h11', xw_isUrgent hc hs (show 11 * c + i < 88 by omega) f2 f3 hn hst h0 h1 hu hla, u0, m_low hsr'.1, li_0, li_1, li_2, li_3, li_4, li_5, li_6, li_7, li_8, li_9, li_10, li_11, li_12, li_15, li_16, li_20, li_21, li_24, li_31, li_36, li_100, li_255, li_256, li_1000, li_6000, li_M, un_s, un_n, ba_ap, ba_upd, ba_in, cT_le, cF_le, cT_lt, cF_lt, cT_eq, cF_eq, nb_1, nb_2, ns_1, ns_2, nz_1, nz_2, ng_1, ng_2, ng_3, ng_4, ng_5, nI_clamp, nI_add, pk_mul, pk_sub, forall_eq, true_and, and_true, true_imp_iff, false_imp_iff, not_true_eq_false, not_false_eq_true, implies_true]
    exact k
theorem xw_urg_end {post : Int32 → Prop} {c s : Nat} (h : post (-nI 1)) : wX_urgent_7 post (nI c) (nI s) spent (nI now) (nI ch) (nI goal) (nI val) (nI known) (cN coins) (cN up) knows (cN base) (cN rate) guard (cN status) (cN who) (cN latest) (cN row) (cN bal) (cN many) (cN frm) (cN amt) (cN sec) (cN xpy) (cN born) (cN dead) (cN publd) (cN pubs) (cN since) (cN held) (cN outm) (cN least) (cN path) (cN xsum) 1 (nI (msk [])) := by
  rw [wX_urgent_7]
  simp (disch := omega) only [msk_0, li_0, li_1, li_2, li_3, li_4, li_5, li_6, li_7, li_8, li_9, li_10, li_11, li_12, li_15, li_16, li_20, li_21, li_24, li_31, li_36, li_100, li_255, li_256, li_1000, li_6000, li_M, un_s, un_n, ba_ap, ba_upd, ba_in, cT_le, cF_le, cT_lt, cF_lt, cT_eq, cF_eq, nb_1, nb_2, ns_1, ns_2, nz_1, nz_2, ng_1, ng_2, ng_3, ng_4, ng_5, nI_clamp, nI_add, pk_mul, pk_sub, forall_eq, true_and, and_true, true_imp_iff, false_imp_iff, not_true_eq_false, not_false_eq_true, implies_true]
  exact h
theorem xw_urg_hit {post : Int32 → Prop} {c s i : Nat} {m : List Nat} (hc : c < 8) (hs : s < 2) (hn : now < 32768) (hst : status c < 3) (h0 : who (2 * c) < 6) (h1 : who (2 * c + 1) < 6) (hu : ∀ p, p < 6 → up p < 2) (hla : latest c < 12) (hsr : srt (i :: m)) (h11 : ∀ j, j ∈ i :: m → j < 11) (hf : frm (11 * c + i) < 2) (hx : xpy (11 * c + i) < 32768) (hb : urB now knows (who (2 * c + s)) s (cnc status up who latest c) (tb frm amt sec xpy born dead c i).1 = true) (h : post (nI i)) : wX_urgent_7 post (nI c) (nI s) spent (nI now) (nI ch) (nI goal) (nI val) (nI known) (cN coins) (cN up) knows (cN base) (cN rate) guard (cN status) (cN who) (cN latest) (cN row) (cN bal) (cN many) (cN frm) (cN amt) (cN sec) (cN xpy) (cN born) (cN dead) (cN publd) (cN pubs) (cN since) (cN held) (cN outm) (cN least) (cN path) (cN xsum) 1 (nI (msk (i :: m))) := by
  have i11 := h11 i (List.mem_cons_self ..)
  have p0 := msk_pos (i := i) (l := m)
  have p1 := m_lt h11
  have u1 : (b01 (urB now knows (who (2 * c + s)) s (cnc status up who latest c) (frm (11 * c + i), amt (11 * c + i), sec (11 * c + i), xpy (11 * c + i)))) = 1 := if_pos hb
  rw [wX_urgent_7]
  simp (disch := omega) only [xw_nth0 hsr h11, xw_isUrgent hc hs (show 11 * c + i < 88 by omega) hf hx hn hst h0 h1 hu hla, u1, li_0, li_1, li_2, li_3, li_4, li_5, li_6, li_7, li_8, li_9, li_10, li_11, li_12, li_15, li_16, li_20, li_21, li_24, li_31, li_36, li_100, li_255, li_256, li_1000, li_6000, li_M, un_s, un_n, ba_ap, ba_upd, ba_in, cT_le, cF_le, cT_lt, cF_lt, cT_eq, cF_eq, nb_1, nb_2, ns_1, ns_2, nz_1, nz_2, ng_1, ng_2, ng_3, ng_4, ng_5, nI_clamp, nI_add, pk_mul, pk_sub, forall_eq, true_and, and_true, true_imp_iff, false_imp_iff, not_true_eq_false, not_false_eq_true, implies_true]
  exact h
end
section
variable {spent : Int32} {now ch len : Nat} {coins base rate up who status latest publd ypub since held outn bal lks yf ya ys ye qf qa qs qe part ysum bst bsm : Nat → Nat} {guard knows way : Nat → Int32}
theorem yw_act_skip {post : Int32 → SY → Prop} {p c s S can : Nat} (hp : p < 6) (hS : S < 96) (hs : s < 2) (h3 : lks S ≤ 3) (hn : now < 32768) (hcan : can < 2) (hfe : ∀ j, j < lks S → yf (3 * S + j) < 2 ∧ ye (3 * S + j) < 32768) {J : Nat} (hJ : J ≤ lks S) : ∀ d j, j + d = J → (∀ i, j ≤ i → i < J → urB now knows p s can (lk4 yf ya ys ye (3 * S + i)) = false) → ∀ n, wY_act_24 post (nI p) (nI c) (nI s) (nI S) (nI can) (nI now) spent (nI ch) (nI len) (cN coins) (cN base) (cN rate) guard knows (cN up) (cN who) (cN status) (cN latest) (cN publd) (cN ypub) (cN since) (cN held) (cN outn) (cN bal) (cN lks) (cN yf) (cN ya) (cN ys) (cN ye) (cN qf) (cN qa) (cN qs) (cN qe) way (cN part) (cN ysum) (cN bst) (cN bsm) n (nI J) → wY_act_24 post (nI p) (nI c) (nI s) (nI S) (nI can) (nI now) spent (nI ch) (nI len) (cN coins) (cN base) (cN rate) guard knows (cN up) (cN who) (cN status) (cN latest) (cN publd) (cN ypub) (cN since) (cN held) (cN outn) (cN bal) (cN lks) (cN yf) (cN ya) (cN ys) (cN ye) (cN qf) (cN qa) (cN qs) (cN qe) way (cN part) (cN ysum) (cN bst) (cN bsm) (n + d) (nI j) := by
  intro d
  induction d with
  | zero => intro j hj _ n h; rw [Nat.add_zero] at hj; rw [hj]; exact h
  | succ d ih =>
    intro j hj hu n h
    have k := ih (j + 1) (by omega) (fun i hi => hu i (by omega)) n h
    obtain ⟨f2, e2⟩ := hfe j (by omega)
    have u := hu j (Nat.le_refl _) (by omega)
    rw [show n + (d + 1) = (n + d) + 1 by omega, wY_act_24]
    unfold urB lk4 at u
    dsimp only at u
    by_cases a : yf (3 * S + j) = s
    · rw [if_pos a] at u
      have u := of_decide_eq_false u
      simp (disch := omega) only [wY_act_61, li_0, li_1, li_2, li_3, li_4, li_5, li_6, li_7, li_8, li_9, li_10, li_11, li_12, li_15, li_16, li_20, li_21, li_24, li_31, li_36, li_100, li_255, li_256, li_1000, li_6000, li_M, un_s, un_n, ba_ap, ba_upd, ba_in, cT_le, cF_le, cT_lt, cF_lt, cT_eq, cF_eq, nb_1, nb_2, ns_1, ns_2, nz_1, nz_2, ng_1, ng_2, ng_3, ng_4, ng_5, nI_clamp, nI_add, pk_mul, pk_sub, forall_eq, true_and, and_true, true_imp_iff, false_imp_iff, not_true_eq_false, not_false_eq_true, implies_true]
      exact k
    · rw [if_neg a, Bool.and_eq_false_iff] at u
      cases z : kB knows p (ys (3 * S + j)) with
      | false =>
        have q := kB_f z
        unfold knw at q
        simp (disch := omega) only [wY_act_61, ba_10, q, li_0, li_1, li_2, li_3, li_4, li_5, li_6, li_7, li_8, li_9, li_10, li_11, li_12, li_15, li_16, li_20, li_21, li_24, li_31, li_36, li_100, li_255, li_256, li_1000, li_6000, li_M, un_s, un_n, ba_ap, ba_upd, ba_in, cT_le, cF_le, cT_lt, cF_lt, cT_eq, cF_eq, nb_1, nb_2, ns_1, ns_2, nz_1, nz_2, ng_1, ng_2, ng_3, ng_4, ng_5, nI_clamp, nI_add, pk_mul, pk_sub, forall_eq, true_and, and_true, true_imp_iff, false_imp_iff, not_true_eq_false, not_false_eq_true, implies_true]
        exact k
      | true =>
        have q := kB_t z
        unfold knw at q
        rcases u with u | u
        · rw [z] at u; cases u
        · rw [Bool.or_eq_false_iff] at u
          have u1 := of_decide_eq_false u.1
          have u2 := of_decide_eq_false u.2
          simp (disch := omega) only [wY_act_61, ba_10, q, li_0, li_1, li_2, li_3, li_4, li_5, li_6, li_7, li_8, li_9, li_10, li_11, li_12, li_15, li_16, li_20, li_21, li_24, li_31, li_36, li_100, li_255, li_256, li_1000, li_6000, li_M, un_s, un_n, ba_ap, ba_upd, ba_in, cT_le, cF_le, cT_lt, cF_lt, cT_eq, cF_eq, nb_1, nb_2, ns_1, ns_2, nz_1, nz_2, ng_1, ng_2, ng_3, ng_4, ng_5, nI_clamp, nI_add, pk_mul, pk_sub, forall_eq, true_and, and_true, true_imp_iff, false_imp_iff, not_true_eq_false, not_false_eq_true, implies_true]
          exact k
theorem yw_act_end {post : Int32 → SY → Prop} {p c s S can : Nat} (hS : S < 96) (h3 : lks S ≤ 3) (h : post (nI 0) (nI now, spent, nI ch, nI len, cN coins, cN base, cN rate, guard, knows, cN up, cN who, cN status, cN latest, cN publd, cN ypub, cN since, cN held, cN outn, cN bal, cN lks, cN yf, cN ya, cN ys, cN ye, cN qf, cN qa, cN qs, cN qe, way, cN part, cN ysum, cN bst, cN bsm)) : wY_act_24 post (nI p) (nI c) (nI s) (nI S) (nI can) (nI now) spent (nI ch) (nI len) (cN coins) (cN base) (cN rate) guard knows (cN up) (cN who) (cN status) (cN latest) (cN publd) (cN ypub) (cN since) (cN held) (cN outn) (cN bal) (cN lks) (cN yf) (cN ya) (cN ys) (cN ye) (cN qf) (cN qa) (cN qs) (cN qe) way (cN part) (cN ysum) (cN bst) (cN bsm) 1 (nI (lks S)) := by
  rw [wY_act_24]
  simp (disch := omega) only [li_0, li_1, li_2, li_3, li_4, li_5, li_6, li_7, li_8, li_9, li_10, li_11, li_12, li_15, li_16, li_20, li_21, li_24, li_31, li_36, li_100, li_255, li_256, li_1000, li_6000, li_M, un_s, un_n, ba_ap, ba_upd, ba_in, cT_le, cF_le, cT_lt, cF_lt, cT_eq, cF_eq, nb_1, nb_2, ns_1, ns_2, nz_1, nz_2, ng_1, ng_2, ng_3, ng_4, ng_5, nI_clamp, nI_add, pk_mul, pk_sub, forall_eq, true_and, and_true, true_imp_iff, false_imp_iff, not_true_eq_false, not_false_eq_true, implies_true]
  exact h
theorem yw_act_hit {post : Int32 → SY → Prop} {p c s S can j : Nat} (hp : p < 6) (hS : S < 96) (hs : s < 2) (h3 : lks S ≤ 3) (hn : now < 32768) (hcan : can < 2) (hj : j < lks S) (f2 : yf (3 * S + j) < 2) (e2 : ye (3 * S + j) < 32768) (u : urB now knows p s can (lk4 yf ya ys ye (3 * S + j)) = true) (h : wY_act_128 post (nI p) (nI c) (nI s) (nI can) (nI j) (nI (3 * S + j)) (nI (if yf (3 * S + j) = s then 1 else 0)) (nI now) spent (nI ch) (nI len) (cN coins) (cN base) (cN rate) guard knows (cN up) (cN who) (cN status) (cN latest) (cN publd) (cN ypub) (cN since) (cN held) (cN outn) (cN bal) (cN lks) (cN yf) (cN ya) (cN ys) (cN ye) (cN qf) (cN qa) (cN qs) (cN qe) way (cN part) (cN ysum) (cN bst) (cN bsm)) : wY_act_24 post (nI p) (nI c) (nI s) (nI S) (nI can) (nI now) spent (nI ch) (nI len) (cN coins) (cN base) (cN rate) guard knows (cN up) (cN who) (cN status) (cN latest) (cN publd) (cN ypub) (cN since) (cN held) (cN outn) (cN bal) (cN lks) (cN yf) (cN ya) (cN ys) (cN ye) (cN qf) (cN qa) (cN qs) (cN qe) way (cN part) (cN ysum) (cN bst) (cN bsm) 1 (nI j) := by
  rw [wY_act_24]
  unfold urB lk4 at u
  dsimp only at u
  by_cases a : yf (3 * S + j) = s
  · rw [if_pos a] at u h
    have u := of_decide_eq_true u
    simp (disch := omega) only [wY_act_61, li_0, li_1, li_2, li_3, li_4, li_5, li_6, li_7, li_8, li_9, li_10, li_11, li_12, li_15, li_16, li_20, li_21, li_24, li_31, li_36, li_100, li_255, li_256, li_1000, li_6000, li_M, un_s, un_n, ba_ap, ba_upd, ba_in, cT_le, cF_le, cT_lt, cF_lt, cT_eq, cF_eq, nb_1, nb_2, ns_1, ns_2, nz_1, nz_2, ng_1, ng_2, ng_3, ng_4, ng_5, nI_clamp, nI_add, pk_mul, pk_sub, forall_eq, true_and, and_true, true_imp_iff, false_imp_iff, not_true_eq_false, not_false_eq_true, implies_true]
    exact h
  · rw [if_neg a] at u h
    rw [Bool.and_eq_true] at u
    have q := kB_t u.1
    unfold knw at q
    have u2 := u.2
    rw [Bool.or_eq_true] at u2
    rcases (show can = 0 ∨ can = 1 by omega) with rfl | rfl
    · have u3 : ye (3 * S + j) ≤ now + 1 := by
        rcases u2 with u2 | u2
        · exact absurd (of_decide_eq_true u2) (by omega)
        · exact of_decide_eq_true u2
      simp (disch := omega) only [wY_act_61, ba_10, q, li_0, li_1, li_2, li_3, li_4, li_5, li_6, li_7, li_8, li_9, li_10, li_11, li_12, li_15, li_16, li_20, li_21, li_24, li_31, li_36, li_100, li_255, li_256, li_1000, li_6000, li_M, un_s, un_n, ba_ap, ba_upd, ba_in, cT_le, cF_le, cT_lt, cF_lt, cT_eq, cF_eq, nb_1, nb_2, ns_1, ns_2, nz_1, nz_2, ng_1, ng_2, ng_3, ng_4, ng_5, nI_clamp, nI_add, pk_mul, pk_sub, forall_eq, true_and, and_true, true_imp_iff, false_imp_iff, not_true_eq_false, not_false_eq_true, implies_true]
      exact h
    · simp (disch := omega) only [wY_act_61, ba_10, q, li_0, li_1, li_2, li_3, li_4, li_5, li_6, li_7, li_8, li_9, li_10, li_11, li_12, li_15, li_16, li_20, li_21, li_24, li_31, li_36, li_100, li_255, li_256, li_1000, li_6000, li_M, un_s, un_n, ba_ap, ba_upd, ba_in, cT_le, cF_le, cT_lt, cF_lt, cT_eq, cF_eq, nb_1, nb_2, ns_1, ns_2, nz_1, nz_2, ng_1, ng_2, ng_3, ng_4, ng_5, nI_clamp, nI_add, pk_mul, pk_sub, forall_eq, true_and, and_true, true_imp_iff, false_imp_iff, not_true_eq_false, not_false_eq_true, implies_true]
      exact h
end
end
section
def cnA (a : SA) (c : Nat) : Nat := cnc (ga_status a) (ga_up a) (ga_who a) (ga_latest a) c
def urA (a : SA) (c s : Nat) (l : LK) : Bool := urB (ga_now a) (ga_knows a) (ga_who a (2 * c + s)) s (cnA a c) l
def Fr (a a' : SA) : Prop := ga_ch a' = ga_ch a ∧ ga_who a' = ga_who a ∧ ga_up a' = ga_up a ∧ ga_guard a' = ga_guard a ∧ ga_now a' = ga_now a
theorem Fr_r (a : SA) : Fr a a := ⟨rfl, rfl, rfl, rfl, rfl⟩
theorem Fr_t {a b c : SA} (h : Fr a b) (k : Fr b c) : Fr a c := ⟨k.1.trans h.1, k.2.1.trans h.2.1, k.2.2.1.trans h.2.2.1, k.2.2.2.1.trans h.2.2.2.1, k.2.2.2.2.trans h.2.2.2.2⟩
def lrn (a : SA) (c s : Nat) (l : LK) : Nat → Int32 := if l.1 = s then ga_knows a else upd (ga_knows a) (ga_who a (2 * c + 1 - s)) (ga_knows a (ga_who a (2 * c + 1 - s)) ||| (nI 1 <<< (nI l.2.2.1 &&& nI 31)))
def aFn (a : SA) (c s : Nat) (l : LK) (R : List LK) : SA := aNew (aKn a (lrn a c s l)) c (pls 0 (ga_bal a (2 * (12 * c + ga_latest a c))) l.2.1 s) (pls 1 (ga_bal a (2 * (12 * c + ga_latest a c) + 1)) l.2.1 s) R
theorem x_lk {T : Nat} {a : SA} {x : OX} (I : Inv T a) (R : RX a x) {c k : Nat} (hc : c < ga_ch a) (hk : k ≤ ga_latest a c) : ∀ i, i ∈ ids (gx_many x c) (xT x c) k → lkI (xT x c i).1 ∧ (xT x c i).1 ∈ ga_rows a c k := by
  intro i hi
  have h : (xT x c i).1 ∈ ga_rows a c k := by
    rw [(R.1 c hc).1.2.2.2 k hk]; exact List.mem_map.mpr ⟨i, hi, rfl⟩
  exact ⟨((I.2.2.2.2.1 c hc).2.2.2.2.2.2.1 k hk).2.1 _ h, h⟩
theorem upI {T : Nat} {a : SA} (I : Inv T a) : ∀ p, p < 6 → ga_up a p < 2 := fun p hp => (I.2.2.1 p hp).1
theorem x2_urgN {T : Nat} {a : SA} {x : OX} {c s : Nat} (I : Inv T a) (hT : T < 32768) (R : RX a x) (hc : c < ga_ch a) (hs : s < 2) (hN : ∀ l, l ∈ ga_rows a c (ga_latest a c) → urA a c s l = false) {post : Int32 → Prop} (h : post (-nI 1)) : wpX_urgent post (mX a x) (nI c) (nI s) := by
  have c8 := ch8 I hc
  obtain ⟨j1, j2, j3, j4, j5, j6, j7, j8⟩ := I.2.2.2.2.1 c hc
  have hn := I.2.1
  have e := (R.1 c hc).1.2.2.1
  simp (disch := omega) only [wpX_urgent, mX, li_0, li_1, li_2, li_3, li_4, li_5, li_6, li_7, li_8, li_9, li_10, li_11, li_12, li_15, li_16, li_20, li_21, li_24, li_31, li_36, li_100, li_255, li_256, li_1000, li_6000, li_M, un_s, un_n, ba_ap, ba_upd, ba_in, cT_le, cF_le, cT_lt, cF_lt, cT_eq, cF_eq, nb_1, nb_2, ns_1, ns_2, nz_1, nz_2, ng_1, ng_2, ng_3, ng_4, ng_5, nI_clamp, nI_add, pk_mul, pk_sub, forall_eq, true_and, and_true, true_imp_iff, false_imp_iff, not_true_eq_false, not_false_eq_true, implies_true]
  rw [e]
  have k := xw_urg7 (post := post) (born := gx_born x) (dead := gx_dead x) (amt := gx_amt x) (sec := gx_sec x) (frm := gx_frm x) (xpy := gx_xpy x) (spent := ga_spent a) (now := ga_now a) (ch := ga_ch a) (goal := gx_goal x) (val := gx_val x) (known := gx_known x) (coins := ga_coins a) (base := ga_base a) (rate := ga_rate a) (guard := ga_guard a) (knows := ga_knows a) (row := gx_row x) (bal := ga_bal a) (many := gx_many x) (publd := ga_publd a) (pubs := ga_pubs a) (since := ga_since a) (held := ga_held a) (outm := gx_outm x) (least := gx_least x) (path := gx_path x) (xsum := gx_xsum x) c8 hs (by omega) j1 j2 j3 (upI I) j5 (ids (gx_many x c) (xT x c) (ga_latest a c)) (fun i hi => by
    obtain ⟨q1, q2⟩ := x_lk I R hc (Nat.le_refl _) i hi
    exact ⟨q1.1, q1.2.2, hN _ q2⟩) [] (by rw [List.append_nil]; exact ids_srt _ _ _) (by rw [List.append_nil]; exact ids_11 I R hc) 1 (xw_urg_end h)
  rw [List.append_nil] at k
  exact ⟨_, k⟩
theorem x2_urgS {T : Nat} {a : SA} {x : OX} {c s : Nat} {R1 R2 : List LK} {l : LK} (I : Inv T a) (hT : T < 32768) (R : RX a x) (hc : c < ga_ch a) (hs : s < 2) (hr : ga_rows a c (ga_latest a c) = R1 ++ l :: R2) (hN : ∀ l, l ∈ R1 → urA a c s l = false) (hl : urA a c s l = true) :
    ∃ l1 i l2, ids (gx_many x c) (xT x c) (ga_latest a c) = l1 ++ i :: l2 ∧ l1.map (fun i => (xT x c i).1) = R1 ∧ (xT x c i).1 = l ∧ l2.map (fun i => (xT x c i).1) = R2 ∧ ∀ post : Int32 → Prop, post (nI i) → wpX_urgent post (mX a x) (nI c) (nI s) := by
  have c8 := ch8 I hc
  obtain ⟨j1, j2, j3, j4, j5, j6, j7, j8⟩ := I.2.2.2.2.1 c hc
  have hn := I.2.1
  have e := (R.1 c hc).1.2.2.1
  have er := (R.1 c hc).1.2.2.2 _ (Nat.le_refl _)
  rw [hr] at er
  obtain ⟨l1, i, l2, m1, m2, m3, m4⟩ := map_mid er
  refine ⟨l1, i, l2, m1, m2, m3, m4, fun post h => ?_⟩
  have hsr := ids_srt (gx_many x c) (xT x c) (ga_latest a c)
  have h11 := ids_11 (k := ga_latest a c) I R hc
  have hlk := x_lk I R hc (Nat.le_refl _)
  rw [m1] at hsr h11 hlk
  have q0 := (hlk i (List.mem_append.mpr (Or.inr (List.mem_cons_self ..)))).1
  simp (disch := omega) only [wpX_urgent, mX, li_0, li_1, li_2, li_3, li_4, li_5, li_6, li_7, li_8, li_9, li_10, li_11, li_12, li_15, li_16, li_20, li_21, li_24, li_31, li_36, li_100, li_255, li_256, li_1000, li_6000, li_M, un_s, un_n, ba_ap, ba_upd, ba_in, cT_le, cF_le, cT_lt, cF_lt, cT_eq, cF_eq, nb_1, nb_2, ns_1, ns_2, nz_1, nz_2, ng_1, ng_2, ng_3, ng_4, ng_5, nI_clamp, nI_add, pk_mul, pk_sub, forall_eq, true_and, and_true, true_imp_iff, false_imp_iff, not_true_eq_false, not_false_eq_true, implies_true]
  rw [e, m1]
  have k := xw_urg7 (post := post) (born := gx_born x) (dead := gx_dead x) (amt := gx_amt x) (sec := gx_sec x) (frm := gx_frm x) (xpy := gx_xpy x) (spent := ga_spent a) (now := ga_now a) (ch := ga_ch a) (goal := gx_goal x) (val := gx_val x) (known := gx_known x) (coins := ga_coins a) (base := ga_base a) (rate := ga_rate a) (guard := ga_guard a) (knows := ga_knows a) (row := gx_row x) (bal := ga_bal a) (many := gx_many x) (publd := ga_publd a) (pubs := ga_pubs a) (since := ga_since a) (held := ga_held a) (outm := gx_outm x) (least := gx_least x) (path := gx_path x) (xsum := gx_xsum x) c8 hs (by omega) j1 j2 j3 (upI I) j5 l1 (fun i hi => by
    obtain ⟨q1, q2⟩ := hlk i (List.mem_append.mpr (Or.inl hi))
    refine ⟨q1.1, q1.2.2, hN _ ?_⟩
    rw [← m2]
    exact List.mem_map.mpr ⟨i, hi, rfl⟩) (i :: l2) hsr h11 1 (xw_urg_hit c8 hs (by omega) j1 j2 j3 (upI I) j5 (srt_tl _ _ hsr) (fun j hj => h11 j (List.mem_append.mpr (Or.inr hj))) q0.1 q0.2.2 (by rw [← m3] at hl; exact hl) h)
  exact ⟨_, k⟩
theorem y_fe {T : Nat} {a : SA} {y : OY} (I : Inv T a) (R : RY a y) {c k : Nat} (hc : c < ga_ch a) (hk : k ≤ ga_latest a c) : ∀ j, j < gy_lks y (12 * c + k) → gy_yf y (3 * (12 * c + k) + j) < 2 ∧ gy_ye y (3 * (12 * c + k) + j) < 32768 := by
  intro j hj
  have h : yF y (3 * (12 * c + k) + j) ∈ ga_rows a c k := by
    rw [(R c hc).1 k hk]
    exact List.mem_map.mpr ⟨j, List.mem_range.mpr hj, rfl⟩
  have q := ((I.2.2.2.2.1 c hc).2.2.2.2.2.2.1 k hk).2.1 _ h
  exact ⟨q.1, q.2.2⟩
theorem y2_act {T : Nat} {a : SA} {y : OY} {c s p : Nat} (I : Inv T a) (hc : c < ga_ch a) (hp : p < 6) (hs : s < 2) (hw : ga_who a (2 * c + s) = p) {post : Int32 → SY → Prop} (h : ∃ n, wY_act_24 post (nI p) (nI c) (nI s) (nI (12 * c + ga_latest a c)) (nI (cnA a c)) (nI (ga_now a)) (ga_spent a) (nI (ga_ch a)) (nI (gy_len y)) (cN (ga_coins a)) (cN (ga_base a)) (cN (ga_rate a)) (ga_guard a) (ga_knows a) (cN (ga_up a)) (cN (ga_who a)) (cN (ga_status a)) (cN (ga_latest a)) (cN (ga_publd a)) (cN (gy_ypub y)) (cN (ga_since a)) (cN (ga_held a)) (cN (gy_outn y)) (cN (ga_bal a)) (cN (gy_lks y)) (cN (gy_yf y)) (cN (gy_ya y)) (cN (gy_ys y)) (cN (gy_ye y)) (cN (gy_qf y)) (cN (gy_qa y)) (cN (gy_qs y)) (cN (gy_qe y)) (gy_way y) (cN (gy_part y)) (cN (gy_ysum y)) (cN (gy_bst y)) (cN (gy_bsm y)) n (nI 0)) : wpY_act post (mY a y) (nI p) (nI c) := by
  have c8 := ch8 I hc
  obtain ⟨j1, j2, j3, j4, j5, j6, j7, j8⟩ := I.2.2.2.2.1 c hc
  have hsI : sI (ga_who a) c p = nI s := by rw [← hw]; exact (sI_s (sd_w j4 hs) hs).1
  simp (disch := omega) only [wpY_act, mY, yw_sideOf c8 (show p < 2 ^ 31 by omega) j2 j3, hsI, yw_now c8, yw_changes c8 j1 j2 j3 (upI I) j5, li_0, li_1, li_2, li_3, li_4, li_5, li_6, li_7, li_8, li_9, li_10, li_11, li_12, li_15, li_16, li_20, li_21, li_24, li_31, li_36, li_100, li_255, li_256, li_1000, li_6000, li_M, un_s, un_n, ba_ap, ba_upd, ba_in, cT_le, cF_le, cT_lt, cF_lt, cT_eq, cF_eq, nb_1, nb_2, ns_1, ns_2, nz_1, nz_2, ng_1, ng_2, ng_3, ng_4, ng_5, nI_clamp, nI_add, pk_mul, pk_sub, forall_eq, true_and, and_true, true_imp_iff, false_imp_iff, not_true_eq_false, not_false_eq_true, implies_true]
  exact h
theorem y2_actN {T : Nat} {a : SA} {y : OY} {c s p : Nat} (I : Inv T a) (hT : T < 32768) (R : RY a y) (hc : c < ga_ch a) (hp : p < 6) (hs : s < 2) (hw : ga_who a (2 * c + s) = p) (hN : ∀ l, l ∈ ga_rows a c (ga_latest a c) → urA a c s l = false) {post : Int32 → SY → Prop} (h : post (nI 0) (mY a y)) : wpY_act post (mY a y) (nI p) (nI c) := by
  have c8 := ch8 I hc
  obtain ⟨j1, j2, j3, j4, j5, j6, j7, j8⟩ := I.2.2.2.2.1 c hc
  have hn := I.2.1
  obtain ⟨n1, n2⟩ := y_len I R hc (Nat.le_refl _)
  refine y2_act I hc hp hs hw ⟨1 + gy_lks y (12 * c + ga_latest a c), ?_⟩
  refine yw_act_skip hp (by omega) hs n2 (by omega) (by rcases cnc_01 (ga_status a) (ga_up a) (ga_who a) (ga_latest a) c with q | q <;> unfold cnA <;> omega) (y_fe I R hc (Nat.le_refl _)) (Nat.le_refl _) _ 0 (by omega) (fun i _ hi => ?_) 1 (yw_act_end (by omega) n2 h)
  have q : yF y (3 * (12 * c + ga_latest a c) + i) ∈ ga_rows a c (ga_latest a c) := by
    rw [(R c hc).1 _ (Nat.le_refl _)]
    exact List.mem_map.mpr ⟨i, List.mem_range.mpr hi, rfl⟩
  have w := hN _ q
  unfold urA at w
  rw [hw] at w
  exact w
theorem y2_actS {T : Nat} {a : SA} {y : OY} {c s p : Nat} {R1 R2 : List LK} {l : LK} (I : Inv T a) (hT : T < 32768) (R : RY a y) (hc : c < ga_ch a) (h0 : ga_status a c = 0) (hp : p < 6) (hs : s < 2) (hw : ga_who a (2 * c + s) = p) (hr : ga_rows a c (ga_latest a c) = R1 ++ l :: R2) (hN : ∀ l, l ∈ R1 → urA a c s l = false) (hl : urA a c s l = true) :
    (cnA a c = 0 → ∃ y', RY (aShw a c s (ga_latest a c)) y' ∧ ∀ post : Int32 → SY → Prop, post (nI 1) (mY (aShw a c s (ga_latest a c)) y') → wpY_act post (mY a y) (nI p) (nI c)) ∧
    (cnA a c = 1 → ∃ y', RY (aFn a c s l (R1 ++ R2)) y' ∧ ∀ post : Int32 → SY → Prop, post (nI 1) (mY (aFn a c s l (R1 ++ R2)) y') → wpY_act post (mY a y) (nI p) (nI c)) := by
  have c8 := ch8 I hc
  obtain ⟨j1, j2, j3, j4, j5, j6, j7, j8⟩ := I.2.2.2.2.1 c hc
  have hn := I.2.1
  obtain ⟨n1, n2⟩ := y_len I R hc (Nat.le_refl _)
  have e := (R c hc).1 _ (Nat.le_refl _)
  have efe := y_fe I R hc (Nat.le_refl _)
  have hcan : cnA a c < 2 := by rcases cnc_01 (ga_status a) (ga_up a) (ga_who a) (ga_latest a) c with q | q <;> unfold cnA <;> omega
  rw [hr] at e
  obtain ⟨m1, m2, m3, m4⟩ := lsF_mid e
  have hJ : R1.length < gy_lks y (12 * c + ga_latest a c) := by omega
  have hwo : ga_who a (2 * c + 1 - s) < 6 := by
    rcases (show s = 0 ∨ s = 1 by omega) with rfl | rfl
    · exact j3
    · exact j2
  have go : ∀ post : Int32 → SY → Prop, wY_act_128 post (nI p) (nI c) (nI s) (nI (cnA a c)) (nI R1.length) (nI (3 * (12 * c + ga_latest a c) + R1.length)) (nI (if l.1 = s then 1 else 0)) (nI (ga_now a)) (ga_spent a) (nI (ga_ch a)) (nI (gy_len y)) (cN (ga_coins a)) (cN (ga_base a)) (cN (ga_rate a)) (ga_guard a) (ga_knows a) (cN (ga_up a)) (cN (ga_who a)) (cN (ga_status a)) (cN (ga_latest a)) (cN (ga_publd a)) (cN (gy_ypub y)) (cN (ga_since a)) (cN (ga_held a)) (cN (gy_outn y)) (cN (ga_bal a)) (cN (gy_lks y)) (cN (gy_yf y)) (cN (gy_ya y)) (cN (gy_ys y)) (cN (gy_ye y)) (cN (gy_qf y)) (cN (gy_qa y)) (cN (gy_qs y)) (cN (gy_qe y)) (gy_way y) (cN (gy_part y)) (cN (gy_ysum y)) (cN (gy_bst y)) (cN (gy_bsm y)) → wpY_act post (mY a y) (nI p) (nI c) := by
    intro post h
    refine y2_act I hc hp hs hw ⟨1 + R1.length, ?_⟩
    have ef : gy_yf y (3 * (12 * c + ga_latest a c) + R1.length) = l.1 := by rw [← m3]; rfl
    refine yw_act_skip hp (by omega) hs n2 (by omega) hcan efe (Nat.le_of_lt hJ) _ 0 (by omega) (fun i _ hi => ?_) 1 (yw_act_hit hp (by omega) hs n2 (by omega) hcan hJ (efe _ hJ).1 (efe _ hJ).2 ?_ ?_)
    · have q : yF y (3 * (12 * c + ga_latest a c) + i) ∈ R1 := by
        rw [m2]
        exact List.mem_map.mpr ⟨i, List.mem_range.mpr hi, rfl⟩
      have w := hN _ q
      unfold urA at w
      rw [hw] at w
      exact w
    · have w := hl
      unfold urA at w
      rw [hw, ← m3] at w
      exact w
    · rw [ef]; exact h
  refine ⟨fun z => ?_, fun z => ?_⟩
  · obtain ⟨y', r1, r2⟩ := y2_shw I R hc hp h0 hs (by rw [← hw]; exact sd_w j4 hs) (Nat.le_refl _)
    refine ⟨y', r1, fun post h => go post ?_⟩
    rw [z]
    simp (disch := omega) only [wY_act_128, li_0, li_1, li_2, li_3, li_4, li_5, li_6, li_7, li_8, li_9, li_10, li_11, li_12, li_15, li_16, li_20, li_21, li_24, li_31, li_36, li_100, li_255, li_256, li_1000, li_6000, li_M, un_s, un_n, ba_ap, ba_upd, ba_in, cT_le, cF_le, cT_lt, cF_lt, cT_eq, cF_eq, nb_1, nb_2, ns_1, ns_2, nz_1, nz_2, ng_1, ng_2, ng_3, ng_4, ng_5, nI_clamp, nI_add, pk_mul, pk_sub, forall_eq, true_and, and_true, true_imp_iff, false_imp_iff, not_true_eq_false, not_false_eq_true, implies_true]
    exact r2 _ h
  · have hL := (cnc_i z).2
    have hsec : gy_ys y (3 * (12 * c + ga_latest a c) + R1.length) = l.2.2.1 := by rw [← m3]; rfl
    obtain ⟨y', r1, r2⟩ := y2_fin (a := aKn a (lrn a c s l)) I R hc h0 hL hs hr
    refine ⟨y', r1, fun post h => go post ?_⟩
    rw [z]
    have fin : ∀ post' : SY → Prop, post' (mY (aFn a c s l (R1 ++ R2)) y') → wpY_end post' (mY (aKn a (lrn a c s l)) y) (nI c) (nI R1.length) (nI s) := r2
    by_cases w : l.1 = s
    · rw [if_pos w]
      simp (disch := omega) only [wY_act_128, wY_act_182, li_0, li_1, li_2, li_3, li_4, li_5, li_6, li_7, li_8, li_9, li_10, li_11, li_12, li_15, li_16, li_20, li_21, li_24, li_31, li_36, li_100, li_255, li_256, li_1000, li_6000, li_M, un_s, un_n, ba_ap, ba_upd, ba_in, cT_le, cF_le, cT_lt, cF_lt, cT_eq, cF_eq, nb_1, nb_2, ns_1, ns_2, nz_1, nz_2, ng_1, ng_2, ng_3, ng_4, ng_5, nI_clamp, nI_add, pk_mul, pk_sub, forall_eq, true_and, and_true, true_imp_iff, false_imp_iff, not_true_eq_false, not_false_eq_true, implies_true]
      have ek : lrn a c s l = ga_knows a := if_pos w
      rw [ek] at fin
      exact fin _ h
    · rw [if_neg w]
      have ek : lrn a c s l = upd (ga_knows a) (ga_who a (2 * c + 1 - s)) (ga_knows a (ga_who a (2 * c + 1 - s)) ||| (nI 1 <<< (nI l.2.2.1 &&& nI 31))) := if_neg w
      rw [ek] at fin
      rcases (show s = 0 ∨ s = 1 by omega) with rfl | rfl
      · simp only [Nat.sub_zero] at fin hwo
        simp (disch := omega) only [wY_act_128, wY_act_182, hsec, Nat.sub_zero, li_0, li_1, li_2, li_3, li_4, li_5, li_6, li_7, li_8, li_9, li_10, li_11, li_12, li_15, li_16, li_20, li_21, li_24, li_31, li_36, li_100, li_255, li_256, li_1000, li_6000, li_M, un_s, un_n, ba_ap, ba_upd, ba_in, cT_le, cF_le, cT_lt, cF_lt, cT_eq, cF_eq, nb_1, nb_2, ns_1, ns_2, nz_1, nz_2, ng_1, ng_2, ng_3, ng_4, ng_5, nI_clamp, nI_add, pk_mul, pk_sub, forall_eq, true_and, and_true, true_imp_iff, false_imp_iff, not_true_eq_false, not_false_eq_true, implies_true]
        exact fin _ h
      · simp only [Nat.add_sub_cancel] at fin hwo
        simp (disch := omega) only [wY_act_128, wY_act_182, hsec, Nat.add_sub_cancel, li_0, li_1, li_2, li_3, li_4, li_5, li_6, li_7, li_8, li_9, li_10, li_11, li_12, li_15, li_16, li_20, li_21, li_24, li_31, li_36, li_100, li_255, li_256, li_1000, li_6000, li_M, un_s, un_n, ba_ap, ba_upd, ba_in, cT_le, cF_le, cT_lt, cF_lt, cT_eq, cF_eq, nb_1, nb_2, ns_1, ns_2, nz_1, nz_2, ng_1, ng_2, ng_3, ng_4, ng_5, nI_clamp, nI_add, pk_mul, pk_sub, forall_eq, true_and, and_true, true_imp_iff, false_imp_iff, not_true_eq_false, not_false_eq_true, implies_true]
        exact fin _ h
end
section
theorem inv_aFn {T : Nat} {a : SA} {c s : Nat} {R1 R2 : List LK} {l : LK} (I : Inv T a) (hc : c < ga_ch a) (h0 : ga_status a c = 0) (hL : ga_latest a c < 11) (hs : s < 2) (hr : ga_rows a c (ga_latest a c) = R1 ++ l :: R2) : Inv T (aFn a c s l (R1 ++ R2)) := by
  obtain ⟨j1, j2, j3, j4, j5, j6, j7, j8⟩ := I.2.2.2.2.1 c hc
  obtain ⟨k1, k2, k3⟩ := j7 _ (Nat.le_refl _)
  rw [hr] at k1 k2 k3
  refine inv_new (a := aKn a (lrn a c s l)) I hc h0 hL ?_ ?_ ?_
  · rw [List.length_append, List.length_cons] at k1
    rw [List.length_append]; omega
  · intro x hx
    refine k2 x ?_
    rcases List.mem_append.mp hx with hx | hx
    · exact List.mem_append.mpr (Or.inl hx)
    · exact List.mem_append.mpr (Or.inr (List.mem_cons_of_mem _ hx))
  · have e : sumL (R1 ++ l :: R2) = sumL (R1 ++ R2) + l.2.1 := by
      rw [sumL_app, sumL_app]
      show sumL R1 + (l.2.1 + sumL R2) = _
      omega
    rw [e] at k3
    show pls 0 (ga_bal a (2 * (12 * c + ga_latest a c))) l.2.1 s + pls 1 (ga_bal a (2 * (12 * c + ga_latest a c) + 1)) l.2.1 s + sumL (R1 ++ R2) = ga_bal a (2 * (12 * c + 0)) + ga_bal a (2 * (12 * c + 0) + 1)
    unfold pls
    rcases (show s = 0 ∨ s = 1 by omega) with rfl | rfl
    · simp only [if_true, show ¬ (1 : Nat) = 0 by omega, if_false]; omega
    · simp only [if_true, show ¬ (0 : Nat) = 1 by omega, if_false]; omega
theorem x2_step {T : Nat} {a : SA} {x : OX} {c s i n : Nat} {post : SX → Prop} (I : Inv T a) (hT : T < 32768) (R : RX a x) (hc : c < ga_ch a) (h0 : ga_status a c = 0) (hs : s < 2) (hi : i < 11) (hf : (xT x c i).1.1 < 2) :
    (cnA a c = 0 → wpX_show post (mX a x) (nI c) (nI s) (nI (ga_latest a c)) → wX_settle_7 post (nI c) (nI s) (n + 1) (nI i) (ga_spent a) (nI (ga_now a)) (nI (ga_ch a)) (nI (gx_goal x)) (nI (gx_val x)) (nI (gx_known x)) (cN (ga_coins a)) (cN (ga_up a)) (ga_knows a) (cN (ga_base a)) (cN (ga_rate a)) (ga_guard a) (cN (ga_status a)) (cN (ga_who a)) (cN (ga_latest a)) (cN (gx_row x)) (cN (ga_bal a)) (cN (gx_many x)) (cN (gx_frm x)) (cN (gx_amt x)) (cN (gx_sec x)) (cN (gx_xpy x)) (cN (gx_born x)) (cN (gx_dead x)) (cN (ga_publd a)) (cN (ga_pubs a)) (cN (ga_since a)) (cN (ga_held a)) (cN (gx_outm x)) (cN (gx_least x)) (cN (gx_path x)) (cN (gx_xsum x))) ∧
    (cnA a c = 1 → wpX_finish (fun u => match u with | (f_spent_141, f_now_142, f_channels_143, f_goal_144, f_value_145, f_known_146, a_coins_147, a_up_148, a_knows_149, a_base_150, a_rate_151, a_guard_152, a_status_153, a_who_154, a_latest_155, a_row_156, a_balance_157, a_many_158, a_from_159, a_amount_160, a_secret_161, a_expiry_162, a_born_163, a_dead_164, a_published_165, a_publisher_166, a_since_167, a_held_168, a_outputs_169, a_least_170, a_path_171, a_sums_172) => (wpX_urgent (fun r_173 => (wX_settle_7 post (nI c) (nI s) n r_173 f_spent_141 f_now_142 f_channels_143 f_goal_144 f_value_145 f_known_146 a_coins_147 a_up_148 a_knows_149 a_base_150 a_rate_151 a_guard_152 a_status_153 a_who_154 a_latest_155 a_row_156 a_balance_157 a_many_158 a_from_159 a_amount_160 a_secret_161 a_expiry_162 a_born_163 a_dead_164 a_published_165 a_publisher_166 a_since_167 a_held_168 a_outputs_169 a_least_170 a_path_171 a_sums_172)) (f_spent_141, f_now_142, f_channels_143, f_goal_144, f_value_145, f_known_146, a_coins_147, a_up_148, a_knows_149, a_base_150, a_rate_151, a_guard_152, a_status_153, a_who_154, a_latest_155, a_row_156, a_balance_157, a_many_158, a_from_159, a_amount_160, a_secret_161, a_expiry_162, a_born_163, a_dead_164, a_published_165, a_publisher_166, a_since_167, a_held_168, a_outputs_169, a_least_170, a_path_171, a_sums_172) (nI c) (nI s))) (mX (aKn a (lrn a c s (xT x c i).1)) x) (nI c) (nI i) (nI s) → wX_settle_7 post (nI c) (nI s) (n + 1) (nI i) (ga_spent a) (nI (ga_now a)) (nI (ga_ch a)) (nI (gx_goal x)) (nI (gx_val x)) (nI (gx_known x)) (cN (ga_coins a)) (cN (ga_up a)) (ga_knows a) (cN (ga_base a)) (cN (ga_rate a)) (ga_guard a) (cN (ga_status a)) (cN (ga_who a)) (cN (ga_latest a)) (cN (gx_row x)) (cN (ga_bal a)) (cN (gx_many x)) (cN (gx_frm x)) (cN (gx_amt x)) (cN (gx_sec x)) (cN (gx_xpy x)) (cN (gx_born x)) (cN (gx_dead x)) (cN (ga_publd a)) (cN (ga_pubs a)) (cN (ga_since a)) (cN (ga_held a)) (cN (gx_outm x)) (cN (gx_least x)) (cN (gx_path x)) (cN (gx_xsum x))) := by
  have c8 := ch8 I hc
  obtain ⟨j1, j2, j3, j4, j5, j6, j7, j8⟩ := I.2.2.2.2.1 c hc
  have hff : gx_frm x (11 * c + i) < 2 := hf
  refine ⟨fun z h => ?_, fun z h => ?_⟩
  · rw [wX_settle_7]
    by_cases r : rdA a c = 1
    · have r' : rdy (ga_status a) (ga_up a) (ga_who a) c = 1 := r
      have l11 : ¬ ga_latest a c < 11 := fun y => by
        have := cnc_1 r' y
        unfold cnA at z
        omega
      simp (disch := omega) only [xw_isReady c8 j1 j2 j3 (upI I), r', xw_canChange c8 j5, ltN, l11, if_false, wX_settle_35, li_0, li_1, li_2, li_3, li_4, li_5, li_6, li_7, li_8, li_9, li_10, li_11, li_12, li_15, li_16, li_20, li_21, li_24, li_31, li_36, li_100, li_255, li_256, li_1000, li_6000, li_M, un_s, un_n, ba_ap, ba_upd, ba_in, cT_le, cF_le, cT_lt, cF_lt, cT_eq, cF_eq, nb_1, nb_2, ns_1, ns_2, nz_1, nz_2, ng_1, ng_2, ng_3, ng_4, ng_5, nI_clamp, nI_add, pk_mul, pk_sub, forall_eq, true_and, and_true, true_imp_iff, false_imp_iff, not_true_eq_false, not_false_eq_true, implies_true]
      exact h
    · have r' : rdy (ga_status a) (ga_up a) (ga_who a) c = 0 := by
        rcases rdy_01 (ga_status a) (ga_up a) (ga_who a) c with q | q
        · exact q
        · exact absurd q r
      simp (disch := omega) only [xw_isReady c8 j1 j2 j3 (upI I), r', wX_settle_35, li_0, li_1, li_2, li_3, li_4, li_5, li_6, li_7, li_8, li_9, li_10, li_11, li_12, li_15, li_16, li_20, li_21, li_24, li_31, li_36, li_100, li_255, li_256, li_1000, li_6000, li_M, un_s, un_n, ba_ap, ba_upd, ba_in, cT_le, cF_le, cT_lt, cF_lt, cT_eq, cF_eq, nb_1, nb_2, ns_1, ns_2, nz_1, nz_2, ng_1, ng_2, ng_3, ng_4, ng_5, nI_clamp, nI_add, pk_mul, pk_sub, forall_eq, true_and, and_true, true_imp_iff, false_imp_iff, not_true_eq_false, not_false_eq_true, implies_true]
      exact h
  · rw [wX_settle_7]
    obtain ⟨r', l11⟩ := cnc_i z
    by_cases w : (xT x c i).1.1 = s
    · have w' : gx_frm x (11 * c + i) = s := w
      have ek : lrn a c s (xT x c i).1 = ga_knows a := if_pos w
      rw [ek] at h
      simp (disch := omega) only [xw_isReady c8 j1 j2 j3 (upI I), r', xw_canChange c8 j5, ltN, l11, if_true, wX_settle_86, li_0, li_1, li_2, li_3, li_4, li_5, li_6, li_7, li_8, li_9, li_10, li_11, li_12, li_15, li_16, li_20, li_21, li_24, li_31, li_36, li_100, li_255, li_256, li_1000, li_6000, li_M, un_s, un_n, ba_ap, ba_upd, ba_in, cT_le, cF_le, cT_lt, cF_lt, cT_eq, cF_eq, nb_1, nb_2, ns_1, ns_2, nz_1, nz_2, ng_1, ng_2, ng_3, ng_4, ng_5, nI_clamp, nI_add, pk_mul, pk_sub, forall_eq, true_and, and_true, true_imp_iff, false_imp_iff, not_true_eq_false, not_false_eq_true, implies_true]
      exact h
    · have w' : ¬ gx_frm x (11 * c + i) = s := w
      have ek : lrn a c s (xT x c i).1 = upd (ga_knows a) (ga_who a (2 * c + 1 - s)) (ga_knows a (ga_who a (2 * c + 1 - s)) ||| (nI 1 <<< (nI (gx_sec x (11 * c + i)) &&& nI 31))) := if_neg w
      rw [ek] at h
      have e1 : 2 * c + gx_frm x (11 * c + i) = 2 * c + 1 - s := by omega
      have hwo : ga_who a (2 * c + 1 - s) < 6 := by
        rcases (show s = 0 ∨ s = 1 by omega) with rfl | rfl
        · exact j3
        · exact j2
      simp (disch := omega) only [xw_isReady c8 j1 j2 j3 (upI I), r', xw_canChange c8 j5, ltN, l11, if_true, wX_settle_86, e1, xw_learn, li_0, li_1, li_2, li_3, li_4, li_5, li_6, li_7, li_8, li_9, li_10, li_11, li_12, li_15, li_16, li_20, li_21, li_24, li_31, li_36, li_100, li_255, li_256, li_1000, li_6000, li_M, un_s, un_n, ba_ap, ba_upd, ba_in, cT_le, cF_le, cT_lt, cF_lt, cT_eq, cF_eq, nb_1, nb_2, ns_1, ns_2, nz_1, nz_2, ng_1, ng_2, ng_3, ng_4, ng_5, nI_clamp, nI_add, pk_mul, pk_sub, forall_eq, true_and, and_true, true_imp_iff, false_imp_iff, not_true_eq_false, not_false_eq_true, implies_true]
      exact h
theorem st_out {T c s p : Nat} (hT : T < 32768) (hs : s < 2) (hp : p < 6) : ∀ m a, Inv T a → ga_latest a c + m = 11 → c < ga_ch a → ga_status a c = 0 → ga_who a (2 * c + s) = p → ∃ a', Inv T a' ∧ Fr a a' ∧
    (∀ x, RX a x → ∃ r, (∀ Q : Int32 → Prop, Q r → wpX_urgent Q (mX a x) (nI c) (nI s)) ∧ ∀ post, (∀ x', RX a' x' → post (mX a' x')) → ∀ n, m + 1 ≤ n → wX_settle_7 post (nI c) (nI s) n r (ga_spent a) (nI (ga_now a)) (nI (ga_ch a)) (nI (gx_goal x)) (nI (gx_val x)) (nI (gx_known x)) (cN (ga_coins a)) (cN (ga_up a)) (ga_knows a) (cN (ga_base a)) (cN (ga_rate a)) (ga_guard a) (cN (ga_status a)) (cN (ga_who a)) (cN (ga_latest a)) (cN (gx_row x)) (cN (ga_bal a)) (cN (gx_many x)) (cN (gx_frm x)) (cN (gx_amt x)) (cN (gx_sec x)) (cN (gx_xpy x)) (cN (gx_born x)) (cN (gx_dead x)) (cN (ga_publd a)) (cN (ga_pubs a)) (cN (ga_since a)) (cN (ga_held a)) (cN (gx_outm x)) (cN (gx_least x)) (cN (gx_path x)) (cN (gx_xsum x))) ∧
    (∀ y post J, RY a y → (∀ y', RY a' y' → ∀ n, 1 ≤ n → wY_turn_37 post J (nI p) (nI c) n (nI 0) (nI (ga_now a')) (ga_spent a') (nI (ga_ch a')) (nI (gy_len y')) (cN (ga_coins a')) (cN (ga_base a')) (cN (ga_rate a')) (ga_guard a') (ga_knows a') (cN (ga_up a')) (cN (ga_who a')) (cN (ga_status a')) (cN (ga_latest a')) (cN (ga_publd a')) (cN (gy_ypub y')) (cN (ga_since a')) (cN (ga_held a')) (cN (gy_outn y')) (cN (ga_bal a')) (cN (gy_lks y')) (cN (gy_yf y')) (cN (gy_ya y')) (cN (gy_ys y')) (cN (gy_ye y')) (cN (gy_qf y')) (cN (gy_qa y')) (cN (gy_qs y')) (cN (gy_qe y')) (gy_way y') (cN (gy_part y')) (cN (gy_ysum y')) (cN (gy_bst y')) (cN (gy_bsm y'))) → ∀ n, m + 2 ≤ n → wY_turn_37 post J (nI p) (nI c) n (nI 1) (nI (ga_now a)) (ga_spent a) (nI (ga_ch a)) (nI (gy_len y)) (cN (ga_coins a)) (cN (ga_base a)) (cN (ga_rate a)) (ga_guard a) (ga_knows a) (cN (ga_up a)) (cN (ga_who a)) (cN (ga_status a)) (cN (ga_latest a)) (cN (ga_publd a)) (cN (gy_ypub y)) (cN (ga_since a)) (cN (ga_held a)) (cN (gy_outn y)) (cN (ga_bal a)) (cN (gy_lks y)) (cN (gy_yf y)) (cN (gy_ya y)) (cN (gy_ys y)) (cN (gy_ye y)) (cN (gy_qf y)) (cN (gy_qa y)) (cN (gy_qs y)) (cN (gy_qe y)) (gy_way y) (cN (gy_part y)) (cN (gy_ysum y)) (cN (gy_bst y)) (cN (gy_bsm y))) := by
  intro m
  induction m with
  | zero =>
    intro a I hm hc h0 hw
    have c8 := ch8 I hc
    have z : cnA a c = 0 := cnc_0 (fun h => by omega)
    rcases fst_or (urA a c s) (ga_rows a c (ga_latest a c)) with hN | ⟨R1, l, R2, hr, hN, hl⟩
    · refine ⟨a, I, Fr_r a, fun x R => ?_, fun y post J R h n hn => ?_⟩
      · refine ⟨-nI 1, fun Q h => x2_urgN I hT R hc hs hN h, fun post h n hn => ?_⟩
        obtain ⟨n', rfl⟩ : ∃ n', n = n' + 1 := ⟨n - 1, by omega⟩
        rw [wX_settle_7]
        simp (disch := omega) only [li_0, li_1, li_2, li_3, li_4, li_5, li_6, li_7, li_8, li_9, li_10, li_11, li_12, li_15, li_16, li_20, li_21, li_24, li_31, li_36, li_100, li_255, li_256, li_1000, li_6000, li_M, un_s, un_n, ba_ap, ba_upd, ba_in, cT_le, cF_le, cT_lt, cF_lt, cT_eq, cF_eq, nb_1, nb_2, ns_1, ns_2, nz_1, nz_2, ng_1, ng_2, ng_3, ng_4, ng_5, nI_clamp, nI_add, pk_mul, pk_sub, forall_eq, true_and, and_true, true_imp_iff, false_imp_iff, not_true_eq_false, not_false_eq_true, implies_true]
        exact h x R
      · obtain ⟨n', rfl⟩ : ∃ n', n = n' + 1 := ⟨n - 1, by omega⟩
        rw [wY_turn_37]
        simp (disch := omega) only [li_0, li_1, li_2, li_3, li_4, li_5, li_6, li_7, li_8, li_9, li_10, li_11, li_12, li_15, li_16, li_20, li_21, li_24, li_31, li_36, li_100, li_255, li_256, li_1000, li_6000, li_M, un_s, un_n, ba_ap, ba_upd, ba_in, cT_le, cF_le, cT_lt, cF_lt, cT_eq, cF_eq, nb_1, nb_2, ns_1, ns_2, nz_1, nz_2, ng_1, ng_2, ng_3, ng_4, ng_5, nI_clamp, nI_add, pk_mul, pk_sub, forall_eq, true_and, and_true, true_imp_iff, false_imp_iff, not_true_eq_false, not_false_eq_true, implies_true]
        refine y2_actN I hT R hc hp hs hw hN ?_
        dsimp only [mY]
        simp (disch := omega) only [li_0, li_1, li_2, li_3, li_4, li_5, li_6, li_7, li_8, li_9, li_10, li_11, li_12, li_15, li_16, li_20, li_21, li_24, li_31, li_36, li_100, li_255, li_256, li_1000, li_6000, li_M, un_s, un_n, ba_ap, ba_upd, ba_in, cT_le, cF_le, cT_lt, cF_lt, cT_eq, cF_eq, nb_1, nb_2, ns_1, ns_2, nz_1, nz_2, ng_1, ng_2, ng_3, ng_4, ng_5, nI_clamp, nI_add, pk_mul, pk_sub, forall_eq, true_and, and_true, true_imp_iff, false_imp_iff, not_true_eq_false, not_false_eq_true, implies_true]
        exact h y R n' (by omega)
    · refine ⟨aShw a c s (ga_latest a c), inv_shw I hc h0 hs (Nat.le_refl _), Fr_r a, fun x R => ?_, fun y post J R h n hn => ?_⟩
      · obtain ⟨l1, i, l2, m1, m2, m3, m4, m5⟩ := x2_urgS I hT R hc hs hr hN hl
        have im : i ∈ ids (gx_many x c) (xT x c) (ga_latest a c) := by rw [m1]; exact List.mem_append.mpr (Or.inr (List.mem_cons_self ..))
        refine ⟨nI i, m5, fun post h n hn => ?_⟩
        obtain ⟨n', rfl⟩ : ∃ n', n = n' + 1 := ⟨n - 1, by omega⟩
        obtain ⟨x', r1, r2⟩ := x2_shw I hT R hc h0 hs (Nat.le_refl _)
        exact (x2_step I hT R hc h0 hs (ids_11 I R hc i im) (x_lk I R hc (Nat.le_refl _) i im).1.1).1 z (Eq.mpr (r2 _) (h x' r1))
      · obtain ⟨y', r1, r2⟩ := (y2_actS I hT R hc h0 hp hs hw hr hN hl).1 z
        obtain ⟨n', rfl⟩ : ∃ n', n = n' + 1 := ⟨n - 1, by omega⟩
        rw [wY_turn_37]
        simp (disch := omega) only [li_0, li_1, li_2, li_3, li_4, li_5, li_6, li_7, li_8, li_9, li_10, li_11, li_12, li_15, li_16, li_20, li_21, li_24, li_31, li_36, li_100, li_255, li_256, li_1000, li_6000, li_M, un_s, un_n, ba_ap, ba_upd, ba_in, cT_le, cF_le, cT_lt, cF_lt, cT_eq, cF_eq, nb_1, nb_2, ns_1, ns_2, nz_1, nz_2, ng_1, ng_2, ng_3, ng_4, ng_5, nI_clamp, nI_add, pk_mul, pk_sub, forall_eq, true_and, and_true, true_imp_iff, false_imp_iff, not_true_eq_false, not_false_eq_true, implies_true]
        refine r2 _ ?_
        have es : ga_status (aShw a c s (ga_latest a c)) c = 1 := by rw [aShw_status, un_s]
        dsimp only [mY]
        simp (disch := omega) only [es, li_0, li_1, li_2, li_3, li_4, li_5, li_6, li_7, li_8, li_9, li_10, li_11, li_12, li_15, li_16, li_20, li_21, li_24, li_31, li_36, li_100, li_255, li_256, li_1000, li_6000, li_M, un_s, un_n, ba_ap, ba_upd, ba_in, cT_le, cF_le, cT_lt, cF_lt, cT_eq, cF_eq, nb_1, nb_2, ns_1, ns_2, nz_1, nz_2, ng_1, ng_2, ng_3, ng_4, ng_5, nI_clamp, nI_add, pk_mul, pk_sub, forall_eq, true_and, and_true, true_imp_iff, false_imp_iff, not_true_eq_false, not_false_eq_true, implies_true]
        exact h y' r1 n' (by omega)
  | succ m ih =>
    intro a I hm hc h0 hw
    have c8 := ch8 I hc
    rcases fst_or (urA a c s) (ga_rows a c (ga_latest a c)) with hN | ⟨R1, l, R2, hr, hN, hl⟩
    · refine ⟨a, I, Fr_r a, fun x R => ?_, fun y post J R h n hn => ?_⟩
      · refine ⟨-nI 1, fun Q h => x2_urgN I hT R hc hs hN h, fun post h n hn => ?_⟩
        obtain ⟨n', rfl⟩ : ∃ n', n = n' + 1 := ⟨n - 1, by omega⟩
        rw [wX_settle_7]
        simp (disch := omega) only [li_0, li_1, li_2, li_3, li_4, li_5, li_6, li_7, li_8, li_9, li_10, li_11, li_12, li_15, li_16, li_20, li_21, li_24, li_31, li_36, li_100, li_255, li_256, li_1000, li_6000, li_M, un_s, un_n, ba_ap, ba_upd, ba_in, cT_le, cF_le, cT_lt, cF_lt, cT_eq, cF_eq, nb_1, nb_2, ns_1, ns_2, nz_1, nz_2, ng_1, ng_2, ng_3, ng_4, ng_5, nI_clamp, nI_add, pk_mul, pk_sub, forall_eq, true_and, and_true, true_imp_iff, false_imp_iff, not_true_eq_false, not_false_eq_true, implies_true]
        exact h x R
      · obtain ⟨n', rfl⟩ : ∃ n', n = n' + 1 := ⟨n - 1, by omega⟩
        rw [wY_turn_37]
        simp (disch := omega) only [li_0, li_1, li_2, li_3, li_4, li_5, li_6, li_7, li_8, li_9, li_10, li_11, li_12, li_15, li_16, li_20, li_21, li_24, li_31, li_36, li_100, li_255, li_256, li_1000, li_6000, li_M, un_s, un_n, ba_ap, ba_upd, ba_in, cT_le, cF_le, cT_lt, cF_lt, cT_eq, cF_eq, nb_1, nb_2, ns_1, ns_2, nz_1, nz_2, ng_1, ng_2, ng_3, ng_4, ng_5, nI_clamp, nI_add, pk_mul, pk_sub, forall_eq, true_and, and_true, true_imp_iff, false_imp_iff, not_true_eq_false, not_false_eq_true, implies_true]
        refine y2_actN I hT R hc hp hs hw hN ?_
        dsimp only [mY]
        simp (disch := omega) only [li_0, li_1, li_2, li_3, li_4, li_5, li_6, li_7, li_8, li_9, li_10, li_11, li_12, li_15, li_16, li_20, li_21, li_24, li_31, li_36, li_100, li_255, li_256, li_1000, li_6000, li_M, un_s, un_n, ba_ap, ba_upd, ba_in, cT_le, cF_le, cT_lt, cF_lt, cT_eq, cF_eq, nb_1, nb_2, ns_1, ns_2, nz_1, nz_2, ng_1, ng_2, ng_3, ng_4, ng_5, nI_clamp, nI_add, pk_mul, pk_sub, forall_eq, true_and, and_true, true_imp_iff, false_imp_iff, not_true_eq_false, not_false_eq_true, implies_true]
        exact h y R n' (by omega)
    · rcases cnc_01 (ga_status a) (ga_up a) (ga_who a) (ga_latest a) c with z | z
      · refine ⟨aShw a c s (ga_latest a c), inv_shw I hc h0 hs (Nat.le_refl _), Fr_r a, fun x R => ?_, fun y post J R h n hn => ?_⟩
        · obtain ⟨l1, i, l2, m1, m2, m3, m4, m5⟩ := x2_urgS I hT R hc hs hr hN hl
          have im : i ∈ ids (gx_many x c) (xT x c) (ga_latest a c) := by rw [m1]; exact List.mem_append.mpr (Or.inr (List.mem_cons_self ..))
          refine ⟨nI i, m5, fun post h n hn => ?_⟩
          obtain ⟨n', rfl⟩ : ∃ n', n = n' + 1 := ⟨n - 1, by omega⟩
          obtain ⟨x', r1, r2⟩ := x2_shw I hT R hc h0 hs (Nat.le_refl _)
          exact (x2_step I hT R hc h0 hs (ids_11 I R hc i im) (x_lk I R hc (Nat.le_refl _) i im).1.1).1 z (Eq.mpr (r2 _) (h x' r1))
        · obtain ⟨y', r1, r2⟩ := (y2_actS I hT R hc h0 hp hs hw hr hN hl).1 z
          obtain ⟨n', rfl⟩ : ∃ n', n = n' + 1 := ⟨n - 1, by omega⟩
          rw [wY_turn_37]
          simp (disch := omega) only [li_0, li_1, li_2, li_3, li_4, li_5, li_6, li_7, li_8, li_9, li_10, li_11, li_12, li_15, li_16, li_20, li_21, li_24, li_31, li_36, li_100, li_255, li_256, li_1000, li_6000, li_M, un_s, un_n, ba_ap, ba_upd, ba_in, cT_le, cF_le, cT_lt, cF_lt, cT_eq, cF_eq, nb_1, nb_2, ns_1, ns_2, nz_1, nz_2, ng_1, ng_2, ng_3, ng_4, ng_5, nI_clamp, nI_add, pk_mul, pk_sub, forall_eq, true_and, and_true, true_imp_iff, false_imp_iff, not_true_eq_false, not_false_eq_true, implies_true]
          refine r2 _ ?_
          have es : ga_status (aShw a c s (ga_latest a c)) c = 1 := by rw [aShw_status, un_s]
          dsimp only [mY]
          simp (disch := omega) only [es, li_0, li_1, li_2, li_3, li_4, li_5, li_6, li_7, li_8, li_9, li_10, li_11, li_12, li_15, li_16, li_20, li_21, li_24, li_31, li_36, li_100, li_255, li_256, li_1000, li_6000, li_M, un_s, un_n, ba_ap, ba_upd, ba_in, cT_le, cF_le, cT_lt, cF_lt, cT_eq, cF_eq, nb_1, nb_2, ns_1, ns_2, nz_1, nz_2, ng_1, ng_2, ng_3, ng_4, ng_5, nI_clamp, nI_add, pk_mul, pk_sub, forall_eq, true_and, and_true, true_imp_iff, false_imp_iff, not_true_eq_false, not_false_eq_true, implies_true]
          exact h y' r1 n' (by omega)
      · have hL := (cnc_i z).2
        have I' := inv_aFn I hc h0 hL hs hr
        obtain ⟨a', i1, i2, i3, i4⟩ := ih (aFn a c s l (R1 ++ R2)) I' (by show un (ga_latest a) c (ga_latest a c + 1) c + m = 11; rw [un_s]; omega) hc h0 hw
        refine ⟨a', i1, Fr_t (show Fr a (aFn a c s l (R1 ++ R2)) from Fr_r a) i2, fun x R => ?_, fun y post J R h n hn => ?_⟩
        · obtain ⟨l1, i, l2, m1, m2, m3, m4, m5⟩ := x2_urgS I hT R hc hs hr hN hl
          have im : i ∈ ids (gx_many x c) (xT x c) (ga_latest a c) := by rw [m1]; exact List.mem_append.mpr (Or.inr (List.mem_cons_self ..))
          refine ⟨nI i, m5, fun post h n hn => ?_⟩
          obtain ⟨n', rfl⟩ : ∃ n', n = n' + 1 := ⟨n - 1, by omega⟩
          obtain ⟨x', r1, r2⟩ := x2_fin (a := aKn a (lrn a c s l)) I R hc h0 hL hs m1
          rw [List.map_append, m2, m4, m3] at r1 r2
          refine (x2_step I hT R hc h0 hs (ids_11 I R hc i im) (x_lk I R hc (Nat.le_refl _) i im).1.1).2 z ?_
          rw [m3]
          obtain ⟨r, q1, q2⟩ := i3 x' r1
          exact Eq.mpr (r2 _) (q1 _ (q2 post h n' (by omega)))
        · obtain ⟨y', r1, r2⟩ := (y2_actS I hT R hc h0 hp hs hw hr hN hl).2 z
          obtain ⟨n', rfl⟩ : ∃ n', n = n' + 1 := ⟨n - 1, by omega⟩
          rw [wY_turn_37]
          simp (disch := omega) only [li_0, li_1, li_2, li_3, li_4, li_5, li_6, li_7, li_8, li_9, li_10, li_11, li_12, li_15, li_16, li_20, li_21, li_24, li_31, li_36, li_100, li_255, li_256, li_1000, li_6000, li_M, un_s, un_n, ba_ap, ba_upd, ba_in, cT_le, cF_le, cT_lt, cF_lt, cT_eq, cF_eq, nb_1, nb_2, ns_1, ns_2, nz_1, nz_2, ng_1, ng_2, ng_3, ng_4, ng_5, nI_clamp, nI_add, pk_mul, pk_sub, forall_eq, true_and, and_true, true_imp_iff, false_imp_iff, not_true_eq_false, not_false_eq_true, implies_true]
          refine r2 _ ?_
          have es : ga_status (aFn a c s l (R1 ++ R2)) c = 0 := h0
          dsimp only [mY]
          simp (disch := omega) only [es, li_0, li_1, li_2, li_3, li_4, li_5, li_6, li_7, li_8, li_9, li_10, li_11, li_12, li_15, li_16, li_20, li_21, li_24, li_31, li_36, li_100, li_255, li_256, li_1000, li_6000, li_M, un_s, un_n, ba_ap, ba_upd, ba_in, cT_le, cF_le, cT_lt, cF_lt, cT_eq, cF_eq, nb_1, nb_2, ns_1, ns_2, nz_1, nz_2, ng_1, ng_2, ng_3, ng_4, ng_5, nI_clamp, nI_add, pk_mul, pk_sub, forall_eq, true_and, and_true, true_imp_iff, false_imp_iff, not_true_eq_false, not_false_eq_true, implies_true]
          exact i4 y' post J r1 h n' (by omega)
end
section
def tkB (now : Nat) (knows : Nat → Int32) (w s : Nat) (l : LK) : Bool := if l.1 = s then decide (l.2.2.2 ≤ now) else kB knows w l.2.2.1
section
variable {spent : Int32} {now ch goal val known : Nat} {coins up base rate status who latest row bal many frm amt sec xpy born dead publd pubs since held outm least path xsum : Nat → Nat} {knows guard : Nat → Int32}
theorem xw_outF {post : SX → Prop} {c s i : Nat} (hc : c < 8) (hs : s < 2) (hi : i < 11) (hf : frm (11 * c + i) < 2) (he : xpy (11 * c + i) < 32768) (hn : now < 32768) (hw : who (2 * c + s) < 6) (h : tkB now knows (who (2 * c + s)) s (tb frm amt sec xpy born dead c i).1 = false) : wpX_output post (spent, nI now, nI ch, nI goal, nI val, nI known, cN coins, cN up, knows, cN base, cN rate, guard, cN status, cN who, cN latest, cN row, cN bal, cN many, cN frm, cN amt, cN sec, cN xpy, cN born, cN dead, cN publd, cN pubs, cN since, cN held, cN outm, cN least, cN path, cN xsum) (nI c) (nI i) (nI s) = post (spent, nI now, nI ch, nI goal, nI val, nI known, cN coins, cN up, knows, cN base, cN rate, guard, cN status, cN who, cN latest, cN row, cN bal, cN many, cN frm, cN amt, cN sec, cN xpy, cN born, cN dead, cN publd, cN pubs, cN since, cN held, cN outm, cN least, cN path, cN xsum) := by
  unfold tkB tb at h
  dsimp only at h
  by_cases a : frm (11 * c + i) = s
  · rw [if_pos a] at h
    have h := of_decide_eq_false h
    simp (disch := omega) only [wpX_output, wX_output_24, wX_output_69, li_0, li_1, li_2, li_3, li_4, li_5, li_6, li_7, li_8, li_9, li_10, li_11, li_12, li_15, li_16, li_20, li_21, li_24, li_31, li_36, li_100, li_255, li_256, li_1000, li_6000, li_M, un_s, un_n, ba_ap, ba_upd, ba_in, cT_le, cF_le, cT_lt, cF_lt, cT_eq, cF_eq, nb_1, nb_2, ns_1, ns_2, nz_1, nz_2, ng_1, ng_2, ng_3, ng_4, ng_5, nI_clamp, nI_add, pk_mul, pk_sub, forall_eq, true_and, and_true, true_imp_iff, false_imp_iff, not_true_eq_false, not_false_eq_true, implies_true]
  · rw [if_neg a] at h
    simp (disch := omega) only [wpX_output, wX_output_24, wX_output_69, xw_knowsF hw (show 11 * c + i < 88 by omega) (kB_f h), li_0, li_1, li_2, li_3, li_4, li_5, li_6, li_7, li_8, li_9, li_10, li_11, li_12, li_15, li_16, li_20, li_21, li_24, li_31, li_36, li_100, li_255, li_256, li_1000, li_6000, li_M, un_s, un_n, ba_ap, ba_upd, ba_in, cT_le, cF_le, cT_lt, cF_lt, cT_eq, cF_eq, nb_1, nb_2, ns_1, ns_2, nz_1, nz_2, ng_1, ng_2, ng_3, ng_4, ng_5, nI_clamp, nI_add, pk_mul, pk_sub, forall_eq, true_and, and_true, true_imp_iff, false_imp_iff, not_true_eq_false, not_false_eq_true, implies_true]
theorem xw_out109 {post : SX → Prop} {c s i l : Nat} (hc : c < 8) (hs : s < 2) (hi : i < 11) (hl : l < 88) (hp : pubs c < 2) (hw : who (2 * c + s) < 6) (hv : held c + amt l < 32768) (ho : outm c &&& (2 ^ i ^^^ 4294967295) < 2048) : wX_output_109 post (nI c) (nI i) (nI s) (nI l) spent (nI now) (nI ch) (nI goal) (nI val) (nI known) (cN coins) (cN up) knows (cN base) (cN rate) guard (cN status) (cN who) (cN latest) (cN row) (cN bal) (cN many) (cN frm) (cN amt) (cN sec) (cN xpy) (cN born) (cN dead) (cN publd) (cN pubs) (cN since) (cN held) (cN outm) (cN least) (cN path) (cN xsum) = post (spent, nI now, nI ch, nI goal, nI val, nI known, cN (if pubs c = s then coins else un coins (who (2 * c + s)) (coins (who (2 * c + s)) + amt l)), cN up, knows, cN base, cN rate, guard, cN status, cN who, cN latest, cN row, cN bal, cN many, cN frm, cN amt, cN sec, cN xpy, cN born, cN dead, cN publd, cN pubs, cN since, cN (if pubs c = s then un held c (held c + amt l) else held), cN (un outm c (outm c &&& (2 ^ i ^^^ 4294967295))), cN least, cN path, cN xsum) := by
  unfold wX_output_109
  by_cases z : pubs c = s
  · simp (disch := omega) only [ba_clr, xw_get hc hs hp hw hv, z, if_true, li_0, li_1, li_2, li_3, li_4, li_5, li_6, li_7, li_8, li_9, li_10, li_11, li_12, li_15, li_16, li_20, li_21, li_24, li_31, li_36, li_100, li_255, li_256, li_1000, li_6000, li_M, un_s, un_n, ba_ap, ba_upd, ba_in, cT_le, cF_le, cT_lt, cF_lt, cT_eq, cF_eq, nb_1, nb_2, ns_1, ns_2, nz_1, nz_2, ng_1, ng_2, ng_3, ng_4, ng_5, nI_clamp, nI_add, pk_mul, pk_sub, forall_eq, true_and, and_true, true_imp_iff, false_imp_iff, not_true_eq_false, not_false_eq_true, implies_true]
  · simp (disch := omega) only [ba_clr, xw_get hc hs hp hw hv, z, if_false, li_0, li_1, li_2, li_3, li_4, li_5, li_6, li_7, li_8, li_9, li_10, li_11, li_12, li_15, li_16, li_20, li_21, li_24, li_31, li_36, li_100, li_255, li_256, li_1000, li_6000, li_M, un_s, un_n, ba_ap, ba_upd, ba_in, cT_le, cF_le, cT_lt, cF_lt, cT_eq, cF_eq, nb_1, nb_2, ns_1, ns_2, nz_1, nz_2, ng_1, ng_2, ng_3, ng_4, ng_5, nI_clamp, nI_add, pk_mul, pk_sub, forall_eq, true_and, and_true, true_imp_iff, false_imp_iff, not_true_eq_false, not_false_eq_true, implies_true]
theorem xw_outT {post : SX → Prop} {c s i : Nat} (hc : c < 8) (hs : s < 2) (hi : i < 11) (hf : frm (11 * c + i) < 2) (he : xpy (11 * c + i) < 32768) (hn : now < 32768) (hw0 : who (2 * c) < 6) (hw1 : who (2 * c + 1) < 6) (hp : pubs c < 2) (hv : held c + amt (11 * c + i) < 32768) (ho : outm c &&& (2 ^ i ^^^ 4294967295) < 2048) (h : tkB now knows (who (2 * c + s)) s (tb frm amt sec xpy born dead c i).1 = true) : wpX_output post (spent, nI now, nI ch, nI goal, nI val, nI known, cN coins, cN up, knows, cN base, cN rate, guard, cN status, cN who, cN latest, cN row, cN bal, cN many, cN frm, cN amt, cN sec, cN xpy, cN born, cN dead, cN publd, cN pubs, cN since, cN held, cN outm, cN least, cN path, cN xsum) (nI c) (nI i) (nI s) = post (spent, nI now, nI ch, nI goal, nI val, nI known, cN (if pubs c = s then coins else un coins (who (2 * c + s)) (coins (who (2 * c + s)) + amt (11 * c + i))), cN up, if frm (11 * c + i) = s then knows else upd knows (who (2 * c + 1 - s)) (knows (who (2 * c + 1 - s)) ||| (nI 1 <<< (nI (sec (11 * c + i)) &&& nI 31))), cN base, cN rate, guard, cN status, cN who, cN latest, cN row, cN bal, cN many, cN frm, cN amt, cN sec, cN xpy, cN born, cN dead, cN publd, cN pubs, cN since, cN (if pubs c = s then un held c (held c + amt (11 * c + i)) else held), cN (un outm c (outm c &&& (2 ^ i ^^^ 4294967295))), cN least, cN path, cN xsum) := by
  have hw : who (2 * c + s) < 6 := by
    rcases (show s = 0 ∨ s = 1 by omega) with rfl | rfl
    · exact hw0
    · exact hw1
  have l88 : 11 * c + i < 88 := by omega
  unfold tkB tb at h
  dsimp only at h
  by_cases a : frm (11 * c + i) = s
  · rw [if_pos a] at h
    rw [if_pos a]
    have h := of_decide_eq_true h
    simp (disch := omega) only [wpX_output, wX_output_24, wX_output_69, xw_out109 hc hs hi l88 hp hw hv ho, li_0, li_1, li_2, li_3, li_4, li_5, li_6, li_7, li_8, li_9, li_10, li_11, li_12, li_15, li_16, li_20, li_21, li_24, li_31, li_36, li_100, li_255, li_256, li_1000, li_6000, li_M, un_s, un_n, ba_ap, ba_upd, ba_in, cT_le, cF_le, cT_lt, cF_lt, cT_eq, cF_eq, nb_1, nb_2, ns_1, ns_2, nz_1, nz_2, ng_1, ng_2, ng_3, ng_4, ng_5, nI_clamp, nI_add, pk_mul, pk_sub, forall_eq, true_and, and_true, true_imp_iff, false_imp_iff, not_true_eq_false, not_false_eq_true, implies_true]
  · rw [if_neg a] at h
    rw [if_neg a]
    have e1 : 2 * c + frm (11 * c + i) = 2 * c + 1 - s := by omega
    have hwo : who (2 * c + 1 - s) < 6 := by
      rcases (show s = 0 ∨ s = 1 by omega) with rfl | rfl
      · exact hw1
      · exact hw0
    simp (disch := omega) only [wpX_output, wX_output_24, wX_output_69, xw_knowsT hw l88 (kB_t h), e1, xw_learn, xw_out109 hc hs hi l88 hp hw hv ho, li_0, li_1, li_2, li_3, li_4, li_5, li_6, li_7, li_8, li_9, li_10, li_11, li_12, li_15, li_16, li_20, li_21, li_24, li_31, li_36, li_100, li_255, li_256, li_1000, li_6000, li_M, un_s, un_n, ba_ap, ba_upd, ba_in, cT_le, cF_le, cT_lt, cF_lt, cT_eq, cF_eq, nb_1, nb_2, ns_1, ns_2, nz_1, nz_2, ng_1, ng_2, ng_3, ng_4, ng_5, nI_clamp, nI_add, pk_mul, pk_sub, forall_eq, true_and, and_true, true_imp_iff, false_imp_iff, not_true_eq_false, not_false_eq_true, implies_true]
theorem xw_pun15 {post : Int32 → SX → Prop} {c s : Nat} (hc : c < 8) (hs : s < 2) (hw : who (2 * c + s) < 6) : ∀ (l : List Nat) (acc : Nat), srt l → (∀ i, i ∈ l → i < 11) → post (nI (acc + sumL (l.map (fun i => (tb frm amt sec xpy born dead c i).1)))) (spent, nI now, nI ch, nI goal, nI val, nI known, cN (un coins (who (2 * c + s)) (coins (who (2 * c + s)) + (acc + sumL (l.map (fun i => (tb frm amt sec xpy born dead c i).1))))), cN up, knows, cN base, cN rate, guard, cN status, cN who, cN latest, cN row, cN bal, cN many, cN frm, cN amt, cN sec, cN xpy, cN born, cN dead, cN publd, cN pubs, cN since, cN (un held c 0), cN (un outm c 0), cN least, cN path, cN xsum) → wX_punish_15 post (nI c) (nI s) spent (nI now) (nI ch) (nI goal) (nI val) (nI known) (cN coins) (cN up) knows (cN base) (cN rate) guard (cN status) (cN who) (cN latest) (cN row) (cN bal) (cN many) (cN frm) (cN amt) (cN sec) (cN xpy) (cN born) (cN dead) (cN publd) (cN pubs) (cN since) (cN held) (cN outm) (cN least) (cN path) (cN xsum) (l.length + 1) (nI acc) (nI (msk l)) := by
  intro l
  induction l with
  | nil =>
    intro acc _ _ h
    rw [wX_punish_15]
    simp (disch := omega) only [msk_0, li_0, li_1, li_2, li_3, li_4, li_5, li_6, li_7, li_8, li_9, li_10, li_11, li_12, li_15, li_16, li_20, li_21, li_24, li_31, li_36, li_100, li_255, li_256, li_1000, li_6000, li_M, un_s, un_n, ba_ap, ba_upd, ba_in, cT_le, cF_le, cT_lt, cF_lt, cT_eq, cF_eq, nb_1, nb_2, ns_1, ns_2, nz_1, nz_2, ng_1, ng_2, ng_3, ng_4, ng_5, nI_clamp, nI_add, pk_mul, pk_sub, forall_eq, true_and, and_true, true_imp_iff, false_imp_iff, not_true_eq_false, not_false_eq_true, implies_true]
    exact h
  | cons i l ih =>
    intro acc hsr h11 h
    have i11 := h11 i (List.mem_cons_self ..)
    have p0 := msk_pos (i := i) (l := l)
    have p1 := m_lt h11
    rw [List.length_cons, wX_punish_15]
    simp (disch := omega) only [xw_nth0 hsr h11, m_low hsr.1, li_0, li_1, li_2, li_3, li_4, li_5, li_6, li_7, li_8, li_9, li_10, li_11, li_12, li_15, li_16, li_20, li_21, li_24, li_31, li_36, li_100, li_255, li_256, li_1000, li_6000, li_M, un_s, un_n, ba_ap, ba_upd, ba_in, cT_le, cF_le, cT_lt, cF_lt, cT_eq, cF_eq, nb_1, nb_2, ns_1, ns_2, nz_1, nz_2, ng_1, ng_2, ng_3, ng_4, ng_5, nI_clamp, nI_add, pk_mul, pk_sub, forall_eq, true_and, and_true, true_imp_iff, false_imp_iff, not_true_eq_false, not_false_eq_true, implies_true]
    refine ih (acc + amt (11 * c + i)) hsr.2 (fun j hj => h11 j (List.mem_cons_of_mem _ hj)) ?_
    have e : acc + amt (11 * c + i) + sumL (l.map (fun i => (tb frm amt sec xpy born dead c i).1)) = acc + sumL ((i :: l).map (fun i => (tb frm amt sec xpy born dead c i).1)) := by
      show _ = acc + (amt (11 * c + i) + sumL (l.map (fun i => (tb frm amt sec xpy born dead c i).1)))
      omega
    rw [e]
    exact h
end
def tkA (a : SA) (c s : Nat) (l : LK) : Bool := tkB (ga_now a) (ga_knows a) (ga_who a (2 * c + s)) s l
theorem inv_aTk {T : Nat} {a : SA} {c s : Nat} {R1 R2 : List LK} {l : LK} (I : Inv T a) (hc : c < ga_ch a) (h1 : ga_status a c = 1) (hs : s < 2) (ho : ga_outs a c = R1 ++ l :: R2) : Inv T (aTk a c s l.2.1 (lrn a c s l) (R1 ++ R2)) := by
  obtain ⟨j1, j2, j3, j4, j5, j6, j7, j8⟩ := I.2.2.2.2.1 c hc
  have hw : ga_who a (2 * c + s) < 6 := by
    rcases (show s = 0 ∨ s = 1 by omega) with rfl | rfl
    · exact j2
    · exact j3
  obtain ⟨k1, k2⟩ := inv_tak (p := ga_who a (2 * c + s)) I hc h1 ho
  unfold aTk
  by_cases z : ga_pubs a c = s
  · simp only [z, if_true]; exact k1
  · simp only [z, if_false]; exact k2 hw
theorem x_o {T : Nat} {a : SA} {x : OX} {c : Nat} {o : List Nat} (I : Inv T a) (R : RX a x) (hc : c < ga_ch a) (h2 : ∀ i, i ∈ o → i < gx_many x c) : ∀ i, i ∈ o → i < 11 := fun i hi => by
  have := h2 i hi
  have := (xm_11 I R hc).2
  omega
theorem yp_iff {T : Nat} {a : SA} {y : OY} {c s p : Nat} (I : Inv T a) (R : RY a y) (hc : c < ga_ch a) (h1 : ga_status a c = 1) (hs : s < 2) (hw : ga_who a (2 * c + s) = p) : (gy_ypub y c = p ↔ ga_pubs a c = s) ∧ gy_ypub y c < 6 := by
  obtain ⟨j1, j2, j3, j4, j5, j6, j7, j8⟩ := I.2.2.2.2.1 c hc
  obtain ⟨k1, k2, k3, k4, k5⟩ := j8 h1
  have e := ((R c hc).2 h1).2
  rw [e, ← hw]
  rcases (show ga_pubs a c = 0 ∨ ga_pubs a c = 1 by omega) with z | z <;> rcases (show s = 0 ∨ s = 1 by omega) with rfl | rfl <;> rw [z]
  · exact ⟨⟨fun _ => rfl, fun _ => rfl⟩, j2⟩
  · exact ⟨⟨fun e => absurd e j4, fun e => absurd e (by decide)⟩, j2⟩
  · exact ⟨⟨fun e => absurd e.symm j4, fun e => absurd e (by decide)⟩, j3⟩
  · exact ⟨⟨fun _ => rfl, fun _ => rfl⟩, j3⟩
theorem y2_take {a : SA} {y : OY} {c s p n : Nat} {P S : List LK} {l : LK} {K : Nat → Int32} {post : SY → Prop} {J : Int32 → Int32 → Int32 → Int32 → Int32 → (Nat → Int32) → (Nat → Int32) → (Nat → Int32) → (Nat → Int32) → (Nat → Int32) → (Nat → Int32) → (Nat → Int32) → (Nat → Int32) → (Nat → Int32) → (Nat → Int32) → (Nat → Int32) → (Nat → Int32) → (Nat → Int32) → (Nat → Int32) → (Nat → Int32) → (Nat → Int32) → (Nat → Int32) → (Nat → Int32) → (Nat → Int32) → (Nat → Int32) → (Nat → Int32) → (Nat → Int32) → (Nat → Int32) → (Nat → Int32) → (Nat → Int32) → (Nat → Int32) → (Nat → Int32) → (Nat → Int32) → (Nat → Int32) → Prop} (c8 : c < 8) (hp : p < 6) (hw : ga_who a (2 * c + s) = p) (hyi : gy_ypub y c = p ↔ ga_pubs a c = s) (hyl : gy_ypub y c < 6) (k1 : ga_pubs a c < 2) (m1 : gy_outn y c = P.length + 1 + S.length) (m1' : P.length + 1 + S.length ≤ 3) (g2 : gy_qa y (3 * c + P.length) = l.2.1)
    (r : J (nI P.length) (nI (ga_now (aTk a c s l.2.1 K (P ++ S)))) (ga_spent (aTk a c s l.2.1 K (P ++ S))) (nI (ga_ch (aTk a c s l.2.1 K (P ++ S)))) (nI (gy_len (yOut y (un (gy_outn y) c (gy_outn y c - 1)) (shf (gy_qf y) (3 * c + P.length) (3 * c + (gy_outn y c - 1))) (shf (gy_qa y) (3 * c + P.length) (3 * c + (gy_outn y c - 1))) (shf (gy_qs y) (3 * c + P.length) (3 * c + (gy_outn y c - 1))) (shf (gy_qe y) (3 * c + P.length) (3 * c + (gy_outn y c - 1)))))) (cN (ga_coins (aTk a c s l.2.1 K (P ++ S)))) (cN (ga_base (aTk a c s l.2.1 K (P ++ S)))) (cN (ga_rate (aTk a c s l.2.1 K (P ++ S)))) (ga_guard (aTk a c s l.2.1 K (P ++ S))) (ga_knows (aTk a c s l.2.1 K (P ++ S))) (cN (ga_up (aTk a c s l.2.1 K (P ++ S)))) (cN (ga_who (aTk a c s l.2.1 K (P ++ S)))) (cN (ga_status (aTk a c s l.2.1 K (P ++ S)))) (cN (ga_latest (aTk a c s l.2.1 K (P ++ S)))) (cN (ga_publd (aTk a c s l.2.1 K (P ++ S)))) (cN (gy_ypub (yOut y (un (gy_outn y) c (gy_outn y c - 1)) (shf (gy_qf y) (3 * c + P.length) (3 * c + (gy_outn y c - 1))) (shf (gy_qa y) (3 * c + P.length) (3 * c + (gy_outn y c - 1))) (shf (gy_qs y) (3 * c + P.length) (3 * c + (gy_outn y c - 1))) (shf (gy_qe y) (3 * c + P.length) (3 * c + (gy_outn y c - 1)))))) (cN (ga_since (aTk a c s l.2.1 K (P ++ S)))) (cN (ga_held (aTk a c s l.2.1 K (P ++ S)))) (cN (gy_outn (yOut y (un (gy_outn y) c (gy_outn y c - 1)) (shf (gy_qf y) (3 * c + P.length) (3 * c + (gy_outn y c - 1))) (shf (gy_qa y) (3 * c + P.length) (3 * c + (gy_outn y c - 1))) (shf (gy_qs y) (3 * c + P.length) (3 * c + (gy_outn y c - 1))) (shf (gy_qe y) (3 * c + P.length) (3 * c + (gy_outn y c - 1)))))) (cN (ga_bal (aTk a c s l.2.1 K (P ++ S)))) (cN (gy_lks (yOut y (un (gy_outn y) c (gy_outn y c - 1)) (shf (gy_qf y) (3 * c + P.length) (3 * c + (gy_outn y c - 1))) (shf (gy_qa y) (3 * c + P.length) (3 * c + (gy_outn y c - 1))) (shf (gy_qs y) (3 * c + P.length) (3 * c + (gy_outn y c - 1))) (shf (gy_qe y) (3 * c + P.length) (3 * c + (gy_outn y c - 1)))))) (cN (gy_yf (yOut y (un (gy_outn y) c (gy_outn y c - 1)) (shf (gy_qf y) (3 * c + P.length) (3 * c + (gy_outn y c - 1))) (shf (gy_qa y) (3 * c + P.length) (3 * c + (gy_outn y c - 1))) (shf (gy_qs y) (3 * c + P.length) (3 * c + (gy_outn y c - 1))) (shf (gy_qe y) (3 * c + P.length) (3 * c + (gy_outn y c - 1)))))) (cN (gy_ya (yOut y (un (gy_outn y) c (gy_outn y c - 1)) (shf (gy_qf y) (3 * c + P.length) (3 * c + (gy_outn y c - 1))) (shf (gy_qa y) (3 * c + P.length) (3 * c + (gy_outn y c - 1))) (shf (gy_qs y) (3 * c + P.length) (3 * c + (gy_outn y c - 1))) (shf (gy_qe y) (3 * c + P.length) (3 * c + (gy_outn y c - 1)))))) (cN (gy_ys (yOut y (un (gy_outn y) c (gy_outn y c - 1)) (shf (gy_qf y) (3 * c + P.length) (3 * c + (gy_outn y c - 1))) (shf (gy_qa y) (3 * c + P.length) (3 * c + (gy_outn y c - 1))) (shf (gy_qs y) (3 * c + P.length) (3 * c + (gy_outn y c - 1))) (shf (gy_qe y) (3 * c + P.length) (3 * c + (gy_outn y c - 1)))))) (cN (gy_ye (yOut y (un (gy_outn y) c (gy_outn y c - 1)) (shf (gy_qf y) (3 * c + P.length) (3 * c + (gy_outn y c - 1))) (shf (gy_qa y) (3 * c + P.length) (3 * c + (gy_outn y c - 1))) (shf (gy_qs y) (3 * c + P.length) (3 * c + (gy_outn y c - 1))) (shf (gy_qe y) (3 * c + P.length) (3 * c + (gy_outn y c - 1)))))) (cN (gy_qf (yOut y (un (gy_outn y) c (gy_outn y c - 1)) (shf (gy_qf y) (3 * c + P.length) (3 * c + (gy_outn y c - 1))) (shf (gy_qa y) (3 * c + P.length) (3 * c + (gy_outn y c - 1))) (shf (gy_qs y) (3 * c + P.length) (3 * c + (gy_outn y c - 1))) (shf (gy_qe y) (3 * c + P.length) (3 * c + (gy_outn y c - 1)))))) (cN (gy_qa (yOut y (un (gy_outn y) c (gy_outn y c - 1)) (shf (gy_qf y) (3 * c + P.length) (3 * c + (gy_outn y c - 1))) (shf (gy_qa y) (3 * c + P.length) (3 * c + (gy_outn y c - 1))) (shf (gy_qs y) (3 * c + P.length) (3 * c + (gy_outn y c - 1))) (shf (gy_qe y) (3 * c + P.length) (3 * c + (gy_outn y c - 1)))))) (cN (gy_qs (yOut y (un (gy_outn y) c (gy_outn y c - 1)) (shf (gy_qf y) (3 * c + P.length) (3 * c + (gy_outn y c - 1))) (shf (gy_qa y) (3 * c + P.length) (3 * c + (gy_outn y c - 1))) (shf (gy_qs y) (3 * c + P.length) (3 * c + (gy_outn y c - 1))) (shf (gy_qe y) (3 * c + P.length) (3 * c + (gy_outn y c - 1)))))) (cN (gy_qe (yOut y (un (gy_outn y) c (gy_outn y c - 1)) (shf (gy_qf y) (3 * c + P.length) (3 * c + (gy_outn y c - 1))) (shf (gy_qa y) (3 * c + P.length) (3 * c + (gy_outn y c - 1))) (shf (gy_qs y) (3 * c + P.length) (3 * c + (gy_outn y c - 1))) (shf (gy_qe y) (3 * c + P.length) (3 * c + (gy_outn y c - 1)))))) (gy_way (yOut y (un (gy_outn y) c (gy_outn y c - 1)) (shf (gy_qf y) (3 * c + P.length) (3 * c + (gy_outn y c - 1))) (shf (gy_qa y) (3 * c + P.length) (3 * c + (gy_outn y c - 1))) (shf (gy_qs y) (3 * c + P.length) (3 * c + (gy_outn y c - 1))) (shf (gy_qe y) (3 * c + P.length) (3 * c + (gy_outn y c - 1))))) (cN (gy_part (yOut y (un (gy_outn y) c (gy_outn y c - 1)) (shf (gy_qf y) (3 * c + P.length) (3 * c + (gy_outn y c - 1))) (shf (gy_qa y) (3 * c + P.length) (3 * c + (gy_outn y c - 1))) (shf (gy_qs y) (3 * c + P.length) (3 * c + (gy_outn y c - 1))) (shf (gy_qe y) (3 * c + P.length) (3 * c + (gy_outn y c - 1)))))) (cN (gy_ysum (yOut y (un (gy_outn y) c (gy_outn y c - 1)) (shf (gy_qf y) (3 * c + P.length) (3 * c + (gy_outn y c - 1))) (shf (gy_qa y) (3 * c + P.length) (3 * c + (gy_outn y c - 1))) (shf (gy_qs y) (3 * c + P.length) (3 * c + (gy_outn y c - 1))) (shf (gy_qe y) (3 * c + P.length) (3 * c + (gy_outn y c - 1)))))) (cN (gy_bst (yOut y (un (gy_outn y) c (gy_outn y c - 1)) (shf (gy_qf y) (3 * c + P.length) (3 * c + (gy_outn y c - 1))) (shf (gy_qa y) (3 * c + P.length) (3 * c + (gy_outn y c - 1))) (shf (gy_qs y) (3 * c + P.length) (3 * c + (gy_outn y c - 1))) (shf (gy_qe y) (3 * c + P.length) (3 * c + (gy_outn y c - 1)))))) (cN (gy_bsm (yOut y (un (gy_outn y) c (gy_outn y c - 1)) (shf (gy_qf y) (3 * c + P.length) (3 * c + (gy_outn y c - 1))) (shf (gy_qa y) (3 * c + P.length) (3 * c + (gy_outn y c - 1))) (shf (gy_qs y) (3 * c + P.length) (3 * c + (gy_outn y c - 1))) (shf (gy_qe y) (3 * c + P.length) (3 * c + (gy_outn y c - 1))))))) :
    wY_gather_179 post J (nI p) (nI c) (nI s) (nI P.length) (nI (3 * c + P.length)) (nI (ga_now (aKn a K))) (ga_spent (aKn a K)) (nI (ga_ch (aKn a K))) (nI (gy_len y)) (cN (ga_coins (aKn a K))) (cN (ga_base (aKn a K))) (cN (ga_rate (aKn a K))) (ga_guard (aKn a K)) (ga_knows (aKn a K)) (cN (ga_up (aKn a K))) (cN (ga_who (aKn a K))) (cN (ga_status (aKn a K))) (cN (ga_latest (aKn a K))) (cN (ga_publd (aKn a K))) (cN (gy_ypub y)) (cN (ga_since (aKn a K))) (cN (ga_held (aKn a K))) (cN (gy_outn y)) (cN (ga_bal (aKn a K))) (cN (gy_lks y)) (cN (gy_yf y)) (cN (gy_ya y)) (cN (gy_ys y)) (cN (gy_ye y)) (cN (gy_qf y)) (cN (gy_qa y)) (cN (gy_qs y)) (cN (gy_qe y)) (gy_way y) (cN (gy_part y)) (cN (gy_ysum y)) (cN (gy_bst y)) (cN (gy_bsm y)) := by
  simp only [aTk_spent, aTk_now, aTk_ch, aTk_coins, aTk_up, aTk_knows, aTk_base, aTk_rate, aTk_guard, aTk_status, aTk_who, aTk_latest, aTk_bal, aTk_publd, aTk_pubs, aTk_since, aTk_held, aTk_rows, aTk_outs, yOut_len, yOut_ypub, yOut_outn, yOut_lks, yOut_yf, yOut_ya, yOut_ys, yOut_ye, yOut_qf, yOut_qa, yOut_qs, yOut_qe, yOut_way, yOut_part, yOut_ysum, yOut_bst, yOut_bsm] at r
  simp only [aKn_spent, aKn_now, aKn_ch, aKn_coins, aKn_up, aKn_knows, aKn_base, aKn_rate, aKn_guard, aKn_status, aKn_who, aKn_latest, aKn_bal, aKn_publd, aKn_pubs, aKn_since, aKn_held, aKn_rows, aKn_outs]
  unfold wY_gather_179
  by_cases w : ga_pubs a c = s
  · have w' := hyi.mpr w
    simp only [w, if_true] at r
    simp (disch := omega) only [wY_gather_224, g2, li_0, li_1, li_2, li_3, li_4, li_5, li_6, li_7, li_8, li_9, li_10, li_11, li_12, li_15, li_16, li_20, li_21, li_24, li_31, li_36, li_100, li_255, li_256, li_1000, li_6000, li_M, un_s, un_n, ba_ap, ba_upd, ba_in, cT_le, cF_le, cT_lt, cF_lt, cT_eq, cF_eq, nb_1, nb_2, ns_1, ns_2, nz_1, nz_2, ng_1, ng_2, ng_3, ng_4, ng_5, nI_clamp, nI_add, pk_mul, pk_sub, forall_eq, true_and, and_true, true_imp_iff, false_imp_iff, not_true_eq_false, not_false_eq_true, implies_true]
    exact yw_drop c8 (by omega) (by omega) r
  · have w' : ¬ gy_ypub y c = p := fun e => w (hyi.mp e)
    simp only [w, if_false, hw] at r
    simp (disch := omega) only [wY_gather_224, g2, li_0, li_1, li_2, li_3, li_4, li_5, li_6, li_7, li_8, li_9, li_10, li_11, li_12, li_15, li_16, li_20, li_21, li_24, li_31, li_36, li_100, li_255, li_256, li_1000, li_6000, li_M, un_s, un_n, ba_ap, ba_upd, ba_in, cT_le, cF_le, cT_lt, cF_lt, cT_eq, cF_eq, nb_1, nb_2, ns_1, ns_2, nz_1, nz_2, ng_1, ng_2, ng_3, ng_4, ng_5, nI_clamp, nI_add, pk_mul, pk_sub, forall_eq, true_and, and_true, true_imp_iff, false_imp_iff, not_true_eq_false, not_false_eq_true, implies_true]
    exact yw_drop c8 (by omega) (by omega) r
theorem co_loop {T c s p : Nat} (hT : T < 32768) (hs : s < 2) (hp : p < 6) : ∀ (S P : List LK) (a : SA), Inv T a → c < ga_ch a → ga_status a c = 1 → ga_outs a c = P ++ S → ga_who a (2 * c + s) = p → ∃ a', Inv T a' ∧ Fr a a' ∧ (ga_held a c = 0 → ga_outs a c = [] → a' = a) ∧
    (∀ x post oP oS, RX a x → srt (oP ++ oS) → (∀ i, i ∈ oP ++ oS → i < gx_many x c) → gx_outm x c = msk (oP ++ oS) → oP.map (fun i => (xT x c i).1) = P → oS.map (fun i => (xT x c i).1) = S → (∀ x', RX a' x' → post (mX a' x')) → ∀ n, S.length + 1 ≤ n → wX_collect_33 post (nI c) (nI s) n (nI (msk oS)) (ga_spent a) (nI (ga_now a)) (nI (ga_ch a)) (nI (gx_goal x)) (nI (gx_val x)) (nI (gx_known x)) (cN (ga_coins a)) (cN (ga_up a)) (ga_knows a) (cN (ga_base a)) (cN (ga_rate a)) (ga_guard a) (cN (ga_status a)) (cN (ga_who a)) (cN (ga_latest a)) (cN (gx_row x)) (cN (ga_bal a)) (cN (gx_many x)) (cN (gx_frm x)) (cN (gx_amt x)) (cN (gx_sec x)) (cN (gx_xpy x)) (cN (gx_born x)) (cN (gx_dead x)) (cN (ga_publd a)) (cN (ga_pubs a)) (cN (ga_since a)) (cN (ga_held a)) (cN (gx_outm x)) (cN (gx_least x)) (cN (gx_path x)) (cN (gx_xsum x))) ∧
    (∀ y post, RY a y → (∀ y', RY a' y' → post (mY a' y')) → ∀ n, S.length + 1 ≤ n → wY_gather_43 post (nI p) (nI c) (nI s) n (nI P.length) (nI (ga_now a)) (ga_spent a) (nI (ga_ch a)) (nI (gy_len y)) (cN (ga_coins a)) (cN (ga_base a)) (cN (ga_rate a)) (ga_guard a) (ga_knows a) (cN (ga_up a)) (cN (ga_who a)) (cN (ga_status a)) (cN (ga_latest a)) (cN (ga_publd a)) (cN (gy_ypub y)) (cN (ga_since a)) (cN (ga_held a)) (cN (gy_outn y)) (cN (ga_bal a)) (cN (gy_lks y)) (cN (gy_yf y)) (cN (gy_ya y)) (cN (gy_ys y)) (cN (gy_ye y)) (cN (gy_qf y)) (cN (gy_qa y)) (cN (gy_qs y)) (cN (gy_qe y)) (gy_way y) (cN (gy_part y)) (cN (gy_ysum y)) (cN (gy_bst y)) (cN (gy_bsm y))) := by
  intro S
  induction S with
  | nil =>
    intro P a I hc h1 ho hw
    have c8 := ch8 I hc
    obtain ⟨j1, j2, j3, j4, j5, j6, j7, j8⟩ := I.2.2.2.2.1 c hc
    obtain ⟨k1, k2, k3, k4, k5⟩ := j8 h1
    have hn := I.2.1
    rw [List.append_nil] at ho
    have hyp : ∀ y, RY a y → (gy_ypub y c = p ↔ ga_pubs a c = s) ∧ gy_ypub y c < 6 ∧ gy_outn y c = P.length ∧ P.length ≤ 3 := by
      intro y R
      have q := y_outn I R hc h1
      rw [ho] at q
      exact ⟨(yp_iff I R hc h1 hs hw).1, (yp_iff I R hc h1 hs hw).2, q.1, by omega⟩
    by_cases z1 : ga_pubs a c = s
    · by_cases z2 : ga_since a c + 3 ≤ ga_now a
      · refine ⟨aHd a c p, inv_hld I hc h1 hp, Fr_r a, fun hh _ => ?_, fun x post oP oS R _ _ _ _ hoS h n hn' => ?_, fun y post R h n hn' => ?_⟩
        · have e1 : un (ga_coins a) p (ga_coins a p + ga_held a c) = ga_coins a := un_id _ _ _ (by rw [hh]; rfl)
          have e2 : un (ga_held a) c 0 = ga_held a := un_id _ _ _ hh
          unfold aHd
          rw [e1, e2]
          rfl
        · have : oS = [] := List.map_eq_nil_iff.mp hoS
          subst this
          obtain ⟨n', rfl⟩ : ∃ n', n = n' + 1 := ⟨n - 1, by omega⟩
          rw [wX_collect_33]
          simp (disch := omega) only [msk_0, hw, li_0, li_1, li_2, li_3, li_4, li_5, li_6, li_7, li_8, li_9, li_10, li_11, li_12, li_15, li_16, li_20, li_21, li_24, li_31, li_36, li_100, li_255, li_256, li_1000, li_6000, li_M, un_s, un_n, ba_ap, ba_upd, ba_in, cT_le, cF_le, cT_lt, cF_lt, cT_eq, cF_eq, nb_1, nb_2, ns_1, ns_2, nz_1, nz_2, ng_1, ng_2, ng_3, ng_4, ng_5, nI_clamp, nI_add, pk_mul, pk_sub, forall_eq, true_and, and_true, true_imp_iff, false_imp_iff, not_true_eq_false, not_false_eq_true, implies_true]
          exact h x R
        · obtain ⟨y1, y2, y3, y4⟩ := hyp y R
          have y1 := y1.mpr z1
          obtain ⟨n', rfl⟩ : ∃ n', n = n' + 1 := ⟨n - 1, by omega⟩
          rw [wY_gather_43]
          simp (disch := omega) only [li_0, li_1, li_2, li_3, li_4, li_5, li_6, li_7, li_8, li_9, li_10, li_11, li_12, li_15, li_16, li_20, li_21, li_24, li_31, li_36, li_100, li_255, li_256, li_1000, li_6000, li_M, un_s, un_n, ba_ap, ba_upd, ba_in, cT_le, cF_le, cT_lt, cF_lt, cT_eq, cF_eq, nb_1, nb_2, ns_1, ns_2, nz_1, nz_2, ng_1, ng_2, ng_3, ng_4, ng_5, nI_clamp, nI_add, pk_mul, pk_sub, forall_eq, true_and, and_true, true_imp_iff, false_imp_iff, not_true_eq_false, not_false_eq_true, implies_true]
          exact h y R
      · refine ⟨a, I, Fr_r a, fun _ _ => rfl, fun x post oP oS R _ _ _ _ hoS h n hn' => ?_, fun y post R h n hn' => ?_⟩
        · have : oS = [] := List.map_eq_nil_iff.mp hoS
          subst this
          obtain ⟨n', rfl⟩ : ∃ n', n = n' + 1 := ⟨n - 1, by omega⟩
          rw [wX_collect_33]
          simp (disch := omega) only [msk_0, li_0, li_1, li_2, li_3, li_4, li_5, li_6, li_7, li_8, li_9, li_10, li_11, li_12, li_15, li_16, li_20, li_21, li_24, li_31, li_36, li_100, li_255, li_256, li_1000, li_6000, li_M, un_s, un_n, ba_ap, ba_upd, ba_in, cT_le, cF_le, cT_lt, cF_lt, cT_eq, cF_eq, nb_1, nb_2, ns_1, ns_2, nz_1, nz_2, ng_1, ng_2, ng_3, ng_4, ng_5, nI_clamp, nI_add, pk_mul, pk_sub, forall_eq, true_and, and_true, true_imp_iff, false_imp_iff, not_true_eq_false, not_false_eq_true, implies_true]
          exact h x R
        · obtain ⟨y1, y2, y3, y4⟩ := hyp y R
          have y1 := y1.mpr z1
          obtain ⟨n', rfl⟩ : ∃ n', n = n' + 1 := ⟨n - 1, by omega⟩
          rw [wY_gather_43]
          simp (disch := omega) only [li_0, li_1, li_2, li_3, li_4, li_5, li_6, li_7, li_8, li_9, li_10, li_11, li_12, li_15, li_16, li_20, li_21, li_24, li_31, li_36, li_100, li_255, li_256, li_1000, li_6000, li_M, un_s, un_n, ba_ap, ba_upd, ba_in, cT_le, cF_le, cT_lt, cF_lt, cT_eq, cF_eq, nb_1, nb_2, ns_1, ns_2, nz_1, nz_2, ng_1, ng_2, ng_3, ng_4, ng_5, nI_clamp, nI_add, pk_mul, pk_sub, forall_eq, true_and, and_true, true_imp_iff, false_imp_iff, not_true_eq_false, not_false_eq_true, implies_true]
          exact h y R
    · refine ⟨a, I, Fr_r a, fun _ _ => rfl, fun x post oP oS R _ _ _ _ hoS h n hn' => ?_, fun y post R h n hn' => ?_⟩
      · have : oS = [] := List.map_eq_nil_iff.mp hoS
        subst this
        obtain ⟨n', rfl⟩ : ∃ n', n = n' + 1 := ⟨n - 1, by omega⟩
        rw [wX_collect_33]
        simp (disch := omega) only [msk_0, li_0, li_1, li_2, li_3, li_4, li_5, li_6, li_7, li_8, li_9, li_10, li_11, li_12, li_15, li_16, li_20, li_21, li_24, li_31, li_36, li_100, li_255, li_256, li_1000, li_6000, li_M, un_s, un_n, ba_ap, ba_upd, ba_in, cT_le, cF_le, cT_lt, cF_lt, cT_eq, cF_eq, nb_1, nb_2, ns_1, ns_2, nz_1, nz_2, ng_1, ng_2, ng_3, ng_4, ng_5, nI_clamp, nI_add, pk_mul, pk_sub, forall_eq, true_and, and_true, true_imp_iff, false_imp_iff, not_true_eq_false, not_false_eq_true, implies_true]
        exact h x R
      · obtain ⟨y1, y2, y3, y4⟩ := hyp y R
        have y1 : ¬ gy_ypub y c = p := fun e => z1 (y1.mp e)
        obtain ⟨n', rfl⟩ : ∃ n', n = n' + 1 := ⟨n - 1, by omega⟩
        rw [wY_gather_43]
        simp (disch := omega) only [li_0, li_1, li_2, li_3, li_4, li_5, li_6, li_7, li_8, li_9, li_10, li_11, li_12, li_15, li_16, li_20, li_21, li_24, li_31, li_36, li_100, li_255, li_256, li_1000, li_6000, li_M, un_s, un_n, ba_ap, ba_upd, ba_in, cT_le, cF_le, cT_lt, cF_lt, cT_eq, cF_eq, nb_1, nb_2, ns_1, ns_2, nz_1, nz_2, ng_1, ng_2, ng_3, ng_4, ng_5, nI_clamp, nI_add, pk_mul, pk_sub, forall_eq, true_and, and_true, true_imp_iff, false_imp_iff, not_true_eq_false, not_false_eq_true, implies_true]
        exact h y R
  | cons l S ih =>
    intro P a I hc h1 ho hw
    have c8 := ch8 I hc
    obtain ⟨j1, j2, j3, j4, j5, j6, j7, j8⟩ := I.2.2.2.2.1 c hc
    obtain ⟨k1, k2, k3, k4, k5⟩ := j8 h1
    have hn := I.2.1
    have hcl := inv_closed I hc h1
    have hlm : l ∈ ga_outs a c := by rw [ho]; exact List.mem_append.mpr (Or.inr (List.mem_cons_self ..))
    have hlI := k5 l hlm
    have hls := sumL_mem _ _ hlm
    have hws : ga_who a (2 * c + s) < 6 := by rw [hw]; exact hp
    have hwo : ga_who a (2 * c + 1 - s) < 6 := by
      rcases (show s = 0 ∨ s = 1 by omega) with rfl | rfl
      · exact j3
      · exact j2
    have yfac : ∀ y, RY a y → gy_outn y c = P.length + 1 + S.length ∧ P.length + 1 + S.length ≤ 3 ∧ P = lsF (yQ y) (3 * c) P.length ∧ yQ y (3 * c + P.length) = l ∧ S = lsF (yQ y) (3 * c + P.length + 1) S.length := by
      intro y R
      have e := ((R c hc).2 h1).1
      have q := y_outn I R hc h1
      rw [ho] at e
      obtain ⟨m1, m2, m3, m4⟩ := lsF_mid e
      exact ⟨m1, by omega, m2, m3, m4⟩
    cases z : tkA a c s l with
    | false =>
      obtain ⟨a', i1, i2, i3, i4, i5⟩ := ih (P ++ [l]) a I hc h1 (by rw [ho, List.append_assoc]; rfl) hw
      refine ⟨a', i1, i2, i3, fun x post oP oS R hsr hm hom hP hS h n hn' => ?_, fun y post R h n hn' => ?_⟩
      · obtain ⟨i, oS', rfl, hi, hS'⟩ : ∃ i oS', oS = i :: oS' ∧ (xT x c i).1 = l ∧ oS'.map (fun i => (xT x c i).1) = S := by
          obtain ⟨i, oS', q1, q2, q3⟩ := List.map_eq_cons_iff.mp hS
          exact ⟨i, oS', q1, q2, q3⟩
        have hsr2 := srt_tl _ _ hsr
        have h11 : ∀ j, j ∈ i :: oS' → j < 11 := fun j hj => x_o I R hc hm j (List.mem_append.mpr (Or.inr hj))
        have i11 := h11 i (List.mem_cons_self ..)
        have p0 := msk_pos (i := i) (l := oS')
        have p1 := m_lt h11
        rw [List.length_cons] at hn'
        obtain ⟨n', rfl⟩ : ∃ n', n = n' + 1 := ⟨n - 1, by omega⟩
        have f2 : gx_frm x (11 * c + i) < 2 := by have := hlI.1; rw [← hi] at this; exact this
        have f3 : gx_xpy x (11 * c + i) < 32768 := by have := hlI.2.2; rw [← hi] at this; exact this
        have f4 : tkB (ga_now a) (ga_knows a) (ga_who a (2 * c + s)) s (tb (gx_frm x) (gx_amt x) (gx_sec x) (gx_xpy x) (gx_born x) (gx_dead x) c i).1 = false := by rw [← hi] at z; exact z
        rw [wX_collect_33]
        simp (disch := omega) only [xw_nth0 hsr2 h11, xw_outF c8 hs i11 f2 f3 (show ga_now a < 32768 by omega) hws f4, m_low hsr2.1, li_0, li_1, li_2, li_3, li_4, li_5, li_6, li_7, li_8, li_9, li_10, li_11, li_12, li_15, li_16, li_20, li_21, li_24, li_31, li_36, li_100, li_255, li_256, li_1000, li_6000, li_M, un_s, un_n, ba_ap, ba_upd, ba_in, cT_le, cF_le, cT_lt, cF_lt, cT_eq, cF_eq, nb_1, nb_2, ns_1, ns_2, nz_1, nz_2, ng_1, ng_2, ng_3, ng_4, ng_5, nI_clamp, nI_add, pk_mul, pk_sub, forall_eq, true_and, and_true, true_imp_iff, false_imp_iff, not_true_eq_false, not_false_eq_true, implies_true]
        refine i4 x post (oP ++ [i]) oS' R ?_ ?_ ?_ ?_ hS' h n' (by omega)
        · rw [List.append_assoc]; exact hsr
        · rw [List.append_assoc]; exact hm
        · rw [List.append_assoc]; exact hom
        · rw [List.map_append, hP, ← hi]; rfl
      · obtain ⟨m1, m1', m2, m3, m4⟩ := yfac y R
        rw [List.length_cons] at hn'
        obtain ⟨n', rfl⟩ : ∃ n', n = n' + 1 := ⟨n - 1, by omega⟩
        have g1 : gy_qf y (3 * c + P.length) = l.1 := by rw [← m3]; rfl
        have g3 : gy_qs y (3 * c + P.length) = l.2.2.1 := by rw [← m3]; rfl
        have g4 : gy_qe y (3 * c + P.length) = l.2.2.2 := by rw [← m3]; rfl
        have r := i5 y post R h n' (by omega)
        rw [List.length_append, List.length_singleton] at r
        unfold tkA tkB at z
        rw [hw] at z
        have hl1 := hlI.1
        have hl4 := hlI.2.2
        rw [wY_gather_43]
        by_cases b : l.1 = s
        · rw [if_pos b] at z
          have z := of_decide_eq_false z
          simp (disch := omega) only [g1, g4, wY_gather_78, wY_gather_132, li_0, li_1, li_2, li_3, li_4, li_5, li_6, li_7, li_8, li_9, li_10, li_11, li_12, li_15, li_16, li_20, li_21, li_24, li_31, li_36, li_100, li_255, li_256, li_1000, li_6000, li_M, un_s, un_n, ba_ap, ba_upd, ba_in, cT_le, cF_le, cT_lt, cF_lt, cT_eq, cF_eq, nb_1, nb_2, ns_1, ns_2, nz_1, nz_2, ng_1, ng_2, ng_3, ng_4, ng_5, nI_clamp, nI_add, pk_mul, pk_sub, forall_eq, true_and, and_true, true_imp_iff, false_imp_iff, not_true_eq_false, not_false_eq_true, implies_true]
          exact r
        · rw [if_neg b] at z
          have z := kB_f z
          unfold knw at z
          simp (disch := omega) only [g1, g3, z, wY_gather_78, wY_gather_132, li_0, li_1, li_2, li_3, li_4, li_5, li_6, li_7, li_8, li_9, li_10, li_11, li_12, li_15, li_16, li_20, li_21, li_24, li_31, li_36, li_100, li_255, li_256, li_1000, li_6000, li_M, un_s, un_n, ba_ap, ba_upd, ba_in, cT_le, cF_le, cT_lt, cF_lt, cT_eq, cF_eq, nb_1, nb_2, ns_1, ns_2, nz_1, nz_2, ng_1, ng_2, ng_3, ng_4, ng_5, nI_clamp, nI_add, pk_mul, pk_sub, forall_eq, true_and, and_true, true_imp_iff, false_imp_iff, not_true_eq_false, not_false_eq_true, implies_true]
          exact r
    | true =>
      have I' := inv_aTk (s := s) I hc h1 hs ho
      obtain ⟨a', i1, i2, i3, i4, i5⟩ := ih P (aTk a c s l.2.1 (lrn a c s l) (P ++ S)) I' hc h1 (by rw [aTk_outs, unO_s]) hw
      refine ⟨a', i1, Fr_t (show Fr a (aTk a c s l.2.1 (lrn a c s l) (P ++ S)) from Fr_r a) i2, fun _ ho' => ?_, fun x post oP oS R hsr hm hom hP hS h n hn' => ?_, fun y post R h n hn' => ?_⟩
      · rw [ho'] at hlm; cases hlm
      · obtain ⟨i, oS', rfl, hi, hS'⟩ : ∃ i oS', oS = i :: oS' ∧ (xT x c i).1 = l ∧ oS'.map (fun i => (xT x c i).1) = S := by
          obtain ⟨i, oS', q1, q2, q3⟩ := List.map_eq_cons_iff.mp hS
          exact ⟨i, oS', q1, q2, q3⟩
        have hsr2 := srt_tl _ _ hsr
        have h11 : ∀ j, j ∈ i :: oS' → j < 11 := fun j hj => x_o I R hc hm j (List.mem_append.mpr (Or.inr hj))
        have h11' := x_o I R hc hm
        have i11 := h11 i (List.mem_cons_self ..)
        have p0 := msk_pos (i := i) (l := oS')
        have p1 := m_lt h11
        rw [List.length_cons] at hn'
        obtain ⟨n', rfl⟩ : ∃ n', n = n' + 1 := ⟨n - 1, by omega⟩
        have f2 : gx_frm x (11 * c + i) < 2 := by have := hlI.1; rw [← hi] at this; exact this
        have f3 : gx_xpy x (11 * c + i) < 32768 := by have := hlI.2.2; rw [← hi] at this; exact this
        have f5 : gx_amt x (11 * c + i) = l.2.1 := by rw [← hi]; rfl
        have f4 : tkB (ga_now a) (ga_knows a) (ga_who a (2 * c + s)) s (tb (gx_frm x) (gx_amt x) (gx_sec x) (gx_xpy x) (gx_born x) (gx_dead x) c i).1 = true := by rw [← hi] at z; exact z
        have ecl : gx_outm x c &&& (2 ^ i ^^^ 4294967295) = msk (oP ++ oS') := by
          rw [hom, msk_clr (fun j hj => by have := h11' j hj; omega), srt_rm _ _ _ hsr]
        have hsr3 := srt_rm2 hsr
        have hm3 : ∀ j, j ∈ oP ++ oS' → j < gx_many x c := by
          intro j hj
          refine hm j ?_
          rcases List.mem_append.mp hj with hj | hj
          · exact List.mem_append.mpr (Or.inl hj)
          · exact List.mem_append.mpr (Or.inr (List.mem_cons_of_mem _ hj))
        have p2 : gx_outm x c &&& (2 ^ i ^^^ 4294967295) < 2048 := by rw [ecl]; exact m_lt (x_o I R hc hm3)
        have RR : RX (aTk a c s l.2.1 (lrn a c s l) (P ++ S)) (xOut x c (msk (oP ++ oS'))) := by
          refine ⟨fun d hd => ?_, R.2⟩
          have hd : d < ga_ch a := hd
          by_cases w : d = c
          · subst w
            refine ⟨(R.1 d hd).1, fun _ => ⟨oP ++ oS', hsr3, hm3, ?_, ?_⟩⟩
            · rw [xOut_outm, un_s]
            · rw [aTk_outs, unO_s, ← hP, ← hS', ← List.map_append]; rfl
          · refine xC_congr (a := a) (x := x) rfl (fun k _ => rfl) rfl rfl (I.2.2.2.2.1 d hd).2.2.2.2.1 (fun j hj => rfl) (fun q => ⟨q, ?_, ?_⟩) (R.1 d hd)
            · rw [aTk_outs, unO_n w]
            · rw [xOut_outm, un_n w]
        have r := i4 (xOut x c (msk (oP ++ oS'))) post oP oS' RR hsr3 hm3 (by rw [xOut_outm, un_s]) hP hS' h n' (by omega)
        rw [wX_collect_33]
        simp (disch := omega) only [xw_nth0 hsr2 h11, xw_outT c8 hs i11 f2 f3 (show ga_now a < 32768 by omega) j2 j3 k1 (show ga_held a c + gx_amt x (11 * c + i) < 32768 by omega) p2 f4, m_low hsr2.1, li_0, li_1, li_2, li_3, li_4, li_5, li_6, li_7, li_8, li_9, li_10, li_11, li_12, li_15, li_16, li_20, li_21, li_24, li_31, li_36, li_100, li_255, li_256, li_1000, li_6000, li_M, un_s, un_n, ba_ap, ba_upd, ba_in, cT_le, cF_le, cT_lt, cF_lt, cT_eq, cF_eq, nb_1, nb_2, ns_1, ns_2, nz_1, nz_2, ng_1, ng_2, ng_3, ng_4, ng_5, nI_clamp, nI_add, pk_mul, pk_sub, forall_eq, true_and, and_true, true_imp_iff, false_imp_iff, not_true_eq_false, not_false_eq_true, implies_true]
        rw [ecl, f5]
        rw [← hi] at r ⊢
        exact r
      · obtain ⟨m1, m1', m2, m3, m4⟩ := yfac y R
        rw [List.length_cons] at hn'
        obtain ⟨n', rfl⟩ : ∃ n', n = n' + 1 := ⟨n - 1, by omega⟩
        have g1 : gy_qf y (3 * c + P.length) = l.1 := by rw [← m3]; rfl
        have g2 : gy_qa y (3 * c + P.length) = l.2.1 := by rw [← m3]; rfl
        have g3 : gy_qs y (3 * c + P.length) = l.2.2.1 := by rw [← m3]; rfl
        have g4 : gy_qe y (3 * c + P.length) = l.2.2.2 := by rw [← m3]; rfl
        have hl1 := hlI.1
        have hl4 := hlI.2.2
        have hyp := ((R c hc).2 h1).2
        have hyl := (yp_iff I R hc h1 hs hw).2
        have hyi := (yp_iff I R hc h1 hs hw).1
        have hml : ∀ F : Nat → Nat, ∀ j, j < P.length → shf F (3 * c + P.length) (3 * c + (gy_outn y c - 1)) (3 * c + j) = F (3 * c + j) := fun F j hj => shf_out _ (by omega)
        have hmr : ∀ F : Nat → Nat, ∀ j, j < S.length → shf F (3 * c + P.length) (3 * c + (gy_outn y c - 1)) (3 * c + P.length + j) = F (3 * c + P.length + 1 + j) := fun F j hj => by
          rw [shf_in _ (by omega)]; congr 1; omega
        have hmo : ∀ F : Nat → Nat, ∀ i, i < 3 * c ∨ 3 * c + 3 ≤ i → shf F (3 * c + P.length) (3 * c + (gy_outn y c - 1)) i = F i := fun F i hi => shf_out _ (by omega)
        have RR : RY (aTk a c s l.2.1 (lrn a c s l) (P ++ S)) (yOut y (un (gy_outn y) c (gy_outn y c - 1)) (shf (gy_qf y) (3 * c + P.length) (3 * c + (gy_outn y c - 1))) (shf (gy_qa y) (3 * c + P.length) (3 * c + (gy_outn y c - 1))) (shf (gy_qs y) (3 * c + P.length) (3 * c + (gy_outn y c - 1))) (shf (gy_qe y) (3 * c + P.length) (3 * c + (gy_outn y c - 1)))) := by
          intro d hd
          have hd : d < ga_ch a := hd
          by_cases w : d = c
          · subst w
            refine ⟨(R d hd).1, fun _ => ⟨?_, hyp⟩⟩
            rw [aTk_outs, unO_s, yOut_outn, un_s, show gy_outn y d - 1 = P.length + S.length by omega, lsF_app]
            rw [show gy_outn y d - 1 = P.length + S.length by omega] at hml hmr
            congr 1
            · rw [m2, lsF_len]
              rw [m2, lsF_len] at hml
              exact lsF_congr fun j hj => (lk_eq (hml _ j hj) (hml _ j hj) (hml _ j hj) (hml _ j hj)).symm
            · refine m4.trans ?_
              exact lsF_congr fun j hj => (lk_eq (hmr _ j hj) (hmr _ j hj) (hmr _ j hj) (hmr _ j hj)).symm
          · refine yC_congr (a := a) (y := y) rfl (fun k hk => ⟨rfl, rfl, fun j _ => rfl⟩) (fun k hk => ((I.2.2.2.2.1 d hd).2.2.2.2.2.2.1 k hk).1) (fun q => ?_) (R d hd)
            refine ⟨q, by rw [aTk_outs, unO_n w], by rw [yOut_outn, un_n w], ((I.2.2.2.2.1 d hd).2.2.2.2.2.2.2 q).2.2.2.1, fun j hj => ?_, rfl, rfl⟩
            exact lk_eq (hmo _ _ (by omega)) (hmo _ _ (by omega)) (hmo _ _ (by omega)) (hmo _ _ (by omega))
        have r := i5 _ post RR h n' (by omega)
        unfold tkA tkB at z
        rw [hw] at z
        have go := y2_take (y := y) (n := gy_outn y c) (P := P) (S := S) (l := l) (post := post) (J := wY_gather_43 post (nI p) (nI c) (nI s) n') (K := lrn a c s l) c8 hp hw hyi hyl k1 m1 m1' g2 r
        rw [wY_gather_43]
        by_cases b : l.1 = s
        · rw [if_pos b] at z
          have z := of_decide_eq_true z
          have ek : lrn a c s l = ga_knows a := if_pos b
          rw [ek] at go
          simp (disch := omega) only [g1, g4, wY_gather_78, wY_gather_132, li_0, li_1, li_2, li_3, li_4, li_5, li_6, li_7, li_8, li_9, li_10, li_11, li_12, li_15, li_16, li_20, li_21, li_24, li_31, li_36, li_100, li_255, li_256, li_1000, li_6000, li_M, un_s, un_n, ba_ap, ba_upd, ba_in, cT_le, cF_le, cT_lt, cF_lt, cT_eq, cF_eq, nb_1, nb_2, ns_1, ns_2, nz_1, nz_2, ng_1, ng_2, ng_3, ng_4, ng_5, nI_clamp, nI_add, pk_mul, pk_sub, forall_eq, true_and, and_true, true_imp_iff, false_imp_iff, not_true_eq_false, not_false_eq_true, implies_true]
          exact go
        · rw [if_neg b] at z
          have z := kB_t z
          unfold knw at z
          have ek : lrn a c s l = upd (ga_knows a) (ga_who a (2 * c + 1 - s)) (ga_knows a (ga_who a (2 * c + 1 - s)) ||| (nI 1 <<< (nI l.2.2.1 &&& nI 31))) := if_neg b
          rw [ek] at go
          rcases (show s = 0 ∨ s = 1 by omega) with rfl | rfl
          · simp only [Nat.sub_zero] at go hwo
            simp (disch := omega) only [g1, g3, z, wY_gather_78, wY_gather_132, Nat.sub_zero, li_0, li_1, li_2, li_3, li_4, li_5, li_6, li_7, li_8, li_9, li_10, li_11, li_12, li_15, li_16, li_20, li_21, li_24, li_31, li_36, li_100, li_255, li_256, li_1000, li_6000, li_M, un_s, un_n, ba_ap, ba_upd, ba_in, cT_le, cF_le, cT_lt, cF_lt, cT_eq, cF_eq, nb_1, nb_2, ns_1, ns_2, nz_1, nz_2, ng_1, ng_2, ng_3, ng_4, ng_5, nI_clamp, nI_add, pk_mul, pk_sub, forall_eq, true_and, and_true, true_imp_iff, false_imp_iff, not_true_eq_false, not_false_eq_true, implies_true]
            exact go
          · simp only [Nat.add_sub_cancel] at go hwo
            simp (disch := omega) only [g1, g3, z, wY_gather_78, wY_gather_132, Nat.add_sub_cancel, li_0, li_1, li_2, li_3, li_4, li_5, li_6, li_7, li_8, li_9, li_10, li_11, li_12, li_15, li_16, li_20, li_21, li_24, li_31, li_36, li_100, li_255, li_256, li_1000, li_6000, li_M, un_s, un_n, ba_ap, ba_upd, ba_in, cT_le, cF_le, cT_lt, cF_lt, cT_eq, cF_eq, nb_1, nb_2, ns_1, ns_2, nz_1, nz_2, ng_1, ng_2, ng_3, ng_4, ng_5, nI_clamp, nI_add, pk_mul, pk_sub, forall_eq, true_and, and_true, true_imp_iff, false_imp_iff, not_true_eq_false, not_false_eq_true, implies_true]
            exact go
end
section
theorem x2_pun {T : Nat} {a : SA} {x : OX} {c s p : Nat} (I : Inv T a) (R : RX a x) (hc : c < ga_ch a) (h1 : ga_status a c = 1) (hs : s < 2) (hp : p < 6) (hw : ga_who a (2 * c + s) = p) :
    ∃ x', RX (aPu a c p) x' ∧ ∀ post : Int32 → SX → Prop, post (nI (ga_held a c + sumL (ga_outs a c))) (mX (aPu a c p) x') → wpX_punish post (mX a x) (nI c) (nI s) := by
  have c8 := ch8 I hc
  obtain ⟨o, o1, o2, o3, o4⟩ := (R.1 c hc).2 h1
  have h11 := x_o I R hc o2
  refine ⟨xOut x c 0, ⟨fun d hd => ?_, R.2⟩, fun post h => ?_⟩
  · have hd : d < ga_ch a := hd
    by_cases w : d = c
    · subst w
      refine ⟨(R.1 d hd).1, fun _ => ⟨[], trivial, fun i hi => (by cases hi), ?_, ?_⟩⟩
      · rw [xOut_outm, un_s]; rfl
      · rw [aPu_outs, unO_s]; rfl
    · refine xC_congr (a := a) (x := x) rfl (fun k _ => rfl) rfl rfl (I.2.2.2.2.1 d hd).2.2.2.2.1 (fun j hj => rfl) (fun q => ⟨q, ?_, ?_⟩) (R.1 d hd)
      · rw [aPu_outs, unO_n w]
      · rw [xOut_outm, un_n w]
  · have hws : ga_who a (2 * c + s) < 6 := by rw [hw]; exact hp
    simp (disch := omega) only [wpX_punish, mX, li_0, li_1, li_2, li_3, li_4, li_5, li_6, li_7, li_8, li_9, li_10, li_11, li_12, li_15, li_16, li_20, li_21, li_24, li_31, li_36, li_100, li_255, li_256, li_1000, li_6000, li_M, un_s, un_n, ba_ap, ba_upd, ba_in, cT_le, cF_le, cT_lt, cF_lt, cT_eq, cF_eq, nb_1, nb_2, ns_1, ns_2, nz_1, nz_2, ng_1, ng_2, ng_3, ng_4, ng_5, nI_clamp, nI_add, pk_mul, pk_sub, forall_eq, true_and, and_true, true_imp_iff, false_imp_iff, not_true_eq_false, not_false_eq_true, implies_true]
    refine ⟨o.length + 1, ?_⟩
    rw [o3]
    refine xw_pun15 (born := gx_born x) (dead := gx_dead x) (sec := gx_sec x) (frm := gx_frm x) (xpy := gx_xpy x) c8 hs hws o (ga_held a c) o1 h11 ?_
    have e : sumL (o.map (fun i => (tb (gx_frm x) (gx_amt x) (gx_sec x) (gx_xpy x) (gx_born x) (gx_dead x) c i).1)) = sumL (ga_outs a c) := by rw [o4]; rfl
    rw [e, hw]
    exact h
theorem y2_pun {T : Nat} {a : SA} {y : OY} {c p : Nat} (I : Inv T a) (R : RY a y) (hc : c < ga_ch a) (h1 : ga_status a c = 1) (hp : p < 6) :
    ∃ y', RY (aPu a c p) y' ∧ ∀ post : Int32 → SY → Prop, post (nI (ga_held a c + sumL (ga_outs a c))) (mY (aPu a c p) y') → wpY_punish post (mY a y) (nI p) (nI c) := by
  have c8 := ch8 I hc
  obtain ⟨q1, q2⟩ := (R c hc).2 h1
  obtain ⟨n1, n2⟩ := y_outn I R hc h1
  refine ⟨yOut y (un (gy_outn y) c 0) (gy_qf y) (gy_qa y) (gy_qs y) (gy_qe y), fun d hd => ?_, fun post h => ?_⟩
  · have hd : d < ga_ch a := hd
    by_cases w : d = c
    · subst w
      refine ⟨(R d hd).1, fun _ => ⟨?_, q2⟩⟩
      rw [aPu_outs, unO_s, yOut_outn, un_s]; rfl
    · refine yC_congr (a := a) (y := y) rfl (fun k hk => ⟨rfl, rfl, fun j _ => rfl⟩) (fun k hk => ((I.2.2.2.2.1 d hd).2.2.2.2.2.2.1 k hk).1) (fun q => ?_) (R d hd)
      exact ⟨q, by rw [aPu_outs, unO_n w], by rw [yOut_outn, un_n w], ((I.2.2.2.2.1 d hd).2.2.2.2.2.2.2 q).2.2.2.1, fun j hj => rfl, rfl, rfl⟩
  · have e : sumL (lsF (lk4 (gy_qf y) (gy_qa y) (gy_qs y) (gy_qe y)) (3 * c) (gy_outn y c)) = sumL (ga_outs a c) := by rw [q1]; rfl
    refine yw_punish c8 hp n2 ?_
    rw [e]
    exact h
theorem co_out {T c s p : Nat} (hT : T < 32768) (hs : s < 2) (hp : p < 6) (a : SA) (I : Inv T a) (hc : c < ga_ch a) (h1 : ga_status a c = 1) (hw : ga_who a (2 * c + s) = p) : ∃ a', Inv T a' ∧ Fr a a' ∧ (ga_held a c = 0 → ga_outs a c = [] → a' = a) ∧
    (∀ x post, RX a x → (∀ x', RX a' x' → post (mX a' x')) → wpX_collect post (mX a x) (nI c) (nI s)) ∧
    (∀ y post, RY a y → (∀ y', RY a' y' → post (mY a' y')) → wpY_gather post (mY a y) (nI p) (nI c)) := by
  have c8 := ch8 I hc
  obtain ⟨j1, j2, j3, j4, j5, j6, j7, j8⟩ := I.2.2.2.2.1 c hc
  obtain ⟨k1, k2, k3, k4, k5⟩ := j8 h1
  have hsI : sI (ga_who a) c p = nI s := by rw [← hw]; exact (sI_s (sd_w j4 hs) hs).1
  by_cases z : ga_pubs a c = s ∨ ga_publd a c = ga_latest a c
  · obtain ⟨a', i1, i2, i3, i4, i5⟩ := co_loop hT hs hp (ga_outs a c) [] a I hc h1 rfl hw
    refine ⟨a', i1, i2, i3, fun x post R h => ?_, fun y post R h => ?_⟩
    · obtain ⟨o, o1, o2, o3, o4⟩ := (R.1 c hc).2 h1
      have r := i4 x post [] o R o1 o2 o3 rfl o4.symm h ((ga_outs a c).length + 1) (Nat.le_refl _)
      rw [← o3] at r
      by_cases w : ga_pubs a c = s
      · simp (disch := omega) only [wpX_collect, mX, li_0, li_1, li_2, li_3, li_4, li_5, li_6, li_7, li_8, li_9, li_10, li_11, li_12, li_15, li_16, li_20, li_21, li_24, li_31, li_36, li_100, li_255, li_256, li_1000, li_6000, li_M, un_s, un_n, ba_ap, ba_upd, ba_in, cT_le, cF_le, cT_lt, cF_lt, cT_eq, cF_eq, nb_1, nb_2, ns_1, ns_2, nz_1, nz_2, ng_1, ng_2, ng_3, ng_4, ng_5, nI_clamp, nI_add, pk_mul, pk_sub, forall_eq, true_and, and_true, true_imp_iff, false_imp_iff, not_true_eq_false, not_false_eq_true, implies_true]
        exact ⟨_, r⟩
      · have w2 : ga_publd a c = ga_latest a c := by rcases z with z | z
                                                     · exact absurd z w
                                                     · exact z
        simp (disch := omega) only [wpX_collect, mX, xw_isOld c8 (show ga_publd a c < 12 by omega) j5, w2, if_true, li_0, li_1, li_2, li_3, li_4, li_5, li_6, li_7, li_8, li_9, li_10, li_11, li_12, li_15, li_16, li_20, li_21, li_24, li_31, li_36, li_100, li_255, li_256, li_1000, li_6000, li_M, un_s, un_n, ba_ap, ba_upd, ba_in, cT_le, cF_le, cT_lt, cF_lt, cT_eq, cF_eq, nb_1, nb_2, ns_1, ns_2, nz_1, nz_2, ng_1, ng_2, ng_3, ng_4, ng_5, nI_clamp, nI_add, pk_mul, pk_sub, forall_eq, true_and, and_true, true_imp_iff, false_imp_iff, not_true_eq_false, not_false_eq_true, implies_true]
        exact ⟨_, r⟩
    · have r := i5 y post R h ((ga_outs a c).length + 1) (Nat.le_refl _)
      obtain ⟨y1, y2⟩ := yp_iff I R hc h1 hs hw
      by_cases w : ga_pubs a c = s
      · have w' := y1.mpr w
        simp (disch := omega) only [wpY_gather, wY_gather_33, mY, yw_sideOf c8 (show p < 2 ^ 31 by omega) j2 j3, hsI, li_0, li_1, li_2, li_3, li_4, li_5, li_6, li_7, li_8, li_9, li_10, li_11, li_12, li_15, li_16, li_20, li_21, li_24, li_31, li_36, li_100, li_255, li_256, li_1000, li_6000, li_M, un_s, un_n, ba_ap, ba_upd, ba_in, cT_le, cF_le, cT_lt, cF_lt, cT_eq, cF_eq, nb_1, nb_2, ns_1, ns_2, nz_1, nz_2, ng_1, ng_2, ng_3, ng_4, ng_5, nI_clamp, nI_add, pk_mul, pk_sub, forall_eq, true_and, and_true, true_imp_iff, false_imp_iff, not_true_eq_false, not_false_eq_true, implies_true]
        exact ⟨_, r⟩
      · have w' : ¬ gy_ypub y c = p := fun e => w (y1.mp e)
        have w2 : ga_publd a c = ga_latest a c := by rcases z with z | z
                                                     · exact absurd z w
                                                     · exact z
        simp (disch := omega) only [wpY_gather, wY_gather_33, mY, yw_sideOf c8 (show p < 2 ^ 31 by omega) j2 j3, hsI, li_0, li_1, li_2, li_3, li_4, li_5, li_6, li_7, li_8, li_9, li_10, li_11, li_12, li_15, li_16, li_20, li_21, li_24, li_31, li_36, li_100, li_255, li_256, li_1000, li_6000, li_M, un_s, un_n, ba_ap, ba_upd, ba_in, cT_le, cF_le, cT_lt, cF_lt, cT_eq, cF_eq, nb_1, nb_2, ns_1, ns_2, nz_1, nz_2, ng_1, ng_2, ng_3, ng_4, ng_5, nI_clamp, nI_add, pk_mul, pk_sub, forall_eq, true_and, and_true, true_imp_iff, false_imp_iff, not_true_eq_false, not_false_eq_true, implies_true]
        exact ⟨_, r⟩
  · have w1 : ¬ ga_pubs a c = s := fun e => z (Or.inl e)
    have w2 : ¬ ga_publd a c = ga_latest a c := fun e => z (Or.inr e)
    refine ⟨aPu a c p, inv_pun I hc h1 hp, Fr_r a, fun hh ho => ?_, fun x post R h => ?_, fun y post R h => ?_⟩
    · have e1 : un (ga_coins a) p (ga_coins a p + (ga_held a c + sumL (ga_outs a c))) = ga_coins a := un_id _ _ _ (by rw [hh, ho]; rfl)
      have e2 : un (ga_held a) c 0 = ga_held a := un_id _ _ _ hh
      have e3 : unO (ga_outs a) c [] = ga_outs a := by
        funext d
        by_cases w : d = c
        · rw [w, unO_s, ho]
        · rw [unO_n w]
      unfold aPu
      rw [e1, e2, e3]
      rfl
    · obtain ⟨x', r1, r2⟩ := x2_pun I R hc h1 hs hp hw
      simp (disch := omega) only [wpX_collect, mX, xw_isOld c8 (show ga_publd a c < 12 by omega) j5, w2, if_false, li_0, li_1, li_2, li_3, li_4, li_5, li_6, li_7, li_8, li_9, li_10, li_11, li_12, li_15, li_16, li_20, li_21, li_24, li_31, li_36, li_100, li_255, li_256, li_1000, li_6000, li_M, un_s, un_n, ba_ap, ba_upd, ba_in, cT_le, cF_le, cT_lt, cF_lt, cT_eq, cF_eq, nb_1, nb_2, ns_1, ns_2, nz_1, nz_2, ng_1, ng_2, ng_3, ng_4, ng_5, nI_clamp, nI_add, pk_mul, pk_sub, forall_eq, true_and, and_true, true_imp_iff, false_imp_iff, not_true_eq_false, not_false_eq_true, implies_true]
      exact r2 _ (h x' r1)
    · obtain ⟨y', r1, r2⟩ := y2_pun I R hc h1 hp
      obtain ⟨y1, y2⟩ := yp_iff I R hc h1 hs hw
      have w' : ¬ gy_ypub y c = p := fun e => w1 (y1.mp e)
      simp (disch := omega) only [wpY_gather, mY, li_0, li_1, li_2, li_3, li_4, li_5, li_6, li_7, li_8, li_9, li_10, li_11, li_12, li_15, li_16, li_20, li_21, li_24, li_31, li_36, li_100, li_255, li_256, li_1000, li_6000, li_M, un_s, un_n, ba_ap, ba_upd, ba_in, cT_le, cF_le, cT_lt, cF_lt, cT_eq, cF_eq, nb_1, nb_2, ns_1, ns_2, nz_1, nz_2, ng_1, ng_2, ng_3, ng_4, ng_5, nI_clamp, nI_add, pk_mul, pk_sub, forall_eq, true_and, and_true, true_imp_iff, false_imp_iff, not_true_eq_false, not_false_eq_true, implies_true]
      exact r2 _ (h y' r1)
theorem tc2 {T c s p : Nat} (hT : T < 32768) (hs : s < 2) (hp : p < 6) (a : SA) (I : Inv T a) (hc : c < ga_ch a) (hw : ga_who a (2 * c + s) = p) : ∃ a', Inv T a' ∧ Fr a a' ∧
    (∀ x post (J : (Int32 → Int32 → Int32 → Int32 → Int32 → Int32 → Int32 → (Nat → Int32) → (Nat → Int32) → (Nat → Int32) → (Nat → Int32) → (Nat → Int32) → (Nat → Int32) → (Nat → Int32) → (Nat → Int32) → (Nat → Int32) → (Nat → Int32) → (Nat → Int32) → (Nat → Int32) → (Nat → Int32) → (Nat → Int32) → (Nat → Int32) → (Nat → Int32) → (Nat → Int32) → (Nat → Int32) → (Nat → Int32) → (Nat → Int32) → (Nat → Int32) → (Nat → Int32) → (Nat → Int32) → (Nat → Int32) → (Nat → Int32) → (Nat → Int32) → Prop)), RX a x → (∀ x', RX a' x' → J (nI (c + 1)) (ga_spent a') (nI (ga_now a')) (nI (ga_ch a')) (nI (gx_goal x')) (nI (gx_val x')) (nI (gx_known x')) (cN (ga_coins a')) (cN (ga_up a')) (ga_knows a') (cN (ga_base a')) (cN (ga_rate a')) (ga_guard a') (cN (ga_status a')) (cN (ga_who a')) (cN (ga_latest a')) (cN (gx_row x')) (cN (ga_bal a')) (cN (gx_many x')) (cN (gx_frm x')) (cN (gx_amt x')) (cN (gx_sec x')) (cN (gx_xpy x')) (cN (gx_born x')) (cN (gx_dead x')) (cN (ga_publd a')) (cN (ga_pubs a')) (cN (ga_since a')) (cN (ga_held a')) (cN (gx_outm x')) (cN (gx_least x')) (cN (gx_path x')) (cN (gx_xsum x'))) → wX_turn_48 post J (nI p) (nI c) (nI s) (ga_spent a) (nI (ga_now a)) (nI (ga_ch a)) (nI (gx_goal x)) (nI (gx_val x)) (nI (gx_known x)) (cN (ga_coins a)) (cN (ga_up a)) (ga_knows a) (cN (ga_base a)) (cN (ga_rate a)) (ga_guard a) (cN (ga_status a)) (cN (ga_who a)) (cN (ga_latest a)) (cN (gx_row x)) (cN (ga_bal a)) (cN (gx_many x)) (cN (gx_frm x)) (cN (gx_amt x)) (cN (gx_sec x)) (cN (gx_xpy x)) (cN (gx_born x)) (cN (gx_dead x)) (cN (ga_publd a)) (cN (ga_pubs a)) (cN (ga_since a)) (cN (ga_held a)) (cN (gx_outm x)) (cN (gx_least x)) (cN (gx_path x)) (cN (gx_xsum x))) ∧
    (∀ y post (J : (Int32 → Int32 → Int32 → Int32 → Int32 → (Nat → Int32) → (Nat → Int32) → (Nat → Int32) → (Nat → Int32) → (Nat → Int32) → (Nat → Int32) → (Nat → Int32) → (Nat → Int32) → (Nat → Int32) → (Nat → Int32) → (Nat → Int32) → (Nat → Int32) → (Nat → Int32) → (Nat → Int32) → (Nat → Int32) → (Nat → Int32) → (Nat → Int32) → (Nat → Int32) → (Nat → Int32) → (Nat → Int32) → (Nat → Int32) → (Nat → Int32) → (Nat → Int32) → (Nat → Int32) → (Nat → Int32) → (Nat → Int32) → (Nat → Int32) → (Nat → Int32) → (Nat → Int32) → Prop)), RY a y → (∀ y', RY a' y' → J (nI (c + 1)) (nI (ga_now a')) (ga_spent a') (nI (ga_ch a')) (nI (gy_len y')) (cN (ga_coins a')) (cN (ga_base a')) (cN (ga_rate a')) (ga_guard a') (ga_knows a') (cN (ga_up a')) (cN (ga_who a')) (cN (ga_status a')) (cN (ga_latest a')) (cN (ga_publd a')) (cN (gy_ypub y')) (cN (ga_since a')) (cN (ga_held a')) (cN (gy_outn y')) (cN (ga_bal a')) (cN (gy_lks y')) (cN (gy_yf y')) (cN (gy_ya y')) (cN (gy_ys y')) (cN (gy_ye y')) (cN (gy_qf y')) (cN (gy_qa y')) (cN (gy_qs y')) (cN (gy_qe y')) (gy_way y') (cN (gy_part y')) (cN (gy_ysum y')) (cN (gy_bst y')) (cN (gy_bsm y'))) → ∀ n, 1 ≤ n → wY_turn_37 post J (nI p) (nI c) n (nI 0) (nI (ga_now a)) (ga_spent a) (nI (ga_ch a)) (nI (gy_len y)) (cN (ga_coins a)) (cN (ga_base a)) (cN (ga_rate a)) (ga_guard a) (ga_knows a) (cN (ga_up a)) (cN (ga_who a)) (cN (ga_status a)) (cN (ga_latest a)) (cN (ga_publd a)) (cN (gy_ypub y)) (cN (ga_since a)) (cN (ga_held a)) (cN (gy_outn y)) (cN (ga_bal a)) (cN (gy_lks y)) (cN (gy_yf y)) (cN (gy_ya y)) (cN (gy_ys y)) (cN (gy_ye y)) (cN (gy_qf y)) (cN (gy_qa y)) (cN (gy_qs y)) (cN (gy_qe y)) (gy_way y) (cN (gy_part y)) (cN (gy_ysum y)) (cN (gy_bst y)) (cN (gy_bsm y))) := by
  have c8 := ch8 I hc
  obtain ⟨j1, j2, j3, j4, j5, j6, j7, j8⟩ := I.2.2.2.2.1 c hc
  by_cases h1 : ga_status a c = 1
  · obtain ⟨a', i1, i2, i3, i4, i5⟩ := co_out hT hs hp a I hc h1 hw
    have hcl := inv_closed I hc h1
    refine ⟨a', i1, i2, fun x post J R h => ?_, fun y post J R h n hn => ?_⟩
    · obtain ⟨o, o1, o2, o3, o4⟩ := (R.1 c hc).2 h1
      have o5 := m_lt (x_o I R hc o2)
      rw [← o3] at o5
      unfold wX_turn_48
      by_cases e1 : ga_held a c = 0
      · by_cases e2 : gx_outm x c = 0
        · have e3 : ga_outs a c = [] := by
            rw [o3] at e2
            rw [o4, msk_z e2]; rfl
          have e4 := i3 e1 e3
          subst e4
          simp (disch := omega) only [li_0, li_1, li_2, li_3, li_4, li_5, li_6, li_7, li_8, li_9, li_10, li_11, li_12, li_15, li_16, li_20, li_21, li_24, li_31, li_36, li_100, li_255, li_256, li_1000, li_6000, li_M, un_s, un_n, ba_ap, ba_upd, ba_in, cT_le, cF_le, cT_lt, cF_lt, cT_eq, cF_eq, nb_1, nb_2, ns_1, ns_2, nz_1, nz_2, ng_1, ng_2, ng_3, ng_4, ng_5, nI_clamp, nI_add, pk_mul, pk_sub, forall_eq, true_and, and_true, true_imp_iff, false_imp_iff, not_true_eq_false, not_false_eq_true, implies_true]
          exact h x R
        · simp (disch := omega) only [wX_turn_76, li_0, li_1, li_2, li_3, li_4, li_5, li_6, li_7, li_8, li_9, li_10, li_11, li_12, li_15, li_16, li_20, li_21, li_24, li_31, li_36, li_100, li_255, li_256, li_1000, li_6000, li_M, un_s, un_n, ba_ap, ba_upd, ba_in, cT_le, cF_le, cT_lt, cF_lt, cT_eq, cF_eq, nb_1, nb_2, ns_1, ns_2, nz_1, nz_2, ng_1, ng_2, ng_3, ng_4, ng_5, nI_clamp, nI_add, pk_mul, pk_sub, forall_eq, true_and, and_true, true_imp_iff, false_imp_iff, not_true_eq_false, not_false_eq_true, implies_true]
          exact i4 x _ R (fun x' R' => h x' R')
      · simp (disch := omega) only [wX_turn_76, li_0, li_1, li_2, li_3, li_4, li_5, li_6, li_7, li_8, li_9, li_10, li_11, li_12, li_15, li_16, li_20, li_21, li_24, li_31, li_36, li_100, li_255, li_256, li_1000, li_6000, li_M, un_s, un_n, ba_ap, ba_upd, ba_in, cT_le, cF_le, cT_lt, cF_lt, cT_eq, cF_eq, nb_1, nb_2, ns_1, ns_2, nz_1, nz_2, ng_1, ng_2, ng_3, ng_4, ng_5, nI_clamp, nI_add, pk_mul, pk_sub, forall_eq, true_and, and_true, true_imp_iff, false_imp_iff, not_true_eq_false, not_false_eq_true, implies_true]
        exact i4 x _ R (fun x' R' => h x' R')
    · obtain ⟨n', rfl⟩ : ∃ n', n = n' + 1 := ⟨n - 1, by omega⟩
      rw [wY_turn_37]
      simp (disch := omega) only [li_0, li_1, li_2, li_3, li_4, li_5, li_6, li_7, li_8, li_9, li_10, li_11, li_12, li_15, li_16, li_20, li_21, li_24, li_31, li_36, li_100, li_255, li_256, li_1000, li_6000, li_M, un_s, un_n, ba_ap, ba_upd, ba_in, cT_le, cF_le, cT_lt, cF_lt, cT_eq, cF_eq, nb_1, nb_2, ns_1, ns_2, nz_1, nz_2, ng_1, ng_2, ng_3, ng_4, ng_5, nI_clamp, nI_add, pk_mul, pk_sub, forall_eq, true_and, and_true, true_imp_iff, false_imp_iff, not_true_eq_false, not_false_eq_true, implies_true]
      exact i5 y _ R (fun y' R' => h y' R')
  · refine ⟨a, I, Fr_r a, fun x post J R h => ?_, fun y post J R h n hn => ?_⟩
    · unfold wX_turn_48
      simp (disch := omega) only [li_0, li_1, li_2, li_3, li_4, li_5, li_6, li_7, li_8, li_9, li_10, li_11, li_12, li_15, li_16, li_20, li_21, li_24, li_31, li_36, li_100, li_255, li_256, li_1000, li_6000, li_M, un_s, un_n, ba_ap, ba_upd, ba_in, cT_le, cF_le, cT_lt, cF_lt, cT_eq, cF_eq, nb_1, nb_2, ns_1, ns_2, nz_1, nz_2, ng_1, ng_2, ng_3, ng_4, ng_5, nI_clamp, nI_add, pk_mul, pk_sub, forall_eq, true_and, and_true, true_imp_iff, false_imp_iff, not_true_eq_false, not_false_eq_true, implies_true]
      exact h x R
    · obtain ⟨n', rfl⟩ : ∃ n', n = n' + 1 := ⟨n - 1, by omega⟩
      rw [wY_turn_37]
      simp (disch := omega) only [li_0, li_1, li_2, li_3, li_4, li_5, li_6, li_7, li_8, li_9, li_10, li_11, li_12, li_15, li_16, li_20, li_21, li_24, li_31, li_36, li_100, li_255, li_256, li_1000, li_6000, li_M, un_s, un_n, ba_ap, ba_upd, ba_in, cT_le, cF_le, cT_lt, cF_lt, cT_eq, cF_eq, nb_1, nb_2, ns_1, ns_2, nz_1, nz_2, ng_1, ng_2, ng_3, ng_4, ng_5, nI_clamp, nI_add, pk_mul, pk_sub, forall_eq, true_and, and_true, true_imp_iff, false_imp_iff, not_true_eq_false, not_false_eq_true, implies_true]
      exact h y R
end
section
theorem tc1 {T c p : Nat} (hT : T < 32768) (hp : p < 6) (a : SA) (I : Inv T a) (hc : c < ga_ch a) : ∃ a', Inv T a' ∧ Fr a a' ∧
    (∀ x post n, RX a x → (∀ x', RX a' x' → wX_turn_2 post (nI p) n (nI (c + 1)) (ga_spent a') (nI (ga_now a')) (nI (ga_ch a')) (nI (gx_goal x')) (nI (gx_val x')) (nI (gx_known x')) (cN (ga_coins a')) (cN (ga_up a')) (ga_knows a') (cN (ga_base a')) (cN (ga_rate a')) (ga_guard a') (cN (ga_status a')) (cN (ga_who a')) (cN (ga_latest a')) (cN (gx_row x')) (cN (ga_bal a')) (cN (gx_many x')) (cN (gx_frm x')) (cN (gx_amt x')) (cN (gx_sec x')) (cN (gx_xpy x')) (cN (gx_born x')) (cN (gx_dead x')) (cN (ga_publd a')) (cN (ga_pubs a')) (cN (ga_since a')) (cN (ga_held a')) (cN (gx_outm x')) (cN (gx_least x')) (cN (gx_path x')) (cN (gx_xsum x'))) → wX_turn_2 post (nI p) (n + 1) (nI c) (ga_spent a) (nI (ga_now a)) (nI (ga_ch a)) (nI (gx_goal x)) (nI (gx_val x)) (nI (gx_known x)) (cN (ga_coins a)) (cN (ga_up a)) (ga_knows a) (cN (ga_base a)) (cN (ga_rate a)) (ga_guard a) (cN (ga_status a)) (cN (ga_who a)) (cN (ga_latest a)) (cN (gx_row x)) (cN (ga_bal a)) (cN (gx_many x)) (cN (gx_frm x)) (cN (gx_amt x)) (cN (gx_sec x)) (cN (gx_xpy x)) (cN (gx_born x)) (cN (gx_dead x)) (cN (ga_publd a)) (cN (ga_pubs a)) (cN (ga_since a)) (cN (ga_held a)) (cN (gx_outm x)) (cN (gx_least x)) (cN (gx_path x)) (cN (gx_xsum x))) ∧
    (∀ y post n, RY a y → (∀ y', RY a' y' → wY_turn_2 post (nI p) n (nI (c + 1)) (nI (ga_now a')) (ga_spent a') (nI (ga_ch a')) (nI (gy_len y')) (cN (ga_coins a')) (cN (ga_base a')) (cN (ga_rate a')) (ga_guard a') (ga_knows a') (cN (ga_up a')) (cN (ga_who a')) (cN (ga_status a')) (cN (ga_latest a')) (cN (ga_publd a')) (cN (gy_ypub y')) (cN (ga_since a')) (cN (ga_held a')) (cN (gy_outn y')) (cN (ga_bal a')) (cN (gy_lks y')) (cN (gy_yf y')) (cN (gy_ya y')) (cN (gy_ys y')) (cN (gy_ye y')) (cN (gy_qf y')) (cN (gy_qa y')) (cN (gy_qs y')) (cN (gy_qe y')) (gy_way y') (cN (gy_part y')) (cN (gy_ysum y')) (cN (gy_bst y')) (cN (gy_bsm y'))) → wY_turn_2 post (nI p) (n + 1) (nI c) (nI (ga_now a)) (ga_spent a) (nI (ga_ch a)) (nI (gy_len y)) (cN (ga_coins a)) (cN (ga_base a)) (cN (ga_rate a)) (ga_guard a) (ga_knows a) (cN (ga_up a)) (cN (ga_who a)) (cN (ga_status a)) (cN (ga_latest a)) (cN (ga_publd a)) (cN (gy_ypub y)) (cN (ga_since a)) (cN (ga_held a)) (cN (gy_outn y)) (cN (ga_bal a)) (cN (gy_lks y)) (cN (gy_yf y)) (cN (gy_ya y)) (cN (gy_ys y)) (cN (gy_ye y)) (cN (gy_qf y)) (cN (gy_qa y)) (cN (gy_qs y)) (cN (gy_qe y)) (gy_way y) (cN (gy_part y)) (cN (gy_ysum y)) (cN (gy_bst y)) (cN (gy_bsm y))) := by
  have c8 := ch8 I hc
  have ch := I.1
  obtain ⟨j1, j2, j3, j4, j5, j6, j7, j8⟩ := I.2.2.2.2.1 c hc
  have p31 : p < 2 ^ 31 := by omega
  by_cases z : sd (ga_who a) c p < 2
  · obtain ⟨s1, s2, s3⟩ := sI_s rfl z
    generalize sd (ga_who a) c p = s at z s1 s2 s3
    by_cases h0 : ga_status a c = 0
    · by_cases hr : ga_rows a c (ga_latest a c) = []
      · obtain ⟨a', i1, i2, i3, i4⟩ := tc2 hT z hp a I hc s2
        refine ⟨a', i1, i2, fun x post n R h => ?_, fun y post n R h => ?_⟩
        · have er : gx_row x c = 0 := by
            have e1 := (R.1 c hc).1.2.2.1
            have e2 := (R.1 c hc).1.2.2.2 _ (Nat.le_refl _)
            rw [hr] at e2
            rw [e1, List.map_eq_nil_iff.mp e2.symm]; rfl
          rw [wX_turn_2]
          simp (disch := omega) only [xw_sideOf c8 p31 j2 j3, s1, li_0, li_1, li_2, li_3, li_4, li_5, li_6, li_7, li_8, li_9, li_10, li_11, li_12, li_15, li_16, li_20, li_21, li_24, li_31, li_36, li_100, li_255, li_256, li_1000, li_6000, li_M, un_s, un_n, ba_ap, ba_upd, ba_in, cT_le, cF_le, cT_lt, cF_lt, cT_eq, cF_eq, nb_1, nb_2, ns_1, ns_2, nz_1, nz_2, ng_1, ng_2, ng_3, ng_4, ng_5, nI_clamp, nI_add, pk_mul, pk_sub, forall_eq, true_and, and_true, true_imp_iff, false_imp_iff, not_true_eq_false, not_false_eq_true, implies_true]
          exact i3 x post _ R h
        · rw [wY_turn_2]
          simp (disch := omega) only [yw_sideOf c8 p31 j2 j3, s1, li_0, li_1, li_2, li_3, li_4, li_5, li_6, li_7, li_8, li_9, li_10, li_11, li_12, li_15, li_16, li_20, li_21, li_24, li_31, li_36, li_100, li_255, li_256, li_1000, li_6000, li_M, un_s, un_n, ba_ap, ba_upd, ba_in, cT_le, cF_le, cT_lt, cF_lt, cT_eq, cF_eq, nb_1, nb_2, ns_1, ns_2, nz_1, nz_2, ng_1, ng_2, ng_3, ng_4, ng_5, nI_clamp, nI_add, pk_mul, pk_sub, forall_eq, true_and, and_true, true_imp_iff, false_imp_iff, not_true_eq_false, not_false_eq_true, implies_true]
          refine ⟨2, ?_⟩
          rw [wY_turn_37]
          simp (disch := omega) only [li_0, li_1, li_2, li_3, li_4, li_5, li_6, li_7, li_8, li_9, li_10, li_11, li_12, li_15, li_16, li_20, li_21, li_24, li_31, li_36, li_100, li_255, li_256, li_1000, li_6000, li_M, un_s, un_n, ba_ap, ba_upd, ba_in, cT_le, cF_le, cT_lt, cF_lt, cT_eq, cF_eq, nb_1, nb_2, ns_1, ns_2, nz_1, nz_2, ng_1, ng_2, ng_3, ng_4, ng_5, nI_clamp, nI_add, pk_mul, pk_sub, forall_eq, true_and, and_true, true_imp_iff, false_imp_iff, not_true_eq_false, not_false_eq_true, implies_true]
          refine y2_actN I hT R hc hp z s2 (fun l hl => by rw [hr] at hl; cases hl) ?_
          dsimp only [mY]
          simp (disch := omega) only [li_0, li_1, li_2, li_3, li_4, li_5, li_6, li_7, li_8, li_9, li_10, li_11, li_12, li_15, li_16, li_20, li_21, li_24, li_31, li_36, li_100, li_255, li_256, li_1000, li_6000, li_M, un_s, un_n, ba_ap, ba_upd, ba_in, cT_le, cF_le, cT_lt, cF_lt, cT_eq, cF_eq, nb_1, nb_2, ns_1, ns_2, nz_1, nz_2, ng_1, ng_2, ng_3, ng_4, ng_5, nI_clamp, nI_add, pk_mul, pk_sub, forall_eq, true_and, and_true, true_imp_iff, false_imp_iff, not_true_eq_false, not_false_eq_true, implies_true]
          exact i4 y post _ R h 1 (Nat.le_refl _)
      · obtain ⟨a1, k1, k2, k3, k4⟩ := st_out (c := c) hT z hp (11 - ga_latest a c) a I (by omega) hc h0 s2
        obtain ⟨a', i1, i2, i3, i4⟩ := tc2 hT z hp a1 k1 (by rw [k2.1]; exact hc) (by rw [k2.2.1]; exact s2)
        refine ⟨a', i1, Fr_t k2 i2, fun x post n R h => ?_, fun y post n R h => ?_⟩
        · have er : gx_row x c ≠ 0 := by
            intro e
            have e1 := (R.1 c hc).1.2.2.1
            have e2 := (R.1 c hc).1.2.2.2 _ (Nat.le_refl _)
            rw [e] at e1
            rw [msk_z e1.symm] at e2
            exact hr e2
          have er2 : gx_row x c < 2048 := by rw [(R.1 c hc).1.2.2.1]; exact m_lt (ids_11 I R hc)
          rw [wX_turn_2]
          simp (disch := omega) only [xw_sideOf c8 p31 j2 j3, s1, li_0, li_1, li_2, li_3, li_4, li_5, li_6, li_7, li_8, li_9, li_10, li_11, li_12, li_15, li_16, li_20, li_21, li_24, li_31, li_36, li_100, li_255, li_256, li_1000, li_6000, li_M, un_s, un_n, ba_ap, ba_upd, ba_in, cT_le, cF_le, cT_lt, cF_lt, cT_eq, cF_eq, nb_1, nb_2, ns_1, ns_2, nz_1, nz_2, ng_1, ng_2, ng_3, ng_4, ng_5, nI_clamp, nI_add, pk_mul, pk_sub, forall_eq, true_and, and_true, true_imp_iff, false_imp_iff, not_true_eq_false, not_false_eq_true, implies_true]
          obtain ⟨r, q1, q2⟩ := k3 x R
          unfold wpX_settle
          dsimp only
          refine q1 _ ⟨_, q2 _ (fun x' R' => ?_) _ (Nat.le_refl _)⟩
          exact i3 x' post _ R' h
        · rw [wY_turn_2]
          simp (disch := omega) only [yw_sideOf c8 p31 j2 j3, s1, li_0, li_1, li_2, li_3, li_4, li_5, li_6, li_7, li_8, li_9, li_10, li_11, li_12, li_15, li_16, li_20, li_21, li_24, li_31, li_36, li_100, li_255, li_256, li_1000, li_6000, li_M, un_s, un_n, ba_ap, ba_upd, ba_in, cT_le, cF_le, cT_lt, cF_lt, cT_eq, cF_eq, nb_1, nb_2, ns_1, ns_2, nz_1, nz_2, ng_1, ng_2, ng_3, ng_4, ng_5, nI_clamp, nI_add, pk_mul, pk_sub, forall_eq, true_and, and_true, true_imp_iff, false_imp_iff, not_true_eq_false, not_false_eq_true, implies_true]
          exact ⟨_, k4 y post _ R (fun y' R' n' hn' => i4 y' post _ R' h n' hn') _ (Nat.le_refl _)⟩
    · obtain ⟨a', i1, i2, i3, i4⟩ := tc2 hT z hp a I hc s2
      refine ⟨a', i1, i2, fun x post n R h => ?_, fun y post n R h => ?_⟩
      · rw [wX_turn_2]
        simp (disch := omega) only [xw_sideOf c8 p31 j2 j3, s1, li_0, li_1, li_2, li_3, li_4, li_5, li_6, li_7, li_8, li_9, li_10, li_11, li_12, li_15, li_16, li_20, li_21, li_24, li_31, li_36, li_100, li_255, li_256, li_1000, li_6000, li_M, un_s, un_n, ba_ap, ba_upd, ba_in, cT_le, cF_le, cT_lt, cF_lt, cT_eq, cF_eq, nb_1, nb_2, ns_1, ns_2, nz_1, nz_2, ng_1, ng_2, ng_3, ng_4, ng_5, nI_clamp, nI_add, pk_mul, pk_sub, forall_eq, true_and, and_true, true_imp_iff, false_imp_iff, not_true_eq_false, not_false_eq_true, implies_true]
        exact i3 x post _ R h
      · rw [wY_turn_2]
        simp (disch := omega) only [yw_sideOf c8 p31 j2 j3, s1, li_0, li_1, li_2, li_3, li_4, li_5, li_6, li_7, li_8, li_9, li_10, li_11, li_12, li_15, li_16, li_20, li_21, li_24, li_31, li_36, li_100, li_255, li_256, li_1000, li_6000, li_M, un_s, un_n, ba_ap, ba_upd, ba_in, cT_le, cF_le, cT_lt, cF_lt, cT_eq, cF_eq, nb_1, nb_2, ns_1, ns_2, nz_1, nz_2, ng_1, ng_2, ng_3, ng_4, ng_5, nI_clamp, nI_add, pk_mul, pk_sub, forall_eq, true_and, and_true, true_imp_iff, false_imp_iff, not_true_eq_false, not_false_eq_true, implies_true]
        exact ⟨1, i4 y post _ R h 1 (Nat.le_refl _)⟩
  · have s1 := sI_n z
    refine ⟨a, I, Fr_r a, fun x post n R h => ?_, fun y post n R h => ?_⟩
    · rw [wX_turn_2]
      simp (disch := omega) only [xw_sideOf c8 p31 j2 j3, s1, li_0, li_1, li_2, li_3, li_4, li_5, li_6, li_7, li_8, li_9, li_10, li_11, li_12, li_15, li_16, li_20, li_21, li_24, li_31, li_36, li_100, li_255, li_256, li_1000, li_6000, li_M, un_s, un_n, ba_ap, ba_upd, ba_in, cT_le, cF_le, cT_lt, cF_lt, cT_eq, cF_eq, nb_1, nb_2, ns_1, ns_2, nz_1, nz_2, ng_1, ng_2, ng_3, ng_4, ng_5, nI_clamp, nI_add, pk_mul, pk_sub, forall_eq, true_and, and_true, true_imp_iff, false_imp_iff, not_true_eq_false, not_false_eq_true, implies_true]
      exact h x R
    · rw [wY_turn_2]
      simp (disch := omega) only [yw_sideOf c8 p31 j2 j3, s1, li_0, li_1, li_2, li_3, li_4, li_5, li_6, li_7, li_8, li_9, li_10, li_11, li_12, li_15, li_16, li_20, li_21, li_24, li_31, li_36, li_100, li_255, li_256, li_1000, li_6000, li_M, un_s, un_n, ba_ap, ba_upd, ba_in, cT_le, cF_le, cT_lt, cF_lt, cT_eq, cF_eq, nb_1, nb_2, ns_1, ns_2, nz_1, nz_2, ng_1, ng_2, ng_3, ng_4, ng_5, nI_clamp, nI_add, pk_mul, pk_sub, forall_eq, true_and, and_true, true_imp_iff, false_imp_iff, not_true_eq_false, not_false_eq_true, implies_true]
      exact h y R
theorem tn_ch {T p : Nat} (hT : T < 32768) (hp : p < 6) : ∀ d c a, Inv T a → c + d = ga_ch a → ∃ a', Inv T a' ∧ Fr a a' ∧
    (∀ x post, RX a x → (∀ x', RX a' x' → ∃ n, wX_turn_90 post (nI p) n (nI 0) (ga_spent a') (nI (ga_now a')) (nI (ga_ch a')) (nI (gx_goal x')) (nI (gx_val x')) (nI (gx_known x')) (cN (ga_coins a')) (cN (ga_up a')) (ga_knows a') (cN (ga_base a')) (cN (ga_rate a')) (ga_guard a') (cN (ga_status a')) (cN (ga_who a')) (cN (ga_latest a')) (cN (gx_row x')) (cN (ga_bal a')) (cN (gx_many x')) (cN (gx_frm x')) (cN (gx_amt x')) (cN (gx_sec x')) (cN (gx_xpy x')) (cN (gx_born x')) (cN (gx_dead x')) (cN (ga_publd a')) (cN (ga_pubs a')) (cN (ga_since a')) (cN (ga_held a')) (cN (gx_outm x')) (cN (gx_least x')) (cN (gx_path x')) (cN (gx_xsum x'))) → wX_turn_2 post (nI p) (d + 1) (nI c) (ga_spent a) (nI (ga_now a)) (nI (ga_ch a)) (nI (gx_goal x)) (nI (gx_val x)) (nI (gx_known x)) (cN (ga_coins a)) (cN (ga_up a)) (ga_knows a) (cN (ga_base a)) (cN (ga_rate a)) (ga_guard a) (cN (ga_status a)) (cN (ga_who a)) (cN (ga_latest a)) (cN (gx_row x)) (cN (ga_bal a)) (cN (gx_many x)) (cN (gx_frm x)) (cN (gx_amt x)) (cN (gx_sec x)) (cN (gx_xpy x)) (cN (gx_born x)) (cN (gx_dead x)) (cN (ga_publd a)) (cN (ga_pubs a)) (cN (ga_since a)) (cN (ga_held a)) (cN (gx_outm x)) (cN (gx_least x)) (cN (gx_path x)) (cN (gx_xsum x))) ∧
    (∀ y post, RY a y → (∀ y', RY a' y' → ∃ n, wY_turn_86 post (nI p) n (nI 0) (nI (ga_now a')) (ga_spent a') (nI (ga_ch a')) (nI (gy_len y')) (cN (ga_coins a')) (cN (ga_base a')) (cN (ga_rate a')) (ga_guard a') (ga_knows a') (cN (ga_up a')) (cN (ga_who a')) (cN (ga_status a')) (cN (ga_latest a')) (cN (ga_publd a')) (cN (gy_ypub y')) (cN (ga_since a')) (cN (ga_held a')) (cN (gy_outn y')) (cN (ga_bal a')) (cN (gy_lks y')) (cN (gy_yf y')) (cN (gy_ya y')) (cN (gy_ys y')) (cN (gy_ye y')) (cN (gy_qf y')) (cN (gy_qa y')) (cN (gy_qs y')) (cN (gy_qe y')) (gy_way y') (cN (gy_part y')) (cN (gy_ysum y')) (cN (gy_bst y')) (cN (gy_bsm y'))) → wY_turn_2 post (nI p) (d + 1) (nI c) (nI (ga_now a)) (ga_spent a) (nI (ga_ch a)) (nI (gy_len y)) (cN (ga_coins a)) (cN (ga_base a)) (cN (ga_rate a)) (ga_guard a) (ga_knows a) (cN (ga_up a)) (cN (ga_who a)) (cN (ga_status a)) (cN (ga_latest a)) (cN (ga_publd a)) (cN (gy_ypub y)) (cN (ga_since a)) (cN (ga_held a)) (cN (gy_outn y)) (cN (ga_bal a)) (cN (gy_lks y)) (cN (gy_yf y)) (cN (gy_ya y)) (cN (gy_ys y)) (cN (gy_ye y)) (cN (gy_qf y)) (cN (gy_qa y)) (cN (gy_qs y)) (cN (gy_qe y)) (gy_way y) (cN (gy_part y)) (cN (gy_ysum y)) (cN (gy_bst y)) (cN (gy_bsm y))) := by
  intro d
  induction d with
  | zero =>
    intro c a I hc
    have ch := I.1
    refine ⟨a, I, Fr_r a, fun x post R h => ?_, fun y post R h => ?_⟩
    · rw [wX_turn_2]
      simp (disch := omega) only [li_0, li_1, li_2, li_3, li_4, li_5, li_6, li_7, li_8, li_9, li_10, li_11, li_12, li_15, li_16, li_20, li_21, li_24, li_31, li_36, li_100, li_255, li_256, li_1000, li_6000, li_M, un_s, un_n, ba_ap, ba_upd, ba_in, cT_le, cF_le, cT_lt, cF_lt, cT_eq, cF_eq, nb_1, nb_2, ns_1, ns_2, nz_1, nz_2, ng_1, ng_2, ng_3, ng_4, ng_5, nI_clamp, nI_add, pk_mul, pk_sub, forall_eq, true_and, and_true, true_imp_iff, false_imp_iff, not_true_eq_false, not_false_eq_true, implies_true]
      exact h x R
    · rw [wY_turn_2]
      simp (disch := omega) only [li_0, li_1, li_2, li_3, li_4, li_5, li_6, li_7, li_8, li_9, li_10, li_11, li_12, li_15, li_16, li_20, li_21, li_24, li_31, li_36, li_100, li_255, li_256, li_1000, li_6000, li_M, un_s, un_n, ba_ap, ba_upd, ba_in, cT_le, cF_le, cT_lt, cF_lt, cT_eq, cF_eq, nb_1, nb_2, ns_1, ns_2, nz_1, nz_2, ng_1, ng_2, ng_3, ng_4, ng_5, nI_clamp, nI_add, pk_mul, pk_sub, forall_eq, true_and, and_true, true_imp_iff, false_imp_iff, not_true_eq_false, not_false_eq_true, implies_true]
      exact h y R
  | succ d ih =>
    intro c a I hc
    obtain ⟨a1, k1, k2, k3, k4⟩ := tc1 (c := c) hT hp a I (by omega)
    obtain ⟨a', i1, i2, i3, i4⟩ := ih (c + 1) a1 k1 (by rw [k2.1]; omega)
    exact ⟨a', i1, Fr_t k2 i2, fun x post R h => k3 x post _ R (fun x' R' => i3 x' post R' h), fun y post R h => k4 y post _ R (fun y' R' => i4 y' post R' h)⟩
theorem pr_ch {T p q : Nat} (hT : T < 32768) (hp : p < 6) (hq : q < 6) (hpq : p ≠ q) : ∀ d c a, Inv T a → c + d = ga_ch a → ∃ a', Inv T a' ∧ Fr a a' ∧
    (∀ x post, RX a x → (∀ x', RX a' x' → post (mX a' x')) → wX_protect_2 post (nI q) (nI p) (d + 1) (nI c) (ga_spent a) (nI (ga_now a)) (nI (ga_ch a)) (nI (gx_goal x)) (nI (gx_val x)) (nI (gx_known x)) (cN (ga_coins a)) (cN (ga_up a)) (ga_knows a) (cN (ga_base a)) (cN (ga_rate a)) (ga_guard a) (cN (ga_status a)) (cN (ga_who a)) (cN (ga_latest a)) (cN (gx_row x)) (cN (ga_bal a)) (cN (gx_many x)) (cN (gx_frm x)) (cN (gx_amt x)) (cN (gx_sec x)) (cN (gx_xpy x)) (cN (gx_born x)) (cN (gx_dead x)) (cN (ga_publd a)) (cN (ga_pubs a)) (cN (ga_since a)) (cN (ga_held a)) (cN (gx_outm x)) (cN (gx_least x)) (cN (gx_path x)) (cN (gx_xsum x))) ∧
    (∀ y post (J : (Int32 → Int32 → Int32 → Int32 → Int32 → (Nat → Int32) → (Nat → Int32) → (Nat → Int32) → (Nat → Int32) → (Nat → Int32) → (Nat → Int32) → (Nat → Int32) → (Nat → Int32) → (Nat → Int32) → (Nat → Int32) → (Nat → Int32) → (Nat → Int32) → (Nat → Int32) → (Nat → Int32) → (Nat → Int32) → (Nat → Int32) → (Nat → Int32) → (Nat → Int32) → (Nat → Int32) → (Nat → Int32) → (Nat → Int32) → (Nat → Int32) → (Nat → Int32) → (Nat → Int32) → (Nat → Int32) → (Nat → Int32) → (Nat → Int32) → (Nat → Int32) → (Nat → Int32) → Prop)), RY a y → (∀ y', RY a' y' → J (nI (q + 1)) (nI (ga_now a')) (ga_spent a') (nI (ga_ch a')) (nI (gy_len y')) (cN (ga_coins a')) (cN (ga_base a')) (cN (ga_rate a')) (ga_guard a') (ga_knows a') (cN (ga_up a')) (cN (ga_who a')) (cN (ga_status a')) (cN (ga_latest a')) (cN (ga_publd a')) (cN (gy_ypub y')) (cN (ga_since a')) (cN (ga_held a')) (cN (gy_outn y')) (cN (ga_bal a')) (cN (gy_lks y')) (cN (gy_yf y')) (cN (gy_ya y')) (cN (gy_ys y')) (cN (gy_ye y')) (cN (gy_qf y')) (cN (gy_qa y')) (cN (gy_qs y')) (cN (gy_qe y')) (gy_way y') (cN (gy_part y')) (cN (gy_ysum y')) (cN (gy_bst y')) (cN (gy_bsm y'))) → wY_turn_116 post J (nI p) (nI q) (d + 1) (nI c) (nI (ga_now a)) (ga_spent a) (nI (ga_ch a)) (nI (gy_len y)) (cN (ga_coins a)) (cN (ga_base a)) (cN (ga_rate a)) (ga_guard a) (ga_knows a) (cN (ga_up a)) (cN (ga_who a)) (cN (ga_status a)) (cN (ga_latest a)) (cN (ga_publd a)) (cN (gy_ypub y)) (cN (ga_since a)) (cN (ga_held a)) (cN (gy_outn y)) (cN (ga_bal a)) (cN (gy_lks y)) (cN (gy_yf y)) (cN (gy_ya y)) (cN (gy_ys y)) (cN (gy_ye y)) (cN (gy_qf y)) (cN (gy_qa y)) (cN (gy_qs y)) (cN (gy_qe y)) (gy_way y) (cN (gy_part y)) (cN (gy_ysum y)) (cN (gy_bst y)) (cN (gy_bsm y))) := by
  have q31 : q < 2 ^ 31 := by omega
  intro d
  induction d with
  | zero =>
    intro c a I hc
    have ch := I.1
    refine ⟨a, I, Fr_r a, fun x post R h => ?_, fun y post J R h => ?_⟩
    · rw [wX_protect_2]
      simp (disch := omega) only [li_0, li_1, li_2, li_3, li_4, li_5, li_6, li_7, li_8, li_9, li_10, li_11, li_12, li_15, li_16, li_20, li_21, li_24, li_31, li_36, li_100, li_255, li_256, li_1000, li_6000, li_M, un_s, un_n, ba_ap, ba_upd, ba_in, cT_le, cF_le, cT_lt, cF_lt, cT_eq, cF_eq, nb_1, nb_2, ns_1, ns_2, nz_1, nz_2, ng_1, ng_2, ng_3, ng_4, ng_5, nI_clamp, nI_add, pk_mul, pk_sub, forall_eq, true_and, and_true, true_imp_iff, false_imp_iff, not_true_eq_false, not_false_eq_true, implies_true]
      exact h x R
    · rw [wY_turn_116]
      simp (disch := omega) only [li_0, li_1, li_2, li_3, li_4, li_5, li_6, li_7, li_8, li_9, li_10, li_11, li_12, li_15, li_16, li_20, li_21, li_24, li_31, li_36, li_100, li_255, li_256, li_1000, li_6000, li_M, un_s, un_n, ba_ap, ba_upd, ba_in, cT_le, cF_le, cT_lt, cF_lt, cT_eq, cF_eq, nb_1, nb_2, ns_1, ns_2, nz_1, nz_2, ng_1, ng_2, ng_3, ng_4, ng_5, nI_clamp, nI_add, pk_mul, pk_sub, forall_eq, true_and, and_true, true_imp_iff, false_imp_iff, not_true_eq_false, not_false_eq_true, implies_true]
      exact h y R
  | succ d ih =>
    intro c a I hcd
    have ch := I.1
    have hc : c < ga_ch a := by omega
    have c8 := ch8 I hc
    obtain ⟨j1, j2, j3, j4, j5, j6, j7, j8⟩ := I.2.2.2.2.1 c hc
    have skip : ((∀ x post n, RX a x → wX_protect_2 post (nI q) (nI p) n (nI (c + 1)) (ga_spent a) (nI (ga_now a)) (nI (ga_ch a)) (nI (gx_goal x)) (nI (gx_val x)) (nI (gx_known x)) (cN (ga_coins a)) (cN (ga_up a)) (ga_knows a) (cN (ga_base a)) (cN (ga_rate a)) (ga_guard a) (cN (ga_status a)) (cN (ga_who a)) (cN (ga_latest a)) (cN (gx_row x)) (cN (ga_bal a)) (cN (gx_many x)) (cN (gx_frm x)) (cN (gx_amt x)) (cN (gx_sec x)) (cN (gx_xpy x)) (cN (gx_born x)) (cN (gx_dead x)) (cN (ga_publd a)) (cN (ga_pubs a)) (cN (ga_since a)) (cN (ga_held a)) (cN (gx_outm x)) (cN (gx_least x)) (cN (gx_path x)) (cN (gx_xsum x)) → wX_protect_2 post (nI q) (nI p) (n + 1) (nI c) (ga_spent a) (nI (ga_now a)) (nI (ga_ch a)) (nI (gx_goal x)) (nI (gx_val x)) (nI (gx_known x)) (cN (ga_coins a)) (cN (ga_up a)) (ga_knows a) (cN (ga_base a)) (cN (ga_rate a)) (ga_guard a) (cN (ga_status a)) (cN (ga_who a)) (cN (ga_latest a)) (cN (gx_row x)) (cN (ga_bal a)) (cN (gx_many x)) (cN (gx_frm x)) (cN (gx_amt x)) (cN (gx_sec x)) (cN (gx_xpy x)) (cN (gx_born x)) (cN (gx_dead x)) (cN (ga_publd a)) (cN (ga_pubs a)) (cN (ga_since a)) (cN (ga_held a)) (cN (gx_outm x)) (cN (gx_least x)) (cN (gx_path x)) (cN (gx_xsum x))) ∧ (∀ y post (J : (Int32 → Int32 → Int32 → Int32 → Int32 → (Nat → Int32) → (Nat → Int32) → (Nat → Int32) → (Nat → Int32) → (Nat → Int32) → (Nat → Int32) → (Nat → Int32) → (Nat → Int32) → (Nat → Int32) → (Nat → Int32) → (Nat → Int32) → (Nat → Int32) → (Nat → Int32) → (Nat → Int32) → (Nat → Int32) → (Nat → Int32) → (Nat → Int32) → (Nat → Int32) → (Nat → Int32) → (Nat → Int32) → (Nat → Int32) → (Nat → Int32) → (Nat → Int32) → (Nat → Int32) → (Nat → Int32) → (Nat → Int32) → (Nat → Int32) → (Nat → Int32) → (Nat → Int32) → Prop)) n, RY a y → wY_turn_116 post J (nI p) (nI q) n (nI (c + 1)) (nI (ga_now a)) (ga_spent a) (nI (ga_ch a)) (nI (gy_len y)) (cN (ga_coins a)) (cN (ga_base a)) (cN (ga_rate a)) (ga_guard a) (ga_knows a) (cN (ga_up a)) (cN (ga_who a)) (cN (ga_status a)) (cN (ga_latest a)) (cN (ga_publd a)) (cN (gy_ypub y)) (cN (ga_since a)) (cN (ga_held a)) (cN (gy_outn y)) (cN (ga_bal a)) (cN (gy_lks y)) (cN (gy_yf y)) (cN (gy_ya y)) (cN (gy_ys y)) (cN (gy_ye y)) (cN (gy_qf y)) (cN (gy_qa y)) (cN (gy_qs y)) (cN (gy_qe y)) (gy_way y) (cN (gy_part y)) (cN (gy_ysum y)) (cN (gy_bst y)) (cN (gy_bsm y)) → wY_turn_116 post J (nI p) (nI q) (n + 1) (nI c) (nI (ga_now a)) (ga_spent a) (nI (ga_ch a)) (nI (gy_len y)) (cN (ga_coins a)) (cN (ga_base a)) (cN (ga_rate a)) (ga_guard a) (ga_knows a) (cN (ga_up a)) (cN (ga_who a)) (cN (ga_status a)) (cN (ga_latest a)) (cN (ga_publd a)) (cN (gy_ypub y)) (cN (ga_since a)) (cN (ga_held a)) (cN (gy_outn y)) (cN (ga_bal a)) (cN (gy_lks y)) (cN (gy_yf y)) (cN (gy_ya y)) (cN (gy_ys y)) (cN (gy_ye y)) (cN (gy_qf y)) (cN (gy_qa y)) (cN (gy_qs y)) (cN (gy_qe y)) (gy_way y) (cN (gy_part y)) (cN (gy_ysum y)) (cN (gy_bst y)) (cN (gy_bsm y)))) → ∃ a', Inv T a' ∧ Fr a a' ∧
      (∀ x post, RX a x → (∀ x', RX a' x' → post (mX a' x')) → wX_protect_2 post (nI q) (nI p) (d + 1 + 1) (nI c) (ga_spent a) (nI (ga_now a)) (nI (ga_ch a)) (nI (gx_goal x)) (nI (gx_val x)) (nI (gx_known x)) (cN (ga_coins a)) (cN (ga_up a)) (ga_knows a) (cN (ga_base a)) (cN (ga_rate a)) (ga_guard a) (cN (ga_status a)) (cN (ga_who a)) (cN (ga_latest a)) (cN (gx_row x)) (cN (ga_bal a)) (cN (gx_many x)) (cN (gx_frm x)) (cN (gx_amt x)) (cN (gx_sec x)) (cN (gx_xpy x)) (cN (gx_born x)) (cN (gx_dead x)) (cN (ga_publd a)) (cN (ga_pubs a)) (cN (ga_since a)) (cN (ga_held a)) (cN (gx_outm x)) (cN (gx_least x)) (cN (gx_path x)) (cN (gx_xsum x))) ∧
      (∀ y post (J : (Int32 → Int32 → Int32 → Int32 → Int32 → (Nat → Int32) → (Nat → Int32) → (Nat → Int32) → (Nat → Int32) → (Nat → Int32) → (Nat → Int32) → (Nat → Int32) → (Nat → Int32) → (Nat → Int32) → (Nat → Int32) → (Nat → Int32) → (Nat → Int32) → (Nat → Int32) → (Nat → Int32) → (Nat → Int32) → (Nat → Int32) → (Nat → Int32) → (Nat → Int32) → (Nat → Int32) → (Nat → Int32) → (Nat → Int32) → (Nat → Int32) → (Nat → Int32) → (Nat → Int32) → (Nat → Int32) → (Nat → Int32) → (Nat → Int32) → (Nat → Int32) → (Nat → Int32) → Prop)), RY a y → (∀ y', RY a' y' → J (nI (q + 1)) (nI (ga_now a')) (ga_spent a') (nI (ga_ch a')) (nI (gy_len y')) (cN (ga_coins a')) (cN (ga_base a')) (cN (ga_rate a')) (ga_guard a') (ga_knows a') (cN (ga_up a')) (cN (ga_who a')) (cN (ga_status a')) (cN (ga_latest a')) (cN (ga_publd a')) (cN (gy_ypub y')) (cN (ga_since a')) (cN (ga_held a')) (cN (gy_outn y')) (cN (ga_bal a')) (cN (gy_lks y')) (cN (gy_yf y')) (cN (gy_ya y')) (cN (gy_ys y')) (cN (gy_ye y')) (cN (gy_qf y')) (cN (gy_qa y')) (cN (gy_qs y')) (cN (gy_qe y')) (gy_way y') (cN (gy_part y')) (cN (gy_ysum y')) (cN (gy_bst y')) (cN (gy_bsm y'))) → wY_turn_116 post J (nI p) (nI q) (d + 1 + 1) (nI c) (nI (ga_now a)) (ga_spent a) (nI (ga_ch a)) (nI (gy_len y)) (cN (ga_coins a)) (cN (ga_base a)) (cN (ga_rate a)) (ga_guard a) (ga_knows a) (cN (ga_up a)) (cN (ga_who a)) (cN (ga_status a)) (cN (ga_latest a)) (cN (ga_publd a)) (cN (gy_ypub y)) (cN (ga_since a)) (cN (ga_held a)) (cN (gy_outn y)) (cN (ga_bal a)) (cN (gy_lks y)) (cN (gy_yf y)) (cN (gy_ya y)) (cN (gy_ys y)) (cN (gy_ye y)) (cN (gy_qf y)) (cN (gy_qa y)) (cN (gy_qs y)) (cN (gy_qe y)) (gy_way y) (cN (gy_part y)) (cN (gy_ysum y)) (cN (gy_bst y)) (cN (gy_bsm y))) := by
      intro ⟨sx, sy⟩
      obtain ⟨a', i1, i2, i3, i4⟩ := ih (c + 1) a I (by omega)
      exact ⟨a', i1, i2, fun x post R h => sx x post _ R (i3 x post R h), fun y post J R h => sy y post J _ R (i4 y post J R h)⟩
    by_cases z : sd (ga_who a) c q < 2
    · obtain ⟨s1, s2, s3⟩ := sI_s rfl z
      generalize sd (ga_who a) c q = s at z s1 s2 s3
      by_cases h1 : ga_status a c = 1
      · obtain ⟨k1, k2, k3, k4, k5⟩ := j8 h1
        by_cases w1 : ga_pubs a c = s
        · refine skip ⟨fun x post n R h => ?_, fun y post J n R h => ?_⟩
          · rw [wX_protect_2]
            simp (disch := omega) only [xw_sideOf c8 q31 j2 j3, s1, li_0, li_1, li_2, li_3, li_4, li_5, li_6, li_7, li_8, li_9, li_10, li_11, li_12, li_15, li_16, li_20, li_21, li_24, li_31, li_36, li_100, li_255, li_256, li_1000, li_6000, li_M, un_s, un_n, ba_ap, ba_upd, ba_in, cT_le, cF_le, cT_lt, cF_lt, cT_eq, cF_eq, nb_1, nb_2, ns_1, ns_2, nz_1, nz_2, ng_1, ng_2, ng_3, ng_4, ng_5, nI_clamp, nI_add, pk_mul, pk_sub, forall_eq, true_and, and_true, true_imp_iff, false_imp_iff, not_true_eq_false, not_false_eq_true, implies_true]
            exact h
          · have y1 := (yp_iff I R hc h1 z s2).1.mpr w1
            rw [wY_turn_116]
            simp (disch := omega) only [wpY_watch, yw_sideOf c8 q31 j2 j3, s1, li_0, li_1, li_2, li_3, li_4, li_5, li_6, li_7, li_8, li_9, li_10, li_11, li_12, li_15, li_16, li_20, li_21, li_24, li_31, li_36, li_100, li_255, li_256, li_1000, li_6000, li_M, un_s, un_n, ba_ap, ba_upd, ba_in, cT_le, cF_le, cT_lt, cF_lt, cT_eq, cF_eq, nb_1, nb_2, ns_1, ns_2, nz_1, nz_2, ng_1, ng_2, ng_3, ng_4, ng_5, nI_clamp, nI_add, pk_mul, pk_sub, forall_eq, true_and, and_true, true_imp_iff, false_imp_iff, not_true_eq_false, not_false_eq_true, implies_true]
            exact h
        · by_cases w2 : ga_publd a c = ga_latest a c
          · refine skip ⟨fun x post n R h => ?_, fun y post J n R h => ?_⟩
            · rw [wX_protect_2]
              simp (disch := omega) only [xw_sideOf c8 q31 j2 j3, s1, xw_isOld c8 (show ga_publd a c < 12 by omega) j5, w2, if_true, li_0, li_1, li_2, li_3, li_4, li_5, li_6, li_7, li_8, li_9, li_10, li_11, li_12, li_15, li_16, li_20, li_21, li_24, li_31, li_36, li_100, li_255, li_256, li_1000, li_6000, li_M, un_s, un_n, ba_ap, ba_upd, ba_in, cT_le, cF_le, cT_lt, cF_lt, cT_eq, cF_eq, nb_1, nb_2, ns_1, ns_2, nz_1, nz_2, ng_1, ng_2, ng_3, ng_4, ng_5, nI_clamp, nI_add, pk_mul, pk_sub, forall_eq, true_and, and_true, true_imp_iff, false_imp_iff, not_true_eq_false, not_false_eq_true, implies_true]
              exact h
            · have y1 : ¬ gy_ypub y c = q := fun e => w1 ((yp_iff I R hc h1 z s2).1.mp e)
              have y2 := (yp_iff I R hc h1 z s2).2
              rw [wY_turn_116]
              simp (disch := omega) only [wpY_watch, yw_sideOf c8 q31 j2 j3, s1, li_0, li_1, li_2, li_3, li_4, li_5, li_6, li_7, li_8, li_9, li_10, li_11, li_12, li_15, li_16, li_20, li_21, li_24, li_31, li_36, li_100, li_255, li_256, li_1000, li_6000, li_M, un_s, un_n, ba_ap, ba_upd, ba_in, cT_le, cF_le, cT_lt, cF_lt, cT_eq, cF_eq, nb_1, nb_2, ns_1, ns_2, nz_1, nz_2, ng_1, ng_2, ng_3, ng_4, ng_5, nI_clamp, nI_add, pk_mul, pk_sub, forall_eq, true_and, and_true, true_imp_iff, false_imp_iff, not_true_eq_false, not_false_eq_true, implies_true]
              exact h
          · have I1 : Inv T (aPu a c q) := inv_pun I hc h1 hq
            have hcl := inv_closed I hc h1
            have hco := inv_coins I hq
            have hcp := inv_coins I hp
            have hf : (ga_held a c + sumL (ga_outs a c)) / 10 ≤ ga_coins (aPu a c q) q := by
              rw [aPu_coins, un_s]; omega
            have I2 := inv_fee (p := p) (q := q) I1 hc hp hq hpq hf
            obtain ⟨a', i1, i2, i3, i4⟩ := ih (c + 1) _ I2 (by show c + 1 + d = ga_ch a; omega)
            have e1 : un (un (ga_coins (aPu a c q)) q (ga_coins (aPu a c q) q - (ga_held a c + sumL (ga_outs a c)) / 10)) p (ga_coins (aPu a c q) p + (ga_held a c + sumL (ga_outs a c)) / 10) p = ga_coins (aPu a c q) p + (ga_held a c + sumL (ga_outs a c)) / 10 := un_s
            refine ⟨a', i1, Fr_t (show Fr a _ from Fr_r a) i2, fun x post R h => ?_, fun y post J R h => ?_⟩
            · obtain ⟨x', r1, r2⟩ := x2_pun I R hc h1 z hq s2
              have r := i3 x' post r1 h
              rw [wX_protect_2]
              simp (disch := omega) only [xw_sideOf c8 q31 j2 j3, s1, xw_isOld c8 (show ga_publd a c < 12 by omega) j5, w2, if_false, li_0, li_1, li_2, li_3, li_4, li_5, li_6, li_7, li_8, li_9, li_10, li_11, li_12, li_15, li_16, li_20, li_21, li_24, li_31, li_36, li_100, li_255, li_256, li_1000, li_6000, li_M, un_s, un_n, ba_ap, ba_upd, ba_in, cT_le, cF_le, cT_lt, cF_lt, cT_eq, cF_eq, nb_1, nb_2, ns_1, ns_2, nz_1, nz_2, ng_1, ng_2, ng_3, ng_4, ng_5, nI_clamp, nI_add, pk_mul, pk_sub, forall_eq, true_and, and_true, true_imp_iff, false_imp_iff, not_true_eq_false, not_false_eq_true, implies_true]
              refine r2 _ ?_
              dsimp only [mX]
              generalize aPu a c q = b at r hf ⊢
              simp (disch := omega) only [pk_div, li_0, li_1, li_2, li_3, li_4, li_5, li_6, li_7, li_8, li_9, li_10, li_11, li_12, li_15, li_16, li_20, li_21, li_24, li_31, li_36, li_100, li_255, li_256, li_1000, li_6000, li_M, un_s, un_n, ba_ap, ba_upd, ba_in, cT_le, cF_le, cT_lt, cF_lt, cT_eq, cF_eq, nb_1, nb_2, ns_1, ns_2, nz_1, nz_2, ng_1, ng_2, ng_3, ng_4, ng_5, nI_clamp, nI_add, pk_mul, pk_sub, forall_eq, true_and, and_true, true_imp_iff, false_imp_iff, not_true_eq_false, not_false_eq_true, implies_true]
              exact r
            · obtain ⟨y', r1, r2⟩ := y2_pun I R hc h1 hq
              have r := i4 y' post J r1 h
              have y1 : ¬ gy_ypub y c = q := fun e => w1 ((yp_iff I R hc h1 z s2).1.mp e)
              have y2 := (yp_iff I R hc h1 z s2).2
              rw [wY_turn_116]
              simp (disch := omega) only [wpY_watch, yw_sideOf c8 q31 j2 j3, s1, li_0, li_1, li_2, li_3, li_4, li_5, li_6, li_7, li_8, li_9, li_10, li_11, li_12, li_15, li_16, li_20, li_21, li_24, li_31, li_36, li_100, li_255, li_256, li_1000, li_6000, li_M, un_s, un_n, ba_ap, ba_upd, ba_in, cT_le, cF_le, cT_lt, cF_lt, cT_eq, cF_eq, nb_1, nb_2, ns_1, ns_2, nz_1, nz_2, ng_1, ng_2, ng_3, ng_4, ng_5, nI_clamp, nI_add, pk_mul, pk_sub, forall_eq, true_and, and_true, true_imp_iff, false_imp_iff, not_true_eq_false, not_false_eq_true, implies_true]
              refine r2 _ ?_
              dsimp only [mY]
              generalize aPu a c q = b at r hf ⊢
              simp (disch := omega) only [pk_div, li_0, li_1, li_2, li_3, li_4, li_5, li_6, li_7, li_8, li_9, li_10, li_11, li_12, li_15, li_16, li_20, li_21, li_24, li_31, li_36, li_100, li_255, li_256, li_1000, li_6000, li_M, un_s, un_n, ba_ap, ba_upd, ba_in, cT_le, cF_le, cT_lt, cF_lt, cT_eq, cF_eq, nb_1, nb_2, ns_1, ns_2, nz_1, nz_2, ng_1, ng_2, ng_3, ng_4, ng_5, nI_clamp, nI_add, pk_mul, pk_sub, forall_eq, true_and, and_true, true_imp_iff, false_imp_iff, not_true_eq_false, not_false_eq_true, implies_true]
              exact r
      · refine skip ⟨fun x post n R h => ?_, fun y post J n R h => ?_⟩
        · rw [wX_protect_2]
          simp (disch := omega) only [xw_sideOf c8 q31 j2 j3, s1, li_0, li_1, li_2, li_3, li_4, li_5, li_6, li_7, li_8, li_9, li_10, li_11, li_12, li_15, li_16, li_20, li_21, li_24, li_31, li_36, li_100, li_255, li_256, li_1000, li_6000, li_M, un_s, un_n, ba_ap, ba_upd, ba_in, cT_le, cF_le, cT_lt, cF_lt, cT_eq, cF_eq, nb_1, nb_2, ns_1, ns_2, nz_1, nz_2, ng_1, ng_2, ng_3, ng_4, ng_5, nI_clamp, nI_add, pk_mul, pk_sub, forall_eq, true_and, and_true, true_imp_iff, false_imp_iff, not_true_eq_false, not_false_eq_true, implies_true]
          exact h
        · rw [wY_turn_116]
          simp (disch := omega) only [wpY_watch, yw_sideOf c8 q31 j2 j3, s1, li_0, li_1, li_2, li_3, li_4, li_5, li_6, li_7, li_8, li_9, li_10, li_11, li_12, li_15, li_16, li_20, li_21, li_24, li_31, li_36, li_100, li_255, li_256, li_1000, li_6000, li_M, un_s, un_n, ba_ap, ba_upd, ba_in, cT_le, cF_le, cT_lt, cF_lt, cT_eq, cF_eq, nb_1, nb_2, ns_1, ns_2, nz_1, nz_2, ng_1, ng_2, ng_3, ng_4, ng_5, nI_clamp, nI_add, pk_mul, pk_sub, forall_eq, true_and, and_true, true_imp_iff, false_imp_iff, not_true_eq_false, not_false_eq_true, implies_true]
          exact h
    · have s1 := sI_n z
      refine skip ⟨fun x post n R h => ?_, fun y post J n R h => ?_⟩
      · rw [wX_protect_2]
        simp (disch := omega) only [xw_sideOf c8 q31 j2 j3, s1, li_0, li_1, li_2, li_3, li_4, li_5, li_6, li_7, li_8, li_9, li_10, li_11, li_12, li_15, li_16, li_20, li_21, li_24, li_31, li_36, li_100, li_255, li_256, li_1000, li_6000, li_M, un_s, un_n, ba_ap, ba_upd, ba_in, cT_le, cF_le, cT_lt, cF_lt, cT_eq, cF_eq, nb_1, nb_2, ns_1, ns_2, nz_1, nz_2, ng_1, ng_2, ng_3, ng_4, ng_5, nI_clamp, nI_add, pk_mul, pk_sub, forall_eq, true_and, and_true, true_imp_iff, false_imp_iff, not_true_eq_false, not_false_eq_true, implies_true]
        exact h
      · rw [wY_turn_116]
        simp (disch := omega) only [wpY_watch, yw_sideOf c8 q31 j2 j3, s1, li_0, li_1, li_2, li_3, li_4, li_5, li_6, li_7, li_8, li_9, li_10, li_11, li_12, li_15, li_16, li_20, li_21, li_24, li_31, li_36, li_100, li_255, li_256, li_1000, li_6000, li_M, un_s, un_n, ba_ap, ba_upd, ba_in, cT_le, cF_le, cT_lt, cF_lt, cT_eq, cF_eq, nb_1, nb_2, ns_1, ns_2, nz_1, nz_2, ng_1, ng_2, ng_3, ng_4, ng_5, nI_clamp, nI_add, pk_mul, pk_sub, forall_eq, true_and, and_true, true_imp_iff, false_imp_iff, not_true_eq_false, not_false_eq_true, implies_true]
        exact h
theorem pr_q {T p : Nat} (hT : T < 32768) (hp : p < 6) : ∀ d q a, Inv T a → ga_up a p ≠ 0 → q + d = 6 → ∃ a', Inv T a' ∧ Fr a a' ∧
    (∀ x post, RX a x → (∀ x', RX a' x' → post (mX a' x')) → wX_turn_90 post (nI p) (d + 1) (nI q) (ga_spent a) (nI (ga_now a)) (nI (ga_ch a)) (nI (gx_goal x)) (nI (gx_val x)) (nI (gx_known x)) (cN (ga_coins a)) (cN (ga_up a)) (ga_knows a) (cN (ga_base a)) (cN (ga_rate a)) (ga_guard a) (cN (ga_status a)) (cN (ga_who a)) (cN (ga_latest a)) (cN (gx_row x)) (cN (ga_bal a)) (cN (gx_many x)) (cN (gx_frm x)) (cN (gx_amt x)) (cN (gx_sec x)) (cN (gx_xpy x)) (cN (gx_born x)) (cN (gx_dead x)) (cN (ga_publd a)) (cN (ga_pubs a)) (cN (ga_since a)) (cN (ga_held a)) (cN (gx_outm x)) (cN (gx_least x)) (cN (gx_path x)) (cN (gx_xsum x))) ∧
    (∀ y post, RY a y → (∀ y', RY a' y' → post (mY a' y')) → wY_turn_86 post (nI p) (d + 1) (nI q) (nI (ga_now a)) (ga_spent a) (nI (ga_ch a)) (nI (gy_len y)) (cN (ga_coins a)) (cN (ga_base a)) (cN (ga_rate a)) (ga_guard a) (ga_knows a) (cN (ga_up a)) (cN (ga_who a)) (cN (ga_status a)) (cN (ga_latest a)) (cN (ga_publd a)) (cN (gy_ypub y)) (cN (ga_since a)) (cN (ga_held a)) (cN (gy_outn y)) (cN (ga_bal a)) (cN (gy_lks y)) (cN (gy_yf y)) (cN (gy_ya y)) (cN (gy_ys y)) (cN (gy_ye y)) (cN (gy_qf y)) (cN (gy_qa y)) (cN (gy_qs y)) (cN (gy_qe y)) (gy_way y) (cN (gy_part y)) (cN (gy_ysum y)) (cN (gy_bst y)) (cN (gy_bsm y))) := by
  intro d
  induction d with
  | zero =>
    intro q a I hu hq
    refine ⟨a, I, Fr_r a, fun x post R h => ?_, fun y post R h => ?_⟩
    · rw [wX_turn_90]
      simp (disch := omega) only [li_0, li_1, li_2, li_3, li_4, li_5, li_6, li_7, li_8, li_9, li_10, li_11, li_12, li_15, li_16, li_20, li_21, li_24, li_31, li_36, li_100, li_255, li_256, li_1000, li_6000, li_M, un_s, un_n, ba_ap, ba_upd, ba_in, cT_le, cF_le, cT_lt, cF_lt, cT_eq, cF_eq, nb_1, nb_2, ns_1, ns_2, nz_1, nz_2, ng_1, ng_2, ng_3, ng_4, ng_5, nI_clamp, nI_add, pk_mul, pk_sub, forall_eq, true_and, and_true, true_imp_iff, false_imp_iff, not_true_eq_false, not_false_eq_true, implies_true]
      exact h x R
    · rw [wY_turn_86]
      simp (disch := omega) only [li_0, li_1, li_2, li_3, li_4, li_5, li_6, li_7, li_8, li_9, li_10, li_11, li_12, li_15, li_16, li_20, li_21, li_24, li_31, li_36, li_100, li_255, li_256, li_1000, li_6000, li_M, un_s, un_n, ba_ap, ba_upd, ba_in, cT_le, cF_le, cT_lt, cF_lt, cT_eq, cF_eq, nb_1, nb_2, ns_1, ns_2, nz_1, nz_2, ng_1, ng_2, ng_3, ng_4, ng_5, nI_clamp, nI_add, pk_mul, pk_sub, forall_eq, true_and, and_true, true_imp_iff, false_imp_iff, not_true_eq_false, not_false_eq_true, implies_true]
      exact h y R
  | succ d ih =>
    intro q a I hu hq
    have uq := upI I q (by omega)
    by_cases z1 : ga_up a q = 0
    · by_cases z2 : ga_guard a q = nI p
      · obtain ⟨a1, k1, k2, k3, k4⟩ := pr_ch (p := p) (q := q) hT hp (by omega) (fun e => hu (e ▸ z1)) (ga_ch a) 0 a I (by omega)
        obtain ⟨a', i1, i2, i3, i4⟩ := ih (q + 1) a1 k1 (by rw [k2.2.2.1]; exact hu) (by omega)
        refine ⟨a', i1, Fr_t k2 i2, fun x post R h => ?_, fun y post R h => ?_⟩
        · rw [wX_turn_90]
          simp (disch := omega) only [z2, wpX_protect, li_0, li_1, li_2, li_3, li_4, li_5, li_6, li_7, li_8, li_9, li_10, li_11, li_12, li_15, li_16, li_20, li_21, li_24, li_31, li_36, li_100, li_255, li_256, li_1000, li_6000, li_M, un_s, un_n, ba_ap, ba_upd, ba_in, cT_le, cF_le, cT_lt, cF_lt, cT_eq, cF_eq, nb_1, nb_2, ns_1, ns_2, nz_1, nz_2, ng_1, ng_2, ng_3, ng_4, ng_5, nI_clamp, nI_add, pk_mul, pk_sub, forall_eq, true_and, and_true, true_imp_iff, false_imp_iff, not_true_eq_false, not_false_eq_true, implies_true]
          exact ⟨_, k3 x _ R (fun x' R' => i3 x' post R' h)⟩
        · rw [wY_turn_86]
          simp (disch := omega) only [z2, li_0, li_1, li_2, li_3, li_4, li_5, li_6, li_7, li_8, li_9, li_10, li_11, li_12, li_15, li_16, li_20, li_21, li_24, li_31, li_36, li_100, li_255, li_256, li_1000, li_6000, li_M, un_s, un_n, ba_ap, ba_upd, ba_in, cT_le, cF_le, cT_lt, cF_lt, cT_eq, cF_eq, nb_1, nb_2, ns_1, ns_2, nz_1, nz_2, ng_1, ng_2, ng_3, ng_4, ng_5, nI_clamp, nI_add, pk_mul, pk_sub, forall_eq, true_and, and_true, true_imp_iff, false_imp_iff, not_true_eq_false, not_false_eq_true, implies_true]
          exact ⟨_, k4 y post _ R (fun y' R' => i4 y' post R' h)⟩
      · obtain ⟨a', i1, i2, i3, i4⟩ := ih (q + 1) a I hu (by omega)
        refine ⟨a', i1, i2, fun x post R h => ?_, fun y post R h => ?_⟩
        · rw [wX_turn_90]
          simp (disch := omega) only [z2, li_0, li_1, li_2, li_3, li_4, li_5, li_6, li_7, li_8, li_9, li_10, li_11, li_12, li_15, li_16, li_20, li_21, li_24, li_31, li_36, li_100, li_255, li_256, li_1000, li_6000, li_M, un_s, un_n, ba_ap, ba_upd, ba_in, cT_le, cF_le, cT_lt, cF_lt, cT_eq, cF_eq, nb_1, nb_2, ns_1, ns_2, nz_1, nz_2, ng_1, ng_2, ng_3, ng_4, ng_5, nI_clamp, nI_add, pk_mul, pk_sub, forall_eq, true_and, and_true, true_imp_iff, false_imp_iff, not_true_eq_false, not_false_eq_true, implies_true]
          exact i3 x post R h
        · rw [wY_turn_86]
          simp (disch := omega) only [z2, li_0, li_1, li_2, li_3, li_4, li_5, li_6, li_7, li_8, li_9, li_10, li_11, li_12, li_15, li_16, li_20, li_21, li_24, li_31, li_36, li_100, li_255, li_256, li_1000, li_6000, li_M, un_s, un_n, ba_ap, ba_upd, ba_in, cT_le, cF_le, cT_lt, cF_lt, cT_eq, cF_eq, nb_1, nb_2, ns_1, ns_2, nz_1, nz_2, ng_1, ng_2, ng_3, ng_4, ng_5, nI_clamp, nI_add, pk_mul, pk_sub, forall_eq, true_and, and_true, true_imp_iff, false_imp_iff, not_true_eq_false, not_false_eq_true, implies_true]
          exact i4 y post R h
    · obtain ⟨a', i1, i2, i3, i4⟩ := ih (q + 1) a I hu (by omega)
      refine ⟨a', i1, i2, fun x post R h => ?_, fun y post R h => ?_⟩
      · rw [wX_turn_90]
        simp (disch := omega) only [li_0, li_1, li_2, li_3, li_4, li_5, li_6, li_7, li_8, li_9, li_10, li_11, li_12, li_15, li_16, li_20, li_21, li_24, li_31, li_36, li_100, li_255, li_256, li_1000, li_6000, li_M, un_s, un_n, ba_ap, ba_upd, ba_in, cT_le, cF_le, cT_lt, cF_lt, cT_eq, cF_eq, nb_1, nb_2, ns_1, ns_2, nz_1, nz_2, ng_1, ng_2, ng_3, ng_4, ng_5, nI_clamp, nI_add, pk_mul, pk_sub, forall_eq, true_and, and_true, true_imp_iff, false_imp_iff, not_true_eq_false, not_false_eq_true, implies_true]
        exact i3 x post R h
      · rw [wY_turn_86]
        simp (disch := omega) only [li_0, li_1, li_2, li_3, li_4, li_5, li_6, li_7, li_8, li_9, li_10, li_11, li_12, li_15, li_16, li_20, li_21, li_24, li_31, li_36, li_100, li_255, li_256, li_1000, li_6000, li_M, un_s, un_n, ba_ap, ba_upd, ba_in, cT_le, cF_le, cT_lt, cF_lt, cT_eq, cF_eq, nb_1, nb_2, ns_1, ns_2, nz_1, nz_2, ng_1, ng_2, ng_3, ng_4, ng_5, nI_clamp, nI_add, pk_mul, pk_sub, forall_eq, true_and, and_true, true_imp_iff, false_imp_iff, not_true_eq_false, not_false_eq_true, implies_true]
        exact i4 y post R h
theorem tn_out {T p : Nat} (hT : T < 32768) (hp : p < 6) (a : SA) (I : Inv T a) (hu : ga_up a p ≠ 0) : ∃ a', Inv T a' ∧ Fr a a' ∧
    (∀ x post, RX a x → (∀ x', RX a' x' → post (mX a' x')) → wpX_turn post (mX a x) (nI p)) ∧
    (∀ y post, RY a y → (∀ y', RY a' y' → post (mY a' y')) → wpY_turn post (mY a y) (nI p)) := by
  obtain ⟨a1, k1, k2, k3, k4⟩ := tn_ch hT hp (ga_ch a) 0 a I (by omega)
  obtain ⟨a', i1, i2, i3, i4⟩ := pr_q hT hp 6 0 a1 k1 (by rw [k2.2.2.1]; exact hu) (by omega)
  refine ⟨a', i1, Fr_t k2 i2, fun x post R h => ?_, fun y post R h => ?_⟩
  · exact ⟨_, k3 x post R (fun x' R' => ⟨_, i3 x' post R' h⟩)⟩
  · exact ⟨_, k4 y post R (fun y' R' => ⟨_, i4 y' post R' h⟩)⟩
theorem bl_p {T : Nat} (hT : T < 32768) {N k : Int32} : ∀ d p a, Inv T a → p + d = 6 → ∃ a', Inv T a' ∧ Fr a a' ∧
    (∀ x post (J : (Int32 → Int32 → Int32 → Int32 → Int32 → Int32 → Int32 → (Nat → Int32) → (Nat → Int32) → (Nat → Int32) → (Nat → Int32) → (Nat → Int32) → (Nat → Int32) → (Nat → Int32) → (Nat → Int32) → (Nat → Int32) → (Nat → Int32) → (Nat → Int32) → (Nat → Int32) → (Nat → Int32) → (Nat → Int32) → (Nat → Int32) → (Nat → Int32) → (Nat → Int32) → (Nat → Int32) → (Nat → Int32) → (Nat → Int32) → (Nat → Int32) → (Nat → Int32) → (Nat → Int32) → (Nat → Int32) → (Nat → Int32) → (Nat → Int32) → Prop)), RX a x → (∀ x', RX a' x' → J (k + nI 1) (ga_spent a') (nI (ga_now a')) (nI (ga_ch a')) (nI (gx_goal x')) (nI (gx_val x')) (nI (gx_known x')) (cN (ga_coins a')) (cN (ga_up a')) (ga_knows a') (cN (ga_base a')) (cN (ga_rate a')) (ga_guard a') (cN (ga_status a')) (cN (ga_who a')) (cN (ga_latest a')) (cN (gx_row x')) (cN (ga_bal a')) (cN (gx_many x')) (cN (gx_frm x')) (cN (gx_amt x')) (cN (gx_sec x')) (cN (gx_xpy x')) (cN (gx_born x')) (cN (gx_dead x')) (cN (ga_publd a')) (cN (ga_pubs a')) (cN (ga_since a')) (cN (ga_held a')) (cN (gx_outm x')) (cN (gx_least x')) (cN (gx_path x')) (cN (gx_xsum x'))) → wX_block_33 post J N k (d + 1) (nI p) (ga_spent a) (nI (ga_now a)) (nI (ga_ch a)) (nI (gx_goal x)) (nI (gx_val x)) (nI (gx_known x)) (cN (ga_coins a)) (cN (ga_up a)) (ga_knows a) (cN (ga_base a)) (cN (ga_rate a)) (ga_guard a) (cN (ga_status a)) (cN (ga_who a)) (cN (ga_latest a)) (cN (gx_row x)) (cN (ga_bal a)) (cN (gx_many x)) (cN (gx_frm x)) (cN (gx_amt x)) (cN (gx_sec x)) (cN (gx_xpy x)) (cN (gx_born x)) (cN (gx_dead x)) (cN (ga_publd a)) (cN (ga_pubs a)) (cN (ga_since a)) (cN (ga_held a)) (cN (gx_outm x)) (cN (gx_least x)) (cN (gx_path x)) (cN (gx_xsum x))) ∧
    (∀ y post (J : (Int32 → Int32 → Int32 → Int32 → Int32 → (Nat → Int32) → (Nat → Int32) → (Nat → Int32) → (Nat → Int32) → (Nat → Int32) → (Nat → Int32) → (Nat → Int32) → (Nat → Int32) → (Nat → Int32) → (Nat → Int32) → (Nat → Int32) → (Nat → Int32) → (Nat → Int32) → (Nat → Int32) → (Nat → Int32) → (Nat → Int32) → (Nat → Int32) → (Nat → Int32) → (Nat → Int32) → (Nat → Int32) → (Nat → Int32) → (Nat → Int32) → (Nat → Int32) → (Nat → Int32) → (Nat → Int32) → (Nat → Int32) → (Nat → Int32) → (Nat → Int32) → (Nat → Int32) → Prop)), RY a y → (∀ y', RY a' y' → J (k + nI 1) (nI (ga_now a')) (ga_spent a') (nI (ga_ch a')) (nI (gy_len y')) (cN (ga_coins a')) (cN (ga_base a')) (cN (ga_rate a')) (ga_guard a') (ga_knows a') (cN (ga_up a')) (cN (ga_who a')) (cN (ga_status a')) (cN (ga_latest a')) (cN (ga_publd a')) (cN (gy_ypub y')) (cN (ga_since a')) (cN (ga_held a')) (cN (gy_outn y')) (cN (ga_bal a')) (cN (gy_lks y')) (cN (gy_yf y')) (cN (gy_ya y')) (cN (gy_ys y')) (cN (gy_ye y')) (cN (gy_qf y')) (cN (gy_qa y')) (cN (gy_qs y')) (cN (gy_qe y')) (gy_way y') (cN (gy_part y')) (cN (gy_ysum y')) (cN (gy_bst y')) (cN (gy_bsm y'))) → wY_block_33 post J N k (d + 1) (nI p) (nI (ga_now a)) (ga_spent a) (nI (ga_ch a)) (nI (gy_len y)) (cN (ga_coins a)) (cN (ga_base a)) (cN (ga_rate a)) (ga_guard a) (ga_knows a) (cN (ga_up a)) (cN (ga_who a)) (cN (ga_status a)) (cN (ga_latest a)) (cN (ga_publd a)) (cN (gy_ypub y)) (cN (ga_since a)) (cN (ga_held a)) (cN (gy_outn y)) (cN (ga_bal a)) (cN (gy_lks y)) (cN (gy_yf y)) (cN (gy_ya y)) (cN (gy_ys y)) (cN (gy_ye y)) (cN (gy_qf y)) (cN (gy_qa y)) (cN (gy_qs y)) (cN (gy_qe y)) (gy_way y) (cN (gy_part y)) (cN (gy_ysum y)) (cN (gy_bst y)) (cN (gy_bsm y))) := by
  intro d
  induction d with
  | zero =>
    intro p a I hp
    refine ⟨a, I, Fr_r a, fun x post J R h => ?_, fun y post J R h => ?_⟩
    · rw [wX_block_33]
      simp (disch := omega) only [li_0, li_1, li_2, li_3, li_4, li_5, li_6, li_7, li_8, li_9, li_10, li_11, li_12, li_15, li_16, li_20, li_21, li_24, li_31, li_36, li_100, li_255, li_256, li_1000, li_6000, li_M, un_s, un_n, ba_ap, ba_upd, ba_in, cT_le, cF_le, cT_lt, cF_lt, cT_eq, cF_eq, nb_1, nb_2, ns_1, ns_2, nz_1, nz_2, ng_1, ng_2, ng_3, ng_4, ng_5, nI_clamp, nI_add, pk_mul, pk_sub, forall_eq, true_and, and_true, true_imp_iff, false_imp_iff, not_true_eq_false, not_false_eq_true, implies_true]
      exact h x R
    · rw [wY_block_33]
      simp (disch := omega) only [li_0, li_1, li_2, li_3, li_4, li_5, li_6, li_7, li_8, li_9, li_10, li_11, li_12, li_15, li_16, li_20, li_21, li_24, li_31, li_36, li_100, li_255, li_256, li_1000, li_6000, li_M, un_s, un_n, ba_ap, ba_upd, ba_in, cT_le, cF_le, cT_lt, cF_lt, cT_eq, cF_eq, nb_1, nb_2, ns_1, ns_2, nz_1, nz_2, ng_1, ng_2, ng_3, ng_4, ng_5, nI_clamp, nI_add, pk_mul, pk_sub, forall_eq, true_and, and_true, true_imp_iff, false_imp_iff, not_true_eq_false, not_false_eq_true, implies_true]
      exact h y R
  | succ d ih =>
    intro p a I hp
    have up2 := upI I p (by omega)
    by_cases z : ga_up a p = 0
    · obtain ⟨a', i1, i2, i3, i4⟩ := ih (p + 1) a I (by omega)
      refine ⟨a', i1, i2, fun x post J R h => ?_, fun y post J R h => ?_⟩
      · rw [wX_block_33]
        simp (disch := omega) only [li_0, li_1, li_2, li_3, li_4, li_5, li_6, li_7, li_8, li_9, li_10, li_11, li_12, li_15, li_16, li_20, li_21, li_24, li_31, li_36, li_100, li_255, li_256, li_1000, li_6000, li_M, un_s, un_n, ba_ap, ba_upd, ba_in, cT_le, cF_le, cT_lt, cF_lt, cT_eq, cF_eq, nb_1, nb_2, ns_1, ns_2, nz_1, nz_2, ng_1, ng_2, ng_3, ng_4, ng_5, nI_clamp, nI_add, pk_mul, pk_sub, forall_eq, true_and, and_true, true_imp_iff, false_imp_iff, not_true_eq_false, not_false_eq_true, implies_true]
        exact i3 x post J R h
      · rw [wY_block_33]
        simp (disch := omega) only [li_0, li_1, li_2, li_3, li_4, li_5, li_6, li_7, li_8, li_9, li_10, li_11, li_12, li_15, li_16, li_20, li_21, li_24, li_31, li_36, li_100, li_255, li_256, li_1000, li_6000, li_M, un_s, un_n, ba_ap, ba_upd, ba_in, cT_le, cF_le, cT_lt, cF_lt, cT_eq, cF_eq, nb_1, nb_2, ns_1, ns_2, nz_1, nz_2, ng_1, ng_2, ng_3, ng_4, ng_5, nI_clamp, nI_add, pk_mul, pk_sub, forall_eq, true_and, and_true, true_imp_iff, false_imp_iff, not_true_eq_false, not_false_eq_true, implies_true]
        exact i4 y post J R h
    · obtain ⟨a1, k1, k2, k3, k4⟩ := tn_out (p := p) hT (by omega) a I z
      obtain ⟨a', i1, i2, i3, i4⟩ := ih (p + 1) a1 k1 (by omega)
      refine ⟨a', i1, Fr_t k2 i2, fun x post J R h => ?_, fun y post J R h => ?_⟩
      · rw [wX_block_33]
        simp (disch := omega) only [li_0, li_1, li_2, li_3, li_4, li_5, li_6, li_7, li_8, li_9, li_10, li_11, li_12, li_15, li_16, li_20, li_21, li_24, li_31, li_36, li_100, li_255, li_256, li_1000, li_6000, li_M, un_s, un_n, ba_ap, ba_upd, ba_in, cT_le, cF_le, cT_lt, cF_lt, cT_eq, cF_eq, nb_1, nb_2, ns_1, ns_2, nz_1, nz_2, ng_1, ng_2, ng_3, ng_4, ng_5, nI_clamp, nI_add, pk_mul, pk_sub, forall_eq, true_and, and_true, true_imp_iff, false_imp_iff, not_true_eq_false, not_false_eq_true, implies_true]
        exact k3 x _ R (fun x' R' => i3 x' post J R' h)
      · rw [wY_block_33]
        simp (disch := omega) only [li_0, li_1, li_2, li_3, li_4, li_5, li_6, li_7, li_8, li_9, li_10, li_11, li_12, li_15, li_16, li_20, li_21, li_24, li_31, li_36, li_100, li_255, li_256, li_1000, li_6000, li_M, un_s, un_n, ba_ap, ba_upd, ba_in, cT_le, cF_le, cT_lt, cF_lt, cT_eq, cF_eq, nb_1, nb_2, ns_1, ns_2, nz_1, nz_2, ng_1, ng_2, ng_3, ng_4, ng_5, nI_clamp, nI_add, pk_mul, pk_sub, forall_eq, true_and, and_true, true_imp_iff, false_imp_iff, not_true_eq_false, not_false_eq_true, implies_true]
        exact k4 y _ R (fun y' R' => i4 y' post J R' h)
theorem bl_k {N : Nat} (hN : N < 100) : ∀ d k T a, Inv T a → T + d < 32768 → k + d = N → ∃ a', Inv (T + d) a' ∧
    (∀ x post, RX a x → (∀ x', RX a' x' → post (nI (ga_now a')) (mX a' x')) → wX_block_16 post (nI N) (d + 1) (nI k) (ga_spent a) (nI (ga_now a)) (nI (ga_ch a)) (nI (gx_goal x)) (nI (gx_val x)) (nI (gx_known x)) (cN (ga_coins a)) (cN (ga_up a)) (ga_knows a) (cN (ga_base a)) (cN (ga_rate a)) (ga_guard a) (cN (ga_status a)) (cN (ga_who a)) (cN (ga_latest a)) (cN (gx_row x)) (cN (ga_bal a)) (cN (gx_many x)) (cN (gx_frm x)) (cN (gx_amt x)) (cN (gx_sec x)) (cN (gx_xpy x)) (cN (gx_born x)) (cN (gx_dead x)) (cN (ga_publd a)) (cN (ga_pubs a)) (cN (ga_since a)) (cN (ga_held a)) (cN (gx_outm x)) (cN (gx_least x)) (cN (gx_path x)) (cN (gx_xsum x))) ∧
    (∀ y post, RY a y → (∀ y', RY a' y' → post (nI (ga_now a')) (mY a' y')) → wY_block_16 post (nI N) (d + 1) (nI k) (nI (ga_now a)) (ga_spent a) (nI (ga_ch a)) (nI (gy_len y)) (cN (ga_coins a)) (cN (ga_base a)) (cN (ga_rate a)) (ga_guard a) (ga_knows a) (cN (ga_up a)) (cN (ga_who a)) (cN (ga_status a)) (cN (ga_latest a)) (cN (ga_publd a)) (cN (gy_ypub y)) (cN (ga_since a)) (cN (ga_held a)) (cN (gy_outn y)) (cN (ga_bal a)) (cN (gy_lks y)) (cN (gy_yf y)) (cN (gy_ya y)) (cN (gy_ys y)) (cN (gy_ye y)) (cN (gy_qf y)) (cN (gy_qa y)) (cN (gy_qs y)) (cN (gy_qe y)) (gy_way y) (cN (gy_part y)) (cN (gy_ysum y)) (cN (gy_bst y)) (cN (gy_bsm y))) := by
  intro d
  induction d with
  | zero =>
    intro k T a I hT hk
    refine ⟨a, I, fun x post R h => ?_, fun y post R h => ?_⟩
    · rw [wX_block_16]
      simp (disch := omega) only [li_0, li_1, li_2, li_3, li_4, li_5, li_6, li_7, li_8, li_9, li_10, li_11, li_12, li_15, li_16, li_20, li_21, li_24, li_31, li_36, li_100, li_255, li_256, li_1000, li_6000, li_M, un_s, un_n, ba_ap, ba_upd, ba_in, cT_le, cF_le, cT_lt, cF_lt, cT_eq, cF_eq, nb_1, nb_2, ns_1, ns_2, nz_1, nz_2, ng_1, ng_2, ng_3, ng_4, ng_5, nI_clamp, nI_add, pk_mul, pk_sub, forall_eq, true_and, and_true, true_imp_iff, false_imp_iff, not_true_eq_false, not_false_eq_true, implies_true]
      exact h x R
    · rw [wY_block_16]
      simp (disch := omega) only [li_0, li_1, li_2, li_3, li_4, li_5, li_6, li_7, li_8, li_9, li_10, li_11, li_12, li_15, li_16, li_20, li_21, li_24, li_31, li_36, li_100, li_255, li_256, li_1000, li_6000, li_M, un_s, un_n, ba_ap, ba_upd, ba_in, cT_le, cF_le, cT_lt, cF_lt, cT_eq, cF_eq, nb_1, nb_2, ns_1, ns_2, nz_1, nz_2, ng_1, ng_2, ng_3, ng_4, ng_5, nI_clamp, nI_add, pk_mul, pk_sub, forall_eq, true_and, and_true, true_imp_iff, false_imp_iff, not_true_eq_false, not_false_eq_true, implies_true]
      exact h y R
  | succ d ih =>
    intro k T a I hT hk
    have hn := I.2.1
    have I1 : Inv (T + 1) (aNow a (ga_now a + 1)) := inv_T (inv_now I (Nat.le_succ _)) (by omega)
    obtain ⟨a1, k1, k2, k3, k4⟩ := bl_p (N := nI N) (k := nI k) (by omega) 6 0 _ I1 (by omega)
    obtain ⟨a', i1, i3, i4⟩ := ih (k + 1) (T + 1) a1 k1 (by omega) (by omega)
    refine ⟨a', by rw [show T + (d + 1) = T + 1 + d by omega]; exact i1, fun x post R h => ?_, fun y post R h => ?_⟩
    · rw [wX_block_16]
      simp (disch := omega) only [li_0, li_1, li_2, li_3, li_4, li_5, li_6, li_7, li_8, li_9, li_10, li_11, li_12, li_15, li_16, li_20, li_21, li_24, li_31, li_36, li_100, li_255, li_256, li_1000, li_6000, li_M, un_s, un_n, ba_ap, ba_upd, ba_in, cT_le, cF_le, cT_lt, cF_lt, cT_eq, cF_eq, nb_1, nb_2, ns_1, ns_2, nz_1, nz_2, ng_1, ng_2, ng_3, ng_4, ng_5, nI_clamp, nI_add, pk_mul, pk_sub, forall_eq, true_and, and_true, true_imp_iff, false_imp_iff, not_true_eq_false, not_false_eq_true, implies_true]
      refine ⟨_, k3 x post _ R (fun x' R' => ?_)⟩
      rw [nI_add]
      exact i3 x' post R' h
    · rw [wY_block_16]
      simp (disch := omega) only [li_0, li_1, li_2, li_3, li_4, li_5, li_6, li_7, li_8, li_9, li_10, li_11, li_12, li_15, li_16, li_20, li_21, li_24, li_31, li_36, li_100, li_255, li_256, li_1000, li_6000, li_M, un_s, un_n, ba_ap, ba_upd, ba_in, cT_le, cF_le, cT_lt, cF_lt, cT_eq, cF_eq, nb_1, nb_2, ns_1, ns_2, nz_1, nz_2, ng_1, ng_2, ng_3, ng_4, ng_5, nI_clamp, nI_add, pk_mul, pk_sub, forall_eq, true_and, and_true, true_imp_iff, false_imp_iff, not_true_eq_false, not_false_eq_true, implies_true]
      refine ⟨_, k4 y post _ R (fun y' R' => ?_)⟩
      rw [nI_add]
      exact i4 y' post R' h
end
section
section
variable {spent : Int32} {now ch goal val known : Nat} {coins up base rate status who latest row bal many frm amt sec xpy born dead publd pubs since held outm least path xsum : Nat → Nat} {knows guard : Nat → Int32}
theorem xw_over {post : Int32 → Prop} {c t go : Nat} (hc : c < 8) (ht : t < 2) (hw : who (2 * c + t) < 6) (hg1 : 1 ≤ go) (hg : go ≤ 4) (hM : 2 ≤ go → least (6 * (go - 1) + who (2 * c + t)) ≤ 1000000) (hb : base (who (2 * c + t)) < 10) (hr : rate (who (2 * c + t)) < 21) (hgo : goal < 2 ^ 31) : wpX_over post (spent, nI now, nI ch, nI goal, nI val, nI known, cN coins, cN up, knows, cN base, cN rate, guard, cN status, cN who, cN latest, cN row, cN bal, cN many, cN frm, cN amt, cN sec, cN xpy, cN born, cN dead, cN publd, cN pubs, cN since, cN held, cN outm, cN least, cN path, cN xsum) (nI c) (nI t) (nI go) = post (nI (ob goal val base rate go (who (2 * c + t)) (least (6 * (go - 1) + who (2 * c + t))))) := by
  unfold ob
  by_cases a : go = 1
  · subst a
    rw [if_pos rfl]
    by_cases b : who (2 * c + t) = goal
    · rw [if_pos b]
      simp (disch := omega) only [wpX_over, li_0, li_1, li_2, li_3, li_4, li_5, li_6, li_7, li_8, li_9, li_10, li_11, li_12, li_15, li_16, li_20, li_21, li_24, li_31, li_36, li_100, li_255, li_256, li_1000, li_6000, li_M, un_s, un_n, ba_ap, ba_upd, ba_in, cT_le, cF_le, cT_lt, cF_lt, cT_eq, cF_eq, nb_1, nb_2, ns_1, ns_2, nz_1, nz_2, ng_1, ng_2, ng_3, ng_4, ng_5, nI_clamp, nI_add, pk_mul, pk_sub, forall_eq, true_and, and_true, true_imp_iff, false_imp_iff, not_true_eq_false, not_false_eq_true, implies_true]
    · rw [if_neg b]
      simp (disch := omega) only [wpX_over, li_0, li_1, li_2, li_3, li_4, li_5, li_6, li_7, li_8, li_9, li_10, li_11, li_12, li_15, li_16, li_20, li_21, li_24, li_31, li_36, li_100, li_255, li_256, li_1000, li_6000, li_M, un_s, un_n, ba_ap, ba_upd, ba_in, cT_le, cF_le, cT_lt, cF_lt, cT_eq, cF_eq, nb_1, nb_2, ns_1, ns_2, nz_1, nz_2, ng_1, ng_2, ng_3, ng_4, ng_5, nI_clamp, nI_add, pk_mul, pk_sub, forall_eq, true_and, and_true, true_imp_iff, false_imp_iff, not_true_eq_false, not_false_eq_true, implies_true]
  · rw [if_neg a]
    have hM := hM (by omega)
    by_cases b : least (6 * (go - 1) + who (2 * c + t)) < 1000000
    · rw [if_pos b]
      have h2 : least (6 * (go - 1) + who (2 * c + t)) * rate (who (2 * c + t)) < 2 ^ 31 := by
        have := Nat.mul_le_mul (Nat.le_of_lt b) (Nat.le_of_lt hr)
        omega
      unfold fe
      simp (disch := omega) only [wpX_over, pk_div, li_0, li_1, li_2, li_3, li_4, li_5, li_6, li_7, li_8, li_9, li_10, li_11, li_12, li_15, li_16, li_20, li_21, li_24, li_31, li_36, li_100, li_255, li_256, li_1000, li_6000, li_M, un_s, un_n, ba_ap, ba_upd, ba_in, cT_le, cF_le, cT_lt, cF_lt, cT_eq, cF_eq, nb_1, nb_2, ns_1, ns_2, nz_1, nz_2, ng_1, ng_2, ng_3, ng_4, ng_5, nI_clamp, nI_add, pk_mul, pk_sub, forall_eq, true_and, and_true, true_imp_iff, false_imp_iff, not_true_eq_false, not_false_eq_true, implies_true]
    · rw [if_neg b]
      simp (disch := omega) only [wpX_over, li_0, li_1, li_2, li_3, li_4, li_5, li_6, li_7, li_8, li_9, li_10, li_11, li_12, li_15, li_16, li_20, li_21, li_24, li_31, li_36, li_100, li_255, li_256, li_1000, li_6000, li_M, un_s, un_n, ba_ap, ba_upd, ba_in, cT_le, cF_le, cT_lt, cF_lt, cT_eq, cF_eq, nb_1, nb_2, ns_1, ns_2, nz_1, nz_2, ng_1, ng_2, ng_3, ng_4, ng_5, nI_clamp, nI_add, pk_mul, pk_sub, forall_eq, true_and, and_true, true_imp_iff, false_imp_iff, not_true_eq_false, not_false_eq_true, implies_true]
theorem xw_hop8 {post : Int32 → Prop} {p : Nat} (hp : p < 6) (hM : ∀ g, 1 ≤ g → g ≤ 4 → least (6 * g + p) ≤ 1000000) (h : post (nI (hpn (fun g => least (6 * g + p)) 4).1)) : ∀ d g, g + d = 4 → wX_hopsFrom_8 post (nI p) spent (nI now) (nI ch) (nI goal) (nI val) (nI known) (cN coins) (cN up) knows (cN base) (cN rate) guard (cN status) (cN who) (cN latest) (cN row) (cN bal) (cN many) (cN frm) (cN amt) (cN sec) (cN xpy) (cN born) (cN dead) (cN publd) (cN pubs) (cN since) (cN held) (cN outm) (cN least) (cN path) (cN xsum) (d + 1) (nI (hpn (fun g => least (6 * g + p)) g).1) (nI (hpn (fun g => least (6 * g + p)) g).2) (nI (g + 1)) := by
  intro d
  induction d with
  | zero =>
    intro g hg
    have e : g = 4 := by omega
    subst e
    rw [wX_hopsFrom_8]
    simp (disch := omega) only [li_0, li_1, li_2, li_3, li_4, li_5, li_6, li_7, li_8, li_9, li_10, li_11, li_12, li_15, li_16, li_20, li_21, li_24, li_31, li_36, li_100, li_255, li_256, li_1000, li_6000, li_M, un_s, un_n, ba_ap, ba_upd, ba_in, cT_le, cF_le, cT_lt, cF_lt, cT_eq, cF_eq, nb_1, nb_2, ns_1, ns_2, nz_1, nz_2, ng_1, ng_2, ng_3, ng_4, ng_5, nI_clamp, nI_add, pk_mul, pk_sub, forall_eq, true_and, and_true, true_imp_iff, false_imp_iff, not_true_eq_false, not_false_eq_true, implies_true]
    exact h
  | succ d ih =>
    intro g hg
    have i := ih (g + 1) (by omega)
    have m := hM (g + 1) (by omega) (by omega)
    have b : (hpn (fun g => least (6 * g + p)) g).2 ≤ 1000000 := by
      rcases hpn_sp (fun g => least (6 * g + p)) g with ⟨_, q, _⟩ | ⟨_, _, q, q2, _⟩ <;> omega
    have e : hpn (fun g => least (6 * g + p)) (g + 1) = if least (6 * (g + 1) + p) < (hpn (fun g => least (6 * g + p)) g).2 then (g + 1, least (6 * (g + 1) + p)) else hpn (fun g => least (6 * g + p)) g := rfl
    rw [wX_hopsFrom_8]
    by_cases z : least (6 * (g + 1) + p) < (hpn (fun g => least (6 * g + p)) g).2
    · rw [if_pos z] at e
      rw [e] at i
      simp (disch := omega) only [li_0, li_1, li_2, li_3, li_4, li_5, li_6, li_7, li_8, li_9, li_10, li_11, li_12, li_15, li_16, li_20, li_21, li_24, li_31, li_36, li_100, li_255, li_256, li_1000, li_6000, li_M, un_s, un_n, ba_ap, ba_upd, ba_in, cT_le, cF_le, cT_lt, cF_lt, cT_eq, cF_eq, nb_1, nb_2, ns_1, ns_2, nz_1, nz_2, ng_1, ng_2, ng_3, ng_4, ng_5, nI_clamp, nI_add, pk_mul, pk_sub, forall_eq, true_and, and_true, true_imp_iff, false_imp_iff, not_true_eq_false, not_false_eq_true, implies_true]
      exact i
    · rw [if_neg z] at e
      rw [e] at i
      simp (disch := omega) only [li_0, li_1, li_2, li_3, li_4, li_5, li_6, li_7, li_8, li_9, li_10, li_11, li_12, li_15, li_16, li_20, li_21, li_24, li_31, li_36, li_100, li_255, li_256, li_1000, li_6000, li_M, un_s, un_n, ba_ap, ba_upd, ba_in, cT_le, cF_le, cT_lt, cF_lt, cT_eq, cF_eq, nb_1, nb_2, ns_1, ns_2, nz_1, nz_2, ng_1, ng_2, ng_3, ng_4, ng_5, nI_clamp, nI_add, pk_mul, pk_sub, forall_eq, true_and, and_true, true_imp_iff, false_imp_iff, not_true_eq_false, not_false_eq_true, implies_true]
      exact i
theorem xw_hopsFrom {post : Int32 → Prop} {p : Nat} (hp : p < 6) (hM : ∀ g, 1 ≤ g → g ≤ 4 → least (6 * g + p) ≤ 1000000) (h : post (nI (hpn (fun g => least (6 * g + p)) 4).1)) : wpX_hopsFrom post (spent, nI now, nI ch, nI goal, nI val, nI known, cN coins, cN up, knows, cN base, cN rate, guard, cN status, cN who, cN latest, cN row, cN bal, cN many, cN frm, cN amt, cN sec, cN xpy, cN born, cN dead, cN publd, cN pubs, cN since, cN held, cN outm, cN least, cN path, cN xsum) (nI p) := by
  unfold wpX_hopsFrom
  exact ⟨5, xw_hop8 hp hM h 4 0 rfl⟩
end
/-- X's locks alone -/
def RL (a : SA) (x : OX) : Prop := ∀ c, c < ga_ch a → xC a x c
theorem RL_x {a : SA} {x : OX} (R : RL a x) : RX a (xKno x 0) := ⟨R, Or.inl rfl⟩
theorem x2_carries {T : Nat} {a : SA} {x : OX} {c s v : Nat} {post : Int32 → Prop} (I : Inv T a) (R : RL a x) (hc : c < ga_ch a) (hs : s < 2) (hv : v < 2 ^ 31) : wpX_carries post (mX a x) (nI c) (nI s) (nI v) = post (nI (ltN v (capA a c s))) := by
  have c8 := ch8 I hc
  obtain ⟨j1, j2, j3, j4, j5, j6, j7, j8⟩ := I.2.2.2.2.1 c hc
  have hx := (R c hc).1
  have l3 := (j7 _ (Nat.le_refl _)).1
  have eb : ∀ post : Int32 → Prop, wpX_bits post (nI (gx_row x c)) = post (nI (ga_rows a c (ga_latest a c)).length) := by
    intro post
    have h11 : ∀ i, i ∈ ids (gx_many x c) (xT x c) (ga_latest a c) → i < 11 := ids_11 I (RL_x R) hc
    rw [hx.2.2.1, xw_bits (ids_srt _ _ _) h11, hx.2.2.2 _ (Nat.le_refl _), List.length_map]
  unfold capA
  rcases rdy_01 (ga_status a) (ga_up a) (ga_who a) c with r | r
  · rw [if_neg (fun h => absurd (r.symm.trans h.2.2.1) (by decide))]
    simp (disch := omega) only [wpX_carries, mX, xw_isReady c8 j1 j2 j3 (upI I), r, ltN, Nat.not_lt_zero, if_false, li_0, li_1, li_2, li_3, li_4, li_5, li_6, li_7, li_8, li_9, li_10, li_11, li_12, li_15, li_16, li_20, li_21, li_24, li_31, li_36, li_100, li_255, li_256, li_1000, li_6000, li_M, un_s, un_n, ba_ap, ba_upd, ba_in, cT_le, cF_le, cT_lt, cF_lt, cT_eq, cF_eq, nb_1, nb_2, ns_1, ns_2, nz_1, nz_2, ng_1, ng_2, ng_3, ng_4, ng_5, nI_clamp, nI_add, pk_mul, pk_sub, forall_eq, true_and, and_true, true_imp_iff, false_imp_iff, not_true_eq_false, not_false_eq_true, implies_true]
  · have h0 : ga_status a c = 0 := by
      unfold rdy at r
      split at r
      · rename_i h; exact h.1
      · omega
    have ho := inv_open I hc h0 (Nat.le_refl _)
    have hb : ga_bal a (2 * (12 * c + ga_latest a c) + s) ≤ 6000 := by
      rcases (show s = 0 ∨ s = 1 by omega) with rfl | rfl
      · rw [Nat.add_zero]; omega
      · omega
    by_cases l : ga_latest a c < 11
    · by_cases w : (ga_rows a c (ga_latest a c)).length < 3
      · rw [if_pos ⟨hc, hs, r, l, w⟩]
        by_cases u : v < ga_bal a (2 * (12 * c + ga_latest a c) + s) + 1
        · simp (disch := omega) only [wpX_carries, mX, xw_isReady c8 j1 j2 j3 (upI I), r, xw_canChange c8 j5, xw_place, eb, ltN, l, u, if_true, li_0, li_1, li_2, li_3, li_4, li_5, li_6, li_7, li_8, li_9, li_10, li_11, li_12, li_15, li_16, li_20, li_21, li_24, li_31, li_36, li_100, li_255, li_256, li_1000, li_6000, li_M, un_s, un_n, ba_ap, ba_upd, ba_in, cT_le, cF_le, cT_lt, cF_lt, cT_eq, cF_eq, nb_1, nb_2, ns_1, ns_2, nz_1, nz_2, ng_1, ng_2, ng_3, ng_4, ng_5, nI_clamp, nI_add, pk_mul, pk_sub, forall_eq, true_and, and_true, true_imp_iff, false_imp_iff, not_true_eq_false, not_false_eq_true, implies_true]
        · simp (disch := omega) only [wpX_carries, mX, xw_isReady c8 j1 j2 j3 (upI I), r, xw_canChange c8 j5, xw_place, eb, ltN, l, u, if_true, if_false, li_0, li_1, li_2, li_3, li_4, li_5, li_6, li_7, li_8, li_9, li_10, li_11, li_12, li_15, li_16, li_20, li_21, li_24, li_31, li_36, li_100, li_255, li_256, li_1000, li_6000, li_M, un_s, un_n, ba_ap, ba_upd, ba_in, cT_le, cF_le, cT_lt, cF_lt, cT_eq, cF_eq, nb_1, nb_2, ns_1, ns_2, nz_1, nz_2, ng_1, ng_2, ng_3, ng_4, ng_5, nI_clamp, nI_add, pk_mul, pk_sub, forall_eq, true_and, and_true, true_imp_iff, false_imp_iff, not_true_eq_false, not_false_eq_true, implies_true]
      · rw [if_neg (fun h => w h.2.2.2.2)]
        simp (disch := omega) only [wpX_carries, mX, xw_isReady c8 j1 j2 j3 (upI I), r, xw_canChange c8 j5, xw_place, eb, ltN, l, if_true, Nat.not_lt_zero, if_false, li_0, li_1, li_2, li_3, li_4, li_5, li_6, li_7, li_8, li_9, li_10, li_11, li_12, li_15, li_16, li_20, li_21, li_24, li_31, li_36, li_100, li_255, li_256, li_1000, li_6000, li_M, un_s, un_n, ba_ap, ba_upd, ba_in, cT_le, cF_le, cT_lt, cF_lt, cT_eq, cF_eq, nb_1, nb_2, ns_1, ns_2, nz_1, nz_2, ng_1, ng_2, ng_3, ng_4, ng_5, nI_clamp, nI_add, pk_mul, pk_sub, forall_eq, true_and, and_true, true_imp_iff, false_imp_iff, not_true_eq_false, not_false_eq_true, implies_true]
    · rw [if_neg (fun h => l h.2.2.2.1)]
      simp (disch := omega) only [wpX_carries, mX, xw_isReady c8 j1 j2 j3 (upI I), r, xw_canChange c8 j5, ltN, l, Nat.not_lt_zero, if_false, li_0, li_1, li_2, li_3, li_4, li_5, li_6, li_7, li_8, li_9, li_10, li_11, li_12, li_15, li_16, li_20, li_21, li_24, li_31, li_36, li_100, li_255, li_256, li_1000, li_6000, li_M, un_s, un_n, ba_ap, ba_upd, ba_in, cT_le, cF_le, cT_lt, cF_lt, cT_eq, cF_eq, nb_1, nb_2, ns_1, ns_2, nz_1, nz_2, ng_1, ng_2, ng_3, ng_4, ng_5, nI_clamp, nI_add, pk_mul, pk_sub, forall_eq, true_and, and_true, true_imp_iff, false_imp_iff, not_true_eq_false, not_false_eq_true, implies_true]
theorem cap_M {T : Nat} {a : SA} (I : Inv T a) : ∀ c s, capA a c s ≤ 1000000 := by
  intro c s
  unfold capA
  split
  · rename_i h
    obtain ⟨hc, hs, r, l, w⟩ := h
    have h0 : ga_status a c = 0 := by
      unfold rdA rdy at r
      split at r
      · rename_i h; exact h.1
      · omega
    have ho := inv_open I hc h0 (Nat.le_refl _)
    rcases (show s = 0 ∨ s = 1 by omega) with rfl | rfl
    · rw [Nat.add_zero (2 * (12 * c + ga_latest a c))]; omega
    · omega
  · omega
theorem cap_rd {a : SA} : ∀ c s o, o < capA a c s → rdA a c = 1 := by
  intro c s o h
  unfold capA at h
  split at h
  · rename_i z; exact z.2.2.1
  · omega
def hA (a : SA) (q v g p c : Nat) : Nat := hh (ga_ch a) q v (ga_who a) (ga_base a) (ga_rate a) (capA a) g p c
/-- the table's row below is right -/
def tbl (a : SA) (x : OX) (g : Nat) : Prop := ∀ p, p < 6 → gx_least x (6 * g + p) = lsA a (gx_goal x) (gx_val x) g p
theorem x2_over {T : Nat} {a : SA} {x : OX} {c s g p : Nat} {post : Int32 → Prop} (I : Inv T a) (hc : c < ga_ch a) (hs : s < 2) (hg : g < 4) (hsd : sd (ga_who a) c p = s) (hq : gx_goal x < 6) (ht : 1 ≤ g → tbl a x g) : wpX_over post (mX a x) (nI c) (nI (1 - s)) (nI (g + 1)) = post (nI (ob (gx_goal x) (gx_val x) (ga_base a) (ga_rate a) (g + 1) (ot (ga_who a) c p) (lsA a (gx_goal x) (gx_val x) g (ot (ga_who a) c p)))) := by
  have c8 := ch8 I hc
  obtain ⟨j1, j2, j3, j4, j5, j6, j7, j8⟩ := I.2.2.2.2.1 c hc
  obtain ⟨s1, s2, s3⟩ := sI_s hsd hs
  have e0 : 2 * c + (1 - s) = 2 * c + 1 - s := by omega
  have hw : ga_who a (2 * c + (1 - s)) < 6 := by
    rcases (show s = 0 ∨ s = 1 by omega) with rfl | rfl
    · exact j3
    · exact j2
  have hp := I.2.2.1 _ hw
  have e := xw_over (post := post) (spent := ga_spent a) (now := ga_now a) (ch := ga_ch a) (goal := gx_goal x) (val := gx_val x) (known := gx_known x) (coins := ga_coins a) (up := ga_up a) (knows := ga_knows a) (base := ga_base a) (rate := ga_rate a) (guard := ga_guard a) (status := ga_status a) (who := ga_who a) (latest := ga_latest a) (row := gx_row x) (bal := ga_bal a) (many := gx_many x) (frm := gx_frm x) (amt := gx_amt x) (sec := gx_sec x) (xpy := gx_xpy x) (born := gx_born x) (dead := gx_dead x) (publd := ga_publd a) (pubs := ga_pubs a) (since := ga_since a) (held := ga_held a) (outm := gx_outm x) (least := gx_least x) (path := gx_path x) (xsum := gx_xsum x) (c := c) (t := 1 - s) (go := g + 1) c8 (by omega) hw (by omega) (by omega) (fun h => by
    rw [Nat.add_sub_cancel, ht (by omega) _ hw]; exact lst_M _ _) hp.2.1 hp.2.2 (by omega)
  refine Eq.trans e ?_
  rw [Nat.add_sub_cancel, e0, s3]
  by_cases z : 1 ≤ g
  · rw [e0, s3] at hw
    rw [ht z _ hw]
  · have z : g = 0 := by omega
    subst z
    rfl
theorem us_n {who : Nat → Nat} {cap : Nat → Nat → Nat} {c p o : Nat} (h : ¬ sd who c p < 2) : us who cap c p o = 1000000 := if_neg (fun z => h z.1)
theorem x2_lf6 {T : Nat} {a : SA} {x : OX} {g p : Nat} {post : Int32 → Prop} (I : Inv T a) (R : RL a x) (hp : p < 6) (hg : g < 4) (hq : gx_goal x < 6) (hv : gx_val x < 256) (ht : 1 ≤ g → tbl a x g) (h : post (nI (lsA a (gx_goal x) (gx_val x) (g + 1) p))) : ∀ d c, c + d = ga_ch a → wX_leastFrom_6 post (nI p) (nI (g + 1)) (ga_spent a) (nI (ga_now a)) (nI (ga_ch a)) (nI (gx_goal x)) (nI (gx_val x)) (nI (gx_known x)) (cN (ga_coins a)) (cN (ga_up a)) (ga_knows a) (cN (ga_base a)) (cN (ga_rate a)) (ga_guard a) (cN (ga_status a)) (cN (ga_who a)) (cN (ga_latest a)) (cN (gx_row x)) (cN (ga_bal a)) (cN (gx_many x)) (cN (gx_frm x)) (cN (gx_amt x)) (cN (gx_sec x)) (cN (gx_xpy x)) (cN (gx_born x)) (cN (gx_dead x)) (cN (ga_publd a)) (cN (ga_pubs a)) (cN (ga_since a)) (cN (ga_held a)) (cN (gx_outm x)) (cN (gx_least x)) (cN (gx_path x)) (cN (gx_xsum x)) (d + 1) (nI (mnr (hA a (gx_goal x) (gx_val x) g p) c)) (nI c) := by
  have ch := I.1
  intro d
  induction d with
  | zero =>
    intro c hc
    have e : c = ga_ch a := by omega
    rw [wX_leastFrom_6]
    simp (disch := omega) only [li_0, li_1, li_2, li_3, li_4, li_5, li_6, li_7, li_8, li_9, li_10, li_11, li_12, li_15, li_16, li_20, li_21, li_24, li_31, li_36, li_100, li_255, li_256, li_1000, li_6000, li_M, un_s, un_n, ba_ap, ba_upd, ba_in, cT_le, cF_le, cT_lt, cF_lt, cT_eq, cF_eq, nb_1, nb_2, ns_1, ns_2, nz_1, nz_2, ng_1, ng_2, ng_3, ng_4, ng_5, nI_clamp, nI_add, pk_mul, pk_sub, forall_eq, true_and, and_true, true_imp_iff, false_imp_iff, not_true_eq_false, not_false_eq_true, implies_true]
    rw [e]
    exact h
  | succ d ih =>
    intro c hcd
    have i := ih (c + 1) (by omega)
    have hc : c < ga_ch a := by omega
    have c8 := ch8 I hc
    obtain ⟨j1, j2, j3, j4, j5, j6, j7, j8⟩ := I.2.2.2.2.1 c hc
    have bm := (mnr_le (hA a (gx_goal x) (gx_val x) g p) c).1
    have em : mnr (hA a (gx_goal x) (gx_val x) g p) (c + 1) = if hA a (gx_goal x) (gx_val x) g p c < mnr (hA a (gx_goal x) (gx_val x) g p) c then hA a (gx_goal x) (gx_val x) g p c else mnr (hA a (gx_goal x) (gx_val x) g p) c := rfl
    have p31 : p < 2 ^ 31 := by omega
    rw [wX_leastFrom_6]
    by_cases z : sd (ga_who a) c p < 2
    · obtain ⟨s1, s2, s3⟩ := sI_s rfl z
      have eh : hA a (gx_goal x) (gx_val x) g p c = us (ga_who a) (capA a) c p (ob (gx_goal x) (gx_val x) (ga_base a) (ga_rate a) (g + 1) (ot (ga_who a) c p) (lsA a (gx_goal x) (gx_val x) g (ot (ga_who a) c p))) := rfl
      have eo := fun post => x2_over (post := post) (p := p) I hc z hg rfl hq ht
      have ec := fun post v hv => x2_carries (post := post) (c := c) (s := sd (ga_who a) c p) (v := v) I R hc z hv
      have hb : ob (gx_goal x) (gx_val x) (ga_base a) (ga_rate a) (g + 1) (ot (ga_who a) c p) (lsA a (gx_goal x) (gx_val x) g (ot (ga_who a) c p)) < 2 ^ 31 := by
        unfold ob
        split
        · split <;> omega
        · split
          · rename_i y
            have hw : ot (ga_who a) c p < 6 := by
              unfold ot; split
              · exact j3
              · exact j2
            have hbr := I.2.2.1 _ hw
            unfold fe
            have := Nat.mul_le_mul (Nat.le_of_lt y) (Nat.le_of_lt hbr.2.2)
            omega
          · omega
      generalize ob (gx_goal x) (gx_val x) (ga_base a) (ga_rate a) (g + 1) (ot (ga_who a) c p) (lsA a (gx_goal x) (gx_val x) g (ot (ga_who a) c p)) = o at eh eo hb
      have eu : us (ga_who a) (capA a) c p o = if o < capA a c (sd (ga_who a) c p) then o else 1000000 := by
        unfold us
        by_cases y : o < capA a c (sd (ga_who a) c p)
        · rw [if_pos ⟨z, y⟩, if_pos y]
        · rw [if_neg (fun h => y h.2), if_neg y]
      rw [eu] at eh
      simp (disch := omega) only [xw_sideOf c8 p31 j2 j3, s1, li_0, li_1, li_2, li_3, li_4, li_5, li_6, li_7, li_8, li_9, li_10, li_11, li_12, li_15, li_16, li_20, li_21, li_24, li_31, li_36, li_100, li_255, li_256, li_1000, li_6000, li_M, un_s, un_n, ba_ap, ba_upd, ba_in, cT_le, cF_le, cT_lt, cF_lt, cT_eq, cF_eq, nb_1, nb_2, ns_1, ns_2, nz_1, nz_2, ng_1, ng_2, ng_3, ng_4, ng_5, nI_clamp, nI_add, pk_mul, pk_sub, forall_eq, true_and, and_true, true_imp_iff, false_imp_iff, not_true_eq_false, not_false_eq_true, implies_true]
      refine Eq.mpr (eo _) ?_
      by_cases y : mnr (hA a (gx_goal x) (gx_val x) g p) c ≤ o
      · have en : ¬ hA a (gx_goal x) (gx_val x) g p c < mnr (hA a (gx_goal x) (gx_val x) g p) c := by
          rw [eh]; split <;> omega
        rw [if_neg en] at em
        rw [em] at i
        simp (disch := omega) only [li_0, li_1, li_2, li_3, li_4, li_5, li_6, li_7, li_8, li_9, li_10, li_11, li_12, li_15, li_16, li_20, li_21, li_24, li_31, li_36, li_100, li_255, li_256, li_1000, li_6000, li_M, un_s, un_n, ba_ap, ba_upd, ba_in, cT_le, cF_le, cT_lt, cF_lt, cT_eq, cF_eq, nb_1, nb_2, ns_1, ns_2, nz_1, nz_2, ng_1, ng_2, ng_3, ng_4, ng_5, nI_clamp, nI_add, pk_mul, pk_sub, forall_eq, true_and, and_true, true_imp_iff, false_imp_iff, not_true_eq_false, not_false_eq_true, implies_true]
        exact i
      · simp (disch := omega) only [li_0, li_1, li_2, li_3, li_4, li_5, li_6, li_7, li_8, li_9, li_10, li_11, li_12, li_15, li_16, li_20, li_21, li_24, li_31, li_36, li_100, li_255, li_256, li_1000, li_6000, li_M, un_s, un_n, ba_ap, ba_upd, ba_in, cT_le, cF_le, cT_lt, cF_lt, cT_eq, cF_eq, nb_1, nb_2, ns_1, ns_2, nz_1, nz_2, ng_1, ng_2, ng_3, ng_4, ng_5, nI_clamp, nI_add, pk_mul, pk_sub, forall_eq, true_and, and_true, true_imp_iff, false_imp_iff, not_true_eq_false, not_false_eq_true, implies_true]
        refine Eq.mpr (ec _ o hb) ?_
        by_cases w : o < capA a c (sd (ga_who a) c p)
        · rw [if_pos w] at eh
          rw [if_pos (by omega), eh] at em
          rw [em] at i
          simp (disch := omega) only [ltN, w, if_true, li_0, li_1, li_2, li_3, li_4, li_5, li_6, li_7, li_8, li_9, li_10, li_11, li_12, li_15, li_16, li_20, li_21, li_24, li_31, li_36, li_100, li_255, li_256, li_1000, li_6000, li_M, un_s, un_n, ba_ap, ba_upd, ba_in, cT_le, cF_le, cT_lt, cF_lt, cT_eq, cF_eq, nb_1, nb_2, ns_1, ns_2, nz_1, nz_2, ng_1, ng_2, ng_3, ng_4, ng_5, nI_clamp, nI_add, pk_mul, pk_sub, forall_eq, true_and, and_true, true_imp_iff, false_imp_iff, not_true_eq_false, not_false_eq_true, implies_true]
          exact i
        · rw [if_neg w] at eh
          rw [if_neg (by omega)] at em
          rw [em] at i
          simp (disch := omega) only [ltN, w, if_false, li_0, li_1, li_2, li_3, li_4, li_5, li_6, li_7, li_8, li_9, li_10, li_11, li_12, li_15, li_16, li_20, li_21, li_24, li_31, li_36, li_100, li_255, li_256, li_1000, li_6000, li_M, un_s, un_n, ba_ap, ba_upd, ba_in, cT_le, cF_le, cT_lt, cF_lt, cT_eq, cF_eq, nb_1, nb_2, ns_1, ns_2, nz_1, nz_2, ng_1, ng_2, ng_3, ng_4, ng_5, nI_clamp, nI_add, pk_mul, pk_sub, forall_eq, true_and, and_true, true_imp_iff, false_imp_iff, not_true_eq_false, not_false_eq_true, implies_true]
          exact i
    · have s1 := sI_n z
      have en : ¬ hA a (gx_goal x) (gx_val x) g p c < mnr (hA a (gx_goal x) (gx_val x) g p) c := by
        unfold hA hh
        rw [us_n z]; unfold hA hh at bm; omega
      rw [if_neg en] at em
      rw [em] at i
      simp (disch := omega) only [xw_sideOf c8 p31 j2 j3, s1, li_0, li_1, li_2, li_3, li_4, li_5, li_6, li_7, li_8, li_9, li_10, li_11, li_12, li_15, li_16, li_20, li_21, li_24, li_31, li_36, li_100, li_255, li_256, li_1000, li_6000, li_M, un_s, un_n, ba_ap, ba_upd, ba_in, cT_le, cF_le, cT_lt, cF_lt, cT_eq, cF_eq, nb_1, nb_2, ns_1, ns_2, nz_1, nz_2, ng_1, ng_2, ng_3, ng_4, ng_5, nI_clamp, nI_add, pk_mul, pk_sub, forall_eq, true_and, and_true, true_imp_iff, false_imp_iff, not_true_eq_false, not_false_eq_true, implies_true]
      exact i
end
section
def csA (a : SA) (q v p : Nat) (l : List Nat) : Nat := cst q v (ga_who a) (ga_base a) (ga_rate a) (capA a) p l
def grA (a : SA) (q v g p : Nat) : List Nat := grd (ga_ch a) q v (ga_who a) (ga_base a) (ga_rate a) (capA a) g p
def TT (a : SA) (q v : Nat) (f : Nat → Nat) (m : Nat) : Prop := ∀ g p, 1 ≤ g → g ≤ m → p < 6 → f (6 * g + p) = lsA a q v g p
def wrt (a : SA) (q v : Nat) (pa su : Nat → Nat) : Nat → Nat → List Nat → Prop
  | _, _, [] => True
  | i, p, c :: l => pa i = c ∧ su i = csA a q v p (c :: l) ∧ wrt a q v pa su (i + 1) (ot (ga_who a) c p) l
def hpA (a : SA) (q v p : Nat) : Nat := (hpn (fun g => lsA a q v g p) 4).1
theorem hpn_congr {f g : Nat → Nat} : ∀ k, (∀ i, 1 ≤ i → i ≤ k → f i = g i) → hpn f k = hpn g k := by
  intro k
  induction k with
  | zero => intro _; rfl
  | succ k ih =>
    intro h
    unfold hpn
    rw [ih fun i a b => h i a (by omega), h (k + 1) (by omega) (by omega)]
theorem x2_lf {T : Nat} {a : SA} {x : OX} {g p : Nat} {post : Int32 → Prop} (I : Inv T a) (R : RL a x) (hp : p < 6) (hg : g < 4) (hq : gx_goal x < 6) (hv : gx_val x < 256) (ht : 1 ≤ g → tbl a x g) (h : post (nI (lsA a (gx_goal x) (gx_val x) (g + 1) p))) : wpX_leastFrom post (mX a x) (nI p) (nI (g + 1)) := by
  have k := x2_lf6 I R hp hg hq hv ht h (ga_ch a) 0 (by omega)
  rw [show mnr (hA a (gx_goal x) (gx_val x) g p) 0 = 1000000 from rfl, ← li_M, ← li_0] at k
  exact ⟨_, k⟩
theorem x2_s49 {T : Nat} {a : SA} {x : OX} {q v g : Nat} {post : SX → Prop} {J : Int32 → (Nat → Int32) → (Nat → Int32) → (Nat → Int32) → (Nat → Int32) → (Nat → Int32) → (Nat → Int32) → (Nat → Int32) → (Nat → Int32) → (Nat → Int32) → (Nat → Int32) → (Nat → Int32) → (Nat → Int32) → (Nat → Int32) → (Nat → Int32) → (Nat → Int32) → (Nat → Int32) → (Nat → Int32) → (Nat → Int32) → (Nat → Int32) → (Nat → Int32) → (Nat → Int32) → (Nat → Int32) → (Nat → Int32) → (Nat → Int32) → (Nat → Int32) → (Nat → Int32) → Prop} (I : Inv T a) (R : RL a x) (hq : q < 6) (hv : v < 256) (hg : g < 4) :
    ∀ d p f, p + d = 6 → TT a q v f g → (∀ p', p' < p → f (6 * (g + 1) + p') = lsA a q v (g + 1) p') → (∀ f', TT a q v f' (g + 1) → J (nI (g + 1 + 1)) (cN (ga_coins a)) (cN (ga_up a)) (ga_knows a) (cN (ga_base a)) (cN (ga_rate a)) (ga_guard a) (cN (ga_status a)) (cN (ga_who a)) (cN (ga_latest a)) (cN (gx_row (xTab x q v 1 f'))) (cN (ga_bal a)) (cN (gx_many (xTab x q v 1 f'))) (cN (gx_frm (xTab x q v 1 f'))) (cN (gx_amt (xTab x q v 1 f'))) (cN (gx_sec (xTab x q v 1 f'))) (cN (gx_xpy (xTab x q v 1 f'))) (cN (gx_born (xTab x q v 1 f'))) (cN (gx_dead (xTab x q v 1 f'))) (cN (ga_publd a)) (cN (ga_pubs a)) (cN (ga_since a)) (cN (ga_held a)) (cN (gx_outm (xTab x q v 1 f'))) (cN (gx_least (xTab x q v 1 f'))) (cN (gx_path (xTab x q v 1 f'))) (cN (gx_xsum (xTab x q v 1 f')))) → wX_search_49 post J (nI (g + 1)) (ga_spent a) (nI (ga_now a)) (nI (ga_ch a)) (nI (gx_goal (xTab x q v 1 f))) (nI (gx_val (xTab x q v 1 f))) (nI (gx_known (xTab x q v 1 f))) (d + 1) (nI p) (cN (ga_coins a)) (cN (ga_up a)) (ga_knows a) (cN (ga_base a)) (cN (ga_rate a)) (ga_guard a) (cN (ga_status a)) (cN (ga_who a)) (cN (ga_latest a)) (cN (gx_row (xTab x q v 1 f))) (cN (ga_bal a)) (cN (gx_many (xTab x q v 1 f))) (cN (gx_frm (xTab x q v 1 f))) (cN (gx_amt (xTab x q v 1 f))) (cN (gx_sec (xTab x q v 1 f))) (cN (gx_xpy (xTab x q v 1 f))) (cN (gx_born (xTab x q v 1 f))) (cN (gx_dead (xTab x q v 1 f))) (cN (ga_publd a)) (cN (ga_pubs a)) (cN (ga_since a)) (cN (ga_held a)) (cN (gx_outm (xTab x q v 1 f))) (cN (gx_least (xTab x q v 1 f))) (cN (gx_path (xTab x q v 1 f))) (cN (gx_xsum (xTab x q v 1 f))) := by
  intro d
  induction d with
  | zero =>
    intro p f hp ht hr h
    rw [wX_search_49]
    simp (disch := omega) only [li_0, li_1, li_2, li_3, li_4, li_5, li_6, li_7, li_8, li_9, li_10, li_11, li_12, li_15, li_16, li_20, li_21, li_24, li_31, li_36, li_100, li_255, li_256, li_1000, li_6000, li_M, un_s, un_n, ba_ap, ba_upd, ba_in, cT_le, cF_le, cT_lt, cF_lt, cT_eq, cF_eq, nb_1, nb_2, ns_1, ns_2, nz_1, nz_2, ng_1, ng_2, ng_3, ng_4, ng_5, nI_clamp, nI_add, pk_mul, pk_sub, forall_eq, true_and, and_true, true_imp_iff, false_imp_iff, not_true_eq_false, not_false_eq_true, implies_true]
    refine h f (fun g' p' h1 h2 h3 => ?_)
    by_cases e : g' = g + 1
    · subst e; exact hr p' (by omega)
    · exact ht g' p' h1 (by omega) h3
  | succ d ih =>
    intro p f hp ht hr h
    rw [wX_search_49]
    simp (disch := omega) only [li_0, li_1, li_2, li_3, li_4, li_5, li_6, li_7, li_8, li_9, li_10, li_11, li_12, li_15, li_16, li_20, li_21, li_24, li_31, li_36, li_100, li_255, li_256, li_1000, li_6000, li_M, un_s, un_n, ba_ap, ba_upd, ba_in, cT_le, cF_le, cT_lt, cF_lt, cT_eq, cF_eq, nb_1, nb_2, ns_1, ns_2, nz_1, nz_2, ng_1, ng_2, ng_3, ng_4, ng_5, nI_clamp, nI_add, pk_mul, pk_sub, forall_eq, true_and, and_true, true_imp_iff, false_imp_iff, not_true_eq_false, not_false_eq_true, implies_true]
    have RR : RL a (xTab x q v 1 f) := R
    refine x2_lf (x := xTab x q v 1 f) I RR (by omega) hg hq hv (fun h1 p' hp' => ht g p' h1 (Nat.le_refl _) hp') ?_
    have k := ih (p + 1) (un f (6 * (g + 1) + p) (lsA a q v (g + 1) p)) (by omega) (fun g' p' h1 h2 h3 => by
      rw [un_n (by omega)]; exact ht g' p' h1 h2 h3) (fun p' hp' => by
      by_cases e : p' = p
      · rw [e, un_s]
      · rw [un_n (by omega)]; exact hr p' (by omega)) h
    simp only [xTab_goal, xTab_val, xTab_known, xTab_row, xTab_many, xTab_frm, xTab_amt, xTab_sec, xTab_xpy, xTab_born, xTab_dead, xTab_outm, xTab_least, xTab_path, xTab_xsum] at k ⊢
    simp (disch := omega) only [li_0, li_1, li_2, li_3, li_4, li_5, li_6, li_7, li_8, li_9, li_10, li_11, li_12, li_15, li_16, li_20, li_21, li_24, li_31, li_36, li_100, li_255, li_256, li_1000, li_6000, li_M, un_s, un_n, ba_ap, ba_upd, ba_in, cT_le, cF_le, cT_lt, cF_lt, cT_eq, cF_eq, nb_1, nb_2, ns_1, ns_2, nz_1, nz_2, ng_1, ng_2, ng_3, ng_4, ng_5, nI_clamp, nI_add, pk_mul, pk_sub, forall_eq, true_and, and_true, true_imp_iff, false_imp_iff, not_true_eq_false, not_false_eq_true, implies_true]
    exact k
theorem x2_s41 {T : Nat} {a : SA} {x : OX} {q v : Nat} {post : SX → Prop} (I : Inv T a) (R : RL a x) (hq : q < 6) (hv : v < 256) (h : ∀ f', TT a q v f' 4 → post (mX a (xTab x q v 1 f'))) :
    ∀ d g f, g + d = 4 → TT a q v f g → wX_search_41 post (ga_spent a) (nI (ga_now a)) (nI (ga_ch a)) (nI (gx_goal (xTab x q v 1 f))) (nI (gx_val (xTab x q v 1 f))) (nI (gx_known (xTab x q v 1 f))) (d + 1) (nI (g + 1)) (cN (ga_coins a)) (cN (ga_up a)) (ga_knows a) (cN (ga_base a)) (cN (ga_rate a)) (ga_guard a) (cN (ga_status a)) (cN (ga_who a)) (cN (ga_latest a)) (cN (gx_row (xTab x q v 1 f))) (cN (ga_bal a)) (cN (gx_many (xTab x q v 1 f))) (cN (gx_frm (xTab x q v 1 f))) (cN (gx_amt (xTab x q v 1 f))) (cN (gx_sec (xTab x q v 1 f))) (cN (gx_xpy (xTab x q v 1 f))) (cN (gx_born (xTab x q v 1 f))) (cN (gx_dead (xTab x q v 1 f))) (cN (ga_publd a)) (cN (ga_pubs a)) (cN (ga_since a)) (cN (ga_held a)) (cN (gx_outm (xTab x q v 1 f))) (cN (gx_least (xTab x q v 1 f))) (cN (gx_path (xTab x q v 1 f))) (cN (gx_xsum (xTab x q v 1 f))) := by
  intro d
  induction d with
  | zero =>
    intro g f hg ht
    have e : g = 4 := by omega
    subst e
    rw [wX_search_41]
    simp (disch := omega) only [li_0, li_1, li_2, li_3, li_4, li_5, li_6, li_7, li_8, li_9, li_10, li_11, li_12, li_15, li_16, li_20, li_21, li_24, li_31, li_36, li_100, li_255, li_256, li_1000, li_6000, li_M, un_s, un_n, ba_ap, ba_upd, ba_in, cT_le, cF_le, cT_lt, cF_lt, cT_eq, cF_eq, nb_1, nb_2, ns_1, ns_2, nz_1, nz_2, ng_1, ng_2, ng_3, ng_4, ng_5, nI_clamp, nI_add, pk_mul, pk_sub, forall_eq, true_and, and_true, true_imp_iff, false_imp_iff, not_true_eq_false, not_false_eq_true, implies_true]
    exact h f ht
  | succ d ih =>
    intro g f hg ht
    rw [wX_search_41]
    simp (disch := omega) only [li_0, li_1, li_2, li_3, li_4, li_5, li_6, li_7, li_8, li_9, li_10, li_11, li_12, li_15, li_16, li_20, li_21, li_24, li_31, li_36, li_100, li_255, li_256, li_1000, li_6000, li_M, un_s, un_n, ba_ap, ba_upd, ba_in, cT_le, cF_le, cT_lt, cF_lt, cT_eq, cF_eq, nb_1, nb_2, ns_1, ns_2, nz_1, nz_2, ng_1, ng_2, ng_3, ng_4, ng_5, nI_clamp, nI_add, pk_mul, pk_sub, forall_eq, true_and, and_true, true_imp_iff, false_imp_iff, not_true_eq_false, not_false_eq_true, implies_true]
    exact ⟨_, x2_s49 I R hq hv (by omega) 6 0 f (by omega) ht (fun p' hp' => absurd hp' (Nat.not_lt_zero _)) (fun f' ht' => ih (g + 1) f' (by omega) ht')⟩
theorem x2_search {T : Nat} {a : SA} {x : OX} {q v : Nat} {post : SX → Prop} (I : Inv T a) (R : RX a x) (hq : q < 6) (hv : v < 256) (h : ∀ f', TT a q v f' 4 → post (mX a (xTab x q v 1 f'))) : wpX_search post (mX a x) (nI q) (nI v) := by
  have go : wX_search_24 post (nI q) (nI v) (ga_spent a) (nI (ga_now a)) (nI (ga_ch a)) (nI (gx_goal x)) (nI (gx_val x)) (nI (gx_known x)) (cN (ga_coins a)) (cN (ga_up a)) (ga_knows a) (cN (ga_base a)) (cN (ga_rate a)) (ga_guard a) (cN (ga_status a)) (cN (ga_who a)) (cN (ga_latest a)) (cN (gx_row x)) (cN (ga_bal a)) (cN (gx_many x)) (cN (gx_frm x)) (cN (gx_amt x)) (cN (gx_sec x)) (cN (gx_xpy x)) (cN (gx_born x)) (cN (gx_dead x)) (cN (ga_publd a)) (cN (ga_pubs a)) (cN (ga_since a)) (cN (ga_held a)) (cN (gx_outm x)) (cN (gx_least x)) (cN (gx_path x)) (cN (gx_xsum x)) := by
    unfold wX_search_24
    exact ⟨_, x2_s41 I R.1 hq hv h 4 0 (gx_least x) rfl (fun g p h1 h2 h3 => by omega)⟩
  rcases R.2 with k | ⟨k1, k2, k3, k4⟩
  · simp (disch := omega) only [wpX_search, mX, k, li_0, li_1, li_2, li_3, li_4, li_5, li_6, li_7, li_8, li_9, li_10, li_11, li_12, li_15, li_16, li_20, li_21, li_24, li_31, li_36, li_100, li_255, li_256, li_1000, li_6000, li_M, un_s, un_n, ba_ap, ba_upd, ba_in, cT_le, cF_le, cT_lt, cF_lt, cT_eq, cF_eq, nb_1, nb_2, ns_1, ns_2, nz_1, nz_2, ng_1, ng_2, ng_3, ng_4, ng_5, nI_clamp, nI_add, pk_mul, pk_sub, forall_eq, true_and, and_true, true_imp_iff, false_imp_iff, not_true_eq_false, not_false_eq_true, implies_true]
    rw [k] at go
    exact go
  · by_cases e1 : gx_goal x = q
    · by_cases e2 : gx_val x = v
      · simp (disch := omega) only [wpX_search, mX, li_0, li_1, li_2, li_3, li_4, li_5, li_6, li_7, li_8, li_9, li_10, li_11, li_12, li_15, li_16, li_20, li_21, li_24, li_31, li_36, li_100, li_255, li_256, li_1000, li_6000, li_M, un_s, un_n, ba_ap, ba_upd, ba_in, cT_le, cF_le, cT_lt, cF_lt, cT_eq, cF_eq, nb_1, nb_2, ns_1, ns_2, nz_1, nz_2, ng_1, ng_2, ng_3, ng_4, ng_5, nI_clamp, nI_add, pk_mul, pk_sub, forall_eq, true_and, and_true, true_imp_iff, false_imp_iff, not_true_eq_false, not_false_eq_true, implies_true]
        have r := h (gx_least x) (fun g p h1 h2 h3 => by rw [← e1, ← e2]; exact k4 g p h1 h2 h3)
        rw [← e1, ← e2, ← k1] at r
        exact r
      · simp (disch := omega) only [wpX_search, mX, li_0, li_1, li_2, li_3, li_4, li_5, li_6, li_7, li_8, li_9, li_10, li_11, li_12, li_15, li_16, li_20, li_21, li_24, li_31, li_36, li_100, li_255, li_256, li_1000, li_6000, li_M, un_s, un_n, ba_ap, ba_upd, ba_in, cT_le, cF_le, cT_lt, cF_lt, cT_eq, cF_eq, nb_1, nb_2, ns_1, ns_2, nz_1, nz_2, ng_1, ng_2, ng_3, ng_4, ng_5, nI_clamp, nI_add, pk_mul, pk_sub, forall_eq, true_and, and_true, true_imp_iff, false_imp_iff, not_true_eq_false, not_false_eq_true, implies_true]
        exact go
    · simp (disch := omega) only [wpX_search, mX, li_0, li_1, li_2, li_3, li_4, li_5, li_6, li_7, li_8, li_9, li_10, li_11, li_12, li_15, li_16, li_20, li_21, li_24, li_31, li_36, li_100, li_255, li_256, li_1000, li_6000, li_M, un_s, un_n, ba_ap, ba_upd, ba_in, cT_le, cF_le, cT_lt, cF_lt, cT_eq, cF_eq, nb_1, nb_2, ns_1, ns_2, nz_1, nz_2, ng_1, ng_2, ng_3, ng_4, ng_5, nI_clamp, nI_add, pk_mul, pk_sub, forall_eq, true_and, and_true, true_imp_iff, false_imp_iff, not_true_eq_false, not_false_eq_true, implies_true]
      exact go
theorem x2_fo6 {T : Nat} {a : SA} {x : OX} {g p : Nat} {post : Int32 → Prop} {due : Nat} (I : Inv T a) (R : RL a x) (hp : p < 6) (hg : g < 4) (hq : gx_goal x < 6) (hv : gx_val x < 256) (ht : 1 ≤ g → tbl a x g) (hd : due < 1000000) : ∀ d c, c + d = ga_ch a → post (nI (ff (hA a (gx_goal x) (gx_val x) g p) due d c)) → wX_firstOver_6 post (nI p) (nI (g + 1)) (nI due) (ga_spent a) (nI (ga_now a)) (nI (ga_ch a)) (nI (gx_goal x)) (nI (gx_val x)) (nI (gx_known x)) (cN (ga_coins a)) (cN (ga_up a)) (ga_knows a) (cN (ga_base a)) (cN (ga_rate a)) (ga_guard a) (cN (ga_status a)) (cN (ga_who a)) (cN (ga_latest a)) (cN (gx_row x)) (cN (ga_bal a)) (cN (gx_many x)) (cN (gx_frm x)) (cN (gx_amt x)) (cN (gx_sec x)) (cN (gx_xpy x)) (cN (gx_born x)) (cN (gx_dead x)) (cN (ga_publd a)) (cN (ga_pubs a)) (cN (ga_since a)) (cN (ga_held a)) (cN (gx_outm x)) (cN (gx_least x)) (cN (gx_path x)) (cN (gx_xsum x)) (d + 2) (nI c) (nI 0) := by
  have ch := I.1
  intro d
  induction d with
  | zero =>
    intro c hc h
    rw [wX_firstOver_6]
    simp (disch := omega) only [li_0, li_1, li_2, li_3, li_4, li_5, li_6, li_7, li_8, li_9, li_10, li_11, li_12, li_15, li_16, li_20, li_21, li_24, li_31, li_36, li_100, li_255, li_256, li_1000, li_6000, li_M, un_s, un_n, ba_ap, ba_upd, ba_in, cT_le, cF_le, cT_lt, cF_lt, cT_eq, cF_eq, nb_1, nb_2, ns_1, ns_2, nz_1, nz_2, ng_1, ng_2, ng_3, ng_4, ng_5, nI_clamp, nI_add, pk_mul, pk_sub, forall_eq, true_and, and_true, true_imp_iff, false_imp_iff, not_true_eq_false, not_false_eq_true, implies_true]
    exact h
  | succ d ih =>
    intro c hcd h
    have i := fun h => ih (c + 1) (by omega) h
    have hc : c < ga_ch a := by omega
    have c8 := ch8 I hc
    obtain ⟨j1, j2, j3, j4, j5, j6, j7, j8⟩ := I.2.2.2.2.1 c hc
    have p31 : p < 2 ^ 31 := by omega
    have ef : ff (hA a (gx_goal x) (gx_val x) g p) due (d + 1) c = if hA a (gx_goal x) (gx_val x) g p c = due then c else ff (hA a (gx_goal x) (gx_val x) g p) due d (c + 1) := rfl
    rw [ef] at h
    rw [show d + 1 + 2 = (d + 2) + 1 by omega, wX_firstOver_6]
    by_cases z : sd (ga_who a) c p < 2
    · obtain ⟨s1, s2, s3⟩ := sI_s rfl z
      have eh : hA a (gx_goal x) (gx_val x) g p c = us (ga_who a) (capA a) c p (ob (gx_goal x) (gx_val x) (ga_base a) (ga_rate a) (g + 1) (ot (ga_who a) c p) (lsA a (gx_goal x) (gx_val x) g (ot (ga_who a) c p))) := rfl
      have eo := fun post => x2_over (post := post) (p := p) I hc z hg rfl hq ht
      have ec := fun post v hv => x2_carries (post := post) (c := c) (s := sd (ga_who a) c p) (v := v) I R hc z hv
      have hb : ob (gx_goal x) (gx_val x) (ga_base a) (ga_rate a) (g + 1) (ot (ga_who a) c p) (lsA a (gx_goal x) (gx_val x) g (ot (ga_who a) c p)) < 2 ^ 31 := by
        unfold ob
        split
        · split <;> omega
        · split
          · rename_i y
            have hw : ot (ga_who a) c p < 6 := by
              unfold ot; split
              · exact j3
              · exact j2
            have hbr := I.2.2.1 _ hw
            unfold fe
            have := Nat.mul_le_mul (Nat.le_of_lt y) (Nat.le_of_lt hbr.2.2)
            omega
          · omega
      generalize ob (gx_goal x) (gx_val x) (ga_base a) (ga_rate a) (g + 1) (ot (ga_who a) c p) (lsA a (gx_goal x) (gx_val x) g (ot (ga_who a) c p)) = o at eh eo hb
      have eu : us (ga_who a) (capA a) c p o = if o < capA a c (sd (ga_who a) c p) then o else 1000000 := by
        unfold us
        by_cases y : o < capA a c (sd (ga_who a) c p)
        · rw [if_pos ⟨z, y⟩, if_pos y]
        · rw [if_neg (fun h => y h.2), if_neg y]
      rw [eu] at eh
      simp (disch := omega) only [xw_sideOf c8 p31 j2 j3, s1, li_0, li_1, li_2, li_3, li_4, li_5, li_6, li_7, li_8, li_9, li_10, li_11, li_12, li_15, li_16, li_20, li_21, li_24, li_31, li_36, li_100, li_255, li_256, li_1000, li_6000, li_M, un_s, un_n, ba_ap, ba_upd, ba_in, cT_le, cF_le, cT_lt, cF_lt, cT_eq, cF_eq, nb_1, nb_2, ns_1, ns_2, nz_1, nz_2, ng_1, ng_2, ng_3, ng_4, ng_5, nI_clamp, nI_add, pk_mul, pk_sub, forall_eq, true_and, and_true, true_imp_iff, false_imp_iff, not_true_eq_false, not_false_eq_true, implies_true]
      refine Eq.mpr (eo _) ?_
      by_cases y : o = due
      · simp (disch := omega) only [li_0, li_1, li_2, li_3, li_4, li_5, li_6, li_7, li_8, li_9, li_10, li_11, li_12, li_15, li_16, li_20, li_21, li_24, li_31, li_36, li_100, li_255, li_256, li_1000, li_6000, li_M, un_s, un_n, ba_ap, ba_upd, ba_in, cT_le, cF_le, cT_lt, cF_lt, cT_eq, cF_eq, nb_1, nb_2, ns_1, ns_2, nz_1, nz_2, ng_1, ng_2, ng_3, ng_4, ng_5, nI_clamp, nI_add, pk_mul, pk_sub, forall_eq, true_and, and_true, true_imp_iff, false_imp_iff, not_true_eq_false, not_false_eq_true, implies_true]
        refine Eq.mpr (ec _ o hb) ?_
        by_cases w : o < capA a c (sd (ga_who a) c p)
        · rw [if_pos w] at eh
          rw [if_pos (by omega)] at h
          simp (disch := omega) only [wX_firstOver_71, wX_firstOver_73, ltN, w, if_true, li_0, li_1, li_2, li_3, li_4, li_5, li_6, li_7, li_8, li_9, li_10, li_11, li_12, li_15, li_16, li_20, li_21, li_24, li_31, li_36, li_100, li_255, li_256, li_1000, li_6000, li_M, un_s, un_n, ba_ap, ba_upd, ba_in, cT_le, cF_le, cT_lt, cF_lt, cT_eq, cF_eq, nb_1, nb_2, ns_1, ns_2, nz_1, nz_2, ng_1, ng_2, ng_3, ng_4, ng_5, nI_clamp, nI_add, pk_mul, pk_sub, forall_eq, true_and, and_true, true_imp_iff, false_imp_iff, not_true_eq_false, not_false_eq_true, implies_true]
          rw [wX_firstOver_6]
          simp (disch := omega) only [li_0, li_1, li_2, li_3, li_4, li_5, li_6, li_7, li_8, li_9, li_10, li_11, li_12, li_15, li_16, li_20, li_21, li_24, li_31, li_36, li_100, li_255, li_256, li_1000, li_6000, li_M, un_s, un_n, ba_ap, ba_upd, ba_in, cT_le, cF_le, cT_lt, cF_lt, cT_eq, cF_eq, nb_1, nb_2, ns_1, ns_2, nz_1, nz_2, ng_1, ng_2, ng_3, ng_4, ng_5, nI_clamp, nI_add, pk_mul, pk_sub, forall_eq, true_and, and_true, true_imp_iff, false_imp_iff, not_true_eq_false, not_false_eq_true, implies_true]
          exact h
        · rw [if_neg w] at eh
          rw [if_neg (by omega)] at h
          simp (disch := omega) only [wX_firstOver_70, wX_firstOver_71, wX_firstOver_73, ltN, w, if_false, li_0, li_1, li_2, li_3, li_4, li_5, li_6, li_7, li_8, li_9, li_10, li_11, li_12, li_15, li_16, li_20, li_21, li_24, li_31, li_36, li_100, li_255, li_256, li_1000, li_6000, li_M, un_s, un_n, ba_ap, ba_upd, ba_in, cT_le, cF_le, cT_lt, cF_lt, cT_eq, cF_eq, nb_1, nb_2, ns_1, ns_2, nz_1, nz_2, ng_1, ng_2, ng_3, ng_4, ng_5, nI_clamp, nI_add, pk_mul, pk_sub, forall_eq, true_and, and_true, true_imp_iff, false_imp_iff, not_true_eq_false, not_false_eq_true, implies_true]
          exact i h
      · have en : ¬ hA a (gx_goal x) (gx_val x) g p c = due := by
          rw [eh]; split <;> omega
        rw [if_neg en] at h
        simp (disch := omega) only [wX_firstOver_70, wX_firstOver_71, wX_firstOver_73, li_0, li_1, li_2, li_3, li_4, li_5, li_6, li_7, li_8, li_9, li_10, li_11, li_12, li_15, li_16, li_20, li_21, li_24, li_31, li_36, li_100, li_255, li_256, li_1000, li_6000, li_M, un_s, un_n, ba_ap, ba_upd, ba_in, cT_le, cF_le, cT_lt, cF_lt, cT_eq, cF_eq, nb_1, nb_2, ns_1, ns_2, nz_1, nz_2, ng_1, ng_2, ng_3, ng_4, ng_5, nI_clamp, nI_add, pk_mul, pk_sub, forall_eq, true_and, and_true, true_imp_iff, false_imp_iff, not_true_eq_false, not_false_eq_true, implies_true]
        exact i h
    · have s1 := sI_n z
      have en : ¬ hA a (gx_goal x) (gx_val x) g p c = due := by
        unfold hA hh
        rw [us_n z]; omega
      rw [if_neg en] at h
      simp (disch := omega) only [xw_sideOf c8 p31 j2 j3, s1, wX_firstOver_73, li_0, li_1, li_2, li_3, li_4, li_5, li_6, li_7, li_8, li_9, li_10, li_11, li_12, li_15, li_16, li_20, li_21, li_24, li_31, li_36, li_100, li_255, li_256, li_1000, li_6000, li_M, un_s, un_n, ba_ap, ba_upd, ba_in, cT_le, cF_le, cT_lt, cF_lt, cT_eq, cF_eq, nb_1, nb_2, ns_1, ns_2, nz_1, nz_2, ng_1, ng_2, ng_3, ng_4, ng_5, nI_clamp, nI_add, pk_mul, pk_sub, forall_eq, true_and, and_true, true_imp_iff, false_imp_iff, not_true_eq_false, not_false_eq_true, implies_true]
      exact i h
theorem grA_s {a : SA} {q v g p : Nat} : grA a q v (g + 1) p = ff (hA a q v g p) (lsA a q v (g + 1) p) (ga_ch a) 0 :: grA a q v g (ot (ga_who a) (ff (hA a q v g p) (lsA a q v (g + 1) p) (ga_ch a) 0) p) := rfl
theorem x2_f19 {T : Nat} {a : SA} {x : OX} {q v N : Nat} {post : Int32 → SX → Prop} (I : Inv T a) (R : RL a x) (hq : q < 6) (hv : v < 256) (hN : N ≤ 4) (e1 : gx_goal x = q) (e2 : gx_val x = v) (ht : TT a q v (gx_least x) 4) :
    ∀ g i p pa su, i + g = N → p < 6 → (1 ≤ g → lsA a q v g p < 1000000) → (∀ pa' su', (∀ j, j < i → pa' j = pa j ∧ su' j = su j) → wrt a q v pa' su' i p (grA a q v g p) → post (nI N) (mX a (xWay x pa' su'))) → wX_find_19 post (nI N) (ga_spent a) (nI (ga_now a)) (nI (ga_ch a)) (nI (gx_goal x)) (nI (gx_val x)) (nI (gx_known x)) (g + 1) (nI p) (nI i) (cN (ga_coins a)) (cN (ga_up a)) (ga_knows a) (cN (ga_base a)) (cN (ga_rate a)) (ga_guard a) (cN (ga_status a)) (cN (ga_who a)) (cN (ga_latest a)) (cN (gx_row x)) (cN (ga_bal a)) (cN (gx_many x)) (cN (gx_frm x)) (cN (gx_amt x)) (cN (gx_sec x)) (cN (gx_xpy x)) (cN (gx_born x)) (cN (gx_dead x)) (cN (ga_publd a)) (cN (ga_pubs a)) (cN (ga_since a)) (cN (ga_held a)) (cN (gx_outm x)) (cN (gx_least x)) (cN pa) (cN su) := by
  intro g
  induction g with
  | zero =>
    intro i p pa su hi hp hl h
    rw [wX_find_19]
    simp (disch := omega) only [li_0, li_1, li_2, li_3, li_4, li_5, li_6, li_7, li_8, li_9, li_10, li_11, li_12, li_15, li_16, li_20, li_21, li_24, li_31, li_36, li_100, li_255, li_256, li_1000, li_6000, li_M, un_s, un_n, ba_ap, ba_upd, ba_in, cT_le, cF_le, cT_lt, cF_lt, cT_eq, cF_eq, nb_1, nb_2, ns_1, ns_2, nz_1, nz_2, ng_1, ng_2, ng_3, ng_4, ng_5, nI_clamp, nI_add, pk_mul, pk_sub, forall_eq, true_and, and_true, true_imp_iff, false_imp_iff, not_true_eq_false, not_false_eq_true, implies_true]
    exact h pa su (fun j hj => ⟨rfl, rfl⟩) trivial
  | succ g ih =>
    intro i p pa su hi hp hl h
    have hl := hl (by omega)
    obtain ⟨c, ce, cl, ch1, _⟩ := grd_c hl
    have ce' : c = ff (hA a q v g p) (lsA a q v (g + 1) p) (ga_ch a) 0 := ce
    have c8 := ch8 I cl
    obtain ⟨j1, j2, j3, j4, j5, j6, j7, j8⟩ := I.2.2.2.2.1 c cl
    have hw : ot (ga_who a) c p < 6 := by
      unfold ot; split
      · exact j3
      · exact j2
    have ed := ht (g + 1) p (by omega) (by omega) hp
    have eN : N - i = g + 1 := by omega
    have hlt : hh (ga_ch a) q v (ga_who a) (ga_base a) (ga_rate a) (capA a) g p c < 1000000 := by rw [ch1]; exact hl
    have hls : 1 ≤ g → lsA a q v g (ot (ga_who a) c p) < 1000000 := fun h1 => (hh_s (by omega) hlt).2.1
    have RR : RL a (xWay x pa su) := R
    have goal1 : ∀ pa' su' : Nat → Nat, (∀ j, j < i + 1 → pa' j = un pa i c j ∧ su' j = un su i (lsA a q v (g + 1) p) j) → ∀ j, j < i → pa' j = pa j ∧ su' j = su j := by
      intro pa' su' hk j hj
      obtain ⟨k1, k2⟩ := hk j (by omega)
      rw [k1, k2, un_n (by omega), un_n (by omega)]
      exact ⟨rfl, rfl⟩
    have goal2 : ∀ pa' su' : Nat → Nat, (∀ j, j < i + 1 → pa' j = un pa i c j ∧ su' j = un su i (lsA a q v (g + 1) p) j) → wrt a q v pa' su' (i + 1) (ot (ga_who a) c p) (grA a q v g (ot (ga_who a) c p)) → wrt a q v pa' su' i p (grA a q v (g + 1) p) := by
      intro pa' su' hk hwr
      obtain ⟨k1, k2⟩ := hk i (by omega)
      rw [un_s] at k1 k2
      rw [grA_s, ← ce']
      refine ⟨k1, ?_, hwr⟩
      rw [k2]
      have q1 : cst q v (ga_who a) (ga_base a) (ga_rate a) (capA a) p (grd (ga_ch a) q v (ga_who a) (ga_base a) (ga_rate a) (capA a) (g + 1) p) = lst (ga_ch a) q v (ga_who a) (ga_base a) (ga_rate a) (capA a) (g + 1) p := grd_cst (g + 1) p hl
      have q2 : grd (ga_ch a) q v (ga_who a) (ga_base a) (ga_rate a) (capA a) (g + 1) p = c :: grA a q v g (ot (ga_who a) c p) := by
        show grA a q v (g + 1) p = _
        rw [grA_s, ← ce']
      rw [q2] at q1
      exact q1.symm
    rw [wX_find_19]
    simp (disch := omega) only [eN, ed, wpX_firstOver, li_0, li_1, li_2, li_3, li_4, li_5, li_6, li_7, li_8, li_9, li_10, li_11, li_12, li_15, li_16, li_20, li_21, li_24, li_31, li_36, li_100, li_255, li_256, li_1000, li_6000, li_M, un_s, un_n, ba_ap, ba_upd, ba_in, cT_le, cF_le, cT_lt, cF_lt, cT_eq, cF_eq, nb_1, nb_2, ns_1, ns_2, nz_1, nz_2, ng_1, ng_2, ng_3, ng_4, ng_5, nI_clamp, nI_add, pk_mul, pk_sub, forall_eq, true_and, and_true, true_imp_iff, false_imp_iff, not_true_eq_false, not_false_eq_true, implies_true]
    refine ⟨_, x2_fo6 (x := xWay x pa su) I RR hp (by omega) (by rw [xWay_goal, e1]; exact hq) (by rw [xWay_val, e2]; exact hv) (fun h1 p' hp' => ?_) hl (ga_ch a) 0 (by omega) ?_⟩
    · rw [xWay_least, xWay_goal, xWay_val, e1, e2]
      exact ht g p' h1 (by omega) hp'
    · have hfo : ff (hA a (gx_goal (xWay x pa su)) (gx_val (xWay x pa su)) g p) (lsA a q v (g + 1) p) (ga_ch a) 0 = c := by rw [xWay_goal, xWay_val, e1, e2, ← ce']
      rw [hfo]
      simp (disch := omega) only [xw_other c8 hp j2 j3, li_0, li_1, li_2, li_3, li_4, li_5, li_6, li_7, li_8, li_9, li_10, li_11, li_12, li_15, li_16, li_20, li_21, li_24, li_31, li_36, li_100, li_255, li_256, li_1000, li_6000, li_M, un_s, un_n, ba_ap, ba_upd, ba_in, cT_le, cF_le, cT_lt, cF_lt, cT_eq, cF_eq, nb_1, nb_2, ns_1, ns_2, nz_1, nz_2, ng_1, ng_2, ng_3, ng_4, ng_5, nI_clamp, nI_add, pk_mul, pk_sub, forall_eq, true_and, and_true, true_imp_iff, false_imp_iff, not_true_eq_false, not_false_eq_true, implies_true]
      have hot : (if ga_who a (2 * c) = p then ga_who a (2 * c + 1) else ga_who a (2 * c)) = ot (ga_who a) c p := rfl
      rw [hot]
      have k := ih (i + 1) (ot (ga_who a) c p) (un pa i c) (un su i (lsA a q v (g + 1) p)) (by omega) hw hls (fun pa' su' hk hwr => h pa' su' (goal1 pa' su' hk) (goal2 pa' su' hk hwr))
      exact k
theorem x2_find {T : Nat} {a : SA} {x : OX} {p q v : Nat} {post : Int32 → SX → Prop} (I : Inv T a) (R : RX a x) (hp : p < 6) (hq : q < 6) (hv : v < 256) (h : ∀ x', RX a x' → wrt a q v (gx_path x') (gx_xsum x') 0 p (grA a q v (hpA a q v p) p) → post (nI (hpA a q v p)) (mX a x')) : wpX_find post (mX a x) (nI p) (nI q) (nI v) := by
  have hsp := hpn_sp (fun g => lsA a q v g p) 4
  have h4 : hpA a q v p ≤ 4 := by
    unfold hpA
    rcases hsp with ⟨q1, _⟩ | ⟨_, q1, _⟩ <;> omega
  have hl : 1 ≤ hpA a q v p → lsA a q v (hpA a q v p) p < 1000000 := by
    unfold hpA
    intro h1
    rcases hsp with ⟨q1, _⟩ | ⟨_, _, _, q1, _⟩
    · omega
    · exact q1
  unfold wpX_find
  dsimp only [mX]
  refine x2_search I R hq hv (fun f' ht => ?_)
  dsimp only [mX]
  have ec : hpn (fun g => f' (6 * g + p)) 4 = hpn (fun g => lsA a q v g p) 4 := hpn_congr 4 (fun i h1 h2 => ht i p h1 h2 hp)
  refine xw_hopsFrom hp (fun g h1 h2 => ?_) ?_
  · show f' (6 * g + p) ≤ 1000000
    rw [ht g p h1 h2 hp]; exact lst_M _ _
  · show ∃ n19, _
    have ec2 : (hpn (fun g => gx_least (xTab x q v 1 f') (6 * g + p)) 4).1 = hpA a q v p := by
      unfold hpA; rw [← ec]; rfl
    rw [ec2]
    have RR : RL a (xTab x q v 1 f') := R.1
    refine ⟨_, x2_f19 (x := xTab x q v 1 f') I RR hq hv h4 rfl rfl ht (hpA a q v p) 0 p (gx_path x) (gx_xsum x) (by omega) hp hl (fun pa' su' _ hw => ?_)⟩
    refine h _ ⟨R.1, Or.inr ⟨rfl, hq, hv, fun g p h1 h2 h3 => ht g p h1 h2 h3⟩⟩ ?_
    exact hw
end
section
theorem ng_7 : nI 0 + -nI 1 = -nI 1 := by decide
theorem ng_8 : -nI 1 + nI 1 = nI 0 := by decide
section
variable {spent : Int32} {now ch len : Nat} {coins base rate up who status latest publd ypub since held outn bal lks yf ya ys ye qf qa qs qe part ysum bst bsm : Nat → Nat} {guard knows way : Nat → Int32}
theorem yw_be47 {post : Int32 → Prop} {t w : Nat} (ht : t < 6) (hw : w < 6) (hp : ∀ j, j ≤ t → part j < 6) (hN : (∀ j, j ≤ t → part j ≠ w) → post (nI w)) (hY : (∃ j, j ≤ t ∧ part j = w) → post (-nI 1)) : ∀ d i, i + d = t + 1 → (∀ j, j < i → part j ≠ w) → wY_behind_47 post (nI t) (nI w) (nI now) spent (nI ch) (nI len) (cN coins) (cN base) (cN rate) guard knows (cN up) (cN who) (cN status) (cN latest) (cN publd) (cN ypub) (cN since) (cN held) (cN outn) (cN bal) (cN lks) (cN yf) (cN ya) (cN ys) (cN ye) (cN qf) (cN qa) (cN qs) (cN qe) way (cN part) (cN ysum) (cN bst) (cN bsm) (d + 1) (nI i) := by
  intro d
  induction d with
  | zero =>
    intro i hi h
    rw [wY_behind_47]
    simp (disch := omega) only [li_0, li_1, li_2, li_3, li_4, li_5, li_6, li_7, li_8, li_9, li_10, li_11, li_12, li_15, li_16, li_20, li_21, li_24, li_31, li_36, li_100, li_255, li_256, li_1000, li_6000, li_M, un_s, un_n, ba_ap, ba_upd, ba_in, cT_le, cF_le, cT_lt, cF_lt, cT_eq, cF_eq, nb_1, nb_2, ns_1, ns_2, nz_1, nz_2, ng_1, ng_2, ng_3, ng_4, ng_5, nI_clamp, nI_add, pk_mul, pk_sub, forall_eq, true_and, and_true, true_imp_iff, false_imp_iff, not_true_eq_false, not_false_eq_true, implies_true]
    exact hN (fun j hj => h j (by omega))
  | succ d ih =>
    intro i hi h
    have pi := hp i (by omega)
    rw [wY_behind_47]
    by_cases z : part i = w
    · simp (disch := omega) only [li_0, li_1, li_2, li_3, li_4, li_5, li_6, li_7, li_8, li_9, li_10, li_11, li_12, li_15, li_16, li_20, li_21, li_24, li_31, li_36, li_100, li_255, li_256, li_1000, li_6000, li_M, un_s, un_n, ba_ap, ba_upd, ba_in, cT_le, cF_le, cT_lt, cF_lt, cT_eq, cF_eq, nb_1, nb_2, ns_1, ns_2, nz_1, nz_2, ng_1, ng_2, ng_3, ng_4, ng_5, nI_clamp, nI_add, pk_mul, pk_sub, forall_eq, true_and, and_true, true_imp_iff, false_imp_iff, not_true_eq_false, not_false_eq_true, implies_true]
      exact hY ⟨i, by omega, z⟩
    · simp (disch := omega) only [li_0, li_1, li_2, li_3, li_4, li_5, li_6, li_7, li_8, li_9, li_10, li_11, li_12, li_15, li_16, li_20, li_21, li_24, li_31, li_36, li_100, li_255, li_256, li_1000, li_6000, li_M, un_s, un_n, ba_ap, ba_upd, ba_in, cT_le, cF_le, cT_lt, cF_lt, cT_eq, cF_eq, nb_1, nb_2, ns_1, ns_2, nz_1, nz_2, ng_1, ng_2, ng_3, ng_4, ng_5, nI_clamp, nI_add, pk_mul, pk_sub, forall_eq, true_and, and_true, true_imp_iff, false_imp_iff, not_true_eq_false, not_false_eq_true, implies_true]
      refine ih (i + 1) (by omega) (fun j hj => ?_)
      by_cases e : j = i
      · rw [e]; exact z
      · exact h j (by omega)
theorem yw_behind {post : Int32 → Prop} {t c : Nat} (ht : t < 6) (hc : c < 8) (hs : status c < 3) (h0 : who (2 * c) < 6) (h1 : who (2 * c + 1) < 6) (hu : ∀ p, p < 6 → up p < 2) (hp : ∀ j, j ≤ t → part j < 6)
    (hok : rdy status up who c = 1 ∧ sd who c (part t) < 2 ∧ (∀ j, j ≤ t → part j ≠ ot who c (part t)) → post (nI (ot who c (part t)))) (hno : ¬ (rdy status up who c = 1 ∧ sd who c (part t) < 2 ∧ (∀ j, j ≤ t → part j ≠ ot who c (part t))) → post (-nI 1)) : wpY_behind post (nI now, spent, nI ch, nI len, cN coins, cN base, cN rate, guard, knows, cN up, cN who, cN status, cN latest, cN publd, cN ypub, cN since, cN held, cN outn, cN bal, cN lks, cN yf, cN ya, cN ys, cN ye, cN qf, cN qa, cN qs, cN qe, way, cN part, cN ysum, cN bst, cN bsm) (nI t) (nI c) := by
  have pt := hp t (Nat.le_refl _)
  have p31 : part t < 2 ^ 31 := by omega
  by_cases z : sd who c (part t) < 2
  · obtain ⟨s1, s2, s3⟩ := sI_s rfl z
    generalize sd who c (part t) = s at z s1 s2 s3 hok hno
    rcases rdy_01 status up who c with r | r
    · simp (disch := omega) only [wpY_behind, yw_sideOf hc p31 h0 h1, s1, yw_isReady hc hs h0 h1 hu, r, li_0, li_1, li_2, li_3, li_4, li_5, li_6, li_7, li_8, li_9, li_10, li_11, li_12, li_15, li_16, li_20, li_21, li_24, li_31, li_36, li_100, li_255, li_256, li_1000, li_6000, li_M, un_s, un_n, ba_ap, ba_upd, ba_in, cT_le, cF_le, cT_lt, cF_lt, cT_eq, cF_eq, nb_1, nb_2, ns_1, ns_2, nz_1, nz_2, ng_1, ng_2, ng_3, ng_4, ng_5, nI_clamp, nI_add, pk_mul, pk_sub, forall_eq, true_and, and_true, true_imp_iff, false_imp_iff, not_true_eq_false, not_false_eq_true, implies_true]
      exact hno (fun h => absurd (r.symm.trans h.1) (by decide))
    · have ho : ot who c (part t) < 6 := by
        unfold ot; split
        · exact h1
        · exact h0
      have fin : ∃ n, wY_behind_47 post (nI t) (nI (ot who c (part t))) (nI now) spent (nI ch) (nI len) (cN coins) (cN base) (cN rate) guard knows (cN up) (cN who) (cN status) (cN latest) (cN publd) (cN ypub) (cN since) (cN held) (cN outn) (cN bal) (cN lks) (cN yf) (cN ya) (cN ys) (cN ye) (cN qf) (cN qa) (cN qs) (cN qe) way (cN part) (cN ysum) (cN bst) (cN bsm) n (nI 0) := by
        refine ⟨t + 1 + 1, yw_be47 ht ho hp (fun h => hok ⟨r, z, h⟩) (fun ⟨j, hj, e⟩ => hno (fun h => h.2.2 j hj e)) (t + 1) 0 (by omega) (fun j hj => absurd hj (Nat.not_lt_zero _))⟩
      rw [← s3] at fin
      simp (disch := omega) only [wpY_behind, yw_sideOf hc p31 h0 h1, s1, yw_isReady hc hs h0 h1 hu, r, li_0, li_1, li_2, li_3, li_4, li_5, li_6, li_7, li_8, li_9, li_10, li_11, li_12, li_15, li_16, li_20, li_21, li_24, li_31, li_36, li_100, li_255, li_256, li_1000, li_6000, li_M, un_s, un_n, ba_ap, ba_upd, ba_in, cT_le, cF_le, cT_lt, cF_lt, cT_eq, cF_eq, nb_1, nb_2, ns_1, ns_2, nz_1, nz_2, ng_1, ng_2, ng_3, ng_4, ng_5, nI_clamp, nI_add, pk_mul, pk_sub, forall_eq, true_and, and_true, true_imp_iff, false_imp_iff, not_true_eq_false, not_false_eq_true, implies_true]
      exact fin
  · have s1 := sI_n z
    simp (disch := omega) only [wpY_behind, yw_sideOf hc p31 h0 h1, s1, yw_isReady hc hs h0 h1 hu, li_0, li_1, li_2, li_3, li_4, li_5, li_6, li_7, li_8, li_9, li_10, li_11, li_12, li_15, li_16, li_20, li_21, li_24, li_31, li_36, li_100, li_255, li_256, li_1000, li_6000, li_M, un_s, un_n, ba_ap, ba_upd, ba_in, cT_le, cF_le, cT_lt, cF_lt, cT_eq, cF_eq, nb_1, nb_2, ns_1, ns_2, nz_1, nz_2, ng_1, ng_2, ng_3, ng_4, ng_5, nI_clamp, nI_add, pk_mul, pk_sub, forall_eq, true_and, and_true, true_imp_iff, false_imp_iff, not_true_eq_false, not_false_eq_true, implies_true]
    exact hno (fun h => z h.2.1)
end
def wok (a : SA) (w : Nat → Int32) (pt : Nat → Nat) (Q : List Nat) : Prop := ∀ i c, Q[i]? = some c → w i = nI c ∧ c < ga_ch a ∧ rdA a c = 1 ∧ sd (ga_who a) c (pt i) < 2 ∧ pt (i + 1) = ot (ga_who a) c (pt i)
theorem y2_br57 {T : Nat} {a : SA} {y : OY} {post : Int32 → SY → Prop} {J : Int32 → Int32 → (Nat → Int32) → (Nat → Int32) → (Nat → Int32) → (Nat → Int32) → (Nat → Int32) → (Nat → Int32) → (Nat → Int32) → (Nat → Int32) → (Nat → Int32) → (Nat → Int32) → (Nat → Int32) → (Nat → Int32) → (Nat → Int32) → (Nat → Int32) → (Nat → Int32) → (Nat → Int32) → (Nat → Int32) → (Nat → Int32) → (Nat → Int32) → (Nat → Int32) → (Nat → Int32) → (Nat → Int32) → (Nat → Int32) → (Nat → Int32) → (Nat → Int32) → (Nat → Int32) → (Nat → Int32) → (Nat → Int32) → (Nat → Int32) → Prop} {l n v i c : Nat} {w : Nat → Int32} {pt su b m : Nat → Nat} (I : Inv T a) (R : RY a y) (hi : i < 5) (hc : c < ga_ch a) (hw : w i = nI c) (hr : rdA a c = 1) (hs : sd (ga_who a) c (pt i) < 2) (hp : pt i < 6) (hv : v < 2 ^ 31)
    (hJ : v < capA a c (sd (ga_who a) c (pt i)) → J (nI v) (nI i + -nI 1) (cN (ga_coins a)) (cN (ga_base a)) (cN (ga_rate a)) (ga_guard a) (ga_knows a) (cN (ga_up a)) (cN (ga_who a)) (cN (ga_status a)) (cN (ga_latest a)) (cN (ga_publd a)) (cN (gy_ypub y)) (cN (ga_since a)) (cN (ga_held a)) (cN (gy_outn y)) (cN (ga_bal a)) (cN (gy_lks y)) (cN (gy_yf y)) (cN (gy_ya y)) (cN (gy_ys y)) (cN (gy_ye y)) (cN (gy_qf y)) (cN (gy_qa y)) (cN (gy_qs y)) (cN (gy_qe y)) w (cN pt) (cN (un su i v)) (cN b) (cN m)) (hF : ¬ v < capA a c (sd (ga_who a) c (pt i)) → post (nI 0) (nI (ga_now a), ga_spent a, nI (ga_ch a), nI l, cN (ga_coins a), cN (ga_base a), cN (ga_rate a), ga_guard a, ga_knows a, cN (ga_up a), cN (ga_who a), cN (ga_status a), cN (ga_latest a), cN (ga_publd a), cN (gy_ypub y), cN (ga_since a), cN (ga_held a), cN (gy_outn y), cN (ga_bal a), cN (gy_lks y), cN (gy_yf y), cN (gy_ya y), cN (gy_ys y), cN (gy_ye y), cN (gy_qf y), cN (gy_qa y), cN (gy_qs y), cN (gy_qe y), w, cN pt, cN (un su i v), cN b, cN m)) :
    wY_brings_57 post J (nI n) (nI v) (nI i) (nI (ga_now a)) (ga_spent a) (nI (ga_ch a)) (nI l) (cN (ga_coins a)) (cN (ga_base a)) (cN (ga_rate a)) (ga_guard a) (ga_knows a) (cN (ga_up a)) (cN (ga_who a)) (cN (ga_status a)) (cN (ga_latest a)) (cN (ga_publd a)) (cN (gy_ypub y)) (cN (ga_since a)) (cN (ga_held a)) (cN (gy_outn y)) (cN (ga_bal a)) (cN (gy_lks y)) (cN (gy_yf y)) (cN (gy_ya y)) (cN (gy_ys y)) (cN (gy_ye y)) (cN (gy_qf y)) (cN (gy_qa y)) (cN (gy_qs y)) (cN (gy_qe y)) w (cN pt) (cN su) (cN b) (cN m) := by
  have c8 := ch8 I hc
  obtain ⟨j1, j2, j3, j4, j5, j6, j7, j8⟩ := I.2.2.2.2.1 c hc
  obtain ⟨s1, s2, s3⟩ := sI_s rfl hs
  obtain ⟨n1, n2⟩ := y_len I R hc (Nat.le_refl _)
  generalize sd (ga_who a) c (pt i) = s at hs s1 s2 s3 hJ hF
  have h0 : ga_status a c = 0 := by
    unfold rdA rdy at hr
    split at hr
    · rename_i h; exact h.1
    · omega
  have ho := inv_open I hc h0 (Nat.le_refl _)
  have hb : ga_bal a (2 * (12 * c + ga_latest a c) + s) ≤ 6000 := by
    rcases (show s = 0 ∨ s = 1 by omega) with rfl | rfl
    · rw [Nat.add_zero]; omega
    · omega
  have p31 : pt i < 2 ^ 31 := by omega
  unfold capA at hJ hF
  unfold wY_brings_57
  by_cases z1 : ga_bal a (2 * (12 * c + ga_latest a c) + s) < v
  · simp (disch := omega) only [hw, yw_now c8, yw_sideOf c8 p31 j2 j3, s1, li_0, li_1, li_2, li_3, li_4, li_5, li_6, li_7, li_8, li_9, li_10, li_11, li_12, li_15, li_16, li_20, li_21, li_24, li_31, li_36, li_100, li_255, li_256, li_1000, li_6000, li_M, un_s, un_n, ba_ap, ba_upd, ba_in, cT_le, cF_le, cT_lt, cF_lt, cT_eq, cF_eq, nb_1, nb_2, ns_1, ns_2, nz_1, nz_2, ng_1, ng_2, ng_3, ng_4, ng_5, nI_clamp, nI_add, pk_mul, pk_sub, forall_eq, true_and, and_true, true_imp_iff, false_imp_iff, not_true_eq_false, not_false_eq_true, implies_true]
    refine hF ?_
    split <;> omega
  · by_cases z2 : 2 < gy_lks y (12 * c + ga_latest a c)
    · simp (disch := omega) only [hw, yw_now c8, yw_sideOf c8 p31 j2 j3, s1, li_0, li_1, li_2, li_3, li_4, li_5, li_6, li_7, li_8, li_9, li_10, li_11, li_12, li_15, li_16, li_20, li_21, li_24, li_31, li_36, li_100, li_255, li_256, li_1000, li_6000, li_M, un_s, un_n, ba_ap, ba_upd, ba_in, cT_le, cF_le, cT_lt, cF_lt, cT_eq, cF_eq, nb_1, nb_2, ns_1, ns_2, nz_1, nz_2, ng_1, ng_2, ng_3, ng_4, ng_5, nI_clamp, nI_add, pk_mul, pk_sub, forall_eq, true_and, and_true, true_imp_iff, false_imp_iff, not_true_eq_false, not_false_eq_true, implies_true]
      refine hF ?_
      rw [if_neg (fun h => by have := h.2.2.2.2; omega)]; omega
    · by_cases z3 : ga_latest a c ≤ 10
      · simp (disch := omega) only [hw, yw_now c8, yw_sideOf c8 p31 j2 j3, s1, li_0, li_1, li_2, li_3, li_4, li_5, li_6, li_7, li_8, li_9, li_10, li_11, li_12, li_15, li_16, li_20, li_21, li_24, li_31, li_36, li_100, li_255, li_256, li_1000, li_6000, li_M, un_s, un_n, ba_ap, ba_upd, ba_in, cT_le, cF_le, cT_lt, cF_lt, cT_eq, cF_eq, nb_1, nb_2, ns_1, ns_2, nz_1, nz_2, ng_1, ng_2, ng_3, ng_4, ng_5, nI_clamp, nI_add, pk_mul, pk_sub, forall_eq, true_and, and_true, true_imp_iff, false_imp_iff, not_true_eq_false, not_false_eq_true, implies_true]
        refine hJ ?_
        rw [if_pos ⟨hc, hs, hr, by omega, by omega⟩]; omega
      · simp (disch := omega) only [hw, yw_now c8, yw_sideOf c8 p31 j2 j3, s1, li_0, li_1, li_2, li_3, li_4, li_5, li_6, li_7, li_8, li_9, li_10, li_11, li_12, li_15, li_16, li_20, li_21, li_24, li_31, li_36, li_100, li_255, li_256, li_1000, li_6000, li_M, un_s, un_n, ba_ap, ba_upd, ba_in, cT_le, cF_le, cT_lt, cF_lt, cT_eq, cF_eq, nb_1, nb_2, ns_1, ns_2, nz_1, nz_2, ng_1, ng_2, ng_3, ng_4, ng_5, nI_clamp, nI_add, pk_mul, pk_sub, forall_eq, true_and, and_true, true_imp_iff, false_imp_iff, not_true_eq_false, not_false_eq_true, implies_true]
        refine hF ?_
        rw [if_neg (fun h => by have := h.2.2.2.1; omega)]; omega
theorem csA_c {a : SA} {q v p c : Nat} {l : List Nat} : csA a q v p (c :: l) = us (ga_who a) (capA a) c p (ob q v (ga_base a) (ga_rate a) (l.length + 1) (ot (ga_who a) c p) (csA a q v (ot (ga_who a) c p) l)) := rfl
theorem us_01 {who : Nat → Nat} {cap : Nat → Nat → Nat} {c p o : Nat} (h : sd who c p < 2) : us who cap c p o = if o < cap c (sd who c p) then o else 1000000 := by
  unfold us
  by_cases y : o < cap c (sd who c p)
  · rw [if_pos ⟨h, y⟩, if_pos y]
  · rw [if_neg (fun h => y h.2), if_neg y]
/-- amounts along a way, by the place -/
theorem cs_at {a : SA} {q v : Nat} {w : Nat → Int32} {pt : Nat → Nat} {Q : List Nat} (ho : wok a w pt Q) {i c : Nat} (h : Q[i]? = some c) : csA a q v (pt i) (Q.drop i) = us (ga_who a) (capA a) c (pt i) (ob q v (ga_base a) (ga_rate a) (Q.length - i) (pt (i + 1)) (csA a q v (pt (i + 1)) (Q.drop (i + 1)))) := by
  have hi : i < Q.length := (List.getElem?_eq_some_iff.mp h).1
  have hd : Q.drop i = c :: Q.drop (i + 1) := by
    rw [List.drop_eq_getElem_cons hi]
    congr 1
    exact (List.getElem?_eq_some_iff.mp h).2
  have e := (ho i c h).2.2.2.2
  rw [hd, csA_c, e, List.length_drop, show Q.length - (i + 1) + 1 = Q.length - i by omega]
theorem cs_up {T : Nat} {a : SA} {q v : Nat} {w : Nat → Int32} {pt : Nat → Nat} {Q : List Nat} (I : Inv T a) (ho : wok a w pt Q) : ∀ i, i < Q.length → ¬ csA a q v (pt i) (Q.drop i) < 1000000 → ¬ csA a q v (pt 0) Q < 1000000 := by
  intro i
  induction i with
  | zero => intro _ h; exact h
  | succ i ih =>
    intro hi h
    refine ih (by omega) ?_
    have e := cs_at (q := q) (v := v) ho (List.getElem?_eq_getElem (show i < Q.length by omega))
    rw [e]
    unfold ob
    rw [if_neg (by omega), if_neg h, us_big (cap_M I) (Nat.le_refl _)]
    omega
theorem y2_br7 {T : Nat} {a : SA} {y : OY} {post : Int32 → SY → Prop} {l q v : Nat} {w : Nat → Int32} {pt b m : Nat → Nat} {Q : List Nat} (I : Inv T a) (R : RY a y) (h1 : 1 ≤ Q.length) (h4 : Q.length ≤ 4) (hv : v < 256) (ho : wok a w pt Q) (hp6 : ∀ j, j ≤ Q.length → pt j < 6) (hq : pt Q.length = q)
    (hS : csA a q v (pt 0) Q < 1000000 → ∀ su', (∀ j, j < Q.length → su' j = csA a q v (pt j) (Q.drop j)) → post (nI 1) (nI (ga_now a), ga_spent a, nI (ga_ch a), nI l, cN (ga_coins a), cN (ga_base a), cN (ga_rate a), ga_guard a, ga_knows a, cN (ga_up a), cN (ga_who a), cN (ga_status a), cN (ga_latest a), cN (ga_publd a), cN (gy_ypub y), cN (ga_since a), cN (ga_held a), cN (gy_outn y), cN (ga_bal a), cN (gy_lks y), cN (gy_yf y), cN (gy_ya y), cN (gy_ys y), cN (gy_ye y), cN (gy_qf y), cN (gy_qa y), cN (gy_qs y), cN (gy_qe y), w, cN pt, cN su', cN b, cN m)) (hF : ¬ csA a q v (pt 0) Q < 1000000 → ∀ su', post (nI 0) (nI (ga_now a), ga_spent a, nI (ga_ch a), nI l, cN (ga_coins a), cN (ga_base a), cN (ga_rate a), ga_guard a, ga_knows a, cN (ga_up a), cN (ga_who a), cN (ga_status a), cN (ga_latest a), cN (ga_publd a), cN (gy_ypub y), cN (ga_since a), cN (ga_held a), cN (gy_outn y), cN (ga_bal a), cN (gy_lks y), cN (gy_yf y), cN (gy_ya y), cN (gy_ys y), cN (gy_ye y), cN (gy_qf y), cN (gy_qa y), cN (gy_qs y), cN (gy_qe y), w, cN pt, cN su', cN b, cN m)) :
    ∀ i su, i ≤ Q.length → (∀ j, i ≤ j → j < Q.length → csA a q v (pt j) (Q.drop j) < 1000000 ∧ su j = csA a q v (pt j) (Q.drop j)) → wY_brings_7 post (nI Q.length) (nI (ga_now a)) (ga_spent a) (nI (ga_ch a)) (nI l) (i + 1) (nI (if i = Q.length then v else csA a q v (pt i) (Q.drop i))) (nI i + -nI 1) (cN (ga_coins a)) (cN (ga_base a)) (cN (ga_rate a)) (ga_guard a) (ga_knows a) (cN (ga_up a)) (cN (ga_who a)) (cN (ga_status a)) (cN (ga_latest a)) (cN (ga_publd a)) (cN (gy_ypub y)) (cN (ga_since a)) (cN (ga_held a)) (cN (gy_outn y)) (cN (ga_bal a)) (cN (gy_lks y)) (cN (gy_yf y)) (cN (gy_ya y)) (cN (gy_ys y)) (cN (gy_ye y)) (cN (gy_qf y)) (cN (gy_qa y)) (cN (gy_qs y)) (cN (gy_qe y)) w (cN pt) (cN su) (cN b) (cN m) := by
  intro i
  induction i with
  | zero =>
    intro su hi hsu
    rw [wY_brings_7]
    simp (disch := omega) only [ng_7, li_0, li_1, li_2, li_3, li_4, li_5, li_6, li_7, li_8, li_9, li_10, li_11, li_12, li_15, li_16, li_20, li_21, li_24, li_31, li_36, li_100, li_255, li_256, li_1000, li_6000, li_M, un_s, un_n, ba_ap, ba_upd, ba_in, cT_le, cF_le, cT_lt, cF_lt, cT_eq, cF_eq, nb_1, nb_2, ns_1, ns_2, nz_1, nz_2, ng_1, ng_2, ng_3, ng_4, ng_5, nI_clamp, nI_add, pk_mul, pk_sub, forall_eq, true_and, and_true, true_imp_iff, false_imp_iff, not_true_eq_false, not_false_eq_true, implies_true]
    exact hS (hsu 0 (Nat.le_refl _) (by omega)).1 su (fun j hj => (hsu j (Nat.zero_le _) hj).2)
  | succ i ih =>
    intro su hi hsu
    have hiq : i < Q.length := by omega
    have hg := List.getElem?_eq_getElem hiq
    obtain ⟨w1, w2, w3, w4, w5⟩ := ho i _ hg
    have e := cs_at (q := q) (v := v) ho hg
    generalize Q[i] = c at hg w1 w2 w3 w4 w5 e
    have hpi := hp6 i (by omega)
    have hpi1 := hp6 (i + 1) hi
    have hbr := I.2.2.1 _ hpi1
    have c8 := ch8 I w2
    rw [us_01 w4] at e
    rw [wY_brings_7]
    have go : ∀ W : Nat, W < 2 ^ 31 → csA a q v (pt i) (Q.drop i) = (if W < capA a c (sd (ga_who a) c (pt i)) then W else 1000000) → wY_brings_57 post (wY_brings_7 post (nI Q.length) (nI (ga_now a)) (ga_spent a) (nI (ga_ch a)) (nI l) (i + 1)) (nI Q.length) (nI W) (nI i) (nI (ga_now a)) (ga_spent a) (nI (ga_ch a)) (nI l) (cN (ga_coins a)) (cN (ga_base a)) (cN (ga_rate a)) (ga_guard a) (ga_knows a) (cN (ga_up a)) (cN (ga_who a)) (cN (ga_status a)) (cN (ga_latest a)) (cN (ga_publd a)) (cN (gy_ypub y)) (cN (ga_since a)) (cN (ga_held a)) (cN (gy_outn y)) (cN (ga_bal a)) (cN (gy_lks y)) (cN (gy_yf y)) (cN (gy_ya y)) (cN (gy_ys y)) (cN (gy_ye y)) (cN (gy_qf y)) (cN (gy_qa y)) (cN (gy_qs y)) (cN (gy_qe y)) w (cN pt) (cN su) (cN b) (cN m) := by
      intro W hW eW
      refine y2_br57 I R (by omega) w2 w1 w3 w4 hpi hW (fun h => ?_) (fun h => ?_)
      · rw [if_pos h] at eW
        have k := ih (un su i W) (by omega) (fun j hj hj2 => ?_)
        · rw [if_neg (by omega), eW] at k
          exact k
        · by_cases z : j = i
          · subst z
            rw [un_s, eW]
            have := cap_M I c (sd (ga_who a) c (pt j))
            exact ⟨by omega, rfl⟩
          · rw [un_n z]; exact hsu j (by omega) hj2
      · rw [if_neg h] at eW
        exact hF (cs_up I ho i hiq (by rw [eW]; omega)) _
    by_cases z : i + 1 = Q.length
    · have e2 : ob q v (ga_base a) (ga_rate a) (Q.length - i) (pt (i + 1)) (csA a q v (pt (i + 1)) (Q.drop (i + 1))) = v := by
        unfold ob
        rw [if_pos (by omega), z, if_pos hq]
      rw [e2] at e
      rw [if_pos z]
      simp (disch := omega) only [ba_m1, Nat.add_sub_cancel, li_0, li_1, li_2, li_3, li_4, li_5, li_6, li_7, li_8, li_9, li_10, li_11, li_12, li_15, li_16, li_20, li_21, li_24, li_31, li_36, li_100, li_255, li_256, li_1000, li_6000, li_M, un_s, un_n, ba_ap, ba_upd, ba_in, cT_le, cF_le, cT_lt, cF_lt, cT_eq, cF_eq, nb_1, nb_2, ns_1, ns_2, nz_1, nz_2, ng_1, ng_2, ng_3, ng_4, ng_5, nI_clamp, nI_add, pk_mul, pk_sub, forall_eq, true_and, and_true, true_imp_iff, false_imp_iff, not_true_eq_false, not_false_eq_true, implies_true]
      exact go v (by omega) e
    · have k0 := hsu (i + 1) (Nat.le_refl _) (by omega)
      have e2 : ob q v (ga_base a) (ga_rate a) (Q.length - i) (pt (i + 1)) (csA a q v (pt (i + 1)) (Q.drop (i + 1))) = csA a q v (pt (i + 1)) (Q.drop (i + 1)) + (ga_base a (pt (i + 1)) + csA a q v (pt (i + 1)) (Q.drop (i + 1)) * ga_rate a (pt (i + 1)) / 100) := by
        unfold ob fe
        rw [if_neg (by omega), if_pos k0.1]; omega
      rw [e2] at e
      rw [if_neg z]
      have k1 := k0.1
      generalize csA a q v (pt (i + 1)) (Q.drop (i + 1)) = W at e k1 ⊢
      have hm : W * ga_rate a (pt (i + 1)) < 2 ^ 31 := by
        have := Nat.mul_le_mul (Nat.le_of_lt k1) (Nat.le_of_lt hbr.2.2)
        omega
      have hm2 := Nat.mul_le_mul (Nat.le_of_lt k1) (Nat.le_of_lt hbr.2.2)
      simp (disch := omega) only [ba_m1, Nat.add_sub_cancel, pk_div, li_0, li_1, li_2, li_3, li_4, li_5, li_6, li_7, li_8, li_9, li_10, li_11, li_12, li_15, li_16, li_20, li_21, li_24, li_31, li_36, li_100, li_255, li_256, li_1000, li_6000, li_M, un_s, un_n, ba_ap, ba_upd, ba_in, cT_le, cF_le, cT_lt, cF_lt, cT_eq, cF_eq, nb_1, nb_2, ns_1, ns_2, nz_1, nz_2, ng_1, ng_2, ng_3, ng_4, ng_5, nI_clamp, nI_add, pk_mul, pk_sub, forall_eq, true_and, and_true, true_imp_iff, false_imp_iff, not_true_eq_false, not_false_eq_true, implies_true]
      exact go _ (by omega) e
theorem y2_brings {T : Nat} {a : SA} {y : OY} {post : Int32 → SY → Prop} {l q v : Nat} {w : Nat → Int32} {pt su b m : Nat → Nat} {Q : List Nat} (I : Inv T a) (R : RY a y) (h1 : 1 ≤ Q.length) (h4 : Q.length ≤ 4) (hv : v < 256) (ho : wok a w pt Q) (hp6 : ∀ j, j ≤ Q.length → pt j < 6) (hq : pt Q.length = q)
    (hS : csA a q v (pt 0) Q < 1000000 → ∀ su', (∀ j, j < Q.length → su' j = csA a q v (pt j) (Q.drop j)) → post (nI 1) (nI (ga_now a), ga_spent a, nI (ga_ch a), nI l, cN (ga_coins a), cN (ga_base a), cN (ga_rate a), ga_guard a, ga_knows a, cN (ga_up a), cN (ga_who a), cN (ga_status a), cN (ga_latest a), cN (ga_publd a), cN (gy_ypub y), cN (ga_since a), cN (ga_held a), cN (gy_outn y), cN (ga_bal a), cN (gy_lks y), cN (gy_yf y), cN (gy_ya y), cN (gy_ys y), cN (gy_ye y), cN (gy_qf y), cN (gy_qa y), cN (gy_qs y), cN (gy_qe y), w, cN pt, cN su', cN b, cN m)) (hF : ¬ csA a q v (pt 0) Q < 1000000 → ∀ su', post (nI 0) (nI (ga_now a), ga_spent a, nI (ga_ch a), nI l, cN (ga_coins a), cN (ga_base a), cN (ga_rate a), ga_guard a, ga_knows a, cN (ga_up a), cN (ga_who a), cN (ga_status a), cN (ga_latest a), cN (ga_publd a), cN (gy_ypub y), cN (ga_since a), cN (ga_held a), cN (gy_outn y), cN (ga_bal a), cN (gy_lks y), cN (gy_yf y), cN (gy_ya y), cN (gy_ys y), cN (gy_ye y), cN (gy_qf y), cN (gy_qa y), cN (gy_qs y), cN (gy_qe y), w, cN pt, cN su', cN b, cN m)) :
    wpY_brings post (nI (ga_now a), ga_spent a, nI (ga_ch a), nI l, cN (ga_coins a), cN (ga_base a), cN (ga_rate a), ga_guard a, ga_knows a, cN (ga_up a), cN (ga_who a), cN (ga_status a), cN (ga_latest a), cN (ga_publd a), cN (gy_ypub y), cN (ga_since a), cN (ga_held a), cN (gy_outn y), cN (ga_bal a), cN (gy_lks y), cN (gy_yf y), cN (gy_ya y), cN (gy_ys y), cN (gy_ye y), cN (gy_qf y), cN (gy_qa y), cN (gy_qs y), cN (gy_qe y), w, cN pt, cN su, cN b, cN m) (nI Q.length) (nI v) := by
  have k := y2_br7 (post := post) (l := l) (b := b) (m := m) I R h1 h4 hv ho hp6 hq hS hF Q.length su (Nat.le_refl _) (fun j h h' => by omega)
  rw [if_pos rfl, ba_m1 (by omega)] at k
  simp (disch := omega) only [wpY_brings, li_0, li_1, li_2, li_3, li_4, li_5, li_6, li_7, li_8, li_9, li_10, li_11, li_12, li_15, li_16, li_20, li_21, li_24, li_31, li_36, li_100, li_255, li_256, li_1000, li_6000, li_M, un_s, un_n, ba_ap, ba_upd, ba_in, cT_le, cF_le, cT_lt, cF_lt, cT_eq, cF_eq, nb_1, nb_2, ns_1, ns_2, nz_1, nz_2, ng_1, ng_2, ng_3, ng_4, ng_5, nI_clamp, nI_add, pk_mul, pk_sub, forall_eq, true_and, and_true, true_imp_iff, false_imp_iff, not_true_eq_false, not_false_eq_true, implies_true]
  exact ⟨_, k⟩
end
section
/-- the best way so far, as the arrays hold it -/
def BR (a : SA) (q v p l : Nat) (b m : Nat → Nat) : Option (List Nat) → Prop
  | none => l = 0
  | some B => l = B.length ∧ 1 ≤ B.length ∧ B.length ≤ 4 ∧ wrt a q v b m 0 p B
theorem wrt_of {a : SA} {q v : Nat} {b m P : Nat → Nat} : ∀ (Q : List Nat) (o : Nat), (∀ i c, Q[i]? = some c → b (o + i) = c ∧ m (o + i) = csA a q v (P (o + i)) (Q.drop i) ∧ P (o + i + 1) = ot (ga_who a) c (P (o + i))) → wrt a q v b m o (P o) Q := by
  intro Q
  induction Q with
  | nil => intro o _; exact trivial
  | cons c Q ih =>
    intro o h
    obtain ⟨h1, h2, h3⟩ := h 0 c rfl
    refine ⟨h1, h2, ?_⟩
    have e : ot (ga_who a) c (P o) = P (o + 1) := h3.symm
    rw [e]
    refine ih (o + 1) (fun i c' hc' => ?_)
    have k := h (i + 1) c' hc'
    rw [show o + (i + 1) = o + 1 + i by omega] at k
    exact k
theorem y2_re112 {a : SA} {y : OY} {post : Int32 → SY → Prop} {n : Nat} {w : Nat → Int32} {pt su Qf : Nat → Nat} (hn : n ≤ 4) (hQ : ∀ i, i < n → w i = nI (Qf i)) (h : ∀ b' m', (∀ j, j < n → b' j = Qf j ∧ m' j = su j) → post (nI 0) (nI (ga_now a), ga_spent a, nI (ga_ch a), nI n, cN (ga_coins a), cN (ga_base a), cN (ga_rate a), ga_guard a, ga_knows a, cN (ga_up a), cN (ga_who a), cN (ga_status a), cN (ga_latest a), cN (ga_publd a), cN (gy_ypub y), cN (ga_since a), cN (ga_held a), cN (gy_outn y), cN (ga_bal a), cN (gy_lks y), cN (gy_yf y), cN (gy_ya y), cN (gy_ys y), cN (gy_ye y), cN (gy_qf y), cN (gy_qa y), cN (gy_qs y), cN (gy_qe y), w, cN pt, cN su, cN b', cN m')) :
    ∀ d i b m, i + d = n → (∀ j, j < i → b j = Qf j ∧ m j = su j) → wY_reached_112 post (nI n) (nI (ga_now a)) (ga_spent a) (nI (ga_ch a)) (nI n) (d + 1) (nI i) (cN (ga_coins a)) (cN (ga_base a)) (cN (ga_rate a)) (ga_guard a) (ga_knows a) (cN (ga_up a)) (cN (ga_who a)) (cN (ga_status a)) (cN (ga_latest a)) (cN (ga_publd a)) (cN (gy_ypub y)) (cN (ga_since a)) (cN (ga_held a)) (cN (gy_outn y)) (cN (ga_bal a)) (cN (gy_lks y)) (cN (gy_yf y)) (cN (gy_ya y)) (cN (gy_ys y)) (cN (gy_ye y)) (cN (gy_qf y)) (cN (gy_qa y)) (cN (gy_qs y)) (cN (gy_qe y)) w (cN pt) (cN su) (cN b) (cN m) := by
  intro d
  induction d with
  | zero =>
    intro i b m hi hb
    have e : i = n := by omega
    subst e
    rw [wY_reached_112]
    simp (disch := omega) only [li_0, li_1, li_2, li_3, li_4, li_5, li_6, li_7, li_8, li_9, li_10, li_11, li_12, li_15, li_16, li_20, li_21, li_24, li_31, li_36, li_100, li_255, li_256, li_1000, li_6000, li_M, un_s, un_n, ba_ap, ba_upd, ba_in, cT_le, cF_le, cT_lt, cF_lt, cT_eq, cF_eq, nb_1, nb_2, ns_1, ns_2, nz_1, nz_2, ng_1, ng_2, ng_3, ng_4, ng_5, nI_clamp, nI_add, pk_mul, pk_sub, forall_eq, true_and, and_true, true_imp_iff, false_imp_iff, not_true_eq_false, not_false_eq_true, implies_true]
    exact h b m hb
  | succ d ih =>
    intro i b m hi hb
    have k := ih (i + 1) (un b i (Qf i)) (un m i (su i)) (by omega) (fun j hj => by
      by_cases e : j = i
      · rw [e, un_s, un_s]; exact ⟨rfl, rfl⟩
      · rw [un_n e, un_n e]; exact hb j (by omega))
    rw [wY_reached_112]
    simp (disch := omega) only [hQ i (by omega), li_0, li_1, li_2, li_3, li_4, li_5, li_6, li_7, li_8, li_9, li_10, li_11, li_12, li_15, li_16, li_20, li_21, li_24, li_31, li_36, li_100, li_255, li_256, li_1000, li_6000, li_M, un_s, un_n, ba_ap, ba_upd, ba_in, cT_le, cF_le, cT_lt, cF_lt, cT_eq, cF_eq, nb_1, nb_2, ns_1, ns_2, nz_1, nz_2, ng_1, ng_2, ng_3, ng_4, ng_5, nI_clamp, nI_add, pk_mul, pk_sub, forall_eq, true_and, and_true, true_imp_iff, false_imp_iff, not_true_eq_false, not_false_eq_true, implies_true]
    exact k
theorem y2_reach {T : Nat} {a : SA} {y : OY} {post : Int32 → SY → Prop} {l q v p mo : Nat} {w : Nat → Int32} {pt su b m : Nat → Nat} {Q : List Nat} {B : Option (List Nat)} (I : Inv T a) (R : RY a y) (h1 : 1 ≤ Q.length) (h4 : Q.length ≤ 4) (hv0 : 0 < v) (hv : v < 256) (ho : wok a w pt Q) (hp6 : ∀ j, j ≤ Q.length → pt j < 6) (hq : pt Q.length = q) (hp : pt 0 = p) (hB : BR a q v p l b m B)
    (h : ∀ l' su' b' m', BR a q v p l' b' m' (stB (csA a q v p) B Q) → post (nI 0) (nI (ga_now a), ga_spent a, nI (ga_ch a), nI l', cN (ga_coins a), cN (ga_base a), cN (ga_rate a), ga_guard a, ga_knows a, cN (ga_up a), cN (ga_who a), cN (ga_status a), cN (ga_latest a), cN (ga_publd a), cN (gy_ypub y), cN (ga_since a), cN (ga_held a), cN (gy_outn y), cN (ga_bal a), cN (gy_lks y), cN (gy_yf y), cN (gy_ya y), cN (gy_ys y), cN (gy_ye y), cN (gy_qf y), cN (gy_qa y), cN (gy_qs y), cN (gy_qe y), w, cN pt, cN su', cN b', cN m')) :
    wpY_reached post (nI (ga_now a), ga_spent a, nI (ga_ch a), nI l, cN (ga_coins a), cN (ga_base a), cN (ga_rate a), ga_guard a, ga_knows a, cN (ga_up a), cN (ga_who a), cN (ga_status a), cN (ga_latest a), cN (ga_publd a), cN (gy_ypub y), cN (ga_since a), cN (ga_held a), cN (gy_outn y), cN (ga_bal a), cN (gy_lks y), cN (gy_yf y), cN (gy_ya y), cN (gy_ys y), cN (gy_ye y), cN (gy_qf y), cN (gy_qa y), cN (gy_qs y), cN (gy_qe y), w, cN pt, cN su, cN b, cN m) (nI Q.length) (nI v) (nI mo) := by
  have copy : ∀ su', (∀ j, j < Q.length → su' j = csA a q v (pt j) (Q.drop j)) → stB (csA a q v p) B Q = some Q → ∃ n, wY_reached_112 post (nI Q.length) (nI (ga_now a)) (ga_spent a) (nI (ga_ch a)) (nI (Q.length)) n (nI 0) (cN (ga_coins a)) (cN (ga_base a)) (cN (ga_rate a)) (ga_guard a) (ga_knows a) (cN (ga_up a)) (cN (ga_who a)) (cN (ga_status a)) (cN (ga_latest a)) (cN (ga_publd a)) (cN (gy_ypub y)) (cN (ga_since a)) (cN (ga_held a)) (cN (gy_outn y)) (cN (ga_bal a)) (cN (gy_lks y)) (cN (gy_yf y)) (cN (gy_ya y)) (cN (gy_ys y)) (cN (gy_ye y)) (cN (gy_qf y)) (cN (gy_qa y)) (cN (gy_qs y)) (cN (gy_qe y)) w (cN pt) (cN su') (cN b) (cN m) := by
    intro su' hsu hst
    refine ⟨_, y2_re112 (Qf := fun i => Q.getD i 0) h4 (fun i hi => ?_) (fun b' m' hb' => ?_) Q.length 0 b m (by omega) (fun j hj => absurd hj (Nat.not_lt_zero _))⟩
    · have := (ho i _ (List.getElem?_eq_getElem hi)).1
      rw [this]
      show nI _ = nI (Q.getD i 0)
      rw [List.getD_eq_getElem?_getD, List.getElem?_eq_getElem hi]
      rfl
    · refine h Q.length su' b' m' ?_
      rw [hst]
      refine ⟨rfl, h1, h4, ?_⟩
      rw [← hp]
      refine wrt_of (P := pt) Q 0 (fun i c hc => ?_)
      have hi : i < Q.length := (List.getElem?_eq_some_iff.mp hc).1
      obtain ⟨k1, k2⟩ := hb' i hi
      rw [Nat.zero_add]
      refine ⟨?_, by rw [k2, hsu i hi], (ho i c hc).2.2.2.2⟩
      rw [k1]
      show Q.getD i 0 = c
      rw [List.getD_eq_getElem?_getD, hc]
      rfl
  have v0 : ¬ v = 0 := by omega
  simp (disch := omega) only [wpY_reached, li_0, li_1, li_2, li_3, li_4, li_5, li_6, li_7, li_8, li_9, li_10, li_11, li_12, li_15, li_16, li_20, li_21, li_24, li_31, li_36, li_100, li_255, li_256, li_1000, li_6000, li_M, un_s, un_n, ba_ap, ba_upd, ba_in, cT_le, cF_le, cT_lt, cF_lt, cT_eq, cF_eq, nb_1, nb_2, ns_1, ns_2, nz_1, nz_2, ng_1, ng_2, ng_3, ng_4, ng_5, nI_clamp, nI_add, pk_mul, pk_sub, forall_eq, true_and, and_true, true_imp_iff, false_imp_iff, not_true_eq_false, not_false_eq_true, implies_true]
  refine y2_brings I R h1 h4 hv ho hp6 hq (fun hs su' hsu => ?_) (fun hf su' => ?_)
  · rw [hp] at hs
    have s0 : su' 0 = csA a q v p Q := by rw [hsu 0 (by omega), hp]; rfl
    cases B with
    | none =>
      have hl : l = 0 := hB
      simp (disch := omega) only [li_0, li_1, li_2, li_3, li_4, li_5, li_6, li_7, li_8, li_9, li_10, li_11, li_12, li_15, li_16, li_20, li_21, li_24, li_31, li_36, li_100, li_255, li_256, li_1000, li_6000, li_M, un_s, un_n, ba_ap, ba_upd, ba_in, cT_le, cF_le, cT_lt, cF_lt, cT_eq, cF_eq, nb_1, nb_2, ns_1, ns_2, nz_1, nz_2, ng_1, ng_2, ng_3, ng_4, ng_5, nI_clamp, nI_add, pk_mul, pk_sub, forall_eq, true_and, and_true, true_imp_iff, false_imp_iff, not_true_eq_false, not_false_eq_true, implies_true]
      exact copy su' hsu (stB_2 hs)
    | some B0 =>
      obtain ⟨b1, b2, b3, b4⟩ := hB
      have m0 : m 0 = csA a q v p B0 := by
        cases B0 with
        | nil => exact absurd b2 (by decide)
        | cons c B1 => exact b4.2.1
      have m0M : csA a q v p B0 ≤ 1000000 := by
        cases B0 with
        | nil => exact Nat.le_refl _
        | cons c B1 => exact us_M (cap_M I) _ _ _
      by_cases z1 : m 0 < su' 0
      · have n4 : ¬ (csA a q v p Q < csA a q v p B0 ∨ (csA a q v p Q = csA a q v p B0 ∧ Q.length < B0.length)) := by omega
        simp (disch := omega) only [li_0, li_1, li_2, li_3, li_4, li_5, li_6, li_7, li_8, li_9, li_10, li_11, li_12, li_15, li_16, li_20, li_21, li_24, li_31, li_36, li_100, li_255, li_256, li_1000, li_6000, li_M, un_s, un_n, ba_ap, ba_upd, ba_in, cT_le, cF_le, cT_lt, cF_lt, cT_eq, cF_eq, nb_1, nb_2, ns_1, ns_2, nz_1, nz_2, ng_1, ng_2, ng_3, ng_4, ng_5, nI_clamp, nI_add, pk_mul, pk_sub, forall_eq, true_and, and_true, true_imp_iff, false_imp_iff, not_true_eq_false, not_false_eq_true, implies_true]
        refine h l su' b m ?_
        rw [stB_4 n4]
        exact ⟨b1, b2, b3, b4⟩
      · by_cases z2 : su' 0 = m 0
        · by_cases z3 : Q.length < l
          · simp (disch := omega) only [li_0, li_1, li_2, li_3, li_4, li_5, li_6, li_7, li_8, li_9, li_10, li_11, li_12, li_15, li_16, li_20, li_21, li_24, li_31, li_36, li_100, li_255, li_256, li_1000, li_6000, li_M, un_s, un_n, ba_ap, ba_upd, ba_in, cT_le, cF_le, cT_lt, cF_lt, cT_eq, cF_eq, nb_1, nb_2, ns_1, ns_2, nz_1, nz_2, ng_1, ng_2, ng_3, ng_4, ng_5, nI_clamp, nI_add, pk_mul, pk_sub, forall_eq, true_and, and_true, true_imp_iff, false_imp_iff, not_true_eq_false, not_false_eq_true, implies_true]
            exact copy su' hsu (stB_3 hs (Or.inr ⟨by omega, by omega⟩))
          · have n4 : ¬ (csA a q v p Q < csA a q v p B0 ∨ (csA a q v p Q = csA a q v p B0 ∧ Q.length < B0.length)) := by omega
            simp (disch := omega) only [li_0, li_1, li_2, li_3, li_4, li_5, li_6, li_7, li_8, li_9, li_10, li_11, li_12, li_15, li_16, li_20, li_21, li_24, li_31, li_36, li_100, li_255, li_256, li_1000, li_6000, li_M, un_s, un_n, ba_ap, ba_upd, ba_in, cT_le, cF_le, cT_lt, cF_lt, cT_eq, cF_eq, nb_1, nb_2, ns_1, ns_2, nz_1, nz_2, ng_1, ng_2, ng_3, ng_4, ng_5, nI_clamp, nI_add, pk_mul, pk_sub, forall_eq, true_and, and_true, true_imp_iff, false_imp_iff, not_true_eq_false, not_false_eq_true, implies_true]
            refine h l su' b m ?_
            rw [stB_4 n4]
            exact ⟨b1, b2, b3, b4⟩
        · simp (disch := omega) only [li_0, li_1, li_2, li_3, li_4, li_5, li_6, li_7, li_8, li_9, li_10, li_11, li_12, li_15, li_16, li_20, li_21, li_24, li_31, li_36, li_100, li_255, li_256, li_1000, li_6000, li_M, un_s, un_n, ba_ap, ba_upd, ba_in, cT_le, cF_le, cT_lt, cF_lt, cT_eq, cF_eq, nb_1, nb_2, ns_1, ns_2, nz_1, nz_2, ng_1, ng_2, ng_3, ng_4, ng_5, nI_clamp, nI_add, pk_mul, pk_sub, forall_eq, true_and, and_true, true_imp_iff, false_imp_iff, not_true_eq_false, not_false_eq_true, implies_true]
          exact copy su' hsu (stB_3 hs (Or.inl (by omega)))
  · rw [hp] at hf
    simp (disch := omega) only [li_0, li_1, li_2, li_3, li_4, li_5, li_6, li_7, li_8, li_9, li_10, li_11, li_12, li_15, li_16, li_20, li_21, li_24, li_31, li_36, li_100, li_255, li_256, li_1000, li_6000, li_M, un_s, un_n, ba_ap, ba_upd, ba_in, cT_le, cF_le, cT_lt, cF_lt, cT_eq, cF_eq, nb_1, nb_2, ns_1, ns_2, nz_1, nz_2, ng_1, ng_2, ng_3, ng_4, ng_5, nI_clamp, nI_add, pk_mul, pk_sub, forall_eq, true_and, and_true, true_imp_iff, false_imp_iff, not_true_eq_false, not_false_eq_true, implies_true]
    refine h l su' b m ?_
    rw [stB_1 hf]
    exact hB
end
section
def fu (ch : Nat) : Nat → Nat → Nat
  | 0, _ => 0
  | d + 1, k => k * (1 + fu ch d ch) + 1
theorem fu_s (ch d k : Nat) : fu ch (d + 1) (k + 1) = fu ch (d + 1) k + 1 + fu ch d ch := by
  show (k + 1) * (1 + fu ch d ch) + 1 = k * (1 + fu ch d ch) + 1 + 1 + fu ch d ch
  rw [Nat.add_mul]
  omega
theorem fmr_s (F : Nat → List (List Nat)) (k c : Nat) : fmr F (k + 1) c = F c ++ fmr F k (c + 1) := rfl
theorem wok_snoc {a : SA} {w w' : Nat → Int32} {pt pt' : Nat → Nat} {pre : List Nat} {t c : Nat} (hl : pre.length = t) (ho : wok a w pt pre) (hw : ∀ j, j < t → w' j = w j) (hp : ∀ j, j ≤ t → pt' j = pt j) (h1 : w' t = nI c) (h2 : c < ga_ch a) (h3 : rdA a c = 1) (h4 : sd (ga_who a) c (pt t) < 2) (h5 : pt' (t + 1) = ot (ga_who a) c (pt t)) : wok a w' pt' (pre ++ [c]) := by
  intro i c' hi
  by_cases z : i < t
  · rw [List.getElem?_append_left (by omega)] at hi
    obtain ⟨k1, k2, k3, k4, k5⟩ := ho i c' hi
    rw [hw i z, hp i (by omega), hp (i + 1) (by omega)]
    exact ⟨k1, k2, k3, k4, k5⟩
  · rw [List.getElem?_append_right (by omega)] at hi
    have hz : i - pre.length = 0 := by
      have := (List.getElem?_eq_some_iff.mp hi).1
      rw [List.length_singleton] at this
      omega
    have e : i = t := by omega
    rw [hz] at hi
    have e2 : c = c' := by
      have : some c = some c' := hi
      exact Option.some.inj this
    subst e
    rw [← e2, hp i (Nat.le_refl _)]
    exact ⟨h1, h2, h3, h4, h5⟩
theorem wok_cg {a : SA} {w w' : Nat → Int32} {pt pt' : Nat → Nat} {pre : List Nat} {t : Nat} (hl : pre.length = t) (ho : wok a w pt pre) (hw : ∀ j, j < t → w' j = w j) (hp : ∀ j, j ≤ t → pt' j = pt j) : wok a w' pt' pre := by
  intro i c' hi
  have z : i < t := by have := (List.getElem?_eq_some_iff.mp hi).1; omega
  obtain ⟨k1, k2, k3, k4, k5⟩ := ho i c' hi
  rw [hw i z, hp i (by omega), hp (i + 1) (by omega)]
  exact ⟨k1, k2, k3, k4, k5⟩
theorem dfs {σ : Type} {T : Nat} {a : SA} {y : OY} {p q v E : Nat} {post : Int32 → SY → Prop} (f : σ → List Nat → σ) (Z : σ → Nat → Nat → (Nat → Nat) → (Nat → Nat) → (Nat → Nat) → Prop) (I : Inv T a) (hq6 : q < 6) (hv : v < 256)
    (hreach : ∀ (Q : List Nat) (w : Nat → Int32) (pt : Nat → Nat) (s : σ) (mo l : Nat) (su b m : Nat → Nat) (po : Int32 → SY → Prop), 1 ≤ Q.length → Q.length ≤ 4 → wok a w pt Q → (∀ j, j ≤ Q.length → pt j < 6) → pt Q.length = q → pt 0 = p → Z s mo l su b m → (∀ mo' l' su' b' m', Z (f s Q) mo' l' su' b' m' → po (nI mo') (nI (ga_now a), ga_spent a, nI (ga_ch a), nI l', cN (ga_coins a), cN (ga_base a), cN (ga_rate a), ga_guard a, ga_knows a, cN (ga_up a), cN (ga_who a), cN (ga_status a), cN (ga_latest a), cN (ga_publd a), cN (gy_ypub y), cN (ga_since a), cN (ga_held a), cN (gy_outn y), cN (ga_bal a), cN (gy_lks y), cN (gy_yf y), cN (gy_ya y), cN (gy_ys y), cN (gy_ye y), cN (gy_qf y), cN (gy_qa y), cN (gy_qs y), cN (gy_qe y), w, cN pt, cN su', cN b', cN m')) → wpY_reached po (nI (ga_now a), ga_spent a, nI (ga_ch a), nI l, cN (ga_coins a), cN (ga_base a), cN (ga_rate a), ga_guard a, ga_knows a, cN (ga_up a), cN (ga_who a), cN (ga_status a), cN (ga_latest a), cN (ga_publd a), cN (gy_ypub y), cN (ga_since a), cN (ga_held a), cN (gy_outn y), cN (ga_bal a), cN (gy_lks y), cN (gy_yf y), cN (gy_ya y), cN (gy_ys y), cN (gy_ye y), cN (gy_qf y), cN (gy_qa y), cN (gy_qs y), cN (gy_qe y), w, cN pt, cN su, cN b, cN m) (nI Q.length) (nI v) (nI mo)) :
    ∀ d t, t + (d + 1) = 4 → ∀ (E : Nat) k c, c + k = ga_ch a → ∀ (pre vis : List Nat) (w : Nat → Int32) (pt : Nat → Nat) (s : σ) (mo l : Nat) (su b m : Nat → Nat), pre.length = t → wok a w pt pre → pt 0 = p → (∀ j, j ≤ t → pt j < 6) → (∀ x, x ∈ vis ↔ ∃ j, j ≤ t ∧ pt j = x) → w t + nI 1 = nI c → Z s mo l su b m →
      (∀ (w' : Nat → Int32) (pt' : Nat → Nat) (mo' l' : Nat) (su' b' m' : Nat → Nat), (∀ j, j < t → w' j = w j) → (∀ j, j ≤ t → pt' j = pt j) → Z (((fmr (stp q (rdA a) (ga_who a) vis (pt t) (wys (ga_ch a) q (rdA a) (ga_who a) d)) k c).map (fun z => pre ++ z)).foldl f s) mo' l' su' b' m' → ∀ n, E ≤ n → wY_seek_25 post (nI q) (nI v) n (nI mo') (nI t + -nI 1) (nI (ga_now a)) (ga_spent a) (nI (ga_ch a)) (nI l') (cN (ga_coins a)) (cN (ga_base a)) (cN (ga_rate a)) (ga_guard a) (ga_knows a) (cN (ga_up a)) (cN (ga_who a)) (cN (ga_status a)) (cN (ga_latest a)) (cN (ga_publd a)) (cN (gy_ypub y)) (cN (ga_since a)) (cN (ga_held a)) (cN (gy_outn y)) (cN (ga_bal a)) (cN (gy_lks y)) (cN (gy_yf y)) (cN (gy_ya y)) (cN (gy_ys y)) (cN (gy_ye y)) (cN (gy_qf y)) (cN (gy_qa y)) (cN (gy_qs y)) (cN (gy_qe y)) w' (cN pt') (cN su') (cN b') (cN m')) →
      ∀ n, E + fu (ga_ch a) (d + 1) k ≤ n → wY_seek_25 post (nI q) (nI v) n (nI mo) (nI t) (nI (ga_now a)) (ga_spent a) (nI (ga_ch a)) (nI l) (cN (ga_coins a)) (cN (ga_base a)) (cN (ga_rate a)) (ga_guard a) (ga_knows a) (cN (ga_up a)) (cN (ga_who a)) (cN (ga_status a)) (cN (ga_latest a)) (cN (ga_publd a)) (cN (gy_ypub y)) (cN (ga_since a)) (cN (ga_held a)) (cN (gy_outn y)) (cN (ga_bal a)) (cN (gy_lks y)) (cN (gy_yf y)) (cN (gy_ya y)) (cN (gy_ys y)) (cN (gy_ye y)) (cN (gy_qf y)) (cN (gy_qa y)) (cN (gy_qs y)) (cN (gy_qe y)) w (cN pt) (cN su) (cN b) (cN m) := by
  have ch8' := I.1
  intro d
  induction d with
  | zero =>
    intro t ht E k
    induction k with
    | zero =>
      intro c hc pre vis w pt s mo l su b m hl ho hp0 hp6 hvis hwc hz hcont n hn
      have hn' : E + 1 ≤ n := by have : fu (ga_ch a) (0 + 1) 0 = 1 := by show 0 * _ + 1 = 1; rw [Nat.zero_mul]
                                 omega
      obtain ⟨n', rfl⟩ : ∃ n', n = n' + 1 := ⟨n - 1, by omega⟩
      have k := hcont (upd w t (nI c)) pt mo l su b m (fun j hj => pk_un (by omega)) (fun j _ => rfl) hz n' (by omega)
      rw [wY_seek_25]
      simp (disch := omega) only [hwc, pk_us, li_0, li_1, li_2, li_3, li_4, li_5, li_6, li_7, li_8, li_9, li_10, li_11, li_12, li_15, li_16, li_20, li_21, li_24, li_31, li_36, li_100, li_255, li_256, li_1000, li_6000, li_M, un_s, un_n, ba_ap, ba_upd, ba_in, cT_le, cF_le, cT_lt, cF_lt, cT_eq, cF_eq, nb_1, nb_2, ns_1, ns_2, nz_1, nz_2, ng_1, ng_2, ng_3, ng_4, ng_5, nI_clamp, nI_add, pk_mul, pk_sub, forall_eq, true_and, and_true, true_imp_iff, false_imp_iff, not_true_eq_false, not_false_eq_true, implies_true]
      exact k
    | succ k ihk =>
      intro c hc pre vis w pt s mo l su b m hl ho hp0 hp6 hvis hwc hz hcont n hn
      rw [fu_s] at hn
      obtain ⟨n', rfl⟩ : ∃ n', n = n' + 1 := ⟨n - 1, by omega⟩
      have hcl : c < ga_ch a := by omega
      have c8 := ch8 I hcl
      obtain ⟨j1, j2, j3, j4, j5, j6, j7, j8⟩ := I.2.2.2.2.1 c hcl
      have t3 : t = 3 := by omega
      have hot6 : ot (ga_who a) c (pt t) < 6 := by
        unfold ot; split
        · exact j3
        · exact j2
      have mem : (∀ j, j ≤ t → pt j ≠ ot (ga_who a) c (pt t)) ↔ ¬ ot (ga_who a) c (pt t) ∈ vis := by
        rw [hvis]
        exact ⟨fun h ⟨j, hj, e⟩ => h j hj e, fun h j hj e => h ⟨j, hj, e⟩⟩
      have skip : stp q (rdA a) (ga_who a) vis (pt t) (wys (ga_ch a) q (rdA a) (ga_who a) 0) c = [] → ∀ pt1, (∀ j, j ≤ t → pt1 j = pt j) → wY_seek_25 post (nI q) (nI v) n' (nI mo) (nI t) (nI (ga_now a)) (ga_spent a) (nI (ga_ch a)) (nI l) (cN (ga_coins a)) (cN (ga_base a)) (cN (ga_rate a)) (ga_guard a) (ga_knows a) (cN (ga_up a)) (cN (ga_who a)) (cN (ga_status a)) (cN (ga_latest a)) (cN (ga_publd a)) (cN (gy_ypub y)) (cN (ga_since a)) (cN (ga_held a)) (cN (gy_outn y)) (cN (ga_bal a)) (cN (gy_lks y)) (cN (gy_yf y)) (cN (gy_ya y)) (cN (gy_ys y)) (cN (gy_ye y)) (cN (gy_qf y)) (cN (gy_qa y)) (cN (gy_qs y)) (cN (gy_qe y)) (upd w t (nI c)) (cN pt1) (cN su) (cN b) (cN m) := by
        intro hF pt1 hpt1
        refine ihk (c + 1) (by omega) pre vis (upd w t (nI c)) pt1 s mo l su b m hl (wok_cg hl ho (fun j hj => pk_un (by omega)) hpt1) (by rw [hpt1 0 (by omega)]; exact hp0) (fun j hj => by rw [hpt1 j hj]; exact hp6 j hj) (fun x => ?_) (by rw [pk_us, nI_add]) hz (fun w' pt' mo' l' su' b' m' h1 h2 h3 n hn => ?_) n' (by omega)
        · rw [hvis]
          exact ⟨fun ⟨j, hj, e⟩ => ⟨j, hj, by rw [hpt1 j hj]; exact e⟩, fun ⟨j, hj, e⟩ => ⟨j, hj, by rw [← hpt1 j hj]; exact e⟩⟩
        · rw [hpt1 t (Nat.le_refl _)] at h3
          refine hcont w' pt' mo' l' su' b' m' (fun j hj => by rw [h1 j hj, pk_un (by omega)]) (fun j hj => by rw [h2 j hj, hpt1 j hj]) ?_ n hn
          rw [fmr_s, hF]
          exact h3
      rw [wY_seek_25]
      simp (disch := omega) only [hwc, pk_us, li_0, li_1, li_2, li_3, li_4, li_5, li_6, li_7, li_8, li_9, li_10, li_11, li_12, li_15, li_16, li_20, li_21, li_24, li_31, li_36, li_100, li_255, li_256, li_1000, li_6000, li_M, un_s, un_n, ba_ap, ba_upd, ba_in, cT_le, cF_le, cT_lt, cF_lt, cT_eq, cF_eq, nb_1, nb_2, ns_1, ns_2, nz_1, nz_2, ng_1, ng_2, ng_3, ng_4, ng_5, nI_clamp, nI_add, pk_mul, pk_sub, forall_eq, true_and, and_true, true_imp_iff, false_imp_iff, not_true_eq_false, not_false_eq_true, implies_true]
      refine yw_behind (by omega) c8 j1 j2 j3 (upI I) hp6 (fun hok => ?_) (fun hno => ?_)
      · rw [mem] at hok
        have hok : rdA a c = 1 ∧ sd (ga_who a) c (pt t) < 2 ∧ ¬ ot (ga_who a) c (pt t) ∈ vis := hok
        by_cases e : ot (ga_who a) c (pt t) = q
        · simp (disch := omega) only [li_0, li_1, li_2, li_3, li_4, li_5, li_6, li_7, li_8, li_9, li_10, li_11, li_12, li_15, li_16, li_20, li_21, li_24, li_31, li_36, li_100, li_255, li_256, li_1000, li_6000, li_M, un_s, un_n, ba_ap, ba_upd, ba_in, cT_le, cF_le, cT_lt, cF_lt, cT_eq, cF_eq, nb_1, nb_2, ns_1, ns_2, nz_1, nz_2, ng_1, ng_2, ng_3, ng_4, ng_5, nI_clamp, nI_add, pk_mul, pk_sub, forall_eq, true_and, and_true, true_imp_iff, false_imp_iff, not_true_eq_false, not_false_eq_true, implies_true]
          have hF : stp q (rdA a) (ga_who a) vis (pt t) (wys (ga_ch a) q (rdA a) (ga_who a) 0) c = [[c]] := by
            unfold stp; rw [if_pos hok, if_pos e]
          have ln : (pre ++ [c]).length = t + 1 := by rw [List.length_append, hl]; rfl
          have r := hreach (pre ++ [c]) (upd w t (nI c)) (un pt (t + 1) (ot (ga_who a) c (pt t))) s mo l su b m (fun r_54 u => match u with | (f0, f1, f2, f3, g0, g1, g2, g3, g4, g5, g6, g7, g8, g9, g10, g11, g12, g13, g14, g15, g16, g17, g18, g19, g20, g21, g22, g23, g24, g25, g26, g27, g28) => wY_seek_25 post (nI q) (nI v) n' r_54 (nI t) f0 f1 f2 f3 g0 g1 g2 g3 g4 g5 g6 g7 g8 g9 g10 g11 g12 g13 g14 g15 g16 g17 g18 g19 g20 g21 g22 g23 g24 g25 g26 g27 g28) (by omega) (by omega) (wok_snoc hl ho (fun j hj => pk_un (by omega)) (fun j hj => un_n (by omega)) pk_us hcl hok.1 hok.2.1 un_s) (fun j hj => by
            by_cases e3 : j = t + 1
            · rw [e3, un_s]; exact hot6
            · rw [un_n e3]; exact hp6 j (by omega)) (by rw [ln, un_s]; exact e) (by rw [un_n (by omega)]; exact hp0) hz (fun mo' l' su' b' m' hz' => ?_)
          · rw [ln, e] at r
            rw [e]
            exact r
          · refine ihk (c + 1) (by omega) pre vis (upd w t (nI c)) _ (f s (pre ++ [c])) mo' l' su' b' m' hl (wok_cg hl ho (fun j hj => pk_un (by omega)) (fun j hj => un_n (by omega))) (by rw [un_n (by omega)]; exact hp0) (fun j hj => by rw [un_n (by omega)]; exact hp6 j hj) (fun x => ?_) (by rw [pk_us, nI_add]) hz' (fun w' pt' mo' l' su' b' m' h1 h2 h3 n hn => ?_) n' (by omega)
            · rw [hvis]
              exact ⟨fun ⟨j, hj, e⟩ => ⟨j, hj, by rw [un_n (by omega)]; exact e⟩, fun ⟨j, hj, e⟩ => ⟨j, hj, by rw [un_n (by omega)] at e; exact e⟩⟩
            · rw [un_n (by omega)] at h3
              refine hcont w' pt' mo' l' su' b' m' (fun j hj => by rw [h1 j hj, pk_un (by omega)]) (fun j hj => by rw [h2 j hj, un_n (by omega)]) ?_ n hn
              rw [fmr_s, hF]
              exact h3
        · simp (disch := omega) only [li_0, li_1, li_2, li_3, li_4, li_5, li_6, li_7, li_8, li_9, li_10, li_11, li_12, li_15, li_16, li_20, li_21, li_24, li_31, li_36, li_100, li_255, li_256, li_1000, li_6000, li_M, un_s, un_n, ba_ap, ba_upd, ba_in, cT_le, cF_le, cT_lt, cF_lt, cT_eq, cF_eq, nb_1, nb_2, ns_1, ns_2, nz_1, nz_2, ng_1, ng_2, ng_3, ng_4, ng_5, nI_clamp, nI_add, pk_mul, pk_sub, forall_eq, true_and, and_true, true_imp_iff, false_imp_iff, not_true_eq_false, not_false_eq_true, implies_true]
          refine skip ?_ _ (fun j hj => un_n (by omega))
          unfold stp
          rw [if_pos hok, if_neg e]
          rfl
      · rw [mem] at hno
        have hno : ¬ (rdA a c = 1 ∧ sd (ga_who a) c (pt t) < 2 ∧ ¬ ot (ga_who a) c (pt t) ∈ vis) := hno
        simp (disch := omega) only [li_0, li_1, li_2, li_3, li_4, li_5, li_6, li_7, li_8, li_9, li_10, li_11, li_12, li_15, li_16, li_20, li_21, li_24, li_31, li_36, li_100, li_255, li_256, li_1000, li_6000, li_M, un_s, un_n, ba_ap, ba_upd, ba_in, cT_le, cF_le, cT_lt, cF_lt, cT_eq, cF_eq, nb_1, nb_2, ns_1, ns_2, nz_1, nz_2, ng_1, ng_2, ng_3, ng_4, ng_5, nI_clamp, nI_add, pk_mul, pk_sub, forall_eq, true_and, and_true, true_imp_iff, false_imp_iff, not_true_eq_false, not_false_eq_true, implies_true]
        refine skip ?_ pt (fun j hj => rfl)
        unfold stp
        rw [if_neg hno]
  | succ d ih =>
    intro t ht E k
    induction k with
    | zero =>
      intro c hc pre vis w pt s mo l su b m hl ho hp0 hp6 hvis hwc hz hcont n hn
      have hn' : E + 1 ≤ n := by have : fu (ga_ch a) (d + 1 + 1) 0 = 1 := by show 0 * _ + 1 = 1; rw [Nat.zero_mul]
                                 omega
      obtain ⟨n', rfl⟩ : ∃ n', n = n' + 1 := ⟨n - 1, by omega⟩
      have k := hcont (upd w t (nI c)) pt mo l su b m (fun j hj => pk_un (by omega)) (fun j _ => rfl) hz n' (by omega)
      rw [wY_seek_25]
      simp (disch := omega) only [hwc, pk_us, li_0, li_1, li_2, li_3, li_4, li_5, li_6, li_7, li_8, li_9, li_10, li_11, li_12, li_15, li_16, li_20, li_21, li_24, li_31, li_36, li_100, li_255, li_256, li_1000, li_6000, li_M, un_s, un_n, ba_ap, ba_upd, ba_in, cT_le, cF_le, cT_lt, cF_lt, cT_eq, cF_eq, nb_1, nb_2, ns_1, ns_2, nz_1, nz_2, ng_1, ng_2, ng_3, ng_4, ng_5, nI_clamp, nI_add, pk_mul, pk_sub, forall_eq, true_and, and_true, true_imp_iff, false_imp_iff, not_true_eq_false, not_false_eq_true, implies_true]
      exact k
    | succ k ihk =>
      intro c hc pre vis w pt s mo l su b m hl ho hp0 hp6 hvis hwc hz hcont n hn
      rw [fu_s] at hn
      obtain ⟨n', rfl⟩ : ∃ n', n = n' + 1 := ⟨n - 1, by omega⟩
      have hcl : c < ga_ch a := by omega
      have c8 := ch8 I hcl
      obtain ⟨j1, j2, j3, j4, j5, j6, j7, j8⟩ := I.2.2.2.2.1 c hcl
      have hot6 : ot (ga_who a) c (pt t) < 6 := by
        unfold ot; split
        · exact j3
        · exact j2
      have mem : (∀ j, j ≤ t → pt j ≠ ot (ga_who a) c (pt t)) ↔ ¬ ot (ga_who a) c (pt t) ∈ vis := by
        rw [hvis]
        exact ⟨fun h ⟨j, hj, e⟩ => h j hj e, fun h j hj e => h ⟨j, hj, e⟩⟩
      have next : ∀ (w1 : Nat → Int32) (pt1 : Nat → Nat) (s1 : σ) (mo1 l1 : Nat) (su1 b1 m1 : Nat → Nat) (L : List (List Nat)), (∀ j, j < t → w1 j = w j) → w1 t = nI c → (∀ j, j ≤ t → pt1 j = pt j) → stp q (rdA a) (ga_who a) vis (pt t) (wys (ga_ch a) q (rdA a) (ga_who a) (d + 1)) c = L → s1 = (L.map (fun z => pre ++ z)).foldl f s → Z s1 mo1 l1 su1 b1 m1 → ∀ n, E + fu (ga_ch a) (d + 1 + 1) k ≤ n → wY_seek_25 post (nI q) (nI v) n (nI mo1) (nI t) (nI (ga_now a)) (ga_spent a) (nI (ga_ch a)) (nI l1) (cN (ga_coins a)) (cN (ga_base a)) (cN (ga_rate a)) (ga_guard a) (ga_knows a) (cN (ga_up a)) (cN (ga_who a)) (cN (ga_status a)) (cN (ga_latest a)) (cN (ga_publd a)) (cN (gy_ypub y)) (cN (ga_since a)) (cN (ga_held a)) (cN (gy_outn y)) (cN (ga_bal a)) (cN (gy_lks y)) (cN (gy_yf y)) (cN (gy_ya y)) (cN (gy_ys y)) (cN (gy_ye y)) (cN (gy_qf y)) (cN (gy_qa y)) (cN (gy_qs y)) (cN (gy_qe y)) w1 (cN pt1) (cN su1) (cN b1) (cN m1) := by
        intro w1 pt1 s1 mo1 l1 su1 b1 m1 L hw1 hw1c hpt1 hF hs1 hz1 n hn
        refine ihk (c + 1) (by omega) pre vis w1 pt1 s1 mo1 l1 su1 b1 m1 hl (wok_cg hl ho hw1 hpt1) (by rw [hpt1 0 (by omega)]; exact hp0) (fun j hj => by rw [hpt1 j hj]; exact hp6 j hj) (fun x => ?_) (by rw [hw1c, nI_add]) hz1 (fun w' pt' mo' l' su' b' m' h1 h2 h3 n hn => ?_) n hn
        · rw [hvis]
          exact ⟨fun ⟨j, hj, e⟩ => ⟨j, hj, by rw [hpt1 j hj]; exact e⟩, fun ⟨j, hj, e⟩ => ⟨j, hj, by rw [← hpt1 j hj]; exact e⟩⟩
        · rw [hpt1 t (Nat.le_refl _)] at h3
          refine hcont w' pt' mo' l' su' b' m' (fun j hj => by rw [h1 j hj, hw1 j hj]) (fun j hj => by rw [h2 j hj, hpt1 j hj]) ?_ n hn
          rw [fmr_s, hF, List.map_append, List.foldl_append, ← hs1]
          exact h3
      rw [wY_seek_25]
      simp (disch := omega) only [hwc, pk_us, li_0, li_1, li_2, li_3, li_4, li_5, li_6, li_7, li_8, li_9, li_10, li_11, li_12, li_15, li_16, li_20, li_21, li_24, li_31, li_36, li_100, li_255, li_256, li_1000, li_6000, li_M, un_s, un_n, ba_ap, ba_upd, ba_in, cT_le, cF_le, cT_lt, cF_lt, cT_eq, cF_eq, nb_1, nb_2, ns_1, ns_2, nz_1, nz_2, ng_1, ng_2, ng_3, ng_4, ng_5, nI_clamp, nI_add, pk_mul, pk_sub, forall_eq, true_and, and_true, true_imp_iff, false_imp_iff, not_true_eq_false, not_false_eq_true, implies_true]
      refine yw_behind (by omega) c8 j1 j2 j3 (upI I) hp6 (fun hok => ?_) (fun hno => ?_)
      · rw [mem] at hok
        have hok : rdA a c = 1 ∧ sd (ga_who a) c (pt t) < 2 ∧ ¬ ot (ga_who a) c (pt t) ∈ vis := hok
        have ln : (pre ++ [c]).length = t + 1 := by rw [List.length_append, hl]; rfl
        by_cases e : ot (ga_who a) c (pt t) = q
        · simp (disch := omega) only [li_0, li_1, li_2, li_3, li_4, li_5, li_6, li_7, li_8, li_9, li_10, li_11, li_12, li_15, li_16, li_20, li_21, li_24, li_31, li_36, li_100, li_255, li_256, li_1000, li_6000, li_M, un_s, un_n, ba_ap, ba_upd, ba_in, cT_le, cF_le, cT_lt, cF_lt, cT_eq, cF_eq, nb_1, nb_2, ns_1, ns_2, nz_1, nz_2, ng_1, ng_2, ng_3, ng_4, ng_5, nI_clamp, nI_add, pk_mul, pk_sub, forall_eq, true_and, and_true, true_imp_iff, false_imp_iff, not_true_eq_false, not_false_eq_true, implies_true]
          have hF : stp q (rdA a) (ga_who a) vis (pt t) (wys (ga_ch a) q (rdA a) (ga_who a) (d + 1)) c = [[c]] := by
            unfold stp; rw [if_pos hok, if_pos e]
          have r := hreach (pre ++ [c]) (upd w t (nI c)) (un pt (t + 1) (ot (ga_who a) c (pt t))) s mo l su b m (fun r_54 u => match u with | (f0, f1, f2, f3, g0, g1, g2, g3, g4, g5, g6, g7, g8, g9, g10, g11, g12, g13, g14, g15, g16, g17, g18, g19, g20, g21, g22, g23, g24, g25, g26, g27, g28) => wY_seek_25 post (nI q) (nI v) n' r_54 (nI t) f0 f1 f2 f3 g0 g1 g2 g3 g4 g5 g6 g7 g8 g9 g10 g11 g12 g13 g14 g15 g16 g17 g18 g19 g20 g21 g22 g23 g24 g25 g26 g27 g28) (by omega) (by omega) (wok_snoc hl ho (fun j hj => pk_un (by omega)) (fun j hj => un_n (by omega)) pk_us hcl hok.1 hok.2.1 un_s) (fun j hj => by
            by_cases e3 : j = t + 1
            · rw [e3, un_s]; exact hot6
            · rw [un_n e3]; exact hp6 j (by omega)) (by rw [ln, un_s]; exact e) (by rw [un_n (by omega)]; exact hp0) hz (fun mo' l' su' b' m' hz' => next _ _ _ _ _ _ _ _ [[c]] (fun j hj => pk_un (by omega)) pk_us (fun j hj => un_n (by omega)) hF rfl hz' n' (by omega))
          rw [ln, e] at r
          rw [e]
          exact r
        · have hF : stp q (rdA a) (ga_who a) vis (pt t) (wys (ga_ch a) q (rdA a) (ga_who a) (d + 1)) c = (wys (ga_ch a) q (rdA a) (ga_who a) (d + 1) (vis ++ [ot (ga_who a) c (pt t)]) (ot (ga_who a) c (pt t))).map (fun s => c :: s) := by
            unfold stp; rw [if_pos hok, if_neg e]
          have e4 : un pt (t + 1) (ot (ga_who a) c (pt t)) (t + 1) = ot (ga_who a) c (pt t) := un_s
          have r := ih (t + 1) (by omega) (E + fu (ga_ch a) (d + 1 + 1) k) (ga_ch a) 0 (by omega) (pre ++ [c]) (vis ++ [ot (ga_who a) c (pt t)]) (upd (upd w t (nI c)) (t + 1) (-nI 1)) (un pt (t + 1) (ot (ga_who a) c (pt t))) s mo l su b m ln (wok_snoc hl ho (fun j hj => by rw [pk_un (by omega), pk_un (by omega)]) (fun j hj => un_n (by omega)) (by rw [pk_un (by omega), pk_us]) hcl hok.1 hok.2.1 un_s) (by rw [un_n (by omega)]; exact hp0) (fun j hj => by
            by_cases e3 : j = t + 1
            · rw [e3, un_s]; exact hot6
            · rw [un_n e3]; exact hp6 j (by omega)) (fun x => by
            rw [List.mem_append, List.mem_singleton, hvis]
            constructor
            · intro h
              rcases h with ⟨j, hj, e5⟩ | h
              · exact ⟨j, by omega, by rw [un_n (by omega)]; exact e5⟩
              · exact ⟨t + 1, Nat.le_refl _, by rw [un_s]; exact h.symm⟩
            · intro ⟨j, hj, e5⟩
              by_cases e3 : j = t + 1
              · rw [e3, un_s] at e5; exact Or.inr e5.symm
              · rw [un_n e3] at e5; exact Or.inl ⟨j, by omega, e5⟩) (by rw [pk_us]; exact ng_8) hz (fun w' pt' mo' l' su' b' m' h1 h2 h3 n hn => by
            rw [e4] at h3
            rw [ba_m1 (by omega), Nat.add_sub_cancel]
            refine next w' pt' _ mo' l' su' b' m' _ (fun j hj => by rw [h1 j (by omega), pk_un (by omega), pk_un (by omega)]) (by rw [h1 t (by omega), pk_un (by omega), pk_us]) (fun j hj => by rw [h2 j (by omega), un_n (by omega)]) hF ?_ h3 n hn
            rw [List.map_map]
            show List.foldl f s (List.map (fun z => pre ++ [c] ++ z) (wys (ga_ch a) q (rdA a) (ga_who a) (d + 1) (vis ++ [ot (ga_who a) c (pt t)]) (ot (ga_who a) c (pt t)))) = _
            congr 1
            apply List.map_congr_left
            intro z _
            show pre ++ [c] ++ z = pre ++ (c :: z)
            rw [List.append_assoc]
            rfl) n' (by omega)
          simp (disch := omega) only [li_0, li_1, li_2, li_3, li_4, li_5, li_6, li_7, li_8, li_9, li_10, li_11, li_12, li_15, li_16, li_20, li_21, li_24, li_31, li_36, li_100, li_255, li_256, li_1000, li_6000, li_M, un_s, un_n, ba_ap, ba_upd, ba_in, cT_le, cF_le, cT_lt, cF_lt, cT_eq, cF_eq, nb_1, nb_2, ns_1, ns_2, nz_1, nz_2, ng_1, ng_2, ng_3, ng_4, ng_5, nI_clamp, nI_add, pk_mul, pk_sub, forall_eq, true_and, and_true, true_imp_iff, false_imp_iff, not_true_eq_false, not_false_eq_true, implies_true]
          exact r
      · rw [mem] at hno
        have hno : ¬ (rdA a c = 1 ∧ sd (ga_who a) c (pt t) < 2 ∧ ¬ ot (ga_who a) c (pt t) ∈ vis) := hno
        simp (disch := omega) only [li_0, li_1, li_2, li_3, li_4, li_5, li_6, li_7, li_8, li_9, li_10, li_11, li_12, li_15, li_16, li_20, li_21, li_24, li_31, li_36, li_100, li_255, li_256, li_1000, li_6000, li_M, un_s, un_n, ba_ap, ba_upd, ba_in, cT_le, cF_le, cT_lt, cF_lt, cT_eq, cF_eq, nb_1, nb_2, ns_1, ns_2, nz_1, nz_2, ng_1, ng_2, ng_3, ng_4, ng_5, nI_clamp, nI_add, pk_mul, pk_sub, forall_eq, true_and, and_true, true_imp_iff, false_imp_iff, not_true_eq_false, not_false_eq_true, implies_true]
        refine next _ pt s mo l su b m [] (fun j hj => pk_un (by omega)) pk_us (fun j hj => rfl) ?_ rfl hz n' (by omega)
        unfold stp
        rw [if_neg hno]
end
section
theorem ng_9 : (-nI 1 ≤ nI 0) = True := eq_true (by decide)
theorem y2_re9 {T : Nat} {a : SA} {y : OY} {post : Int32 → SY → Prop} {l q p mo : Nat} {w : Nat → Int32} {pt b m : Nat → Nat} {Q : List Nat} (I : Inv T a) (R : RY a y) (h1 : 1 ≤ Q.length) (h4 : Q.length ≤ 4) (ho : wok a w pt Q) (hp6 : ∀ j, j ≤ Q.length → pt j < 6) (hq : pt Q.length = q) (hp : pt 0 = p) (hmo : mo < 256)
    : ∀ k su, k < 256 → (∀ su', post (nI (dnm (fun v => csA a q v p Q) mo k)) (nI (ga_now a), ga_spent a, nI (ga_ch a), nI l, cN (ga_coins a), cN (ga_base a), cN (ga_rate a), ga_guard a, ga_knows a, cN (ga_up a), cN (ga_who a), cN (ga_status a), cN (ga_latest a), cN (ga_publd a), cN (gy_ypub y), cN (ga_since a), cN (ga_held a), cN (gy_outn y), cN (ga_bal a), cN (gy_lks y), cN (gy_yf y), cN (gy_ya y), cN (gy_ys y), cN (gy_ye y), cN (gy_qf y), cN (gy_qa y), cN (gy_qs y), cN (gy_qe y), w, cN pt, cN su', cN b, cN m)) → wY_reached_9 post (nI Q.length) (nI mo) (k + 1) (nI k) (nI (ga_now a)) (ga_spent a) (nI (ga_ch a)) (nI l) (cN (ga_coins a)) (cN (ga_base a)) (cN (ga_rate a)) (ga_guard a) (ga_knows a) (cN (ga_up a)) (cN (ga_who a)) (cN (ga_status a)) (cN (ga_latest a)) (cN (ga_publd a)) (cN (gy_ypub y)) (cN (ga_since a)) (cN (ga_held a)) (cN (gy_outn y)) (cN (ga_bal a)) (cN (gy_lks y)) (cN (gy_yf y)) (cN (gy_ya y)) (cN (gy_ys y)) (cN (gy_ye y)) (cN (gy_qf y)) (cN (gy_qa y)) (cN (gy_qs y)) (cN (gy_qe y)) w (cN pt) (cN su) (cN b) (cN m) := by
  intro k
  induction k with
  | zero =>
    intro su _ h
    rw [wY_reached_9]
    simp (disch := omega) only [wY_reached_31, li_0, li_1, li_2, li_3, li_4, li_5, li_6, li_7, li_8, li_9, li_10, li_11, li_12, li_15, li_16, li_20, li_21, li_24, li_31, li_36, li_100, li_255, li_256, li_1000, li_6000, li_M, un_s, un_n, ba_ap, ba_upd, ba_in, cT_le, cF_le, cT_lt, cF_lt, cT_eq, cF_eq, nb_1, nb_2, ns_1, ns_2, nz_1, nz_2, ng_1, ng_2, ng_3, ng_4, ng_5, nI_clamp, nI_add, pk_mul, pk_sub, forall_eq, true_and, and_true, true_imp_iff, false_imp_iff, not_true_eq_false, not_false_eq_true, implies_true]
    exact h su
  | succ k ih =>
    intro su hk h
    rw [wY_reached_9]
    unfold dnm at h
    by_cases z : k + 1 ≤ mo
    · rw [if_pos z] at h
      simp (disch := omega) only [wY_reached_31, li_0, li_1, li_2, li_3, li_4, li_5, li_6, li_7, li_8, li_9, li_10, li_11, li_12, li_15, li_16, li_20, li_21, li_24, li_31, li_36, li_100, li_255, li_256, li_1000, li_6000, li_M, un_s, un_n, ba_ap, ba_upd, ba_in, cT_le, cF_le, cT_lt, cF_lt, cT_eq, cF_eq, nb_1, nb_2, ns_1, ns_2, nz_1, nz_2, ng_1, ng_2, ng_3, ng_4, ng_5, nI_clamp, nI_add, pk_mul, pk_sub, forall_eq, true_and, and_true, true_imp_iff, false_imp_iff, not_true_eq_false, not_false_eq_true, implies_true]
      exact h su
    · rw [if_neg z] at h
      simp (disch := omega) only [li_0, li_1, li_2, li_3, li_4, li_5, li_6, li_7, li_8, li_9, li_10, li_11, li_12, li_15, li_16, li_20, li_21, li_24, li_31, li_36, li_100, li_255, li_256, li_1000, li_6000, li_M, un_s, un_n, ba_ap, ba_upd, ba_in, cT_le, cF_le, cT_lt, cF_lt, cT_eq, cF_eq, nb_1, nb_2, ns_1, ns_2, nz_1, nz_2, ng_1, ng_2, ng_3, ng_4, ng_5, nI_clamp, nI_add, pk_mul, pk_sub, forall_eq, true_and, and_true, true_imp_iff, false_imp_iff, not_true_eq_false, not_false_eq_true, implies_true]
      refine y2_brings I R h1 h4 hk ho hp6 hq (fun hs su' _ => ?_) (fun hf su' => ?_)
      · rw [hp] at hs
        rw [if_pos hs] at h
        simp (disch := omega) only [wY_reached_31, li_0, li_1, li_2, li_3, li_4, li_5, li_6, li_7, li_8, li_9, li_10, li_11, li_12, li_15, li_16, li_20, li_21, li_24, li_31, li_36, li_100, li_255, li_256, li_1000, li_6000, li_M, un_s, un_n, ba_ap, ba_upd, ba_in, cT_le, cF_le, cT_lt, cF_lt, cT_eq, cF_eq, nb_1, nb_2, ns_1, ns_2, nz_1, nz_2, ng_1, ng_2, ng_3, ng_4, ng_5, nI_clamp, nI_add, pk_mul, pk_sub, forall_eq, true_and, and_true, true_imp_iff, false_imp_iff, not_true_eq_false, not_false_eq_true, implies_true]
        exact h su'
      · rw [hp] at hf
        rw [if_neg hf] at h
        have r := ih su' (by omega) h
        simp (disch := omega) only [ba_m1, Nat.add_sub_cancel, li_0, li_1, li_2, li_3, li_4, li_5, li_6, li_7, li_8, li_9, li_10, li_11, li_12, li_15, li_16, li_20, li_21, li_24, li_31, li_36, li_100, li_255, li_256, li_1000, li_6000, li_M, un_s, un_n, ba_ap, ba_upd, ba_in, cT_le, cF_le, cT_lt, cF_lt, cT_eq, cF_eq, nb_1, nb_2, ns_1, ns_2, nz_1, nz_2, ng_1, ng_2, ng_3, ng_4, ng_5, nI_clamp, nI_add, pk_mul, pk_sub, forall_eq, true_and, and_true, true_imp_iff, false_imp_iff, not_true_eq_false, not_false_eq_true, implies_true]
        exact r
theorem y2_seek {T : Nat} {a : SA} {y : OY} {p q v : Nat} {post : Int32 → SY → Prop} (I : Inv T a) (R : RY a y) (hp : p < 6) (hq : q < 6) (hpq : p ≠ q) (hv0 : 0 < v) (hv : v < 256)
    (h : ∀ y', RY a y' → BR a q v p (gy_len y') (gy_bst y') (gy_bsm y') (if hpA a q v p = 0 then none else some (grA a q v (hpA a q v p) p)) → post (nI 0) (mY a y')) : wpY_seek post (mY a y) (nI p) (nI q) (nI v) := by
  have main := ro_main (ch := ga_ch a) (who := ga_who a) (base := ga_base a) (rate := ga_rate a) (rd := rdA a) (cap_M I) (show v < 1000000 by omega) cap_rd hpq
  simp (disch := omega) only [wpY_seek, mY, li_0, li_1, li_2, li_3, li_4, li_5, li_6, li_7, li_8, li_9, li_10, li_11, li_12, li_15, li_16, li_20, li_21, li_24, li_31, li_36, li_100, li_255, li_256, li_1000, li_6000, li_M, un_s, un_n, ba_ap, ba_upd, ba_in, cT_le, cF_le, cT_lt, cF_lt, cT_eq, cF_eq, nb_1, nb_2, ns_1, ns_2, nz_1, nz_2, ng_1, ng_2, ng_3, ng_4, ng_5, nI_clamp, nI_add, pk_mul, pk_sub, forall_eq, true_and, and_true, true_imp_iff, false_imp_iff, not_true_eq_false, not_false_eq_true, implies_true]
  refine ⟨1 + fu (ga_ch a) 4 (ga_ch a), ?_⟩
  refine dfs (E := 1) (p := p) (σ := Option (List Nat)) (stB (csA a q v p)) (fun s mo l su b m => mo = 0 ∧ BR a q v p l b m s) I hq hv ?_ 3 0 rfl 1 (ga_ch a) 0 (by omega) [] [p] (upd (gy_way y) 0 (-nI 1)) (un (gy_part y) 0 p) none 0 0 (gy_ysum y) (gy_bst y) (gy_bsm y) rfl (fun i c hi => by cases hi) un_s ?_ ?_ (by rw [pk_us]; exact ng_8) ⟨rfl, rfl⟩ ?_ _ (Nat.le_refl _)
  · intro Q w pt s mo l su b m po h1 h4 ho hp6 hqq hpp hz hc
    refine y2_reach I R h1 h4 hv0 hv ho hp6 hqq hpp hz.2 (fun l' su' b' m' hb => ?_)
    exact hc 0 l' su' b' m' ⟨rfl, hb⟩
  · intro j hj
    have : j = 0 := by omega
    rw [this, un_s]; exact hp
  · intro x
    rw [List.mem_singleton]
    constructor
    · intro e; exact ⟨0, Nat.le_refl _, by rw [un_s]; exact e.symm⟩
    · intro ⟨j, hj, e⟩
      have : j = 0 := by omega
      rw [this, un_s] at e; exact e.symm
  · intro w' pt' mo' l' su' b' m' _ _ hz n hn
    obtain ⟨n', rfl⟩ : ∃ n', n = n' + 1 := ⟨n - 1, by omega⟩
    obtain ⟨hz1, hz2⟩ := hz
    subst hz1
    rw [wY_seek_25]
    simp (disch := omega) only [ng_7, li_0, li_1, li_2, li_3, li_4, li_5, li_6, li_7, li_8, li_9, li_10, li_11, li_12, li_15, li_16, li_20, li_21, li_24, li_31, li_36, li_100, li_255, li_256, li_1000, li_6000, li_M, un_s, un_n, ba_ap, ba_upd, ba_in, cT_le, cF_le, cT_lt, cF_lt, cT_eq, cF_eq, nb_1, nb_2, ns_1, ns_2, nz_1, nz_2, ng_1, ng_2, ng_3, ng_4, ng_5, nI_clamp, nI_add, pk_mul, pk_sub, forall_eq, true_and, and_true, true_imp_iff, false_imp_iff, not_true_eq_false, not_false_eq_true, implies_true]
    refine h (ySek y l' w' pt' su' b' m') R ?_
    have e1 : (fun z : List Nat => [] ++ z) = id := by funext z; rfl
    rw [e1, List.map_id] at hz2
    have e2 : un (gy_part y) 0 p 0 = p := un_s
    rw [e2] at hz2
    have e3 := main
    unfold hpA
    rw [ySek_len, ySek_bst, ySek_bsm]
    have e4 : (if (hpn (fun g => lsA a q v g p) 4).1 = 0 then none else some (grA a q v (hpn (fun g => lsA a q v g p) 4).1 p)) = List.foldl (stB (csA a q v p)) none (wys (ga_ch a) q (rdA a) (ga_who a) 4 [p] p) := e3.symm
    rw [e4]
    exact hz2
theorem y2_seek0 {T : Nat} {a : SA} {y : OY} {p q : Nat} {post : Int32 → SY → Prop} (I : Inv T a) (R : RY a y) (hp : p < 6) (hq : q < 6)
    (h : ∀ y', RY a y' → post (nI (mst (ga_ch a) q (rdA a) (ga_who a) (ga_base a) (ga_rate a) (capA a) p)) (mY a y')) : wpY_seek post (mY a y) (nI p) (nI q) (nI 0) := by
  simp (disch := omega) only [wpY_seek, mY, li_0, li_1, li_2, li_3, li_4, li_5, li_6, li_7, li_8, li_9, li_10, li_11, li_12, li_15, li_16, li_20, li_21, li_24, li_31, li_36, li_100, li_255, li_256, li_1000, li_6000, li_M, un_s, un_n, ba_ap, ba_upd, ba_in, cT_le, cF_le, cT_lt, cF_lt, cT_eq, cF_eq, nb_1, nb_2, ns_1, ns_2, nz_1, nz_2, ng_1, ng_2, ng_3, ng_4, ng_5, nI_clamp, nI_add, pk_mul, pk_sub, forall_eq, true_and, and_true, true_imp_iff, false_imp_iff, not_true_eq_false, not_false_eq_true, implies_true]
  refine ⟨1 + fu (ga_ch a) 4 (ga_ch a), ?_⟩
  refine dfs (E := 1) (p := p) (v := 0) (σ := Nat) (fun mo Q => dnm (fun w => csA a q w p Q) mo 255) (fun s mo l su b m => mo = s ∧ s < 256) I hq (by omega) ?_ 3 0 rfl 1 (ga_ch a) 0 (by omega) [] [p] (upd (gy_way y) 0 (-nI 1)) (un (gy_part y) 0 p) 0 0 0 (gy_ysum y) (gy_bst y) (gy_bsm y) rfl (fun i c hi => by cases hi) un_s ?_ ?_ (by rw [pk_us]; exact ng_8) ⟨rfl, by omega⟩ ?_ _ (Nat.le_refl _)
  · intro Q w pt s mo l su b m po h1 h4 ho hp6 hqq hpp hz hc
    obtain ⟨rfl, hz2⟩ := hz
    simp (disch := omega) only [wpY_reached, li_0, li_1, li_2, li_3, li_4, li_5, li_6, li_7, li_8, li_9, li_10, li_11, li_12, li_15, li_16, li_20, li_21, li_24, li_31, li_36, li_100, li_255, li_256, li_1000, li_6000, li_M, un_s, un_n, ba_ap, ba_upd, ba_in, cT_le, cF_le, cT_lt, cF_lt, cT_eq, cF_eq, nb_1, nb_2, ns_1, ns_2, nz_1, nz_2, ng_1, ng_2, ng_3, ng_4, ng_5, nI_clamp, nI_add, pk_mul, pk_sub, forall_eq, true_and, and_true, true_imp_iff, false_imp_iff, not_true_eq_false, not_false_eq_true, implies_true]
    refine ⟨_, y2_re9 I R h1 h4 ho hp6 hqq hpp hz2 255 su (by omega) (fun su' => hc _ l su' b m ⟨rfl, ?_⟩)⟩
    obtain ⟨d1, d2, d3⟩ := dnm_sp (fun w => csA a q w p Q) mo 255
    rcases d2 with d2 | d2 <;> omega
  · intro j hj
    have : j = 0 := by omega
    rw [this, un_s]; exact hp
  · intro x
    rw [List.mem_singleton]
    constructor
    · intro e; exact ⟨0, Nat.le_refl _, by rw [un_s]; exact e.symm⟩
    · intro ⟨j, hj, e⟩
      have : j = 0 := by omega
      rw [this, un_s] at e; exact e.symm
  · intro w' pt' mo' l' su' b' m' _ _ hz n hn
    obtain ⟨n', rfl⟩ : ∃ n', n = n' + 1 := ⟨n - 1, by omega⟩
    obtain ⟨hz1, hz2⟩ := hz
    have e1 : (fun z : List Nat => [] ++ z) = id := by funext z; rfl
    have e2 : un (gy_part y) 0 p 0 = p := un_s
    rw [e1, List.map_id, e2] at hz1
    rw [wY_seek_25]
    simp (disch := omega) only [ng_7, li_0, li_1, li_2, li_3, li_4, li_5, li_6, li_7, li_8, li_9, li_10, li_11, li_12, li_15, li_16, li_20, li_21, li_24, li_31, li_36, li_100, li_255, li_256, li_1000, li_6000, li_M, un_s, un_n, ba_ap, ba_upd, ba_in, cT_le, cF_le, cT_lt, cF_lt, cT_eq, cF_eq, nb_1, nb_2, ns_1, ns_2, nz_1, nz_2, ng_1, ng_2, ng_3, ng_4, ng_5, nI_clamp, nI_add, pk_mul, pk_sub, forall_eq, true_and, and_true, true_imp_iff, false_imp_iff, not_true_eq_false, not_false_eq_true, implies_true]
    rw [hz1]
    exact h (ySek y l' w' pt' su' b' m') R
end
section
theorem stp_mem {q : Nat} {rd who : Nat → Nat} {vis : List Nat} {p c : Nat} {R : List Nat → Nat → List (List Nat)} {Q : List Nat} (h : Q ∈ stp q rd who vis p R c) : sd who c p < 2 ∧ ¬ ot who c p ∈ vis ∧ (Q = [c] ∨ ∃ s, Q = c :: s ∧ s ∈ R (vis ++ [ot who c p]) (ot who c p)) := by
  unfold stp at h
  split at h
  · rename_i z
    refine ⟨z.2.1, z.2.2, ?_⟩
    split at h
    · rw [List.mem_singleton] at h; exact Or.inl h
    · obtain ⟨s, hs, e⟩ := List.mem_map.mp h
      exact Or.inr ⟨s, e.symm, hs⟩
  · cases h
theorem ends {who : Nat → Nat} {c p : Nat} (h : sd who c p < 2) : (who (2 * c) = p ∧ who (2 * c + 1) = ot who c p) ∨ (who (2 * c + 1) = p ∧ who (2 * c) = ot who c p) := by
  unfold sd at h
  unfold ot
  by_cases h0 : who (2 * c) = p
  · rw [if_pos h0]; exact Or.inl ⟨h0, rfl⟩
  · rw [if_neg h0] at h ⊢
    by_cases h1 : who (2 * c + 1) = p
    · exact Or.inr ⟨h1, rfl⟩
    · rw [if_neg h1] at h; omega
theorem wys_nd {ch q : Nat} {rd who : Nat → Nat} : ∀ d vis p (Q : List Nat), Q ∈ wys ch q rd who d vis p → p ∈ vis → (∀ c, c ∈ Q → ¬ (who (2 * c) ∈ vis ∧ who (2 * c + 1) ∈ vis)) ∧ Q.Nodup := by
  intro d
  induction d with
  | zero => intro vis p Q h; cases h
  | succ d ih =>
    intro vis p Q h hp
    obtain ⟨c, _, _, hx⟩ := fmr_mem _ _ h
    obtain ⟨m1, m2, m3⟩ := stp_mem hx
    have hc : ¬ (who (2 * c) ∈ vis ∧ who (2 * c + 1) ∈ vis) := by
      intro ⟨k1, k2⟩
      rcases ends m1 with ⟨e1, e2⟩ | ⟨e1, e2⟩
      · rw [e2] at k2; exact m2 k2
      · rw [e2] at k1; exact m2 k1
    rcases m3 with rfl | ⟨s, rfl, hs⟩
    · refine ⟨fun c' hc' => ?_, List.nodup_cons.mpr ⟨fun h => (by cases h), List.nodup_nil⟩⟩
      rw [List.mem_singleton] at hc'
      rw [hc']; exact hc
    · obtain ⟨i1, i2⟩ := ih _ _ _ hs (List.mem_append.mpr (Or.inr (List.mem_singleton.mpr rfl)))
      refine ⟨fun c' hc' => ?_, List.nodup_cons.mpr ⟨fun hcs => ?_, i2⟩⟩
      · rcases List.mem_cons.mp hc' with rfl | hc'
        · exact hc
        · intro ⟨k1, k2⟩
          exact i1 c' hc' ⟨List.mem_append.mpr (Or.inl k1), List.mem_append.mpr (Or.inl k2)⟩
      · refine i1 c hcs ?_
        rcases ends m1 with ⟨e1, e2⟩ | ⟨e1, e2⟩
        · rw [e1, e2]; exact ⟨List.mem_append.mpr (Or.inl hp), List.mem_append.mpr (Or.inr (List.mem_singleton.mpr rfl))⟩
        · rw [e1, e2]; exact ⟨List.mem_append.mpr (Or.inr (List.mem_singleton.mpr rfl)), List.mem_append.mpr (Or.inl hp)⟩
theorem gr_nd {T : Nat} {a : SA} {p q v : Nat} (I : Inv T a) (hv : v < 256) (hpq : p ≠ q) (h : hpA a q v p ≠ 0) : (grA a q v (hpA a q v p) p).Nodup ∧ csA a q v p (grA a q v (hpA a q v p) p) < 1000000 ∧ (grA a q v (hpA a q v p) p).length = hpA a q v p ∧ hpA a q v p ≤ 4 := by
  rcases hpn_sp (fun g => lsA a q v g p) 4 with ⟨i1, i2, i3⟩ | ⟨i1, i2, i3, i4, i5⟩
  · exact absurd i1 h
  · unfold hpA
    generalize (hpn (fun g => lsA a q v g p) 4).1 = n at i1 i2 i3 i4 i5 ⊢
    obtain ⟨g, rfl⟩ : ∃ g, n = g + 1 := ⟨n - 1, by omega⟩
    obtain ⟨L1, L2, e1, e2⟩ := grd_in (ch := ga_ch a) (q := q) (v := v) (who := ga_who a) (base := ga_base a) (rate := ga_rate a) (cap := capA a) (rd := rdA a) (show v < 1000000 by omega) cap_rd 4 g [p] p i2 i4 (List.mem_singleton.mpr rfl) (fun x hx => by rw [List.mem_singleton] at hx; rw [hx]; exact hpq) (fun x hx k hk1 hk2 => by
      rw [List.mem_singleton] at hx; rw [hx]; exact (i5 k hk1 (by omega)).2 hk2)
    have hm : grA a q v (g + 1) p ∈ wys (ga_ch a) q (rdA a) (ga_who a) 4 [p] p := by
      rw [e1]; exact List.mem_append.mpr (Or.inr (List.mem_cons_self ..))
    have e3 : csA a q v p (grA a q v (g + 1) p) = lsA a q v (g + 1) p := grd_cst (g + 1) p i4
    exact ⟨(wys_nd _ _ _ _ hm (List.mem_singleton.mpr rfl)).2, by rw [e3]; exact i4, grd_len _ _, i2⟩
/-- what a payment along a way asks of the state -/
def PL (a a0 : SA) (q v : Nat) : Nat → List Nat → Prop
  | _, [] => True
  | p, c :: l => sd (ga_who a0) c p < 2 ∧ csA a0 q v p (c :: l) < capA a c (sd (ga_who a0) c p) ∧ ¬ c ∈ l ∧ PL a a0 q v (ot (ga_who a0) c p) l
theorem PL_of {a : SA} {q v : Nat} : ∀ (Q : List Nat) (p : Nat), Q.Nodup → csA a q v p Q < 1000000 → PL a a q v p Q := by
  intro Q
  induction Q with
  | nil => intro p _ _; exact trivial
  | cons c Q ih =>
    intro p hn h
    obtain ⟨n1, n2⟩ := List.nodup_cons.mp hn
    rw [csA_c] at h
    have k := us_lt h
    refine ⟨k.1, by rw [csA_c, k.2.2]; exact k.2.1, n1, ?_⟩
    cases Q with
    | nil => exact trivial
    | cons c' Q' =>
      refine ih _ n2 ?_
      rw [k.2.2] at h
      unfold ob at h
      rw [if_neg (by rw [List.length_cons]; omega)] at h
      split at h
      · rename_i z; exact z
      · exact absurd h (Nat.lt_irrefl _)
theorem PL_cg {a a1 a0 : SA} {q v : Nat} : ∀ (Q : List Nat) (p : Nat), (∀ c, c ∈ Q → ∀ s, capA a1 c s = capA a c s) → PL a a0 q v p Q → PL a1 a0 q v p Q := by
  intro Q
  induction Q with
  | nil => intro p _ _; exact trivial
  | cons c Q ih =>
    intro p h k
    refine ⟨k.1, by rw [h c (List.mem_cons_self ..)]; exact k.2.1, k.2.2.1, ih _ (fun c' hc' => h c' (List.mem_cons_of_mem _ hc')) k.2.2.2⟩
theorem cap_new {a : SA} {c b0 b1 d s : Nat} {R : List LK} (hl : ga_latest a c < 11) (hd : d ≠ c) : capA (aNew a c b0 b1 R) d s = capA a d s := by
  unfold capA
  have e1 : rdA (aNew a c b0 b1 R) d = rdA a d := rfl
  rw [aNew_ch, e1, aNew_latest, un_n hd, aNew_rows, unR_n (Or.inl hd)]
  by_cases z : d < ga_ch a ∧ s < 2 ∧ rdA a d = 1 ∧ ga_latest a d < 11 ∧ (ga_rows a d (ga_latest a d)).length < 3
  · rw [if_pos z, if_pos z, aNew_bal, un_n (by omega), un_n (by omega)]
  · rw [if_neg z, if_neg z]
theorem cap_i {a : SA} {c s o : Nat} (h : o < capA a c s) : c < ga_ch a ∧ s < 2 ∧ ga_status a c = 0 ∧ ga_latest a c < 11 ∧ (ga_rows a c (ga_latest a c)).length < 3 ∧ o ≤ ga_bal a (2 * (12 * c + ga_latest a c) + s) := by
  unfold capA at h
  split at h
  · rename_i z
    obtain ⟨z1, z2, z3, z4, z5⟩ := z
    refine ⟨z1, z2, ?_, z4, z5, by omega⟩
    unfold rdA rdy at z3
    split at z3
    · rename_i w; exact w.1
    · omega
  · omega
theorem pay_loop {T N t q v : Nat} {a0 : SA} (hT : T + 12 < 32768) (ht : t < 16) (hN : N ≤ 4) : ∀ (l : List Nat) (i p : Nat) (a : SA), Inv T a → ga_who a = ga_who a0 → PL a a0 q v p l → i + l.length = N → p < 6 → ∃ a', Inv T a' ∧
    (∀ x post, RX a x → wrt a0 q v (gx_path x) (gx_xsum x) i p l → (∀ x', RX a' x' → gx_xsum x' 0 = gx_xsum x 0 → post (nI (gx_xsum x' 0)) (mX a' x')) → wX_pay_89 post (nI t) (nI N) (l.length + 1) (nI p) (nI i) (ga_spent a) (nI (ga_now a)) (nI (ga_ch a)) (nI (gx_goal x)) (nI (gx_val x)) (nI (gx_known x)) (cN (ga_coins a)) (cN (ga_up a)) (ga_knows a) (cN (ga_base a)) (cN (ga_rate a)) (ga_guard a) (cN (ga_status a)) (cN (ga_who a)) (cN (ga_latest a)) (cN (gx_row x)) (cN (ga_bal a)) (cN (gx_many x)) (cN (gx_frm x)) (cN (gx_amt x)) (cN (gx_sec x)) (cN (gx_xpy x)) (cN (gx_born x)) (cN (gx_dead x)) (cN (ga_publd a)) (cN (ga_pubs a)) (cN (ga_since a)) (cN (ga_held a)) (cN (gx_outm x)) (cN (gx_least x)) (cN (gx_path x)) (cN (gx_xsum x))) ∧
    (∀ y post, RY a y → gy_len y = N → wrt a0 q v (gy_bst y) (gy_bsm y) i p l → (∀ y', RY a' y' → gy_bsm y' 0 = gy_bsm y 0 → post (nI (gy_bsm y' 0)) (mY a' y')) → wY_pay_87 post (nI t) (l.length + 1) (nI p) (nI i) (nI (ga_now a)) (ga_spent a) (nI (ga_ch a)) (nI (gy_len y)) (cN (ga_coins a)) (cN (ga_base a)) (cN (ga_rate a)) (ga_guard a) (ga_knows a) (cN (ga_up a)) (cN (ga_who a)) (cN (ga_status a)) (cN (ga_latest a)) (cN (ga_publd a)) (cN (gy_ypub y)) (cN (ga_since a)) (cN (ga_held a)) (cN (gy_outn y)) (cN (ga_bal a)) (cN (gy_lks y)) (cN (gy_yf y)) (cN (gy_ya y)) (cN (gy_ys y)) (cN (gy_ye y)) (cN (gy_qf y)) (cN (gy_qa y)) (cN (gy_qs y)) (cN (gy_qe y)) (gy_way y) (cN (gy_part y)) (cN (gy_ysum y)) (cN (gy_bst y)) (cN (gy_bsm y))) := by
  intro l
  induction l with
  | nil =>
    intro i p a I hw hP hi hp
    rw [List.length_nil, Nat.add_zero] at hi
    refine ⟨a, I, fun x post R _ h => ?_, fun y post R hl _ h => ?_⟩
    · rw [List.length_nil, wX_pay_89]
      simp (disch := omega) only [li_0, li_1, li_2, li_3, li_4, li_5, li_6, li_7, li_8, li_9, li_10, li_11, li_12, li_15, li_16, li_20, li_21, li_24, li_31, li_36, li_100, li_255, li_256, li_1000, li_6000, li_M, un_s, un_n, ba_ap, ba_upd, ba_in, cT_le, cF_le, cT_lt, cF_lt, cT_eq, cF_eq, nb_1, nb_2, ns_1, ns_2, nz_1, nz_2, ng_1, ng_2, ng_3, ng_4, ng_5, nI_clamp, nI_add, pk_mul, pk_sub, forall_eq, true_and, and_true, true_imp_iff, false_imp_iff, not_true_eq_false, not_false_eq_true, implies_true]
      exact h x R rfl
    · subst hl
      rw [List.length_nil, wY_pay_87]
      simp (disch := omega) only [li_0, li_1, li_2, li_3, li_4, li_5, li_6, li_7, li_8, li_9, li_10, li_11, li_12, li_15, li_16, li_20, li_21, li_24, li_31, li_36, li_100, li_255, li_256, li_1000, li_6000, li_M, un_s, un_n, ba_ap, ba_upd, ba_in, cT_le, cF_le, cT_lt, cF_lt, cT_eq, cF_eq, nb_1, nb_2, ns_1, ns_2, nz_1, nz_2, ng_1, ng_2, ng_3, ng_4, ng_5, nI_clamp, nI_add, pk_mul, pk_sub, forall_eq, true_and, and_true, true_imp_iff, false_imp_iff, not_true_eq_false, not_false_eq_true, implies_true]
      exact h y R rfl
  | cons c l ih =>
    intro i p a I hw hP hi hp
    rw [List.length_cons] at hi
    obtain ⟨P1, P2, P3, P4⟩ := hP
    rw [← hw] at P1 P2
    obtain ⟨q1, q2, q3, q4, q5, q6⟩ := cap_i P2
    have c8 := ch8 I q1
    obtain ⟨j1, j2, j3, j4, j5, j6, j7, j8⟩ := I.2.2.2.2.1 c q1
    obtain ⟨s1, s2, s3⟩ := sI_s rfl P1
    have hn := I.2.1
    have p31 : p < 2 ^ 31 := by omega
    generalize hsd : sd (ga_who a) c p = s at P1 P2 q2 q6 s1 s2 s3
    generalize hV : csA a0 q v p (c :: l) = V at P2 q6
    have k7 := j7 _ (Nat.le_refl _)
    have hot6 : ot (ga_who a) c p < 6 := by
      unfold ot; split
      · exact j3
      · exact j2
    have I1 : Inv T (aNew a c (mns 0 (ga_bal a (2 * (12 * c + ga_latest a c))) V s) (mns 1 (ga_bal a (2 * (12 * c + ga_latest a c) + 1)) V s) (ga_rows a c (ga_latest a c) ++ [(s, V, t, ga_now a + 3 * (N - i))])) := by
      refine inv_new I q1 q3 q4 ?_ ?_ ?_
      · rw [List.length_append, List.length_singleton]; omega
      · intro z hz
        rcases List.mem_append.mp hz with hz | hz
        · exact k7.2.1 z hz
        · rw [List.mem_singleton] at hz
          rw [hz]
          exact ⟨q2, ht, by show ga_now a + 3 * (N - i) < 32768; omega⟩
      · rw [sumL_app]
        have k8 := k7.2.2
        have e : sumL [(s, V, t, ga_now a + 3 * (N - i))] = V := rfl
        rw [e]
        unfold mns
        rcases (show s = 0 ∨ s = 1 by omega) with rfl | rfl
        · rw [Nat.add_zero] at q6
          simp only [if_true, show ¬ (1 : Nat) = 0 by omega, if_false]; omega
        · simp only [if_true, show ¬ (0 : Nat) = 1 by omega, if_false]; omega
    obtain ⟨a', i1, i2, i3⟩ := ih (i + 1) (ot (ga_who a) c p) _ I1 (by rw [aNew_who]; exact hw) (PL_cg l _ (fun c' hc' s' => cap_new q4 (fun e => P3 (e ▸ hc'))) (by rw [hw]; exact P4)) (by omega) hot6
    refine ⟨a', i1, fun x post R hwr h => ?_, fun y post R hl hwr h => ?_⟩
    · obtain ⟨w1, w2, w3⟩ := hwr
      rw [hV] at w2
      rw [← hw] at w3
      obtain ⟨x', r1, r2⟩ := x2_add (t := t) (e := ga_now a + 3 * (N - i)) I R q1 q3 q4 q2 q6 ht (by omega)
      obtain ⟨_, r3, r4⟩ := r2 (fun _ => True)
      rw [← r3, ← r4] at w3
      have k := i2 x' post r1 w3 (fun x'' R'' e'' => h x'' R'' (by rw [e'', r4]))
      rw [List.length_cons, wX_pay_89]
      simp (disch := omega) only [w1, w2, xw_sideOf c8 p31 j2 j3, s1, li_0, li_1, li_2, li_3, li_4, li_5, li_6, li_7, li_8, li_9, li_10, li_11, li_12, li_15, li_16, li_20, li_21, li_24, li_31, li_36, li_100, li_255, li_256, li_1000, li_6000, li_M, un_s, un_n, ba_ap, ba_upd, ba_in, cT_le, cF_le, cT_lt, cF_lt, cT_eq, cF_eq, nb_1, nb_2, ns_1, ns_2, nz_1, nz_2, ng_1, ng_2, ng_3, ng_4, ng_5, nI_clamp, nI_add, pk_mul, pk_sub, forall_eq, true_and, and_true, true_imp_iff, false_imp_iff, not_true_eq_false, not_false_eq_true, implies_true]
      refine Eq.mpr (r2 _).1 ?_
      dsimp only [mX]
      simp (disch := omega) only [aNew_who, xw_other c8 hp j2 j3, li_0, li_1, li_2, li_3, li_4, li_5, li_6, li_7, li_8, li_9, li_10, li_11, li_12, li_15, li_16, li_20, li_21, li_24, li_31, li_36, li_100, li_255, li_256, li_1000, li_6000, li_M, un_s, un_n, ba_ap, ba_upd, ba_in, cT_le, cF_le, cT_lt, cF_lt, cT_eq, cF_eq, nb_1, nb_2, ns_1, ns_2, nz_1, nz_2, ng_1, ng_2, ng_3, ng_4, ng_5, nI_clamp, nI_add, pk_mul, pk_sub, forall_eq, true_and, and_true, true_imp_iff, false_imp_iff, not_true_eq_false, not_false_eq_true, implies_true]
      exact k
    · obtain ⟨w1, w2, w3⟩ := hwr
      rw [hV] at w2
      rw [← hw] at w3
      obtain ⟨y', r1, ⟨r3, r4, r5⟩, r2⟩ := y2_add (t := t) (e := ga_now a + 3 * (N - i)) I R q1 q3 q4 q5 q2 q6
      rw [← r4, ← r5] at w3
      subst hl
      have k := i3 y' post r1 r3 w3 (fun y'' R'' e'' => h y'' R'' (by rw [e'', r5]))
      rw [List.length_cons, wY_pay_87]
      simp (disch := omega) only [w1, w2, yw_sideOf c8 p31 j2 j3, s1, li_0, li_1, li_2, li_3, li_4, li_5, li_6, li_7, li_8, li_9, li_10, li_11, li_12, li_15, li_16, li_20, li_21, li_24, li_31, li_36, li_100, li_255, li_256, li_1000, li_6000, li_M, un_s, un_n, ba_ap, ba_upd, ba_in, cT_le, cF_le, cT_lt, cF_lt, cT_eq, cF_eq, nb_1, nb_2, ns_1, ns_2, nz_1, nz_2, ng_1, ng_2, ng_3, ng_4, ng_5, nI_clamp, nI_add, pk_mul, pk_sub, forall_eq, true_and, and_true, true_imp_iff, false_imp_iff, not_true_eq_false, not_false_eq_true, implies_true]
      refine r2 _ ?_
      dsimp only [mY]
      simp (disch := omega) only [aNew_who, s3, li_0, li_1, li_2, li_3, li_4, li_5, li_6, li_7, li_8, li_9, li_10, li_11, li_12, li_15, li_16, li_20, li_21, li_24, li_31, li_36, li_100, li_255, li_256, li_1000, li_6000, li_M, un_s, un_n, ba_ap, ba_upd, ba_in, cT_le, cF_le, cT_lt, cF_lt, cT_eq, cF_eq, nb_1, nb_2, ns_1, ns_2, nz_1, nz_2, ng_1, ng_2, ng_3, ng_4, ng_5, nI_clamp, nI_add, pk_mul, pk_sub, forall_eq, true_and, and_true, true_imp_iff, false_imp_iff, not_true_eq_false, not_false_eq_true, implies_true]
      exact k
end
section
/-- the relation: one abstract state, which both objects show -/
def i_Rel (k : Nat) (u : SX) (v : SY) : Prop := ∃ a x y, u = mX a x ∧ v = mY a y ∧ Inv (4 * k) a ∧ RX a x ∧ RY a y
theorem i_up {k : Nat} {u : SX} {v : SY} (h : i_Rel k u v) : i_Rel (k + 5) u v := by
  obtain ⟨a, x, y, h1, h2, I, R, S⟩ := h
  exact ⟨a, x, y, h1, h2, inv_T I (by omega), R, S⟩
theorem re_mk {k : Nat} {u : SX} {v : SY} {a : SA} {x : OX} {y : OY} (hu : u = mX a x) (hv : v = mY a y) (I : Inv (4 * k) a) (R : RX a x) (S : RY a y) : i_Rel (k + 5) u v := ⟨a, x, y, hu, hv, inv_T I (by omega), R, S⟩
theorem ix (x : Int32) : x < nI 0 ∨ ∃ j, j < 2 ^ 31 ∧ x = nI j := by
  by_cases h : x < 0
  · exact Or.inl h
  · obtain ⟨j, hj, e⟩ := nI_of h
    exact Or.inr ⟨j, hj, e⟩
theorem ixm {x : Int32} (h : x < nI 0) : x = -nI 1 ∨ x < -nI 1 := by
  have h2 := h
  rw [Int32.lt_iff_toInt_lt, show (nI 0).toInt = 0 from by decide] at h2
  have e : (-nI 1).toInt = -1 := by decide
  by_cases z : x.toInt = -1
  · exact Or.inl (Int32.toInt_inj.mp (by rw [z, e]))
  · exact Or.inr (by rw [Int32.lt_iff_toInt_lt, e]; omega)
theorem nb_m : vp_nar .byte (-nI 1) = -nI 1 := by rw [vp_nar_byte]; decide
theorem nb_m2 : vp_nar .byte (-nI 1).toInt8.toInt32 = -nI 1 := by rw [pk_vb]; decide
theorem nI_neg {x : Int32} (h : x < nI 0) {n : Nat} (hn : n < 2 ^ 31) : (nI n = x) = False := eq_false (by
  intro e
  rw [← e] at h
  exact nI_pos hn h)
theorem i_vc_height {k : Nat} {u : SX} {v : SY} (I : i_Rel k u v) (hk : k + 5 ≤ 2560) : wpX_height (fun r => wpY_height (fun r' => r' = r ∧ i_Rel (k + 5) u v) v) u := by
  obtain ⟨a, x, y, rfl, rfl, I, R, S⟩ := I
  exact ⟨rfl, re_mk rfl rfl I R S⟩
theorem i_vc_online {k : Nat} {u : SX} {v : SY} (I : i_Rel k u v) (hk : k + 5 ≤ 2560) (v1 : Int32) (v2 : Int32) : wpX_online (fun r u' => wpY_online (fun r' v' => r' = r ∧ i_Rel (k + 5) u' v') v v1 (lw_bz v2)) u v1 (lw_bz v2) := by
  obtain ⟨a, x, y, rfl, rfl, I, R, S⟩ := I
  obtain ⟨b, hb, eb⟩ : ∃ b, b < 2 ∧ lw_bz v2 = nI b := by
    rcases lw_bz_01 v2 with e | e
    · exact ⟨0, by omega, e⟩
    · exact ⟨1, by omega, e⟩
  rw [eb]
  rcases ix v1 with h | ⟨p, hp, rfl⟩
  · simp (disch := omega) only [wpX_online, mX, xw_inN h, wpY_online, mY, yw_isPartyN h, li_0, li_1, li_2, li_3, li_4, li_5, li_6, li_7, li_8, li_9, li_10, li_11, li_12, li_15, li_16, li_20, li_21, li_24, li_31, li_36, li_100, li_255, li_256, li_1000, li_6000, li_M, un_s, un_n, ba_ap, ba_upd, ba_in, cT_le, cF_le, cT_lt, cF_lt, cT_eq, cF_eq, nb_1, nb_2, ns_1, ns_2, nz_1, nz_2, ng_1, ng_2, ng_3, ng_4, ng_5, nI_clamp, nI_add, pk_mul, pk_sub, forall_eq, true_and, and_true, true_imp_iff, false_imp_iff, not_true_eq_false, not_false_eq_true, implies_true]
    exact re_mk rfl rfl I R S
  · by_cases h6 : p < 6
    · have u2 := upI I p h6
      by_cases e : ga_up a p = b
      · simp (disch := omega) only [wpX_online, mX, xw_in, wpY_online, mY, yw_isParty, li_0, li_1, li_2, li_3, li_4, li_5, li_6, li_7, li_8, li_9, li_10, li_11, li_12, li_15, li_16, li_20, li_21, li_24, li_31, li_36, li_100, li_255, li_256, li_1000, li_6000, li_M, un_s, un_n, ba_ap, ba_upd, ba_in, cT_le, cF_le, cT_lt, cF_lt, cT_eq, cF_eq, nb_1, nb_2, ns_1, ns_2, nz_1, nz_2, ng_1, ng_2, ng_3, ng_4, ng_5, nI_clamp, nI_add, pk_mul, pk_sub, forall_eq, true_and, and_true, true_imp_iff, false_imp_iff, not_true_eq_false, not_false_eq_true, implies_true]
        exact re_mk rfl rfl I R S
      · simp (disch := omega) only [wpX_online, mX, xw_in, wpY_online, mY, yw_isParty, li_0, li_1, li_2, li_3, li_4, li_5, li_6, li_7, li_8, li_9, li_10, li_11, li_12, li_15, li_16, li_20, li_21, li_24, li_31, li_36, li_100, li_255, li_256, li_1000, li_6000, li_M, un_s, un_n, ba_ap, ba_upd, ba_in, cT_le, cF_le, cT_lt, cF_lt, cT_eq, cF_eq, nb_1, nb_2, ns_1, ns_2, nz_1, nz_2, ng_1, ng_2, ng_3, ng_4, ng_5, nI_clamp, nI_add, pk_mul, pk_sub, forall_eq, true_and, and_true, true_imp_iff, false_imp_iff, not_true_eq_false, not_false_eq_true, implies_true]
        exact re_mk (a := aUp a p b) (x := xKno x 0) (y := y) rfl rfl (inv_up I hb) ⟨R.1, Or.inl rfl⟩ S
    · simp (disch := omega) only [wpX_online, mX, xw_inF, wpY_online, mY, yw_isPartyF, li_0, li_1, li_2, li_3, li_4, li_5, li_6, li_7, li_8, li_9, li_10, li_11, li_12, li_15, li_16, li_20, li_21, li_24, li_31, li_36, li_100, li_255, li_256, li_1000, li_6000, li_M, un_s, un_n, ba_ap, ba_upd, ba_in, cT_le, cF_le, cT_lt, cF_lt, cT_eq, cF_eq, nb_1, nb_2, ns_1, ns_2, nz_1, nz_2, ng_1, ng_2, ng_3, ng_4, ng_5, nI_clamp, nI_add, pk_mul, pk_sub, forall_eq, true_and, and_true, true_imp_iff, false_imp_iff, not_true_eq_false, not_false_eq_true, implies_true]
      exact re_mk rfl rfl I R S
theorem i_vc_terms {k : Nat} {u : SX} {v : SY} (I : i_Rel k u v) (hk : k + 5 ≤ 2560) (v1 : Int32) (v2 : Int32) (v3 : Int32) (v4 : Int32) : wpX_terms (fun r u' => wpY_terms (fun r' v' => r' = r ∧ i_Rel (k + 5) u' v') v v1 v2 v3 v4) u v1 v2 v3 v4 := by
  obtain ⟨a, x, y, rfl, rfl, I, R, S⟩ := I
  rcases ix v1 with h | ⟨p, hp, rfl⟩
  · simp (disch := omega) only [wpX_terms, mX, xw_inN h, wpY_terms, mY, yw_isPartyN h, li_0, li_1, li_2, li_3, li_4, li_5, li_6, li_7, li_8, li_9, li_10, li_11, li_12, li_15, li_16, li_20, li_21, li_24, li_31, li_36, li_100, li_255, li_256, li_1000, li_6000, li_M, un_s, un_n, ba_ap, ba_upd, ba_in, cT_le, cF_le, cT_lt, cF_lt, cT_eq, cF_eq, nb_1, nb_2, ns_1, ns_2, nz_1, nz_2, ng_1, ng_2, ng_3, ng_4, ng_5, nI_clamp, nI_add, pk_mul, pk_sub, forall_eq, true_and, and_true, true_imp_iff, false_imp_iff, not_true_eq_false, not_false_eq_true, implies_true]
    exact re_mk rfl rfl I R S
  by_cases h6 : p < 6
  · rcases ix v2 with h | ⟨b, hb, rfl⟩
    · simp (disch := omega) only [wpX_terms, mX, xw_in, xw_inN h, wpY_terms, mY, yw_isParty, h, li_0, li_1, li_2, li_3, li_4, li_5, li_6, li_7, li_8, li_9, li_10, li_11, li_12, li_15, li_16, li_20, li_21, li_24, li_31, li_36, li_100, li_255, li_256, li_1000, li_6000, li_M, un_s, un_n, ba_ap, ba_upd, ba_in, cT_le, cF_le, cT_lt, cF_lt, cT_eq, cF_eq, nb_1, nb_2, ns_1, ns_2, nz_1, nz_2, ng_1, ng_2, ng_3, ng_4, ng_5, nI_clamp, nI_add, pk_mul, pk_sub, forall_eq, true_and, and_true, true_imp_iff, false_imp_iff, not_true_eq_false, not_false_eq_true, implies_true]
      exact re_mk rfl rfl I R S
    by_cases hb10 : b < 10
    · rcases ix v3 with h | ⟨r, hr, rfl⟩
      · simp (disch := omega) only [wpX_terms, mX, xw_in, xw_inN h, wpY_terms, mY, yw_isParty, h, li_0, li_1, li_2, li_3, li_4, li_5, li_6, li_7, li_8, li_9, li_10, li_11, li_12, li_15, li_16, li_20, li_21, li_24, li_31, li_36, li_100, li_255, li_256, li_1000, li_6000, li_M, un_s, un_n, ba_ap, ba_upd, ba_in, cT_le, cF_le, cT_lt, cF_lt, cT_eq, cF_eq, nb_1, nb_2, ns_1, ns_2, nz_1, nz_2, ng_1, ng_2, ng_3, ng_4, ng_5, nI_clamp, nI_add, pk_mul, pk_sub, forall_eq, true_and, and_true, true_imp_iff, false_imp_iff, not_true_eq_false, not_false_eq_true, implies_true]
        exact re_mk rfl rfl I R S
      by_cases hr21 : r < 21
      · rcases ix v4 with h | ⟨g, hg, rfl⟩
        · rcases ixm h with rfl | h'
          · simp (disch := omega) only [wpX_terms, mX, xw_in, wpY_terms, mY, yw_isParty, wY_terms_49, show (-nI 1 < -nI 1) = False from eq_false (by decide), show (nI 6 ≤ -nI 1) = False from eq_false (by decide), nb_m2, show (-nI 1 = -nI 1) = True from eq_true rfl, li_0, li_1, li_2, li_3, li_4, li_5, li_6, li_7, li_8, li_9, li_10, li_11, li_12, li_15, li_16, li_20, li_21, li_24, li_31, li_36, li_100, li_255, li_256, li_1000, li_6000, li_M, un_s, un_n, ba_ap, ba_upd, ba_in, cT_le, cF_le, cT_lt, cF_lt, cT_eq, cF_eq, nb_1, nb_2, ns_1, ns_2, nz_1, nz_2, ng_1, ng_2, ng_3, ng_4, ng_5, nI_clamp, nI_add, pk_mul, pk_sub, forall_eq, true_and, and_true, true_imp_iff, false_imp_iff, not_true_eq_false, not_false_eq_true, implies_true]
            exact re_mk (a := aTrm a p b r (-nI 1)) (x := xKno x 0) (y := y) rfl rfl (inv_trm I hb10 hr21) ⟨R.1, Or.inl rfl⟩ S
          · have hne : (v4 = -nI 1) = False := eq_false (fun e => by rw [e] at h'; exact absurd h' (by decide))
            simp (disch := omega) only [wpX_terms, mX, xw_in, wpY_terms, mY, yw_isParty, h', hne, yw_isPartyN h, li_0, li_1, li_2, li_3, li_4, li_5, li_6, li_7, li_8, li_9, li_10, li_11, li_12, li_15, li_16, li_20, li_21, li_24, li_31, li_36, li_100, li_255, li_256, li_1000, li_6000, li_M, un_s, un_n, ba_ap, ba_upd, ba_in, cT_le, cF_le, cT_lt, cF_lt, cT_eq, cF_eq, nb_1, nb_2, ns_1, ns_2, nz_1, nz_2, ng_1, ng_2, ng_3, ng_4, ng_5, nI_clamp, nI_add, pk_mul, pk_sub, forall_eq, true_and, and_true, true_imp_iff, false_imp_iff, not_true_eq_false, not_false_eq_true, implies_true]
            exact re_mk rfl rfl I R S
        · by_cases hg6 : g < 6
          · by_cases hgp : g = p
            · simp (disch := omega) only [wpX_terms, mX, xw_in, wpY_terms, mY, yw_isParty, li_0, li_1, li_2, li_3, li_4, li_5, li_6, li_7, li_8, li_9, li_10, li_11, li_12, li_15, li_16, li_20, li_21, li_24, li_31, li_36, li_100, li_255, li_256, li_1000, li_6000, li_M, un_s, un_n, ba_ap, ba_upd, ba_in, cT_le, cF_le, cT_lt, cF_lt, cT_eq, cF_eq, nb_1, nb_2, ns_1, ns_2, nz_1, nz_2, ng_1, ng_2, ng_3, ng_4, ng_5, nI_clamp, nI_add, pk_mul, pk_sub, forall_eq, true_and, and_true, true_imp_iff, false_imp_iff, not_true_eq_false, not_false_eq_true, implies_true]
              exact re_mk rfl rfl I R S
            · simp (disch := omega) only [wpX_terms, mX, xw_in, wpY_terms, mY, yw_isParty, wY_terms_49, li_0, li_1, li_2, li_3, li_4, li_5, li_6, li_7, li_8, li_9, li_10, li_11, li_12, li_15, li_16, li_20, li_21, li_24, li_31, li_36, li_100, li_255, li_256, li_1000, li_6000, li_M, un_s, un_n, ba_ap, ba_upd, ba_in, cT_le, cF_le, cT_lt, cF_lt, cT_eq, cF_eq, nb_1, nb_2, ns_1, ns_2, nz_1, nz_2, ng_1, ng_2, ng_3, ng_4, ng_5, nI_clamp, nI_add, pk_mul, pk_sub, forall_eq, true_and, and_true, true_imp_iff, false_imp_iff, not_true_eq_false, not_false_eq_true, implies_true]
              exact re_mk (a := aTrm a p b r (nI g)) (x := xKno x 0) (y := y) rfl rfl (inv_trm I hb10 hr21) ⟨R.1, Or.inl rfl⟩ S
          · simp (disch := omega) only [wpX_terms, mX, xw_in, wpY_terms, mY, yw_isParty, yw_isPartyF, li_0, li_1, li_2, li_3, li_4, li_5, li_6, li_7, li_8, li_9, li_10, li_11, li_12, li_15, li_16, li_20, li_21, li_24, li_31, li_36, li_100, li_255, li_256, li_1000, li_6000, li_M, un_s, un_n, ba_ap, ba_upd, ba_in, cT_le, cF_le, cT_lt, cF_lt, cT_eq, cF_eq, nb_1, nb_2, ns_1, ns_2, nz_1, nz_2, ng_1, ng_2, ng_3, ng_4, ng_5, nI_clamp, nI_add, pk_mul, pk_sub, forall_eq, true_and, and_true, true_imp_iff, false_imp_iff, not_true_eq_false, not_false_eq_true, implies_true]
            exact re_mk rfl rfl I R S
      · simp (disch := omega) only [wpX_terms, mX, xw_in, xw_inF, wpY_terms, mY, yw_isParty, li_0, li_1, li_2, li_3, li_4, li_5, li_6, li_7, li_8, li_9, li_10, li_11, li_12, li_15, li_16, li_20, li_21, li_24, li_31, li_36, li_100, li_255, li_256, li_1000, li_6000, li_M, un_s, un_n, ba_ap, ba_upd, ba_in, cT_le, cF_le, cT_lt, cF_lt, cT_eq, cF_eq, nb_1, nb_2, ns_1, ns_2, nz_1, nz_2, ng_1, ng_2, ng_3, ng_4, ng_5, nI_clamp, nI_add, pk_mul, pk_sub, forall_eq, true_and, and_true, true_imp_iff, false_imp_iff, not_true_eq_false, not_false_eq_true, implies_true]
        exact re_mk rfl rfl I R S
    · simp (disch := omega) only [wpX_terms, mX, xw_in, xw_inF, wpY_terms, mY, yw_isParty, li_0, li_1, li_2, li_3, li_4, li_5, li_6, li_7, li_8, li_9, li_10, li_11, li_12, li_15, li_16, li_20, li_21, li_24, li_31, li_36, li_100, li_255, li_256, li_1000, li_6000, li_M, un_s, un_n, ba_ap, ba_upd, ba_in, cT_le, cF_le, cT_lt, cF_lt, cT_eq, cF_eq, nb_1, nb_2, ns_1, ns_2, nz_1, nz_2, ng_1, ng_2, ng_3, ng_4, ng_5, nI_clamp, nI_add, pk_mul, pk_sub, forall_eq, true_and, and_true, true_imp_iff, false_imp_iff, not_true_eq_false, not_false_eq_true, implies_true]
      exact re_mk rfl rfl I R S
  · simp (disch := omega) only [wpX_terms, mX, xw_inF, wpY_terms, mY, yw_isPartyF, li_0, li_1, li_2, li_3, li_4, li_5, li_6, li_7, li_8, li_9, li_10, li_11, li_12, li_15, li_16, li_20, li_21, li_24, li_31, li_36, li_100, li_255, li_256, li_1000, li_6000, li_M, un_s, un_n, ba_ap, ba_upd, ba_in, cT_le, cF_le, cT_lt, cF_lt, cT_eq, cF_eq, nb_1, nb_2, ns_1, ns_2, nz_1, nz_2, ng_1, ng_2, ng_3, ng_4, ng_5, nI_clamp, nI_add, pk_mul, pk_sub, forall_eq, true_and, and_true, true_imp_iff, false_imp_iff, not_true_eq_false, not_false_eq_true, implies_true]
    exact re_mk rfl rfl I R S
theorem i_vc_block {k : Nat} {u : SX} {v : SY} (I : i_Rel k u v) (hk : k + 5 ≤ 2560) (v1 : Int32) : wpX_block (fun r u' => wpY_block (fun r' v' => r' = r ∧ i_Rel (k + 5) u' v') v v1) u v1 := by
  obtain ⟨a, x, y, rfl, rfl, I, R, S⟩ := I
  rcases ix v1 with h | ⟨N, hN, rfl⟩
  · have h1 : v1 < nI 1 := by
      rw [Int32.lt_iff_toInt_lt] at h ⊢
      rw [show (nI 0).toInt = 0 from by decide] at h
      rw [show (nI 1).toInt = 1 from by decide]
      omega
    simp (disch := omega) only [wpX_block, mX, wpY_block, mY, h1, li_0, li_1, li_2, li_3, li_4, li_5, li_6, li_7, li_8, li_9, li_10, li_11, li_12, li_15, li_16, li_20, li_21, li_24, li_31, li_36, li_100, li_255, li_256, li_1000, li_6000, li_M, un_s, un_n, ba_ap, ba_upd, ba_in, cT_le, cF_le, cT_lt, cF_lt, cT_eq, cF_eq, nb_1, nb_2, ns_1, ns_2, nz_1, nz_2, ng_1, ng_2, ng_3, ng_4, ng_5, nI_clamp, nI_add, pk_mul, pk_sub, forall_eq, true_and, and_true, true_imp_iff, false_imp_iff, not_true_eq_false, not_false_eq_true, implies_true]
    exact re_mk rfl rfl I R S
  · by_cases h0 : N = 0
    · subst h0
      simp (disch := omega) only [wpX_block, mX, wpY_block, mY, li_0, li_1, li_2, li_3, li_4, li_5, li_6, li_7, li_8, li_9, li_10, li_11, li_12, li_15, li_16, li_20, li_21, li_24, li_31, li_36, li_100, li_255, li_256, li_1000, li_6000, li_M, un_s, un_n, ba_ap, ba_upd, ba_in, cT_le, cF_le, cT_lt, cF_lt, cT_eq, cF_eq, nb_1, nb_2, ns_1, ns_2, nz_1, nz_2, ng_1, ng_2, ng_3, ng_4, ng_5, nI_clamp, nI_add, pk_mul, pk_sub, forall_eq, true_and, and_true, true_imp_iff, false_imp_iff, not_true_eq_false, not_false_eq_true, implies_true]
      exact re_mk rfl rfl I R S
    · by_cases h20 : N ≤ 20
      · obtain ⟨a', i1, i2, i3⟩ := bl_k (N := N) (by omega) N 0 (4 * k) a I (by omega) (by omega)
        simp (disch := omega) only [wpX_block, mX, li_0, li_1, li_2, li_3, li_4, li_5, li_6, li_7, li_8, li_9, li_10, li_11, li_12, li_15, li_16, li_20, li_21, li_24, li_31, li_36, li_100, li_255, li_256, li_1000, li_6000, li_M, un_s, un_n, ba_ap, ba_upd, ba_in, cT_le, cF_le, cT_lt, cF_lt, cT_eq, cF_eq, nb_1, nb_2, ns_1, ns_2, nz_1, nz_2, ng_1, ng_2, ng_3, ng_4, ng_5, nI_clamp, nI_add, pk_mul, pk_sub, forall_eq, true_and, and_true, true_imp_iff, false_imp_iff, not_true_eq_false, not_false_eq_true, implies_true]
        refine ⟨_, i2 x _ R (fun x' R' => ?_)⟩
        simp (disch := omega) only [wpY_block, mY, li_0, li_1, li_2, li_3, li_4, li_5, li_6, li_7, li_8, li_9, li_10, li_11, li_12, li_15, li_16, li_20, li_21, li_24, li_31, li_36, li_100, li_255, li_256, li_1000, li_6000, li_M, un_s, un_n, ba_ap, ba_upd, ba_in, cT_le, cF_le, cT_lt, cF_lt, cT_eq, cF_eq, nb_1, nb_2, ns_1, ns_2, nz_1, nz_2, ng_1, ng_2, ng_3, ng_4, ng_5, nI_clamp, nI_add, pk_mul, pk_sub, forall_eq, true_and, and_true, true_imp_iff, false_imp_iff, not_true_eq_false, not_false_eq_true, implies_true]
        refine ⟨_, i3 y _ S (fun y' S' => ⟨rfl, a', x', y', rfl, rfl, inv_T i1 (by omega), R', S'⟩)⟩
      · simp (disch := omega) only [wpX_block, mX, wpY_block, mY, li_0, li_1, li_2, li_3, li_4, li_5, li_6, li_7, li_8, li_9, li_10, li_11, li_12, li_15, li_16, li_20, li_21, li_24, li_31, li_36, li_100, li_255, li_256, li_1000, li_6000, li_M, un_s, un_n, ba_ap, ba_upd, ba_in, cT_le, cF_le, cT_lt, cF_lt, cT_eq, cF_eq, nb_1, nb_2, ns_1, ns_2, nz_1, nz_2, ng_1, ng_2, ng_3, ng_4, ng_5, nI_clamp, nI_add, pk_mul, pk_sub, forall_eq, true_and, and_true, true_imp_iff, false_imp_iff, not_true_eq_false, not_false_eq_true, implies_true]
        exact re_mk rfl rfl I R S
end
section
theorem i_vc_publish {k : Nat} {u : SX} {v : SY} (I : i_Rel k u v) (hk : k + 5 ≤ 2560) (v1 : Int32) (v2 : Int32) (v3 : Int32) : wpX_publish (fun r u' => wpY_publish (fun r' v' => r' = r ∧ i_Rel (k + 5) u' v') v v1 v2 v3) u v1 v2 v3 := by
  obtain ⟨a, x, y, rfl, rfl, I, R, S⟩ := I
  have ch := I.1
  -- the channel
  rcases ix v2 with h | ⟨c, hc31, rfl⟩
  · rcases ix v1 with h1 | ⟨p, hp, rfl⟩
    · simp (disch := omega) only [wpX_publish, wpX_isChannel, mX, xw_inN h, wpY_publish, mY, yw_isPartyN h1, li_0, li_1, li_2, li_3, li_4, li_5, li_6, li_7, li_8, li_9, li_10, li_11, li_12, li_15, li_16, li_20, li_21, li_24, li_31, li_36, li_100, li_255, li_256, li_1000, li_6000, li_M, un_s, un_n, ba_ap, ba_upd, ba_in, cT_le, cF_le, cT_lt, cF_lt, cT_eq, cF_eq, nb_1, nb_2, ns_1, ns_2, nz_1, nz_2, ng_1, ng_2, ng_3, ng_4, ng_5, nI_clamp, nI_add, pk_mul, pk_sub, forall_eq, true_and, and_true, true_imp_iff, false_imp_iff, not_true_eq_false, not_false_eq_true, implies_true]
      exact re_mk rfl rfl I R S
    · by_cases h6 : p < 6
      · simp (disch := omega) only [wpX_publish, wpX_isChannel, mX, xw_inN h, wpY_publish, mY, yw_isParty, wpY_isChannel, h, li_0, li_1, li_2, li_3, li_4, li_5, li_6, li_7, li_8, li_9, li_10, li_11, li_12, li_15, li_16, li_20, li_21, li_24, li_31, li_36, li_100, li_255, li_256, li_1000, li_6000, li_M, un_s, un_n, ba_ap, ba_upd, ba_in, cT_le, cF_le, cT_lt, cF_lt, cT_eq, cF_eq, nb_1, nb_2, ns_1, ns_2, nz_1, nz_2, ng_1, ng_2, ng_3, ng_4, ng_5, nI_clamp, nI_add, pk_mul, pk_sub, forall_eq, true_and, and_true, true_imp_iff, false_imp_iff, not_true_eq_false, not_false_eq_true, implies_true]
        exact re_mk rfl rfl I R S
      · simp (disch := omega) only [wpX_publish, wpX_isChannel, mX, xw_inN h, wpY_publish, mY, yw_isPartyF, li_0, li_1, li_2, li_3, li_4, li_5, li_6, li_7, li_8, li_9, li_10, li_11, li_12, li_15, li_16, li_20, li_21, li_24, li_31, li_36, li_100, li_255, li_256, li_1000, li_6000, li_M, un_s, un_n, ba_ap, ba_upd, ba_in, cT_le, cF_le, cT_lt, cF_lt, cT_eq, cF_eq, nb_1, nb_2, ns_1, ns_2, nz_1, nz_2, ng_1, ng_2, ng_3, ng_4, ng_5, nI_clamp, nI_add, pk_mul, pk_sub, forall_eq, true_and, and_true, true_imp_iff, false_imp_iff, not_true_eq_false, not_false_eq_true, implies_true]
        exact re_mk rfl rfl I R S
  by_cases hc : c < ga_ch a
  · have c8 := ch8 I hc
    obtain ⟨j1, j2, j3, j4, j5, j6, j7, j8⟩ := I.2.2.2.2.1 c hc
    -- the party
    have party : (∃ p, p < 6 ∧ v1 = nI p) ∨ ((∀ post a y, post (nI 0) → wpY_isParty post v1 ∧ (a : SA) = a ∧ (y : OY) = y) ∧ (nI (ga_who a (2 * c)) = v1) = False ∧ (nI (ga_who a (2 * c + 1)) = v1) = False) := by
      rcases ix v1 with h1 | ⟨p, hp, rfl⟩
      · refine Or.inr ⟨fun post a y h => ⟨?_, rfl, rfl⟩, nI_neg h1 (by omega), nI_neg h1 (by omega)⟩
        rw [yw_isPartyN h1]; exact h
      · by_cases h6 : p < 6
        · exact Or.inl ⟨p, h6, rfl⟩
        · refine Or.inr ⟨fun post a y h => ⟨?_, rfl, rfl⟩, cF_eq (by omega) (by omega) hp, cF_eq (by omega) (by omega) hp⟩
          rw [yw_isPartyF (by omega) hp]; exact h
    rcases party with ⟨p, hp, rfl⟩ | ⟨hy, n1, n2⟩
    · have p31 : p < 2 ^ 31 := by omega
      by_cases h0 : ga_status a c = 0
      · rcases ix v3 with h | ⟨s, hs, rfl⟩
        · by_cases z : sd (ga_who a) c p < 2
          · obtain ⟨s1, s2, s3⟩ := sI_s rfl z
            simp (disch := omega) only [wpX_publish, wpX_isChannel, mX, xw_in, xw_inN h, wpY_publish, mY, yw_isParty, yw_isChannel, yw_sideOf c8 p31 j2 j3, s1, h, li_0, li_1, li_2, li_3, li_4, li_5, li_6, li_7, li_8, li_9, li_10, li_11, li_12, li_15, li_16, li_20, li_21, li_24, li_31, li_36, li_100, li_255, li_256, li_1000, li_6000, li_M, un_s, un_n, ba_ap, ba_upd, ba_in, cT_le, cF_le, cT_lt, cF_lt, cT_eq, cF_eq, nb_1, nb_2, ns_1, ns_2, nz_1, nz_2, ng_1, ng_2, ng_3, ng_4, ng_5, nI_clamp, nI_add, pk_mul, pk_sub, forall_eq, true_and, and_true, true_imp_iff, false_imp_iff, not_true_eq_false, not_false_eq_true, implies_true]
            exact re_mk rfl rfl I R S
          · have s1 := sI_n z
            simp (disch := omega) only [wpX_publish, wpX_isChannel, mX, xw_in, xw_inN h, wpY_publish, mY, yw_isParty, yw_isChannel, yw_sideOf c8 p31 j2 j3, s1, li_0, li_1, li_2, li_3, li_4, li_5, li_6, li_7, li_8, li_9, li_10, li_11, li_12, li_15, li_16, li_20, li_21, li_24, li_31, li_36, li_100, li_255, li_256, li_1000, li_6000, li_M, un_s, un_n, ba_ap, ba_upd, ba_in, cT_le, cF_le, cT_lt, cF_lt, cT_eq, cF_eq, nb_1, nb_2, ns_1, ns_2, nz_1, nz_2, ng_1, ng_2, ng_3, ng_4, ng_5, nI_clamp, nI_add, pk_mul, pk_sub, forall_eq, true_and, and_true, true_imp_iff, false_imp_iff, not_true_eq_false, not_false_eq_true, implies_true]
            exact re_mk rfl rfl I R S
        · by_cases hsl : s ≤ ga_latest a c
          · by_cases z : sd (ga_who a) c p < 2
            · obtain ⟨s1, s2, s3⟩ := sI_s rfl z
              obtain ⟨x', r1, r2⟩ := x2_shw I (by omega) R hc h0 z hsl
              obtain ⟨y', q1, q2⟩ := y2_shw I S hc hp h0 z rfl hsl
              simp (disch := omega) only [wpX_publish, wpX_isChannel, mX, xw_in, xw_sideOf c8 p31 j2 j3, s1, li_0, li_1, li_2, li_3, li_4, li_5, li_6, li_7, li_8, li_9, li_10, li_11, li_12, li_15, li_16, li_20, li_21, li_24, li_31, li_36, li_100, li_255, li_256, li_1000, li_6000, li_M, un_s, un_n, ba_ap, ba_upd, ba_in, cT_le, cF_le, cT_lt, cF_lt, cT_eq, cF_eq, nb_1, nb_2, ns_1, ns_2, nz_1, nz_2, ng_1, ng_2, ng_3, ng_4, ng_5, nI_clamp, nI_add, pk_mul, pk_sub, forall_eq, true_and, and_true, true_imp_iff, false_imp_iff, not_true_eq_false, not_false_eq_true, implies_true]
              refine Eq.mpr (r2 _) ?_
              dsimp only [mX]
              simp (disch := omega) only [wpY_publish, mY, yw_isParty, yw_isChannel, yw_sideOf c8 p31 j2 j3, s1, li_0, li_1, li_2, li_3, li_4, li_5, li_6, li_7, li_8, li_9, li_10, li_11, li_12, li_15, li_16, li_20, li_21, li_24, li_31, li_36, li_100, li_255, li_256, li_1000, li_6000, li_M, un_s, un_n, ba_ap, ba_upd, ba_in, cT_le, cF_le, cT_lt, cF_lt, cT_eq, cF_eq, nb_1, nb_2, ns_1, ns_2, nz_1, nz_2, ng_1, ng_2, ng_3, ng_4, ng_5, nI_clamp, nI_add, pk_mul, pk_sub, forall_eq, true_and, and_true, true_imp_iff, false_imp_iff, not_true_eq_false, not_false_eq_true, implies_true]
              refine q2 _ ?_
              exact re_mk (a := aShw a c (sd (ga_who a) c p) s) rfl rfl (inv_shw I hc h0 z hsl) r1 q1
            · have s1 := sI_n z
              simp (disch := omega) only [wpX_publish, wpX_isChannel, mX, xw_in, xw_sideOf c8 p31 j2 j3, s1, wpY_publish, mY, yw_isParty, yw_isChannel, yw_sideOf c8 p31 j2 j3, li_0, li_1, li_2, li_3, li_4, li_5, li_6, li_7, li_8, li_9, li_10, li_11, li_12, li_15, li_16, li_20, li_21, li_24, li_31, li_36, li_100, li_255, li_256, li_1000, li_6000, li_M, un_s, un_n, ba_ap, ba_upd, ba_in, cT_le, cF_le, cT_lt, cF_lt, cT_eq, cF_eq, nb_1, nb_2, ns_1, ns_2, nz_1, nz_2, ng_1, ng_2, ng_3, ng_4, ng_5, nI_clamp, nI_add, pk_mul, pk_sub, forall_eq, true_and, and_true, true_imp_iff, false_imp_iff, not_true_eq_false, not_false_eq_true, implies_true]
              exact re_mk rfl rfl I R S
          · by_cases z : sd (ga_who a) c p < 2
            · obtain ⟨s1, s2, s3⟩ := sI_s rfl z
              simp (disch := omega) only [wpX_publish, wpX_isChannel, mX, xw_in, xw_inF, wpY_publish, mY, yw_isParty, yw_isChannel, yw_sideOf c8 p31 j2 j3, s1, li_0, li_1, li_2, li_3, li_4, li_5, li_6, li_7, li_8, li_9, li_10, li_11, li_12, li_15, li_16, li_20, li_21, li_24, li_31, li_36, li_100, li_255, li_256, li_1000, li_6000, li_M, un_s, un_n, ba_ap, ba_upd, ba_in, cT_le, cF_le, cT_lt, cF_lt, cT_eq, cF_eq, nb_1, nb_2, ns_1, ns_2, nz_1, nz_2, ng_1, ng_2, ng_3, ng_4, ng_5, nI_clamp, nI_add, pk_mul, pk_sub, forall_eq, true_and, and_true, true_imp_iff, false_imp_iff, not_true_eq_false, not_false_eq_true, implies_true]
              exact re_mk rfl rfl I R S
            · have s1 := sI_n z
              simp (disch := omega) only [wpX_publish, wpX_isChannel, mX, xw_in, xw_inF, wpY_publish, mY, yw_isParty, yw_isChannel, yw_sideOf c8 p31 j2 j3, s1, li_0, li_1, li_2, li_3, li_4, li_5, li_6, li_7, li_8, li_9, li_10, li_11, li_12, li_15, li_16, li_20, li_21, li_24, li_31, li_36, li_100, li_255, li_256, li_1000, li_6000, li_M, un_s, un_n, ba_ap, ba_upd, ba_in, cT_le, cF_le, cT_lt, cF_lt, cT_eq, cF_eq, nb_1, nb_2, ns_1, ns_2, nz_1, nz_2, ng_1, ng_2, ng_3, ng_4, ng_5, nI_clamp, nI_add, pk_mul, pk_sub, forall_eq, true_and, and_true, true_imp_iff, false_imp_iff, not_true_eq_false, not_false_eq_true, implies_true]
              exact re_mk rfl rfl I R S
      · simp (disch := omega) only [wpX_publish, wpX_isChannel, mX, xw_in, wpY_publish, mY, yw_isParty, yw_isChannel, li_0, li_1, li_2, li_3, li_4, li_5, li_6, li_7, li_8, li_9, li_10, li_11, li_12, li_15, li_16, li_20, li_21, li_24, li_31, li_36, li_100, li_255, li_256, li_1000, li_6000, li_M, un_s, un_n, ba_ap, ba_upd, ba_in, cT_le, cF_le, cT_lt, cF_lt, cT_eq, cF_eq, nb_1, nb_2, ns_1, ns_2, nz_1, nz_2, ng_1, ng_2, ng_3, ng_4, ng_5, nI_clamp, nI_add, pk_mul, pk_sub, forall_eq, true_and, and_true, true_imp_iff, false_imp_iff, not_true_eq_false, not_false_eq_true, implies_true]
        exact re_mk rfl rfl I R S
    · have fin : wpY_publish (fun r' v' => r' = nI 0 ∧ i_Rel (k + 5) (mX a x) v') (mY a y) v1 (nI c) v3 := by
        unfold wpY_publish
        dsimp only [mY]
        refine (hy _ a y ?_).1
        simp (disch := omega) only [li_0, li_1, li_2, li_3, li_4, li_5, li_6, li_7, li_8, li_9, li_10, li_11, li_12, li_15, li_16, li_20, li_21, li_24, li_31, li_36, li_100, li_255, li_256, li_1000, li_6000, li_M, un_s, un_n, ba_ap, ba_upd, ba_in, cT_le, cF_le, cT_lt, cF_lt, cT_eq, cF_eq, nb_1, nb_2, ns_1, ns_2, nz_1, nz_2, ng_1, ng_2, ng_3, ng_4, ng_5, nI_clamp, nI_add, pk_mul, pk_sub, forall_eq, true_and, and_true, true_imp_iff, false_imp_iff, not_true_eq_false, not_false_eq_true, implies_true]
        exact re_mk rfl rfl I R S
      by_cases h0 : ga_status a c = 0
      · rcases ix v3 with h | ⟨s, hs, rfl⟩
        · simp (disch := omega) only [wpX_publish, wpX_isChannel, mX, xw_in, xw_inN h, li_0, li_1, li_2, li_3, li_4, li_5, li_6, li_7, li_8, li_9, li_10, li_11, li_12, li_15, li_16, li_20, li_21, li_24, li_31, li_36, li_100, li_255, li_256, li_1000, li_6000, li_M, un_s, un_n, ba_ap, ba_upd, ba_in, cT_le, cF_le, cT_lt, cF_lt, cT_eq, cF_eq, nb_1, nb_2, ns_1, ns_2, nz_1, nz_2, ng_1, ng_2, ng_3, ng_4, ng_5, nI_clamp, nI_add, pk_mul, pk_sub, forall_eq, true_and, and_true, true_imp_iff, false_imp_iff, not_true_eq_false, not_false_eq_true, implies_true]
          exact fin
        · by_cases hsl : s ≤ ga_latest a c
          · simp (disch := omega) only [wpX_publish, wpX_isChannel, mX, xw_in, wpX_sideOf, n1, n2, li_0, li_1, li_2, li_3, li_4, li_5, li_6, li_7, li_8, li_9, li_10, li_11, li_12, li_15, li_16, li_20, li_21, li_24, li_31, li_36, li_100, li_255, li_256, li_1000, li_6000, li_M, un_s, un_n, ba_ap, ba_upd, ba_in, cT_le, cF_le, cT_lt, cF_lt, cT_eq, cF_eq, nb_1, nb_2, ns_1, ns_2, nz_1, nz_2, ng_1, ng_2, ng_3, ng_4, ng_5, nI_clamp, nI_add, pk_mul, pk_sub, forall_eq, true_and, and_true, true_imp_iff, false_imp_iff, not_true_eq_false, not_false_eq_true, implies_true]
            exact fin
          · simp (disch := omega) only [wpX_publish, wpX_isChannel, mX, xw_in, xw_inF, li_0, li_1, li_2, li_3, li_4, li_5, li_6, li_7, li_8, li_9, li_10, li_11, li_12, li_15, li_16, li_20, li_21, li_24, li_31, li_36, li_100, li_255, li_256, li_1000, li_6000, li_M, un_s, un_n, ba_ap, ba_upd, ba_in, cT_le, cF_le, cT_lt, cF_lt, cT_eq, cF_eq, nb_1, nb_2, ns_1, ns_2, nz_1, nz_2, ng_1, ng_2, ng_3, ng_4, ng_5, nI_clamp, nI_add, pk_mul, pk_sub, forall_eq, true_and, and_true, true_imp_iff, false_imp_iff, not_true_eq_false, not_false_eq_true, implies_true]
            exact fin
      · simp (disch := omega) only [wpX_publish, wpX_isChannel, mX, xw_in, li_0, li_1, li_2, li_3, li_4, li_5, li_6, li_7, li_8, li_9, li_10, li_11, li_12, li_15, li_16, li_20, li_21, li_24, li_31, li_36, li_100, li_255, li_256, li_1000, li_6000, li_M, un_s, un_n, ba_ap, ba_upd, ba_in, cT_le, cF_le, cT_lt, cF_lt, cT_eq, cF_eq, nb_1, nb_2, ns_1, ns_2, nz_1, nz_2, ng_1, ng_2, ng_3, ng_4, ng_5, nI_clamp, nI_add, pk_mul, pk_sub, forall_eq, true_and, and_true, true_imp_iff, false_imp_iff, not_true_eq_false, not_false_eq_true, implies_true]
        exact fin
  · rcases ix v1 with h1 | ⟨p, hp, rfl⟩
    · simp (disch := omega) only [wpX_publish, wpX_isChannel, mX, xw_inF, wpY_publish, mY, yw_isPartyN h1, li_0, li_1, li_2, li_3, li_4, li_5, li_6, li_7, li_8, li_9, li_10, li_11, li_12, li_15, li_16, li_20, li_21, li_24, li_31, li_36, li_100, li_255, li_256, li_1000, li_6000, li_M, un_s, un_n, ba_ap, ba_upd, ba_in, cT_le, cF_le, cT_lt, cF_lt, cT_eq, cF_eq, nb_1, nb_2, ns_1, ns_2, nz_1, nz_2, ng_1, ng_2, ng_3, ng_4, ng_5, nI_clamp, nI_add, pk_mul, pk_sub, forall_eq, true_and, and_true, true_imp_iff, false_imp_iff, not_true_eq_false, not_false_eq_true, implies_true]
      exact re_mk rfl rfl I R S
    · by_cases h6 : p < 6
      · simp (disch := omega) only [wpX_publish, wpX_isChannel, mX, xw_inF, wpY_publish, mY, yw_isParty, wpY_isChannel, li_0, li_1, li_2, li_3, li_4, li_5, li_6, li_7, li_8, li_9, li_10, li_11, li_12, li_15, li_16, li_20, li_21, li_24, li_31, li_36, li_100, li_255, li_256, li_1000, li_6000, li_M, un_s, un_n, ba_ap, ba_upd, ba_in, cT_le, cF_le, cT_lt, cF_lt, cT_eq, cF_eq, nb_1, nb_2, ns_1, ns_2, nz_1, nz_2, ng_1, ng_2, ng_3, ng_4, ng_5, nI_clamp, nI_add, pk_mul, pk_sub, forall_eq, true_and, and_true, true_imp_iff, false_imp_iff, not_true_eq_false, not_false_eq_true, implies_true]
        exact re_mk rfl rfl I R S
      · simp (disch := omega) only [wpX_publish, wpX_isChannel, mX, xw_inF, wpY_publish, mY, yw_isPartyF, li_0, li_1, li_2, li_3, li_4, li_5, li_6, li_7, li_8, li_9, li_10, li_11, li_12, li_15, li_16, li_20, li_21, li_24, li_31, li_36, li_100, li_255, li_256, li_1000, li_6000, li_M, un_s, un_n, ba_ap, ba_upd, ba_in, cT_le, cF_le, cT_lt, cF_lt, cT_eq, cF_eq, nb_1, nb_2, ns_1, ns_2, nz_1, nz_2, ng_1, ng_2, ng_3, ng_4, ng_5, nI_clamp, nI_add, pk_mul, pk_sub, forall_eq, true_and, and_true, true_imp_iff, false_imp_iff, not_true_eq_false, not_false_eq_true, implies_true]
        exact re_mk rfl rfl I R S
/-- the channel is plain: ready, without locks -/
theorem pl_cases {T : Nat} {a : SA} {x : OX} {y : OY} (I : Inv T a) (R : RX a x) (S : RY a y) (v1 : Int32) :
    (∃ c, v1 = nI c ∧ c < ga_ch a ∧ ga_status a c = 0 ∧ ga_rows a c (ga_latest a c) = [] ∧ gx_row x c = 0 ∧ rdy (ga_status a) (ga_up a) (ga_who a) c = 1 ∧ (∀ post : Int32 → Prop, wpY_isPlain post (mY a y) v1 = post (nI 1))) ∨
    ((∀ post : Int32 → Prop, wpY_isPlain post (mY a y) v1 = post (nI 0)) ∧ ((∀ post : Int32 → Prop, wpX_isChannel post (mX a x) v1 = post (nI 0)) ∨ ∃ c, v1 = nI c ∧ c < ga_ch a ∧ (rdy (ga_status a) (ga_up a) (ga_who a) c = 0 ∨ (rdy (ga_status a) (ga_up a) (ga_who a) c = 1 ∧ gx_row x c ≠ 0 ∧ gx_row x c < 2048)))) := by
  have ch := I.1
  rcases ix v1 with h | ⟨c, hc31, rfl⟩
  · refine Or.inr ⟨fun post => ?_, Or.inl fun post => ?_⟩
    · simp (disch := omega) only [wpY_isPlain, mY, wpY_isChannel, h, li_0, li_1, li_2, li_3, li_4, li_5, li_6, li_7, li_8, li_9, li_10, li_11, li_12, li_15, li_16, li_20, li_21, li_24, li_31, li_36, li_100, li_255, li_256, li_1000, li_6000, li_M, un_s, un_n, ba_ap, ba_upd, ba_in, cT_le, cF_le, cT_lt, cF_lt, cT_eq, cF_eq, nb_1, nb_2, ns_1, ns_2, nz_1, nz_2, ng_1, ng_2, ng_3, ng_4, ng_5, nI_clamp, nI_add, pk_mul, pk_sub, forall_eq, true_and, and_true, true_imp_iff, false_imp_iff, not_true_eq_false, not_false_eq_true, implies_true]
    · simp (disch := omega) only [wpX_isChannel, mX, xw_inN h, li_0, li_1, li_2, li_3, li_4, li_5, li_6, li_7, li_8, li_9, li_10, li_11, li_12, li_15, li_16, li_20, li_21, li_24, li_31, li_36, li_100, li_255, li_256, li_1000, li_6000, li_M, un_s, un_n, ba_ap, ba_upd, ba_in, cT_le, cF_le, cT_lt, cF_lt, cT_eq, cF_eq, nb_1, nb_2, ns_1, ns_2, nz_1, nz_2, ng_1, ng_2, ng_3, ng_4, ng_5, nI_clamp, nI_add, pk_mul, pk_sub, forall_eq, true_and, and_true, true_imp_iff, false_imp_iff, not_true_eq_false, not_false_eq_true, implies_true]
  · by_cases hc : c < ga_ch a
    · have c8 := ch8 I hc
      obtain ⟨j1, j2, j3, j4, j5, j6, j7, j8⟩ := I.2.2.2.2.1 c hc
      obtain ⟨n1, n2⟩ := y_len I S hc (Nat.le_refl _)
      have er := (R.1 c hc).1.2.2.1
      have er2 := (R.1 c hc).1.2.2.2 _ (Nat.le_refl _)
      rcases rdy_01 (ga_status a) (ga_up a) (ga_who a) c with r | r
      · refine Or.inr ⟨fun post => ?_, Or.inr ⟨c, rfl, hc, Or.inl r⟩⟩
        simp (disch := omega) only [wpY_isPlain, mY, yw_isChannel, yw_isReady c8 j1 j2 j3 (upI I), r, li_0, li_1, li_2, li_3, li_4, li_5, li_6, li_7, li_8, li_9, li_10, li_11, li_12, li_15, li_16, li_20, li_21, li_24, li_31, li_36, li_100, li_255, li_256, li_1000, li_6000, li_M, un_s, un_n, ba_ap, ba_upd, ba_in, cT_le, cF_le, cT_lt, cF_lt, cT_eq, cF_eq, nb_1, nb_2, ns_1, ns_2, nz_1, nz_2, ng_1, ng_2, ng_3, ng_4, ng_5, nI_clamp, nI_add, pk_mul, pk_sub, forall_eq, true_and, and_true, true_imp_iff, false_imp_iff, not_true_eq_false, not_false_eq_true, implies_true]
      · have h0 : ga_status a c = 0 := by
          unfold rdy at r
          split at r
          · rename_i h; exact h.1
          · omega
        by_cases hr : ga_rows a c (ga_latest a c) = []
        · refine Or.inl ⟨c, rfl, hc, h0, hr, ?_, r, fun post => ?_⟩
          · rw [hr] at er2
            rw [er, List.map_eq_nil_iff.mp er2.symm]; rfl
          · rw [hr] at n1
            have n1 : gy_lks y (12 * c + ga_latest a c) = 0 := n1
            simp (disch := omega) only [wpY_isPlain, mY, yw_isChannel, yw_isReady c8 j1 j2 j3 (upI I), r, yw_now c8, li_0, li_1, li_2, li_3, li_4, li_5, li_6, li_7, li_8, li_9, li_10, li_11, li_12, li_15, li_16, li_20, li_21, li_24, li_31, li_36, li_100, li_255, li_256, li_1000, li_6000, li_M, un_s, un_n, ba_ap, ba_upd, ba_in, cT_le, cF_le, cT_lt, cF_lt, cT_eq, cF_eq, nb_1, nb_2, ns_1, ns_2, nz_1, nz_2, ng_1, ng_2, ng_3, ng_4, ng_5, nI_clamp, nI_add, pk_mul, pk_sub, forall_eq, true_and, and_true, true_imp_iff, false_imp_iff, not_true_eq_false, not_false_eq_true, implies_true]
        · refine Or.inr ⟨fun post => ?_, Or.inr ⟨c, rfl, hc, Or.inr ⟨r, fun e => ?_, ?_⟩⟩⟩
          · have n3 : gy_lks y (12 * c + ga_latest a c) ≠ 0 := by
              intro e
              rw [e] at n1
              exact hr (List.length_eq_zero_iff.mp n1.symm)
            simp (disch := omega) only [wpY_isPlain, mY, yw_isChannel, yw_isReady c8 j1 j2 j3 (upI I), r, yw_now c8, li_0, li_1, li_2, li_3, li_4, li_5, li_6, li_7, li_8, li_9, li_10, li_11, li_12, li_15, li_16, li_20, li_21, li_24, li_31, li_36, li_100, li_255, li_256, li_1000, li_6000, li_M, un_s, un_n, ba_ap, ba_upd, ba_in, cT_le, cF_le, cT_lt, cF_lt, cT_eq, cF_eq, nb_1, nb_2, ns_1, ns_2, nz_1, nz_2, ng_1, ng_2, ng_3, ng_4, ng_5, nI_clamp, nI_add, pk_mul, pk_sub, forall_eq, true_and, and_true, true_imp_iff, false_imp_iff, not_true_eq_false, not_false_eq_true, implies_true]
          · rw [e] at er
            rw [msk_z er.symm] at er2
            exact hr er2
          · rw [er]; exact m_lt (ids_11 I R hc)
    · refine Or.inr ⟨fun post => ?_, Or.inl fun post => ?_⟩
      · simp (disch := omega) only [wpY_isPlain, mY, wpY_isChannel, li_0, li_1, li_2, li_3, li_4, li_5, li_6, li_7, li_8, li_9, li_10, li_11, li_12, li_15, li_16, li_20, li_21, li_24, li_31, li_36, li_100, li_255, li_256, li_1000, li_6000, li_M, un_s, un_n, ba_ap, ba_upd, ba_in, cT_le, cF_le, cT_lt, cF_lt, cT_eq, cF_eq, nb_1, nb_2, ns_1, ns_2, nz_1, nz_2, ng_1, ng_2, ng_3, ng_4, ng_5, nI_clamp, nI_add, pk_mul, pk_sub, forall_eq, true_and, and_true, true_imp_iff, false_imp_iff, not_true_eq_false, not_false_eq_true, implies_true]
      · simp (disch := omega) only [wpX_isChannel, mX, xw_inF, li_0, li_1, li_2, li_3, li_4, li_5, li_6, li_7, li_8, li_9, li_10, li_11, li_12, li_15, li_16, li_20, li_21, li_24, li_31, li_36, li_100, li_255, li_256, li_1000, li_6000, li_M, un_s, un_n, ba_ap, ba_upd, ba_in, cT_le, cF_le, cT_lt, cF_lt, cT_eq, cF_eq, nb_1, nb_2, ns_1, ns_2, nz_1, nz_2, ng_1, ng_2, ng_3, ng_4, ng_5, nI_clamp, nI_add, pk_mul, pk_sub, forall_eq, true_and, and_true, true_imp_iff, false_imp_iff, not_true_eq_false, not_false_eq_true, implies_true]
theorem i_vc_close {k : Nat} {u : SX} {v : SY} (I : i_Rel k u v) (hk : k + 5 ≤ 2560) (v1 : Int32) : wpX_close (fun r u' => wpY_close (fun r' v' => r' = r ∧ i_Rel (k + 5) u' v') v v1) u v1 := by
  obtain ⟨a, x, y, rfl, rfl, I, R, S⟩ := I
  have ch := I.1
  rcases pl_cases I R S v1 with ⟨c, rfl, hc, h0, hr, hx, rd, hy⟩ | ⟨hy, hx⟩
  · have c8 := ch8 I hc
    obtain ⟨j1, j2, j3, j4, j5, j6, j7, j8⟩ := I.2.2.2.2.1 c hc
    have ho := inv_open I hc h0 (Nat.le_refl _)
    have cA := inv_coins I j2
    have cB := inv_coins I j3
    have I2 := inv_cls I hc h0 hr
    have e2 : (2 : Nat) * (12 * c + ga_latest a c) + 0 = 2 * (12 * c + ga_latest a c) := by omega
    have fin : i_Rel (k + 5) (mX (aSta (aCoi a (un (un (ga_coins a) (ga_who a (2 * c)) (ga_coins a (ga_who a (2 * c)) + ga_bal a (2 * (12 * c + ga_latest a c)))) (ga_who a (2 * c + 1)) (ga_coins a (ga_who a (2 * c + 1)) + ga_bal a (2 * (12 * c + ga_latest a c) + 1)))) c 2) (xKno x 0)) (mY (aSta (aCoi a (un (un (ga_coins a) (ga_who a (2 * c)) (ga_coins a (ga_who a (2 * c)) + ga_bal a (2 * (12 * c + ga_latest a c)))) (ga_who a (2 * c + 1)) (ga_coins a (ga_who a (2 * c + 1)) + ga_bal a (2 * (12 * c + ga_latest a c) + 1)))) c 2) y) := by
      refine re_mk rfl rfl I2 ⟨fun d hd => ?_, Or.inl rfl⟩ (fun d hd => ?_)
      · have hd : d < ga_ch a := hd
        refine ⟨(R.1 d hd).1, fun z => ?_⟩
        rw [aSta_status] at z
        by_cases w : d = c
        · rw [w, un_s] at z; omega
        · rw [un_n w] at z; exact (R.1 d hd).2 z
      · have hd : d < ga_ch a := hd
        refine ⟨(S d hd).1, fun z => ?_⟩
        rw [aSta_status] at z
        by_cases w : d = c
        · rw [w, un_s] at z; omega
        · rw [un_n w] at z; exact (S d hd).2 z
    simp (disch := omega) only [wpX_close, mX, xw_isChannel, xw_isReady c8 j1 j2 j3 (upI I), rd, hx, xw_place, li_0, li_1, li_2, li_3, li_4, li_5, li_6, li_7, li_8, li_9, li_10, li_11, li_12, li_15, li_16, li_20, li_21, li_24, li_31, li_36, li_100, li_255, li_256, li_1000, li_6000, li_M, un_s, un_n, ba_ap, ba_upd, ba_in, cT_le, cF_le, cT_lt, cF_lt, cT_eq, cF_eq, nb_1, nb_2, ns_1, ns_2, nz_1, nz_2, ng_1, ng_2, ng_3, ng_4, ng_5, nI_clamp, nI_add, pk_mul, pk_sub, forall_eq, true_and, and_true, true_imp_iff, false_imp_iff, not_true_eq_false, not_false_eq_true, implies_true]
    unfold wpY_close
    dsimp only [mY]
    refine Eq.mpr (hy _) ?_
    simp (disch := omega) only [yw_now c8, li_0, li_1, li_2, li_3, li_4, li_5, li_6, li_7, li_8, li_9, li_10, li_11, li_12, li_15, li_16, li_20, li_21, li_24, li_31, li_36, li_100, li_255, li_256, li_1000, li_6000, li_M, un_s, un_n, ba_ap, ba_upd, ba_in, cT_le, cF_le, cT_lt, cF_lt, cT_eq, cF_eq, nb_1, nb_2, ns_1, ns_2, nz_1, nz_2, ng_1, ng_2, ng_3, ng_4, ng_5, nI_clamp, nI_add, pk_mul, pk_sub, forall_eq, true_and, and_true, true_imp_iff, false_imp_iff, not_true_eq_false, not_false_eq_true, implies_true]
    refine ⟨3, ?_⟩
    simp (disch := omega) only [wY_close_21, e2, Nat.add_zero, Nat.reduceAdd, li_0, li_1, li_2, li_3, li_4, li_5, li_6, li_7, li_8, li_9, li_10, li_11, li_12, li_15, li_16, li_20, li_21, li_24, li_31, li_36, li_100, li_255, li_256, li_1000, li_6000, li_M, un_s, un_n, ba_ap, ba_upd, ba_in, cT_le, cF_le, cT_lt, cF_lt, cT_eq, cF_eq, nb_1, nb_2, ns_1, ns_2, nz_1, nz_2, ng_1, ng_2, ng_3, ng_4, ng_5, nI_clamp, nI_add, pk_mul, pk_sub, forall_eq, true_and, and_true, true_imp_iff, false_imp_iff, not_true_eq_false, not_false_eq_true, implies_true]
    exact fin
  · have fin : wpY_close (fun r' v' => r' = nI 0 ∧ i_Rel (k + 5) (mX a x) v') (mY a y) v1 := by
      unfold wpY_close
      dsimp only [mY]
      refine Eq.mpr (hy _) ?_
      simp (disch := omega) only [li_0, li_1, li_2, li_3, li_4, li_5, li_6, li_7, li_8, li_9, li_10, li_11, li_12, li_15, li_16, li_20, li_21, li_24, li_31, li_36, li_100, li_255, li_256, li_1000, li_6000, li_M, un_s, un_n, ba_ap, ba_upd, ba_in, cT_le, cF_le, cT_lt, cF_lt, cT_eq, cF_eq, nb_1, nb_2, ns_1, ns_2, nz_1, nz_2, ng_1, ng_2, ng_3, ng_4, ng_5, nI_clamp, nI_add, pk_mul, pk_sub, forall_eq, true_and, and_true, true_imp_iff, false_imp_iff, not_true_eq_false, not_false_eq_true, implies_true]
      exact re_mk rfl rfl I R S
    rcases hx with hx | ⟨c, rfl, hc, hx⟩
    · unfold wpX_close
      dsimp only [mX]
      refine Eq.mpr (hx _) ?_
      simp (disch := omega) only [li_0, li_1, li_2, li_3, li_4, li_5, li_6, li_7, li_8, li_9, li_10, li_11, li_12, li_15, li_16, li_20, li_21, li_24, li_31, li_36, li_100, li_255, li_256, li_1000, li_6000, li_M, un_s, un_n, ba_ap, ba_upd, ba_in, cT_le, cF_le, cT_lt, cF_lt, cT_eq, cF_eq, nb_1, nb_2, ns_1, ns_2, nz_1, nz_2, ng_1, ng_2, ng_3, ng_4, ng_5, nI_clamp, nI_add, pk_mul, pk_sub, forall_eq, true_and, and_true, true_imp_iff, false_imp_iff, not_true_eq_false, not_false_eq_true, implies_true]
      exact fin
    · have c8 := ch8 I hc
      obtain ⟨j1, j2, j3, j4, j5, j6, j7, j8⟩ := I.2.2.2.2.1 c hc
      rcases hx with r | ⟨r, r2, r3⟩
      · simp (disch := omega) only [wpX_close, mX, xw_isChannel, xw_isReady c8 j1 j2 j3 (upI I), r, li_0, li_1, li_2, li_3, li_4, li_5, li_6, li_7, li_8, li_9, li_10, li_11, li_12, li_15, li_16, li_20, li_21, li_24, li_31, li_36, li_100, li_255, li_256, li_1000, li_6000, li_M, un_s, un_n, ba_ap, ba_upd, ba_in, cT_le, cF_le, cT_lt, cF_lt, cT_eq, cF_eq, nb_1, nb_2, ns_1, ns_2, nz_1, nz_2, ng_1, ng_2, ng_3, ng_4, ng_5, nI_clamp, nI_add, pk_mul, pk_sub, forall_eq, true_and, and_true, true_imp_iff, false_imp_iff, not_true_eq_false, not_false_eq_true, implies_true]
        exact fin
      · simp (disch := omega) only [wpX_close, mX, xw_isChannel, xw_isReady c8 j1 j2 j3 (upI I), r, li_0, li_1, li_2, li_3, li_4, li_5, li_6, li_7, li_8, li_9, li_10, li_11, li_12, li_15, li_16, li_20, li_21, li_24, li_31, li_36, li_100, li_255, li_256, li_1000, li_6000, li_M, un_s, un_n, ba_ap, ba_upd, ba_in, cT_le, cF_le, cT_lt, cF_lt, cT_eq, cF_eq, nb_1, nb_2, ns_1, ns_2, nz_1, nz_2, ng_1, ng_2, ng_3, ng_4, ng_5, nI_clamp, nI_add, pk_mul, pk_sub, forall_eq, true_and, and_true, true_imp_iff, false_imp_iff, not_true_eq_false, not_false_eq_true, implies_true]
        exact fin
end
section
/-- a new channel's states begin -/
theorem inv_opn {T : Nat} {a : SA} {p q b0 b1 cA cB : Nat} (I : Inv T a) (h8 : ga_ch a < 8) (hp : p < 6) (hq : q < 6) (hpq : p ≠ q) (e0 : cA + b0 = ga_coins a p) (e1 : cB + b1 = ga_coins a q) : Inv T (aBeg (aChn (aCoi a (un (un (ga_coins a) p cA) q cB)) p q) (ga_ch a) b0 b1) := by
  obtain ⟨i1, i2, i3, i4, i5, i6⟩ := I
  have w0 : ga_who (aChn (aCoi a (un (un (ga_coins a) p cA) q cB)) p q) (2 * ga_ch a) = p := by
    rw [aChn_who, aCoi_ch, un_n (by omega), un_s]
  have w1 : ga_who (aChn (aCoi a (un (un (ga_coins a) p cA) q cB)) p q) (2 * ga_ch a + 1) = q := by
    rw [aChn_who, aCoi_ch, un_s]
  refine inv_beg ?_ i2 i3 ?_ ?_ (i4 _ (Nat.le_refl _)) (by rw [w0]; exact hp) (by rw [w1]; exact hq) (by rw [w0, w1]; exact hpq) ?_
  · show ga_ch a + 1 ≤ 8; omega
  · intro d hd
    have hd : ga_ch a + 1 ≤ d := hd
    exact i4 d (by omega)
  · intro d hd hne
    have hd : d < ga_ch a + 1 := hd
    refine chI_congr (a := a) rfl ?_ ?_ rfl (fun k _ => ⟨rfl, rfl, rfl⟩) (fun _ z => clsI_congr (a := a) rfl rfl rfl rfl rfl (Nat.le_refl _) z) (i5 d (by omega))
    · rw [aChn_who, aCoi_ch, aCoi_who, un_n (by omega), un_n (by omega)]
    · rw [aChn_who, aCoi_ch, aCoi_who, un_n (by omega), un_n (by omega)]
  · rw [aChn_coins, aCoi_coins, aChn_ch, aCoi_ch]
    have q1 := smN_un (ga_coins a) (x := cA) hp
    have q2 := smN_un (un (ga_coins a) p cA) (x := cB) hq
    rw [un_n (fun e => hpq e.symm)] at q2
    have q3 : smN (fun d => if d = ga_ch a then b0 + b1 else vf (aChn (aCoi a (un (un (ga_coins a) p cA) q cB)) p q) d) (ga_ch a + 1) = smN (vf a) (ga_ch a) + (b0 + b1) := by
      show smN (fun d => if d = ga_ch a then b0 + b1 else vf (aChn (aCoi a (un (un (ga_coins a) p cA) q cB)) p q) d) (ga_ch a) + (if ga_ch a = ga_ch a then b0 + b1 else vf (aChn (aCoi a (un (un (ga_coins a) p cA) q cB)) p q) (ga_ch a)) = _
      rw [if_pos rfl]
      congr 1
      apply smN_congr
      intro i hi
      show (if i = ga_ch a then b0 + b1 else vf (aChn (aCoi a (un (un (ga_coins a) p cA) q cB)) p q) i) = vf a i
      rw [if_neg (by omega)]
      rfl
    rw [q3]
    omega
theorem i_vc_open {k : Nat} {u : SX} {v : SY} (I : i_Rel k u v) (hk : k + 5 ≤ 2560) (v1 : Int32) (v2 : Int32) (v3 : Int32) (v4 : Int32) : wpX_open (fun r u' => wpY_open (fun r' v' => r' = r ∧ i_Rel (k + 5) u' v') v v1 v2 v3 v4) u v1 v2 v3 v4 := by
  obtain ⟨a, x, y, rfl, rfl, I, R, S⟩ := I
  have ch := I.1
  have rr : (-nI 2 = -nI 2) = True := eq_true rfl
  rcases ix v1 with h | ⟨p, hp31, rfl⟩
  · simp (disch := omega) only [wpX_open, mX, xw_inN h, wpY_open, mY, yw_isPartyN h, rr, li_0, li_1, li_2, li_3, li_4, li_5, li_6, li_7, li_8, li_9, li_10, li_11, li_12, li_15, li_16, li_20, li_21, li_24, li_31, li_36, li_100, li_255, li_256, li_1000, li_6000, li_M, un_s, un_n, ba_ap, ba_upd, ba_in, cT_le, cF_le, cT_lt, cF_lt, cT_eq, cF_eq, nb_1, nb_2, ns_1, ns_2, nz_1, nz_2, ng_1, ng_2, ng_3, ng_4, ng_5, nI_clamp, nI_add, pk_mul, pk_sub, forall_eq, true_and, and_true, true_imp_iff, false_imp_iff, not_true_eq_false, not_false_eq_true, implies_true]
    exact re_mk rfl rfl I R S
  by_cases hp : p < 6
  · rcases ix v2 with h | ⟨q, hq31, rfl⟩
    · simp (disch := omega) only [wpX_open, mX, xw_in, xw_inN h, wpY_open, mY, yw_isParty, yw_isPartyN h, rr, li_0, li_1, li_2, li_3, li_4, li_5, li_6, li_7, li_8, li_9, li_10, li_11, li_12, li_15, li_16, li_20, li_21, li_24, li_31, li_36, li_100, li_255, li_256, li_1000, li_6000, li_M, un_s, un_n, ba_ap, ba_upd, ba_in, cT_le, cF_le, cT_lt, cF_lt, cT_eq, cF_eq, nb_1, nb_2, ns_1, ns_2, nz_1, nz_2, ng_1, ng_2, ng_3, ng_4, ng_5, nI_clamp, nI_add, pk_mul, pk_sub, forall_eq, true_and, and_true, true_imp_iff, false_imp_iff, not_true_eq_false, not_false_eq_true, implies_true]
      exact re_mk rfl rfl I R S
    by_cases hq : q < 6
    · by_cases hpq : p = q
      · simp (disch := omega) only [wpX_open, mX, xw_in, wpY_open, mY, yw_isParty, rr, li_0, li_1, li_2, li_3, li_4, li_5, li_6, li_7, li_8, li_9, li_10, li_11, li_12, li_15, li_16, li_20, li_21, li_24, li_31, li_36, li_100, li_255, li_256, li_1000, li_6000, li_M, un_s, un_n, ba_ap, ba_upd, ba_in, cT_le, cF_le, cT_lt, cF_lt, cT_eq, cF_eq, nb_1, nb_2, ns_1, ns_2, nz_1, nz_2, ng_1, ng_2, ng_3, ng_4, ng_5, nI_clamp, nI_add, pk_mul, pk_sub, forall_eq, true_and, and_true, true_imp_iff, false_imp_iff, not_true_eq_false, not_false_eq_true, implies_true]
        exact re_mk rfl rfl I R S
      · have up := upI I p hp
        have uq := upI I q hq
        by_cases u1 : ga_up a p = 0
        · simp (disch := omega) only [wpX_open, mX, xw_in, wpY_open, mY, yw_isParty, rr, li_0, li_1, li_2, li_3, li_4, li_5, li_6, li_7, li_8, li_9, li_10, li_11, li_12, li_15, li_16, li_20, li_21, li_24, li_31, li_36, li_100, li_255, li_256, li_1000, li_6000, li_M, un_s, un_n, ba_ap, ba_upd, ba_in, cT_le, cF_le, cT_lt, cF_lt, cT_eq, cF_eq, nb_1, nb_2, ns_1, ns_2, nz_1, nz_2, ng_1, ng_2, ng_3, ng_4, ng_5, nI_clamp, nI_add, pk_mul, pk_sub, forall_eq, true_and, and_true, true_imp_iff, false_imp_iff, not_true_eq_false, not_false_eq_true, implies_true]
          exact re_mk rfl rfl I R S
        by_cases u2 : ga_up a q = 0
        · simp (disch := omega) only [wpX_open, mX, xw_in, wpY_open, mY, yw_isParty, rr, li_0, li_1, li_2, li_3, li_4, li_5, li_6, li_7, li_8, li_9, li_10, li_11, li_12, li_15, li_16, li_20, li_21, li_24, li_31, li_36, li_100, li_255, li_256, li_1000, li_6000, li_M, un_s, un_n, ba_ap, ba_upd, ba_in, cT_le, cF_le, cT_lt, cF_lt, cT_eq, cF_eq, nb_1, nb_2, ns_1, ns_2, nz_1, nz_2, ng_1, ng_2, ng_3, ng_4, ng_5, nI_clamp, nI_add, pk_mul, pk_sub, forall_eq, true_and, and_true, true_imp_iff, false_imp_iff, not_true_eq_false, not_false_eq_true, implies_true]
          exact re_mk rfl rfl I R S
        have cp := inv_coins I hp
        have cq := inv_coins I hq
        rcases ix v3 with h | ⟨b0, hb0, rfl⟩
        · simp (disch := omega) only [wpX_open, mX, xw_in, wpY_open, mY, yw_isParty, h, rr, li_0, li_1, li_2, li_3, li_4, li_5, li_6, li_7, li_8, li_9, li_10, li_11, li_12, li_15, li_16, li_20, li_21, li_24, li_31, li_36, li_100, li_255, li_256, li_1000, li_6000, li_M, un_s, un_n, ba_ap, ba_upd, ba_in, cT_le, cF_le, cT_lt, cF_lt, cT_eq, cF_eq, nb_1, nb_2, ns_1, ns_2, nz_1, nz_2, ng_1, ng_2, ng_3, ng_4, ng_5, nI_clamp, nI_add, pk_mul, pk_sub, forall_eq, true_and, and_true, true_imp_iff, false_imp_iff, not_true_eq_false, not_false_eq_true, implies_true]
          exact re_mk rfl rfl I R S
        rcases ix v4 with h | ⟨b1, hb1, rfl⟩
        · by_cases l0 : ga_coins a p < b0
          · simp (disch := omega) only [wpX_open, mX, xw_in, wpY_open, mY, yw_isParty, h, rr, li_0, li_1, li_2, li_3, li_4, li_5, li_6, li_7, li_8, li_9, li_10, li_11, li_12, li_15, li_16, li_20, li_21, li_24, li_31, li_36, li_100, li_255, li_256, li_1000, li_6000, li_M, un_s, un_n, ba_ap, ba_upd, ba_in, cT_le, cF_le, cT_lt, cF_lt, cT_eq, cF_eq, nb_1, nb_2, ns_1, ns_2, nz_1, nz_2, ng_1, ng_2, ng_3, ng_4, ng_5, nI_clamp, nI_add, pk_mul, pk_sub, forall_eq, true_and, and_true, true_imp_iff, false_imp_iff, not_true_eq_false, not_false_eq_true, implies_true]
            exact re_mk rfl rfl I R S
          · simp (disch := omega) only [wpX_open, mX, xw_in, wpY_open, mY, yw_isParty, h, rr, li_0, li_1, li_2, li_3, li_4, li_5, li_6, li_7, li_8, li_9, li_10, li_11, li_12, li_15, li_16, li_20, li_21, li_24, li_31, li_36, li_100, li_255, li_256, li_1000, li_6000, li_M, un_s, un_n, ba_ap, ba_upd, ba_in, cT_le, cF_le, cT_lt, cF_lt, cT_eq, cF_eq, nb_1, nb_2, ns_1, ns_2, nz_1, nz_2, ng_1, ng_2, ng_3, ng_4, ng_5, nI_clamp, nI_add, pk_mul, pk_sub, forall_eq, true_and, and_true, true_imp_iff, false_imp_iff, not_true_eq_false, not_false_eq_true, implies_true]
            exact re_mk rfl rfl I R S
        by_cases l0 : ga_coins a p < b0
        · simp (disch := omega) only [wpX_open, mX, xw_in, wpY_open, mY, yw_isParty, rr, li_0, li_1, li_2, li_3, li_4, li_5, li_6, li_7, li_8, li_9, li_10, li_11, li_12, li_15, li_16, li_20, li_21, li_24, li_31, li_36, li_100, li_255, li_256, li_1000, li_6000, li_M, un_s, un_n, ba_ap, ba_upd, ba_in, cT_le, cF_le, cT_lt, cF_lt, cT_eq, cF_eq, nb_1, nb_2, ns_1, ns_2, nz_1, nz_2, ng_1, ng_2, ng_3, ng_4, ng_5, nI_clamp, nI_add, pk_mul, pk_sub, forall_eq, true_and, and_true, true_imp_iff, false_imp_iff, not_true_eq_false, not_false_eq_true, implies_true]
          exact re_mk rfl rfl I R S
        by_cases l1 : ga_coins a q < b1
        · simp (disch := omega) only [wpX_open, mX, xw_in, wpY_open, mY, yw_isParty, rr, li_0, li_1, li_2, li_3, li_4, li_5, li_6, li_7, li_8, li_9, li_10, li_11, li_12, li_15, li_16, li_20, li_21, li_24, li_31, li_36, li_100, li_255, li_256, li_1000, li_6000, li_M, un_s, un_n, ba_ap, ba_upd, ba_in, cT_le, cF_le, cT_lt, cF_lt, cT_eq, cF_eq, nb_1, nb_2, ns_1, ns_2, nz_1, nz_2, ng_1, ng_2, ng_3, ng_4, ng_5, nI_clamp, nI_add, pk_mul, pk_sub, forall_eq, true_and, and_true, true_imp_iff, false_imp_iff, not_true_eq_false, not_false_eq_true, implies_true]
          exact re_mk rfl rfl I R S
        by_cases z : b0 + b1 = 0
        · simp (disch := omega) only [wpX_open, mX, xw_in, wpY_open, mY, yw_isParty, rr, li_0, li_1, li_2, li_3, li_4, li_5, li_6, li_7, li_8, li_9, li_10, li_11, li_12, li_15, li_16, li_20, li_21, li_24, li_31, li_36, li_100, li_255, li_256, li_1000, li_6000, li_M, un_s, un_n, ba_ap, ba_upd, ba_in, cT_le, cF_le, cT_lt, cF_lt, cT_eq, cF_eq, nb_1, nb_2, ns_1, ns_2, nz_1, nz_2, ng_1, ng_2, ng_3, ng_4, ng_5, nI_clamp, nI_add, pk_mul, pk_sub, forall_eq, true_and, and_true, true_imp_iff, false_imp_iff, not_true_eq_false, not_false_eq_true, implies_true]
          exact re_mk rfl rfl I R S
        have goY : ∀ post : Int32 → SY → Prop, wY_open_79 post (nI p) (nI q) (nI b0) (nI b1) (nI (ga_now a)) (ga_spent a) (nI (ga_ch a)) (nI (gy_len y)) (cN (ga_coins a)) (cN (ga_base a)) (cN (ga_rate a)) (ga_guard a) (ga_knows a) (cN (ga_up a)) (cN (ga_who a)) (cN (ga_status a)) (cN (ga_latest a)) (cN (ga_publd a)) (cN (gy_ypub y)) (cN (ga_since a)) (cN (ga_held a)) (cN (gy_outn y)) (cN (ga_bal a)) (cN (gy_lks y)) (cN (gy_yf y)) (cN (gy_ya y)) (cN (gy_ys y)) (cN (gy_ye y)) (cN (gy_qf y)) (cN (gy_qa y)) (cN (gy_qs y)) (cN (gy_qe y)) (gy_way y) (cN (gy_part y)) (cN (gy_ysum y)) (cN (gy_bst y)) (cN (gy_bsm y)) → wpY_open post (mY a y) (nI p) (nI q) (nI b0) (nI b1) := by
          intro post h
          by_cases z0 : b0 = 0
          · simp (disch := omega) only [mY, wpY_open, yw_isParty, li_0, li_1, li_2, li_3, li_4, li_5, li_6, li_7, li_8, li_9, li_10, li_11, li_12, li_15, li_16, li_20, li_21, li_24, li_31, li_36, li_100, li_255, li_256, li_1000, li_6000, li_M, un_s, un_n, ba_ap, ba_upd, ba_in, cT_le, cF_le, cT_lt, cF_lt, cT_eq, cF_eq, nb_1, nb_2, ns_1, ns_2, nz_1, nz_2, ng_1, ng_2, ng_3, ng_4, ng_5, nI_clamp, nI_add, pk_mul, pk_sub, forall_eq, true_and, and_true, true_imp_iff, false_imp_iff, not_true_eq_false, not_false_eq_true, implies_true]
            exact h
          · simp (disch := omega) only [mY, wpY_open, yw_isParty, li_0, li_1, li_2, li_3, li_4, li_5, li_6, li_7, li_8, li_9, li_10, li_11, li_12, li_15, li_16, li_20, li_21, li_24, li_31, li_36, li_100, li_255, li_256, li_1000, li_6000, li_M, un_s, un_n, ba_ap, ba_upd, ba_in, cT_le, cF_le, cT_lt, cF_lt, cT_eq, cF_eq, nb_1, nb_2, ns_1, ns_2, nz_1, nz_2, ng_1, ng_2, ng_3, ng_4, ng_5, nI_clamp, nI_add, pk_mul, pk_sub, forall_eq, true_and, and_true, true_imp_iff, false_imp_iff, not_true_eq_false, not_false_eq_true, implies_true]
            exact h
        by_cases h8 : ga_ch a = 8
        · simp (disch := omega) only [wpX_open, mX, xw_in, li_0, li_1, li_2, li_3, li_4, li_5, li_6, li_7, li_8, li_9, li_10, li_11, li_12, li_15, li_16, li_20, li_21, li_24, li_31, li_36, li_100, li_255, li_256, li_1000, li_6000, li_M, un_s, un_n, ba_ap, ba_upd, ba_in, cT_le, cF_le, cT_lt, cF_lt, cT_eq, cF_eq, nb_1, nb_2, ns_1, ns_2, nz_1, nz_2, ng_1, ng_2, ng_3, ng_4, ng_5, nI_clamp, nI_add, pk_mul, pk_sub, forall_eq, true_and, and_true, true_imp_iff, false_imp_iff, not_true_eq_false, not_false_eq_true, implies_true]
          refine goY _ ?_
          simp (disch := omega) only [wY_open_79, show (-nI 3 = -nI 3) = True from eq_true rfl, li_0, li_1, li_2, li_3, li_4, li_5, li_6, li_7, li_8, li_9, li_10, li_11, li_12, li_15, li_16, li_20, li_21, li_24, li_31, li_36, li_100, li_255, li_256, li_1000, li_6000, li_M, un_s, un_n, ba_ap, ba_upd, ba_in, cT_le, cF_le, cT_lt, cF_lt, cT_eq, cF_eq, nb_1, nb_2, ns_1, ns_2, nz_1, nz_2, ng_1, ng_2, ng_3, ng_4, ng_5, nI_clamp, nI_add, pk_mul, pk_sub, forall_eq, true_and, and_true, true_imp_iff, false_imp_iff, not_true_eq_false, not_false_eq_true, implies_true]
          exact re_mk rfl rfl I R S
        · have I1 := inv_opn (cA := ga_coins a p - b0) (cB := ga_coins a q - b1) (b0 := b0) (b1 := b1) I (by omega) hp hq hpq (by omega) (by omega)
          have es : un (ga_status a) (ga_ch a) 0 = ga_status a := un_id _ _ _ (I.2.2.2.1 _ (Nat.le_refl _))
          have s0 := I.2.2.2.1 _ (Nat.le_refl (ga_ch a))
          obtain ⟨r1, r2⟩ := x2_beg (a := aChn (aCoi a (un (un (ga_coins a) p (ga_coins a p - b0)) q (ga_coins a q - b1))) p q) (x := x) (c := ga_ch a) (b0 := b0) (b1 := b1) (by show ga_ch a + 1 ≤ 8; omega) (by show ga_ch a < ga_ch a + 1; omega) (fun d hd hne => by
            have hd : d < ga_ch a + 1 := hd
            exact ⟨R.1 d (by omega), (I.2.2.2.2.1 d (by omega)).2.2.2.2.1⟩) s0 (by omega) (by omega)
          obtain ⟨q1, q2⟩ := y2_beg (a := aChn (aCoi a (un (un (ga_coins a) p (ga_coins a p - b0)) q (ga_coins a q - b1))) p q) (y := y) (c := ga_ch a) (b0 := b0) (b1 := b1) (by show ga_ch a + 1 ≤ 8; omega) (by show ga_ch a < ga_ch a + 1; omega) (fun d hd hne => by
            have hd : d < ga_ch a + 1 := hd
            have hd : d < ga_ch a := by omega
            obtain ⟨j1, j2, j3, j4, j5, j6, j7, j8⟩ := I.2.2.2.2.1 d hd
            constructor
            · refine yC_congr (a := a) (y := y) rfl (fun k hk => ⟨rfl, rfl, fun j _ => rfl⟩) (fun k hk => (j7 k hk).1) (fun w => ?_) (S d hd)
              refine ⟨w, rfl, rfl, (j8 w).2.2.2.1, fun j _ => rfl, rfl, ?_⟩
              have := (j8 w).1
              rw [aChn_who, aCoi_ch, aCoi_who, aChn_pubs, aCoi_pubs, un_n (by omega), un_n (by omega)]
            · refine chI_congr (a := a) rfl ?_ ?_ rfl (fun k _ => ⟨rfl, rfl, rfl⟩) (fun _ z => clsI_congr (a := a) rfl rfl rfl rfl rfl (Nat.le_refl _) z) (I.2.2.2.2.1 d hd)
              · rw [aChn_who, aCoi_ch, aCoi_who, un_n (by omega), un_n (by omega)]
              · rw [aChn_who, aCoi_ch, aCoi_who, un_n (by omega), un_n (by omega)]) s0
          simp (disch := omega) only [wpX_open, mX, xw_in, es, li_0, li_1, li_2, li_3, li_4, li_5, li_6, li_7, li_8, li_9, li_10, li_11, li_12, li_15, li_16, li_20, li_21, li_24, li_31, li_36, li_100, li_255, li_256, li_1000, li_6000, li_M, un_s, un_n, ba_ap, ba_upd, ba_in, cT_le, cF_le, cT_lt, cF_lt, cT_eq, cF_eq, nb_1, nb_2, ns_1, ns_2, nz_1, nz_2, ng_1, ng_2, ng_3, ng_4, ng_5, nI_clamp, nI_add, pk_mul, pk_sub, forall_eq, true_and, and_true, true_imp_iff, false_imp_iff, not_true_eq_false, not_false_eq_true, implies_true]
          refine Eq.mpr (r2 _) ?_
          dsimp only [mX]
          refine goY _ ?_
          simp (disch := omega) only [wY_open_79, li_0, li_1, li_2, li_3, li_4, li_5, li_6, li_7, li_8, li_9, li_10, li_11, li_12, li_15, li_16, li_20, li_21, li_24, li_31, li_36, li_100, li_255, li_256, li_1000, li_6000, li_M, un_s, un_n, ba_ap, ba_upd, ba_in, cT_le, cF_le, cT_lt, cF_lt, cT_eq, cF_eq, nb_1, nb_2, ns_1, ns_2, nz_1, nz_2, ng_1, ng_2, ng_3, ng_4, ng_5, nI_clamp, nI_add, pk_mul, pk_sub, forall_eq, true_and, and_true, true_imp_iff, false_imp_iff, not_true_eq_false, not_false_eq_true, implies_true]
          refine Eq.mpr (q2 _) ?_
          exact re_mk rfl rfl I1 r1 q1
    · simp (disch := omega) only [wpX_open, mX, xw_in, xw_inF, wpY_open, mY, yw_isParty, yw_isPartyF, rr, li_0, li_1, li_2, li_3, li_4, li_5, li_6, li_7, li_8, li_9, li_10, li_11, li_12, li_15, li_16, li_20, li_21, li_24, li_31, li_36, li_100, li_255, li_256, li_1000, li_6000, li_M, un_s, un_n, ba_ap, ba_upd, ba_in, cT_le, cF_le, cT_lt, cF_lt, cT_eq, cF_eq, nb_1, nb_2, ns_1, ns_2, nz_1, nz_2, ng_1, ng_2, ng_3, ng_4, ng_5, nI_clamp, nI_add, pk_mul, pk_sub, forall_eq, true_and, and_true, true_imp_iff, false_imp_iff, not_true_eq_false, not_false_eq_true, implies_true]
      exact re_mk rfl rfl I R S
  · simp (disch := omega) only [wpX_open, mX, xw_inF, wpY_open, mY, yw_isPartyF, rr, li_0, li_1, li_2, li_3, li_4, li_5, li_6, li_7, li_8, li_9, li_10, li_11, li_12, li_15, li_16, li_20, li_21, li_24, li_31, li_36, li_100, li_255, li_256, li_1000, li_6000, li_M, un_s, un_n, ba_ap, ba_upd, ba_in, cT_le, cF_le, cT_lt, cF_lt, cT_eq, cF_eq, nb_1, nb_2, ns_1, ns_2, nz_1, nz_2, ng_1, ng_2, ng_3, ng_4, ng_5, nI_clamp, nI_add, pk_mul, pk_sub, forall_eq, true_and, and_true, true_imp_iff, false_imp_iff, not_true_eq_false, not_false_eq_true, implies_true]
    exact re_mk rfl rfl I R S
end
section
theorem inv_rnw {T : Nat} {a : SA} {c b0 b1 cA cB : Nat} (I : Inv T a) (hc : c < ga_ch a) (h0 : ga_status a c = 0) (hr : ga_rows a c (ga_latest a c) = []) (e0 : cA + b0 = ga_coins a (ga_who a (2 * c)) + ga_bal a (2 * (12 * c + ga_latest a c))) (e1 : cB + b1 = ga_coins a (ga_who a (2 * c + 1)) + ga_bal a (2 * (12 * c + ga_latest a c) + 1)) : Inv T (aBeg (aCoi a (un (un (ga_coins a) (ga_who a (2 * c)) cA) (ga_who a (2 * c + 1)) cB)) c b0 b1) := by
  obtain ⟨i1, i2, i3, i4, i5, i6⟩ := I
  obtain ⟨j1, j2, j3, j4, j5, j6, j7, j8⟩ := i5 c hc
  refine inv_beg i1 i2 i3 i4 (fun d hd _ => i5 d hd) h0 j2 j3 j4 ?_
  have q1 := smN_un (ga_coins a) (x := cA) j2
  have q2 := smN_un (un (ga_coins a) (ga_who a (2 * c)) cA) (x := cB) j3
  rw [un_n (fun e => j4 e.symm)] at q2
  have q3 := smN_ch (f := fun d => if d = c then b0 + b1 else vf (aCoi a (un (un (ga_coins a) (ga_who a (2 * c)) cA) (ga_who a (2 * c + 1)) cB)) d) (g := vf a) (k := c) (ga_ch a) hc (fun d _ hne => by
    show (if d = c then b0 + b1 else vf (aCoi a (un (un (ga_coins a) (ga_who a (2 * c)) cA) (ga_who a (2 * c + 1)) cB)) d) = vf a d
    rw [if_neg hne]; rfl)
  have q4 : (if c = c then b0 + b1 else vf (aCoi a (un (un (ga_coins a) (ga_who a (2 * c)) cA) (ga_who a (2 * c + 1)) cB)) c) = b0 + b1 := if_pos rfl
  have q5 : vf a c = ga_bal a (2 * (12 * c + 0)) + ga_bal a (2 * (12 * c + 0) + 1) := if_pos h0
  have t := (j7 _ (Nat.le_refl _)).2.2
  rw [hr] at t
  have t2 : sumL [] = 0 := rfl
  rw [t2] at t
  rw [q4] at q3
  rw [aCoi_coins, aCoi_ch]
  omega
/-- adding a number of either sign -/
theorem rn_c {B C : Nat} {v : Int32} (hB : B ≤ 6000) (hC : C ≤ 6000) (h1 : ¬ v < -nI 6000) (h2 : ¬ nI 6000 < v) :
    (nI B + v < nI 0) ∨ (¬ nI B + v < nI 0 ∧ ((nI C < v) ∨ (¬ nI C < v ∧ ∃ B' C', nI B + v = nI B' ∧ nI C - v = nI C' ∧ B' ≤ 12000 ∧ C' ≤ 12000 ∧ C' + B' = C + B))) := by
  have z1 : -6000 ≤ v.toInt := by
    rw [Int32.lt_iff_toInt_lt, show (-nI 6000).toInt = -6000 from by decide] at h1; omega
  have z2 : v.toInt ≤ 6000 := by
    rw [Int32.lt_iff_toInt_lt, show (nI 6000).toInt = 6000 from by decide] at h2; omega
  have eB : (nI B).toInt = B := nI_toInt (by omega)
  have eC : (nI C).toInt = C := nI_toInt (by omega)
  have e1 : (nI B + v).toInt = B + v.toInt := by
    rw [Int32.toInt_add, eB]; exact Int.bmod_eq_of_le (by omega) (by omega)
  have e2 : (nI C - v).toInt = C - v.toInt := by
    rw [Int32.toInt_sub, eC]; exact Int.bmod_eq_of_le (by omega) (by omega)
  have e0 : (nI 0).toInt = 0 := by decide
  by_cases a : nI B + v < nI 0
  · exact Or.inl a
  · refine Or.inr ⟨a, ?_⟩
    rw [Int32.lt_iff_toInt_lt, e1, e0] at a
    by_cases b : nI C < v
    · exact Or.inl b
    · refine Or.inr ⟨b, (B + v.toInt).toNat, (C - v.toInt).toNat, ?_, ?_, ?_, ?_, ?_⟩
      · apply Int32.toInt_inj.mp
        rw [e1, nI_toInt (by omega)]; omega
      · rw [Int32.lt_iff_toInt_lt, eC] at b
        apply Int32.toInt_inj.mp
        rw [e2, nI_toInt (by omega)]; omega
      · omega
      · omega
      · rw [Int32.lt_iff_toInt_lt, eC] at b
        omega
theorem i_vc_renew {k : Nat} {u : SX} {v : SY} (I : i_Rel k u v) (hk : k + 5 ≤ 2560) (v1 : Int32) (v2 : Int32) (v3 : Int32) : wpX_renew (fun r u' => wpY_renew (fun r' v' => r' = r ∧ i_Rel (k + 5) u' v') v v1 v2 v3) u v1 v2 v3 := by
  obtain ⟨a, x, y, rfl, rfl, I, R, S⟩ := I
  have ch := I.1
  rcases pl_cases I R S v1 with ⟨c, rfl, hc, h0, hr, hx, rd, hy⟩ | ⟨hy, hx⟩
  · have c8 := ch8 I hc
    obtain ⟨j1, j2, j3, j4, j5, j6, j7, j8⟩ := I.2.2.2.2.1 c hc
    have ho := inv_open I hc h0 (Nat.le_refl _)
    have cA := inv_coins I j2
    have cB := inv_coins I j3
    by_cases l1 : v2 < -nI 6000
    · simp (disch := omega) only [wpX_renew, mX, xw_isChannel, xw_isReady c8 j1 j2 j3 (upI I), rd, hx, l1, li_0, li_1, li_2, li_3, li_4, li_5, li_6, li_7, li_8, li_9, li_10, li_11, li_12, li_15, li_16, li_20, li_21, li_24, li_31, li_36, li_100, li_255, li_256, li_1000, li_6000, li_M, un_s, un_n, ba_ap, ba_upd, ba_in, cT_le, cF_le, cT_lt, cF_lt, cT_eq, cF_eq, nb_1, nb_2, ns_1, ns_2, nz_1, nz_2, ng_1, ng_2, ng_3, ng_4, ng_5, nI_clamp, nI_add, pk_mul, pk_sub, forall_eq, true_and, and_true, true_imp_iff, false_imp_iff, not_true_eq_false, not_false_eq_true, implies_true]
      unfold wpY_renew
      dsimp only [mY]
      refine Eq.mpr (hy _) ?_
      simp (disch := omega) only [l1, li_0, li_1, li_2, li_3, li_4, li_5, li_6, li_7, li_8, li_9, li_10, li_11, li_12, li_15, li_16, li_20, li_21, li_24, li_31, li_36, li_100, li_255, li_256, li_1000, li_6000, li_M, un_s, un_n, ba_ap, ba_upd, ba_in, cT_le, cF_le, cT_lt, cF_lt, cT_eq, cF_eq, nb_1, nb_2, ns_1, ns_2, nz_1, nz_2, ng_1, ng_2, ng_3, ng_4, ng_5, nI_clamp, nI_add, pk_mul, pk_sub, forall_eq, true_and, and_true, true_imp_iff, false_imp_iff, not_true_eq_false, not_false_eq_true, implies_true]
      exact re_mk rfl rfl I R S
    by_cases l2 : nI 6000 < v2
    · simp (disch := omega) only [wpX_renew, mX, xw_isChannel, xw_isReady c8 j1 j2 j3 (upI I), rd, hx, l1, l2, li_0, li_1, li_2, li_3, li_4, li_5, li_6, li_7, li_8, li_9, li_10, li_11, li_12, li_15, li_16, li_20, li_21, li_24, li_31, li_36, li_100, li_255, li_256, li_1000, li_6000, li_M, un_s, un_n, ba_ap, ba_upd, ba_in, cT_le, cF_le, cT_lt, cF_lt, cT_eq, cF_eq, nb_1, nb_2, ns_1, ns_2, nz_1, nz_2, ng_1, ng_2, ng_3, ng_4, ng_5, nI_clamp, nI_add, pk_mul, pk_sub, forall_eq, true_and, and_true, true_imp_iff, false_imp_iff, not_true_eq_false, not_false_eq_true, implies_true]
      unfold wpY_renew
      dsimp only [mY]
      refine Eq.mpr (hy _) ?_
      simp (disch := omega) only [l1, l2, li_0, li_1, li_2, li_3, li_4, li_5, li_6, li_7, li_8, li_9, li_10, li_11, li_12, li_15, li_16, li_20, li_21, li_24, li_31, li_36, li_100, li_255, li_256, li_1000, li_6000, li_M, un_s, un_n, ba_ap, ba_upd, ba_in, cT_le, cF_le, cT_lt, cF_lt, cT_eq, cF_eq, nb_1, nb_2, ns_1, ns_2, nz_1, nz_2, ng_1, ng_2, ng_3, ng_4, ng_5, nI_clamp, nI_add, pk_mul, pk_sub, forall_eq, true_and, and_true, true_imp_iff, false_imp_iff, not_true_eq_false, not_false_eq_true, implies_true]
      exact re_mk rfl rfl I R S
    by_cases l3 : v3 < -nI 6000
    · simp (disch := omega) only [wpX_renew, mX, xw_isChannel, xw_isReady c8 j1 j2 j3 (upI I), rd, hx, l1, l2, l3, li_0, li_1, li_2, li_3, li_4, li_5, li_6, li_7, li_8, li_9, li_10, li_11, li_12, li_15, li_16, li_20, li_21, li_24, li_31, li_36, li_100, li_255, li_256, li_1000, li_6000, li_M, un_s, un_n, ba_ap, ba_upd, ba_in, cT_le, cF_le, cT_lt, cF_lt, cT_eq, cF_eq, nb_1, nb_2, ns_1, ns_2, nz_1, nz_2, ng_1, ng_2, ng_3, ng_4, ng_5, nI_clamp, nI_add, pk_mul, pk_sub, forall_eq, true_and, and_true, true_imp_iff, false_imp_iff, not_true_eq_false, not_false_eq_true, implies_true]
      unfold wpY_renew
      dsimp only [mY]
      refine Eq.mpr (hy _) ?_
      simp (disch := omega) only [l1, l2, l3, li_0, li_1, li_2, li_3, li_4, li_5, li_6, li_7, li_8, li_9, li_10, li_11, li_12, li_15, li_16, li_20, li_21, li_24, li_31, li_36, li_100, li_255, li_256, li_1000, li_6000, li_M, un_s, un_n, ba_ap, ba_upd, ba_in, cT_le, cF_le, cT_lt, cF_lt, cT_eq, cF_eq, nb_1, nb_2, ns_1, ns_2, nz_1, nz_2, ng_1, ng_2, ng_3, ng_4, ng_5, nI_clamp, nI_add, pk_mul, pk_sub, forall_eq, true_and, and_true, true_imp_iff, false_imp_iff, not_true_eq_false, not_false_eq_true, implies_true]
      exact re_mk rfl rfl I R S
    by_cases l4 : nI 6000 < v3
    · have l5 : ¬ v3 ≤ nI 6000 := Int32.not_le.mpr l4
      simp (disch := omega) only [wpX_renew, mX, xw_isChannel, xw_isReady c8 j1 j2 j3 (upI I), rd, hx, l1, l2, l3, l5, li_0, li_1, li_2, li_3, li_4, li_5, li_6, li_7, li_8, li_9, li_10, li_11, li_12, li_15, li_16, li_20, li_21, li_24, li_31, li_36, li_100, li_255, li_256, li_1000, li_6000, li_M, un_s, un_n, ba_ap, ba_upd, ba_in, cT_le, cF_le, cT_lt, cF_lt, cT_eq, cF_eq, nb_1, nb_2, ns_1, ns_2, nz_1, nz_2, ng_1, ng_2, ng_3, ng_4, ng_5, nI_clamp, nI_add, pk_mul, pk_sub, forall_eq, true_and, and_true, true_imp_iff, false_imp_iff, not_true_eq_false, not_false_eq_true, implies_true]
      unfold wpY_renew
      dsimp only [mY]
      refine Eq.mpr (hy _) ?_
      simp (disch := omega) only [l1, l2, l3, l5, li_0, li_1, li_2, li_3, li_4, li_5, li_6, li_7, li_8, li_9, li_10, li_11, li_12, li_15, li_16, li_20, li_21, li_24, li_31, li_36, li_100, li_255, li_256, li_1000, li_6000, li_M, un_s, un_n, ba_ap, ba_upd, ba_in, cT_le, cF_le, cT_lt, cF_lt, cT_eq, cF_eq, nb_1, nb_2, ns_1, ns_2, nz_1, nz_2, ng_1, ng_2, ng_3, ng_4, ng_5, nI_clamp, nI_add, pk_mul, pk_sub, forall_eq, true_and, and_true, true_imp_iff, false_imp_iff, not_true_eq_false, not_false_eq_true, implies_true]
      exact re_mk rfl rfl I R S
    have l5 : v3 ≤ nI 6000 := Int32.not_lt.mp l4
    rcases rn_c (B := ga_bal a (2 * (12 * c + ga_latest a c))) (C := ga_coins a (ga_who a (2 * c))) (by omega) cA l1 l2 with m1 | ⟨m1, m2⟩
    · simp (disch := omega) only [wpX_renew, mX, xw_isChannel, xw_isReady c8 j1 j2 j3 (upI I), rd, hx, l1, l2, l3, l5, xw_place, m1, li_0, li_1, li_2, li_3, li_4, li_5, li_6, li_7, li_8, li_9, li_10, li_11, li_12, li_15, li_16, li_20, li_21, li_24, li_31, li_36, li_100, li_255, li_256, li_1000, li_6000, li_M, un_s, un_n, ba_ap, ba_upd, ba_in, cT_le, cF_le, cT_lt, cF_lt, cT_eq, cF_eq, nb_1, nb_2, ns_1, ns_2, nz_1, nz_2, ng_1, ng_2, ng_3, ng_4, ng_5, nI_clamp, nI_add, pk_mul, pk_sub, forall_eq, true_and, and_true, true_imp_iff, false_imp_iff, not_true_eq_false, not_false_eq_true, implies_true]
      unfold wpY_renew
      dsimp only [mY]
      refine Eq.mpr (hy _) ?_
      simp (disch := omega) only [l1, l2, l3, l5, yw_now c8, m1, li_0, li_1, li_2, li_3, li_4, li_5, li_6, li_7, li_8, li_9, li_10, li_11, li_12, li_15, li_16, li_20, li_21, li_24, li_31, li_36, li_100, li_255, li_256, li_1000, li_6000, li_M, un_s, un_n, ba_ap, ba_upd, ba_in, cT_le, cF_le, cT_lt, cF_lt, cT_eq, cF_eq, nb_1, nb_2, ns_1, ns_2, nz_1, nz_2, ng_1, ng_2, ng_3, ng_4, ng_5, nI_clamp, nI_add, pk_mul, pk_sub, forall_eq, true_and, and_true, true_imp_iff, false_imp_iff, not_true_eq_false, not_false_eq_true, implies_true]
      exact re_mk rfl rfl I R S
    rcases rn_c (B := ga_bal a (2 * (12 * c + ga_latest a c) + 1)) (C := ga_coins a (ga_who a (2 * c + 1))) (by omega) cB l3 l4 with n1 | ⟨n1, n2⟩
    · simp (disch := omega) only [wpX_renew, mX, xw_isChannel, xw_isReady c8 j1 j2 j3 (upI I), rd, hx, l1, l2, l3, l5, xw_place, m1, n1, li_0, li_1, li_2, li_3, li_4, li_5, li_6, li_7, li_8, li_9, li_10, li_11, li_12, li_15, li_16, li_20, li_21, li_24, li_31, li_36, li_100, li_255, li_256, li_1000, li_6000, li_M, un_s, un_n, ba_ap, ba_upd, ba_in, cT_le, cF_le, cT_lt, cF_lt, cT_eq, cF_eq, nb_1, nb_2, ns_1, ns_2, nz_1, nz_2, ng_1, ng_2, ng_3, ng_4, ng_5, nI_clamp, nI_add, pk_mul, pk_sub, forall_eq, true_and, and_true, true_imp_iff, false_imp_iff, not_true_eq_false, not_false_eq_true, implies_true]
      unfold wpY_renew
      dsimp only [mY]
      refine Eq.mpr (hy _) ?_
      simp (disch := omega) only [l1, l2, l3, l5, yw_now c8, m1, n1, li_0, li_1, li_2, li_3, li_4, li_5, li_6, li_7, li_8, li_9, li_10, li_11, li_12, li_15, li_16, li_20, li_21, li_24, li_31, li_36, li_100, li_255, li_256, li_1000, li_6000, li_M, un_s, un_n, ba_ap, ba_upd, ba_in, cT_le, cF_le, cT_lt, cF_lt, cT_eq, cF_eq, nb_1, nb_2, ns_1, ns_2, nz_1, nz_2, ng_1, ng_2, ng_3, ng_4, ng_5, nI_clamp, nI_add, pk_mul, pk_sub, forall_eq, true_and, and_true, true_imp_iff, false_imp_iff, not_true_eq_false, not_false_eq_true, implies_true]
      exact re_mk rfl rfl I R S
    rcases m2 with m2 | ⟨m2, B', C', mB, mC, mB2, mC2, mE⟩
    · simp (disch := omega) only [wpX_renew, mX, xw_isChannel, xw_isReady c8 j1 j2 j3 (upI I), rd, hx, l1, l2, l3, l5, xw_place, m1, n1, m2, li_0, li_1, li_2, li_3, li_4, li_5, li_6, li_7, li_8, li_9, li_10, li_11, li_12, li_15, li_16, li_20, li_21, li_24, li_31, li_36, li_100, li_255, li_256, li_1000, li_6000, li_M, un_s, un_n, ba_ap, ba_upd, ba_in, cT_le, cF_le, cT_lt, cF_lt, cT_eq, cF_eq, nb_1, nb_2, ns_1, ns_2, nz_1, nz_2, ng_1, ng_2, ng_3, ng_4, ng_5, nI_clamp, nI_add, pk_mul, pk_sub, forall_eq, true_and, and_true, true_imp_iff, false_imp_iff, not_true_eq_false, not_false_eq_true, implies_true]
      unfold wpY_renew
      dsimp only [mY]
      refine Eq.mpr (hy _) ?_
      simp (disch := omega) only [l1, l2, l3, l5, yw_now c8, m1, n1, m2, li_0, li_1, li_2, li_3, li_4, li_5, li_6, li_7, li_8, li_9, li_10, li_11, li_12, li_15, li_16, li_20, li_21, li_24, li_31, li_36, li_100, li_255, li_256, li_1000, li_6000, li_M, un_s, un_n, ba_ap, ba_upd, ba_in, cT_le, cF_le, cT_lt, cF_lt, cT_eq, cF_eq, nb_1, nb_2, ns_1, ns_2, nz_1, nz_2, ng_1, ng_2, ng_3, ng_4, ng_5, nI_clamp, nI_add, pk_mul, pk_sub, forall_eq, true_and, and_true, true_imp_iff, false_imp_iff, not_true_eq_false, not_false_eq_true, implies_true]
      exact re_mk rfl rfl I R S
    rcases n2 with n2 | ⟨n2, B2, C2, nB, nC, nB2, nC2, nE⟩
    · have n3 : ¬ v3 ≤ nI (ga_coins a (ga_who a (2 * c + 1))) := Int32.not_le.mpr n2
      simp (disch := omega) only [wpX_renew, mX, xw_isChannel, xw_isReady c8 j1 j2 j3 (upI I), rd, hx, l1, l2, l3, l5, xw_place, m1, n1, m2, n3, li_0, li_1, li_2, li_3, li_4, li_5, li_6, li_7, li_8, li_9, li_10, li_11, li_12, li_15, li_16, li_20, li_21, li_24, li_31, li_36, li_100, li_255, li_256, li_1000, li_6000, li_M, un_s, un_n, ba_ap, ba_upd, ba_in, cT_le, cF_le, cT_lt, cF_lt, cT_eq, cF_eq, nb_1, nb_2, ns_1, ns_2, nz_1, nz_2, ng_1, ng_2, ng_3, ng_4, ng_5, nI_clamp, nI_add, pk_mul, pk_sub, forall_eq, true_and, and_true, true_imp_iff, false_imp_iff, not_true_eq_false, not_false_eq_true, implies_true]
      unfold wpY_renew
      dsimp only [mY]
      refine Eq.mpr (hy _) ?_
      simp (disch := omega) only [l1, l2, l3, l5, yw_now c8, m1, n1, m2, n3, li_0, li_1, li_2, li_3, li_4, li_5, li_6, li_7, li_8, li_9, li_10, li_11, li_12, li_15, li_16, li_20, li_21, li_24, li_31, li_36, li_100, li_255, li_256, li_1000, li_6000, li_M, un_s, un_n, ba_ap, ba_upd, ba_in, cT_le, cF_le, cT_lt, cF_lt, cT_eq, cF_eq, nb_1, nb_2, ns_1, ns_2, nz_1, nz_2, ng_1, ng_2, ng_3, ng_4, ng_5, nI_clamp, nI_add, pk_mul, pk_sub, forall_eq, true_and, and_true, true_imp_iff, false_imp_iff, not_true_eq_false, not_false_eq_true, implies_true]
      exact re_mk rfl rfl I R S
    have n3 : v3 ≤ nI (ga_coins a (ga_who a (2 * c + 1))) := Int32.not_lt.mp n2
    have I1 := inv_rnw (cA := C') (cB := C2) (b0 := B') (b1 := B2) I hc h0 hr mE nE
    obtain ⟨r1, r2⟩ := x2_beg (a := aCoi a (un (un (ga_coins a) (ga_who a (2 * c)) C') (ga_who a (2 * c + 1)) C2)) (x := x) (c := c) (b0 := B') (b1 := B2) ch hc (fun d hd hne => ⟨R.1 d hd, (I.2.2.2.2.1 d hd).2.2.2.2.1⟩) h0 (by omega) (by omega)
    obtain ⟨q1, q2⟩ := y2_beg (a := aCoi a (un (un (ga_coins a) (ga_who a (2 * c)) C') (ga_who a (2 * c + 1)) C2)) (y := y) (c := c) (b0 := B') (b1 := B2) ch hc (fun d hd hne => ⟨S d hd, I.2.2.2.2.1 d hd⟩) h0
    have m1' : ¬ nI B' < nI 0 := by rw [← mB]; exact m1
    have n1' : ¬ nI B2 < nI 0 := by rw [← nB]; exact n1
    simp (disch := omega) only [wpX_renew, mX, xw_isChannel, xw_isReady c8 j1 j2 j3 (upI I), rd, hx, l1, l2, l3, l5, xw_place, mB, nB, m2, n3, mC, nC, li_0, li_1, li_2, li_3, li_4, li_5, li_6, li_7, li_8, li_9, li_10, li_11, li_12, li_15, li_16, li_20, li_21, li_24, li_31, li_36, li_100, li_255, li_256, li_1000, li_6000, li_M, un_s, un_n, ba_ap, ba_upd, ba_in, cT_le, cF_le, cT_lt, cF_lt, cT_eq, cF_eq, nb_1, nb_2, ns_1, ns_2, nz_1, nz_2, ng_1, ng_2, ng_3, ng_4, ng_5, nI_clamp, nI_add, pk_mul, pk_sub, forall_eq, true_and, and_true, true_imp_iff, false_imp_iff, not_true_eq_false, not_false_eq_true, implies_true]
    refine Eq.mpr (r2 _) ?_
    dsimp only [mX]
    unfold wpY_renew
    dsimp only [mY]
    refine Eq.mpr (hy _) ?_
    simp (disch := omega) only [l1, l2, l3, l5, yw_now c8, mB, nB, m2, n3, mC, nC, li_0, li_1, li_2, li_3, li_4, li_5, li_6, li_7, li_8, li_9, li_10, li_11, li_12, li_15, li_16, li_20, li_21, li_24, li_31, li_36, li_100, li_255, li_256, li_1000, li_6000, li_M, un_s, un_n, ba_ap, ba_upd, ba_in, cT_le, cF_le, cT_lt, cF_lt, cT_eq, cF_eq, nb_1, nb_2, ns_1, ns_2, nz_1, nz_2, ng_1, ng_2, ng_3, ng_4, ng_5, nI_clamp, nI_add, pk_mul, pk_sub, forall_eq, true_and, and_true, true_imp_iff, false_imp_iff, not_true_eq_false, not_false_eq_true, implies_true]
    refine Eq.mpr (q2 _) ?_
    exact re_mk rfl rfl I1 r1 q1
  · have fin : wpY_renew (fun r' v' => r' = nI 0 ∧ i_Rel (k + 5) (mX a x) v') (mY a y) v1 v2 v3 := by
      unfold wpY_renew
      dsimp only [mY]
      refine Eq.mpr (hy _) ?_
      simp (disch := omega) only [li_0, li_1, li_2, li_3, li_4, li_5, li_6, li_7, li_8, li_9, li_10, li_11, li_12, li_15, li_16, li_20, li_21, li_24, li_31, li_36, li_100, li_255, li_256, li_1000, li_6000, li_M, un_s, un_n, ba_ap, ba_upd, ba_in, cT_le, cF_le, cT_lt, cF_lt, cT_eq, cF_eq, nb_1, nb_2, ns_1, ns_2, nz_1, nz_2, ng_1, ng_2, ng_3, ng_4, ng_5, nI_clamp, nI_add, pk_mul, pk_sub, forall_eq, true_and, and_true, true_imp_iff, false_imp_iff, not_true_eq_false, not_false_eq_true, implies_true]
      exact re_mk rfl rfl I R S
    rcases hx with hx | ⟨c, rfl, hc, hx⟩
    · unfold wpX_renew
      dsimp only [mX]
      refine Eq.mpr (hx _) ?_
      simp (disch := omega) only [li_0, li_1, li_2, li_3, li_4, li_5, li_6, li_7, li_8, li_9, li_10, li_11, li_12, li_15, li_16, li_20, li_21, li_24, li_31, li_36, li_100, li_255, li_256, li_1000, li_6000, li_M, un_s, un_n, ba_ap, ba_upd, ba_in, cT_le, cF_le, cT_lt, cF_lt, cT_eq, cF_eq, nb_1, nb_2, ns_1, ns_2, nz_1, nz_2, ng_1, ng_2, ng_3, ng_4, ng_5, nI_clamp, nI_add, pk_mul, pk_sub, forall_eq, true_and, and_true, true_imp_iff, false_imp_iff, not_true_eq_false, not_false_eq_true, implies_true]
      exact fin
    · have c8 := ch8 I hc
      obtain ⟨j1, j2, j3, j4, j5, j6, j7, j8⟩ := I.2.2.2.2.1 c hc
      rcases hx with r | ⟨r, r2, r3⟩
      · simp (disch := omega) only [wpX_renew, mX, xw_isChannel, xw_isReady c8 j1 j2 j3 (upI I), r, li_0, li_1, li_2, li_3, li_4, li_5, li_6, li_7, li_8, li_9, li_10, li_11, li_12, li_15, li_16, li_20, li_21, li_24, li_31, li_36, li_100, li_255, li_256, li_1000, li_6000, li_M, un_s, un_n, ba_ap, ba_upd, ba_in, cT_le, cF_le, cT_lt, cF_lt, cT_eq, cF_eq, nb_1, nb_2, ns_1, ns_2, nz_1, nz_2, ng_1, ng_2, ng_3, ng_4, ng_5, nI_clamp, nI_add, pk_mul, pk_sub, forall_eq, true_and, and_true, true_imp_iff, false_imp_iff, not_true_eq_false, not_false_eq_true, implies_true]
        exact fin
      · simp (disch := omega) only [wpX_renew, mX, xw_isChannel, xw_isReady c8 j1 j2 j3 (upI I), r, li_0, li_1, li_2, li_3, li_4, li_5, li_6, li_7, li_8, li_9, li_10, li_11, li_12, li_15, li_16, li_20, li_21, li_24, li_31, li_36, li_100, li_255, li_256, li_1000, li_6000, li_M, un_s, un_n, ba_ap, ba_upd, ba_in, cT_le, cF_le, cT_lt, cF_lt, cT_eq, cF_eq, nb_1, nb_2, ns_1, ns_2, nz_1, nz_2, ng_1, ng_2, ng_3, ng_4, ng_5, nI_clamp, nI_add, pk_mul, pk_sub, forall_eq, true_and, and_true, true_imp_iff, false_imp_iff, not_true_eq_false, not_false_eq_true, implies_true]
        exact fin
end
section
theorem le_neg {x : Int32} (h : x < nI 0) : x ≤ nI 0 := Int32.le_of_lt h
/-- a pair and a value: asked, or both refuse -/
theorem as_cases (v1 v2 v3 : Int32) : (∃ p q v, p < 6 ∧ q < 6 ∧ p ≠ q ∧ 0 < v ∧ v < 256 ∧ v1 = nI p ∧ v2 = nI q ∧ v3 = nI v) ∨
    ((∀ (a : SA) (y : OY) (post : Int32 → Prop), wpY_isAsked post (mY a y) v1 v2 v3 = post (nI 0)) ∧ ((∀ post : Int32 → Prop, wpX_isPair post v1 v2 = post (nI 0)) ∨ ((∀ post : Int32 → Prop, wpX_isPair post v1 v2 = post (nI 1)) ∧ ∀ post : Int32 → Prop, wpX_isValue post v3 = post (nI 0)))) := by
  rcases ix v1 with h | ⟨p, hp31, rfl⟩
  · refine Or.inr ⟨fun a y post => ?_, Or.inl fun post => ?_⟩
    · simp (disch := omega) only [wpY_isAsked, mY, yw_isPartyN h, li_0, li_1, li_2, li_3, li_4, li_5, li_6, li_7, li_8, li_9, li_10, li_11, li_12, li_15, li_16, li_20, li_21, li_24, li_31, li_36, li_100, li_255, li_256, li_1000, li_6000, li_M, un_s, un_n, ba_ap, ba_upd, ba_in, cT_le, cF_le, cT_lt, cF_lt, cT_eq, cF_eq, nb_1, nb_2, ns_1, ns_2, nz_1, nz_2, ng_1, ng_2, ng_3, ng_4, ng_5, nI_clamp, nI_add, pk_mul, pk_sub, forall_eq, true_and, and_true, true_imp_iff, false_imp_iff, not_true_eq_false, not_false_eq_true, implies_true]
    · simp (disch := omega) only [wpX_isPair, xw_inN h, li_0, li_1, li_2, li_3, li_4, li_5, li_6, li_7, li_8, li_9, li_10, li_11, li_12, li_15, li_16, li_20, li_21, li_24, li_31, li_36, li_100, li_255, li_256, li_1000, li_6000, li_M, un_s, un_n, ba_ap, ba_upd, ba_in, cT_le, cF_le, cT_lt, cF_lt, cT_eq, cF_eq, nb_1, nb_2, ns_1, ns_2, nz_1, nz_2, ng_1, ng_2, ng_3, ng_4, ng_5, nI_clamp, nI_add, pk_mul, pk_sub, forall_eq, true_and, and_true, true_imp_iff, false_imp_iff, not_true_eq_false, not_false_eq_true, implies_true]
  by_cases hp : p < 6
  · rcases ix v2 with h | ⟨q, hq31, rfl⟩
    · refine Or.inr ⟨fun a y post => ?_, Or.inl fun post => ?_⟩
      · simp (disch := omega) only [wpY_isAsked, mY, yw_isParty, yw_isPartyN h, li_0, li_1, li_2, li_3, li_4, li_5, li_6, li_7, li_8, li_9, li_10, li_11, li_12, li_15, li_16, li_20, li_21, li_24, li_31, li_36, li_100, li_255, li_256, li_1000, li_6000, li_M, un_s, un_n, ba_ap, ba_upd, ba_in, cT_le, cF_le, cT_lt, cF_lt, cT_eq, cF_eq, nb_1, nb_2, ns_1, ns_2, nz_1, nz_2, ng_1, ng_2, ng_3, ng_4, ng_5, nI_clamp, nI_add, pk_mul, pk_sub, forall_eq, true_and, and_true, true_imp_iff, false_imp_iff, not_true_eq_false, not_false_eq_true, implies_true]
      · simp (disch := omega) only [wpX_isPair, xw_in, xw_inN h, li_0, li_1, li_2, li_3, li_4, li_5, li_6, li_7, li_8, li_9, li_10, li_11, li_12, li_15, li_16, li_20, li_21, li_24, li_31, li_36, li_100, li_255, li_256, li_1000, li_6000, li_M, un_s, un_n, ba_ap, ba_upd, ba_in, cT_le, cF_le, cT_lt, cF_lt, cT_eq, cF_eq, nb_1, nb_2, ns_1, ns_2, nz_1, nz_2, ng_1, ng_2, ng_3, ng_4, ng_5, nI_clamp, nI_add, pk_mul, pk_sub, forall_eq, true_and, and_true, true_imp_iff, false_imp_iff, not_true_eq_false, not_false_eq_true, implies_true]
    by_cases hq : q < 6
    · by_cases hpq : p = q
      · refine Or.inr ⟨fun a y post => ?_, Or.inl fun post => ?_⟩
        · simp (disch := omega) only [wpY_isAsked, mY, yw_isParty, li_0, li_1, li_2, li_3, li_4, li_5, li_6, li_7, li_8, li_9, li_10, li_11, li_12, li_15, li_16, li_20, li_21, li_24, li_31, li_36, li_100, li_255, li_256, li_1000, li_6000, li_M, un_s, un_n, ba_ap, ba_upd, ba_in, cT_le, cF_le, cT_lt, cF_lt, cT_eq, cF_eq, nb_1, nb_2, ns_1, ns_2, nz_1, nz_2, ng_1, ng_2, ng_3, ng_4, ng_5, nI_clamp, nI_add, pk_mul, pk_sub, forall_eq, true_and, and_true, true_imp_iff, false_imp_iff, not_true_eq_false, not_false_eq_true, implies_true]
        · simp (disch := omega) only [wpX_isPair, xw_in, li_0, li_1, li_2, li_3, li_4, li_5, li_6, li_7, li_8, li_9, li_10, li_11, li_12, li_15, li_16, li_20, li_21, li_24, li_31, li_36, li_100, li_255, li_256, li_1000, li_6000, li_M, un_s, un_n, ba_ap, ba_upd, ba_in, cT_le, cF_le, cT_lt, cF_lt, cT_eq, cF_eq, nb_1, nb_2, ns_1, ns_2, nz_1, nz_2, ng_1, ng_2, ng_3, ng_4, ng_5, nI_clamp, nI_add, pk_mul, pk_sub, forall_eq, true_and, and_true, true_imp_iff, false_imp_iff, not_true_eq_false, not_false_eq_true, implies_true]
      · rcases ix v3 with h | ⟨v, hv31, rfl⟩
        · have h' := le_neg h
          refine Or.inr ⟨fun a y post => ?_, Or.inr ⟨fun post => xw_isPair hp hq hpq, fun post => ?_⟩⟩
          · simp (disch := omega) only [wpY_isAsked, mY, yw_isParty, h', li_0, li_1, li_2, li_3, li_4, li_5, li_6, li_7, li_8, li_9, li_10, li_11, li_12, li_15, li_16, li_20, li_21, li_24, li_31, li_36, li_100, li_255, li_256, li_1000, li_6000, li_M, un_s, un_n, ba_ap, ba_upd, ba_in, cT_le, cF_le, cT_lt, cF_lt, cT_eq, cF_eq, nb_1, nb_2, ns_1, ns_2, nz_1, nz_2, ng_1, ng_2, ng_3, ng_4, ng_5, nI_clamp, nI_add, pk_mul, pk_sub, forall_eq, true_and, and_true, true_imp_iff, false_imp_iff, not_true_eq_false, not_false_eq_true, implies_true]
          · simp (disch := omega) only [wpX_isValue, h', li_0, li_1, li_2, li_3, li_4, li_5, li_6, li_7, li_8, li_9, li_10, li_11, li_12, li_15, li_16, li_20, li_21, li_24, li_31, li_36, li_100, li_255, li_256, li_1000, li_6000, li_M, un_s, un_n, ba_ap, ba_upd, ba_in, cT_le, cF_le, cT_lt, cF_lt, cT_eq, cF_eq, nb_1, nb_2, ns_1, ns_2, nz_1, nz_2, ng_1, ng_2, ng_3, ng_4, ng_5, nI_clamp, nI_add, pk_mul, pk_sub, forall_eq, true_and, and_true, true_imp_iff, false_imp_iff, not_true_eq_false, not_false_eq_true, implies_true]
        · by_cases hv : 0 < v ∧ v < 256
          · exact Or.inl ⟨p, q, v, hp, hq, hpq, hv.1, hv.2, rfl, rfl, rfl⟩
          · by_cases h0 : v = 0
            · refine Or.inr ⟨fun a y post => ?_, Or.inr ⟨fun post => xw_isPair hp hq hpq, fun post => ?_⟩⟩
              · simp (disch := omega) only [wpY_isAsked, mY, yw_isParty, li_0, li_1, li_2, li_3, li_4, li_5, li_6, li_7, li_8, li_9, li_10, li_11, li_12, li_15, li_16, li_20, li_21, li_24, li_31, li_36, li_100, li_255, li_256, li_1000, li_6000, li_M, un_s, un_n, ba_ap, ba_upd, ba_in, cT_le, cF_le, cT_lt, cF_lt, cT_eq, cF_eq, nb_1, nb_2, ns_1, ns_2, nz_1, nz_2, ng_1, ng_2, ng_3, ng_4, ng_5, nI_clamp, nI_add, pk_mul, pk_sub, forall_eq, true_and, and_true, true_imp_iff, false_imp_iff, not_true_eq_false, not_false_eq_true, implies_true]
              · simp (disch := omega) only [wpX_isValue, li_0, li_1, li_2, li_3, li_4, li_5, li_6, li_7, li_8, li_9, li_10, li_11, li_12, li_15, li_16, li_20, li_21, li_24, li_31, li_36, li_100, li_255, li_256, li_1000, li_6000, li_M, un_s, un_n, ba_ap, ba_upd, ba_in, cT_le, cF_le, cT_lt, cF_lt, cT_eq, cF_eq, nb_1, nb_2, ns_1, ns_2, nz_1, nz_2, ng_1, ng_2, ng_3, ng_4, ng_5, nI_clamp, nI_add, pk_mul, pk_sub, forall_eq, true_and, and_true, true_imp_iff, false_imp_iff, not_true_eq_false, not_false_eq_true, implies_true]
            · refine Or.inr ⟨fun a y post => ?_, Or.inr ⟨fun post => xw_isPair hp hq hpq, fun post => ?_⟩⟩
              · simp (disch := omega) only [wpY_isAsked, mY, yw_isParty, li_0, li_1, li_2, li_3, li_4, li_5, li_6, li_7, li_8, li_9, li_10, li_11, li_12, li_15, li_16, li_20, li_21, li_24, li_31, li_36, li_100, li_255, li_256, li_1000, li_6000, li_M, un_s, un_n, ba_ap, ba_upd, ba_in, cT_le, cF_le, cT_lt, cF_lt, cT_eq, cF_eq, nb_1, nb_2, ns_1, ns_2, nz_1, nz_2, ng_1, ng_2, ng_3, ng_4, ng_5, nI_clamp, nI_add, pk_mul, pk_sub, forall_eq, true_and, and_true, true_imp_iff, false_imp_iff, not_true_eq_false, not_false_eq_true, implies_true]
              · simp (disch := omega) only [wpX_isValue, li_0, li_1, li_2, li_3, li_4, li_5, li_6, li_7, li_8, li_9, li_10, li_11, li_12, li_15, li_16, li_20, li_21, li_24, li_31, li_36, li_100, li_255, li_256, li_1000, li_6000, li_M, un_s, un_n, ba_ap, ba_upd, ba_in, cT_le, cF_le, cT_lt, cF_lt, cT_eq, cF_eq, nb_1, nb_2, ns_1, ns_2, nz_1, nz_2, ng_1, ng_2, ng_3, ng_4, ng_5, nI_clamp, nI_add, pk_mul, pk_sub, forall_eq, true_and, and_true, true_imp_iff, false_imp_iff, not_true_eq_false, not_false_eq_true, implies_true]
    · refine Or.inr ⟨fun a y post => ?_, Or.inl fun post => ?_⟩
      · simp (disch := omega) only [wpY_isAsked, mY, yw_isParty, yw_isPartyF, li_0, li_1, li_2, li_3, li_4, li_5, li_6, li_7, li_8, li_9, li_10, li_11, li_12, li_15, li_16, li_20, li_21, li_24, li_31, li_36, li_100, li_255, li_256, li_1000, li_6000, li_M, un_s, un_n, ba_ap, ba_upd, ba_in, cT_le, cF_le, cT_lt, cF_lt, cT_eq, cF_eq, nb_1, nb_2, ns_1, ns_2, nz_1, nz_2, ng_1, ng_2, ng_3, ng_4, ng_5, nI_clamp, nI_add, pk_mul, pk_sub, forall_eq, true_and, and_true, true_imp_iff, false_imp_iff, not_true_eq_false, not_false_eq_true, implies_true]
      · simp (disch := omega) only [wpX_isPair, xw_in, xw_inF, li_0, li_1, li_2, li_3, li_4, li_5, li_6, li_7, li_8, li_9, li_10, li_11, li_12, li_15, li_16, li_20, li_21, li_24, li_31, li_36, li_100, li_255, li_256, li_1000, li_6000, li_M, un_s, un_n, ba_ap, ba_upd, ba_in, cT_le, cF_le, cT_lt, cF_lt, cT_eq, cF_eq, nb_1, nb_2, ns_1, ns_2, nz_1, nz_2, ng_1, ng_2, ng_3, ng_4, ng_5, nI_clamp, nI_add, pk_mul, pk_sub, forall_eq, true_and, and_true, true_imp_iff, false_imp_iff, not_true_eq_false, not_false_eq_true, implies_true]
  · refine Or.inr ⟨fun a y post => ?_, Or.inl fun post => ?_⟩
    · simp (disch := omega) only [wpY_isAsked, mY, yw_isPartyF, li_0, li_1, li_2, li_3, li_4, li_5, li_6, li_7, li_8, li_9, li_10, li_11, li_12, li_15, li_16, li_20, li_21, li_24, li_31, li_36, li_100, li_255, li_256, li_1000, li_6000, li_M, un_s, un_n, ba_ap, ba_upd, ba_in, cT_le, cF_le, cT_lt, cF_lt, cT_eq, cF_eq, nb_1, nb_2, ns_1, ns_2, nz_1, nz_2, ng_1, ng_2, ng_3, ng_4, ng_5, nI_clamp, nI_add, pk_mul, pk_sub, forall_eq, true_and, and_true, true_imp_iff, false_imp_iff, not_true_eq_false, not_false_eq_true, implies_true]
    · simp (disch := omega) only [wpX_isPair, xw_inF, li_0, li_1, li_2, li_3, li_4, li_5, li_6, li_7, li_8, li_9, li_10, li_11, li_12, li_15, li_16, li_20, li_21, li_24, li_31, li_36, li_100, li_255, li_256, li_1000, li_6000, li_M, un_s, un_n, ba_ap, ba_upd, ba_in, cT_le, cF_le, cT_lt, cF_lt, cT_eq, cF_eq, nb_1, nb_2, ns_1, ns_2, nz_1, nz_2, ng_1, ng_2, ng_3, ng_4, ng_5, nI_clamp, nI_add, pk_mul, pk_sub, forall_eq, true_and, and_true, true_imp_iff, false_imp_iff, not_true_eq_false, not_false_eq_true, implies_true]
theorem yw_isAsked {a : SA} {y : OY} {p q v : Nat} {post : Int32 → Prop} (hp : p < 6) (hq : q < 6) (hpq : p ≠ q) (h0 : 0 < v) (hv : v < 256) : wpY_isAsked post (mY a y) (nI p) (nI q) (nI v) = post (nI 1) := by
  simp (disch := omega) only [wpY_isAsked, mY, yw_isParty, li_0, li_1, li_2, li_3, li_4, li_5, li_6, li_7, li_8, li_9, li_10, li_11, li_12, li_15, li_16, li_20, li_21, li_24, li_31, li_36, li_100, li_255, li_256, li_1000, li_6000, li_M, un_s, un_n, ba_ap, ba_upd, ba_in, cT_le, cF_le, cT_lt, cF_lt, cT_eq, cF_eq, nb_1, nb_2, ns_1, ns_2, nz_1, nz_2, ng_1, ng_2, ng_3, ng_4, ng_5, nI_clamp, nI_add, pk_mul, pk_sub, forall_eq, true_and, and_true, true_imp_iff, false_imp_iff, not_true_eq_false, not_false_eq_true, implies_true]
theorem i_vc_most {k : Nat} {u : SX} {v : SY} (I : i_Rel k u v) (hk : k + 5 ≤ 2560) (v1 : Int32) (v2 : Int32) : wpX_most (fun r u' => wpY_most (fun r' v' => r' = r ∧ i_Rel (k + 5) u' v') v v1 v2) u v1 v2 := by
  obtain ⟨a, x, y, rfl, rfl, I, R, S⟩ := I
  have mostX : ∀ p q, p < 6 → q < 6 → p ≠ q → ∀ (post : Int32 → SX → Prop), (∀ x', RX a x' → post (nI (mst (ga_ch a) q (rdA a) (ga_who a) (ga_base a) (ga_rate a) (capA a) p)) (mX a x')) → ∀ m low high x, high ≤ low + m → low ≤ mst (ga_ch a) q (rdA a) (ga_who a) (ga_base a) (ga_rate a) (capA a) p → mst (ga_ch a) q (rdA a) (ga_who a) (ga_base a) (ga_rate a) (capA a) p ≤ high → high < 256 → RX a x → wX_most_17 post (nI p) (nI q) (m + 1) (nI low) (nI high) (ga_spent a) (nI (ga_now a)) (nI (ga_ch a)) (nI (gx_goal x)) (nI (gx_val x)) (nI (gx_known x)) (cN (ga_coins a)) (cN (ga_up a)) (ga_knows a) (cN (ga_base a)) (cN (ga_rate a)) (ga_guard a) (cN (ga_status a)) (cN (ga_who a)) (cN (ga_latest a)) (cN (gx_row x)) (cN (ga_bal a)) (cN (gx_many x)) (cN (gx_frm x)) (cN (gx_amt x)) (cN (gx_sec x)) (cN (gx_xpy x)) (cN (gx_born x)) (cN (gx_dead x)) (cN (ga_publd a)) (cN (ga_pubs a)) (cN (ga_since a)) (cN (ga_held a)) (cN (gx_outm x)) (cN (gx_least x)) (cN (gx_path x)) (cN (gx_xsum x)) := by
    intro p q hp hq hpq post h
    obtain ⟨s1, s2⟩ := mst_sp (ch := ga_ch a) (who := ga_who a) (base := ga_base a) (rate := ga_rate a) (rd := rdA a) (cap_M I) cap_rd hpq
    generalize mst (ga_ch a) q (rdA a) (ga_who a) (ga_base a) (ga_rate a) (capA a) p = M at h s1 s2
    intro m
    induction m with
    | zero =>
      intro low high x h1 h2 h3 h4 R
      have e : M = low := by omega
      rw [wX_most_17]
      simp (disch := omega) only [li_0, li_1, li_2, li_3, li_4, li_5, li_6, li_7, li_8, li_9, li_10, li_11, li_12, li_15, li_16, li_20, li_21, li_24, li_31, li_36, li_100, li_255, li_256, li_1000, li_6000, li_M, un_s, un_n, ba_ap, ba_upd, ba_in, cT_le, cF_le, cT_lt, cF_lt, cT_eq, cF_eq, nb_1, nb_2, ns_1, ns_2, nz_1, nz_2, ng_1, ng_2, ng_3, ng_4, ng_5, nI_clamp, nI_add, pk_mul, pk_sub, forall_eq, true_and, and_true, true_imp_iff, false_imp_iff, not_true_eq_false, not_false_eq_true, implies_true]
      rw [← e]
      exact h x R
    | succ m ih =>
      intro low high x h1 h2 h3 h4 R
      rw [wX_most_17]
      by_cases z : high ≤ low
      · have e : M = low := by omega
        simp (disch := omega) only [li_0, li_1, li_2, li_3, li_4, li_5, li_6, li_7, li_8, li_9, li_10, li_11, li_12, li_15, li_16, li_20, li_21, li_24, li_31, li_36, li_100, li_255, li_256, li_1000, li_6000, li_M, un_s, un_n, ba_ap, ba_upd, ba_in, cT_le, cF_le, cT_lt, cF_lt, cT_eq, cF_eq, nb_1, nb_2, ns_1, ns_2, nz_1, nz_2, ng_1, ng_2, ng_3, ng_4, ng_5, nI_clamp, nI_add, pk_mul, pk_sub, forall_eq, true_and, and_true, true_imp_iff, false_imp_iff, not_true_eq_false, not_false_eq_true, implies_true]
        rw [← e]
        exact h x R
      · have e2 : (low + high + 1) / 2 ^ 1 = (low + high + 1) / 2 := by rw [Nat.pow_one]
        simp (disch := omega) only [ba_shr, e2, li_0, li_1, li_2, li_3, li_4, li_5, li_6, li_7, li_8, li_9, li_10, li_11, li_12, li_15, li_16, li_20, li_21, li_24, li_31, li_36, li_100, li_255, li_256, li_1000, li_6000, li_M, un_s, un_n, ba_ap, ba_upd, ba_in, cT_le, cF_le, cT_lt, cF_lt, cT_eq, cF_eq, nb_1, nb_2, ns_1, ns_2, nz_1, nz_2, ng_1, ng_2, ng_3, ng_4, ng_5, nI_clamp, nI_add, pk_mul, pk_sub, forall_eq, true_and, and_true, true_imp_iff, false_imp_iff, not_true_eq_false, not_false_eq_true, implies_true]
        have s3 := s2 ((low + high + 1) / 2) (by omega) (by omega)
        have hb : (low + high + 1) / 2 < 256 := by omega
        generalize hV : (low + high + 1) / 2 = V at s3 hb ⊢
        refine x2_search I R hq hb (fun f' ht => ?_)
        dsimp only [mX]
        have ec : hpn (fun g => f' (6 * g + p)) 4 = hpn (fun g => lsA a q V g p) 4 := hpn_congr 4 (fun i g1 g2 => ht i p g1 g2 hp)
        have RR : RX a (xTab x q V 1 f') := ⟨R.1, Or.inr ⟨rfl, hq, hb, fun g p g1 g2 g3 => ht g p g1 g2 g3⟩⟩
        have h4' : (hpn (fun g => lsA a q V g p) 4).1 ≤ 4 := by
          rcases hpn_sp (fun g => lsA a q V g p) 4 with ⟨q1, _⟩ | ⟨_, q1, _⟩ <;> omega
        have s4 : (0 < (hpn (fun g => lsA a q V g p) 4).1 ↔ V ≤ M) := s3
        refine xw_hopsFrom hp (fun g g1 g2 => ?_) ?_
        · show f' (6 * g + p) ≤ 1000000
          rw [ht g p g1 g2 hp]; exact lst_M _ _
        · have ec2 : hpn (fun g => gx_least (xTab x q V 1 f') (6 * g + p)) 4 = hpn (fun g => lsA a q V g p) 4 := ec
          rw [ec2]
          generalize (hpn (fun g => lsA a q V g p) 4).1 = H at s4 h4' ⊢
          by_cases w : 0 < H
          · have w2 := s4.mp w
            simp (disch := omega) only [li_0, li_1, li_2, li_3, li_4, li_5, li_6, li_7, li_8, li_9, li_10, li_11, li_12, li_15, li_16, li_20, li_21, li_24, li_31, li_36, li_100, li_255, li_256, li_1000, li_6000, li_M, un_s, un_n, ba_ap, ba_upd, ba_in, cT_le, cF_le, cT_lt, cF_lt, cT_eq, cF_eq, nb_1, nb_2, ns_1, ns_2, nz_1, nz_2, ng_1, ng_2, ng_3, ng_4, ng_5, nI_clamp, nI_add, pk_mul, pk_sub, forall_eq, true_and, and_true, true_imp_iff, false_imp_iff, not_true_eq_false, not_false_eq_true, implies_true]
            exact ih V high (xTab x q V 1 f') (by omega) w2 h3 h4 RR
          · have w2 : ¬ V ≤ M := fun y => w (s4.mpr y)
            simp (disch := omega) only [li_0, li_1, li_2, li_3, li_4, li_5, li_6, li_7, li_8, li_9, li_10, li_11, li_12, li_15, li_16, li_20, li_21, li_24, li_31, li_36, li_100, li_255, li_256, li_1000, li_6000, li_M, un_s, un_n, ba_ap, ba_upd, ba_in, cT_le, cF_le, cT_lt, cF_lt, cT_eq, cF_eq, nb_1, nb_2, ns_1, ns_2, nz_1, nz_2, ng_1, ng_2, ng_3, ng_4, ng_5, nI_clamp, nI_add, pk_mul, pk_sub, forall_eq, true_and, and_true, true_imp_iff, false_imp_iff, not_true_eq_false, not_false_eq_true, implies_true]
            exact ih low (V - 1) (xTab x q V 1 f') (by omega) h2 (by omega) (by omega) RR
  rcases as_cases v1 v2 (nI 1) with ⟨p, q, w, hp, hq, hpq, _, _, rfl, rfl, _⟩ | ⟨hy, hx⟩
  · obtain ⟨s1, s2⟩ := mst_sp (ch := ga_ch a) (who := ga_who a) (base := ga_base a) (rate := ga_rate a) (rd := rdA a) (cap_M I) cap_rd hpq
    simp (disch := omega) only [wpX_most, mX, xw_isPair hp hq hpq, li_0, li_1, li_2, li_3, li_4, li_5, li_6, li_7, li_8, li_9, li_10, li_11, li_12, li_15, li_16, li_20, li_21, li_24, li_31, li_36, li_100, li_255, li_256, li_1000, li_6000, li_M, un_s, un_n, ba_ap, ba_upd, ba_in, cT_le, cF_le, cT_lt, cF_lt, cT_eq, cF_eq, nb_1, nb_2, ns_1, ns_2, nz_1, nz_2, ng_1, ng_2, ng_3, ng_4, ng_5, nI_clamp, nI_add, pk_mul, pk_sub, forall_eq, true_and, and_true, true_imp_iff, false_imp_iff, not_true_eq_false, not_false_eq_true, implies_true]
    refine ⟨_, mostX p q hp hq hpq _ (fun x' R' => ?_) 255 0 255 x (by omega) (Nat.zero_le _) s1 (by omega) R⟩
    unfold wpY_most
    dsimp only [mY]
    refine Eq.mpr (yw_isAsked (v := 1) hp hq hpq (by omega) (by omega)) ?_
    simp (disch := omega) only [li_0, li_1, li_2, li_3, li_4, li_5, li_6, li_7, li_8, li_9, li_10, li_11, li_12, li_15, li_16, li_20, li_21, li_24, li_31, li_36, li_100, li_255, li_256, li_1000, li_6000, li_M, un_s, un_n, ba_ap, ba_upd, ba_in, cT_le, cF_le, cT_lt, cF_lt, cT_eq, cF_eq, nb_1, nb_2, ns_1, ns_2, nz_1, nz_2, ng_1, ng_2, ng_3, ng_4, ng_5, nI_clamp, nI_add, pk_mul, pk_sub, forall_eq, true_and, and_true, true_imp_iff, false_imp_iff, not_true_eq_false, not_false_eq_true, implies_true]
    refine y2_seek0 I S hp hq (fun y' S' => ?_)
    exact ⟨rfl, re_mk rfl rfl I R' S'⟩
  · have hxp : ∀ post : Int32 → Prop, wpX_isPair post v1 v2 = post (nI 0) := by
      rcases hx with hx | ⟨_, hx⟩
      · exact hx
      · intro post
        have e := hx (fun r => r = nI 1)
        have e2 : wpX_isValue (fun r => r = nI 1) (nI 1) = (nI 1 = nI 1) := xw_isValue (by omega) (by omega)
        rw [e2] at e
        have : nI 0 = nI 1 := e ▸ rfl
        exact absurd this (by decide)
    unfold wpX_most
    dsimp only [mX]
    refine Eq.mpr (hxp _) ?_
    simp (disch := omega) only [li_0, li_1, li_2, li_3, li_4, li_5, li_6, li_7, li_8, li_9, li_10, li_11, li_12, li_15, li_16, li_20, li_21, li_24, li_31, li_36, li_100, li_255, li_256, li_1000, li_6000, li_M, un_s, un_n, ba_ap, ba_upd, ba_in, cT_le, cF_le, cT_lt, cF_lt, cT_eq, cF_eq, nb_1, nb_2, ns_1, ns_2, nz_1, nz_2, ng_1, ng_2, ng_3, ng_4, ng_5, nI_clamp, nI_add, pk_mul, pk_sub, forall_eq, true_and, and_true, true_imp_iff, false_imp_iff, not_true_eq_false, not_false_eq_true, implies_true]
    unfold wpY_most
    dsimp only [mY]
    refine Eq.mpr (hy a y _) ?_
    simp (disch := omega) only [li_0, li_1, li_2, li_3, li_4, li_5, li_6, li_7, li_8, li_9, li_10, li_11, li_12, li_15, li_16, li_20, li_21, li_24, li_31, li_36, li_100, li_255, li_256, li_1000, li_6000, li_M, un_s, un_n, ba_ap, ba_upd, ba_in, cT_le, cF_le, cT_lt, cF_lt, cT_eq, cF_eq, nb_1, nb_2, ns_1, ns_2, nz_1, nz_2, ng_1, ng_2, ng_3, ng_4, ng_5, nI_clamp, nI_add, pk_mul, pk_sub, forall_eq, true_and, and_true, true_imp_iff, false_imp_iff, not_true_eq_false, not_false_eq_true, implies_true]
    exact re_mk rfl rfl I R S
end
section
theorem wrt_eq {a : SA} {q v : Nat} {b m b' m' : Nat → Nat} : ∀ (l : List Nat) (o p : Nat), wrt a q v b m o p l → wrt a q v b' m' o p l → ∀ i, i < l.length → b (o + i) = b' (o + i) ∧ m (o + i) = m' (o + i) := by
  intro l
  induction l with
  | nil => intro o p _ _ i hi; exact absurd hi (Nat.not_lt_zero _)
  | cons c l ih =>
    intro o p h h' i hi
    obtain ⟨h1, h2, h3⟩ := h
    obtain ⟨k1, k2, k3⟩ := h'
    cases i with
    | zero => exact ⟨h1.trans k1.symm, h2.trans k2.symm⟩
    | succ i =>
      have r := ih (o + 1) _ h3 k3 i (by rw [List.length_cons] at hi; omega)
      rw [show o + 1 + i = o + (i + 1) by omega] at r
      exact r
theorem i_vc_pay {k : Nat} {u : SX} {v : SY} (I : i_Rel k u v) (hk : k + 5 ≤ 2560) (v1 : Int32) (v2 : Int32) (v3 : Int32) (v4 : Int32) : wpX_pay (fun r u' => wpY_pay (fun r' v' => r' = r ∧ i_Rel (k + 5) u' v') v v1 v2 v3 v4) u v1 v2 v3 v4 := by
  obtain ⟨a, x, y, rfl, rfl, I, R, S⟩ := I
  have rr : (-nI 2 = -nI 2) = True := eq_true rfl
  have r1' : (-nI 1 = -nI 1) = True := eq_true rfl
  rcases as_cases v1 v2 v3 with ⟨p, q, w, hp, hq, hpq, hw0, hw, rfl, rfl, rfl⟩ | ⟨hy, hx⟩
  · have ya := fun (post : Int32 → Prop) => yw_isAsked (a := a) (y := y) (post := post) hp hq hpq hw0 hw
    rcases ix v4 with h | ⟨t, ht31, rfl⟩
    · simp (disch := omega) only [wpX_pay, mX, xw_isPair hp hq hpq, xw_isValue, xw_inN h, li_0, li_1, li_2, li_3, li_4, li_5, li_6, li_7, li_8, li_9, li_10, li_11, li_12, li_15, li_16, li_20, li_21, li_24, li_31, li_36, li_100, li_255, li_256, li_1000, li_6000, li_M, un_s, un_n, ba_ap, ba_upd, ba_in, cT_le, cF_le, cT_lt, cF_lt, cT_eq, cF_eq, nb_1, nb_2, ns_1, ns_2, nz_1, nz_2, ng_1, ng_2, ng_3, ng_4, ng_5, nI_clamp, nI_add, pk_mul, pk_sub, forall_eq, true_and, and_true, true_imp_iff, false_imp_iff, not_true_eq_false, not_false_eq_true, implies_true]
      unfold wpY_pay
      dsimp only [mY]
      refine Eq.mpr (ya _) ?_
      simp (disch := omega) only [h, rr, li_0, li_1, li_2, li_3, li_4, li_5, li_6, li_7, li_8, li_9, li_10, li_11, li_12, li_15, li_16, li_20, li_21, li_24, li_31, li_36, li_100, li_255, li_256, li_1000, li_6000, li_M, un_s, un_n, ba_ap, ba_upd, ba_in, cT_le, cF_le, cT_lt, cF_lt, cT_eq, cF_eq, nb_1, nb_2, ns_1, ns_2, nz_1, nz_2, ng_1, ng_2, ng_3, ng_4, ng_5, nI_clamp, nI_add, pk_mul, pk_sub, forall_eq, true_and, and_true, true_imp_iff, false_imp_iff, not_true_eq_false, not_false_eq_true, implies_true]
      exact re_mk rfl rfl I R S
    by_cases ht : t < 16
    · by_cases hsp : (ga_spent a >>> (nI t &&& nI 31)) &&& nI 1 = nI 1
      · simp (disch := omega) only [wpX_pay, mX, xw_isPair hp hq hpq, xw_isValue, xw_in, hsp, li_0, li_1, li_2, li_3, li_4, li_5, li_6, li_7, li_8, li_9, li_10, li_11, li_12, li_15, li_16, li_20, li_21, li_24, li_31, li_36, li_100, li_255, li_256, li_1000, li_6000, li_M, un_s, un_n, ba_ap, ba_upd, ba_in, cT_le, cF_le, cT_lt, cF_lt, cT_eq, cF_eq, nb_1, nb_2, ns_1, ns_2, nz_1, nz_2, ng_1, ng_2, ng_3, ng_4, ng_5, nI_clamp, nI_add, pk_mul, pk_sub, forall_eq, true_and, and_true, true_imp_iff, false_imp_iff, not_true_eq_false, not_false_eq_true, implies_true]
        unfold wpY_pay
        dsimp only [mY]
        refine Eq.mpr (ya _) ?_
        simp (disch := omega) only [hsp, rr, li_0, li_1, li_2, li_3, li_4, li_5, li_6, li_7, li_8, li_9, li_10, li_11, li_12, li_15, li_16, li_20, li_21, li_24, li_31, li_36, li_100, li_255, li_256, li_1000, li_6000, li_M, un_s, un_n, ba_ap, ba_upd, ba_in, cT_le, cF_le, cT_lt, cF_lt, cT_eq, cF_eq, nb_1, nb_2, ns_1, ns_2, nz_1, nz_2, ng_1, ng_2, ng_3, ng_4, ng_5, nI_clamp, nI_add, pk_mul, pk_sub, forall_eq, true_and, and_true, true_imp_iff, false_imp_iff, not_true_eq_false, not_false_eq_true, implies_true]
        exact re_mk rfl rfl I R S
      · simp (disch := omega) only [wpX_pay, mX, xw_isPair hp hq hpq, xw_isValue, xw_in, hsp, li_0, li_1, li_2, li_3, li_4, li_5, li_6, li_7, li_8, li_9, li_10, li_11, li_12, li_15, li_16, li_20, li_21, li_24, li_31, li_36, li_100, li_255, li_256, li_1000, li_6000, li_M, un_s, un_n, ba_ap, ba_upd, ba_in, cT_le, cF_le, cT_lt, cF_lt, cT_eq, cF_eq, nb_1, nb_2, ns_1, ns_2, nz_1, nz_2, ng_1, ng_2, ng_3, ng_4, ng_5, nI_clamp, nI_add, pk_mul, pk_sub, forall_eq, true_and, and_true, true_imp_iff, false_imp_iff, not_true_eq_false, not_false_eq_true, implies_true]
        refine x2_find I R hp hq hw (fun x' R' wx => ?_)
        have goY : ∀ post : Int32 → SY → Prop, wpY_seek (fun r_39 u => match u with | (f0, f1, f2, f3, g0, g1, g2, g3, g4, g5, g6, g7, g8, g9, g10, g11, g12, g13, g14, g15, g16, g17, g18, g19, g20, g21, g22, g23, g24, g25, g26, g27, g28) => ((f3 = 0 → post (-1) (f0, f1, f2, f3, g0, g1, g2, g3, g4, g5, g6, g7, g8, g9, g10, g11, g12, g13, g14, g15, g16, g17, g18, g19, g20, g21, g22, g23, g24, g25, g26, g27, g28)) ∧ (¬ f3 = 0 → (∀ f_spent_74 : Int32, f_spent_74 = f1 ||| ((1 : Int32) <<< (nI t &&& 31)) → (vp_in (nI q) 6 ∧ (vp_in (nI q) 6 ∧ ∀ a_secrets_77 : Nat → Int32, a_secrets_77 = upd g4 (nI q).toNatClampNeg ((g4 (nI q).toNatClampNeg) ||| ((1 : Int32) <<< (nI t &&& 31))) → (∃ n87 : Nat, wY_pay_87 post (nI t) n87 (nI p) 0 f0 f_spent_74 f2 f3 g0 g1 g2 g3 a_secrets_77 g5 g6 g7 g8 g9 g10 g11 g12 g13 g14 g15 g16 g17 g18 g19 g20 g21 g22 g23 g24 g25 g26 g27 g28)))))) ) (mY a y) (nI p) (nI q) (nI w) → wpY_pay post (mY a y) (nI p) (nI q) (nI w) (nI t) := by
          intro post h
          unfold wpY_pay
          dsimp only [mY]
          refine Eq.mpr (ya _) ?_
          refine br_f (nI_ne0 (by decide) (by decide)) ?_
          refine br_f (nI_pos ht31) ?_
          refine br_f (nI_nlt (a := 15) (b := t) (by omega) (by decide)) ?_
          refine br_f hsp ?_
          exact h
        dsimp only [mX]
        by_cases hN : hpA a q w p = 0
        · simp (disch := omega) only [hN, li_0, li_1, li_2, li_3, li_4, li_5, li_6, li_7, li_8, li_9, li_10, li_11, li_12, li_15, li_16, li_20, li_21, li_24, li_31, li_36, li_100, li_255, li_256, li_1000, li_6000, li_M, un_s, un_n, ba_ap, ba_upd, ba_in, cT_le, cF_le, cT_lt, cF_lt, cT_eq, cF_eq, nb_1, nb_2, ns_1, ns_2, nz_1, nz_2, ng_1, ng_2, ng_3, ng_4, ng_5, nI_clamp, nI_add, pk_mul, pk_sub, forall_eq, true_and, and_true, true_imp_iff, false_imp_iff, not_true_eq_false, not_false_eq_true, implies_true]
          refine goY _ ?_
          refine y2_seek I S hp hq hpq hw0 hw (fun y' S' hB => ?_)
          rw [if_pos hN] at hB
          have hl : gy_len y' = 0 := hB
          dsimp only [mY]
          simp (disch := omega) only [r1', li_0, li_1, li_2, li_3, li_4, li_5, li_6, li_7, li_8, li_9, li_10, li_11, li_12, li_15, li_16, li_20, li_21, li_24, li_31, li_36, li_100, li_255, li_256, li_1000, li_6000, li_M, un_s, un_n, ba_ap, ba_upd, ba_in, cT_le, cF_le, cT_lt, cF_lt, cT_eq, cF_eq, nb_1, nb_2, ns_1, ns_2, nz_1, nz_2, ng_1, ng_2, ng_3, ng_4, ng_5, nI_clamp, nI_add, pk_mul, pk_sub, forall_eq, true_and, and_true, true_imp_iff, false_imp_iff, not_true_eq_false, not_false_eq_true, implies_true]
          exact re_mk rfl rfl I R' S'
        · obtain ⟨g1, g2, g3, g4⟩ := gr_nd I hw hpq hN
          have I1 : Inv (4 * k) (aLrn (aSpe a (ga_spent a ||| (nI 1 <<< (nI t &&& nI 31)))) q t) := I
          obtain ⟨a', i1, i2, i3⟩ := pay_loop (N := hpA a q w p) (t := t) (q := q) (v := w) (a0 := a) (by omega) ht g4 (grA a q w (hpA a q w p) p) 0 p (aLrn (aSpe a (ga_spent a ||| (nI 1 <<< (nI t &&& nI 31)))) q t) I1 rfl (PL_cg (a := a) _ _ (fun c _ s => rfl) (PL_of _ _ g1 g2)) (by omega) hp
          have i2' := i2 x' (fun r u' => wpY_pay (fun r' v' => r' = r ∧ i_Rel (k + 5) u' v') (mY a y) (nI p) (nI q) (nI w) (nI t)) R' wx (fun x'' R'' e'' => ?_)
          · simp (disch := omega) only [li_0, li_1, li_2, li_3, li_4, li_5, li_6, li_7, li_8, li_9, li_10, li_11, li_12, li_15, li_16, li_20, li_21, li_24, li_31, li_36, li_100, li_255, li_256, li_1000, li_6000, li_M, un_s, un_n, ba_ap, ba_upd, ba_in, cT_le, cF_le, cT_lt, cF_lt, cT_eq, cF_eq, nb_1, nb_2, ns_1, ns_2, nz_1, nz_2, ng_1, ng_2, ng_3, ng_4, ng_5, nI_clamp, nI_add, pk_mul, pk_sub, forall_eq, true_and, and_true, true_imp_iff, false_imp_iff, not_true_eq_false, not_false_eq_true, implies_true]
            exact ⟨_, i2'⟩
          · refine goY _ ?_
            refine y2_seek I S hp hq hpq hw0 hw (fun y' S' hB => ?_)
            rw [if_neg hN] at hB
            obtain ⟨b1, b2, b3, b4⟩ := hB
            have e0 := (wrt_eq _ 0 p wx b4 0 (by omega)).2
            rw [Nat.add_zero] at e0
            have b1' : gy_len y' = hpA a q w p := by rw [b1, g3]
            have i3' := i3 y' (fun r' v' => r' = nI (gx_xsum x'' 0) ∧ i_Rel (k + 5) (mX a' x'') v') S' b1' b4 (fun y'' S'' f'' => ⟨by rw [f'', e'', e0], re_mk rfl rfl i1 R'' S''⟩)
            dsimp only [mY]
            simp (disch := omega) only [li_0, li_1, li_2, li_3, li_4, li_5, li_6, li_7, li_8, li_9, li_10, li_11, li_12, li_15, li_16, li_20, li_21, li_24, li_31, li_36, li_100, li_255, li_256, li_1000, li_6000, li_M, un_s, un_n, ba_ap, ba_upd, ba_in, cT_le, cF_le, cT_lt, cF_lt, cT_eq, cF_eq, nb_1, nb_2, ns_1, ns_2, nz_1, nz_2, ng_1, ng_2, ng_3, ng_4, ng_5, nI_clamp, nI_add, pk_mul, pk_sub, forall_eq, true_and, and_true, true_imp_iff, false_imp_iff, not_true_eq_false, not_false_eq_true, implies_true]
            exact ⟨_, i3'⟩
    · simp (disch := omega) only [wpX_pay, mX, xw_isPair hp hq hpq, xw_isValue, xw_inF, li_0, li_1, li_2, li_3, li_4, li_5, li_6, li_7, li_8, li_9, li_10, li_11, li_12, li_15, li_16, li_20, li_21, li_24, li_31, li_36, li_100, li_255, li_256, li_1000, li_6000, li_M, un_s, un_n, ba_ap, ba_upd, ba_in, cT_le, cF_le, cT_lt, cF_lt, cT_eq, cF_eq, nb_1, nb_2, ns_1, ns_2, nz_1, nz_2, ng_1, ng_2, ng_3, ng_4, ng_5, nI_clamp, nI_add, pk_mul, pk_sub, forall_eq, true_and, and_true, true_imp_iff, false_imp_iff, not_true_eq_false, not_false_eq_true, implies_true]
      unfold wpY_pay
      dsimp only [mY]
      refine Eq.mpr (ya _) ?_
      simp (disch := omega) only [rr, li_0, li_1, li_2, li_3, li_4, li_5, li_6, li_7, li_8, li_9, li_10, li_11, li_12, li_15, li_16, li_20, li_21, li_24, li_31, li_36, li_100, li_255, li_256, li_1000, li_6000, li_M, un_s, un_n, ba_ap, ba_upd, ba_in, cT_le, cF_le, cT_lt, cF_lt, cT_eq, cF_eq, nb_1, nb_2, ns_1, ns_2, nz_1, nz_2, ng_1, ng_2, ng_3, ng_4, ng_5, nI_clamp, nI_add, pk_mul, pk_sub, forall_eq, true_and, and_true, true_imp_iff, false_imp_iff, not_true_eq_false, not_false_eq_true, implies_true]
      exact re_mk rfl rfl I R S
  · have fin : wpY_pay (fun r' v' => r' = -nI 2 ∧ i_Rel (k + 5) (mX a x) v') (mY a y) v1 v2 v3 v4 := by
      unfold wpY_pay
      dsimp only [mY]
      refine Eq.mpr (hy a y _) ?_
      simp (disch := omega) only [rr, li_0, li_1, li_2, li_3, li_4, li_5, li_6, li_7, li_8, li_9, li_10, li_11, li_12, li_15, li_16, li_20, li_21, li_24, li_31, li_36, li_100, li_255, li_256, li_1000, li_6000, li_M, un_s, un_n, ba_ap, ba_upd, ba_in, cT_le, cF_le, cT_lt, cF_lt, cT_eq, cF_eq, nb_1, nb_2, ns_1, ns_2, nz_1, nz_2, ng_1, ng_2, ng_3, ng_4, ng_5, nI_clamp, nI_add, pk_mul, pk_sub, forall_eq, true_and, and_true, true_imp_iff, false_imp_iff, not_true_eq_false, not_false_eq_true, implies_true]
      exact re_mk rfl rfl I R S
    rcases hx with hx | ⟨hx1, hx2⟩
    · unfold wpX_pay
      dsimp only [mX]
      refine Eq.mpr (hx _) ?_
      simp (disch := omega) only [li_0, li_1, li_2, li_3, li_4, li_5, li_6, li_7, li_8, li_9, li_10, li_11, li_12, li_15, li_16, li_20, li_21, li_24, li_31, li_36, li_100, li_255, li_256, li_1000, li_6000, li_M, un_s, un_n, ba_ap, ba_upd, ba_in, cT_le, cF_le, cT_lt, cF_lt, cT_eq, cF_eq, nb_1, nb_2, ns_1, ns_2, nz_1, nz_2, ng_1, ng_2, ng_3, ng_4, ng_5, nI_clamp, nI_add, pk_mul, pk_sub, forall_eq, true_and, and_true, true_imp_iff, false_imp_iff, not_true_eq_false, not_false_eq_true, implies_true]
      exact fin
    · unfold wpX_pay
      dsimp only [mX]
      refine Eq.mpr (hx1 _) ?_
      simp (disch := omega) only [li_0, li_1, li_2, li_3, li_4, li_5, li_6, li_7, li_8, li_9, li_10, li_11, li_12, li_15, li_16, li_20, li_21, li_24, li_31, li_36, li_100, li_255, li_256, li_1000, li_6000, li_M, un_s, un_n, ba_ap, ba_upd, ba_in, cT_le, cF_le, cT_lt, cF_lt, cT_eq, cF_eq, nb_1, nb_2, ns_1, ns_2, nz_1, nz_2, ng_1, ng_2, ng_3, ng_4, ng_5, nI_clamp, nI_add, pk_mul, pk_sub, forall_eq, true_and, and_true, true_imp_iff, false_imp_iff, not_true_eq_false, not_false_eq_true, implies_true]
      refine Eq.mpr (hx2 _) ?_
      simp (disch := omega) only [li_0, li_1, li_2, li_3, li_4, li_5, li_6, li_7, li_8, li_9, li_10, li_11, li_12, li_15, li_16, li_20, li_21, li_24, li_31, li_36, li_100, li_255, li_256, li_1000, li_6000, li_M, un_s, un_n, ba_ap, ba_upd, ba_in, cT_le, cF_le, cT_lt, cF_lt, cT_eq, cF_eq, nb_1, nb_2, ns_1, ns_2, nz_1, nz_2, ng_1, ng_2, ng_3, ng_4, ng_5, nI_clamp, nI_add, pk_mul, pk_sub, forall_eq, true_and, and_true, true_imp_iff, false_imp_iff, not_true_eq_false, not_false_eq_true, implies_true]
      exact fin
theorem i_vc_route {k : Nat} {u : SX} {v : SY} (I : i_Rel k u v) (hk : k + 5 ≤ 2560) (v1 : Int32) (v2 : Int32) (v3 : Int32) (v4 : Int32) : wpX_route (fun r u' => wpY_route (fun r' v' => r' = r ∧ i_Rel (k + 5) u' v') v v1 v2 v3 v4) u v1 v2 v3 v4 := by
  obtain ⟨a, x, y, rfl, rfl, I, R, S⟩ := I
  have r1' : (-nI 1 = -nI 1) = True := eq_true rfl
  rcases as_cases v1 v2 v3 with ⟨p, q, w, hp, hq, hpq, hw0, hw, rfl, rfl, rfl⟩ | ⟨hy, hx⟩
  · have ya := fun (post : Int32 → Prop) => yw_isAsked (a := a) (y := y) (post := post) hp hq hpq hw0 hw
    have h4 : hpA a q w p ≤ 4 := by
      by_cases hN : hpA a q w p = 0
      · omega
      · exact (gr_nd I hw hpq hN).2.2.2
    have goY : ∀ post : Int32 → SY → Prop, (∀ y', RY a y' → (hpA a q w p = 0 → gy_len y' = 0) → (hpA a q w p ≠ 0 → gy_len y' = hpA a q w p ∧ wrt a q w (gy_bst y') (gy_bsm y') 0 p (grA a q w (hpA a q w p) p)) → ((nI (gy_len y') = 0 → post (-1) (mY a y')) ∧ (¬ nI (gy_len y') = 0 → ((v4 < 0 → post (-1) (mY a y')) ∧ (¬ v4 < 0 → ((v4 ≤ 8 → ((v4 = 8 → post (nI (gy_len y')) (mY a y')) ∧ (¬ v4 = 8 → (∀ x5_74 : Int32, x5_74 = v4 &&& 3 → ((x5_74 < nI (gy_len y') → ((4 ≤ v4 → (vp_in x5_74 4 ∧ post (cN (gy_bsm y') x5_74.toNatClampNeg) (mY a y'))) ∧ (¬ 4 ≤ v4 → (vp_in x5_74 4 ∧ post (cN (gy_bst y') x5_74.toNatClampNeg) (mY a y'))))) ∧ (¬ x5_74 < nI (gy_len y') → post (-1) (mY a y'))))))) ∧ (¬ v4 ≤ 8 → post (-1) (mY a y')))))))) → wpY_route post (mY a y) (nI p) (nI q) (nI w) v4 := by
      intro post h
      unfold wpY_route
      dsimp only [mY]
      refine Eq.mpr (ya _) ?_
      refine br_f (nI_ne0 (by decide) (by decide)) ?_
      refine y2_seek I S hp hq hpq hw0 hw (fun y' S' hB => ?_)
      refine h y' S' (fun e => ?_) (fun e => ?_)
      · rw [if_pos e] at hB; exact hB
      · rw [if_neg e] at hB
        obtain ⟨b1, b2, b3, b4⟩ := hB
        exact ⟨by rw [b1]; exact (gr_nd I hw hpq e).2.2.1, b4⟩
    rcases ix v4 with h | ⟨t, ht31, rfl⟩
    · simp (disch := omega) only [wpX_route, mX, xw_isPair hp hq hpq, xw_isValue, xw_inN h, li_0, li_1, li_2, li_3, li_4, li_5, li_6, li_7, li_8, li_9, li_10, li_11, li_12, li_15, li_16, li_20, li_21, li_24, li_31, li_36, li_100, li_255, li_256, li_1000, li_6000, li_M, un_s, un_n, ba_ap, ba_upd, ba_in, cT_le, cF_le, cT_lt, cF_lt, cT_eq, cF_eq, nb_1, nb_2, ns_1, ns_2, nz_1, nz_2, ng_1, ng_2, ng_3, ng_4, ng_5, nI_clamp, nI_add, pk_mul, pk_sub, forall_eq, true_and, and_true, true_imp_iff, false_imp_iff, not_true_eq_false, not_false_eq_true, implies_true]
      refine goY _ (fun y' S' e0 e1 => ?_)
      have hfin : i_Rel (k + 5) (mX a x) (mY a y') := re_mk rfl rfl I R S'
      exact ⟨fun _ => ⟨rfl, hfin⟩, fun _ => ⟨fun _ => ⟨rfl, hfin⟩, fun z => absurd h z⟩⟩
    by_cases ht : t < 9
    · simp (disch := omega) only [wpX_route, mX, xw_isPair hp hq hpq, xw_isValue, xw_in, li_0, li_1, li_2, li_3, li_4, li_5, li_6, li_7, li_8, li_9, li_10, li_11, li_12, li_15, li_16, li_20, li_21, li_24, li_31, li_36, li_100, li_255, li_256, li_1000, li_6000, li_M, un_s, un_n, ba_ap, ba_upd, ba_in, cT_le, cF_le, cT_lt, cF_lt, cT_eq, cF_eq, nb_1, nb_2, ns_1, ns_2, nz_1, nz_2, ng_1, ng_2, ng_3, ng_4, ng_5, nI_clamp, nI_add, pk_mul, pk_sub, forall_eq, true_and, and_true, true_imp_iff, false_imp_iff, not_true_eq_false, not_false_eq_true, implies_true]
      refine x2_find I R hp hq hw (fun x' R' wx => ?_)
      dsimp only [mX]
      by_cases hN : hpA a q w p = 0
      · simp (disch := omega) only [hN, li_0, li_1, li_2, li_3, li_4, li_5, li_6, li_7, li_8, li_9, li_10, li_11, li_12, li_15, li_16, li_20, li_21, li_24, li_31, li_36, li_100, li_255, li_256, li_1000, li_6000, li_M, un_s, un_n, ba_ap, ba_upd, ba_in, cT_le, cF_le, cT_lt, cF_lt, cT_eq, cF_eq, nb_1, nb_2, ns_1, ns_2, nz_1, nz_2, ng_1, ng_2, ng_3, ng_4, ng_5, nI_clamp, nI_add, pk_mul, pk_sub, forall_eq, true_and, and_true, true_imp_iff, false_imp_iff, not_true_eq_false, not_false_eq_true, implies_true]
        refine goY _ (fun y' S' e0 e1 => ?_)
        have hl := e0 hN
        have hfin : i_Rel (k + 5) (mX a x') (mY a y') := re_mk rfl rfl I R' S'
        exact ⟨fun _ => ⟨rfl, hfin⟩, fun z => absurd (by rw [hl]; rfl) z⟩
      · obtain ⟨g1, g2, g3, g4⟩ := gr_nd I hw hpq hN
        have ea : nI t &&& nI 3 = nI (t % 4) := pk_andN (by omega) 2 (by decide)
        by_cases t8 : t = 8
        · simp (disch := omega) only [li_0, li_1, li_2, li_3, li_4, li_5, li_6, li_7, li_8, li_9, li_10, li_11, li_12, li_15, li_16, li_20, li_21, li_24, li_31, li_36, li_100, li_255, li_256, li_1000, li_6000, li_M, un_s, un_n, ba_ap, ba_upd, ba_in, cT_le, cF_le, cT_lt, cF_lt, cT_eq, cF_eq, nb_1, nb_2, ns_1, ns_2, nz_1, nz_2, ng_1, ng_2, ng_3, ng_4, ng_5, nI_clamp, nI_add, pk_mul, pk_sub, forall_eq, true_and, and_true, true_imp_iff, false_imp_iff, not_true_eq_false, not_false_eq_true, implies_true]
          refine goY _ (fun y' S' e0 e1 => ?_)
          obtain ⟨hl, hwr⟩ := e1 hN
          have hfin : i_Rel (k + 5) (mX a x') (mY a y') := re_mk rfl rfl I R' S'
          simp (disch := omega) only [li_0, li_1, li_2, li_3, li_4, li_5, li_6, li_7, li_8, li_9, li_10, li_11, li_12, li_15, li_16, li_20, li_21, li_24, li_31, li_36, li_100, li_255, li_256, li_1000, li_6000, li_M, un_s, un_n, ba_ap, ba_upd, ba_in, cT_le, cF_le, cT_lt, cF_lt, cT_eq, cF_eq, nb_1, nb_2, ns_1, ns_2, nz_1, nz_2, ng_1, ng_2, ng_3, ng_4, ng_5, nI_clamp, nI_add, pk_mul, pk_sub, forall_eq, true_and, and_true, true_imp_iff, false_imp_iff, not_true_eq_false, not_false_eq_true, implies_true]
          exact hfin
        · by_cases ti : t % 4 < hpA a q w p
          · by_cases t4 : 4 ≤ t
            · simp (disch := omega) only [ea, li_0, li_1, li_2, li_3, li_4, li_5, li_6, li_7, li_8, li_9, li_10, li_11, li_12, li_15, li_16, li_20, li_21, li_24, li_31, li_36, li_100, li_255, li_256, li_1000, li_6000, li_M, un_s, un_n, ba_ap, ba_upd, ba_in, cT_le, cF_le, cT_lt, cF_lt, cT_eq, cF_eq, nb_1, nb_2, ns_1, ns_2, nz_1, nz_2, ng_1, ng_2, ng_3, ng_4, ng_5, nI_clamp, nI_add, pk_mul, pk_sub, forall_eq, true_and, and_true, true_imp_iff, false_imp_iff, not_true_eq_false, not_false_eq_true, implies_true]
              refine goY _ (fun y' S' e0 e1 => ?_)
              obtain ⟨hl, hwr⟩ := e1 hN
              have hfin : i_Rel (k + 5) (mX a x') (mY a y') := re_mk rfl rfl I R' S'
              have e := wrt_eq _ 0 p wx hwr (t % 4) (by omega)
              rw [Nat.zero_add] at e
              simp (disch := omega) only [ea, li_0, li_1, li_2, li_3, li_4, li_5, li_6, li_7, li_8, li_9, li_10, li_11, li_12, li_15, li_16, li_20, li_21, li_24, li_31, li_36, li_100, li_255, li_256, li_1000, li_6000, li_M, un_s, un_n, ba_ap, ba_upd, ba_in, cT_le, cF_le, cT_lt, cF_lt, cT_eq, cF_eq, nb_1, nb_2, ns_1, ns_2, nz_1, nz_2, ng_1, ng_2, ng_3, ng_4, ng_5, nI_clamp, nI_add, pk_mul, pk_sub, forall_eq, true_and, and_true, true_imp_iff, false_imp_iff, not_true_eq_false, not_false_eq_true, implies_true]
              exact hfin
            · simp (disch := omega) only [ea, li_0, li_1, li_2, li_3, li_4, li_5, li_6, li_7, li_8, li_9, li_10, li_11, li_12, li_15, li_16, li_20, li_21, li_24, li_31, li_36, li_100, li_255, li_256, li_1000, li_6000, li_M, un_s, un_n, ba_ap, ba_upd, ba_in, cT_le, cF_le, cT_lt, cF_lt, cT_eq, cF_eq, nb_1, nb_2, ns_1, ns_2, nz_1, nz_2, ng_1, ng_2, ng_3, ng_4, ng_5, nI_clamp, nI_add, pk_mul, pk_sub, forall_eq, true_and, and_true, true_imp_iff, false_imp_iff, not_true_eq_false, not_false_eq_true, implies_true]
              refine goY _ (fun y' S' e0 e1 => ?_)
              obtain ⟨hl, hwr⟩ := e1 hN
              have hfin : i_Rel (k + 5) (mX a x') (mY a y') := re_mk rfl rfl I R' S'
              have e := wrt_eq _ 0 p wx hwr (t % 4) (by omega)
              rw [Nat.zero_add] at e
              simp (disch := omega) only [ea, li_0, li_1, li_2, li_3, li_4, li_5, li_6, li_7, li_8, li_9, li_10, li_11, li_12, li_15, li_16, li_20, li_21, li_24, li_31, li_36, li_100, li_255, li_256, li_1000, li_6000, li_M, un_s, un_n, ba_ap, ba_upd, ba_in, cT_le, cF_le, cT_lt, cF_lt, cT_eq, cF_eq, nb_1, nb_2, ns_1, ns_2, nz_1, nz_2, ng_1, ng_2, ng_3, ng_4, ng_5, nI_clamp, nI_add, pk_mul, pk_sub, forall_eq, true_and, and_true, true_imp_iff, false_imp_iff, not_true_eq_false, not_false_eq_true, implies_true]
              exact hfin
          · simp (disch := omega) only [ea, li_0, li_1, li_2, li_3, li_4, li_5, li_6, li_7, li_8, li_9, li_10, li_11, li_12, li_15, li_16, li_20, li_21, li_24, li_31, li_36, li_100, li_255, li_256, li_1000, li_6000, li_M, un_s, un_n, ba_ap, ba_upd, ba_in, cT_le, cF_le, cT_lt, cF_lt, cT_eq, cF_eq, nb_1, nb_2, ns_1, ns_2, nz_1, nz_2, ng_1, ng_2, ng_3, ng_4, ng_5, nI_clamp, nI_add, pk_mul, pk_sub, forall_eq, true_and, and_true, true_imp_iff, false_imp_iff, not_true_eq_false, not_false_eq_true, implies_true]
            refine goY _ (fun y' S' e0 e1 => ?_)
            obtain ⟨hl, hwr⟩ := e1 hN
            have hfin : i_Rel (k + 5) (mX a x') (mY a y') := re_mk rfl rfl I R' S'
            simp (disch := omega) only [ea, r1', li_0, li_1, li_2, li_3, li_4, li_5, li_6, li_7, li_8, li_9, li_10, li_11, li_12, li_15, li_16, li_20, li_21, li_24, li_31, li_36, li_100, li_255, li_256, li_1000, li_6000, li_M, un_s, un_n, ba_ap, ba_upd, ba_in, cT_le, cF_le, cT_lt, cF_lt, cT_eq, cF_eq, nb_1, nb_2, ns_1, ns_2, nz_1, nz_2, ng_1, ng_2, ng_3, ng_4, ng_5, nI_clamp, nI_add, pk_mul, pk_sub, forall_eq, true_and, and_true, true_imp_iff, false_imp_iff, not_true_eq_false, not_false_eq_true, implies_true]
            exact hfin
    · simp (disch := omega) only [wpX_route, mX, xw_isPair hp hq hpq, xw_isValue, xw_inF, li_0, li_1, li_2, li_3, li_4, li_5, li_6, li_7, li_8, li_9, li_10, li_11, li_12, li_15, li_16, li_20, li_21, li_24, li_31, li_36, li_100, li_255, li_256, li_1000, li_6000, li_M, un_s, un_n, ba_ap, ba_upd, ba_in, cT_le, cF_le, cT_lt, cF_lt, cT_eq, cF_eq, nb_1, nb_2, ns_1, ns_2, nz_1, nz_2, ng_1, ng_2, ng_3, ng_4, ng_5, nI_clamp, nI_add, pk_mul, pk_sub, forall_eq, true_and, and_true, true_imp_iff, false_imp_iff, not_true_eq_false, not_false_eq_true, implies_true]
      refine goY _ (fun y' S' e0 e1 => ?_)
      have hfin : i_Rel (k + 5) (mX a x) (mY a y') := re_mk rfl rfl I R S'
      have n8 : ¬ nI t ≤ 8 := nI_ge (a := 8) (by omega) ht31
      exact ⟨fun _ => ⟨rfl, hfin⟩, fun _ => ⟨fun _ => ⟨rfl, hfin⟩, fun _ => ⟨fun z => absurd z n8, fun _ => ⟨rfl, hfin⟩⟩⟩⟩
  · have fin : wpY_route (fun r' v' => r' = -nI 1 ∧ i_Rel (k + 5) (mX a x) v') (mY a y) v1 v2 v3 v4 := by
      unfold wpY_route
      dsimp only [mY]
      refine Eq.mpr (hy a y _) ?_
      simp (disch := omega) only [r1', li_0, li_1, li_2, li_3, li_4, li_5, li_6, li_7, li_8, li_9, li_10, li_11, li_12, li_15, li_16, li_20, li_21, li_24, li_31, li_36, li_100, li_255, li_256, li_1000, li_6000, li_M, un_s, un_n, ba_ap, ba_upd, ba_in, cT_le, cF_le, cT_lt, cF_lt, cT_eq, cF_eq, nb_1, nb_2, ns_1, ns_2, nz_1, nz_2, ng_1, ng_2, ng_3, ng_4, ng_5, nI_clamp, nI_add, pk_mul, pk_sub, forall_eq, true_and, and_true, true_imp_iff, false_imp_iff, not_true_eq_false, not_false_eq_true, implies_true]
      exact re_mk rfl rfl I R S
    rcases hx with hx | ⟨hx1, hx2⟩
    · unfold wpX_route
      dsimp only [mX]
      refine Eq.mpr (hx _) ?_
      simp (disch := omega) only [li_0, li_1, li_2, li_3, li_4, li_5, li_6, li_7, li_8, li_9, li_10, li_11, li_12, li_15, li_16, li_20, li_21, li_24, li_31, li_36, li_100, li_255, li_256, li_1000, li_6000, li_M, un_s, un_n, ba_ap, ba_upd, ba_in, cT_le, cF_le, cT_lt, cF_lt, cT_eq, cF_eq, nb_1, nb_2, ns_1, ns_2, nz_1, nz_2, ng_1, ng_2, ng_3, ng_4, ng_5, nI_clamp, nI_add, pk_mul, pk_sub, forall_eq, true_and, and_true, true_imp_iff, false_imp_iff, not_true_eq_false, not_false_eq_true, implies_true]
      exact fin
    · unfold wpX_route
      dsimp only [mX]
      refine Eq.mpr (hx1 _) ?_
      simp (disch := omega) only [li_0, li_1, li_2, li_3, li_4, li_5, li_6, li_7, li_8, li_9, li_10, li_11, li_12, li_15, li_16, li_20, li_21, li_24, li_31, li_36, li_100, li_255, li_256, li_1000, li_6000, li_M, un_s, un_n, ba_ap, ba_upd, ba_in, cT_le, cF_le, cT_lt, cF_lt, cT_eq, cF_eq, nb_1, nb_2, ns_1, ns_2, nz_1, nz_2, ng_1, ng_2, ng_3, ng_4, ng_5, nI_clamp, nI_add, pk_mul, pk_sub, forall_eq, true_and, and_true, true_imp_iff, false_imp_iff, not_true_eq_false, not_false_eq_true, implies_true]
      refine Eq.mpr (hx2 _) ?_
      simp (disch := omega) only [li_0, li_1, li_2, li_3, li_4, li_5, li_6, li_7, li_8, li_9, li_10, li_11, li_12, li_15, li_16, li_20, li_21, li_24, li_31, li_36, li_100, li_255, li_256, li_1000, li_6000, li_M, un_s, un_n, ba_ap, ba_upd, ba_in, cT_le, cF_le, cT_lt, cF_lt, cT_eq, cF_eq, nb_1, nb_2, ns_1, ns_2, nz_1, nz_2, ng_1, ng_2, ng_3, ng_4, ng_5, nI_clamp, nI_add, pk_mul, pk_sub, forall_eq, true_and, and_true, true_imp_iff, false_imp_iff, not_true_eq_false, not_false_eq_true, implies_true]
      exact fin
end
section
/-- what is bound in channels: both sides give one number -/
theorem in_loop {T : Nat} {a : SA} {x : OX} {y : OY} {p : Nat} (I : Inv T a) (S : RY a y) (hp : p < 6) : ∀ d c (acc : Int32), c + d = ga_ch a → ∃ r, (∀ post : Int32 → Prop, post r → wX_inside_4 post (nI p) (ga_spent a) (nI (ga_now a)) (nI (ga_ch a)) (nI (gx_goal x)) (nI (gx_val x)) (nI (gx_known x)) (cN (ga_coins a)) (cN (ga_up a)) (ga_knows a) (cN (ga_base a)) (cN (ga_rate a)) (ga_guard a) (cN (ga_status a)) (cN (ga_who a)) (cN (ga_latest a)) (cN (gx_row x)) (cN (ga_bal a)) (cN (gx_many x)) (cN (gx_frm x)) (cN (gx_amt x)) (cN (gx_sec x)) (cN (gx_xpy x)) (cN (gx_born x)) (cN (gx_dead x)) (cN (ga_publd a)) (cN (ga_pubs a)) (cN (ga_since a)) (cN (ga_held a)) (cN (gx_outm x)) (cN (gx_least x)) (cN (gx_path x)) (cN (gx_xsum x)) (d + 1) acc (nI c)) ∧ (∀ post : Int32 → Prop, post r → wY_bound_4 post (nI p) (nI (ga_now a)) (ga_spent a) (nI (ga_ch a)) (nI (gy_len y)) (cN (ga_coins a)) (cN (ga_base a)) (cN (ga_rate a)) (ga_guard a) (ga_knows a) (cN (ga_up a)) (cN (ga_who a)) (cN (ga_status a)) (cN (ga_latest a)) (cN (ga_publd a)) (cN (gy_ypub y)) (cN (ga_since a)) (cN (ga_held a)) (cN (gy_outn y)) (cN (ga_bal a)) (cN (gy_lks y)) (cN (gy_yf y)) (cN (gy_ya y)) (cN (gy_ys y)) (cN (gy_ye y)) (cN (gy_qf y)) (cN (gy_qa y)) (cN (gy_qs y)) (cN (gy_qe y)) (gy_way y) (cN (gy_part y)) (cN (gy_ysum y)) (cN (gy_bst y)) (cN (gy_bsm y)) (d + 1) acc (nI c)) := by
  have ch := I.1
  have p31 : p < 2 ^ 31 := by omega
  intro d
  induction d with
  | zero =>
    intro c acc hc
    refine ⟨acc, fun post h => ?_, fun post h => ?_⟩
    · rw [wX_inside_4]
      simp (disch := omega) only [li_0, li_1, li_2, li_3, li_4, li_5, li_6, li_7, li_8, li_9, li_10, li_11, li_12, li_15, li_16, li_20, li_21, li_24, li_31, li_36, li_100, li_255, li_256, li_1000, li_6000, li_M, un_s, un_n, ba_ap, ba_upd, ba_in, cT_le, cF_le, cT_lt, cF_lt, cT_eq, cF_eq, nb_1, nb_2, ns_1, ns_2, nz_1, nz_2, ng_1, ng_2, ng_3, ng_4, ng_5, nI_clamp, nI_add, pk_mul, pk_sub, forall_eq, true_and, and_true, true_imp_iff, false_imp_iff, not_true_eq_false, not_false_eq_true, implies_true]
      exact h
    · rw [wY_bound_4]
      simp (disch := omega) only [li_0, li_1, li_2, li_3, li_4, li_5, li_6, li_7, li_8, li_9, li_10, li_11, li_12, li_15, li_16, li_20, li_21, li_24, li_31, li_36, li_100, li_255, li_256, li_1000, li_6000, li_M, un_s, un_n, ba_ap, ba_upd, ba_in, cT_le, cF_le, cT_lt, cF_lt, cT_eq, cF_eq, nb_1, nb_2, ns_1, ns_2, nz_1, nz_2, ng_1, ng_2, ng_3, ng_4, ng_5, nI_clamp, nI_add, pk_mul, pk_sub, forall_eq, true_and, and_true, true_imp_iff, false_imp_iff, not_true_eq_false, not_false_eq_true, implies_true]
      exact h
  | succ d ih =>
    intro c acc hcd
    have hc : c < ga_ch a := by omega
    have c8 := ch8 I hc
    obtain ⟨j1, j2, j3, j4, j5, j6, j7, j8⟩ := I.2.2.2.2.1 c hc
    by_cases z : sd (ga_who a) c p < 2
    · obtain ⟨s1, s2, s3⟩ := sI_s rfl z
      generalize sd (ga_who a) c p = s at z s1 s2 s3
      by_cases h0 : ga_status a c = 0
      · obtain ⟨r, r1, r2⟩ := ih (c + 1) (acc + nI (ga_bal a (2 * (12 * c + ga_latest a c) + s))) (by omega)
        refine ⟨r, fun post h => ?_, fun post h => ?_⟩
        · rw [wX_inside_4]
          simp (disch := omega) only [xw_sideOf c8 p31 j2 j3, s1, xw_place, wX_inside_62, li_0, li_1, li_2, li_3, li_4, li_5, li_6, li_7, li_8, li_9, li_10, li_11, li_12, li_15, li_16, li_20, li_21, li_24, li_31, li_36, li_100, li_255, li_256, li_1000, li_6000, li_M, un_s, un_n, ba_ap, ba_upd, ba_in, cT_le, cF_le, cT_lt, cF_lt, cT_eq, cF_eq, nb_1, nb_2, ns_1, ns_2, nz_1, nz_2, ng_1, ng_2, ng_3, ng_4, ng_5, nI_clamp, nI_add, pk_mul, pk_sub, forall_eq, true_and, and_true, true_imp_iff, false_imp_iff, not_true_eq_false, not_false_eq_true, implies_true]
          exact r1 post h
        · rw [wY_bound_4]
          simp (disch := omega) only [yw_sideOf c8 p31 j2 j3, s1, yw_now c8, wY_bound_55, li_0, li_1, li_2, li_3, li_4, li_5, li_6, li_7, li_8, li_9, li_10, li_11, li_12, li_15, li_16, li_20, li_21, li_24, li_31, li_36, li_100, li_255, li_256, li_1000, li_6000, li_M, un_s, un_n, ba_ap, ba_upd, ba_in, cT_le, cF_le, cT_lt, cF_lt, cT_eq, cF_eq, nb_1, nb_2, ns_1, ns_2, nz_1, nz_2, ng_1, ng_2, ng_3, ng_4, ng_5, nI_clamp, nI_add, pk_mul, pk_sub, forall_eq, true_and, and_true, true_imp_iff, false_imp_iff, not_true_eq_false, not_false_eq_true, implies_true]
          exact r2 post h
      · by_cases h1 : ga_status a c = 1
        · obtain ⟨y1, y2⟩ := yp_iff I S hc h1 z s2
          have k1 := (j8 h1).1
          by_cases hps : ga_pubs a c = s
          · have y1 := y1.mpr hps
            obtain ⟨r, r1, r2⟩ := ih (c + 1) (acc + nI (ga_held a c)) (by omega)
            refine ⟨r, fun post h => ?_, fun post h => ?_⟩
            · rw [wX_inside_4]
              simp (disch := omega) only [xw_sideOf c8 p31 j2 j3, s1, xw_place, wX_inside_62, li_0, li_1, li_2, li_3, li_4, li_5, li_6, li_7, li_8, li_9, li_10, li_11, li_12, li_15, li_16, li_20, li_21, li_24, li_31, li_36, li_100, li_255, li_256, li_1000, li_6000, li_M, un_s, un_n, ba_ap, ba_upd, ba_in, cT_le, cF_le, cT_lt, cF_lt, cT_eq, cF_eq, nb_1, nb_2, ns_1, ns_2, nz_1, nz_2, ng_1, ng_2, ng_3, ng_4, ng_5, nI_clamp, nI_add, pk_mul, pk_sub, forall_eq, true_and, and_true, true_imp_iff, false_imp_iff, not_true_eq_false, not_false_eq_true, implies_true]
              exact r1 post h
            · rw [wY_bound_4]
              simp (disch := omega) only [yw_sideOf c8 p31 j2 j3, s1, yw_now c8, wY_bound_55, li_0, li_1, li_2, li_3, li_4, li_5, li_6, li_7, li_8, li_9, li_10, li_11, li_12, li_15, li_16, li_20, li_21, li_24, li_31, li_36, li_100, li_255, li_256, li_1000, li_6000, li_M, un_s, un_n, ba_ap, ba_upd, ba_in, cT_le, cF_le, cT_lt, cF_lt, cT_eq, cF_eq, nb_1, nb_2, ns_1, ns_2, nz_1, nz_2, ng_1, ng_2, ng_3, ng_4, ng_5, nI_clamp, nI_add, pk_mul, pk_sub, forall_eq, true_and, and_true, true_imp_iff, false_imp_iff, not_true_eq_false, not_false_eq_true, implies_true]
              exact r2 post h
          · have y1 : ¬ gy_ypub y c = p := fun e => hps (y1.mp e)
            obtain ⟨r, r1, r2⟩ := ih (c + 1) acc (by omega)
            refine ⟨r, fun post h => ?_, fun post h => ?_⟩
            · rw [wX_inside_4]
              simp (disch := omega) only [xw_sideOf c8 p31 j2 j3, s1, xw_place, wX_inside_62, li_0, li_1, li_2, li_3, li_4, li_5, li_6, li_7, li_8, li_9, li_10, li_11, li_12, li_15, li_16, li_20, li_21, li_24, li_31, li_36, li_100, li_255, li_256, li_1000, li_6000, li_M, un_s, un_n, ba_ap, ba_upd, ba_in, cT_le, cF_le, cT_lt, cF_lt, cT_eq, cF_eq, nb_1, nb_2, ns_1, ns_2, nz_1, nz_2, ng_1, ng_2, ng_3, ng_4, ng_5, nI_clamp, nI_add, pk_mul, pk_sub, forall_eq, true_and, and_true, true_imp_iff, false_imp_iff, not_true_eq_false, not_false_eq_true, implies_true]
              exact r1 post h
            · rw [wY_bound_4]
              simp (disch := omega) only [yw_sideOf c8 p31 j2 j3, s1, yw_now c8, wY_bound_55, li_0, li_1, li_2, li_3, li_4, li_5, li_6, li_7, li_8, li_9, li_10, li_11, li_12, li_15, li_16, li_20, li_21, li_24, li_31, li_36, li_100, li_255, li_256, li_1000, li_6000, li_M, un_s, un_n, ba_ap, ba_upd, ba_in, cT_le, cF_le, cT_lt, cF_lt, cT_eq, cF_eq, nb_1, nb_2, ns_1, ns_2, nz_1, nz_2, ng_1, ng_2, ng_3, ng_4, ng_5, nI_clamp, nI_add, pk_mul, pk_sub, forall_eq, true_and, and_true, true_imp_iff, false_imp_iff, not_true_eq_false, not_false_eq_true, implies_true]
              exact r2 post h
        · obtain ⟨r, r1, r2⟩ := ih (c + 1) acc (by omega)
          refine ⟨r, fun post h => ?_, fun post h => ?_⟩
          · rw [wX_inside_4]
            simp (disch := omega) only [xw_sideOf c8 p31 j2 j3, s1, xw_place, wX_inside_62, li_0, li_1, li_2, li_3, li_4, li_5, li_6, li_7, li_8, li_9, li_10, li_11, li_12, li_15, li_16, li_20, li_21, li_24, li_31, li_36, li_100, li_255, li_256, li_1000, li_6000, li_M, un_s, un_n, ba_ap, ba_upd, ba_in, cT_le, cF_le, cT_lt, cF_lt, cT_eq, cF_eq, nb_1, nb_2, ns_1, ns_2, nz_1, nz_2, ng_1, ng_2, ng_3, ng_4, ng_5, nI_clamp, nI_add, pk_mul, pk_sub, forall_eq, true_and, and_true, true_imp_iff, false_imp_iff, not_true_eq_false, not_false_eq_true, implies_true]
            exact r1 post h
          · rw [wY_bound_4]
            simp (disch := omega) only [yw_sideOf c8 p31 j2 j3, s1, yw_now c8, wY_bound_55, li_0, li_1, li_2, li_3, li_4, li_5, li_6, li_7, li_8, li_9, li_10, li_11, li_12, li_15, li_16, li_20, li_21, li_24, li_31, li_36, li_100, li_255, li_256, li_1000, li_6000, li_M, un_s, un_n, ba_ap, ba_upd, ba_in, cT_le, cF_le, cT_lt, cF_lt, cT_eq, cF_eq, nb_1, nb_2, ns_1, ns_2, nz_1, nz_2, ng_1, ng_2, ng_3, ng_4, ng_5, nI_clamp, nI_add, pk_mul, pk_sub, forall_eq, true_and, and_true, true_imp_iff, false_imp_iff, not_true_eq_false, not_false_eq_true, implies_true]
            exact r2 post h
    · have s1 := sI_n z
      obtain ⟨r, r1, r2⟩ := ih (c + 1) acc (by omega)
      refine ⟨r, fun post h => ?_, fun post h => ?_⟩
      · rw [wX_inside_4]
        simp (disch := omega) only [xw_sideOf c8 p31 j2 j3, s1, li_0, li_1, li_2, li_3, li_4, li_5, li_6, li_7, li_8, li_9, li_10, li_11, li_12, li_15, li_16, li_20, li_21, li_24, li_31, li_36, li_100, li_255, li_256, li_1000, li_6000, li_M, un_s, un_n, ba_ap, ba_upd, ba_in, cT_le, cF_le, cT_lt, cF_lt, cT_eq, cF_eq, nb_1, nb_2, ns_1, ns_2, nz_1, nz_2, ng_1, ng_2, ng_3, ng_4, ng_5, nI_clamp, nI_add, pk_mul, pk_sub, forall_eq, true_and, and_true, true_imp_iff, false_imp_iff, not_true_eq_false, not_false_eq_true, implies_true]
        exact r1 post h
      · rw [wY_bound_4]
        simp (disch := omega) only [yw_sideOf c8 p31 j2 j3, s1, li_0, li_1, li_2, li_3, li_4, li_5, li_6, li_7, li_8, li_9, li_10, li_11, li_12, li_15, li_16, li_20, li_21, li_24, li_31, li_36, li_100, li_255, li_256, li_1000, li_6000, li_M, un_s, un_n, ba_ap, ba_upd, ba_in, cT_le, cF_le, cT_lt, cF_lt, cT_eq, cF_eq, nb_1, nb_2, ns_1, ns_2, nz_1, nz_2, ng_1, ng_2, ng_3, ng_4, ng_5, nI_clamp, nI_add, pk_mul, pk_sub, forall_eq, true_and, and_true, true_imp_iff, false_imp_iff, not_true_eq_false, not_false_eq_true, implies_true]
        exact r2 post h
theorem i_vc_party {k : Nat} {u : SX} {v : SY} (I : i_Rel k u v) (hk : k + 5 ≤ 2560) (v1 : Int32) (v2 : Int32) : wpX_party (fun r => wpY_party (fun r' => r' = r ∧ i_Rel (k + 5) u v) v v1 v2) u v1 v2 := by
  obtain ⟨a, x, y, rfl, rfl, I, R, S⟩ := I
  have r1' : (-nI 1 = -nI 1) = True := eq_true rfl
  have fin : i_Rel (k + 5) (mX a x) (mY a y) := re_mk rfl rfl I R S
  rcases ix v1 with h | ⟨p, hp31, rfl⟩
  · simp (disch := omega) only [wpX_party, mX, xw_inN h, wpY_party, mY, yw_isPartyN h, r1', li_0, li_1, li_2, li_3, li_4, li_5, li_6, li_7, li_8, li_9, li_10, li_11, li_12, li_15, li_16, li_20, li_21, li_24, li_31, li_36, li_100, li_255, li_256, li_1000, li_6000, li_M, un_s, un_n, ba_ap, ba_upd, ba_in, cT_le, cF_le, cT_lt, cF_lt, cT_eq, cF_eq, nb_1, nb_2, ns_1, ns_2, nz_1, nz_2, ng_1, ng_2, ng_3, ng_4, ng_5, nI_clamp, nI_add, pk_mul, pk_sub, forall_eq, true_and, and_true, true_imp_iff, false_imp_iff, not_true_eq_false, not_false_eq_true, implies_true]
    exact fin
  by_cases hp : p < 6
  · have u2 := upI I p hp
    rcases ix v2 with h | ⟨w, hw31, rfl⟩
    · simp (disch := omega) only [wpX_party, mX, xw_in, wpY_party, mY, yw_isParty, h, r1', li_0, li_1, li_2, li_3, li_4, li_5, li_6, li_7, li_8, li_9, li_10, li_11, li_12, li_15, li_16, li_20, li_21, li_24, li_31, li_36, li_100, li_255, li_256, li_1000, li_6000, li_M, un_s, un_n, ba_ap, ba_upd, ba_in, cT_le, cF_le, cT_lt, cF_lt, cT_eq, cF_eq, nb_1, nb_2, ns_1, ns_2, nz_1, nz_2, ng_1, ng_2, ng_3, ng_4, ng_5, nI_clamp, nI_add, pk_mul, pk_sub, forall_eq, true_and, and_true, true_imp_iff, false_imp_iff, not_true_eq_false, not_false_eq_true, implies_true]
      exact fin
    by_cases hw : w ≤ 6
    · by_cases h6 : w = 6
      · obtain ⟨r, q1, q2⟩ := in_loop (x := x) (y := y) I S hp (ga_ch a) 0 (nI 0) (by omega)
        simp (disch := omega) only [wpX_party, mX, xw_in, wpX_inside, li_0, li_1, li_2, li_3, li_4, li_5, li_6, li_7, li_8, li_9, li_10, li_11, li_12, li_15, li_16, li_20, li_21, li_24, li_31, li_36, li_100, li_255, li_256, li_1000, li_6000, li_M, un_s, un_n, ba_ap, ba_upd, ba_in, cT_le, cF_le, cT_lt, cF_lt, cT_eq, cF_eq, nb_1, nb_2, ns_1, ns_2, nz_1, nz_2, ng_1, ng_2, ng_3, ng_4, ng_5, nI_clamp, nI_add, pk_mul, pk_sub, forall_eq, true_and, and_true, true_imp_iff, false_imp_iff, not_true_eq_false, not_false_eq_true, implies_true]
        refine ⟨_, q1 _ ?_⟩
        simp (disch := omega) only [wpY_party, mY, yw_isParty, wpY_bound, li_0, li_1, li_2, li_3, li_4, li_5, li_6, li_7, li_8, li_9, li_10, li_11, li_12, li_15, li_16, li_20, li_21, li_24, li_31, li_36, li_100, li_255, li_256, li_1000, li_6000, li_M, un_s, un_n, ba_ap, ba_upd, ba_in, cT_le, cF_le, cT_lt, cF_lt, cT_eq, cF_eq, nb_1, nb_2, ns_1, ns_2, nz_1, nz_2, ng_1, ng_2, ng_3, ng_4, ng_5, nI_clamp, nI_add, pk_mul, pk_sub, forall_eq, true_and, and_true, true_imp_iff, false_imp_iff, not_true_eq_false, not_false_eq_true, implies_true]
        exact ⟨_, q2 _ ⟨rfl, fin⟩⟩
      · by_cases h1 : w = 1
        · by_cases u0 : ga_up a p = 0
          · simp (disch := omega) only [wpX_party, mX, xw_in, wpY_party, mY, yw_isParty, li_0, li_1, li_2, li_3, li_4, li_5, li_6, li_7, li_8, li_9, li_10, li_11, li_12, li_15, li_16, li_20, li_21, li_24, li_31, li_36, li_100, li_255, li_256, li_1000, li_6000, li_M, un_s, un_n, ba_ap, ba_upd, ba_in, cT_le, cF_le, cT_lt, cF_lt, cT_eq, cF_eq, nb_1, nb_2, ns_1, ns_2, nz_1, nz_2, ng_1, ng_2, ng_3, ng_4, ng_5, nI_clamp, nI_add, pk_mul, pk_sub, forall_eq, true_and, and_true, true_imp_iff, false_imp_iff, not_true_eq_false, not_false_eq_true, implies_true]
            exact fin
          · simp (disch := omega) only [wpX_party, mX, xw_in, wpY_party, mY, yw_isParty, li_0, li_1, li_2, li_3, li_4, li_5, li_6, li_7, li_8, li_9, li_10, li_11, li_12, li_15, li_16, li_20, li_21, li_24, li_31, li_36, li_100, li_255, li_256, li_1000, li_6000, li_M, un_s, un_n, ba_ap, ba_upd, ba_in, cT_le, cF_le, cT_lt, cF_lt, cT_eq, cF_eq, nb_1, nb_2, ns_1, ns_2, nz_1, nz_2, ng_1, ng_2, ng_3, ng_4, ng_5, nI_clamp, nI_add, pk_mul, pk_sub, forall_eq, true_and, and_true, true_imp_iff, false_imp_iff, not_true_eq_false, not_false_eq_true, implies_true]
            exact fin
        · rcases (show w = 0 ∨ w = 2 ∨ w = 3 ∨ w = 4 ∨ w = 5 by omega) with rfl | rfl | rfl | rfl | rfl
          · simp (disch := omega) only [wpX_party, mX, xw_in, wpY_party, mY, yw_isParty, li_0, li_1, li_2, li_3, li_4, li_5, li_6, li_7, li_8, li_9, li_10, li_11, li_12, li_15, li_16, li_20, li_21, li_24, li_31, li_36, li_100, li_255, li_256, li_1000, li_6000, li_M, un_s, un_n, ba_ap, ba_upd, ba_in, cT_le, cF_le, cT_lt, cF_lt, cT_eq, cF_eq, nb_1, nb_2, ns_1, ns_2, nz_1, nz_2, ng_1, ng_2, ng_3, ng_4, ng_5, nI_clamp, nI_add, pk_mul, pk_sub, forall_eq, true_and, and_true, true_imp_iff, false_imp_iff, not_true_eq_false, not_false_eq_true, implies_true]
            exact fin
          · simp (disch := omega) only [wpX_party, mX, xw_in, wpY_party, mY, yw_isParty, li_0, li_1, li_2, li_3, li_4, li_5, li_6, li_7, li_8, li_9, li_10, li_11, li_12, li_15, li_16, li_20, li_21, li_24, li_31, li_36, li_100, li_255, li_256, li_1000, li_6000, li_M, un_s, un_n, ba_ap, ba_upd, ba_in, cT_le, cF_le, cT_lt, cF_lt, cT_eq, cF_eq, nb_1, nb_2, ns_1, ns_2, nz_1, nz_2, ng_1, ng_2, ng_3, ng_4, ng_5, nI_clamp, nI_add, pk_mul, pk_sub, forall_eq, true_and, and_true, true_imp_iff, false_imp_iff, not_true_eq_false, not_false_eq_true, implies_true]
            exact fin
          · simp (disch := omega) only [wpX_party, mX, xw_in, wpY_party, mY, yw_isParty, li_0, li_1, li_2, li_3, li_4, li_5, li_6, li_7, li_8, li_9, li_10, li_11, li_12, li_15, li_16, li_20, li_21, li_24, li_31, li_36, li_100, li_255, li_256, li_1000, li_6000, li_M, un_s, un_n, ba_ap, ba_upd, ba_in, cT_le, cF_le, cT_lt, cF_lt, cT_eq, cF_eq, nb_1, nb_2, ns_1, ns_2, nz_1, nz_2, ng_1, ng_2, ng_3, ng_4, ng_5, nI_clamp, nI_add, pk_mul, pk_sub, forall_eq, true_and, and_true, true_imp_iff, false_imp_iff, not_true_eq_false, not_false_eq_true, implies_true]
            exact fin
          · simp (disch := omega) only [wpX_party, mX, xw_in, wpY_party, mY, yw_isParty, show (ga_guard a p = ga_guard a p) = True from eq_true rfl, li_0, li_1, li_2, li_3, li_4, li_5, li_6, li_7, li_8, li_9, li_10, li_11, li_12, li_15, li_16, li_20, li_21, li_24, li_31, li_36, li_100, li_255, li_256, li_1000, li_6000, li_M, un_s, un_n, ba_ap, ba_upd, ba_in, cT_le, cF_le, cT_lt, cF_lt, cT_eq, cF_eq, nb_1, nb_2, ns_1, ns_2, nz_1, nz_2, ng_1, ng_2, ng_3, ng_4, ng_5, nI_clamp, nI_add, pk_mul, pk_sub, forall_eq, true_and, and_true, true_imp_iff, false_imp_iff, not_true_eq_false, not_false_eq_true, implies_true]
            exact fin
          · simp (disch := omega) only [wpX_party, mX, xw_in, wpY_party, mY, yw_isParty, show (ga_knows a p = ga_knows a p) = True from eq_true rfl, li_0, li_1, li_2, li_3, li_4, li_5, li_6, li_7, li_8, li_9, li_10, li_11, li_12, li_15, li_16, li_20, li_21, li_24, li_31, li_36, li_100, li_255, li_256, li_1000, li_6000, li_M, un_s, un_n, ba_ap, ba_upd, ba_in, cT_le, cF_le, cT_lt, cF_lt, cT_eq, cF_eq, nb_1, nb_2, ns_1, ns_2, nz_1, nz_2, ng_1, ng_2, ng_3, ng_4, ng_5, nI_clamp, nI_add, pk_mul, pk_sub, forall_eq, true_and, and_true, true_imp_iff, false_imp_iff, not_true_eq_false, not_false_eq_true, implies_true]
            exact fin
    · simp (disch := omega) only [wpX_party, mX, xw_in, wpY_party, mY, yw_isParty, r1', li_0, li_1, li_2, li_3, li_4, li_5, li_6, li_7, li_8, li_9, li_10, li_11, li_12, li_15, li_16, li_20, li_21, li_24, li_31, li_36, li_100, li_255, li_256, li_1000, li_6000, li_M, un_s, un_n, ba_ap, ba_upd, ba_in, cT_le, cF_le, cT_lt, cF_lt, cT_eq, cF_eq, nb_1, nb_2, ns_1, ns_2, nz_1, nz_2, ng_1, ng_2, ng_3, ng_4, ng_5, nI_clamp, nI_add, pk_mul, pk_sub, forall_eq, true_and, and_true, true_imp_iff, false_imp_iff, not_true_eq_false, not_false_eq_true, implies_true]
      exact fin
  · simp (disch := omega) only [wpX_party, mX, xw_inF, wpY_party, mY, yw_isPartyF, r1', li_0, li_1, li_2, li_3, li_4, li_5, li_6, li_7, li_8, li_9, li_10, li_11, li_12, li_15, li_16, li_20, li_21, li_24, li_31, li_36, li_100, li_255, li_256, li_1000, li_6000, li_M, un_s, un_n, ba_ap, ba_upd, ba_in, cT_le, cF_le, cT_lt, cF_lt, cT_eq, cF_eq, nb_1, nb_2, ns_1, ns_2, nz_1, nz_2, ng_1, ng_2, ng_3, ng_4, ng_5, nI_clamp, nI_add, pk_mul, pk_sub, forall_eq, true_and, and_true, true_imp_iff, false_imp_iff, not_true_eq_false, not_false_eq_true, implies_true]
    exact fin
theorem i_vc_channel {k : Nat} {u : SX} {v : SY} (I : i_Rel k u v) (hk : k + 5 ≤ 2560) (v1 : Int32) (v2 : Int32) : wpX_channel (fun r => wpY_channel (fun r' => r' = r ∧ i_Rel (k + 5) u v) v v1 v2) u v1 v2 := by
  obtain ⟨a, x, y, rfl, rfl, I, R, S⟩ := I
  have ch := I.1
  have r1' : (-nI 1 = -nI 1) = True := eq_true rfl
  have fin : i_Rel (k + 5) (mX a x) (mY a y) := re_mk rfl rfl I R S
  rcases ix v1 with h | ⟨c, hc31, rfl⟩
  · simp (disch := omega) only [wpX_channel, wpX_isChannel, mX, xw_inN h, wpY_channel, wpY_isChannel, mY, h, r1', li_0, li_1, li_2, li_3, li_4, li_5, li_6, li_7, li_8, li_9, li_10, li_11, li_12, li_15, li_16, li_20, li_21, li_24, li_31, li_36, li_100, li_255, li_256, li_1000, li_6000, li_M, un_s, un_n, ba_ap, ba_upd, ba_in, cT_le, cF_le, cT_lt, cF_lt, cT_eq, cF_eq, nb_1, nb_2, ns_1, ns_2, nz_1, nz_2, ng_1, ng_2, ng_3, ng_4, ng_5, nI_clamp, nI_add, pk_mul, pk_sub, forall_eq, true_and, and_true, true_imp_iff, false_imp_iff, not_true_eq_false, not_false_eq_true, implies_true]
    exact fin
  by_cases hc : c < ga_ch a
  · have c8 := ch8 I hc
    obtain ⟨j1, j2, j3, j4, j5, j6, j7, j8⟩ := I.2.2.2.2.1 c hc
    rcases ix v2 with h | ⟨w, hw31, rfl⟩
    · have h3 : v2 ≤ nI 3 := by
        rw [Int32.lt_iff_toInt_lt, show (nI 0).toInt = 0 from by decide] at h
        rw [Int32.le_iff_toInt_le, show (nI 3).toInt = 3 from by decide]
        omega
      simp (disch := omega) only [wpX_channel, xw_isChannel, mX, wX_channel_27, wpY_channel, yw_isChannel, wY_channel_27, mY, h, h3, r1', li_0, li_1, li_2, li_3, li_4, li_5, li_6, li_7, li_8, li_9, li_10, li_11, li_12, li_15, li_16, li_20, li_21, li_24, li_31, li_36, li_100, li_255, li_256, li_1000, li_6000, li_M, un_s, un_n, ba_ap, ba_upd, ba_in, cT_le, cF_le, cT_lt, cF_lt, cT_eq, cF_eq, nb_1, nb_2, ns_1, ns_2, nz_1, nz_2, ng_1, ng_2, ng_3, ng_4, ng_5, nI_clamp, nI_add, pk_mul, pk_sub, forall_eq, true_and, and_true, true_imp_iff, false_imp_iff, not_true_eq_false, not_false_eq_true, implies_true]
      exact fin
    by_cases w3 : w ≤ 3
    · rcases (show w = 0 ∨ w = 1 ∨ w = 2 ∨ w = 3 by omega) with rfl | rfl | rfl | rfl
      · simp (disch := omega) only [wpX_channel, xw_isChannel, mX, wX_channel_27, wpY_channel, yw_isChannel, wY_channel_27, mY, li_0, li_1, li_2, li_3, li_4, li_5, li_6, li_7, li_8, li_9, li_10, li_11, li_12, li_15, li_16, li_20, li_21, li_24, li_31, li_36, li_100, li_255, li_256, li_1000, li_6000, li_M, un_s, un_n, ba_ap, ba_upd, ba_in, cT_le, cF_le, cT_lt, cF_lt, cT_eq, cF_eq, nb_1, nb_2, ns_1, ns_2, nz_1, nz_2, ng_1, ng_2, ng_3, ng_4, ng_5, nI_clamp, nI_add, pk_mul, pk_sub, forall_eq, true_and, and_true, true_imp_iff, false_imp_iff, not_true_eq_false, not_false_eq_true, implies_true]
        exact fin
      · simp (disch := omega) only [wpX_channel, xw_isChannel, mX, wX_channel_27, wX_channel_87, wpY_channel, yw_isChannel, wY_channel_27, mY, Nat.add_sub_cancel, li_0, li_1, li_2, li_3, li_4, li_5, li_6, li_7, li_8, li_9, li_10, li_11, li_12, li_15, li_16, li_20, li_21, li_24, li_31, li_36, li_100, li_255, li_256, li_1000, li_6000, li_M, un_s, un_n, ba_ap, ba_upd, ba_in, cT_le, cF_le, cT_lt, cF_lt, cT_eq, cF_eq, nb_1, nb_2, ns_1, ns_2, nz_1, nz_2, ng_1, ng_2, ng_3, ng_4, ng_5, nI_clamp, nI_add, pk_mul, pk_sub, forall_eq, true_and, and_true, true_imp_iff, false_imp_iff, not_true_eq_false, not_false_eq_true, implies_true]
        exact fin
      · simp (disch := omega) only [wpX_channel, xw_isChannel, mX, wX_channel_27, wX_channel_87, wpY_channel, yw_isChannel, wY_channel_27, mY, show 2 * c + 2 - 1 = 2 * c + 1 by omega, li_0, li_1, li_2, li_3, li_4, li_5, li_6, li_7, li_8, li_9, li_10, li_11, li_12, li_15, li_16, li_20, li_21, li_24, li_31, li_36, li_100, li_255, li_256, li_1000, li_6000, li_M, un_s, un_n, ba_ap, ba_upd, ba_in, cT_le, cF_le, cT_lt, cF_lt, cT_eq, cF_eq, nb_1, nb_2, ns_1, ns_2, nz_1, nz_2, ng_1, ng_2, ng_3, ng_4, ng_5, nI_clamp, nI_add, pk_mul, pk_sub, forall_eq, true_and, and_true, true_imp_iff, false_imp_iff, not_true_eq_false, not_false_eq_true, implies_true]
        exact fin
      · simp (disch := omega) only [wpX_channel, xw_isChannel, mX, wX_channel_27, wpY_channel, yw_isChannel, wY_channel_27, mY, li_0, li_1, li_2, li_3, li_4, li_5, li_6, li_7, li_8, li_9, li_10, li_11, li_12, li_15, li_16, li_20, li_21, li_24, li_31, li_36, li_100, li_255, li_256, li_1000, li_6000, li_M, un_s, un_n, ba_ap, ba_upd, ba_in, cT_le, cF_le, cT_lt, cF_lt, cT_eq, cF_eq, nb_1, nb_2, ns_1, ns_2, nz_1, nz_2, ng_1, ng_2, ng_3, ng_4, ng_5, nI_clamp, nI_add, pk_mul, pk_sub, forall_eq, true_and, and_true, true_imp_iff, false_imp_iff, not_true_eq_false, not_false_eq_true, implies_true]
        exact fin
    · by_cases h1 : ga_status a c = 1
      · obtain ⟨k1, k2, k3, k4, k5⟩ := j8 h1
        by_cases w8 : w ≤ 8
        · rcases (show w = 4 ∨ w = 5 ∨ w = 6 ∨ w = 7 ∨ w = 8 by omega) with rfl | rfl | rfl | rfl | rfl
          · simp (disch := omega) only [wpX_channel, xw_isChannel, mX, wX_channel_27, wpY_channel, yw_isChannel, wY_channel_27, mY, li_0, li_1, li_2, li_3, li_4, li_5, li_6, li_7, li_8, li_9, li_10, li_11, li_12, li_15, li_16, li_20, li_21, li_24, li_31, li_36, li_100, li_255, li_256, li_1000, li_6000, li_M, un_s, un_n, ba_ap, ba_upd, ba_in, cT_le, cF_le, cT_lt, cF_lt, cT_eq, cF_eq, nb_1, nb_2, ns_1, ns_2, nz_1, nz_2, ng_1, ng_2, ng_3, ng_4, ng_5, nI_clamp, nI_add, pk_mul, pk_sub, forall_eq, true_and, and_true, true_imp_iff, false_imp_iff, not_true_eq_false, not_false_eq_true, implies_true]
            exact fin
          · have yp := ((S c hc).2 h1).2
            simp (disch := omega) only [wpX_channel, xw_isChannel, mX, wX_channel_27, wpY_channel, yw_isChannel, wY_channel_27, mY, yp, li_0, li_1, li_2, li_3, li_4, li_5, li_6, li_7, li_8, li_9, li_10, li_11, li_12, li_15, li_16, li_20, li_21, li_24, li_31, li_36, li_100, li_255, li_256, li_1000, li_6000, li_M, un_s, un_n, ba_ap, ba_upd, ba_in, cT_le, cF_le, cT_lt, cF_lt, cT_eq, cF_eq, nb_1, nb_2, ns_1, ns_2, nz_1, nz_2, ng_1, ng_2, ng_3, ng_4, ng_5, nI_clamp, nI_add, pk_mul, pk_sub, forall_eq, true_and, and_true, true_imp_iff, false_imp_iff, not_true_eq_false, not_false_eq_true, implies_true]
            exact fin
          · simp (disch := omega) only [wpX_channel, xw_isChannel, mX, wX_channel_27, wpY_channel, yw_isChannel, wY_channel_27, mY, li_0, li_1, li_2, li_3, li_4, li_5, li_6, li_7, li_8, li_9, li_10, li_11, li_12, li_15, li_16, li_20, li_21, li_24, li_31, li_36, li_100, li_255, li_256, li_1000, li_6000, li_M, un_s, un_n, ba_ap, ba_upd, ba_in, cT_le, cF_le, cT_lt, cF_lt, cT_eq, cF_eq, nb_1, nb_2, ns_1, ns_2, nz_1, nz_2, ng_1, ng_2, ng_3, ng_4, ng_5, nI_clamp, nI_add, pk_mul, pk_sub, forall_eq, true_and, and_true, true_imp_iff, false_imp_iff, not_true_eq_false, not_false_eq_true, implies_true]
            exact fin
          · simp (disch := omega) only [wpX_channel, xw_isChannel, mX, wX_channel_27, wpY_channel, yw_isChannel, wY_channel_27, mY, li_0, li_1, li_2, li_3, li_4, li_5, li_6, li_7, li_8, li_9, li_10, li_11, li_12, li_15, li_16, li_20, li_21, li_24, li_31, li_36, li_100, li_255, li_256, li_1000, li_6000, li_M, un_s, un_n, ba_ap, ba_upd, ba_in, cT_le, cF_le, cT_lt, cF_lt, cT_eq, cF_eq, nb_1, nb_2, ns_1, ns_2, nz_1, nz_2, ng_1, ng_2, ng_3, ng_4, ng_5, nI_clamp, nI_add, pk_mul, pk_sub, forall_eq, true_and, and_true, true_imp_iff, false_imp_iff, not_true_eq_false, not_false_eq_true, implies_true]
            exact fin
          · obtain ⟨o, o1, o2, o3, o4⟩ := (R.1 c hc).2 h1
            have n1 := (y_outn I S hc h1).1
            rw [o4, List.length_map] at n1
            simp (disch := omega) only [wpX_channel, xw_isChannel, mX, wX_channel_27, o3, xw_bits o1 (x_o I R hc o2), wpY_channel, yw_isChannel, wY_channel_27, mY, n1, li_0, li_1, li_2, li_3, li_4, li_5, li_6, li_7, li_8, li_9, li_10, li_11, li_12, li_15, li_16, li_20, li_21, li_24, li_31, li_36, li_100, li_255, li_256, li_1000, li_6000, li_M, un_s, un_n, ba_ap, ba_upd, ba_in, cT_le, cF_le, cT_lt, cF_lt, cT_eq, cF_eq, nb_1, nb_2, ns_1, ns_2, nz_1, nz_2, ng_1, ng_2, ng_3, ng_4, ng_5, nI_clamp, nI_add, pk_mul, pk_sub, forall_eq, true_and, and_true, true_imp_iff, false_imp_iff, not_true_eq_false, not_false_eq_true, implies_true]
            exact fin
        · simp (disch := omega) only [wpX_channel, xw_isChannel, mX, wX_channel_27, wpY_channel, yw_isChannel, wY_channel_27, mY, r1', li_0, li_1, li_2, li_3, li_4, li_5, li_6, li_7, li_8, li_9, li_10, li_11, li_12, li_15, li_16, li_20, li_21, li_24, li_31, li_36, li_100, li_255, li_256, li_1000, li_6000, li_M, un_s, un_n, ba_ap, ba_upd, ba_in, cT_le, cF_le, cT_lt, cF_lt, cT_eq, cF_eq, nb_1, nb_2, ns_1, ns_2, nz_1, nz_2, ng_1, ng_2, ng_3, ng_4, ng_5, nI_clamp, nI_add, pk_mul, pk_sub, forall_eq, true_and, and_true, true_imp_iff, false_imp_iff, not_true_eq_false, not_false_eq_true, implies_true]
          exact fin
      · simp (disch := omega) only [wpX_channel, xw_isChannel, mX, wpY_channel, yw_isChannel, mY, r1', li_0, li_1, li_2, li_3, li_4, li_5, li_6, li_7, li_8, li_9, li_10, li_11, li_12, li_15, li_16, li_20, li_21, li_24, li_31, li_36, li_100, li_255, li_256, li_1000, li_6000, li_M, un_s, un_n, ba_ap, ba_upd, ba_in, cT_le, cF_le, cT_lt, cF_lt, cT_eq, cF_eq, nb_1, nb_2, ns_1, ns_2, nz_1, nz_2, ng_1, ng_2, ng_3, ng_4, ng_5, nI_clamp, nI_add, pk_mul, pk_sub, forall_eq, true_and, and_true, true_imp_iff, false_imp_iff, not_true_eq_false, not_false_eq_true, implies_true]
        exact fin
  · simp (disch := omega) only [wpX_channel, wpX_isChannel, mX, xw_inF, wpY_channel, wpY_isChannel, mY, r1', li_0, li_1, li_2, li_3, li_4, li_5, li_6, li_7, li_8, li_9, li_10, li_11, li_12, li_15, li_16, li_20, li_21, li_24, li_31, li_36, li_100, li_255, li_256, li_1000, li_6000, li_M, un_s, un_n, ba_ap, ba_upd, ba_in, cT_le, cF_le, cT_lt, cF_lt, cT_eq, cF_eq, nb_1, nb_2, ns_1, ns_2, nz_1, nz_2, ng_1, ng_2, ng_3, ng_4, ng_5, nI_clamp, nI_add, pk_mul, pk_sub, forall_eq, true_and, and_true, true_imp_iff, false_imp_iff, not_true_eq_false, not_false_eq_true, implies_true]
    exact fin
end
section
theorem i_vc_state {k : Nat} {u : SX} {v : SY} (I : i_Rel k u v) (hk : k + 5 ≤ 2560) (v1 : Int32) (v2 : Int32) (v3 : Int32) : wpX_state (fun r => wpY_state (fun r' => r' = r ∧ i_Rel (k + 5) u v) v v1 v2 v3) u v1 v2 v3 := by
  obtain ⟨a, x, y, rfl, rfl, I, R, S⟩ := I
  have ch := I.1
  have r1' : (-nI 1 = -nI 1) = True := eq_true rfl
  have fin : i_Rel (k + 5) (mX a x) (mY a y) := re_mk rfl rfl I R S
  rcases ix v1 with h | ⟨c, hc31, rfl⟩
  · simp (disch := omega) only [wpX_state, wpX_isChannel, mX, xw_inN h, wpY_state, wpY_isChannel, mY, h, r1', li_0, li_1, li_2, li_3, li_4, li_5, li_6, li_7, li_8, li_9, li_10, li_11, li_12, li_15, li_16, li_20, li_21, li_24, li_31, li_36, li_100, li_255, li_256, li_1000, li_6000, li_M, un_s, un_n, ba_ap, ba_upd, ba_in, cT_le, cF_le, cT_lt, cF_lt, cT_eq, cF_eq, nb_1, nb_2, ns_1, ns_2, nz_1, nz_2, ng_1, ng_2, ng_3, ng_4, ng_5, nI_clamp, nI_add, pk_mul, pk_sub, forall_eq, true_and, and_true, true_imp_iff, false_imp_iff, not_true_eq_false, not_false_eq_true, implies_true]
    exact fin
  by_cases hc : c < ga_ch a
  · have c8 := ch8 I hc
    obtain ⟨j1, j2, j3, j4, j5, j6, j7, j8⟩ := I.2.2.2.2.1 c hc
    rcases ix v2 with h | ⟨s, hs31, rfl⟩
    · simp (disch := omega) only [wpX_state, xw_isChannel, mX, xw_inN h, wpY_state, yw_isChannel, mY, h, r1', li_0, li_1, li_2, li_3, li_4, li_5, li_6, li_7, li_8, li_9, li_10, li_11, li_12, li_15, li_16, li_20, li_21, li_24, li_31, li_36, li_100, li_255, li_256, li_1000, li_6000, li_M, un_s, un_n, ba_ap, ba_upd, ba_in, cT_le, cF_le, cT_lt, cF_lt, cT_eq, cF_eq, nb_1, nb_2, ns_1, ns_2, nz_1, nz_2, ng_1, ng_2, ng_3, ng_4, ng_5, nI_clamp, nI_add, pk_mul, pk_sub, forall_eq, true_and, and_true, true_imp_iff, false_imp_iff, not_true_eq_false, not_false_eq_true, implies_true]
      exact fin
    by_cases hs : s ≤ ga_latest a c
    · rcases ix v3 with h | ⟨w, hw31, rfl⟩
      · simp (disch := omega) only [wpX_state, xw_isChannel, mX, xw_in, xw_inN h, wpY_state, yw_isChannel, mY, h, r1', li_0, li_1, li_2, li_3, li_4, li_5, li_6, li_7, li_8, li_9, li_10, li_11, li_12, li_15, li_16, li_20, li_21, li_24, li_31, li_36, li_100, li_255, li_256, li_1000, li_6000, li_M, un_s, un_n, ba_ap, ba_upd, ba_in, cT_le, cF_le, cT_lt, cF_lt, cT_eq, cF_eq, nb_1, nb_2, ns_1, ns_2, nz_1, nz_2, ng_1, ng_2, ng_3, ng_4, ng_5, nI_clamp, nI_add, pk_mul, pk_sub, forall_eq, true_and, and_true, true_imp_iff, false_imp_iff, not_true_eq_false, not_false_eq_true, implies_true]
        exact fin
      by_cases hw : w < 3
      · by_cases w2 : w = 2
        · have hm := (xm_11 I R hc).2
          have eb : ∀ post : Int32 → Prop, wpX_bits post (nI (msk (ids (gx_many x c) (xT x c) s))) = post (nI (ga_rows a c s).length) := by
            intro post
            rw [xw_bits (ids_srt _ _ _) (ids_11 I R hc), (R.1 c hc).1.2.2.2 s hs, List.length_map]
          have n1 := (y_len I S hc hs).1
          simp (disch := omega) only [wpX_state, xw_isChannel, mX, xw_in, xw_rowOf c8 (show s < 12 by omega) hm (x_bd I R hc), li_0, li_1, li_2, li_3, li_4, li_5, li_6, li_7, li_8, li_9, li_10, li_11, li_12, li_15, li_16, li_20, li_21, li_24, li_31, li_36, li_100, li_255, li_256, li_1000, li_6000, li_M, un_s, un_n, ba_ap, ba_upd, ba_in, cT_le, cF_le, cT_lt, cF_lt, cT_eq, cF_eq, nb_1, nb_2, ns_1, ns_2, nz_1, nz_2, ng_1, ng_2, ng_3, ng_4, ng_5, nI_clamp, nI_add, pk_mul, pk_sub, forall_eq, true_and, and_true, true_imp_iff, false_imp_iff, not_true_eq_false, not_false_eq_true, implies_true]
          refine Eq.mpr (eb _) ?_
          simp (disch := omega) only [wpY_state, yw_isChannel, mY, n1, li_0, li_1, li_2, li_3, li_4, li_5, li_6, li_7, li_8, li_9, li_10, li_11, li_12, li_15, li_16, li_20, li_21, li_24, li_31, li_36, li_100, li_255, li_256, li_1000, li_6000, li_M, un_s, un_n, ba_ap, ba_upd, ba_in, cT_le, cF_le, cT_lt, cF_lt, cT_eq, cF_eq, nb_1, nb_2, ns_1, ns_2, nz_1, nz_2, ng_1, ng_2, ng_3, ng_4, ng_5, nI_clamp, nI_add, pk_mul, pk_sub, forall_eq, true_and, and_true, true_imp_iff, false_imp_iff, not_true_eq_false, not_false_eq_true, implies_true]
          exact fin
        · simp (disch := omega) only [wpX_state, xw_isChannel, mX, xw_in, xw_place, wpY_state, yw_isChannel, mY, li_0, li_1, li_2, li_3, li_4, li_5, li_6, li_7, li_8, li_9, li_10, li_11, li_12, li_15, li_16, li_20, li_21, li_24, li_31, li_36, li_100, li_255, li_256, li_1000, li_6000, li_M, un_s, un_n, ba_ap, ba_upd, ba_in, cT_le, cF_le, cT_lt, cF_lt, cT_eq, cF_eq, nb_1, nb_2, ns_1, ns_2, nz_1, nz_2, ng_1, ng_2, ng_3, ng_4, ng_5, nI_clamp, nI_add, pk_mul, pk_sub, forall_eq, true_and, and_true, true_imp_iff, false_imp_iff, not_true_eq_false, not_false_eq_true, implies_true]
          exact fin
      · simp (disch := omega) only [wpX_state, xw_isChannel, mX, xw_in, xw_inF, wpY_state, yw_isChannel, mY, r1', li_0, li_1, li_2, li_3, li_4, li_5, li_6, li_7, li_8, li_9, li_10, li_11, li_12, li_15, li_16, li_20, li_21, li_24, li_31, li_36, li_100, li_255, li_256, li_1000, li_6000, li_M, un_s, un_n, ba_ap, ba_upd, ba_in, cT_le, cF_le, cT_lt, cF_lt, cT_eq, cF_eq, nb_1, nb_2, ns_1, ns_2, nz_1, nz_2, ng_1, ng_2, ng_3, ng_4, ng_5, nI_clamp, nI_add, pk_mul, pk_sub, forall_eq, true_and, and_true, true_imp_iff, false_imp_iff, not_true_eq_false, not_false_eq_true, implies_true]
        exact fin
    · simp (disch := omega) only [wpX_state, xw_isChannel, mX, xw_inF, wpY_state, yw_isChannel, mY, r1', li_0, li_1, li_2, li_3, li_4, li_5, li_6, li_7, li_8, li_9, li_10, li_11, li_12, li_15, li_16, li_20, li_21, li_24, li_31, li_36, li_100, li_255, li_256, li_1000, li_6000, li_M, un_s, un_n, ba_ap, ba_upd, ba_in, cT_le, cF_le, cT_lt, cF_lt, cT_eq, cF_eq, nb_1, nb_2, ns_1, ns_2, nz_1, nz_2, ng_1, ng_2, ng_3, ng_4, ng_5, nI_clamp, nI_add, pk_mul, pk_sub, forall_eq, true_and, and_true, true_imp_iff, false_imp_iff, not_true_eq_false, not_false_eq_true, implies_true]
      exact fin
  · simp (disch := omega) only [wpX_state, wpX_isChannel, mX, xw_inF, wpY_state, wpY_isChannel, mY, r1', li_0, li_1, li_2, li_3, li_4, li_5, li_6, li_7, li_8, li_9, li_10, li_11, li_12, li_15, li_16, li_20, li_21, li_24, li_31, li_36, li_100, li_255, li_256, li_1000, li_6000, li_M, un_s, un_n, ba_ap, ba_upd, ba_in, cT_le, cF_le, cT_lt, cF_lt, cT_eq, cF_eq, nb_1, nb_2, ns_1, ns_2, nz_1, nz_2, ng_1, ng_2, ng_3, ng_4, ng_5, nI_clamp, nI_add, pk_mul, pk_sub, forall_eq, true_and, and_true, true_imp_iff, false_imp_iff, not_true_eq_false, not_false_eq_true, implies_true]
    exact fin
def lkR (l : LK) (w : Nat) : Nat := if w = 0 then l.1 else if w = 1 then l.2.1 else if w = 2 then l.2.2.1 else l.2.2.2
theorem wh_c (v : Int32) : (v < nI 0 ∨ ∃ w, 3 < w ∧ w < 2 ^ 31 ∧ v = nI w) ∨ ∃ w, w ≤ 3 ∧ v = nI w := by
  rcases ix v with h | ⟨w, hw, rfl⟩
  · exact Or.inl (Or.inl h)
  · by_cases z : w ≤ 3
    · exact Or.inr ⟨w, z, rfl⟩
    · exact Or.inl (Or.inr ⟨w, by omega, hw, rfl⟩)
theorem x_l62 {a : SA} {x : OX} {c j : Nat} {l : List Nat} {v : Int32} {post : Int32 → Prop} (c8 : c < 8) (hs : srt l) (h11 : ∀ i, i ∈ l → i < 11) (hj : j < 2 ^ 31) :
    (l.length ≤ j → wX_lock_62 post (nI c) (nI j) v (nI (msk l)) (ga_spent a) (nI (ga_now a)) (nI (ga_ch a)) (nI (gx_goal x)) (nI (gx_val x)) (nI (gx_known x)) (cN (ga_coins a)) (cN (ga_up a)) (ga_knows a) (cN (ga_base a)) (cN (ga_rate a)) (ga_guard a) (cN (ga_status a)) (cN (ga_who a)) (cN (ga_latest a)) (cN (gx_row x)) (cN (ga_bal a)) (cN (gx_many x)) (cN (gx_frm x)) (cN (gx_amt x)) (cN (gx_sec x)) (cN (gx_xpy x)) (cN (gx_born x)) (cN (gx_dead x)) (cN (ga_publd a)) (cN (ga_pubs a)) (cN (ga_since a)) (cN (ga_held a)) (cN (gx_outm x)) (cN (gx_least x)) (cN (gx_path x)) (cN (gx_xsum x)) = post (-nI 1)) ∧
    (∀ i, l[j]? = some i → ((v < nI 0 ∨ ∃ w, 3 < w ∧ w < 2 ^ 31 ∧ v = nI w) → wX_lock_62 post (nI c) (nI j) v (nI (msk l)) (ga_spent a) (nI (ga_now a)) (nI (ga_ch a)) (nI (gx_goal x)) (nI (gx_val x)) (nI (gx_known x)) (cN (ga_coins a)) (cN (ga_up a)) (ga_knows a) (cN (ga_base a)) (cN (ga_rate a)) (ga_guard a) (cN (ga_status a)) (cN (ga_who a)) (cN (ga_latest a)) (cN (gx_row x)) (cN (ga_bal a)) (cN (gx_many x)) (cN (gx_frm x)) (cN (gx_amt x)) (cN (gx_sec x)) (cN (gx_xpy x)) (cN (gx_born x)) (cN (gx_dead x)) (cN (ga_publd a)) (cN (ga_pubs a)) (cN (ga_since a)) (cN (ga_held a)) (cN (gx_outm x)) (cN (gx_least x)) (cN (gx_path x)) (cN (gx_xsum x)) = post (-nI 1)) ∧ (∀ w, w ≤ 3 → v = nI w → wX_lock_62 post (nI c) (nI j) v (nI (msk l)) (ga_spent a) (nI (ga_now a)) (nI (ga_ch a)) (nI (gx_goal x)) (nI (gx_val x)) (nI (gx_known x)) (cN (ga_coins a)) (cN (ga_up a)) (ga_knows a) (cN (ga_base a)) (cN (ga_rate a)) (ga_guard a) (cN (ga_status a)) (cN (ga_who a)) (cN (ga_latest a)) (cN (gx_row x)) (cN (ga_bal a)) (cN (gx_many x)) (cN (gx_frm x)) (cN (gx_amt x)) (cN (gx_sec x)) (cN (gx_xpy x)) (cN (gx_born x)) (cN (gx_dead x)) (cN (ga_publd a)) (cN (ga_pubs a)) (cN (ga_since a)) (cN (ga_held a)) (cN (gx_outm x)) (cN (gx_least x)) (cN (gx_path x)) (cN (gx_xsum x)) = post (nI (lkR (xT x c i).1 w)))) := by
  refine ⟨fun h => ?_, fun i hi => ?_⟩
  · have e : nthI l j = -nI 1 := by unfold nthI; rw [List.getElem?_eq_none h]
    simp (disch := omega) only [wX_lock_62, xw_nth hj hs h11, e, li_0, li_1, li_2, li_3, li_4, li_5, li_6, li_7, li_8, li_9, li_10, li_11, li_12, li_15, li_16, li_20, li_21, li_24, li_31, li_36, li_100, li_255, li_256, li_1000, li_6000, li_M, un_s, un_n, ba_ap, ba_upd, ba_in, cT_le, cF_le, cT_lt, cF_lt, cT_eq, cF_eq, nb_1, nb_2, ns_1, ns_2, nz_1, nz_2, ng_1, ng_2, ng_3, ng_4, ng_5, nI_clamp, nI_add, pk_mul, pk_sub, forall_eq, true_and, and_true, true_imp_iff, false_imp_iff, not_true_eq_false, not_false_eq_true, implies_true]
  · have e : nthI l j = nI i := by unfold nthI; rw [hi]
    have i11 : i < 11 := h11 i (List.mem_of_getElem? hi)
    refine ⟨fun hv => ?_, fun w hw hv => ?_⟩
    · rcases hv with hv | ⟨w, w1, w2, rfl⟩
      · simp (disch := omega) only [wX_lock_62, xw_nth hj hs h11, e, hv, li_0, li_1, li_2, li_3, li_4, li_5, li_6, li_7, li_8, li_9, li_10, li_11, li_12, li_15, li_16, li_20, li_21, li_24, li_31, li_36, li_100, li_255, li_256, li_1000, li_6000, li_M, un_s, un_n, ba_ap, ba_upd, ba_in, cT_le, cF_le, cT_lt, cF_lt, cT_eq, cF_eq, nb_1, nb_2, ns_1, ns_2, nz_1, nz_2, ng_1, ng_2, ng_3, ng_4, ng_5, nI_clamp, nI_add, pk_mul, pk_sub, forall_eq, true_and, and_true, true_imp_iff, false_imp_iff, not_true_eq_false, not_false_eq_true, implies_true]
      · simp (disch := omega) only [wX_lock_62, xw_nth hj hs h11, e, li_0, li_1, li_2, li_3, li_4, li_5, li_6, li_7, li_8, li_9, li_10, li_11, li_12, li_15, li_16, li_20, li_21, li_24, li_31, li_36, li_100, li_255, li_256, li_1000, li_6000, li_M, un_s, un_n, ba_ap, ba_upd, ba_in, cT_le, cF_le, cT_lt, cF_lt, cT_eq, cF_eq, nb_1, nb_2, ns_1, ns_2, nz_1, nz_2, ng_1, ng_2, ng_3, ng_4, ng_5, nI_clamp, nI_add, pk_mul, pk_sub, forall_eq, true_and, and_true, true_imp_iff, false_imp_iff, not_true_eq_false, not_false_eq_true, implies_true]
    · subst hv
      rcases (show w = 0 ∨ w = 1 ∨ w = 2 ∨ w = 3 by omega) with rfl | rfl | rfl | rfl
      · simp (disch := omega) only [wX_lock_62, xw_nth hj hs h11, e, li_0, li_1, li_2, li_3, li_4, li_5, li_6, li_7, li_8, li_9, li_10, li_11, li_12, li_15, li_16, li_20, li_21, li_24, li_31, li_36, li_100, li_255, li_256, li_1000, li_6000, li_M, un_s, un_n, ba_ap, ba_upd, ba_in, cT_le, cF_le, cT_lt, cF_lt, cT_eq, cF_eq, nb_1, nb_2, ns_1, ns_2, nz_1, nz_2, ng_1, ng_2, ng_3, ng_4, ng_5, nI_clamp, nI_add, pk_mul, pk_sub, forall_eq, true_and, and_true, true_imp_iff, false_imp_iff, not_true_eq_false, not_false_eq_true, implies_true]
        rfl
      · simp (disch := omega) only [wX_lock_62, xw_nth hj hs h11, e, li_0, li_1, li_2, li_3, li_4, li_5, li_6, li_7, li_8, li_9, li_10, li_11, li_12, li_15, li_16, li_20, li_21, li_24, li_31, li_36, li_100, li_255, li_256, li_1000, li_6000, li_M, un_s, un_n, ba_ap, ba_upd, ba_in, cT_le, cF_le, cT_lt, cF_lt, cT_eq, cF_eq, nb_1, nb_2, ns_1, ns_2, nz_1, nz_2, ng_1, ng_2, ng_3, ng_4, ng_5, nI_clamp, nI_add, pk_mul, pk_sub, forall_eq, true_and, and_true, true_imp_iff, false_imp_iff, not_true_eq_false, not_false_eq_true, implies_true]
        rfl
      · simp (disch := omega) only [wX_lock_62, xw_nth hj hs h11, e, li_0, li_1, li_2, li_3, li_4, li_5, li_6, li_7, li_8, li_9, li_10, li_11, li_12, li_15, li_16, li_20, li_21, li_24, li_31, li_36, li_100, li_255, li_256, li_1000, li_6000, li_M, un_s, un_n, ba_ap, ba_upd, ba_in, cT_le, cF_le, cT_lt, cF_lt, cT_eq, cF_eq, nb_1, nb_2, ns_1, ns_2, nz_1, nz_2, ng_1, ng_2, ng_3, ng_4, ng_5, nI_clamp, nI_add, pk_mul, pk_sub, forall_eq, true_and, and_true, true_imp_iff, false_imp_iff, not_true_eq_false, not_false_eq_true, implies_true]
        rfl
      · simp (disch := omega) only [wX_lock_62, xw_nth hj hs h11, e, li_0, li_1, li_2, li_3, li_4, li_5, li_6, li_7, li_8, li_9, li_10, li_11, li_12, li_15, li_16, li_20, li_21, li_24, li_31, li_36, li_100, li_255, li_256, li_1000, li_6000, li_M, un_s, un_n, ba_ap, ba_upd, ba_in, cT_le, cF_le, cT_lt, cF_lt, cT_eq, cF_eq, nb_1, nb_2, ns_1, ns_2, nz_1, nz_2, ng_1, ng_2, ng_3, ng_4, ng_5, nI_clamp, nI_add, pk_mul, pk_sub, forall_eq, true_and, and_true, true_imp_iff, false_imp_iff, not_true_eq_false, not_false_eq_true, implies_true]
        rfl
theorem y_l113 {a : SA} {y : OY} {z : Nat} {v : Int32} {post : Int32 → Prop} :
    ((v < nI 0 ∨ ∃ w, 3 < w ∧ w < 2 ^ 31 ∧ v = nI w) → ∀ o : Int32, wY_lock_113 post v o (nI z) (nI (ga_now a)) (ga_spent a) (nI (ga_ch a)) (nI (gy_len y)) (cN (ga_coins a)) (cN (ga_base a)) (cN (ga_rate a)) (ga_guard a) (ga_knows a) (cN (ga_up a)) (cN (ga_who a)) (cN (ga_status a)) (cN (ga_latest a)) (cN (ga_publd a)) (cN (gy_ypub y)) (cN (ga_since a)) (cN (ga_held a)) (cN (gy_outn y)) (cN (ga_bal a)) (cN (gy_lks y)) (cN (gy_yf y)) (cN (gy_ya y)) (cN (gy_ys y)) (cN (gy_ye y)) (cN (gy_qf y)) (cN (gy_qa y)) (cN (gy_qs y)) (cN (gy_qe y)) (gy_way y) (cN (gy_part y)) (cN (gy_ysum y)) (cN (gy_bst y)) (cN (gy_bsm y)) = post (-nI 1)) ∧
    (∀ w, w ≤ 3 → v = nI w → (z < 288 → wY_lock_113 post v (nI 0) (nI z) (nI (ga_now a)) (ga_spent a) (nI (ga_ch a)) (nI (gy_len y)) (cN (ga_coins a)) (cN (ga_base a)) (cN (ga_rate a)) (ga_guard a) (ga_knows a) (cN (ga_up a)) (cN (ga_who a)) (cN (ga_status a)) (cN (ga_latest a)) (cN (ga_publd a)) (cN (gy_ypub y)) (cN (ga_since a)) (cN (ga_held a)) (cN (gy_outn y)) (cN (ga_bal a)) (cN (gy_lks y)) (cN (gy_yf y)) (cN (gy_ya y)) (cN (gy_ys y)) (cN (gy_ye y)) (cN (gy_qf y)) (cN (gy_qa y)) (cN (gy_qs y)) (cN (gy_qe y)) (gy_way y) (cN (gy_part y)) (cN (gy_ysum y)) (cN (gy_bst y)) (cN (gy_bsm y)) = post (nI (lkR (yF y z) w))) ∧ (z < 24 → wY_lock_113 post v (nI 1) (nI z) (nI (ga_now a)) (ga_spent a) (nI (ga_ch a)) (nI (gy_len y)) (cN (ga_coins a)) (cN (ga_base a)) (cN (ga_rate a)) (ga_guard a) (ga_knows a) (cN (ga_up a)) (cN (ga_who a)) (cN (ga_status a)) (cN (ga_latest a)) (cN (ga_publd a)) (cN (gy_ypub y)) (cN (ga_since a)) (cN (ga_held a)) (cN (gy_outn y)) (cN (ga_bal a)) (cN (gy_lks y)) (cN (gy_yf y)) (cN (gy_ya y)) (cN (gy_ys y)) (cN (gy_ye y)) (cN (gy_qf y)) (cN (gy_qa y)) (cN (gy_qs y)) (cN (gy_qe y)) (gy_way y) (cN (gy_part y)) (cN (gy_ysum y)) (cN (gy_bst y)) (cN (gy_bsm y)) = post (nI (lkR (yQ y z) w)))) := by
  refine ⟨fun hv o => ?_, fun w hw hv => ⟨fun hz => ?_, fun hz => ?_⟩⟩
  · rcases hv with hv | ⟨w, w1, w2, rfl⟩
    · simp (disch := omega) only [wY_lock_113, hv, li_0, li_1, li_2, li_3, li_4, li_5, li_6, li_7, li_8, li_9, li_10, li_11, li_12, li_15, li_16, li_20, li_21, li_24, li_31, li_36, li_100, li_255, li_256, li_1000, li_6000, li_M, un_s, un_n, ba_ap, ba_upd, ba_in, cT_le, cF_le, cT_lt, cF_lt, cT_eq, cF_eq, nb_1, nb_2, ns_1, ns_2, nz_1, nz_2, ng_1, ng_2, ng_3, ng_4, ng_5, nI_clamp, nI_add, pk_mul, pk_sub, forall_eq, true_and, and_true, true_imp_iff, false_imp_iff, not_true_eq_false, not_false_eq_true, implies_true]
    · simp (disch := omega) only [wY_lock_113, li_0, li_1, li_2, li_3, li_4, li_5, li_6, li_7, li_8, li_9, li_10, li_11, li_12, li_15, li_16, li_20, li_21, li_24, li_31, li_36, li_100, li_255, li_256, li_1000, li_6000, li_M, un_s, un_n, ba_ap, ba_upd, ba_in, cT_le, cF_le, cT_lt, cF_lt, cT_eq, cF_eq, nb_1, nb_2, ns_1, ns_2, nz_1, nz_2, ng_1, ng_2, ng_3, ng_4, ng_5, nI_clamp, nI_add, pk_mul, pk_sub, forall_eq, true_and, and_true, true_imp_iff, false_imp_iff, not_true_eq_false, not_false_eq_true, implies_true]
  · subst hv
    rcases (show w = 0 ∨ w = 1 ∨ w = 2 ∨ w = 3 by omega) with rfl | rfl | rfl | rfl
    · simp (disch := omega) only [wY_lock_113, li_0, li_1, li_2, li_3, li_4, li_5, li_6, li_7, li_8, li_9, li_10, li_11, li_12, li_15, li_16, li_20, li_21, li_24, li_31, li_36, li_100, li_255, li_256, li_1000, li_6000, li_M, un_s, un_n, ba_ap, ba_upd, ba_in, cT_le, cF_le, cT_lt, cF_lt, cT_eq, cF_eq, nb_1, nb_2, ns_1, ns_2, nz_1, nz_2, ng_1, ng_2, ng_3, ng_4, ng_5, nI_clamp, nI_add, pk_mul, pk_sub, forall_eq, true_and, and_true, true_imp_iff, false_imp_iff, not_true_eq_false, not_false_eq_true, implies_true]
      rfl
    · simp (disch := omega) only [wY_lock_113, li_0, li_1, li_2, li_3, li_4, li_5, li_6, li_7, li_8, li_9, li_10, li_11, li_12, li_15, li_16, li_20, li_21, li_24, li_31, li_36, li_100, li_255, li_256, li_1000, li_6000, li_M, un_s, un_n, ba_ap, ba_upd, ba_in, cT_le, cF_le, cT_lt, cF_lt, cT_eq, cF_eq, nb_1, nb_2, ns_1, ns_2, nz_1, nz_2, ng_1, ng_2, ng_3, ng_4, ng_5, nI_clamp, nI_add, pk_mul, pk_sub, forall_eq, true_and, and_true, true_imp_iff, false_imp_iff, not_true_eq_false, not_false_eq_true, implies_true]
      rfl
    · simp (disch := omega) only [wY_lock_113, li_0, li_1, li_2, li_3, li_4, li_5, li_6, li_7, li_8, li_9, li_10, li_11, li_12, li_15, li_16, li_20, li_21, li_24, li_31, li_36, li_100, li_255, li_256, li_1000, li_6000, li_M, un_s, un_n, ba_ap, ba_upd, ba_in, cT_le, cF_le, cT_lt, cF_lt, cT_eq, cF_eq, nb_1, nb_2, ns_1, ns_2, nz_1, nz_2, ng_1, ng_2, ng_3, ng_4, ng_5, nI_clamp, nI_add, pk_mul, pk_sub, forall_eq, true_and, and_true, true_imp_iff, false_imp_iff, not_true_eq_false, not_false_eq_true, implies_true]
      rfl
    · simp (disch := omega) only [wY_lock_113, li_0, li_1, li_2, li_3, li_4, li_5, li_6, li_7, li_8, li_9, li_10, li_11, li_12, li_15, li_16, li_20, li_21, li_24, li_31, li_36, li_100, li_255, li_256, li_1000, li_6000, li_M, un_s, un_n, ba_ap, ba_upd, ba_in, cT_le, cF_le, cT_lt, cF_lt, cT_eq, cF_eq, nb_1, nb_2, ns_1, ns_2, nz_1, nz_2, ng_1, ng_2, ng_3, ng_4, ng_5, nI_clamp, nI_add, pk_mul, pk_sub, forall_eq, true_and, and_true, true_imp_iff, false_imp_iff, not_true_eq_false, not_false_eq_true, implies_true]
      rfl
  · subst hv
    rcases (show w = 0 ∨ w = 1 ∨ w = 2 ∨ w = 3 by omega) with rfl | rfl | rfl | rfl
    · simp (disch := omega) only [wY_lock_113, li_0, li_1, li_2, li_3, li_4, li_5, li_6, li_7, li_8, li_9, li_10, li_11, li_12, li_15, li_16, li_20, li_21, li_24, li_31, li_36, li_100, li_255, li_256, li_1000, li_6000, li_M, un_s, un_n, ba_ap, ba_upd, ba_in, cT_le, cF_le, cT_lt, cF_lt, cT_eq, cF_eq, nb_1, nb_2, ns_1, ns_2, nz_1, nz_2, ng_1, ng_2, ng_3, ng_4, ng_5, nI_clamp, nI_add, pk_mul, pk_sub, forall_eq, true_and, and_true, true_imp_iff, false_imp_iff, not_true_eq_false, not_false_eq_true, implies_true]
      rfl
    · simp (disch := omega) only [wY_lock_113, li_0, li_1, li_2, li_3, li_4, li_5, li_6, li_7, li_8, li_9, li_10, li_11, li_12, li_15, li_16, li_20, li_21, li_24, li_31, li_36, li_100, li_255, li_256, li_1000, li_6000, li_M, un_s, un_n, ba_ap, ba_upd, ba_in, cT_le, cF_le, cT_lt, cF_lt, cT_eq, cF_eq, nb_1, nb_2, ns_1, ns_2, nz_1, nz_2, ng_1, ng_2, ng_3, ng_4, ng_5, nI_clamp, nI_add, pk_mul, pk_sub, forall_eq, true_and, and_true, true_imp_iff, false_imp_iff, not_true_eq_false, not_false_eq_true, implies_true]
      rfl
    · simp (disch := omega) only [wY_lock_113, li_0, li_1, li_2, li_3, li_4, li_5, li_6, li_7, li_8, li_9, li_10, li_11, li_12, li_15, li_16, li_20, li_21, li_24, li_31, li_36, li_100, li_255, li_256, li_1000, li_6000, li_M, un_s, un_n, ba_ap, ba_upd, ba_in, cT_le, cF_le, cT_lt, cF_lt, cT_eq, cF_eq, nb_1, nb_2, ns_1, ns_2, nz_1, nz_2, ng_1, ng_2, ng_3, ng_4, ng_5, nI_clamp, nI_add, pk_mul, pk_sub, forall_eq, true_and, and_true, true_imp_iff, false_imp_iff, not_true_eq_false, not_false_eq_true, implies_true]
      rfl
    · simp (disch := omega) only [wY_lock_113, li_0, li_1, li_2, li_3, li_4, li_5, li_6, li_7, li_8, li_9, li_10, li_11, li_12, li_15, li_16, li_20, li_21, li_24, li_31, li_36, li_100, li_255, li_256, li_1000, li_6000, li_M, un_s, un_n, ba_ap, ba_upd, ba_in, cT_le, cF_le, cT_lt, cF_lt, cT_eq, cF_eq, nb_1, nb_2, ns_1, ns_2, nz_1, nz_2, ng_1, ng_2, ng_3, ng_4, ng_5, nI_clamp, nI_add, pk_mul, pk_sub, forall_eq, true_and, and_true, true_imp_iff, false_imp_iff, not_true_eq_false, not_false_eq_true, implies_true]
      rfl
theorem lk_fin {a : SA} {x : OX} {y : OY} {c j n z : Nat} {l : List Nat} {F : Nat → LK} {v o : Int32} {P : Prop} (c8 : c < 8) (hs : srt l) (h11 : ∀ i, i ∈ l → i < 11) (hj : j < 2 ^ 31) (hn : n ≤ 3) (hF : l.map (fun i => (xT x c i).1) = lsF F z n) (hP : P)
    (h113 : ∀ post : Int32 → Prop, ∀ w, w ≤ 3 → v = nI w → j < n → wY_lock_113 post v o (nI (z + j)) (nI (ga_now a)) (ga_spent a) (nI (ga_ch a)) (nI (gy_len y)) (cN (ga_coins a)) (cN (ga_base a)) (cN (ga_rate a)) (ga_guard a) (ga_knows a) (cN (ga_up a)) (cN (ga_who a)) (cN (ga_status a)) (cN (ga_latest a)) (cN (ga_publd a)) (cN (gy_ypub y)) (cN (ga_since a)) (cN (ga_held a)) (cN (gy_outn y)) (cN (ga_bal a)) (cN (gy_lks y)) (cN (gy_yf y)) (cN (gy_ya y)) (cN (gy_ys y)) (cN (gy_ye y)) (cN (gy_qf y)) (cN (gy_qa y)) (cN (gy_qs y)) (cN (gy_qe y)) (gy_way y) (cN (gy_part y)) (cN (gy_ysum y)) (cN (gy_bst y)) (cN (gy_bsm y)) = post (nI (lkR (F (z + j)) w))) :
    wX_lock_62 (fun r => ((nI j < nI n → wY_lock_113 (fun r' => r' = r ∧ P) v o (nI (z + j)) (nI (ga_now a)) (ga_spent a) (nI (ga_ch a)) (nI (gy_len y)) (cN (ga_coins a)) (cN (ga_base a)) (cN (ga_rate a)) (ga_guard a) (ga_knows a) (cN (ga_up a)) (cN (ga_who a)) (cN (ga_status a)) (cN (ga_latest a)) (cN (ga_publd a)) (cN (gy_ypub y)) (cN (ga_since a)) (cN (ga_held a)) (cN (gy_outn y)) (cN (ga_bal a)) (cN (gy_lks y)) (cN (gy_yf y)) (cN (gy_ya y)) (cN (gy_ys y)) (cN (gy_ye y)) (cN (gy_qf y)) (cN (gy_qa y)) (cN (gy_qs y)) (cN (gy_qe y)) (gy_way y) (cN (gy_part y)) (cN (gy_ysum y)) (cN (gy_bst y)) (cN (gy_bsm y))) ∧ (¬ nI j < nI n → (fun r' => r' = r ∧ P) (-nI 1)))) (nI c) (nI j) v (nI (msk l)) (ga_spent a) (nI (ga_now a)) (nI (ga_ch a)) (nI (gx_goal x)) (nI (gx_val x)) (nI (gx_known x)) (cN (ga_coins a)) (cN (ga_up a)) (ga_knows a) (cN (ga_base a)) (cN (ga_rate a)) (ga_guard a) (cN (ga_status a)) (cN (ga_who a)) (cN (ga_latest a)) (cN (gx_row x)) (cN (ga_bal a)) (cN (gx_many x)) (cN (gx_frm x)) (cN (gx_amt x)) (cN (gx_sec x)) (cN (gx_xpy x)) (cN (gx_born x)) (cN (gx_dead x)) (cN (ga_publd a)) (cN (ga_pubs a)) (cN (ga_since a)) (cN (ga_held a)) (cN (gx_outm x)) (cN (gx_least x)) (cN (gx_path x)) (cN (gx_xsum x)) := by
  have hlen : l.length = n := by
    have := congrArg List.length hF
    rw [List.length_map, lsF_len] at this
    exact this
  by_cases hjn : j < n
  · have hjl : j < l.length := by omega
    have hi := List.getElem?_eq_getElem hjl
    have eF : (xT x c l[j]).1 = F (z + j) := by
      have e1 : (l.map (fun i => (xT x c i).1))[j]? = some (xT x c l[j]).1 := by rw [List.getElem?_map, hi]; rfl
      rw [hF] at e1
      unfold lsF at e1
      rw [List.getElem?_map, List.getElem?_range hjn] at e1
      exact (Option.some.inj e1).symm
    rcases wh_c v with hv | ⟨w, hw, hv⟩
    · refine Eq.mpr (((x_l62 c8 hs h11 hj).2 _ hi).1 hv) ?_
      refine ⟨fun _ => ?_, fun _ => ⟨rfl, hP⟩⟩
      exact Eq.mpr (y_l113.1 hv o) ⟨rfl, hP⟩
    · refine Eq.mpr (((x_l62 c8 hs h11 hj).2 _ hi).2 w hw hv) ?_
      refine ⟨fun _ => ?_, fun q => absurd (nI_lt hjn (by omega)) q⟩
      refine Eq.mpr (h113 _ w hw hv hjn) ?_
      rw [eF]
      exact ⟨rfl, hP⟩
  · refine Eq.mpr ((x_l62 c8 hs h11 hj).1 (by omega)) ?_
    exact ⟨fun q => absurd q (nI_nlt (by omega) hj), fun _ => ⟨rfl, hP⟩⟩
end
section
theorem ng_a {n : Nat} (h : n < 2 ^ 31) : (-nI 1 ≤ nI n) = True := eq_true (by
  rw [Int32.le_iff_toInt_le, nI_toInt h, show (-nI 1).toInt = -1 from by decide]; omega)
theorem i_vc_lock {k : Nat} {u : SX} {v : SY} (I : i_Rel k u v) (hk : k + 5 ≤ 2560) (v1 : Int32) (v2 : Int32) (v3 : Int32) (v4 : Int32) : wpX_lock (fun r => wpY_lock (fun r' => r' = r ∧ i_Rel (k + 5) u v) v v1 v2 v3 v4) u v1 v2 v3 v4 := by
  obtain ⟨a, x, y, rfl, rfl, I, R, S⟩ := I
  have ch := I.1
  have r1' : (-nI 1 = -nI 1) = True := eq_true rfl
  have lm : (-nI 1 < -nI 1) = False := eq_false (by decide)
  have fin : i_Rel (k + 5) (mX a x) (mY a y) := re_mk rfl rfl I R S
  generalize i_Rel (k + 5) (mX a x) (mY a y) = P at fin ⊢
  rcases ix v1 with h | ⟨c, hc31, rfl⟩
  · simp (disch := omega) only [wpX_lock, wpX_isChannel, mX, xw_inN h, wpY_lock, wpY_isChannel, mY, h, r1', li_0, li_1, li_2, li_3, li_4, li_5, li_6, li_7, li_8, li_9, li_10, li_11, li_12, li_15, li_16, li_20, li_21, li_24, li_31, li_36, li_100, li_255, li_256, li_1000, li_6000, li_M, un_s, un_n, ba_ap, ba_upd, ba_in, cT_le, cF_le, cT_lt, cF_lt, cT_eq, cF_eq, nb_1, nb_2, ns_1, ns_2, nz_1, nz_2, ng_1, ng_2, ng_3, ng_4, ng_5, nI_clamp, nI_add, pk_mul, pk_sub, forall_eq, true_and, and_true, true_imp_iff, false_imp_iff, not_true_eq_false, not_false_eq_true, implies_true]
    exact fin
  by_cases hc : c < ga_ch a
  · have c8 := ch8 I hc
    obtain ⟨j1, j2, j3, j4, j5, j6, j7, j8⟩ := I.2.2.2.2.1 c hc
    have hm := (xm_11 I R hc).2
    -- what X gives back where there is nothing
    rcases ix v3 with hj | ⟨j, hj, rfl⟩
    · have hj2 : ¬ nI 0 ≤ v3 := Int32.not_le.mpr hj
      have yn : wpY_lock (fun r' => r' = -nI 1 ∧ P) (mY a y) (nI c) v2 v3 v4 := by
        simp (disch := omega) only [wpY_lock, yw_isChannel, mY, hj, r1', li_0, li_1, li_2, li_3, li_4, li_5, li_6, li_7, li_8, li_9, li_10, li_11, li_12, li_15, li_16, li_20, li_21, li_24, li_31, li_36, li_100, li_255, li_256, li_1000, li_6000, li_M, un_s, un_n, ba_ap, ba_upd, ba_in, cT_le, cF_le, cT_lt, cF_lt, cT_eq, cF_eq, nb_1, nb_2, ns_1, ns_2, nz_1, nz_2, ng_1, ng_2, ng_3, ng_4, ng_5, nI_clamp, nI_add, pk_mul, pk_sub, forall_eq, true_and, and_true, true_imp_iff, false_imp_iff, not_true_eq_false, not_false_eq_true, implies_true]
        exact fin
      rcases ix v2 with h | ⟨s, hs31, rfl⟩
      · rcases ixm h with rfl | h'
        · by_cases h1 : ga_status a c = 1
          · simp (disch := omega) only [wpX_lock, xw_isChannel, mX, wX_lock_37, lm, hj2, li_0, li_1, li_2, li_3, li_4, li_5, li_6, li_7, li_8, li_9, li_10, li_11, li_12, li_15, li_16, li_20, li_21, li_24, li_31, li_36, li_100, li_255, li_256, li_1000, li_6000, li_M, un_s, un_n, ba_ap, ba_upd, ba_in, cT_le, cF_le, cT_lt, cF_lt, cT_eq, cF_eq, nb_1, nb_2, ns_1, ns_2, nz_1, nz_2, ng_1, ng_2, ng_3, ng_4, ng_5, nI_clamp, nI_add, pk_mul, pk_sub, forall_eq, true_and, and_true, true_imp_iff, false_imp_iff, not_true_eq_false, not_false_eq_true, implies_true]
            exact yn
          · simp (disch := omega) only [wpX_lock, xw_isChannel, mX, wX_lock_37, lm, hj2, li_0, li_1, li_2, li_3, li_4, li_5, li_6, li_7, li_8, li_9, li_10, li_11, li_12, li_15, li_16, li_20, li_21, li_24, li_31, li_36, li_100, li_255, li_256, li_1000, li_6000, li_M, un_s, un_n, ba_ap, ba_upd, ba_in, cT_le, cF_le, cT_lt, cF_lt, cT_eq, cF_eq, nb_1, nb_2, ns_1, ns_2, nz_1, nz_2, ng_1, ng_2, ng_3, ng_4, ng_5, nI_clamp, nI_add, pk_mul, pk_sub, forall_eq, true_and, and_true, true_imp_iff, false_imp_iff, not_true_eq_false, not_false_eq_true, implies_true]
            exact yn
        · simp (disch := omega) only [wpX_lock, xw_isChannel, mX, h', li_0, li_1, li_2, li_3, li_4, li_5, li_6, li_7, li_8, li_9, li_10, li_11, li_12, li_15, li_16, li_20, li_21, li_24, li_31, li_36, li_100, li_255, li_256, li_1000, li_6000, li_M, un_s, un_n, ba_ap, ba_upd, ba_in, cT_le, cF_le, cT_lt, cF_lt, cT_eq, cF_eq, nb_1, nb_2, ns_1, ns_2, nz_1, nz_2, ng_1, ng_2, ng_3, ng_4, ng_5, nI_clamp, nI_add, pk_mul, pk_sub, forall_eq, true_and, and_true, true_imp_iff, false_imp_iff, not_true_eq_false, not_false_eq_true, implies_true]
          exact yn
      · by_cases hs : s ≤ ga_latest a c
        · simp (disch := omega) only [wpX_lock, xw_isChannel, mX, wX_lock_37, hj2, li_0, li_1, li_2, li_3, li_4, li_5, li_6, li_7, li_8, li_9, li_10, li_11, li_12, li_15, li_16, li_20, li_21, li_24, li_31, li_36, li_100, li_255, li_256, li_1000, li_6000, li_M, un_s, un_n, ba_ap, ba_upd, ba_in, cT_le, cF_le, cT_lt, cF_lt, cT_eq, cF_eq, nb_1, nb_2, ns_1, ns_2, nz_1, nz_2, ng_1, ng_2, ng_3, ng_4, ng_5, nI_clamp, nI_add, pk_mul, pk_sub, forall_eq, true_and, and_true, true_imp_iff, false_imp_iff, not_true_eq_false, not_false_eq_true, implies_true]
          exact yn
        · simp (disch := omega) only [wpX_lock, xw_isChannel, mX, li_0, li_1, li_2, li_3, li_4, li_5, li_6, li_7, li_8, li_9, li_10, li_11, li_12, li_15, li_16, li_20, li_21, li_24, li_31, li_36, li_100, li_255, li_256, li_1000, li_6000, li_M, un_s, un_n, ba_ap, ba_upd, ba_in, cT_le, cF_le, cT_lt, cF_lt, cT_eq, cF_eq, nb_1, nb_2, ns_1, ns_2, nz_1, nz_2, ng_1, ng_2, ng_3, ng_4, ng_5, nI_clamp, nI_add, pk_mul, pk_sub, forall_eq, true_and, and_true, true_imp_iff, false_imp_iff, not_true_eq_false, not_false_eq_true, implies_true]
          exact yn
    · rcases ix v2 with h | ⟨s, hs31, rfl⟩
      · rcases ixm h with rfl | h'
        · by_cases h1 : ga_status a c = 1
          · obtain ⟨o, o1, o2, o3, o4⟩ := (R.1 c hc).2 h1
            obtain ⟨n1, n2⟩ := y_outn I S hc h1
            have ey : ∀ post : Int32 → Prop, wpY_lock post (mY a y) (nI c) (-nI 1) (nI j) v4 = ((nI j < nI (gy_outn y c) → wY_lock_113 post v4 (nI 1) (nI (3 * c + j)) (nI (ga_now a)) (ga_spent a) (nI (ga_ch a)) (nI (gy_len y)) (cN (ga_coins a)) (cN (ga_base a)) (cN (ga_rate a)) (ga_guard a) (ga_knows a) (cN (ga_up a)) (cN (ga_who a)) (cN (ga_status a)) (cN (ga_latest a)) (cN (ga_publd a)) (cN (gy_ypub y)) (cN (ga_since a)) (cN (ga_held a)) (cN (gy_outn y)) (cN (ga_bal a)) (cN (gy_lks y)) (cN (gy_yf y)) (cN (gy_ya y)) (cN (gy_ys y)) (cN (gy_ye y)) (cN (gy_qf y)) (cN (gy_qa y)) (cN (gy_qs y)) (cN (gy_qe y)) (gy_way y) (cN (gy_part y)) (cN (gy_ysum y)) (cN (gy_bst y)) (cN (gy_bsm y))) ∧ (¬ nI j < nI (gy_outn y c) → post (-nI 1))) := by
              intro post
              simp (disch := omega) only [wpY_lock, yw_isChannel, mY, wY_lock_39, wY_lock_80, lm, r1', ng_a, li_0, li_1, li_2, li_3, li_4, li_5, li_6, li_7, li_8, li_9, li_10, li_11, li_12, li_15, li_16, li_20, li_21, li_24, li_31, li_36, li_100, li_255, li_256, li_1000, li_6000, li_M, un_s, un_n, ba_ap, ba_upd, ba_in, cT_le, cF_le, cT_lt, cF_lt, cT_eq, cF_eq, nb_1, nb_2, ns_1, ns_2, nz_1, nz_2, ng_1, ng_2, ng_3, ng_4, ng_5, nI_clamp, nI_add, pk_mul, pk_sub, forall_eq, true_and, and_true, true_imp_iff, false_imp_iff, not_true_eq_false, not_false_eq_true, implies_true]
            have e : (fun r => wpY_lock (fun r' => r' = r ∧ P) (mY a y) (nI c) (-nI 1) (nI j) v4) = (fun r => ((nI j < nI (gy_outn y c) → wY_lock_113 (fun r' => r' = r ∧ P) v4 (nI 1) (nI (3 * c + j)) (nI (ga_now a)) (ga_spent a) (nI (ga_ch a)) (nI (gy_len y)) (cN (ga_coins a)) (cN (ga_base a)) (cN (ga_rate a)) (ga_guard a) (ga_knows a) (cN (ga_up a)) (cN (ga_who a)) (cN (ga_status a)) (cN (ga_latest a)) (cN (ga_publd a)) (cN (gy_ypub y)) (cN (ga_since a)) (cN (ga_held a)) (cN (gy_outn y)) (cN (ga_bal a)) (cN (gy_lks y)) (cN (gy_yf y)) (cN (gy_ya y)) (cN (gy_ys y)) (cN (gy_ye y)) (cN (gy_qf y)) (cN (gy_qa y)) (cN (gy_qs y)) (cN (gy_qe y)) (gy_way y) (cN (gy_part y)) (cN (gy_ysum y)) (cN (gy_bst y)) (cN (gy_bsm y))) ∧ (¬ nI j < nI (gy_outn y c) → (fun r' => r' = r ∧ P) (-nI 1)))) := funext fun r => ey _
            rw [e]
            have q := lk_fin (a := a) (x := x) (y := y) (c := c) (j := j) (n := gy_outn y c) (z := 3 * c) (l := o) (F := yQ y) (v := v4) (o := nI 1) (P := P) c8 o1 (x_o I R hc o2) hj n2 (by rw [← o4]; exact ((S c hc).2 h1).1) fin (fun post w hw hv hjn => (y_l113.2 w hw hv).2 (by omega))
            generalize (fun r => ((nI j < nI (gy_outn y c) → wY_lock_113 (fun r' => r' = r ∧ P) v4 (nI 1) (nI (3 * c + j)) (nI (ga_now a)) (ga_spent a) (nI (ga_ch a)) (nI (gy_len y)) (cN (ga_coins a)) (cN (ga_base a)) (cN (ga_rate a)) (ga_guard a) (ga_knows a) (cN (ga_up a)) (cN (ga_who a)) (cN (ga_status a)) (cN (ga_latest a)) (cN (ga_publd a)) (cN (gy_ypub y)) (cN (ga_since a)) (cN (ga_held a)) (cN (gy_outn y)) (cN (ga_bal a)) (cN (gy_lks y)) (cN (gy_yf y)) (cN (gy_ya y)) (cN (gy_ys y)) (cN (gy_ye y)) (cN (gy_qf y)) (cN (gy_qa y)) (cN (gy_qs y)) (cN (gy_qe y)) (gy_way y) (cN (gy_part y)) (cN (gy_ysum y)) (cN (gy_bst y)) (cN (gy_bsm y))) ∧ (¬ nI j < nI (gy_outn y c) → (fun r' => r' = r ∧ P) (-nI 1)))) = Q at q ⊢
            simp (disch := omega) only [wpX_lock, xw_isChannel, mX, wX_lock_37, lm, o3, li_0, li_1, li_2, li_3, li_4, li_5, li_6, li_7, li_8, li_9, li_10, li_11, li_12, li_15, li_16, li_20, li_21, li_24, li_31, li_36, li_100, li_255, li_256, li_1000, li_6000, li_M, un_s, un_n, ba_ap, ba_upd, ba_in, cT_le, cF_le, cT_lt, cF_lt, cT_eq, cF_eq, nb_1, nb_2, ns_1, ns_2, nz_1, nz_2, ng_1, ng_2, ng_3, ng_4, ng_5, nI_clamp, nI_add, pk_mul, pk_sub, forall_eq, true_and, and_true, true_imp_iff, false_imp_iff, not_true_eq_false, not_false_eq_true, implies_true]
            exact q
          · have yn : wpY_lock (fun r' => r' = -nI 1 ∧ P) (mY a y) (nI c) (-nI 1) (nI j) v4 := by
              simp (disch := omega) only [wpY_lock, yw_isChannel, mY, wY_lock_39, wY_lock_80, lm, r1', ng_a, li_0, li_1, li_2, li_3, li_4, li_5, li_6, li_7, li_8, li_9, li_10, li_11, li_12, li_15, li_16, li_20, li_21, li_24, li_31, li_36, li_100, li_255, li_256, li_1000, li_6000, li_M, un_s, un_n, ba_ap, ba_upd, ba_in, cT_le, cF_le, cT_lt, cF_lt, cT_eq, cF_eq, nb_1, nb_2, ns_1, ns_2, nz_1, nz_2, ng_1, ng_2, ng_3, ng_4, ng_5, nI_clamp, nI_add, pk_mul, pk_sub, forall_eq, true_and, and_true, true_imp_iff, false_imp_iff, not_true_eq_false, not_false_eq_true, implies_true]
              exact fin
            simp (disch := omega) only [wpX_lock, xw_isChannel, mX, lm, li_0, li_1, li_2, li_3, li_4, li_5, li_6, li_7, li_8, li_9, li_10, li_11, li_12, li_15, li_16, li_20, li_21, li_24, li_31, li_36, li_100, li_255, li_256, li_1000, li_6000, li_M, un_s, un_n, ba_ap, ba_upd, ba_in, cT_le, cF_le, cT_lt, cF_lt, cT_eq, cF_eq, nb_1, nb_2, ns_1, ns_2, nz_1, nz_2, ng_1, ng_2, ng_3, ng_4, ng_5, nI_clamp, nI_add, pk_mul, pk_sub, forall_eq, true_and, and_true, true_imp_iff, false_imp_iff, not_true_eq_false, not_false_eq_true, implies_true]
            exact yn
        · have yn : wpY_lock (fun r' => r' = -nI 1 ∧ P) (mY a y) (nI c) v2 (nI j) v4 := by
            simp (disch := omega) only [wpY_lock, yw_isChannel, mY, h', r1', li_0, li_1, li_2, li_3, li_4, li_5, li_6, li_7, li_8, li_9, li_10, li_11, li_12, li_15, li_16, li_20, li_21, li_24, li_31, li_36, li_100, li_255, li_256, li_1000, li_6000, li_M, un_s, un_n, ba_ap, ba_upd, ba_in, cT_le, cF_le, cT_lt, cF_lt, cT_eq, cF_eq, nb_1, nb_2, ns_1, ns_2, nz_1, nz_2, ng_1, ng_2, ng_3, ng_4, ng_5, nI_clamp, nI_add, pk_mul, pk_sub, forall_eq, true_and, and_true, true_imp_iff, false_imp_iff, not_true_eq_false, not_false_eq_true, implies_true]
            exact fin
          simp (disch := omega) only [wpX_lock, xw_isChannel, mX, h', li_0, li_1, li_2, li_3, li_4, li_5, li_6, li_7, li_8, li_9, li_10, li_11, li_12, li_15, li_16, li_20, li_21, li_24, li_31, li_36, li_100, li_255, li_256, li_1000, li_6000, li_M, un_s, un_n, ba_ap, ba_upd, ba_in, cT_le, cF_le, cT_lt, cF_lt, cT_eq, cF_eq, nb_1, nb_2, ns_1, ns_2, nz_1, nz_2, ng_1, ng_2, ng_3, ng_4, ng_5, nI_clamp, nI_add, pk_mul, pk_sub, forall_eq, true_and, and_true, true_imp_iff, false_imp_iff, not_true_eq_false, not_false_eq_true, implies_true]
          exact yn
      · by_cases hs : s ≤ ga_latest a c
        · obtain ⟨n1, n2⟩ := y_len I S hc hs
          have eix : 36 * c + 3 * s + j = 3 * (12 * c + s) + j := by omega
          have ey : ∀ post : Int32 → Prop, wpY_lock post (mY a y) (nI c) (nI s) (nI j) v4 = ((nI j < nI (gy_lks y (12 * c + s)) → wY_lock_113 post v4 (nI 0) (nI (3 * (12 * c + s) + j)) (nI (ga_now a)) (ga_spent a) (nI (ga_ch a)) (nI (gy_len y)) (cN (ga_coins a)) (cN (ga_base a)) (cN (ga_rate a)) (ga_guard a) (ga_knows a) (cN (ga_up a)) (cN (ga_who a)) (cN (ga_status a)) (cN (ga_latest a)) (cN (ga_publd a)) (cN (gy_ypub y)) (cN (ga_since a)) (cN (ga_held a)) (cN (gy_outn y)) (cN (ga_bal a)) (cN (gy_lks y)) (cN (gy_yf y)) (cN (gy_ya y)) (cN (gy_ys y)) (cN (gy_ye y)) (cN (gy_qf y)) (cN (gy_qa y)) (cN (gy_qs y)) (cN (gy_qe y)) (gy_way y) (cN (gy_part y)) (cN (gy_ysum y)) (cN (gy_bst y)) (cN (gy_bsm y))) ∧ (¬ nI j < nI (gy_lks y (12 * c + s)) → post (-nI 1))) := by
            intro post
            simp (disch := omega) only [wpY_lock, yw_isChannel, mY, wY_lock_39, wY_lock_80, eix, li_0, li_1, li_2, li_3, li_4, li_5, li_6, li_7, li_8, li_9, li_10, li_11, li_12, li_15, li_16, li_20, li_21, li_24, li_31, li_36, li_100, li_255, li_256, li_1000, li_6000, li_M, un_s, un_n, ba_ap, ba_upd, ba_in, cT_le, cF_le, cT_lt, cF_lt, cT_eq, cF_eq, nb_1, nb_2, ns_1, ns_2, nz_1, nz_2, ng_1, ng_2, ng_3, ng_4, ng_5, nI_clamp, nI_add, pk_mul, pk_sub, forall_eq, true_and, and_true, true_imp_iff, false_imp_iff, not_true_eq_false, not_false_eq_true, implies_true]
          have e : (fun r => wpY_lock (fun r' => r' = r ∧ P) (mY a y) (nI c) (nI s) (nI j) v4) = (fun r => ((nI j < nI (gy_lks y (12 * c + s)) → wY_lock_113 (fun r' => r' = r ∧ P) v4 (nI 0) (nI (3 * (12 * c + s) + j)) (nI (ga_now a)) (ga_spent a) (nI (ga_ch a)) (nI (gy_len y)) (cN (ga_coins a)) (cN (ga_base a)) (cN (ga_rate a)) (ga_guard a) (ga_knows a) (cN (ga_up a)) (cN (ga_who a)) (cN (ga_status a)) (cN (ga_latest a)) (cN (ga_publd a)) (cN (gy_ypub y)) (cN (ga_since a)) (cN (ga_held a)) (cN (gy_outn y)) (cN (ga_bal a)) (cN (gy_lks y)) (cN (gy_yf y)) (cN (gy_ya y)) (cN (gy_ys y)) (cN (gy_ye y)) (cN (gy_qf y)) (cN (gy_qa y)) (cN (gy_qs y)) (cN (gy_qe y)) (gy_way y) (cN (gy_part y)) (cN (gy_ysum y)) (cN (gy_bst y)) (cN (gy_bsm y))) ∧ (¬ nI j < nI (gy_lks y (12 * c + s)) → (fun r' => r' = r ∧ P) (-nI 1)))) := funext fun r => ey _
          rw [e]
          have q := lk_fin (a := a) (x := x) (y := y) (c := c) (j := j) (n := gy_lks y (12 * c + s)) (z := 3 * (12 * c + s)) (l := ids (gx_many x c) (xT x c) s) (F := yF y) (v := v4) (o := nI 0) (P := P) c8 (ids_srt _ _ _) (ids_11 I R hc) hj n2 (by rw [← (R.1 c hc).1.2.2.2 s hs]; exact (S c hc).1 s hs) fin (fun post w hw hv hjn => (y_l113.2 w hw hv).1 (by omega))
          generalize (fun r => ((nI j < nI (gy_lks y (12 * c + s)) → wY_lock_113 (fun r' => r' = r ∧ P) v4 (nI 0) (nI (3 * (12 * c + s) + j)) (nI (ga_now a)) (ga_spent a) (nI (ga_ch a)) (nI (gy_len y)) (cN (ga_coins a)) (cN (ga_base a)) (cN (ga_rate a)) (ga_guard a) (ga_knows a) (cN (ga_up a)) (cN (ga_who a)) (cN (ga_status a)) (cN (ga_latest a)) (cN (ga_publd a)) (cN (gy_ypub y)) (cN (ga_since a)) (cN (ga_held a)) (cN (gy_outn y)) (cN (ga_bal a)) (cN (gy_lks y)) (cN (gy_yf y)) (cN (gy_ya y)) (cN (gy_ys y)) (cN (gy_ye y)) (cN (gy_qf y)) (cN (gy_qa y)) (cN (gy_qs y)) (cN (gy_qe y)) (gy_way y) (cN (gy_part y)) (cN (gy_ysum y)) (cN (gy_bst y)) (cN (gy_bsm y))) ∧ (¬ nI j < nI (gy_lks y (12 * c + s)) → (fun r' => r' = r ∧ P) (-nI 1)))) = Q at q ⊢
          simp (disch := omega) only [wpX_lock, xw_isChannel, mX, wX_lock_37, xw_rowOf c8 (show s < 12 by omega) hm (x_bd I R hc), li_0, li_1, li_2, li_3, li_4, li_5, li_6, li_7, li_8, li_9, li_10, li_11, li_12, li_15, li_16, li_20, li_21, li_24, li_31, li_36, li_100, li_255, li_256, li_1000, li_6000, li_M, un_s, un_n, ba_ap, ba_upd, ba_in, cT_le, cF_le, cT_lt, cF_lt, cT_eq, cF_eq, nb_1, nb_2, ns_1, ns_2, nz_1, nz_2, ng_1, ng_2, ng_3, ng_4, ng_5, nI_clamp, nI_add, pk_mul, pk_sub, forall_eq, true_and, and_true, true_imp_iff, false_imp_iff, not_true_eq_false, not_false_eq_true, implies_true]
          exact q
        · have yn : wpY_lock (fun r' => r' = -nI 1 ∧ P) (mY a y) (nI c) (nI s) (nI j) v4 := by
            simp (disch := omega) only [wpY_lock, yw_isChannel, mY, r1', li_0, li_1, li_2, li_3, li_4, li_5, li_6, li_7, li_8, li_9, li_10, li_11, li_12, li_15, li_16, li_20, li_21, li_24, li_31, li_36, li_100, li_255, li_256, li_1000, li_6000, li_M, un_s, un_n, ba_ap, ba_upd, ba_in, cT_le, cF_le, cT_lt, cF_lt, cT_eq, cF_eq, nb_1, nb_2, ns_1, ns_2, nz_1, nz_2, ng_1, ng_2, ng_3, ng_4, ng_5, nI_clamp, nI_add, pk_mul, pk_sub, forall_eq, true_and, and_true, true_imp_iff, false_imp_iff, not_true_eq_false, not_false_eq_true, implies_true]
            exact fin
          simp (disch := omega) only [wpX_lock, xw_isChannel, mX, li_0, li_1, li_2, li_3, li_4, li_5, li_6, li_7, li_8, li_9, li_10, li_11, li_12, li_15, li_16, li_20, li_21, li_24, li_31, li_36, li_100, li_255, li_256, li_1000, li_6000, li_M, un_s, un_n, ba_ap, ba_upd, ba_in, cT_le, cF_le, cT_lt, cF_lt, cT_eq, cF_eq, nb_1, nb_2, ns_1, ns_2, nz_1, nz_2, ng_1, ng_2, ng_3, ng_4, ng_5, nI_clamp, nI_add, pk_mul, pk_sub, forall_eq, true_and, and_true, true_imp_iff, false_imp_iff, not_true_eq_false, not_false_eq_true, implies_true]
          exact yn
  · simp (disch := omega) only [wpX_lock, wpX_isChannel, mX, xw_inF, wpY_lock, wpY_isChannel, mY, r1', li_0, li_1, li_2, li_3, li_4, li_5, li_6, li_7, li_8, li_9, li_10, li_11, li_12, li_15, li_16, li_20, li_21, li_24, li_31, li_36, li_100, li_255, li_256, li_1000, li_6000, li_M, un_s, un_n, ba_ap, ba_upd, ba_in, cT_le, cF_le, cT_lt, cF_lt, cT_eq, cF_eq, nb_1, nb_2, ns_1, ns_2, nz_1, nz_2, ng_1, ng_2, ng_3, ng_4, ng_5, nI_clamp, nI_add, pk_mul, pk_sub, forall_eq, true_and, and_true, true_imp_iff, false_imp_iff, not_true_eq_false, not_false_eq_true, implies_true]
    exact fin
def u6 (v : Nat) : Nat → Nat := un (un (un (un (un (un (fun _ => 0) 0 v) 1 v) 2 v) 3 v) 4 v) 5 v
theorem i_vc0 : wpX_init (fun u => wpY_init (fun v => i_Rel 0 u v)) := by
  have z : (fun _ : Nat => (0 : Int32)) = cN (fun _ => 0) := rfl
  unfold wpX_init
  refine ⟨7, ?_⟩
  rw [z]
  simp (disch := omega) only [wX_init_213, nb_m, Nat.reduceAdd, li_0, li_1, li_2, li_3, li_4, li_5, li_6, li_7, li_8, li_9, li_10, li_11, li_12, li_15, li_16, li_20, li_21, li_24, li_31, li_36, li_100, li_255, li_256, li_1000, li_6000, li_M, un_s, un_n, ba_ap, ba_upd, ba_in, cT_le, cF_le, cT_lt, cF_lt, cT_eq, cF_eq, nb_1, nb_2, ns_1, ns_2, nz_1, nz_2, ng_1, ng_2, ng_3, ng_4, ng_5, nI_clamp, nI_add, pk_mul, pk_sub, forall_eq, true_and, and_true, true_imp_iff, false_imp_iff, not_true_eq_false, not_false_eq_true, implies_true]
  unfold wpY_init
  refine ⟨7, ?_⟩
  rw [z]
  simp (disch := omega) only [wY_init_239, Nat.reduceAdd, li_0, li_1, li_2, li_3, li_4, li_5, li_6, li_7, li_8, li_9, li_10, li_11, li_12, li_15, li_16, li_20, li_21, li_24, li_31, li_36, li_100, li_255, li_256, li_1000, li_6000, li_M, un_s, un_n, ba_ap, ba_upd, ba_in, cT_le, cF_le, cT_lt, cF_lt, cT_eq, cF_eq, nb_1, nb_2, ns_1, ns_2, nz_1, nz_2, ng_1, ng_2, ng_3, ng_4, ng_5, nI_clamp, nI_add, pk_mul, pk_sub, forall_eq, true_and, and_true, true_imp_iff, false_imp_iff, not_true_eq_false, not_false_eq_true, implies_true]
  refine ⟨(nI 0, 0, 0, u6 1000, u6 1, cN (fun _ => 0), u6 1, (fun _ => 0), upd (upd (upd (upd (upd (upd (cN (fun _ => 0)) 0 (-nI 1)) 1 (-nI 1)) 2 (-nI 1)) 3 (-nI 1)) 4 (-nI 1)) 5 (-nI 1), (fun _ => 0), (fun _ => 0), (fun _ => 0), (fun _ => 0), (fun _ => 0), (fun _ => 0), (fun _ => 0), (fun _ => 0), (fun _ _ => []), (fun _ => [])), (0, 0, 0, (fun _ => 0), (fun _ => 0), (fun _ => 0), (fun _ => 0), (fun _ => 0), (fun _ => 0), (fun _ => 0), (fun _ => 0), (fun _ => 0), (fun _ => 0), (fun _ => 0), (fun _ => 0)), (0, (fun _ => 0), (fun _ => 0), (fun _ => 0), (fun _ => 0), (fun _ => 0), (fun _ => 0), (fun _ => 0), (fun _ => 0), (fun _ => 0), (fun _ => 0), (fun _ => 0), cN (fun _ => 0), (fun _ => 0), (fun _ => 0), (fun _ => 0), (fun _ => 0)), rfl, rfl, ⟨Nat.zero_le _, Nat.zero_le _, ?_, fun _ _ => rfl, fun c hc => absurd hc (Nat.not_lt_zero _), rfl⟩, ⟨fun c hc => absurd hc (Nat.not_lt_zero _), Or.inl rfl⟩, fun c hc => absurd hc (Nat.not_lt_zero _)⟩
  show ∀ p, p < 6 → u6 1 p < 2 ∧ u6 1 p < 10 ∧ (0 : Nat) < 21
  decide
end
