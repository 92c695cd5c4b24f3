section
/-! rows of kit/rows, pasted -/
theorem pk_us {f : Nat → Int32} {k : Nat} {x : Int32} : upd f k x k = x := if_pos rfl
theorem pk_un {f : Nat → Int32} {k j : Nat} {x : Int32} (h : j ≠ k) : upd f k x j = f j := if_neg h
theorem pk_uLs {f : Nat → Int64} {k : Nat} {x : Int64} : vp_updL f k x k = x := if_pos rfl
theorem pk_uLn {f : Nat → Int64} {k j : Nat} {x : Int64} (h : j ≠ k) : vp_updL f k x j = f j := if_neg h
theorem pk_m1 (n : Nat) : nI (n + 1) + (-1) = nI n := by
  rw [← nI_1, Int32.add_assoc, show (1 : Int32) + (-1) = 0 from rfl, Int32.add_zero]
theorem pk_mul (a b : Nat) : nI a * nI b = nI (a * b) := (Int32.ofNat_mul a b).symm
theorem pk_in {x : Int32} (n N : Nat) (h : n < N) (hx : x = nI n := by rfl) (hN : N < 2 ^ 31 := by omega) : vp_in x N := by
  subst hx
  exact vp_in_nI h hN
theorem pk_cl {x : Int32} (n : Nat) (hx : x = nI n := by rfl) (h : n < 2 ^ 31 := by omega) : x.toNatClampNeg = n := by
  subst hx
  exact nI_clamp h
theorem pk_tn {n : Nat} (h : n < 2 ^ 32) : (nI n).toBitVec.toNat = n := Nat.mod_eq_of_lt h
theorem pk_and (x : Int32) {m : Int32} (k : Nat) (hm : m.toBitVec.toNat = 2 ^ k - 1) : x &&& m = nI (x.toBitVec.toNat % 2 ^ k) := by
  apply Int32.toBitVec_inj.mp
  apply BitVec.eq_of_toNat_eq
  rw [Int32.toBitVec_and, BitVec.toNat_and, hm, Nat.and_two_pow_sub_one_eq_mod]
  show _ = (BitVec.ofNat 32 _).toNat
  rw [BitVec.toNat_ofNat]
  exact (Nat.mod_eq_of_lt (Nat.lt_of_le_of_lt (Nat.mod_le _ _) x.toBitVec.isLt)).symm
theorem pk_charN {q : Nat} (hq : q < 65536) : narrow .char (.int (nI q)) = .int (nI q) ∧ fits .char (.int (nI q)) = true := by
  constructor
  · have e : (nI q).toUInt32.toUInt16.toUInt32.toInt32 = nI q := by
      apply Int32.toBitVec_inj.mp
      apply BitVec.eq_of_toNat_eq
      show (nI q).toUInt32.toUInt16.toUInt32.toNat = q % 2 ^ 32
      rw [UInt16.toNat_toUInt32, UInt32.toNat_toUInt16, show (nI q).toUInt32.toNat = q % 2 ^ 32 from rfl]
      omega
    exact congrArg Value.int e
  · have a : (0 : Int32) ≤ nI q := nI_pos' (by omega)
    have b : nI q ≤ 65535 := nI_le (b := 65535) (by omega) (by decide)
    show (decide ((0 : Int32) ≤ nI q) && decide (nI q ≤ 65535)) = true
    rw [decide_eq_true a, decide_eq_true b]
    rfl
theorem pk_char (x : Int32) : (x.toUInt32 % 65536).toInt32 = nI (x.toBitVec.toNat % 65536) := by
  apply Int32.toBitVec_inj.mp
  apply BitVec.eq_of_toNat_eq
  rw [pk_tn (by omega)]
  show (x.toUInt32 % 65536).toNat = _
  rw [UInt32.toNat_mod]
  rfl
theorem pk_nc (x : Int32) : narrow .char (.int (x.toUInt32 % 65536).toInt32) = .int (x.toUInt32 % 65536).toInt32 := by
  rw [pk_char]
  exact (pk_charN (Nat.mod_lt _ (by decide))).1
theorem pk_vb (z : Int32) : vp_nar .byte z.toInt8.toInt32 = z.toInt8.toInt32 := by rw [vp_nar_byte]; simp
theorem pk_vs (z : Int32) : vp_nar .short z.toInt16.toInt32 = z.toInt16.toInt32 := by rw [vp_nar_short]; simp
theorem pk_vc (z : Int32) : vp_nar .char (z.toUInt32 % 65536).toInt32 = (z.toUInt32 % 65536).toInt32 := Value.int.inj (pk_nc z)
def bt (x : Int32) (i : Nat) : Bool := x.toBitVec.getLsbD i
theorem b_ext {x y : Int32} (h : ∀ i, i < 32 → bt x i = bt y i) : x = y := Int32.toBitVec_inj.mp (BitVec.eq_of_getLsbD_eq (fun i hi => h i hi))
theorem b_and (x y : Int32) (i : Nat) : bt (x &&& y) i = (bt x i && bt y i) := by unfold bt; rw [Int32.toBitVec_and, BitVec.getLsbD_and]
theorem b_big {x : Int32} {i : Nat} (h : 32 ≤ i) : bt x i = false := BitVec.getLsbD_of_ge _ _ h
theorem b_65535 (i : Nat) : bt 65535 i = decide (i < 16) := by
  rcases Nat.lt_or_ge i 32 with h | h
  · exact (by decide +kernel : ∀ i, i < 32 → bt 65535 i = decide (i < 16)) i h
  · rw [b_big h, decide_eq_false (by omega)]
theorem bp_b (x : Int32) : x.toInt8.toInt32 &&& 255 = x &&& 255 := by
  apply Int32.toBitVec_inj.mp
  rw [Int32.toBitVec_and, Int32.toBitVec_and, Int8.toBitVec_toInt32, Int32.toBitVec_toInt8]
  apply BitVec.eq_of_getLsbD_eq
  intro i hi
  rw [BitVec.getLsbD_and, BitVec.getLsbD_and]
  have hm : ∀ i < 32, 8 ≤ i → (255 : Int32).toBitVec.getLsbD i = false := by decide
  rcases Nat.lt_or_ge i 8 with z | z
  · rw [BitVec.getLsbD_signExtend, BitVec.getLsbD_signExtend, if_pos z, if_pos hi]
    simp only [z, hi, decide_true, Bool.true_and]
  · rw [hm i hi z]; simp
theorem wb_tb (n : Nat) : (lN n).toBitVec = BitVec.ofNat 64 n := rfl
theorem wb_inj {a b : Int64} (h : a.toBitVec = b.toBitVec) : a = b := Int64.toBitVec_inj.mp h
theorem wb_tn {n : Nat} (h : n < 2 ^ 64) : (lN n).toBitVec.toNat = n := by rw [wb_tb, BitVec.toNat_ofNat, Nat.mod_eq_of_lt h]
theorem wb_of (x : Int64) : ∃ n, n < 2 ^ 64 ∧ x = lN n := ⟨x.toBitVec.toNat, x.toBitVec.isLt, wb_inj (by rw [wb_tb]; simp)⟩
theorem wb_of32 (x : Int32) : ∃ n, n < 2 ^ 32 ∧ x = nI n := ⟨x.toBitVec.toNat, x.toBitVec.isLt, Int32.toBitVec_inj.mp (by show _ = BitVec.ofNat 32 _; simp)⟩
theorem wb_c : ∀ k, k < 64 → ((nI k).toInt64 &&& 63) = lN k := by decide +kernel
theorem wb_sm : ∀ k, k < 64 → (BitVec.ofNat 64 k).smod 64 = BitVec.ofNat 64 k := by decide +kernel
theorem wb_pw {a b : Nat} (h : a ≤ b) : 2 ^ b = 2 ^ a * 2 ^ (b - a) := by rw [← Nat.pow_add]; congr 1; omega
theorem wb_lt2 {a b : Nat} (h : a < b) : 2 ^ a < 2 ^ b := Nat.pow_lt_pow_right (by decide) h
theorem wb_mod (n : Nat) : lN n = lN (n % 2 ^ 64) := wb_inj (by rw [wb_tb, wb_tb]; apply BitVec.eq_of_toNat_eq; rw [BitVec.toNat_ofNat, BitVec.toNat_ofNat, Nat.mod_mod])
theorem wb_shl (n : Nat) {k : Nat} (hk : k < 64) : lN n <<< ((nI k).toInt64 &&& 63) = lN (n * 2 ^ k) := by
  rw [wb_c k hk]
  apply wb_inj
  rw [Int64.toBitVec_shiftLeft, wb_tb, wb_tb, wb_tb, wb_sm k hk]
  apply BitVec.eq_of_toNat_eq
  rw [BitVec.shiftLeft_eq', BitVec.toNat_shiftLeft, BitVec.toNat_ofNat, BitVec.toNat_ofNat, BitVec.toNat_ofNat, Nat.mod_eq_of_lt (show k < 2 ^ 64 by omega), Nat.shiftLeft_eq, Nat.mul_mod, Nat.mod_mod, ← Nat.mul_mod]
theorem wb_and {a b : Nat} (ha : a < 2 ^ 64) (hb : b < 2 ^ 64) : lN a &&& lN b = lN (a &&& b) := by
  apply wb_inj
  rw [Int64.toBitVec_and, wb_tb, wb_tb, wb_tb]
  apply BitVec.eq_of_toNat_eq
  rw [BitVec.toNat_and, BitVec.toNat_ofNat, BitVec.toNat_ofNat, BitVec.toNat_ofNat, Nat.mod_eq_of_lt ha, Nat.mod_eq_of_lt hb, Nat.mod_eq_of_lt (Nat.and_lt_two_pow _ hb)]
theorem wb_mask {n k : Nat} (hn : n < 2 ^ 64) (hk : k < 64) : lN n &&& lN (2 ^ k - 1) = lN (n % 2 ^ k) := by
  rw [wb_and hn (by have := wb_lt2 hk; omega), Nat.and_two_pow_sub_one_eq_mod]
end
section
/-! numbers of this claim: the two codes of a datum, times 31, the top of the stack, small narrows -/
theorem cn_lm (n : Nat) : (lN n).toInt32 = nI n := lN_i n
theorem cn_nm (n : Nat) (m : Int32) (k : Nat) (hk : k ≤ 32) (hm : m.toBitVec.toNat = 2 ^ k - 1) : nI n &&& m = nI (n % 2 ^ k) := by
  rw [pk_and (nI n) k hm]
  have e : (nI n).toBitVec.toNat = n % 2 ^ 32 := rfl
  rw [e, Nat.mod_mod_of_dvd n (Nat.pow_dvd_pow 2 hk)]
theorem cn_and3 (x : Int64) : (x &&& 3) = 0 ↔ (x.toInt32 &&& 3) = 0 := by
  obtain ⟨n, hn, rfl⟩ := wb_of x
  have a : lN n &&& 3 = lN (n % 4) := wb_mask (k := 2) hn (by decide)
  have b : nI n &&& 3 = nI (n % 4) := cn_nm n 3 2 (by decide) (by decide)
  have h1 : lN (n % 4) = 0 ↔ n % 4 = 0 := lN_eq (a := n % 4) (b := 0) (by omega) (by omega)
  have h2 : nI (n % 4) = 0 ↔ n % 4 = 0 := nI_eq (a := n % 4) (b := 0) (by omega) (by omega)
  rw [cn_lm, a, b, h1, h2]
theorem cn_sh (x : Int32) : x.toInt16.toInt32 &&& 65535 = x &&& 65535 := by
  apply Int32.toBitVec_inj.mp
  rw [Int32.toBitVec_and, Int32.toBitVec_and, Int16.toBitVec_toInt32, Int32.toBitVec_toInt16]
  apply BitVec.eq_of_getLsbD_eq
  intro i hi
  rw [BitVec.getLsbD_and, BitVec.getLsbD_and]
  have hm : ∀ i < 32, 16 ≤ i → (65535 : Int32).toBitVec.getLsbD i = false := by decide
  rcases Nat.lt_or_ge i 16 with z | z
  · rw [BitVec.getLsbD_signExtend, BitVec.getLsbD_signExtend, if_pos z, if_pos hi]
    simp only [z, hi, decide_true, Bool.true_and]
  · rw [hm i hi z]; simp
theorem cn_code (x : Int64) : (vp_nar .short x.toInt32.toInt16.toInt32) &&& 65535 = (x &&& 65535).toInt32 := by
  rw [pk_vs, cn_sh]
  obtain ⟨n, hn, rfl⟩ := wb_of x
  have a : lN n &&& 65535 = lN (n % 65536) := wb_mask (k := 16) hn (by decide)
  have b : nI n &&& 65535 = nI (n % 65536) := cn_nm n 65535 16 (by decide) (by decide)
  rw [cn_lm, a, b, cn_lm]
theorem cn_shl5 (w : Int64) : w <<< ((5 : Int32).toInt64 &&& 63) = w * 32 := by
  obtain ⟨n, hn, rfl⟩ := wb_of w
  have a : lN n <<< ((nI 5).toInt64 &&& 63) = lN (n * 2 ^ 5) := wb_shl n (by decide)
  have b : lN n * lN 32 = lN (n * 32) := lN_mul n 32
  exact a.trans b.symm
theorem cn_31 (w : Int64) : (w <<< ((5 : Int32).toInt64 &&& 63)) - w = w * 31 := by
  rw [cn_shl5]
  grind
theorem cn_b0 : vp_nar .boolean 0 = 0 := rfl
theorem cn_b1 : vp_nar .boolean 1 = 1 := rfl
theorem cn_byte : ∀ j, j < 8 → (nI j).toInt8.toInt32 = nI j := by decide +kernel
theorem cn_vb (j : Nat) (h : j < 8) : vp_nar .byte (nI j).toInt8.toInt32 = nI j := by rw [pk_vb, cn_byte j h]
theorem cn_vc (c : Nat) (h : c < 6) : vp_nar .char ((nI c).toUInt32 % 65536).toInt32 = nI c := by
  rw [pk_vc, pk_char, pk_tn (by omega), Nat.mod_eq_of_lt (by omega)]
theorem cn_short1 : vp_nar .short (((0 : Int32) + 1).toInt16.toInt32) = 1 := by rw [pk_vs]; decide
theorem cn_ix (t p : Nat) : nI t * 4 + nI p = nI (4 * t + p) := by
  have e : nI t * 4 = nI (t * 4) := pk_mul t 4
  rw [e, nI_add, Nat.mul_comm]
/-- the component's stack pointer at d frames -/
def cn_sp (d : Nat) : Int32 := nI d + (-1)
theorem cn_sp0 : cn_sp 0 = -1 := by decide
theorem cn_spS (d : Nat) : cn_sp (d + 1) = nI d := pk_m1 d
theorem cn_spP (d : Nat) : cn_sp d + 1 = nI d := by
  unfold cn_sp
  rw [Int32.add_assoc, show (-1 : Int32) + 1 = 0 from rfl, Int32.add_zero]
theorem cn_spN (d : Nat) : nI d + (-1) = cn_sp d := rfl
theorem cn_yp (d : Nat) : nI (d + 1) - 1 = nI d := nI_pred d
/-- what a thrown outcome looks like as a long -/
def cn_thr (a b c : Int32) : Int64 := (((-9223372036854775808) ||| (a.toInt64 <<< ((32 : Int32).toInt64 &&& 63))) ||| (b.toInt64 <<< ((16 : Int32).toInt64 &&& 63))) ||| c.toInt64
end
section
/-! the pure picture: what both sides hold alike, the frames, the measure -/
def cn_Sta (m : Nat) (kd pl : Nat → Int32) (da : Nat → Int64) (ar ac co : Nat → Int32) (q : Nat → Nat) : Prop :=
  m ≤ 6 ∧ (∀ c, c < m → kd c = 0 → ¬ pl c = 3 → pl c = 0) ∧ (∀ c, ac c = nI (q c)) ∧ (∀ c, q c ≤ 4) ∧ (∀ c p, c < m → p < q c → ∃ j, j < m ∧ ar (4 * c + p) = nI j) ∧ (∀ c, co c &&& 65535 = (da c &&& 65535).toInt32) ∧ (∀ c, m ≤ c → q c = 0)
def cn_Dyn (m : Nat) (ke : Nat → Int32) (ou : Nat → Int64) (ru : Nat → Int32) : Prop :=
  (∀ c, m ≤ c → ke c = 0) ∧ (∀ c, m ≤ c → ou c = 0) ∧ (∀ c, ke c = 0 → ru c = 0)
/-- a sum over the six entries -/
def cn_sum (w : Nat → Nat) : Nat := w 0 + w 1 + w 2 + w 3 + w 4 + w 5
theorem cn_sum_one {w w' : Nat → Nat} {t : Nat} (ht : t < 6) (he : ∀ j, j ≠ t → w' j = w j) : cn_sum w' + w t = cn_sum w + w' t := by
  have f : ∀ j, j = t ∨ w' j = w j := fun j => by
    by_cases e : j = t
    · exact Or.inl e
    · exact Or.inr (he j e)
  have h0 := f 0
  have h1 := f 1
  have h2 := f 2
  have h3 := f 3
  have h4 := f 4
  have h5 := f 5
  clear f he
  unfold cn_sum
  have h : t = 0 ∨ t = 1 ∨ t = 2 ∨ t = 3 ∨ t = 4 ∨ t = 5 := by omega
  rcases h with rfl | rfl | rfl | rfl | rfl | rfl <;> omega
theorem cn_sum_le {w : Nat → Nat} (h : ∀ j, w j ≤ 1) : cn_sum w ≤ 6 := by
  have h0 := h 0
  have h1 := h 1
  have h2 := h 2
  have h3 := h 3
  have h4 := h 4
  have h5 := h 5
  clear h
  unfold cn_sum
  omega
theorem cn_sum_mono {w w' : Nat → Nat} (h : ∀ j, w' j ≤ w j) : cn_sum w' ≤ cn_sum w := by
  have h0 := h 0
  have h1 := h 1
  have h2 := h 2
  have h3 := h 3
  have h4 := h 4
  have h5 := h 5
  clear h
  unfold cn_sum
  omega
theorem cn_sum_lt {w w' : Nat → Nat} {t : Nat} (ht : t < 6) (he : ∀ j, j ≠ t → w' j = w j) (h : w' t < w t) : cn_sum w' < cn_sum w := by
  have := cn_sum_one ht he
  omega
def cn_bz (f : Nat → Int32) (c : Nat) : Nat := if f c = 0 then 0 else 1
theorem cn_bz_le (f : Nat → Int32) (c : Nat) : cn_bz f c ≤ 1 := by
  unfold cn_bz
  split <;> omega
theorem cn_bz0 {f : Nat → Int32} {c : Nat} (h : f c = 0) : cn_bz f c = 0 := if_pos h
theorem cn_bz1 {f : Nat → Int32} {c : Nat} (h : ¬ f c = 0) : cn_bz f c = 1 := if_neg h
theorem cn_bzn {f : Nat → Int32} {c j : Nat} {x : Int32} (h : j ≠ c) : cn_bz (upd f c x) j = cn_bz f j := by
  unfold cn_bz
  rw [pk_un h]
/-- what an entry still owes -/
def cn_w (q : Nat → Nat) (ke ip pX : Nat → Int32) (c : Nat) : Nat := if ke c = 0 then (if ip c = 0 then q c + 2 else 1 + (q c - (pX c).toNatClampNeg)) else 0
def cn_M (q : Nat → Nat) (ke ip pX : Nat → Int32) : Nat := cn_sum (cn_w q ke ip pX)
def cn_gu (g : Nat → Nat) (d c : Nat) : Nat → Nat := fun k => if k = d then c else g k
theorem cn_gus {g : Nat → Nat} {d c : Nat} : cn_gu g d c d = c := if_pos rfl
theorem cn_gun {g : Nat → Nat} {d c k : Nat} (h : k ≠ d) : cn_gu g d c k = g k := if_neg h
/-- the frames 0 .. d-1: entry g k in frame k -/
def cn_Fb (m d : Nat) (g : Nat → Nat) (pl ke ip st bu : Nat → Int32) : Prop :=
  (∀ k, k < d → g k < m ∧ st k = nI (g k) ∧ bu k = nI (g k) ∧ ¬ pl (g k) = 3 ∧ ke (g k) = 0) ∧ (∀ a b, a < b → b < d → g a ≠ g b) ∧ (∀ c, ¬ ip c = 0 ↔ ∃ k, k < d ∧ g k = c) ∧ cn_sum (cn_bz ip) = d
/-- frames that wait for an answer: the reference has counted the argument already -/
def cn_Fo (d : Nat) (g q : Nat → Nat) (pX pY : Nat → Int32) (aX aY : Nat → Int64) : Prop :=
  ∀ k, k < d → ∃ p, p < q (g k) ∧ pX (g k) = nI p ∧ pY k = nI (p + 1) ∧ aY k = aX (g k)
section
variable {m d : Nat} {g q : Nat → Nat} {pl ke ip st bu pX pY : Nat → Int32} {aX aY : Nat → Int64}
theorem cn_Fb_le (h : cn_Fb m d g pl ke ip st bu) : d ≤ 6 := by
  have := cn_sum_le (cn_bz_le ip)
  have e := h.2.2.2
  omega
theorem cn_Fb_0 (h : ∀ c, ip c = 0) : cn_Fb m 0 g pl ke ip st bu := by
  refine ⟨fun k hk => absurd hk (Nat.not_lt_zero k), fun a b _ hb => absurd hb (Nat.not_lt_zero b), fun c => ⟨fun z => absurd (h c) z, fun ⟨k, hk, _⟩ => absurd hk (Nat.not_lt_zero k)⟩, ?_⟩
  unfold cn_sum
  rw [cn_bz0 (h 0), cn_bz0 (h 1), cn_bz0 (h 2), cn_bz0 (h 3), cn_bz0 (h 4), cn_bz0 (h 5)]
theorem cn_Fb_ip (h : cn_Fb m d g pl ke ip st bu) {k : Nat} (hk : k < d) : ¬ ip (g k) = 0 := (h.2.2.1 (g k)).mpr ⟨k, hk, rfl⟩
theorem cn_Fb_end (h : cn_Fb m 0 g pl ke ip st bu) (c : Nat) : ip c = 0 := by
  by_cases e : ip c = 0
  · exact e
  · obtain ⟨k, hk, _⟩ := (h.2.2.1 c).mp e
    exact absurd hk (Nat.not_lt_zero k)
theorem cn_Fb_pop (hm : m ≤ 6) (h : cn_Fb m (d + 1) g pl ke ip st bu) : cn_Fb m d g pl (upd ke (g d) 1) (upd ip (g d) 0) st bu := by
  have hi := cn_Fb_ip h (Nat.lt_succ_self d)
  obtain ⟨h1, h2, h3, h4⟩ := h
  refine ⟨fun k hk => ?_, fun a b ha hb => h2 a b ha (by omega), fun c => ?_, ?_⟩
  · obtain ⟨a, b, c, e, f⟩ := h1 k (by omega)
    exact ⟨a, b, c, e, by rw [pk_un (h2 k d hk (Nat.lt_succ_self d))]; exact f⟩
  · by_cases e : c = g d
    · subst e
      rw [pk_us]
      exact ⟨fun z => absurd rfl z, fun ⟨k, hk, ek⟩ => absurd ek (h2 k d hk (Nat.lt_succ_self d))⟩
    · rw [pk_un e, h3 c]
      constructor
      · rintro ⟨k, hk, ek⟩
        have : k ≠ d := fun z => e (by rw [← ek, z])
        exact ⟨k, by omega, ek⟩
      · rintro ⟨k, hk, ek⟩
        exact ⟨k, by omega, ek⟩
  · have t := (h1 d (Nat.lt_succ_self d)).1
    have s := cn_sum_one (w := cn_bz ip) (w' := cn_bz (upd ip (g d) 0)) (t := g d) (by omega) (fun j hj => cn_bzn hj)
    rw [cn_bz1 hi, cn_bz0 (f := upd ip (g d) 0) pk_us, h4] at s
    omega
theorem cn_Fb_push (hm : m ≤ 6) {c : Nat} (hc : c < m) (h : cn_Fb m d g pl ke ip st bu) (hk : ke c = 0) (hi : ip c = 0) (hp : ¬ pl c = 3) : d < 6 ∧ cn_Fb m (d + 1) (cn_gu g d c) pl ke (upd ip c 1) (upd st d (nI c)) (upd bu d (nI c)) := by
  have hn : ∀ k, k < d → g k ≠ c := fun k hk e => cn_Fb_ip h hk (by rw [e]; exact hi)
  have z1 : ¬ (1 : Int32) = 0 := by decide
  obtain ⟨h1, h2, h3, h4⟩ := h
  have F : cn_Fb m (d + 1) (cn_gu g d c) pl ke (upd ip c 1) (upd st d (nI c)) (upd bu d (nI c)) := by
    refine ⟨fun k hk' => ?_, fun a b ha hb => ?_, fun j => ?_, ?_⟩
    · by_cases e : k = d
      · subst e
        rw [cn_gus, pk_us, pk_us]
        exact ⟨hc, rfl, rfl, hp, hk⟩
      · rw [cn_gun e, pk_un e, pk_un e]
        exact h1 k (by omega)
    · rw [cn_gun (k := a) (by omega)]
      by_cases e : b = d
      · subst e
        rw [cn_gus]
        exact hn a ha
      · rw [cn_gun e]
        exact h2 a b ha (by omega)
    · by_cases e : j = c
      · subst e
        rw [pk_us]
        exact ⟨fun _ => ⟨d, Nat.lt_succ_self d, cn_gus⟩, fun _ => z1⟩
      · rw [pk_un e, h3 j]
        constructor
        · rintro ⟨k, hk, ek⟩
          exact ⟨k, by omega, by rw [cn_gun (by omega)]; exact ek⟩
        · rintro ⟨k, hk, ek⟩
          have z : k ≠ d := fun z => e (by rw [← ek, z, cn_gus])
          rw [cn_gun z] at ek
          exact ⟨k, by omega, ek⟩
    · have s := cn_sum_one (w := cn_bz ip) (w' := cn_bz (upd ip c 1)) (t := c) (by omega) (fun j hj => cn_bzn hj)
      rw [cn_bz0 hi, cn_bz1 (f := upd ip c 1) (by rw [pk_us]; exact z1), h4] at s
      omega
  exact ⟨cn_Fb_le F, F⟩
theorem cn_Fb_keep {c : Nat} (h : cn_Fb m d g pl ke ip st bu) (hi : ip c = 0) : cn_Fb m d g pl (upd ke c 1) ip st bu := by
  refine ⟨fun k hk => ?_, h.2.1, h.2.2.1, h.2.2.2⟩
  obtain ⟨a, b, e, f, z⟩ := h.1 k hk
  have n : g k ≠ c := fun e => cn_Fb_ip h hk (by rw [e]; exact hi)
  exact ⟨a, b, e, f, by rw [pk_un n]; exact z⟩
theorem cn_Fo_lo (h : cn_Fo (d + 1) g q pX pY aX aY) : cn_Fo d g q pX pY aX aY := fun k hk => h k (by omega)
/-- what changes at the top alone leaves the frames below as they are -/
theorem cn_Fo_top {t d' : Nat} {x y : Int32} {a b : Int64} (hd : d ≤ d') (hn : ∀ k, k < d → g k ≠ t) (h : cn_Fo d g q pX pY aX aY) : cn_Fo d g q (upd pX t x) (upd pY d' y) (vp_updL aX t a) (vp_updL aY d' b) := by
  intro k hk
  obtain ⟨p, h1, h2, h3, h4⟩ := h k hk
  exact ⟨p, h1, by rw [pk_un (hn k hk)]; exact h2, by rw [pk_un (by omega)]; exact h3, by rw [pk_uLn (by omega), pk_uLn (hn k hk)]; exact h4⟩
theorem cn_Fo_X {t : Nat} {x : Int32} {a b : Int64} (hn : ∀ k, k < d → g k ≠ t) (h : cn_Fo d g q pX pY aX aY) : cn_Fo d g q (upd pX t x) pY (vp_updL aX t a) (vp_updL aY d b) := by
  intro k hk
  obtain ⟨p, h1, h2, h3, h4⟩ := h k hk
  exact ⟨p, h1, by rw [pk_un (hn k hk)]; exact h2, h3, by rw [pk_uLn (by omega), pk_uLn (hn k hk)]; exact h4⟩
theorem cn_Fo_aY {b : Int64} (h : cn_Fo d g q pX pY aX aY) : cn_Fo d g q pX pY aX (vp_updL aY d b) := by
  intro k hk
  obtain ⟨p, h1, h2, h3, h4⟩ := h k hk
  exact ⟨p, h1, h2, h3, by rw [pk_uLn (by omega)]; exact h4⟩
theorem cn_Fo_g {c : Nat} (h : cn_Fo d g q pX pY aX aY) : cn_Fo d (cn_gu g d c) q pX pY aX aY := by
  intro k hk
  rw [cn_gun (by omega)]
  exact h k hk
/-- the measure falls -/
theorem cn_M_pop {t : Nat} (ht : t < 6) (hk : ke t = 0) : cn_M q (upd ke t 1) (upd ip t 0) pX < cn_M q ke ip pX := by
  refine cn_sum_lt ht (fun j hj => ?_) ?_
  · unfold cn_w
    rw [pk_un hj, pk_un hj]
  · unfold cn_w
    rw [pk_us, if_neg (by decide), if_pos hk]
    split <;> omega
theorem cn_M_keep {t : Nat} : cn_M q (upd ke t 1) ip pX ≤ cn_M q ke ip pX := by
  refine cn_sum_mono (fun j => ?_)
  by_cases e : j = t
  · subst e
    have : cn_w q (upd ke j 1) ip pX j = 0 := by
      unfold cn_w
      rw [pk_us, if_neg (by decide)]
    omega
  · unfold cn_w
    rw [pk_un e]
    exact Nat.le_refl _
theorem cn_M_back {t p : Nat} (ht : t < 6) (hk : ke t = 0) (hi : ¬ ip t = 0) (hp : p < q t) (hq : q t ≤ 4) (e : pX t = nI p) : cn_M q ke ip (upd pX t (nI (p + 1))) < cn_M q ke ip pX := by
  refine cn_sum_lt ht (fun j hj => ?_) ?_
  · unfold cn_w
    rw [pk_un hj]
  · unfold cn_w
    rw [pk_us, if_pos hk, if_neg hi, if_pos hk, if_neg hi, e, nI_clamp (by omega), nI_clamp (by omega)]
    omega
theorem cn_M_push {t : Nat} (ht : t < 6) (hk : ke t = 0) (hi : ip t = 0) : cn_M q ke (upd ip t 1) (upd pX t 0) < cn_M q ke ip pX := by
  refine cn_sum_lt ht (fun j hj => ?_) ?_
  · unfold cn_w
    rw [pk_un hj, pk_un hj]
  · unfold cn_w
    rw [pk_us, pk_us, if_pos hk, if_pos hk, if_pos hi, if_neg (by decide)]
    omega
end
end
section
/-! the component's steps: at the loop's head (cn_hx), and at the join behind a push or an answer (cn_tx) -/
abbrev cn_hx (post : Int64 → SX → Prop) (m : Nat) (x2 x3 x4 : Int32) (x5 ser : Int64) (kd pl : Nat → Int32) (da : Nat → Int64) (ar ac ke : Nat → Int32) (ou : Nat → Int64) (ru ip st pX : Nat → Int32) (aX : Nat → Int64) : Prop := ∃ n, wX_resolve_26 post (nI m) n x2 x3 x4 x5 ser kd pl da ar ac ke ou ru ip st pX aX
abbrev cn_tx (post : Int64 → SX → Prop) (m : Nat) (x2 x3 : Int32) (x5 ser : Int64) (kd pl : Nat → Int32) (da : Nat → Int64) (ar ac ke : Nat → Int32) (ou : Nat → Int64) (ru ip st pX : Nat → Int32) (aX : Nat → Int64) : Prop := ∃ n, wX_resolve_283 post (wX_resolve_26 post (nI m) n) x2 x3 0 x5 (nI m) ser kd pl da ar ac ke ou ru ip st pX aX
def cn_out (kd pl : Nat → Int32) (da : Nat → Int64) (t : Nat) (v ser : Int64) : Int64 := if kd t = 0 then v &&& 9223372036854775807 else if pl t = 0 then ((v * 31) + ser) &&& 9223372036854775807 else if pl t = 1 then cn_thr (nI t) 6 0 else if (da t &&& 65535).toInt32 &&& 3 = 0 then cn_thr (nI t) 6 (da t &&& 65535).toInt32 else cn_thr (nI t) (da t &&& 65535).toInt32 0
def cn_ser (kd : Nat → Int32) (t : Nat) (ser : Int64) : Int64 := if kd t = 0 then ser else ser + 1
def cn_ru (kd : Nat → Int32) (t : Nat) (ru : Nat → Int32) : Nat → Int32 := if kd t = 0 then ru else upd ru t 1
theorem cn_xthr {K : Int64 → Prop} {u : SX} {a b c : Int32} (h : K (cn_thr a b c)) : wpX_throwable K u a b c := by
  obtain ⟨_, _, _, _, _, _, _, _, _, _, _, _, _, _⟩ := u
  exact h
section
variable {post : Int64 → SX → Prop} {m d c t p q' j : Nat} {x2 x3 x4 f : Int32} {x5 r out ser : Int64} {kd pl : Nat → Int32} {da : Nat → Int64} {ar ac ke : Nat → Int32} {ou : Nat → Int64} {ru ip st pX : Nat → Int32} {aX : Nat → Int64}
variable {J : Int32 → Int32 → Int32 → Int64 → Int64 → (Nat → Int32) → (Nat → Int32) → (Nat → Int64) → (Nat → Int32) → (Nat → Int32) → (Nat → Int32) → (Nat → Int64) → (Nat → Int32) → (Nat → Int32) → (Nat → Int32) → (Nat → Int32) → (Nat → Int64) → Prop}
theorem cn_cl6 (h : c < 6) : (nI c).toNatClampNeg = c := nI_clamp (by omega)
theorem cn_in6 (h : c < 6) : vp_in (nI c) 6 := vp_in_nI h (by decide)
theorem cn_x_ret (h : post r (nI m, ser, kd, pl, da, ar, ac, ke, ou, ru, ip, st, pX, aX)) : cn_hx post m (cn_sp 0) x3 1 r ser kd pl da ar ac ke ou ru ip st pX aX := by
  refine ⟨1, ?_⟩
  have e : ¬ (0 : Int32) ≤ cn_sp 0 := by decide
  exact br_f (by decide) (br_f e h)
theorem cn_x_neg (hd : d < 6) (ht : t < 6) (es : st d = nI t) (hr : ¬ 0 ≤ r) (h : cn_hx post m (cn_sp d) x3 1 r ser kd pl da ar ac (upd ke t 1) (vp_updL ou t r) ru (upd ip t 0) st pX aX) : cn_hx post m (cn_sp (d + 1)) x3 1 r ser kd pl da ar ac ke ou ru ip st pX aX := by
  obtain ⟨n, h⟩ := h
  have ed := cn_cl6 hd
  have et := cn_cl6 ht
  have vd := cn_in6 hd
  have vt := cn_in6 ht
  have e0 : (0 : Int32) ≤ nI d := nI_pos' (by omega)
  rw [cn_spS]
  exact ⟨n + 1, br_f (by decide) (br_t e0 ⟨vd, nm_r (e' := nI t) (by rw [ed]; exact es) (br_f hr ⟨vt, nm_r (e' := upd ke t 1) (by rw [et]; rfl) ⟨vt, nm_r (e' := vp_updL ou t r) (by rw [et]) ⟨vt, nm_r (e' := upd ip t 0) (by rw [et]; rfl) (nm_r (e' := cn_sp d) rfl h)⟩⟩⟩)⟩)⟩
theorem cn_x_back (hd : d < 6) (ht : t < 6) (es : st d = nI t) (ep : pX t = nI p) (hr : 0 ≤ r) (h : cn_tx post m (nI d) x3 r ser kd pl da ar ac ke ou ru ip st (upd pX t (nI (p + 1))) (vp_updL aX t (aX t * 31 + r))) : cn_hx post m (cn_sp (d + 1)) x3 1 r ser kd pl da ar ac ke ou ru ip st pX aX := by
  obtain ⟨n, h⟩ := h
  have ed := cn_cl6 hd
  have et := cn_cl6 ht
  have vd := cn_in6 hd
  have vt := cn_in6 ht
  have e0 : (0 : Int32) ≤ nI d := nI_pos' (by omega)
  rw [cn_spS]
  exact ⟨n + 1, br_f (by decide) (br_t e0 ⟨vd, nm_r (e' := nI t) (by rw [ed]; exact es) (br_t hr ⟨vt, ⟨vt, nm_r (e' := vp_updL aX t (aX t * 31 + r)) (by rw [et]) ⟨vt, ⟨vt, nm_r (e' := upd pX t (nI (p + 1))) (by rw [et, ep, nI_1]) h⟩⟩⟩⟩)⟩)⟩
theorem cn_x_kept (hc : c < 6) (hk : ¬ ke c = 0) (h : cn_hx post m x2 (-1) 1 (ou c) ser kd pl da ar ac ke ou ru ip st pX aX) : cn_hx post m x2 (nI c) 0 x5 ser kd pl da ar ac ke ou ru ip st pX aX := by
  obtain ⟨n, h⟩ := h
  have ec := cn_cl6 hc
  have vc := cn_in6 hc
  have e0 : ¬ nI c < 0 := nI_pos (by omega)
  have hk' : ¬ ke (nI c).toNatClampNeg = 0 := by rw [ec]; exact hk
  exact ⟨n + 1, br_t rfl (br_f e0 ⟨vc, br_f hk' ⟨vc, nm_r (e' := ou c) (by rw [ec]) h⟩⟩)⟩
theorem cn_x_cyc (hc : c < 6) (hk : ke c = 0) (hi : ¬ ip c = 0) (h : cn_hx post m x2 (-1) 1 (cn_thr (nI c) 5 0) ser kd pl da ar ac ke ou ru ip st pX aX) : cn_hx post m x2 (nI c) 0 x5 ser kd pl da ar ac ke ou ru ip st pX aX := by
  obtain ⟨n, h⟩ := h
  have ec := cn_cl6 hc
  have vc := cn_in6 hc
  have e0 : ¬ nI c < 0 := nI_pos (by omega)
  have hk' : ke (nI c).toNatClampNeg = 0 := by rw [ec]; exact hk
  have hi' : ¬ ip (nI c).toNatClampNeg = 0 := by rw [ec]; exact hi
  exact ⟨n + 1, br_t rfl (br_f e0 ⟨vc, br_t hk' ⟨vc, br_f hi' (cn_xthr h)⟩⟩)⟩
theorem cn_x_p3 (hc : c < 6) (hk : ke c = 0) (hi : ip c = 0) (hp : pl c = 3) (h : cn_hx post m x2 (-1) 1 (cn_thr (nI c) (da c &&& 65535).toInt32 0) ser kd pl da ar ac (upd ke c 1) (vp_updL ou c (cn_thr (nI c) (da c &&& 65535).toInt32 0)) ru ip st pX aX) : cn_hx post m x2 (nI c) 0 x5 ser kd pl da ar ac ke ou ru ip st pX aX := by
  obtain ⟨n, h⟩ := h
  have ec := cn_cl6 hc
  have vc := cn_in6 hc
  have e0 : ¬ nI c < 0 := nI_pos (by omega)
  have hk' : ke (nI c).toNatClampNeg = 0 := by rw [ec]; exact hk
  have hi' : ip (nI c).toNatClampNeg = 0 := by rw [ec]; exact hi
  have hp' : pl (nI c).toNatClampNeg = 3 := by rw [ec]; exact hp
  have hd : da (nI c).toNatClampNeg = da c := by rw [ec]
  refine ⟨n + 1, br_t rfl (br_f e0 ⟨vc, br_t hk' ⟨vc, br_t hi' ⟨vc, br_t hp' ⟨vc, cn_xthr ?_⟩⟩⟩⟩)⟩
  rw [hd]
  exact ⟨vc, nm_r (e' := upd ke c 1) (by rw [ec]; rfl) ⟨vc, nm_r (e' := vp_updL ou c (cn_thr (nI c) (da c &&& 65535).toInt32 0)) (by rw [ec]) h⟩⟩
theorem cn_x_push (hd : d < 6) (hc : c < 6) (hk : ke c = 0) (hi : ip c = 0) (hp : ¬ pl c = 3) (h : cn_tx post m (nI d) (-1) x5 ser kd pl da ar ac ke ou ru (upd ip c 1) (upd st d (nI c)) (upd pX c 0) (vp_updL aX c (da c))) : cn_hx post m (cn_sp d) (nI c) 0 x5 ser kd pl da ar ac ke ou ru ip st pX aX := by
  obtain ⟨n, h⟩ := h
  have ec := cn_cl6 hc
  have vc := cn_in6 hc
  have ed := cn_cl6 hd
  have vd := cn_in6 hd
  have e0 : ¬ nI c < 0 := nI_pos (by omega)
  have hk' : ke (nI c).toNatClampNeg = 0 := by rw [ec]; exact hk
  have hi' : ip (nI c).toNatClampNeg = 0 := by rw [ec]; exact hi
  have hp' : ¬ pl (nI c).toNatClampNeg = 3 := by rw [ec]; exact hp
  exact ⟨n + 1, br_t rfl (br_f e0 ⟨vc, br_t hk' ⟨vc, br_t hi' ⟨vc, br_f hp' ⟨vc, nm_r (e' := upd ip c 1) (by rw [ec]; rfl) (nm_r (e' := nI d) (cn_spP d) ⟨vd, nm_r (e' := upd st d (nI c)) (by rw [ed]) ⟨vc, nm_r (e' := upd pX c 0) (by rw [ec]) ⟨vc, ⟨vc, nm_r (e' := vp_updL aX c (da c)) (by rw [ec]) h⟩⟩⟩⟩)⟩⟩⟩⟩)⟩
theorem cn_x_call (hd : d < 6) (ht : t < 6) (es : st d = nI t) (ep : pX t = nI p) (eq : ac t = nI q') (hp : p < q') (hq : q' ≤ 4) (ej : ar (4 * t + p) = nI j) (h : cn_hx post m (nI d) (nI j) 0 x5 ser kd pl da ar ac ke ou ru ip st pX aX) : cn_tx post m (nI d) x3 x5 ser kd pl da ar ac ke ou ru ip st pX aX := by
  obtain ⟨n, h⟩ := h
  have ed := cn_cl6 hd
  have et := cn_cl6 ht
  have vd := cn_in6 hd
  have vt := cn_in6 ht
  have hle : ¬ ac (nI t).toNatClampNeg ≤ pX (nI t).toNatClampNeg := by rw [et, ep, eq]; exact nI_ge hp (by omega)
  have ei : nI t * 4 + pX (nI t).toNatClampNeg = nI (4 * t + p) := by rw [et, ep, cn_ix]
  have vi : vp_in (nI t * 4 + pX (nI t).toNatClampNeg) 24 := by rw [ei]; exact vp_in_nI (by omega) (by decide)
  have ea : ar (nI t * 4 + pX (nI t).toNatClampNeg).toNatClampNeg = nI j := by rw [ei, nI_clamp (by omega)]; exact ej
  exact ⟨n, And.intro vd (nm_r (e' := nI t) (by rw [ed]; exact es) ⟨vt, ⟨vt, br_f hle ⟨vt, ⟨vi, nm_r ea h⟩⟩⟩⟩)⟩
theorem cn_x491 (ht : t < 6) (h : J (cn_sp d) x3 1 out ser kd pl da ar ac (upd ke t 1) (vp_updL ou t out) ru (upd ip t 0) st pX aX) : wX_resolve_491 post J (nI d) x3 (nI t) out f ser kd pl da ar ac ke ou ru ip st pX aX := by
  have et := cn_cl6 ht
  have vt := cn_in6 ht
  exact And.intro vt (nm_r (e' := upd ke t 1) (by rw [et]; rfl) ⟨vt, nm_r (e' := vp_updL ou t out) (by rw [et]) ⟨vt, nm_r (e' := upd ip t 0) (by rw [et]; rfl) (nm_r (e' := cn_sp d) rfl h)⟩⟩)
theorem cn_x_fin (hd : d < 6) (ht : t < 6) (es : st d = nI t) (ep : pX t = nI p) (eq : ac t = nI q') (hp : q' ≤ p) (hp4 : p ≤ 4) (er : ru t = 0) (h : cn_hx post m (cn_sp d) x3 1 (cn_out kd pl da t (aX t) ser) (cn_ser kd t ser) kd pl da ar ac (upd ke t 1) (vp_updL ou t (cn_out kd pl da t (aX t) ser)) (cn_ru kd t ru) (upd ip t 0) st pX aX) : cn_tx post m (nI d) x3 x5 ser kd pl da ar ac ke ou ru ip st pX aX := by
  obtain ⟨n, h⟩ := h
  have ed := cn_cl6 hd
  have et := cn_cl6 ht
  have vd := cn_in6 hd
  have vt := cn_in6 ht
  have hle : ac (nI t).toNatClampNeg ≤ pX (nI t).toNatClampNeg := by rw [et, ep, eq]; exact nI_le hp (by omega)
  refine ⟨n, And.intro vd (nm_r (e' := nI t) (by rw [ed]; exact es) ⟨vt, ⟨vt, br_t hle ⟨vt, nm_r (e' := aX t) (by rw [et]) ⟨vt, ?_⟩⟩⟩⟩)⟩
  unfold cn_out cn_ser cn_ru at h
  rw [et]
  refine br_c (fun k0 => ?_) (fun k0 => ?_)
  · simp only [if_pos k0] at h
    exact nm_e (cn_x491 ht h)
  · simp only [if_neg k0] at h
    refine ⟨vt, ⟨vt, nm_r (e' := upd ru t 1) (by rw [er]; rfl) (nm_e ⟨vt, nm_e ⟨vt, ?_⟩⟩)⟩⟩
    refine br_c (fun k1 => ?_) (fun k1 => ⟨vt, br_c (fun k2 => ?_) (fun k2 => br_c (fun k3 => ?_) (fun k3 => ?_))⟩)
    · simp only [if_pos k1] at h
      exact nm_e (cn_x491 ht h)
    · simp only [if_neg k1, if_pos k2] at h
      exact cn_xthr (cn_x491 ht h)
    · simp only [if_neg k1, if_neg k2, if_pos k3] at h
      exact cn_xthr (cn_x491 ht h)
    · simp only [if_neg k1, if_neg k2, if_neg k3] at h
      exact cn_xthr (cn_x491 ht h)
end
end
section
/-! the reference's steps: at the loop's head (cn_hy), and at the join with an answer in hand (cn_by) -/
abbrev cn_hy (post : Int64 → SY → Prop) (m : Nat) (y2 : Int32) (y3 : Int64) (y5 : Int32) (d : Nat) (ser : Int64) (kd pl co : Nat → Int32) (da : Nat → Int64) (ar ac ke : Nat → Int32) (ou : Nat → Int64) (ru bu pY : Nat → Int32) (aY : Nat → Int64) : Prop := ∃ n, wY_go_7 post (nI m) n y2 y3 y5 (nI d) ser kd pl co da ar ac ke ou ru bu pY aY
abbrev cn_by (post : Int64 → SY → Prop) (m : Nat) (y2 : Int32) (y3 : Int64) (d : Nat) (ser : Int64) (kd pl co : Nat → Int32) (da : Nat → Int64) (ar ac ke : Nat → Int32) (ou : Nat → Int64) (ru bu pY : Nat → Int32) (aY : Nat → Int64) : Prop := ∃ n, wY_go_447 post (wY_go_7 post (nI m) n) y2 y3 0 1 (nI d) (nI m) ser kd pl co da ar ac ke ou ru bu pY aY
theorem cn_ythr {K : Int64 → Prop} {a b c : Int32} (h : K (cn_thr a b c)) : wpY_thrown K a b c := h
section
variable {post : Int64 → SY → Prop} {m d c t p q' j : Nat} {y2 y5 f fd x7 : Int32} {y3 r v ser : Int64} {kd pl co : Nat → Int32} {da : Nat → Int64} {ar ac ke : Nat → Int32} {ou : Nat → Int64} {ru bu pY : Nat → Int32} {aY : Nat → Int64}
variable {J : Int32 → Int64 → Int32 → Int32 → Int64 → (Nat → Int32) → (Nat → Int32) → (Nat → Int32) → (Nat → Int64) → (Nat → Int32) → (Nat → Int32) → (Nat → Int32) → (Nat → Int64) → (Nat → Int32) → (Nat → Int32) → (Nat → Int32) → (Nat → Int64) → Prop}
theorem cn_y_ret (h : post r (0, nI m, ser, kd, pl, co, da, ar, ac, ke, ou, ru, bu, pY, aY)) : cn_by post m y2 r 0 ser kd pl co da ar ac ke ou ru bu pY aY := by
  have e : nI 0 ≤ (0 : Int32) := by decide
  exact ⟨1, br_f (by decide) (br_t e (br_t rfl (br_t e h)))⟩
theorem cn_y447 (hd : d < 6) (h : J y2 r y5 (nI (d + 1)) ser kd pl co da ar ac ke ou ru bu pY (vp_updL aY d (aY d * 31 + r))) : wY_go_447 post J y2 r y5 1 (nI (d + 1)) f ser kd pl co da ar ac ke ou ru bu pY aY := by
  have e : ¬ nI (d + 1) ≤ (0 : Int32) := nI_nle (by omega) (by omega)
  have vd : vp_in (nI (d + 1) - 1) 6 := by rw [cn_yp]; exact cn_in6 hd
  have ed : (nI (d + 1) - 1).toNatClampNeg = d := by rw [cn_yp]; exact cn_cl6 hd
  exact br_f (by decide) (br_f e ⟨vd, nm_r (e' := aY d) (by rw [ed]) ⟨vd, nm_r (e' := vp_updL aY d (aY d * 31 + r)) (by rw [ed, cn_31]) h⟩⟩)
theorem cn_y428 (ht : t < 6) (h : wY_go_447 post J y2 r y5 1 fd f ser kd pl co da ar ac (upd ke t 1) (vp_updL ou t r) ru bu pY aY) : wY_go_428 post J y2 r y5 (nI t) fd f ser kd pl co da ar ac ke ou ru bu pY aY := by
  have et := cn_cl6 ht
  have vt := cn_in6 ht
  exact And.intro vt (nm_r (e' := upd ke t 1) (by rw [et]; rfl) ⟨vt, nm_r (e' := vp_updL ou t r) (by rw [et]) h⟩)
theorem cn_y_neg (hd : d < 6) (ht : t < 6) (eb : bu d = nI t) (hr : r < 0) (h : cn_by post m y2 r d ser kd pl co da ar ac (upd ke t 1) (vp_updL ou t r) ru bu pY (vp_updL aY d (aY d * 31 + r))) : cn_by post m y2 r (d + 1) ser kd pl co da ar ac ke ou ru bu pY aY := by
  obtain ⟨n, h⟩ := h
  have ed := cn_cl6 hd
  have et := cn_cl6 ht
  have vd := cn_in6 hd
  have vt := cn_in6 ht
  have e : ¬ nI (d + 1) ≤ (0 : Int32) := nI_nle (by omega) (by omega)
  refine ⟨n + 1, cn_y447 hd (br_t rfl (br_f e ?_))⟩
  have K : wY_go_276 post (wY_go_7 post (nI m) n) y2 r 0 (nI d) (nI t) (nI (d + 1)) (nI m) ser kd pl co da ar ac ke ou ru bu pY (vp_updL aY d (aY d * 31 + r)) :=
    And.intro vt (nm_e ⟨vd, nm_e (nm_r (e' := nI d) (cn_yp d) (br_t hr (cn_y428 ht h)))⟩)
  exact br_t rfl (nm_r (e' := nI d) (cn_yp d) ⟨vd, nm_r (e' := nI t) (by rw [ed]; exact eb) ⟨vd, ⟨vt, br_c (fun _ => K) (fun _ => br_t hr K)⟩⟩⟩)
theorem cn_y_back (hd : d < 6) (h : cn_hy post m y2 r 0 (d + 1) ser kd pl co da ar ac ke ou ru bu pY (vp_updL aY d (aY d * 31 + r))) : cn_by post m y2 r (d + 1) ser kd pl co da ar ac ke ou ru bu pY aY := by
  obtain ⟨n, h⟩ := h
  exact ⟨n, cn_y447 hd h⟩
theorem cn_y_kept (hc : c < 6) (hk : ¬ ke c = 0) (h : cn_by post m (nI c) (ou c) d ser kd pl co da ar ac ke ou ru bu pY aY) : cn_hy post m (nI c) y3 1 d ser kd pl co da ar ac ke ou ru bu pY aY := by
  obtain ⟨n, h⟩ := h
  have ec := cn_cl6 hc
  have vc := cn_in6 hc
  have hk' : ¬ ke (nI c).toNatClampNeg = 0 := by rw [ec]; exact hk
  exact ⟨n + 1, br_f (by decide) (br_f (by decide) ⟨vc, br_f hk' ⟨vc, nm_r (e' := ou c) (by rw [ec]) h⟩⟩)⟩
theorem cn_y58_keep (hd : d ≤ 6) (x7 : Int32) (hno : ∀ k, k < d → ¬ bu k = nI c ∨ x7 = 1) (h : wY_go_58 post J (nI c) 0 0 (nI d) f ser kd pl co da ar ac ke ou ru bu pY aY 1 x7 (nI d)) : ∀ e k, k + e = d → wY_go_58 post J (nI c) 0 0 (nI d) f ser kd pl co da ar ac ke ou ru bu pY aY (e + 1) x7 (nI k) := by
  intro e
  induction e with
  | zero =>
    intro k hk
    have : k = d := by omega
    subst this
    exact h
  | succ e ih =>
    intro k hk
    have h1 : ¬ nI d ≤ nI k := nI_ge (by omega) (by omega)
    have vk : vp_in (nI k) 6 := cn_in6 (by omega)
    have ek : (nI k).toNatClampNeg = k := cn_cl6 (by omega)
    have hi := ih (k + 1) (by omega)
    refine br_f h1 ⟨vk, br_c (fun z => ?_) (fun z => nm_r (nI_1 k) hi)⟩
    rw [ek] at z
    rcases hno k (by omega) with a | a
    · exact absurd z a
    · subst a
      exact nm_r (nI_1 k) hi
theorem cn_y58_find (hd : d ≤ 6) (h : wY_go_58 post J (nI c) 0 0 (nI d) f ser kd pl co da ar ac ke ou ru bu pY aY 1 1 (nI d)) : ∀ e k x7, k + e = d → (∃ k', k ≤ k' ∧ k' < d ∧ bu k' = nI c) → wY_go_58 post J (nI c) 0 0 (nI d) f ser kd pl co da ar ac ke ou ru bu pY aY (e + 1) x7 (nI k) := by
  intro e
  induction e with
  | zero =>
    rintro k x7 hk ⟨k', h1, h2, _⟩
    omega
  | succ e ih =>
    rintro k x7 hk ⟨k', h2, h3, h4⟩
    have h1 : ¬ nI d ≤ nI k := nI_ge (by omega) (by omega)
    have vk : vp_in (nI k) 6 := cn_in6 (by omega)
    have ek : (nI k).toNatClampNeg = k := cn_cl6 (by omega)
    refine br_f h1 ⟨vk, br_c (fun z => ?_) (fun z => ?_)⟩
    · exact nm_r (nI_1 k) (cn_y58_keep hd 1 (fun _ _ => Or.inr rfl) h e (k + 1) (by omega))
    · rw [ek] at z
      have hne : k' ≠ k := fun y => z (by rw [← y]; exact h4)
      exact nm_r (nI_1 k) (ih (k + 1) x7 (by omega) ⟨k', by omega, h3, h4⟩)
theorem cn_y_in (hc : c < 6) (hk : ke c = 0) (n : Nat) (h : ∃ n58, wY_go_58 post (wY_go_7 post (nI m) n) (nI c) 0 0 (nI d) (nI m) ser kd pl co da ar ac ke ou ru bu pY aY n58 0 (nI 0)) : cn_hy post m (nI c) y3 1 d ser kd pl co da ar ac ke ou ru bu pY aY := by
  have ec := cn_cl6 hc
  have vc := cn_in6 hc
  have hk' : ke (nI c).toNatClampNeg = 0 := by rw [ec]; exact hk
  exact ⟨n + 1, br_f (by decide) (br_f (by decide) ⟨vc, br_t hk' h⟩)⟩
theorem cn_y_cyc (hd : d ≤ 6) (hc : c < 6) (hk : ke c = 0) (hb : ∃ k, k < d ∧ bu k = nI c) (h : cn_by post m (nI c) (cn_thr (nI c) 5 0) d ser kd pl co da ar ac ke ou ru bu pY aY) : cn_hy post m (nI c) y3 1 d ser kd pl co da ar ac ke ou ru bu pY aY := by
  obtain ⟨n, h⟩ := h
  obtain ⟨k', h1, h2⟩ := hb
  have e : nI d ≤ nI d := nI_le (Nat.le_refl d) (by omega)
  exact cn_y_in hc hk n ⟨d + 1, cn_y58_find hd (br_t e (br_f (by decide) (cn_ythr h))) d 0 0 (by omega) ⟨k', by omega, h1, h2⟩⟩
theorem cn_y_p3 (hd : d ≤ 6) (hc : c < 6) (hk : ke c = 0) (hb : ∀ k, k < d → ¬ bu k = nI c) (hp : pl c = 3) (eo : co c &&& 65535 = (da c &&& 65535).toInt32) (h : cn_by post m (nI c) (cn_thr (nI c) (da c &&& 65535).toInt32 0) d ser kd pl co da ar ac (upd ke c 1) (vp_updL ou c (cn_thr (nI c) (da c &&& 65535).toInt32 0)) ru bu pY aY) : cn_hy post m (nI c) y3 1 d ser kd pl co da ar ac ke ou ru bu pY aY := by
  obtain ⟨n, h⟩ := h
  have e : nI d ≤ nI d := nI_le (Nat.le_refl d) (by omega)
  have ec := cn_cl6 hc
  have vc := cn_in6 hc
  have hp' : pl (nI c).toNatClampNeg = 3 := by rw [ec]; exact hp
  have eo' : co (nI c).toNatClampNeg &&& 65535 = (da c &&& 65535).toInt32 := by rw [ec]; exact eo
  refine cn_y_in hc hk n ⟨d + 1, cn_y58_keep hd 0 (fun k hk => Or.inl (hb k hk)) (br_t e (br_t rfl ⟨vc, br_t hp' ⟨vc, cn_ythr ?_⟩⟩)) d 0 (by omega)⟩
  rw [eo']
  exact ⟨vc, nm_r (e' := upd ke c 1) (by rw [ec]; rfl) ⟨vc, nm_r (e' := vp_updL ou c (cn_thr (nI c) (da c &&& 65535).toInt32 0)) (by rw [ec]) h⟩⟩
theorem cn_y_push (hd : d < 6) (hc : c < 6) (hk : ke c = 0) (hb : ∀ k, k < d → ¬ bu k = nI c) (hp : ¬ pl c = 3) (h : cn_hy post m (nI c) 0 0 (d + 1) ser kd pl co da ar ac ke ou ru (upd bu d (nI c)) (upd pY d 0) (vp_updL aY d (da c))) : cn_hy post m (nI c) y3 1 d ser kd pl co da ar ac ke ou ru bu pY aY := by
  obtain ⟨n, h⟩ := h
  have e : nI d ≤ nI d := nI_le (Nat.le_refl d) (by omega)
  have ec := cn_cl6 hc
  have vc := cn_in6 hc
  have ed := cn_cl6 hd
  have vd := cn_in6 hd
  have hp' : ¬ pl (nI c).toNatClampNeg = 3 := by rw [ec]; exact hp
  exact cn_y_in hc hk n ⟨d + 1, cn_y58_keep (by omega) 0 (fun k hk => Or.inl (hb k hk)) (br_t e (br_t rfl ⟨vc, br_f hp' ⟨vd, nm_r (e' := upd bu d (nI c)) (by rw [ed, cn_vc c hc]) ⟨vd, nm_r (e' := upd pY d 0) (by rw [ed]) ⟨vc, ⟨vd, nm_r (e' := vp_updL aY d (da c)) (by rw [ed, ec]) (nm_r (e' := nI (d + 1)) (nI_1 d) (br_t rfl h))⟩⟩⟩⟩⟩)) d 0 (by omega)⟩
theorem cn_y_call (hd : d < 6) (ht : t < 6) (eb : bu d = nI t) (ep : pY d = nI p) (eq : ac t = nI q') (hp : p < q') (hq : q' ≤ 4) (hr : ¬ r < 0) (ej : ar (4 * t + p) = nI j) (h : cn_hy post m (nI j) r 1 (d + 1) ser kd pl co da ar ac ke ou ru bu (upd pY d (nI (p + 1))) aY) : cn_hy post m y2 r 0 (d + 1) ser kd pl co da ar ac ke ou ru bu pY aY := by
  obtain ⟨n, h⟩ := h
  have ed := cn_cl6 hd
  have et := cn_cl6 ht
  have vd := cn_in6 hd
  have vt := cn_in6 ht
  have e : ¬ nI (d + 1) ≤ (0 : Int32) := nI_nle (by omega) (by omega)
  have hle : ¬ ac (nI t).toNatClampNeg ≤ pY (nI d).toNatClampNeg := by rw [et, ed, ep, eq]; exact nI_ge hp (by omega)
  have ei : nI t * 4 + pY (nI d).toNatClampNeg = nI (4 * t + p) := by rw [ed, ep, cn_ix]
  have vi : vp_in (nI t * 4 + pY (nI d).toNatClampNeg) 24 := by rw [ei]; exact vp_in_nI (by omega) (by decide)
  have ea : ar (nI t * 4 + pY (nI d).toNatClampNeg).toNatClampNeg = nI j := by rw [ei, nI_clamp (by omega)]; exact ej
  exact ⟨n + 1, br_t rfl (br_f e (br_t rfl (nm_r (e' := nI d) (cn_yp d) ⟨vd, nm_r (e' := nI t) (by rw [ed]; exact eb) ⟨vd, ⟨vt, br_f hle (br_f hr ⟨vd, ⟨vi, nm_r ea ⟨vd, ⟨vd, nm_r (e' := upd pY d (nI (p + 1))) (by rw [ed, ep, nI_1]) (br_t rfl h)⟩⟩⟩⟩)⟩⟩⟩)))⟩
theorem cn_y_fin (hd : d < 6) (ht : t < 6) (eb : bu d = nI t) (ep : pY d = nI p) (eq : ac t = nI q') (hp : q' ≤ p) (hp4 : p ≤ 4) (hr : ¬ r < 0) (er : ru t = 0) (eo : co t &&& 65535 = (da t &&& 65535).toInt32) (hkp : kd t = 0 → pl t = 0) (h : cn_by post m y2 (cn_out kd pl da t (aY d) ser) d (cn_ser kd t ser) kd pl co da ar ac (upd ke t 1) (vp_updL ou t (cn_out kd pl da t (aY d) ser)) (cn_ru kd t ru) bu pY aY) : cn_hy post m y2 r 0 (d + 1) ser kd pl co da ar ac ke ou ru bu pY aY := by
  obtain ⟨n, h⟩ := h
  have ed := cn_cl6 hd
  have et := cn_cl6 ht
  have vd := cn_in6 hd
  have vt := cn_in6 ht
  have e : ¬ nI (d + 1) ≤ (0 : Int32) := nI_nle (by omega) (by omega)
  have hle : ac (nI t).toNatClampNeg ≤ pY (nI d).toNatClampNeg := by rw [et, ed, ep, eq]; exact nI_le hp (by omega)
  have eo' : co (nI t).toNatClampNeg &&& 65535 = (da t &&& 65535).toInt32 := by rw [et]; exact eo
  unfold cn_out cn_ser cn_ru at h
  refine ⟨n + 1, br_t rfl (br_f e (br_t rfl (nm_r (e' := nI d) (cn_yp d) ⟨vd, nm_r (e' := nI t) (by rw [ed]; exact eb) ⟨vd, ⟨vt, br_t hle ?_⟩⟩⟩)))⟩
  refine And.intro vt (nm_r eo' ⟨vd, nm_r (e' := aY d) (by rw [ed]) (nm_r (e' := nI d) (cn_yp d) (br_f hr ⟨vt, ?_⟩))⟩)
  rw [et]
  refine br_c (fun k0 => ?_) (fun k0 => ?_)
  · simp only [if_pos k0] at h
    have hp' : pl (nI t).toNatClampNeg = 0 := by rw [et]; exact hkp k0
    exact And.intro vt (br_t hp' (nm_e (cn_y428 ht h)))
  · simp only [if_neg k0] at h
    refine ⟨vt, ⟨vt, nm_r (e' := upd ru t 1) (by rw [er, cn_short1]) (nm_e (nm_r (e' := aY d * 31 + ser) (by rw [cn_31]) ?_))⟩⟩
    refine And.intro vt ?_
    rw [et]
    refine br_c (fun k1 => ?_) (fun k1 => ⟨vt, br_c (fun k2 => ?_) (fun k2 => br_c (fun k3 => ?_) (fun k3 => ?_))⟩)
    · simp only [if_pos k1] at h
      exact nm_e (cn_y428 ht h)
    · simp only [if_neg k1, if_pos k2] at h
      exact cn_ythr (cn_y428 ht h)
    · simp only [if_neg k1, if_neg k2, if_pos k3] at h
      exact cn_ythr (cn_y428 ht h)
    · simp only [if_neg k1, if_neg k2, if_neg k3] at h
      exact cn_ythr (cn_y428 ht h)
end
end
section
/-! lockstep: both loops have one outcome -/
def cn_Rel (m : Nat) (u : SX) (v : SY) : Prop := ∃ (ser : Int64) (kd pl : Nat → Int32) (da : Nat → Int64) (ar ac ke : Nat → Int32) (ou : Nat → Int64) (ru ip st pX : Nat → Int32) (aX : Nat → Int64) (co bu pY : Nat → Int32) (aY : Nat → Int64) (q : Nat → Nat), u = (nI m, ser, kd, pl, da, ar, ac, ke, ou, ru, ip, st, pX, aX) ∧ v = (0, nI m, ser, kd, pl, co, da, ar, ac, ke, ou, ru, bu, pY, aY) ∧ cn_Sta m kd pl da ar ac co q ∧ cn_Dyn m ke ou ru ∧ (∀ c, ip c = 0)
def cn_Out (m : Nat) (A : (Int64 → SX → Prop) → Prop) (B : (Int64 → SY → Prop) → Prop) : Prop := ∃ r u v, cn_Rel m u v ∧ (∀ post, post r u → A post) ∧ (∀ post, post r v → B post)
theorem cn_Out_st {m : Nat} {A A' : (Int64 → SX → Prop) → Prop} {B B' : (Int64 → SY → Prop) → Prop} (h : cn_Out m A B) (ha : ∀ post, A post → A' post) (hb : ∀ post, B post → B' post) : cn_Out m A' B' := by
  obtain ⟨r, u, v, h1, h2, h3⟩ := h
  exact ⟨r, u, v, h1, fun post h => ha post (h2 post h), fun post h => hb post (h3 post h)⟩
def cn_OA (m d c : Nat) (x5 y3 ser : Int64) (kd pl : Nat → Int32) (da : Nat → Int64) (ar ac ke : Nat → Int32) (ou : Nat → Int64) (ru ip st pX : Nat → Int32) (aX : Nat → Int64) (co bu pY : Nat → Int32) (aY : Nat → Int64) : Prop :=
  cn_Out m (fun post => cn_hx post m (cn_sp d) (nI c) 0 x5 ser kd pl da ar ac ke ou ru ip st pX aX) (fun post => cn_hy post m (nI c) y3 1 d ser kd pl co da ar ac ke ou ru bu pY aY)
def cn_OB (m d : Nat) (x3 y2 : Int32) (r ser : Int64) (kd pl : Nat → Int32) (da : Nat → Int64) (ar ac ke : Nat → Int32) (ou : Nat → Int64) (ru ip st pX : Nat → Int32) (aX : Nat → Int64) (co bu pY : Nat → Int32) (aY : Nat → Int64) : Prop :=
  cn_Out m (fun post => cn_hx post m (cn_sp d) x3 1 r ser kd pl da ar ac ke ou ru ip st pX aX) (fun post => cn_by post m y2 r d ser kd pl co da ar ac ke ou ru bu pY aY)
def cn_OT (m d : Nat) (x3 y2 : Int32) (x5 r ser : Int64) (kd pl : Nat → Int32) (da : Nat → Int64) (ar ac ke : Nat → Int32) (ou : Nat → Int64) (ru ip st pX : Nat → Int32) (aX : Nat → Int64) (co bu pY : Nat → Int32) (aY : Nat → Int64) : Prop :=
  cn_Out m (fun post => cn_tx post m (nI d) x3 x5 ser kd pl da ar ac ke ou ru ip st pX aX) (fun post => cn_hy post m y2 r 0 (d + 1) ser kd pl co da ar ac ke ou ru bu pY aY)
def cn_IA (N m : Nat) (kd pl : Nat → Int32) (da : Nat → Int64) (ar ac co : Nat → Int32) (q : Nat → Nat) : Prop :=
  ∀ (d c : Nat) (x5 y3 ser : Int64) (ke : Nat → Int32) (ou : Nat → Int64) (ru ip st pX : Nat → Int32) (aX : Nat → Int64) (bu pY : Nat → Int32) (aY : Nat → Int64) (g : Nat → Nat), c < m → cn_Dyn m ke ou ru → cn_Fb m d g pl ke ip st bu → cn_Fo d g q pX pY aX aY → 2 * cn_M q ke ip pX + 1 < N → cn_OA m d c x5 y3 ser kd pl da ar ac ke ou ru ip st pX aX co bu pY aY
def cn_IB (N m : Nat) (kd pl : Nat → Int32) (da : Nat → Int64) (ar ac co : Nat → Int32) (q : Nat → Nat) : Prop :=
  ∀ (d : Nat) (x3 y2 : Int32) (r ser : Int64) (ke : Nat → Int32) (ou : Nat → Int64) (ru ip st pX : Nat → Int32) (aX : Nat → Int64) (bu pY : Nat → Int32) (aY : Nat → Int64) (g : Nat → Nat), cn_Dyn m ke ou ru → cn_Fb m d g pl ke ip st bu → cn_Fo d g q pX pY aX aY → 2 * cn_M q ke ip pX < N → cn_OB m d x3 y2 r ser kd pl da ar ac ke ou ru ip st pX aX co bu pY aY
theorem cn_Dyn_keep {m t : Nat} {ke : Nat → Int32} {ou : Nat → Int64} {ru : Nat → Int32} {r : Int64} (ht : t < m) (D : cn_Dyn m ke ou ru) : cn_Dyn m (upd ke t 1) (vp_updL ou t r) ru := by
  obtain ⟨h1, h2, h3⟩ := D
  refine ⟨fun c hc => ?_, fun c hc => ?_, fun c hc => ?_⟩
  · rw [pk_un (by omega)]
    exact h1 c hc
  · rw [pk_uLn (by omega)]
    exact h2 c hc
  · by_cases e : c = t
    · subst e
      rw [pk_us] at hc
      exact absurd hc (by decide)
    · rw [pk_un e] at hc
      exact h3 c hc
theorem cn_Dyn_fin {m t : Nat} {kd ke : Nat → Int32} {ou : Nat → Int64} {ru : Nat → Int32} {r : Int64} (ht : t < m) (D : cn_Dyn m ke ou ru) : cn_Dyn m (upd ke t 1) (vp_updL ou t r) (cn_ru kd t ru) := by
  obtain ⟨h1, h2, h3⟩ := cn_Dyn_keep (r := r) ht D
  refine ⟨h1, h2, fun c hc => ?_⟩
  have e : c ≠ t := fun e => by
    subst e
    rw [pk_us] at hc
    exact absurd hc (by decide)
  unfold cn_ru
  split
  · exact h3 c hc
  · rw [pk_un e]
    exact h3 c hc
section
variable {N m d c : Nat} {x3 y2 : Int32} {x5 y3 r ser : Int64} {kd pl : Nat → Int32} {da : Nat → Int64} {ar ac ke : Nat → Int32} {ou : Nat → Int64} {ru ip st pX : Nat → Int32} {aX : Nat → Int64} {co bu pY : Nat → Int32} {aY : Nat → Int64} {q g : Nat → Nat}
theorem cn_T {p : Nat} (S : cn_Sta m kd pl da ar ac co q) (HA : cn_IA N m kd pl da ar ac co q) (HB : cn_IB N m kd pl da ar ac co q) (D : cn_Dyn m ke ou ru) (F : cn_Fb m (d + 1) g pl ke ip st bu) (O : cn_Fo d g q pX pY aX aY) (hp : p ≤ q (g d)) (ex : pX (g d) = nI p) (ey : pY d = nI p) (ea : aY d = aX (g d)) (hr : ¬ r < 0) (hN : 2 * cn_M q ke ip pX + 1 < N) : cn_OT m d x3 y2 x5 r ser kd pl da ar ac ke ou ru ip st pX aX co bu pY aY := by
  have hd : d < 6 := cn_Fb_le F
  obtain ⟨S1, S2, S3, S4, S5, S6, S7⟩ := S
  obtain ⟨ht, es, eb, hp3, hke⟩ := F.1 d (Nat.lt_succ_self d)
  have ht6 : g d < 6 := by omega
  have hq4 := S4 (g d)
  by_cases hlt : p < q (g d)
  · obtain ⟨j, hj, ej⟩ := S5 (g d) p ht hlt
    have O' : cn_Fo (d + 1) g q pX (upd pY d (nI (p + 1))) aX aY := by
      intro k hk
      by_cases e : k = d
      · subst e
        exact ⟨p, hlt, ex, pk_us, ea⟩
      · obtain ⟨p', h1, h2, h3, h4⟩ := O k (by omega)
        exact ⟨p', h1, h2, by rw [pk_un e]; exact h3, h4⟩
    refine cn_Out_st (HA (d + 1) j x5 r ser ke ou ru ip st pX aX bu (upd pY d (nI (p + 1))) aY g hj D F O' hN) (fun post h => ?_) (fun post h => ?_)
    · rw [cn_spS] at h
      exact cn_x_call hd ht6 es ex (S3 (g d)) hlt hq4 ej h
    · exact cn_y_call hd ht6 eb ey (S3 (g d)) hlt hq4 hr ej h
  · have hlt' : q (g d) ≤ p := by omega
    have hM := cn_M_pop (q := q) (ip := ip) (pX := pX) ht6 hke
    have er := D.2.2 (g d) hke
    refine cn_Out_st (HB d x3 y2 (cn_out kd pl da (g d) (aX (g d)) ser) (cn_ser kd (g d) ser) (upd ke (g d) 1) (vp_updL ou (g d) (cn_out kd pl da (g d) (aX (g d)) ser)) (cn_ru kd (g d) ru) (upd ip (g d) 0) st pX aX bu pY aY g (cn_Dyn_fin ht D) (cn_Fb_pop S1 F) O (by omega)) (fun post h => ?_) (fun post h => ?_)
    · exact cn_x_fin hd ht6 es ex (S3 (g d)) hlt' (by omega) er h
    · rw [← ea] at h
      exact cn_y_fin hd ht6 eb ey (S3 (g d)) hlt' (by omega) hr er (S6 (g d)) (fun k0 => S2 (g d) ht k0 hp3) h
theorem cn_A (S : cn_Sta m kd pl da ar ac co q) (HA : cn_IA N m kd pl da ar ac co q) (HB : cn_IB N m kd pl da ar ac co q) (hc : c < m) (D : cn_Dyn m ke ou ru) (F : cn_Fb m d g pl ke ip st bu) (O : cn_Fo d g q pX pY aX aY) (hN : 2 * cn_M q ke ip pX + 1 < N + 1) : cn_OA m d c x5 y3 ser kd pl da ar ac ke ou ru ip st pX aX co bu pY aY := by
  have hd := cn_Fb_le F
  have hm := S.1
  have hc6 : c < 6 := by omega
  by_cases hk : ke c = 0
  · by_cases hi : ip c = 0
    · have hn : ∀ k, k < d → g k ≠ c := fun k hk e => cn_Fb_ip F hk (by rw [e]; exact hi)
      have hb : ∀ k, k < d → ¬ bu k = nI c := fun k hk e => by
        obtain ⟨h1, h2, h3, _⟩ := F.1 k hk
        rw [h3, nI_eq (by omega) (by omega)] at e
        exact hn k hk e
      by_cases hp : pl c = 3
      · have hM := cn_M_keep (q := q) (ke := ke) (ip := ip) (pX := pX) (t := c)
        exact cn_Out_st (HB d (-1) (nI c) (cn_thr (nI c) (da c &&& 65535).toInt32 0) ser (upd ke c 1) (vp_updL ou c (cn_thr (nI c) (da c &&& 65535).toInt32 0)) ru ip st pX aX bu pY aY g (cn_Dyn_keep hc D) (cn_Fb_keep F hi) O (by omega)) (fun post h => cn_x_p3 hc6 hk hi hp h) (fun post h => cn_y_p3 hd hc6 hk hb hp (S.2.2.2.2.2.1 c) h)
      · obtain ⟨hd6, F'⟩ := cn_Fb_push hm hc F hk hi hp
        have hM := cn_M_push (q := q) (ke := ke) (ip := ip) (pX := pX) hc6 hk hi
        have T := cn_T (p := 0) (r := 0) (x3 := -1) (y2 := nI c) (x5 := x5) (ser := ser) (pX := upd pX c 0) (pY := upd pY d 0) (aX := vp_updL aX c (da c)) (aY := vp_updL aY d (da c)) S HA HB D F' (cn_Fo_g (cn_Fo_top (Nat.le_refl d) hn O)) (Nat.zero_le _) (by rw [cn_gus, pk_us]; rfl) (by rw [pk_us]; rfl) (by rw [cn_gus, pk_uLs, pk_uLs]) (by decide) (by omega)
        exact cn_Out_st T (fun post h => cn_x_push hd6 hc6 hk hi hp h) (fun post h => cn_y_push hd6 hc6 hk hb hp h)
    · have hb : ∃ k, k < d ∧ bu k = nI c := by
        obtain ⟨k, h1, h2⟩ := (F.2.2.1 c).mp hi
        exact ⟨k, h1, by rw [(F.1 k h1).2.2.1, h2]⟩
      exact cn_Out_st (HB d (-1) (nI c) (cn_thr (nI c) 5 0) ser ke ou ru ip st pX aX bu pY aY g D F O (by omega)) (fun post h => cn_x_cyc hc6 hk hi h) (fun post h => cn_y_cyc hd hc6 hk hb h)
  · exact cn_Out_st (HB d (-1) (nI c) (ou c) ser ke ou ru ip st pX aX bu pY aY g D F O (by omega)) (fun post h => cn_x_kept hc6 hk h) (fun post h => cn_y_kept hc6 hk h)
theorem cn_B (S : cn_Sta m kd pl da ar ac co q) (HA : cn_IA N m kd pl da ar ac co q) (HB : cn_IB N m kd pl da ar ac co q) (D : cn_Dyn m ke ou ru) (F : cn_Fb m d g pl ke ip st bu) (O : cn_Fo d g q pX pY aX aY) (hN : 2 * cn_M q ke ip pX < N + 1) : cn_OB m d x3 y2 r ser kd pl da ar ac ke ou ru ip st pX aX co bu pY aY := by
  have hd := cn_Fb_le F
  have hm := S.1
  cases d with
  | zero =>
    exact ⟨r, _, _, ⟨ser, kd, pl, da, ar, ac, ke, ou, ru, ip, st, pX, aX, co, bu, pY, aY, q, rfl, rfl, S, D, cn_Fb_end F⟩, fun post h => cn_x_ret h, fun post h => cn_y_ret h⟩
  | succ d =>
    obtain ⟨ht, es, eb, hp3, hke⟩ := F.1 d (Nat.lt_succ_self d)
    obtain ⟨p, hp, ex, ey, ea⟩ := O d (Nat.lt_succ_self d)
    have ht6 : g d < 6 := by omega
    have hq4 := S.2.2.2.1 (g d)
    by_cases hr : r < 0
    · have hr' : ¬ 0 ≤ r := fun z => Int64.not_lt.mpr z hr
      have hM := cn_M_pop (q := q) (ip := ip) (pX := pX) ht6 hke
      exact cn_Out_st (HB d x3 y2 r ser (upd ke (g d) 1) (vp_updL ou (g d) r) ru (upd ip (g d) 0) st pX aX bu pY (vp_updL aY d (aY d * 31 + r)) g (cn_Dyn_keep ht D) (cn_Fb_pop hm F) (cn_Fo_aY (cn_Fo_lo O)) (by omega)) (fun post h => cn_x_neg hd ht6 es hr' h) (fun post h => cn_y_neg hd ht6 eb hr h)
    · have hr' : 0 ≤ r := Int64.not_lt.mp hr
      have hn : ∀ k, k < d → g k ≠ g d := fun k hk => F.2.1 k d hk (Nat.lt_succ_self d)
      have hM := cn_M_back (q := q) (ke := ke) (ip := ip) (pX := pX) ht6 hke (cn_Fb_ip F (Nat.lt_succ_self d)) hp hq4 ex
      have T := cn_T (p := p + 1) (r := r) (x3 := x3) (y2 := y2) (x5 := r) (ser := ser) (pX := upd pX (g d) (nI (p + 1))) (pY := pY) (aX := vp_updL aX (g d) (aX (g d) * 31 + r)) (aY := vp_updL aY d (aY d * 31 + r)) S HA HB D F (cn_Fo_X hn (cn_Fo_lo O)) hp pk_us ey (by rw [pk_uLs, pk_uLs, ea]) hr (by omega)
      exact cn_Out_st T (fun post h => cn_x_back hd ht6 es ex hr' h) (fun post h => cn_y_back hd h)
theorem cn_all (S : cn_Sta m kd pl da ar ac co q) : ∀ N, cn_IA N m kd pl da ar ac co q ∧ cn_IB N m kd pl da ar ac co q := by
  intro N
  induction N with
  | zero => exact ⟨fun d c x5 y3 ser ke ou ru ip st pX aX bu pY aY g _ _ _ _ h => absurd h (Nat.not_lt_zero _), fun d x3 y2 r ser ke ou ru ip st pX aX bu pY aY g _ _ _ h => absurd h (Nat.not_lt_zero _)⟩
  | succ N ih => exact ⟨fun d c x5 y3 ser ke ou ru ip st pX aX bu pY aY g hc D F O h => cn_A S ih.1 ih.2 hc D F O h, fun d x3 y2 r ser ke ou ru ip st pX aX bu pY aY g D F O h => cn_B S ih.1 ih.2 D F O h⟩
/-- a call of an entry from rest -/
theorem cn_run (S : cn_Sta m kd pl da ar ac co q) (hc : c < m) (D : cn_Dyn m ke ou ru) (hi : ∀ c, ip c = 0) : cn_OA m 0 c 0 0 ser kd pl da ar ac ke ou ru ip st pX aX co bu pY aY :=
  (cn_all S (2 * cn_M q ke ip pX + 2)).1 0 c 0 0 ser ke ou ru ip st pX aX bu pY aY (fun _ => 0) hc D (cn_Fb_0 hi) (fun k hk => absurd hk (Nat.not_lt_zero k)) (by omega)
end
end
section
/-! one outcome for each call that stores -/
section
variable {m c : Nat} {ser : Int64} {kd pl : Nat → Int32} {da : Nat → Int64} {ar ac ke : Nat → Int32} {ou : Nat → Int64} {ru ip st pX : Nat → Int32} {aX : Nat → Int64} {co bu pY : Nat → Int32} {aY : Nat → Int64} {q : Nat → Nat}
theorem cn_mk (S : cn_Sta m kd pl da ar ac co q) (D : cn_Dyn m ke ou ru) (hi : ∀ c, ip c = 0) : cn_Rel m (nI m, ser, kd, pl, da, ar, ac, ke, ou, ru, ip, st, pX, aX) (0, nI m, ser, kd, pl, co, da, ar, ac, ke, ou, ru, bu, pY, aY) := ⟨ser, kd, pl, da, ar, ac, ke, ou, ru, ip, st, pX, aX, co, bu, pY, aY, q, rfl, rfl, S, D, hi⟩
theorem cn_go (S : cn_Sta m kd pl da ar ac co q) (hc : c < m) (D : cn_Dyn m ke ou ru) (hi : ∀ c, ip c = 0) : ∃ r u v, cn_Rel m u v ∧ (∀ post, post r u → ∃ n, wX_resolve_26 post (nI m) n (-1) (nI c) 0 0 ser kd pl da ar ac ke ou ru ip st pX aX) ∧ (∀ post, post r v → ∃ n, wY_go_7 post (nI m) n (nI c) 0 1 0 ser kd pl co da ar ac ke ou ru bu pY aY) := by
  obtain ⟨r, u, v, h1, h2, h3⟩ := cn_run (ser := ser) (st := st) (pX := pX) (aX := aX) (bu := bu) (pY := pY) (aY := aY) S hc D hi
  refine ⟨r, u, v, h1, fun post h => ?_, fun post h => h3 post h⟩
  have e := h2 post h
  simp only [cn_sp0] at e
  exact e
end
/-- the relation taken apart -/
theorem cn_el {m : Nat} {P : SX → SY → Prop} {u : SX} {v : SY} (h : ∀ (ser : Int64) (kd pl : Nat → Int32) (da : Nat → Int64) (ar ac ke : Nat → Int32) (ou : Nat → Int64) (ru ip st pX : Nat → Int32) (aX : Nat → Int64) (co bu pY : Nat → Int32) (aY : Nat → Int64) (q : Nat → Nat), cn_Sta m kd pl da ar ac co q → cn_Dyn m ke ou ru → (∀ c, ip c = 0) → P (nI m, ser, kd, pl, da, ar, ac, ke, ou, ru, ip, st, pX, aX) (0, nI m, ser, kd, pl, co, da, ar, ac, ke, ou, ru, bu, pY, aY)) (I : cn_Rel m u v) : P u v := by
  obtain ⟨ser, kd, pl, da, ar, ac, ke, ou, ru, ip, st, pX, aX, co, bu, pY, aY, q, e1, e2, S, D, hi⟩ := I
  subst e1 e2
  exact h ser kd pl da ar ac ke ou ru ip st pX aX co bu pY aY q S D hi
theorem cn_ix6 {x : Int32} {m : Nat} (hm : m ≤ 6) (h0 : ¬ x < 0) (h : x < nI m) : ∃ c, c < m ∧ x = nI c := by
  obtain ⟨c, hc, rfl⟩ := nI_of h0
  rw [nI_ltI hc (by omega)] at h
  exact ⟨c, h, rfl⟩
theorem cn_resolve {m : Nat} {u : SX} {v : SY} (I : cn_Rel m u v) (v1 : Int32) : cn_Out m (fun post => wpX_resolve post u v1) (fun post => wpY_resolve post v v1) := by
  refine cn_el (P := fun u v => cn_Out m (fun post => wpX_resolve post u v1) (fun post => wpY_resolve post v v1)) ?_ I
  intro ser kd pl da ar ac ke ou ru ip st pX aX co bu pY aY q S D hi
  by_cases h0 : v1 < 0
  · exact ⟨-1, _, _, cn_mk S D hi, fun post h => br_t h0 h, fun post h => br_t h0 h⟩
  by_cases hl : v1 < nI m
  · obtain ⟨c, hc, rfl⟩ := cn_ix6 S.1 h0 hl
    obtain ⟨r, u', v', R, hX, hY⟩ := cn_go (ser := ser) (st := st) (pX := pX) (aX := aX) (bu := bu) (pY := pY) (aY := aY) S hc D hi
    obtain ⟨y1, y2, y3, y4, y5, y6, y7, y8, y9, y10, y11, y12, y13, y14, y15⟩ := v'
    exact ⟨r, u', _, R, fun post h => br_f h0 (br_t hl (hX post h)), fun post h => br_f h0 (br_t hl (hY _ h))⟩
  · exact ⟨-1, _, _, cn_mk S D hi, fun post h => br_f h0 (br_f hl h), fun post h => br_f h0 (br_f hl h)⟩
/-- the count of kept values, behind resolveAll's calls -/
theorem cn_ra26 {m : Nat} {ser : Int64} {kd pl : Nat → Int32} {da : Nat → Int64} {ar ac ke : Nat → Int32} {ou : Nat → Int64} {ru ip st pX : Nat → Int32} {aX : Nat → Int64} {co bu pY : Nat → Int32} {aY : Nat → Int64} (hm : m ≤ 6) : ∀ e i x1, i + e = m → ∃ r, (∀ post : Int32 → SX → Prop, post r (nI m, ser, kd, pl, da, ar, ac, ke, ou, ru, ip, st, pX, aX) → wX_resolveAll_26 post (nI m) ser kd pl da ar ac ke ou ru ip st pX aX (e + 1) x1 (nI i)) ∧ (∀ post : Int32 → SY → Prop, post r (0, nI m, ser, kd, pl, co, da, ar, ac, ke, ou, ru, bu, pY, aY) → wY_resolveAll_26 post 0 (nI m) ser kd pl co da ar ac ke ou ru bu pY aY (e + 1) x1 (nI i)) := by
  intro e
  induction e with
  | zero =>
    intro i x1 hi
    have : i = m := by omega
    subst this
    have h : nI i ≤ nI i := nI_le (Nat.le_refl i) (by omega)
    exact ⟨x1, fun post hp => br_t h hp, fun post hp => br_t h hp⟩
  | succ e ih =>
    intro i x1 hi
    have h : ¬ nI m ≤ nI i := nI_ge (by omega) (by omega)
    have vi : vp_in (nI i) 6 := cn_in6 (by omega)
    by_cases h1 : ke (nI i).toNatClampNeg = 0
    · obtain ⟨r, hX, hY⟩ := ih (i + 1) x1 (by omega)
      exact ⟨r, fun post hp => br_f h ⟨vi, br_t h1 (nm_r (nI_1 i) (hX post hp))⟩, fun post hp => br_f h ⟨vi, br_t h1 (nm_r (nI_1 i) (hY post hp))⟩⟩
    · by_cases h2 : ou (nI i).toNatClampNeg < 0
      · obtain ⟨r, hX, hY⟩ := ih (i + 1) x1 (by omega)
        exact ⟨r, fun post hp => br_f h ⟨vi, br_f h1 ⟨vi, br_t h2 (nm_r (nI_1 i) (hX post hp))⟩⟩, fun post hp => br_f h ⟨vi, br_f h1 ⟨vi, br_t h2 (nm_r (nI_1 i) (hY post hp))⟩⟩⟩
      · obtain ⟨r, hX, hY⟩ := ih (i + 1) (x1 + 1) (by omega)
        exact ⟨r, fun post hp => br_f h ⟨vi, br_f h1 ⟨vi, br_f h2 (nm_e (nm_r (nI_1 i) (hX post hp)))⟩⟩, fun post hp => br_f h ⟨vi, br_f h1 ⟨vi, br_f h2 (nm_e (nm_r (nI_1 i) (hY post hp)))⟩⟩⟩
def cn_XA (post : Int32 → SX → Prop) (n : Nat) (x : Int32) (u : SX) : Prop := match u with
  | (f, ser, kd, pl, da, ar, ac, ke, ou, ru, ip, st, pX, aX) => wX_resolveAll_2 post n x f ser kd pl da ar ac ke ou ru ip st pX aX
def cn_YA (post : Int32 → SY → Prop) (n : Nat) (x : Int32) (v : SY) : Prop := match v with
  | (dp, f, ser, kd, pl, co, da, ar, ac, ke, ou, ru, bu, pY, aY) => wY_resolveAll_2 post n x dp f ser kd pl co da ar ac ke ou ru bu pY aY
theorem cn_ra2 {m : Nat} : ∀ e i (u : SX) (v : SY), i + e = m → cn_Rel m u v → ∃ r u' v', cn_Rel m u' v' ∧ (∀ post : Int32 → SX → Prop, post r u' → cn_XA post (e + 1) (nI i) u) ∧ (∀ post : Int32 → SY → Prop, post r v' → cn_YA post (e + 1) (nI i) v) := by
  intro e
  induction e with
  | zero =>
    intro i u v hi I
    have : i = m := by omega
    subst this
    refine cn_el (P := fun u v => ∃ r u' v', cn_Rel i u' v' ∧ (∀ post : Int32 → SX → Prop, post r u' → cn_XA post (0 + 1) (nI i) u) ∧ (∀ post : Int32 → SY → Prop, post r v' → cn_YA post (0 + 1) (nI i) v)) ?_ I
    intro ser kd pl da ar ac ke ou ru ip st pX aX co bu pY aY q S D hz
    have hm := S.1
    have h : nI i ≤ nI i := nI_le (Nat.le_refl i) (by omega)
    obtain ⟨r, hX, hY⟩ := cn_ra26 (ser := ser) (kd := kd) (pl := pl) (da := da) (ar := ar) (ac := ac) (ke := ke) (ou := ou) (ru := ru) (ip := ip) (st := st) (pX := pX) (aX := aX) (co := co) (bu := bu) (pY := pY) (aY := aY) hm i 0 0 (by omega)
    exact ⟨r, _, _, cn_mk S D hz, fun post hp => br_t h ⟨i + 1, hX post hp⟩, fun post hp => br_t h ⟨i + 1, hY post hp⟩⟩
  | succ e ih =>
    intro i u v hi I
    obtain ⟨r1, u1, v1, R1, hX1, hY1⟩ := cn_resolve I (nI i)
    obtain ⟨r, u', v', R, hX, hY⟩ := ih (i + 1) u1 v1 (by omega) R1
    refine ⟨r, u', v', R, ?_, ?_⟩
    · intro post hp
      have h2 := hX post hp
      obtain ⟨z1, z2, z3, z4, z5, z6, z7, z8, z9, z10, z11, z12, z13, z14⟩ := u1
      revert hX1
      refine cn_el (P := fun u v => (∀ post : Int64 → SX → Prop, post r1 (z1, z2, z3, z4, z5, z6, z7, z8, z9, z10, z11, z12, z13, z14) → wpX_resolve post u (nI i)) → cn_XA post (e + 1 + 1) (nI i) u) ?_ I
      intro ser kd pl da ar ac ke ou ru ip st pX aX co bu pY aY q S D hz hX1
      have hm := S.1
      have h : ¬ nI m ≤ nI i := nI_ge (by omega) (by omega)
      exact br_f h (hX1 _ (nm_r (nI_1 i) h2))
    · intro post hp
      have h2 := hY post hp
      obtain ⟨z1, z2, z3, z4, z5, z6, z7, z8, z9, z10, z11, z12, z13, z14, z15⟩ := v1
      revert hY1
      refine cn_el (P := fun u v => (∀ post : Int64 → SY → Prop, post r1 (z1, z2, z3, z4, z5, z6, z7, z8, z9, z10, z11, z12, z13, z14, z15) → wpY_resolve post v (nI i)) → cn_YA post (e + 1 + 1) (nI i) v) ?_ I
      intro ser kd pl da ar ac ke ou ru ip st pX aX co bu pY aY q S D hz hY1
      have hm := S.1
      have h : ¬ nI m ≤ nI i := nI_ge (by omega) (by omega)
      exact br_f h (hY1 _ (nm_r (nI_1 i) h2))
theorem cn_same {f : Nat → Int32} {k : Nat} {x : Int32} (h : f k = x) : upd f k x = f := by
  funext j
  by_cases e : j = k
  · subst e
    rw [pk_us, h]
  · rw [pk_un e]
theorem cn_sameL {f : Nat → Int64} {k : Nat} {x : Int64} (h : f k = x) : vp_updL f k x = f := by
  funext j
  by_cases e : j = k
  · subst e
    rw [pk_uLs, h]
  · rw [pk_uLn e]
section
variable {m a b : Nat} {ser d0 : Int64} {kd pl : Nat → Int32} {da : Nat → Int64} {ar ac ke : Nat → Int32} {ou : Nat → Int64} {ru ip st pX : Nat → Int32} {aX : Nat → Int64} {co bu pY : Nat → Int32} {aY : Nat → Int64} {q : Nat → Nat}
theorem cn_Sta_add (hm : m < 6) (hab : nI a = 0 → ¬ nI b = 3 → nI b = 0) (S : cn_Sta m kd pl da ar ac co q) : cn_Sta (m + 1) (upd kd m (nI a)) (upd pl m (nI b)) (vp_updL da m d0) ar ac (upd co m (vp_nar .short d0.toInt32.toInt16.toInt32)) q := by
  obtain ⟨S1, S2, S3, S4, S5, S6, S7⟩ := S
  refine ⟨hm, fun c hc => ?_, S3, S4, fun c p hc hp => ?_, fun c => ?_, fun c hc => S7 c (by omega)⟩
  · by_cases e : c = m
    · subst e
      rw [pk_us, pk_us]
      exact hab
    · rw [pk_un e, pk_un e]
      exact S2 c (by omega)
  · have : c ≠ m := fun e => by
      have := S7 c (by omega)
      omega
    obtain ⟨j, hj, ej⟩ := S5 c p (by omega) hp
    exact ⟨j, by omega, ej⟩
  · by_cases e : c = m
    · subst e
      rw [pk_us, pk_uLs]
      exact cn_code d0
    · rw [pk_un e, pk_uLn e]
      exact S6 c
theorem cn_Dyn_add (D : cn_Dyn m ke ou ru) : cn_Dyn (m + 1) ke ou ru := ⟨fun c hc => D.1 c (by omega), fun c hc => D.2.1 c (by omega), D.2.2⟩
theorem cn_ip_add (hi : ∀ c, ip c = 0) : ∀ c, upd ip m 0 c = 0 := fun c => by
  by_cases e : c = m
  · subst e
    exact pk_us
  · rw [pk_un e]
    exact hi c
theorem cn_x66 (hm : m < 6) (S : cn_Sta m kd pl da ar ac co q) (D : cn_Dyn m ke ou ru) {post : Int32 → SX → Prop} (h : post (nI m) (nI (m + 1), ser, upd kd m (nI a), upd pl m (nI b), vp_updL da m d0, ar, ac, ke, ou, ru, upd ip m 0, st, pX, aX)) : wX_addEntry_66 post (nI a) (nI b) d0 (nI m) ser kd pl da ar ac ke ou ru ip st pX aX := by
  have em := cn_cl6 hm
  have vm := cn_in6 hm
  have e1 : ac m = 0 := by rw [S.2.2.1 m, S.2.2.2.2.2.2 m (Nat.le_refl m)]; rfl
  have e2 := D.1 m (Nat.le_refl m)
  have e3 := D.2.1 m (Nat.le_refl m)
  have e4 := D.2.2 m e2
  exact And.intro vm (nm_r (e' := upd kd m (nI a)) (by rw [em]) ⟨vm, nm_r (e' := upd pl m (nI b)) (by rw [em]) ⟨vm, nm_r (e' := vp_updL da m d0) (by rw [em]) ⟨vm, nm_r (e' := ac) (by rw [em, cn_same e1]) ⟨vm, nm_r (e' := ke) (by rw [em, cn_b0, cn_same e2]) ⟨vm, nm_r (e' := ou) (by rw [em, cn_sameL e3]) ⟨vm, nm_r (e' := ru) (by rw [em, cn_same e4]) ⟨vm, nm_r (e' := upd ip m 0) (by rw [em, cn_b0]) (nm_r (e' := nI (m + 1)) (nI_1 m) h)⟩⟩⟩⟩⟩⟩⟩)
theorem cn_y63 (hm : m < 6) (ha : a < 3) (hb : b < 4) {post : Int32 → SY → Prop} (h : post (nI m) (0, nI (m + 1), ser, upd kd m (nI a), upd pl m (nI b), upd co m (vp_nar .short d0.toInt32.toInt16.toInt32), vp_updL da m d0, ar, ac, ke, ou, ru, bu, pY, aY)) : wY_addEntry_63 post (nI a) (nI b) d0 0 (nI m) ser kd pl co da ar ac ke ou ru bu pY aY := by
  have em := cn_cl6 hm
  have vm := cn_in6 hm
  exact And.intro vm (nm_r (e' := upd kd m (nI a)) (by rw [em, cn_vb a (by omega)]) ⟨vm, nm_r (e' := upd pl m (nI b)) (by rw [em, cn_vb b (by omega)]) ⟨vm, nm_r (e' := upd co m (vp_nar .short d0.toInt32.toInt16.toInt32)) (by rw [em]) ⟨vm, nm_r (e' := vp_updL da m d0) (by rw [em]) (nm_r (e' := nI (m + 1)) (nI_1 m) h)⟩⟩⟩)
theorem cn_add49 (hm : m < 6) (ha : a < 3) (hb : b < 4) (hab : nI a = 0 → ¬ nI b = 3 → nI b = 0) (S : cn_Sta m kd pl da ar ac co q) (D : cn_Dyn m ke ou ru) (hi : ∀ c, ip c = 0) : ∃ r m' u' v', cn_Rel m' u' v' ∧ (∀ post : Int32 → SX → Prop, post r u' → wX_addEntry_49 post (nI a) (nI b) d0 (nI m) ser kd pl da ar ac ke ou ru ip st pX aX) ∧ (∀ post : Int32 → SY → Prop, post r v' → wY_addEntry_49 post (nI a) (nI b) d0 0 (nI m) ser kd pl co da ar ac ke ou ru bu pY aY) := by
  have R := cn_mk (ser := ser) (st := st) (pX := pX) (aX := aX) (bu := bu) (pY := pY) (aY := aY) (cn_Sta_add (d0 := d0) hm hab S) (cn_Dyn_add D) (cn_ip_add (m := m) hi)
  by_cases h3 : nI b = 3
  · by_cases h4 : (d0 &&& 3) = 0
    · exact ⟨-1, m, _, _, cn_mk S D hi, fun post h => br_t h3 (br_t h4 h), fun post h => br_t h3 (br_t ((cn_and3 d0).mp h4) h)⟩
    · have h5 : ¬ (d0.toInt32 &&& 3) = 0 := fun z => h4 ((cn_and3 d0).mpr z)
      exact ⟨nI m, m + 1, _, _, R, fun post h => br_t h3 (br_f h4 (cn_x66 hm S D h)), fun post h => br_t h3 (br_f h5 (cn_y63 hm ha hb h))⟩
  · exact ⟨nI m, m + 1, _, _, R, fun post h => br_f h3 (cn_x66 hm S D h), fun post h => br_f h3 (cn_y63 hm ha hb h)⟩
theorem cn_Sta_arg {i j : Nat} (hi : i < m) (hj : j < m) (hq : q i < 4) (S : cn_Sta m kd pl da ar ac co q) : cn_Sta m kd pl da (upd ar (4 * i + q i) (nI j)) (upd ac i (nI (q i + 1))) co (cn_gu q i (q i + 1)) := by
  obtain ⟨S1, S2, S3, S4, S5, S6, S7⟩ := S
  refine ⟨S1, S2, fun c => ?_, fun c => ?_, fun c p hc hp => ?_, S6, fun c hc => ?_⟩
  · by_cases e : c = i
    · subst e
      rw [pk_us, cn_gus]
    · rw [pk_un e, cn_gun e]
      exact S3 c
  · by_cases e : c = i
    · subst e
      rw [cn_gus]
      omega
    · rw [cn_gun e]
      exact S4 c
  · by_cases e : c = i
    · subst e
      rw [cn_gus] at hp
      by_cases e2 : p = q c
      · subst e2
        exact ⟨j, hj, pk_us⟩
      · rw [pk_un (by omega)]
        exact S5 c p hc (by omega)
    · rw [cn_gun e] at hp
      have h4 := S4 c
      rw [pk_un (by omega)]
      exact S5 c p hc hp
  · rw [cn_gun (by omega)]
    exact S7 c hc
end
end
section
/-- the relation at the head of a turn -/
def i_Rel (k : Nat) (u : SX) (v : SY) : Prop := ∃ m, cn_Rel m u v
theorem i_up {k : Nat} {u : SX} {v : SY} (h : i_Rel k u v) : i_Rel (k + 5) u v := h
theorem i_vc0 : wpX_init (fun u => wpY_init (fun v => i_Rel 0 u v)) := by
  refine ⟨0, 0, fun _ => 0, fun _ => 0, fun _ => 0, fun _ => 0, fun _ => 0, fun _ => 0, fun _ => 0, fun _ => 0, fun _ => 0, fun _ => 0, fun _ => 0, fun _ => 0, fun _ => 0, fun _ => 0, fun _ => 0, fun _ => 0, fun _ => 0, rfl, rfl, ?_, ?_, fun _ => rfl⟩
  · exact ⟨by omega, fun c hc => absurd hc (Nat.not_lt_zero c), fun _ => rfl, fun _ => Nat.zero_le 4, fun c p hc => absurd hc (Nat.not_lt_zero c), fun _ => (by decide : (0 : Int32) &&& 65535 = ((0 : Int64) &&& 65535).toInt32), fun _ _ => rfl⟩
  · exact ⟨fun _ _ => rfl, fun _ _ => rfl, fun _ _ => rfl⟩
theorem i_vc_addEntry {k : Nat} {u : SX} {v : SY} (I : i_Rel k u v) (hk : k + 5 ≤ 2560) (v1 : Int32) (v2 : Int32) (a2 : Int64) : wpX_addEntry (fun r u' => wpY_addEntry (fun r' v' => r' = r ∧ i_Rel (k + 5) u' v') v v1 v2 a2) u v1 v2 a2 := by
  obtain ⟨m, I⟩ := I
  refine cn_el (P := fun u v => wpX_addEntry (fun r u' => wpY_addEntry (fun r' v' => r' = r ∧ i_Rel (k + 5) u' v') v v1 v2 a2) u v1 v2 a2) ?_ I
  intro ser kd pl da ar ac ke ou ru ip st pX aX co bu pY aY q S D hi
  have hm6 := S.1
  have R : ∀ k, i_Rel k (nI m, ser, kd, pl, da, ar, ac, ke, ou, ru, ip, st, pX, aX) (0, nI m, ser, kd, pl, co, da, ar, ac, ke, ou, ru, bu, pY, aY) := fun k => ⟨m, cn_mk S D hi⟩
  by_cases c1 : nI m < 6
  · by_cases c2 : v1 < 0
    · exact br_t c1 (br_t c2 (br_t c1 (br_t c2 ⟨rfl, R _⟩)))
    by_cases c3 : v1 ≤ 2
    · by_cases c4 : v2 < 0
      · exact br_t c1 (br_f c2 (br_t c3 (br_t c4 (br_t c1 (br_f c2 (br_t c3 (br_t c4 ⟨rfl, R _⟩)))))))
      by_cases c5 : v2 ≤ 3
      · have hm : m < 6 := (nI_ltI (b := 6) (by omega) (by decide)).mp c1
        obtain ⟨a, ha, rfl⟩ := nI_of2 (M := 2) (n := 2) (by decide) c2 c3
        obtain ⟨b, hb, rfl⟩ := nI_of2 (M := 3) (n := 3) (by decide) c4 c5
        by_cases c6 : nI a = 0
        · by_cases c7 : nI b = 1
          · exact br_t c1 (br_f c2 (br_t c3 (br_f c4 (br_t c5 (br_t c6 (br_t c7 (br_t c1 (br_f c2 (br_t c3 (br_f c4 (br_t c5 (br_t c6 (br_t c7 ⟨rfl, R _⟩)))))))))))))
          by_cases c8 : nI b = 2
          · exact br_t c1 (br_f c2 (br_t c3 (br_f c4 (br_t c5 (br_t c6 (br_f c7 (br_t c8 (br_t c1 (br_f c2 (br_t c3 (br_f c4 (br_t c5 (br_t c6 (br_f c7 (br_t c8 ⟨rfl, R _⟩)))))))))))))))
          have hab : nI a = 0 → ¬ nI b = 3 → nI b = 0 := fun _ z => by
            have b1 : b ≠ 1 := fun e => c7 (by rw [e]; rfl)
            have b2 : b ≠ 2 := fun e => c8 (by rw [e]; rfl)
            have b3 : b ≠ 3 := fun e => z (by rw [e]; rfl)
            have b0 : b = 0 := by omega
            rw [b0]
            rfl
          obtain ⟨r, m', u', v', R', hX, hY⟩ := cn_add49 (ser := ser) (d0 := a2) (st := st) (pX := pX) (aX := aX) (bu := bu) (pY := pY) (aY := aY) hm (by omega) (by omega) hab S D hi
          exact br_t c1 (br_f c2 (br_t c3 (br_f c4 (br_t c5 (br_t c6 (br_f c7 (br_f c8 (hX _ (br_t c1 (br_f c2 (br_t c3 (br_f c4 (br_t c5 (br_t c6 (br_f c7 (br_f c8 (hY _ ⟨rfl, m', R'⟩)))))))))))))))))
        · obtain ⟨r, m', u', v', R', hX, hY⟩ := cn_add49 (ser := ser) (d0 := a2) (st := st) (pX := pX) (aX := aX) (bu := bu) (pY := pY) (aY := aY) (a := a) (b := b) hm (by omega) (by omega) (fun z => absurd z c6) S D hi
          exact br_t c1 (br_f c2 (br_t c3 (br_f c4 (br_t c5 (br_f c6 (hX _ (br_t c1 (br_f c2 (br_t c3 (br_f c4 (br_t c5 (br_f c6 (hY _ ⟨rfl, m', R'⟩)))))))))))))
      · exact br_t c1 (br_f c2 (br_t c3 (br_f c4 (br_f c5 (br_t c1 (br_f c2 (br_t c3 (br_f c4 (br_f c5 ⟨rfl, R _⟩)))))))))
    · exact br_t c1 (br_f c2 (br_f c3 (br_t c1 (br_f c2 (br_f c3 ⟨rfl, R _⟩)))))
  · exact br_f c1 (br_f c1 ⟨rfl, R _⟩)
theorem i_vc_addArg {k : Nat} {u : SX} {v : SY} (I : i_Rel k u v) (hk : k + 5 ≤ 2560) (v1 : Int32) (v2 : Int32) : wpX_addArg (fun r u' => wpY_addArg (fun r' v' => r' = r ∧ i_Rel (k + 5) u' v') v v1 v2) u v1 v2 := by
  obtain ⟨m, I⟩ := I
  refine cn_el (P := fun u v => wpX_addArg (fun r u' => wpY_addArg (fun r' v' => r' = r ∧ i_Rel (k + 5) u' v') v v1 v2) u v1 v2) ?_ I
  intro ser kd pl da ar ac ke ou ru ip st pX aX co bu pY aY q S D hi
  have hm6 := S.1
  have R : ∀ k, i_Rel k (nI m, ser, kd, pl, da, ar, ac, ke, ou, ru, ip, st, pX, aX) (0, nI m, ser, kd, pl, co, da, ar, ac, ke, ou, ru, bu, pY, aY) := fun k => ⟨m, cn_mk S D hi⟩
  by_cases c1 : v1 < 0
  · exact br_t c1 (br_t c1 ⟨rfl, R _⟩)
  by_cases c2 : nI m ≤ v1
  · exact br_f c1 (br_t c2 (br_f c1 (br_t c2 ⟨rfl, R _⟩)))
  by_cases c3 : v2 < 0
  · exact br_f c1 (br_f c2 (br_t c3 (br_f c1 (br_f c2 (br_t c3 ⟨rfl, R _⟩)))))
  by_cases c4 : v2 < nI m
  · obtain ⟨i, hi', rfl⟩ := cn_ix6 hm6 c1 (Int32.not_le.mp c2)
    obtain ⟨j, hj', rfl⟩ := cn_ix6 hm6 c3 c4
    have vi : vp_in (nI i) 6 := cn_in6 (by omega)
    have vj : vp_in (nI j) 6 := cn_in6 (by omega)
    have ei : (nI i).toNatClampNeg = i := cn_cl6 (by omega)
    by_cases c5 : kd (nI i).toNatClampNeg = 0
    · exact br_f c1 (br_f c2 (br_f c3 (br_t c4 ⟨vi, br_t c5 (br_f c1 (br_f c2 (br_f c3 (br_t c4 ⟨vi, br_t c5 ⟨rfl, R _⟩⟩))))⟩)))
    by_cases c6 : kd (nI j).toNatClampNeg = 2
    · exact br_f c1 (br_f c2 (br_f c3 (br_t c4 ⟨vi, br_f c5 ⟨vj, br_t c6 (br_f c1 (br_f c2 (br_f c3 (br_t c4 ⟨vi, br_f c5 ⟨vj, br_t c6 ⟨rfl, R _⟩⟩⟩))))⟩⟩)))
    by_cases c7 : ac (nI i).toNatClampNeg < 4
    · have ea : ac (nI i).toNatClampNeg = nI (q i) := by rw [ei]; exact S.2.2.1 i
      have h4 := S.2.2.2.1 i
      have hq : q i < 4 := by
        rw [ea] at c7
        exact (nI_ltI (b := 4) (by omega) (by decide)).mp c7
      have R' := cn_mk (ser := ser) (st := st) (pX := pX) (aX := aX) (bu := bu) (pY := pY) (aY := aY) (cn_Sta_arg hi' hj' hq S) D hi
      have vx : vp_in (nI i * 4 + nI (q i)) 24 := by rw [cn_ix]; exact vp_in_nI (by omega) (by decide)
      have ex : (nI i * 4 + nI (q i)).toNatClampNeg = 4 * i + q i := by rw [cn_ix]; exact nI_clamp (by omega)
      have Y : wpY_addArg (fun r' v' => r' = nI (q i) ∧ i_Rel (k + 5) (nI m, ser, kd, pl, da, upd ar (4 * i + q i) (nI j), upd ac i (nI (q i + 1)), ke, ou, ru, ip, st, pX, aX) v') (0, nI m, ser, kd, pl, co, da, ar, ac, ke, ou, ru, bu, pY, aY) (nI i) (nI j) := by
        refine br_f c1 (br_f c2 (br_f c3 (br_t c4 ⟨vi, br_f c5 ⟨vj, br_f c6 ⟨vi, br_t c7 ?_⟩⟩⟩)))
        rw [ea]
        exact ⟨vi, ⟨vx, nm_r (e' := upd ar (4 * i + q i) (nI j)) (by rw [ex, cn_vb j (by omega)]) ⟨vi, ⟨vi, nm_r (e' := upd ac i (nI (q i + 1))) (by rw [ei, nI_1, cn_vb (q i + 1) (by omega)]) ⟨rfl, m, R'⟩⟩⟩⟩⟩
      exact br_f c1 (br_f c2 (br_f c3 (br_t c4 ⟨vi, br_f c5 ⟨vj, br_f c6 ⟨vi, br_t c7 ⟨vi, nm_r ea ⟨vx, nm_r (e' := upd ar (4 * i + q i) (nI j)) (by rw [ex]) ⟨vi, nm_r (e' := upd ac i (nI (q i + 1))) (by rw [ei, nI_1]) Y⟩⟩⟩⟩⟩⟩)))
    · exact br_f c1 (br_f c2 (br_f c3 (br_t c4 ⟨vi, br_f c5 ⟨vj, br_f c6 ⟨vi, br_f c7 (br_f c1 (br_f c2 (br_f c3 (br_t c4 ⟨vi, br_f c5 ⟨vj, br_f c6 ⟨vi, br_f c7 ⟨rfl, R _⟩⟩⟩⟩))))⟩⟩⟩)))
  · exact br_f c1 (br_f c2 (br_f c3 (br_f c4 (br_f c1 (br_f c2 (br_f c3 (br_f c4 ⟨rfl, R _⟩)))))))
theorem i_vc_resolve {k : Nat} {u : SX} {v : SY} (I : i_Rel k u v) (hk : k + 5 ≤ 2560) (v1 : Int32) : wpX_resolve (fun r u' => wpY_resolve (fun r' v' => r' = r ∧ i_Rel (k + 5) u' v') v v1) u v1 := by
  obtain ⟨m, I⟩ := I
  obtain ⟨r, u', v', R, hX, hY⟩ := cn_resolve I v1
  exact hX _ (hY _ ⟨rfl, m, R⟩)
theorem i_vc_resolveAll {k : Nat} {u : SX} {v : SY} (I : i_Rel k u v) (hk : k + 5 ≤ 2560) : wpX_resolveAll (fun r u' => wpY_resolveAll (fun r' v' => r' = r ∧ i_Rel (k + 5) u' v') v) u := by
  obtain ⟨m, I⟩ := I
  obtain ⟨r, u', v', R, hX, hY⟩ := cn_ra2 m 0 u v (by omega) I
  revert hX hY
  refine cn_el (P := fun u v => (∀ post : Int32 → SX → Prop, post r u' → cn_XA post (m + 1) (nI 0) u) → (∀ post : Int32 → SY → Prop, post r v' → cn_YA post (m + 1) (nI 0) v) → wpX_resolveAll (fun r u' => wpY_resolveAll (fun r' v' => r' = r ∧ i_Rel (k + 5) u' v') v) u) ?_ I
  intro ser kd pl da ar ac ke ou ru ip st pX aX co bu pY aY q S D hi hX hY
  exact ⟨m + 1, hX _ ⟨m + 1, hY _ ⟨rfl, m, R⟩⟩⟩
theorem i_vc_statusOf {k : Nat} {u : SX} {v : SY} (I : i_Rel k u v) (hk : k + 5 ≤ 2560) (v1 : Int32) : wpX_statusOf (fun r => wpY_statusOf (fun r' => r' = r ∧ i_Rel (k + 5) u v) v v1) u v1 := by
  obtain ⟨m, I⟩ := I
  refine cn_el (P := fun u v => wpX_statusOf (fun r => wpY_statusOf (fun r' => r' = r ∧ i_Rel (k + 5) u v) v v1) u v1) ?_ I
  intro ser kd pl da ar ac ke ou ru ip st pX aX co bu pY aY q S D hi
  have hm6 := S.1
  have R : ∀ k, i_Rel k (nI m, ser, kd, pl, da, ar, ac, ke, ou, ru, ip, st, pX, aX) (0, nI m, ser, kd, pl, co, da, ar, ac, ke, ou, ru, bu, pY, aY) := fun k => ⟨m, cn_mk S D hi⟩
  by_cases c1 : v1 < 0
  · exact br_t c1 (br_t c1 ⟨rfl, R _⟩)
  by_cases c2 : v1 < nI m
  · obtain ⟨i, hi', rfl⟩ := cn_ix6 hm6 c1 c2
    have vi : vp_in (nI i) 6 := cn_in6 (by omega)
    by_cases c3 : ke (nI i).toNatClampNeg = 0
    · exact br_f c1 (br_t c2 ⟨vi, br_t c3 (br_f c1 (br_t c2 ⟨vi, br_t c3 ⟨rfl, R _⟩⟩))⟩)
    · exact br_f c1 (br_t c2 ⟨vi, br_f c3 ⟨vi, br_f c1 (br_t c2 ⟨vi, br_f c3 ⟨vi, ⟨rfl, R _⟩⟩⟩)⟩⟩)
  · exact br_f c1 (br_f c2 (br_f c1 (br_f c2 ⟨rfl, R _⟩)))
theorem i_vc_callsOf {k : Nat} {u : SX} {v : SY} (I : i_Rel k u v) (hk : k + 5 ≤ 2560) (v1 : Int32) : wpX_callsOf (fun r => wpY_callsOf (fun r' => r' = r ∧ i_Rel (k + 5) u v) v v1) u v1 := by
  obtain ⟨m, I⟩ := I
  refine cn_el (P := fun u v => wpX_callsOf (fun r => wpY_callsOf (fun r' => r' = r ∧ i_Rel (k + 5) u v) v v1) u v1) ?_ I
  intro ser kd pl da ar ac ke ou ru ip st pX aX co bu pY aY q S D hi
  have hm6 := S.1
  have R : ∀ k, i_Rel k (nI m, ser, kd, pl, da, ar, ac, ke, ou, ru, ip, st, pX, aX) (0, nI m, ser, kd, pl, co, da, ar, ac, ke, ou, ru, bu, pY, aY) := fun k => ⟨m, cn_mk S D hi⟩
  by_cases c1 : v1 < 0
  · exact br_t c1 (br_t c1 ⟨rfl, R _⟩)
  by_cases c2 : v1 < nI m
  · obtain ⟨i, hi', rfl⟩ := cn_ix6 hm6 c1 c2
    have vi : vp_in (nI i) 6 := cn_in6 (by omega)
    exact br_f c1 (br_t c2 ⟨vi, br_f c1 (br_t c2 ⟨vi, ⟨rfl, R _⟩⟩)⟩)
  · exact br_f c1 (br_f c2 (br_f c1 (br_f c2 ⟨rfl, R _⟩)))
end
