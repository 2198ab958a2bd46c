section
/-! numbers, stores, masks (the first rows are the kit's rows to paste, as they stand) -/
section
theorem pk_us {f : Nat → Int32} {k : Nat} {x : Int32} : upd f k x k = x := if_pos rfl
theorem pk_un {f : Nat → Int32} {k j : Nat} {x : Int32} (h : j ≠ k) : upd f k x j = f j := if_neg h
theorem pk_uLs {f : Nat → Int64} {k : Nat} {x : Int64} : vp_updL f k x k = x := if_pos rfl
theorem pk_uLn {f : Nat → Int64} {k j : Nat} {x : Int64} (h : j ≠ k) : vp_updL f k x j = f j := if_neg h
theorem pk_sub {a b : Nat} (h : b ≤ a) : nI a - nI b = nI (a - b) := by
  obtain ⟨c, rfl⟩ : ∃ c, a = c + b := ⟨a - b, by omega⟩
  rw [← nI_add, Int32.add_sub_cancel, Nat.add_sub_cancel]
theorem pk_m1 (n : Nat) : nI (n + 1) + (-1) = nI n := by
  rw [← nI_1, Int32.add_assoc, show (1 : Int32) + (-1) = 0 from rfl, Int32.add_zero]
theorem pk_mul (a b : Nat) : nI a * nI b = nI (a * b) := (Int32.ofNat_mul a b).symm
theorem pk_div {a d : Nat} (ha : a < 2 ^ 31) (h0 : 0 < d) (hd : d < 2 ^ 31) : nI a / nI d = nI (a / d) := by
  apply Int32.toInt_inj.mp
  rw [lg_idiv_nonneg (by rw [nI_toInt ha]; omega) (by rw [nI_toInt hd]; omega), nI_toInt ha, nI_toInt hd, nI_toInt (Nat.lt_of_le_of_lt (Nat.div_le_self a d) ha)]
  first | rfl | exact (Int.natCast_ediv _ _).symm
theorem pk_rem {a d : Nat} (ha : a < 2 ^ 31) (h0 : 0 < d) (hd : d < 2 ^ 31) : nI a - nI a / nI d * nI d = nI (a % d) := by
  rw [pk_div ha h0 hd, pk_mul, pk_sub (Nat.div_mul_le_self a d)]
  exact congrArg nI (by have := Nat.div_add_mod' a d; omega)
theorem pk_le {x y : Int32} {A B : Prop} (a b : Nat) (f : a ≤ b → A) (g : b < a → B) (hx : x = nI a := by rfl) (hy : y = nI b := by rfl) (ha : a < 2 ^ 31 := by omega) (hb : b < 2 ^ 31 := by omega) : (x ≤ y → A) ∧ (¬ x ≤ y → B) := by
  subst hx hy
  rw [nI_leI ha hb]
  exact ⟨f, fun z => g (by omega)⟩
theorem pk_lt {x y : Int32} {A B : Prop} (a b : Nat) (f : a < b → A) (g : b ≤ a → B) (hx : x = nI a := by rfl) (hy : y = nI b := by rfl) (ha : a < 2 ^ 31 := by omega) (hb : b < 2 ^ 31 := by omega) : (x < y → A) ∧ (¬ x < y → B) := by
  subst hx hy
  rw [nI_ltI ha hb]
  exact ⟨f, fun z => g (by omega)⟩
theorem pk_eq {x y : Int32} {A B : Prop} (a b : Nat) (f : a = b → A) (g : a ≠ b → B) (hx : x = nI a := by rfl) (hy : y = nI b := by rfl) (ha : a < 2 ^ 31 := by omega) (hb : b < 2 ^ 31 := by omega) : (x = y → A) ∧ (¬ x = y → B) := by
  subst hx hy
  rw [nI_eq ha hb]
  exact ⟨f, g⟩
theorem pk_in {x : Int32} (n N : Nat) (h : n < N) (hx : x = nI n := by rfl) (hN : N < 2 ^ 31 := by omega) : vp_in x N := by
  subst hx
  exact vp_in_nI h hN
theorem pk_cl {x : Int32} (n : Nat) (hx : x = nI n := by rfl) (h : n < 2 ^ 31 := by omega) : x.toNatClampNeg = n := by
  subst hx
  exact nI_clamp h
theorem pk_tn {n : Nat} (h : n < 2 ^ 32) : (nI n).toBitVec.toNat = n := Nat.mod_eq_of_lt h
theorem pk_and (x : Int32) {m : Int32} (k : Nat) (hm : m.toBitVec.toNat = 2 ^ k - 1) : x &&& m = nI (x.toBitVec.toNat % 2 ^ k) := by
  apply Int32.toBitVec_inj.mp
  apply BitVec.eq_of_toNat_eq
  rw [Int32.toBitVec_and, BitVec.toNat_and, hm, Nat.and_two_pow_sub_one_eq_mod]
  show _ = (BitVec.ofNat 32 _).toNat
  rw [BitVec.toNat_ofNat]
  exact (Nat.mod_eq_of_lt (Nat.lt_of_le_of_lt (Nat.mod_le _ _) x.toBitVec.isLt)).symm
theorem pk_andE (x : Int32) {m : Int32} (k : Nat) (hm : m.toBitVec.toNat = 2 ^ k - 1) : ∃ j : Nat, j < 2 ^ k ∧ x &&& m = nI j := ⟨_, Nat.mod_lt _ (Nat.two_pow_pos k), pk_and x k hm⟩
theorem pk_andIn (x : Int32) {m : Int32} (k : Nat) (hm : m.toBitVec.toNat = 2 ^ k - 1) (hk : k ≤ 30) : vp_in (x &&& m) (2 ^ k) := by
  obtain ⟨j, hj, e⟩ := pk_andE x k hm
  rw [e]
  exact vp_in_nI hj (Nat.lt_of_le_of_lt (Nat.pow_le_pow_right (by decide) hk) (by decide))
theorem nx_and (a b : Nat) : nI a &&& nI b = nI (a &&& b) := by
  apply Int32.toBitVec_inj.1
  show BitVec.ofNat 32 a &&& BitVec.ofNat 32 b = BitVec.ofNat 32 (a &&& b)
  apply BitVec.eq_of_getLsbD_eq
  intro i hi
  simp [hi]
theorem nx_cnt : ∀ j : Fin 32, (UInt32.ofNat j.val &&& Int32.toUInt32 31).toNat % 32 = j.val := by decide +kernel
theorem nx_ush {k j : Nat} (hk : k < 65536) (hj : j < 32) : ((nI k).toUInt32 >>> ((nI j).toUInt32 &&& Int32.toUInt32 31)).toInt32 = nI (k >>> j) := by
  have hs : k >>> j ≤ k := by
    rw [Nat.shiftRight_eq_div_pow]
    exact Nat.div_le_self _ _
  have e2 : UInt32.ofNat k >>> (UInt32.ofNat j &&& Int32.toUInt32 31) = UInt32.ofNat (k >>> j) := by
    apply UInt32.toNat_inj.1
    have h1 : (UInt32.ofNat k).toNat = k := Nat.mod_eq_of_lt (by omega)
    have h2 : (UInt32.ofNat (k >>> j)).toNat = k >>> j := Nat.mod_eq_of_lt (by omega)
    rw [UInt32.toNat_shiftRight, nx_cnt ⟨j, hj⟩, h1, h2]
  show (UInt32.ofNat k >>> (UInt32.ofNat j &&& Int32.toUInt32 31)).toInt32 = _
  rw [e2]
  rfl
theorem nx_bit {k j : Nat} (hk : k < 65536) (hj : j < 16) : (((nI k).toUInt32 >>> ((nI j).toUInt32 &&& Int32.toUInt32 31)).toInt32 &&& 1) = 0 ↔ k.testBit j = false := by
  rw [nx_ush hk (by omega)]
  show nI (k >>> j) &&& nI 1 = 0 ↔ _
  rw [nx_and, Nat.and_one_is_mod, ← nI_0, nI_eq (by omega) (by omega), Nat.testBit_eq_decide_div_mod_eq, Nat.shiftRight_eq_div_pow, decide_eq_false_iff_not]
  generalize k / 2 ^ j = z
  omega
theorem zb_or (a b : Nat) : nI a ||| nI b = nI (a ||| b) := by
  apply Int32.toBitVec_inj.1
  show BitVec.ofNat 32 a ||| BitVec.ofNat 32 b = BitVec.ofNat 32 (a ||| b)
  apply BitVec.eq_of_getLsbD_eq
  intro i hi
  simp [hi]
/-- masks below 32 -/
theorem zm_bit {m x : Nat} (hm : m < 32) (hx : x < 5) : (((nI m).toUInt32 >>> ((nI x).toUInt32 &&& Int32.toUInt32 31)).toInt32 &&& 1) = 0 ↔ m.testBit x = false := nx_bit (by omega) (by omega)
theorem zm_sg : ∀ m, m < 32 → ((nI m &&& (nI m - 1)) = 0 ↔ ∀ x, x < 5 → ∀ y, y < 5 → m.testBit x = true → m.testBit y = true → x = y) := by decide +kernel
theorem zm_shl : ∀ x, x < 5 → ((1 : Int32) <<< (nI x &&& 31)) = nI (2 ^ x) := by decide +kernel
theorem zm_sar : ∀ m, m < 32 → ∀ x, x < 5 → (((nI m >>> (nI x &&& 31)) &&& 1) = 0 ↔ m.testBit x = false) := by decide +kernel
theorem zm_pw {x : Nat} (hx : x < 5) : 2 ^ x < 32 := by
  have : x = 0 ∨ x = 1 ∨ x = 2 ∨ x = 3 ∨ x = 4 := by omega
  rcases this with h | h | h | h | h <;> subst h <;> decide
theorem zm_ne : ∀ m, m < 32 → m ≠ 0 → ∃ x, x < 5 ∧ m.testBit x = true := by decide +kernel
theorem zm_and (m s : Nat) (x : Nat) : (m &&& s).testBit x = (m.testBit x && s.testBit x) := Nat.testBit_and m s x
theorem zm_andlt {m s : Nat} (h : m < 32) : m &&& s < 32 := Nat.lt_of_le_of_lt Nat.and_le_left h
theorem zm_n0 {m : Nat} (h : m < 2 ^ 31) : nI m = 0 ↔ m = 0 := by rw [← nI_0, nI_eq h (by omega)]
theorem zm_cl {m : Nat} (h : m < 48) : (nI m).toNatClampNeg = m := nI_clamp (by omega)
theorem zm_mask31 (x : Int32) : ∃ m, m < 32 ∧ x &&& 31 = nI m := pk_andE x 5 (by decide)
theorem zm_mask3 (x : Int32) : ∃ m, m < 4 ∧ x &&& 3 = nI m := pk_andE x 2 (by decide)
theorem zn_lt0 {a : Nat} (h : a < 2 ^ 31) : ¬ nI a < 0 := nI_pos h
theorem zn_m1 : ¬ (0 : Int32) ≤ -1 := by decide
theorem zn_m {n : Nat} (h : 0 < n) : nI n + (-1) = nI (n - 1) := by
  obtain ⟨m, rfl⟩ : ∃ m, n = m + 1 := ⟨n - 1, by omega⟩
  exact pk_m1 m
theorem zn_s {n : Nat} (h : 0 < n) : nI n - 1 = nI (n - 1) := by
  obtain ⟨m, rfl⟩ : ∃ m, n = m + 1 := ⟨n - 1, by omega⟩
  exact nI_pred m
theorem zn_4 (a : Nat) : 4 * nI a = nI (4 * a) := pk_mul 4 a
theorem zn_5 (a : Nat) : 5 * nI a = nI (5 * a) := pk_mul 5 a
theorem zn_at (d v : Nat) : (4 * nI d) + nI v = nI (4 * d + v) := by rw [zn_4, nI_add]
theorem zn_at5 (d v : Nat) : (5 * nI d) + nI v = nI (5 * d + v) := by rw [zn_5, nI_add]
theorem zn_at4 (d v : Nat) : ((4 * nI d) + 4) + nI v = nI (4 * (d + 1) + v) := by
  rw [zn_4, show (4 : Int32) = nI 4 from rfl, nI_add, nI_add]
  exact congrArg nI (by omega)
/-! digits of an assignment's number -/
def zd (a v : Nat) : Nat := if v = 0 then a / 125 else if v = 1 then a / 25 % 5 else if v = 2 then a / 5 % 5 else a % 5
theorem zd_0 (a : Nat) : zd a 0 = a / 125 := rfl
theorem zd_1 (a : Nat) : zd a 1 = a / 25 % 5 := rfl
theorem zd_2 (a : Nat) : zd a 2 = a / 5 % 5 := rfl
theorem zd_3 (a : Nat) : zd a 3 = a % 5 := rfl
theorem z4 {v : Nat} (h : v < 4) : v = 0 ∨ v = 1 ∨ v = 2 ∨ v = 3 := by omega
theorem zd_lt {a : Nat} (h : a < 625) (v : Nat) : zd a v < 5 := by
  unfold zd
  split
  · omega
  · split
    · omega
    · split <;> omega
theorem zd_ext {a b : Nat} (h : ∀ v, v < 4 → zd a v = zd b v) : a = b := by
  have h0 := h 0 (by omega)
  have h1 := h 1 (by omega)
  have h2 := h 2 (by omega)
  have h3 := h 3 (by omega)
  rw [zd_0, zd_0] at h0
  rw [zd_1, zd_1] at h1
  rw [zd_2, zd_2] at h2
  rw [zd_3, zd_3] at h3
  omega
theorem zd_mono {a b v : Nat} (hv : v < 4) (h : ∀ u, u < v → zd a u = zd b u) (hab : a < b) : zd a v ≤ zd b v := by
  rcases z4 hv with e | e | e | e <;> subst e
  · rw [zd_0, zd_0]; omega
  · have h0 := h 0 (by omega)
    rw [zd_0, zd_0] at h0
    rw [zd_1, zd_1]; omega
  · have h0 := h 0 (by omega)
    have h1 := h 1 (by omega)
    rw [zd_0, zd_0] at h0
    rw [zd_1, zd_1] at h1
    rw [zd_2, zd_2]; omega
  · have h0 := h 0 (by omega)
    have h1 := h 1 (by omega)
    have h2 := h 2 (by omega)
    rw [zd_0, zd_0] at h0
    rw [zd_1, zd_1] at h1
    rw [zd_2, zd_2] at h2
    rw [zd_3, zd_3]; omega
theorem zd_mk {y : Nat → Nat} (h : ∀ v, v < 4 → y v < 5) : ∃ a, a < 625 ∧ ∀ v, v < 4 → zd a v = y v := by
  have h0 := h 0 (by omega)
  have h1 := h 1 (by omega)
  have h2 := h 2 (by omega)
  have h3 := h 3 (by omega)
  refine ⟨125 * y 0 + 25 * y 1 + 5 * y 2 + y 3, by omega, fun v hv => ?_⟩
  rcases z4 hv with e | e | e | e <;> subst e
  · rw [zd_0]; omega
  · rw [zd_1]; omega
  · rw [zd_2]; omega
  · rw [zd_3]; omega
/-! counts and the greatest over the first assignments -/
def zf_c (s : Nat → Bool) : Nat → Nat
  | 0 => 0
  | n + 1 => zf_c s n + (if s n = true then 1 else 0)
def zf_m (s : Nat → Bool) (tp : Nat → Int32) : Nat → Int32
  | 0 => -2147483648
  | n + 1 => if s n = true ∧ ¬ tp n ≤ zf_m s tp n then tp n else zf_m s tp n
theorem zf_c0 {s : Nat → Bool} {n : Nat} (h : s n = false) : zf_c s (n + 1) = zf_c s n := by
  show zf_c s n + (if s n = true then 1 else 0) = _
  rw [h]; rfl
theorem zf_c1 {s : Nat → Bool} {n : Nat} (h : s n = true) : zf_c s (n + 1) = zf_c s n + 1 := by
  show zf_c s n + (if s n = true then 1 else 0) = _
  rw [h]; rfl
theorem zf_m0 {s : Nat → Bool} {tp : Nat → Int32} {n : Nat} (h : s n = false) : zf_m s tp (n + 1) = zf_m s tp n := by
  show (if s n = true ∧ ¬ tp n ≤ zf_m s tp n then tp n else zf_m s tp n) = _
  rw [if_neg (fun z => by rw [h] at z; exact absurd z.1 (by decide))]
theorem zf_m1 {s : Nat → Bool} {tp : Nat → Int32} {n : Nat} (h : s n = true) (g : ¬ tp n ≤ zf_m s tp n) : zf_m s tp (n + 1) = tp n := if_pos ⟨h, g⟩
theorem zf_m2 {s : Nat → Bool} {tp : Nat → Int32} {n : Nat} (g : tp n ≤ zf_m s tp n) : zf_m s tp (n + 1) = zf_m s tp n := if_neg (fun z => z.2 g)
theorem zf_cn {s : Nat → Bool} {F : Nat} : ∀ G, F ≤ G → (∀ a, F ≤ a → a < G → s a = false) → zf_c s G = zf_c s F := by
  intro G
  induction G with
  | zero => intro h _; rw [show F = 0 from by omega]
  | succ G ih =>
    intro h hs
    rcases Nat.lt_or_ge G F with g | g
    · rw [show F = G + 1 from by omega]
    · rw [zf_c0 (hs G g (by omega)), ih g (fun a h1 h2 => hs a h1 (by omega))]
theorem zf_mn {s : Nat → Bool} {tp : Nat → Int32} {F : Nat} : ∀ G, F ≤ G → (∀ a, F ≤ a → a < G → s a = false) → zf_m s tp G = zf_m s tp F := by
  intro G
  induction G with
  | zero => intro h _; rw [show F = 0 from by omega]
  | succ G ih =>
    intro h hs
    rcases Nat.lt_or_ge G F with g | g
    · rw [show F = G + 1 from by omega]
    · rw [zf_m0 (hs G g (by omega)), ih g (fun a h1 h2 => hs a h1 (by omega))]
theorem zf_cle {s : Nat → Bool} (n : Nat) : zf_c s n ≤ n := by
  induction n with
  | zero => exact Nat.le_refl 0
  | succ n ih =>
    show zf_c s n + (if s n = true then 1 else 0) ≤ n + 1
    split <;> omega
theorem zf_cm {s : Nat → Bool} {a : Nat} : ∀ b, a ≤ b → zf_c s a ≤ zf_c s b := by
  intro b
  induction b with
  | zero => intro h; rw [show a = 0 from by omega]; exact Nat.le_refl _
  | succ b ih =>
    intro h
    rcases Nat.lt_or_ge b a with g | g
    · rw [show a = b + 1 from by omega]; exact Nat.le_refl _
    · have := ih g
      show zf_c s a ≤ zf_c s b + (if s b = true then 1 else 0)
      omega
/-- a threshold for a predicate that goes down -/
theorem zs_split {F : Nat} {T P : Nat → Prop} : ∀ G, F ≤ G → (∀ a b, F ≤ a → a < b → b < G → T a → T b → P b → P a) → ∃ E, F ≤ E ∧ E ≤ G ∧ ∀ a, F ≤ a → a < G → T a → (a < E ↔ P a) := by
  intro G
  induction G with
  | zero => intro h _; exact ⟨0, by omega, by omega, fun a _ h2 _ => absurd h2 (by omega)⟩
  | succ G ih =>
    intro h hd
    rcases Nat.lt_or_ge G F with g | g
    · exact ⟨G + 1, h, Nat.le_refl _, fun a h1 h2 _ => absurd h2 (by omega)⟩
    · obtain ⟨E, e1, e2, e3⟩ := ih g (fun a b h1 h2 h3 => hd a b h1 h2 (by omega))
      rcases Classical.em (T G ∧ P G) with ⟨tg, pg⟩ | n
      · refine ⟨G + 1, h, Nat.le_refl _, fun a h1 h2 ta => ⟨fun _ => ?_, fun _ => h2⟩⟩
        rcases Nat.lt_or_ge a G with q | q
        · exact hd a G h1 q (by omega) ta tg pg
        · rw [show a = G from by omega]; exact pg
      · refine ⟨E, e1, by omega, fun a h1 h2 ta => ?_⟩
        rcases Nat.lt_or_ge a G with q | q
        · exact e3 a h1 q ta
        · have ea : a = G := by omega
          subst ea
          exact ⟨fun z => absurd z (by omega), fun p => absurd ⟨ta, p⟩ n⟩
end
end
section
/-! ranges of nodes: what a cut keeps -/
section
variable {f_tokens : Int32} {f_nodes : Int32} {f_stackSize : Int32} {f_demands : Int32} {f_failed : Int32} {f_narrowed : Int32} {f_found : Int32} {f_bestTop : Int32} {a_allowed : Nat → Int32} {a_op : Nat → Int32} {a_argument : Nat → Int32} {a_left : Nat → Int32} {a_right : Nat → Int32} {a_stack : Nat → Int32} {a_demanded : Nat → Int32} {a_low : Nat → Int64} {a_high : Nat → Int64} {a_value : Nat → Int32} {a_domain : Nat → Int32} {a_divided : Nat → Int32} {a_nextValue : Nat → Int32} {a_chosen : Nat → Int32} {a_counts : Nat → Int32}
variable {T : Nat → Prop} {W : Nat → Nat → Int32} {nd : Nat}
def zi (x : Int32) (l h : Int64) : Prop := -2147483648 ≤ l.toInt ∧ l.toInt ≤ x.toInt ∧ x.toInt ≤ h.toInt ∧ h.toInt ≤ 2147483647
def zg (T : Nat → Prop) (W : Nat → Nat → Int32) (nd : Nat) (fl : Int32) (lo hi : Nat → Int64) : Prop := ∀ a, T a → fl = 0 ∧ ∀ m, m < nd → zi (W a m) (lo m) (hi m)
theorem zl_min : (-2147483648 : Int64).toInt = -2147483648 := by decide
theorem zl_max : (2147483647 : Int64).toInt = 2147483647 := by decide
theorem zl_0 : (0 : Int64).toInt = 0 := by decide
theorem zl_1 : (1 : Int64).toInt = 1 := by decide
theorem zl_m1 : (-1 : Int64).toInt = -1 := by decide
theorem zl_i0 : (0 : Int32).toInt = 0 := by decide
theorem zl_i1 : (1 : Int32).toInt = 1 := by decide
theorem zl_ine {x : Int32} (h : ¬ x = 0) : x.toInt ≠ 0 := fun e => h (Int32.toInt_inj.mp (by rw [e]; exact zl_i0.symm))
theorem zl_ie {x : Int32} (h : x.toInt = 0) : x = 0 := Int32.toInt_inj.mp (by rw [h]; exact zl_i0.symm)
theorem zl_i1e {x : Int32} (h : x.toInt = 1) : x = 1 := Int32.toInt_inj.mp (by rw [h]; exact zl_i1.symm)
theorem zl_eq0 {x : Int64} (h : x = 0) : x.toInt = 0 := by rw [h]; exact zl_0
theorem zl_le {x y : Int64} (h : x ≤ y) : x.toInt ≤ y.toInt := Int64.le_iff_toInt_le.mp h
theorem zl_nle {x y : Int64} (h : ¬ x ≤ y) : y.toInt < x.toInt := by
  have g : ¬ x.toInt ≤ y.toInt := fun z => h (Int64.le_iff_toInt_le.mpr z)
  omega
theorem zl_lt {x y : Int64} (h : x < y) : x.toInt < y.toInt := Int64.lt_iff_toInt_lt.mp h
theorem zl_nlt {x y : Int64} (h : ¬ x < y) : y.toInt ≤ x.toInt := by
  have g : ¬ x.toInt < y.toInt := fun z => h (Int64.lt_iff_toInt_lt.mpr z)
  omega
theorem zl_add {x y : Int64} (h1 : -2147483648 ≤ x.toInt) (h2 : x.toInt ≤ 2147483647) (h3 : -2147483648 ≤ y.toInt) (h4 : y.toInt ≤ 2147483647) : (x + y).toInt = x.toInt + y.toInt := Jvm.Kit.i64_add (by omega) (by omega)
theorem zl_sub {x y : Int64} (h1 : -2147483648 ≤ x.toInt) (h2 : x.toInt ≤ 2147483647) (h3 : -2147483648 ≤ y.toInt) (h4 : y.toInt ≤ 2147483647) : (x - y).toInt = x.toInt - y.toInt := Jvm.Kit.i64_sub (by omega) (by omega)
theorem zg_cut {fl fl' : Int32} {lo hi : Nat → Int64} {n : Nat} {z0 z1 : Int64} (hI : zg T W nd fl lo hi) (hz : ∀ a, T a → zi (W a n) z0 z1) (hf : fl = 0 → z0 ≤ z1 → fl' = 0) : zg T W nd fl' (vp_updL lo n z0) (vp_updL hi n z1) := by
  intro a ta
  obtain ⟨f0, g⟩ := hI a ta
  have z := hz a ta
  refine ⟨hf f0 (Int64.le_iff_toInt_le.mpr (Int.le_trans z.2.1 z.2.2.1)), fun m hm => ?_⟩
  by_cases e : m = n
  · subst e
    rw [pk_uLs, pk_uLs]
    exact z
  · rw [pk_uLn e, pk_uLn e]
    exact g m hm
theorem zg_set {fl : Int32} {lo hi : Nat → Int64} {n : Nat} {z0 z1 : Int64} (hI : zg T W n fl lo hi) (hz : ∀ a, T a → zi (W a n) z0 z1) : zg T W (n + 1) fl (vp_updL lo n z0) (vp_updL hi n z1) := by
  intro a ta
  obtain ⟨f0, g⟩ := hI a ta
  refine ⟨f0, fun m hm => ?_⟩
  by_cases e : m = n
  · subst e
    rw [pk_uLs, pk_uLs]
    exact hz a ta
  · rw [pk_uLn e, pk_uLn e]
    exact g m (by omega)
theorem zc_55 {post : SX → Prop} {n : Nat} {z0 : Int64} (hn : n < 48) (h : ∀ fl : Int32, (f_failed = 0 → a_low n ≤ z0 → fl = 0) → post (f_tokens, f_nodes, f_stackSize, f_demands, fl, f_narrowed, f_found, f_bestTop, a_allowed, a_op, a_argument, a_left, a_right, a_stack, a_demanded, a_low, vp_updL a_high n z0, a_value, a_domain, a_divided, a_nextValue, a_chosen, a_counts)) : wX_cut_55 post (nI n) z0 (nI n) f_tokens f_nodes f_stackSize f_demands f_failed f_narrowed f_found f_bestTop a_allowed a_op a_argument a_left a_right a_stack a_demanded a_low a_high a_value a_domain a_divided a_nextValue a_chosen a_counts := by
  have hin : vp_in (nI n) 48 := vp_in_nI hn (by decide)
  have hc := zm_cl hn
  refine And.intro hin (nm_r (e' := vp_updL a_high n z0) (by rw [hc]) ?_)
  refine br_c (fun h0 => ⟨hin, hin, br_c (fun h1 => h 0 (fun _ _ => rfl)) (fun h1 => h 1 (fun _ z => absurd ?_ h1))⟩) (fun h0 => h 1 (fun z => absurd z h0))
  rw [hc, pk_uLs]
  exact z
theorem zc_26 {post : SX → Prop} {n : Nat} {x4 z0 : Int64} (hn : n < 48) (h : ∀ (fl : Int32) (z1 : Int64), (z1 = a_high n ∧ a_high n ≤ x4 ∨ z1 = x4 ∧ ¬ a_high n ≤ x4) → (f_failed = 0 → z0 ≤ z1 → fl = 0) → post (f_tokens, f_nodes, f_stackSize, f_demands, fl, f_narrowed, f_found, f_bestTop, a_allowed, a_op, a_argument, a_left, a_right, a_stack, a_demanded, vp_updL a_low n z0, vp_updL a_high n z1, a_value, a_domain, a_divided, a_nextValue, a_chosen, a_counts)) : wX_cut_26 post (nI n) x4 z0 (nI n) f_tokens f_nodes f_stackSize f_demands f_failed f_narrowed f_found f_bestTop a_allowed a_op a_argument a_left a_right a_stack a_demanded a_low a_high a_value a_domain a_divided a_nextValue a_chosen a_counts := by
  have hin : vp_in (nI n) 48 := vp_in_nI hn (by decide)
  have hc := zm_cl hn
  refine And.intro hin (nm_r (e' := vp_updL a_low n z0) (by rw [hc]) ⟨hin, ?_⟩)
  rw [hc]
  refine br_c (fun h1 => ⟨hin, zc_55 hn fun fl hf => h fl _ (Or.inl ⟨rfl, h1⟩) fun e0 e1 => hf e0 ?_⟩) (fun h1 => zc_55 hn fun fl hf => h fl _ (Or.inr ⟨rfl, h1⟩) fun e0 e1 => hf e0 ?_)
  · rw [pk_uLs]; exact e1
  · rw [pk_uLs]; exact e1
theorem zc_cut {post : SX → Prop} {n : Nat} {p1 p2 : Int64} (hI : zg T W nd f_failed a_low a_high) (hn : n < nd) (hd : nd ≤ 48) (hc : ∀ a, T a → p1.toInt ≤ (W a n).toInt ∧ (W a n).toInt ≤ p2.toInt) (h : ∀ (fl : Int32) (lo hi : Nat → Int64), zg T W nd fl lo hi → post (f_tokens, f_nodes, f_stackSize, f_demands, fl, f_narrowed, f_found, f_bestTop, a_allowed, a_op, a_argument, a_left, a_right, a_stack, a_demanded, lo, hi, a_value, a_domain, a_divided, a_nextValue, a_chosen, a_counts)) : wpX_cut post (f_tokens, f_nodes, f_stackSize, f_demands, f_failed, f_narrowed, f_found, f_bestTop, a_allowed, a_op, a_argument, a_left, a_right, a_stack, a_demanded, a_low, a_high, a_value, a_domain, a_divided, a_nextValue, a_chosen, a_counts) (nI n) p1 p2 := by
  have hn' : n < 48 := by omega
  have hin : vp_in (nI n) 48 := vp_in_nI hn' (by decide)
  have hcl := zm_cl hn'
  have key : ∀ (z0 z1 : Int64), (z0 = a_low n ∧ p1 ≤ a_low n ∨ z0 = p1 ∧ ¬ p1 ≤ a_low n) → (z1 = a_high n ∧ a_high n ≤ p2 ∨ z1 = p2 ∧ ¬ a_high n ≤ p2) → ∀ a, T a → zi (W a n) z0 z1 := by
    intro z0 z1 h0 h1 a ta
    have c := hc a ta
    have q := (hI a ta).2 n hn
    unfold zi at q ⊢
    rcases h0 with ⟨e0, g0⟩ | ⟨e0, g0⟩ <;> rcases h1 with ⟨e1, g1⟩ | ⟨e1, g1⟩ <;> subst e0 <;> subst e1
    · exact q
    · have := zl_nle g1; omega
    · have := zl_nle g0; omega
    · have := zl_nle g1; have := zl_nle g0; omega
  refine And.intro hin ?_
  rw [hcl]
  refine br_c (fun h0 => ⟨hin, zc_26 hn' fun fl z1 g1 hf => h fl _ _ (zg_cut hI (key _ _ (Or.inl ⟨rfl, h0⟩) g1) hf)⟩) (fun h0 => zc_26 hn' fun fl z1 g1 hf => h fl _ _ (zg_cut hI (key _ _ (Or.inr ⟨rfl, h0⟩) g1) hf))
theorem zc_dem23 {post : SX → Prop} {n : Nat} (hI : zg T W nd f_failed a_low a_high) (hn : n < nd) (hd : nd ≤ 48) (hc : ∀ a, T a → ¬ W a n = 0) (h : ∀ (fl : Int32) (lo hi : Nat → Int64), zg T W nd fl lo hi → post (f_tokens, f_nodes, f_stackSize, f_demands, fl, f_narrowed, f_found, f_bestTop, a_allowed, a_op, a_argument, a_left, a_right, a_stack, a_demanded, lo, hi, a_value, a_domain, a_divided, a_nextValue, a_chosen, a_counts)) : wX_demandTrue_23 post (nI n) f_tokens f_nodes f_stackSize f_demands f_failed f_narrowed f_found f_bestTop a_allowed a_op a_argument a_left a_right a_stack a_demanded a_low a_high a_value a_domain a_divided a_nextValue a_chosen a_counts := by
  have hn' : n < 48 := by omega
  have hin : vp_in (nI n) 48 := vp_in_nI hn' (by decide)
  have hcl := zm_cl hn'
  refine And.intro hin ?_
  rw [hcl]
  refine br_c (fun h0 => ⟨hin, zc_cut hI hn hd (fun a ta => ?_) h⟩) (fun h0 => h _ _ _ hI)
  have q := (hI a ta).2 n hn
  have w := zl_ine (hc a ta)
  have e := zl_eq0 h0
  unfold zi at q
  rw [zl_m1]
  omega
theorem zc_dem {post : SX → Prop} {n : Nat} (hI : zg T W nd f_failed a_low a_high) (hn : n < nd) (hd : nd ≤ 48) (hc : ∀ a, T a → ¬ W a n = 0) (h : ∀ (fl : Int32) (lo hi : Nat → Int64), zg T W nd fl lo hi → post (f_tokens, f_nodes, f_stackSize, f_demands, fl, f_narrowed, f_found, f_bestTop, a_allowed, a_op, a_argument, a_left, a_right, a_stack, a_demanded, lo, hi, a_value, a_domain, a_divided, a_nextValue, a_chosen, a_counts)) : wpX_demandTrue post (f_tokens, f_nodes, f_stackSize, f_demands, f_failed, f_narrowed, f_found, f_bestTop, a_allowed, a_op, a_argument, a_left, a_right, a_stack, a_demanded, a_low, a_high, a_value, a_domain, a_divided, a_nextValue, a_chosen, a_counts) (nI n) := by
  have hn' : n < 48 := by omega
  have hin : vp_in (nI n) 48 := vp_in_nI hn' (by decide)
  have hcl := zm_cl hn'
  refine And.intro hin ?_
  rw [hcl]
  refine br_c (fun h0 => ⟨hin, zc_cut hI hn hd (fun a ta => ?_) (fun fl lo hi g => zc_dem23 g hn hd hc h)⟩) (fun h0 => zc_dem23 hI hn hd hc h)
  have q := (hI a ta).2 n hn
  have w := zl_ine (hc a ta)
  have e := zl_eq0 h0
  unfold zi at q
  rw [zl_1]
  omega
theorem zc_keeps {post : Int32 → Prop} {p0 p1 : Int64} (h : ∀ r : Int32, (¬ r = 0 → -2147483648 ≤ p0.toInt ∧ p1.toInt ≤ 2147483647) → post r) : wpX_keepsInside post p0 p1 := by
  refine br_c (fun _ => h 0 (fun z => absurd rfl z)) (fun h1 => br_c (fun _ => h 0 (fun z => absurd rfl z)) (fun h2 => h 1 (fun _ => ?_)))
  have a := zl_nlt h1
  have b := zl_nlt h2
  rw [zl_min] at a
  rw [zl_max] at b
  exact ⟨a, b⟩
theorem zc_isTrue {post : Int32 → Prop} {n : Nat} (hI : zg T W nd f_failed a_low a_high) (hn : n < nd) (hd : nd ≤ 48) (h : ∀ r : Int32, (¬ r = 0 → ∀ a, T a → ¬ W a n = 0) → post r) : wpX_isTrue post (f_tokens, f_nodes, f_stackSize, f_demands, f_failed, f_narrowed, f_found, f_bestTop, a_allowed, a_op, a_argument, a_left, a_right, a_stack, a_demanded, a_low, a_high, a_value, a_domain, a_divided, a_nextValue, a_chosen, a_counts) (nI n) := by
  have hn' : n < 48 := by omega
  have hin : vp_in (nI n) 48 := vp_in_nI hn' (by decide)
  have hcl := zm_cl hn'
  refine And.intro hin ?_
  rw [hcl]
  refine br_c (fun h0 => h 1 (fun _ a ta e => ?_)) (fun h0 => ⟨hin, br_c (fun _ => h 0 (fun z => absurd rfl z)) (fun h1 => h 1 (fun _ a ta e => ?_))⟩)
  · have q := (hI a ta).2 n hn
    have g := zl_lt h0
    unfold zi at q
    rw [e, zl_i0] at q
    rw [zl_0] at g
    omega
  · have q := (hI a ta).2 n hn
    have g := zl_nle h1
    unfold zi at q
    rw [e, zl_i0] at q
    rw [zl_0] at g
    omega
theorem zc_isFalse {post : Int32 → Prop} {n : Nat} (hI : zg T W nd f_failed a_low a_high) (hn : n < nd) (hd : nd ≤ 48) (h : ∀ r : Int32, (¬ r = 0 → ∀ a, T a → W a n = 0) → post r) : wpX_isFalse post (f_tokens, f_nodes, f_stackSize, f_demands, f_failed, f_narrowed, f_found, f_bestTop, a_allowed, a_op, a_argument, a_left, a_right, a_stack, a_demanded, a_low, a_high, a_value, a_domain, a_divided, a_nextValue, a_chosen, a_counts) (nI n) := by
  have hn' : n < 48 := by omega
  have hin : vp_in (nI n) 48 := vp_in_nI hn' (by decide)
  have hcl := zm_cl hn'
  refine And.intro hin ?_
  rw [hcl]
  refine br_c (fun h0 => ⟨hin, br_c (fun h1 => h 1 (fun _ a ta => ?_)) (fun _ => h 0 (fun z => absurd rfl z))⟩) (fun h0 => h 0 (fun z => absurd rfl z))
  have q := (hI a ta).2 n hn
  have e0 := zl_eq0 h0
  have e1 := zl_eq0 h1
  unfold zi at q
  exact zl_ie (by omega)
end
end
section
/-! what is known of a node goes down to those that it is made of -/
section
variable {f_tokens : Int32} {f_nodes : Int32} {f_stackSize : Int32} {f_demands : Int32} {f_failed : Int32} {f_narrowed : Int32} {f_found : Int32} {f_bestTop : Int32} {a_allowed : Nat → Int32} {a_op : Nat → Int32} {a_argument : Nat → Int32} {a_left : Nat → Int32} {a_right : Nat → Int32} {a_stack : Nat → Int32} {a_demanded : Nat → Int32} {a_low : Nat → Int64} {a_high : Nat → Int64} {a_value : Nat → Int32} {a_domain : Nat → Int32} {a_divided : Nat → Int32} {a_nextValue : Nat → Int32} {a_chosen : Nat → Int32} {a_counts : Nat → Int32}
variable {T : Nat → Prop} {W : Nat → Nat → Int32} {nd : Nat}
def zk (o x y : Int32) : Int32 := if o = 2 then x + y else if o = 3 then x - y else if o = 4 then x * y else if o = 5 then (if y ≤ x then y else x) else if o = 6 then (if x ≤ y then y else x) else if o = 7 then (if x = y then 1 else 0) else if o = 8 then (if y ≤ x then 0 else 1) else if o = 9 then (if x = 0 then 0 else if y = 0 then 0 else 1) else if o = 10 then (if x = 0 then (if y = 0 then 0 else 1) else 1) else (if y = 0 then 1 else 0)
theorem zk_2 (x y : Int32) : zk 2 x y = x + y := if_pos rfl
theorem zk_3 (x y : Int32) : zk 3 x y = x - y := by
  unfold zk; rw [if_neg (by decide), if_pos rfl]
theorem zk_4 (x y : Int32) : zk 4 x y = x * y := by
  unfold zk; rw [if_neg (by decide), if_neg (by decide), if_pos rfl]
theorem zk_5 (x y : Int32) : zk 5 x y = if y ≤ x then y else x := by
  unfold zk; rw [if_neg (by decide), if_neg (by decide), if_neg (by decide), if_pos rfl]
theorem zk_6 (x y : Int32) : zk 6 x y = if x ≤ y then y else x := by
  unfold zk; rw [if_neg (by decide), if_neg (by decide), if_neg (by decide), if_neg (by decide), if_pos rfl]
theorem zk_7 (x y : Int32) : zk 7 x y = if x = y then 1 else 0 := by
  unfold zk; rw [if_neg (by decide), if_neg (by decide), if_neg (by decide), if_neg (by decide), if_neg (by decide), if_pos rfl]
theorem zk_8 (x y : Int32) : zk 8 x y = if y ≤ x then 0 else 1 := by
  unfold zk; rw [if_neg (by decide), if_neg (by decide), if_neg (by decide), if_neg (by decide), if_neg (by decide), if_neg (by decide), if_pos rfl]
theorem zk_9 (x y : Int32) : zk 9 x y = if x = 0 then 0 else if y = 0 then 0 else 1 := by
  unfold zk; rw [if_neg (by decide), if_neg (by decide), if_neg (by decide), if_neg (by decide), if_neg (by decide), if_neg (by decide), if_neg (by decide), if_pos rfl]
theorem zk_10 (x y : Int32) : zk 10 x y = if x = 0 then (if y = 0 then 0 else 1) else 1 := by
  unfold zk; rw [if_neg (by decide), if_neg (by decide), if_neg (by decide), if_neg (by decide), if_neg (by decide), if_neg (by decide), if_neg (by decide), if_neg (by decide), if_pos rfl]
theorem zk_11 (x y : Int32) : zk 11 x y = if y = 0 then 1 else 0 := by
  unfold zk; rw [if_neg (by decide), if_neg (by decide), if_neg (by decide), if_neg (by decide), if_neg (by decide), if_neg (by decide), if_neg (by decide), if_neg (by decide), if_neg (by decide)]
/-! the numbers -/
theorem zq_addK {x y : Int32} {l h l' h' : Int64} (q : zi x l h) (q' : zi y l' h') (k : -2147483648 ≤ (l + l').toInt ∧ (h + h').toInt ≤ 2147483647) : (x + y).toInt = x.toInt + y.toInt := by
  unfold zi at q q'
  rw [zl_add (by omega) (by omega) (by omega) (by omega), zl_add (by omega) (by omega) (by omega) (by omega)] at k
  exact Jvm.Kit.i32_add (by omega) (by omega)
theorem zq_subK {x y : Int32} {l h l' h' : Int64} (q : zi x l h) (q' : zi y l' h') (k : -2147483648 ≤ (l - h').toInt ∧ (h - l').toInt ≤ 2147483647) : (x - y).toInt = x.toInt - y.toInt := by
  unfold zi at q q'
  rw [zl_sub (by omega) (by omega) (by omega) (by omega), zl_sub (by omega) (by omega) (by omega) (by omega)] at k
  exact Jvm.Kit.i32_sub (by omega) (by omega)
theorem zq_d {z x y : Int32} {l h l' h' : Int64} (q : zi x l h) (q' : zi y l' h') (e : z.toInt = x.toInt - y.toInt) : (l - h').toInt ≤ z.toInt ∧ z.toInt ≤ (h - l').toInt := by
  unfold zi at q q'
  rw [zl_sub (by omega) (by omega) (by omega) (by omega), zl_sub (by omega) (by omega) (by omega) (by omega)]
  omega
theorem zq_s {z x y : Int32} {l h l' h' : Int64} (q : zi x l h) (q' : zi y l' h') (e : z.toInt = x.toInt + y.toInt) : (l + l').toInt ≤ z.toInt ∧ z.toInt ≤ (h + h').toInt := by
  unfold zi at q q'
  rw [zl_add (by omega) (by omega) (by omega) (by omega), zl_add (by omega) (by omega) (by omega) (by omega)]
  omega
theorem zq_top (x : Int32) : x.toInt ≤ (2147483647 : Int64).toInt := by
  have := x.toInt_lt
  rw [zl_max]; omega
theorem zq_bot (x : Int32) : (-2147483648 : Int64).toInt ≤ x.toInt := by
  have := x.le_toInt
  rw [zl_min]; omega
theorem zq_min {x y : Int32} {l h : Int64} (q : zi (if y ≤ x then y else x) l h) : l.toInt ≤ x.toInt ∧ l.toInt ≤ y.toInt := by
  unfold zi at q
  by_cases g : y ≤ x
  · rw [if_pos g] at q
    have := Int32.le_iff_toInt_le.mp g
    omega
  · rw [if_neg g] at q
    have : ¬ y.toInt ≤ x.toInt := fun z => g (Int32.le_iff_toInt_le.mpr z)
    omega
theorem zq_max {x y : Int32} {l h : Int64} (q : zi (if x ≤ y then y else x) l h) : x.toInt ≤ h.toInt ∧ y.toInt ≤ h.toInt := by
  unfold zi at q
  by_cases g : x ≤ y
  · rw [if_pos g] at q
    have := Int32.le_iff_toInt_le.mp g
    omega
  · rw [if_neg g] at q
    have : ¬ x.toInt ≤ y.toInt := fun z => g (Int32.le_iff_toInt_le.mpr z)
    omega
theorem zq_mul {x y : Int32} {l h l1 h1 l2 h2 : Int64} (q : zi (x * y) l h) (q1 : zi x l1 h1) (q2 : zi y l2 h2) (p : 0 < l.toInt) (p1 : 0 ≤ l1.toInt) (p2 : 0 ≤ l2.toInt) : 1 ≤ x.toInt ∧ 1 ≤ y.toInt := by
  unfold zi at q q1 q2
  have hx : x.toInt ≠ 0 := fun e => by
    rw [zl_ie e, Int32.zero_mul, zl_i0] at q
    omega
  have hy : y.toInt ≠ 0 := fun e => by
    rw [zl_ie e, Int32.mul_zero, zl_i0] at q
    omega
  omega
theorem zz_2 {A B C : Prop} (a : A) (b : B) (c : C) : A ∧ B ∧ C := ⟨a, b, c⟩
theorem zz_4 {A B C D E : Prop} (a : A) (b : B) (c : C) (d : D) (e : E) : A ∧ B ∧ C ∧ D ∧ E := ⟨a, b, c, d, e⟩
/-! the truths -/
theorem zt_296 {post : SX → Prop} {o x3 : Int32} (ho : o ≤ 10) (h : post (f_tokens, f_nodes, f_stackSize, f_demands, f_failed, f_narrowed, f_found, f_bestTop, a_allowed, a_op, a_argument, a_left, a_right, a_stack, a_demanded, a_low, a_high, a_value, a_domain, a_divided, a_nextValue, a_chosen, a_counts)) : wX_descendTruth_296 post o x3 f_tokens f_nodes f_stackSize f_demands f_failed f_narrowed f_found f_bestTop a_allowed a_op a_argument a_left a_right a_stack a_demanded a_low a_high a_value a_domain a_divided a_nextValue a_chosen a_counts := br_t ho h
theorem zt_275 {post : SX → Prop} {o x3 x4 : Int32} (ho : o ≤ 10) (h : post (f_tokens, f_nodes, f_stackSize, f_demands, f_failed, f_narrowed, f_found, f_bestTop, a_allowed, a_op, a_argument, a_left, a_right, a_stack, a_demanded, a_low, a_high, a_value, a_domain, a_divided, a_nextValue, a_chosen, a_counts)) : wX_descendTruth_275 post o x3 x4 f_tokens f_nodes f_stackSize f_demands f_failed f_narrowed f_found f_bestTop a_allowed a_op a_argument a_left a_right a_stack a_demanded a_low a_high a_value a_domain a_divided a_nextValue a_chosen a_counts := br_t ho (zt_296 ho h)
theorem zt_203 {post : SX → Prop} {o x2 x3 x4 : Int32} (h10 : ¬ o = 10) (ho : o ≤ 10) (h : post (f_tokens, f_nodes, f_stackSize, f_demands, f_failed, f_narrowed, f_found, f_bestTop, a_allowed, a_op, a_argument, a_left, a_right, a_stack, a_demanded, a_low, a_high, a_value, a_domain, a_divided, a_nextValue, a_chosen, a_counts)) : wX_descendTruth_203 post o x2 x3 x4 f_tokens f_nodes f_stackSize f_demands f_failed f_narrowed f_found f_bestTop a_allowed a_op a_argument a_left a_right a_stack a_demanded a_low a_high a_value a_domain a_divided a_nextValue a_chosen a_counts := br_f h10 (br_f h10 (br_f h10 (zt_275 ho h)))
theorem zt_155 {post : SX → Prop} {o x2 x3 x4 : Int32} (h9 : ¬ o = 9) (h10 : ¬ o = 10) (ho : o ≤ 10) (h : post (f_tokens, f_nodes, f_stackSize, f_demands, f_failed, f_narrowed, f_found, f_bestTop, a_allowed, a_op, a_argument, a_left, a_right, a_stack, a_demanded, a_low, a_high, a_value, a_domain, a_divided, a_nextValue, a_chosen, a_counts)) : wX_descendTruth_155 post o x2 x3 x4 f_tokens f_nodes f_stackSize f_demands f_failed f_narrowed f_found f_bestTop a_allowed a_op a_argument a_left a_right a_stack a_demanded a_low a_high a_value a_domain a_divided a_nextValue a_chosen a_counts := br_f h9 (br_f h9 (zt_203 h10 ho h))
theorem zt_7 {post : SX → Prop} {l r : Nat} {z : Int32} (hI : zg T W nd f_failed a_low a_high) (hd : nd ≤ 48) (hl : l < nd) (hr : r < nd) (e1 : ¬ z = 0 → ∀ a, T a → W a l = W a r) (h : ∀ (fl : Int32) (lo hi : Nat → Int64), zg T W nd fl lo hi → post (f_tokens, f_nodes, f_stackSize, f_demands, fl, f_narrowed, f_found, f_bestTop, a_allowed, a_op, a_argument, a_left, a_right, a_stack, a_demanded, lo, hi, a_value, a_domain, a_divided, a_nextValue, a_chosen, a_counts)) : wpX_descendTruth post (f_tokens, f_nodes, f_stackSize, f_demands, f_failed, f_narrowed, f_found, f_bestTop, a_allowed, a_op, a_argument, a_left, a_right, a_stack, a_demanded, a_low, a_high, a_value, a_domain, a_divided, a_nextValue, a_chosen, a_counts) 7 (nI l) (nI r) z := by
  have hil : vp_in (nI l) 48 := vp_in_nI (by omega) (by decide)
  have hir : vp_in (nI r) 48 := vp_in_nI (by omega) (by decide)
  refine br_t rfl (br_c (fun _ => br_f (by decide) (br_f (by decide) (br_f (by decide) (zt_155 (by decide) (by decide) (by decide) (h _ _ _ hI))))) (fun z0 => zz_2 hir hir (zc_cut hI hl hd (fun a ta => ?_) (fun fl lo hi g => zz_2 hil hil (zc_cut g hr hd (fun a ta => ?_) h)))))
  · have q := (hI a ta).2 r hr
    rw [zm_cl (by omega), e1 z0 a ta]
    exact ⟨q.2.1, q.2.2.1⟩
  · have q := (g a ta).2 l hl
    rw [zm_cl (by omega), ← e1 z0 a ta]
    exact ⟨q.2.1, q.2.2.1⟩
theorem zt_8 {post : SX → Prop} {l r : Nat} {z : Int32} (hI : zg T W nd f_failed a_low a_high) (hd : nd ≤ 48) (hl : l < nd) (hr : r < nd) (e1 : ¬ z = 0 → ∀ a, T a → (W a l).toInt < (W a r).toInt) (e0 : z = 0 → ∀ a, T a → (W a r).toInt ≤ (W a l).toInt) (h : ∀ (fl : Int32) (lo hi : Nat → Int64), zg T W nd fl lo hi → post (f_tokens, f_nodes, f_stackSize, f_demands, fl, f_narrowed, f_found, f_bestTop, a_allowed, a_op, a_argument, a_left, a_right, a_stack, a_demanded, lo, hi, a_value, a_domain, a_divided, a_nextValue, a_chosen, a_counts)) : wpX_descendTruth post (f_tokens, f_nodes, f_stackSize, f_demands, f_failed, f_narrowed, f_found, f_bestTop, a_allowed, a_op, a_argument, a_left, a_right, a_stack, a_demanded, a_low, a_high, a_value, a_domain, a_divided, a_nextValue, a_chosen, a_counts) 8 (nI l) (nI r) z := by
  have hil : vp_in (nI l) 48 := vp_in_nI (by omega) (by decide)
  have hir : vp_in (nI r) 48 := vp_in_nI (by omega) (by decide)
  refine br_f (by decide) (br_t rfl (br_c (fun z0 => br_t rfl (And.intro hir (zc_cut hI hl hd (fun a ta => ⟨?_, zq_top _⟩) (fun fl lo hi g => And.intro hil (zc_cut g hr hd (fun a ta => ⟨zq_bot _, ?_⟩) h))))) (fun z0 => And.intro hir (zc_cut hI hl hd (fun a ta => ⟨zq_bot _, ?_⟩) (fun fl lo hi g => And.intro hil (zc_cut g hr hd (fun a ta => ⟨?_, zq_top _⟩) h))))))
  · have q := (hI a ta).2 r hr
    have := e0 z0 a ta
    rw [zm_cl (by omega)]
    exact Int.le_trans q.2.1 this
  · have q := (g a ta).2 l hl
    have := e0 z0 a ta
    rw [zm_cl (by omega)]
    exact Int.le_trans this q.2.2.1
  · have q := (hI a ta).2 r hr
    have := e1 z0 a ta
    unfold zi at q
    rw [zm_cl (by omega), zl_sub (by omega) (by omega) (by rw [zl_1]; omega) (by rw [zl_1]; omega), zl_1]
    omega
  · have q := (g a ta).2 l hl
    have := e1 z0 a ta
    unfold zi at q
    rw [zm_cl (by omega), zl_add (by omega) (by omega) (by rw [zl_1]; omega) (by rw [zl_1]; omega), zl_1]
    omega
theorem zt_z0 {x : Int32} (h : x = 0) : (0 : Int64).toInt ≤ x.toInt ∧ x.toInt ≤ (0 : Int64).toInt := by
  rw [h, zl_0, zl_i0]
  exact ⟨Int.le_refl _, Int.le_refl _⟩
theorem zt_9 {post : SX → Prop} {l r : Nat} {z : Int32} (hI : zg T W nd f_failed a_low a_high) (hd : nd ≤ 48) (hl : l < nd) (hr : r < nd) (e1 : ¬ z = 0 → ∀ a, T a → ¬ W a l = 0 ∧ ¬ W a r = 0) (e0 : z = 0 → ∀ a, T a → W a l = 0 ∨ W a r = 0) (h : ∀ (fl : Int32) (lo hi : Nat → Int64), zg T W nd fl lo hi → post (f_tokens, f_nodes, f_stackSize, f_demands, fl, f_narrowed, f_found, f_bestTop, a_allowed, a_op, a_argument, a_left, a_right, a_stack, a_demanded, lo, hi, a_value, a_domain, a_divided, a_nextValue, a_chosen, a_counts)) : wpX_descendTruth post (f_tokens, f_nodes, f_stackSize, f_demands, f_failed, f_narrowed, f_found, f_bestTop, a_allowed, a_op, a_argument, a_left, a_right, a_stack, a_demanded, a_low, a_high, a_value, a_domain, a_divided, a_nextValue, a_chosen, a_counts) 9 (nI l) (nI r) z := by
  refine br_f (by decide) (br_f (by decide) (br_f (by decide) (br_t rfl (br_c (fun z0 => br_t rfl (zc_isTrue hI hl hd (fun s hs => br_c (fun s0 => br_t rfl (zc_isTrue hI hr hd (fun t ht => br_c (fun t0 => zt_203 (by decide) (by decide) (h _ _ _ hI)) (fun t0 => zc_cut hI hl hd (fun a ta => zt_z0 ?_) h)))) (fun s0 => zc_cut hI hr hd (fun a ta => zt_z0 ?_) h)))) (fun z0 => zc_dem hI hl hd (fun a ta => (e1 z0 a ta).1) (fun fl lo hi g => zc_dem g hr hd (fun a ta => (e1 z0 a ta).2) h))))))
  · rcases e0 z0 a ta with e | e
    · exact e
    · exact absurd e (ht t0 a ta)
  · rcases e0 z0 a ta with e | e
    · exact absurd e (hs s0 a ta)
    · exact e
theorem zt_10 {post : SX → Prop} {l r : Nat} {z : Int32} (hI : zg T W nd f_failed a_low a_high) (hd : nd ≤ 48) (hl : l < nd) (hr : r < nd) (e1 : ¬ z = 0 → ∀ a, T a → ¬ W a l = 0 ∨ ¬ W a r = 0) (e0 : z = 0 → ∀ a, T a → W a l = 0 ∧ W a r = 0) (h : ∀ (fl : Int32) (lo hi : Nat → Int64), zg T W nd fl lo hi → post (f_tokens, f_nodes, f_stackSize, f_demands, fl, f_narrowed, f_found, f_bestTop, a_allowed, a_op, a_argument, a_left, a_right, a_stack, a_demanded, lo, hi, a_value, a_domain, a_divided, a_nextValue, a_chosen, a_counts)) : wpX_descendTruth post (f_tokens, f_nodes, f_stackSize, f_demands, f_failed, f_narrowed, f_found, f_bestTop, a_allowed, a_op, a_argument, a_left, a_right, a_stack, a_demanded, a_low, a_high, a_value, a_domain, a_divided, a_nextValue, a_chosen, a_counts) 10 (nI l) (nI r) z := by
  refine br_f (by decide) (br_f (by decide) (br_f (by decide) (br_f (by decide) (br_f (by decide) (br_f (by decide) (br_t rfl (br_c (fun z0 => zc_cut hI hl hd (fun a ta => zt_z0 (e0 z0 a ta).1) (fun fl lo hi g => zc_cut g hr hd (fun a ta => zt_z0 (e0 z0 a ta).2) h)) (fun z0 => br_t rfl (zc_isFalse hI hl hd (fun s hs => br_c (fun s0 => br_t rfl (zc_isFalse hI hr hd (fun t ht => br_c (fun t0 => zt_275 (by decide) (h _ _ _ hI)) (fun t0 => zc_dem hI hl hd (fun a ta => ?_) h)))) (fun s0 => zc_dem hI hr hd (fun a ta => ?_) h)))))))))))
  · rcases e1 z0 a ta with e | e
    · exact e
    · exact absurd (ht t0 a ta) e
  · rcases e1 z0 a ta with e | e
    · exact absurd (hs s0 a ta) e
    · exact e
theorem zt_11 {post : SX → Prop} {r : Nat} {p z : Int32} (hI : zg T W nd f_failed a_low a_high) (hd : nd ≤ 48) (hr : r < nd) (e1 : ¬ z = 0 → ∀ a, T a → W a r = 0) (e0 : z = 0 → ∀ a, T a → ¬ W a r = 0) (h : ∀ (fl : Int32) (lo hi : Nat → Int64), zg T W nd fl lo hi → post (f_tokens, f_nodes, f_stackSize, f_demands, fl, f_narrowed, f_found, f_bestTop, a_allowed, a_op, a_argument, a_left, a_right, a_stack, a_demanded, lo, hi, a_value, a_domain, a_divided, a_nextValue, a_chosen, a_counts)) : wpX_descendTruth post (f_tokens, f_nodes, f_stackSize, f_demands, f_failed, f_narrowed, f_found, f_bestTop, a_allowed, a_op, a_argument, a_left, a_right, a_stack, a_demanded, a_low, a_high, a_value, a_domain, a_divided, a_nextValue, a_chosen, a_counts) 11 p (nI r) z := by
  refine br_f (by decide) (br_f (by decide) (br_f (by decide) (br_f (by decide) (br_f (by decide) (br_f (by decide) (br_f (by decide) (br_f (by decide) (br_f (by decide) (br_f (by decide) (br_c (fun z0 => br_f (by decide) (zc_dem hI hr hd (fun a ta => e0 z0 a ta) h)) (fun z0 => zc_cut hI hr hd (fun a ta => zt_z0 (e1 z0 a ta)) h)))))))))))
/-! a node -/
theorem ze_236 {post : SX → Prop} {p0 o p1 p2 : Int32} (h4 : ¬ o = 4) (h5 : ¬ o = 5) (h6 : ¬ o = 6) (h7 : o < 7) (h : post (f_tokens, f_nodes, f_stackSize, f_demands, f_failed, f_narrowed, f_found, f_bestTop, a_allowed, a_op, a_argument, a_left, a_right, a_stack, a_demanded, a_low, a_high, a_value, a_domain, a_divided, a_nextValue, a_chosen, a_counts)) : wX_descend_236 post p0 o p1 p2 f_tokens f_nodes f_stackSize f_demands f_failed f_narrowed f_found f_bestTop a_allowed a_op a_argument a_left a_right a_stack a_demanded a_low a_high a_value a_domain a_divided a_nextValue a_chosen a_counts := br_f h4 (br_f h5 (br_f h6 (br_t h7 h)))
/-- the opening: op, left, right named -/
theorem ze_op {post : SX → Prop} {n : Nat} {o p q : Int32} (hn : n < 48) (ho : a_op n = o) (hL : a_left n = p) (hR : a_right n = q) (h2 : ¬ o = 2) (h : wX_descend_129 post (nI n) o p q f_tokens f_nodes f_stackSize f_demands f_failed f_narrowed f_found f_bestTop a_allowed a_op a_argument a_left a_right a_stack a_demanded a_low a_high a_value a_domain a_divided a_nextValue a_chosen a_counts) : wpX_descend post (f_tokens, f_nodes, f_stackSize, f_demands, f_failed, f_narrowed, f_found, f_bestTop, a_allowed, a_op, a_argument, a_left, a_right, a_stack, a_demanded, a_low, a_high, a_value, a_domain, a_divided, a_nextValue, a_chosen, a_counts) (nI n) := by
  have hin : vp_in (nI n) 48 := vp_in_nI hn (by decide)
  have hcl := zm_cl hn
  exact And.intro hin (nm_r (e' := o) (by rw [hcl]; exact ho) (And.intro hin (nm_r (e' := p) (by rw [hcl]; exact hL) (And.intro hin (nm_r (e' := q) (by rw [hcl]; exact hR) (br_f h2 h))))))
theorem ze_2 {post : SX → Prop} {n l r : Nat} (hI : zg T W nd f_failed a_low a_high) (hd : nd ≤ 48) (hn : n < nd) (hl : l < nd) (hr : r < nd) (ho : a_op n = 2) (hL : a_left n = nI l) (hR : a_right n = nI r) (hw : ∀ a, T a → W a n = W a l + W a r) (h : ∀ (fl : Int32) (lo hi : Nat → Int64), zg T W nd fl lo hi → post (f_tokens, f_nodes, f_stackSize, f_demands, fl, f_narrowed, f_found, f_bestTop, a_allowed, a_op, a_argument, a_left, a_right, a_stack, a_demanded, lo, hi, a_value, a_domain, a_divided, a_nextValue, a_chosen, a_counts)) : wpX_descend post (f_tokens, f_nodes, f_stackSize, f_demands, f_failed, f_narrowed, f_found, f_bestTop, a_allowed, a_op, a_argument, a_left, a_right, a_stack, a_demanded, a_low, a_high, a_value, a_domain, a_divided, a_nextValue, a_chosen, a_counts) (nI n) := by
  have hin : vp_in (nI n) 48 := vp_in_nI (by omega) (by decide)
  have hil : vp_in (nI l) 48 := vp_in_nI (by omega) (by decide)
  have hir : vp_in (nI r) 48 := vp_in_nI (by omega) (by decide)
  have cn := zm_cl (m := n) (by omega)
  have cl := zm_cl (m := l) (by omega)
  have cr := zm_cl (m := r) (by omega)
  refine And.intro hin (nm_r (e' := (2 : Int32)) (by rw [cn]; exact ho) (And.intro hin (nm_r (e' := nI l) (by rw [cn]; exact hL) (And.intro hin (nm_r (e' := nI r) (by rw [cn]; exact hR) (br_t rfl (zz_4 hil hir hil hir (zc_keeps (fun s hs => br_c (fun s0 => br_f (by decide) (ze_236 (by decide) (by decide) (by decide) (by decide) (h _ _ _ hI))) (fun s0 => zz_4 hin hir hin hir (zc_cut hI hl hd (fun a ta => ?_) (fun fl lo hi g => zz_4 hin hil hin hil (zc_cut g hr hd (fun a ta => ?_) h)))))))))))))
  · have k := hs s0
    rw [cl, cr] at k
    have e := zq_addK ((hI a ta).2 l hl) ((hI a ta).2 r hr) k
    rw [← hw a ta] at e
    rw [cn, cr]
    exact zq_d ((hI a ta).2 n hn) ((hI a ta).2 r hr) (by omega)
  · have k := hs s0
    rw [cl, cr] at k
    have e := zq_addK ((hI a ta).2 l hl) ((hI a ta).2 r hr) k
    rw [← hw a ta] at e
    rw [cn, cl]
    exact zq_d ((g a ta).2 n hn) ((g a ta).2 l hl) (by omega)
theorem ze_3 {post : SX → Prop} {n l r : Nat} (hI : zg T W nd f_failed a_low a_high) (hd : nd ≤ 48) (hn : n < nd) (hl : l < nd) (hr : r < nd) (ho : a_op n = 3) (hL : a_left n = nI l) (hR : a_right n = nI r) (hw : ∀ a, T a → W a n = W a l - W a r) (h : ∀ (fl : Int32) (lo hi : Nat → Int64), zg T W nd fl lo hi → post (f_tokens, f_nodes, f_stackSize, f_demands, fl, f_narrowed, f_found, f_bestTop, a_allowed, a_op, a_argument, a_left, a_right, a_stack, a_demanded, lo, hi, a_value, a_domain, a_divided, a_nextValue, a_chosen, a_counts)) : wpX_descend post (f_tokens, f_nodes, f_stackSize, f_demands, f_failed, f_narrowed, f_found, f_bestTop, a_allowed, a_op, a_argument, a_left, a_right, a_stack, a_demanded, a_low, a_high, a_value, a_domain, a_divided, a_nextValue, a_chosen, a_counts) (nI n) := by
  have hin : vp_in (nI n) 48 := vp_in_nI (by omega) (by decide)
  have hil : vp_in (nI l) 48 := vp_in_nI (by omega) (by decide)
  have hir : vp_in (nI r) 48 := vp_in_nI (by omega) (by decide)
  have cn := zm_cl (m := n) (by omega)
  have cl := zm_cl (m := l) (by omega)
  have cr := zm_cl (m := r) (by omega)
  refine ze_op (by omega) ho hL hR (by decide) (br_t rfl (zz_4 hil hir hil hir (zc_keeps (fun s hs => br_c (fun s0 => ze_236 (by decide) (by decide) (by decide) (by decide) (h _ _ _ hI)) (fun s0 => zz_4 hin hir hin hir (zc_cut hI hl hd (fun a ta => ?_) (fun fl lo hi g => zz_4 hil hin hil hin (zc_cut g hr hd (fun a ta => ?_) h))))))))
  · have k := hs s0
    rw [cl, cr] at k
    have e := zq_subK ((hI a ta).2 l hl) ((hI a ta).2 r hr) k
    rw [← hw a ta] at e
    rw [cn, cr]
    exact zq_s ((hI a ta).2 n hn) ((hI a ta).2 r hr) (by omega)
  · have k := hs s0
    rw [cl, cr] at k
    have e := zq_subK ((hI a ta).2 l hl) ((hI a ta).2 r hr) k
    rw [← hw a ta] at e
    rw [cn, cl]
    exact zq_d ((g a ta).2 l hl) ((g a ta).2 n hn) (by omega)
theorem ze_prod47 {post : SX → Prop} {n l r : Nat} {z : Int32} (hI : zg T W nd f_failed a_low a_high) (hd : nd ≤ 48) (hn : n < nd) (hl : l < nd) (hr : r < nd) (hw : ∀ a, T a → W a n = W a l * W a r) (hz : ¬ z = 0 → 0 ≤ (a_low l).toInt ∧ 0 ≤ (a_low r).toInt) (h : ∀ (fl : Int32) (lo hi : Nat → Int64), zg T W nd fl lo hi → post (f_tokens, f_nodes, f_stackSize, f_demands, fl, f_narrowed, f_found, f_bestTop, a_allowed, a_op, a_argument, a_left, a_right, a_stack, a_demanded, lo, hi, a_value, a_domain, a_divided, a_nextValue, a_chosen, a_counts)) : wX_descendProduct_47 post (nI n) (nI l) (nI r) z f_tokens f_nodes f_stackSize f_demands f_failed f_narrowed f_found f_bestTop a_allowed a_op a_argument a_left a_right a_stack a_demanded a_low a_high a_value a_domain a_divided a_nextValue a_chosen a_counts := by
  have hin : vp_in (nI n) 48 := vp_in_nI (by omega) (by decide)
  have cn := zm_cl (m := n) (by omega)
  have key : ¬ z = 0 → ¬ a_low n ≤ 0 → ∀ a, T a → 1 ≤ (W a l).toInt ∧ 1 ≤ (W a r).toInt := by
    intro z0 g a ta
    have q := (hI a ta).2 n hn
    rw [hw a ta] at q
    have g' := zl_nle g
    rw [zl_0] at g'
    exact zq_mul q ((hI a ta).2 l hl) ((hI a ta).2 r hr) g' (hz z0).1 (hz z0).2
  refine br_c (fun _ => h _ _ _ hI) (fun z0 => And.intro hin ?_)
  rw [cn]
  refine br_c (fun _ => h _ _ _ hI) (fun g => zc_cut hI hl hd (fun a ta => ⟨?_, zq_top _⟩) (fun fl lo hi g' => zc_cut g' hr hd (fun a ta => ⟨?_, zq_top _⟩) h))
  · rw [zl_1]; exact (key z0 g a ta).1
  · rw [zl_1]; exact (key z0 g a ta).2
theorem ze_prod {post : SX → Prop} {n l r : Nat} (hI : zg T W nd f_failed a_low a_high) (hd : nd ≤ 48) (hn : n < nd) (hl : l < nd) (hr : r < nd) (hw : ∀ a, T a → W a n = W a l * W a r) (h : ∀ (fl : Int32) (lo hi : Nat → Int64), zg T W nd fl lo hi → post (f_tokens, f_nodes, f_stackSize, f_demands, fl, f_narrowed, f_found, f_bestTop, a_allowed, a_op, a_argument, a_left, a_right, a_stack, a_demanded, lo, hi, a_value, a_domain, a_divided, a_nextValue, a_chosen, a_counts)) : wpX_descendProduct post (f_tokens, f_nodes, f_stackSize, f_demands, f_failed, f_narrowed, f_found, f_bestTop, a_allowed, a_op, a_argument, a_left, a_right, a_stack, a_demanded, a_low, a_high, a_value, a_domain, a_divided, a_nextValue, a_chosen, a_counts) (nI n) (nI l) (nI r) := by
  have hil : vp_in (nI l) 48 := vp_in_nI (by omega) (by decide)
  have hir : vp_in (nI r) 48 := vp_in_nI (by omega) (by decide)
  have k0 : wX_descendProduct_47 post (nI n) (nI l) (nI r) 0 f_tokens f_nodes f_stackSize f_demands f_failed f_narrowed f_found f_bestTop a_allowed a_op a_argument a_left a_right a_stack a_demanded a_low a_high a_value a_domain a_divided a_nextValue a_chosen a_counts := ze_prod47 hI hd hn hl hr hw (fun z => absurd rfl z) h
  refine And.intro hil (br_c (fun _ => k0) (fun g1 => And.intro hir (br_c (fun _ => k0) (fun g2 => zz_2 hil hir (br_c (fun _ => k0) (fun _ => ze_prod47 hI hd hn hl hr hw (fun _ => ?_) h))))))
  rw [zm_cl (by omega)] at g1 g2
  have a := zl_nlt g1
  have b := zl_nlt g2
  rw [zl_0] at a b
  exact ⟨a, b⟩
theorem ze_4 {post : SX → Prop} {n l r : Nat} (hI : zg T W nd f_failed a_low a_high) (hd : nd ≤ 48) (hn : n < nd) (hl : l < nd) (hr : r < nd) (ho : a_op n = 4) (hL : a_left n = nI l) (hR : a_right n = nI r) (hw : ∀ a, T a → W a n = W a l * W a r) (h : ∀ (fl : Int32) (lo hi : Nat → Int64), zg T W nd fl lo hi → post (f_tokens, f_nodes, f_stackSize, f_demands, fl, f_narrowed, f_found, f_bestTop, a_allowed, a_op, a_argument, a_left, a_right, a_stack, a_demanded, lo, hi, a_value, a_domain, a_divided, a_nextValue, a_chosen, a_counts)) : wpX_descend post (f_tokens, f_nodes, f_stackSize, f_demands, f_failed, f_narrowed, f_found, f_bestTop, a_allowed, a_op, a_argument, a_left, a_right, a_stack, a_demanded, a_low, a_high, a_value, a_domain, a_divided, a_nextValue, a_chosen, a_counts) (nI n) :=
  ze_op (by omega) ho hL hR (by decide) (br_f (by decide) (br_t rfl (ze_prod hI hd hn hl hr hw h)))
theorem ze_5 {post : SX → Prop} {n l r : Nat} (hI : zg T W nd f_failed a_low a_high) (hd : nd ≤ 48) (hn : n < nd) (hl : l < nd) (hr : r < nd) (ho : a_op n = 5) (hL : a_left n = nI l) (hR : a_right n = nI r) (hw : ∀ a, T a → W a n = if W a r ≤ W a l then W a r else W a l) (h : ∀ (fl : Int32) (lo hi : Nat → Int64), zg T W nd fl lo hi → post (f_tokens, f_nodes, f_stackSize, f_demands, fl, f_narrowed, f_found, f_bestTop, a_allowed, a_op, a_argument, a_left, a_right, a_stack, a_demanded, lo, hi, a_value, a_domain, a_divided, a_nextValue, a_chosen, a_counts)) : wpX_descend post (f_tokens, f_nodes, f_stackSize, f_demands, f_failed, f_narrowed, f_found, f_bestTop, a_allowed, a_op, a_argument, a_left, a_right, a_stack, a_demanded, a_low, a_high, a_value, a_domain, a_divided, a_nextValue, a_chosen, a_counts) (nI n) := by
  have hin : vp_in (nI n) 48 := vp_in_nI (by omega) (by decide)
  have cn := zm_cl (m := n) (by omega)
  refine ze_op (by omega) ho hL hR (by decide) (br_f (by decide) (br_f (by decide) (br_t rfl (And.intro hin (zc_cut hI hl hd (fun a ta => ⟨?_, zq_top _⟩) (fun fl lo hi g => And.intro hin (zc_cut g hr hd (fun a ta => ⟨?_, zq_top _⟩) h)))))))
  · have q := (hI a ta).2 n hn
    rw [hw a ta] at q
    rw [cn]
    exact (zq_min q).1
  · have q := (g a ta).2 n hn
    rw [hw a ta] at q
    rw [cn]
    exact (zq_min q).2
theorem ze_6 {post : SX → Prop} {n l r : Nat} (hI : zg T W nd f_failed a_low a_high) (hd : nd ≤ 48) (hn : n < nd) (hl : l < nd) (hr : r < nd) (ho : a_op n = 6) (hL : a_left n = nI l) (hR : a_right n = nI r) (hw : ∀ a, T a → W a n = if W a l ≤ W a r then W a r else W a l) (h : ∀ (fl : Int32) (lo hi : Nat → Int64), zg T W nd fl lo hi → post (f_tokens, f_nodes, f_stackSize, f_demands, fl, f_narrowed, f_found, f_bestTop, a_allowed, a_op, a_argument, a_left, a_right, a_stack, a_demanded, lo, hi, a_value, a_domain, a_divided, a_nextValue, a_chosen, a_counts)) : wpX_descend post (f_tokens, f_nodes, f_stackSize, f_demands, f_failed, f_narrowed, f_found, f_bestTop, a_allowed, a_op, a_argument, a_left, a_right, a_stack, a_demanded, a_low, a_high, a_value, a_domain, a_divided, a_nextValue, a_chosen, a_counts) (nI n) := by
  have hin : vp_in (nI n) 48 := vp_in_nI (by omega) (by decide)
  have cn := zm_cl (m := n) (by omega)
  refine ze_op (by omega) ho hL hR (by decide) (br_f (by decide) (br_f (by decide) (br_f (by decide) (br_t rfl (And.intro hin (zc_cut hI hl hd (fun a ta => ⟨zq_bot _, ?_⟩) (fun fl lo hi g => And.intro hin (zc_cut g hr hd (fun a ta => ⟨zq_bot _, ?_⟩) h))))))))
  · have q := (hI a ta).2 n hn
    rw [hw a ta] at q
    rw [cn]
    exact (zq_max q).1
  · have q := (g a ta).2 n hn
    rw [hw a ta] at q
    rw [cn]
    exact (zq_max q).2
/-- the truths' opening -/
theorem ze_t {post : SX → Prop} {n : Nat} {o p q : Int32} (hI : zg T W nd f_failed a_low a_high) (hd : nd ≤ 48) (hn : n < nd) (ho : a_op n = o) (hL : a_left n = p) (hR : a_right n = q) (h2 : ¬ o = 2) (h3 : ¬ o = 3) (h4 : ¬ o = 4) (h5 : ¬ o = 5) (h6 : ¬ o = 6) (h7 : ¬ o < 7) (h01 : ∀ a, T a → W a n = 0 ∨ W a n = 1) (h : ∀ (fl : Int32) (lo hi : Nat → Int64), zg T W nd fl lo hi → post (f_tokens, f_nodes, f_stackSize, f_demands, fl, f_narrowed, f_found, f_bestTop, a_allowed, a_op, a_argument, a_left, a_right, a_stack, a_demanded, lo, hi, a_value, a_domain, a_divided, a_nextValue, a_chosen, a_counts)) (hT : ∀ (post' : SX → Prop), (∀ (fl : Int32) (lo hi : Nat → Int64), zg T W nd fl lo hi → post' (f_tokens, f_nodes, f_stackSize, f_demands, fl, f_narrowed, f_found, f_bestTop, a_allowed, a_op, a_argument, a_left, a_right, a_stack, a_demanded, lo, hi, a_value, a_domain, a_divided, a_nextValue, a_chosen, a_counts)) → ∀ z : Int32, (¬ z = 0 → ∀ a, T a → W a n = 1) → (z = 0 → ∀ a, T a → W a n = 0) → wpX_descendTruth post' (f_tokens, f_nodes, f_stackSize, f_demands, f_failed, f_narrowed, f_found, f_bestTop, a_allowed, a_op, a_argument, a_left, a_right, a_stack, a_demanded, a_low, a_high, a_value, a_domain, a_divided, a_nextValue, a_chosen, a_counts) o p q z) : wpX_descend post (f_tokens, f_nodes, f_stackSize, f_demands, f_failed, f_narrowed, f_found, f_bestTop, a_allowed, a_op, a_argument, a_left, a_right, a_stack, a_demanded, a_low, a_high, a_value, a_domain, a_divided, a_nextValue, a_chosen, a_counts) (nI n) := by
  have hin : vp_in (nI n) 48 := vp_in_nI (by omega) (by decide)
  have cn := zm_cl (m := n) (by omega)
  have k : (0 < a_low n ∨ a_high n = 0) → wX_descend_355 post (nI n) o p q f_tokens f_nodes f_stackSize f_demands f_failed f_narrowed f_found f_bestTop a_allowed a_op a_argument a_left a_right a_stack a_demanded a_low a_high a_value a_domain a_divided a_nextValue a_chosen a_counts := by
    intro hk
    refine And.intro hin ?_
    rw [cn]
    refine br_c (fun g => hT _ h 0 (fun z => absurd rfl z) (fun _ a ta => ?_)) (fun g => hT _ h 1 (fun _ a ta => ?_) (fun z => absurd z (by decide)))
    · have qn := (hI a ta).2 n hn
      have g' := zl_le g
      rw [zl_0] at g'
      rcases hk with k1 | k1
      · have := zl_lt k1
        rw [zl_0] at this
        omega
      · have e := zl_eq0 k1
        rcases h01 a ta with w | w
        · exact w
        · unfold zi at qn
          rw [w, zl_i1] at qn
          omega
    · have qn := (hI a ta).2 n hn
      have g' := zl_nle g
      rw [zl_0] at g'
      rcases h01 a ta with w | w
      · unfold zi at qn
        rw [w, zl_i0] at qn
        omega
      · exact w
  refine ze_op (by omega) ho hL hR h2 (br_f h3 (br_f h4 (br_f h5 (br_f h6 (br_f h7 (And.intro hin ?_))))))
  rw [cn]
  exact br_c (fun g => k (Or.inl g)) (fun _ => And.intro hin (br_c (fun g => k (Or.inr g)) (fun _ => h _ _ _ hI)))
theorem zk_b {c : Prop} [Decidable c] : (if c then (1 : Int32) else 0) = 0 ∨ (if c then (1 : Int32) else 0) = 1 := by
  by_cases h : c
  · rw [if_pos h]; exact Or.inr rfl
  · rw [if_neg h]; exact Or.inl rfl
theorem ze_7 {post : SX → Prop} {n l r : Nat} (hI : zg T W nd f_failed a_low a_high) (hd : nd ≤ 48) (hn : n < nd) (hl : l < nd) (hr : r < nd) (ho : a_op n = 7) (hL : a_left n = nI l) (hR : a_right n = nI r) (hw : ∀ a, T a → W a n = if W a l = W a r then 1 else 0) (h : ∀ (fl : Int32) (lo hi : Nat → Int64), zg T W nd fl lo hi → post (f_tokens, f_nodes, f_stackSize, f_demands, fl, f_narrowed, f_found, f_bestTop, a_allowed, a_op, a_argument, a_left, a_right, a_stack, a_demanded, lo, hi, a_value, a_domain, a_divided, a_nextValue, a_chosen, a_counts)) : wpX_descend post (f_tokens, f_nodes, f_stackSize, f_demands, f_failed, f_narrowed, f_found, f_bestTop, a_allowed, a_op, a_argument, a_left, a_right, a_stack, a_demanded, a_low, a_high, a_value, a_domain, a_divided, a_nextValue, a_chosen, a_counts) (nI n) := by
  refine ze_t hI hd hn ho hL hR (by decide) (by decide) (by decide) (by decide) (by decide) (by decide) (fun a ta => by rw [hw a ta]; exact zk_b) h (fun post' h' z e1 e0 => zt_7 hI hd hl hr (fun z0 a ta => ?_) h')
  have e := e1 z0 a ta
  rw [hw a ta] at e
  by_cases g : W a l = W a r
  · exact g
  · rw [if_neg g] at e; exact absurd e (by decide)
theorem ze_8 {post : SX → Prop} {n l r : Nat} (hI : zg T W nd f_failed a_low a_high) (hd : nd ≤ 48) (hn : n < nd) (hl : l < nd) (hr : r < nd) (ho : a_op n = 8) (hL : a_left n = nI l) (hR : a_right n = nI r) (hw : ∀ a, T a → W a n = if W a r ≤ W a l then 0 else 1) (h : ∀ (fl : Int32) (lo hi : Nat → Int64), zg T W nd fl lo hi → post (f_tokens, f_nodes, f_stackSize, f_demands, fl, f_narrowed, f_found, f_bestTop, a_allowed, a_op, a_argument, a_left, a_right, a_stack, a_demanded, lo, hi, a_value, a_domain, a_divided, a_nextValue, a_chosen, a_counts)) : wpX_descend post (f_tokens, f_nodes, f_stackSize, f_demands, f_failed, f_narrowed, f_found, f_bestTop, a_allowed, a_op, a_argument, a_left, a_right, a_stack, a_demanded, a_low, a_high, a_value, a_domain, a_divided, a_nextValue, a_chosen, a_counts) (nI n) := by
  refine ze_t hI hd hn ho hL hR (by decide) (by decide) (by decide) (by decide) (by decide) (by decide) (fun a ta => ?_) h (fun post' h' z e1 e0 => zt_8 hI hd hl hr (fun z0 a ta => ?_) (fun z0 a ta => ?_) h')
  · rw [hw a ta]
    by_cases g : W a r ≤ W a l
    · rw [if_pos g]; exact Or.inl rfl
    · rw [if_neg g]; exact Or.inr rfl
  · have e := e1 z0 a ta
    rw [hw a ta] at e
    by_cases g : W a r ≤ W a l
    · rw [if_pos g] at e; exact absurd e (by decide)
    · have : ¬ (W a r).toInt ≤ (W a l).toInt := fun z => g (Int32.le_iff_toInt_le.mpr z)
      omega
  · have e := e0 z0 a ta
    rw [hw a ta] at e
    by_cases g : W a r ≤ W a l
    · exact Int32.le_iff_toInt_le.mp g
    · rw [if_neg g] at e; exact absurd e (by decide)
theorem ze_9 {post : SX → Prop} {n l r : Nat} (hI : zg T W nd f_failed a_low a_high) (hd : nd ≤ 48) (hn : n < nd) (hl : l < nd) (hr : r < nd) (ho : a_op n = 9) (hL : a_left n = nI l) (hR : a_right n = nI r) (hw : ∀ a, T a → W a n = if W a l = 0 then 0 else if W a r = 0 then 0 else 1) (h : ∀ (fl : Int32) (lo hi : Nat → Int64), zg T W nd fl lo hi → post (f_tokens, f_nodes, f_stackSize, f_demands, fl, f_narrowed, f_found, f_bestTop, a_allowed, a_op, a_argument, a_left, a_right, a_stack, a_demanded, lo, hi, a_value, a_domain, a_divided, a_nextValue, a_chosen, a_counts)) : wpX_descend post (f_tokens, f_nodes, f_stackSize, f_demands, f_failed, f_narrowed, f_found, f_bestTop, a_allowed, a_op, a_argument, a_left, a_right, a_stack, a_demanded, a_low, a_high, a_value, a_domain, a_divided, a_nextValue, a_chosen, a_counts) (nI n) := by
  refine ze_t hI hd hn ho hL hR (by decide) (by decide) (by decide) (by decide) (by decide) (by decide) (fun a ta => ?_) h (fun post' h' z e1 e0 => zt_9 hI hd hl hr (fun z0 a ta => ?_) (fun z0 a ta => ?_) h')
  · rw [hw a ta]
    by_cases g : W a l = 0
    · rw [if_pos g]; exact Or.inl rfl
    · rw [if_neg g]
      by_cases g' : W a r = 0
      · rw [if_pos g']; exact Or.inl rfl
      · rw [if_neg g']; exact Or.inr rfl
  · have e := e1 z0 a ta
    rw [hw a ta] at e
    by_cases g : W a l = 0
    · rw [if_pos g] at e; exact absurd e (by decide)
    · rw [if_neg g] at e
      by_cases g' : W a r = 0
      · rw [if_pos g'] at e; exact absurd e (by decide)
      · exact ⟨g, g'⟩
  · have e := e0 z0 a ta
    rw [hw a ta] at e
    by_cases g : W a l = 0
    · exact Or.inl g
    · rw [if_neg g] at e
      by_cases g' : W a r = 0
      · exact Or.inr g'
      · rw [if_neg g'] at e; exact absurd e (by decide)
theorem ze_10 {post : SX → Prop} {n l r : Nat} (hI : zg T W nd f_failed a_low a_high) (hd : nd ≤ 48) (hn : n < nd) (hl : l < nd) (hr : r < nd) (ho : a_op n = 10) (hL : a_left n = nI l) (hR : a_right n = nI r) (hw : ∀ a, T a → W a n = if W a l = 0 then (if W a r = 0 then 0 else 1) else 1) (h : ∀ (fl : Int32) (lo hi : Nat → Int64), zg T W nd fl lo hi → post (f_tokens, f_nodes, f_stackSize, f_demands, fl, f_narrowed, f_found, f_bestTop, a_allowed, a_op, a_argument, a_left, a_right, a_stack, a_demanded, lo, hi, a_value, a_domain, a_divided, a_nextValue, a_chosen, a_counts)) : wpX_descend post (f_tokens, f_nodes, f_stackSize, f_demands, f_failed, f_narrowed, f_found, f_bestTop, a_allowed, a_op, a_argument, a_left, a_right, a_stack, a_demanded, a_low, a_high, a_value, a_domain, a_divided, a_nextValue, a_chosen, a_counts) (nI n) := by
  refine ze_t hI hd hn ho hL hR (by decide) (by decide) (by decide) (by decide) (by decide) (by decide) (fun a ta => ?_) h (fun post' h' z e1 e0 => zt_10 hI hd hl hr (fun z0 a ta => ?_) (fun z0 a ta => ?_) h')
  · rw [hw a ta]
    by_cases g : W a l = 0
    · rw [if_pos g]
      by_cases g' : W a r = 0
      · rw [if_pos g']; exact Or.inl rfl
      · rw [if_neg g']; exact Or.inr rfl
    · rw [if_neg g]; exact Or.inr rfl
  · have e := e1 z0 a ta
    rw [hw a ta] at e
    by_cases g : W a l = 0
    · rw [if_pos g] at e
      by_cases g' : W a r = 0
      · rw [if_pos g'] at e; exact absurd e (by decide)
      · exact Or.inr g'
    · exact Or.inl g
  · have e := e0 z0 a ta
    rw [hw a ta] at e
    by_cases g : W a l = 0
    · rw [if_pos g] at e
      by_cases g' : W a r = 0
      · exact ⟨g, g'⟩
      · rw [if_neg g'] at e; exact absurd e (by decide)
    · rw [if_neg g] at e; exact absurd e (by decide)
theorem ze_11 {post : SX → Prop} {n r : Nat} {p : Int32} (hI : zg T W nd f_failed a_low a_high) (hd : nd ≤ 48) (hn : n < nd) (hr : r < nd) (ho : a_op n = 11) (hL : a_left n = p) (hR : a_right n = nI r) (hw : ∀ a, T a → W a n = if W a r = 0 then 1 else 0) (h : ∀ (fl : Int32) (lo hi : Nat → Int64), zg T W nd fl lo hi → post (f_tokens, f_nodes, f_stackSize, f_demands, fl, f_narrowed, f_found, f_bestTop, a_allowed, a_op, a_argument, a_left, a_right, a_stack, a_demanded, lo, hi, a_value, a_domain, a_divided, a_nextValue, a_chosen, a_counts)) : wpX_descend post (f_tokens, f_nodes, f_stackSize, f_demands, f_failed, f_narrowed, f_found, f_bestTop, a_allowed, a_op, a_argument, a_left, a_right, a_stack, a_demanded, a_low, a_high, a_value, a_domain, a_divided, a_nextValue, a_chosen, a_counts) (nI n) := by
  refine ze_t hI hd hn ho hL hR (by decide) (by decide) (by decide) (by decide) (by decide) (by decide) (fun a ta => by rw [hw a ta]; exact zk_b) h (fun post' h' z e1 e0 => zt_11 hI hd hr (fun z0 a ta => ?_) (fun z0 a ta => ?_) h')
  · have e := e1 z0 a ta
    rw [hw a ta] at e
    by_cases g : W a r = 0
    · exact g
    · rw [if_neg g] at e; exact absurd e (by decide)
  · have e := e0 z0 a ta
    rw [hw a ta] at e
    intro g
    rw [if_pos g] at e; exact absurd e (by decide)
end
end
section
/-! a node, its value, and the whole of descend -/
section
variable {f_tokens : Int32} {f_nodes : Int32} {f_stackSize : Int32} {f_demands : Int32} {f_failed : Int32} {f_narrowed : Int32} {f_found : Int32} {f_bestTop : Int32} {a_allowed : Nat → Int32} {a_op : Nat → Int32} {a_argument : Nat → Int32} {a_left : Nat → Int32} {a_right : Nat → Int32} {a_stack : Nat → Int32} {a_demanded : Nat → Int32} {a_low : Nat → Int64} {a_high : Nat → Int64} {a_value : Nat → Int32} {a_domain : Nat → Int32} {a_divided : Nat → Int32} {a_nextValue : Nat → Int32} {a_chosen : Nat → Int32} {a_counts : Nat → Int32}
variable {T : Nat → Prop} {W : Nat → Nat → Int32} {nd : Nat}
def zo (op lf rt : Nat → Int32) (n : Nat) : Prop := ((op n = 0 ∨ op n = 1) ∧ lf n = -1 ∧ rt n = -1) ∨ (op n = 11 ∧ lf n = -1 ∧ ∃ r, r < n ∧ rt n = nI r) ∨ (∃ o l r, 2 ≤ o ∧ o ≤ 10 ∧ l < n ∧ r < n ∧ op n = nI o ∧ lf n = nI l ∧ rt n = nI r)
def zv (op ar lf rt : Nat → Int32) (c w : Nat → Int32) (n : Nat) : Int32 := if op n = 0 then ar n else if op n = 1 then c (ar n &&& 3).toNatClampNeg else zk (op n) (w (lf n).toNatClampNeg) (w (rt n).toNatClampNeg)
theorem zv_0 {op ar lf rt c w : Nat → Int32} {n : Nat} (h : op n = 0) : zv op ar lf rt c w n = ar n := if_pos h
theorem zv_1 {op ar lf rt c w : Nat → Int32} {n : Nat} (h : op n = 1) : zv op ar lf rt c w n = c (ar n &&& 3).toNatClampNeg := by
  unfold zv
  rw [if_neg (by rw [h]; decide), if_pos h]
theorem zv_b {op ar lf rt c w : Nat → Int32} {n l r : Nat} {o : Int32} (h : op n = o) (h0 : ¬ o = 0) (h1 : ¬ o = 1) (hL : lf n = nI l) (hR : rt n = nI r) (hl : l < 48) (hr : r < 48) : zv op ar lf rt c w n = zk o (w l) (w r) := by
  unfold zv
  rw [h, if_neg h0, if_neg h1, hL, hR, zm_cl hl, zm_cl hr]
theorem zv_11 {op ar lf rt c w : Nat → Int32} {n r : Nat} (h : op n = 11) (hR : rt n = nI r) (hr : r < 48) : zv op ar lf rt c w n = if w r = 0 then 1 else 0 := by
  unfold zv
  rw [h, if_neg (by decide), if_neg (by decide), hR, zm_cl hr, zk_11]
/-- the binary operations one by one -/
theorem z2_10 {P : Nat → Prop} (h2 : P 2) (h3 : P 3) (h4 : P 4) (h5 : P 5) (h6 : P 6) (h7 : P 7) (h8 : P 8) (h9 : P 9) (h10 : P 10) {o : Nat} (ho : 2 ≤ o) (ho' : o ≤ 10) : P o := by
  have : o = 2 ∨ o = 3 ∨ o = 4 ∨ o = 5 ∨ o = 6 ∨ o = 7 ∨ o = 8 ∨ o = 9 ∨ o = 10 := by omega
  rcases this with e | e | e | e | e | e | e | e | e <;> subst e <;> assumption
theorem zc_desc {post : SX → Prop} {n : Nat} {C : Nat → Nat → Int32} (hI : zg T W nd f_failed a_low a_high) (hd : nd ≤ 48) (hn : n < nd) (hO : zo a_op a_left a_right n) (hw : ∀ a, T a → W a n = zv a_op a_argument a_left a_right (C a) (W a) n) (h : ∀ (fl : Int32) (lo hi : Nat → Int64), zg T W nd fl lo hi → post (f_tokens, f_nodes, f_stackSize, f_demands, fl, f_narrowed, f_found, f_bestTop, a_allowed, a_op, a_argument, a_left, a_right, a_stack, a_demanded, lo, hi, a_value, a_domain, a_divided, a_nextValue, a_chosen, a_counts)) : wpX_descend post (f_tokens, f_nodes, f_stackSize, f_demands, f_failed, f_narrowed, f_found, f_bestTop, a_allowed, a_op, a_argument, a_left, a_right, a_stack, a_demanded, a_low, a_high, a_value, a_domain, a_divided, a_nextValue, a_chosen, a_counts) (nI n) := by
  rcases hO with ⟨ho, hL, hR⟩ | ⟨ho, hL, r, hr, hR⟩ | ⟨o, l, r, o2, o10, hl, hr, ho, hL, hR⟩
  · rcases ho with ho | ho
    · exact ze_op (by omega) ho hL hR (by decide) (br_f (by decide) (ze_236 (by decide) (by decide) (by decide) (by decide) (h _ _ _ hI)))
    · exact ze_op (by omega) ho hL hR (by decide) (br_f (by decide) (ze_236 (by decide) (by decide) (by decide) (by decide) (h _ _ _ hI)))
  · exact ze_11 hI hd hn (by omega) ho hL hR (fun a ta => by rw [hw a ta]; exact zv_11 ho hR (by omega)) h
  · revert ho
    have hl' : l < nd := by omega
    have hr' : r < nd := by omega
    have hl'' : l < 48 := by omega
    have hr'' : r < 48 := by omega
    refine z2_10 (P := fun o => a_op n = nI o → wpX_descend post (f_tokens, f_nodes, f_stackSize, f_demands, f_failed, f_narrowed, f_found, f_bestTop, a_allowed, a_op, a_argument, a_left, a_right, a_stack, a_demanded, a_low, a_high, a_value, a_domain, a_divided, a_nextValue, a_chosen, a_counts) (nI n)) ?_ ?_ ?_ ?_ ?_ ?_ ?_ ?_ ?_ o2 o10 <;> intro ho
    · exact ze_2 hI hd hn hl' hr' ho hL hR (fun a ta => by rw [hw a ta, zv_b (o := 2) ho (by decide) (by decide) hL hR hl'' hr'', zk_2]) h
    · exact ze_3 hI hd hn hl' hr' ho hL hR (fun a ta => by rw [hw a ta, zv_b (o := 3) ho (by decide) (by decide) hL hR hl'' hr'', zk_3]) h
    · exact ze_4 hI hd hn hl' hr' ho hL hR (fun a ta => by rw [hw a ta, zv_b (o := 4) ho (by decide) (by decide) hL hR hl'' hr'', zk_4]) h
    · exact ze_5 hI hd hn hl' hr' ho hL hR (fun a ta => by rw [hw a ta, zv_b (o := 5) ho (by decide) (by decide) hL hR hl'' hr'', zk_5]) h
    · exact ze_6 hI hd hn hl' hr' ho hL hR (fun a ta => by rw [hw a ta, zv_b (o := 6) ho (by decide) (by decide) hL hR hl'' hr'', zk_6]) h
    · exact ze_7 hI hd hn hl' hr' ho hL hR (fun a ta => by rw [hw a ta, zv_b (o := 7) ho (by decide) (by decide) hL hR hl'' hr'', zk_7]) h
    · exact ze_8 hI hd hn hl' hr' ho hL hR (fun a ta => by rw [hw a ta, zv_b (o := 8) ho (by decide) (by decide) hL hR hl'' hr'', zk_8]) h
    · exact ze_9 hI hd hn hl' hr' ho hL hR (fun a ta => by rw [hw a ta, zv_b (o := 9) ho (by decide) (by decide) hL hR hl'' hr'', zk_9]) h
    · exact ze_10 hI hd hn hl' hr' ho hL hR (fun a ta => by rw [hw a ta, zv_b (o := 10) ho (by decide) (by decide) hL hR hl'' hr'', zk_10]) h
end
end
section
/-! ranges go up from the variables -/
section
variable {f_tokens : Int32} {f_nodes : Int32} {f_stackSize : Int32} {f_demands : Int32} {f_failed : Int32} {f_narrowed : Int32} {f_found : Int32} {f_bestTop : Int32} {a_allowed : Nat → Int32} {a_op : Nat → Int32} {a_argument : Nat → Int32} {a_left : Nat → Int32} {a_right : Nat → Int32} {a_stack : Nat → Int32} {a_demanded : Nat → Int32} {a_low : Nat → Int64} {a_high : Nat → Int64} {a_value : Nat → Int32} {a_domain : Nat → Int32} {a_divided : Nat → Int32} {a_nextValue : Nat → Int32} {a_chosen : Nat → Int32} {a_counts : Nat → Int32}
variable {T : Nat → Prop} {W : Nat → Nat → Int32}
theorem zr_f {post : SX → Prop} {n : Nat} {x2 x4 : Int64} (hn : n < 48) (h : post (f_tokens, f_nodes, f_stackSize, f_demands, f_failed, f_narrowed, f_found, f_bestTop, a_allowed, a_op, a_argument, a_left, a_right, a_stack, a_demanded, vp_updL a_low n (-2147483648), vp_updL a_high n 2147483647, a_value, a_domain, a_divided, a_nextValue, a_chosen, a_counts)) : wX_setRange_22 post (nI n) x2 x4 0 f_tokens f_nodes f_stackSize f_demands f_failed f_narrowed f_found f_bestTop a_allowed a_op a_argument a_left a_right a_stack a_demanded a_low a_high a_value a_domain a_divided a_nextValue a_chosen a_counts := by
  have hin : vp_in (nI n) 48 := vp_in_nI hn (by decide)
  have cn := zm_cl hn
  exact br_t rfl (And.intro hin (nm_r (e' := vp_updL a_low n (-2147483648)) (by rw [cn]) (br_t rfl (And.intro hin (nm_r (e' := vp_updL a_high n 2147483647) (by rw [cn]) h)))))
theorem zr_t {post : SX → Prop} {n : Nat} {x2 x4 : Int64} (hn : n < 48) (h : post (f_tokens, f_nodes, f_stackSize, f_demands, f_failed, f_narrowed, f_found, f_bestTop, a_allowed, a_op, a_argument, a_left, a_right, a_stack, a_demanded, vp_updL a_low n x2, vp_updL a_high n x4, a_value, a_domain, a_divided, a_nextValue, a_chosen, a_counts)) : wX_setRange_22 post (nI n) x2 x4 1 f_tokens f_nodes f_stackSize f_demands f_failed f_narrowed f_found f_bestTop a_allowed a_op a_argument a_left a_right a_stack a_demanded a_low a_high a_value a_domain a_divided a_nextValue a_chosen a_counts := by
  have hin : vp_in (nI n) 48 := vp_in_nI hn (by decide)
  have cn := zm_cl hn
  exact br_f (by decide) (And.intro hin (nm_r (e' := vp_updL a_low n x2) (by rw [cn]) (br_f (by decide) (And.intro hin (nm_r (e' := vp_updL a_high n x4) (by rw [cn]) h)))))
theorem zr_set {post : SX → Prop} {n : Nat} {p1 p2 : Int64} (hI : zg T W n f_failed a_low a_high) (hn : n < 48) (hf : ∀ a, T a → -2147483648 ≤ p1.toInt → p2.toInt ≤ 2147483647 → p1.toInt ≤ (W a n).toInt ∧ (W a n).toInt ≤ p2.toInt) (h : ∀ (lo hi : Nat → Int64), zg T W (n + 1) f_failed lo hi → post (f_tokens, f_nodes, f_stackSize, f_demands, f_failed, f_narrowed, f_found, f_bestTop, a_allowed, a_op, a_argument, a_left, a_right, a_stack, a_demanded, lo, hi, a_value, a_domain, a_divided, a_nextValue, a_chosen, a_counts)) : wpX_setRange post (f_tokens, f_nodes, f_stackSize, f_demands, f_failed, f_narrowed, f_found, f_bestTop, a_allowed, a_op, a_argument, a_left, a_right, a_stack, a_demanded, a_low, a_high, a_value, a_domain, a_divided, a_nextValue, a_chosen, a_counts) (nI n) p1 p2 := by
  have kf : post (f_tokens, f_nodes, f_stackSize, f_demands, f_failed, f_narrowed, f_found, f_bestTop, a_allowed, a_op, a_argument, a_left, a_right, a_stack, a_demanded, vp_updL a_low n (-2147483648), vp_updL a_high n 2147483647, a_value, a_domain, a_divided, a_nextValue, a_chosen, a_counts) := by
    refine h _ _ (zg_set hI (fun a ta => ?_))
    have h1 := zq_top (W a n)
    have h2 := zq_bot (W a n)
    exact ⟨Int.le_of_eq zl_min.symm, h2, h1, Int.le_of_eq zl_max⟩
  refine br_c (fun _ => zr_f hn kf) (fun g1 => br_c (fun _ => zr_f hn kf) (fun g2 => zr_t hn (h _ _ (zg_set hI (fun a ta => ?_)))))
  have a1 := zl_nlt g1
  have a2 := zl_nlt g2
  rw [zl_min] at a1
  rw [zl_max] at a2
  have f := hf a ta a1 a2
  exact ⟨a1, f.1, f.2, a2⟩
theorem zr_les {post : Int64 → Prop} {p0 p1 : Int64} (h : ∀ r : Int64, r.toInt ≤ p0.toInt → r.toInt ≤ p1.toInt → (r = p0 ∨ r = p1) → post r) : wpX_lesser post p0 p1 := by
  refine br_c (fun g => h p1 (zl_le g) (Int.le_refl _) (Or.inr rfl)) (fun g => h p0 (Int.le_refl _) ?_ (Or.inl rfl))
  have := zl_nle g
  omega
theorem zr_gre {post : Int64 → Prop} {p0 p1 : Int64} (h : ∀ r : Int64, p0.toInt ≤ r.toInt → p1.toInt ≤ r.toInt → (r = p0 ∨ r = p1) → post r) : wpX_greater post p0 p1 := by
  refine br_c (fun g => h p1 (zl_le g) (Int.le_refl _) (Or.inr rfl)) (fun g => h p0 (Int.le_refl _) ?_ (Or.inl rfl))
  have := zl_nle g
  omega
theorem zp_1 {a c y d s t : Int} (h1 : c ≤ y) (h2 : y ≤ d) (s1 : s ≤ a * c) (s2 : s ≤ a * d) (t1 : a * c ≤ t) (t2 : a * d ≤ t) : s ≤ a * y ∧ a * y ≤ t := by
  rcases Int.le_total 0 a with g | g
  · have e1 := Int.mul_le_mul_of_nonneg_left h1 g
    have e2 := Int.mul_le_mul_of_nonneg_left h2 g
    omega
  · have g' : 0 ≤ -a := by omega
    have e1 := Int.mul_le_mul_of_nonneg_left h1 g'
    have e2 := Int.mul_le_mul_of_nonneg_left h2 g'
    rw [Int.neg_mul, Int.neg_mul] at e1 e2
    omega
theorem zp_2 {a x b c y d s t : Int} (h1 : a ≤ x) (h2 : x ≤ b) (h3 : c ≤ y) (h4 : y ≤ d) (s1 : s ≤ a * c) (s2 : s ≤ a * d) (s3 : s ≤ b * c) (s4 : s ≤ b * d) (t1 : a * c ≤ t) (t2 : a * d ≤ t) (t3 : b * c ≤ t) (t4 : b * d ≤ t) : s ≤ x * y ∧ x * y ≤ t := by
  have e1 := zp_1 h3 h4 s1 s2 t1 t2
  have e2 := zp_1 h3 h4 s3 s4 t3 t4
  rw [Int.mul_comm a y] at e1
  rw [Int.mul_comm b y] at e2
  rw [Int.mul_comm x y]
  exact zp_1 h1 h2 e1.1 e2.1 e1.2 e2.2
theorem zp_b {x y : Int} (h1 : -2147483648 ≤ x) (h2 : x ≤ 2147483647) (h3 : -2147483648 ≤ y) (h4 : y ≤ 2147483647) : -4611686018427387904 ≤ x * y ∧ x * y ≤ 4611686018427387904 :=
  zp_2 h1 h2 h3 h4 (by decide) (by decide) (by decide) (by decide) (by decide) (by decide) (by decide) (by decide)
theorem zl_mul {x y : Int64} (h1 : -2147483648 ≤ x.toInt) (h2 : x.toInt ≤ 2147483647) (h3 : -2147483648 ≤ y.toInt) (h4 : y.toInt ≤ 2147483647) : (x * y).toInt = x.toInt * y.toInt := by
  have b := zp_b h1 h2 h3 h4
  exact Jvm.Kit.i64_mul (Int.le_trans (by decide) b.1) (Int.lt_of_le_of_lt b.2 (by decide))
theorem zq_prod {x y : Int32} {l h l' h' : Int64} {s t : Int} (q : zi x l h) (q' : zi y l' h') (s1 : s ≤ (l * l').toInt) (s2 : s ≤ (l * h').toInt) (s3 : s ≤ (h * l').toInt) (s4 : s ≤ (h * h').toInt) (t1 : (l * l').toInt ≤ t) (t2 : (l * h').toInt ≤ t) (t3 : (h * l').toInt ≤ t) (t4 : (h * h').toInt ≤ t) (hs : -2147483648 ≤ s) (ht : t ≤ 2147483647) : s ≤ (x * y).toInt ∧ (x * y).toInt ≤ t := by
  unfold zi at q q'
  rw [zl_mul (by omega) (by omega) (by omega) (by omega)] at s1 s2 s3 s4 t1 t2 t3 t4
  have p := zp_2 q.2.1 q.2.2.1 q'.2.1 q'.2.2.1 s1 s2 s3 s4 t1 t2 t3 t4
  rw [Jvm.Kit.i32_mul (Int.le_trans (by omega) p.1) (Int.lt_of_le_of_lt p.2 (by omega))]
  exact p
theorem zr_prod {post : SX → Prop} {n l r : Nat} (hI : zg T W n f_failed a_low a_high) (hn : n < 48) (hl : l < n) (hr : r < n) (hw : ∀ a, T a → W a n = W a l * W a r) (h : ∀ (lo hi : Nat → Int64), zg T W (n + 1) f_failed lo hi → post (f_tokens, f_nodes, f_stackSize, f_demands, f_failed, f_narrowed, f_found, f_bestTop, a_allowed, a_op, a_argument, a_left, a_right, a_stack, a_demanded, lo, hi, a_value, a_domain, a_divided, a_nextValue, a_chosen, a_counts)) : wpX_climbProduct post (f_tokens, f_nodes, f_stackSize, f_demands, f_failed, f_narrowed, f_found, f_bestTop, a_allowed, a_op, a_argument, a_left, a_right, a_stack, a_demanded, a_low, a_high, a_value, a_domain, a_divided, a_nextValue, a_chosen, a_counts) (nI n) (nI l) (nI r) := by
  have hil : vp_in (nI l) 48 := vp_in_nI (by omega) (by decide)
  have hir : vp_in (nI r) 48 := vp_in_nI (by omega) (by decide)
  have cl := zm_cl (m := l) (by omega)
  have cr := zm_cl (m := r) (by omega)
  refine zz_2 hil hir (nm_r (e' := a_low l * a_low r) (by rw [cl, cr]) (zz_2 hil hir (nm_r (e' := a_low l * a_high r) (by rw [cl, cr]) (zz_2 hil hir (nm_r (e' := a_high l * a_low r) (by rw [cl, cr]) (zz_2 hil hir (nm_r (e' := a_high l * a_high r) (by rw [cl, cr]) ?_)))))))
  refine zr_les (fun r1 a1 a2 _ => zr_gre (fun r2 b1 b2 _ => zr_les (fun r3 a3 a4 _ => zr_gre (fun r4 b3 b4 _ => zr_les (fun r5 a5 a6 _ => zr_gre (fun r6 b5 b6 _ => zr_set hI hn (fun a ta f1 f2 => ?_) h))))))
  rw [hw a ta]
  exact zq_prod ((hI a ta).2 l hl) ((hI a ta).2 r hr) (by omega) (by omega) (by omega) (by omega) (by omega) (by omega) (by omega) (by omega) f1 f2
/-! truths -/
theorem zh_310 {post : SX → Prop} {n : Nat} {x6 : Int32} {z0 : Int64} (hI : zg T W n f_failed a_low a_high) (hn : n < 48) (hz : ∀ a, T a → z0.toInt ≤ (W a n).toInt ∧ 0 ≤ z0.toInt) (h01 : ∀ a, T a → W a n = 0 ∨ W a n = 1) (hv : ¬ x6 = 0 → ∀ a, T a → W a n = 0) (h : ∀ (lo hi : Nat → Int64), zg T W (n + 1) f_failed lo hi → post (f_tokens, f_nodes, f_stackSize, f_demands, f_failed, f_narrowed, f_found, f_bestTop, a_allowed, a_op, a_argument, a_left, a_right, a_stack, a_demanded, lo, hi, a_value, a_domain, a_divided, a_nextValue, a_chosen, a_counts)) : wX_climbTruth_310 post (nI n) x6 z0 (nI n) f_tokens f_nodes f_stackSize f_demands f_failed f_narrowed f_found f_bestTop a_allowed a_op a_argument a_left a_right a_stack a_demanded a_low a_high a_value a_domain a_divided a_nextValue a_chosen a_counts := by
  have hin : vp_in (nI n) 48 := vp_in_nI hn (by decide)
  have cn := zm_cl hn
  refine And.intro hin (nm_r (e' := vp_updL a_low n z0) (by rw [cn]) (br_c (fun _ => And.intro hin (nm_r (e' := vp_updL a_high n 1) (by rw [cn]) (h _ _ (zg_set hI (fun a ta => ?_))))) (fun g => And.intro hin (nm_r (e' := vp_updL a_high n 0) (by rw [cn]) (h _ _ (zg_set hI (fun a ta => ?_)))))))
  · have z := hz a ta
    have w : (W a n).toInt ≤ 1 := by
      rcases h01 a ta with e | e <;> rw [e]
      · rw [zl_i0]; omega
      · rw [zl_i1]; omega
    unfold zi
    rw [zl_1]
    omega
  · have z := hz a ta
    have w := hv g a ta
    rw [w, zl_i0] at z
    unfold zi
    rw [w, zl_0, zl_i0]
    omega
theorem zh_295 {post : SX → Prop} {n : Nat} {x5 x6 : Int32} (hI : zg T W n f_failed a_low a_high) (hn : n < 48) (h01 : ∀ a, T a → W a n = 0 ∨ W a n = 1) (hs : ¬ x5 = 0 → ∀ a, T a → W a n = 1) (hv : ¬ x6 = 0 → ∀ a, T a → W a n = 0) (h : ∀ (lo hi : Nat → Int64), zg T W (n + 1) f_failed lo hi → post (f_tokens, f_nodes, f_stackSize, f_demands, f_failed, f_narrowed, f_found, f_bestTop, a_allowed, a_op, a_argument, a_left, a_right, a_stack, a_demanded, lo, hi, a_value, a_domain, a_divided, a_nextValue, a_chosen, a_counts)) : wX_climbTruth_295 post (nI n) x5 x6 f_tokens f_nodes f_stackSize f_demands f_failed f_narrowed f_found f_bestTop a_allowed a_op a_argument a_left a_right a_stack a_demanded a_low a_high a_value a_domain a_divided a_nextValue a_chosen a_counts := by
  refine br_c (fun _ => zh_310 hI hn (fun a ta => ?_) h01 hv h) (fun g => zh_310 hI hn (fun a ta => ?_) h01 hv h)
  · rw [zl_0]
    rcases h01 a ta with e | e <;> rw [e]
    · rw [zl_i0]; omega
    · rw [zl_i1]; omega
  · rw [zl_1, hs g a ta, zl_i1]
    omega
theorem zh_n0 {P : Prop} : ¬ (0 : Int32) = 0 → P := fun z => absurd rfl z
theorem zh_62 {post : SX → Prop} {n l r : Nat} {z : Int32} (hI : zg T W n f_failed a_low a_high) (hn : n < 48) (hl : l < n) (hr : r < n) (hw : ∀ a, T a → W a n = if W a l = W a r then 1 else 0) (hz : ¬ z = 0 → ∀ a, T a → W a l = W a r) (h : ∀ (lo hi : Nat → Int64), zg T W (n + 1) f_failed lo hi → post (f_tokens, f_nodes, f_stackSize, f_demands, f_failed, f_narrowed, f_found, f_bestTop, a_allowed, a_op, a_argument, a_left, a_right, a_stack, a_demanded, lo, hi, a_value, a_domain, a_divided, a_nextValue, a_chosen, a_counts)) : wX_climbTruth_62 post (nI n) (nI l) (nI r) z f_tokens f_nodes f_stackSize f_demands f_failed f_narrowed f_found f_bestTop a_allowed a_op a_argument a_left a_right a_stack a_demanded a_low a_high a_value a_domain a_divided a_nextValue a_chosen a_counts := by
  have hil : vp_in (nI l) 48 := vp_in_nI (by omega) (by decide)
  have hir : vp_in (nI r) 48 := vp_in_nI (by omega) (by decide)
  have cl := zm_cl (m := l) (by omega)
  have cr := zm_cl (m := r) (by omega)
  have h01 : ∀ a, T a → W a n = 0 ∨ W a n = 1 := fun a ta => by rw [hw a ta]; exact zk_b
  have h1 : ¬ z = 0 → ∀ a, T a → W a n = 1 := fun z0 a ta => by rw [hw a ta, if_pos (hz z0 a ta)]
  have h0 : ∀ a, T a → (W a l).toInt ≠ (W a r).toInt → W a n = 0 := fun a ta g => by rw [hw a ta, if_neg (fun e => g (by rw [e]))]
  refine zz_2 hil hir ?_
  rw [cl, cr]
  refine br_c (fun g => zh_295 hI hn h01 h1 (fun _ a ta => h0 a ta ?_) h) (fun _ => zz_2 hir hil (br_c (fun _ => zh_295 hI hn h01 h1 zh_n0 h) (fun g => zh_295 hI hn h01 h1 (fun _ a ta => h0 a ta ?_) h)))
  · have q := (hI a ta).2 l hl
    have q' := (hI a ta).2 r hr
    have g' := zl_lt g
    unfold zi at q q'
    omega
  · have q := (hI a ta).2 l hl
    have q' := (hI a ta).2 r hr
    have g' := zl_nle g
    unfold zi at q q'
    omega
theorem zh_7 {post : SX → Prop} {n l r : Nat} (hI : zg T W n f_failed a_low a_high) (hn : n < 48) (hl : l < n) (hr : r < n) (hw : ∀ a, T a → W a n = if W a l = W a r then 1 else 0) (h : ∀ (lo hi : Nat → Int64), zg T W (n + 1) f_failed lo hi → post (f_tokens, f_nodes, f_stackSize, f_demands, f_failed, f_narrowed, f_found, f_bestTop, a_allowed, a_op, a_argument, a_left, a_right, a_stack, a_demanded, lo, hi, a_value, a_domain, a_divided, a_nextValue, a_chosen, a_counts)) : wpX_climbTruth post (f_tokens, f_nodes, f_stackSize, f_demands, f_failed, f_narrowed, f_found, f_bestTop, a_allowed, a_op, a_argument, a_left, a_right, a_stack, a_demanded, a_low, a_high, a_value, a_domain, a_divided, a_nextValue, a_chosen, a_counts) (nI n) 7 (nI l) (nI r) := by
  have hil : vp_in (nI l) 48 := vp_in_nI (by omega) (by decide)
  have hir : vp_in (nI r) 48 := vp_in_nI (by omega) (by decide)
  have cl := zm_cl (m := l) (by omega)
  have cr := zm_cl (m := r) (by omega)
  have k0 : wX_climbTruth_62 post (nI n) (nI l) (nI r) 0 f_tokens f_nodes f_stackSize f_demands f_failed f_narrowed f_found f_bestTop a_allowed a_op a_argument a_left a_right a_stack a_demanded a_low a_high a_value a_domain a_divided a_nextValue a_chosen a_counts := zh_62 hI hn hl hr hw zh_n0 h
  refine br_t rfl (zz_2 hil hil (br_c (fun g1 => zz_2 hir hir (br_c (fun g2 => zz_2 hil hir (br_c (fun g3 => zh_62 hI hn hl hr hw (fun _ a ta => ?_) h) (fun _ => k0))) (fun _ => k0))) (fun _ => k0)))
  rw [cl] at g1 g3
  rw [cr] at g2 g3
  have q := (hI a ta).2 l hl
  have q' := (hI a ta).2 r hr
  unfold zi at q q'
  rw [← g1] at q
  rw [← g2, ← g3] at q'
  exact Int32.toInt_inj.mp (by omega)
theorem zh_8 {post : SX → Prop} {n l r : Nat} (hI : zg T W n f_failed a_low a_high) (hn : n < 48) (hl : l < n) (hr : r < n) (hw : ∀ a, T a → W a n = if W a r ≤ W a l then 0 else 1) (h : ∀ (lo hi : Nat → Int64), zg T W (n + 1) f_failed lo hi → post (f_tokens, f_nodes, f_stackSize, f_demands, f_failed, f_narrowed, f_found, f_bestTop, a_allowed, a_op, a_argument, a_left, a_right, a_stack, a_demanded, lo, hi, a_value, a_domain, a_divided, a_nextValue, a_chosen, a_counts)) : wpX_climbTruth post (f_tokens, f_nodes, f_stackSize, f_demands, f_failed, f_narrowed, f_found, f_bestTop, a_allowed, a_op, a_argument, a_left, a_right, a_stack, a_demanded, a_low, a_high, a_value, a_domain, a_divided, a_nextValue, a_chosen, a_counts) (nI n) 8 (nI l) (nI r) := by
  have hil : vp_in (nI l) 48 := vp_in_nI (by omega) (by decide)
  have hir : vp_in (nI r) 48 := vp_in_nI (by omega) (by decide)
  have cl := zm_cl (m := l) (by omega)
  have cr := zm_cl (m := r) (by omega)
  have h01 : ∀ a, T a → W a n = 0 ∨ W a n = 1 := fun a ta => by
    rw [hw a ta]
    by_cases g : W a r ≤ W a l
    · rw [if_pos g]; exact Or.inl rfl
    · rw [if_neg g]; exact Or.inr rfl
  have k : ∀ z : Int32, (¬ z = 0 → ∀ a, T a → W a n = 1) → wX_climbTruth_136 post (nI n) (nI l) (nI r) z f_tokens f_nodes f_stackSize f_demands f_failed f_narrowed f_found f_bestTop a_allowed a_op a_argument a_left a_right a_stack a_demanded a_low a_high a_value a_domain a_divided a_nextValue a_chosen a_counts := by
    intro z hz
    refine zz_2 hil hir ?_
    rw [cl, cr]
    refine br_c (fun _ => zh_295 hI hn h01 hz zh_n0 h) (fun g => zh_295 hI hn h01 hz (fun _ a ta => ?_) h)
    have q := (hI a ta).2 l hl
    have q' := (hI a ta).2 r hr
    have g' := zl_nlt g
    unfold zi at q q'
    rw [hw a ta, if_pos (Int32.le_iff_toInt_le.mpr (by omega))]
  refine br_f (by decide) (br_t rfl (zz_2 hil hir ?_))
  rw [cl, cr]
  refine br_c (fun _ => k 0 zh_n0) (fun g => k 1 (fun _ a ta => ?_))
  have q := (hI a ta).2 l hl
  have q' := (hI a ta).2 r hr
  have g' := zl_nle g
  unfold zi at q q'
  have : ¬ W a r ≤ W a l := fun z => by
    have := Int32.le_iff_toInt_le.mp z
    omega
  rw [hw a ta, if_neg this]
theorem zh_9 {post : SX → Prop} {n l r : Nat} (hI : zg T W n f_failed a_low a_high) (hn : n < 48) (hl : l < n) (hr : r < n) (hw : ∀ a, T a → W a n = if W a l = 0 then 0 else if W a r = 0 then 0 else 1) (h : ∀ (lo hi : Nat → Int64), zg T W (n + 1) f_failed lo hi → post (f_tokens, f_nodes, f_stackSize, f_demands, f_failed, f_narrowed, f_found, f_bestTop, a_allowed, a_op, a_argument, a_left, a_right, a_stack, a_demanded, lo, hi, a_value, a_domain, a_divided, a_nextValue, a_chosen, a_counts)) : wpX_climbTruth post (f_tokens, f_nodes, f_stackSize, f_demands, f_failed, f_narrowed, f_found, f_bestTop, a_allowed, a_op, a_argument, a_left, a_right, a_stack, a_demanded, a_low, a_high, a_value, a_domain, a_divided, a_nextValue, a_chosen, a_counts) (nI n) 9 (nI l) (nI r) := by
  have hd : n ≤ 48 := by omega
  have h01 : ∀ a, T a → W a n = 0 ∨ W a n = 1 := fun a ta => by
    rw [hw a ta]
    by_cases g : W a l = 0
    · rw [if_pos g]; exact Or.inl rfl
    · rw [if_neg g]
      by_cases g' : W a r = 0
      · rw [if_pos g']; exact Or.inl rfl
      · rw [if_neg g']; exact Or.inr rfl
  have k : ∀ z : Int32, (¬ z = 0 → ∀ a, T a → W a n = 1) → wX_climbTruth_193 post (nI n) (nI l) (nI r) z f_tokens f_nodes f_stackSize f_demands f_failed f_narrowed f_found f_bestTop a_allowed a_op a_argument a_left a_right a_stack a_demanded a_low a_high a_value a_domain a_divided a_nextValue a_chosen a_counts := by
    intro z hz
    refine zc_isFalse hI hl hd (fun s hs => br_c (fun _ => zc_isFalse hI hr hd (fun t ht => br_c (fun _ => zh_295 hI hn h01 hz zh_n0 h) (fun t0 => zh_295 hI hn h01 hz (fun _ a ta => ?_) h))) (fun s0 => zh_295 hI hn h01 hz (fun _ a ta => ?_) h))
    · rw [hw a ta]
      by_cases g : W a l = 0
      · rw [if_pos g]
      · rw [if_neg g, if_pos (ht t0 a ta)]
    · rw [hw a ta, if_pos (hs s0 a ta)]
  exact br_f (by decide) (br_f (by decide) (br_t rfl (zc_isTrue hI hl hd (fun s hs => br_c (fun _ => k 0 zh_n0) (fun s0 => zc_isTrue hI hr hd (fun t ht => br_c (fun _ => k 0 zh_n0) (fun t0 => k 1 (fun _ a ta => by rw [hw a ta, if_neg (hs s0 a ta), if_neg (ht t0 a ta)]))))))))
theorem zh_10 {post : SX → Prop} {n l r : Nat} (hI : zg T W n f_failed a_low a_high) (hn : n < 48) (hl : l < n) (hr : r < n) (hw : ∀ a, T a → W a n = if W a l = 0 then (if W a r = 0 then 0 else 1) else 1) (h : ∀ (lo hi : Nat → Int64), zg T W (n + 1) f_failed lo hi → post (f_tokens, f_nodes, f_stackSize, f_demands, f_failed, f_narrowed, f_found, f_bestTop, a_allowed, a_op, a_argument, a_left, a_right, a_stack, a_demanded, lo, hi, a_value, a_domain, a_divided, a_nextValue, a_chosen, a_counts)) : wpX_climbTruth post (f_tokens, f_nodes, f_stackSize, f_demands, f_failed, f_narrowed, f_found, f_bestTop, a_allowed, a_op, a_argument, a_left, a_right, a_stack, a_demanded, a_low, a_high, a_value, a_domain, a_divided, a_nextValue, a_chosen, a_counts) (nI n) 10 (nI l) (nI r) := by
  have hd : n ≤ 48 := by omega
  have h01 : ∀ a, T a → W a n = 0 ∨ W a n = 1 := fun a ta => by
    rw [hw a ta]
    by_cases g : W a l = 0
    · rw [if_pos g]
      by_cases g' : W a r = 0
      · rw [if_pos g']; exact Or.inl rfl
      · rw [if_neg g']; exact Or.inr rfl
    · rw [if_neg g]; exact Or.inr rfl
  have k : ∀ z : Int32, (¬ z = 0 → ∀ a, T a → W a n = 1) → wX_climbTruth_250 post (nI n) (nI l) (nI r) z f_tokens f_nodes f_stackSize f_demands f_failed f_narrowed f_found f_bestTop a_allowed a_op a_argument a_left a_right a_stack a_demanded a_low a_high a_value a_domain a_divided a_nextValue a_chosen a_counts := by
    intro z hz
    exact zc_isFalse hI hl hd (fun s hs => br_c (fun _ => zh_295 hI hn h01 hz zh_n0 h) (fun s0 => zc_isFalse hI hr hd (fun t ht => br_c (fun _ => zh_295 hI hn h01 hz zh_n0 h) (fun t0 => zh_295 hI hn h01 hz (fun _ a ta => by rw [hw a ta, if_pos (hs s0 a ta), if_pos (ht t0 a ta)]) h))))
  refine br_f (by decide) (br_f (by decide) (br_f (by decide) (br_t rfl (zc_isTrue hI hl hd (fun s hs => br_c (fun _ => zc_isTrue hI hr hd (fun t ht => br_c (fun _ => k 0 zh_n0) (fun t0 => k 1 (fun _ a ta => ?_)))) (fun s0 => k 1 (fun _ a ta => ?_)))))))
  · rw [hw a ta, if_neg (ht t0 a ta)]
    by_cases g : W a l = 0
    · rw [if_pos g]
    · rw [if_neg g]
  · rw [hw a ta, if_neg (hs s0 a ta)]
theorem zh_11 {post : SX → Prop} {n r : Nat} {p : Int32} (hI : zg T W n f_failed a_low a_high) (hn : n < 48) (hr : r < n) (hw : ∀ a, T a → W a n = if W a r = 0 then 1 else 0) (h : ∀ (lo hi : Nat → Int64), zg T W (n + 1) f_failed lo hi → post (f_tokens, f_nodes, f_stackSize, f_demands, f_failed, f_narrowed, f_found, f_bestTop, a_allowed, a_op, a_argument, a_left, a_right, a_stack, a_demanded, lo, hi, a_value, a_domain, a_divided, a_nextValue, a_chosen, a_counts)) : wpX_climbTruth post (f_tokens, f_nodes, f_stackSize, f_demands, f_failed, f_narrowed, f_found, f_bestTop, a_allowed, a_op, a_argument, a_left, a_right, a_stack, a_demanded, a_low, a_high, a_value, a_domain, a_divided, a_nextValue, a_chosen, a_counts) (nI n) 11 p (nI r) := by
  have hd : n ≤ 48 := by omega
  exact br_f (by decide) (br_f (by decide) (br_f (by decide) (br_f (by decide) (zc_isFalse hI hr hd (fun s hs => zc_isTrue hI hr hd (fun t ht => zh_295 hI hn (fun a ta => by rw [hw a ta]; exact zk_b) (fun s0 a ta => by rw [hw a ta, if_pos (hs s0 a ta)]) (fun t0 a ta => by rw [hw a ta, if_neg (ht t0 a ta)]) h))))))
end
end
section
/-! climbNode, lowest, highest, climb -/
section
variable {f_tokens : Int32} {f_nodes : Int32} {f_stackSize : Int32} {f_demands : Int32} {f_failed : Int32} {f_narrowed : Int32} {f_found : Int32} {f_bestTop : Int32} {a_allowed : Nat → Int32} {a_op : Nat → Int32} {a_argument : Nat → Int32} {a_left : Nat → Int32} {a_right : Nat → Int32} {a_stack : Nat → Int32} {a_demanded : Nat → Int32} {a_low : Nat → Int64} {a_high : Nat → Int64} {a_value : Nat → Int32} {a_domain : Nat → Int32} {a_divided : Nat → Int32} {a_nextValue : Nat → Int32} {a_chosen : Nat → Int32} {a_counts : Nat → Int32}
variable {T : Nat → Prop} {W : Nat → Nat → Int32}
theorem zn_bin {post : SX → Prop} {n l r : Nat} {o : Int32} (hn : n < 48) (hL : a_left n = nI l) (hR : a_right n = nI r) (hl : l < n) (h : wX_climbNode_26 post (nI n) o (nI r) (nI l) f_tokens f_nodes f_stackSize f_demands f_failed f_narrowed f_found f_bestTop a_allowed a_op a_argument a_left a_right a_stack a_demanded a_low a_high a_value a_domain a_divided a_nextValue a_chosen a_counts) : wpX_climbNode post (f_tokens, f_nodes, f_stackSize, f_demands, f_failed, f_narrowed, f_found, f_bestTop, a_allowed, a_op, a_argument, a_left, a_right, a_stack, a_demanded, a_low, a_high, a_value, a_domain, a_divided, a_nextValue, a_chosen, a_counts) (nI n) o := by
  have hin : vp_in (nI n) 48 := vp_in_nI hn (by decide)
  have cn := zm_cl hn
  refine And.intro hin (nm_r (e' := nI r) (by rw [cn]; exact hR) (And.intro hin ?_))
  rw [cn, hL]
  exact br_t (nI_pos' (by omega)) (And.intro hin h)
theorem zn_un {post : SX → Prop} {n r : Nat} {o : Int32} (hn : n < 48) (hL : a_left n = -1) (hR : a_right n = nI r) (h : wX_climbNode_26 post (nI n) o (nI r) (nI r) f_tokens f_nodes f_stackSize f_demands f_failed f_narrowed f_found f_bestTop a_allowed a_op a_argument a_left a_right a_stack a_demanded a_low a_high a_value a_domain a_divided a_nextValue a_chosen a_counts) : wpX_climbNode post (f_tokens, f_nodes, f_stackSize, f_demands, f_failed, f_narrowed, f_found, f_bestTop, a_allowed, a_op, a_argument, a_left, a_right, a_stack, a_demanded, a_low, a_high, a_value, a_domain, a_divided, a_nextValue, a_chosen, a_counts) (nI n) o := by
  have hin : vp_in (nI n) 48 := vp_in_nI hn (by decide)
  have cn := zm_cl hn
  refine And.intro hin (nm_r (e' := nI r) (by rw [cn]; exact hR) (And.intro hin ?_))
  rw [cn, hL]
  exact br_f zn_m1 h
theorem zq_les {x y : Int32} {l h l' h' s t : Int64} (q : zi x l h) (q' : zi y l' h') (a1 : s.toInt ≤ l.toInt) (a2 : s.toInt ≤ l'.toInt) (b : t = h ∨ t = h') (b1 : t.toInt ≤ h.toInt) (b2 : t.toInt ≤ h'.toInt) : s.toInt ≤ (if y ≤ x then y else x).toInt ∧ (if y ≤ x then y else x).toInt ≤ t.toInt := by
  unfold zi at q q'
  by_cases g : y ≤ x
  · rw [if_pos g]
    have := Int32.le_iff_toInt_le.mp g
    rcases b with e | e <;> subst e <;> omega
  · rw [if_neg g]
    have : ¬ y.toInt ≤ x.toInt := fun z => g (Int32.le_iff_toInt_le.mpr z)
    rcases b with e | e <;> subst e <;> omega
theorem zq_gre {x y : Int32} {l h l' h' s t : Int64} (q : zi x l h) (q' : zi y l' h') (a : s = l ∨ s = l') (a1 : l.toInt ≤ s.toInt) (a2 : l'.toInt ≤ s.toInt) (b1 : h.toInt ≤ t.toInt) (b2 : h'.toInt ≤ t.toInt) : s.toInt ≤ (if x ≤ y then y else x).toInt ∧ (if x ≤ y then y else x).toInt ≤ t.toInt := by
  unfold zi at q q'
  by_cases g : x ≤ y
  · rw [if_pos g]
    have := Int32.le_iff_toInt_le.mp g
    rcases a with e | e <;> subst e <;> omega
  · rw [if_neg g]
    have : ¬ x.toInt ≤ y.toInt := fun z => g (Int32.le_iff_toInt_le.mpr z)
    rcases a with e | e <;> subst e <;> omega
theorem zu_node {post : SX → Prop} {n : Nat} {C : Nat → Nat → Int32} (hI : zg T W n f_failed a_low a_high) (hn : n < 48) (hO : zo a_op a_left a_right n) (h0 : ¬ a_op n = 0) (h1 : ¬ a_op n = 1) (hw : ∀ a, T a → W a n = zv a_op a_argument a_left a_right (C a) (W a) n) (h : ∀ (lo hi : Nat → Int64), zg T W (n + 1) f_failed lo hi → post (f_tokens, f_nodes, f_stackSize, f_demands, f_failed, f_narrowed, f_found, f_bestTop, a_allowed, a_op, a_argument, a_left, a_right, a_stack, a_demanded, lo, hi, a_value, a_domain, a_divided, a_nextValue, a_chosen, a_counts)) : wpX_climbNode post (f_tokens, f_nodes, f_stackSize, f_demands, f_failed, f_narrowed, f_found, f_bestTop, a_allowed, a_op, a_argument, a_left, a_right, a_stack, a_demanded, a_low, a_high, a_value, a_domain, a_divided, a_nextValue, a_chosen, a_counts) (nI n) (a_op n) := by
  rcases hO with ⟨ho, hL, hR⟩ | ⟨ho, hL, r, hr, hR⟩ | ⟨o, l, r, o2, o10, hl, hr, ho, hL, hR⟩
  · rcases ho with ho | ho
    · exact absurd ho h0
    · exact absurd ho h1
  · rw [ho]
    exact zn_un hn hL hR (br_f (by decide) (br_f (by decide) (br_f (by decide) (br_f (by decide) (br_f (by decide) (zh_11 hI hn hr (fun a ta => by rw [hw a ta]; exact zv_11 ho hR (by omega)) h))))))
  · rw [ho]
    refine zn_bin hn hL hR hl ?_
    have hil : vp_in (nI l) 48 := vp_in_nI (by omega) (by decide)
    have hir : vp_in (nI r) 48 := vp_in_nI (by omega) (by decide)
    have cl := zm_cl (m := l) (by omega)
    have cr := zm_cl (m := r) (by omega)
    have hl'' : l < 48 := by omega
    have hr'' : r < 48 := by omega
    revert ho
    refine z2_10 (P := fun o => a_op n = nI o → wX_climbNode_26 post (nI n) (nI o) (nI r) (nI l) f_tokens f_nodes f_stackSize f_demands f_failed f_narrowed f_found f_bestTop a_allowed a_op a_argument a_left a_right a_stack a_demanded a_low a_high a_value a_domain a_divided a_nextValue a_chosen a_counts) ?_ ?_ ?_ ?_ ?_ ?_ ?_ ?_ ?_ o2 o10 <;> intro ho
    · refine br_t rfl (zz_4 hil hir hil hir ?_)
      rw [cl, cr]
      refine zr_set hI hn (fun a ta f1 f2 => ?_) h
      have e := zq_addK ((hI a ta).2 l hl) ((hI a ta).2 r hr) ⟨f1, f2⟩
      rw [hw a ta, zv_b (o := 2) ho (by decide) (by decide) hL hR hl'' hr'', zk_2]
      exact zq_s ((hI a ta).2 l hl) ((hI a ta).2 r hr) e
    · refine br_f (by decide) (br_t rfl (zz_4 hil hir hil hir ?_))
      rw [cl, cr]
      refine zr_set hI hn (fun a ta f1 f2 => ?_) h
      have e := zq_subK ((hI a ta).2 l hl) ((hI a ta).2 r hr) ⟨f1, f2⟩
      rw [hw a ta, zv_b (o := 3) ho (by decide) (by decide) hL hR hl'' hr'', zk_3]
      exact zq_d ((hI a ta).2 l hl) ((hI a ta).2 r hr) e
    · exact br_f (by decide) (br_f (by decide) (br_t rfl (zr_prod hI hn hl hr (fun a ta => by rw [hw a ta, zv_b (o := 4) ho (by decide) (by decide) hL hR hl'' hr'', zk_4]) h)))
    · refine br_f (by decide) (br_f (by decide) (br_f (by decide) (br_t rfl (zz_2 hil hir ?_))))
      rw [cl, cr]
      refine zr_les (fun s a1 a2 _ => zz_2 hil hir (zr_les (fun t b1 b2 b => zr_set hI hn (fun a ta f1 f2 => ?_) h)))
      rw [hw a ta, zv_b (o := 5) ho (by decide) (by decide) hL hR hl'' hr'', zk_5]
      exact zq_les ((hI a ta).2 l hl) ((hI a ta).2 r hr) a1 a2 b b1 b2
    · refine br_f (by decide) (br_f (by decide) (br_f (by decide) (br_f (by decide) (br_t rfl (zz_2 hil hir ?_)))))
      rw [cl, cr]
      refine zr_gre (fun s a1 a2 a' => zz_2 hil hir (zr_gre (fun t b1 b2 _ => zr_set hI hn (fun a ta f1 f2 => ?_) h)))
      rw [hw a ta, zv_b (o := 6) ho (by decide) (by decide) hL hR hl'' hr'', zk_6]
      exact zq_gre ((hI a ta).2 l hl) ((hI a ta).2 r hr) a' a1 a2 b1 b2
    · exact br_f (by decide) (br_f (by decide) (br_f (by decide) (br_f (by decide) (br_f (by decide) (zh_7 hI hn hl hr (fun a ta => by rw [hw a ta, zv_b (o := 7) ho (by decide) (by decide) hL hR hl'' hr'', zk_7]) h)))))
    · exact br_f (by decide) (br_f (by decide) (br_f (by decide) (br_f (by decide) (br_f (by decide) (zh_8 hI hn hl hr (fun a ta => by rw [hw a ta, zv_b (o := 8) ho (by decide) (by decide) hL hR hl'' hr'', zk_8]) h)))))
    · exact br_f (by decide) (br_f (by decide) (br_f (by decide) (br_f (by decide) (br_f (by decide) (zh_9 hI hn hl hr (fun a ta => by rw [hw a ta, zv_b (o := 9) ho (by decide) (by decide) hL hR hl'' hr'', zk_9]) h)))))
    · exact br_f (by decide) (br_f (by decide) (br_f (by decide) (br_f (by decide) (br_f (by decide) (zh_10 hI hn hl hr (fun a ta => by rw [hw a ta, zv_b (o := 10) ho (by decide) (by decide) hL hR hl'' hr'', zk_10]) h)))))
/-! lowest and highest of a mask -/
theorem zw_low2 {post : Int32 → Prop} {m : Nat} (hm : m < 32) (h : ∀ r, r < 5 → (∀ x, x < 5 → m.testBit x = true → r ≤ x) → (m ≠ 0 → m.testBit r = true) → post (nI r)) : ∀ k x, x ≤ 5 → 5 - x < k → (∀ y, y < x → m.testBit y = false) → wX_lowest_2 post (nI m) k (nI x) := by
  intro k
  induction k with
  | zero => intro x _ hk; omega
  | succ k ih =>
    intro x hx hk hy
    refine pk_le 5 x (fun g => ?_) (fun g => ?_)
    · refine h 0 (by omega) (fun _ _ _ => Nat.zero_le _) (fun m0 => ?_)
      obtain ⟨y, y5, e⟩ := zm_ne m hm m0
      rw [hy y (by omega)] at e
      exact absurd e (by decide)
    · refine br_c (fun b => nm_r (nI_1 x) (ih (x + 1) (by omega) (by omega) (fun y yy => ?_))) (fun b => h x g (fun y y5 e => ?_) (fun _ => ?_))
      · have b' := (zm_bit hm g).mp b
        rcases Nat.lt_or_ge y x with q | q
        · exact hy y q
        · rw [show y = x from by omega]; exact b'
      · rcases Nat.lt_or_ge y x with q | q
        · rw [hy y q] at e; exact absurd e (by decide)
        · exact q
      · cases e : m.testBit x
        · exact absurd ((zm_bit hm g).mpr e) b
        · rfl
theorem zw_low {post : Int32 → Prop} {m : Nat} (hm : m < 32) (h : ∀ r, r < 5 → (∀ x, x < 5 → m.testBit x = true → r ≤ x) → (m ≠ 0 → m.testBit r = true) → post (nI r)) : wpX_lowest post (nI m) := Exists.intro 6 (zw_low2 hm h 6 0 (by omega) (by omega) (fun y hy => absurd hy (by omega)))
theorem zw_high4 {post : Int32 → Prop} {m : Nat} (hm : m < 32) (h : ∀ r, r < 5 → (∀ x, x < 5 → m.testBit x = true → x ≤ r) → post (nI r)) : ∀ k b x, x ≤ 5 → 5 - x < k → b < 5 → (∀ y, y < x → m.testBit y = true → y ≤ b) → wX_highest_4 post (nI m) k (nI b) (nI x) := by
  intro k
  induction k with
  | zero => intro b x _ hk; omega
  | succ k ih =>
    intro b x hx hk hb hy
    refine pk_le 5 x (fun g => ?_) (fun g => ?_)
    · exact h b hb (fun y y5 e => hy y (by omega) e)
    · refine br_c (fun c => nm_r (nI_1 x) (ih b (x + 1) (by omega) (by omega) hb (fun y yy e => ?_))) (fun c => nm_r (nI_1 x) (ih x (x + 1) (by omega) (by omega) g (fun y yy e => by omega)))
      have c' := (zm_bit hm g).mp c
      rcases Nat.lt_or_ge y x with q | q
      · exact hy y q e
      · rw [show y = x from by omega, c'] at e; exact absurd e (by decide)
theorem zw_high {post : Int32 → Prop} {m : Nat} (hm : m < 32) (h : ∀ r, r < 5 → (∀ x, x < 5 → m.testBit x = true → x ≤ r) → post (nI r)) : wpX_highest post (nI m) := Exists.intro 6 (zw_high4 hm h 6 0 0 (by omega) (by omega) (by omega) (fun y hy => absurd hy (by omega)))
/-- the masks of a depth, and that they hold all of T -/
def zD (T : Nat → Prop) (d : Nat) (dom : Nat → Int32) : Prop := ∀ v, v < 4 → ∃ m, m < 32 ∧ dom (4 * d + v) = nI m ∧ ∀ a, T a → m.testBit (zd a v) = true
theorem zi_nI {k r1 r2 : Nat} (h1 : r1 ≤ k) (h2 : k ≤ r2) (h : r2 < 5) : ((nI r1).toInt64).toInt ≤ (nI k).toInt ∧ (nI k).toInt ≤ ((nI r2).toInt64).toInt := by
  rw [Jvm.Kit.i64_of_i32, Jvm.Kit.i64_of_i32, nI_toInt (by omega), nI_toInt (by omega), nI_toInt (by omega)]
  omega
theorem zu_climb2 {post : SX → Prop} {nd d : Nat} (hd : nd ≤ 48) (h6 : d < 6) (hT : ∀ a, T a → a < 625) (hD : zD T d a_domain) (hO : ∀ m, m < nd → zo a_op a_left a_right m) (hw : ∀ a, T a → ∀ m, m < nd → W a m = zv a_op a_argument a_left a_right (fun v => nI (zd a v)) (W a) m) (h : ∀ (lo hi : Nat → Int64), zg T W nd f_failed lo hi → post (f_tokens, nI nd, f_stackSize, f_demands, f_failed, f_narrowed, f_found, f_bestTop, a_allowed, a_op, a_argument, a_left, a_right, a_stack, a_demanded, lo, hi, a_value, a_domain, a_divided, a_nextValue, a_chosen, a_counts)) : ∀ k n lo hi, n ≤ nd → nd - n < k → zg T W n f_failed lo hi → wX_climb_2 post (nI d) k (nI n) f_tokens (nI nd) f_stackSize f_demands f_failed f_narrowed f_found f_bestTop a_allowed a_op a_argument a_left a_right a_stack a_demanded lo hi a_value a_domain a_divided a_nextValue a_chosen a_counts := by
  intro k
  induction k with
  | zero => intro n lo hi _ hk; omega
  | succ k ih =>
    intro n lo hi hn hk hI
    refine pk_le nd n (fun g => ?_) (fun g => ?_)
    · have e : n = nd := by omega
      subst e
      exact h lo hi hI
    · have hn' : n < 48 := by omega
      have hin : vp_in (nI n) 48 := vp_in_nI hn' (by decide)
      have cn := zm_cl hn'
      have go : ∀ lo hi, zg T W (n + 1) f_failed lo hi → wX_climb_2 post (nI d) k (nI (n + 1)) f_tokens (nI nd) f_stackSize f_demands f_failed f_narrowed f_found f_bestTop a_allowed a_op a_argument a_left a_right a_stack a_demanded lo hi a_value a_domain a_divided a_nextValue a_chosen a_counts := fun lo hi g' => ih (n + 1) lo hi (by omega) (by omega) g'
      refine And.intro hin ?_
      rw [cn]
      refine br_c (fun o0 => zz_2 hin hin (zr_set hI hn' (fun a ta f1 f2 => ?_) (fun lo hi g' => nm_r (nI_1 n) (go lo hi g')))) (fun o0 => And.intro hin (br_c (fun o1 => And.intro hin ?_) (fun o1 => And.intro hin (zu_node hI hn' (hO n g) o0 o1 (fun a ta => hw a ta n g) (fun lo hi g' => nm_r (nI_1 n) (go lo hi g'))))))
      · rw [hw a ta n g, zv_0 o0, Jvm.Kit.i64_of_i32]
        exact ⟨Int.le_refl _, Int.le_refl _⟩
      · obtain ⟨v, hv, ev⟩ := zm_mask3 (a_argument n)
        obtain ⟨m, hm, em, hb⟩ := hD v hv
        rw [ev, zn_at]
        refine And.intro (vp_in_nI (by omega) (by decide)) (nm_r (e' := nI m) ?_ (zw_low hm (fun r1 r15 l1 _ => zw_high hm (fun r2 r25 l2 => zr_set hI hn' (fun a ta f1 f2 => ?_) (fun lo hi g' => nm_r (nI_1 n) (go lo hi g'))))))
        · rw [nI_clamp (by omega)]; exact em
        · rw [hw a ta n g, zv_1 o1, ev, nI_clamp (by omega)]
          have z5 := zd_lt (hT a ta) v
          exact zi_nI (l1 _ z5 (hb a ta)) (l2 _ z5 (hb a ta)) r25
theorem zu_climb {post : SX → Prop} {nd d : Nat} (hd : nd ≤ 48) (h6 : d < 6) (hf : f_failed = 0) (hT : ∀ a, T a → a < 625) (hD : zD T d a_domain) (hO : ∀ m, m < nd → zo a_op a_left a_right m) (hw : ∀ a, T a → ∀ m, m < nd → W a m = zv a_op a_argument a_left a_right (fun v => nI (zd a v)) (W a) m) (h : ∀ (lo hi : Nat → Int64), zg T W nd f_failed lo hi → post (f_tokens, nI nd, f_stackSize, f_demands, f_failed, f_narrowed, f_found, f_bestTop, a_allowed, a_op, a_argument, a_left, a_right, a_stack, a_demanded, lo, hi, a_value, a_domain, a_divided, a_nextValue, a_chosen, a_counts)) : wpX_climb post (f_tokens, nI nd, f_stackSize, f_demands, f_failed, f_narrowed, f_found, f_bestTop, a_allowed, a_op, a_argument, a_left, a_right, a_stack, a_demanded, a_low, a_high, a_value, a_domain, a_divided, a_nextValue, a_chosen, a_counts) (nI d) := Exists.intro (nd + 1) (zu_climb2 hd h6 hT hD hO hw h (nd + 1) 0 a_low a_high (by omega) (by omega) (fun a ta => ⟨hf, fun m hm => absurd hm (by omega)⟩))
end
end
section
/-! variables lose values; narrowing as a whole -/
section
variable {f_tokens : Int32} {f_nodes : Int32} {f_stackSize : Int32} {f_demands : Int32} {f_failed : Int32} {f_narrowed : Int32} {f_found : Int32} {f_bestTop : Int32} {a_allowed : Nat → Int32} {a_op : Nat → Int32} {a_argument : Nat → Int32} {a_left : Nat → Int32} {a_right : Nat → Int32} {a_stack : Nat → Int32} {a_demanded : Nat → Int32} {a_low : Nat → Int64} {a_high : Nat → Int64} {a_value : Nat → Int32} {a_domain : Nat → Int32} {a_divided : Nat → Int32} {a_nextValue : Nat → Int32} {a_chosen : Nat → Int32} {a_counts : Nat → Int32}
variable {T : Nat → Prop} {W : Nat → Nat → Int32}
def zS (d : Nat) (dom0 dom : Nat → Int32) : Prop := (∀ j, (j < 4 * d ∨ 4 * d + 4 ≤ j) → dom j = dom0 j) ∧ ∀ v, v < 4 → ∀ x, (dom (4 * d + v)).toNatClampNeg.testBit x = true → (dom0 (4 * d + v)).toNatClampNeg.testBit x = true
theorem zS_rf {d : Nat} {dom : Nat → Int32} : zS d dom dom := ⟨fun _ _ => rfl, fun _ _ _ h => h⟩
theorem zS_cut {d v m s : Nat} {dom0 dom : Nat → Int32} (h : zS d dom0 dom) (hv : v < 4) (hm : m < 32) (em : dom (4 * d + v) = nI m) : zS d dom0 (upd dom (4 * d + v) (nI (m &&& s))) := by
  refine ⟨fun j hj => ?_, fun u hu x hx => ?_⟩
  · rw [pk_un (by omega)]; exact h.1 j hj
  · by_cases e : u = v
    · subst e
      rw [pk_us, nI_clamp (Nat.lt_trans (zm_andlt hm) (by decide)), zm_and, Bool.and_eq_true] at hx
      refine h.2 u hu x ?_
      rw [em, nI_clamp (by omega)]
      exact hx.1
    · rw [pk_un (by omega)] at hx
      exact h.2 u hu x hx
theorem zD_cut {d v m s : Nat} {dom : Nat → Int32} (h : zD T d dom) (hv : v < 4) (hm : m < 32) (em : dom (4 * d + v) = nI m) (hs : ∀ a, T a → s.testBit (zd a v) = true) : zD T d (upd dom (4 * d + v) (nI (m &&& s))) := by
  intro u hu
  by_cases e : u = v
  · subst e
    refine ⟨m &&& s, zm_andlt hm, pk_us, fun a ta => ?_⟩
    obtain ⟨m', hm', em', hb⟩ := h u hu
    have : m = m' := (nI_eq (by omega) (by omega)).mp (em.symm.trans em')
    subst this
    rw [zm_and, hb a ta, hs a ta]
    rfl
  · obtain ⟨m', hm', em', hb⟩ := h u hu
    exact ⟨m', hm', by rw [pk_un (by omega)]; exact em', hb⟩
theorem zy_n0 : narrow .boolean (.int (0 : Int32)) = .int (0 : Int32) := rfl
theorem zy_n1 : narrow .boolean (.int (1 : Int32)) = .int (1 : Int32) := rfl
theorem zy_f0 : fits .boolean (.int (0 : Int32)) = true := by decide
theorem zy_f1 : fits .boolean (.int (1 : Int32)) = true := by decide
theorem zy_122 {post : Int32 → SX → Prop} {J : Int32 → Int32 → (Nat → Int32) → (Nat → Int32) → (Nat → Int32) → (Nat → Int32) → (Nat → Int32) → (Nat → Int32) → (Nat → Int32) → (Nat → Int64) → (Nat → Int64) → (Nat → Int32) → (Nat → Int32) → (Nat → Int32) → (Nat → Int32) → (Nat → Int32) → (Nat → Int32) → Prop} {x1 z : Int32} {n j m s : Nat} (hj : j < 24) (em : a_domain j = nI m) (hz : z = 0 ∨ z = 1) (h : J (nI (n + 1)) z a_allowed a_op a_argument a_left a_right a_stack a_demanded a_low a_high a_value (upd a_domain j (nI (m &&& s))) a_divided a_nextValue a_chosen a_counts) : wX_takeToVariables_122 post J x1 (nI n) (nI j) (nI s) z f_tokens f_nodes f_stackSize f_demands f_failed f_narrowed f_found f_bestTop a_allowed a_op a_argument a_left a_right a_stack a_demanded a_low a_high a_value a_domain a_divided a_nextValue a_chosen a_counts := by
  have hij : vp_in (nI j) 24 := vp_in_nI hj (by decide)
  have hnz : narrow .boolean (.int z) = .int z ∧ fits .boolean (.int z) = true := by
    rcases hz with e | e <;> subst e
    · exact ⟨zy_n0, zy_f0⟩
    · exact ⟨zy_n1, zy_f1⟩
  refine And.intro hnz.1 (And.intro hnz.2 (And.intro hij (And.intro hij (nm_r (e' := upd a_domain j (nI (m &&& s))) ?_ (nm_r (nI_1 n) h)))))
  rw [nI_clamp (by omega), em, nx_and]
theorem zy_44 {post : Int32 → SX → Prop} {J : Int32 → Int32 → (Nat → Int32) → (Nat → Int32) → (Nat → Int32) → (Nat → Int32) → (Nat → Int32) → (Nat → Int32) → (Nat → Int32) → (Nat → Int64) → (Nat → Int64) → (Nat → Int32) → (Nat → Int32) → (Nat → Int32) → (Nat → Int32) → (Nat → Int32) → (Nat → Int32) → Prop} {x1 : Int32} {n j m : Nat} (hn : n < 48) (hj : j < 24) (em : a_domain j = nI m) (h : ∀ s z, s < 32 → (∀ x : Nat, x < 5 → (a_low n).toInt ≤ (x : Int) → (x : Int) ≤ (a_high n).toInt → s.testBit x = true) → (z = 0 ∨ z = 1) → J (nI (n + 1)) z a_allowed a_op a_argument a_left a_right a_stack a_demanded a_low a_high a_value (upd a_domain j (nI (m &&& s))) a_divided a_nextValue a_chosen a_counts) : ∀ k s x, x ≤ 5 → 5 - x < k → s < 32 → (∀ y : Nat, y < x → (a_low n).toInt ≤ (y : Int) → (y : Int) ≤ (a_high n).toInt → s.testBit y = true) → wX_takeToVariables_44 post J x1 (nI n) (nI j) f_tokens f_nodes f_stackSize f_demands f_failed f_narrowed f_found f_bestTop a_allowed a_op a_argument a_left a_right a_stack a_demanded a_low a_high a_value a_domain a_divided a_nextValue a_chosen a_counts k (nI s) (nI x) := by
  intro k
  induction k with
  | zero => intro s x _ hk; omega
  | succ k ih =>
    intro s x hx hk hs hy
    have hin : vp_in (nI n) 48 := vp_in_nI hn (by decide)
    have hij : vp_in (nI j) 24 := vp_in_nI hj (by decide)
    have cn := zm_cl hn
    refine pk_le 5 x (fun g => ?_) (fun g => ?_)
    · have hs5 : ∀ x : Nat, x < 5 → (a_low n).toInt ≤ (x : Int) → (x : Int) ≤ (a_high n).toInt → s.testBit x = true := fun y y5 => hy y (by omega)
      exact br_c (fun _ => And.intro hij (br_c (fun _ => zy_122 hj em (Or.inl rfl) (h s 0 hs hs5 (Or.inl rfl))) (fun _ => zy_122 hj em (Or.inr rfl) (h s 1 hs hs5 (Or.inr rfl))))) (fun _ => zy_122 hj em (Or.inr rfl) (h s 1 hs hs5 (Or.inr rfl)))
    · have e0 : nI s ||| 0 = nI s := by
        show nI s ||| nI 0 = nI s
        rw [zb_or, Nat.or_zero]
      have ex : ((nI x).toInt64).toInt = (x : Int) := by rw [Jvm.Kit.i64_of_i32, nI_toInt (by omega)]
      have kp : (¬ ((a_low n).toInt ≤ (x : Int) ∧ (x : Int) ≤ (a_high n).toInt)) → wX_takeToVariables_44 post J x1 (nI n) (nI j) f_tokens f_nodes f_stackSize f_demands f_failed f_narrowed f_found f_bestTop a_allowed a_op a_argument a_left a_right a_stack a_demanded a_low a_high a_value a_domain a_divided a_nextValue a_chosen a_counts k (nI s) (nI (x + 1)) := by
        intro q
        refine ih s (x + 1) (by omega) (by omega) hs (fun y yx l1 l2 => ?_)
        rcases Nat.lt_or_ge y x with c | c
        · exact hy y c l1 l2
        · have : y = x := by omega
          subst this
          exact absurd ⟨l1, l2⟩ q
      refine And.intro hin ?_
      rw [cn]
      refine br_c (fun b => nm_r e0 (nm_r (nI_1 x) (kp ?_))) (fun b => And.intro hin (br_c (fun c => nm_r e0 (nm_r (nI_1 x) (kp ?_))) (fun c => nm_r (e' := nI (s ||| 2 ^ x)) ?_ (nm_r (nI_1 x) (ih _ (x + 1) (by omega) (by omega) ?_ (fun y yx l1 l2 => ?_))))))
      · have b' := zl_lt b
        rw [ex] at b'
        omega
      · have c' := zl_lt c
        rw [ex] at c'
        omega
      · rw [zm_shl x g, zb_or]
      · exact Nat.or_lt_two_pow (n := 5) hs (zm_pw g)
      · rw [Nat.testBit_or]
        rcases Nat.lt_or_ge y x with c | c
        · rw [hy y c l1 l2]; rfl
        · have : y = x := by omega
          subst this
          rw [Nat.testBit_two_pow_self, Bool.or_true]
theorem zy_7 {post : Int32 → SX → Prop} {nd d : Nat} {dom0 : Nat → Int32} (hd : nd ≤ 48) (h6 : d < 6) (hT : ∀ a, T a → a < 625) (hG : zg T W nd f_failed a_low a_high) (hw : ∀ a, T a → ∀ m, m < nd → W a m = zv a_op a_argument a_left a_right (fun v => nI (zd a v)) (W a) m) (h : ∀ (nr : Int32) (dom : Nat → Int32), zD T d dom → zS d dom0 dom → post nr (f_tokens, nI nd, f_stackSize, f_demands, f_failed, nr, f_found, f_bestTop, a_allowed, a_op, a_argument, a_left, a_right, a_stack, a_demanded, a_low, a_high, a_value, dom, a_divided, a_nextValue, a_chosen, a_counts)) : ∀ k n nr dom, n ≤ nd → nd - n < k → (nr = 0 ∨ nr = 1) → zD T d dom → zS d dom0 dom → wX_takeToVariables_7 post (nI d) f_tokens (nI nd) f_stackSize f_demands f_failed f_found f_bestTop k (nI n) nr a_allowed a_op a_argument a_left a_right a_stack a_demanded a_low a_high a_value dom a_divided a_nextValue a_chosen a_counts := by
  intro k
  induction k with
  | zero => intro n nr dom _ hk; omega
  | succ k ih =>
    intro n nr dom hn hk hr hD hS
    refine pk_le nd n (fun g => And.intro ?_ (h nr dom hD hS)) (fun g => ?_)
    · rcases hr with e | e <;> subst e
      · exact zy_n0
      · exact zy_n1
    · have hn' : n < 48 := by omega
      have hin : vp_in (nI n) 48 := vp_in_nI hn' (by decide)
      have cn := zm_cl hn'
      refine And.intro hin ?_
      rw [cn]
      refine br_c (fun o1 => And.intro hin ?_) (fun _ => nm_r (nI_1 n) (ih (n + 1) nr dom (by omega) (by omega) hr hD hS))
      obtain ⟨v, hv, ev⟩ := zm_mask3 (a_argument n)
      obtain ⟨m, hm, em, hb⟩ := hD v hv
      refine nm_r (e' := nI (4 * d + v)) (by rw [ev, zn_at]) (Exists.intro 6 (zy_44 hn' (by omega) em (fun s z hs hsx hz => ih (n + 1) z _ (by omega) (by omega) hz (zD_cut hD hv hm em (fun a ta => ?_)) (zS_cut hS hv hm em)) 6 0 0 (by omega) (by omega) (by omega) (fun y hy => absurd hy (by omega))))
      have q := (hG a ta).2 n g
      have z5 := zd_lt (hT a ta) v
      have e := hw a ta n g
      rw [zv_1 o1, ev, nI_clamp (by omega)] at e
      unfold zi at q
      rw [e, nI_toInt (by omega)] at q
      exact hsx _ z5 q.2.1 q.2.2.1
theorem zy_take {post : Int32 → SX → Prop} {nd d : Nat} {dom0 : Nat → Int32} (hd : nd ≤ 48) (h6 : d < 6) (hT : ∀ a, T a → a < 625) (hG : zg T W nd f_failed a_low a_high) (hD : zD T d a_domain) (hS : zS d dom0 a_domain) (hw : ∀ a, T a → ∀ m, m < nd → W a m = zv a_op a_argument a_left a_right (fun v => nI (zd a v)) (W a) m) (h : ∀ (nr : Int32) (dom : Nat → Int32), zD T d dom → zS d dom0 dom → post nr (f_tokens, nI nd, f_stackSize, f_demands, f_failed, nr, f_found, f_bestTop, a_allowed, a_op, a_argument, a_left, a_right, a_stack, a_demanded, a_low, a_high, a_value, dom, a_divided, a_nextValue, a_chosen, a_counts)) : wpX_takeToVariables post (f_tokens, nI nd, f_stackSize, f_demands, f_failed, f_narrowed, f_found, f_bestTop, a_allowed, a_op, a_argument, a_left, a_right, a_stack, a_demanded, a_low, a_high, a_value, a_domain, a_divided, a_nextValue, a_chosen, a_counts) (nI d) :=
  Exists.intro (nd + 1) (zy_7 hd h6 hT hG hw h (nd + 1) 0 0 a_domain (by omega) (by omega) (Or.inl rfl) hD hS)
/-! narrow -/
theorem zx_121 {post : SX → Prop} {d : Nat} (h6 : d < 6) (hD : zD T d a_domain) (h : ∀ fl : Int32, (∀ a, T a → fl = 0) → (fl = 0 → ∀ v, v < 4 → ¬ a_domain (4 * d + v) = 0) → post (f_tokens, f_nodes, f_stackSize, f_demands, fl, f_narrowed, f_found, f_bestTop, a_allowed, a_op, a_argument, a_left, a_right, a_stack, a_demanded, a_low, a_high, a_value, a_domain, a_divided, a_nextValue, a_chosen, a_counts)) : ∀ k v (fl : Int32), v ≤ 4 → 4 - v < k → (∀ a, T a → fl = 0) → (fl = 0 → ∀ u, u < v → ¬ a_domain (4 * d + u) = 0) → wX_narrow_121 post (nI d) f_tokens f_nodes f_stackSize f_demands f_narrowed f_found f_bestTop a_allowed a_op a_argument a_left a_right a_stack a_demanded a_low a_high a_value a_domain a_divided a_nextValue a_chosen a_counts k (nI v) fl := by
  intro k
  induction k with
  | zero => intro v fl _ hk; omega
  | succ k ih =>
    intro v fl hv hk hT0 hN
    refine pk_le 4 v (fun g => h fl hT0 (fun f0 u hu => hN f0 u (by omega))) (fun g => ?_)
    obtain ⟨m, hm, em, hb⟩ := hD v g
    refine br_c (fun f0 => ?_) (fun f0 => nm_r (nI_1 v) (ih (v + 1) 1 (by omega) (by omega) (fun a ta => absurd (hT0 a ta) f0) (fun z => absurd z (by decide))))
    rw [zn_at]
    refine And.intro (vp_in_nI (by omega) (by decide)) ?_
    rw [nI_clamp (by omega)]
    refine br_c (fun z => nm_r (nI_1 v) (ih (v + 1) 1 (by omega) (by omega) (fun a ta => ?_) (fun z => absurd z (by decide)))) (fun z => nm_r (nI_1 v) (ih (v + 1) 0 (by omega) (by omega) (fun _ _ => rfl) (fun _ u hu => ?_)))
    · have b := hb a ta
      rw [em, zm_n0 (by omega)] at z
      rw [z, Nat.zero_testBit] at b
      exact absurd b (by decide)
    · rcases Nat.lt_or_ge u v with q | q
      · exact hN f0 u q
      · rw [show u = v from by omega]; exact z
theorem zx_92 {post : SX → Prop} {J : Int32 → Int32 → Int32 → Int32 → Int32 → Int32 → Int32 → Int32 → Int32 → Int32 → (Nat → Int32) → (Nat → Int32) → (Nat → Int32) → (Nat → Int32) → (Nat → Int32) → (Nat → Int32) → (Nat → Int32) → (Nat → Int64) → (Nat → Int64) → (Nat → Int32) → (Nat → Int32) → (Nat → Int32) → (Nat → Int32) → (Nat → Int32) → (Nat → Int32) → Prop} {nd d rd : Nat} {dom0 : Nat → Int32} (hd : nd ≤ 48) (h6 : d < 6) (hT : ∀ a, T a → a < 625) (hG : zg T W nd f_failed a_low a_high) (hD : zD T d a_domain) (hS : zS d dom0 a_domain) (hw : ∀ a, T a → ∀ m, m < nd → W a m = zv a_op a_argument a_left a_right (fun v => nI (zd a v)) (W a) m) (h : ∀ (ch nr : Int32) (dom : Nat → Int32), zD T d dom → zS d dom0 dom → J ch (nI (rd + 1)) f_tokens (nI nd) f_stackSize f_demands f_failed nr f_found f_bestTop a_allowed a_op a_argument a_left a_right a_stack a_demanded a_low a_high a_value dom a_divided a_nextValue a_chosen a_counts) : wX_narrow_92 post J (nI d) (nI rd) f_tokens (nI nd) f_stackSize f_demands f_failed f_narrowed f_found f_bestTop a_allowed a_op a_argument a_left a_right a_stack a_demanded a_low a_high a_value a_domain a_divided a_nextValue a_chosen a_counts :=
  br_c (fun _ => zy_take hd h6 hT hG hD hS hw (fun nr dom hD' hS' => br_c (fun _ => nm_r (nI_1 rd) (h 0 nr dom hD' hS')) (fun _ => nm_r (nI_1 rd) (h 1 nr dom hD' hS')))) (fun _ => nm_r (nI_1 rd) (h 0 f_narrowed a_domain hD hS))
theorem zx_68 {post : SX → Prop} {J : Int32 → Int32 → Int32 → Int32 → Int32 → Int32 → Int32 → Int32 → Int32 → Int32 → (Nat → Int32) → (Nat → Int32) → (Nat → Int32) → (Nat → Int32) → (Nat → Int32) → (Nat → Int32) → (Nat → Int32) → (Nat → Int64) → (Nat → Int64) → (Nat → Int32) → (Nat → Int32) → (Nat → Int32) → (Nat → Int32) → (Nat → Int32) → (Nat → Int32) → Prop} {nd d rd : Nat} {dom0 : Nat → Int32} (hd : nd ≤ 48) (h6 : d < 6) (hT : ∀ a, T a → a < 625) (hD : zD T d a_domain) (hS : zS d dom0 a_domain) (hO : ∀ m, m < nd → zo a_op a_left a_right m) (hw : ∀ a, T a → ∀ m, m < nd → W a m = zv a_op a_argument a_left a_right (fun v => nI (zd a v)) (W a) m) (h : ∀ (ch fl nr : Int32) (lo hi : Nat → Int64) (dom : Nat → Int32), zD T d dom → zS d dom0 dom → (∀ a, T a → fl = 0) → J ch (nI (rd + 1)) f_tokens (nI nd) f_stackSize f_demands fl nr f_found f_bestTop a_allowed a_op a_argument a_left a_right a_stack a_demanded lo hi a_value dom a_divided a_nextValue a_chosen a_counts) : ∀ k n fl lo hi, n ≤ nd → n < k → zg T W nd fl lo hi → wX_narrow_68 post J (nI d) (nI rd) k (nI n - 1) f_tokens (nI nd) f_stackSize f_demands fl f_narrowed f_found f_bestTop a_allowed a_op a_argument a_left a_right a_stack a_demanded lo hi a_value a_domain a_divided a_nextValue a_chosen a_counts := by
  intro k
  induction k with
  | zero => intro n fl lo hi _ hk; omega
  | succ k ih =>
    intro n fl lo hi hn hk hG
    have out : wX_narrow_92 post J (nI d) (nI rd) f_tokens (nI nd) f_stackSize f_demands fl f_narrowed f_found f_bestTop a_allowed a_op a_argument a_left a_right a_stack a_demanded lo hi a_value a_domain a_divided a_nextValue a_chosen a_counts := zx_92 hd h6 hT hG hD hS hw (fun ch nr dom hD' hS' => h ch fl nr lo hi dom hD' hS' (fun a ta => (hG a ta).1))
    cases n with
    | zero => exact br_t (by decide) out
    | succ n =>
      rw [nI_pred]
      refine br_f (nI_pos (by omega)) (br_c (fun _ => zc_desc hG hd (by omega) (hO n (by omega)) (fun a ta => hw a ta n (by omega)) (fun fl' lo' hi' g => nm_r (e' := nI n - 1) (Int32.sub_eq_add_neg _ _).symm (ih n fl' lo' hi' (by omega) (by omega) g))) (fun _ => out))
theorem zx_34 {post : SX → Prop} {J : Int32 → Int32 → Int32 → Int32 → Int32 → Int32 → Int32 → Int32 → Int32 → Int32 → (Nat → Int32) → (Nat → Int32) → (Nat → Int32) → (Nat → Int32) → (Nat → Int32) → (Nat → Int32) → (Nat → Int32) → (Nat → Int64) → (Nat → Int64) → (Nat → Int32) → (Nat → Int32) → (Nat → Int32) → (Nat → Int32) → (Nat → Int32) → (Nat → Int32) → Prop} {nd d rd dm : Nat} {dom0 : Nat → Int32} (hd : nd ≤ 48) (hdm : dm ≤ 48) (h6 : d < 6) (hT : ∀ a, T a → a < 625) (hD : zD T d a_domain) (hS : zS d dom0 a_domain) (hO : ∀ m, m < nd → zo a_op a_left a_right m) (hw : ∀ a, T a → ∀ m, m < nd → W a m = zv a_op a_argument a_left a_right (fun v => nI (zd a v)) (W a) m) (hM : ∀ i, i < dm → ∃ m, m < nd ∧ a_demanded i = nI m ∧ ∀ a, T a → ¬ W a m = 0) (h : ∀ (ch fl nr : Int32) (lo hi : Nat → Int64) (dom : Nat → Int32), zD T d dom → zS d dom0 dom → (∀ a, T a → fl = 0) → J ch (nI (rd + 1)) f_tokens (nI nd) f_stackSize (nI dm) fl nr f_found f_bestTop a_allowed a_op a_argument a_left a_right a_stack a_demanded lo hi a_value dom a_divided a_nextValue a_chosen a_counts) : ∀ k i fl lo hi, i ≤ dm → dm - i < k → zg T W nd fl lo hi → wX_narrow_34 post J (nI d) (nI rd) k (nI i) f_tokens (nI nd) f_stackSize (nI dm) fl f_narrowed f_found f_bestTop a_allowed a_op a_argument a_left a_right a_stack a_demanded lo hi a_value a_domain a_divided a_nextValue a_chosen a_counts := by
  intro k
  induction k with
  | zero => intro i fl lo hi _ hk; omega
  | succ k ih =>
    intro i fl lo hi hi' hk hG
    refine pk_le dm i (fun g => nm_e (Exists.intro (nd + 1) (zx_68 hd h6 hT hD hS hO hw h (nd + 1) nd fl lo hi (by omega) (by omega) hG))) (fun g => And.intro (vp_in_nI (by omega) (by decide)) ?_)
    obtain ⟨m, hm, em, hb⟩ := hM i g
    rw [zm_cl (by omega), em]
    exact zc_dem hG hm hd hb (fun fl' lo' hi'' g' => nm_r (nI_1 i) (ih (i + 1) fl' lo' hi'' (by omega) (by omega) g'))
theorem zx_9 {post : SX → Prop} {nd d dm : Nat} {dom0 : Nat → Int32} (hd : nd ≤ 48) (hdm : dm ≤ 48) (h6 : d < 6) (hT : ∀ a, T a → a < 625) (hO : ∀ m, m < nd → zo a_op a_left a_right m) (hw : ∀ a, T a → ∀ m, m < nd → W a m = zv a_op a_argument a_left a_right (fun v => nI (zd a v)) (W a) m) (hM : ∀ i, i < dm → ∃ m, m < nd ∧ a_demanded i = nI m ∧ ∀ a, T a → ¬ W a m = 0) (h : ∀ (fl nr : Int32) (lo hi : Nat → Int64) (dom : Nat → Int32), zD T d dom → zS d dom0 dom → (∀ a, T a → fl = 0) → (fl = 0 → ∀ v, v < 4 → ¬ dom (4 * d + v) = 0) → post (f_tokens, nI nd, f_stackSize, nI dm, fl, nr, f_found, f_bestTop, a_allowed, a_op, a_argument, a_left, a_right, a_stack, a_demanded, lo, hi, a_value, dom, a_divided, a_nextValue, a_chosen, a_counts)) : ∀ k rd ch fl nr lo hi dom, rd ≤ 21 → 21 - rd < k → zD T d dom → zS d dom0 dom → (∀ a, T a → fl = 0) → wX_narrow_9 post (nI d) k ch (nI rd) f_tokens (nI nd) f_stackSize (nI dm) fl nr f_found f_bestTop a_allowed a_op a_argument a_left a_right a_stack a_demanded lo hi a_value dom a_divided a_nextValue a_chosen a_counts := by
  intro k
  induction k with
  | zero => intro rd ch fl nr lo hi dom _ hk; omega
  | succ k ih =>
    intro rd ch fl nr lo hi dom hrd hk hD hS hF
    have out : ∃ n121 : Nat, wX_narrow_121 post (nI d) f_tokens (nI nd) f_stackSize (nI dm) nr f_found f_bestTop a_allowed a_op a_argument a_left a_right a_stack a_demanded lo hi a_value dom a_divided a_nextValue a_chosen a_counts n121 0 fl := ⟨5, zx_121 h6 hD (fun fl' h1 h2 => h fl' nr lo hi dom hD hS h1 h2) 5 0 fl (by omega) (by omega) hF (fun _ u hu => absurd hu (by omega))⟩
    refine pk_le 21 rd (fun _ => out) (fun g => br_c (fun _ => out) (fun _ => br_c (fun f0 => ?_) (fun _ => out)))
    exact zu_climb hd h6 f0 hT hD hO hw (fun lo' hi' hG => Exists.intro (dm + 1) (zx_34 hd hdm h6 hT hD hS hO hw hM (fun ch' fl' nr' lo2 hi2 dom2 hD2 hS2 hF2 => ih (rd + 1) ch' fl' nr' lo2 hi2 dom2 (by omega) (by omega) hD2 hS2 hF2) (dm + 1) 0 fl lo' hi' (by omega) (by omega) hG))
theorem zx_narrow {post : SX → Prop} {nd d dm : Nat} (hd : nd ≤ 48) (hdm : dm ≤ 48) (h6 : d < 6) (hT : ∀ a, T a → a < 625) (hD : zD T d a_domain) (hO : ∀ m, m < nd → zo a_op a_left a_right m) (hw : ∀ a, T a → ∀ m, m < nd → W a m = zv a_op a_argument a_left a_right (fun v => nI (zd a v)) (W a) m) (hM : ∀ i, i < dm → ∃ m, m < nd ∧ a_demanded i = nI m ∧ ∀ a, T a → ¬ W a m = 0) (h : ∀ (fl nr : Int32) (lo hi : Nat → Int64) (dom : Nat → Int32), zD T d dom → zS d a_domain dom → (∀ a, T a → fl = 0) → (fl = 0 → ∀ v, v < 4 → ¬ dom (4 * d + v) = 0) → post (f_tokens, nI nd, f_stackSize, nI dm, fl, nr, f_found, f_bestTop, a_allowed, a_op, a_argument, a_left, a_right, a_stack, a_demanded, lo, hi, a_value, dom, a_divided, a_nextValue, a_chosen, a_counts)) : wpX_narrow post (f_tokens, nI nd, f_stackSize, nI dm, f_failed, f_narrowed, f_found, f_bestTop, a_allowed, a_op, a_argument, a_left, a_right, a_stack, a_demanded, a_low, a_high, a_value, a_domain, a_divided, a_nextValue, a_chosen, a_counts) (nI d) :=
  Exists.intro 22 (zx_9 hd hdm h6 hT hO hw hM h 22 0 1 0 f_narrowed a_low a_high a_domain (by omega) (by omega) hD zS_rf (fun _ _ => rfl))
end
end
section
/-! values of a whole assignment -/
section
variable {f_tokens : Int32} {f_nodes : Int32} {f_stackSize : Int32} {f_demands : Int32} {f_failed : Int32} {f_narrowed : Int32} {f_found : Int32} {f_bestTop : Int32} {a_allowed : Nat → Int32} {a_op : Nat → Int32} {a_argument : Nat → Int32} {a_left : Nat → Int32} {a_right : Nat → Int32} {a_stack : Nat → Int32} {a_demanded : Nat → Int32} {a_low : Nat → Int64} {a_high : Nat → Int64} {a_value : Nat → Int32} {a_domain : Nat → Int32} {a_divided : Nat → Int32} {a_nextValue : Nat → Int32} {a_chosen : Nat → Int32} {a_counts : Nat → Int32}
theorem za_calc {post : Int32 → Prop} {o x y : Int32} (h : post (zk o x y)) : wpX_calculate post o x y := by
  unfold zk at h
  by_cases e2 : o = 2
  · rw [if_pos e2] at h; exact br_t e2 h
  rw [if_neg e2] at h
  refine br_f e2 ?_
  by_cases e3 : o = 3
  · rw [if_pos e3] at h; exact br_t e3 h
  rw [if_neg e3] at h
  refine br_f e3 ?_
  by_cases e4 : o = 4
  · rw [if_pos e4] at h; exact br_t e4 h
  rw [if_neg e4] at h
  refine br_f e4 ?_
  by_cases e5 : o = 5
  · rw [if_pos e5] at h
    exact br_t e5 (br_c (fun g => by rw [if_pos g] at h; exact h) (fun g => by rw [if_neg g] at h; exact h))
  rw [if_neg e5] at h
  refine br_f e5 ?_
  by_cases e6 : o = 6
  · rw [if_pos e6] at h
    exact br_t e6 (br_c (fun g => by rw [if_pos g] at h; exact h) (fun g => by rw [if_neg g] at h; exact h))
  rw [if_neg e6] at h
  refine br_f e6 ?_
  have k1 : post 1 → wX_calculate_151 post 1 := fun h => br_f (by decide) h
  have k0 : post 0 → wX_calculate_151 post 0 := fun h => br_t rfl h
  by_cases e7 : o = 7
  · rw [if_pos e7] at h
    exact br_t e7 (br_c (fun g => k1 (by rw [if_pos g] at h; exact h)) (fun g => k0 (by rw [if_neg g] at h; exact h)))
  rw [if_neg e7] at h
  refine br_f e7 ?_
  by_cases e8 : o = 8
  · rw [if_pos e8] at h
    exact br_t e8 (br_c (fun g => k0 (by rw [if_pos g] at h; exact h)) (fun g => k1 (by rw [if_neg g] at h; exact h)))
  rw [if_neg e8] at h
  refine br_f e8 ?_
  by_cases e9 : o = 9
  · rw [if_pos e9] at h
    exact br_t e9 (br_c (fun g => k0 (by rw [if_pos g] at h; exact h)) (fun g => br_c (fun g' => k0 (by rw [if_neg g, if_pos g'] at h; exact h)) (fun g' => k1 (by rw [if_neg g, if_neg g'] at h; exact h))))
  rw [if_neg e9] at h
  refine br_f e9 ?_
  by_cases e10 : o = 10
  · rw [if_pos e10] at h
    exact br_t e10 (br_c (fun g => br_c (fun g' => k0 (by rw [if_pos g, if_pos g'] at h; exact h)) (fun g' => k1 (by rw [if_pos g, if_neg g'] at h; exact h))) (fun g => k1 (by rw [if_neg g] at h; exact h)))
  rw [if_neg e10] at h
  exact br_f e10 (br_c (fun g => k1 (by rw [if_pos g] at h; exact h)) (fun g => k0 (by rw [if_neg g] at h; exact h)))
def zvs (op ar lf rt c : Nat → Int32) : Nat → Nat → Int32
  | 0 => fun _ => 0
  | n + 1 => upd (zvs op ar lf rt c n) n (zv op ar lf rt c (zvs op ar lf rt c n) n)
/-- the value of node m under the assignment c -/
def zW (op ar lf rt c : Nat → Int32) (m : Nat) : Int32 := zvs op ar lf rt c (m + 1) m
theorem zvs_lt {op ar lf rt c : Nat → Int32} : ∀ n m, m < n → zvs op ar lf rt c n m = zW op ar lf rt c m := by
  intro n
  induction n with
  | zero => intro m h; omega
  | succ n ih =>
    intro m h
    by_cases e : m = n
    · subst e; rfl
    · show upd (zvs op ar lf rt c n) n (zv op ar lf rt c (zvs op ar lf rt c n) n) m = _
      rw [pk_un e]
      exact ih m (by omega)
theorem zv_cg {op ar lf rt c c' w w' : Nat → Int32} {n : Nat} (hn : n < 48) (hO : zo op lf rt n) (hc : ∀ v, v < 4 → c v = c' v) (hw : ∀ m, m < n → w m = w' m) : zv op ar lf rt c w n = zv op ar lf rt c' w' n := by
  rcases hO with ⟨ho, hL, hR⟩ | ⟨ho, hL, r, hr, hR⟩ | ⟨o, l, r, o2, o10, hl, hr, ho, hL, hR⟩
  · rcases ho with ho | ho
    · rw [zv_0 ho, zv_0 ho]
    · rw [zv_1 ho, zv_1 ho]
      obtain ⟨v, hv, ev⟩ := zm_mask3 (ar n)
      rw [ev, nI_clamp (by omega)]
      exact hc v hv
  · rw [zv_11 ho hR (by omega), zv_11 ho hR (by omega), hw r hr]
  · have h0 : ¬ nI o = 0 := nI_ne0 (by omega) (by omega)
    have h1 : ¬ nI o = 1 := fun e => by
      have : o = 1 := (nI_eq (b := 1) (by omega) (by omega)).mp e
      omega
    rw [zv_b ho h0 h1 hL hR (by omega) (by omega), zv_b ho h0 h1 hL hR (by omega) (by omega), hw l hl, hw r hr]
theorem zW_eq {op ar lf rt c : Nat → Int32} {n : Nat} (hn : n < 48) (hO : zo op lf rt n) : zW op ar lf rt c n = zv op ar lf rt c (zW op ar lf rt c) n := by
  show upd (zvs op ar lf rt c n) n (zv op ar lf rt c (zvs op ar lf rt c n) n) n = _
  rw [pk_us]
  exact zv_cg hn hO (fun _ _ => rfl) (fun m hm => zvs_lt n m hm)
variable {c : Nat → Int32} {nd : Nat}
theorem za_59 {post : SX → Prop} {J : Int32 → (Nat → Int32) → (Nat → Int32) → (Nat → Int32) → (Nat → Int32) → (Nat → Int32) → (Nat → Int32) → (Nat → Int32) → (Nat → Int64) → (Nat → Int64) → (Nat → Int32) → (Nat → Int32) → (Nat → Int32) → (Nat → Int32) → (Nat → Int32) → (Nat → Int32) → Prop} {n : Nat} {x y z : Int32} (hn : n < 48) (h0 : a_op n = 0 → a_argument n = z) (h1 : a_op n = 1 → a_chosen (a_argument n &&& 3).toNatClampNeg = z) (h2 : ¬ a_op n = 0 → ¬ a_op n = 1 → zk (a_op n) x y = z) (h : J (nI (n + 1)) a_allowed a_op a_argument a_left a_right a_stack a_demanded a_low a_high (upd a_value n z) a_domain a_divided a_nextValue a_chosen a_counts) : wX_evaluateAll_59 post J (nI n) x y f_tokens f_nodes f_stackSize f_demands f_failed f_narrowed f_found f_bestTop a_allowed a_op a_argument a_left a_right a_stack a_demanded a_low a_high a_value a_domain a_divided a_nextValue a_chosen a_counts := by
  have hin : vp_in (nI n) 48 := vp_in_nI hn (by decide)
  have cn := zm_cl hn
  refine And.intro hin ?_
  rw [cn]
  refine br_c (fun o0 => And.intro hin (And.intro hin (nm_r (e' := upd a_value n z) (by rw [h0 o0]) (nm_r (nI_1 n) h)))) (fun o0 => And.intro hin (br_c (fun o1 => And.intro hin (And.intro (pk_andIn _ 2 (by decide) (by decide)) (And.intro hin (nm_r (e' := upd a_value n z) (by rw [h1 o1]) (nm_r (nI_1 n) h))))) (fun o1 => And.intro hin (za_calc (And.intro hin (nm_r (e' := upd a_value n z) (by rw [h2 o0 o1]) (nm_r (nI_1 n) h)))))))
theorem za_2 {post : SX → Prop} (hd : nd ≤ 48) (hO : ∀ m, m < nd → zo a_op a_left a_right m) (hc : ∀ v, v < 4 → a_chosen v = c v) (h : ∀ va : Nat → Int32, (∀ m, m < nd → va m = zW a_op a_argument a_left a_right c m) → post (f_tokens, nI nd, f_stackSize, f_demands, f_failed, f_narrowed, f_found, f_bestTop, a_allowed, a_op, a_argument, a_left, a_right, a_stack, a_demanded, a_low, a_high, va, a_domain, a_divided, a_nextValue, a_chosen, a_counts)) : ∀ k n va, n ≤ nd → nd - n < k → (∀ m, m < n → va m = zW a_op a_argument a_left a_right c m) → wX_evaluateAll_2 post f_tokens (nI nd) f_stackSize f_demands f_failed f_narrowed f_found f_bestTop k (nI n) a_allowed a_op a_argument a_left a_right a_stack a_demanded a_low a_high va a_domain a_divided a_nextValue a_chosen a_counts := by
  intro k
  induction k with
  | zero => intro n va _ hk; omega
  | succ k ih =>
    intro n va hn hk hv
    refine pk_le nd n (fun g => h va (fun m hm => hv m (by omega))) (fun g => ?_)
    have hn' : n < 48 := by omega
    have hin : vp_in (nI n) 48 := vp_in_nI hn' (by decide)
    have cn := zm_cl hn'
    have go : wX_evaluateAll_2 post f_tokens (nI nd) f_stackSize f_demands f_failed f_narrowed f_found f_bestTop k (nI (n + 1)) a_allowed a_op a_argument a_left a_right a_stack a_demanded a_low a_high (upd va n (zW a_op a_argument a_left a_right c n)) a_domain a_divided a_nextValue a_chosen a_counts := by
      refine ih (n + 1) _ (by omega) (by omega) (fun m hm => ?_)
      by_cases e : m = n
      · subst e; rw [pk_us]
      · rw [pk_un e]; exact hv m (by omega)
    have eq := zW_eq (ar := a_argument) (c := c) hn' (hO n g)
    refine And.intro hin ?_
    rw [cn]
    have k0 : a_op n = 0 → a_argument n = zW a_op a_argument a_left a_right c n := fun o => by rw [eq, zv_0 o]
    have k1 : a_op n = 1 → a_chosen (a_argument n &&& 3).toNatClampNeg = zW a_op a_argument a_left a_right c n := fun o => by
      rw [eq, zv_1 o]
      obtain ⟨v, hv', ev⟩ := zm_mask3 (a_argument n)
      rw [ev, nI_clamp (by omega)]
      exact hc v hv'
    rcases hO n g with ⟨ho, hL, hR⟩ | ⟨ho, hL, r, hr, hR⟩ | ⟨o, l, r, o2, o10, hl, hr, ho, hL, hR⟩
    · rw [hL]
      refine br_f zn_m1 (And.intro hin ?_)
      rw [cn, hR]
      refine br_f zn_m1 (za_59 hn' k0 k1 (fun z0 z1 => ?_) go)
      rcases ho with ho | ho
      · exact absurd ho z0
      · exact absurd ho z1
    · rw [hL]
      refine br_f zn_m1 (And.intro hin ?_)
      rw [cn, hR]
      refine br_t (nI_pos' (by omega)) (And.intro hin (And.intro (vp_in_nI (by omega) (by decide)) ?_))
      rw [zm_cl (by omega)]
      refine za_59 hn' k0 k1 (fun z0 z1 => ?_) go
      rw [eq, zv_11 ho hR (by omega), ho, zk_11, hv r hr]
    · rw [hL]
      refine br_t (nI_pos' (by omega)) (And.intro hin (And.intro (vp_in_nI (by omega) (by decide)) (And.intro hin ?_)))
      rw [cn, hR, zm_cl (by omega)]
      refine br_t (nI_pos' (by omega)) (And.intro hin (And.intro (vp_in_nI (by omega) (by decide)) ?_))
      rw [zm_cl (by omega)]
      refine za_59 hn' k0 k1 (fun z0 z1 => ?_) go
      rw [eq, zv_b rfl z0 z1 hL hR (by omega) (by omega), hv r hr, hv l hl]
theorem za_all {post : SX → Prop} (hd : nd ≤ 48) (hO : ∀ m, m < nd → zo a_op a_left a_right m) (hc : ∀ v, v < 4 → a_chosen v = c v) (h : ∀ va : Nat → Int32, (∀ m, m < nd → va m = zW a_op a_argument a_left a_right c m) → post (f_tokens, nI nd, f_stackSize, f_demands, f_failed, f_narrowed, f_found, f_bestTop, a_allowed, a_op, a_argument, a_left, a_right, a_stack, a_demanded, a_low, a_high, va, a_domain, a_divided, a_nextValue, a_chosen, a_counts)) : wpX_evaluateAll post (f_tokens, nI nd, f_stackSize, f_demands, f_failed, f_narrowed, f_found, f_bestTop, a_allowed, a_op, a_argument, a_left, a_right, a_stack, a_demanded, a_low, a_high, a_value, a_domain, a_divided, a_nextValue, a_chosen, a_counts) :=
  Exists.intro (nd + 1) (za_2 hd hO hc h (nd + 1) 0 a_value (by omega) (by omega) (fun m hm => absurd hm (by omega)))
end
end
section
/-! which assignments solve; the count of one that is found; firstOpen; divide -/
section
variable {f_tokens : Int32} {f_nodes : Int32} {f_stackSize : Int32} {f_demands : Int32} {f_failed : Int32} {f_narrowed : Int32} {f_found : Int32} {f_bestTop : Int32} {a_allowed : Nat → Int32} {a_op : Nat → Int32} {a_argument : Nat → Int32} {a_left : Nat → Int32} {a_right : Nat → Int32} {a_stack : Nat → Int32} {a_demanded : Nat → Int32} {a_low : Nat → Int64} {a_high : Nat → Int64} {a_value : Nat → Int32} {a_domain : Nat → Int32} {a_divided : Nat → Int32} {a_nextValue : Nat → Int32} {a_chosen : Nat → Int32} {a_counts : Nat → Int32}
def zcd (a : Nat) : Nat → Int32 := fun v => nI (zd a v)
def zB (al dmd op ar lf rt : Nat → Int32) (dm : Nat) (a : Nat) : Bool := (List.range 4).all (fun v => (al v).toNatClampNeg.testBit (zd a v)) && (List.range dm).all (fun i => !decide (zW op ar lf rt (zcd a) (dmd i).toNatClampNeg = 0))
theorem zB_iff {al dmd op ar lf rt : Nat → Int32} {dm a : Nat} : zB al dmd op ar lf rt dm a = true ↔ (∀ v, v < 4 → (al v).toNatClampNeg.testBit (zd a v) = true) ∧ ∀ i, i < dm → ¬ zW op ar lf rt (zcd a) (dmd i).toNatClampNeg = 0 := by
  unfold zB
  rw [Bool.and_eq_true, List.all_eq_true, List.all_eq_true]
  constructor
  · rintro ⟨h1, h2⟩
    refine ⟨fun v hv => h1 v (List.mem_range.mpr hv), fun i hi e => ?_⟩
    have := h2 i (List.mem_range.mpr hi)
    rw [e] at this
    exact absurd this (by decide)
  · rintro ⟨h1, h2⟩
    refine ⟨fun v hv => h1 v (List.mem_range.mp hv), fun i hi => ?_⟩
    rw [decide_eq_false (h2 i (List.mem_range.mp hi))]
    rfl
variable {nd dm ss d A : Nat}
/-- the counts by variable and value, after an assignment more -/
def zC (A : Nat) (cn cn' : Nat → Int32) : Prop := ∀ v, v < 4 → ∀ x, x < 5 → cn' (5 * v + x) = if zd A v = x then cn (5 * v + x) + 1 else cn (5 * v + x)
theorem zo_79 {post : SX → Prop} {cn0 : Nat → Int32} (hA : A < 625) (hss : ss ≤ 48) (hst : 0 < ss → ∃ m, m < 48 ∧ a_stack (ss - 1) = nI m) (hch : ∀ v, v < 4 → a_chosen v = nI (zd A v)) (h : ∀ (cn : Nat → Int32) (bt : Int32), zC A cn0 cn → (bt = if 0 < ss ∧ ¬ a_value (a_stack (ss - 1)).toNatClampNeg ≤ f_bestTop then a_value (a_stack (ss - 1)).toNatClampNeg else f_bestTop) → post (f_tokens, f_nodes, nI ss, f_demands, f_failed, f_narrowed, f_found, bt, a_allowed, a_op, a_argument, a_left, a_right, a_stack, a_demanded, a_low, a_high, a_value, a_domain, a_divided, a_nextValue, a_chosen, cn)) : ∀ k v cn, v ≤ 4 → 4 - v < k → (∀ u, u < 4 → ∀ x, x < 5 → cn (5 * u + x) = if u < v ∧ zd A u = x then cn0 (5 * u + x) + 1 else cn0 (5 * u + x)) → wX_countSolution_79 post f_tokens f_nodes (nI ss) f_demands f_failed f_narrowed f_found f_bestTop k (nI v) a_allowed a_op a_argument a_left a_right a_stack a_demanded a_low a_high a_value a_domain a_divided a_nextValue a_chosen cn := by
  intro k
  induction k with
  | zero => intro v cn _ hk; omega
  | succ k ih =>
    intro v cn hv hk hc
    refine pk_le 4 v (fun g => ?_) (fun g => ?_)
    · have hC : zC A cn0 cn := fun u hu x hx => by
        rw [hc u hu x hx]
        by_cases e : zd A u = x
        · rw [if_pos e, if_pos ⟨by omega, e⟩]
        · rw [if_neg e, if_neg (fun z => e z.2)]
      refine pk_le ss 0 (fun s0 => h cn f_bestTop hC ?_) (fun s0 => ?_)
      · rw [if_neg (fun z => by omega)]
      · obtain ⟨m, hm, em⟩ := hst s0
        have is : vp_in (nI ss - 1) 48 := by rw [zn_s s0]; exact vp_in_nI (by omega) (by decide)
        have im : vp_in (a_stack (nI ss - 1).toNatClampNeg) 48 := by
          rw [zn_s s0, zm_cl (by omega), em]
          exact vp_in_nI hm (by decide)
        refine And.intro is (And.intro im (br_c (fun b => h cn f_bestTop hC ?_) (fun b => And.intro is (And.intro im (nm_e (h cn _ hC ?_))))))
        · rw [zn_s s0, zm_cl (by omega)] at b
          rw [if_neg (fun z => z.2 b)]
        · rw [zn_s s0, zm_cl (by omega)] at b ⊢
          rw [if_pos ⟨s0, b⟩]
    · have z5 := zd_lt hA v
      refine And.intro (vp_in_nI g (by decide)) ?_
      rw [nI_clamp (by omega), hch v g, zn_at5]
      have hi : vp_in (nI (5 * v + zd A v)) 20 := vp_in_nI (by omega) (by decide)
      refine And.intro hi (And.intro hi (nm_r (e' := upd cn (5 * v + zd A v) (cn (5 * v + zd A v) + 1)) (by rw [nI_clamp (by omega)]) (nm_r (nI_1 v) (ih (v + 1) _ (by omega) (by omega) (fun u hu x hx => ?_)))))
      by_cases e : u = v ∧ x = zd A v
      · obtain ⟨e1, e2⟩ := e
        subst e1
        rw [e2, pk_us, hc u hu _ z5, if_neg (fun z => by omega), if_pos ⟨by omega, rfl⟩]
      · rw [pk_un (fun z => e (by omega)), hc u hu x hx]
        by_cases q : u < v ∧ zd A u = x
        · rw [if_pos q, if_pos ⟨by omega, q.2⟩]
        · rw [if_neg q, if_neg (fun z => ?_)]
          rcases Nat.lt_or_ge u v with w | w
          · exact q ⟨w, z.2⟩
          · have : u = v := by omega
            subst this
            exact e ⟨rfl, z.2.symm⟩
theorem zo_38 {post : SX → Prop} {c : Nat → Int32} (hdm : dm ≤ 48) (hnd : nd ≤ 48) (hM : ∀ i, i < dm → ∃ m, m < nd ∧ a_demanded i = nI m) (hva : ∀ m, m < nd → a_value m = c m) (h0 : ∀ i, i < dm → c (a_demanded i).toNatClampNeg = 0 → post (f_tokens, f_nodes, f_stackSize, nI dm, f_failed, f_narrowed, f_found, f_bestTop, a_allowed, a_op, a_argument, a_left, a_right, a_stack, a_demanded, a_low, a_high, a_value, a_domain, a_divided, a_nextValue, a_chosen, a_counts)) (h1 : (∀ i, i < dm → ¬ c (a_demanded i).toNatClampNeg = 0) → ∃ n79 : Nat, wX_countSolution_79 post f_tokens f_nodes f_stackSize (nI dm) f_failed f_narrowed (f_found + 1) f_bestTop n79 0 a_allowed a_op a_argument a_left a_right a_stack a_demanded a_low a_high a_value a_domain a_divided a_nextValue a_chosen a_counts) : ∀ k i, i ≤ dm → dm - i < k → (∀ j, j < i → ¬ c (a_demanded j).toNatClampNeg = 0) → wX_countSolution_38 post f_tokens f_nodes f_stackSize (nI dm) f_failed f_narrowed f_found f_bestTop a_allowed a_op a_argument a_left a_right a_stack a_demanded a_low a_high a_value a_domain a_divided a_nextValue a_chosen a_counts k (nI i) := by
  intro k
  induction k with
  | zero => intro i _ hk; omega
  | succ k ih =>
    intro i hi hk hj
    refine pk_le dm i (fun g => nm_e (h1 (fun j hj' => hj j (by omega)))) (fun g => ?_)
    obtain ⟨m, hm, em⟩ := hM i g
    have cc : c (a_demanded i).toNatClampNeg = a_value m := by
      rw [em, zm_cl (by omega)]
      exact (hva m hm).symm
    refine And.intro (vp_in_nI (by omega) (by decide)) ?_
    rw [zm_cl (by omega), em]
    refine And.intro (vp_in_nI (by omega) (by decide)) ?_
    rw [zm_cl (by omega)]
    refine br_c (fun z => h0 i g (by rw [cc]; exact z)) (fun z => nm_r (nI_1 i) (ih (i + 1) (by omega) (by omega) (fun j hj' => ?_)))
    rcases Nat.lt_or_ge j i with q | q
    · exact hj j q
    · rw [show j = i from by omega, cc]; exact z
theorem zo_2 {post : SX → Prop} (h6 : d < 6) (hA : A < 625) (hm : ∀ v, v < 4 → ∃ m, m < 32 ∧ a_domain (4 * d + v) = nI m ∧ m ≠ 0 ∧ ∀ x, x < 5 → m.testBit x = true → x = zd A v) (h : ∀ ch : Nat → Int32, (∀ v, v < 4 → ch v = nI (zd A v)) → wpX_evaluateAll (fun u => match u with | (f_tokens, f_nodes, f_stackSize, f_demands, f_failed, f_narrowed, f_found, f_bestTop, a_allowed, a_op, a_argument, a_left, a_right, a_stack, a_demanded, a_low, a_high, a_value, a_domain, a_divided, a_nextValue, a_chosen, a_counts) => ∃ n38 : Nat, wX_countSolution_38 post f_tokens f_nodes f_stackSize f_demands f_failed f_narrowed f_found f_bestTop a_allowed a_op a_argument a_left a_right a_stack a_demanded a_low a_high a_value a_domain a_divided a_nextValue a_chosen a_counts n38 0) (f_tokens, f_nodes, f_stackSize, f_demands, f_failed, f_narrowed, f_found, f_bestTop, a_allowed, a_op, a_argument, a_left, a_right, a_stack, a_demanded, a_low, a_high, a_value, a_domain, a_divided, a_nextValue, ch, a_counts)) : ∀ k v ch, v ≤ 4 → 4 - v < k → (∀ u, u < v → ch u = nI (zd A u)) → wX_countSolution_2 post (nI d) f_tokens f_nodes f_stackSize f_demands f_failed f_narrowed f_found f_bestTop k (nI v) a_allowed a_op a_argument a_left a_right a_stack a_demanded a_low a_high a_value a_domain a_divided a_nextValue ch a_counts := by
  intro k
  induction k with
  | zero => intro v ch _ hk; omega
  | succ k ih =>
    intro v ch hv hk hc
    refine pk_le 4 v (fun g => h ch (fun u hu => hc u (by omega))) (fun g => ?_)
    obtain ⟨m, hm1, em, m0, hs⟩ := hm v g
    rw [zn_at]
    refine And.intro (vp_in_nI (by omega) (by decide)) ?_
    rw [nI_clamp (n := 4 * d + v) (by omega), em]
    refine zw_low hm1 (fun r r5 _ hr => And.intro (vp_in_nI g (by decide)) (nm_r (e' := upd ch v (nI r)) (by rw [nI_clamp (by omega)]) (nm_r (nI_1 v) (ih (v + 1) _ (by omega) (by omega) (fun u hu => ?_)))))
    by_cases e : u = v
    · subst e
      rw [pk_us, hs r r5 (hr m0)]
    · rw [pk_un e]; exact hc u (by omega)
theorem zo_count {post : SX → Prop} (h6 : d < 6) (hA : A < 625) (hnd : nd ≤ 48) (hdm : dm ≤ 48) (hss : ss ≤ 48) (hst : 0 < ss → ∃ m, m < nd ∧ a_stack (ss - 1) = nI m) (hO : ∀ m, m < nd → zo a_op a_left a_right m) (hM : ∀ i, i < dm → ∃ m, m < nd ∧ a_demanded i = nI m) (hm : ∀ v, v < 4 → ∃ m, m < 32 ∧ a_domain (4 * d + v) = nI m ∧ m ≠ 0 ∧ ∀ x, x < 5 → m.testBit x = true → x = zd A v) (h0 : ∀ va ch : Nat → Int32, (¬ ∀ i, i < dm → ¬ zW a_op a_argument a_left a_right (zcd A) (a_demanded i).toNatClampNeg = 0) → post (f_tokens, nI nd, nI ss, nI dm, f_failed, f_narrowed, f_found, f_bestTop, a_allowed, a_op, a_argument, a_left, a_right, a_stack, a_demanded, a_low, a_high, va, a_domain, a_divided, a_nextValue, ch, a_counts)) (h1 : (∀ i, i < dm → ¬ zW a_op a_argument a_left a_right (zcd A) (a_demanded i).toNatClampNeg = 0) → ∀ (bt : Int32) (va ch cn : Nat → Int32), (∀ v, v < 4 → ch v = nI (zd A v)) → zC A a_counts cn → (bt = if 0 < ss ∧ ¬ zW a_op a_argument a_left a_right (zcd A) (a_stack (ss - 1)).toNatClampNeg ≤ f_bestTop then zW a_op a_argument a_left a_right (zcd A) (a_stack (ss - 1)).toNatClampNeg else f_bestTop) → post (f_tokens, nI nd, nI ss, nI dm, f_failed, f_narrowed, f_found + 1, bt, a_allowed, a_op, a_argument, a_left, a_right, a_stack, a_demanded, a_low, a_high, va, a_domain, a_divided, a_nextValue, ch, cn)) : wpX_countSolution post (f_tokens, nI nd, nI ss, nI dm, f_failed, f_narrowed, f_found, f_bestTop, a_allowed, a_op, a_argument, a_left, a_right, a_stack, a_demanded, a_low, a_high, a_value, a_domain, a_divided, a_nextValue, a_chosen, a_counts) (nI d) := by
  refine Exists.intro 5 (zo_2 h6 hA hm (fun ch hch => za_all (c := zcd A) hnd hO hch (fun va hva => Exists.intro (dm + 1) (zo_38 (c := zW a_op a_argument a_left a_right (zcd A)) hdm hnd hM hva (fun i hi e => h0 va ch (fun z => z i hi e)) (fun hall => Exists.intro 5 (zo_79 (cn0 := a_counts) hA hss (fun s0 => ?_) hch (fun cn bt hC hb => h1 hall bt va ch cn hch hC ?_) 5 0 a_counts (by omega) (by omega) (fun u hu x hx => ?_))) (dm + 1) 0 (by omega) (by omega) (fun j hj => absurd hj (by omega))))) 5 0 a_chosen (by omega) (by omega) (fun u hu => absurd hu (by omega)))
  · obtain ⟨m, hm', em⟩ := hst s0
    exact ⟨m, by omega, em⟩
  · rw [hb]
    by_cases s0 : 0 < ss
    · obtain ⟨m, hm', em⟩ := hst s0
      rw [em, zm_cl (by omega), hva m hm']
    · rw [if_neg (fun z => s0 z.1), if_neg (fun z => s0 z.1)]
  · rw [if_neg (fun z => by omega)]
/-! firstOpen -/
def zG (i : Int32) : Prop := (i &&& (i - 1)) = 0
theorem zj_2 {post : Int32 → Prop} (h6 : d < 6) (h : ∀ v, v ≤ 4 → (∀ u, u < v → zG (a_domain (4 * d + u))) → (v < 4 → ¬ zG (a_domain (4 * d + v))) → post (nI v)) : ∀ k v, v ≤ 4 → 4 - v < k → (∀ u, u < v → zG (a_domain (4 * d + u))) → wX_firstOpen_2 post (nI d) f_tokens f_nodes f_stackSize f_demands f_failed f_narrowed f_found f_bestTop a_allowed a_op a_argument a_left a_right a_stack a_demanded a_low a_high a_value a_domain a_divided a_nextValue a_chosen a_counts k (nI v) := by
  intro k
  induction k with
  | zero => intro v _ hk; omega
  | succ k ih =>
    intro v hv hk hu
    refine pk_le 4 v (fun g => h 4 (by omega) (fun u hu' => hu u (by omega)) (fun z => absurd z (by omega))) (fun g => ?_)
    rw [zn_at]
    refine And.intro (vp_in_nI (by omega) (by decide)) (nm_r (e' := a_domain (4 * d + v)) (by rw [nI_clamp (by omega)]) (br_c (fun z => nm_r (nI_1 v) (ih (v + 1) (by omega) (by omega) (fun u hu' => ?_))) (fun z => h v (by omega) hu (fun _ => z))))
    rcases Nat.lt_or_ge u v with q | q
    · exact hu u q
    · rw [show u = v from by omega]; exact z
theorem zj_first {post : Int32 → Prop} (h6 : d < 6) (h : ∀ v, v ≤ 4 → (∀ u, u < v → zG (a_domain (4 * d + u))) → (v < 4 → ¬ zG (a_domain (4 * d + v))) → post (nI v)) : wpX_firstOpen post (f_tokens, f_nodes, f_stackSize, f_demands, f_failed, f_narrowed, f_found, f_bestTop, a_allowed, a_op, a_argument, a_left, a_right, a_stack, a_demanded, a_low, a_high, a_value, a_domain, a_divided, a_nextValue, a_chosen, a_counts) (nI d) :=
  Exists.intro 5 (zj_2 h6 h 5 0 (by omega) (by omega) (fun u hu => absurd hu (by omega)))
/-! divide -/
theorem zj_55 {post : Int32 → SX → Prop} {v x : Nat} {dom0 : Nat → Int32} (h5 : d < 5) (hv : v < 4) (hx : x < 5) (h : ∀ dom : Nat → Int32, (∀ j, j < 4 * d + 4 → dom j = dom0 j) → dom (4 * (d + 1) + v) = nI (2 ^ x) → (∀ o, o < 4 → o ≠ v → dom (4 * (d + 1) + o) = dom0 (4 * d + o)) → post 1 (f_tokens, f_nodes, f_stackSize, f_demands, f_failed, f_narrowed, f_found, f_bestTop, a_allowed, a_op, a_argument, a_left, a_right, a_stack, a_demanded, a_low, a_high, a_value, dom, a_divided, a_nextValue, a_chosen, a_counts)) : ∀ k o dom, o ≤ 4 → 4 - o < k → (∀ j, j < 4 * d + 4 → dom j = dom0 j) → (v < o → dom (4 * (d + 1) + v) = nI (2 ^ x)) → (∀ u, u < o → u ≠ v → dom (4 * (d + 1) + u) = dom0 (4 * d + u)) → wX_divide_55 post (nI d) (nI v) (nI x) f_tokens f_nodes f_stackSize f_demands f_failed f_narrowed f_found f_bestTop k (nI o) a_allowed a_op a_argument a_left a_right a_stack a_demanded a_low a_high a_value dom a_divided a_nextValue a_chosen a_counts := by
  intro k
  induction k with
  | zero => intro o dom _ hk; omega
  | succ k ih =>
    intro o dom ho hk hj h1 h2
    refine pk_le 4 o (fun g => h dom hj (h1 (by omega)) (fun u hu => h2 u (by omega))) (fun g => ?_)
    have hi : vp_in (nI (4 * (d + 1) + o)) 24 := vp_in_nI (by omega) (by decide)
    rw [zn_at4, zn_at]
    refine pk_eq o v (fun e => And.intro hi (nm_r (e' := upd dom (4 * (d + 1) + o) (nI (2 ^ x))) (by rw [nI_clamp (by omega), zm_shl x hx]) (nm_r (nI_1 o) (ih (o + 1) _ (by omega) (by omega) (fun j hj' => ?_) (fun _ => ?_) (fun u hu hne => ?_))))) (fun e => And.intro (vp_in_nI (by omega) (by decide)) (And.intro hi (nm_r (e' := upd dom (4 * (d + 1) + o) (dom (4 * d + o))) (by rw [nI_clamp (by omega), nI_clamp (by omega)]) (nm_r (nI_1 o) (ih (o + 1) _ (by omega) (by omega) (fun j hj' => ?_) (fun hv' => ?_) (fun u hu hne => ?_))))))
    · rw [pk_un (by omega)]; exact hj j hj'
    · rw [e, pk_us]
    · rw [pk_un (by omega)]; exact h2 u (by omega) hne
    · rw [pk_un (by omega)]; exact hj j hj'
    · rw [pk_un (by omega)]; exact h1 (by omega)
    · by_cases q : u = o
      · subst q
        rw [pk_us]; exact hj _ (by omega)
      · rw [pk_un (by omega)]; exact h2 u (by omega) hne
theorem zj_21 {post : Int32 → SX → Prop} {v m x0 : Nat} (h5 : d < 5) (hv : v < 4) (hm : m < 32) (em : a_domain (4 * d + v) = nI m) (h0 : (∀ x, x0 ≤ x → x < 5 → m.testBit x = false) → post 0 (f_tokens, f_nodes, f_stackSize, f_demands, f_failed, f_narrowed, f_found, f_bestTop, a_allowed, a_op, a_argument, a_left, a_right, a_stack, a_demanded, a_low, a_high, a_value, a_domain, a_divided, a_nextValue, a_chosen, a_counts)) (h1 : ∀ (x : Nat) (dom : Nat → Int32), x0 ≤ x → x < 5 → m.testBit x = true → (∀ y, x0 ≤ y → y < x → m.testBit y = false) → (∀ j, j < 4 * d + 4 → dom j = a_domain j) → dom (4 * (d + 1) + v) = nI (2 ^ x) → (∀ o, o < 4 → o ≠ v → dom (4 * (d + 1) + o) = a_domain (4 * d + o)) → post 1 (f_tokens, f_nodes, f_stackSize, f_demands, f_failed, f_narrowed, f_found, f_bestTop, a_allowed, a_op, a_argument, a_left, a_right, a_stack, a_demanded, a_low, a_high, a_value, dom, a_divided, upd a_nextValue d (nI (x + 1)), a_chosen, a_counts)) : ∀ k x, x0 ≤ x → x ≤ 5 → 5 - x < k → (∀ y, x0 ≤ y → y < x → m.testBit y = false) → wX_divide_21 post (nI d) (nI v) f_tokens f_nodes f_stackSize f_demands f_failed f_narrowed f_found f_bestTop a_allowed a_op a_argument a_left a_right a_stack a_demanded a_low a_high a_value a_domain a_divided a_nextValue a_chosen a_counts k (nI x) := by
  intro k
  induction k with
  | zero => intro x _ _ hk; omega
  | succ k ih =>
    intro x hx hx5 hk hy
    refine pk_le 5 x (fun g => h0 (fun y y0 y5 => hy y y0 (by omega))) (fun g => ?_)
    rw [zn_at]
    refine And.intro (vp_in_nI (by omega) (by decide)) ?_
    rw [nI_clamp (by omega), em]
    refine br_c (fun b => nm_r (nI_1 x) (ih (x + 1) (by omega) (by omega) (by omega) (fun y y0 yx => ?_))) (fun b => And.intro (vp_in_nI (by omega) (by decide)) (nm_r (e' := upd a_nextValue d (nI (x + 1))) (by rw [nI_clamp (by omega), nI_1]) (Exists.intro 5 (zj_55 (dom0 := a_domain) h5 hv g (fun dom e1 e2 e3 => h1 x dom hx g ?_ hy e1 e2 e3) 5 0 a_domain (by omega) (by omega) (fun _ _ => rfl) (fun z => absurd z (by omega)) (fun u hu => absurd hu (by omega))))))
    · rcases Nat.lt_or_ge y x with q | q
      · exact hy y y0 q
      · rw [show y = x from by omega]; exact (zm_bit hm g).mp b
    · cases e : m.testBit x
      · exact absurd ((zm_bit hm g).mpr e) b
      · rfl
theorem zj_div4 {post : Int32 → SX → Prop} (h6 : d < 6) (e : a_divided d = 4) (h : post 0 (f_tokens, f_nodes, f_stackSize, f_demands, f_failed, f_narrowed, f_found, f_bestTop, a_allowed, a_op, a_argument, a_left, a_right, a_stack, a_demanded, a_low, a_high, a_value, a_domain, a_divided, a_nextValue, a_chosen, a_counts)) : wpX_divide post (f_tokens, f_nodes, f_stackSize, f_demands, f_failed, f_narrowed, f_found, f_bestTop, a_allowed, a_op, a_argument, a_left, a_right, a_stack, a_demanded, a_low, a_high, a_value, a_domain, a_divided, a_nextValue, a_chosen, a_counts) (nI d) :=
  And.intro (vp_in_nI h6 (by decide)) (nm_r (e' := (4 : Int32)) (by rw [nI_clamp (by omega)]; exact e) (br_t rfl h))
theorem zj_div {post : Int32 → SX → Prop} {v m x0 : Nat} (h5 : d < 5) (hv : v < 4) (hx0 : x0 ≤ 5) (ev : a_divided d = nI v) (ex : a_nextValue d = nI x0) (hm : m < 32) (em : a_domain (4 * d + v) = nI m) (h0 : (∀ x, x0 ≤ x → x < 5 → m.testBit x = false) → post 0 (f_tokens, f_nodes, f_stackSize, f_demands, f_failed, f_narrowed, f_found, f_bestTop, a_allowed, a_op, a_argument, a_left, a_right, a_stack, a_demanded, a_low, a_high, a_value, a_domain, a_divided, a_nextValue, a_chosen, a_counts)) (h1 : ∀ (x : Nat) (dom : Nat → Int32), x0 ≤ x → x < 5 → m.testBit x = true → (∀ y, x0 ≤ y → y < x → m.testBit y = false) → (∀ j, j < 4 * d + 4 → dom j = a_domain j) → dom (4 * (d + 1) + v) = nI (2 ^ x) → (∀ o, o < 4 → o ≠ v → dom (4 * (d + 1) + o) = a_domain (4 * d + o)) → post 1 (f_tokens, f_nodes, f_stackSize, f_demands, f_failed, f_narrowed, f_found, f_bestTop, a_allowed, a_op, a_argument, a_left, a_right, a_stack, a_demanded, a_low, a_high, a_value, dom, a_divided, upd a_nextValue d (nI (x + 1)), a_chosen, a_counts)) : wpX_divide post (f_tokens, f_nodes, f_stackSize, f_demands, f_failed, f_narrowed, f_found, f_bestTop, a_allowed, a_op, a_argument, a_left, a_right, a_stack, a_demanded, a_low, a_high, a_value, a_domain, a_divided, a_nextValue, a_chosen, a_counts) (nI d) := by
  have hi : vp_in (nI d) 6 := vp_in_nI (by omega) (by decide)
  refine And.intro hi (nm_r (e' := nI v) (by rw [nI_clamp (by omega)]; exact ev) (br_f (fun z => ?_) (And.intro hi (nm_r (e' := nI x0) (by rw [nI_clamp (by omega)]; exact ex) (Exists.intro 6 (zj_21 h5 hv hm em h0 h1 6 x0 (by omega) hx0 (by omega) (fun y y0 yx => absurd yx (by omega))))))))
  have : v = 4 := (nI_eq (b := 4) (by omega) (by omega)).mp z
  omega
end
end
section
/-! the search, pure: boxes, slots, what is counted -/
section
def zM (al dom : Nat → Int32) (e : Nat) : Prop := ∀ u, u < 4 → ∃ m, m < 32 ∧ dom (4 * e + u) = nI m ∧ ∀ b, m.testBit b = true → (al u).toNatClampNeg.testBit b = true
def zX (dom : Nat → Int32) (e a : Nat) : Prop := ∀ u, u < 4 → (dom (4 * e + u)).toNatClampNeg.testBit (zd a u) = true
def zV (sb : Nat → Bool) (al dom : Nat → Int32) (e v x F G : Nat) : Prop := v < 4 ∧ e ≤ v ∧ x ≤ 5 ∧ zM al dom e ∧ (∀ u, u < v → zG (dom (4 * e + u))) ∧ F ≤ G ∧ G ≤ 625 ∧ (∀ a, a < 625 → zX dom e a → x ≤ zd a v → F ≤ a ∧ a < G) ∧ (∀ a, F ≤ a → a < G → sb a = true → zX dom e a ∧ x ≤ zd a v)
def zU (sb : Nat → Bool) (al dom : Nat → Int32) (d F G : Nat) : Prop := zM al dom d ∧ (∀ u, u < d → u < 4 → zG (dom (4 * d + u))) ∧ F ≤ G ∧ G ≤ 625 ∧ (∀ a, a < 625 → zX dom d a → F ≤ a ∧ a < G) ∧ (∀ a, F ≤ a → a < G → sb a = true → zX dom d a)
def zA (sb : Nat → Bool) (ss : Nat) (tp : Nat → Int32) (fo bt : Int32) (cn : Nat → Int32) (F : Nat) : Prop := fo = nI (zf_c sb F) ∧ bt = zf_m (fun a => sb a && decide (0 < ss)) tp F ∧ ∀ v, v < 4 → ∀ x, x < 5 → cn (5 * v + x) = nI (zf_c (fun a => sb a && decide (zd a v = x)) F)
variable {sb : Nat → Bool} {al dom dom' : Nat → Int32} {tp : Nat → Int32} {ss : Nat}
theorem zA_skip {fo bt : Int32} {cn : Nat → Int32} {F G : Nat} (h : zA sb ss tp fo bt cn F) (hFG : F ≤ G) (hn : ∀ a, F ≤ a → a < G → sb a = false) : zA sb ss tp fo bt cn G := by
  refine ⟨?_, ?_, fun v hv x hx => ?_⟩
  · rw [zf_cn G hFG hn]; exact h.1
  · rw [zf_mn G hFG (fun a h1 h2 => by rw [hn a h1 h2]; rfl)]; exact h.2.1
  · rw [zf_cn G hFG (fun a h1 h2 => by rw [hn a h1 h2]; rfl)]; exact h.2.2 v hv x hx
theorem zA_one {fo bt bt' : Int32} {cn cn' : Nat → Int32} {F G A : Nat} (h : zA sb ss tp fo bt cn F) (h1 : F ≤ A) (h2 : A < G) (hA : sb A = true) (hu : ∀ a, F ≤ a → a < G → sb a = true → a = A) (hC : zC A cn cn') (hb : bt' = if 0 < ss ∧ ¬ tp A ≤ bt then tp A else bt) : zA sb ss tp (fo + 1) bt' cn' G := by
  have hno : ∀ a, F ≤ a → a < G → a ≠ A → sb a = false := fun a g1 g2 g3 => by
    cases e : sb a
    · rfl
    · exact absurd (hu a g1 g2 e) g3
  have hA' := zA_skip h h1 (fun a g1 g2 => hno a g1 (by omega) (by omega))
  have step : zA sb ss tp (fo + 1) bt' cn' (A + 1) := by
    refine ⟨?_, ?_, fun v hv x hx => ?_⟩
    · rw [zf_c1 hA, hA'.1, nI_1]
    · rw [hb]
      by_cases s0 : 0 < ss
      · have e1 : (fun a => sb a && decide (0 < ss)) A = true := by
          show (sb A && decide (0 < ss)) = true
          rw [hA, decide_eq_true s0]; rfl
        by_cases g : tp A ≤ bt
        · rw [if_neg (fun z => z.2 g), zf_m2 (by rw [← hA'.2.1]; exact g)]
          exact hA'.2.1
        · rw [if_pos ⟨s0, g⟩, zf_m1 e1 (by rw [← hA'.2.1]; exact g)]
      · rw [if_neg (fun z => s0 z.1), zf_m0 (by rw [decide_eq_false s0, Bool.and_false])]
        exact hA'.2.1
    · rw [hC v hv x hx]
      by_cases e : zd A v = x
      · rw [if_pos e, zf_c1 (by rw [hA, decide_eq_true e]; rfl), hA'.2.2 v hv x hx, nI_1]
      · rw [if_neg e, zf_c0 (by rw [decide_eq_false e, Bool.and_false])]
        exact hA'.2.2 v hv x hx
  exact zA_skip step (by omega) (fun a g1 g2 => hno a (by omega) g2 (by omega))
theorem zA_at {F G A : Nat} (h1 : F ≤ A) (h2 : A < G) (hu : ∀ a, F ≤ a → a < G → sb a = true → a = A) : zf_c sb A = zf_c sb F :=
  zf_cn A h1 (fun a g1 g2 => by
    cases e : sb a
    · rfl
    · have := hu a g1 (by omega) e
      omega)
theorem zX_cg {e a : Nat} (h : ∀ u, u < 4 → dom' (4 * e + u) = dom (4 * e + u)) (hx : zX dom e a) : zX dom' e a := fun u hu => by
  rw [h u hu]; exact hx u hu
theorem zM_cg {e : Nat} (h : ∀ u, u < 4 → dom' (4 * e + u) = dom (4 * e + u)) (hx : zM al dom e) : zM al dom' e := fun u hu => by
  rw [h u hu]; exact hx u hu
theorem zV_fr {e v x F G : Nat} (h : ∀ u, u < 4 → dom' (4 * e + u) = dom (4 * e + u)) (hV : zV sb al dom e v x F G) : zV sb al dom' e v x F G := by
  obtain ⟨v4, ev, x5, hM, hG, fg, g6, b1, b2⟩ := hV
  exact ⟨v4, ev, x5, zM_cg h hM, fun u hu => by rw [h u (by omega)]; exact hG u hu, fg, g6, fun a ha hx => b1 a ha (zX_cg (fun u hu => (h u hu).symm) hx), fun a h1 h2 hs => ⟨zX_cg h (b2 a h1 h2 hs).1, (b2 a h1 h2 hs).2⟩⟩
theorem zX_bit {e a u m : Nat} (hx : zX dom e a) (hu : u < 4) (hm : m < 32) (em : dom (4 * e + u) = nI m) : m.testBit (zd a u) = true := by
  have := hx u hu
  rw [em, nI_clamp (by omega)] at this
  exact this
theorem zG_eq {m x y : Nat} (hm : m < 32) (h : zG (nI m)) (hx : x < 5) (hy : y < 5) (bx : m.testBit x = true) (by' : m.testBit y = true) : x = y := (zm_sg m hm).mp h x hx y hy bx by'
/-- the next value: the child's slot and what is left -/
theorem zV_next {d v x0 x m F G : Nat} (hV : zV sb al dom d v x0 F G) (hm : m < 32) (em : dom (4 * d + v) = nI m) (hx0 : x0 ≤ x) (hx : x < 5) (hb : m.testBit x = true) (hno : ∀ y, x0 ≤ y → y < x → m.testBit y = false) (e1 : ∀ j, j < 4 * d + 4 → dom' j = dom j) (e2 : dom' (4 * (d + 1) + v) = nI (2 ^ x)) (e3 : ∀ o, o < 4 → o ≠ v → dom' (4 * (d + 1) + o) = dom (4 * d + o)) : ∃ E, zU sb al dom' (d + 1) F E ∧ zV sb al dom' d v (x + 1) E G := by
  obtain ⟨v4, dv, x5, hM, hG, fg, g6, b1, b2⟩ := hV
  have fr : ∀ u, u < 4 → dom' (4 * d + u) = dom (4 * d + u) := fun u hu => e1 _ (by omega)
  obtain ⟨E, he1, he2, he3⟩ := zs_split (F := F) (T := fun a => zX dom d a ∧ x0 ≤ zd a v) (P := fun a => zd a v ≤ x) G fg (fun a b h1 h2 h3 ta tb pb => by
    have := zd_mono (a := a) (b := b) v4 (fun u hu => by
      obtain ⟨mu, hmu, emu, _⟩ := hM u (by omega)
      have g := hG u hu
      rw [emu] at g
      exact zG_eq hmu g (zd_lt (by omega) u) (zd_lt (by omega) u) (zX_bit ta.1 (by omega) hmu emu) (zX_bit tb.1 (by omega) hmu emu)) h2
    show zd a v ≤ x
    have pb' : zd b v ≤ x := pb
    omega)
  have p2 : 2 ^ x < 32 := zm_pw hx
  have up : ∀ a, zX dom' (d + 1) a → zd a v = x ∧ zX dom d a := fun a ha => by
    have q : zd a v = x := by
      have := zX_bit ha v4 p2 e2
      rw [Nat.testBit_two_pow, decide_eq_true_eq] at this
      exact this.symm
    refine ⟨q, fun u hu => ?_⟩
    by_cases e : u = v
    · subst e
      rw [em, nI_clamp (by omega), q]; exact hb
    · have := ha u hu
      rw [e3 u hu e] at this
      exact this
  refine ⟨E, ⟨fun u hu => ?_, fun u hu hu4 => ?_, he1, by omega, fun a ha hx' => ?_, fun a h1 h2 hs u hu => ?_⟩, v4, dv, by omega, zM_cg fr hM, fun u hu => by rw [fr u (by omega)]; exact hG u hu, he2, g6, fun a ha hx' hxa => ?_, fun a h1 h2 hs => ?_⟩
  · by_cases e : u = v
    · subst e
      refine ⟨2 ^ x, p2, e2, fun b hb' => ?_⟩
      rw [Nat.testBit_two_pow, decide_eq_true_eq] at hb'
      subst hb'
      obtain ⟨mu, hmu, emu, hal⟩ := hM u hu
      have : m = mu := (nI_eq (by omega) (by omega)).mp (em.symm.trans emu)
      subst this
      exact hal x hb
    · rw [e3 u hu e]; exact hM u hu
  · by_cases e : u = v
    · subst e
      rw [e2]
      refine (zm_sg _ p2).mpr (fun y _ z _ b1' b2' => ?_)
      rw [Nat.testBit_two_pow, decide_eq_true_eq] at b1' b2'
      omega
    · rw [e3 u hu4 e]; exact hG u (by omega)
  · obtain ⟨q, hxd⟩ := up a hx'
    have := b1 a ha hxd (by omega)
    exact ⟨this.1, (he3 a this.1 this.2 ⟨hxd, by omega⟩).mpr (by show zd a v ≤ x; omega)⟩
  · have hT := b2 a h1 (by omega) hs
    have p : zd a v ≤ x := (he3 a h1 (by omega) hT).mp h2
    have bm := zX_bit hT.1 v4 hm em
    have q : zd a v = x := by
      rcases Nat.lt_or_ge (zd a v) x with w | w
      · rw [hno _ hT.2 w] at bm
        exact absurd bm (by decide)
      · omega
    by_cases e : u = v
    · subst e
      rw [e2, nI_clamp (Nat.lt_trans p2 (by decide)), q, Nat.testBit_two_pow_self]
    · rw [e3 u hu e]; exact hT.1 u hu
  · have hxd : zX dom d a := zX_cg (fun u hu => (fr u hu).symm) hx'
    have := b1 a ha hxd (by omega)
    refine ⟨?_, this.2⟩
    have np : ¬ a < E := fun z => by
      have p : zd a v ≤ x := (he3 a this.1 this.2 ⟨hxd, by omega⟩).mp z
      omega
    omega
  · have hT := b2 a (by omega) h2 hs
    refine ⟨zX_cg fr hT.1, ?_⟩
    have np : ¬ zd a v ≤ x := fun z => by
      have := (he3 a (by omega) h2 hT).mpr z
      omega
    omega
theorem zV_end {d v x0 m F G : Nat} (hV : zV sb al dom d v x0 F G) (hm : m < 32) (em : dom (4 * d + v) = nI m) (hno : ∀ x, x0 ≤ x → x < 5 → m.testBit x = false) : ∀ a, F ≤ a → a < G → sb a = false := by
  obtain ⟨v4, dv, x5, hM, hG, fg, g6, b1, b2⟩ := hV
  intro a h1 h2
  cases e : sb a
  · rfl
  · have hT := b2 a h1 h2 e
    have bm := zX_bit hT.1 v4 hm em
    rw [hno _ hT.2 (zd_lt (by omega) v)] at bm
    exact absurd bm (by decide)
theorem zU_D {d F G : Nat} (h : zU sb al dom d F G) : zD (fun a => F ≤ a ∧ a < G ∧ sb a = true) d dom := by
  obtain ⟨hM, hG, fg, g6, b1, b2⟩ := h
  intro u hu
  obtain ⟨m, hm, em, _⟩ := hM u hu
  exact ⟨m, hm, em, fun a ta => zX_bit (b2 a ta.1 ta.2.1 ta.2.2) hu hm em⟩
theorem zU_N {d F G : Nat} (h : zU sb al dom d F G) (hD : zD (fun a => F ≤ a ∧ a < G ∧ sb a = true) d dom') (hS : zS d dom dom') : zU sb al dom' d F G := by
  obtain ⟨hM, hG, fg, g6, b1, b2⟩ := h
  refine ⟨fun u hu => ?_, fun u hu hu4 => ?_, fg, g6, fun a ha hx => b1 a ha (fun u hu => hS.2 u hu _ (hx u hu)), fun a h1 h2 hs u hu => ?_⟩
  · obtain ⟨m, hm, em, _⟩ := hM u hu
    obtain ⟨m', hm', em', _⟩ := hD u hu
    obtain ⟨m2, hm2, em2, hal⟩ := hM u hu
    refine ⟨m', hm', em', fun b hb => hal b ?_⟩
    have := hS.2 u hu b (by rw [em', nI_clamp (by omega)]; exact hb)
    rw [em2, nI_clamp (by omega)] at this
    exact this
  · obtain ⟨m, hm, em, _⟩ := hM u hu4
    obtain ⟨m', hm', em', _⟩ := hD u hu4
    have g := hG u hu hu4
    rw [em] at g
    rw [em']
    have sub : ∀ b, m'.testBit b = true → m.testBit b = true := fun b hb => by
      have := hS.2 u hu4 b (by rw [em', nI_clamp (by omega)]; exact hb)
      rw [em, nI_clamp (by omega)] at this
      exact this
    exact (zm_sg m' hm').mpr (fun x hx y hy b1 b2 => zG_eq hm g hx hy (sub x b1) (sub y b2))
  · obtain ⟨m', hm', em', hb⟩ := hD u hu
    rw [em', nI_clamp (by omega)]
    exact hb a ⟨h1, h2, hs⟩
theorem zU_V {d v F G : Nat} (h : zU sb al dom d F G) (hv : v < 4) (hg : ∀ u, u < v → zG (dom (4 * d + u))) (ho : ¬ zG (dom (4 * d + v))) : zV sb al dom d v 0 F G := by
  obtain ⟨hM, hG, fg, g6, b1, b2⟩ := h
  refine ⟨hv, ?_, by omega, hM, hg, fg, g6, fun a ha hx _ => b1 a ha hx, fun a h1 h2 hs => ⟨b2 a h1 h2 hs, by omega⟩⟩
  rcases Nat.lt_or_ge v d with q | q
  · exact absurd (hG v q hv) ho
  · exact q
/-- all variables have one value -/
theorem zU_leaf {d F G : Nat} (h : zU sb al dom d F G) (hg : ∀ u, u < 4 → zG (dom (4 * d + u))) (h0 : ∀ u, u < 4 → ¬ dom (4 * d + u) = 0) : ∃ A, A < 625 ∧ F ≤ A ∧ A < G ∧ (∀ v, v < 4 → (al v).toNatClampNeg.testBit (zd A v) = true) ∧ (∀ a, F ≤ a → a < G → sb a = true → a = A) ∧ ∀ v, v < 4 → ∃ m, m < 32 ∧ dom (4 * d + v) = nI m ∧ m ≠ 0 ∧ ∀ x, x < 5 → m.testBit x = true → x = zd A v := by
  obtain ⟨hM, hG, fg, g6, b1, b2⟩ := h
  have ex : ∀ v, ∃ y, v < 4 → y < 5 ∧ (dom (4 * d + v)).toNatClampNeg.testBit y = true := fun v => by
    rcases Nat.lt_or_ge v 4 with hv | hv
    · obtain ⟨m, hm, em, _⟩ := hM v hv
      have m0 : m ≠ 0 := fun z => h0 v hv (by rw [em, z]; exact nI_0)
      obtain ⟨y, hy, by'⟩ := zm_ne m hm m0
      exact ⟨y, fun _ => ⟨hy, by rw [em, nI_clamp (by omega)]; exact by'⟩⟩
    · exact ⟨0, fun z => absurd z (by omega)⟩
  obtain ⟨y, hy⟩ := Classical.axiomOfChoice ex
  obtain ⟨A, hA, hAy⟩ := zd_mk (y := y) (fun v hv => (hy v hv).1)
  have hxA : zX dom d A := fun u hu => by rw [hAy u hu]; exact (hy u hu).2
  have one : ∀ v, v < 4 → ∃ m, m < 32 ∧ dom (4 * d + v) = nI m ∧ m ≠ 0 ∧ ∀ x, x < 5 → m.testBit x = true → x = zd A v := fun v hv => by
    obtain ⟨m, hm, em, _⟩ := hM v hv
    refine ⟨m, hm, em, fun z => h0 v hv (by rw [em, z]; exact nI_0), fun x hx bx => ?_⟩
    have g := hg v hv
    rw [em] at g
    exact zG_eq hm g hx (zd_lt hA v) bx (zX_bit hxA hv hm em)
  refine ⟨A, hA, (b1 A hA hxA).1, (b1 A hA hxA).2, fun v hv => ?_, fun a h1 h2 hs => zd_ext (fun v hv => ?_), one⟩
  · obtain ⟨m, hm, em, hal⟩ := hM v hv
    exact hal _ (zX_bit hxA hv hm em)
  · obtain ⟨m, hm, em, _, hu⟩ := one v hv
    exact hu _ (zd_lt (by omega) v) (zX_bit (b2 a h1 h2 hs) hv hm em)
/-! the steps that are left -/
def zT (d : Nat) : Nat := if d = 0 then 1561 else if d = 1 then 311 else if d = 2 then 61 else if d = 3 then 11 else 1
theorem zT_s {d : Nat} (h : d < 4) : zT d = 5 * (1 + zT (d + 1)) + 1 := by
  rcases z4 h with e | e | e | e <;> subst e <;> rfl
theorem zT_1 (d : Nat) : 1 ≤ zT d := by
  unfold zT
  split
  · omega
  · split
    · omega
    · split
      · omega
      · split <;> omega
def zR (xs : Nat → Nat) : Nat → Nat
  | 0 => 0
  | d + 1 => zR xs d + ((5 - xs d) * (1 + zT (d + 1)) + 1)
theorem zR_cg {xs xs' : Nat → Nat} : ∀ d, (∀ e, e < d → xs e = xs' e) → zR xs d = zR xs' d := by
  intro d
  induction d with
  | zero => intro _; rfl
  | succ d ih =>
    intro h
    show zR xs d + ((5 - xs d) * (1 + zT (d + 1)) + 1) = zR xs' d + ((5 - xs' d) * (1 + zT (d + 1)) + 1)
    rw [ih (fun e he => h e (by omega)), h d (by omega)]
def zup (f : Nat → Nat) (k x : Nat) : Nat → Nat := fun j => if j = k then x else f j
theorem zup_s {f : Nat → Nat} {k x : Nat} : zup f k x k = x := if_pos rfl
theorem zup_n {f : Nat → Nat} {k x j : Nat} (h : j ≠ k) : zup f k x j = f j := if_neg h
def zLs (sb : Nat → Bool) (al dom dv nv : Nat → Int32) (vs xs E : Nat → Nat) (d : Nat) : Prop := E 0 = 625 ∧ ∀ e, e < d → zV sb al dom e (vs e) (xs e) (E (e + 1)) (E e) ∧ dv e = nI (vs e) ∧ nv e = nI (xs e)
def zQ (x1 : Int32) (sb : Nat → Bool) (F : Nat) : Prop := x1 < 0 ∨ ∃ k, k < 2 ^ 31 ∧ x1 = nI k ∧ zf_c sb F ≤ k
theorem zQ_skip {x1 : Int32} {F G : Nat} (h : zQ x1 sb F) (hFG : F ≤ G) (hn : ∀ a, F ≤ a → a < G → sb a = false) : zQ x1 sb G := by
  rcases h with h | ⟨k, hk, ek, h⟩
  · exact Or.inl h
  · exact Or.inr ⟨k, hk, ek, by rw [zf_cn G hFG hn]; exact h⟩
end
end
section
/-! the search -/
section
variable {f_tokens : Int32} {f_nodes : Int32} {f_stackSize : Int32} {f_demands : Int32} {f_failed : Int32} {f_narrowed : Int32} {f_found : Int32} {f_bestTop : Int32} {a_allowed : Nat → Int32} {a_op : Nat → Int32} {a_argument : Nat → Int32} {a_left : Nat → Int32} {a_right : Nat → Int32} {a_stack : Nat → Int32} {a_demanded : Nat → Int32} {a_low : Nat → Int64} {a_high : Nat → Int64} {a_value : Nat → Int32} {a_domain : Nat → Int32} {a_divided : Nat → Int32} {a_nextValue : Nat → Int32} {a_chosen : Nat → Int32} {a_counts : Nat → Int32}
variable {sb : Nat → Bool} {tp : Nat → Int32} {nd dm ss : Nat} {x1 : Int32} {post : SX → Prop}
theorem zs_a {k s d : Nat} {E vs xs : Nat → Nat} (hN : (∀ (s d : Nat) (E vs xs : Nat → Nat) (fl nr fo bt : Int32) (lo hi : Nat → Int64) (va dom dv nv ch cn : Nat → Int32), s + zR xs d ≤ 1561 → zR xs d < k → zLs sb a_allowed dom dv nv vs xs E d → zA sb ss tp fo bt cn (E d) → zQ x1 sb (E d) → wX_search_64 post x1 k (nI d - 1) 0 (nI s) f_tokens (nI nd) (nI ss) (nI dm) fl nr fo bt a_allowed a_op a_argument a_left a_right a_stack a_demanded lo hi va dom dv nv ch cn)) (h6 : d < 6) (hs : s + 1 + zR xs d ≤ 1561) (hk : zR xs d < k) (hL : zLs sb a_allowed a_domain a_divided a_nextValue vs xs E d) (hA : zA sb ss tp f_found f_bestTop a_counts (E d)) (hQ : zQ x1 sb (E d)) (e4 : a_divided d = 4) : wX_search_151 post (wX_search_64 post x1 k) x1 (nI d) (nI s) f_tokens (nI nd) (nI ss) (nI dm) f_failed f_narrowed f_found f_bestTop a_allowed a_op a_argument a_left a_right a_stack a_demanded a_low a_high a_value a_domain a_divided a_nextValue a_chosen a_counts :=
  zj_div4 h6 e4 (br_t rfl (nm_r (e' := nI d - 1) (Int32.sub_eq_add_neg _ _).symm (nm_r (nI_1 s) (hN (s + 1) d E vs xs _ _ _ _ _ _ _ _ _ _ _ _ hs hk hL hA hQ))))
theorem zs_b {k s d : Nat} {E vs xs : Nat → Nat} (hN : (∀ (s d : Nat) (E vs xs : Nat → Nat) (fl nr fo bt : Int32) (lo hi : Nat → Int64) (va dom dv nv ch cn : Nat → Int32), s + zR xs d ≤ 1561 → zR xs d < k → zLs sb a_allowed dom dv nv vs xs E d → zA sb ss tp fo bt cn (E d) → zQ x1 sb (E d) → wX_search_64 post x1 k (nI d - 1) 0 (nI s) f_tokens (nI nd) (nI ss) (nI dm) fl nr fo bt a_allowed a_op a_argument a_left a_right a_stack a_demanded lo hi va dom dv nv ch cn)) (hE : (∀ (s d F : Nat) (E vs xs : Nat → Nat) (fl nr fo bt : Int32) (lo hi : Nat → Int64) (va dom dv nv ch cn : Nat → Int32), d ≤ 4 → s + (zR xs d + zT d) ≤ 1561 → zR xs d + zT d < k → zLs sb a_allowed dom dv nv vs xs E d → zU sb a_allowed dom d F (E d) → zA sb ss tp fo bt cn F → zQ x1 sb F → wX_search_64 post x1 k (nI d) 1 (nI s) f_tokens (nI nd) (nI ss) (nI dm) fl nr fo bt a_allowed a_op a_argument a_left a_right a_stack a_demanded lo hi va dom dv nv ch cn)) (hs : s + zR xs (d + 1) ≤ 1561) (hk : zR xs (d + 1) ≤ k) (hL : zLs sb a_allowed a_domain a_divided a_nextValue vs xs E (d + 1)) (hA : zA sb ss tp f_found f_bestTop a_counts (E (d + 1))) (hQ : zQ x1 sb (E (d + 1))) : wX_search_151 post (wX_search_64 post x1 k) x1 (nI d) (nI s) f_tokens (nI nd) (nI ss) (nI dm) f_failed f_narrowed f_found f_bestTop a_allowed a_op a_argument a_left a_right a_stack a_demanded a_low a_high a_value a_domain a_divided a_nextValue a_chosen a_counts := by
  obtain ⟨hV, edv, env⟩ := hL.2 d (by omega)
  have hR : zR xs (d + 1) = zR xs d + ((5 - xs d) * (1 + zT (d + 1)) + 1) := rfl
  obtain ⟨m, hm, em, _⟩ := hV.2.2.2.1 (vs d) hV.1
  have hdv : d ≤ vs d := hV.2.1
  have v4 := hV.1
  refine zj_div (by omega) v4 hV.2.2.1 edv env hm em (fun hno => br_t rfl (nm_r (e' := nI d - 1) (Int32.sub_eq_add_neg _ _).symm (nm_r (nI_1 s) (hN (s + 1) d E vs xs _ _ _ _ _ _ _ _ _ _ _ _ (by omega) (by omega) ⟨hL.1, fun e he => hL.2 e (by omega)⟩ (zA_skip hA hV.2.2.2.2.2.1 (zV_end hV hm em hno)) (zQ_skip hQ hV.2.2.2.2.2.1 (zV_end hV hm em hno)))))) (fun x dom' hx0 hx hb hno e1 e2 e3 => ?_)
  obtain ⟨Ex, hU, hV'⟩ := zV_next hV hm em hx0 hx hb hno e1 e2 e3
  have hR' : zR (zup xs d (x + 1)) (d + 1) = zR xs d + ((5 - (x + 1)) * (1 + zT (d + 1)) + 1) := by
    show zR (zup xs d (x + 1)) d + ((5 - zup xs d (x + 1) d) * (1 + zT (d + 1)) + 1) = _
    rw [zup_s, zR_cg d (fun e he => zup_n (by omega))]
  have hmul : (5 - (x + 1)) * (1 + zT (d + 1)) + (1 + zT (d + 1)) ≤ (5 - xs d) * (1 + zT (d + 1)) := by
    rw [← Nat.succ_mul]
    exact Nat.mul_le_mul_right _ (by omega)
  refine br_f (by decide) (nm_r (nI_1 d) (nm_r (nI_1 s) (hE (s + 1) (d + 1) (E (d + 1)) (zup E (d + 1) Ex) vs (zup xs d (x + 1)) _ _ _ _ _ _ _ _ _ _ _ _ (by omega) (by omega) (by omega) ⟨?_, fun e he => ?_⟩ ?_ hA hQ)))
  · rw [zup_n (by omega)]; exact hL.1
  · by_cases q : e = d
    · subst q
      rw [zup_s, zup_s, zup_n (by omega)]
      exact ⟨hV', edv, pk_us⟩
    · rw [zup_n (by omega), zup_n (by omega), zup_n (by omega), pk_un (by omega)]
      have := hL.2 e (by omega)
      exact ⟨zV_fr (fun u hu => e1 _ (by omega)) this.1, this.2⟩
  · rw [zup_s]; exact hU
theorem zs_fail {k s d F : Nat} {E vs xs : Nat → Nat} (hN : (∀ (s d : Nat) (E vs xs : Nat → Nat) (fl nr fo bt : Int32) (lo hi : Nat → Int64) (va dom dv nv ch cn : Nat → Int32), s + zR xs d ≤ 1561 → zR xs d < k → zLs sb a_allowed dom dv nv vs xs E d → zA sb ss tp fo bt cn (E d) → zQ x1 sb (E d) → wX_search_64 post x1 k (nI d - 1) 0 (nI s) f_tokens (nI nd) (nI ss) (nI dm) fl nr fo bt a_allowed a_op a_argument a_left a_right a_stack a_demanded lo hi va dom dv nv ch cn)) (h6 : d < 6) (hs : s + 1 + zR xs d ≤ 1561) (hk : zR xs d < k) (hL : zLs sb a_allowed a_domain a_divided a_nextValue vs xs E d) (hFG : F ≤ E d) (hno : ∀ a, F ≤ a → a < E d → sb a = false) (hA : zA sb ss tp f_found f_bestTop a_counts F) (hQ : zQ x1 sb F) (hf : ¬ f_failed = 0) : wX_search_108 post (wX_search_64 post x1 k) x1 (nI d) (nI s) 4 (nI d) f_tokens (nI nd) (nI ss) (nI dm) f_failed f_narrowed f_found f_bestTop a_allowed a_op a_argument a_left a_right a_stack a_demanded a_low a_high a_value a_domain a_divided a_nextValue a_chosen a_counts := by
  have hi : vp_in (nI d) 6 := vp_in_nI h6 (by decide)
  have cd := nI_clamp (n := d) (by omega)
  refine And.intro hi (nm_r (e' := upd a_divided d 4) (by rw [cd]) (And.intro hi (nm_r (e' := upd a_nextValue d 0) (by rw [cd]) (br_f hf (zs_a (vs := vs) hN h6 hs hk ⟨hL.1, fun e he => ?_⟩ (zA_skip hA hFG hno) (zQ_skip hQ hFG hno) pk_us)))))
  rw [pk_un (by omega), pk_un (by omega)]
  exact hL.2 e he
theorem zs_open {k s d v F : Nat} {E vs xs : Nat → Nat} (hN : (∀ (s d : Nat) (E vs xs : Nat → Nat) (fl nr fo bt : Int32) (lo hi : Nat → Int64) (va dom dv nv ch cn : Nat → Int32), s + zR xs d ≤ 1561 → zR xs d < k → zLs sb a_allowed dom dv nv vs xs E d → zA sb ss tp fo bt cn (E d) → zQ x1 sb (E d) → wX_search_64 post x1 k (nI d - 1) 0 (nI s) f_tokens (nI nd) (nI ss) (nI dm) fl nr fo bt a_allowed a_op a_argument a_left a_right a_stack a_demanded lo hi va dom dv nv ch cn)) (hE : (∀ (s d F : Nat) (E vs xs : Nat → Nat) (fl nr fo bt : Int32) (lo hi : Nat → Int64) (va dom dv nv ch cn : Nat → Int32), d ≤ 4 → s + (zR xs d + zT d) ≤ 1561 → zR xs d + zT d < k → zLs sb a_allowed dom dv nv vs xs E d → zU sb a_allowed dom d F (E d) → zA sb ss tp fo bt cn F → zQ x1 sb F → wX_search_64 post x1 k (nI d) 1 (nI s) f_tokens (nI nd) (nI ss) (nI dm) fl nr fo bt a_allowed a_op a_argument a_left a_right a_stack a_demanded lo hi va dom dv nv ch cn)) (h4 : d < 4) (hs : s + (zR xs d + zT d) ≤ 1561) (hk : zR xs d + zT d ≤ k) (hL : zLs sb a_allowed a_domain a_divided a_nextValue vs xs E d) (hV : zV sb a_allowed a_domain d v 0 F (E d)) (hA : zA sb ss tp f_found f_bestTop a_counts F) (hQ : zQ x1 sb F) (hf : f_failed = 0) : wX_search_108 post (wX_search_64 post x1 k) x1 (nI d) (nI s) (nI v) (nI d) f_tokens (nI nd) (nI ss) (nI dm) f_failed f_narrowed f_found f_bestTop a_allowed a_op a_argument a_left a_right a_stack a_demanded a_low a_high a_value a_domain a_divided a_nextValue a_chosen a_counts := by
  have hi : vp_in (nI d) 6 := vp_in_nI (by omega) (by decide)
  have cd := nI_clamp (n := d) (by omega)
  have v4 := hV.1
  have hR : zR (zup xs d 0) (d + 1) = zR xs d + zT d := by
    show zR (zup xs d 0) d + ((5 - zup xs d 0 d) * (1 + zT (d + 1)) + 1) = _
    rw [zup_s, zR_cg d (fun e he => zup_n (by omega)), zT_s h4]
  refine And.intro hi (nm_r (e' := upd a_divided d (nI v)) (by rw [cd]) (And.intro hi (nm_r (e' := upd a_nextValue d (nI 0)) (by rw [cd]; rfl) (br_t hf (And.intro hi (br_f (fun z => ?_) (zs_b (E := zup E (d + 1) F) (vs := zup vs d v) (xs := zup xs d 0) hN hE (by omega) (by omega) ⟨?_, fun e he => ?_⟩ ?_ ?_)))))))
  · rw [cd, pk_us] at z
    have : v = 4 := (nI_eq (b := 4) (by omega) (by omega)).mp z
    omega
  · rw [zup_n (by omega)]; exact hL.1
  · by_cases q : e = d
    · subst q
      rw [zup_s, zup_s, zup_s, zup_n (by omega)]
      exact ⟨hV, pk_us, pk_us⟩
    · rw [zup_n (by omega), zup_n (by omega), zup_n (by omega), zup_n (by omega), pk_un (by omega), pk_un (by omega)]
      exact hL.2 e (by omega)
  · rw [zup_s]; exact hA
  · rw [zup_s]; exact hQ
theorem zs_leaf {k s d F : Nat} {E vs xs : Nat → Nat} (hN : (∀ (s d : Nat) (E vs xs : Nat → Nat) (fl nr fo bt : Int32) (lo hi : Nat → Int64) (va dom dv nv ch cn : Nat → Int32), s + zR xs d ≤ 1561 → zR xs d < k → zLs sb a_allowed dom dv nv vs xs E d → zA sb ss tp fo bt cn (E d) → zQ x1 sb (E d) → wX_search_64 post x1 k (nI d - 1) 0 (nI s) f_tokens (nI nd) (nI ss) (nI dm) fl nr fo bt a_allowed a_op a_argument a_left a_right a_stack a_demanded lo hi va dom dv nv ch cn)) (hS : (∀ (A k : Nat) (fl nr fo bt : Int32) (lo hi : Nat → Int64) (va dom dv nv ch cn : Nat → Int32), A < 625 → sb A = true → k < 2 ^ 31 → x1 = nI k → zf_c sb A = k → fo = nI (k + 1) → (∀ v, v < 4 → ch v = nI (zd A v)) → post (f_tokens, nI nd, nI ss, nI dm, fl, nr, fo, bt, a_allowed, a_op, a_argument, a_left, a_right, a_stack, a_demanded, lo, hi, va, dom, dv, nv, ch, cn))) (hnd : nd ≤ 48) (hdm : dm ≤ 48) (hss : ss ≤ 48) (hst : 0 < ss → ∃ m, m < nd ∧ a_stack (ss - 1) = nI m) (hO : ∀ m, m < nd → zo a_op a_left a_right m) (hM : ∀ i, i < dm → ∃ m, m < nd ∧ a_demanded i = nI m) (hsb : ∀ a, sb a = true ↔ (∀ v, v < 4 → (a_allowed v).toNatClampNeg.testBit (zd a v) = true) ∧ ∀ i, i < dm → ¬ zW a_op a_argument a_left a_right (zcd a) (a_demanded i).toNatClampNeg = 0) (htp : ∀ a, tp a = zW a_op a_argument a_left a_right (zcd a) (a_stack (ss - 1)).toNatClampNeg) (h6 : d < 6) (hs : s + 1 + zR xs d ≤ 1561) (hk : zR xs d < k) (hL : zLs sb a_allowed a_domain a_divided a_nextValue vs xs E d) (hU : zU sb a_allowed a_domain d F (E d)) (hg : ∀ u, u < 4 → zG (a_domain (4 * d + u))) (h0 : ∀ u, u < 4 → ¬ a_domain (4 * d + u) = 0) (hA : zA sb ss tp f_found f_bestTop a_counts F) (hQ : zQ x1 sb F) (hf : f_failed = 0) : wX_search_108 post (wX_search_64 post x1 k) x1 (nI d) (nI s) (nI 4) (nI d) f_tokens (nI nd) (nI ss) (nI dm) f_failed f_narrowed f_found f_bestTop a_allowed a_op a_argument a_left a_right a_stack a_demanded a_low a_high a_value a_domain a_divided a_nextValue a_chosen a_counts := by
  have hi : vp_in (nI d) 6 := vp_in_nI h6 (by decide)
  have cd := nI_clamp (n := d) (by omega)
  obtain ⟨A, hA6, hFA, hAG, hal, hu, hone⟩ := zU_leaf hU hg h0
  have hFG : F ≤ E d := hU.2.2.1
  have hL' : zLs sb a_allowed a_domain (upd a_divided d (nI 4)) (upd a_nextValue d 0) vs xs E d := ⟨hL.1, fun e he => by
    rw [pk_un (by omega), pk_un (by omega)]
    exact hL.2 e he⟩
  refine And.intro hi (nm_r (e' := upd a_divided d (nI 4)) (by rw [cd]) (And.intro hi (nm_r (e' := upd a_nextValue d 0) (by rw [cd]) (br_t hf (And.intro hi (br_t (by rw [cd, pk_us]; rfl) (zo_count h6 hA6 hnd hdm hss hst hO hM hone (fun va ch hn => ?_) (fun hall bt va ch cn hch hC hb => ?_))))))))
  · have hno : ∀ a, F ≤ a → a < E d → sb a = false := fun a g1 g2 => by
      cases e : sb a
      · rfl
      · have e' := hu a g1 g2 e
        rw [e'] at e
        exact absurd ((hsb A).mp e).2 hn
    have go : wX_search_151 post (wX_search_64 post x1 k) x1 (nI d) (nI s) f_tokens (nI nd) (nI ss) (nI dm) f_failed f_narrowed f_found f_bestTop a_allowed a_op a_argument a_left a_right a_stack a_demanded a_low a_high va a_domain (upd a_divided d (nI 4)) (upd a_nextValue d 0) ch a_counts := zs_a hN h6 hs hk hL' (zA_skip hA hFG hno) (zQ_skip hQ hFG hno) pk_us
    rcases hQ with q | ⟨k', hk', ek, q⟩
    · exact br_t q go
    · refine br_f (by rw [ek]; exact nI_pos hk') (br_t ?_ go)
      rw [ek, hA.1]
      exact nI_le q hk'
  · have sA : sb A = true := (hsb A).mpr ⟨hal, hall⟩
    have hA' : zA sb ss tp (f_found + 1) bt cn (E d) := zA_one hA hFA hAG sA hu hC (by rw [htp A]; exact hb)
    have cA := zA_at hFA hAG hu
    have cG : zf_c sb (E d) = zf_c sb F + 1 := by
      rw [zf_cn (F := A + 1) (E d) (by omega) (fun a g1 g2 => by
        cases e : sb a
        · rfl
        · have := hu a (by omega) g2 e
          omega), zf_c1 sA, cA]
    have go : zQ x1 sb (E d) → wX_search_151 post (wX_search_64 post x1 k) x1 (nI d) (nI s) f_tokens (nI nd) (nI ss) (nI dm) f_failed f_narrowed (f_found + 1) bt a_allowed a_op a_argument a_left a_right a_stack a_demanded a_low a_high va a_domain (upd a_divided d (nI 4)) (upd a_nextValue d 0) ch cn := fun q => zs_a hN h6 hs hk hL' hA' q pk_us
    have hfo : f_found + 1 = nI (zf_c sb F + 1) := by rw [hA.1, nI_1]
    have cle := zf_cle (s := sb) F
    have hE6 : E d ≤ 625 := hU.2.2.2.1
    rcases hQ with q | ⟨k', hk', ek, q⟩
    · exact br_t q (go (Or.inl q))
    · refine br_f (by rw [ek]; exact nI_pos hk') (br_c (fun g => go (Or.inr ⟨k', hk', ek, ?_⟩)) (fun g => hS A k' _ _ _ _ _ _ _ _ _ _ _ _ hA6 sA hk' ek ?_ ?_ hch))
      · rw [hfo, ek, nI_leI (by omega) hk'] at g
        rw [cG]; exact g
      · rw [hfo, ek, nI_leI (by omega) hk'] at g
        omega
      · rw [hfo, ek, nI_leI (by omega) hk'] at g
        rw [hfo]
        exact congrArg nI (by omega)
theorem zs_enter {k s d F : Nat} {E vs xs : Nat → Nat} (hN : (∀ (s d : Nat) (E vs xs : Nat → Nat) (fl nr fo bt : Int32) (lo hi : Nat → Int64) (va dom dv nv ch cn : Nat → Int32), s + zR xs d ≤ 1561 → zR xs d < k → zLs sb a_allowed dom dv nv vs xs E d → zA sb ss tp fo bt cn (E d) → zQ x1 sb (E d) → wX_search_64 post x1 k (nI d - 1) 0 (nI s) f_tokens (nI nd) (nI ss) (nI dm) fl nr fo bt a_allowed a_op a_argument a_left a_right a_stack a_demanded lo hi va dom dv nv ch cn)) (hE : (∀ (s d F : Nat) (E vs xs : Nat → Nat) (fl nr fo bt : Int32) (lo hi : Nat → Int64) (va dom dv nv ch cn : Nat → Int32), d ≤ 4 → s + (zR xs d + zT d) ≤ 1561 → zR xs d + zT d < k → zLs sb a_allowed dom dv nv vs xs E d → zU sb a_allowed dom d F (E d) → zA sb ss tp fo bt cn F → zQ x1 sb F → wX_search_64 post x1 k (nI d) 1 (nI s) f_tokens (nI nd) (nI ss) (nI dm) fl nr fo bt a_allowed a_op a_argument a_left a_right a_stack a_demanded lo hi va dom dv nv ch cn)) (hS : (∀ (A k : Nat) (fl nr fo bt : Int32) (lo hi : Nat → Int64) (va dom dv nv ch cn : Nat → Int32), A < 625 → sb A = true → k < 2 ^ 31 → x1 = nI k → zf_c sb A = k → fo = nI (k + 1) → (∀ v, v < 4 → ch v = nI (zd A v)) → post (f_tokens, nI nd, nI ss, nI dm, fl, nr, fo, bt, a_allowed, a_op, a_argument, a_left, a_right, a_stack, a_demanded, lo, hi, va, dom, dv, nv, ch, cn))) (hnd : nd ≤ 48) (hdm : dm ≤ 48) (hss : ss ≤ 48) (hst : 0 < ss → ∃ m, m < nd ∧ a_stack (ss - 1) = nI m) (hO : ∀ m, m < nd → zo a_op a_left a_right m) (hM : ∀ i, i < dm → ∃ m, m < nd ∧ a_demanded i = nI m) (hsb : ∀ a, sb a = true ↔ (∀ v, v < 4 → (a_allowed v).toNatClampNeg.testBit (zd a v) = true) ∧ ∀ i, i < dm → ¬ zW a_op a_argument a_left a_right (zcd a) (a_demanded i).toNatClampNeg = 0) (htp : ∀ a, tp a = zW a_op a_argument a_left a_right (zcd a) (a_stack (ss - 1)).toNatClampNeg) (h4 : d ≤ 4) (hs : s + (zR xs d + zT d) ≤ 1561) (hk : zR xs d + zT d ≤ k) (hL : zLs sb a_allowed a_domain a_divided a_nextValue vs xs E d) (hU : zU sb a_allowed a_domain d F (E d)) (hA : zA sb ss tp f_found f_bestTop a_counts F) (hQ : zQ x1 sb F) : wX_search_64 post x1 (k + 1) (nI d) 1 (nI s) f_tokens (nI nd) (nI ss) (nI dm) f_failed f_narrowed f_found f_bestTop a_allowed a_op a_argument a_left a_right a_stack a_demanded a_low a_high a_value a_domain a_divided a_nextValue a_chosen a_counts := by
  have t1 := zT_1 d
  have hE6 : E d ≤ 625 := hU.2.2.2.1
  refine pk_le 12000 s (fun g => absurd g (by omega)) (fun _ => br_f (nI_pos (by omega)) (br_f (by decide) (zx_narrow (T := fun a => F ≤ a ∧ a < E d ∧ sb a = true) (W := fun a m => zW a_op a_argument a_left a_right (zcd a) m) hnd hdm (by omega) (fun a ta => Nat.lt_of_lt_of_le ta.2.1 hE6) (zU_D hU) hO (fun a ta m hm => zW_eq (by omega) (hO m hm)) (fun i hi => ?_) (fun fl nr lo hi dom hD hS' hF hN0 => ?_))))
  · obtain ⟨m, hm, em⟩ := hM i hi
    refine ⟨m, hm, em, fun a ta => ?_⟩
    have := ((hsb a).mp ta.2.2).2 i hi
    rw [em, zm_cl (by omega)] at this
    exact this
  · have hU' := zU_N hU hD hS'
    have hL' : zLs sb a_allowed dom a_divided a_nextValue vs xs E d := ⟨hL.1, fun e he => by
      have := hL.2 e he
      exact ⟨zV_fr (fun u hu => hS'.1 _ (by omega)) this.1, this.2⟩⟩
    refine br_c (fun f0 => zj_first (by omega) (fun v hv hg ho => ?_)) (fun f0 => zs_fail hN (by omega) (by omega) (by omega) hL' hU'.2.2.1 (fun a g1 g2 => ?_) hA hQ f0)
    · rcases Nat.lt_or_ge v 4 with q | q
      · have hV := zU_V hU' q hg (ho q)
        have : d ≤ v := hV.2.1
        exact zs_open hN hE (by omega) hs hk hL' hV hA hQ f0
      · have e4 : v = 4 := by omega
        subst e4
        exact zs_leaf hN hS hnd hdm hss hst hO hM hsb htp (by omega) (by omega) (by omega) hL' hU' hg (fun u hu => hN0 f0 u hu) hA hQ f0
    · cases e : sb a
      · rfl
      · exact absurd (hF a ⟨g1, g2, e⟩) f0
theorem zs_main (hF : (∀ (fl nr fo bt : Int32) (lo hi : Nat → Int64) (va dom dv nv ch cn : Nat → Int32), zA sb ss tp fo bt cn 625 → zQ x1 sb 625 → post (f_tokens, nI nd, nI ss, nI dm, fl, nr, fo, bt, a_allowed, a_op, a_argument, a_left, a_right, a_stack, a_demanded, lo, hi, va, dom, dv, nv, ch, cn))) (hS : (∀ (A k : Nat) (fl nr fo bt : Int32) (lo hi : Nat → Int64) (va dom dv nv ch cn : Nat → Int32), A < 625 → sb A = true → k < 2 ^ 31 → x1 = nI k → zf_c sb A = k → fo = nI (k + 1) → (∀ v, v < 4 → ch v = nI (zd A v)) → post (f_tokens, nI nd, nI ss, nI dm, fl, nr, fo, bt, a_allowed, a_op, a_argument, a_left, a_right, a_stack, a_demanded, lo, hi, va, dom, dv, nv, ch, cn))) (hnd : nd ≤ 48) (hdm : dm ≤ 48) (hss : ss ≤ 48) (hst : 0 < ss → ∃ m, m < nd ∧ a_stack (ss - 1) = nI m) (hO : ∀ m, m < nd → zo a_op a_left a_right m) (hM : ∀ i, i < dm → ∃ m, m < nd ∧ a_demanded i = nI m) (hsb : ∀ a, sb a = true ↔ (∀ v, v < 4 → (a_allowed v).toNatClampNeg.testBit (zd a v) = true) ∧ ∀ i, i < dm → ¬ zW a_op a_argument a_left a_right (zcd a) (a_demanded i).toNatClampNeg = 0) (htp : ∀ a, tp a = zW a_op a_argument a_left a_right (zcd a) (a_stack (ss - 1)).toNatClampNeg) : ∀ k : Nat, (∀ (s d : Nat) (E vs xs : Nat → Nat) (fl nr fo bt : Int32) (lo hi : Nat → Int64) (va dom dv nv ch cn : Nat → Int32), s + zR xs d ≤ 1561 → zR xs d < k → zLs sb a_allowed dom dv nv vs xs E d → zA sb ss tp fo bt cn (E d) → zQ x1 sb (E d) → wX_search_64 post x1 k (nI d - 1) 0 (nI s) f_tokens (nI nd) (nI ss) (nI dm) fl nr fo bt a_allowed a_op a_argument a_left a_right a_stack a_demanded lo hi va dom dv nv ch cn) ∧ (∀ (s d F : Nat) (E vs xs : Nat → Nat) (fl nr fo bt : Int32) (lo hi : Nat → Int64) (va dom dv nv ch cn : Nat → Int32), d ≤ 4 → s + (zR xs d + zT d) ≤ 1561 → zR xs d + zT d < k → zLs sb a_allowed dom dv nv vs xs E d → zU sb a_allowed dom d F (E d) → zA sb ss tp fo bt cn F → zQ x1 sb F → wX_search_64 post x1 k (nI d) 1 (nI s) f_tokens (nI nd) (nI ss) (nI dm) fl nr fo bt a_allowed a_op a_argument a_left a_right a_stack a_demanded lo hi va dom dv nv ch cn) := by
  intro k
  induction k with
  | zero => exact ⟨fun s d E vs xs fl nr fo bt lo hi va dom dv nv ch cn _ hk => absurd hk (by omega), fun s d F E vs xs fl nr fo bt lo hi va dom dv nv ch cn _ _ hk => absurd hk (by omega)⟩
  | succ k ih =>
    obtain ⟨hN, hE⟩ := ih
    refine ⟨fun s d E vs xs fl nr fo bt lo hi va dom dv nv ch cn hs hk hL hA hQ => ?_, fun s d F E vs xs fl nr fo bt lo hi va dom dv nv ch cn h4 hs hk hL hU hA hQ => zs_enter hN hE hS hnd hdm hss hst hO hM hsb htp h4 hs (by omega) hL hU hA hQ⟩
    refine pk_le 12000 s (fun g => absurd g (by omega)) (fun _ => ?_)
    cases d with
    | zero =>
      rw [hL.1] at hA hQ
      exact br_t (by decide) (hF _ _ _ _ _ _ _ _ _ _ _ _ hA hQ)
    | succ d =>
      have v4 := (hL.2 d (by omega)).1.1
      have dv4 := (hL.2 d (by omega)).1.2.1
      rw [nI_pred]
      exact br_f (nI_pos (by omega)) (br_t rfl (zs_b hN hE hs (by omega) hL hA hQ))
theorem zs_34 (hF : (∀ (fl nr fo bt : Int32) (lo hi : Nat → Int64) (va dom dv nv ch cn : Nat → Int32), zA sb ss tp fo bt cn 625 → zQ x1 sb 625 → post (f_tokens, nI nd, nI ss, nI dm, fl, nr, fo, bt, a_allowed, a_op, a_argument, a_left, a_right, a_stack, a_demanded, lo, hi, va, dom, dv, nv, ch, cn))) (hS : (∀ (A k : Nat) (fl nr fo bt : Int32) (lo hi : Nat → Int64) (va dom dv nv ch cn : Nat → Int32), A < 625 → sb A = true → k < 2 ^ 31 → x1 = nI k → zf_c sb A = k → fo = nI (k + 1) → (∀ v, v < 4 → ch v = nI (zd A v)) → post (f_tokens, nI nd, nI ss, nI dm, fl, nr, fo, bt, a_allowed, a_op, a_argument, a_left, a_right, a_stack, a_demanded, lo, hi, va, dom, dv, nv, ch, cn))) (hnd : nd ≤ 48) (hdm : dm ≤ 48) (hss : ss ≤ 48) (hst : 0 < ss → ∃ m, m < nd ∧ a_stack (ss - 1) = nI m) (hO : ∀ m, m < nd → zo a_op a_left a_right m) (hM : ∀ i, i < dm → ∃ m, m < nd ∧ a_demanded i = nI m) (hsb : ∀ a, sb a = true ↔ (∀ v, v < 4 → (a_allowed v).toNatClampNeg.testBit (zd a v) = true) ∧ ∀ i, i < dm → ¬ zW a_op a_argument a_left a_right (zcd a) (a_demanded i).toNatClampNeg = 0) (htp : ∀ a, tp a = zW a_op a_argument a_left a_right (zcd a) (a_stack (ss - 1)).toNatClampNeg) (hal : ∀ v, v < 4 → ∃ m, m < 32 ∧ a_allowed v = nI m) (hA : zA sb ss tp f_found f_bestTop a_counts 0) (hQ : zQ x1 sb 0) : ∀ k v dom, v ≤ 4 → 4 - v < k → (∀ u, u < v → dom u = a_allowed u) → wX_search_34 post x1 f_tokens (nI nd) (nI ss) (nI dm) f_failed f_narrowed f_found f_bestTop k (nI v) a_allowed a_op a_argument a_left a_right a_stack a_demanded a_low a_high a_value dom a_divided a_nextValue a_chosen a_counts := by
  intro k
  induction k with
  | zero => intro v dom _ hk; omega
  | succ k ih =>
    intro v dom hv hk hd
    refine pk_le 4 v (fun g => ?_) (fun g => ?_)
    · have hE := (zs_main hF hS hnd hdm hss hst hO hM hsb htp 1562).2
      have hd' : ∀ u, u < 4 → dom (4 * 0 + u) = a_allowed u := fun u hu => by
        rw [show 4 * 0 + u = u from by omega]; exact hd u (by omega)
      refine Exists.intro 1562 (hE 0 0 0 (fun _ => 625) (fun _ => 0) (fun _ => 0) _ _ _ _ _ _ _ _ _ _ _ _ (by omega) (by decide) (by decide) ⟨rfl, fun e he => absurd he (by omega)⟩ ⟨fun u hu => ?_, fun u hu => absurd hu (by omega), by omega, by decide, fun a ha _ => ⟨by omega, ha⟩, fun a _ _ hs u hu => ?_⟩ hA hQ)
      · obtain ⟨m, hm, em⟩ := hal u hu
        exact ⟨m, hm, by rw [hd' u hu]; exact em, fun b hb => by rw [em, nI_clamp (by omega)]; exact hb⟩
      · rw [hd' u hu]
        exact ((hsb a).mp hs).1 u hu
    · refine And.intro (vp_in_nI g (by decide)) (And.intro (vp_in_nI (by omega) (by decide)) (nm_r (e' := upd dom v (a_allowed v)) (by rw [nI_clamp (by omega)]) (nm_r (nI_1 v) (ih (v + 1) _ (by omega) (by omega) (fun u hu => ?_)))))
      by_cases e : u = v
      · subst e; rw [pk_us]
      · rw [pk_un e]; exact hd u (by omega)
theorem zs_search (hF : (∀ (fl nr fo bt : Int32) (lo hi : Nat → Int64) (va dom dv nv ch cn : Nat → Int32), zA sb ss tp fo bt cn 625 → zQ x1 sb 625 → post (f_tokens, nI nd, nI ss, nI dm, fl, nr, fo, bt, a_allowed, a_op, a_argument, a_left, a_right, a_stack, a_demanded, lo, hi, va, dom, dv, nv, ch, cn))) (hS : (∀ (A k : Nat) (fl nr fo bt : Int32) (lo hi : Nat → Int64) (va dom dv nv ch cn : Nat → Int32), A < 625 → sb A = true → k < 2 ^ 31 → x1 = nI k → zf_c sb A = k → fo = nI (k + 1) → (∀ v, v < 4 → ch v = nI (zd A v)) → post (f_tokens, nI nd, nI ss, nI dm, fl, nr, fo, bt, a_allowed, a_op, a_argument, a_left, a_right, a_stack, a_demanded, lo, hi, va, dom, dv, nv, ch, cn))) (hnd : nd ≤ 48) (hdm : dm ≤ 48) (hss : ss ≤ 48) (hst : 0 < ss → ∃ m, m < nd ∧ a_stack (ss - 1) = nI m) (hO : ∀ m, m < nd → zo a_op a_left a_right m) (hM : ∀ i, i < dm → ∃ m, m < nd ∧ a_demanded i = nI m) (hsb : ∀ a, sb a = true ↔ (∀ v, v < 4 → (a_allowed v).toNatClampNeg.testBit (zd a v) = true) ∧ ∀ i, i < dm → ¬ zW a_op a_argument a_left a_right (zcd a) (a_demanded i).toNatClampNeg = 0) (htp : ∀ a, tp a = zW a_op a_argument a_left a_right (zcd a) (a_stack (ss - 1)).toNatClampNeg) (hal : ∀ v, v < 4 → ∃ m, m < 32 ∧ a_allowed v = nI m) (hQ : zQ x1 sb 0) : wpX_search post (f_tokens, nI nd, nI ss, nI dm, f_failed, f_narrowed, f_found, f_bestTop, a_allowed, a_op, a_argument, a_left, a_right, a_stack, a_demanded, a_low, a_high, a_value, a_domain, a_divided, a_nextValue, a_chosen, a_counts) x1 := by
  have L : ∀ k i cn, i ≤ 20 → 20 - i < k → (∀ j, j < i → cn j = 0) → wX_search_13 post x1 f_tokens (nI nd) (nI ss) (nI dm) f_failed f_narrowed 0 (-2147483648) k (nI i) a_allowed a_op a_argument a_left a_right a_stack a_demanded a_low a_high a_value a_domain a_divided a_nextValue a_chosen cn := by
    intro k
    induction k with
    | zero => intro i cn _ hk; omega
    | succ k ih =>
      intro i cn hi hk hc
      refine pk_le 20 i (fun g => Exists.intro 5 (zs_34 hF hS hnd hdm hss hst hO hM hsb htp hal ⟨rfl, rfl, fun v hv x hx => ?_⟩ hQ 5 0 _ (by omega) (by omega) (fun u hu => absurd hu (by omega)))) (fun g => And.intro (vp_in_nI g (by decide)) (nm_r (e' := upd cn i 0) (by rw [nI_clamp (by omega)]) (nm_r (nI_1 i) (ih (i + 1) _ (by omega) (by omega) (fun j hj => ?_)))))
      · rw [hc _ (by omega)]; rfl
      · by_cases e : j = i
        · subst e; rw [pk_us]
        · rw [pk_un e]; exact hc j (by omega)
  exact Exists.intro 21 (L 21 0 a_counts (by omega) (by omega) (fun j hj => absurd hj (by omega)))
end
end
section
/-! the tokens' history: nodes, height, demands and stack after each token -/
section
def zP (n h d n1 h1 d1 : Nat) (s s1 : Nat → Nat) (op ar lf rt dmd : Nat → Int32) (cd ag : Int32) : Prop := ∃ c, cd = nI c ∧ (
  (c = 12 ∧ 1 ≤ h ∧ n1 = n ∧ h1 + 1 = h ∧ d1 = d + 1 ∧ dmd d = nI (s (h - 1)) ∧ ∀ j, j < h1 → s1 j = s j)
  ∨ ((c = 0 ∨ c = 1) ∧ n1 = n + 1 ∧ h1 = h + 1 ∧ d1 = d ∧ s1 h = n ∧ (∀ j, j < h → s1 j = s j) ∧ op n = nI c ∧ ar n = ag ∧ lf n = -1 ∧ rt n = -1)
  ∨ (c = 11 ∧ 1 ≤ h ∧ n1 = n + 1 ∧ h1 = h ∧ d1 = d ∧ s1 (h - 1) = n ∧ (∀ j, j + 1 < h → s1 j = s j) ∧ op n = nI c ∧ ar n = ag ∧ lf n = -1 ∧ rt n = nI (s (h - 1)))
  ∨ (2 ≤ c ∧ c ≤ 10 ∧ 2 ≤ h ∧ n1 = n + 1 ∧ h1 + 1 = h ∧ d1 = d ∧ s1 (h - 2) = n ∧ (∀ j, j + 2 < h → s1 j = s j) ∧ op n = nI c ∧ ar n = ag ∧ lf n = nI (s (h - 2)) ∧ rt n = nI (s (h - 1))))
def zH (t : Nat) (N H D : Nat → Nat) (S : Nat → Nat → Nat) (op ar lf rt stk dmd cds ags : Nat → Int32) : Prop := N 0 = 0 ∧ H 0 = 0 ∧ D 0 = 0 ∧ (∀ i, i < t → zP (N i) (H i) (D i) (N (i + 1)) (H (i + 1)) (D (i + 1)) (S i) (S (i + 1)) op ar lf rt dmd (cds i) (ags i)) ∧ ∀ j, j < H t → stk j = nI (S t j)
theorem zP_fr {n h d n1 h1 d1 : Nat} {s s1 : Nat → Nat} {op ar lf rt dmd op' ar' lf' rt' dmd' : Nat → Int32} {cd ag : Int32} (hp : zP n h d n1 h1 d1 s s1 op ar lf rt dmd cd ag) (hn : n < n1 → op' n = op n ∧ ar' n = ar n ∧ lf' n = lf n ∧ rt' n = rt n) (hd : d < d1 → dmd' d = dmd d) : zP n h d n1 h1 d1 s s1 op' ar' lf' rt' dmd' cd ag := by
  obtain ⟨c, ec, hp⟩ := hp
  refine ⟨c, ec, ?_⟩
  rcases hp with ⟨h0, h1', h2, h3, h4, h5, h6⟩ | ⟨h0, h2, h3, h4, h5, h6, h7, h8, h9, h10⟩ | ⟨h0, h1', h2, h3, h4, h5, h6, h7, h8, h9, h10⟩ | ⟨h0, h0', h1', h2, h3, h4, h5, h6, h7, h8, h9, h10⟩
  · exact Or.inl ⟨h0, h1', h2, h3, h4, by rw [hd (by omega)]; exact h5, h6⟩
  · obtain ⟨a, b, c', d'⟩ := hn (by omega)
    exact Or.inr (Or.inl ⟨h0, h2, h3, h4, h5, h6, by rw [a]; exact h7, by rw [b]; exact h8, by rw [c']; exact h9, by rw [d']; exact h10⟩)
  · obtain ⟨a, b, c', d'⟩ := hn (by omega)
    exact Or.inr (Or.inr (Or.inl ⟨h0, h1', h2, h3, h4, h5, h6, by rw [a]; exact h7, by rw [b]; exact h8, by rw [c']; exact h9, by rw [d']; exact h10⟩))
  · obtain ⟨a, b, c', d'⟩ := hn (by omega)
    exact Or.inr (Or.inr (Or.inr ⟨h0, h0', h1', h2, h3, h4, h5, h6, by rw [a]; exact h7, by rw [b]; exact h8, by rw [c']; exact h9, by rw [d']; exact h10⟩))
theorem zP_mono {n h d n1 h1 d1 : Nat} {s s1 : Nat → Nat} {op ar lf rt dmd : Nat → Int32} {cd ag : Int32} (hp : zP n h d n1 h1 d1 s s1 op ar lf rt dmd cd ag) : n ≤ n1 ∧ n1 ≤ n + 1 ∧ d ≤ d1 ∧ d1 ≤ d + 1 ∧ n1 + d1 = n + d + 1 := by
  obtain ⟨c, ec, hp⟩ := hp
  rcases hp with ⟨h0, h1', h2, h3, h4, h5, h6⟩ | ⟨h0, h2, h3, h4, h5, h6, h7, h8, h9, h10⟩ | ⟨h0, h1', h2, h3, h4, h5, h6, h7, h8, h9, h10⟩ | ⟨h0, h0', h1', h2, h3, h4, h5, h6, h7, h8, h9, h10⟩ <;> omega
theorem zP_st {n h d n1 h1 d1 : Nat} {s s1 : Nat → Nat} {op ar lf rt dmd : Nat → Int32} {cd ag : Int32} (hp : zP n h d n1 h1 d1 s s1 op ar lf rt dmd cd ag) (hh : h ≤ n) (hs : ∀ j, j < h → s j < n) : h1 ≤ n1 ∧ ∀ j, j < h1 → s1 j < n1 := by
  obtain ⟨c, ec, hp⟩ := hp
  rcases hp with ⟨h0, h1', h2, h3, h4, h5, h6⟩ | ⟨h0, h2, h3, h4, h5, h6, h7, h8, h9, h10⟩ | ⟨h0, h1', h2, h3, h4, h5, h6, h7, h8, h9, h10⟩ | ⟨h0, h0', h1', h2, h3, h4, h5, h6, h7, h8, h9, h10⟩
  · refine ⟨by omega, fun j hj => ?_⟩
    rw [h6 j hj]
    have := hs j (by omega)
    omega
  · refine ⟨by omega, fun j hj => ?_⟩
    by_cases e : j = h
    · subst e; omega
    · rw [h6 j (by omega)]
      have := hs j (by omega)
      omega
  · refine ⟨by omega, fun j hj => ?_⟩
    by_cases e : j = h - 1
    · subst e; omega
    · rw [h6 j (by omega)]
      have := hs j (by omega)
      omega
  · refine ⟨by omega, fun j hj => ?_⟩
    by_cases e : j = h - 2
    · subst e; omega
    · rw [h6 j (by omega)]
      have := hs j (by omega)
      omega
variable {t : Nat} {N H D : Nat → Nat} {S : Nat → Nat → Nat} {op ar lf rt stk dmd cds ags : Nat → Int32}
theorem zH_b (h : zH t N H D S op ar lf rt stk dmd cds ags) : ∀ i, i ≤ t → N i + D i = i ∧ H i ≤ N i ∧ ∀ j, j < H i → S i j < N i := by
  obtain ⟨n0, h0, d0, hp, _⟩ := h
  intro i
  induction i with
  | zero => intro _; exact ⟨by omega, by omega, fun j hj => absurd hj (by omega)⟩
  | succ i ih =>
    intro hi
    have a := ih (by omega)
    have p := hp i (by omega)
    have m := zP_mono p
    exact ⟨by omega, zP_st p a.2.1 a.2.2⟩
theorem zH_m (h : zH t N H D S op ar lf rt stk dmd cds ags) {i : Nat} : ∀ k, i ≤ k → k ≤ t → N i ≤ N k ∧ D i ≤ D k := by
  intro k
  induction k with
  | zero => intro h1 _; rw [show i = 0 from by omega]; exact ⟨Nat.le_refl _, Nat.le_refl _⟩
  | succ k ih =>
    intro h1 h2
    rcases Nat.lt_or_ge k i with q | q
    · rw [show i = k + 1 from by omega]; exact ⟨Nat.le_refl _, Nat.le_refl _⟩
    · have a := ih q (by omega)
      have m := zP_mono (h.2.2.2.1 k (by omega))
      omega
theorem zH_node (h : zH t N H D S op ar lf rt stk dmd cds ags) {n : Nat} : ∀ k, k ≤ t → n < N k → ∃ i, i < k ∧ N i = n ∧ N (i + 1) = n + 1 := by
  intro k
  induction k with
  | zero => intro _ hn; have := h.1; omega
  | succ k ih =>
    intro hk hn
    have m := zP_mono (h.2.2.2.1 k (by omega))
    rcases Nat.lt_or_ge n (N k) with q | q
    · obtain ⟨i, hi, e⟩ := ih (by omega) q
      exact ⟨i, by omega, e⟩
    · exact ⟨k, by omega, by omega, by omega⟩
theorem zH_dem (h : zH t N H D S op ar lf rt stk dmd cds ags) {n : Nat} : ∀ k, k ≤ t → n < D k → ∃ i, i < k ∧ D i = n ∧ D (i + 1) = n + 1 := by
  intro k
  induction k with
  | zero => intro _ hn; have := h.2.2.1; omega
  | succ k ih =>
    intro hk hn
    have m := zP_mono (h.2.2.2.1 k (by omega))
    rcases Nat.lt_or_ge n (D k) with q | q
    · obtain ⟨i, hi, e⟩ := ih (by omega) q
      exact ⟨i, by omega, e⟩
    · exact ⟨k, by omega, by omega, by omega⟩
theorem zH_zo (h : zH t N H D S op ar lf rt stk dmd cds ags) : ∀ n, n < N t → zo op lf rt n := by
  intro n hn
  obtain ⟨i, hi, en, en1⟩ := zH_node h t (Nat.le_refl _) hn
  have b := zH_b h i (by omega)
  obtain ⟨c, ec, hp⟩ := h.2.2.2.1 i hi
  rw [en] at hp
  rcases hp with ⟨h0, h1', h2, h3, h4, h5, h6⟩ | ⟨h0, h2, h3, h4, h5, h6, h7, h8, h9, h10⟩ | ⟨h0, h1', h2, h3, h4, h5, h6, h7, h8, h9, h10⟩ | ⟨h0, h0', h1', h2, h3, h4, h5, h6, h7, h8, h9, h10⟩
  · omega
  · refine Or.inl ⟨?_, h9, h10⟩
    rcases h0 with e | e
    · rw [h7, e]; exact Or.inl rfl
    · rw [h7, e]; exact Or.inr rfl
  · refine Or.inr (Or.inl ⟨by rw [h7, h0]; rfl, h9, _, ?_, h10⟩)
    have := b.2.2 (H i - 1) (by omega)
    omega
  · refine Or.inr (Or.inr ⟨c, _, _, h0, h0', ?_, ?_, h7, h9, h10⟩)
    · have := b.2.2 (H i - 2) (by omega)
      omega
    · have := b.2.2 (H i - 1) (by omega)
      omega
theorem zH_dmd (h : zH t N H D S op ar lf rt stk dmd cds ags) : ∀ k, k < D t → ∃ m, m < N t ∧ dmd k = nI m := by
  intro k hk
  obtain ⟨i, hi, en, en1⟩ := zH_dem h t (Nat.le_refl _) hk
  have b := zH_b h i (by omega)
  have mm := zH_m h (i := i) t (by omega) (Nat.le_refl _)
  obtain ⟨c, ec, hp⟩ := h.2.2.2.1 i hi
  rw [en] at hp
  rcases hp with ⟨h0, h1', h2, h3, h4, h5, h6⟩ | ⟨h0, h2, h3, h4, h5, h6, h7, h8, h9, h10⟩ | ⟨h0, h1', h2, h3, h4, h5, h6, h7, h8, h9, h10⟩ | ⟨h0, h0', h1', h2, h3, h4, h5, h6, h7, h8, h9, h10⟩
  · refine ⟨_, ?_, h5⟩
    have := b.2.2 (H i - 1) (by omega)
    omega
  · omega
  · omega
  · omega
theorem zH_top (h : zH t N H D S op ar lf rt stk dmd cds ags) (h0 : 0 < H t) : S t (H t - 1) < N t ∧ stk (H t - 1) = nI (S t (H t - 1)) :=
  ⟨(zH_b h t (Nat.le_refl _)).2.2 _ (by omega), h.2.2.2.2 _ (by omega)⟩
def zuS (f : Nat → Nat → Nat) (k : Nat) (x : Nat → Nat) : Nat → Nat → Nat := fun j => if j = k then x else f j
theorem zuS_s {f : Nat → Nat → Nat} {k : Nat} {x : Nat → Nat} : zuS f k x k = x := if_pos rfl
theorem zuS_n {f : Nat → Nat → Nat} {k j : Nat} {x : Nat → Nat} (h : j ≠ k) : zuS f k x j = f j := if_neg h
theorem zH_ext {n1 h1 d1 : Nat} {s1 : Nat → Nat} {op' ar' lf' rt' stk' dmd' : Nat → Int32} {p0 p1 : Int32} (h : zH t N H D S op ar lf rt stk dmd cds ags) (hp : zP (N t) (H t) (D t) n1 h1 d1 (S t) s1 op' ar' lf' rt' dmd' p0 p1) (hn : ∀ n, n < N t → op' n = op n ∧ ar' n = ar n ∧ lf' n = lf n ∧ rt' n = rt n) (hd : ∀ d, d < D t → dmd' d = dmd d) (hs : ∀ j, j < h1 → stk' j = nI (s1 j)) : zH (t + 1) (zup N (t + 1) n1) (zup H (t + 1) h1) (zup D (t + 1) d1) (zuS S (t + 1) s1) op' ar' lf' rt' stk' dmd' (upd cds t p0) (upd ags t p1) := by
  refine ⟨by rw [zup_n (by omega)]; exact h.1, by rw [zup_n (by omega)]; exact h.2.1, by rw [zup_n (by omega)]; exact h.2.2.1, fun i hi => ?_, fun j hj => ?_⟩
  · by_cases e : i = t
    · subst e
      rw [zup_n (by omega), zup_n (by omega), zup_n (by omega), zup_s, zup_s, zup_s, zuS_n (by omega), zuS_s, pk_us, pk_us]
      exact hp
    · rw [zup_n (by omega), zup_n (by omega), zup_n (by omega), zup_n (by omega), zup_n (by omega), zup_n (by omega), zuS_n (by omega), zuS_n (by omega), pk_un e, pk_un e]
      have m1 := zH_m h (i := i + 1) t (by omega) (Nat.le_refl _)
      exact zP_fr (h.2.2.2.1 i (by omega)) (fun q => hn _ (by omega)) (fun q => hd _ (by omega))
  · rw [zup_s] at hj
    rw [zuS_s]
    exact hs j hj
end
end
section
/-! the reference -/
section
variable {g_depth : Int32} {b_allowed b_codes b_args b_tried b_stack : Nat → Int32}
variable {t : Nat} {N H D : Nat → Nat} {S : Nat → Nat → Nat} {op ar lf rt stk dmd : Nat → Int32}
theorem zy_t0 {post : Int32 → Prop} {c : Nat} (hc : c = 0 ∨ c = 1) (h : post 0) : wpY_takes post (nI c) :=
  pk_lt 1 c (fun z => absurd z (by omega)) (fun _ => h)
theorem zy_t1 {post : Int32 → Prop} {c : Nat} (hc : c = 11 ∨ c = 12) (h : post 1) : wpY_takes post (nI c) :=
  pk_lt 1 c (fun _ => pk_lt 10 c (fun _ => h) (fun z => absurd z (by omega))) (fun z => absurd z (by omega))
theorem zy_t2 {post : Int32 → Prop} {c : Nat} (h2 : 2 ≤ c) (h10 : c ≤ 10) (h : post 2) : wpY_takes post (nI c) :=
  pk_lt 1 c (fun _ => pk_lt 10 c (fun z => absurd z (by omega)) (fun _ => h)) (fun z => absurd z (by omega))
theorem zy_work {post : Int32 → Prop} {o x y : Int32} (ho : o = 2 ∨ o = 3 ∨ o = 4 ∨ o = 5 ∨ o = 6 ∨ o = 7 ∨ o = 8 ∨ o = 9 ∨ o = 10) (h : post (zk o x y)) : wpY_worked post o x y := by
  unfold zk at h
  by_cases e2 : o = 2
  · rw [if_pos e2] at h; exact br_t e2 h
  rw [if_neg e2] at h
  refine br_f e2 ?_
  by_cases e3 : o = 3
  · rw [if_pos e3] at h; exact br_t e3 h
  rw [if_neg e3] at h
  refine br_f e3 ?_
  by_cases e4 : o = 4
  · rw [if_pos e4] at h; exact br_t e4 h
  rw [if_neg e4] at h
  refine br_f e4 ?_
  by_cases e5 : o = 5
  · rw [if_pos e5] at h
    exact br_t e5 (br_c (fun g => by rw [if_pos g] at h; exact h) (fun g => by rw [if_neg g] at h; exact h))
  rw [if_neg e5] at h
  refine br_f e5 ?_
  by_cases e6 : o = 6
  · rw [if_pos e6] at h
    exact br_t e6 (br_c (fun g => by rw [if_pos g] at h; exact h) (fun g => by rw [if_neg g] at h; exact h))
  rw [if_neg e6] at h
  refine br_f e6 ?_
  by_cases e7 : o = 7
  · rw [if_pos e7] at h
    exact br_t e7 (br_c (fun g => by rw [if_pos g] at h; exact h) (fun g => by rw [if_neg g] at h; exact h))
  rw [if_neg e7] at h
  refine br_f e7 ?_
  by_cases e8 : o = 8
  · rw [if_pos e8] at h
    exact br_t e8 (br_c (fun g => by rw [if_pos g] at h; exact h) (fun g => by rw [if_neg g] at h; exact h))
  rw [if_neg e8] at h
  refine br_f e8 ?_
  by_cases e9 : o = 9
  · rw [if_pos e9] at h
    exact br_t e9 (br_c (fun g => by rw [if_pos g] at h; exact h) (fun g => br_c (fun g' => by rw [if_neg g, if_pos g'] at h; exact h) (fun g' => by rw [if_neg g, if_neg g'] at h; exact h)))
  rw [if_neg e9] at h
  refine br_f e9 ?_
  have e10 : o = 10 := by
    rcases ho with e | e | e | e | e | e | e | e | e
    · exact absurd e e2
    · exact absurd e e3
    · exact absurd e e4
    · exact absurd e e5
    · exact absurd e e6
    · exact absurd e e7
    · exact absurd e e8
    · exact absurd e e9
    · exact e
  rw [if_pos e10] at h
  exact br_c (fun g => br_c (fun g' => by rw [if_pos g, if_pos g'] at h; exact h) (fun g' => by rw [if_pos g, if_neg g'] at h; exact h)) (fun g => by rw [if_neg g] at h; exact h)
theorem zy_bin {c : Nat} (h2 : 2 ≤ c) (h10 : c ≤ 10) : nI c = 2 ∨ nI c = 3 ∨ nI c = 4 ∨ nI c = 5 ∨ nI c = 6 ∨ nI c = 7 ∨ nI c = 8 ∨ nI c = 9 ∨ nI c = 10 := by
  have : c = 2 ∨ c = 3 ∨ c = 4 ∨ c = 5 ∨ c = 6 ∨ c = 7 ∨ c = 8 ∨ c = 9 ∨ c = 10 := by omega
  rcases this with e | e | e | e | e | e | e | e | e <;> subst e <;> decide
/-! height, conditions -/
theorem zy_h4 {post : Int32 → Prop} (ht : t ≤ 48) (hH : zH t N H D S op ar lf rt stk dmd b_codes b_args) (h : post (nI (H t))) : ∀ k i, i ≤ t → t - i < k → wY_height_4 post (nI t) g_depth b_allowed b_codes b_args b_tried b_stack k (nI (H i)) (nI i) := by
  intro k
  induction k with
  | zero => intro i _ hk; omega
  | succ k ih =>
    intro i hi hk
    refine pk_le t i (fun g => ?_) (fun g => ?_)
    · rw [show i = t from by omega]; exact h
    · have hin : vp_in (nI i) 48 := vp_in_nI (by omega) (by decide)
      have ci := zm_cl (m := i) (by omega)
      have go := ih (i + 1) (by omega) (by omega)
      obtain ⟨c, ec, hp⟩ := hH.2.2.2.1 i g
      refine And.intro hin ?_
      rw [ci, ec]
      rcases hp with ⟨h0, h1', h2, h3, h4, h5, h6⟩ | ⟨h0, h2, h3, h4, h5, h6, h7, h8, h9, h10⟩ | ⟨h0, h1', h2, h3, h4, h5, h6, h7, h8, h9, h10⟩ | ⟨h0, h0', h1', h2, h3, h4, h5, h6, h7, h8, h9, h10⟩
      · refine br_t (by rw [h0]; rfl) (And.intro hin ?_)
        rw [ci, ec]
        refine zy_t1 (Or.inr h0) (nm_r (e' := nI (H (i + 1))) ?_ (nm_r (nI_1 i) go))
        rw [show (0 : Int32) - 1 = -1 from rfl, zn_m (by omega)]
        exact congrArg nI (by omega)
      · refine br_f (fun z => ?_) (And.intro hin ?_)
        · have : c = 12 := (nI_eq (b := 12) (by omega) (by omega)).mp z
          omega
        · rw [ci, ec]
          refine zy_t0 h0 (nm_r (e' := nI (H (i + 1))) ?_ (nm_r (nI_1 i) go))
          rw [show (1 : Int32) - 0 = 1 from rfl, nI_1, h3]
      · refine br_f (fun z => ?_) (And.intro hin ?_)
        · have : c = 12 := (nI_eq (b := 12) (by omega) (by omega)).mp z
          omega
        · rw [ci, ec]
          refine zy_t1 (Or.inl h0) (nm_r (e' := nI (H (i + 1))) ?_ (nm_r (nI_1 i) go))
          rw [show (1 : Int32) - 1 = 0 from rfl, Int32.add_zero, h3]
      · refine br_f (fun z => ?_) (And.intro hin ?_)
        · have : c = 12 := (nI_eq (b := 12) (by omega) (by omega)).mp z
          omega
        · rw [ci, ec]
          refine zy_t2 h0 h0' (nm_r (e' := nI (H (i + 1))) ?_ (nm_r (nI_1 i) go))
          rw [show (1 : Int32) - 2 = -1 from rfl, zn_m (by omega)]
          exact congrArg nI (by omega)
theorem zy_height {post : Int32 → Prop} (ht : t ≤ 48) (hH : zH t N H D S op ar lf rt stk dmd b_codes b_args) (h : post (nI (H t))) : wpY_height post (nI t, g_depth, b_allowed, b_codes, b_args, b_tried, b_stack) := by
  have := zy_h4 (g_depth := g_depth) (b_allowed := b_allowed) (b_tried := b_tried) (b_stack := b_stack) ht hH h (t + 1) 0 (by omega) (by omega)
  rw [hH.2.1] at this
  exact Exists.intro (t + 1) this
theorem zy_c4 {post : Int32 → Prop} (ht : t ≤ 48) (hH : zH t N H D S op ar lf rt stk dmd b_codes b_args) (h : post (nI (D t))) : ∀ k i, i ≤ t → t - i < k → wY_conditions_4 post (nI t) g_depth b_allowed b_codes b_args b_tried b_stack k (nI (D i)) (nI i) := by
  intro k
  induction k with
  | zero => intro i _ hk; omega
  | succ k ih =>
    intro i hi hk
    refine pk_le t i (fun g => ?_) (fun g => ?_)
    · rw [show i = t from by omega]; exact h
    · have hin : vp_in (nI i) 48 := vp_in_nI (by omega) (by decide)
      have ci := zm_cl (m := i) (by omega)
      have go := ih (i + 1) (by omega) (by omega)
      obtain ⟨c, ec, hp⟩ := hH.2.2.2.1 i g
      refine And.intro hin ?_
      rw [ci, ec]
      refine pk_eq c 12 (fun e => nm_r (e' := nI (D (i + 1))) ?_ (nm_r (nI_1 i) go)) (fun e => nm_r (nI_1 i) ?_) (ha := ?_)
      · rw [nI_1]
        exact congrArg nI (by omega)
      · rw [show D i = D (i + 1) from by omega]; exact go
      · omega
theorem zy_cond {post : Int32 → Prop} (ht : t ≤ 48) (hH : zH t N H D S op ar lf rt stk dmd b_codes b_args) (h : post (nI (D t))) : wpY_conditions post (nI t, g_depth, b_allowed, b_codes, b_args, b_tried, b_stack) := by
  have := zy_c4 (g_depth := g_depth) (b_allowed := b_allowed) (b_tried := b_tried) (b_stack := b_stack) ht hH h (t + 1) 0 (by omega) (by omega)
  rw [hH.2.2.1] at this
  exact Exists.intro (t + 1) this
/-! a run through the tokens -/
theorem zy_186 {post : Int32 → SY → Prop} {J : Int32 → Int32 → Int32 → (Nat → Int32) → (Nat → Int32) → (Nat → Int32) → (Nat → Int32) → (Nat → Int32) → Prop} {al z f : Int32} {i n : Nat} (hn : n < 48) (h : J al (nI (i + 1)) (nI (n + 1)) b_allowed b_codes b_args b_tried (upd b_stack n z)) : wY_run_186 post J al (nI i) z (nI n) f (nI n) b_allowed b_codes b_args b_tried b_stack :=
  And.intro (vp_in_nI hn (by decide)) (nm_r (e' := upd b_stack n z) (by rw [zm_cl hn]) (nm_r (nI_1 n) (nm_r (nI_1 i) h)))
theorem zy_run9 {post : Int32 → SY → Prop} {c : Nat → Int32} (ht : t ≤ 48) (hH : zH t N H D S op ar lf rt stk dmd b_codes b_args) (hc : ∀ v, v < 4 → b_tried v = c v) (h : ∀ (al : Int32) (st : Nat → Int32), (al = 0 ∨ al = 1) → (al = 1 ↔ ∀ k, k < D t → ¬ zW op ar lf rt c (dmd k).toNatClampNeg = 0) → (∀ j, j < H t → st j = zW op ar lf rt c (S t j)) → post al (nI t, nI (H t), b_allowed, b_codes, b_args, b_tried, st)) : ∀ k i al st, i ≤ t → t - i < k → (al = 0 ∨ al = 1) → (al = 1 ↔ ∀ k, k < D i → ¬ zW op ar lf rt c (dmd k).toNatClampNeg = 0) → (∀ j, j < H i → st j = zW op ar lf rt c (S i j)) → wY_run_9 post (nI t) k al (nI i) (nI (H i)) b_allowed b_codes b_args b_tried st := by
  intro k
  induction k with
  | zero => intro i al st _ hk; omega
  | succ k ih =>
    intro i al st hi hk ha ha1 hst
    refine pk_le t i (fun g => And.intro ?_ ?_) (fun g => ?_)
    · rcases ha with e | e <;> subst e
      · exact zy_n0
      · exact zy_n1
    · have e : i = t := by omega
      subst e
      exact h al st ha ha1 hst
    · have hin : vp_in (nI i) 48 := vp_in_nI (by omega) (by decide)
      have ci := zm_cl (m := i) (by omega)
      obtain ⟨b1, b2, b3⟩ := zH_b hH i (by omega)
      have mm := zH_m hH (i := i + 1) t (by omega) (Nat.le_refl _)
      have bt := zH_b hH t (Nat.le_refl _)
      have go := fun al st => ih (i + 1) al st (by omega) (by omega)
      obtain ⟨o, ec, hp⟩ := hH.2.2.2.1 i g
      refine And.intro hin (nm_r (e' := nI o) (by rw [ci]; exact ec) ?_)
      rcases hp with ⟨h0, h1', h2, h3, h4, h5, h6⟩ | ⟨h0, h2, h3, h4, h5, h6, h7, h8, h9, h10⟩ | ⟨h0, h1', h2, h3, h4, h5, h6, h7, h8, h9, h10⟩ | ⟨h0, h0', h1', h2, h3, h4, h5, h6, h7, h8, h9, h10⟩
      · -- a condition
        have hs1 := b3 (H i - 1) (by omega)
        have hv := hst (H i - 1) (by omega)
        have hst' : ∀ j, j < H (i + 1) → st j = zW op ar lf rt c (S (i + 1) j) := fun j hj => by
          rw [h6 j hj]; exact hst j (by omega)
        have eh : H i - 1 = H (i + 1) := by omega
        have hd : zW op ar lf rt c (dmd (D i)).toNatClampNeg = st (H (i + 1)) := by
          rw [h5, zm_cl (by omega), ← hv, eh]
        refine zy_t1 (Or.inr h0) (br_f (by decide) (br_f (by rw [h0]; decide) (br_t (by rw [h0]; rfl) (nm_r (e' := nI (H (i + 1))) ?_ (And.intro (vp_in_nI (by omega) (by decide)) ?_)))))
        · rw [zn_s (by omega), eh]
        · rw [zm_cl (by omega)]
          refine br_c (fun z => nm_r (nI_1 i) (go 0 st (Or.inl rfl) ⟨fun q => absurd q (by decide), fun q => ?_⟩ hst')) (fun z => nm_r (nI_1 i) (go al st ha ?_ hst'))
          · have := q (D i) (by omega)
            rw [hd] at this
            exact absurd z this
          · rw [ha1]
            refine ⟨fun q k hk' => ?_, fun q k hk' => q k (by omega)⟩
            rcases Nat.lt_or_ge k (D i) with w | w
            · exact q k w
            · rw [show k = D i from by omega, hd]; exact z
      · -- a number or a variable
        have eqv := zW_eq (ar := ar) (c := c) (n := N i) (by omega) (zH_zo hH (N i) (by omega))
        have fin : ∀ z, z = zW op ar lf rt c (N i) → wY_run_9 post (nI t) k al (nI (i + 1)) (nI (H i + 1)) b_allowed b_codes b_args b_tried (upd st (H i) z) := fun z ez => by
          have := go al (upd st (H i) z) ha (by rw [h4]; exact ha1) (fun j hj => by
            by_cases e : j = H i
            · subst e; rw [pk_us, h5, ez]
            · rw [pk_un e, h6 j (by omega)]; exact hst j (by omega))
          rw [h3] at this
          exact this
        refine zy_t0 h0 (br_f (by decide) (br_f (fun z => ?_) (br_f (fun z => ?_) ?_)))
        · have : o = 11 := (nI_eq (b := 11) (by omega) (by omega)).mp z
          omega
        · have : o = 12 := (nI_eq (b := 12) (by omega) (by omega)).mp z
          omega
        · rcases h0 with e | e
          · refine br_t (by rw [e]; rfl) (And.intro hin (zy_186 (by omega) (fin _ ?_)))
            rw [ci, eqv, zv_0 (by rw [h7, e]; rfl), h8]
          · refine br_f (by rw [e]; decide) (And.intro hin (And.intro (pk_andIn _ 2 (by decide) (by decide)) (zy_186 (by omega) (fin _ ?_))))
            rw [ci, eqv, zv_1 (by rw [h7, e]; rfl), h8]
            obtain ⟨v, hv, ev⟩ := zm_mask3 (b_args i)
            rw [ev, nI_clamp (by omega)]
            exact hc v hv
      · -- not
        have hs1 := b3 (H i - 1) (by omega)
        have hv := hst (H i - 1) (by omega)
        have eqv := zW_eq (ar := ar) (c := c) (n := N i) (by omega) (zH_zo hH (N i) (by omega))
        rw [zv_11 (by rw [h7, h0]; rfl) h10 (by omega), ← hv] at eqv
        have fin : ∀ z, z = zW op ar lf rt c (N i) → wY_run_9 post (nI t) k al (nI (i + 1)) (nI (H i)) b_allowed b_codes b_args b_tried (upd st (H i - 1) z) := fun z ez => by
          have := go al (upd st (H i - 1) z) ha (by rw [h4]; exact ha1) (fun j hj => by
            by_cases e : j = H i - 1
            · subst e; rw [pk_us, h5, ez]
            · rw [pk_un e, h6 j (by omega)]; exact hst j (by omega))
          rw [h3] at this
          exact this
        have iH : vp_in (nI (H i) - 1) 48 := by rw [zn_s (by omega)]; exact vp_in_nI (by omega) (by decide)
        have cH : (nI (H i) - 1).toNatClampNeg = H i - 1 := by rw [zn_s (by omega), zm_cl (by omega)]
        refine zy_t1 (Or.inl h0) (br_f (by decide) (br_t (by rw [h0]; rfl) (And.intro iH ?_)))
        rw [cH]
        refine br_c (fun z => And.intro iH (nm_e (nm_r (nI_1 i) (fin 1 ?_)))) (fun z => And.intro iH (nm_e (nm_r (nI_1 i) (fin 0 ?_))))
        · rw [eqv, if_pos z]
        · rw [eqv, if_neg z]
      · -- two of the stack
        have hs1 := b3 (H i - 1) (by omega)
        have hs2 := b3 (H i - 2) (by omega)
        have hv1 := hst (H i - 1) (by omega)
        have hv2 := hst (H i - 2) (by omega)
        have eqv := zW_eq (ar := ar) (c := c) (n := N i) (by omega) (zH_zo hH (N i) (by omega))
        have o0 : ¬ nI o = 0 := nI_ne0 (by omega) (by omega)
        have o1 : ¬ nI o = 1 := fun e => by
          have : o = 1 := (nI_eq (b := 1) (by omega) (by omega)).mp e
          omega
        rw [zv_b h7 o0 o1 h9 h10 (by omega) (by omega), ← hv1, ← hv2] at eqv
        have fin : ∀ z, z = zW op ar lf rt c (N i) → wY_run_9 post (nI t) k al (nI (i + 1)) (nI (H i - 1)) b_allowed b_codes b_args b_tried (upd st (H i - 2) z) := fun z ez => by
          have := go al (upd st (H i - 2) z) ha (by rw [h4]; exact ha1) (fun j hj => by
            by_cases e : j = H i - 2
            · subst e; rw [pk_us, h5, ez]
            · rw [pk_un e, h6 j (by omega)]; exact hst j (by omega))
          rw [show H (i + 1) = H i - 1 from by omega] at this
          exact this
        have iH : vp_in (nI (H i - 1) - 1) 48 := by rw [zn_s (by omega)]; exact vp_in_nI (by omega) (by decide)
        have cH : (nI (H i - 1) - 1).toNatClampNeg = H i - 2 := by
          rw [zn_s (by omega), zm_cl (by omega)]
          omega
        refine zy_t2 h0 h0' (br_t rfl (nm_r (zn_s (by omega)) (And.intro iH (And.intro (vp_in_nI (by omega) (by decide)) (zy_work (zy_bin h0 h0') (And.intro iH (nm_r (e' := upd st (H i - 2) (zW op ar lf rt c (N i))) ?_ (nm_r (nI_1 i) (fin _ rfl)))))))))
        rw [cH, zm_cl (by omega), eqv]
theorem zy_run {post : Int32 → SY → Prop} {c : Nat → Int32} (ht : t ≤ 48) (hH : zH t N H D S op ar lf rt stk dmd b_codes b_args) (hc : ∀ v, v < 4 → b_tried v = c v) (h : ∀ (al : Int32) (st : Nat → Int32), (al = 0 ∨ al = 1) → (al = 1 ↔ ∀ k, k < D t → ¬ zW op ar lf rt c (dmd k).toNatClampNeg = 0) → (∀ j, j < H t → st j = zW op ar lf rt c (S t j)) → post al (nI t, nI (H t), b_allowed, b_codes, b_args, b_tried, st)) : wpY_run post (nI t, g_depth, b_allowed, b_codes, b_args, b_tried, b_stack) := by
  have := zy_run9 ht hH hc h (t + 1) 0 1 b_stack (by omega) (by omega) (Or.inr rfl) ⟨fun _ k hk => by have := hH.2.2.1; omega, fun _ => rfl⟩ (fun j hj => by have := hH.2.1; omega)
  rw [hH.2.1] at this
  exact Exists.intro (t + 1) this
end
end
section
/-! the reference's loops over all assignments -/
section
variable {g_depth : Int32} {b_allowed b_codes b_args b_tried b_stack : Nat → Int32}
variable {t : Nat} {N H D : Nat → Nat} {S : Nat → Nat → Nat} {op ar lf rt stk dmd : Nat → Int32} {sb : Nat → Bool}
theorem zl_lay {post : SY → Prop} {f : Int32} {n : Nat} (hn : n < 625) (h : ∀ tr : Nat → Int32, (∀ v, v < 4 → tr v = nI (zd n v)) → post (f, g_depth, b_allowed, b_codes, b_args, tr, b_stack)) : wpY_lay post (f, g_depth, b_allowed, b_codes, b_args, b_tried, b_stack) (nI n) := by
  have d125 : nI n / 125 = nI (n / 125) := pk_div (d := 125) (by omega) (by omega) (by omega)
  have d25 : nI n / 25 = nI (n / 25) := pk_div (d := 25) (by omega) (by omega) (by omega)
  have d5 : nI n / 5 = nI (n / 5) := pk_div (d := 5) (by omega) (by omega) (by omega)
  have r25 : nI n / 25 - nI n / 25 / 5 * 5 = nI (n / 25 % 5) := by
    rw [d25]; exact pk_rem (d := 5) (by omega) (by omega) (by omega)
  have r5 : nI n / 5 - nI n / 5 / 5 * 5 = nI (n / 5 % 5) := by
    rw [d5]; exact pk_rem (d := 5) (by omega) (by omega) (by omega)
  have r1 : nI n - nI n / 5 * 5 = nI (n % 5) := pk_rem (d := 5) (by omega) (by omega) (by omega)
  refine And.intro (by decide) (nm_r (e' := upd b_tried 0 (nI (n / 125))) (by rw [d125]) (And.intro (by decide) (And.intro (by decide) (nm_r (e' := upd (upd b_tried 0 (nI (n / 125))) 1 (nI (n / 25 % 5))) (by rw [r25]) (And.intro (by decide) (And.intro (by decide) (nm_r (e' := upd (upd (upd b_tried 0 (nI (n / 125))) 1 (nI (n / 25 % 5))) 2 (nI (n / 5 % 5))) (by rw [r5]) (And.intro (by decide) (nm_r (e' := upd (upd (upd (upd b_tried 0 (nI (n / 125))) 1 (nI (n / 25 % 5))) 2 (nI (n / 5 % 5))) 3 (nI (n % 5))) (by rw [r1]) (h _ (fun v hv => ?_)))))))))))
  rcases z4 hv with e | e | e | e <;> subst e
  · rw [pk_un (by omega), pk_un (by omega), pk_un (by omega), pk_us, zd_0]
  · rw [pk_un (by omega), pk_un (by omega), pk_us, zd_1]
  · rw [pk_un (by omega), pk_us, zd_2]
  · rw [pk_us, zd_3]
theorem zl_s7 {post : Int32 → SY → Prop} {n : Nat} (hn : n < 625) (ht : t ≤ 48) (hH : zH t N H D S op ar lf rt stk dmd b_codes b_args) (hal : ∀ v, v < 4 → ∃ m, m < 32 ∧ b_allowed v = nI m) (hsb : ∀ a, sb a = true ↔ (∀ v, v < 4 → (b_allowed v).toNatClampNeg.testBit (zd a v) = true) ∧ ∀ i, i < D t → ¬ zW op ar lf rt (zcd a) (dmd i).toNatClampNeg = 0) (htr : ∀ v, v < 4 → b_tried v = nI (zd n v)) (h : (∀ (r dp : Int32) (tr st : Nat → Int32), (∀ v, v < 4 → tr v = nI (zd n v)) → (r = 0 ∧ sb n = false ∨ r = 1 ∧ sb n = true ∧ dp = nI (H t) ∧ ∀ j, j < H t → st j = zW op ar lf rt (zcd n) (S t j)) → post r (nI t, dp, b_allowed, b_codes, b_args, tr, st))) : ∀ k v, v ≤ 4 → 4 - v < k → (∀ u, u < v → (b_allowed u).toNatClampNeg.testBit (zd n u) = true) → wY_solves_7 post (nI t) g_depth b_allowed b_codes b_args b_tried b_stack k (nI v) := by
  intro k
  induction k with
  | zero => intro v _ hk; omega
  | succ k ih =>
    intro v hv hk hu
    refine pk_le 4 v (fun g => ?_) (fun g => ?_)
    · refine zy_run (c := zcd n) ht hH htr (fun al st ha ha1 hst => And.intro ?_ (h al _ _ st htr ?_))
      · rcases ha with e | e <;> subst e
        · exact zy_n0
        · exact zy_n1
      · rcases ha with e | e
        · refine Or.inl ⟨e, ?_⟩
          cases es : sb n
          · rfl
          · have := ha1.mpr ((hsb n).mp es).2
            rw [e] at this
            exact absurd this (by decide)
        · exact Or.inr ⟨e, (hsb n).mpr ⟨fun u hu' => hu u (by omega), ha1.mp e⟩, rfl, hst⟩
    · have hi : vp_in (nI v) 4 := vp_in_nI g (by decide)
      obtain ⟨m, hm, em⟩ := hal v g
      have z5 := zd_lt hn v
      refine And.intro hi (And.intro hi ?_)
      rw [nI_clamp (by omega), em, htr v g]
      refine br_c (fun b => h 0 _ _ _ htr (Or.inl ⟨rfl, ?_⟩)) (fun b => nm_r (nI_1 v) (ih (v + 1) (by omega) (by omega) (fun u hu' => ?_)))
      · have b' := (zm_sar m hm _ z5).mp b
        cases es : sb n
        · rfl
        · have := ((hsb n).mp es).1 v g
          rw [em, nI_clamp (by omega), b'] at this
          exact absurd this (by decide)
      · rcases Nat.lt_or_ge u v with q | q
        · exact hu u q
        · rw [show u = v from by omega, em, nI_clamp (by omega)]
          cases e : m.testBit (zd n v)
          · exact absurd ((zm_sar m hm _ z5).mpr e) b
          · rfl
theorem zl_solves {post : Int32 → SY → Prop} {n : Nat} (hn : n < 625) (ht : t ≤ 48) (hH : zH t N H D S op ar lf rt stk dmd b_codes b_args) (hal : ∀ v, v < 4 → ∃ m, m < 32 ∧ b_allowed v = nI m) (hsb : ∀ a, sb a = true ↔ (∀ v, v < 4 → (b_allowed v).toNatClampNeg.testBit (zd a v) = true) ∧ ∀ i, i < D t → ¬ zW op ar lf rt (zcd a) (dmd i).toNatClampNeg = 0) (h : (∀ (r dp : Int32) (tr st : Nat → Int32), (∀ v, v < 4 → tr v = nI (zd n v)) → (r = 0 ∧ sb n = false ∨ r = 1 ∧ sb n = true ∧ dp = nI (H t) ∧ ∀ j, j < H t → st j = zW op ar lf rt (zcd n) (S t j)) → post r (nI t, dp, b_allowed, b_codes, b_args, tr, st))) : wpY_solves post (nI t, g_depth, b_allowed, b_codes, b_args, b_tried, b_stack) (nI n) := by
  unfold wpY_solves
  exact zl_lay hn (fun tr htr => Exists.intro 5 (zl_s7 hn ht hH hal hsb htr h 5 0 (by omega) (by omega) (fun u hu => absurd hu (by omega))))
theorem zl_n1 : ¬ (1 : Int32) = 0 := by decide
theorem zl_solutions {post : Int32 → SY → Prop} (ht : t ≤ 48) (hH : zH t N H D S op ar lf rt stk dmd b_codes b_args) (hal : ∀ v, v < 4 → ∃ m, m < 32 ∧ b_allowed v = nI m) (hsb : ∀ a, sb a = true ↔ (∀ v, v < 4 → (b_allowed v).toNatClampNeg.testBit (zd a v) = true) ∧ ∀ i, i < D t → ¬ zW op ar lf rt (zcd a) (dmd i).toNatClampNeg = 0) (h : ∀ (dp : Int32) (tr st : Nat → Int32), post (nI (zf_c sb 625)) (nI t, dp, b_allowed, b_codes, b_args, tr, st)) : wpY_solutions post (nI t, g_depth, b_allowed, b_codes, b_args, b_tried, b_stack) := by
  have L : ∀ k n (dp : Int32) (tr st : Nat → Int32), n ≤ 625 → 625 - n < k → wY_solutions_4 post k (nI (zf_c sb n)) (nI n) (nI t) dp b_allowed b_codes b_args tr st := by
    intro k
    induction k with
    | zero => intro n dp tr st _ hk; omega
    | succ k ih =>
      intro n dp tr st hn hk
      refine pk_le 625 n (fun g => ?_) (fun g => zl_solves g ht hH hal hsb (fun r dp' tr' st' _ hr => ?_))
      · rw [show n = 625 from by omega]; exact h dp tr st
      · have go := ih (n + 1) dp' tr' st' (by omega) (by omega)
        rcases hr with ⟨e, es⟩ | ⟨e, es, _⟩ <;> subst e
        · rw [zf_c0 es] at go
          exact br_t rfl (nm_r (nI_1 n) go)
        · rw [zf_c1 es] at go
          exact br_f zl_n1 (nm_r (nI_1 _) (nm_r (nI_1 n) go))
  exact Exists.intro 626 (L 626 0 g_depth b_tried b_stack (by omega) (by omega))
theorem zl_with {post : Int32 → SY → Prop} {x1 x2 : Int32} {u : Nat} (hu : u < 4) (eu : x1 &&& 3 = nI u) (ht : t ≤ 48) (hH : zH t N H D S op ar lf rt stk dmd b_codes b_args) (hal : ∀ v, v < 4 → ∃ m, m < 32 ∧ b_allowed v = nI m) (hsb : ∀ a, sb a = true ↔ (∀ v, v < 4 → (b_allowed v).toNatClampNeg.testBit (zd a v) = true) ∧ ∀ i, i < D t → ¬ zW op ar lf rt (zcd a) (dmd i).toNatClampNeg = 0) (h : ∀ (dp : Int32) (tr st : Nat → Int32), post (nI (zf_c (fun a => sb a && decide (nI (zd a u) = x2)) 625)) (nI t, dp, b_allowed, b_codes, b_args, tr, st)) : wpY_with post (nI t, g_depth, b_allowed, b_codes, b_args, b_tried, b_stack) x1 x2 := by
  have L : ∀ k n (dp : Int32) (tr st : Nat → Int32), n ≤ 625 → 625 - n < k → wY_with_5 post x1 x2 k (nI (zf_c (fun a => sb a && decide (nI (zd a u) = x2)) n)) (nI n) (nI t) dp b_allowed b_codes b_args tr st := by
    intro k
    induction k with
    | zero => intro n dp tr st _ hk; omega
    | succ k ih =>
      intro n dp tr st hn hk
      refine pk_le 625 n (fun g => ?_) (fun g => zl_solves g ht hH hal hsb (fun r dp' tr' st' htr hr => ?_))
      · rw [show n = 625 from by omega]; exact h dp tr st
      · have go := ih (n + 1) dp' tr' st' (by omega) (by omega)
        rcases hr with ⟨e, es⟩ | ⟨e, es, _⟩ <;> subst e
        · rw [zf_c0 (by rw [es]; rfl)] at go
          exact br_t rfl (nm_r (nI_1 n) go)
        · refine br_f zl_n1 ?_
          rw [eu]
          refine And.intro (vp_in_nI hu (by decide)) ?_
          rw [nI_clamp (by omega), htr u hu]
          refine br_c (fun q => nm_r (nI_1 _) (nm_r (nI_1 n) ?_)) (fun q => nm_r (nI_1 n) ?_)
          · rw [zf_c1 (by rw [es, decide_eq_true q]; rfl)] at go
            exact go
          · rw [zf_c0 (by rw [decide_eq_false q, Bool.and_false])] at go
            exact go
  exact Exists.intro 626 (L 626 0 g_depth b_tried b_stack (by omega) (by omega))
theorem zl_greatest {post : Int32 → SY → Prop} {tp : Nat → Int32} (htp : 0 < H t → ∀ a, tp a = zW op ar lf rt (zcd a) (S t (H t - 1))) (ht : t ≤ 48) (hH : zH t N H D S op ar lf rt stk dmd b_codes b_args) (hal : ∀ v, v < 4 → ∃ m, m < 32 ∧ b_allowed v = nI m) (hsb : ∀ a, sb a = true ↔ (∀ v, v < 4 → (b_allowed v).toNatClampNeg.testBit (zd a v) = true) ∧ ∀ i, i < D t → ¬ zW op ar lf rt (zcd a) (dmd i).toNatClampNeg = 0) (h : ∀ (dp : Int32) (tr st : Nat → Int32), post (zf_m (fun a => sb a && decide (0 < H t)) tp 625) (nI t, dp, b_allowed, b_codes, b_args, tr, st)) : wpY_greatest post (nI t, g_depth, b_allowed, b_codes, b_args, b_tried, b_stack) := by
  have bt := zH_b hH t (Nat.le_refl _)
  have L : ∀ k n (dp : Int32) (tr st : Nat → Int32), n ≤ 625 → 625 - n < k → wY_greatest_5 post k (zf_m (fun a => sb a && decide (0 < H t)) tp n) (nI n) (nI t) dp b_allowed b_codes b_args tr st := by
    intro k
    induction k with
    | zero => intro n dp tr st _ hk; omega
    | succ k ih =>
      intro n dp tr st hn hk
      refine pk_le 625 n (fun g => ?_) (fun g => zl_solves g ht hH hal hsb (fun r dp' tr' st' _ hr => ?_))
      · rw [show n = 625 from by omega]; exact h dp tr st
      · have go := ih (n + 1) dp' tr' st' (by omega) (by omega)
        rcases hr with ⟨e, es⟩ | ⟨e, es, ed, hst⟩ <;> subst e
        · rw [zf_m0 (by rw [es]; rfl)] at go
          exact br_t rfl (nm_r (nI_1 n) go)
        · subst ed
          refine br_f zl_n1 (pk_le (H t) 0 (fun q => nm_r (nI_1 n) ?_) (fun q => ?_))
          · rw [zf_m0 (by rw [decide_eq_false (by omega), Bool.and_false])] at go
            exact go
          · have iH : vp_in (nI (H t) - 1) 48 := by rw [zn_s q]; exact vp_in_nI (by omega) (by decide)
            have cH : (nI (H t) - 1).toNatClampNeg = H t - 1 := by rw [zn_s q, zm_cl (by omega)]
            have ev : st' (H t - 1) = tp n := by rw [hst _ (by omega), htp q n]
            refine And.intro iH ?_
            rw [cH, ev]
            refine br_c (fun z => nm_r (nI_1 n) ?_) (fun z => And.intro iH (nm_e (nm_r (nI_1 n) ?_)))
            · rw [zf_m2 z] at go
              exact go
            · rw [zf_m1 (by rw [es, decide_eq_true q]; rfl) z] at go
              exact go
  exact Exists.intro 626 (L 626 0 g_depth b_tried b_stack (by omega) (by omega))
/-- the solution with the number q is the assignment A -/
theorem zl_sol1 {post : Int32 → SY → Prop} {x2 : Int32} {u q A : Nat} (hu : u < 4) (eu : x2 &&& 3 = nI u) (hA : A < 625) (sA : sb A = true) (cA : zf_c sb A = q) (ht : t ≤ 48) (hH : zH t N H D S op ar lf rt stk dmd b_codes b_args) (hal : ∀ v, v < 4 → ∃ m, m < 32 ∧ b_allowed v = nI m) (hsb : ∀ a, sb a = true ↔ (∀ v, v < 4 → (b_allowed v).toNatClampNeg.testBit (zd a v) = true) ∧ ∀ i, i < D t → ¬ zW op ar lf rt (zcd a) (dmd i).toNatClampNeg = 0) (h : ∀ (dp : Int32) (tr st : Nat → Int32), post (nI (zd A u)) (nI t, dp, b_allowed, b_codes, b_args, tr, st)) : wpY_solution post (nI t, g_depth, b_allowed, b_codes, b_args, b_tried, b_stack) (nI q) x2 := by
  have cle := zf_cle (s := sb) A
  have L : ∀ k n (dp : Int32) (tr st : Nat → Int32), n ≤ A → A - n < k → wY_solution_5 post (nI q) x2 k (nI (zf_c sb n)) (nI n) (nI t) dp b_allowed b_codes b_args tr st := by
    intro k
    induction k with
    | zero => intro n dp tr st _ hk; omega
    | succ k ih =>
      intro n dp tr st hn hk
      have cn := zf_cle (s := sb) n
      refine pk_le 625 n (fun g => absurd g (by omega)) (fun g => zl_solves g ht hH hal hsb (fun r dp' tr' st' htr hr => ?_))
      rcases hr with ⟨e, es⟩ | ⟨e, es, _⟩ <;> subst e
      · have ne : n ≠ A := fun z => by rw [z, sA] at es; exact absurd es (by decide)
        have go := ih (n + 1) dp' tr' st' (by omega) (by omega)
        rw [zf_c0 es] at go
        exact br_t rfl (nm_r (nI_1 n) go)
      · refine br_f zl_n1 (pk_eq (zf_c sb n) q (fun z => ?_) (fun z => ?_))
        · have en : n = A := by
            rcases Nat.lt_or_ge n A with w | w
            · have := zf_cm (s := sb) (a := n + 1) A (by omega)
              rw [zf_c1 es] at this
              omega
            · omega
          rw [eu]
          refine And.intro (vp_in_nI hu (by decide)) ?_
          rw [nI_clamp (by omega), htr u hu, en]
          exact h dp' tr' st'
        · have ne : n ≠ A := fun w => z (by rw [w]; exact cA)
          have go := ih (n + 1) dp' tr' st' (by omega) (by omega)
          rw [zf_c1 es] at go
          exact nm_r (nI_1 _) (nm_r (nI_1 n) go)
  exact Exists.intro 626 (L 626 0 g_depth b_tried b_stack (by omega) (by omega))
/-- there is no solution with that number -/
theorem zl_sol0 {post : Int32 → SY → Prop} {x1 x2 : Int32} (hq : x1 < 0 ∨ ∃ q, q < 2 ^ 31 ∧ x1 = nI q ∧ zf_c sb 625 ≤ q) (ht : t ≤ 48) (hH : zH t N H D S op ar lf rt stk dmd b_codes b_args) (hal : ∀ v, v < 4 → ∃ m, m < 32 ∧ b_allowed v = nI m) (hsb : ∀ a, sb a = true ↔ (∀ v, v < 4 → (b_allowed v).toNatClampNeg.testBit (zd a v) = true) ∧ ∀ i, i < D t → ¬ zW op ar lf rt (zcd a) (dmd i).toNatClampNeg = 0) (h : ∀ (dp : Int32) (tr st : Nat → Int32), post (-1) (nI t, dp, b_allowed, b_codes, b_args, tr, st)) : wpY_solution post (nI t, g_depth, b_allowed, b_codes, b_args, b_tried, b_stack) x1 x2 := by
  have L : ∀ k n (dp : Int32) (tr st : Nat → Int32), n ≤ 625 → 625 - n < k → wY_solution_5 post x1 x2 k (nI (zf_c sb n)) (nI n) (nI t) dp b_allowed b_codes b_args tr st := by
    intro k
    induction k with
    | zero => intro n dp tr st _ hk; omega
    | succ k ih =>
      intro n dp tr st hn hk
      have cn := zf_cle (s := sb) n
      refine pk_le 625 n (fun g => h dp tr st) (fun g => zl_solves g ht hH hal hsb (fun r dp' tr' st' htr hr => ?_))
      have go := ih (n + 1) dp' tr' st' (by omega) (by omega)
      rcases hr with ⟨e, es⟩ | ⟨e, es, _⟩ <;> subst e
      · rw [zf_c0 es] at go
        exact br_t rfl (nm_r (nI_1 n) go)
      · refine br_f zl_n1 (br_f (fun z => ?_) ?_)
        · rcases hq with w | ⟨q, hq2, eq, w⟩
          · rw [← z] at w
            exact nI_pos (by omega) w
          · rw [eq] at z
            have z' := (nI_eq (by omega) hq2).mp z
            have := zf_cm (s := sb) (a := n + 1) 625 (by omega)
            rw [zf_c1 es] at this
            omega
        · rw [zf_c1 es] at go
          exact nm_r (nI_1 _) (nm_r (nI_1 n) go)
  exact Exists.intro 626 (L 626 0 g_depth b_tried b_stack (by omega) (by omega))
end
end
section
/-! token and evaluate, each side -/
section
variable {f_tokens : Int32} {f_nodes : Int32} {f_stackSize : Int32} {f_demands : Int32} {f_failed : Int32} {f_narrowed : Int32} {f_found : Int32} {f_bestTop : Int32} {a_allowed : Nat → Int32} {a_op : Nat → Int32} {a_argument : Nat → Int32} {a_left : Nat → Int32} {a_right : Nat → Int32} {a_stack : Nat → Int32} {a_demanded : Nat → Int32} {a_low : Nat → Int64} {a_high : Nat → Int64} {a_value : Nat → Int32} {a_domain : Nat → Int32} {a_divided : Nat → Int32} {a_nextValue : Nat → Int32} {a_chosen : Nat → Int32} {a_counts : Nat → Int32}
theorem zk_20 {post : Int32 → SX → Prop} {t nd ss dm c tk : Nat} {x2 : Int32} (hc : c ≤ 12) (htk : tk ≤ 2) (h1 : c = 12 → tk = 1) (ht : t ≤ 48) (hn : nd ≤ t) (hs : ss ≤ nd) (hd : dm ≤ t) (hno : (ss < tk ∨ t = 48) → post (-1) (nI t, nI nd, nI ss, nI dm, f_failed, f_narrowed, f_found, f_bestTop, a_allowed, a_op, a_argument, a_left, a_right, a_stack, a_demanded, a_low, a_high, a_value, a_domain, a_divided, a_nextValue, a_chosen, a_counts)) (h12 : c = 12 → 1 ≤ ss → t < 48 → post (nI (ss - 1)) (nI (t + 1), nI nd, nI (ss - 1), nI (dm + 1), f_failed, f_narrowed, f_found, f_bestTop, a_allowed, a_op, a_argument, a_left, a_right, a_stack, upd a_demanded dm (a_stack (ss - 1)), a_low, a_high, a_value, a_domain, a_divided, a_nextValue, a_chosen, a_counts)) (hnode : ¬ c = 12 → tk ≤ ss → t < 48 → ∀ lv rv : Int32, (tk = 2 → lv = a_stack (ss - 2)) → (¬ tk = 2 → lv = -1) → (0 < tk → rv = a_stack (ss - 1)) → (tk = 0 → rv = -1) → post (nI (ss - tk + 1)) (nI (t + 1), nI (nd + 1), nI (ss - tk + 1), nI dm, f_failed, f_narrowed, f_found, f_bestTop, a_allowed, upd a_op nd (nI c), upd a_argument nd x2, upd a_left nd lv, upd a_right nd rv, upd a_stack (ss - tk) (nI nd), a_demanded, a_low, a_high, a_value, a_domain, a_divided, a_nextValue, a_chosen, a_counts)) : wX_token_20 post (nI c) x2 (nI tk) (nI t) (nI nd) (nI ss) (nI dm) f_failed f_narrowed f_found f_bestTop a_allowed a_op a_argument a_left a_right a_stack a_demanded a_low a_high a_value a_domain a_divided a_nextValue a_chosen a_counts := by
  refine br_f (nI_pos (by omega)) (pk_lt 12 c (fun z => absurd z (by omega)) (fun _ => pk_lt ss tk (fun q => hno (Or.inl q)) (fun q => pk_lt t 48 (fun q2 => nm_r (nI_1 t) (pk_eq c 12 (fun e => ?_) (fun e => ?_))) (fun q2 => hno (Or.inr (by omega))))))
  · have s1 : 1 ≤ ss := by
      have := h1 e
      omega
    exact nm_r (zn_s s1) (And.intro (vp_in_nI (by omega) (by decide)) (And.intro (vp_in_nI (by omega) (by decide)) (nm_r (e' := upd a_demanded dm (a_stack (ss - 1))) (by rw [zm_cl (by omega), zm_cl (by omega)]) (nm_r (nI_1 dm) (h12 e s1 q2)))))
  · have hin : vp_in (nI nd) 48 := vp_in_nI (by omega) (by decide)
    have cn := zm_cl (m := nd) (by omega)
    have K2 : ∀ lv rv : Int32, (tk = 2 → lv = a_stack (ss - 2)) → (¬ tk = 2 → lv = -1) → (0 < tk → rv = a_stack (ss - 1)) → (tk = 0 → rv = -1) → wX_token_185 post (nI tk) rv (nI nd) (nI (t + 1)) (nI nd) (nI ss) (nI dm) f_failed f_narrowed f_found f_bestTop a_allowed (upd a_op nd (nI c)) (upd a_argument nd x2) (upd a_left nd lv) a_right a_stack a_demanded a_low a_high a_value a_domain a_divided a_nextValue a_chosen a_counts := fun lv rv l1 l2 r1 r2 =>
      And.intro hin (nm_r (e' := upd a_right nd rv) (by rw [cn]) (nm_r (pk_sub q) (And.intro (vp_in_nI (by omega) (by decide)) (nm_r (e' := upd a_stack (ss - tk) (nI nd)) (by rw [zm_cl (by omega)]) (nm_r (nI_1 _) (nm_r (nI_1 nd) (hnode e q q2 lv rv l1 l2 r1 r2)))))))
    have K : ∀ lv : Int32, (tk = 2 → lv = a_stack (ss - 2)) → (¬ tk = 2 → lv = -1) → wX_token_157 post (nI tk) lv (nI nd) (nI (t + 1)) (nI nd) (nI ss) (nI dm) f_failed f_narrowed f_found f_bestTop a_allowed (upd a_op nd (nI c)) (upd a_argument nd x2) a_left a_right a_stack a_demanded a_low a_high a_value a_domain a_divided a_nextValue a_chosen a_counts := fun lv l1 l2 =>
      And.intro hin (nm_r (e' := upd a_left nd lv) (by rw [cn]) (pk_le tk 0 (fun z => K2 lv (-1) l1 l2 (fun z' => absurd z' (by omega)) (fun _ => rfl)) (fun z => And.intro (by rw [zn_s (by omega)]; exact vp_in_nI (by omega) (by decide)) (K2 lv _ l1 l2 (fun _ => by rw [zn_s (by omega), zm_cl (by omega)]) (fun z' => absurd z' (by omega))))))
    have e2 : 2 ≤ ss → nI ss - 2 = nI (ss - 2) := fun z => pk_sub (b := 2) z
    exact And.intro hin (nm_r (e' := upd a_op nd (nI c)) (by rw [cn]) (And.intro hin (nm_r (e' := upd a_argument nd x2) (by rw [cn]) (pk_eq tk 2 (fun z => And.intro (by rw [e2 (by omega)]; exact vp_in_nI (by omega) (by decide)) (K _ (fun _ => by rw [e2 (by omega), zm_cl (by omega)]) (fun z' => absurd z z'))) (fun z => K (-1) (fun z' => absurd z' z) (fun _ => rfl))))))
def ztk (c : Nat) : Nat := if c ≤ 1 then 0 else if c ≤ 10 then 2 else 1
theorem ztk_0 {c : Nat} (h : c ≤ 1) : ztk c = 0 := if_pos h
theorem ztk_2 {c : Nat} (h : 2 ≤ c) (h' : c ≤ 10) : ztk c = 2 := by
  unfold ztk
  rw [if_neg (by omega), if_pos h']
theorem ztk_1 {c : Nat} (h : 11 ≤ c) : ztk c = 1 := by
  unfold ztk
  rw [if_neg (by omega), if_neg (by omega)]
theorem zk_bad {post : Int32 → SX → Prop} {x1 x2 z : Int32} (hb : x1 < 0 ∨ ¬ x1 < 0 ∧ 12 < x1) (h : post (-1) (f_tokens, f_nodes, f_stackSize, f_demands, f_failed, f_narrowed, f_found, f_bestTop, a_allowed, a_op, a_argument, a_left, a_right, a_stack, a_demanded, a_low, a_high, a_value, a_domain, a_divided, a_nextValue, a_chosen, a_counts)) : wX_token_20 post x1 x2 z f_tokens f_nodes f_stackSize f_demands f_failed f_narrowed f_found f_bestTop a_allowed a_op a_argument a_left a_right a_stack a_demanded a_low a_high a_value a_domain a_divided a_nextValue a_chosen a_counts := by
  rcases hb with b | ⟨b, b'⟩
  · exact br_t b h
  · exact br_f b (br_t b' h)
theorem zk_badX {post : Int32 → SX → Prop} {x1 x2 : Int32} (hb : x1 < 0 ∨ ¬ x1 < 0 ∧ 12 < x1) (h : post (-1) (f_tokens, f_nodes, f_stackSize, f_demands, f_failed, f_narrowed, f_found, f_bestTop, a_allowed, a_op, a_argument, a_left, a_right, a_stack, a_demanded, a_low, a_high, a_value, a_domain, a_divided, a_nextValue, a_chosen, a_counts)) : wpX_token post (f_tokens, f_nodes, f_stackSize, f_demands, f_failed, f_narrowed, f_found, f_bestTop, a_allowed, a_op, a_argument, a_left, a_right, a_stack, a_demanded, a_low, a_high, a_value, a_domain, a_divided, a_nextValue, a_chosen, a_counts) x1 x2 :=
  br_c (fun _ => br_c (fun _ => zk_bad hb h) (fun _ => zk_bad hb h)) (fun _ => zk_bad hb h)
theorem zk_X {post : Int32 → SX → Prop} {c : Nat} {x2 : Int32} (hc : c ≤ 12) (h : wX_token_20 post (nI c) x2 (nI (ztk c)) f_tokens f_nodes f_stackSize f_demands f_failed f_narrowed f_found f_bestTop a_allowed a_op a_argument a_left a_right a_stack a_demanded a_low a_high a_value a_domain a_divided a_nextValue a_chosen a_counts) : wpX_token post (f_tokens, f_nodes, f_stackSize, f_demands, f_failed, f_narrowed, f_found, f_bestTop, a_allowed, a_op, a_argument, a_left, a_right, a_stack, a_demanded, a_low, a_high, a_value, a_domain, a_divided, a_nextValue, a_chosen, a_counts) (nI c) x2 := by
  refine pk_lt 1 c (fun a => pk_lt c 11 (fun b => ?_) (fun b => ?_)) (fun a => ?_)
  · rw [ztk_2 (by omega) (by omega)] at h; exact h
  · rw [ztk_1 (by omega)] at h; exact h
  · rw [ztk_0 (by omega)] at h; exact h
/-! the reference's -/
variable {g_depth : Int32} {b_allowed b_codes b_args b_tried b_stack : Nat → Int32}
theorem zk_tk {post : Int32 → Prop} {c : Nat} (hc : c ≤ 12) (h : post (nI (ztk c))) : wpY_takes post (nI c) := by
  have : (c = 0 ∨ c = 1) ∨ (2 ≤ c ∧ c ≤ 10) ∨ (c = 11 ∨ c = 12) := by omega
  rcases this with q | ⟨q, q'⟩ | q
  · rw [ztk_0 (by omega)] at h; exact zy_t0 q h
  · rw [ztk_2 q q'] at h; exact zy_t2 q q' h
  · rw [ztk_1 (by omega)] at h; exact zy_t1 q h
theorem zk_badY {post : Int32 → SY → Prop} {x1 x2 f : Int32} (hb : x1 < 0 ∨ ¬ x1 < 0 ∧ 12 < x1) (h : post (-1) (f, g_depth, b_allowed, b_codes, b_args, b_tried, b_stack)) : wpY_token post (f, g_depth, b_allowed, b_codes, b_args, b_tried, b_stack) x1 x2 := by
  rcases hb with b | ⟨b, b'⟩
  · exact br_t b h
  · exact br_f b (br_t b' h)
theorem zk_noY {post : Int32 → SY → Prop} {c t : Nat} {x2 : Int32} {N H D : Nat → Nat} {S : Nat → Nat → Nat} {op ar lf rt stk dmd : Nat → Int32} (hc : c ≤ 12) (ht : t ≤ 48) (hH : zH t N H D S op ar lf rt stk dmd b_codes b_args) (hno : H t < ztk c ∨ t = 48) (h : post (-1) (nI t, g_depth, b_allowed, b_codes, b_args, b_tried, b_stack)) : wpY_token post (nI t, g_depth, b_allowed, b_codes, b_args, b_tried, b_stack) (nI c) x2 := by
  have b := zH_b hH t (Nat.le_refl _)
  have tk2 : ztk c ≤ 2 := by
    unfold ztk
    split
    · omega
    · split <;> omega
  refine br_f (nI_pos (by omega)) (pk_lt 12 c (fun z => absurd z (by omega)) (fun _ => pk_eq t 48 (fun _ => h) (fun e => zy_height ht hH (zk_tk hc (pk_le (ztk c) (H t) (fun z => absurd z (by omega)) (fun _ => h))))))
theorem zk_okY {post : Int32 → SY → Prop} {c t : Nat} {x2 : Int32} {N H D : Nat → Nat} {S : Nat → Nat → Nat} {op ar lf rt stk dmd : Nat → Int32} {N' H' D' : Nat → Nat} {S' : Nat → Nat → Nat} {op' ar' lf' rt' stk' dmd' : Nat → Int32} (hc : c ≤ 12) (ht : t < 48) (hH : zH t N H D S op ar lf rt stk dmd b_codes b_args) (hok : ztk c ≤ H t) (hH' : zH (t + 1) N' H' D' S' op' ar' lf' rt' stk' dmd' (upd b_codes t (nI c)) (upd b_args t x2)) (h : post (nI (H' (t + 1))) (nI (t + 1), g_depth, b_allowed, upd b_codes t (nI c), upd b_args t x2, b_tried, b_stack)) : wpY_token post (nI t, g_depth, b_allowed, b_codes, b_args, b_tried, b_stack) (nI c) x2 := by
  have b := zH_b hH t (Nat.le_refl _)
  have hin : vp_in (nI t) 48 := vp_in_nI ht (by decide)
  have ct := zm_cl ht
  refine br_f (nI_pos (by omega)) (pk_lt 12 c (fun z => absurd z (by omega)) (fun _ => pk_eq t 48 (fun z => absurd z (by omega)) (fun e => zy_height (by omega) hH (zk_tk hc (pk_le (ztk c) (H t) (fun _ => And.intro hin (nm_r (e' := upd b_codes t (nI c)) (by rw [ct]) (And.intro hin (nm_r (e' := upd b_args t x2) (by rw [ct]) (nm_r (nI_1 t) (zy_height (by omega) hH' h)))))) (fun z => absurd z (by omega)))))))
/-! evaluate -/
def zec (x : Int32) : Nat → Int32 := fun v => (x >>> ((3 * nI v) &&& 31)) &&& 7
theorem zk_evX {post : Int32 → SX → Prop} {x1 : Int32} {nd ss m : Nat} (hnd : nd ≤ 48) (hss : ss ≤ 48) (s0 : 0 < ss) (hm : m < nd) (em : a_stack (ss - 1) = nI m) (hO : ∀ m, m < nd → zo a_op a_left a_right m) (h : ∀ va ch : Nat → Int32, post (zW a_op a_argument a_left a_right (zec x1) m) (f_tokens, nI nd, nI ss, f_demands, f_failed, f_narrowed, f_found, f_bestTop, a_allowed, a_op, a_argument, a_left, a_right, a_stack, a_demanded, a_low, a_high, va, a_domain, a_divided, a_nextValue, ch, a_counts)) : wpX_evaluate post (f_tokens, nI nd, nI ss, f_demands, f_failed, f_narrowed, f_found, f_bestTop, a_allowed, a_op, a_argument, a_left, a_right, a_stack, a_demanded, a_low, a_high, a_value, a_domain, a_divided, a_nextValue, a_chosen, a_counts) x1 := by
  have L : ∀ k v ch, v ≤ 4 → 4 - v < k → (∀ u, u < v → ch u = zec x1 u) → wX_evaluate_11 post x1 f_tokens (nI nd) (nI ss) f_demands f_failed f_narrowed f_found f_bestTop k (nI v) a_allowed a_op a_argument a_left a_right a_stack a_demanded a_low a_high a_value a_domain a_divided a_nextValue ch a_counts := by
    intro k
    induction k with
    | zero => intro v ch _ hk; omega
    | succ k ih =>
      intro v ch hv hk hu
      refine pk_le 4 v (fun g => za_all (c := zec x1) hnd hO (fun u hu' => hu u (by omega)) (fun va hva => And.intro ?_ (And.intro ?_ ?_))) (fun g => And.intro (vp_in_nI g (by decide)) (nm_r (e' := upd ch v (zec x1 v)) (by rw [nI_clamp (by omega)]; rfl) (nm_r (nI_1 v) (ih (v + 1) _ (by omega) (by omega) (fun u hu' => ?_)))))
      · rw [zn_s s0]; exact vp_in_nI (by omega) (by decide)
      · rw [zn_s s0, zm_cl (by omega), em]; exact vp_in_nI (by omega) (by decide)
      · rw [zn_s s0, zm_cl (m := ss - 1) (by omega), em, zm_cl (by omega), hva m hm]
        exact h va ch
      · by_cases e : u = v
        · subst e; rw [pk_us]
        · rw [pk_un e]; exact hu u (by omega)
  exact pk_eq ss 0 (fun z => absurd z (by omega)) (fun _ => Exists.intro 5 (L 5 0 a_chosen (by omega) (by omega) (fun u hu => absurd hu (by omega))))
theorem zk_evY {post : Int32 → SY → Prop} {x1 : Int32} {t : Nat} {N H D : Nat → Nat} {S : Nat → Nat → Nat} {op ar lf rt stk dmd : Nat → Int32} (ht : t ≤ 48) (hH : zH t N H D S op ar lf rt stk dmd b_codes b_args) (h : ∀ (dp : Int32) (tr st : Nat → Int32), post (if H t = 0 then 0 else zW op ar lf rt (zec x1) (S t (H t - 1))) (nI t, dp, b_allowed, b_codes, b_args, tr, st)) : wpY_evaluate post (nI t, g_depth, b_allowed, b_codes, b_args, b_tried, b_stack) x1 := by
  have b := zH_b hH t (Nat.le_refl _)
  have L : ∀ k v tr, v ≤ 4 → 4 - v < k → (∀ u, u < v → tr u = zec x1 u) → wY_evaluate_2 post x1 (nI t) g_depth k (nI v) b_allowed b_codes b_args tr b_stack := by
    intro k
    induction k with
    | zero => intro v tr _ hk; omega
    | succ k ih =>
      intro v tr hv hk hu
      refine pk_le 4 v (fun g => zy_run (c := zec x1) ht hH (fun u hu' => hu u (by omega)) (fun al st _ _ hst => pk_eq (H t) 0 (fun z => ?_) (fun z => And.intro ?_ ?_))) (fun g => And.intro (vp_in_nI g (by decide)) (nm_r (e' := upd tr v (zec x1 v)) (by rw [nI_clamp (by omega)]; rfl) (nm_r (nI_1 v) (ih (v + 1) _ (by omega) (by omega) (fun u hu' => ?_)))))
      · have := h (nI (H t)) tr st
        rw [if_pos z] at this
        exact this
      · rw [zn_s (by omega)]; exact vp_in_nI (by omega) (by decide)
      · have := h (nI (H t)) tr st
        rw [if_neg z] at this
        rw [zn_s (by omega), zm_cl (m := H t - 1) (by omega), hst _ (by omega)]
        exact this
      · by_cases e : u = v
        · subst e; rw [pk_us]
        · rw [pk_un e]; exact hu u (by omega)
  exact Exists.intro 5 (L 5 0 b_tried (by omega) (by omega) (fun u hu => absurd hu (by omega)))
end
end
section
/-! the relation, and what is owed -/
section
def zRel (f_tokens f_nodes f_stackSize f_demands : Int32) (a_allowed a_op a_argument a_left a_right a_stack a_demanded : Nat → Int32) (g_tokens : Int32) (b_allowed b_codes b_args : Nat → Int32) : Prop := ∃ (t : Nat) (N H D : Nat → Nat) (S : Nat → Nat → Nat), t ≤ 48 ∧ f_tokens = nI t ∧ g_tokens = nI t ∧ f_nodes = nI (N t) ∧ f_stackSize = nI (H t) ∧ f_demands = nI (D t) ∧ b_allowed = a_allowed ∧ (∀ v, v < 4 → ∃ m, m < 32 ∧ a_allowed v = nI m) ∧ zH t N H D S a_op a_argument a_left a_right a_stack a_demanded b_codes b_args
/-- the same tokens, and X's nodes, stack and demands are what the tokens give; the same allowed masks -/
def i_Rel (k : Nat) (u : SX) (v : SY) : Prop := match u with
  | (f_tokens, f_nodes, f_stackSize, f_demands, f_failed, f_narrowed, f_found, f_bestTop, a_allowed, a_op, a_argument, a_left, a_right, a_stack, a_demanded, a_low, a_high, a_value, a_domain, a_divided, a_nextValue, a_chosen, a_counts) => match v with
    | (g_tokens, g_depth, b_allowed, b_codes, b_args, b_tried, b_stack) => zRel f_tokens f_nodes f_stackSize f_demands a_allowed a_op a_argument a_left a_right a_stack a_demanded g_tokens b_allowed b_codes b_args
end
section
variable {f_tokens : Int32} {f_nodes : Int32} {f_stackSize : Int32} {f_demands : Int32} {f_failed : Int32} {f_narrowed : Int32} {f_found : Int32} {f_bestTop : Int32} {a_allowed : Nat → Int32} {a_op : Nat → Int32} {a_argument : Nat → Int32} {a_left : Nat → Int32} {a_right : Nat → Int32} {a_stack : Nat → Int32} {a_demanded : Nat → Int32} {a_low : Nat → Int64} {a_high : Nat → Int64} {a_value : Nat → Int32} {a_domain : Nat → Int32} {a_divided : Nat → Int32} {a_nextValue : Nat → Int32} {a_chosen : Nat → Int32} {a_counts : Nat → Int32}
variable {g_depth : Int32} {b_codes b_args b_tried b_stack : Nat → Int32}
theorem zz_in {k t : Nat} {N H D : Nat → Nat} {S : Nat → Nat → Nat} (ht : t ≤ 48) (hal : ∀ v, v < 4 → ∃ m, m < 32 ∧ a_allowed v = nI m) (hH : zH t N H D S a_op a_argument a_left a_right a_stack a_demanded b_codes b_args) : i_Rel k (nI t, nI (N t), nI (H t), nI (D t), f_failed, f_narrowed, f_found, f_bestTop, a_allowed, a_op, a_argument, a_left, a_right, a_stack, a_demanded, a_low, a_high, a_value, a_domain, a_divided, a_nextValue, a_chosen, a_counts) (nI t, g_depth, a_allowed, b_codes, b_args, b_tried, b_stack) := ⟨t, N, H, D, S, ht, rfl, rfl, rfl, rfl, rfl, rfl, hal, hH⟩
end
theorem zz_el {k : Nat} {u : SX} {v : SY} {P : SX → SY → Prop} (h : ∀ (t : Nat) (N H D : Nat → Nat) (S : Nat → Nat → Nat) (f_failed f_narrowed f_found f_bestTop : Int32) (a_allowed a_op a_argument a_left a_right a_stack a_demanded : Nat → Int32) (a_low a_high : Nat → Int64) (a_value a_domain a_divided a_nextValue a_chosen a_counts : Nat → Int32) (g_depth : Int32) (b_codes b_args b_tried b_stack : Nat → Int32), t ≤ 48 → (∀ v, v < 4 → ∃ m, m < 32 ∧ a_allowed v = nI m) → zH t N H D S a_op a_argument a_left a_right a_stack a_demanded b_codes b_args → P (nI t, nI (N t), nI (H t), nI (D t), f_failed, f_narrowed, f_found, f_bestTop, a_allowed, a_op, a_argument, a_left, a_right, a_stack, a_demanded, a_low, a_high, a_value, a_domain, a_divided, a_nextValue, a_chosen, a_counts) (nI t, g_depth, a_allowed, b_codes, b_args, b_tried, b_stack)) (I : i_Rel k u v) : P u v := by
  obtain ⟨f_tokens, f_nodes, f_stackSize, f_demands, f_failed, f_narrowed, f_found, f_bestTop, a_allowed, a_op, a_argument, a_left, a_right, a_stack, a_demanded, a_low, a_high, a_value, a_domain, a_divided, a_nextValue, a_chosen, a_counts⟩ := u
  obtain ⟨g_tokens, g_depth, b_allowed, b_codes, b_args, b_tried, b_stack⟩ := v
  obtain ⟨t, N, H, D, S, ht, e1, e2, e3, e4, e5, e6, hal, hH⟩ := I
  subst e1 e2 e3 e4 e5 e6
  exact h t N H D S _ _ _ _ _ _ _ _ _ _ _ _ _ _ _ _ _ _ _ _ _ _ _ _ ht hal hH
theorem i_up {k : Nat} {u : SX} {v : SY} (h : i_Rel k u v) : i_Rel (k + 3) u v := h
theorem zz_m31 : ∃ m, m < 32 ∧ (31 : Int32) = nI m := ⟨31, by omega, rfl⟩
theorem zz_H0 {op ar lf rt stk dmd cds ags : Nat → Int32} : zH 0 (fun _ => 0) (fun _ => 0) (fun _ => 0) (fun _ _ => 0) op ar lf rt stk dmd cds ags := ⟨rfl, rfl, rfl, fun i hi => absurd hi (by omega), fun j hj => absurd hj (Nat.not_lt_zero j)⟩
theorem i_vc0 : wpX_init (fun u => wpY_init (fun v => i_Rel 0 u v)) := by
  have LY : ∀ (post : SY → Prop) (al : Nat → Int32) (z1 z2 z3 z4 : Nat → Int32), post (0, 0, upd (upd (upd (upd al 0 31) 1 31) 2 31) 3 31, z1, z2, z3, z4) → ∃ n44 : Nat, wY_init_44 post 0 0 n44 0 al z1 z2 z3 z4 := fun post al z1 z2 z3 z4 h =>
    ⟨5, br_f (by decide) (And.intro (vp_in_nI (n := 0) (N := 4) (by decide) (by decide)) (nm_e (nm_e (br_f (by decide) (And.intro (vp_in_nI (n := 1) (N := 4) (by decide) (by decide)) (nm_e (nm_e (br_f (by decide) (And.intro (vp_in_nI (n := 2) (N := 4) (by decide) (by decide)) (nm_e (nm_e (br_f (by decide) (And.intro (vp_in_nI (n := 3) (N := 4) (by decide) (by decide)) (nm_e (nm_e (br_t (by decide) h))))))))))))))))⟩
  refine Exists.intro 5 (br_f (by decide) (And.intro (vp_in_nI (n := 0) (N := 4) (by decide) (by decide)) (nm_e (nm_e (br_f (by decide) (And.intro (vp_in_nI (n := 1) (N := 4) (by decide) (by decide)) (nm_e (nm_e (br_f (by decide) (And.intro (vp_in_nI (n := 2) (N := 4) (by decide) (by decide)) (nm_e (nm_e (br_f (by decide) (And.intro (vp_in_nI (n := 3) (N := 4) (by decide) (by decide)) (nm_e (nm_e (br_t (by decide) (LY _ _ _ _ _ _ ?_))))))))))))))))))
  refine ⟨0, fun _ => 0, fun _ => 0, fun _ => 0, fun _ _ => 0, by omega, rfl, rfl, rfl, rfl, rfl, rfl, fun v hv => ?_, zz_H0⟩
  rcases z4 hv with e | e | e | e <;> subst e <;> exact zz_m31
theorem i_vc_allow {k : Nat} {u : SX} {v : SY} (I : i_Rel k u v) (hk : k + 3 ≤ 1536) (v1 : Int32) (v2 : Int32) : wpX_allow (fun u' => wpY_allow (fun v' => i_Rel (k + 3) u' v') v v1 v2) u v1 v2 := by
  refine zz_el (P := fun u v => wpX_allow (fun u' => wpY_allow (fun v' => i_Rel (k + 3) u' v') v v1 v2) u v1 v2) ?_ I
  intro t N H D S f_failed f_narrowed f_found f_bestTop a_allowed a_op a_argument a_left a_right a_stack a_demanded a_low a_high a_value a_domain a_divided a_nextValue a_chosen a_counts g_depth b_codes b_args b_tried b_stack ht hal hH
  have hi : vp_in (v1 &&& 3) 4 := pk_andIn v1 2 (by decide) (by decide)
  refine And.intro hi (nm_e (And.intro hi (nm_e (zz_in ht (fun v hv => ?_) hH))))
  by_cases e : v = (v1 &&& 3).toNatClampNeg
  · subst e
    rw [pk_us]
    exact zm_mask31 v2
  · rw [pk_un e]; exact hal v hv
theorem i_vc_clear {k : Nat} {u : SX} {v : SY} (I : i_Rel k u v) (hk : k + 3 ≤ 1536) : wpX_clear (fun u' => wpY_clear (fun v' => i_Rel (k + 3) u' v') v) u := by
  refine zz_el (P := fun u v => wpX_clear (fun u' => wpY_clear (fun v' => i_Rel (k + 3) u' v') v) u) ?_ I
  intro t N H D S f_failed f_narrowed f_found f_bestTop a_allowed a_op a_argument a_left a_right a_stack a_demanded a_low a_high a_value a_domain a_divided a_nextValue a_chosen a_counts g_depth b_codes b_args b_tried b_stack ht hal hH
  have h : zRel (nI 0) (nI 0) (nI 0) (nI 0) a_allowed a_op a_argument a_left a_right a_stack a_demanded (nI 0) a_allowed b_codes b_args := ⟨0, fun _ => 0, fun _ => 0, fun _ => 0, fun _ _ => 0, by omega, rfl, rfl, rfl, rfl, rfl, rfl, hal, zz_H0⟩
  exact h
theorem i_vc_conditions {k : Nat} {u : SX} {v : SY} (I : i_Rel k u v) (hk : k + 3 ≤ 1536) : wpX_conditions (fun r => wpY_conditions (fun r' => r' = r ∧ i_Rel (k + 3) u v) v) u := by
  refine zz_el (P := fun u v => wpX_conditions (fun r => wpY_conditions (fun r' => r' = r ∧ i_Rel (k + 3) u v) v) u) ?_ I
  intro t N H D S f_failed f_narrowed f_found f_bestTop a_allowed a_op a_argument a_left a_right a_stack a_demanded a_low a_high a_value a_domain a_divided a_nextValue a_chosen a_counts g_depth b_codes b_args b_tried b_stack ht hal hH
  exact zy_cond ht hH ⟨rfl, zz_in ht hal hH⟩
theorem i_vc_token {k : Nat} {u : SX} {v : SY} (I : i_Rel k u v) (hk : k + 3 ≤ 1536) (v1 : Int32) (v2 : Int32) : wpX_token (fun r u' => wpY_token (fun r' v' => r' = r ∧ i_Rel (k + 3) u' v') v v1 v2) u v1 v2 := by
  refine zz_el (P := fun u v => wpX_token (fun r u' => wpY_token (fun r' v' => r' = r ∧ i_Rel (k + 3) u' v') v v1 v2) u v1 v2) ?_ I
  intro t N H D S f_failed f_narrowed f_found f_bestTop a_allowed a_op a_argument a_left a_right a_stack a_demanded a_low a_high a_value a_domain a_divided a_nextValue a_chosen a_counts g_depth b_codes b_args b_tried b_stack ht hal hH
  have bad : (v1 < 0 ∨ ¬ v1 < 0 ∧ 12 < v1) → wpX_token (fun r u' => wpY_token (fun r' v' => r' = r ∧ i_Rel (k + 3) u' v') (nI t, g_depth, a_allowed, b_codes, b_args, b_tried, b_stack) v1 v2) (nI t, nI (N t), nI (H t), nI (D t), f_failed, f_narrowed, f_found, f_bestTop, a_allowed, a_op, a_argument, a_left, a_right, a_stack, a_demanded, a_low, a_high, a_value, a_domain, a_divided, a_nextValue, a_chosen, a_counts) v1 v2 := fun hb => zk_badX hb (zk_badY hb ⟨rfl, zz_in ht hal hH⟩)
  by_cases c0 : v1 < 0
  · exact bad (Or.inl c0)
  by_cases c12 : 12 < v1
  · exact bad (Or.inr ⟨c0, c12⟩)
  obtain ⟨c, hc, ec⟩ := nI_of2 (M := 12) (n := 12) (by decide) c0 (Int32.not_lt.mp c12)
  subst ec
  obtain ⟨b1, b2, b3⟩ := zH_b hH t (Nat.le_refl _)
  have tk2 : ztk c ≤ 2 := by
    unfold ztk
    split
    · omega
    · split <;> omega
  refine zk_X hc (zk_20 hc tk2 (fun e => ztk_1 (by omega)) ht (by omega) b2 (by omega) (fun q => zk_noY hc ht hH q ⟨rfl, zz_in ht hal hH⟩) (fun e s1 t48 => ?_) (fun e sk t48 lv rv l1 l2 r1 r2 => ?_))
  · subst e
    have hH' := zH_ext (n1 := N t) (h1 := H t - 1) (d1 := D t + 1) (s1 := S t) (stk' := a_stack) (p0 := nI 12) (p1 := v2) hH (op' := a_op) (ar' := a_argument) (lf' := a_left) (rt' := a_right) (dmd' := upd a_demanded (D t) (a_stack (H t - 1))) ⟨12, rfl, Or.inl ⟨rfl, s1, rfl, by omega, rfl, by rw [pk_us]; exact (zH_top hH (by omega)).2, fun _ _ => rfl⟩⟩ (fun n _ => ⟨rfl, rfl, rfl, rfl⟩) (fun d hd => pk_un (by omega)) (fun j hj => hH.2.2.2.2 j (by omega))
    refine zk_okY hc t48 hH (by rw [ztk_1 (by omega)]; exact s1) hH' ⟨?_, ?_⟩
    · rw [zup_s]
    · have := zz_in (k := k + 3) (f_failed := f_failed) (f_narrowed := f_narrowed) (f_found := f_found) (f_bestTop := f_bestTop) (a_low := a_low) (a_high := a_high) (a_value := a_value) (a_domain := a_domain) (a_divided := a_divided) (a_nextValue := a_nextValue) (a_chosen := a_chosen) (a_counts := a_counts) (g_depth := g_depth) (b_tried := b_tried) (b_stack := b_stack) (t := t + 1) (by omega) hal hH'
      rw [zup_s, zup_s, zup_s] at this
      exact this
  · have e3 : (c = 0 ∨ c = 1) ∨ c = 11 ∨ (2 ≤ c ∧ c ≤ 10) := by omega
    have key : ∃ s1, zP (N t) (H t) (D t) (N t + 1) (H t - ztk c + 1) (D t) (S t) s1 (upd a_op (N t) (nI c)) (upd a_argument (N t) v2) (upd a_left (N t) lv) (upd a_right (N t) rv) a_demanded (nI c) v2 ∧ ∀ j, j < H t - ztk c + 1 → upd a_stack (H t - ztk c) (nI (N t)) j = nI (s1 j) := by
      refine ⟨zup (S t) (H t - ztk c) (N t), ⟨c, rfl, ?_⟩, fun j hj => ?_⟩
      · rcases e3 with q | q | ⟨q, q'⟩
        · rw [ztk_0 (by omega)] at *
          refine Or.inr (Or.inl ⟨q, rfl, by omega, rfl, zup_s, fun j hj => zup_n (by omega), pk_us, pk_us, ?_, ?_⟩)
          · rw [pk_us]; exact l2 (by omega)
          · rw [pk_us]; exact r2 rfl
        · rw [ztk_1 (by omega)] at *
          refine Or.inr (Or.inr (Or.inl ⟨q, sk, rfl, by omega, rfl, zup_s, fun j hj => zup_n (by omega), pk_us, pk_us, ?_, ?_⟩))
          · rw [pk_us]; exact l2 (by omega)
          · rw [pk_us, r1 (by omega)]; exact hH.2.2.2.2 _ (by omega)
        · rw [ztk_2 q q'] at *
          refine Or.inr (Or.inr (Or.inr ⟨q, q', sk, rfl, by omega, rfl, zup_s, fun j hj => zup_n (by omega), pk_us, pk_us, ?_, ?_⟩))
          · rw [pk_us, l1 rfl]; exact hH.2.2.2.2 _ (by omega)
          · rw [pk_us, r1 (by omega)]; exact hH.2.2.2.2 _ (by omega)
      · by_cases ej : j = H t - ztk c
        · subst ej; rw [pk_us, zup_s]
        · rw [pk_un ej, zup_n ej]; exact hH.2.2.2.2 j (by omega)
    obtain ⟨s1, hp, hs⟩ := key
    have hH' := zH_ext hH hp (fun n hn => ⟨pk_un (by omega), pk_un (by omega), pk_un (by omega), pk_un (by omega)⟩) (fun _ _ => rfl) hs
    refine zk_okY hc t48 hH sk hH' ⟨?_, ?_⟩
    · rw [zup_s]
    · have := zz_in (k := k + 3) (f_failed := f_failed) (f_narrowed := f_narrowed) (f_found := f_found) (f_bestTop := f_bestTop) (a_low := a_low) (a_high := a_high) (a_value := a_value) (a_domain := a_domain) (a_divided := a_divided) (a_nextValue := a_nextValue) (a_chosen := a_chosen) (a_counts := a_counts) (g_depth := g_depth) (b_tried := b_tried) (b_stack := b_stack) (t := t + 1) (by omega) hal hH'
      rw [zup_s, zup_s, zup_s] at this
      exact this
theorem zz_neg {k : Nat} (h : k < 2 ^ 31) {P : Prop} (e : (-1 : Int32) = nI k) : P := absurd (show (-1 : Int32) < 0 by decide) (by rw [e]; exact nI_pos h)
theorem zz_m0 : (-1 : Int32) < 0 := by decide
theorem i_vc_solutions {k : Nat} {u : SX} {v : SY} (I : i_Rel k u v) (hk : k + 3 ≤ 1536) : wpX_solutions (fun r u' => wpY_solutions (fun r' v' => r' = r ∧ i_Rel (k + 3) u' v') v) u := by
  refine zz_el (P := fun u v => wpX_solutions (fun r u' => wpY_solutions (fun r' v' => r' = r ∧ i_Rel (k + 3) u' v') v) u) ?_ I
  intro t N H D S f_failed f_narrowed f_found f_bestTop a_allowed a_op a_argument a_left a_right a_stack a_demanded a_low a_high a_value a_domain a_divided a_nextValue a_chosen a_counts g_depth b_codes b_args b_tried b_stack ht hal hH
  obtain ⟨b1, b2, b3⟩ := zH_b hH t (Nat.le_refl _)
  unfold wpX_solutions
  exact zs_search (sb := zB a_allowed a_demanded a_op a_argument a_left a_right (D t)) (tp := fun a => zW a_op a_argument a_left a_right (zcd a) (a_stack (H t - 1)).toNatClampNeg) (nd := N t) (dm := D t) (ss := H t) (fun fl nr fo bt lo hi va dom dv nv ch cn hA _ => zl_solutions ht hH hal (fun a => zB_iff) (fun dp tr st => ⟨hA.1.symm, zz_in ht hal hH⟩)) (fun A q fl nr fo bt lo hi va dom dv nv ch cn _ _ hq e _ _ _ => zz_neg hq e) (by omega) (by omega) (by omega) (fun s0 => ⟨_, zH_top hH s0⟩) (zH_zo hH) (zH_dmd hH) (fun a => zB_iff) (fun _ => rfl) hal (Or.inl zz_m0)
theorem i_vc_greatest {k : Nat} {u : SX} {v : SY} (I : i_Rel k u v) (hk : k + 3 ≤ 1536) : wpX_greatest (fun r u' => wpY_greatest (fun r' v' => r' = r ∧ i_Rel (k + 3) u' v') v) u := by
  refine zz_el (P := fun u v => wpX_greatest (fun r u' => wpY_greatest (fun r' v' => r' = r ∧ i_Rel (k + 3) u' v') v) u) ?_ I
  intro t N H D S f_failed f_narrowed f_found f_bestTop a_allowed a_op a_argument a_left a_right a_stack a_demanded a_low a_high a_value a_domain a_divided a_nextValue a_chosen a_counts g_depth b_codes b_args b_tried b_stack ht hal hH
  obtain ⟨b1, b2, b3⟩ := zH_b hH t (Nat.le_refl _)
  unfold wpX_greatest
  refine zs_search (sb := zB a_allowed a_demanded a_op a_argument a_left a_right (D t)) (tp := fun a => zW a_op a_argument a_left a_right (zcd a) (a_stack (H t - 1)).toNatClampNeg) (nd := N t) (dm := D t) (ss := H t) (fun fl nr fo bt lo hi va dom dv nv ch cn hA _ => zl_greatest (tp := fun a => zW a_op a_argument a_left a_right (zcd a) (a_stack (H t - 1)).toNatClampNeg) (fun s0 a => ?_) ht hH hal (fun a => zB_iff) (fun dp tr st => ⟨hA.2.1.symm, zz_in ht hal hH⟩)) (fun A q fl nr fo bt lo hi va dom dv nv ch cn _ _ hq e _ _ _ => zz_neg hq e) (by omega) (by omega) (by omega) (fun s0 => ⟨_, zH_top hH s0⟩) (zH_zo hH) (zH_dmd hH) (fun a => zB_iff) (fun _ => rfl) hal (Or.inl zz_m0)
  have tp := zH_top hH s0
  show zW a_op a_argument a_left a_right (zcd a) (a_stack (H t - 1)).toNatClampNeg = _
  rw [tp.2, zm_cl (by omega)]
theorem i_vc_with {k : Nat} {u : SX} {v : SY} (I : i_Rel k u v) (hk : k + 3 ≤ 1536) (v1 : Int32) (v2 : Int32) : wpX_with (fun r u' => wpY_with (fun r' v' => r' = r ∧ i_Rel (k + 3) u' v') v v1 v2) u v1 v2 := by
  refine zz_el (P := fun u v => wpX_with (fun r u' => wpY_with (fun r' v' => r' = r ∧ i_Rel (k + 3) u' v') v v1 v2) u v1 v2) ?_ I
  intro t N H D S f_failed f_narrowed f_found f_bestTop a_allowed a_op a_argument a_left a_right a_stack a_demanded a_low a_high a_value a_domain a_divided a_nextValue a_chosen a_counts g_depth b_codes b_args b_tried b_stack ht hal hH
  obtain ⟨b1, b2, b3⟩ := zH_b hH t (Nat.le_refl _)
  obtain ⟨w, hw, ew⟩ := zm_mask3 v1
  have none : (v2 < 0 ∨ ¬ v2 ≤ 4) → wpY_with (fun r' v' => r' = 0 ∧ i_Rel (k + 3) (nI t, nI (N t), nI (H t), nI (D t), f_failed, f_narrowed, f_found, f_bestTop, a_allowed, a_op, a_argument, a_left, a_right, a_stack, a_demanded, a_low, a_high, a_value, a_domain, a_divided, a_nextValue, a_chosen, a_counts) v') (nI t, g_depth, a_allowed, b_codes, b_args, b_tried, b_stack) v1 v2 := fun hb => by
    refine zl_with hw ew ht hH hal (fun a => zB_iff (dm := D t)) (fun dp tr st => ⟨?_, zz_in ht hal hH⟩)
    rw [zf_cn (F := 0) 625 (by omega) (fun a _ ha => ?_)]
    · rfl
    · have z5 := zd_lt ha w
      rw [decide_eq_false (fun z => ?_), Bool.and_false]
      rw [← z] at hb
      rcases hb with q | q
      · exact nI_pos (by omega) q
      · exact q (nI_le (b := 4) (by omega) (by omega))
  refine br_c (fun c0 => none (Or.inl c0)) (fun c0 => br_c (fun c4 => ?_) (fun c4 => none (Or.inr c4)))
  obtain ⟨x, hx, ex⟩ := nI_of2 (M := 4) (n := 4) (by decide) c0 c4
  subst ex
  refine zs_search (sb := zB a_allowed a_demanded a_op a_argument a_left a_right (D t)) (tp := fun a => zW a_op a_argument a_left a_right (zcd a) (a_stack (H t - 1)).toNatClampNeg) (nd := N t) (dm := D t) (ss := H t) (fun fl nr fo bt lo hi va dom dv nv ch cn hA _ => ?_) (fun A q fl nr fo bt lo hi va dom dv nv ch cn _ _ hq e _ _ _ => zz_neg hq e) (by omega) (by omega) (by omega) (fun s0 => ⟨_, zH_top hH s0⟩) (zH_zo hH) (zH_dmd hH) (fun a => zB_iff) (fun _ => rfl) hal (Or.inl zz_m0)
  show vp_in ((5 * (v1 &&& 3)) + nI x) 20 ∧ _
  rw [ew, zn_at5]
  refine And.intro (vp_in_nI (by omega) (by decide)) ?_
  rw [nI_clamp (by omega), hA.2.2 w hw x (by omega)]
  refine zl_with hw ew ht hH hal (fun a => zB_iff (dm := D t)) (fun dp tr st => ⟨?_, zz_in ht hal hH⟩)
  refine congrArg nI ?_
  have cg : ∀ n, n ≤ 625 → zf_c (fun a => zB a_allowed a_demanded a_op a_argument a_left a_right (D t) a && decide (nI (zd a w) = nI x)) n = zf_c (fun a => zB a_allowed a_demanded a_op a_argument a_left a_right (D t) a && decide (zd a w = x)) n := by
    intro n
    induction n with
    | zero => intro _; rfl
    | succ n ih =>
      intro hn
      have z5 := zd_lt (a := n) (by omega) w
      have e : decide (nI (zd n w) = nI x) = decide (zd n w = x) := decide_eq_decide.mpr (nI_eq (by omega) (by omega))
      show zf_c _ n + (if (zB a_allowed a_demanded a_op a_argument a_left a_right (D t) n && decide (nI (zd n w) = nI x)) = true then 1 else 0) = zf_c _ n + (if (zB a_allowed a_demanded a_op a_argument a_left a_right (D t) n && decide (zd n w = x)) = true then 1 else 0)
      rw [e, ih (by omega)]
  exact cg 625 (by omega)
theorem i_vc_solution {k : Nat} {u : SX} {v : SY} (I : i_Rel k u v) (hk : k + 3 ≤ 1536) (v1 : Int32) (v2 : Int32) : wpX_solution (fun r u' => wpY_solution (fun r' v' => r' = r ∧ i_Rel (k + 3) u' v') v v1 v2) u v1 v2 := by
  refine zz_el (P := fun u v => wpX_solution (fun r u' => wpY_solution (fun r' v' => r' = r ∧ i_Rel (k + 3) u' v') v v1 v2) u v1 v2) ?_ I
  intro t N H D S f_failed f_narrowed f_found f_bestTop a_allowed a_op a_argument a_left a_right a_stack a_demanded a_low a_high a_value a_domain a_divided a_nextValue a_chosen a_counts g_depth b_codes b_args b_tried b_stack ht hal hH
  obtain ⟨b1, b2, b3⟩ := zH_b hH t (Nat.le_refl _)
  obtain ⟨w, hw, ew⟩ := zm_mask3 v2
  refine br_c (fun c0 => ?_) (fun c0 => zl_sol0 (sb := zB a_allowed a_demanded a_op a_argument a_left a_right (D t)) (Or.inl (Int32.not_le.mp c0)) ht hH hal (fun a => zB_iff) (fun dp tr st => ⟨rfl, zz_in ht hal hH⟩))
  obtain ⟨q, hq, eq⟩ := nI_of (Int32.not_lt.mpr c0)
  subst eq
  refine zs_search (sb := zB a_allowed a_demanded a_op a_argument a_left a_right (D t)) (tp := fun a => zW a_op a_argument a_left a_right (zcd a) (a_stack (H t - 1)).toNatClampNeg) (nd := N t) (dm := D t) (ss := H t) (fun fl nr fo bt lo hi va dom dv nv ch cn hA hQ => ?_) (fun A q' fl nr fo bt lo hi va dom dv nv ch cn hA6 sA hq' e cA ef hch => ?_) (by omega) (by omega) (by omega) (fun s0 => ⟨_, zH_top hH s0⟩) (zH_zo hH) (zH_dmd hH) (fun a => zB_iff) (fun _ => rfl) hal (Or.inr ⟨q, hq, rfl, Nat.zero_le _⟩)
  · have cle : zf_c (zB a_allowed a_demanded a_op a_argument a_left a_right (D t)) 625 ≤ q := by
      rcases hQ with z | ⟨q', hq', e, z⟩
      · exact absurd z (nI_pos hq)
      · rw [(nI_eq hq hq').mp e]; exact z
    refine br_t ?_ (zl_sol0 (sb := zB a_allowed a_demanded a_op a_argument a_left a_right (D t)) (Or.inr ⟨q, hq, rfl, cle⟩) ht hH hal (fun a => zB_iff) (fun dp tr st => ⟨rfl, zz_in ht hal hH⟩))
    rw [hA.1]
    exact nI_le cle hq
  · have e' := (nI_eq hq hq').mp e
    subst e'
    have cl := zf_cle (s := zB a_allowed a_demanded a_op a_argument a_left a_right (D t)) A
    refine br_f ?_ ?_
    · rw [ef]; exact nI_ge (by omega) (by omega)
    · rw [ew]
      refine And.intro (vp_in_nI hw (by decide)) ?_
      rw [nI_clamp (by omega), hch w hw]
      exact zl_sol1 (sb := zB a_allowed a_demanded a_op a_argument a_left a_right (D t)) hw ew hA6 sA cA ht hH hal (fun a => zB_iff) (fun dp tr st => ⟨rfl, zz_in ht hal hH⟩)
theorem i_vc_evaluate {k : Nat} {u : SX} {v : SY} (I : i_Rel k u v) (hk : k + 3 ≤ 1536) (v1 : Int32) : wpX_evaluate (fun r u' => wpY_evaluate (fun r' v' => r' = r ∧ i_Rel (k + 3) u' v') v v1) u v1 := by
  refine zz_el (P := fun u v => wpX_evaluate (fun r u' => wpY_evaluate (fun r' v' => r' = r ∧ i_Rel (k + 3) u' v') v v1) u v1) ?_ I
  intro t N H D S f_failed f_narrowed f_found f_bestTop a_allowed a_op a_argument a_left a_right a_stack a_demanded a_low a_high a_value a_domain a_divided a_nextValue a_chosen a_counts g_depth b_codes b_args b_tried b_stack ht hal hH
  obtain ⟨b1, b2, b3⟩ := zH_b hH t (Nat.le_refl _)
  rcases Nat.eq_zero_or_pos (H t) with s0 | s0
  · refine br_t (by rw [s0]; rfl) (zk_evY ht hH (fun dp tr st => ⟨?_, zz_in ht hal hH⟩))
    rw [if_pos s0]
  · have tp := zH_top hH s0
    refine zk_evX (by omega) (by omega) s0 tp.1 tp.2 (zH_zo hH) (fun va ch => zk_evY ht hH (fun dp tr st => ⟨?_, zz_in ht hal hH⟩))
    rw [if_neg (by omega)]
end
