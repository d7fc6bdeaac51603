section
theorem pk_us {f : Nat → Int32} {k : Nat} {x : Int32} : upd f k x k = x := if_pos rfl
theorem pk_un {f : Nat → Int32} {k j : Nat} {x : Int32} (h : j ≠ k) : upd f k x j = f j := if_neg h
theorem pk_uLs {f : Nat → Int64} {k : Nat} {x : Int64} : vp_updL f k x k = x := if_pos rfl
theorem pk_uLn {f : Nat → Int64} {k j : Nat} {x : Int64} (h : j ≠ k) : vp_updL f k x j = f j := if_neg h
theorem pk_sub {a b : Nat} (h : b ≤ a) : nI a - nI b = nI (a - b) := by
  obtain ⟨c, rfl⟩ : ∃ c, a = c + b := ⟨a - b, by omega⟩
  rw [← nI_add, Int32.add_sub_cancel, Nat.add_sub_cancel]
theorem pk_m1 (n : Nat) : nI (n + 1) + (-1) = nI n := by
  rw [← nI_1, Int32.add_assoc, show (1 : Int32) + (-1) = 0 from rfl, Int32.add_zero]
theorem pk_mul (a b : Nat) : nI a * nI b = nI (a * b) := (Int32.ofNat_mul a b).symm
theorem pk_le {x y : Int32} {A B : Prop} (a b : Nat) (f : a ≤ b → A) (g : b < a → B) (hx : x = nI a := by rfl) (hy : y = nI b := by rfl) (ha : a < 2 ^ 31 := by omega) (hb : b < 2 ^ 31 := by omega) : (x ≤ y → A) ∧ (¬ x ≤ y → B) := by
  subst hx hy
  rw [nI_leI ha hb]
  exact ⟨f, fun z => g (by omega)⟩
theorem pk_lt {x y : Int32} {A B : Prop} (a b : Nat) (f : a < b → A) (g : b ≤ a → B) (hx : x = nI a := by rfl) (hy : y = nI b := by rfl) (ha : a < 2 ^ 31 := by omega) (hb : b < 2 ^ 31 := by omega) : (x < y → A) ∧ (¬ x < y → B) := by
  subst hx hy
  rw [nI_ltI ha hb]
  exact ⟨f, fun z => g (by omega)⟩
theorem pk_eq {x y : Int32} {A B : Prop} (a b : Nat) (f : a = b → A) (g : a ≠ b → B) (hx : x = nI a := by rfl) (hy : y = nI b := by rfl) (ha : a < 2 ^ 31 := by omega) (hb : b < 2 ^ 31 := by omega) : (x = y → A) ∧ (¬ x = y → B) := by
  subst hx hy
  rw [nI_eq ha hb]
  exact ⟨f, g⟩
theorem pk_in {x : Int32} (n N : Nat) (h : n < N) (hx : x = nI n := by rfl) (hN : N < 2 ^ 31 := by omega) : vp_in x N := by
  subst hx
  exact vp_in_nI h hN
theorem pk_cl {x : Int32} (n : Nat) (hx : x = nI n := by rfl) (h : n < 2 ^ 31 := by omega) : x.toNatClampNeg = n := by
  subst hx
  exact nI_clamp h
theorem pk_vb (z : Int32) : vp_nar .byte z.toInt8.toInt32 = z.toInt8.toInt32 := by rw [vp_nar_byte]; simp
theorem pk_vs (z : Int32) : vp_nar .short z.toInt16.toInt32 = z.toInt16.toInt32 := by rw [vp_nar_short]; simp
theorem ts_nf {x : Bool} (h : ¬ x = false) : x = true := by cases x <;> first | rfl | exact absurd rfl h
theorem ts_nt {x : Bool} (h : ¬ x = true) : x = false := by cases x <;> first | rfl | exact absurd rfl h
theorem ts_bit {w : Int64} {s : UInt64} {j : Nat} (hj : j < 64) (hs : s.toNat = j) : ((w.toUInt64 >>> s).toInt64 &&& 1) = 0 ↔ w.toBitVec.getLsbD j = false := by
  have e : (w.toUInt64 >>> s).toInt64.toBitVec = w.toBitVec >>> j := by
    apply BitVec.eq_of_toNat_eq
    show (w.toUInt64 >>> s).toNat = _
    rw [UInt64.toNat_shiftRight, hs, Nat.mod_eq_of_lt hj, BitVec.toNat_ushiftRight]
    rfl
  rw [← Int64.toBitVec_inj, Int64.toBitVec_and, e]
  show w.toBitVec >>> j &&& 1#64 = 0#64 ↔ _
  constructor
  · intro h
    have t := congrArg (fun x => x.getLsbD 0) h
    simpa using t
  · intro h
    apply BitVec.eq_of_getLsbD_eq
    intro i hi
    cases i with
    | zero => simp [h]
    | succ i => simp
theorem wb_tb (n : Nat) : (lN n).toBitVec = BitVec.ofNat 64 n := rfl
theorem wb_inj {a b : Int64} (h : a.toBitVec = b.toBitVec) : a = b := Int64.toBitVec_inj.mp h
theorem wb_tn {n : Nat} (h : n < 2 ^ 64) : (lN n).toBitVec.toNat = n := by rw [wb_tb, BitVec.toNat_ofNat, Nat.mod_eq_of_lt h]
theorem wb_of (x : Int64) : ∃ n, n < 2 ^ 64 ∧ x = lN n := ⟨x.toBitVec.toNat, x.toBitVec.isLt, wb_inj (by rw [wb_tb]; simp)⟩
theorem wb_of32 (x : Int32) : ∃ n, n < 2 ^ 32 ∧ x = nI n := ⟨x.toBitVec.toNat, x.toBitVec.isLt, Int32.toBitVec_inj.mp (by show _ = BitVec.ofNat 32 _; simp)⟩
theorem wb_c : ∀ k, k < 64 → ((nI k).toInt64 &&& 63) = lN k := by decide +kernel
theorem wb_cu : ∀ k, k < 64 → ((nI k).toInt64.toUInt64 &&& Int64.toUInt64 63) = UInt64.ofNat k := by decide +kernel
theorem wb_sm : ∀ k, k < 64 → (BitVec.ofNat 64 k).smod 64 = BitVec.ofNat 64 k := by decide +kernel
theorem wb_pw {a b : Nat} (h : a ≤ b) : 2 ^ b = 2 ^ a * 2 ^ (b - a) := by rw [← Nat.pow_add]; congr 1; omega
theorem wb_lt2 {a b : Nat} (h : a < b) : 2 ^ a < 2 ^ b := Nat.pow_lt_pow_right (by decide) h
theorem wb_mod (n : Nat) : lN n = lN (n % 2 ^ 64) := wb_inj (by rw [wb_tb, wb_tb]; apply BitVec.eq_of_toNat_eq; rw [BitVec.toNat_ofNat, BitVec.toNat_ofNat, Nat.mod_mod])
theorem wb_shr {n k : Nat} (hn : n < 2 ^ 64) (hk : k < 64) : ((lN n).toUInt64 >>> ((nI k).toInt64.toUInt64 &&& Int64.toUInt64 63)).toInt64 = lN (n / 2 ^ k) := by
  rw [wb_cu k hk]
  apply wb_inj
  apply BitVec.eq_of_toNat_eq
  show ((lN n).toUInt64 >>> UInt64.ofNat k).toNat = (BitVec.ofNat 64 _).toNat
  have h1 : (UInt64.ofNat k).toNat = k := by
    show (BitVec.ofNat 64 k).toNat = k
    rw [BitVec.toNat_ofNat, Nat.mod_eq_of_lt (by omega)]
  have h2 : (lN n).toUInt64.toNat = n := wb_tn hn
  rw [UInt64.toNat_shiftRight, h1, h2, Nat.mod_eq_of_lt hk, Nat.shiftRight_eq_div_pow, BitVec.toNat_ofNat, Nat.mod_eq_of_lt (Nat.lt_of_le_of_lt (Nat.div_le_self _ _) hn)]
theorem wb_shl (n : Nat) {k : Nat} (hk : k < 64) : lN n <<< ((nI k).toInt64 &&& 63) = lN (n * 2 ^ k) := by
  rw [wb_c k hk]
  apply wb_inj
  rw [Int64.toBitVec_shiftLeft, wb_tb, wb_tb, wb_tb, wb_sm k hk]
  apply BitVec.eq_of_toNat_eq
  rw [BitVec.shiftLeft_eq', BitVec.toNat_shiftLeft, BitVec.toNat_ofNat, BitVec.toNat_ofNat, BitVec.toNat_ofNat, Nat.mod_eq_of_lt (show k < 2 ^ 64 by omega), Nat.shiftLeft_eq, Nat.mul_mod, Nat.mod_mod, ← Nat.mul_mod]
theorem wb_and {a b : Nat} (ha : a < 2 ^ 64) (hb : b < 2 ^ 64) : lN a &&& lN b = lN (a &&& b) := by
  apply wb_inj
  rw [Int64.toBitVec_and, wb_tb, wb_tb, wb_tb]
  apply BitVec.eq_of_toNat_eq
  rw [BitVec.toNat_and, BitVec.toNat_ofNat, BitVec.toNat_ofNat, BitVec.toNat_ofNat, Nat.mod_eq_of_lt ha, Nat.mod_eq_of_lt hb, Nat.mod_eq_of_lt (Nat.and_lt_two_pow _ hb)]
theorem wb_or {a b : Nat} (ha : a < 2 ^ 64) (hb : b < 2 ^ 64) : lN a ||| lN b = lN (a ||| b) := by
  apply wb_inj
  rw [Int64.toBitVec_or, wb_tb, wb_tb, wb_tb]
  apply BitVec.eq_of_toNat_eq
  rw [BitVec.toNat_or, BitVec.toNat_ofNat, BitVec.toNat_ofNat, BitVec.toNat_ofNat, Nat.mod_eq_of_lt ha, Nat.mod_eq_of_lt hb, Nat.mod_eq_of_lt (Nat.or_lt_two_pow ha hb)]
end
section
theorem sg_ne {a b c : Int32} (h : a = b) (hd : b ≠ c := by decide) : a ≠ c := fun e => hd (h.symm.trans e)
theorem sg_nx {a b c : Int32} {P : Prop} (h : a = b) (z : a = c) (hd : b ≠ c := by decide) : P := absurd (h.symm.trans z) hd
abbrev sg_id (c : Int32) : Prop := c ≠ 46 ∧ c ≠ 59 ∧ c ≠ 91 ∧ c ≠ 47 ∧ c ≠ 60 ∧ c ≠ 62 ∧ c ≠ 58
abbrev sg_ba (c : Int32) : Prop := c = 66 ∨ c = 67 ∨ c = 68 ∨ c = 70 ∨ c = 73 ∨ c = 74 ∨ c = 83 ∨ c = 90
def sg_ieF (g : Nat → Int32) : Nat → Nat → Nat
  | 0, i => i
  | d + 1, i => if sg_id (g i) then sg_ieF g d (i + 1) else i
def sg_ie (g : Nat → Int32) (n i : Nat) : Nat := sg_ieF g (n - i) i
def sg_End (g : Nat → Int32) (n : Nat) : Prop := ∀ i, n ≤ i → g i = 58
section
variable {g : Nat → Int32} {n : Nat}
theorem sg_lt (hg : sg_End g n) {i : Nat} (h : g i ≠ 58) : i < n := by
  apply Nat.lt_of_not_le
  intro z
  exact h (hg i z)
theorem sg_ie_t (hg : sg_End g n) {i : Nat} (h : sg_id (g i)) : sg_ie g n i = sg_ie g n (i + 1) := by
  have hi : i < n := sg_lt hg h.2.2.2.2.2.2
  unfold sg_ie
  have e : n - i = (n - (i + 1)) + 1 := by omega
  rw [e, sg_ieF, if_pos h]
theorem sg_ie_f {i : Nat} (h : ¬ sg_id (g i)) : sg_ie g n i = i := by
  unfold sg_ie
  cases n - i with
  | zero => rfl
  | succ d => rw [sg_ieF, if_neg h]
theorem sg_ieF_ge : ∀ d i, i ≤ sg_ieF g d i := by
  intro d
  induction d with
  | zero => intro i; exact Nat.le_refl _
  | succ d ih =>
    intro i
    rw [sg_ieF]
    by_cases h : sg_id (g i)
    · rw [if_pos h]; have := ih (i + 1); omega
    · rw [if_neg h]; exact Nat.le_refl _
theorem sg_ie_ge (i : Nat) : i ≤ sg_ie g n i := sg_ieF_ge _ _
theorem sg_ieF_in : ∀ d i j, i ≤ j → j < sg_ieF g d i → sg_id (g j) := by
  intro d
  induction d with
  | zero => intro i j h1 h2; rw [sg_ieF] at h2; omega
  | succ d ih =>
    intro i j h1 h2
    rw [sg_ieF] at h2
    by_cases h : sg_id (g i)
    · rw [if_pos h] at h2
      by_cases e : i = j
      · subst e; exact h
      · exact ih (i + 1) j (by omega) h2
    · rw [if_neg h] at h2; omega
theorem sg_ie_in {i j : Nat} (h1 : i ≤ j) (h2 : j < sg_ie g n i) : sg_id (g j) := sg_ieF_in _ _ _ h1 h2
theorem sg_ieF_end (hg : sg_End g n) : ∀ d i, n ≤ i + d → ¬ sg_id (g (sg_ieF g d i)) := by
  intro d
  induction d with
  | zero =>
    intro i h
    rw [sg_ieF]
    have := hg i (by omega)
    intro z
    exact z.2.2.2.2.2.2 this
  | succ d ih =>
    intro i h
    rw [sg_ieF]
    by_cases h' : sg_id (g i)
    · rw [if_pos h']; exact ih (i + 1) (by omega)
    · rw [if_neg h']; exact h'
theorem sg_ie_end (hg : sg_End g n) (i : Nat) : ¬ sg_id (g (sg_ie g n i)) := sg_ieF_end hg _ _ (by omega)
theorem sg_ie_le (hg : sg_End g n) {i : Nat} (h : i ≤ n) : sg_ie g n i ≤ n := by
  apply Nat.le_of_not_lt
  intro z
  have := sg_ie_in (g := g) (n := n) (i := i) (j := n) h z
  exact this.2.2.2.2.2.2 (hg n (Nat.le_refl _))
theorem sg_ie_lt (hg : sg_End g n) {i : Nat} (h : sg_ie g n i ≠ i) : i < n := by
  apply sg_lt hg
  by_cases z : sg_id (g i)
  · exact z.2.2.2.2.2.2
  · exact absurd (sg_ie_f z) h
theorem sg_ie_uniq (hg : sg_End g n) {i e : Nat} (h1 : i ≤ e) (h2 : ∀ j, i ≤ j → j < e → sg_id (g j)) (h3 : ¬ sg_id (g e)) : sg_ie g n i = e := by
  have a := sg_ie_ge (g := g) (n := n) i
  have b := sg_ie_end hg i
  rcases Nat.lt_trichotomy (sg_ie g n i) e with h | h | h
  · exact absurd (h2 _ a h) b
  · exact h
  · exact absurd (sg_ie_in h1 h) h3
end
def sg_pkF (g : Nat → Int32) (n : Nat) : Nat → Nat → Nat
  | 0, _ => 0
  | d + 1, i => if sg_ie g n i = i then 0 else if g (sg_ie g n i) = 47 then sg_pkF g n d (sg_ie g n i + 1) else i
def sg_pk (g : Nat → Int32) (n i : Nat) : Nat := sg_pkF g n (n - i) i
section
variable {g : Nat → Int32} {n : Nat}
theorem sg_pkF_st (hg : sg_End g n) : ∀ d d' i, n - i ≤ d → n - i ≤ d' → sg_pkF g n d i = sg_pkF g n d' i := by
  intro d
  induction d with
  | zero =>
    intro d' i h h'
    cases d' with
    | zero => rfl
    | succ b =>
      rw [sg_pkF, sg_pkF, if_pos]
      apply sg_ie_f
      intro z
      exact z.2.2.2.2.2.2 (hg i (by omega))
  | succ d ih =>
    intro d' i h h'
    by_cases e : sg_ie g n i = i
    · cases d' with
      | zero => show sg_pkF g n (d + 1) i = 0; rw [sg_pkF, if_pos e]
      | succ b => rw [sg_pkF, if_pos e, sg_pkF, if_pos e]
    · have hi := sg_ie_lt hg e
      have hge := sg_ie_ge (g := g) (n := n) i
      cases d' with
      | zero => omega
      | succ b =>
        rw [sg_pkF, if_neg e, sg_pkF, if_neg e]
        by_cases h7 : g (sg_ie g n i) = 47
        · rw [if_pos h7, if_pos h7]
          exact ih b _ (by omega) (by omega)
        · rw [if_neg h7, if_neg h7]
theorem sg_pk_eq (hg : sg_End g n) (i : Nat) : sg_pk g n i = if sg_ie g n i = i then 0 else if g (sg_ie g n i) = 47 then sg_pk g n (sg_ie g n i + 1) else i := by
  have h : sg_pk g n i = sg_pkF g n (n - i + 1) i := sg_pkF_st hg _ _ _ (by omega) (by omega)
  rw [h, sg_pkF]
  by_cases e : sg_ie g n i = i
  · rw [if_pos e, if_pos e]
  · rw [if_neg e, if_neg e]
    have hge := sg_ie_ge (g := g) (n := n) i
    have : sg_pkF g n (n - i) (sg_ie g n i + 1) = sg_pk g n (sg_ie g n i + 1) := sg_pkF_st hg _ _ _ (by omega) (by omega)
    rw [this]
theorem sg_pkF_pos (hg : sg_End g n) : ∀ d i, sg_pkF g n d i ≠ 0 → i ≤ sg_pkF g n d i ∧ sg_ie g n (sg_pkF g n d i) ≠ sg_pkF g n d i ∧ g (sg_ie g n (sg_pkF g n d i)) ≠ 47 ∧ ∀ j, i ≤ j → j < sg_ie g n (sg_pkF g n d i) → g j ≠ 60 ∧ g j ≠ 46 := by
  intro d
  induction d with
  | zero => intro i h; exact absurd rfl h
  | succ d ih =>
    intro i
    rw [sg_pkF]
    by_cases e : sg_ie g n i = i
    · rw [if_pos e]; intro h; exact absurd rfl h
    · rw [if_neg e]
      have hge := sg_ie_ge (g := g) (n := n) i
      by_cases h7 : g (sg_ie g n i) = 47
      · rw [if_pos h7]
        intro h
        obtain ⟨a, b, c, d⟩ := ih _ h
        refine ⟨by omega, b, c, ?_⟩
        intro j h1 h2
        by_cases hj : j < sg_ie g n i
        · have := sg_ie_in h1 hj
          exact ⟨this.2.2.2.2.1, this.1⟩
        · by_cases hj2 : j = sg_ie g n i
          · subst hj2; exact ⟨sg_ne h7, sg_ne h7⟩
          · exact d j (by omega) h2
      · rw [if_neg h7]
        intro _
        refine ⟨Nat.le_refl _, e, h7, ?_⟩
        intro j h1 h2
        have := sg_ie_in h1 h2
        exact ⟨this.2.2.2.2.1, this.1⟩
theorem sg_pk_pos (hg : sg_End g n) {i : Nat} (h : sg_pk g n i ≠ 0) : i ≤ sg_pk g n i ∧ sg_ie g n (sg_pk g n i) ≠ sg_pk g n i ∧ g (sg_ie g n (sg_pk g n i)) ≠ 47 ∧ ∀ j, i ≤ j → j < sg_ie g n (sg_pk g n i) → g j ≠ 60 ∧ g j ≠ 46 := sg_pkF_pos hg _ _ h
end
def sg_ar (g : Nat → Int32) (F : Nat → Nat → Nat) (i : Nat) : Nat := if g i = 42 then i + 1 else if g i = 43 ∨ g i = 45 then F 0 (i + 1) else F 0 i
def sg_sF (g : Nat → Int32) (n : Nat) (F : Nat → Nat → Nat) (q : Nat) : Nat := if q = 0 then 0 else if sg_ie g n q = q then 0 else if g (sg_ie g n q) = 60 then F 1 (sg_ar g F (sg_ie g n q + 1)) else sg_ie g n q
def sg_S0 (g : Nat → Int32) (n : Nat) (F : Nat → Nat → Nat) (i : Nat) : Nat := if g i = 84 then (if sg_ie g n (i + 1) = i + 1 then 0 else if g (sg_ie g n (i + 1)) = 59 then sg_ie g n (i + 1) + 1 else 0) else if g i = 76 then F 2 (sg_sF g n F (sg_pk g n (i + 1))) else if g i = 91 then (if sg_ba (g (i + 1)) then i + 2 else F 0 (i + 1)) else 0
def sg_S1 (g : Nat → Int32) (F : Nat → Nat → Nat) (i : Nat) : Nat := if i = 0 then 0 else if g i = 62 then i + 1 else F 1 (sg_ar g F i)
def sg_S2 (g : Nat → Int32) (n : Nat) (F : Nat → Nat → Nat) (i : Nat) : Nat := if i = 0 then 0 else if g i = 59 then i + 1 else if g i = 46 then F 2 (sg_sF g n F (i + 1)) else 0
def sg_S (g : Nat → Int32) (n : Nat) (F : Nat → Nat → Nat) (k i : Nat) : Nat := if k = 0 then sg_S0 g n F i else if k = 1 then sg_S1 g F i else sg_S2 g n F i
def sg_P (g : Nat → Int32) (n : Nat) : Nat → Nat → Nat → Nat
  | 0 => fun _ _ => 0
  | d + 1 => sg_S g n (sg_P g n d)
def sg_Pos (n : Nat) (F : Nat → Nat → Nat) : Prop := (∀ k i, F k i ≠ 0 → i < F k i ∧ F k i ≤ n) ∧ F 1 0 = 0 ∧ F 2 0 = 0
section
variable {g : Nat → Int32} {n : Nat} {F F' : Nat → Nat → Nat}
theorem sg_ar_pos (hg : sg_End g n) (hF : sg_Pos n F) {i : Nat} (h : sg_ar g F i ≠ 0) : i < sg_ar g F i ∧ sg_ar g F i ≤ n := by
  unfold sg_ar at h ⊢
  by_cases a : g i = 42
  · rw [if_pos a]
    have := sg_lt hg (i := i) (sg_ne a)
    omega
  · rw [if_neg a] at h ⊢
    by_cases b : g i = 43 ∨ g i = 45
    · rw [if_pos b] at h ⊢
      have := hF.1 _ _ h
      omega
    · rw [if_neg b] at h ⊢
      exact hF.1 _ _ h
theorem sg_sF_pos (hg : sg_End g n) (hF : sg_Pos n F) {q : Nat} (h : sg_sF g n F q ≠ 0) : q < sg_sF g n F q ∧ sg_sF g n F q ≤ n ∧ q ≠ 0 := by
  unfold sg_sF at h ⊢
  by_cases a : q = 0
  · rw [if_pos a] at h; exact absurd rfl h
  · rw [if_neg a] at h ⊢
    by_cases b : sg_ie g n q = q
    · rw [if_pos b] at h; exact absurd rfl h
    · rw [if_neg b] at h ⊢
      have h1 := sg_ie_lt hg b
      have h2 := sg_ie_ge (g := g) (n := n) q
      have h3 := sg_ie_le hg (i := q) (by omega)
      by_cases c : g (sg_ie g n q) = 60
      · rw [if_pos c] at h ⊢
        have h4 := hF.1 _ _ h
        by_cases z : sg_ar g F (sg_ie g n q + 1) = 0
        · rw [z, hF.2.1] at h; exact absurd rfl h
        · have := sg_ar_pos hg hF z
          omega
      · rw [if_neg c]
        omega
theorem sg_S_pos (hg : sg_End g n) (hF : sg_Pos n F) : sg_Pos n (sg_S g n F) := by
  refine ⟨?_, rfl, rfl⟩
  intro k i
  unfold sg_S
  by_cases k0 : k = 0
  · rw [if_pos k0]
    unfold sg_S0
    by_cases a : g i = 84
    · rw [if_pos a]
      by_cases b : sg_ie g n (i + 1) = i + 1
      · rw [if_pos b]; intro h; exact absurd rfl h
      · rw [if_neg b]
        by_cases c : g (sg_ie g n (i + 1)) = 59
        · rw [if_pos c]
          have h1 := sg_lt hg (i := sg_ie g n (i + 1)) (sg_ne c)
          have h2 := sg_ie_ge (g := g) (n := n) (i + 1)
          intro _; omega
        · rw [if_neg c]; intro h; exact absurd rfl h
    · rw [if_neg a]
      by_cases b : g i = 76
      · rw [if_pos b]
        intro h
        have h1 := hF.1 _ _ h
        by_cases z : sg_sF g n F (sg_pk g n (i + 1)) = 0
        · rw [z, hF.2.2] at h; exact absurd rfl h
        · have h2 := sg_sF_pos hg hF z
          have h3 := sg_pk_pos hg h2.2.2
          omega
      · rw [if_neg b]
        by_cases c : g i = 91
        · rw [if_pos c]
          by_cases d : sg_ba (g (i + 1))
          · rw [if_pos d]
            have h1 : i + 1 < n := by
              apply sg_lt hg
              rcases d with d | d | d | d | d | d | d | d <;> exact sg_ne d
            intro _; omega
          · rw [if_neg d]
            intro h
            have := hF.1 _ _ h
            omega
        · rw [if_neg c]; intro h; exact absurd rfl h
  · rw [if_neg k0]
    by_cases k1 : k = 1
    · rw [if_pos k1]
      unfold sg_S1
      by_cases a : i = 0
      · rw [if_pos a]; intro h; exact absurd rfl h
      · rw [if_neg a]
        by_cases b : g i = 62
        · rw [if_pos b]
          have := sg_lt hg (i := i) (sg_ne b)
          intro _; omega
        · rw [if_neg b]
          intro h
          have h1 := hF.1 _ _ h
          by_cases z : sg_ar g F i = 0
          · rw [z, hF.2.1] at h; exact absurd rfl h
          · have := sg_ar_pos hg hF z
            omega
    · rw [if_neg k1]
      unfold sg_S2
      by_cases a : i = 0
      · rw [if_pos a]; intro h; exact absurd rfl h
      · rw [if_neg a]
        by_cases b : g i = 59
        · rw [if_pos b]
          have := sg_lt hg (i := i) (sg_ne b)
          intro _; omega
        · rw [if_neg b]
          by_cases c : g i = 46
          · rw [if_pos c]
            intro h
            have h1 := hF.1 _ _ h
            by_cases z : sg_sF g n F (i + 1) = 0
            · rw [z, hF.2.2] at h; exact absurd rfl h
            · have := sg_sF_pos hg hF z
              omega
          · rw [if_neg c]; intro h; exact absurd rfl h
theorem sg_P_pos (hg : sg_End g n) : ∀ d, sg_Pos n (sg_P g n d) := by
  intro d
  induction d with
  | zero => exact ⟨fun _ _ h => absurd rfl h, rfl, rfl⟩
  | succ d ih => exact sg_S_pos hg ih
theorem sg_ar_c {i j : Nat} (H : ∀ k j, i < j → F k j = F' k j) (hj : i < j) : sg_ar g F j = sg_ar g F' j := by
  unfold sg_ar
  rw [H 0 j hj, H 0 (j + 1) (by omega)]
theorem sg_sF_c (hg : sg_End g n) (hF : sg_Pos n F) (hF' : sg_Pos n F') {i q : Nat} (H : ∀ k j, i < j → F k j = F' k j) (hq : i < q) : sg_sF g n F q = sg_sF g n F' q := by
  unfold sg_sF
  have h2 := sg_ie_ge (g := g) (n := n) q
  have e := sg_ar_c (g := g) H (j := sg_ie g n q + 1) (by omega)
  have e2 : F 1 (sg_ar g F (sg_ie g n q + 1)) = F' 1 (sg_ar g F' (sg_ie g n q + 1)) := by
    rw [← e]
    by_cases z : sg_ar g F (sg_ie g n q + 1) = 0
    · rw [z, hF.2.1, hF'.2.1]
    · have := sg_ar_pos hg hF z
      exact H _ _ (by omega)
  rw [e2]
theorem sg_S_c (hg : sg_End g n) (hF : sg_Pos n F) (hF' : sg_Pos n F') {k i : Nat} (H : ∀ k j, i < j → F k j = F' k j) (H1 : k = 1 → F 0 i = F' 0 i) : sg_S g n F k i = sg_S g n F' k i := by
  have q2 : ∀ q, i < q → F 2 (sg_sF g n F q) = F' 2 (sg_sF g n F' q) := by
    intro q hq
    rw [← sg_sF_c hg hF hF' H hq]
    by_cases z : sg_sF g n F q = 0
    · rw [z, hF.2.2, hF'.2.2]
    · have := sg_sF_pos hg hF z
      exact H _ _ (by omega)
  unfold sg_S
  by_cases k0 : k = 0
  · rw [if_pos k0, if_pos k0]
    unfold sg_S0
    have e1 : F 2 (sg_sF g n F (sg_pk g n (i + 1))) = F' 2 (sg_sF g n F' (sg_pk g n (i + 1))) := by
      by_cases z : sg_pk g n (i + 1) = 0
      · rw [z]
        show F 2 0 = F' 2 0
        rw [hF.2.2, hF'.2.2]
      · have := sg_pk_pos hg z
        exact q2 _ (by omega)
    rw [e1, H 0 (i + 1) (by omega)]
  · rw [if_neg k0, if_neg k0]
    by_cases k1 : k = 1
    · rw [if_pos k1, if_pos k1]
      unfold sg_S1
      have e : sg_ar g F i = sg_ar g F' i := by
        unfold sg_ar
        rw [H1 k1, H 0 (i + 1) (by omega)]
      have e2 : F 1 (sg_ar g F i) = F' 1 (sg_ar g F' i) := by
        rw [← e]
        by_cases z : sg_ar g F i = 0
        · rw [z, hF.2.1, hF'.2.1]
        · have := sg_ar_pos hg hF z
          exact H _ _ (by omega)
      rw [e2]
    · rw [if_neg k1, if_neg k1]
      unfold sg_S2
      rw [q2 (i + 1) (by omega)]
def sg_k1 (k : Nat) : Nat := if k = 1 then 1 else 0
theorem sg_k1_le (k : Nat) : sg_k1 k ≤ 1 := by unfold sg_k1; split <;> omega
theorem sg_stab (hg : sg_End g n) : ∀ d d' k i, 2 * (n - i) + sg_k1 k < d → 2 * (n - i) + sg_k1 k < d' → sg_P g n d k i = sg_P g n d' k i := by
  intro d
  induction d with
  | zero => intro d' k i h; omega
  | succ d ih =>
    intro d' k i h h'
    cases d' with
    | zero => omega
    | succ b =>
      by_cases hi : i < n
      · refine sg_S_c hg (sg_P_pos hg d) (sg_P_pos hg b) ?_ ?_
        · intro k' j hj
          have := sg_k1_le k'
          exact ih b k' j (by omega) (by omega)
        · intro k1
          subst k1
          have e : sg_k1 1 = 1 := rfl
          have e0 : sg_k1 0 = 0 := rfl
          rw [e] at h h'
          exact ih b 0 i (by omega) (by omega)
      · have z : ∀ d, sg_P g n d k i = 0 := by
          intro d
          apply Classical.byContradiction
          intro z
          have := (sg_P_pos hg d).1 k i z
          omega
        rw [z, z]
end
def sg_R (g : Nat → Int32) (n : Nat) : Nat → Nat → Nat := sg_P g n (2 * n + 3)
def sg_ref (g : Nat → Int32) (n i : Nat) : Nat := sg_R g n 0 i
def sg_at (g : Nat → Int32) (n i : Nat) : Nat := sg_R g n 1 i
def sg_suf (g : Nat → Int32) (n i : Nat) : Nat := sg_R g n 2 i
def sg_arg (g : Nat → Int32) (n i : Nat) : Nat := sg_ar g (sg_R g n) i
def sg_sc (g : Nat → Int32) (n q : Nat) : Nat := sg_sF g n (sg_R g n) q
def sg_jt (g : Nat → Int32) (n i : Nat) : Nat := if sg_ba (g i) then i + 1 else sg_ref g n i
def sg_E (g : Nat → Int32) (n f : Nat) : Nat := if g f = 46 then sg_sc g n (f + 1) else if g f = 42 then f + 1 else if g f = 43 ∨ g f = 45 then sg_ref g n (f + 1) else sg_jt g n f
def sg_K (g : Nat → Int32) (f : Nat) : Int32 := if g f = 46 then 2 else if g f = 42 then 7 else if g f = 43 then 5 else if g f = 45 then 6 else if g f = 76 then 1 else if g f = 84 then 3 else if g f = 91 then 4 else 8
section
variable {g : Nat → Int32} {n : Nat}
theorem sg_R_eq (hg : sg_End g n) (k i : Nat) : sg_R g n k i = sg_S g n (sg_R g n) k i := by
  have h : sg_P g n (2 * n + 2) = sg_R g n := by
    funext k i
    have := sg_k1_le k
    exact sg_stab hg _ _ _ _ (by omega) (by omega)
  show sg_S g n (sg_P g n (2 * n + 2)) k i = _
  rw [h]
theorem sg_ref_eq (hg : sg_End g n) (i : Nat) : sg_ref g n i = sg_S0 g n (sg_R g n) i := sg_R_eq hg 0 i
theorem sg_ref_T (hg : sg_End g n) {i : Nat} (h : g i = 84) : sg_ref g n i = if sg_ie g n (i + 1) = i + 1 then 0 else if g (sg_ie g n (i + 1)) = 59 then sg_ie g n (i + 1) + 1 else 0 := by
  rw [sg_ref_eq hg, sg_S0, if_pos h]
theorem sg_ref_L (hg : sg_End g n) {i : Nat} (h : g i = 76) : sg_ref g n i = sg_suf g n (sg_sc g n (sg_pk g n (i + 1))) := by
  rw [sg_ref_eq hg, sg_S0, if_neg (sg_ne h), if_pos h]; rfl
theorem sg_ref_A (hg : sg_End g n) {i : Nat} (h : g i = 91) : sg_ref g n i = sg_jt g n (i + 1) := by
  rw [sg_ref_eq hg, sg_S0, if_neg (sg_ne h), if_neg (sg_ne h), if_pos h]; rfl
theorem sg_ref_0 (hg : sg_End g n) {i : Nat} (h1 : g i ≠ 84) (h2 : g i ≠ 76) (h3 : g i ≠ 91) : sg_ref g n i = 0 := by
  rw [sg_ref_eq hg, sg_S0, if_neg h1, if_neg h2, if_neg h3]
theorem sg_at_0 (hg : sg_End g n) : sg_at g n 0 = 0 := (sg_P_pos hg _).2.1
theorem sg_suf_0 (hg : sg_End g n) : sg_suf g n 0 = 0 := (sg_P_pos hg _).2.2
theorem sg_at_eq (hg : sg_End g n) (i : Nat) : sg_at g n i = sg_S1 g (sg_R g n) i := sg_R_eq hg 1 i
theorem sg_suf_eq (hg : sg_End g n) (i : Nat) : sg_suf g n i = sg_S2 g n (sg_R g n) i := sg_R_eq hg 2 i
theorem sg_at_g (hg : sg_End g n) {i : Nat} (h0 : i ≠ 0) (h : g i = 62) : sg_at g n i = i + 1 := by
  rw [sg_at_eq hg, sg_S1, if_neg h0, if_pos h]
theorem sg_at_n (hg : sg_End g n) {i : Nat} (h0 : i ≠ 0) (h : g i ≠ 62) : sg_at g n i = sg_at g n (sg_arg g n i) := by
  rw [sg_at_eq hg, sg_S1, if_neg h0, if_neg h]; rfl
theorem sg_suf_s (hg : sg_End g n) {i : Nat} (h0 : i ≠ 0) (h : g i = 59) : sg_suf g n i = i + 1 := by
  rw [sg_suf_eq hg, sg_S2, if_neg h0, if_pos h]
theorem sg_suf_d (hg : sg_End g n) {i : Nat} (h0 : i ≠ 0) (h : g i = 46) : sg_suf g n i = sg_suf g n (sg_sc g n (i + 1)) := by
  rw [sg_suf_eq hg, sg_S2, if_neg h0, if_neg (sg_ne h), if_pos h]; rfl
theorem sg_suf_x (hg : sg_End g n) {i : Nat} (h : g i ≠ 59) (h' : g i ≠ 46) : sg_suf g n i = 0 := by
  rw [sg_suf_eq hg, sg_S2]
  by_cases h0 : i = 0
  · rw [if_pos h0]
  · rw [if_neg h0, if_neg h, if_neg h']
theorem sg_sc_0 : sg_sc g n 0 = 0 := rfl
theorem sg_sc_x {q : Nat} (h : sg_ie g n q = q) : sg_sc g n q = 0 := by
  unfold sg_sc sg_sF
  by_cases z : q = 0
  · rw [if_pos z]
  · rw [if_neg z, if_pos h]
theorem sg_sc_a {q : Nat} (h0 : q ≠ 0) (h : sg_ie g n q ≠ q) (h' : g (sg_ie g n q) = 60) : sg_sc g n q = sg_at g n (sg_arg g n (sg_ie g n q + 1)) := by
  unfold sg_sc sg_sF
  rw [if_neg h0, if_neg h, if_pos h']; rfl
theorem sg_sc_i {q : Nat} (h0 : q ≠ 0) (h : sg_ie g n q ≠ q) (h' : g (sg_ie g n q) ≠ 60) : sg_sc g n q = sg_ie g n q := by
  unfold sg_sc sg_sF
  rw [if_neg h0, if_neg h, if_neg h']
theorem sg_ref_pos (hg : sg_End g n) {i : Nat} (h : sg_ref g n i ≠ 0) : i < sg_ref g n i ∧ sg_ref g n i ≤ n := (sg_P_pos hg _).1 _ _ h
theorem sg_at_pos (hg : sg_End g n) {i : Nat} (h : sg_at g n i ≠ 0) : i < sg_at g n i ∧ sg_at g n i ≤ n := (sg_P_pos hg _).1 _ _ h
theorem sg_suf_pos (hg : sg_End g n) {i : Nat} (h : sg_suf g n i ≠ 0) : i < sg_suf g n i ∧ sg_suf g n i ≤ n := (sg_P_pos hg _).1 _ _ h
theorem sg_at_nz (hg : sg_End g n) {i : Nat} (h : sg_at g n i ≠ 0) : i ≠ 0 := fun z => h (by rw [z]; exact sg_at_0 hg)
theorem sg_suf_nz (hg : sg_End g n) {i : Nat} (h : sg_suf g n i ≠ 0) : i ≠ 0 := fun z => h (by rw [z]; exact sg_suf_0 hg)
theorem sg_arg_pos (hg : sg_End g n) {i : Nat} (h : sg_arg g n i ≠ 0) : i < sg_arg g n i ∧ sg_arg g n i ≤ n := sg_ar_pos hg (sg_P_pos hg _) h
theorem sg_sc_pos (hg : sg_End g n) {i : Nat} (h : sg_sc g n i ≠ 0) : i < sg_sc g n i ∧ sg_sc g n i ≤ n ∧ i ≠ 0 := sg_sF_pos hg (sg_P_pos hg _) h
theorem sg_ba_lt (hg : sg_End g n) {i : Nat} (d : sg_ba (g i)) : i < n := by
  apply sg_lt hg
  rcases d with d | d | d | d | d | d | d | d <;> exact sg_ne d
theorem sg_jt_pos (hg : sg_End g n) {i : Nat} (h : sg_jt g n i ≠ 0) : i < sg_jt g n i ∧ sg_jt g n i ≤ n := by
  unfold sg_jt at h ⊢
  by_cases d : sg_ba (g i)
  · rw [if_pos d]
    have := sg_ba_lt hg d
    omega
  · rw [if_neg d] at h ⊢
    exact sg_ref_pos hg h
theorem sg_E_pos (hg : sg_End g n) {i : Nat} (h : sg_E g n i ≠ 0) : i < sg_E g n i ∧ sg_E g n i ≤ n := by
  unfold sg_E at h ⊢
  by_cases a : g i = 46
  · rw [if_pos a] at h ⊢
    have := sg_sc_pos hg h
    omega
  · rw [if_neg a] at h ⊢
    by_cases b : g i = 42
    · rw [if_pos b]
      have := sg_lt hg (i := i) (sg_ne b)
      omega
    · rw [if_neg b] at h ⊢
      by_cases c : g i = 43 ∨ g i = 45
      · rw [if_pos c] at h ⊢
        have := sg_ref_pos hg h
        omega
      · rw [if_neg c] at h ⊢
        exact sg_jt_pos hg h
theorem sg_E_46 {f : Nat} (h : g f = 46) : sg_E g n f = sg_sc g n (f + 1) := by rw [sg_E, if_pos h]
theorem sg_E_42 {f : Nat} (h : g f = 42) : sg_E g n f = f + 1 := by rw [sg_E, if_neg (sg_ne h), if_pos h]
theorem sg_E_pm {f : Nat} (h : g f = 43 ∨ g f = 45) : sg_E g n f = sg_ref g n (f + 1) := by
  rw [sg_E, if_neg (by rcases h with h | h <;> exact sg_ne h), if_neg (by rcases h with h | h <;> exact sg_ne h), if_pos h]
theorem sg_E_jt {f : Nat} (h1 : g f ≠ 46) (h2 : g f ≠ 42) (h3 : g f ≠ 43) (h4 : g f ≠ 45) : sg_E g n f = sg_jt g n f := by
  rw [sg_E, if_neg h1, if_neg h2, if_neg (by intro z; rcases z with z | z; exact h3 z; exact h4 z)]
theorem sg_nba {c : Int32} (h : c = 76 ∨ c = 84 ∨ c = 91) : ¬ sg_ba c := by
  rcases h with h | h | h <;> subst h <;> decide
theorem sg_E_ref {f : Nat} (h : g f = 76 ∨ g f = 84 ∨ g f = 91) : sg_E g n f = sg_ref g n f := by
  rw [sg_E_jt (by rcases h with h | h | h <;> exact sg_ne h) (by rcases h with h | h | h <;> exact sg_ne h) (by rcases h with h | h | h <;> exact sg_ne h) (by rcases h with h | h | h <;> exact sg_ne h), sg_jt, if_neg (sg_nba h)]
theorem sg_E_ba {f : Nat} (h : sg_ba (g f)) : sg_E g n f = f + 1 := by
  rw [sg_E_jt (by rcases h with h | h | h | h | h | h | h | h <;> exact sg_ne h) (by rcases h with h | h | h | h | h | h | h | h <;> exact sg_ne h) (by rcases h with h | h | h | h | h | h | h | h <;> exact sg_ne h) (by rcases h with h | h | h | h | h | h | h | h <;> exact sg_ne h), sg_jt, if_pos h]
theorem sg_arg_42 {f : Nat} (h : g f = 42) : sg_arg g n f = f + 1 := by rw [sg_arg, sg_ar, if_pos h]
theorem sg_arg_pm {f : Nat} (h : g f = 43 ∨ g f = 45) : sg_arg g n f = sg_ref g n (f + 1) := by
  rw [sg_arg, sg_ar, if_neg (by rcases h with h | h <;> exact sg_ne h), if_pos h]; rfl
theorem sg_arg_ref {f : Nat} (h2 : g f ≠ 42) (h3 : g f ≠ 43) (h4 : g f ≠ 45) : sg_arg g n f = sg_ref g n f := by
  rw [sg_arg, sg_ar, if_neg h2, if_neg (by intro z; rcases z with z | z; exact h3 z; exact h4 z)]; rfl
end
end
section
def sg_M (g : Nat → Int32) (n : Nat) : Nat → Nat → Prop
  | 0 => fun q => q = 0
  | i + 1 => fun q => sg_M g n i q ∨ (q = i + 1 ∧ (g i = 60 ∨ (sg_M g n i i ∧ (g i = 91 ∨ g i = 43 ∨ g i = 45)))) ∨ (sg_M g n i i ∧ g i ≠ 46 ∧ sg_E g n i = q ∧ q < n ∧ g q ≠ 62)
def sg_N (g : Nat → Int32) (n i : Nat) : Prop := g i = 46 ∨ sg_M g n i i
def sg_En (g : Nat → Int32) (n p c : Nat) (F : Nat → Nat) : Prop := (∀ m, m < c → F m < p ∧ sg_N g n (F m)) ∧ (∀ m m', m < m' → m' < c → F m < F m') ∧ (∀ q, q < p → sg_N g n q → ∃ m, m < c ∧ F m = q)
def sg_u (f : Nat → Nat) (k x : Nat) : Nat → Nat := fun j => if j = k then x else f j
theorem sg_us {f : Nat → Nat} {k x : Nat} : sg_u f k x k = x := if_pos rfl
theorem sg_un {f : Nat → Nat} {k j x : Nat} (h : j ≠ k) : sg_u f k x j = f j := if_neg h
section
variable {g : Nat → Int32} {n : Nat}
theorem sg_M_mono {q : Nat} : ∀ i j, i ≤ j → sg_M g n i q → sg_M g n j q := by
  intro i j
  induction j with
  | zero =>
    intro h hM
    have : i = 0 := by omega
    subst this
    exact hM
  | succ j ih =>
    intro h hM
    by_cases e : i = j + 1
    · subst e; exact hM
    · exact Or.inl (ih (by omega) hM)
theorem sg_M_back {a b : Nat} (h : ∀ i, a ≤ i → i < b → ¬ sg_M g n a i ∧ g i ≠ 60) : ∀ d, a + d ≤ b → ∀ q, sg_M g n (a + d) q → sg_M g n a q := by
  intro d
  induction d with
  | zero => intro _ q hq; exact hq
  | succ d ih =>
    intro hd q hq
    have e := h (a + d) (by omega) (by omega)
    rcases hq with hq | ⟨_, hq | ⟨hq, _⟩⟩ | ⟨hq, _⟩
    · exact ih (by omega) q hq
    · exact absurd hq e.2
    · exact absurd (ih (by omega) _ hq) e.1
    · exact absurd (ih (by omega) _ hq) e.1
theorem sg_M_bk {a b : Nat} (hab : a ≤ b) (h : ∀ i, a ≤ i → i < b → ¬ sg_M g n a i ∧ g i ≠ 60) {q : Nat} (hq : sg_M g n b q) : sg_M g n a q := by
  have := sg_M_back h (b - a) (by omega) q
  rw [show a + (b - a) = b by omega] at this
  exact this hq
theorem sg_N_bk {a b : Nat} (h : ∀ i, a ≤ i → i < b → ¬ sg_M g n a i ∧ g i ≠ 60 ∧ g i ≠ 46) : ∀ i, a ≤ i → i < b → ¬ sg_N g n i := by
  intro i h1 h2 hN
  rcases hN with hN | hN
  · exact (h i h1 h2).2.2 hN
  · exact (h i h1 h2).1 (sg_M_bk (b := i) h1 (fun k k1 k2 => ⟨(h k k1 (by omega)).1, (h k k1 (by omega)).2.1⟩) hN)
theorem sg_En_0 : sg_En g n 0 0 (fun _ => 0) := ⟨fun _ h => absurd h (by omega), fun _ _ _ h => absurd h (by omega), fun _ h => absurd h (by omega)⟩
theorem sg_En_skip {p p' c : Nat} {F : Nat → Nat} (h : sg_En g n p c F) (hp : p ≤ p') (hn : ∀ i, p ≤ i → i < p' → ¬ sg_N g n i) : sg_En g n p' c F := by
  refine ⟨fun m hm => ⟨by have := (h.1 m hm).1; omega, (h.1 m hm).2⟩, h.2.1, ?_⟩
  intro q hq hN
  by_cases e : q < p
  · exact h.2.2 q e hN
  · exact absurd hN (hn q (by omega) hq)
theorem sg_En_add {p c : Nat} {F : Nat → Nat} (h : sg_En g n p c F) (hN : sg_N g n p) : sg_En g n (p + 1) (c + 1) (sg_u F c p) := by
  refine ⟨?_, ?_, ?_⟩
  · intro m hm
    by_cases e : m = c
    · subst e; rw [sg_us]; exact ⟨by omega, hN⟩
    · rw [sg_un e]
      have := h.1 m (by omega)
      exact ⟨by omega, this.2⟩
  · intro m m' h1 h2
    by_cases e : m' = c
    · subst e
      rw [sg_us, sg_un (by omega)]
      exact (h.1 m (by omega)).1
    · rw [sg_un e, sg_un (by omega)]
      exact h.2.1 m m' h1 (by omega)
  · intro q hq hNq
    by_cases e : q = p
    · subst e; exact ⟨c, by omega, sg_us⟩
    · obtain ⟨m, hm, e2⟩ := h.2.2 q (by omega) hNq
      exact ⟨m, by omega, by rw [sg_un (by omega)]; exact e2⟩
theorem sg_En_ge {p c : Nat} {F : Nat → Nat} (h : sg_En g n p c F) : ∀ m, m < c → m ≤ F m := by
  intro m
  induction m with
  | zero => intro _; omega
  | succ m ih =>
    intro hm
    have h1 := ih (by omega)
    have h2 := h.2.1 m (m + 1) (by omega) hm
    omega
theorem sg_En_le {p c : Nat} {F : Nat → Nat} (h : sg_En g n p c F) : c ≤ p := by
  cases c with
  | zero => omega
  | succ c =>
    have h1 := sg_En_ge h c (by omega)
    have h2 := (h.1 c (by omega)).1
    omega
theorem sg_En_half {p c c' : Nat} {F F' : Nat → Nat} (h : sg_En g n p c F) (h' : sg_En g n p c' F') : ∀ m, m < c → m < c' ∧ F m = F' m := by
  intro m
  induction m using Nat.strongRecOn with
  | ind m ih =>
    intro hm
    obtain ⟨a, b⟩ := h.1 m hm
    obtain ⟨m2, h2, e2⟩ := h'.2.2 _ a b
    have l1 : m ≤ m2 := by
      apply Nat.le_of_not_lt
      intro z
      have h3 := (ih m2 z (by omega)).2
      have h4 := h.2.1 m2 m z hm
      omega
    have hc : m < c' := by omega
    obtain ⟨a', b'⟩ := h'.1 m hc
    obtain ⟨m3, h3, e3⟩ := h.2.2 _ a' b'
    have l2 : m ≤ m3 := by
      apply Nat.le_of_not_lt
      intro z
      have h4 := (ih m3 z h3).2
      have h5 := h'.2.1 m3 m z hc
      omega
    refine ⟨hc, ?_⟩
    have k1 : F' m ≤ F' m2 := by
      by_cases e : m = m2
      · rw [e]; exact Nat.le_refl _
      · exact Nat.le_of_lt (h'.2.1 m m2 (by omega) h2)
    have k2 : F m ≤ F m3 := by
      by_cases e : m = m3
      · rw [e]; exact Nat.le_refl _
      · exact Nat.le_of_lt (h.2.1 m m3 (by omega) h3)
    omega
theorem sg_En_uniq {p c c' : Nat} {F F' : Nat → Nat} (h : sg_En g n p c F) (h' : sg_En g n p c' F') : c = c' ∧ ∀ m, m < c → F m = F' m := by
  refine ⟨?_, fun m hm => (sg_En_half h h' m hm).2⟩
  rcases Nat.lt_trichotomy c c' with z | z | z
  · have := (sg_En_half h' h c z).1; omega
  · exact z
  · have := (sg_En_half h h' c' z).1; omega
end
end
section
def sg_Op (sp : Nat) (S : Nat → Nat) (m : Nat) : Prop := ∃ j, j < sp ∧ S j = m
def sg_bl (g : Nat → Int32) (n sp : Nat) (F S : Nat → Nat) (m k : Nat) : Prop := sg_Op sp S k ∨ F m < sg_E g n (F k)
def sg_B (g : Nat → Int32) (n p sp c : Nat) (F S : Nat → Nat) : Prop := p ≤ n ∧ sg_En g n p c F ∧ (∀ j, j < sp → S j < c) ∧ (∀ j, j + 1 < sp → S j < S (j + 1)) ∧ (∀ m, m < c → ¬ sg_Op sp S m → 0 < sg_E g n (F m) ∧ sg_E g n (F m) ≤ p)
def sg_co1 (g : Nat → Int32) (n f v : Nat) : Nat := if g f = 76 then sg_suf g n (sg_at g n v) else if g f = 46 then sg_at g n v else v
def sg_co (g : Nat → Int32) (n f f' v : Nat) : Nat := if g f = 76 ∧ g f' = 46 then sg_suf g n v else sg_co1 g n f v
def sg_Lk (g : Nat → Int32) (n f f' : Nat) : Prop := sg_co g n f f' (sg_E g n f') = sg_E g n f ∧ (g f' = 46 → g f = 76)
def sg_L (g : Nat → Int32) (n sp : Nat) (F S : Nat → Nat) : Prop := (0 < sp → sg_E g n (F (S 0)) = sg_ref g n 0 ∧ g (F (S 0)) ≠ 46) ∧ ∀ j, j + 1 < sp → sg_Lk g n (F (S j)) (F (S (j + 1)))
def sg_C1 (g : Nat → Int32) (n sp c : Nat) (F S fi pa : Nat → Nat) : Prop := (∀ k, k < c → fi k = 0 → ∀ m, k < m → m < c → ¬ sg_bl g n sp F S m k) ∧ (∀ k, k < c → fi k ≠ 0 → fi k = k + 1 ∧ k + 1 < c ∧ pa (k + 1) = k ∧ sg_bl g n sp F S (k + 1) k)
def sg_C2 (g : Nat → Int32) (n sp c : Nat) (F S nx pa : Nat → Nat) : Prop := (∀ k, k < c → 0 < k → nx k = 0 → ∀ m, k < m → m < c → sg_bl g n sp F S m (pa k) → sg_bl g n sp F S m k) ∧ (∀ k, k < c → nx k ≠ 0 → k < nx k ∧ nx k < c ∧ pa (nx k) = pa k ∧ ¬ sg_bl g n sp F S (nx k) k ∧ sg_bl g n sp F S (nx k) (pa k) ∧ ∀ m, k < m → m < nx k → sg_bl g n sp F S m k)
def sg_C4 (sp c : Nat) (S fi nx la pa : Nat → Nat) : Prop := (∀ j, j < sp → fi (S j) ≠ 0 → 0 < la (S j) ∧ la (S j) < c ∧ pa (la (S j)) = S j ∧ nx (la (S j)) = 0 ∧ (j + 1 < sp → la (S j) = S (j + 1)) ∧ (j + 1 = sp → ¬ sg_Op sp S (la (S j)))) ∧ (∀ k, k < c → 0 < k → nx k = 0 → sg_Op sp S (pa k) → la (pa k) = k) ∧ (∀ k, k < c → 0 < k → pa k < k)
def sg_Z (g : Nat → Int32) (n p sp c : Nat) (F S fi nx la pa : Nat → Nat) : Prop := sg_B g n p sp c F S ∧ sg_L g n sp F S ∧ sg_C1 g n sp c F S fi pa ∧ sg_C2 g n sp c F S nx pa ∧ sg_C4 sp c S fi nx la pa
section
variable {g : Nat → Int32} {n p sp c : Nat} {F S fi nx la pa : Nat → Nat}
theorem sg_inc (h : ∀ j, j + 1 < sp → S j < S (j + 1)) : ∀ d j, j + d + 1 < sp → S j < S (j + d + 1) := by
  intro d
  induction d with
  | zero => intro j hj; exact h j hj
  | succ d ih =>
    intro j hj
    have h1 := ih j (by omega)
    have h2 := h (j + d + 1) (by omega)
    rw [show j + (d + 1) + 1 = j + d + 1 + 1 by omega]
    omega
theorem sg_incl (h : ∀ j, j + 1 < sp → S j < S (j + 1)) {i j : Nat} (hi : i < j) (hj : j < sp) : S i < S j := by
  have := sg_inc h (j - i - 1) i (by omega)
  rw [show i + (j - i - 1) + 1 = j by omega] at this
  exact this
theorem sg_Op_push {m : Nat} : sg_Op (sp + 1) (sg_u S sp c) m ↔ sg_Op sp S m ∨ m = c := by
  constructor
  · rintro ⟨j, hj, e⟩
    by_cases z : j = sp
    · subst z; rw [sg_us] at e; exact Or.inr e.symm
    · rw [sg_un z] at e; exact Or.inl ⟨j, by omega, e⟩
  · rintro (⟨j, hj, e⟩ | e)
    · exact ⟨j, by omega, by rw [sg_un (by omega)]; exact e⟩
    · exact ⟨sp, by omega, by rw [sg_us]; exact e.symm⟩
theorem sg_bl_push {m k : Nat} (hm : m < c) (hk : k < c) : sg_bl g n (sp + 1) (sg_u F c p) (sg_u S sp c) m k ↔ sg_bl g n sp F S m k := by
  unfold sg_bl
  rw [sg_Op_push, sg_un (by omega : m ≠ c), sg_un (by omega : k ≠ c)]
  constructor
  · rintro ((h | h) | h)
    · exact Or.inl h
    · omega
    · exact Or.inr h
  · rintro (h | h)
    · exact Or.inl (Or.inl h)
    · exact Or.inr h
theorem sg_bl_new {k : Nat} (hB : sg_B g n p sp c F S) (hk : k < c) : sg_bl g n (sp + 1) (sg_u F c p) (sg_u S sp c) c k ↔ sg_Op sp S k := by
  unfold sg_bl
  rw [sg_Op_push, sg_us, sg_un (by omega : k ≠ c)]
  constructor
  · rintro ((h | h) | h)
    · exact h
    · omega
    · apply Classical.byContradiction
      intro z
      have := (hB.2.2.2.2 k hk z).2
      omega
  · intro h; exact Or.inl (Or.inl h)
theorem sg_bl_opn {m k : Nat} (h : sg_Op sp S k) : sg_bl g n sp F S m k := Or.inl h
theorem sg_B_push (hB : sg_B g n p sp c F S) (hp : p < n) (hN : sg_N g n p) : sg_B g n (p + 1) (sp + 1) (c + 1) (sg_u F c p) (sg_u S sp c) := by
  obtain ⟨h1, h2, h3, h4, h5⟩ := hB
  refine ⟨by omega, sg_En_add h2 hN, ?_, ?_, ?_⟩
  · intro j hj
    by_cases e : j = sp
    · subst e; rw [sg_us]; omega
    · rw [sg_un e]; have := h3 j (by omega); omega
  · intro j hj
    by_cases e : j + 1 = sp
    · rw [e, sg_us, sg_un (by omega)]; exact h3 j (by omega)
    · rw [sg_un (by omega), sg_un e]; exact h4 j (by omega)
  · intro m hm ho
    rw [sg_Op_push] at ho
    have e : m ≠ c := fun z => ho (Or.inr z)
    rw [sg_un e]
    have := h5 m (by omega) (fun z => ho (Or.inl z))
    omega
theorem sg_L_push (hB : sg_B g n p sp c F S) (hL : sg_L g n sp F S) (h0 : sp = 0 → sg_E g n p = sg_ref g n 0 ∧ g p ≠ 46) (h1 : 0 < sp → sg_Lk g n (F (S (sp - 1))) p) : sg_L g n (sp + 1) (sg_u F c p) (sg_u S sp c) := by
  have hS := hB.2.2.1
  have hF : ∀ j, j < sp → sg_u F c p (sg_u S sp c j) = F (S j) := by
    intro j hj
    have := hS j hj
    rw [sg_un (by omega : j ≠ sp), sg_un (by omega)]
  have hT : sg_u F c p (sg_u S sp c sp) = p := by rw [sg_us, sg_us]
  refine ⟨?_, ?_⟩
  · intro _
    by_cases z : sp = 0
    · subst z; rw [hT]; exact h0 rfl
    · rw [hF 0 (by omega)]; exact hL.1 (by omega)
  · intro j hj
    by_cases e : j + 1 = sp
    · rw [e, hT, hF j (by omega)]
      have := h1 (by omega)
      rw [show sp - 1 = j by omega] at this
      exact this
    · rw [hF j (by omega), hF (j + 1) (by omega)]
      exact hL.2 j (by omega)
theorem sg_fi_mid (hB : sg_B g n p sp c F S) (hC : sg_C1 g n sp c F S fi pa) {j : Nat} (hj : j + 1 < sp) : fi (S j) ≠ 0 := by
  intro z
  exact hC.1 (S j) (hB.2.2.1 j (by omega)) z (S (j + 1)) (hB.2.2.2.1 j hj) (hB.2.2.1 (j + 1) hj) (sg_bl_opn ⟨j, by omega, rfl⟩)
theorem sg_top_c (hB : sg_B g n p sp c F S) (hC : sg_C1 g n sp c F S fi pa) (h0 : 0 < sp) (hf : fi (S (sp - 1)) = 0) : c = S (sp - 1) + 1 := by
  have h1 := hB.2.2.1 (sp - 1) (by omega)
  apply Classical.byContradiction
  intro z
  exact hC.1 (S (sp - 1)) h1 hf (S (sp - 1) + 1) (by omega) (by omega) (sg_bl_opn ⟨sp - 1, by omega, rfl⟩)
theorem sg_C1_pushA (hB : sg_B g n p sp c F S) (hC : sg_C1 g n sp c F S fi pa) (h0 : 0 < sp) (hf : fi (S (sp - 1)) = 0) : sg_C1 g n (sp + 1) (c + 1) (sg_u F c p) (sg_u S sp c) (sg_u (sg_u fi c 0) (S (sp - 1)) c) (sg_u pa c (S (sp - 1))) := by
  have ht := hB.2.2.1 (sp - 1) (by omega)
  have hc := sg_top_c hB hC h0 hf
  refine ⟨?_, ?_⟩
  · intro k hk hz m h1 h2
    have kt : k ≠ S (sp - 1) := by
      intro e; rw [e, sg_us] at hz; omega
    have kc : k ≠ c := by omega
    rw [sg_un kt, sg_un kc] at hz
    by_cases e : m = c
    · subst e
      rw [sg_bl_new hB (by omega)]
      rintro ⟨j, hj, e⟩
      have : j ≠ sp - 1 := fun z => kt (by rw [← e, z])
      exact sg_fi_mid hB hC (j := j) (by omega) (by rw [e]; exact hz)
    · rw [sg_bl_push (by omega) (by omega)]
      exact hC.1 k (by omega) hz m h1 (by omega)
  · intro k hk hz
    by_cases e : k = S (sp - 1)
    · subst e
      rw [sg_us]
      refine ⟨hc, by omega, ?_, ?_⟩
      · rw [← hc, sg_us]
      · exact sg_bl_opn (sg_Op_push.mpr (Or.inl ⟨sp - 1, by omega, rfl⟩))
    · by_cases kc : k = c
      · subst kc; rw [sg_un e, sg_us] at hz; exact absurd rfl hz
      · rw [sg_un e, sg_un kc] at hz ⊢
        obtain ⟨a1, a2, a3, a4⟩ := hC.2 k (by omega) hz
        refine ⟨a1, by omega, ?_, ?_⟩
        · rw [sg_un (by omega)]; exact a3
        · rw [sg_bl_push a2 (by omega)]; exact a4
theorem sg_C1_pushB (hB : sg_B g n p sp c F S) (hC : sg_C1 g n sp c F S fi pa) (h0 : 0 < sp) (hf : fi (S (sp - 1)) ≠ 0) : sg_C1 g n (sp + 1) (c + 1) (sg_u F c p) (sg_u S sp c) (sg_u fi c 0) (sg_u pa c (S (sp - 1))) := by
  refine ⟨?_, ?_⟩
  · intro k hk hz m h1 h2
    have kc : k ≠ c := by omega
    rw [sg_un kc] at hz
    have kt : k ≠ S (sp - 1) := fun e => hf (by rw [← e]; exact hz)
    by_cases e : m = c
    · subst e
      rw [sg_bl_new hB (by omega)]
      rintro ⟨j, hj, e⟩
      have : j ≠ sp - 1 := fun z => kt (by rw [← e, z])
      exact sg_fi_mid hB hC (j := j) (by omega) (by rw [e]; exact hz)
    · rw [sg_bl_push (by omega) (by omega)]
      exact hC.1 k (by omega) hz m h1 (by omega)
  · intro k hk hz
    by_cases kc : k = c
    · subst kc; rw [sg_us] at hz; exact absurd rfl hz
    · rw [sg_un kc] at hz ⊢
      obtain ⟨a1, a2, a3, a4⟩ := hC.2 k (by omega) hz
      refine ⟨a1, by omega, ?_, ?_⟩
      · rw [sg_un (by omega)]; exact a3
      · rw [sg_bl_push a2 (by omega)]; exact a4
theorem sg_C2_pushA (hB : sg_B g n p sp c F S) (hC : sg_C1 g n sp c F S fi pa) (hD : sg_C2 g n sp c F S nx pa) (hG : sg_C4 sp c S fi nx la pa) (h0 : 0 < sp) (hf : fi (S (sp - 1)) = 0) : sg_C2 g n (sp + 1) (c + 1) (sg_u F c p) (sg_u S sp c) (sg_u nx c 0) (sg_u pa c (S (sp - 1))) := by
  have ht := hB.2.2.1 (sp - 1) (by omega)
  refine ⟨?_, ?_⟩
  · intro k hk k0 hz m h1 h2
    have kc : k ≠ c := by omega
    rw [sg_un kc] at hz
    rw [sg_un kc]
    have hpa := hG.2.2 k (by omega) k0
    by_cases e : m = c
    · subst e
      rw [sg_bl_new hB (by omega), sg_bl_new hB (by omega)]
      intro ho
      have hla := hG.2.1 k (by omega) k0 hz ho
      obtain ⟨j, hj, e⟩ := ho
      by_cases z : j = sp - 1
      · exfalso
        subst z
        refine hC.1 (S (sp - 1)) ht hf k (by omega) (by omega) (sg_bl_opn ⟨sp - 1, by omega, rfl⟩)
      · have hq := hG.1 j hj (sg_fi_mid hB hC (by omega))
        have := hq.2.2.2.2.1 (by omega)
        rw [e, hla] at this
        exact ⟨j + 1, by omega, this.symm⟩
    · rw [sg_bl_push (by omega) (by omega), sg_bl_push (by omega) (by omega)]
      exact hD.1 k (by omega) k0 hz m h1 (by omega)
  · intro k hk hz
    have kc : k ≠ c := by intro e; subst e; rw [sg_us] at hz; exact hz rfl
    rw [sg_un kc] at hz ⊢
    obtain ⟨a1, a2, a3, a4, a5, a6⟩ := hD.2 k (by omega) hz
    have hpn := hG.2.2 (nx k) a2 (by omega)
    refine ⟨a1, by omega, ?_, ?_, ?_, ?_⟩
    · rw [sg_un (by omega), sg_un kc]; exact a3
    · rw [sg_bl_push a2 (by omega)]; exact a4
    · rw [sg_un kc, sg_bl_push a2 (by omega)]; exact a5
    · intro m m1 m2
      rw [sg_bl_push (by omega) (by omega)]; exact a6 m m1 m2
theorem sg_C2_pushB (hB : sg_B g n p sp c F S) (hC : sg_C1 g n sp c F S fi pa) (hD : sg_C2 g n sp c F S nx pa) (hG : sg_C4 sp c S fi nx la pa) (h0 : 0 < sp) (hf : fi (S (sp - 1)) ≠ 0) : sg_C2 g n (sp + 1) (c + 1) (sg_u F c p) (sg_u S sp c) (sg_u (sg_u nx c 0) (la (S (sp - 1))) c) (sg_u pa c (S (sp - 1))) := by
  have ht := hB.2.2.1 (sp - 1) (by omega)
  obtain ⟨l0, l1, l2, l3, _, l5⟩ := hG.1 (sp - 1) (by omega) hf
  have l6 := l5 (by omega)
  refine ⟨?_, ?_⟩
  · intro k hk k0 hz m h1 h2
    have kc : k ≠ c := by omega
    have kl : k ≠ la (S (sp - 1)) := by intro e; rw [e, sg_us] at hz; omega
    rw [sg_un kl, sg_un kc] at hz
    rw [sg_un kc]
    have hpa := hG.2.2 k (by omega) k0
    by_cases e : m = c
    · subst e
      rw [sg_bl_new hB (by omega), sg_bl_new hB (by omega)]
      intro ho
      have hla := hG.2.1 k (by omega) k0 hz ho
      obtain ⟨j, hj, e⟩ := ho
      by_cases z : j = sp - 1
      · exfalso
        apply kl
        rw [← z, e]
        exact hla.symm
      · have hq := hG.1 j hj (sg_fi_mid hB hC (by omega))
        have := hq.2.2.2.2.1 (by omega)
        rw [e, hla] at this
        exact ⟨j + 1, by omega, this.symm⟩
    · rw [sg_bl_push (by omega) (by omega), sg_bl_push (by omega) (by omega)]
      exact hD.1 k (by omega) k0 hz m h1 (by omega)
  · intro k hk hz
    by_cases kl : k = la (S (sp - 1))
    · subst kl
      rw [sg_us, sg_us, sg_un (by omega : la (S (sp - 1)) ≠ c)]
      refine ⟨l1, by omega, l2.symm, ?_, ?_, ?_⟩
      · rw [sg_bl_new hB l1]; exact l6
      · rw [l2, sg_bl_new hB ht]; exact ⟨sp - 1, by omega, rfl⟩
      · intro m m1 m2
        rw [sg_bl_push m2 l1]
        exact hD.1 _ l1 l0 l3 m m1 m2 (by rw [l2]; exact sg_bl_opn ⟨sp - 1, by omega, rfl⟩)
    · rw [sg_un kl] at hz ⊢
      have kc : k ≠ c := by intro e; subst e; rw [sg_us] at hz; exact hz rfl
      rw [sg_un kc] at hz ⊢
      obtain ⟨a1, a2, a3, a4, a5, a6⟩ := hD.2 k (by omega) hz
      have hpn := hG.2.2 (nx k) a2 (by omega)
      refine ⟨a1, by omega, ?_, ?_, ?_, ?_⟩
      · rw [sg_un (by omega), sg_un kc]; exact a3
      · rw [sg_bl_push a2 (by omega)]; exact a4
      · rw [sg_un kc, sg_bl_push a2 (by omega)]; exact a5
      · intro m m1 m2
        rw [sg_bl_push (by omega) (by omega)]; exact a6 m m1 m2
theorem sg_C4_pushA (hB : sg_B g n p sp c F S) (hC : sg_C1 g n sp c F S fi pa) (hG : sg_C4 sp c S fi nx la pa) (h0 : 0 < sp) (hf : fi (S (sp - 1)) = 0) : sg_C4 (sp + 1) (c + 1) (sg_u S sp c) (sg_u (sg_u fi c 0) (S (sp - 1)) c) (sg_u nx c 0) (sg_u la (S (sp - 1)) c) (sg_u pa c (S (sp - 1))) := by
  have ht := hB.2.2.1 (sp - 1) (by omega)
  refine ⟨?_, ?_, ?_⟩
  · intro j hj
    by_cases e : j = sp
    · rw [e, sg_us, sg_un (by omega : c ≠ S (sp - 1)), sg_us]
      intro z; exact absurd rfl z
    · by_cases e2 : j + 1 = sp
      · have e3 : sg_u S sp c j = S (sp - 1) := by rw [sg_un e]; congr 1; omega
        rw [e3, sg_us, sg_us]
        intro _
        rw [sg_us, sg_us]
        refine ⟨by omega, by omega, rfl, rfl, ?_, by omega⟩
        intro _; rw [e2, sg_us]
      · have hj2 : j + 1 < sp := by omega
        have hlt : S j < S (sp - 1) := sg_incl hB.2.2.2.1 (by omega) (by omega)
        rw [sg_un e, sg_un (by omega : S j ≠ S (sp - 1)), sg_un (by omega : S j ≠ S (sp - 1)), sg_un (by omega : S j ≠ c)]
        intro hz
        obtain ⟨b1, b2, b3, b4, b5, b6⟩ := hG.1 j (by omega) hz
        refine ⟨b1, by omega, ?_, ?_, ?_, by omega⟩
        · rw [sg_un (by omega)]; exact b3
        · rw [sg_un (by omega)]; exact b4
        · intro _; rw [sg_un (by omega)]; exact b5 hj2
  · intro k hk k0 hz ho
    by_cases kc : k = c
    · subst kc; rw [sg_us, sg_us]
    · rw [sg_un kc] at hz ho ⊢
      have hpa := hG.2.2 k (by omega) k0
      rw [sg_Op_push] at ho
      have ho2 : sg_Op sp S (pa k) := by
        rcases ho with ho | ho
        · exact ho
        · omega
      by_cases e : pa k = S (sp - 1)
      · exfalso
        exact hC.1 (S (sp - 1)) ht hf k (by omega) (by omega) (sg_bl_opn ⟨sp - 1, by omega, rfl⟩)
      · rw [sg_un e]; exact hG.2.1 k (by omega) k0 hz ho2
  · intro k hk k0
    by_cases kc : k = c
    · subst kc; rw [sg_us]; exact ht
    · rw [sg_un kc]; exact hG.2.2 k (by omega) k0
theorem sg_C4_pushB (hB : sg_B g n p sp c F S) (hC : sg_C1 g n sp c F S fi pa) (hG : sg_C4 sp c S fi nx la pa) (h0 : 0 < sp) (hf : fi (S (sp - 1)) ≠ 0) : sg_C4 (sp + 1) (c + 1) (sg_u S sp c) (sg_u fi c 0) (sg_u (sg_u nx c 0) (la (S (sp - 1))) c) (sg_u la (S (sp - 1)) c) (sg_u pa c (S (sp - 1))) := by
  have ht := hB.2.2.1 (sp - 1) (by omega)
  obtain ⟨l0, l1, l2, l3, _, l5⟩ := hG.1 (sp - 1) (by omega) hf
  have l6 := l5 (by omega)
  refine ⟨?_, ?_, ?_⟩
  · intro j hj
    by_cases e : j = sp
    · subst e
      rw [sg_us, sg_us]
      intro z; exact absurd rfl z
    · by_cases e2 : j + 1 = sp
      · have e3 : sg_u S sp c j = S (sp - 1) := by rw [sg_un e]; congr 1; omega
        rw [e3, sg_us]
        intro _
        rw [sg_us, sg_un (by omega : c ≠ la (S (sp - 1))), sg_us]
        refine ⟨by omega, by omega, rfl, rfl, ?_, by omega⟩
        intro _; rw [e2, sg_us]
      · have hj2 : j + 1 < sp := by omega
        have hlt : S j < S (sp - 1) := sg_incl hB.2.2.2.1 (by omega) (by omega)
        rw [sg_un e, sg_un (by omega : S j ≠ S (sp - 1)), sg_un (by omega : S j ≠ c)]
        intro hz
        obtain ⟨b1, b2, b3, b4, b5, b6⟩ := hG.1 j (by omega) hz
        have hne : la (S j) ≠ la (S (sp - 1)) := by
          intro z
          apply l6
          rw [← z, b5 hj2]
          exact ⟨j + 1, hj2, rfl⟩
        refine ⟨b1, by omega, ?_, ?_, ?_, by omega⟩
        · rw [sg_un (by omega)]; exact b3
        · rw [sg_un hne, sg_un (by omega)]; exact b4
        · intro _; rw [sg_un (by omega)]; exact b5 hj2
  · intro k hk k0 hz ho
    by_cases kc : k = c
    · subst kc; rw [sg_us, sg_us]
    · have kl : k ≠ la (S (sp - 1)) := by intro e; rw [e, sg_us] at hz; omega
      rw [sg_un kl, sg_un kc] at hz
      rw [sg_un kc] at ho ⊢
      have hpa := hG.2.2 k (by omega) k0
      rw [sg_Op_push] at ho
      have ho2 : sg_Op sp S (pa k) := by
        rcases ho with ho | ho
        · exact ho
        · omega
      have hla := hG.2.1 k (by omega) k0 hz ho2
      by_cases e : pa k = S (sp - 1)
      · exfalso; apply kl; rw [← e]; exact hla.symm
      · rw [sg_un e]; exact hla
  · intro k hk k0
    by_cases kc : k = c
    · subst kc; rw [sg_us]; exact ht
    · rw [sg_un kc]; exact hG.2.2 k (by omega) k0
theorem sg_Z_push0 (Z : sg_Z g n p 0 0 F S fi nx la pa) (hp : p < n) (hN : sg_N g n p) (hR : sg_E g n p = sg_ref g n 0 ∧ g p ≠ 46) : sg_Z g n (p + 1) 1 1 (sg_u F 0 p) (sg_u S 0 0) (sg_u fi 0 0) (sg_u nx 0 0) la pa := by
  obtain ⟨hB, hL, _, _, _⟩ := Z
  refine ⟨sg_B_push hB hp hN, sg_L_push hB hL (fun _ => hR) (fun h => absurd h (by omega)), ⟨?_, ?_⟩, ⟨?_, ?_⟩, ⟨?_, ?_, ?_⟩⟩
  · intro k hk _ m h1 h2; omega
  · intro k hk hz
    have e : k = 0 := by omega
    subst e; rw [sg_us] at hz; exact absurd rfl hz
  · intro k hk k0; omega
  · intro k hk hz
    have e : k = 0 := by omega
    subst e; rw [sg_us] at hz; exact absurd rfl hz
  · intro j hj hz
    have e : j = 0 := by omega
    subst e; rw [sg_us, sg_us] at hz; exact absurd rfl hz
  · intro k hk k0; omega
  · intro k hk k0; omega
theorem sg_Z_pushA (Z : sg_Z g n p sp c F S fi nx la pa) (hp : p < n) (hN : sg_N g n p) (h0 : 0 < sp) (hf : fi (S (sp - 1)) = 0) (hK : sg_Lk g n (F (S (sp - 1))) p) : sg_Z g n (p + 1) (sp + 1) (c + 1) (sg_u F c p) (sg_u S sp c) (sg_u (sg_u fi c 0) (S (sp - 1)) c) (sg_u nx c 0) (sg_u la (S (sp - 1)) c) (sg_u pa c (S (sp - 1))) := by
  obtain ⟨hB, hL, hC, hD, hG⟩ := Z
  exact ⟨sg_B_push hB hp hN, sg_L_push hB hL (fun h => absurd h (by omega)) (fun _ => hK), sg_C1_pushA hB hC h0 hf, sg_C2_pushA hB hC hD hG h0 hf, sg_C4_pushA hB hC hG h0 hf⟩
theorem sg_Z_pushB (Z : sg_Z g n p sp c F S fi nx la pa) (hp : p < n) (hN : sg_N g n p) (h0 : 0 < sp) (hf : fi (S (sp - 1)) ≠ 0) (hK : sg_Lk g n (F (S (sp - 1))) p) : sg_Z g n (p + 1) (sp + 1) (c + 1) (sg_u F c p) (sg_u S sp c) (sg_u fi c 0) (sg_u (sg_u nx c 0) (la (S (sp - 1))) c) (sg_u la (S (sp - 1)) c) (sg_u pa c (S (sp - 1))) := by
  obtain ⟨hB, hL, hC, hD, hG⟩ := Z
  exact ⟨sg_B_push hB hp hN, sg_L_push hB hL (fun h => absurd h (by omega)) (fun _ => hK), sg_C1_pushB hB hC h0 hf, sg_C2_pushB hB hC hD hG h0 hf, sg_C4_pushB hB hC hG h0 hf⟩
theorem sg_Op_pop {m : Nat} : sg_Op (sp - 1) S m → sg_Op sp S m := fun ⟨j, hj, e⟩ => ⟨j, by omega, e⟩
theorem sg_bl_pop (hB : sg_B g n p sp c F S) (hE : sg_E g n (F (S (sp - 1))) = p) {m k : Nat} (hm : m < c) : sg_bl g n (sp - 1) F S m k ↔ sg_bl g n sp F S m k := by
  constructor
  · rintro (h | h)
    · exact Or.inl (sg_Op_pop h)
    · exact Or.inr h
  · rintro (⟨j, hj, e⟩ | h)
    · by_cases z : j = sp - 1
      · right
        rw [← e, z, hE]
        exact (hB.2.1.1 m hm).1
      · exact Or.inl ⟨j, by omega, e⟩
    · exact Or.inr h
theorem sg_Z_pop (Z : sg_Z g n p sp c F S fi nx la pa) (h0 : 0 < sp) (hE : sg_E g n (F (S (sp - 1))) = p) : sg_Z g n p (sp - 1) c F S fi nx la pa := by
  obtain ⟨hB, hL, hC, hD, hG⟩ := Z
  have ht := hB.2.2.1 (sp - 1) (by omega)
  refine ⟨⟨hB.1, hB.2.1, fun j hj => hB.2.2.1 j (by omega), fun j hj => hB.2.2.2.1 j (by omega), ?_⟩, ⟨fun h => hL.1 (by omega), fun j hj => hL.2 j (by omega)⟩, ⟨?_, ?_⟩, ⟨?_, ?_⟩, ⟨?_, ?_, hG.2.2⟩⟩
  · intro m hm ho
    by_cases e : m = S (sp - 1)
    · have := (hB.2.1.1 (S (sp - 1)) ht).1
      rw [e, hE]; omega
    · apply hB.2.2.2.2 m hm
      rintro ⟨j, hj, z⟩
      by_cases y : j = sp - 1
      · exact e (by rw [← z, y])
      · exact ho ⟨j, by omega, z⟩
  · intro k hk hz m h1 h2
    rw [sg_bl_pop hB hE h2]
    exact hC.1 k hk hz m h1 h2
  · intro k hk hz
    obtain ⟨a1, a2, a3, a4⟩ := hC.2 k hk hz
    exact ⟨a1, a2, a3, by rw [sg_bl_pop hB hE a2]; exact a4⟩
  · intro k hk k0 hz m h1 h2
    rw [sg_bl_pop hB hE h2, sg_bl_pop hB hE h2]
    exact hD.1 k hk k0 hz m h1 h2
  · intro k hk hz
    obtain ⟨a1, a2, a3, a4, a5, a6⟩ := hD.2 k hk hz
    refine ⟨a1, a2, a3, ?_, ?_, ?_⟩
    · rw [sg_bl_pop hB hE a2]; exact a4
    · rw [sg_bl_pop hB hE a2]; exact a5
    · intro m m1 m2
      rw [sg_bl_pop hB hE (by omega)]; exact a6 m m1 m2
  · intro j hj hz
    obtain ⟨b1, b2, b3, b4, b5, b6⟩ := hG.1 j (by omega) hz
    refine ⟨b1, b2, b3, b4, fun _ => b5 (by omega), ?_⟩
    intro e
    rw [b5 (by omega)]
    rintro ⟨i, hi, z⟩
    have := sg_incl hB.2.2.2.1 (i := i) (j := j + 1) (by omega) (by omega)
    omega
  · intro k hk k0 hz ho
    exact hG.2.1 k hk k0 hz (sg_Op_pop ho)
theorem sg_Z_move {p' : Nat} (Z : sg_Z g n p sp c F S fi nx la pa) (hp : p ≤ p') (hn : p' ≤ n) (hN : ∀ i, p ≤ i → i < p' → ¬ sg_N g n i) : sg_Z g n p' sp c F S fi nx la pa := by
  obtain ⟨hB, hr⟩ := Z
  refine ⟨⟨hn, sg_En_skip hB.2.1 hp hN, hB.2.2.1, hB.2.2.2.1, ?_⟩, hr⟩
  intro m hm ho
  have := hB.2.2.2.2 m hm ho
  omega
end
end
section
def sg_Mk (g : Nat → Int32) (n p sp : Nat) (F S : Nat → Nat) (h : Prop) : Prop := (h → sg_M g n p p) ∧ ∀ q, p ≤ q → sg_M g n p q → (q = p ∧ h) ∨ ∃ j, j < sp ∧ g (F (S j)) ≠ 46 ∧ sg_E g n (F (S j)) = q ∧ q < n ∧ g q ≠ 62
section
variable {g : Nat → Int32} {n p sp c : Nat} {F S fi nx la pa : Nat → Nat}
theorem sg_co1_pos (hg : sg_End g n) {f v : Nat} (h : sg_co1 g n f v ≠ 0) : v ≠ 0 ∧ v ≤ sg_co1 g n f v := by
  unfold sg_co1 at h ⊢
  by_cases a : g f = 76
  · rw [if_pos a] at h ⊢
    have h1 := sg_suf_nz hg h
    have h2 := sg_suf_pos hg h
    have h3 := sg_at_nz hg h1
    have h4 := sg_at_pos hg h1
    omega
  · rw [if_neg a] at h ⊢
    by_cases b : g f = 46
    · rw [if_pos b] at h ⊢
      have h3 := sg_at_nz hg h
      have h4 := sg_at_pos hg h
      omega
    · rw [if_neg b] at h ⊢
      omega
theorem sg_co_pos (hg : sg_End g n) {f f' v : Nat} (h : sg_co g n f f' v ≠ 0) : v ≠ 0 ∧ v ≤ sg_co g n f f' v := by
  unfold sg_co at h ⊢
  by_cases a : g f = 76 ∧ g f' = 46
  · rw [if_pos a] at h ⊢
    have h1 := sg_suf_nz hg h
    have h2 := sg_suf_pos hg h
    omega
  · rw [if_neg a] at h ⊢
    exact sg_co1_pos hg h
theorem sg_chain (hg : sg_End g n) (hL : sg_L g n sp F S) : ∀ d, d + 1 ≤ sp → sg_E g n (F (S (sp - 1 - d))) ≠ 0 → sg_E g n (F (S (sp - 1))) ≠ 0 ∧ sg_E g n (F (S (sp - 1))) ≤ sg_E g n (F (S (sp - 1 - d))) := by
  intro d
  induction d with
  | zero => intro _ h; exact ⟨h, Nat.le_refl _⟩
  | succ d ih =>
    intro hd h
    have hk := (hL.2 (sp - 1 - (d + 1)) (by omega)).1
    rw [show sp - 1 - (d + 1) + 1 = sp - 1 - d by omega] at hk
    rw [← hk] at h
    have h1 := sg_co_pos hg h
    have h2 := ih (by omega) h1.1
    rw [hk] at h1
    exact ⟨h2.1, by omega⟩
theorem sg_chn (hg : sg_End g n) (hL : sg_L g n sp F S) {j : Nat} (hj : j < sp) (h : sg_E g n (F (S j)) ≠ 0) : sg_E g n (F (S (sp - 1))) ≠ 0 ∧ sg_E g n (F (S (sp - 1))) ≤ sg_E g n (F (S j)) := by
  have := sg_chain hg hL (sp - 1 - j) (by omega)
  rw [show sp - 1 - (sp - 1 - j) = j by omega] at this
  exact this h
theorem sg_fail (hg : sg_End g n) (hL : sg_L g n sp F S) (h0 : 0 < sp) (hE : sg_E g n (F (S (sp - 1))) = 0) : sg_ref g n 0 = 0 := by
  rw [← (hL.1 h0).1]
  apply Classical.byContradiction
  intro z
  exact (sg_chn hg hL h0 z).1 hE
theorem sg_Mk_c {h h' : Prop} (e : h ↔ h') (H : sg_Mk g n p sp F S h) : sg_Mk g n p sp F S h' := by
  have : h = h' := propext e
  subst this
  exact H
theorem sg_Mk_push {h : Prop} (H : sg_Mk g n p sp F S h) (hS : ∀ j, j < sp → S j < c) (h6 : g p ≠ 60) : sg_Mk g n (p + 1) (sp + 1) (sg_u F c p) (sg_u S sp c) (sg_M g n p p ∧ (g p = 91 ∨ g p = 43 ∨ g p = 45)) := by
  refine ⟨fun hh => Or.inr (Or.inl ⟨rfl, Or.inr hh⟩), ?_⟩
  intro q hq hM
  rcases hM with hM | ⟨e, hM | hM⟩ | ⟨_, h1, h2, h3, h4⟩
  · rcases H.2 q (by omega) hM with ⟨e, _⟩ | ⟨j, hj, h1, h2, h3, h4⟩
    · omega
    · refine Or.inr ⟨j, by omega, ?_⟩
      have := hS j hj
      rw [sg_un (by omega : j ≠ sp), sg_un (by omega)]
      exact ⟨h1, h2, h3, h4⟩
  · exact absurd hM h6
  · exact Or.inl ⟨e, hM⟩
  · refine Or.inr ⟨sp, by omega, ?_⟩
    rw [sg_us, sg_us]
    exact ⟨h1, h2, h3, h4⟩
theorem sg_Mk_move {a b : Nat} {h : Prop} (H : sg_Mk g n a sp F S h) (nh : ¬ h) (a0 : 0 < a) (hab : a ≤ b) (hc : ∀ i, a ≤ i → i < b → g i ≠ 60 ∧ g i ≠ 46) (hE : ∀ j, j < sp → sg_E g n (F (S j)) ≠ 0 → b ≤ sg_E g n (F (S j))) : sg_Mk g n b sp F S False ∧ ∀ i, a ≤ i → i < b → ¬ sg_N g n i := by
  have hM : ∀ i, a ≤ i → i < b → ¬ sg_M g n a i := by
    intro i h1 h2 hM
    rcases H.2 i h1 hM with ⟨_, z⟩ | ⟨j, hj, _, e, _⟩
    · exact nh z
    · have := hE j hj (by omega)
      omega
  refine ⟨⟨fun z => z.elim, ?_⟩, sg_N_bk (fun i h1 h2 => ⟨hM i h1 h2, hc i h1 h2⟩)⟩
  intro q hq hMq
  have := sg_M_bk hab (fun i h1 h2 => ⟨hM i h1 h2, (hc i h1 h2).1⟩) hMq
  rcases H.2 q (by omega) this with ⟨_, z⟩ | z
  · exact absurd z nh
  · exact Or.inr z
theorem sg_Mk_lt {b : Nat} (H : sg_Mk g n b sp F S False) (b0 : 0 < b) (h6 : g b = 60) (hE : ∀ j, j < sp → sg_E g n (F (S j)) ≠ 0 → b < sg_E g n (F (S j))) : sg_Mk g n (b + 1) sp F S True ∧ ¬ sg_N g n b := by
  have hM : ¬ sg_M g n b b := by
    intro hM
    rcases H.2 b (by omega) hM with ⟨_, z⟩ | ⟨j, hj, _, e, _⟩
    · exact z
    · have := hE j hj (by omega)
      omega
  refine ⟨⟨fun _ => Or.inr (Or.inl ⟨rfl, Or.inl h6⟩), ?_⟩, ?_⟩
  · intro q hq hMq
    rcases hMq with hMq | ⟨e, _⟩ | ⟨z, _⟩
    · rcases H.2 q (by omega) hMq with ⟨_, z⟩ | z
      · exact z.elim
      · exact Or.inr z
    · exact Or.inl ⟨e, trivial⟩
    · exact absurd z hM
  · intro z
    rcases z with z | z
    · exact sg_nx h6 z
    · exact hM z
theorem sg_Mk_pop {h : Prop} (H : sg_Mk g n p sp F S h) (h0 : 0 < sp) (hE : sg_E g n (F (S (sp - 1))) = p) (hN : sg_N g n (F (S (sp - 1)))) (hp : F (S (sp - 1)) < p) (h6 : g (F (S (sp - 1))) ≠ 46) : sg_Mk g n p (sp - 1) F S (h ∨ (p < n ∧ g p ≠ 62)) := by
  refine ⟨?_, ?_⟩
  · rintro (z | ⟨z1, z2⟩)
    · exact H.1 z
    · have hM : sg_M g n (F (S (sp - 1))) (F (S (sp - 1))) := hN.resolve_left h6
      exact sg_M_mono (F (S (sp - 1)) + 1) p hp (Or.inr (Or.inr ⟨hM, h6, hE, z1, z2⟩))
  · intro q hq hM
    rcases H.2 q hq hM with ⟨e, z⟩ | ⟨j, hj, h1, h2, h3, h4⟩
    · exact Or.inl ⟨e, Or.inl z⟩
    · by_cases e : j = sp - 1
      · rw [e, hE] at h2
        subst h2
        exact Or.inl ⟨rfl, Or.inr ⟨h3, h4⟩⟩
      · exact Or.inr ⟨j, by omega, h1, h2, h3, h4⟩
theorem sg_Mk_pop46 {h : Prop} (H : sg_Mk g n p sp F S h) (h6 : g (F (S (sp - 1))) = 46) : sg_Mk g n p (sp - 1) F S h := by
  refine ⟨H.1, ?_⟩
  intro q hq hM
  rcases H.2 q hq hM with z | ⟨j, hj, h1, h2⟩
  · exact Or.inl z
  · by_cases e : j = sp - 1
    · subst e; exact absurd h6 h1
    · exact Or.inr ⟨j, by omega, h1, h2⟩
end
def sg_D (g : Nat → Int32) (n q : Nat) : Nat := sg_ie g n (sg_pk g n (q + 1))
def sg_bar (g : Nat → Int32) (n p : Nat) : Prop := ∃ q, sg_N g n q ∧ g q = 76 ∧ sg_pk g n (q + 1) ≠ 0 ∧ g (sg_D g n q) = 46 ∧ sg_D g n q < p
def sg_Bb (g : Nat → Int32) (n p : Nat) (ex : Nat → Prop) : Prop := ∀ q, q < p → sg_N g n q → g q = 76 → sg_pk g n (q + 1) ≠ 0 ∧ (sg_D g n q < p ∨ (sg_D g n q = p ∧ ex q))
def sg_Kd (g : Nat → Int32) (sp : Nat) (F S : Nat → Nat) : Prop := ∀ j, j < sp → g (F (S j)) = 76 ∨ g (F (S j)) = 46 ∨ g (F (S j)) = 91 ∨ g (F (S j)) = 43 ∨ g (F (S j)) = 45
def sg_T0 (g : Nat → Int32) (n p sp c f x : Nat) : Prop := (sp = 0 → p = 0 ∧ c = 0) ∧ (0 < sp → 0 < p ∧ (g f = 91 → x = 0 ∧ sg_jt g n p = sg_E g n f) ∧ (g f = 43 ∨ g f = 45 → x = 0 ∧ sg_ref g n p = sg_E g n f) ∧ (g f = 76 → sg_suf g n (if x = 0 then sg_at g n (sg_arg g n p) else sg_at g n p) = sg_E g n f) ∧ (g f = 46 → (if x = 0 then sg_at g n (sg_arg g n p) else sg_at g n p) = sg_E g n f))
def sg_T1 (g : Nat → Int32) (n p sp c f t : Nat) : Prop := 0 < p ∧ (sp = 0 → p = sg_ref g n 0) ∧ (0 < sp → sg_co1 g n f p = sg_E g n f ∧ t + 1 < c)
def sg_T2 (g : Nat → Int32) (n p sp f x : Nat) : Prop := 0 < p ∧ 0 < sp ∧ g f = 76 ∧ sg_suf g n p = sg_E g n f ∧ (x = 0 → sg_D g n f = p)
def sg_I0 (g : Nat → Int32) (n p sp c : Nat) (ba : Prop) (F S fi nx la pa : Nat → Nat) : Prop := sg_Z g n p sp c F S fi nx la pa ∧ sg_Kd g sp F S ∧ sg_T0 g n p sp c (F (S (sp - 1))) (fi (S (sp - 1))) ∧ sg_Mk g n p sp F S (sp = 0 ∨ fi (S (sp - 1)) = 0 ∨ (p < n ∧ g p ≠ 62)) ∧ (ba ↔ sg_bar g n p) ∧ sg_Bb g n p (fun _ => False)
def sg_I1 (g : Nat → Int32) (n p sp c : Nat) (ba : Prop) (F S fi nx la pa : Nat → Nat) : Prop := sg_Z g n p sp c F S fi nx la pa ∧ sg_Kd g sp F S ∧ sg_T1 g n p sp c (F (S (sp - 1))) (S (sp - 1)) ∧ sg_Mk g n p sp F S (p < n ∧ g p ≠ 62) ∧ (ba ↔ sg_bar g n p) ∧ sg_Bb g n p (fun _ => False)
def sg_I2 (g : Nat → Int32) (n p sp c : Nat) (ba : Prop) (F S fi nx la pa : Nat → Nat) : Prop := sg_Z g n p sp c F S fi nx la pa ∧ sg_Kd g sp F S ∧ sg_T2 g n p sp (F (S (sp - 1))) (fi (S (sp - 1))) ∧ sg_Mk g n p sp F S False ∧ (ba ↔ sg_bar g n p) ∧ sg_Bb g n p (fun q => fi (S (sp - 1)) = 0 ∧ q = F (S (sp - 1)))
section
variable {g : Nat → Int32} {n p sp c : Nat} {ba : Prop} {F S fi nx la pa : Nat → Nat}
theorem sg_D_gt (hg : sg_End g n) {q : Nat} (h : sg_pk g n (q + 1) ≠ 0) : q < sg_D g n q := by
  have h1 := sg_pk_pos hg h
  have h2 := sg_ie_ge (g := g) (n := n) (sg_pk g n (q + 1))
  unfold sg_D
  omega
/-- new positions p .. p' - 1 hold at most the node p; what it adds to bar -/
theorem sg_bar_mv (hg : sg_End g n) {p' : Nat} {ex : Nat → Prop} (H : sg_Bb g n p ex) (hp : p ≤ p') (h1 : ∀ q, p ≤ q → q < p' → sg_N g n q → g q = 76 → g (sg_D g n q) = 46 → sg_D g n q < p' → False) (h2 : ∀ q, ex q → sg_D g n q = p → g p = 46 → False) : sg_bar g n p' ↔ sg_bar g n p := by
  constructor
  · rintro ⟨q, a1, a2, a3, a4, a5⟩
    refine ⟨q, a1, a2, a3, a4, ?_⟩
    by_cases e : q < p
    · rcases (H q e a1 a2).2 with z | ⟨z, y⟩
      · exact z
      · exact (h2 q y z (by rw [← z]; exact a4)).elim
    · have := sg_D_gt hg a3
      exact (h1 q (by omega) (by omega) a1 a2 a4 a5).elim
  · rintro ⟨q, a1, a2, a3, a4, a5⟩
    exact ⟨q, a1, a2, a3, a4, by omega⟩
theorem sg_Bb_mv {p' : Nat} {ex ex' : Nat → Prop} (H : sg_Bb g n p ex) (hp : p < p') (h1 : ∀ q, p ≤ q → q < p' → sg_N g n q → g q = 76 → sg_pk g n (q + 1) ≠ 0 ∧ (sg_D g n q < p' ∨ (sg_D g n q = p' ∧ ex' q))) : sg_Bb g n p' ex' := by
  intro q hq hN h7
  by_cases e : q < p
  · have := H q e hN h7
    refine ⟨this.1, Or.inl ?_⟩
    rcases this.2 with z | ⟨z, _⟩ <;> omega
  · exact h1 q (by omega) hq hN h7
theorem sg_lk0 (hg : sg_End g n) {f x : Nat} (hT : sg_T0 g n p sp c f x) (h0 : 0 < sp) (hk : g f = 76 ∨ g f = 46 ∨ g f = 91 ∨ g f = 43 ∨ g f = 45) (hc : (g p = 76 ∨ g p = 84 ∨ g p = 91) ∨ (g f = 91 ∧ sg_ba (g p)) ∨ ((g f = 76 ∨ g f = 46) ∧ (g p = 42 ∨ g p = 43 ∨ g p = 45))) : sg_Lk g n f p := by
  obtain ⟨p0, t1, t2, t3, t4⟩ := hT.2 h0
  have n46 : g p ≠ 46 := by
    rcases hc with (h | h | h) | ⟨_, h | h | h | h | h | h | h | h⟩ | ⟨_, h | h | h⟩ <;> exact sg_ne h
  have n62 : g p ≠ 62 := by
    rcases hc with (h | h | h) | ⟨_, h | h | h | h | h | h | h | h⟩ | ⟨_, h | h | h⟩ <;> exact sg_ne h
  refine ⟨?_, fun z => absurd z n46⟩
  unfold sg_co
  rw [if_neg (fun z => n46 z.2)]
  have hat : ∀ a, (g f = 76 ∨ g f = 46) → a = (if x = 0 then sg_at g n (sg_arg g n p) else sg_at g n p) → a = sg_at g n (sg_E g n p) := by
    intro a hf ea
    have e1 : a = sg_at g n (sg_arg g n p) := by
      by_cases z : x = 0
      · rw [if_pos z] at ea; exact ea
      · rw [if_neg z] at ea; rw [ea]; exact sg_at_n hg (by omega) n62
    rw [e1]
    congr 1
    rcases hc with h | ⟨h, _⟩ | ⟨_, h⟩
    · rw [sg_E_ref h, sg_arg_ref (by rcases h with h | h | h <;> exact sg_ne h) (by rcases h with h | h | h <;> exact sg_ne h) (by rcases h with h | h | h <;> exact sg_ne h)]
    · rcases hf with z | z
      · exact absurd h (sg_ne z)
      · exact absurd h (sg_ne z)
    · rcases h with h | h
      · rw [sg_E_42 h, sg_arg_42 h]
      · rw [sg_E_pm h, sg_arg_pm h]
  unfold sg_co1
  by_cases a : g f = 76
  · rw [if_pos a, ← t3 a, ← hat _ (Or.inl a) rfl]
  · rw [if_neg a]
    by_cases b : g f = 46
    · rw [if_pos b, ← t4 b, ← hat _ (Or.inr b) rfl]
    · rw [if_neg b]
      rcases hk with k | k | k | k | k
      · exact absurd k a
      · exact absurd k b
      · rw [← (t1 k).2]
        rcases hc with h | ⟨_, h⟩ | ⟨h, _⟩
        · rw [sg_E_ref h, sg_jt, if_neg (sg_nba h)]
        · rw [sg_E_ba h, sg_jt, if_pos h]
        · rcases h with h | h
          · exact absurd h a
          · exact absurd h b
      · rw [← (t2 (Or.inl k)).2]
        rcases hc with h | ⟨h, _⟩ | ⟨h, _⟩
        · rw [sg_E_ref h]
        · exact absurd h (sg_ne k)
        · rcases h with h | h
          · exact absurd h a
          · exact absurd h b
      · rw [← (t2 (Or.inr k)).2]
        rcases hc with h | ⟨h, _⟩ | ⟨h, _⟩
        · rw [sg_E_ref h]
        · exact absurd h (sg_ne k)
        · rcases h with h | h
          · exact absurd h a
          · exact absurd h b
/-- no way on at p -/
theorem sg_stop0 (hg : sg_End g n) {f x : Nat} (hT : sg_T0 g n p sp c f x) (h0 : 0 < sp) (hk : g f = 76 ∨ g f = 46 ∨ g f = 91 ∨ g f = 43 ∨ g f = 45) (h1 : g p ≠ 76) (h2 : g p ≠ 84) (h3 : g p ≠ 91) (h4 : g f = 91 → ¬ sg_ba (g p)) (h5 : (g f = 76 ∨ g f = 46) → g p ≠ 42 ∧ g p ≠ 43 ∧ g p ≠ 45 ∧ (g p = 62 → x = 0)) : sg_E g n f = 0 := by
  obtain ⟨p0, t1, t2, t3, t4⟩ := hT.2 h0
  have hr : sg_ref g n p = 0 := sg_ref_0 hg h2 h1 h3
  have hat : (g f = 76 ∨ g f = 46) → (if x = 0 then sg_at g n (sg_arg g n p) else sg_at g n p) = 0 := by
    intro hf
    obtain ⟨a1, a2, a3, a4⟩ := h5 hf
    have e : sg_at g n (sg_arg g n p) = 0 := by
      rw [sg_arg_ref a1 a2 a3, hr]; exact sg_at_0 hg
    by_cases z : x = 0
    · rw [if_pos z]; exact e
    · rw [if_neg z, sg_at_n hg (by omega) (fun y => z (a4 y))]; exact e
  rcases hk with k | k | k | k | k
  · rw [← t3 k, hat (Or.inl k)]; exact sg_suf_0 hg
  · rw [← t4 k, hat (Or.inr k)]
  · rw [← (t1 k).2, sg_jt, if_neg (h4 k)]; exact hr
  · rw [← (t2 (Or.inl k)).2]; exact hr
  · rw [← (t2 (Or.inr k)).2]; exact hr
end
end
section
section
variable {g : Nat → Int32} {n p sp c : Nat} {ba : Prop} {F S fi nx la pa fi' nx' la' pa' : Nat → Nat}
theorem sg_topF : sg_u F c p (sg_u S sp c (sp + 1 - 1)) = p := by
  rw [Nat.add_sub_cancel, sg_us, sg_us]
theorem sg_oldF (Z : sg_Z g n p sp c F S fi nx la pa) {j : Nat} (hj : j < sp) : sg_u F c p (sg_u S sp c j) = F (S j) := by
  have := Z.1.2.2.1 j hj
  rw [sg_un (by omega : j ≠ sp), sg_un (by omega)]
theorem sg_oldS {j : Nat} (hj : j < sp) : sg_u S sp c j = S j := sg_un (by omega)
theorem sg_topN (Z : sg_Z g n p sp c F S fi nx la pa) (h0 : 0 < sp) : F (S (sp - 1)) < p ∧ sg_N g n (F (S (sp - 1))) := Z.1.2.1.1 _ (Z.1.2.2.1 _ (by omega))
/-- a new node that stays on the stack, next position p + 1 -/
theorem sg_st_stay (hg : sg_End g n) (I : sg_I0 g n p sp c ba F S fi nx la pa) (hM : sg_M g n p p) (hc : g p = 91 ∨ g p = 43 ∨ g p = 45) (Z' : sg_Z g n (p + 1) (sp + 1) (c + 1) (sg_u F c p) (sg_u S sp c) fi' nx' la' pa') (hf : fi' c = 0) : sg_I0 g n (p + 1) (sp + 1) (c + 1) ba (sg_u F c p) (sg_u S sp c) fi' nx' la' pa' := by
  obtain ⟨Z, hK, hT, hMk, hb, hB⟩ := I
  have hx : fi' (sg_u S sp c (sp + 1 - 1)) = 0 := by rw [Nat.add_sub_cancel, sg_us]; exact hf
  have n60 : g p ≠ 60 := by rcases hc with h | h | h <;> exact sg_ne h
  have n76 : g p ≠ 76 := by rcases hc with h | h | h <;> exact sg_ne h
  have n46 : g p ≠ 46 := by rcases hc with h | h | h <;> exact sg_ne h
  refine ⟨Z', ?_, ⟨fun h => absurd h (by omega), fun _ => ⟨by omega, ?_, ?_, ?_, ?_⟩⟩, ?_, ?_, ?_⟩
  · intro j hj
    by_cases e : j = sp
    · subst e
      rw [sg_us, sg_us]
      rcases hc with h | h | h
      · exact Or.inr (Or.inr (Or.inl h))
      · exact Or.inr (Or.inr (Or.inr (Or.inl h)))
      · exact Or.inr (Or.inr (Or.inr (Or.inr h)))
    · rw [sg_oldF Z (by omega)]; exact hK j (by omega)
  · rw [sg_topF]
    intro h
    refine ⟨hx, ?_⟩
    rw [sg_E_ref (Or.inr (Or.inr h)), sg_ref_A hg h]
  · rw [sg_topF]
    intro h
    exact ⟨hx, (sg_E_pm h).symm⟩
  · rw [sg_topF]; intro h; exact absurd h n76
  · rw [sg_topF]; intro h; exact absurd h n46
  · refine sg_Mk_c ?_ (sg_Mk_push hMk Z.1.2.2.1 n60)
    exact ⟨fun _ => Or.inr (Or.inl hx), fun _ => ⟨hM, hc⟩⟩
  · rw [hb]
    exact (sg_bar_mv hg hB (by omega) (fun q h1 h2 _ h7 => absurd (by rw [← h7]; congr 1; omega) n76) (fun _ z => z.elim)).symm
  · exact sg_Bb_mv hB (by omega) (fun q h1 h2 _ h7 => absurd (by rw [← h7]; congr 1; omega) n76)
/-- a new node that ends at p' -/
theorem sg_st_shut (hg : sg_End g n) {p' : Nat} (I : sg_I0 g n p sp c ba F S fi nx la pa) (hE : sg_E g n p = p') (hpp : p < p') (hpn : p' ≤ n) (hc : g p ≠ 91 ∧ g p ≠ 43 ∧ g p ≠ 45 ∧ g p ≠ 76 ∧ g p ≠ 46 ∧ g p ≠ 60) (hr : ∀ i, p + 1 ≤ i → i < p' → g i ≠ 60 ∧ g i ≠ 46) (Z' : sg_Z g n (p + 1) (sp + 1) (c + 1) (sg_u F c p) (sg_u S sp c) fi' nx' la' pa') : sg_Z g n p' sp (c + 1) (sg_u F c p) (sg_u S sp c) fi' nx' la' pa' ∧ sg_Kd g sp (sg_u F c p) (sg_u S sp c) ∧ sg_Mk g n p' sp (sg_u F c p) (sg_u S sp c) (p' < n ∧ g p' ≠ 62) ∧ (ba ↔ sg_bar g n p') ∧ sg_Bb g n p' (fun _ => False) ∧ (sp = 0 → p' = sg_ref g n 0) ∧ (0 < sp → sg_co1 g n (F (S (sp - 1))) p' = sg_E g n (F (S (sp - 1)))) := by
  obtain ⟨Z, hK, hT, hMk, hb, hB⟩ := I
  obtain ⟨c1, c2, c3, c4, c5, c6⟩ := hc
  have hMk1 := sg_Mk_push hMk Z.1.2.2.1 c6
  have hEj : ∀ j, j < sp + 1 → sg_E g n (sg_u F c p (sg_u S sp c j)) ≠ 0 → p' ≤ sg_E g n (sg_u F c p (sg_u S sp c j)) := by
    intro j hj hz
    have := (sg_chn hg Z'.2.1 hj hz).2
    rw [sg_topF, hE] at this
    exact this
  have nh : ¬ (sg_M g n p p ∧ (g p = 91 ∨ g p = 43 ∨ g p = 45)) := by
    rintro ⟨_, h | h | h⟩
    · exact c1 h
    · exact c2 h
    · exact c3 h
  obtain ⟨hMk2, hNn⟩ := sg_Mk_move hMk1 nh (by omega) (by omega) hr hEj
  have Z2 := sg_Z_move Z' (by omega : p + 1 ≤ p') hpn hNn
  have hEt : sg_E g n (sg_u F c p (sg_u S sp c (sp + 1 - 1))) = p' := by rw [sg_topF]; exact hE
  have Z3 := sg_Z_pop Z2 (by omega) hEt
  rw [Nat.add_sub_cancel] at Z3
  have hTN := sg_topN Z2 (by omega)
  have hMk3 := sg_Mk_pop hMk2 (by omega) hEt hTN.2 hTN.1 (by rw [sg_topF]; exact c5)
  rw [Nat.add_sub_cancel] at hMk3
  refine ⟨Z3, ?_, sg_Mk_c ⟨fun h => h.resolve_left id, fun h => Or.inr h⟩ hMk3, ?_, ?_, ?_, ?_⟩
  · intro j hj
    rw [sg_oldF Z hj]; exact hK j hj
  · rw [hb]
    refine (sg_bar_mv hg hB (by omega) ?_ (fun _ z => z.elim)).symm
    intro q h1 h2 hN h7 _ _
    by_cases e : q = p
    · subst e; exact c4 h7
    · exact hNn q (by omega) h2 hN
  · refine sg_Bb_mv hB hpp ?_
    intro q h1 h2 hN h7
    by_cases e : q = p
    · subst e; exact absurd h7 c4
    · exact absurd hN (hNn q (by omega) h2)
  · intro e
    subst e
    have := (Z'.2.1.1 (by omega)).1
    rw [sg_us, sg_us, hE] at this
    exact this
  · intro h0
    have := (Z'.2.1.2 (sp - 1) (by omega)).1
    rw [sg_oldF Z (by omega), show sp - 1 + 1 = sp + 1 - 1 by omega, sg_topF, hE, sg_co, if_neg (fun z => c5 z.2)] at this
    exact this
theorem sg_st_shut1 (hg : sg_End g n) {p' : Nat} (I : sg_I0 g n p sp c ba F S fi nx la pa) (hE : sg_E g n p = p') (hpp : p < p') (hpn : p' ≤ n) (hc : g p ≠ 91 ∧ g p ≠ 43 ∧ g p ≠ 45 ∧ g p ≠ 76 ∧ g p ≠ 46 ∧ g p ≠ 60) (hr : ∀ i, p + 1 ≤ i → i < p' → g i ≠ 60 ∧ g i ≠ 46) (Z' : sg_Z g n (p + 1) (sp + 1) (c + 1) (sg_u F c p) (sg_u S sp c) fi' nx' la' pa') : sg_I1 g n p' sp (c + 1) ba (sg_u F c p) (sg_u S sp c) fi' nx' la' pa' := by
  obtain ⟨a1, a2, a3, a4, a5, a6, a7⟩ := sg_st_shut hg I hE hpp hpn hc hr Z'
  refine ⟨a1, a2, ⟨by omega, a6, ?_⟩, a3, a4, a5⟩
  intro h0
  have := I.1.1.2.2.1 (sp - 1) (by omega)
  rw [sg_oldF I.1 (by omega), sg_oldS (by omega)]
  exact ⟨a7 h0, by omega⟩
theorem sg_st_shut0 (hg : sg_End g n) (I : sg_I0 g n p sp c ba F S fi nx la pa) (h0 : 0 < sp) (hp : p < n) (hin : g (F (S (sp - 1))) = 76 ∨ g (F (S (sp - 1))) = 46) (hc : g p = 42) (Z' : sg_Z g n (p + 1) (sp + 1) (c + 1) (sg_u F c p) (sg_u S sp c) fi' nx' la' pa') (hf : fi' (S (sp - 1)) ≠ 0) : sg_I0 g n (p + 1) sp (c + 1) ba (sg_u F c p) (sg_u S sp c) fi' nx' la' pa' := by
  obtain ⟨a1, a2, a3, a4, a5, a6, a7⟩ := sg_st_shut hg I (sg_E_42 hc) (by omega) hp ⟨sg_ne hc, sg_ne hc, sg_ne hc, sg_ne hc, sg_ne hc, sg_ne hc⟩ (fun i h1 h2 => by omega) Z'
  have eF : sg_u F c p (sg_u S sp c (sp - 1)) = F (S (sp - 1)) := sg_oldF I.1 (by omega)
  have eS : sg_u S sp c (sp - 1) = S (sp - 1) := sg_oldS (by omega)
  have h7 := a7 h0
  refine ⟨a1, a2, ⟨fun h => absurd h (by omega), fun _ => ?_⟩, ?_, a4, a5⟩
  · rw [eF, eS]
    refine ⟨by omega, ?_, ?_, ?_, ?_⟩
    · intro h; rcases hin with z | z <;> exact absurd h (sg_ne z)
    · intro h; rcases hin with z | z <;> rcases h with h | h <;> exact absurd h (sg_ne z)
    · intro h; rw [if_neg hf, ← h7, sg_co1, if_pos h]
    · intro h; rw [if_neg hf, ← h7, sg_co1, if_neg (sg_ne h), if_pos h]
  · refine sg_Mk_c ?_ a3
    rw [eS]
    exact ⟨fun h => Or.inr (Or.inr h), fun h => by
      rcases h with h | h | h
      · omega
      · exact absurd h hf
      · exact h⟩
/-- a type of the form L: what holds before its '<' or its suffixes -/
theorem sg_st_L (hg : sg_End g n) (I : sg_I0 g n p sp c ba F S fi nx la pa) (hc : g p = 76) (hq : sg_pk g n (p + 1) ≠ 0) (Z' : sg_Z g n (p + 1) (sp + 1) (c + 1) (sg_u F c p) (sg_u S sp c) fi' nx' la' pa') (hf : fi' c = 0) : p < sg_D g n p ∧ sg_D g n p ≤ n ∧ (g (sg_D g n p) ≠ 60 → sg_I2 g n (sg_D g n p) (sp + 1) (c + 1) ba (sg_u F c p) (sg_u S sp c) fi' nx' la' pa') ∧ (g (sg_D g n p) = 60 → sg_I0 g n (sg_D g n p + 1) (sp + 1) (c + 1) ba (sg_u F c p) (sg_u S sp c) fi' nx' la' pa') := by
  obtain ⟨Z, hK, hT, hMk, hb, hB⟩ := I
  obtain ⟨q1, q2, q3, q4⟩ := sg_pk_pos hg hq
  have hD := sg_D_gt hg hq
  have hDn : sg_D g n p ≤ n := sg_ie_le hg (Nat.le_of_lt (sg_ie_lt hg q2))
  have hx : fi' (sg_u S sp c (sp + 1 - 1)) = 0 := by rw [Nat.add_sub_cancel, sg_us]; exact hf
  have hEp : sg_E g n p = sg_suf g n (sg_sc g n (sg_pk g n (p + 1))) := by rw [sg_E_ref (Or.inl hc), sg_ref_L hg hc]
  have hgt : sg_E g n p ≠ 0 → sg_D g n p < sg_E g n p := by
    intro z
    rw [hEp] at z ⊢
    have h1 := sg_suf_pos hg z
    by_cases e : g (sg_ie g n (sg_pk g n (p + 1))) = 60
    · have h2 := sg_suf_nz hg z
      rw [sg_sc_a hq q2 e] at h1 h2 ⊢
      have h3 := sg_at_pos hg h2
      have h4 := sg_arg_pos hg (sg_at_nz hg h2)
      unfold sg_D
      omega
    · rw [sg_sc_i hq q2 e] at h1 ⊢
      exact h1.1
  have hEj : ∀ j, j < sp + 1 → sg_E g n (sg_u F c p (sg_u S sp c j)) ≠ 0 → sg_D g n p < sg_E g n (sg_u F c p (sg_u S sp c j)) := by
    intro j hj hz
    have h1 := sg_chn hg Z'.2.1 hj hz
    rw [sg_topF] at h1
    have h2 := hgt h1.1
    omega
  have hMk1 := sg_Mk_push hMk Z.1.2.2.1 (sg_ne hc : g p ≠ 60)
  have nh : ¬ (sg_M g n p p ∧ (g p = 91 ∨ g p = 43 ∨ g p = 45)) := by
    rintro ⟨_, h | h | h⟩ <;> exact sg_nx hc h
  obtain ⟨hMk2, hNn⟩ := sg_Mk_move hMk1 nh (by omega) (by omega : p + 1 ≤ sg_D g n p) q4 (fun j hj hz => Nat.le_of_lt (hEj j hj hz))
  have Z2 := sg_Z_move Z' (by omega : p + 1 ≤ sg_D g n p) hDn hNn
  have hKd : sg_Kd g (sp + 1) (sg_u F c p) (sg_u S sp c) := by
    intro j hj
    by_cases e : j = sp
    · subst e; rw [sg_us, sg_us]; exact Or.inl hc
    · rw [sg_oldF Z (by omega)]; exact hK j (by omega)
  refine ⟨hD, hDn, ?_, ?_⟩
  · intro e
    refine ⟨Z2, hKd, ⟨by omega, by omega, by rw [sg_topF]; exact hc, ?_, ?_⟩, hMk2, ?_, ?_⟩
    · rw [sg_topF, hEp, sg_sc_i hq q2 e]; rfl
    · intro _; rw [sg_topF]
    · rw [hb]
      refine (sg_bar_mv hg hB (by omega) ?_ (fun _ z => z.elim)).symm
      intro q h1 h2 hN h7 h8 h9
      by_cases y : q = p
      · subst y; omega
      · exact hNn q (by omega) h2 hN
    · refine sg_Bb_mv hB hD ?_
      intro q h1 h2 hN h7
      by_cases y : q = p
      · subst y; exact ⟨hq, Or.inr ⟨rfl, hx, sg_topF.symm⟩⟩
      · exact absurd hN (hNn q (by omega) h2)
  · intro e
    obtain ⟨hMk3, hN3⟩ := sg_Mk_lt hMk2 (by omega) e hEj
    have hlt : sg_D g n p < n := sg_lt hg (sg_ne e)
    have hN4 : ∀ i, sg_D g n p ≤ i → i < sg_D g n p + 1 → ¬ sg_N g n i := by
      intro i h1 h2
      rw [show i = sg_D g n p by omega]; exact hN3
    have Z3 := sg_Z_move Z2 (by omega : sg_D g n p ≤ sg_D g n p + 1) hlt hN4
    refine ⟨Z3, hKd, ⟨fun h => absurd h (by omega), fun _ => ⟨by omega, ?_, ?_, ?_, ?_⟩⟩, ?_, ?_, ?_⟩
    · rw [sg_topF]; intro h; exact absurd h (sg_ne hc)
    · rw [sg_topF]; intro h; rcases h with h | h <;> exact absurd h (sg_ne hc)
    · rw [sg_topF, hx]
      intro _
      rw [if_pos rfl, hEp, sg_sc_a hq q2 e]; rfl
    · rw [sg_topF]; intro h; exact absurd h (sg_ne hc)
    · exact sg_Mk_c ⟨fun _ => Or.inr (Or.inl hx), fun _ => trivial⟩ hMk3
    · rw [hb]
      refine (sg_bar_mv hg hB (by omega) ?_ (fun _ z => z.elim)).symm
      intro q h1 h2 hN h7 h8 h9
      by_cases y : q = p
      · subst y; exact sg_nx e h8
      · by_cases y2 : q = sg_D g n p
        · exact hN3 (by rw [← y2]; exact hN)
        · exact hNn q (by omega) (by omega) hN
    · refine sg_Bb_mv hB (by omega) ?_
      intro q h1 h2 hN h7
      by_cases y : q = p
      · subst y; exact ⟨hq, Or.inl (by omega)⟩
      · by_cases y2 : q = sg_D g n p
        · exact absurd (by rw [← y2]; exact hN) hN3
        · exact absurd hN (hNn q (by omega) (by omega))
/-- '>' -/
theorem sg_st_gt (hg : sg_End g n) (I : sg_I0 g n p sp c ba F S fi nx la pa) (h0 : 0 < sp) (hp : p < n) (hin : g (F (S (sp - 1))) = 76 ∨ g (F (S (sp - 1))) = 46) (hc : g p = 62) (hf : fi (S (sp - 1)) ≠ 0) : (g (F (S (sp - 1))) = 76 → sg_I2 g n (p + 1) sp c ba F S fi nx la pa) ∧ (g (F (S (sp - 1))) = 46 → sg_E g n (F (S (sp - 1))) = p + 1 ∧ sg_I2 g n (p + 1) (sp - 1) c ba F S fi nx la pa) := by
  obtain ⟨Z, hK, hT, hMk, hb, hB⟩ := I
  obtain ⟨p0, t1, t2, t3, t4⟩ := hT.2 h0
  rw [if_neg hf, sg_at_g hg (by omega) hc] at t3 t4
  have hgt : sg_E g n (F (S (sp - 1))) ≠ 0 → p + 1 ≤ sg_E g n (F (S (sp - 1))) := by
    intro z
    rcases hin with h | h
    · rw [← t3 h] at z ⊢
      have := sg_suf_pos hg z
      omega
    · rw [← t4 h]; exact Nat.le_refl _
  have nh : ¬ (sp = 0 ∨ fi (S (sp - 1)) = 0 ∨ (p < n ∧ g p ≠ 62)) := by
    rintro (h | h | ⟨_, h⟩)
    · omega
    · exact hf h
    · exact h hc
  obtain ⟨hMk2, hNn⟩ := sg_Mk_move hMk nh p0 (by omega : p ≤ p + 1) (fun i h1 h2 => by rw [show i = p by omega]; exact ⟨sg_ne hc, sg_ne hc⟩) (fun j hj hz => by
    have h1 := sg_chn hg Z.2.1 hj hz
    have h2 := hgt h1.1
    omega)
  have Z2 := sg_Z_move Z (by omega : p ≤ p + 1) hp hNn
  have hbar : ba ↔ sg_bar g n (p + 1) := by
    rw [hb]
    exact (sg_bar_mv hg hB (by omega) (fun q h1 h2 hN _ _ _ => hNn q h1 h2 hN) (fun _ z => z.elim)).symm
  have hBb : ∀ ex, sg_Bb g n (p + 1) ex := fun ex => sg_Bb_mv hB (by omega) (fun q h1 h2 hN => absurd hN (hNn q h1 h2))
  refine ⟨fun h => ⟨Z2, hK, ⟨by omega, h0, h, t3 h, fun z => absurd z hf⟩, hMk2, hbar, hBb _⟩, fun h => ?_⟩
  have hE : sg_E g n (F (S (sp - 1))) = p + 1 := (t4 h).symm
  have Z3 := sg_Z_pop Z2 h0 hE
  have hMk3 := sg_Mk_pop46 hMk2 h
  have h2 : 1 < sp := by
    apply Classical.byContradiction
    intro z
    have e : sp - 1 = 0 := by omega
    rw [e] at h
    exact (Z.2.1.1 h0).2 h
  have hlk := Z.2.1.2 (sp - 1 - 1) (by omega)
  rw [show sp - 1 - 1 + 1 = sp - 1 by omega] at hlk
  have h76 := hlk.2 h
  have hco := hlk.1
  rw [sg_co, if_pos ⟨h76, h⟩, hE] at hco
  refine ⟨hE, Z3, fun j hj => hK j (by omega), ⟨by omega, by omega, h76, hco, fun z => ?_⟩, hMk3, hbar, hBb _⟩
  exact absurd z (sg_fi_mid Z.1 Z.2.2.1 (by omega))
/-- a kind 4, 5, 6 node leaves the stack -/
theorem sg_st_pop (I : sg_I1 g n p sp c ba F S fi nx la pa) (h0 : 0 < sp) (hin : g (F (S (sp - 1))) = 91 ∨ g (F (S (sp - 1))) = 43 ∨ g (F (S (sp - 1))) = 45) : sg_E g n (F (S (sp - 1))) = p ∧ sg_I1 g n p (sp - 1) c ba F S fi nx la pa := by
  obtain ⟨Z, hK, hT, hMk, hb, hB⟩ := I
  obtain ⟨t1, t2⟩ := hT.2.2 h0
  have n76 : g (F (S (sp - 1))) ≠ 76 := by rcases hin with h | h | h <;> exact sg_ne h
  have n46 : g (F (S (sp - 1))) ≠ 46 := by rcases hin with h | h | h <;> exact sg_ne h
  rw [sg_co1, if_neg n76, if_neg n46] at t1
  have hE := t1.symm
  have hTN := sg_topN Z h0
  have Z3 := sg_Z_pop Z h0 hE
  have hMk3 := sg_Mk_pop hMk h0 hE hTN.2 hTN.1 n46
  refine ⟨hE, Z3, fun j hj => hK j (by omega), ⟨hT.1, ?_, ?_⟩, sg_Mk_c ⟨fun h => h.elim id id, Or.inl⟩ hMk3, hb, hB⟩
  · intro z
    rw [← (Z.2.1.1 h0).1, ← hE, z]
  · intro z
    have hlk := Z.2.1.2 (sp - 1 - 1) (by omega)
    rw [show sp - 1 - 1 + 1 = sp - 1 by omega] at hlk
    have hco := hlk.1
    rw [sg_co, if_neg (fun z => n46 z.2), hE] at hco
    refine ⟨hco, ?_⟩
    have h1 := Z.1.2.2.1 (sp - 1) (by omega)
    have h2 := sg_incl Z.1.2.2.2.1 (i := sp - 1 - 1) (j := sp - 1) (by omega) (by omega)
    omega
/-- on to the next argument -/
theorem sg_st_next (I : sg_I1 g n p sp c ba F S fi nx la pa) (h0 : 0 < sp) (hin : g (F (S (sp - 1))) = 76 ∨ g (F (S (sp - 1))) = 46) : sg_I0 g n p sp c ba F S fi nx la pa := by
  obtain ⟨Z, hK, hT, hMk, hb, hB⟩ := I
  obtain ⟨t1, t2⟩ := hT.2.2 h0
  have ht := Z.1.2.2.1 (sp - 1) (by omega)
  have hf : fi (S (sp - 1)) ≠ 0 := by
    intro z
    exact Z.2.2.1.1 _ ht z (S (sp - 1) + 1) (by omega) t2 (sg_bl_opn ⟨sp - 1, by omega, rfl⟩)
  refine ⟨Z, hK, ⟨fun h => absurd h (by omega), fun _ => ⟨hT.1, ?_, ?_, ?_, ?_⟩⟩, ?_, hb, hB⟩
  · intro h; rcases hin with z | z <;> exact absurd h (sg_ne z)
  · intro h; rcases hin with z | z <;> rcases h with h | h <;> exact absurd h (sg_ne z)
  · intro h; rw [if_neg hf, ← t1, sg_co1, if_pos h]
  · intro h; rw [if_neg hf, ← t1, sg_co1, if_neg (sg_ne h), if_pos h]
  · refine sg_Mk_c ?_ hMk
    exact ⟨fun h => Or.inr (Or.inr h), fun h => by
      rcases h with h | h | h
      · omega
      · exact absurd h hf
      · exact h⟩
/-- '.' -/
theorem sg_st_dot (hg : sg_End g n) {ba' : Prop} (I : sg_I2 g n p sp c ba F S fi nx la pa) (hc : g p = 46) (hq : sg_ie g n (p + 1) ≠ p + 1) (Z' : sg_Z g n (p + 1) (sp + 1) (c + 1) (sg_u F c p) (sg_u S sp c) fi' nx' la' pa') (hf : fi' c = 0) (hft : fi' (S (sp - 1)) ≠ 0) (hba : ba' ↔ (ba ∨ fi (S (sp - 1)) = 0)) : (g (sg_ie g n (p + 1)) ≠ 60 → sg_E g n p = sg_ie g n (p + 1) ∧ sg_I2 g n (sg_ie g n (p + 1)) sp (c + 1) ba' (sg_u F c p) (sg_u S sp c) fi' nx' la' pa') ∧ (g (sg_ie g n (p + 1)) = 60 → sg_I0 g n (sg_ie g n (p + 1) + 1) (sp + 1) (c + 1) ba' (sg_u F c p) (sg_u S sp c) fi' nx' la' pa') := by
  obtain ⟨Z, hK, hT, hMk, hb, hB⟩ := I
  obtain ⟨p0, h0, f76, hsuf, hD⟩ := hT
  have hge := sg_ie_ge (g := g) (n := n) (p + 1)
  have hen : sg_ie g n (p + 1) ≤ n := sg_ie_le hg (Nat.le_of_lt (sg_ie_lt hg hq))
  have hx : fi' (sg_u S sp c (sp + 1 - 1)) = 0 := by rw [Nat.add_sub_cancel, sg_us]; exact hf
  have hEp : sg_E g n p = sg_sc g n (p + 1) := sg_E_46 hc
  have hsp : sg_suf g n (sg_sc g n (p + 1)) = sg_E g n (F (S (sp - 1))) := by rw [← hsuf, sg_suf_d hg (by omega) hc]
  have hgt : sg_E g n p ≠ 0 → sg_ie g n (p + 1) ≤ sg_E g n p ∧ (g (sg_ie g n (p + 1)) = 60 → sg_ie g n (p + 1) < sg_E g n p) := by
    intro z
    rw [hEp] at z ⊢
    by_cases e : g (sg_ie g n (p + 1)) = 60
    · rw [sg_sc_a (by omega) hq e] at z ⊢
      have h3 := sg_at_pos hg z
      have h4 := sg_arg_pos hg (sg_at_nz hg z)
      exact ⟨by omega, fun _ => by omega⟩
    · rw [sg_sc_i (by omega) hq e]
      exact ⟨Nat.le_refl _, fun y => absurd y e⟩
  have hEj : ∀ j, j < sp + 1 → sg_E g n (sg_u F c p (sg_u S sp c j)) ≠ 0 → sg_ie g n (p + 1) ≤ sg_E g n (sg_u F c p (sg_u S sp c j)) ∧ (g (sg_ie g n (p + 1)) = 60 → sg_ie g n (p + 1) < sg_E g n (sg_u F c p (sg_u S sp c j))) := by
    intro j hj hz
    have h1 := sg_chn hg Z'.2.1 hj hz
    rw [sg_topF] at h1
    have h2 := hgt h1.1
    exact ⟨by omega, fun y => by have := h2.2 y; omega⟩
  have hMk1 := sg_Mk_push hMk Z.1.2.2.1 (sg_ne hc : g p ≠ 60)
  have nh : ¬ (sg_M g n p p ∧ (g p = 91 ∨ g p = 43 ∨ g p = 45)) := by
    rintro ⟨_, h | h | h⟩ <;> exact sg_nx hc h
  obtain ⟨hMk2, hNn⟩ := sg_Mk_move hMk1 nh (by omega) hge (fun i h1 h2 => by
    have := sg_ie_in h1 h2
    exact ⟨this.2.2.2.2.1, this.1⟩) (fun j hj hz => (hEj j hj hz).1)
  have Z2 := sg_Z_move Z' hge hen hNn
  have hTN := sg_topN Z h0
  have hbar : ∀ p', p < p' → (∀ i, p + 1 ≤ i → i < p' → ¬ sg_N g n i) → (ba' ↔ sg_bar g n p') := by
    intro p' hpp hno
    rw [hba]
    by_cases z : fi (S (sp - 1)) = 0
    · constructor
      · intro _
        have hb1 := hB _ hTN.1 hTN.2 f76
        have hd := hD z
        exact ⟨_, hTN.2, f76, hb1.1, by rw [hd]; exact hc, by rw [hd]; exact hpp⟩
      · intro _; exact Or.inr z
    · have hm := sg_bar_mv hg (p' := p') hB (by omega) (fun q h1 h2 hN h7 _ _ => by
        by_cases y : q = p
        · subst y; exact sg_nx hc h7
        · exact hno q (by omega) h2 hN) (fun q y _ _ => z y.1)
      rw [hm, ← hb]
      exact ⟨fun h => h.resolve_right z, Or.inl⟩
  have hBb : ∀ p' ex, p < p' → (∀ i, p + 1 ≤ i → i < p' → ¬ sg_N g n i) → sg_Bb g n p' ex := by
    intro p' ex hpp hno
    refine sg_Bb_mv hB hpp ?_
    intro q h1 h2 hN h7
    by_cases y : q = p
    · subst y; exact absurd h7 (sg_ne hc)
    · exact absurd hN (hno q (by omega) h2)
  have hKd : sg_Kd g (sp + 1) (sg_u F c p) (sg_u S sp c) := by
    intro j hj
    by_cases e : j = sp
    · subst e; rw [sg_us, sg_us]; exact Or.inr (Or.inl hc)
    · rw [sg_oldF Z (by omega)]; exact hK j (by omega)
  refine ⟨?_, ?_⟩
  · intro e
    have hE : sg_E g n p = sg_ie g n (p + 1) := by rw [hEp, sg_sc_i (by omega) hq e]
    have Z3 := sg_Z_pop Z2 (by omega) (by rw [sg_topF]; exact hE)
    rw [Nat.add_sub_cancel] at Z3
    have hMk3 := sg_Mk_pop46 hMk2 (by rw [sg_topF]; exact hc)
    rw [Nat.add_sub_cancel] at hMk3
    refine ⟨hE, Z3, fun j hj => hKd j (by omega), ⟨by omega, h0, ?_, ?_, ?_⟩, hMk3, hbar _ (by omega) hNn, hBb _ _ (by omega) hNn⟩
    · rw [sg_oldF Z (by omega)]; exact f76
    · rw [sg_oldF Z (by omega), ← hsp, sg_sc_i (by omega) hq e]
    · rw [sg_oldS (by omega)]; intro z; exact absurd z hft
  · intro e
    obtain ⟨hMk3, hN3⟩ := sg_Mk_lt hMk2 (by omega) e (fun j hj hz => (hEj j hj hz).2 e)
    have hlt : sg_ie g n (p + 1) < n := sg_lt hg (sg_ne e)
    have hN4 : ∀ i, p + 1 ≤ i → i < sg_ie g n (p + 1) + 1 → ¬ sg_N g n i := by
      intro i h1 h2
      by_cases y : i = sg_ie g n (p + 1)
      · rw [y]; exact hN3
      · exact hNn i h1 (by omega)
    have Z3 := sg_Z_move Z2 (by omega : sg_ie g n (p + 1) ≤ sg_ie g n (p + 1) + 1) hlt (fun i h1 h2 => hN4 i (by omega) h2)
    refine ⟨Z3, hKd, ⟨fun h => absurd h (by omega), fun _ => ⟨by omega, ?_, ?_, ?_, ?_⟩⟩, ?_, hbar _ (by omega) hN4, hBb _ _ (by omega) hN4⟩
    · rw [sg_topF]; intro h; exact absurd h (sg_ne hc)
    · rw [sg_topF]; intro h; rcases h with h | h <;> exact absurd h (sg_ne hc)
    · rw [sg_topF]; intro h; exact absurd h (sg_ne hc)
    · rw [sg_topF, hx]
      intro _
      rw [if_pos rfl, hEp, sg_sc_a (by omega) hq e]
    · exact sg_Mk_c ⟨fun _ => Or.inr (Or.inl hx), fun _ => trivial⟩ hMk3
/-- ';' -/
theorem sg_st_semi (hg : sg_End g n) (I : sg_I2 g n p sp c ba F S fi nx la pa) (hp : p < n) (hc : g p = 59) : sg_E g n (F (S (sp - 1))) = p + 1 ∧ sg_I1 g n (p + 1) (sp - 1) c ba F S fi nx la pa := by
  obtain ⟨Z, hK, hT, hMk, hb, hB⟩ := I
  obtain ⟨p0, h0, f76, hsuf, hD⟩ := hT
  have hE : sg_E g n (F (S (sp - 1))) = p + 1 := by rw [← hsuf, sg_suf_s hg (by omega) hc]
  obtain ⟨hMk2, hNn⟩ := sg_Mk_move hMk id p0 (by omega : p ≤ p + 1) (fun i h1 h2 => by rw [show i = p by omega]; exact ⟨sg_ne hc, sg_ne hc⟩) (fun j hj hz => by
    have h1 := sg_chn hg Z.2.1 hj hz
    omega)
  have Z2 := sg_Z_move Z (by omega : p ≤ p + 1) hp hNn
  have Z3 := sg_Z_pop Z2 h0 hE
  have hTN := sg_topN Z2 h0
  have n46 : g (F (S (sp - 1))) ≠ 46 := sg_ne f76
  have hMk3 := sg_Mk_pop hMk2 h0 hE hTN.2 hTN.1 n46
  refine ⟨hE, Z3, fun j hj => hK j (by omega), ⟨by omega, ?_, ?_⟩, sg_Mk_c ⟨fun h => h.resolve_left id, Or.inr⟩ hMk3, ?_, ?_⟩
  · intro z
    rw [← (Z.2.1.1 h0).1, ← hE, z]
  · intro z
    have hlk := Z.2.1.2 (sp - 1 - 1) (by omega)
    rw [show sp - 1 - 1 + 1 = sp - 1 by omega] at hlk
    have hco := hlk.1
    rw [sg_co, if_neg (fun z => n46 z.2), hE] at hco
    refine ⟨hco, ?_⟩
    have h1 := Z.1.2.2.1 (sp - 1) (by omega)
    have h2 := sg_incl Z.1.2.2.2.1 (i := sp - 1 - 1) (j := sp - 1) (by omega) (by omega)
    omega
  · rw [hb]
    exact (sg_bar_mv hg hB (by omega) (fun q h1 h2 hN _ _ _ => hNn q h1 h2 hN) (fun _ _ _ z => sg_nx hc z)).symm
  · exact sg_Bb_mv hB (by omega) (fun q h1 h2 hN => absurd hN (hNn q h1 h2))
end
end
section
def sg_g (b : Nat → Int32) (n : Nat) : Nat → Int32 := fun i => if i < n then b i else 58
theorem sg_g_lt {b : Nat → Int32} {n i : Nat} (h : i < n) : b i = sg_g b n i := (if_pos h).symm
theorem sg_g_end (b : Nat → Int32) (n : Nat) : sg_End (sg_g b n) n := fun i h => if_neg (by omega)
def sg_o1 (x : Nat) : Int32 := if x = 0 then -1 else nI x
theorem sg_o1_0 : sg_o1 0 = -1 := rfl
theorem sg_o1_p {x : Nat} (h : x ≠ 0) : sg_o1 x = nI x := if_neg h
def sg_Rp (g : Nat → Int32) (n c sp : Nat) (F S fi nx la : Nat → Nat) (kd fs nt fr to ls : Nat → Int32) : Prop := (∀ m, m < c → kd m = sg_K g (F m)) ∧ (∀ m, m < c → fs m = sg_o1 (fi m)) ∧ (∀ m, m < c → nt m = sg_o1 (nx m)) ∧ (∀ m, m < c → fr m = nI (F m)) ∧ (∀ m, m < c → ¬ sg_Op sp S m → to m = nI (sg_E g n (F m))) ∧ (∀ m, m < c → fi m ≠ 0 → ls m = nI (la m))
def sg_Rs (sp : Nat) (S : Nat → Nat) (st : Nat → Int32) : Prop := ∀ j, j < sp → st j = nI (S j)
theorem sg_up1 {R : Nat → Int32} {a : Nat → Int32} {f : Nat → Nat} {c x : Nat} {y : Int32} (h : ∀ m, m < c → a m = R (f m)) (hy : y = R x) : ∀ m, m < c + 1 → upd a c y m = R (sg_u f c x m) := by
  intro m hm
  by_cases e : m = c
  · subst e; rw [pk_us, sg_us]; exact hy
  · rw [pk_un e, sg_un e]; exact h m (by omega)
theorem sg_up2 {R : Nat → Int32} {a : Nat → Int32} {f : Nat → Nat} {c t x : Nat} {y : Int32} (h : ∀ m, m < c → a m = R (f m)) (hy : y = R x) : ∀ m, m < c → upd a t y m = R (sg_u f t x m) := by
  intro m hm
  by_cases e : m = t
  · subst e; rw [pk_us, sg_us]; exact hy
  · rw [pk_un e, sg_un e]; exact h m hm
theorem sg_Rs_push {sp c : Nat} {S : Nat → Nat} {st : Nat → Int32} (h : sg_Rs sp S st) : sg_Rs (sp + 1) (sg_u S sp c) (upd st sp (nI c)) := sg_up1 (R := nI) h rfl
theorem sg_Rs_old {sp c : Nat} {S : Nat → Nat} {st : Nat → Int32} (h : sg_Rs sp S st) : sg_Rs sp (sg_u S sp c) st := by
  intro j hj
  rw [sg_un (by omega)]; exact h j hj
section
variable {g : Nat → Int32} {n p sp c : Nat} {F S fi nx la pa : Nat → Nat} {len : Int32} {b kd fs nt fr to ls st : Nat → Int32}
theorem sg_Rp_pop (R : sg_Rp g n c sp F S fi nx la kd fs nt fr to ls) {v : Int32} (hv : v = nI (sg_E g n (F (S (sp - 1))))) : sg_Rp g n c (sp - 1) F S fi nx la kd fs nt fr (upd to (S (sp - 1)) v) ls := by
  obtain ⟨r1, r2, r3, r4, r5, r6⟩ := R
  refine ⟨r1, r2, r3, r4, ?_, r6⟩
  intro m hm ho
  by_cases e : m = S (sp - 1)
  · subst e; rw [pk_us]; exact hv
  · rw [pk_un e]
    apply r5 m hm
    rintro ⟨j, hj, z⟩
    by_cases y : j = sp - 1
    · exact e (by rw [← z, y])
    · exact ho ⟨j, by omega, z⟩
theorem sg_Rp_new (R : sg_Rp g n c sp F S fi nx la kd fs nt fr to ls) {k y : Int32} (hk : k = sg_K g p) : (∀ m, m < c + 1 → upd kd c k m = sg_K g (sg_u F c p m)) ∧ (∀ m, m < c + 1 → upd fr c (nI p) m = nI (sg_u F c p m)) ∧ (∀ m, m < c + 1 → ¬ sg_Op (sp + 1) (sg_u S sp c) m → upd to c y m = nI (sg_E g n (sg_u F c p m))) := by
  obtain ⟨r1, r2, r3, r4, r5, r6⟩ := R
  refine ⟨sg_up1 (R := sg_K g) r1 hk, sg_up1 (R := nI) r4 rfl, ?_⟩
  intro m hm ho
  rw [sg_Op_push] at ho
  have e : m ≠ c := fun z => ho (Or.inr z)
  rw [pk_un e, sg_un e]
  exact r5 m (by omega) (fun z => ho (Or.inl z))
theorem xa_add {post : Int32 → SX → Prop} {k par : Int32} (hn : n ≤ 24) (Z : sg_Z g n p sp c F S fi nx la pa) (R : sg_Rp g n c sp F S fi nx la kd fs nt fr to ls) (hp : p < n) (hN : sg_N g n p) (hk : k = sg_K g p) (hpar : (sp = 0 ∧ c = 0 ∧ par = -1 ∧ (sg_E g n p = sg_ref g n 0 ∧ g p ≠ 46)) ∨ (0 < sp ∧ par = nI (S (sp - 1)) ∧ sg_Lk g n (F (S (sp - 1))) p)) (h : ∀ (fi' nx' la' pa' : Nat → Nat) (kd' fs' nt' fr' to' ls' : Nat → Int32), sg_Z g n (p + 1) (sp + 1) (c + 1) (sg_u F c p) (sg_u S sp c) fi' nx' la' pa' → sg_Rp g n (c + 1) (sp + 1) (sg_u F c p) (sg_u S sp c) fi' nx' la' kd' fs' nt' fr' to' ls' → fi' c = 0 → (0 < sp → fi' (S (sp - 1)) ≠ 0) → post (nI c) (len, nI (c + 1), b, kd', fs', nt', fr', to', ls', st)) : wpX_add post (len, nI c, b, kd, fs, nt, fr, to, ls, st) k (nI p) par := by
  have hcp := sg_En_le Z.1.2.1
  have hc : c < 24 := by omega
  have hi : vp_in (nI c) 24 := vp_in_nI hc (by omega)
  have hcl : (nI c).toNatClampNeg = c := nI_clamp (by omega)
  obtain ⟨n1, n2, n3⟩ := sg_Rp_new (p := p) R (y := nI p + 1) hk
  unfold wpX_add
  intro c1 e1
  rw [nI_1] at e1
  subst e1
  refine ⟨hi, fun kd' e2 => ⟨hi, fun fr' e3 => ⟨hi, fun to' e4 => ⟨hi, fun fs1 e5 => ⟨hi, fun nt1 e6 => ⟨hi, fun ls1 e7 => ?_⟩⟩⟩⟩⟩⟩
  rw [hcl] at e2 e3 e4 e5 e6 e7
  subst e2 e3 e4 e5 e6 e7
  rcases hpar with ⟨rfl, rfl, rfl, hR⟩ | ⟨h0, rfl, hK⟩
  · refine br_t (by decide) ?_
    have Z' := sg_Z_push0 Z hp hN hR
    refine h (sg_u fi 0 0) (sg_u nx 0 0) la pa _ _ _ _ _ _ Z' ⟨n1, sg_up1 (R := sg_o1) R.2.1 rfl, sg_up1 (R := sg_o1) R.2.2.1 rfl, n2, n3, ?_⟩ sg_us (fun z => absurd z (by omega))
    intro m hm hz
    have e : m = 0 := by omega
    subst e
    rw [sg_us] at hz
    exact absurd rfl hz
  · have ht := Z.1.2.2.1 (sp - 1) (by omega)
    have hit : vp_in (nI (S (sp - 1))) 24 := vp_in_nI (by omega) (by omega)
    have hclt : (nI (S (sp - 1))).toNatClampNeg = S (sp - 1) := nI_clamp (by omega)
    refine br_f (nI_pos (by omega)) ⟨hit, ?_⟩
    rw [hclt, pk_un (by omega : S (sp - 1) ≠ c), R.2.1 _ ht, pk_un (by omega : S (sp - 1) ≠ c)]
    by_cases hf : fi (S (sp - 1)) = 0
    · rw [hf, sg_o1_0]
      refine br_f (by decide) ⟨hit, fun fs2 e8 => ⟨hit, fun ls2 e9 => ?_⟩⟩
      subst e8 e9
      have Z' := sg_Z_pushA Z hp hN h0 hf hK
      refine h _ _ _ _ _ _ _ _ _ _ Z' ⟨n1, ?_, sg_up1 (R := sg_o1) R.2.2.1 rfl, n2, n3, ?_⟩ ?_ ?_
      · exact sg_up2 (R := sg_o1) (sg_up1 (R := sg_o1) R.2.1 rfl) (sg_o1_p (by omega)).symm
      · intro m hm hz
        by_cases e : m = S (sp - 1)
        · rw [e, pk_us, sg_us]
        · by_cases e2 : m = c
          · rw [sg_un e, e2, sg_us] at hz; exact absurd rfl hz
          · rw [pk_un e, pk_un e2, sg_un e]
            rw [sg_un e, sg_un e2] at hz
            exact R.2.2.2.2.2 m (by omega) hz
      · rw [sg_un (by omega), sg_us]
      · intro _; rw [sg_us]; omega
    · rw [sg_o1_p hf, R.2.2.2.2.2 _ ht hf]
      obtain ⟨l0, l1, l2, l3, _, l5⟩ := Z.2.2.2.2.1 (sp - 1) (by omega) hf
      have hil : vp_in (nI (la (S (sp - 1)))) 24 := vp_in_nI (by omega) (by omega)
      have hcll : (nI (la (S (sp - 1)))).toNatClampNeg = la (S (sp - 1)) := nI_clamp (by omega)
      have hfc := (Z.2.2.1.2 _ ht hf)
      refine br_t (nI_pos' (by omega)) ⟨hit, hil, fun nt2 e8 => ⟨hit, fun ls2 e9 => ?_⟩⟩
      rw [hcll] at e8
      subst e8 e9
      have Z' := sg_Z_pushB Z hp hN h0 hf hK
      refine h _ _ _ _ _ _ _ _ _ _ Z' ⟨n1, sg_up1 (R := sg_o1) R.2.1 rfl, ?_, n2, n3, ?_⟩ sg_us ?_
      · exact sg_up2 (R := sg_o1) (sg_up1 (R := sg_o1) R.2.2.1 rfl) (sg_o1_p (by omega)).symm
      · intro m hm hz
        by_cases e2 : m = c
        · rw [e2, sg_us] at hz; exact absurd rfl hz
        · by_cases e : m = S (sp - 1)
          · rw [e, pk_us, sg_us]
          · rw [pk_un e, pk_un e2, sg_un e]
            rw [sg_un e2] at hz
            exact R.2.2.2.2.2 m (by omega) hz
      · intro _; rw [sg_un (by omega)]; exact hf
theorem xs_loop {post : Int32 → Prop} {cn : Int32} (hn : n ≤ 24) (hg : sg_End g n) (hb : ∀ i, i < n → b i = g i) : ∀ d j, j + d = n → post (nI (sg_ie g n j)) → wX_skipIdent_0 post (nI n) cn b kd fs nt fr to ls st (d + 1) (nI j) := by
  intro d
  induction d with
  | zero =>
    intro j hj hp
    refine br_t (nI_le (by omega) (by omega)) ?_
    rw [sg_ie_f (fun z => z.2.2.2.2.2.2 (hg j (by omega)))] at hp
    exact hp
  | succ d ih =>
    intro j hj hp
    have hc : (nI j).toNatClampNeg = j := nI_clamp (by omega)
    have k : ¬ sg_id (g j) → post (nI j) := by
      intro z
      rw [sg_ie_f z] at hp
      exact hp
    refine br_f (nI_ge (by omega) (by omega)) ⟨vp_in_nI (by omega) (by omega), nm_r (e' := g j) (by rw [hc]; exact hb j (by omega)) ?_⟩
    refine br_c (fun e => k (fun z => z.1 e)) fun e1 => br_c (fun e => k (fun z => z.2.1 e)) fun e2 => br_c (fun e => k (fun z => z.2.2.1 e)) fun e3 => br_c (fun e => k (fun z => z.2.2.2.1 e)) fun e4 => br_c (fun e => k (fun z => z.2.2.2.2.1 e)) fun e5 => br_c (fun e => k (fun z => z.2.2.2.2.2.1 e)) fun e6 => br_c (fun e => k (fun z => z.2.2.2.2.2.2 e)) fun e7 => nm_r (nI_1 j) ?_
    exact ih (j + 1) (by omega) (by rw [← sg_ie_t hg ⟨e1, e2, e3, e4, e5, e6, e7⟩]; exact hp)
theorem xs_skip {post : Int32 → Prop} {cn : Int32} (hn : n ≤ 24) (hg : sg_End g n) (hb : ∀ i, i < n → b i = g i) {j : Nat} (hj : j ≤ n) (hp : post (nI (sg_ie g n j))) : wpX_skipIdent post (nI n, cn, b, kd, fs, nt, fr, to, ls, st) (nI j) := ⟨_, xs_loop hn hg hb (n - j) j (by omega) hp⟩
end
def sg_bk (c : Int32) : Prop := (9 ≤ c.toInt ∧ c.toInt ≤ 13) ∨ (28 ≤ c.toInt ∧ c.toInt ≤ 32) ∨ c.toInt = 5760 ∨ c.toInt = 6158 ∨ (8192 ≤ c.toInt ∧ c.toInt ≤ 8202) ∨ c.toInt = 8232 ∨ c.toInt = 8233 ∨ c.toInt = 8287 ∨ c.toInt = 12288
theorem sg_iE {c d : Int32} {z : Int} (hd : d.toInt = z) : c = d ↔ c.toInt = z := by rw [← hd, Int32.toInt_inj]
theorem sg_iL {c d : Int32} {z : Int} (hd : d.toInt = z) : c < d ↔ c.toInt < z := by rw [← hd, Int32.lt_iff_toInt_lt]
theorem sg_iG {c d : Int32} {z : Int} (hd : d.toInt = z) : d < c ↔ z < c.toInt := by rw [← hd, Int32.lt_iff_toInt_lt]
theorem sg_iM {c d : Int32} {z : Int} (hd : d.toInt = z) : d ≤ c ↔ z ≤ c.toInt := by rw [← hd, Int32.le_iff_toInt_le]
theorem sg_brE {c d : Int32} {A B : Prop} (z : Int) (hd : d.toInt = z) (f : c.toInt = z → A) (h : ¬ c.toInt = z → B) : (c = d → A) ∧ (¬ c = d → B) := by rw [sg_iE hd]; exact ⟨f, h⟩
theorem sg_brL {c d : Int32} {A B : Prop} (z : Int) (hd : d.toInt = z) (f : c.toInt < z → A) (h : ¬ c.toInt < z → B) : (c < d → A) ∧ (¬ c < d → B) := by rw [sg_iL hd]; exact ⟨f, h⟩
theorem sg_brG {c d : Int32} {A B : Prop} (z : Int) (hd : d.toInt = z) (f : z < c.toInt → A) (h : ¬ z < c.toInt → B) : (d < c → A) ∧ (¬ d < c → B) := by rw [sg_iG hd]; exact ⟨f, h⟩
theorem sg_brM {c d : Int32} {A B : Prop} (z : Int) (hd : d.toInt = z) (f : z ≤ c.toInt → A) (h : ¬ z ≤ c.toInt → B) : (d ≤ c → A) ∧ (¬ d ≤ c → B) := by rw [sg_iM hd]; exact ⟨f, h⟩
section
variable {post : Int32 → Prop} {c : Int32}
theorem xb_60 {f1 f2 : Int32} {a1 a2 a3 a4 a5 a6 a7 a8 : Nat → Int32} (h1 : sg_bk c → post 1) (h0 : ¬ sg_bk c → post 0) (hz : 8202 < c.toInt ∨ (c.toInt < 8192 ∧ c.toInt ≠ 5760 ∧ c.toInt ≠ 6158 ∧ ¬ (28 ≤ c.toInt ∧ c.toInt ≤ 32) ∧ ¬ (9 ≤ c.toInt ∧ c.toInt ≤ 13))) : wX_isBlank_60 post c f1 f2 a1 a2 a3 a4 a5 a6 a7 a8 := by
  unfold sg_bk at h1 h0
  refine sg_brE 8232 (by decide) (fun e => h1 (by omega)) fun e1 => sg_brE 8233 (by decide) (fun e => h1 (by omega)) fun e2 => sg_brE 8287 (by decide) (fun e => h1 (by omega)) fun e3 => sg_brE 12288 (by decide) (fun e => h1 (by omega)) fun e4 => h0 (by omega)
theorem xb_28 {f1 f2 : Int32} {a1 a2 a3 a4 a5 a6 a7 a8 : Nat → Int32} (h1 : sg_bk c → post 1) (h0 : ¬ sg_bk c → post 0) (hz : ¬ (28 ≤ c.toInt ∧ c.toInt ≤ 32) ∧ ¬ (9 ≤ c.toInt ∧ c.toInt ≤ 13)) : wX_isBlank_28 post c f1 f2 a1 a2 a3 a4 a5 a6 a7 a8 := by
  refine sg_brE 5760 (by decide) (fun e => h1 (by unfold sg_bk; omega)) fun e1 => sg_brE 6158 (by decide) (fun e => h1 (by unfold sg_bk; omega)) fun e2 => sg_brL 8192 (by decide) (fun e => xb_60 h1 h0 (by omega)) fun e3 => sg_brG 8202 (by decide) (fun e => xb_60 h1 h0 (by omega)) fun e4 => h1 (by unfold sg_bk; omega)
theorem xb_14 {f1 f2 : Int32} {a1 a2 a3 a4 a5 a6 a7 a8 : Nat → Int32} (h1 : sg_bk c → post 1) (h0 : ¬ sg_bk c → post 0) (hz : ¬ (9 ≤ c.toInt ∧ c.toInt ≤ 13)) : wX_isBlank_14 post c f1 f2 a1 a2 a3 a4 a5 a6 a7 a8 := by
  refine sg_brL 28 (by decide) (fun e => xb_28 h1 h0 (by omega)) fun e1 => sg_brG 32 (by decide) (fun e => xb_28 h1 h0 (by omega)) fun e2 => h1 (by unfold sg_bk; omega)
theorem xb_X {f1 f2 : Int32} {a1 a2 a3 a4 a5 a6 a7 a8 : Nat → Int32} (h1 : sg_bk c → post 1) (h0 : ¬ sg_bk c → post 0) : wpX_isBlank post (f1, f2, a1, a2, a3, a4, a5, a6, a7, a8) c := by
  unfold wpX_isBlank
  refine sg_brL 9 (by decide) (fun e => xb_14 h1 h0 (by omega)) fun e1 => sg_brG 13 (by decide) (fun e => xb_14 h1 h0 (by omega)) fun e2 => h1 (by unfold sg_bk; omega)
theorem xb_46 (h1 : sg_bk c → post 1) (h0 : ¬ sg_bk c → post 0) (hz : 32 < c.toInt ∧ ¬ (8192 ≤ c.toInt ∧ c.toInt ≤ 8202)) : wY_blank_46 post c := by
  unfold sg_bk at h1 h0
  refine sg_brE 5760 (by decide) (fun e => h1 (by omega)) fun e1 => sg_brE 6158 (by decide) (fun e => h1 (by omega)) fun e2 => sg_brE 8232 (by decide) (fun e => h1 (by omega)) fun e3 => sg_brE 8233 (by decide) (fun e => h1 (by omega)) fun e4 => sg_brE 8287 (by decide) (fun e => h1 (by omega)) fun e5 => sg_brE 12288 (by decide) (fun e => h1 (by omega)) fun e6 => h0 (by omega)
theorem xb_Y (h1 : sg_bk c → post 1) (h0 : ¬ sg_bk c → post 0) : wpY_blank post c := by
  unfold wpY_blank
  refine sg_brG 32 (by decide) (fun e => sg_brL 8192 (by decide) (fun e2 => xb_46 h1 h0 (by omega)) fun e2 => sg_brG 8202 (by decide) (fun e3 => xb_46 h1 h0 (by omega)) fun e3 => h1 (by unfold sg_bk; omega)) fun e => sg_brM 28 (by decide) (fun e2 => h1 (by unfold sg_bk; omega)) fun e2 => sg_brL 9 (by decide) (fun e3 => h0 (by unfold sg_bk; omega)) fun e3 => sg_brG 13 (by decide) (fun e4 => h0 (by unfold sg_bk; omega)) fun e4 => h1 (by unfold sg_bk; omega)
end
end
section
abbrev sg_JT : Type := Int32 → Int32 → Int32 → Int32 → Int32 → Int32 → (Nat → Int32) → (Nat → Int32) → (Nat → Int32) → (Nat → Int32) → (Nat → Int32) → (Nat → Int32) → (Nat → Int32) → (Nat → Int32) → Prop
def sg_acc (g : Nat → Int32) (n : Nat) : Prop := sg_ref g n 0 = n ∧ 0 < n
def sg_X0 (g : Nat → Int32) (n p sp c : Nat) (x5 : Int32) (kd fs nt fr to ls st : Nat → Int32) : Prop := ∃ F S fi nx la pa : Nat → Nat, sg_I0 g n p sp c (x5 ≠ 0) F S fi nx la pa ∧ sg_Rp g n c sp F S fi nx la kd fs nt fr to ls ∧ sg_Rs sp S st
def sg_X1 (g : Nat → Int32) (n p sp c : Nat) (x5 : Int32) (kd fs nt fr to ls st : Nat → Int32) : Prop := ∃ F S fi nx la pa : Nat → Nat, sg_I1 g n p sp c (x5 ≠ 0) F S fi nx la pa ∧ sg_Rp g n c sp F S fi nx la kd fs nt fr to ls ∧ sg_Rs sp S st
def sg_X2 (g : Nat → Int32) (n p sp c : Nat) (x5 : Int32) (kd fs nt fr to ls st : Nat → Int32) : Prop := ∃ F S fi nx la pa : Nat → Nat, sg_I2 g n p sp c (x5 ≠ 0) F S fi nx la pa ∧ sg_Rp g n c sp F S fi nx la kd fs nt fr to ls ∧ sg_Rs sp S st
def sg_X3 (g : Nat → Int32) (n c : Nat) (x5 : Int32) (kd fs nt fr to ls : Nat → Int32) : Prop := sg_acc g n ∧ ∃ F S fi nx la pa : Nat → Nat, sg_Z g n n 0 c F S fi nx la pa ∧ sg_Rp g n c 0 F S fi nx la kd fs nt fr to ls ∧ (x5 ≠ 0 ↔ sg_bar g n n)
def sg_HJ (g : Nat → Int32) (n : Nat) (b : Nat → Int32) (mu : Nat) (J : sg_JT) : Prop := (0 < mu → ∀ (x2 x3 x5 cn : Int32) (kd fs nt fr to ls st : Nat → Int32), ¬ sg_acc g n → J x2 x3 (-1) x5 (nI n) cn b kd fs nt fr to ls st) ∧ (∀ (p sp c : Nat) (x5 : Int32) (kd fs nt fr to ls st : Nat → Int32), 2 * (n - p) + 2 < mu → sg_X0 g n p sp c x5 kd fs nt fr to ls st → J (nI sp) (nI p) 0 x5 (nI n) (nI c) b kd fs nt fr to ls st) ∧ (∀ (p sp c : Nat) (x5 : Int32) (kd fs nt fr to ls st : Nat → Int32), 2 * (n - p) + 3 < mu → sg_X1 g n p sp c x5 kd fs nt fr to ls st → J (nI sp) (nI p) 1 x5 (nI n) (nI c) b kd fs nt fr to ls st) ∧ (∀ (p sp c : Nat) (x5 : Int32) (kd fs nt fr to ls st : Nat → Int32), 2 * (n - p) + 2 < mu → sg_X2 g n p sp c x5 kd fs nt fr to ls st → J (nI sp) (nI p) 2 x5 (nI n) (nI c) b kd fs nt fr to ls st) ∧ (0 < mu → ∀ (x2 x3 : Int32) (c : Nat) (x5 : Int32) (kd fs nt fr to ls st : Nat → Int32), sg_X3 g n c x5 kd fs nt fr to ls → J x2 x3 3 x5 (nI n) (nI c) b kd fs nt fr to ls st)
section
variable {g : Nat → Int32} {n p sp c : Nat} {ba : Prop} {F S fi nx la pa : Nat → Nat}
theorem sg_S_ge (Z : sg_Z g n p sp c F S fi nx la pa) : ∀ j, j < sp → j ≤ S j := by
  intro j
  induction j with
  | zero => intro _; omega
  | succ j ih =>
    intro hj
    have h1 := ih (by omega)
    have h2 := Z.1.2.2.2.1 j hj
    omega
theorem sg_sp_le (Z : sg_Z g n p sp c F S fi nx la pa) : sp ≤ c ∧ c ≤ p ∧ p ≤ n := by
  refine ⟨?_, sg_En_le Z.1.2.1, Z.1.1⟩
  by_cases e : sp = 0
  · omega
  · have h1 := sg_S_ge Z (sp - 1) (by omega)
    have h2 := Z.1.2.2.1 (sp - 1) (by omega)
    omega
theorem sg_no0 (hg : sg_End g n) (I : sg_I0 g n p sp c ba F S fi nx la pa) (h1 : g p ≠ 76) (h2 : g p ≠ 84) (h3 : g p ≠ 91) (h4 : 0 < sp → g (F (S (sp - 1))) = 91 → ¬ sg_ba (g p)) (h5 : 0 < sp → (g (F (S (sp - 1))) = 76 ∨ g (F (S (sp - 1))) = 46) → g p ≠ 42 ∧ g p ≠ 43 ∧ g p ≠ 45 ∧ (g p = 62 → fi (S (sp - 1)) = 0)) : ¬ sg_acc g n := by
  rintro ⟨a1, a2⟩
  have hr : sg_ref g n 0 = 0 := by
    by_cases e : sp = 0
    · have hp := (I.2.2.1.1 e).1
      rw [hp] at h1 h2 h3
      exact sg_ref_0 hg h2 h1 h3
    · have h0 : 0 < sp := by omega
      exact sg_fail hg I.1.2.1 h0 (sg_stop0 hg I.2.2.1 h0 (I.2.1 _ (by omega)) h1 h2 h3 (h4 h0) (h5 h0))
  omega
theorem sg_no0E (hg : sg_End g n) (I : sg_I0 g n p sp c ba F S fi nx la pa) (hc : g p = 76 ∨ g p = 84) (hE : sg_E g n p = 0) : ¬ sg_acc g n := by
  rintro ⟨a1, a2⟩
  have hc3 : g p = 76 ∨ g p = 84 ∨ g p = 91 := by
    rcases hc with h | h
    · exact Or.inl h
    · exact Or.inr (Or.inl h)
  have hr : sg_ref g n 0 = 0 := by
    by_cases e : sp = 0
    · have hp := (I.2.2.1.1 e).1
      rw [sg_E_ref hc3, hp] at hE
      exact hE
    · have h0 : 0 < sp := by omega
      refine sg_fail hg I.1.2.1 h0 ?_
      have hl := (sg_lk0 hg I.2.2.1 h0 (I.2.1 _ (by omega)) (Or.inl hc3)).1
      rw [← hl, hE]
      apply Classical.byContradiction
      intro z
      exact (sg_co_pos hg z).1 rfl
  omega
theorem sg_no2 (hg : sg_End g n) (I : sg_I2 g n p sp c ba F S fi nx la pa) (h : sg_suf g n p = 0) : ¬ sg_acc g n := by
  rintro ⟨a1, a2⟩
  have := sg_fail hg I.1.2.1 I.2.2.1.2.1 (by rw [← I.2.2.1.2.2.2.1]; exact h)
  omega
theorem sg_par0 (hg : sg_End g n) (I : sg_I0 g n p sp c ba F S fi nx la pa) (hc : g p = 76 ∨ g p = 84 ∨ g p = 91) {x7 : Int32} (hx0 : sp = 0 → x7 = -1) (hx1 : 0 < sp → x7 = nI (S (sp - 1))) : (sp = 0 ∧ c = 0 ∧ x7 = -1 ∧ (sg_E g n p = sg_ref g n 0 ∧ g p ≠ 46)) ∨ (0 < sp ∧ x7 = nI (S (sp - 1)) ∧ sg_Lk g n (F (S (sp - 1))) p) := by
  by_cases e : sp = 0
  · refine Or.inl ⟨e, (I.2.2.1.1 e).2, hx0 e, ?_, ?_⟩
    · rw [sg_E_ref hc, (I.2.2.1.1 e).1]
    · rcases hc with h | h | h <;> exact sg_ne h
  · have h0 : 0 < sp := by omega
    exact Or.inr ⟨h0, hx1 h0, sg_lk0 hg I.2.2.1 h0 (I.2.1 _ (by omega)) (Or.inl hc)⟩
theorem sg_hM (I : sg_I0 g n p sp c ba F S fi nx la pa) (hp : p < n) (h : g p ≠ 62) : sg_M g n p p := I.2.2.2.1.1 (Or.inr (Or.inr ⟨hp, h⟩))
theorem sg_Kc {f : Nat} (hk : g f = 76 ∨ g f = 46 ∨ g f = 91 ∨ g f = 43 ∨ g f = 45) : (g f = 76 ∧ sg_K g f = 1) ∨ (g f = 46 ∧ sg_K g f = 2) ∨ (g f = 91 ∧ sg_K g f = 4) ∨ (g f = 43 ∧ sg_K g f = 5) ∨ (g f = 45 ∧ sg_K g f = 6) := by
  unfold sg_K
  rcases hk with h | h | h | h | h <;> rw [h] <;> decide
theorem sg_K_L {f : Nat} (h : g f = 76) : 1 = sg_K g f := by unfold sg_K; rw [h]; decide
theorem sg_K_T {f : Nat} (h : g f = 84) : 3 = sg_K g f := by unfold sg_K; rw [h]; decide
theorem sg_K_A {f : Nat} (h : g f = 91) : 4 = sg_K g f := by unfold sg_K; rw [h]; decide
theorem sg_K_s {f : Nat} (h : g f = 42) : 7 = sg_K g f := by unfold sg_K; rw [h]; decide
theorem sg_K_p {f : Nat} (h : g f = 43) : 5 = sg_K g f := by unfold sg_K; rw [h]; decide
theorem sg_K_m {f : Nat} (h : g f = 45) : 6 = sg_K g f := by unfold sg_K; rw [h]; decide
theorem sg_K_d {f : Nat} (h : g f = 46) : 2 = sg_K g f := by unfold sg_K; rw [h]; decide
theorem sg_K_b {f : Nat} (h : sg_ba (g f)) : 8 = sg_K g f := by
  unfold sg_K
  rcases h with h | h | h | h | h | h | h | h <;> rw [h] <;> decide
end
section
variable {g : Nat → Int32} {n p sp c N : Nat} {F S fi nx la pa : Nat → Nat} {b kd fs nt fr to ls st : Nat → Int32} {post : Int32 → SX → Prop} {J : sg_JT} {x5 x7 x8 : Int32}
theorem x_561 (hn : n ≤ 24) (hg : sg_End g n) (HJ : sg_HJ g n b N J) (hmu : 2 * (n - p) + 2 ≤ N) (hp : p < n) (I : sg_I0 g n p sp c (x5 ≠ 0) F S fi nx la pa) (R : sg_Rp g n c sp F S fi nx la kd fs nt fr to ls) (Rs : sg_Rs sp S st) {z0 : Int32} (hz : z0 = sg_K g p) (h0 : 0 < sp) (hx7 : x7 = nI (S (sp - 1))) (hin : g (F (S (sp - 1))) = 76 ∨ g (F (S (sp - 1))) = 46) (hc : g p = 43 ∨ g p = 45) : wX_parseField_561 post J (nI n) (nI sp) (nI p) x5 x7 z0 (nI n) (nI c) b kd fs nt fr to ls st := by
  have hb1 := sg_sp_le I.1
  have hM := sg_hM I hp (by rcases hc with h | h <;> exact sg_ne h)
  unfold wX_parseField_561
  refine xa_add hn I.1 R hp (Or.inr hM) hz (Or.inr ⟨h0, hx7, sg_lk0 hg I.2.2.1 h0 (I.2.1 _ (by omega)) (Or.inr (Or.inr ⟨hin, Or.inr hc⟩))⟩) ?_
  intro fi' nx' la' pa' kd' fs' nt' fr' to' ls' Z' R' hf hft
  dsimp only
  refine ⟨vp_in_nI (by omega) (by omega), fun st' e1 x2' e2 x3' e3 => ?_⟩
  rw [nI_clamp (by omega)] at e1
  rw [nI_1] at e2 e3
  subst e1 e2 e3
  exact HJ.2.1 _ _ _ _ _ _ _ _ _ _ _ (by omega) ⟨_, _, _, _, _, _, sg_st_stay hg I hM (Or.inr hc) Z' hf, R', sg_Rs_push Rs⟩
theorem x_547 (hn : n ≤ 24) (hg : sg_End g n) (HJ : sg_HJ g n b N J) (hmu : 2 * (n - p) + 2 ≤ N) (hp : p < n) (I : sg_I0 g n p sp c (x5 ≠ 0) F S fi nx la pa) (R : sg_Rp g n c sp F S fi nx la kd fs nt fr to ls) (Rs : sg_Rs sp S st) (h0 : 0 < sp) (hx7 : x7 = nI (S (sp - 1))) (hin : g (F (S (sp - 1))) = 76 ∨ g (F (S (sp - 1))) = 46) (hc : g p = 43 ∨ g p = 45) : wX_parseField_547 post J (nI n) (nI sp) (nI p) x5 (g p) x7 (nI n) (nI c) b kd fs nt fr to ls st := by
  refine br_c (fun e => ?_) (fun e => ?_)
  · exact x_561 hn hg HJ hmu hp I R Rs (sg_K_p e) h0 hx7 hin hc
  · exact x_561 hn hg HJ hmu hp I R Rs (sg_K_m (hc.resolve_left e)) h0 hx7 hin hc
theorem x_591 (hn : n ≤ 24) (hg : sg_End g n) (HJ : sg_HJ g n b N J) (hmu : 2 * (n - p) + 2 ≤ N) (hp : p < n) (I : sg_I0 g n p sp c (x5 ≠ 0) F S fi nx la pa) (R : sg_Rp g n c sp F S fi nx la kd fs nt fr to ls) (Rs : sg_Rs sp S st) (h1 : g p ≠ 76) (h2 : g p ≠ 84) (h3 : g p ≠ 91) (h4 : 0 < sp → g (F (S (sp - 1))) = 91 → ¬ sg_ba (g p)) {x9 : Int32} (h9 : (x9 = 0 ∧ (0 < sp → g (F (S (sp - 1))) ≠ 76 ∧ g (F (S (sp - 1))) ≠ 46)) ∨ (x9 = 1 ∧ 0 < sp ∧ x7 = nI (S (sp - 1)) ∧ ((g (F (S (sp - 1))) = 76 ∧ x8 = 1) ∨ (g (F (S (sp - 1))) = 46 ∧ x8 = 2)) ∧ g p ≠ 42 ∧ g p ≠ 43 ∧ g p ≠ 45)) : wX_parseField_591 post J (nI n) (nI sp) (nI p) x5 (g p) x7 x8 x9 (nI n) (nI c) b kd fs nt fr to ls st := by
  have hb1 := sg_sp_le I.1
  rcases h9 with ⟨e9, hin⟩ | ⟨e9, h0, hx7, hin, c1, c2, c3⟩
  · refine br_t e9 (HJ.1 (by omega) _ _ _ _ _ _ _ _ _ _ _ ?_)
    refine sg_no0 hg I h1 h2 h3 h4 ?_
    intro h0 z
    rcases z with z | z
    · exact absurd z (hin h0).1
    · exact absurd z (hin h0).2
  · have ht := I.1.1.2.2.1 (sp - 1) (by omega)
    have hin2 : g (F (S (sp - 1))) = 76 ∨ g (F (S (sp - 1))) = 46 := hin.elim (fun z => Or.inl z.1) (fun z => Or.inr z.1)
    have hit : vp_in x7 24 := by rw [hx7]; exact vp_in_nI (by omega) (by omega)
    have hcl : x7.toNatClampNeg = S (sp - 1) := by rw [hx7]; exact nI_clamp (by omega)
    refine br_f (by rw [e9]; decide) (br_c (fun e => ⟨hit, ?_⟩) (fun e => ?_))
    · rw [hcl, R.2.1 _ ht]
      by_cases hf : fi (S (sp - 1)) = 0
      · rw [hf, sg_o1_0]
        refine br_f (by decide) (HJ.1 (by omega) _ _ _ _ _ _ _ _ _ _ _ ?_)
        exact sg_no0 hg I h1 h2 h3 h4 (fun _ _ => ⟨c1, c2, c3, fun _ => hf⟩)
      · have hfc := (I.1.2.2.1.2 _ ht hf)
        rw [sg_o1_p hf]
        refine br_t (nI_pos' (by omega)) (nm_r (nI_1 p) ?_)
        obtain ⟨g1, g2⟩ := sg_st_gt hg I h0 hp hin2 e hf
        refine br_c (fun e8 => ⟨hit, fun to' e1 x2' e2 => ?_⟩) (fun e8 => ?_)
        · have h46 : g (F (S (sp - 1))) = 46 := by
            rcases hin with z | z
            · rw [z.2] at e8; exact absurd e8 (by decide)
            · exact z.1
          obtain ⟨hE, I2⟩ := g2 h46
          have e3 : nI sp - 1 = nI (sp - 1) := by
            obtain ⟨k, rfl⟩ : ∃ k, sp = k + 1 := ⟨sp - 1, by omega⟩
            exact nI_pred k
          rw [e3] at e2
          subst e1 e2
          refine HJ.2.2.2.1 _ _ _ _ _ _ _ _ _ _ _ (by omega) ⟨_, _, _, _, _, _, I2, sg_Rp_pop R (by rw [hE]), fun j hj => Rs j (by omega)⟩
        · have h76 : g (F (S (sp - 1))) = 76 := by
            rcases hin with z | z
            · exact z.1
            · exact absurd z.2 e8
          exact HJ.2.2.2.1 _ _ _ _ _ _ _ _ _ _ _ (by omega) ⟨_, _, _, _, _, _, g1 h76, R, Rs⟩
    · refine HJ.1 (by omega) _ _ _ _ _ _ _ _ _ _ _ ?_
      exact sg_no0 hg I h1 h2 h3 h4 (fun _ _ => ⟨c1, c2, c3, fun z => absurd z e⟩)
theorem x_528 (hn : n ≤ 24) (hg : sg_End g n) (HJ : sg_HJ g n b N J) (hmu : 2 * (n - p) + 2 ≤ N) (hp : p < n) (I : sg_I0 g n p sp c (x5 ≠ 0) F S fi nx la pa) (R : sg_Rp g n c sp F S fi nx la kd fs nt fr to ls) (Rs : sg_Rs sp S st) (h1 : g p ≠ 76) (h2 : g p ≠ 84) (h3 : g p ≠ 91) (h4 : 0 < sp → g (F (S (sp - 1))) = 91 → ¬ sg_ba (g p)) {x9 : Int32} (h9 : (x9 = 0 ∧ (0 < sp → g (F (S (sp - 1))) ≠ 76 ∧ g (F (S (sp - 1))) ≠ 46)) ∨ (x9 = 1 ∧ 0 < sp ∧ x7 = nI (S (sp - 1)) ∧ ((g (F (S (sp - 1))) = 76 ∧ x8 = 1) ∨ (g (F (S (sp - 1))) = 46 ∧ x8 = 2)) ∧ g p ≠ 42)) : wX_parseField_528 post J (nI n) (nI sp) (nI p) x5 (g p) x7 x8 x9 (nI n) (nI c) b kd fs nt fr to ls st := by
  rcases h9 with ⟨e9, hin⟩ | ⟨e9, h0, hx7, hin, c1⟩
  · exact br_t e9 (x_591 hn hg HJ hmu hp I R Rs h1 h2 h3 h4 (Or.inl ⟨e9, hin⟩))
  · have hin2 : g (F (S (sp - 1))) = 76 ∨ g (F (S (sp - 1))) = 46 := hin.elim (fun z => Or.inl z.1) (fun z => Or.inr z.1)
    refine br_f (by rw [e9]; decide) (br_c (fun e => x_547 hn hg HJ hmu hp I R Rs h0 hx7 hin2 (Or.inl e)) (fun e => br_c (fun e' => x_547 hn hg HJ hmu hp I R Rs h0 hx7 hin2 (Or.inr e')) (fun e' => ?_)))
    exact x_591 hn hg HJ hmu hp I R Rs h1 h2 h3 h4 (Or.inr ⟨e9, h0, hx7, hin, c1, e, e'⟩)
theorem x_487 (hn : n ≤ 24) (hg : sg_End g n) (HJ : sg_HJ g n b N J) (hmu : 2 * (n - p) + 2 ≤ N) (hp : p < n) (I : sg_I0 g n p sp c (x5 ≠ 0) F S fi nx la pa) (R : sg_Rp g n c sp F S fi nx la kd fs nt fr to ls) (Rs : sg_Rs sp S st) (h1 : g p ≠ 76) (h2 : g p ≠ 84) (h3 : g p ≠ 91) (h4 : 0 < sp → g (F (S (sp - 1))) = 91 → ¬ sg_ba (g p)) {x9 : Int32} (h9 : (x9 = 0 ∧ (0 < sp → g (F (S (sp - 1))) ≠ 76 ∧ g (F (S (sp - 1))) ≠ 46)) ∨ (x9 = 1 ∧ 0 < sp ∧ x7 = nI (S (sp - 1)) ∧ ((g (F (S (sp - 1))) = 76 ∧ x8 = 1) ∨ (g (F (S (sp - 1))) = 46 ∧ x8 = 2)))) : wX_parseField_487 post J (nI n) (nI sp) (nI p) x5 (g p) x7 x8 x9 (nI n) (nI c) b kd fs nt fr to ls st := by
  have hb1 := sg_sp_le I.1
  rcases h9 with ⟨e9, hin⟩ | ⟨e9, h0, hx7, hin⟩
  · exact br_t e9 (x_528 hn hg HJ hmu hp I R Rs h1 h2 h3 h4 (Or.inl ⟨e9, hin⟩))
  · have hin2 : g (F (S (sp - 1))) = 76 ∨ g (F (S (sp - 1))) = 46 := hin.elim (fun z => Or.inl z.1) (fun z => Or.inr z.1)
    refine br_f (by rw [e9]; decide) (br_c (fun e => ?_) (fun e => x_528 hn hg HJ hmu hp I R Rs h1 h2 h3 h4 (Or.inr ⟨e9, h0, hx7, hin, e⟩)))
    have hM := sg_hM I hp (sg_ne e)
    refine xa_add hn I.1 R hp (Or.inr hM) (sg_K_s e) (Or.inr ⟨h0, hx7, sg_lk0 hg I.2.2.1 h0 (I.2.1 _ (by omega)) (Or.inr (Or.inr ⟨hin2, Or.inl e⟩))⟩) ?_
    intro fi' nx' la' pa' kd' fs' nt' fr' to' ls' Z' R' hf hft
    dsimp only
    refine nm_r (nI_1 p) ⟨vp_in_nI (by omega) (by omega), fun to2 e1 => ?_⟩
    rw [nI_clamp (by omega)] at e1
    subst e1
    have R2 := sg_Rp_pop R' (v := nI (p + 1)) (by rw [sg_topF, sg_E_42 e])
    rw [Nat.add_sub_cancel, sg_us] at R2
    exact HJ.2.1 _ _ _ _ _ _ _ _ _ _ _ (by omega) ⟨_, _, _, _, _, _, sg_st_shut0 hg I h0 hp hin2 e Z' (hft h0), R2, sg_Rs_old Rs⟩
theorem x_458 (hn : n ≤ 24) (hg : sg_End g n) (HJ : sg_HJ g n b N J) (hmu : 2 * (n - p) + 2 ≤ N) (hp : p < n) (I : sg_I0 g n p sp c (x5 ≠ 0) F S fi nx la pa) (R : sg_Rp g n c sp F S fi nx la kd fs nt fr to ls) (Rs : sg_Rs sp S st) (h0 : 0 < sp) (hx7 : x7 = nI (S (sp - 1))) (h91 : g (F (S (sp - 1))) = 91) (hc : sg_ba (g p)) : wX_parseField_458 post J (nI n) (nI sp) (nI p) x5 x7 (nI n) (nI c) b kd fs nt fr to ls st := by
  have hb1 := sg_sp_le I.1
  have hM := sg_hM I hp (by rcases hc with h | h | h | h | h | h | h | h <;> exact sg_ne h)
  unfold wX_parseField_458
  refine xa_add hn I.1 R hp (Or.inr hM) (sg_K_b hc) (Or.inr ⟨h0, hx7, sg_lk0 hg I.2.2.1 h0 (I.2.1 _ (by omega)) (Or.inr (Or.inl ⟨h91, hc⟩))⟩) ?_
  intro fi' nx' la' pa' kd' fs' nt' fr' to' ls' Z' R' hf hft
  dsimp only
  refine nm_r (nI_1 p) ⟨vp_in_nI (by omega) (by omega), fun to2 e1 => ?_⟩
  rw [nI_clamp (by omega)] at e1
  subst e1
  have R2 := sg_Rp_pop R' (v := nI (p + 1)) (by rw [sg_topF, sg_E_ba hc])
  rw [Nat.add_sub_cancel, sg_us] at R2
  refine HJ.2.2.1 _ _ _ _ _ _ _ _ _ _ _ (by omega) ⟨_, _, _, _, _, _, sg_st_shut1 hg I (sg_E_ba hc) (by omega) hp ⟨?_, ?_, ?_, ?_, ?_, ?_⟩ (fun i h1 h2 => by omega) Z', R2, sg_Rs_old Rs⟩ <;> (rcases hc with h | h | h | h | h | h | h | h <;> exact sg_ne h)
theorem x_178e (hn : n ≤ 24) (hb : ∀ i, i < n → b i = g i) {cn x2 : Int32} {m j : Nat} (hj : j ≤ n) (h2 : g j ≠ 60 → J x2 (nI j) 2 x5 (nI n) cn b kd fs nt fr to ls st) (h0 : g j = 60 → J x2 (nI (j + 1)) 0 x5 (nI n) cn b kd fs nt fr to ls st) (hge : j = n → g j = 58) : wX_parseField_178 post J (nI n) x2 x5 (nI n) cn b kd fs nt fr to ls st (m + 1) (nI j) 1 0 := by
  refine br_t rfl (br_f (by decide) ?_)
  by_cases e : j = n
  · refine br_t (nI_le (by omega) (by omega)) (h2 ?_)
    exact sg_ne (hge e)
  · refine br_f (nI_ge (by omega) (by omega)) ⟨vp_in_nI (by omega) (by omega), ?_⟩
    rw [nI_clamp (by omega), hb j (by omega)]
    exact br_c (fun z => nm_r (nI_1 j) (h0 z)) (fun z => h2 z)
theorem x_178 (hn : n ≤ 24) (hg : sg_End g n) (hb : ∀ i, i < n → b i = g i) {cn x2 : Int32} : ∀ d j, 0 < j → j ≤ n → n - j ≤ d → (sg_pk g n j = 0 → ∀ x3, J x2 x3 (-1) x5 (nI n) cn b kd fs nt fr to ls st) → (sg_pk g n j ≠ 0 → g (sg_ie g n (sg_pk g n j)) ≠ 60 → J x2 (nI (sg_ie g n (sg_pk g n j))) 2 x5 (nI n) cn b kd fs nt fr to ls st) → (sg_pk g n j ≠ 0 → g (sg_ie g n (sg_pk g n j)) = 60 → J x2 (nI (sg_ie g n (sg_pk g n j) + 1)) 0 x5 (nI n) cn b kd fs nt fr to ls st) → wX_parseField_178 post J (nI n) x2 x5 (nI n) cn b kd fs nt fr to ls st (d + 2) (nI j) 1 1 := by
  intro d
  induction d with
  | zero =>
    intro j hj0 hj hd hF h2 h0
    have e : sg_ie g n j = j := sg_ie_f (fun z => z.2.2.2.2.2.2 (hg j (by omega)))
    refine br_f (by decide) (xs_skip hn hg hb hj ?_)
    rw [e]
    refine br_t rfl (br_t rfl (br_t rfl (hF ?_ _)))
    rw [sg_pk_eq hg, if_pos e]
  | succ d ih =>
    intro j hj0 hj hd hF h2 h0
    refine br_f (by decide) (xs_skip hn hg hb hj ?_)
    by_cases e : sg_ie g n j = j
    · rw [e]
      refine br_t rfl (br_t rfl (br_t rfl (hF ?_ _)))
      rw [sg_pk_eq hg, if_pos e]
    · have hjn := sg_ie_lt hg e
      have hge := sg_ie_ge (g := g) (n := n) j
      have hle := sg_ie_le hg hj
      refine br_f (fun z => e ((nI_eq (by omega) (by omega)).mp z)) ?_
      by_cases e2 : sg_ie g n j = n
      · have e47 : g (sg_ie g n j) ≠ 47 := by rw [e2, hg n (Nat.le_refl _)]; decide
        have epk : sg_pk g n j = j := by rw [sg_pk_eq hg, if_neg e, if_neg e47]
        rw [epk] at h2 h0
        refine br_t (nI_le (by omega) (by omega)) ?_
        exact x_178e hn hb (by omega) (h2 (by omega)) (h0 (by omega)) (fun z => by rw [e2]; exact hg n (Nat.le_refl _))
      · refine br_f (nI_ge (by omega) (by omega)) ⟨vp_in_nI (by omega) (by omega), ?_⟩
        rw [nI_clamp (by omega), hb _ (by omega)]
        refine br_c (fun e47 => nm_r (nI_1 _) ?_) (fun e47 => ?_)
        · have epk : sg_pk g n j = sg_pk g n (sg_ie g n j + 1) := by rw [sg_pk_eq hg, if_neg e, if_pos e47]
          rw [epk] at hF h2 h0
          exact ih _ (by omega) (by omega) (by omega) hF h2 h0
        · have epk : sg_pk g n j = j := by rw [sg_pk_eq hg, if_neg e, if_neg e47]
          rw [epk] at h2 h0
          exact x_178e hn hb (by omega) (h2 (by omega)) (h0 (by omega)) (fun z => absurd z e2)
end
end
section
section
variable {g : Nat → Int32} {n p sp c N : Nat} {F S fi nx la pa : Nat → Nat} {b kd fs nt fr to ls st : Nat → Int32} {post : Int32 → SX → Prop} {J : sg_JT} {x5 x7 x8 : Int32}
theorem x_L (hn : n ≤ 24) (hg : sg_End g n) (hb : ∀ i, i < n → b i = g i) (HJ : sg_HJ g n b N J) (hmu : 2 * (n - p) + 2 ≤ N) (hp : p < n) (I : sg_I0 g n p sp c (x5 ≠ 0) F S fi nx la pa) (Rs : sg_Rs sp S st) (e : g p = 76) {fi' nx' la' pa' : Nat → Nat} {kd' fs' nt' fr' to' ls' : Nat → Int32} (Z' : sg_Z g n (p + 1) (sp + 1) (c + 1) (sg_u F c p) (sg_u S sp c) fi' nx' la' pa') (R' : sg_Rp g n (c + 1) (sp + 1) (sg_u F c p) (sg_u S sp c) fi' nx' la' kd' fs' nt' fr' to' ls') (hf : fi' c = 0) : wX_parseField_178 post J (nI n) (nI (sp + 1)) x5 (nI n) (nI (c + 1)) b kd' fs' nt' fr' to' ls' (upd st sp (nI c)) (n - (p + 1) + 2) (nI (p + 1)) 1 1 := by
  refine x_178 hn hg hb (n - (p + 1)) (p + 1) (by omega) (by omega) (Nat.le_refl _) ?_ ?_ ?_
  · intro z x3
    refine HJ.1 (by omega) _ _ _ _ _ _ _ _ _ _ _ (sg_no0E hg I (Or.inl e) ?_)
    rw [sg_E_ref (Or.inl e), sg_ref_L hg e, z, sg_sc_0]; exact sg_suf_0 hg
  · intro z z2
    obtain ⟨d1, d2, d3, d4⟩ := sg_st_L hg I e z Z' hf
    refine HJ.2.2.2.1 _ _ _ _ _ _ _ _ _ _ _ ?_ ⟨_, _, _, _, _, _, d3 z2, R', sg_Rs_push Rs⟩
    unfold sg_D at d1
    omega
  · intro z z2
    obtain ⟨d1, d2, d3, d4⟩ := sg_st_L hg I e z Z' hf
    refine HJ.2.1 _ _ _ _ _ _ _ _ _ _ _ ?_ ⟨_, _, _, _, _, _, d4 z2, R', sg_Rs_push Rs⟩
    unfold sg_D at d1
    omega
theorem x_137L (hn : n ≤ 24) (hg : sg_End g n) (hb : ∀ i, i < n → b i = g i) (HJ : sg_HJ g n b N J) (hmu : 2 * (n - p) + 2 ≤ N) (hp : p < n) (I : sg_I0 g n p sp c (x5 ≠ 0) F S fi nx la pa) (R : sg_Rp g n c sp F S fi nx la kd fs nt fr to ls) (Rs : sg_Rs sp S st) (hx0 : sp = 0 → x7 = -1) (hx1 : 0 < sp → x7 = nI (S (sp - 1))) {z0 : Int32} (e : g p = 76) : wX_parseField_137 post J (nI n) (nI sp) (nI p) x5 (g p) x7 x8 z0 (nI n) (nI c) b kd fs nt fr to ls st := by
  have hb1 := sg_sp_le I.1
  have hM := sg_hM I hp (sg_ne e)
  refine br_t e (xa_add hn I.1 R hp (Or.inr hM) (sg_K_L e) (sg_par0 hg I (Or.inl e) hx0 hx1) ?_)
  intro fi' nx' la' pa' kd' fs' nt' fr' to' ls' Z' R' hf hft
  dsimp only
  refine ⟨vp_in_nI (by omega) (by omega), fun st' e1 x2' e2 x3' e3 => ?_⟩
  rw [nI_clamp (by omega)] at e1
  rw [nI_1] at e2 e3
  subst e1 e2 e3
  exact ⟨_, x_L hn hg hb HJ hmu hp I Rs e Z' R' hf⟩
theorem x_137T (hn : n ≤ 24) (hg : sg_End g n) (hb : ∀ i, i < n → b i = g i) (HJ : sg_HJ g n b N J) (hmu : 2 * (n - p) + 2 ≤ N) (hp : p < n) (I : sg_I0 g n p sp c (x5 ≠ 0) F S fi nx la pa) (R : sg_Rp g n c sp F S fi nx la kd fs nt fr to ls) (Rs : sg_Rs sp S st) (hx0 : sp = 0 → x7 = -1) (hx1 : 0 < sp → x7 = nI (S (sp - 1))) {z0 : Int32} (e : g p = 84) : wX_parseField_137 post J (nI n) (nI sp) (nI p) x5 (g p) x7 x8 z0 (nI n) (nI c) b kd fs nt fr to ls st := by
  have hb1 := sg_sp_le I.1
  have hM := sg_hM I hp (sg_ne e)
  have hno : sg_E g n p = 0 → ¬ sg_acc g n := sg_no0E hg I (Or.inr e)
  have hEp : sg_E g n p = sg_ref g n p := sg_E_ref (Or.inr (Or.inl e))
  rw [hEp, sg_ref_T hg e] at hno
  have hge := sg_ie_ge (g := g) (n := n) (p + 1)
  have hle := sg_ie_le hg (i := p + 1) (by omega)
  refine br_f (sg_ne e) (br_t e (xa_add hn I.1 R hp (Or.inr hM) (sg_K_T e) (sg_par0 hg I (Or.inr (Or.inl e)) hx0 hx1) ?_))
  intro fi' nx' la' pa' kd' fs' nt' fr' to' ls' Z' R' hf hft
  dsimp only
  rw [nI_1 p]
  refine xs_skip hn hg hb (by omega) ?_
  by_cases e1 : sg_ie g n (p + 1) = p + 1
  · rw [e1]
    rw [if_pos e1] at hno
    exact br_t rfl (HJ.1 (by omega) _ _ _ _ _ _ _ _ _ _ _ (hno rfl))
  · rw [if_neg e1] at hno
    refine br_f (fun z => e1 ((nI_eq (by omega) (by omega)).mp z)) ?_
    by_cases e2 : sg_ie g n (p + 1) = n
    · refine br_t (nI_le (by omega) (by omega)) (HJ.1 (by omega) _ _ _ _ _ _ _ _ _ _ _ (hno ?_))
      rw [if_neg]
      rw [e2, hg n (Nat.le_refl _)]; decide
    · refine br_f (nI_ge (by omega) (by omega)) ⟨vp_in_nI (by omega) (by omega), ?_⟩
      rw [nI_clamp (by omega), hb _ (by omega)]
      refine br_c (fun e3 => nm_r (nI_1 _) ⟨vp_in_nI (by omega) (by omega), fun to2 e4 => ?_⟩) (fun e3 => ?_)
      · rw [nI_clamp (by omega)] at e4
        subst e4
        have hE : sg_E g n p = sg_ie g n (p + 1) + 1 := by rw [hEp, sg_ref_T hg e, if_neg e1, if_pos e3]
        have R2 := sg_Rp_pop R' (v := nI (sg_ie g n (p + 1) + 1)) (by rw [sg_topF, hE])
        rw [Nat.add_sub_cancel, sg_us] at R2
        refine HJ.2.2.1 _ _ _ _ _ _ _ _ _ _ _ (by omega) ⟨_, _, _, _, _, _, sg_st_shut1 hg I hE (by omega) (by omega) ⟨sg_ne e, sg_ne e, sg_ne e, sg_ne e, sg_ne e, sg_ne e⟩ ?_ Z', R2, sg_Rs_old Rs⟩
        intro i h1 h2
        by_cases z : i = sg_ie g n (p + 1)
        · rw [z]; exact ⟨sg_ne e3, sg_ne e3⟩
        · have := sg_ie_in (g := g) (n := n) h1 (by omega)
          exact ⟨this.2.2.2.2.1, this.1⟩
      · refine HJ.1 (by omega) _ _ _ _ _ _ _ _ _ _ _ (hno ?_)
        rw [if_neg e3]
theorem x_137A (hn : n ≤ 24) (hg : sg_End g n) (HJ : sg_HJ g n b N J) (hmu : 2 * (n - p) + 2 ≤ N) (hp : p < n) (I : sg_I0 g n p sp c (x5 ≠ 0) F S fi nx la pa) (R : sg_Rp g n c sp F S fi nx la kd fs nt fr to ls) (Rs : sg_Rs sp S st) (hx0 : sp = 0 → x7 = -1) (hx1 : 0 < sp → x7 = nI (S (sp - 1))) {z0 : Int32} (e : g p = 91) : wX_parseField_137 post J (nI n) (nI sp) (nI p) x5 (g p) x7 x8 z0 (nI n) (nI c) b kd fs nt fr to ls st := by
  have hb1 := sg_sp_le I.1
  have hM := sg_hM I hp (sg_ne e)
  refine br_f (sg_ne e) (br_f (sg_ne e) (br_t e (xa_add hn I.1 R hp (Or.inr hM) (sg_K_A e) (sg_par0 hg I (Or.inr (Or.inr e)) hx0 hx1) ?_)))
  intro fi' nx' la' pa' kd' fs' nt' fr' to' ls' Z' R' hf hft
  dsimp only
  refine ⟨vp_in_nI (by omega) (by omega), fun st' e1 x2' e2 x3' e3 => ?_⟩
  rw [nI_clamp (by omega)] at e1
  rw [nI_1] at e2 e3
  subst e1 e2 e3
  exact HJ.2.1 _ _ _ _ _ _ _ _ _ _ _ (by omega) ⟨_, _, _, _, _, _, sg_st_stay hg I hM (Or.inl e) Z' hf, R', sg_Rs_push Rs⟩
theorem x_137 (hn : n ≤ 24) (hg : sg_End g n) (hb : ∀ i, i < n → b i = g i) (HJ : sg_HJ g n b N J) (hmu : 2 * (n - p) + 2 ≤ N) (hp : p < n) (I : sg_I0 g n p sp c (x5 ≠ 0) F S fi nx la pa) (R : sg_Rp g n c sp F S fi nx la kd fs nt fr to ls) (Rs : sg_Rs sp S st) (hx0 : sp = 0 → x7 = -1) (hx1 : 0 < sp → x7 = nI (S (sp - 1))) (hk0 : sp = 0 → x8 = 0) (hk1 : 0 < sp → x8 = sg_K g (F (S (sp - 1)))) {z0 : Int32} (h9 : (z0 = 0 ∧ (0 < sp → g (F (S (sp - 1))) ≠ 76 ∧ g (F (S (sp - 1))) ≠ 46)) ∨ (z0 = 1 ∧ 0 < sp ∧ x7 = nI (S (sp - 1)) ∧ ((g (F (S (sp - 1))) = 76 ∧ x8 = 1) ∨ (g (F (S (sp - 1))) = 46 ∧ x8 = 2)))) : wX_parseField_137 post J (nI n) (nI sp) (nI p) x5 (g p) x7 x8 z0 (nI n) (nI c) b kd fs nt fr to ls st := by
  by_cases e1 : g p = 76
  · exact x_137L hn hg hb HJ hmu hp I R Rs hx0 hx1 e1
  · by_cases e2 : g p = 84
    · exact x_137T hn hg hb HJ hmu hp I R Rs hx0 hx1 e2
    · by_cases e3 : g p = 91
      · exact x_137A hn hg HJ hmu hp I R Rs hx0 hx1 e3
      · refine br_f e1 (br_f e2 (br_f e3 ?_))
        by_cases e8 : x8 = 4
        · have h0 : 0 < sp := by
            apply Nat.pos_of_ne_zero
            intro z
            rw [hk0 z] at e8
            exact absurd e8 (by decide)
          have h91 : g (F (S (sp - 1))) = 91 := by
            have hk := hk1 h0
            rw [e8] at hk
            rcases sg_Kc (I.2.1 (sp - 1) (by omega)) with z | z | z | z | z
            · rw [z.2] at hk; exact absurd hk (by decide)
            · rw [z.2] at hk; exact absurd hk (by decide)
            · exact z.1
            · rw [z.2] at hk; exact absurd hk (by decide)
            · rw [z.2] at hk; exact absurd hk (by decide)
          have k : sg_ba (g p) → wX_parseField_458 post J (nI n) (nI sp) (nI p) x5 x7 (nI n) (nI c) b kd fs nt fr to ls st := fun h => x_458 hn hg HJ hmu hp I R Rs h0 (hx1 h0) h91 h
          refine br_t e8 (br_c (fun z => k (Or.inl z)) fun b1 => br_c (fun z => k (Or.inr (Or.inl z))) fun b2 => br_c (fun z => k (Or.inr (Or.inr (Or.inl z)))) fun b3 => br_c (fun z => k (Or.inr (Or.inr (Or.inr (Or.inl z))))) fun b4 => br_c (fun z => k (Or.inr (Or.inr (Or.inr (Or.inr (Or.inl z)))))) fun b5 => br_c (fun z => k (Or.inr (Or.inr (Or.inr (Or.inr (Or.inr (Or.inl z))))))) fun b6 => br_c (fun z => k (Or.inr (Or.inr (Or.inr (Or.inr (Or.inr (Or.inr (Or.inl z)))))))) fun b7 => br_c (fun z => k (Or.inr (Or.inr (Or.inr (Or.inr (Or.inr (Or.inr (Or.inr z)))))))) fun b8 => ?_)
          refine x_487 hn hg HJ hmu hp I R Rs e1 e2 e3 (fun _ _ z => ?_) h9
          rcases z with z | z | z | z | z | z | z | z
          · exact b1 z
          · exact b2 z
          · exact b3 z
          · exact b4 z
          · exact b5 z
          · exact b6 z
          · exact b7 z
          · exact b8 z
        · refine br_f e8 (x_487 hn hg HJ hmu hp I R Rs e1 e2 e3 (fun h0 z => ?_) h9)
          exact absurd ((hk1 h0).trans (sg_K_A z).symm) e8
theorem x_118 (hn : n ≤ 24) (hg : sg_End g n) (hb : ∀ i, i < n → b i = g i) (HJ : sg_HJ g n b N J) (hmu : 2 * (n - p) + 2 ≤ N) (hp : p < n) (I : sg_I0 g n p sp c (x5 ≠ 0) F S fi nx la pa) (R : sg_Rp g n c sp F S fi nx la kd fs nt fr to ls) (Rs : sg_Rs sp S st) (hx0 : sp = 0 → x7 = -1) (hx1 : 0 < sp → x7 = nI (S (sp - 1))) (hk0 : sp = 0 → x8 = 0) (hk1 : 0 < sp → x8 = sg_K g (F (S (sp - 1)))) : wX_parseField_118 post J (nI n) (nI sp) (nI p) x5 (g p) x7 x8 (nI n) (nI c) b kd fs nt fr to ls st := by
  have hpos : x8 ≠ 0 → 0 < sp := fun z => Nat.pos_of_ne_zero (fun y => z (hk0 y))
  refine br_c (fun e => ?_) (fun e => br_c (fun e2 => ?_) (fun e2 => ?_))
  · have h0 := hpos (by rw [e]; decide)
    have h76 : g (F (S (sp - 1))) = 76 := by
      have hk := hk1 h0
      rw [e] at hk
      rcases sg_Kc (I.2.1 (sp - 1) (by omega)) with z | z | z | z | z
      · exact z.1
      · rw [z.2] at hk; exact absurd hk (by decide)
      · rw [z.2] at hk; exact absurd hk (by decide)
      · rw [z.2] at hk; exact absurd hk (by decide)
      · rw [z.2] at hk; exact absurd hk (by decide)
    exact x_137 hn hg hb HJ hmu hp I R Rs hx0 hx1 hk0 hk1 (Or.inr ⟨rfl, h0, hx1 h0, Or.inl ⟨h76, e⟩⟩)
  · have h0 := hpos (by rw [e2]; decide)
    have h46 : g (F (S (sp - 1))) = 46 := by
      have hk := hk1 h0
      rw [e2] at hk
      rcases sg_Kc (I.2.1 (sp - 1) (by omega)) with z | z | z | z | z
      · rw [z.2] at hk; exact absurd hk (by decide)
      · exact z.1
      · rw [z.2] at hk; exact absurd hk (by decide)
      · rw [z.2] at hk; exact absurd hk (by decide)
      · rw [z.2] at hk; exact absurd hk (by decide)
    exact x_137 hn hg hb HJ hmu hp I R Rs hx0 hx1 hk0 hk1 (Or.inr ⟨rfl, h0, hx1 h0, Or.inr ⟨h46, e2⟩⟩)
  · refine x_137 hn hg hb HJ hmu hp I R Rs hx0 hx1 hk0 hk1 (Or.inl ⟨rfl, fun h0 => ⟨fun z => ?_, fun z => ?_⟩⟩)
    · exact e ((hk1 h0).trans (sg_K_L z).symm)
    · exact e2 ((hk1 h0).trans (sg_K_d z).symm)
theorem x_md0 (hn : n ≤ 24) (hg : sg_End g n) (hb : ∀ i, i < n → b i = g i) (HJ : sg_HJ g n b N J) (hmu : 2 * (n - p) + 2 ≤ N) (hp : p < n) (I : sg_I0 g n p sp c (x5 ≠ 0) F S fi nx la pa) (R : sg_Rp g n c sp F S fi nx la kd fs nt fr to ls) (Rs : sg_Rs sp S st) : (nI sp ≤ 0 → wX_parseField_100 post J (nI n) (nI sp) (nI p) x5 (g p) (-1) (nI n) (nI c) b kd fs nt fr to ls st) ∧ (¬ nI sp ≤ 0 → (vp_in (nI sp - 1) 24 ∧ wX_parseField_100 post J (nI n) (nI sp) (nI p) x5 (g p) (st (nI sp - 1).toNatClampNeg) (nI n) (nI c) b kd fs nt fr to ls st)) := by
  have hb1 := sg_sp_le I.1
  by_cases e : sp = 0
  · refine br_t (by rw [e]; decide) (br_t (by decide) ?_)
    exact x_118 hn hg hb HJ hmu hp I R Rs (fun _ => rfl) (fun z => absurd z (by omega)) (fun _ => rfl) (fun z => absurd z (by omega))
  · have ht := I.1.1.2.2.1 (sp - 1) (by omega)
    have e3 : nI sp - 1 = nI (sp - 1) := by
      obtain ⟨k, rfl⟩ : ∃ k, sp = k + 1 := ⟨sp - 1, by omega⟩
      exact nI_pred k
    rw [e3, nI_clamp (by omega), Rs (sp - 1) (by omega)]
    refine br_f (nI_nle (by omega) (by omega)) ⟨vp_in_nI (by omega) (by omega), br_f (nI_pos (by omega)) ⟨vp_in_nI (by omega) (by omega), ?_⟩⟩
    rw [nI_clamp (by omega), R.1 _ ht]
    exact x_118 hn hg hb HJ hmu hp I R Rs (fun z => absurd z e) (fun _ => rfl) (fun z => absurd z e) (fun _ => rfl)
theorem x_812 (hn : n ≤ 24) (hg : sg_End g n) (hb : ∀ i, i < n → b i = g i) (HJ : sg_HJ g n b N J) (hmu : 2 * (n - p) + 2 ≤ N) (hp : p < n) {ba : Prop} (I : sg_I2 g n p sp c ba F S fi nx la pa) (R : sg_Rp g n c sp F S fi nx la kd fs nt fr to ls) (Rs : sg_Rs sp S st) (e : g p = 46) (hx7 : x7 = nI (S (sp - 1))) (hba : x5 ≠ 0 ↔ (ba ∨ fi (S (sp - 1)) = 0)) : wX_parseField_812 post J (nI n) (nI sp) (nI p) x5 x7 (nI n) (nI c) b kd fs nt fr to ls st := by
  have hb1 := sg_sp_le I.1
  obtain ⟨p0, h0, f76, hsuf, hD⟩ := I.2.2.1
  have hge := sg_ie_ge (g := g) (n := n) (p + 1)
  have hle := sg_ie_le hg (i := p + 1) (by omega)
  have hsd := sg_suf_d hg (by omega) e
  unfold wX_parseField_812
  refine xa_add hn I.1 R hp (Or.inl e) (sg_K_d e) (Or.inr ⟨h0, hx7, ?_, fun _ => f76⟩) ?_
  · rw [sg_co, if_pos ⟨f76, e⟩, sg_E_46 e, ← hsd]; exact hsuf
  intro fi' nx' la' pa' kd' fs' nt' fr' to' ls' Z' R' hf hft
  dsimp only
  rw [nI_1 p]
  refine xs_skip hn hg hb (by omega) ?_
  by_cases e1 : sg_ie g n (p + 1) = p + 1
  · rw [e1]
    refine br_t rfl (HJ.1 (by omega) _ _ _ _ _ _ _ _ _ _ _ (sg_no2 hg I ?_))
    rw [hsd, sg_sc_x e1]; exact sg_suf_0 hg
  · refine br_f (fun z => e1 ((nI_eq (by omega) (by omega)).mp z)) ⟨vp_in_nI (by omega) (by omega), fun to2 e2 => ?_⟩
    rw [nI_clamp (by omega)] at e2
    subst e2
    obtain ⟨d1, d2⟩ := sg_st_dot hg I e e1 Z' hf (hft h0) hba
    have key : g (sg_ie g n (p + 1)) ≠ 60 → J (nI sp) (nI (sg_ie g n (p + 1))) 2 x5 (nI n) (nI (c + 1)) b kd' fs' nt' fr' (upd to' c (nI (sg_ie g n (p + 1)))) ls' st := by
      intro z
      obtain ⟨hE, I2⟩ := d1 z
      have R2 := sg_Rp_pop R' (v := nI (sg_ie g n (p + 1))) (by rw [sg_topF, hE])
      rw [Nat.add_sub_cancel, sg_us] at R2
      exact HJ.2.2.2.1 _ _ _ _ _ _ _ _ _ _ _ (by omega) ⟨_, _, _, _, _, _, I2, R2, sg_Rs_old Rs⟩
    by_cases e2 : sg_ie g n (p + 1) = n
    · refine br_t (nI_le (by omega) (by omega)) (key ?_)
      rw [e2, hg n (Nat.le_refl _)]; decide
    · refine br_f (nI_ge (by omega) (by omega)) ⟨vp_in_nI (by omega) (by omega), ?_⟩
      rw [nI_clamp (by omega), hb _ (by omega)]
      refine br_c (fun e3 => ⟨vp_in_nI (by omega) (by omega), fun st' e4 x2' e5 x3' e6 => ?_⟩) key
      rw [nI_clamp (by omega)] at e4
      rw [nI_1] at e5 e6
      subst e4 e5 e6
      refine HJ.2.1 _ _ _ _ _ _ _ _ _ _ _ (by omega) ⟨_, _, _, _, _, _, d2 e3, ?_, sg_Rs_push Rs⟩
      obtain ⟨r1, r2, r3, r4, r5, r6⟩ := R'
      refine ⟨r1, r2, r3, r4, ?_, r6⟩
      intro m hm ho
      by_cases z : m = c
      · exact absurd (sg_Op_push.mpr (Or.inr z)) ho
      · rw [pk_un z]; exact r5 m hm ho
theorem x_662e (hn : n ≤ 24) (HJ : sg_HJ g n b N J) (hmu : 2 * (n - p) + 3 ≤ N) (I : sg_I1 g n p sp c (x5 ≠ 0) F S fi nx la pa) (R : sg_Rp g n c sp F S fi nx la kd fs nt fr to ls) (Rs : sg_Rs sp S st) (hin : 0 < sp → g (F (S (sp - 1))) = 76 ∨ g (F (S (sp - 1))) = 46) {m : Nat} : wX_parseField_662 post J (nI n) (nI p) x5 (nI n) (nI c) (m + 1) (nI sp) 0 b kd fs nt fr to ls st := by
  have hb1 := sg_sp_le I.1
  refine br_t rfl ?_
  by_cases e : sp = 0
  · have hr := I.2.2.1.2.1 e
    have h0 := I.2.2.1.1
    refine br_t (by rw [e]; rfl) ?_
    by_cases e2 : p = n
    · refine br_t (by rw [e2]) (HJ.2.2.2.2 (by omega) _ _ _ _ _ _ _ _ _ _ _ ⟨⟨by omega, by omega⟩, F, S, fi, nx, la, pa, ?_⟩)
      subst e e2
      exact ⟨I.1, R, I.2.2.2.2.1⟩
    · refine br_f (fun z => e2 ((nI_eq (by omega) (by omega)).mp z)) (HJ.1 (by omega) _ _ _ _ _ _ _ _ _ _ _ ?_)
      rintro ⟨z, _⟩
      omega
  · refine br_f (nI_ne0 (by omega) (by omega)) (HJ.2.1 _ _ _ _ _ _ _ _ _ _ _ (by omega) ⟨_, _, _, _, _, _, sg_st_next I (by omega) (hin (by omega)), R, Rs⟩)
theorem x_662 (hn : n ≤ 24) (HJ : sg_HJ g n b N J) (hmu : 2 * (n - p) + 3 ≤ N) : ∀ (sp : Nat) (to : Nat → Int32), sg_I1 g n p sp c (x5 ≠ 0) F S fi nx la pa → sg_Rp g n c sp F S fi nx la kd fs nt fr to ls → sg_Rs sp S st → wX_parseField_662 post J (nI n) (nI p) x5 (nI n) (nI c) (sp + 2) (nI sp) 1 b kd fs nt fr to ls st := by
  intro sp
  induction sp with
  | zero =>
    intro to I R Rs
    refine br_f (by decide) (br_t (by decide) ?_)
    exact x_662e hn HJ hmu I R Rs (fun z => absurd z (by omega))
  | succ sp ih =>
    intro to I R Rs
    have hb1 := sg_sp_le I.1
    have ht := I.1.1.2.2.1 sp (by omega)
    have Rt := Rs sp (by omega)
    refine br_f (by decide) (br_f (nI_nle (by omega) (by omega)) ?_)
    rw [nI_pred, nI_clamp (by omega)]
    refine ⟨vp_in_nI (by omega) (by omega), nm_r Rt ⟨vp_in_nI (by omega) (by omega), ?_⟩⟩
    rw [nI_clamp (by omega)]
    refine nm_r (R.1 _ ht) ?_
    have kpop : (g (F (S (sp + 1 - 1))) = 91 ∨ g (F (S (sp + 1 - 1))) = 43 ∨ g (F (S (sp + 1 - 1))) = 45) → wX_parseField_709 post J (wX_parseField_662 post J (nI n) (nI p) x5 (nI n) (nI c) (sp + 2)) (nI n) (nI (sp + 1)) (nI p) x5 1 (nI (S sp)) (nI n) (nI c) b kd fs nt fr to ls st := by
      intro h
      obtain ⟨hE, I2⟩ := sg_st_pop I (by omega) h
      have R2 := sg_Rp_pop R (v := nI p) (by rw [hE])
      rw [Nat.add_sub_cancel] at I2 R2
      refine ⟨vp_in_nI (by omega) (by omega), fun to' e1 x2' e2 => ?_⟩
      rw [nI_clamp (by omega)] at e1
      rw [nI_pred] at e2
      subst e1 e2
      exact ih _ I2 R2 (fun j hj => Rs j (by omega))
    have kend : (g (F (S (sp + 1 - 1))) = 76 ∨ g (F (S (sp + 1 - 1))) = 46) → wX_parseField_662 post J (nI n) (nI p) x5 (nI n) (nI c) (sp + 2) (nI (sp + 1)) 0 b kd fs nt fr to ls st := by
      intro h
      exact x_662e hn HJ hmu I R Rs (fun _ => h)
    have hk := sg_Kc (I.2.1 (sp + 1 - 1) (by omega))
    rw [Nat.add_sub_cancel] at hk kpop kend
    rcases hk with z | z | z | z | z
    · rw [z.2]; exact br_f (by decide) (br_f (by decide) (br_f (by decide) (kend (Or.inl z.1))))
    · rw [z.2]; exact br_f (by decide) (br_f (by decide) (br_f (by decide) (kend (Or.inr z.1))))
    · rw [z.2]; exact br_t rfl (kpop (Or.inl z.1))
    · rw [z.2]; exact br_f (by decide) (br_t rfl (kpop (Or.inr (Or.inl z.1))))
    · rw [z.2]; exact br_f (by decide) (br_f (by decide) (br_t rfl (kpop (Or.inr (Or.inr z.1)))))
end
end
section
def sg_anyB (g : Nat → Int32) (n : Nat) : Prop := ∃ i, i < n ∧ sg_bk (g i)
section
variable {g : Nat → Int32} {n : Nat} {b : Nat → Int32} {post : Int32 → SX → Prop}
theorem x_md2 {p sp c N : Nat} {F S fi nx la pa : Nat → Nat} {kd fs nt fr to ls st : Nat → Int32} {J : sg_JT} {x5 : Int32} (hn : n ≤ 24) (hg : sg_End g n) (hb : ∀ i, i < n → b i = g i) (HJ : sg_HJ g n b N J) (hmu : 2 * (n - p) + 2 ≤ N) (hp : p < n) (I : sg_I2 g n p sp c (x5 ≠ 0) F S fi nx la pa) (R : sg_Rp g n c sp F S fi nx la kd fs nt fr to ls) (Rs : sg_Rs sp S st) : (g p = 46 → (vp_in (nI (S (sp - 1))) 24 ∧ ((0 ≤ fs (nI (S (sp - 1))).toNatClampNeg → wX_parseField_812 post J (nI n) (nI sp) (nI p) x5 (nI (S (sp - 1))) (nI n) (nI c) b kd fs nt fr to ls st) ∧ (¬ 0 ≤ fs (nI (S (sp - 1))).toNatClampNeg → wX_parseField_812 post J (nI n) (nI sp) (nI p) 1 (nI (S (sp - 1))) (nI n) (nI c) b kd fs nt fr to ls st)))) ∧ (¬ g p = 46 → ((g p = 59 → (∀ x3_15 : Int32, x3_15 = nI p + 1 → (vp_in (nI (S (sp - 1))) 24 ∧ ∀ a_to_17 : Nat → Int32, a_to_17 = upd to (nI (S (sp - 1))).toNatClampNeg x3_15 → (∀ x2_18 : Int32, x2_18 = nI sp - 1 → J x2_18 x3_15 1 x5 (nI n) (nI c) b kd fs nt fr a_to_17 ls st)))) ∧ (¬ g p = 59 → J (nI sp) (nI p) (-1) x5 (nI n) (nI c) b kd fs nt fr to ls st))) := by
  have hb1 := sg_sp_le I.1
  obtain ⟨p0, h0, f76, hsuf, hD⟩ := I.2.2.1
  have ht := I.1.1.2.2.1 (sp - 1) (by omega)
  have hit : vp_in (nI (S (sp - 1))) 24 := vp_in_nI (by omega) (by omega)
  rw [nI_clamp (by omega)]
  refine br_c (fun e => ⟨hit, ?_⟩) (fun e => br_c (fun e2 => ?_) (fun e2 => ?_))
  · rw [R.2.1 _ ht]
    by_cases hf : fi (S (sp - 1)) = 0
    · rw [hf, sg_o1_0]
      exact br_f (by decide) (x_812 hn hg hb HJ hmu hp I R Rs e rfl ⟨fun _ => Or.inr hf, fun _ => by decide⟩)
    · have hfc := I.1.2.2.1.2 _ ht hf
      rw [sg_o1_p hf]
      exact br_t (nI_pos' (by omega)) (x_812 hn hg hb HJ hmu hp I R Rs e rfl ⟨Or.inl, fun z => z.resolve_right hf⟩)
  · refine nm_r (nI_1 p) ⟨hit, fun to' e3 x2' e4 => ?_⟩
    have e5 : nI sp - 1 = nI (sp - 1) := by
      obtain ⟨k, rfl⟩ : ∃ k, sp = k + 1 := ⟨sp - 1, by omega⟩
      exact nI_pred k
    rw [e5] at e4
    subst e3 e4
    obtain ⟨hE, I1⟩ := sg_st_semi hg I hp e2
    exact HJ.2.2.1 _ _ _ _ _ _ _ _ _ _ _ (by omega) ⟨_, _, _, _, _, _, I1, sg_Rp_pop R (by rw [hE]), fun j hj => Rs j (by omega)⟩
  · exact HJ.1 (by omega) _ _ _ _ _ _ _ _ _ _ _ (sg_no2 hg I (sg_suf_x hg e2 e))
theorem x_49 (hn : n ≤ 24) (hg : sg_End g n) (hb : ∀ i, i < n → b i = g i) (hF : ¬ sg_acc g n → ∀ kd fs nt fr to ls st : Nat → Int32, post (-1) (nI n, 0, b, kd, fs, nt, fr, to, ls, st)) (hS : ∀ (c : Nat) (x5 : Int32) (kd fs nt fr to ls st : Nat → Int32), sg_X3 g n c x5 kd fs nt fr to ls → (x5 = 0 → post 0 (nI n, nI c, b, kd, fs, nt, fr, to, ls, st)) ∧ (¬ x5 = 0 → post (-2) (nI n, 0, b, kd, fs, nt, fr, to, ls, st))) : ∀ N, sg_HJ g n b N (wX_parseField_49 post (nI n) N) := by
  intro N
  induction N with
  | zero => exact ⟨fun h => absurd h (by omega), fun _ _ _ _ _ _ _ _ _ _ _ h => absurd h (by omega), fun _ _ _ _ _ _ _ _ _ _ _ h => absurd h (by omega), fun _ _ _ _ _ _ _ _ _ _ _ h => absurd h (by omega), fun h => absurd h (by omega)⟩
  | succ N HJ =>
    refine ⟨?_, ?_, ?_, ?_, ?_⟩
    · intro _ x2 x3 x5 cn kd fs nt fr to ls st hna
      exact br_t (by decide) (br_f (by decide) (hF hna _ _ _ _ _ _ _))
    · rintro p sp c x5 kd fs nt fr to ls st hmu ⟨F, S, fi, nx, la, pa, I, R, Rs⟩
      have hb1 := sg_sp_le I.1
      refine br_f (by decide) (br_f (by decide) (br_t rfl ?_))
      by_cases hp : p < n
      · refine br_t (nI_lt hp (by omega)) ⟨vp_in_nI (by omega) (by omega), nm_r (e' := g p) (by rw [nI_clamp (by omega)]; exact hb p hp) ?_⟩
        exact x_md0 hn hg hb HJ (by omega) hp I R Rs
      · have e58 := hg p (by omega)
        refine br_f (nI_nlt (by omega) (by omega)) (HJ.1 (by omega) _ _ _ _ _ _ _ _ _ _ _ ?_)
        refine sg_no0 hg I (sg_ne e58) (sg_ne e58) (sg_ne e58) (fun _ _ z => ?_) (fun _ _ => ⟨sg_ne e58, sg_ne e58, sg_ne e58, fun z => sg_nx e58 z⟩)
        have := sg_ba_lt hg z
        omega
    · rintro p sp c x5 kd fs nt fr to ls st hmu ⟨F, S, fi, nx, la, pa, I, R, Rs⟩
      refine br_f (by decide) (br_f (by decide) (br_f (by decide) (br_t rfl ⟨_, x_662 hn HJ (by omega) sp to I R Rs⟩)))
    · rintro p sp c x5 kd fs nt fr to ls st hmu ⟨F, S, fi, nx, la, pa, I, R, Rs⟩
      have hb1 := sg_sp_le I.1
      obtain ⟨p0, h0, f76, hsuf, hD⟩ := I.2.2.1
      refine br_f (by decide) (br_f (by decide) (br_f (by decide) (br_f (by decide) ?_)))
      by_cases hp : p < n
      · have e5 : nI sp - 1 = nI (sp - 1) := by
          obtain ⟨k, rfl⟩ : ∃ k, sp = k + 1 := ⟨sp - 1, by omega⟩
          exact nI_pred k
        refine br_t (nI_lt hp (by omega)) ⟨vp_in_nI (by omega) (by omega), nm_r (e' := g p) (by rw [nI_clamp (by omega)]; exact hb p hp) ⟨by rw [e5]; exact vp_in_nI (by omega) (by omega), nm_r (e' := nI (S (sp - 1))) (by rw [e5, nI_clamp (by omega)]; exact Rs _ (by omega)) ?_⟩⟩
        exact x_md2 hn hg hb HJ (by omega) hp I R Rs
      · have e58 := hg p (by omega)
        refine br_f (nI_nlt (by omega) (by omega)) (HJ.1 (by omega) _ _ _ _ _ _ _ _ _ _ _ ?_)
        exact sg_no2 hg I (sg_suf_x hg (sg_ne e58) (sg_ne e58))
    · intro _ x2 x3 c x5 kd fs nt fr to ls st hX
      exact br_f (by decide) (br_t (by decide) (br_t (by decide) (hS c x5 kd fs nt fr to ls st hX)))
theorem x_init {kd fs nt fr to ls st : Nat → Int32} : sg_X0 g n 0 0 0 0 kd fs nt fr to ls st := by
  refine ⟨fun _ => 0, fun _ => 0, fun _ => 0, fun _ => 0, fun _ => 0, fun _ => 0, ⟨⟨⟨by omega, sg_En_0, fun _ h => absurd h (by omega), fun _ h => absurd h (by omega), fun _ h => absurd h (by omega)⟩, ⟨fun h => absurd h (by omega), fun _ h => absurd h (by omega)⟩, ⟨fun _ h => absurd h (by omega), fun _ h => absurd h (by omega)⟩, ⟨fun _ h => absurd h (by omega), fun _ h => absurd h (by omega)⟩, ⟨fun _ h => absurd h (by omega), fun _ h => absurd h (by omega), fun _ h => absurd h (by omega)⟩⟩, fun _ h => absurd h (by omega), ⟨fun _ => ⟨rfl, rfl⟩, fun h => absurd h (by omega)⟩, ⟨fun _ => rfl, fun q _ h => Or.inl ⟨h, Or.inl rfl⟩⟩, ⟨fun h => absurd rfl h, fun ⟨_, _, _, _, _, h⟩ => absurd h (by omega)⟩, fun _ h => absurd h (by omega)⟩, ⟨fun _ h => absurd h (by omega), fun _ h => absurd h (by omega), fun _ h => absurd h (by omega), fun _ h => absurd h (by omega), fun _ h => absurd h (by omega), fun _ h => absurd h (by omega)⟩, fun _ h => absurd h (by omega)⟩
theorem x_12 {cn : Int32} {kd fs nt fr to ls st : Nat → Int32} (hn : n ≤ 24) (hb : ∀ i, i < n → b i = g i) (hB : sg_anyB g n → post (-2) (nI n, cn, b, kd, fs, nt, fr, to, ls, st)) (hN : ¬ sg_anyB g n → ∃ m, wX_parseField_49 post (nI n) m 0 0 0 0 (nI n) cn b kd fs nt fr to ls st) : ∀ d j, j + d = n → (∀ i, i < j → ¬ sg_bk (g i)) → wX_parseField_12 post (nI n) (nI n) cn b kd fs nt fr to ls st (d + 1) (nI j) := by
  intro d
  induction d with
  | zero =>
    intro j hj hi
    refine br_t (nI_le (by omega) (by omega)) (hN ?_)
    rintro ⟨i, h1, h2⟩
    exact hi i (by omega) h2
  | succ d ih =>
    intro j hj hi
    refine br_f (nI_ge (by omega) (by omega)) ⟨vp_in_nI (by omega) (by omega), ?_⟩
    rw [nI_clamp (by omega), hb j (by omega)]
    refine xb_X (fun h => ?_) (fun h => ?_)
    · exact br_f (by decide) (hB ⟨j, by omega, h⟩)
    · refine br_t rfl (nm_r (nI_1 j) (ih (j + 1) (by omega) ?_))
      intro i h1
      by_cases e : i = j
      · rw [e]; exact h
      · exact hi i (by omega)
theorem x_parse {cn : Int32} {kd fs nt fr to ls st : Nat → Int32} (hn : n ≤ 24) (hg : sg_End g n) (hb : ∀ i, i < n → b i = g i) (hB : sg_anyB g n → post (-2) (nI n, 0, b, kd, fs, nt, fr, to, ls, st)) (hF : ¬ sg_anyB g n → ¬ sg_acc g n → ∀ kd fs nt fr to ls st : Nat → Int32, post (-1) (nI n, 0, b, kd, fs, nt, fr, to, ls, st)) (hS : ¬ sg_anyB g n → ∀ (c : Nat) (x5 : Int32) (kd fs nt fr to ls st : Nat → Int32), sg_X3 g n c x5 kd fs nt fr to ls → (x5 = 0 → post 0 (nI n, nI c, b, kd, fs, nt, fr, to, ls, st)) ∧ (¬ x5 = 0 → post (-2) (nI n, 0, b, kd, fs, nt, fr, to, ls, st))) : wpX_parseField post (nI n, cn, b, kd, fs, nt, fr, to, ls, st) := by
  refine ⟨_, x_12 hn hb hB (fun h => ?_) n 0 (by omega) (fun i h => absurd h (by omega))⟩
  exact ⟨2 * n + 3, (x_49 hn hg hb (hF h) (hS h) (2 * n + 3)).2.1 0 0 0 0 kd fs nt fr to ls st (by omega) x_init⟩
end
end
section
def yb (m : Int64) (j : Nat) : Bool := m.toBitVec.getLsbD j
theorem yb_0 (j : Nat) : yb 0 j = false := by
  show (BitVec.ofNat 64 0).getLsbD j = false
  simp
theorem yb_or (a b : Int64) (j : Nat) : yb (a ||| b) j = (yb a j || yb b j) := by
  unfold yb
  rw [Int64.toBitVec_or, BitVec.getLsbD_or]
theorem yb_orp (a b : Int64) (j : Nat) : yb (a ||| b) j = true ↔ yb a j = true ∨ yb b j = true := by
  rw [yb_or, Bool.or_eq_true]
theorem yb_pw {k : Nat} (hk : k < 64) (j : Nat) : yb (lN (2 ^ k)) j = true ↔ j = k := by
  unfold yb
  rw [wb_tb, BitVec.getLsbD_ofNat, Nat.testBit_two_pow]
  simp only [Bool.and_eq_true, decide_eq_true_eq]
  omega
theorem yb_one {k : Nat} (hk : k < 64) (j : Nat) : yb ((1 : Int64) <<< ((nI k).toInt64 &&& 63)) j = true ↔ j = k := by
  have := wb_shl 1 hk
  rw [Nat.one_mul] at this
  have e : (1 : Int64) = lN 1 := rfl
  rw [e, this]
  exact yb_pw hk j
theorem yb_next {k : Nat} (hk : k < 63) (j : Nat) : yb (((1 : Int64) <<< ((nI k).toInt64 &&& 63)) <<< ((1 : Int32).toInt64 &&& 63)) j = true ↔ j = k + 1 := by
  have h1 := wb_shl 1 (by omega : k < 64)
  rw [Nat.one_mul] at h1
  have e : (1 : Int64) = lN 1 := rfl
  rw [e, h1]
  have h2 : lN (2 ^ k) <<< ((1 : Int32).toInt64 &&& 63) = lN (2 ^ k * 2 ^ 1) := wb_shl (2 ^ k) (k := 1) (by omega)
  rw [h2, ← Nat.pow_add]
  exact yb_pw (by omega) j
theorem yb_tst (m : Int64) {k : Nat} (hk : k < 64) : (((m.toUInt64 >>> ((nI k).toInt64.toUInt64 &&& Int64.toUInt64 63)).toInt64) &&& 1) = 0 ↔ ¬ yb m k = true := by
  rw [wb_cu k hk, ts_bit (j := k) hk (by
    show (BitVec.ofNat 64 k).toNat = k
    rw [BitVec.toNat_ofNat, Nat.mod_eq_of_lt (by omega)])]
  unfold yb
  rw [Bool.not_eq_true]
theorem yb_brt {m : Int64} {k : Nat} {A B : Prop} (hk : k < 64) (h : yb m k = true → B) (h' : ¬ yb m k = true → A) : ((((m.toUInt64 >>> ((nI k).toInt64.toUInt64 &&& Int64.toUInt64 63)).toInt64) &&& 1) = 0 → A) ∧ (¬ (((m.toUInt64 >>> ((nI k).toInt64.toUInt64 &&& Int64.toUInt64 63)).toInt64) &&& 1) = 0 → B) := by
  rw [yb_tst m hk]
  exact ⟨h', fun z => h (Classical.not_not.mp z)⟩
theorem yb_nz {m : Int64} : m = 0 ↔ ∀ j, ¬ yb m j = true := by
  constructor
  · intro h j
    rw [h, yb_0]; decide
  · intro h
    apply wb_inj
    apply BitVec.eq_of_getLsbD_eq
    intro i hi
    have := h i
    unfold yb at this
    rw [ts_nt this]
    exact (yb_0 i).symm
section
variable {g : Nat → Int32} {n : Nat} {mk : Int64} {cn : Int32} {s kd fr to : Nat → Int32} {t : Nat → Int64}
theorem y_at {post : Int64 → Prop} {ln : Int32} {p0 p1 : Int32} (k i : Nat) (hk : k < 7) (hi : i < 25) (e0 : p0 = nI k) (e1 : p1 = nI i) (h : post (t (k * 25 + i))) : wpY_at post (mk, ln, cn, s, t, kd, fr, to) p0 p1 := by
  have e : p0 * 25 + p1 = nI (k * 25 + i) := by
    rw [e0, e1, ← nI_add, ← pk_mul]; rfl
  unfold wpY_at
  dsimp only
  rw [e, nI_clamp (by omega)]
  exact ⟨vp_in_nI (by omega) (by omega), h⟩
theorem y_add {post : Int64 → SY → Prop} {ln : Int32} {p0 p1 : Int32} {m : Int64} (k i : Nat) (hk : k < 7) (hi : i < 25) (e0 : p0 = nI k) (e1 : p1 = nI i) (h : post (t (k * 25 + i) ||| m) (mk, ln, cn, s, vp_updL t (k * 25 + i) (t (k * 25 + i) ||| m), kd, fr, to)) : wpY_add post (mk, ln, cn, s, t, kd, fr, to) p0 p1 m := by
  have e : p0 * 25 + p1 = nI (k * 25 + i) := by
    rw [e0, e1, ← nI_add, ← pk_mul]; rfl
  have hi : vp_in (nI (k * 25 + i)) 175 := vp_in_nI (by omega) (by omega)
  unfold wpY_add
  dsimp only
  rw [e, nI_clamp (by omega)]
  exact ⟨hi, hi, nm_e h⟩
theorem y_is {post : Int32 → Prop} {i : Nat} {ch : Int32} (hn : n ≤ 24) (hb : ∀ i, i < n → s i = g i) (hg : sg_End g n) (hi : i ≤ 24) (hc : ch ≠ 58) (h1 : g i = ch → post 1) (h0 : g i ≠ ch → post 0) : wpY_is post (mk, nI n, cn, s, t, kd, fr, to) (nI i) ch := by
  unfold wpY_is
  dsimp only
  by_cases e : i < n
  · refine br_f (nI_ge (by omega) (by omega)) ⟨vp_in_nI (by omega) (by omega), ?_⟩
    rw [nI_clamp (by omega), hb i e]
    exact ⟨h1, h0⟩
  · refine br_t (nI_le (by omega) (by omega)) (h0 ?_)
    rw [hg i (by omega)]
    exact fun z => hc z.symm
theorem y_idChar {post : Int32 → Prop} {i : Nat} (hn : n ≤ 24) (hb : ∀ i, i < n → s i = g i) (hg : sg_End g n) (hi : i ≤ 24) (h1 : sg_id (g i) → post 1) (h0 : ¬ sg_id (g i) → post 0) : wpY_idChar post (mk, nI n, cn, s, t, kd, fr, to) (nI i) := by
  unfold wpY_idChar
  dsimp only
  by_cases e : i < n
  · refine br_t (nI_lt (by omega) (by omega)) ⟨vp_in_nI (by omega) (by omega), nm_r (e' := g i) (by rw [nI_clamp (by omega)]; exact hb i e) ?_⟩
    refine br_c (fun z => h0 (fun y => y.1 z)) fun e1 => br_c (fun z => h0 (fun y => y.2.2.2.1 z)) fun e2 => br_c (fun z => h0 (fun y => y.2.2.2.2.2.2 z)) fun e3 => br_c (fun z => h0 (fun y => y.2.1 z)) fun e4 => br_c (fun z => h0 (fun y => y.2.2.2.2.1 z)) fun e5 => br_c (fun z => h0 (fun y => y.2.2.2.2.2.1 z)) fun e6 => br_c (fun z => h0 (fun y => y.2.2.1 z)) fun e7 => h1 ⟨e1, e4, e7, e2, e5, e6, e3⟩
  · refine br_f (nI_nlt (by omega) (by omega)) (h0 (fun z => z.2.2.2.2.2.2 (hg i (by omega))))
theorem y_base {post : Int32 → Prop} {i : Nat} (hn : n ≤ 24) (hb : ∀ i, i < n → s i = g i) (hg : sg_End g n) (hi : i ≤ 24) (h1 : sg_ba (g i) → post 1) (h0 : ¬ sg_ba (g i) → post 0) : wpY_base post (mk, nI n, cn, s, t, kd, fr, to) (nI i) := by
  unfold wpY_base
  dsimp only
  by_cases e : i < n
  · refine br_t (nI_lt (by omega) (by omega)) ⟨vp_in_nI (by omega) (by omega), nm_r (e' := g i) (by rw [nI_clamp (by omega)]; exact hb i e) ?_⟩
    by_cases hba : sg_ba (g i)
    · have h := h1 hba
      rcases hba with z | z | z | z | z | z | z | z <;> rw [z] <;> simp [h]
    · have h := h0 hba
      have k1 : ¬ g i = 66 := fun z => hba (Or.inl z)
      have k2 : ¬ g i = 67 := fun z => hba (Or.inr (Or.inl z))
      have k3 : ¬ g i = 68 := fun z => hba (Or.inr (Or.inr (Or.inl z)))
      have k4 : ¬ g i = 70 := fun z => hba (Or.inr (Or.inr (Or.inr (Or.inl z))))
      have k5 : ¬ g i = 73 := fun z => hba (Or.inr (Or.inr (Or.inr (Or.inr (Or.inl z)))))
      have k6 : ¬ g i = 74 := fun z => hba (Or.inr (Or.inr (Or.inr (Or.inr (Or.inr (Or.inl z))))))
      have k7 : ¬ g i = 83 := fun z => hba (Or.inr (Or.inr (Or.inr (Or.inr (Or.inr (Or.inr (Or.inl z)))))))
      have k8 : ¬ g i = 90 := fun z => hba (Or.inr (Or.inr (Or.inr (Or.inr (Or.inr (Or.inr (Or.inr z)))))))
      simp only [k1, k2, k3, k4, k5, k6, k7, k8, h, implies_true, and_true, not_false_eq_true, false_implies, true_implies, and_self]
  · exact br_f (nI_nlt (by omega) (by omega)) (h0 (fun z => by have := sg_ba_lt hg z; omega))
theorem y_ch6 {post : Int64 → Prop} {m : Int64} {ch : Int32} (hn : n ≤ 24) (hb : ∀ i, i < n → s i = g i) (hp : ∀ r, (∀ j, yb r j = true ↔ ∃ k, k < n ∧ yb m k = true ∧ g k = ch ∧ j = k + 1) → post r) : ∀ d i r, i + d = n → (∀ j, yb r j = true ↔ ∃ k, k < i ∧ yb m k = true ∧ g k = ch ∧ j = k + 1) → wY_ch_6 post m ch mk (nI n) cn s t kd fr to (d + 1) r (nI i) := by
  intro d
  induction d with
  | zero =>
    intro i r hi hr
    refine br_t (nI_le (by omega) (by omega)) (hp r ?_)
    rw [show n = i by omega]; exact hr
  | succ d ih =>
    intro i r hi hr
    refine br_f (nI_ge (by omega) (by omega)) (yb_brt (by omega) (fun hb1 => ⟨vp_in_nI (by omega) (by omega), ?_⟩) (fun hb1 => nm_r (nI_1 i) (ih (i + 1) r (by omega) ?_)))
    · rw [nI_clamp (by omega), hb i (by omega)]
      refine br_c (fun e => ?_) (fun e => nm_r (nI_1 i) (ih (i + 1) r (by omega) ?_))
      · intro r' er x' ex
        rw [nI_1] at er ex
        subst er ex
        refine ih (i + 1) _ (by omega) ?_
        intro j
        rw [yb_orp, hr, yb_one (by omega)]
        constructor
        · rintro (⟨k, h1, h2⟩ | h)
          · exact ⟨k, by omega, h2⟩
          · exact ⟨i, by omega, hb1, e, h⟩
        · rintro ⟨k, h1, h2, h3, h4⟩
          by_cases z : k = i
          · subst z; exact Or.inr h4
          · exact Or.inl ⟨k, by omega, h2, h3, h4⟩
      · intro j
        rw [hr]
        constructor
        · rintro ⟨k, h1, h2⟩; exact ⟨k, by omega, h2⟩
        · rintro ⟨k, h1, h2, h3, h4⟩
          by_cases z : k = i
          · subst z; exact absurd h3 e
          · exact ⟨k, by omega, h2, h3, h4⟩
    · intro j
      rw [hr]
      constructor
      · rintro ⟨k, h1, h2⟩; exact ⟨k, by omega, h2⟩
      · rintro ⟨k, h1, h2, h3, h4⟩
        by_cases z : k = i
        · subst z; exact absurd h2 hb1
        · exact ⟨k, by omega, h2, h3, h4⟩
theorem y_ch {post : Int64 → Prop} {m : Int64} {ch : Int32} (hn : n ≤ 24) (hb : ∀ i, i < n → s i = g i) (hp : ∀ r, (∀ j, yb r j = true ↔ ∃ k, k < n ∧ yb m k = true ∧ g k = ch ∧ j = k + 1) → post r) : wpY_ch post (mk, nI n, cn, s, t, kd, fr, to) m ch := by
  refine ⟨_, y_ch6 hn hb hp n 0 0 (by omega) ?_⟩
  intro j
  rw [yb_0]
  exact ⟨fun h => absurd h (by decide), fun ⟨k, h, _⟩ => absurd h (by omega)⟩
theorem y_seq6 {post : Int64 → Prop} {m : Int64} {q : Nat} (hq : q < 7) (hn : n ≤ 24) (hp : ∀ r, (∀ j, yb r j = true ↔ ∃ k, k ≤ n ∧ yb m k = true ∧ yb (t (q * 25 + k)) j = true) → post r) : ∀ d i r, i + d = n + 1 → (∀ j, yb r j = true ↔ ∃ k, k < i ∧ yb m k = true ∧ yb (t (q * 25 + k)) j = true) → wY_seq_6 post m (nI q) mk (nI n) cn s t kd fr to (d + 1) r (nI i) := by
  intro d
  induction d with
  | zero =>
    intro i r hi hr
    refine br_t (nI_lt (by omega) (by omega)) (hp r ?_)
    intro j
    rw [hr]
    constructor
    · rintro ⟨k, h1, h2⟩; exact ⟨k, by omega, h2⟩
    · rintro ⟨k, h1, h2⟩; exact ⟨k, by omega, h2⟩
  | succ d ih =>
    intro i r hi hr
    refine br_f (nI_nlt (by omega) (by omega)) (yb_brt (by omega) (fun hb1 => ?_) (fun hb1 => nm_r (nI_1 i) (ih (i + 1) r (by omega) ?_)))
    · refine y_at q i hq (by omega) rfl rfl ?_
      intro r' er x' ex
      rw [nI_1] at ex
      subst er ex
      refine ih (i + 1) _ (by omega) ?_
      intro j
      rw [yb_orp, hr]
      constructor
      · rintro (⟨k, h1, h2⟩ | h)
        · exact ⟨k, by omega, h2⟩
        · exact ⟨i, by omega, hb1, h⟩
      · rintro ⟨k, h1, h2, h3⟩
        by_cases z : k = i
        · subst z; exact Or.inr h3
        · exact Or.inl ⟨k, by omega, h2, h3⟩
    · intro j
      rw [hr]
      constructor
      · rintro ⟨k, h1, h2⟩; exact ⟨k, by omega, h2⟩
      · rintro ⟨k, h1, h2, h3⟩
        by_cases z : k = i
        · subst z; exact absurd h2 hb1
        · exact ⟨k, by omega, h2, h3⟩
theorem y_seq {post : Int64 → Prop} {m : Int64} {p1 : Int32} (q : Nat) (hq : q < 7) (e1 : p1 = nI q) (hn : n ≤ 24) (hp : ∀ r, (∀ j, yb r j = true ↔ ∃ k, k ≤ n ∧ yb m k = true ∧ yb (t (q * 25 + k)) j = true) → post r) : wpY_seq post (mk, nI n, cn, s, t, kd, fr, to) m p1 := by
  subst e1
  refine ⟨_, y_seq6 hq hn hp (n + 1) 0 0 (by omega) ?_⟩
  intro j
  rw [yb_0]
  exact ⟨fun h => absurd h (by decide), fun ⟨k, h, _⟩ => absurd h (by omega)⟩
theorem y_top4 {post : Int32 → Prop} {m : Int64} (hp : ∀ e, e < 25 → (e = 0 ∨ yb m e = true) → (∀ j, j < 25 → yb m j = true → j ≤ e) → post (nI e)) : ∀ d i e, i + d = 25 → e < 25 → (e = 0 ∨ yb m e = true) → (∀ j, j < i → yb m j = true → j ≤ e) → e ≤ i → wY_top_4 post m (d + 1) (nI e) (nI i) := by
  intro d
  induction d with
  | zero =>
    intro i e hi he h1 h2 h3
    refine br_t (nI_le (a := 25) (by omega) (by omega)) (hp e he h1 ?_)
    rw [show 25 = i by omega]; exact h2
  | succ d ih =>
    intro i e hi he h1 h2 h3
    refine br_f (nI_ge (b := 25) (by omega) (by omega)) (yb_brt (by omega) (fun hb1 => nm_r (nI_1 i) (ih (i + 1) i (by omega) (by omega) (Or.inr hb1) ?_ (by omega))) (fun hb1 => nm_r (nI_1 i) (ih (i + 1) e (by omega) he h1 ?_ (by omega))))
    · intro j hj _; omega
    · intro j hj hb2
      by_cases z : j = i
      · subst z; exact absurd hb2 hb1
      · exact h2 j (by omega) hb2
theorem y_top {post : Int32 → Prop} {m : Int64} (hp : ∀ e, e < 25 → (e = 0 ∨ yb m e = true) → (∀ j, j < 25 → yb m j = true → j ≤ e) → post (nI e)) : wpY_top post m := ⟨_, y_top4 hp 25 0 0 (by omega) (by omega) (Or.inl rfl) (fun _ h => absurd h (by omega)) (by omega)⟩
end
end
section
def yr0 (g : Nat → Int32) (n : Nat) (m : Int64) (i : Nat) : Prop := ∀ j, yb m j = true ↔ i < j ∧ j ≤ sg_ie g n i
def yr1 (g : Nat → Int32) (n : Nat) (m : Int64) (i : Nat) : Prop := (∀ j, yb m j = true → i ≤ j ∧ j ≤ n) ∧ (0 < i → ∀ j, (yb m j = true ∧ sg_ie g n j ≠ j ∧ g (sg_ie g n j) ≠ 47) ↔ (j = sg_pk g n i ∧ j ≠ 0))
def yr2 (g : Nat → Int32) (n : Nat) (m : Int64) (i : Nat) : Prop := (∀ j, yb m j = true → i < j ∧ j ≤ n) ∧ ∀ j, (yb m j = true ∧ g j = 62) ↔ sg_at g n (sg_arg g n i) = j + 1
def yr3 (g : Nat → Int32) (n : Nat) (m : Int64) (i : Nat) : Prop := ∀ j, yb m j = true ↔ (i < j ∧ j ≤ sg_ie g n i) ∨ (sg_ie g n i ≠ i ∧ g (sg_ie g n i) = 60 ∧ j ≠ 0 ∧ sg_at g n (sg_arg g n (sg_ie g n i + 1)) = j)
def yr4 (g : Nat → Int32) (n : Nat) (m : Int64) (i : Nat) : Prop := (∀ j, yb m j = true → i ≤ j ∧ j ≤ n) ∧ (0 < i → ∀ j, (yb m j = true ∧ g j = 59) ↔ sg_suf g n i = j + 1)
def yr5 (g : Nat → Int32) (n : Nat) (m : Int64) (i : Nat) : Prop := ∀ j, yb m j = true ↔ (j ≠ 0 ∧ sg_ref g n i = j)
def yr6 (g : Nat → Int32) (n : Nat) (m : Int64) (i : Nat) : Prop := ∀ j, yb m j = true ↔ (j ≠ 0 ∧ sg_jt g n i = j)
def yrA (g : Nat → Int32) (n : Nat) (m : Int64) (i : Nat) : Prop := ∀ j, yb m j = true ↔ (j ≠ 0 ∧ sg_arg g n i = j)
def yRow (g : Nat → Int32) (n : Nat) (t : Nat → Int64) (i : Nat) : Prop := yr0 g n (t (0 * 25 + i)) i ∧ yr1 g n (t (1 * 25 + i)) i ∧ yr2 g n (t (2 * 25 + i)) i ∧ yr3 g n (t (3 * 25 + i)) i ∧ yr4 g n (t (4 * 25 + i)) i ∧ yr5 g n (t (5 * 25 + i)) i ∧ yr6 g n (t (6 * 25 + i)) i
def yUp (g : Nat → Int32) (n : Nat) (t : Nat → Int64) (i : Nat) : Prop := ∀ k, i < k → k ≤ n → yRow g n t k
section
variable {g : Nat → Int32} {n i : Nat} {t : Nat → Int64} {m r e q : Int64}
theorem yr3_sc (hg : sg_End g n) (h0 : i ≠ 0) {m : Int64} (h : yr3 g n m i) (hz : sg_sc g n i ≠ 0) : yb m (sg_sc g n i) = true := by
  by_cases e : sg_ie g n i = i
  · rw [sg_sc_x e] at hz; exact absurd rfl hz
  · have hge := sg_ie_ge (g := g) (n := n) i
    by_cases e2 : g (sg_ie g n i) = 60
    · rw [sg_sc_a h0 e e2] at hz ⊢
      exact (h _).mpr (Or.inr ⟨e, e2, hz, rfl⟩)
    · rw [sg_sc_i h0 e e2]
      exact (h _).mpr (Or.inl ⟨by omega, Nat.le_refl _⟩)
theorem yr3_suf (hg : sg_End g n) (h0 : i ≠ 0) {m : Int64} (h : yr3 g n m i) {k : Nat} (hk : yb m k = true) (hs : sg_suf g n k ≠ 0) : sg_sc g n i = k ∧ sg_ie g n i ≠ i ∧ g (sg_ie g n i) ≠ 47 := by
  have hge := sg_ie_ge (g := g) (n := n) i
  rcases (h k).mp hk with ⟨h1, h2⟩ | ⟨h1, h2, h3, h4⟩
  · by_cases e : k = sg_ie g n i
    · have e59 : g k = 59 ∨ g k = 46 := by
        apply Classical.byContradiction
        intro z
        exact hs (sg_suf_x hg (fun y => z (Or.inl y)) (fun y => z (Or.inr y)))
      have hne : sg_ie g n i ≠ i := by omega
      rw [e] at e59
      refine ⟨?_, hne, ?_⟩
      · rw [sg_sc_i h0 hne (by rcases e59 with z | z <;> exact sg_ne z), e]
      · rcases e59 with z | z <;> exact sg_ne z
    · have := sg_ie_in (g := g) (n := n) (Nat.le_of_lt h1) (by omega)
      exact absurd (sg_suf_x hg this.2.1 this.1) hs
  · refine ⟨?_, h1, sg_ne h2⟩
    rw [sg_sc_a h0 h1 h2, h4]
theorem yr3_le (hg : sg_End g n) {m : Int64} (h : yr3 g n m i) (hi : i ≤ n) {k : Nat} (hk : yb m k = true) : i < k ∧ k ≤ n := by
  have hle := sg_ie_le hg hi
  have hge := sg_ie_ge (g := g) (n := n) i
  rcases (h k).mp hk with ⟨h1, h2⟩ | ⟨h1, h2, h3, h4⟩
  · omega
  · rw [← h4] at h3
    have p1 := sg_at_pos hg h3
    have p2 := sg_arg_pos hg (sg_at_nz hg h3)
    omega
theorem y_r0t (hg : sg_End g n) (hi : sg_id (g i)) (hu : yUp g n t i) (hm : ∀ j, yb m j = true ↔ j = i + 1) : yr0 g n (m ||| t (0 * 25 + (i + 1))) i := by
  have hin : i < n := sg_lt hg hi.2.2.2.2.2.2
  have h := (hu (i + 1) (by omega) (by omega)).1
  have hge := sg_ie_ge (g := g) (n := n) (i + 1)
  intro j
  rw [yb_orp, hm, h j, sg_ie_t hg hi]
  omega
theorem y_r0f (hi : ¬ sg_id (g i)) : yr0 g n 0 i := by
  intro j
  rw [yb_0, sg_ie_f hi]
  constructor
  · intro h; exact absurd h (by decide)
  · intro h; omega
theorem y_id_c (hg : sg_End g n) (h0 : yr0 g n e i) {ch : Int32} (hch : ¬ sg_id ch) (hr : ∀ j, yb r j = true ↔ ∃ k, k < n ∧ yb e k = true ∧ g k = ch ∧ j = k + 1) (j : Nat) (hc2 : ch ≠ 58) : yb r j = true ↔ (sg_ie g n i ≠ i ∧ g (sg_ie g n i) = ch ∧ j = sg_ie g n i + 1) := by
  have hge := sg_ie_ge (g := g) (n := n) i
  rw [hr]
  constructor
  · rintro ⟨k, h1, h2, h3, h4⟩
    rw [h0 k] at h2
    have e : k = sg_ie g n i := by
      apply Classical.byContradiction
      intro z
      have := sg_ie_in (g := g) (n := n) (Nat.le_of_lt h2.1) (by omega)
      rw [h3] at this
      exact hch this
    subst e
    exact ⟨by omega, h3, h4⟩
  · rintro ⟨h1, h2, h3⟩
    refine ⟨sg_ie g n i, ?_, ?_, h2, h3⟩
    · apply sg_lt hg; rw [h2]; exact hc2
    · rw [h0]; exact ⟨by omega, Nat.le_refl _⟩
theorem y_r5T (hg : sg_End g n) (hc : g i = 84) (hu : yUp g n t i) (hr : ∀ j, yb r j = true ↔ ∃ k, k < n ∧ yb (t (0 * 25 + (i + 1))) k = true ∧ g k = 59 ∧ j = k + 1) : yr5 g n r i := by
  have hin : i < n := sg_lt hg (sg_ne hc)
  have h := (hu (i + 1) (by omega) (by omega)).1
  intro j
  rw [y_id_c hg h (by decide) hr j (by decide), sg_ref_T hg hc]
  by_cases e : sg_ie g n (i + 1) = i + 1
  · rw [if_pos e]
    constructor
    · intro z; exact absurd e z.1
    · intro z; omega
  · rw [if_neg e]
    by_cases e2 : g (sg_ie g n (i + 1)) = 59
    · rw [if_pos e2]
      constructor
      · intro z; omega
      · intro z; exact ⟨e, e2, by omega⟩
    · rw [if_neg e2]
      constructor
      · intro z; exact absurd z.2.1 e2
      · intro z; omega
theorem y_r5L (hg : sg_End g n) (hc : g i = 76) (hu : yUp g n t i) {r1 r2 r3 : Int64} (h1 : ∀ j, yb r1 j = true ↔ ∃ k, k ≤ n ∧ yb (t (1 * 25 + (i + 1))) k = true ∧ yb (t (3 * 25 + k)) j = true) (h2 : ∀ j, yb r2 j = true ↔ ∃ k, k ≤ n ∧ yb r1 k = true ∧ yb (t (4 * 25 + k)) j = true) (h3 : ∀ j, yb r3 j = true ↔ ∃ k, k < n ∧ yb r2 k = true ∧ g k = 59 ∧ j = k + 1) : yr5 g n r3 i := by
  have hin : i < n := sg_lt hg (sg_ne hc)
  obtain ⟨_, hP, _⟩ := hu (i + 1) (by omega) (by omega)
  intro j
  rw [h3, sg_ref_L hg hc]
  constructor
  · rintro ⟨u, u1, u2, u3, u4⟩
    obtain ⟨m, m1, m2, m3⟩ := (h2 u).mp u2
    obtain ⟨k, k1, k2, k3⟩ := (h1 m).mp m2
    have hk := hP.1 k k2
    have hk0 : k ≠ 0 := by omega
    have hRk := hu k (by omega) k1
    have hm := yr3_le hg hRk.2.2.2.1 k1 k3
    have hRm := hu m (by omega) m1
    have hs := (hRm.2.2.2.2.1.2 (by omega) u).mp ⟨m3, u3⟩
    have hz := yr3_suf hg hk0 hRk.2.2.2.1 k3 (by omega)
    have hkp := (hP.2 (by omega) k).mp ⟨k2, hz.2.1, hz.2.2⟩
    rw [← hkp.1, hz.1, hs]
    omega
  · rintro ⟨j0, hj⟩
    rw [← hj] at j0
    have hsc := sg_suf_nz hg j0
    have hscp := sg_sc_pos hg hsc
    have hpk := hscp.2.2
    have hpp := sg_pk_pos hg hpk
    have hkb := (hP.2 (by omega) (sg_pk g n (i + 1))).mpr ⟨rfl, hpk⟩
    have hkn := (hP.1 _ hkb.1)
    have hRk := hu (sg_pk g n (i + 1)) (by omega) hkn.2
    have hmb := yr3_sc hg hpk hRk.2.2.2.1 hsc
    have hRm := hu (sg_sc g n (sg_pk g n (i + 1))) (by omega) hscp.2.1
    have hup := sg_suf_pos hg j0
    have hs := (hRm.2.2.2.2.1.2 (by omega) (j - 1)).mpr (by rw [hj]; omega)
    refine ⟨j - 1, by omega, (h2 _).mpr ⟨_, hscp.2.1, (h1 _).mpr ⟨_, hkn.2, hkb.1, hmb⟩, hs.1⟩, hs.2, by omega⟩
theorem y_r5A (hg : sg_End g n) (hc : g i = 91) (hu : yUp g n t i) : yr5 g n (t (6 * 25 + (i + 1))) i := by
  have hin : i < n := sg_lt hg (sg_ne hc)
  have h := (hu (i + 1) (by omega) (by omega)).2.2.2.2.2.2
  intro j
  rw [h j, sg_ref_A hg hc]
theorem y_r50 (hg : sg_End g n) (h1 : g i ≠ 84) (h2 : g i ≠ 76) (h3 : g i ≠ 91) : yr5 g n 0 i := by
  intro j
  rw [yb_0, sg_ref_0 hg h1 h2 h3]
  constructor
  · intro h; exact absurd h (by decide)
  · intro h; omega
theorem y_r6t (hg : sg_End g n) (hc : sg_ba (g i)) (h5 : yr5 g n e i) (hm : ∀ j, yb m j = true ↔ j = i + 1) : yr6 g n (e ||| m) i := by
  intro j
  have hr : sg_ref g n i = 0 := sg_ref_0 hg (fun z => sg_nba (Or.inr (Or.inl z)) hc) (fun z => sg_nba (Or.inl z) hc) (fun z => sg_nba (Or.inr (Or.inr z)) hc)
  rw [yb_orp, h5 j, hm, hr, sg_jt, if_pos hc]
  omega
theorem y_r6f (hc : ¬ sg_ba (g i)) (h5 : yr5 g n e i) : yr6 g n e i := by
  intro j
  rw [h5 j, sg_jt, if_neg hc]
theorem y_A42 (hg : sg_End g n) (hc : g i = 42) (h5 : yr5 g n e i) (hm : ∀ j, yb m j = true ↔ j = i + 1) : yrA g n (e ||| m) i := by
  intro j
  rw [yb_orp, h5 j, hm, sg_ref_0 hg (sg_ne hc) (sg_ne hc) (sg_ne hc), sg_arg_42 hc]
  omega
theorem y_Apm (hg : sg_End g n) (hc : g i = 43 ∨ g i = 45) (h5 : yr5 g n e i) (hu : yUp g n t i) : yrA g n (e ||| t (5 * 25 + (i + 1))) i := by
  have hin : i < n := sg_lt hg (by rcases hc with h | h <;> exact sg_ne h)
  have h := (hu (i + 1) (by omega) (by omega)).2.2.2.2.2.1
  intro j
  rw [yb_orp, h5 j, h j, sg_ref_0 hg (by rcases hc with h | h <;> exact sg_ne h) (by rcases hc with h | h <;> exact sg_ne h) (by rcases hc with h | h <;> exact sg_ne h), sg_arg_pm hc]
  omega
theorem y_Ar (h1 : g i ≠ 42) (h2 : g i ≠ 43) (h3 : g i ≠ 45) (h5 : yr5 g n e i) : yrA g n e i := by
  intro j
  rw [h5 j, sg_arg_ref h1 h2 h3]
theorem y_r2 (hg : sg_End g n) (hA : yrA g n e i) (hu : yUp g n t i) (hr : ∀ j, yb r j = true ↔ ∃ k, k ≤ n ∧ yb e k = true ∧ yb (t (2 * 25 + k)) j = true) : yr2 g n (e ||| r) i := by
  have key : ∀ j, yb (e ||| r) j = true ↔ (sg_arg g n i ≠ 0 ∧ (j = sg_arg g n i ∨ yb (t (2 * 25 + sg_arg g n i)) j = true)) := by
    intro j
    rw [yb_orp, hA j, hr]
    constructor
    · rintro (⟨h1, h2⟩ | ⟨k, h1, h2, h3⟩)
      · exact ⟨by omega, Or.inl h2.symm⟩
      · rw [hA k] at h2
        rw [h2.2]
        exact ⟨h2.1, Or.inr h3⟩
    · rintro ⟨h1, h2 | h2⟩
      · exact Or.inl ⟨by omega, h2.symm⟩
      · have := sg_arg_pos hg h1
        exact Or.inr ⟨_, this.2, (hA _).mpr ⟨h1, rfl⟩, h2⟩
  by_cases z : sg_arg g n i = 0
  · refine ⟨fun j hj => absurd z ((key j).mp hj).1, fun j => ?_⟩
    rw [z, sg_at_0 hg]
    constructor
    · intro hj; exact absurd z ((key j).mp hj.1).1
    · intro hj; omega
  · have hp := sg_arg_pos hg z
    have hR := (hu _ hp.1 hp.2).2.2.1
    refine ⟨?_, ?_⟩
    · intro j hj
      rcases ((key j).mp hj).2 with h | h
      · omega
      · have := hR.1 j h
        omega
    · intro j
      rw [key j]
      by_cases e62 : g (sg_arg g n i) = 62
      · rw [sg_at_g hg z e62]
        constructor
        · rintro ⟨⟨_, h | h⟩, h6⟩
          · omega
          · have := (hR.2 j).mp ⟨h, h6⟩
            rw [sg_arg_ref (sg_ne e62) (sg_ne e62) (sg_ne e62), sg_ref_0 hg (sg_ne e62) (sg_ne e62) (sg_ne e62), sg_at_0 hg] at this
            omega
        · intro h
          have ej : j = sg_arg g n i := by omega
          exact ⟨⟨z, Or.inl ej⟩, by rw [ej]; exact e62⟩
      · rw [sg_at_n hg z e62]
        constructor
        · rintro ⟨⟨_, h | h⟩, h6⟩
          · rw [h] at h6; exact absurd h6 e62
          · exact (hR.2 j).mp ⟨h, h6⟩
        · intro h
          have := (hR.2 j).mpr h
          exact ⟨⟨z, Or.inr this.1⟩, this.2⟩
theorem y_r3 (hg : sg_End g n) (h0 : yr0 g n e i) (hu : ∀ k, i < k → k ≤ n → yr2 g n (t (2 * 25 + k)) k) {r1 r2 r3 : Int64} (h1 : ∀ j, yb r1 j = true ↔ ∃ k, k < n ∧ yb e k = true ∧ g k = 60 ∧ j = k + 1) (h2 : ∀ j, yb r2 j = true ↔ ∃ k, k ≤ n ∧ yb r1 k = true ∧ yb (t (2 * 25 + k)) j = true) (h3 : ∀ j, yb r3 j = true ↔ ∃ k, k < n ∧ yb r2 k = true ∧ g k = 62 ∧ j = k + 1) : yr3 g n (e ||| r3) i := by
  have hge := sg_ie_ge (g := g) (n := n) i
  intro j
  rw [yb_orp, h0 j]
  have key : yb r3 j = true ↔ (sg_ie g n i ≠ i ∧ g (sg_ie g n i) = 60 ∧ j ≠ 0 ∧ sg_at g n (sg_arg g n (sg_ie g n i + 1)) = j) := by
    rw [h3]
    constructor
    · rintro ⟨k, k1, k2, k3, k4⟩
      obtain ⟨l, l1, l2, l3⟩ := (h2 k).mp k2
      have hl := (y_id_c hg h0 (by decide) h1 l (by decide)).mp l2
      have hR := hu l (by omega) l1
      have := (hR.2 k).mp ⟨l3, k3⟩
      rw [hl.2.2] at this
      exact ⟨hl.1, hl.2.1, by omega, by omega⟩
    · rintro ⟨k1, k2, k3, k4⟩
      have hlt : sg_ie g n i < n := sg_lt hg (sg_ne k2)
      have hR := hu (sg_ie g n i + 1) (by omega) (by omega)
      have := (hR.2 (j - 1)).mpr (by omega)
      refine ⟨j - 1, sg_lt hg (sg_ne this.2), (h2 _).mpr ⟨sg_ie g n i + 1, by omega, (y_id_c hg h0 (by decide) h1 _ (by decide)).mpr ⟨k1, k2, rfl⟩, this.1⟩, this.2, by omega⟩
  rw [key]
theorem y_r4t (hg : sg_End g n) (hc : g i = 46) (hu : ∀ k, i < k → k ≤ n → yr3 g n (t (3 * 25 + k)) k ∧ yr4 g n (t (4 * 25 + k)) k) (hm : ∀ j, yb m j = true ↔ j = i) (hr : ∀ j, yb r j = true ↔ ∃ k, k ≤ n ∧ yb (t (3 * 25 + (i + 1))) k = true ∧ yb (t (4 * 25 + k)) j = true) : yr4 g n (m ||| r) i := by
  have hin : i < n := sg_lt hg (sg_ne hc)
  have hS := (hu (i + 1) (by omega) (by omega)).1
  refine ⟨?_, ?_⟩
  · intro j hj
    rw [yb_orp, hm, hr] at hj
    rcases hj with h | ⟨k, k1, k2, k3⟩
    · omega
    · have hk := yr3_le hg hS (by omega) k2
      have := (hu k (by omega) k1).2.1 j k3
      omega
  · intro i0 j
    rw [yb_orp, hm, hr, sg_suf_d hg (by omega) hc]
    constructor
    · rintro ⟨h | ⟨k, k1, k2, k3⟩, h5⟩
      · subst h; exact sg_nx hc h5
      · have hk := yr3_le hg hS (by omega) k2
        have := ((hu k (by omega) k1).2.2 (by omega) j).mp ⟨k3, h5⟩
        have hz := yr3_suf hg (by omega) hS k2 (by omega)
        rw [hz.1]; exact this
    · intro h
      have hsc := sg_suf_nz hg (i := sg_sc g n (i + 1)) (by omega)
      have hscp := sg_sc_pos hg hsc
      have hmb := yr3_sc hg (by omega) hS hsc
      have := ((hu _ (by omega) hscp.2.1).2.2 (by omega) j).mpr h
      exact ⟨Or.inr ⟨_, hscp.2.1, hmb, this.1⟩, this.2⟩
theorem y_r4f (hg : sg_End g n) (hc : g i ≠ 46) (hi : i ≤ n) (hm : ∀ j, yb m j = true ↔ j = i) : yr4 g n m i := by
  refine ⟨fun j hj => ?_, fun i0 j => ?_⟩
  · rw [hm] at hj; omega
  · rw [hm]
    by_cases e : g i = 59
    · rw [sg_suf_s hg (by omega) e]
      constructor
      · rintro ⟨h, _⟩; omega
      · intro h
        have : j = i := by omega
        subst this
        exact ⟨rfl, e⟩
    · rw [sg_suf_x hg e hc]
      constructor
      · rintro ⟨h, h5⟩; subst h; exact absurd h5 e
      · intro h; omega
theorem y_r1 (hg : sg_End g n) (hi : i ≤ n) (h0 : yr0 g n e i) (hu : ∀ k, i < k → k ≤ n → yr1 g n (t (1 * 25 + k)) k) {r1 r2 : Int64} (hm : ∀ j, yb m j = true ↔ j = i) (h1 : ∀ j, yb r1 j = true ↔ ∃ k, k < n ∧ yb e k = true ∧ g k = 47 ∧ j = k + 1) (h2 : ∀ j, yb r2 j = true ↔ ∃ k, k ≤ n ∧ yb r1 k = true ∧ yb (t (1 * 25 + k)) j = true) : yr1 g n (m ||| r2) i := by
  have hge := sg_ie_ge (g := g) (n := n) i
  have key : ∀ j, yb (m ||| r2) j = true ↔ (j = i ∨ (sg_ie g n i ≠ i ∧ g (sg_ie g n i) = 47 ∧ yb (t (1 * 25 + (sg_ie g n i + 1))) j = true)) := by
    intro j
    rw [yb_orp, hm, h2]
    constructor
    · rintro (h | ⟨k, k1, k2, k3⟩)
      · exact Or.inl h
      · have hl := (y_id_c hg h0 (by decide) h1 k (by decide)).mp k2
        rw [hl.2.2] at k3
        exact Or.inr ⟨hl.1, hl.2.1, k3⟩
    · rintro (h | ⟨k1, k2, k3⟩)
      · exact Or.inl h
      · have hlt : sg_ie g n i < n := sg_lt hg (sg_ne k2)
        exact Or.inr ⟨_, by omega, (y_id_c hg h0 (by decide) h1 _ (by decide)).mpr ⟨k1, k2, rfl⟩, k3⟩
  refine ⟨?_, ?_⟩
  · intro j hj
    rcases (key j).mp hj with h | ⟨k1, k2, k3⟩
    · omega
    · have hlt : sg_ie g n i < n := sg_lt hg (sg_ne k2)
      have := (hu (sg_ie g n i + 1) (by omega) (by omega)).1 j k3
      omega
  · intro i0 j
    rw [key j, sg_pk_eq hg]
    by_cases e1 : sg_ie g n i = i
    · rw [if_pos e1]
      constructor
      · rintro ⟨h | h, h3, h4⟩
        · subst h; exact absurd e1 h3
        · exact absurd e1 h.1
      · intro h; omega
    · rw [if_neg e1]
      by_cases e2 : g (sg_ie g n i) = 47
      · rw [if_pos e2]
        have hlt : sg_ie g n i < n := sg_lt hg (sg_ne e2)
        have hR := (hu (sg_ie g n i + 1) (by omega) (by omega)).2 (by omega) j
        rw [← hR]
        constructor
        · rintro ⟨h | h, h3, h4⟩
          · subst h; exact absurd e2 h4
          · exact ⟨h.2.2, h3, h4⟩
        · rintro ⟨h, h3, h4⟩
          exact ⟨Or.inr ⟨e1, e2, h⟩, h3, h4⟩
      · rw [if_neg e2]
        constructor
        · rintro ⟨h | h, h3, h4⟩
          · omega
          · exact absurd h.2.1 e2
        · rintro ⟨h, h3⟩
          subst h
          exact ⟨Or.inl rfl, e1, e2⟩
end
end
section
abbrev yJT : Type := Int32 → Int64 → Int32 → Int32 → (Nat → Int32) → (Nat → Int64) → (Nat → Int32) → (Nat → Int32) → (Nat → Int32) → Prop
def ysT (g : Nat → Int32) (n : Nat) (t : Nat → Int64) (i : Nat) (E : Nat → Int64) : Prop := yUp g n t i ∧ (∀ k, k < i → ∀ a, a < 7 → t (a * 25 + k) = 0) ∧ ∀ a, a < 7 → t (a * 25 + i) = E a
def ysD (g : Nat → Int32) (n : Nat) (t : Nat → Int64) (i : Nat) : Prop := (∀ k, i ≤ k → k ≤ n → yRow g n t k) ∧ ∀ k, k < i → ∀ a, a < 7 → t (a * 25 + k) = 0
theorem y_z_or (m : Int64) : (0 : Int64) ||| m = m := by
  apply wb_inj
  rw [Int64.toBitVec_or]
  show 0#64 ||| m.toBitVec = m.toBitVec
  simp
section
variable {g : Nat → Int32} {n i : Nat} {t t' : Nat → Int64} {E : Nat → Int64}
theorem yRow_c {k : Nat} (h : ∀ a, a < 7 → t' (a * 25 + k) = t (a * 25 + k)) (H : yRow g n t k) : yRow g n t' k := by
  unfold yRow
  rw [h 0 (by omega), h 1 (by omega), h 2 (by omega), h 3 (by omega), h 4 (by omega), h 5 (by omega), h 6 (by omega)]
  exact H
theorem ysT_add (hn : n ≤ 24) (hi : i ≤ 24) (H : ysT g n t i E) (a : Nat) (ha : a < 7) (m : Int64) : ysT g n (vp_updL t (a * 25 + i) (t (a * 25 + i) ||| m)) i (vp_updL E a (E a ||| m)) := by
  obtain ⟨h1, h2, h3⟩ := H
  refine ⟨?_, ?_, ?_⟩
  · intro k k1 k2
    refine yRow_c (t := t) (fun b hb => pk_uLn (by omega)) (h1 k k1 k2)
  · intro k k1 b hb
    rw [pk_uLn (by omega)]
    exact h2 k k1 b hb
  · intro b hb
    by_cases e : b = a
    · subst e; rw [pk_uLs, pk_uLs, h3 b hb]
    · rw [pk_uLn (by omega), pk_uLn e]; exact h3 b hb
theorem ysT_done (H : ysT g n t i E) (h0 : yr0 g n (E 0) i) (h1 : yr1 g n (E 1) i) (h2 : yr2 g n (E 2) i) (h3 : yr3 g n (E 3) i) (h4 : yr4 g n (E 4) i) (h5 : yr5 g n (E 5) i) (h6 : yr6 g n (E 6) i) : ysD g n t i := by
  refine ⟨?_, H.2.1⟩
  intro k k1 k2
  by_cases e : k = i
  · subst e
    unfold yRow
    rw [H.2.2 0 (by omega), H.2.2 1 (by omega), H.2.2 2 (by omega), H.2.2 3 (by omega), H.2.2 4 (by omega), H.2.2 5 (by omega), H.2.2 6 (by omega)]
    exact ⟨h0, h1, h2, h3, h4, h5, h6⟩
  · exact H.1 k (by omega) k2
end
section
variable {g : Nat → Int32} {n i : Nat} {t : Nat → Int64} {E : Nat → Int64} {post : SY → Prop} {J : yJT} {mk : Int64} {cn : Int32} {s kd fr to : Nat → Int32} {x2 x4 x8 x10 z0 : Int64}
theorem y_334 (hn : n ≤ 24) (hi : i ≤ n) (hg : sg_End g n) (hb : ∀ i, i < n → s i = g i) (hx2 : ∀ j, yb x2 j = true ↔ j = i) (HJ : ∀ t', ysD g n t' i → J (nI i + (-1)) mk (nI n) cn s t' kd fr to) (H : ysT g n t i E) (h10 : x10 = E 0) (r0 : yr0 g n (E 0) i) (e1 : E 1 = 0) (r2 : yr2 g n (E 2) i) (r3 : yr3 g n (E 3) i) (e4 : E 4 = 0) (r5 : yr5 g n (E 5) i) (r6 : yr6 g n (E 6) i) (hz : yr4 g n z0 i) : wY_fill_334 post J (nI i) x2 x10 z0 (nI i) 4 mk (nI n) cn s t kd fr to := by
  subst h10
  unfold wY_fill_334
  refine y_add 4 i (by omega) (by omega) rfl rfl ?_
  have H1 := ysT_add hn (by omega) H 4 (by omega) z0
  dsimp only
  refine y_ch hn hb (fun a1 ha1 => ?_)
  refine y_seq 1 (by omega) rfl hn (fun a2 ha2 => ?_)
  refine y_add 1 i (by omega) (by omega) rfl rfl ?_
  have H2 := ysT_add hn (by omega) H1 1 (by omega) (x2 ||| a2)
  have hr1 := y_r1 hg hi r0 (fun k k1 k2 => (H1.1 k k1 k2).2.1) hx2 ha1 ha2
  dsimp only
  refine nm_e (HJ _ (ysT_done H2 ?_ ?_ ?_ ?_ ?_ ?_ ?_))
  · exact r0
  · show yr1 g n (E 1 ||| (x2 ||| a2)) i
    rw [e1, y_z_or]; exact hr1
  · exact r2
  · exact r3
  · show yr4 g n (E 4 ||| z0) i
    rw [e4, y_z_or]; exact hz
  · exact r5
  · exact r6
theorem y_256 (hn : n ≤ 24) (hi : i ≤ n) (hg : sg_End g n) (hb : ∀ i, i < n → s i = g i) (hx2 : ∀ j, yb x2 j = true ↔ j = i) (HJ : ∀ t', ysD g n t' i → J (nI i + (-1)) mk (nI n) cn s t' kd fr to) (H : ysT g n t i E) (h10 : x10 = E 0) (r0 : yr0 g n (E 0) i) (e1 : E 1 = 0) (e2 : E 2 = 0) (e3 : E 3 = 0) (e4 : E 4 = 0) (r5 : yr5 g n (E 5) i) (r6 : yr6 g n (E 6) i) (hA : yrA g n x8 i) : wY_fill_256 post J (nI i) x2 x8 x10 mk (nI n) cn s t kd fr to := by
  subst h10
  unfold wY_fill_256
  refine y_seq 2 (by omega) rfl hn (fun a1 ha1 => ?_)
  have hr2 := y_r2 hg hA H.1 ha1
  refine y_add 2 i (by omega) (by omega) rfl rfl ?_
  have H1 := ysT_add hn (by omega) H 2 (by omega) (x8 ||| a1)
  dsimp only
  refine y_ch hn hb (fun a2 ha2 => ?_)
  refine y_seq 2 (by omega) rfl hn (fun a3 ha3 => ?_)
  refine y_ch hn hb (fun a4 ha4 => ?_)
  have hr3 := y_r3 hg r0 (fun k k1 k2 => (H1.1 k k1 k2).2.2.1) ha2 ha3 ha4
  refine y_add 3 i (by omega) (by omega) rfl rfl ?_
  have H2 := ysT_add hn (by omega) H1 3 (by omega) (E 0 ||| a4)
  dsimp only
  have q2 : yr2 g n (E 2 ||| (x8 ||| a1)) i := by rw [e2, y_z_or]; exact hr2
  have q3 : yr3 g n (E 3 ||| (E 0 ||| a4)) i := by rw [e3, y_z_or]; exact hr3
  refine y_is hn hb hg (by omega) (by decide) (fun hc => ?_) (fun hc => ?_)
  · refine br_f (by decide) ?_
    have hin : i < n := sg_lt hg (sg_ne hc)
    refine y_at 3 (i + 1) (by omega) (by omega) rfl (nI_1 i) ?_
    refine y_seq 4 (by omega) rfl hn (fun a5 ha5 => ?_)
    exact y_334 hn hi hg hb hx2 HJ H2 rfl r0 e1 q2 q3 e4 r5 r6 (y_r4t hg hc (fun k k1 k2 => ⟨(H2.1 k k1 k2).2.2.2.1, (H2.1 k k1 k2).2.2.2.2.1⟩) hx2 ha5)
  · exact br_t rfl (y_334 hn hi hg hb hx2 HJ H2 rfl r0 e1 q2 q3 e4 r5 r6 (y_r4f hg hc hi hx2))
theorem y_243 (hn : n ≤ 24) (hi : i ≤ n) (hg : sg_End g n) (hb : ∀ i, i < n → s i = g i) (hx2 : ∀ j, yb x2 j = true ↔ j = i) (HJ : ∀ t', ysD g n t' i → J (nI i + (-1)) mk (nI n) cn s t' kd fr to) (H : ysT g n t i E) (h10 : x10 = E 0) (h85 : x8 = E 5) (r0 : yr0 g n (E 0) i) (e1 : E 1 = 0) (e2 : E 2 = 0) (e3 : E 3 = 0) (e4 : E 4 = 0) (r5 : yr5 g n (E 5) i) (r6 : yr6 g n (E 6) i) (hc : g i = 43 ∨ g i = 45) : wY_fill_243 post J (nI i) x2 x8 x10 mk (nI n) cn s t kd fr to := by
  subst h10 h85
  unfold wY_fill_243
  have hin : i < n := sg_lt hg (by rcases hc with h | h <;> exact sg_ne h)
  refine y_at 5 (i + 1) (by omega) (by omega) rfl (nI_1 i) (nm_e ?_)
  exact y_256 hn hi hg hb hx2 HJ H rfl r0 e1 e2 e3 e4 r5 r6 (y_Apm hg hc r5 H.1)
theorem y_223 (hn : n ≤ 24) (hi : i ≤ n) (hg : sg_End g n) (hb : ∀ i, i < n → s i = g i) (hx2 : ∀ j, yb x2 j = true ↔ j = i) (HJ : ∀ t', ysD g n t' i → J (nI i + (-1)) mk (nI n) cn s t' kd fr to) (H : ysT g n t i E) (h10 : x10 = E 0) (r0 : yr0 g n (E 0) i) (e1 : E 1 = 0) (e2 : E 2 = 0) (e3 : E 3 = 0) (e4 : E 4 = 0) (r5 : yr5 g n (E 5) i) (r6 : yr6 g n (E 6) i) (h8 : (g i = 42 ∧ yrA g n x8 i) ∨ (g i ≠ 42 ∧ x8 = E 5)) : wY_fill_223 post J (nI i) x2 x8 x10 mk (nI n) cn s t kd fr to := by
  subst h10
  unfold wY_fill_223
  refine y_is hn hb hg (by omega) (by decide) (fun hc => ?_) (fun hc => ?_)
  · refine br_f (by decide) ?_
    rcases h8 with ⟨h, _⟩ | ⟨_, h⟩
    · exact sg_nx hc h
    · rw [h]; exact y_243 hn hi hg hb hx2 HJ H rfl rfl r0 e1 e2 e3 e4 r5 r6 (Or.inl hc)
  · refine br_t rfl (y_is hn hb hg (by omega) (by decide) (fun hc2 => ?_) (fun hc2 => ?_))
    · refine br_f (by decide) ?_
      rcases h8 with ⟨h, _⟩ | ⟨_, h⟩
      · exact sg_nx hc2 h
      · rw [h]; exact y_243 hn hi hg hb hx2 HJ H rfl rfl r0 e1 e2 e3 e4 r5 r6 (Or.inr hc2)
    · refine br_t rfl (y_256 hn hi hg hb hx2 HJ H rfl r0 e1 e2 e3 e4 r5 r6 ?_)
      rcases h8 with ⟨_, h⟩ | ⟨h1, h⟩
      · exact h
      · rw [h]; exact y_Ar h1 hc hc2 r5
theorem y_202 (hn : n ≤ 24) (hi : i ≤ n) (hg : sg_End g n) (hb : ∀ i, i < n → s i = g i) (hx2 : ∀ j, yb x2 j = true ↔ j = i) (hx4 : ∀ j, yb x4 j = true ↔ j = i + 1) (HJ : ∀ t', ysD g n t' i → J (nI i + (-1)) mk (nI n) cn s t' kd fr to) (H : ysT g n t i E) (h10 : x10 = E 0) (h85 : x8 = E 5) (r0 : yr0 g n (E 0) i) (e1 : E 1 = 0) (e2 : E 2 = 0) (e3 : E 3 = 0) (e4 : E 4 = 0) (r5 : yr5 g n (E 5) i) (e6 : E 6 = 0) (r6 : yr6 g n z0 i) : wY_fill_202 post J (nI i) x2 x4 x8 x10 z0 (nI i) 6 mk (nI n) cn s t kd fr to := by
  subst h10 h85
  unfold wY_fill_202
  refine y_add 6 i (by omega) (by omega) rfl rfl ?_
  have H1 := ysT_add hn (by omega) H 6 (by omega) z0
  dsimp only
  have q6 : yr6 g n (E 6 ||| z0) i := by rw [e6, y_z_or]; exact r6
  refine y_is hn hb hg (by omega) (by decide) (fun hc => ?_) (fun hc => ?_)
  · refine br_f (by decide) (nm_e ?_)
    exact y_223 hn hi hg hb hx2 HJ H1 rfl r0 e1 e2 e3 e4 r5 q6 (Or.inl ⟨hc, y_A42 hg hc r5 hx4⟩)
  · exact br_t rfl (y_223 hn hi hg hb hx2 HJ H1 rfl r0 e1 e2 e3 e4 r5 q6 (Or.inr ⟨hc, rfl⟩))
theorem y_169 (hn : n ≤ 24) (hi : i ≤ n) (hg : sg_End g n) (hb : ∀ i, i < n → s i = g i) (hx2 : ∀ j, yb x2 j = true ↔ j = i) (hx4 : ∀ j, yb x4 j = true ↔ j = i + 1) (HJ : ∀ t', ysD g n t' i → J (nI i + (-1)) mk (nI n) cn s t' kd fr to) (H : ysT g n t i E) (h10 : x10 = E 0) (r0 : yr0 g n (E 0) i) (e1 : E 1 = 0) (e2 : E 2 = 0) (e3 : E 3 = 0) (e4 : E 4 = 0) (r5 : yr5 g n (E 5) i) (e6 : E 6 = 0) : wY_fill_169 post J (nI i) x2 x4 x10 mk (nI n) cn s t kd fr to := by
  subst h10
  unfold wY_fill_169
  refine y_at 5 i (by omega) (by omega) rfl rfl ?_
  rw [H.2.2 5 (by omega)]
  refine y_base hn hb hg (by omega) (fun hc => ?_) (fun hc => ?_)
  · exact br_f (by decide) (y_202 hn hi hg hb hx2 hx4 HJ H rfl rfl r0 e1 e2 e3 e4 r5 e6 (y_r6t hg hc r5 hx4))
  · exact br_t rfl (y_202 hn hi hg hb hx2 hx4 HJ H rfl rfl r0 e1 e2 e3 e4 r5 e6 (y_r6f hc r5))
theorem y_143 (hn : n ≤ 24) (hi : i ≤ n) (hg : sg_End g n) (hb : ∀ i, i < n → s i = g i) (hx2 : ∀ j, yb x2 j = true ↔ j = i) (hx4 : ∀ j, yb x4 j = true ↔ j = i + 1) (HJ : ∀ t', ysD g n t' i → J (nI i + (-1)) mk (nI n) cn s t' kd fr to) (H : ysT g n t i E) (h10 : x10 = E 0) (r0 : yr0 g n (E 0) i) (e1 : E 1 = 0) (e2 : E 2 = 0) (e3 : E 3 = 0) (e4 : E 4 = 0) (h5 : ((g i = 84 ∨ g i = 76) ∧ yr5 g n (E 5) i) ∨ (g i ≠ 84 ∧ g i ≠ 76 ∧ E 5 = 0)) (e6 : E 6 = 0) : wY_fill_143 post J (nI i) x2 x4 x10 mk (nI n) cn s t kd fr to := by
  subst h10
  unfold wY_fill_143
  refine y_is hn hb hg (by omega) (by decide) (fun hc => ?_) (fun hc => ?_)
  · refine br_f (by decide) ?_
    have hin : i < n := sg_lt hg (sg_ne hc)
    refine y_at 6 (i + 1) (by omega) (by omega) rfl (nI_1 i) ?_
    refine y_add 5 i (by omega) (by omega) rfl rfl ?_
    have H1 := ysT_add hn (by omega) H 5 (by omega) (t (6 * 25 + (i + 1)))
    dsimp only
    refine y_169 hn hi hg hb hx2 hx4 HJ H1 rfl r0 e1 e2 e3 e4 ?_ e6
    show yr5 g n (E 5 ||| t (6 * 25 + (i + 1))) i
    rcases h5 with ⟨h | h, _⟩ | ⟨_, _, h⟩
    · exact sg_nx hc h
    · exact sg_nx hc h
    · rw [h, y_z_or]; exact y_r5A hg hc H.1
  · refine br_t rfl (y_169 hn hi hg hb hx2 hx4 HJ H rfl r0 e1 e2 e3 e4 ?_ e6)
    rcases h5 with ⟨_, h⟩ | ⟨h1, h2, h⟩
    · exact h
    · rw [h]; exact y_r50 hg h1 h2 hc
theorem y_102 (hn : n ≤ 24) (hi : i ≤ n) (hg : sg_End g n) (hb : ∀ i, i < n → s i = g i) (hx2 : ∀ j, yb x2 j = true ↔ j = i) (hx4 : ∀ j, yb x4 j = true ↔ j = i + 1) (HJ : ∀ t', ysD g n t' i → J (nI i + (-1)) mk (nI n) cn s t' kd fr to) (H : ysT g n t i E) (h10 : x10 = E 0) (r0 : yr0 g n (E 0) i) (e1 : E 1 = 0) (e2 : E 2 = 0) (e3 : E 3 = 0) (e4 : E 4 = 0) (h5 : (g i = 84 ∧ yr5 g n (E 5) i) ∨ (g i ≠ 84 ∧ E 5 = 0)) (e6 : E 6 = 0) : wY_fill_102 post J (nI i) x2 x4 x10 mk (nI n) cn s t kd fr to := by
  subst h10
  unfold wY_fill_102
  refine y_is hn hb hg (by omega) (by decide) (fun hc => ?_) (fun hc => ?_)
  · refine br_f (by decide) ?_
    have hin : i < n := sg_lt hg (sg_ne hc)
    refine y_at 1 (i + 1) (by omega) (by omega) rfl (nI_1 i) ?_
    refine y_seq 3 (by omega) rfl hn (fun a1 ha1 => ?_)
    refine y_seq 4 (by omega) rfl hn (fun a2 ha2 => ?_)
    refine y_ch hn hb (fun a3 ha3 => ?_)
    refine y_add 5 i (by omega) (by omega) rfl rfl ?_
    have H1 := ysT_add hn (by omega) H 5 (by omega) a3
    dsimp only
    refine y_143 hn hi hg hb hx2 hx4 HJ H1 rfl r0 e1 e2 e3 e4 (Or.inl ⟨Or.inr hc, ?_⟩) e6
    show yr5 g n (E 5 ||| a3) i
    rcases h5 with ⟨h, _⟩ | ⟨_, h⟩
    · exact sg_nx hc h
    · rw [h, y_z_or]; exact y_r5L hg hc H.1 ha1 ha2 ha3
  · refine br_t rfl (y_143 hn hi hg hb hx2 hx4 HJ H rfl r0 e1 e2 e3 e4 ?_ e6)
    rcases h5 with ⟨h1, h⟩ | ⟨h1, h⟩
    · exact Or.inl ⟨Or.inl h1, h⟩
    · exact Or.inr ⟨h1, hc, h⟩
theorem y_69 (hn : n ≤ 24) (hi : i ≤ n) (hg : sg_End g n) (hb : ∀ i, i < n → s i = g i) (hx2 : ∀ j, yb x2 j = true ↔ j = i) (hx4 : ∀ j, yb x4 j = true ↔ j = i + 1) (HJ : ∀ t', ysD g n t' i → J (nI i + (-1)) mk (nI n) cn s t' kd fr to) (H : ysT g n t i E) (h10 : x10 = E 0) (r0 : yr0 g n (E 0) i) (e1 : E 1 = 0) (e2 : E 2 = 0) (e3 : E 3 = 0) (e4 : E 4 = 0) (e5 : E 5 = 0) (e6 : E 6 = 0) : wY_fill_69 post J (nI i) x2 x4 x10 mk (nI n) cn s t kd fr to := by
  subst h10
  unfold wY_fill_69
  refine y_is hn hb hg (by omega) (by decide) (fun hc => ?_) (fun hc => ?_)
  · refine br_f (by decide) ?_
    have hin : i < n := sg_lt hg (sg_ne hc)
    refine y_at 0 (i + 1) (by omega) (by omega) rfl (nI_1 i) ?_
    refine y_ch hn hb (fun a1 ha1 => ?_)
    refine y_add 5 i (by omega) (by omega) rfl rfl ?_
    have H1 := ysT_add hn (by omega) H 5 (by omega) a1
    dsimp only
    refine y_102 hn hi hg hb hx2 hx4 HJ H1 rfl r0 e1 e2 e3 e4 (Or.inl ⟨hc, ?_⟩) e6
    show yr5 g n (E 5 ||| a1) i
    rw [e5, y_z_or]; exact y_r5T hg hc H.1 ha1
  · exact br_t rfl (y_102 hn hi hg hb hx2 hx4 HJ H rfl r0 e1 e2 e3 e4 (Or.inr ⟨hc, e5⟩) e6)
end
def y_pre (d : Nat) : Int32 := nI d + (-1)
theorem y_pre_s (d : Nat) : y_pre (d + 1) = nI d := pk_m1 d
section
variable {g : Nat → Int32} {n : Nat} {post : SY → Prop} {mk : Int64} {cn : Int32} {s kd fr to : Nat → Int32}
theorem y_27 (hn : n ≤ 24) (hg : sg_End g n) (hb : ∀ i, i < n → s i = g i) (hp : ∀ t', (∀ k, k ≤ n → yRow g n t' k) → post (mk, nI n, cn, s, t', kd, fr, to)) : ∀ d (t : Nat → Int64), d ≤ n + 1 → ysD g n t d → wY_fill_27 post (d + 1) (y_pre d) mk (nI n) cn s t kd fr to := by
  intro d
  induction d with
  | zero =>
    intro t _ H
    exact br_t (by decide) (hp t (fun k hk => H.1 k (by omega) hk))
  | succ d ih =>
    intro t hd H
    rw [y_pre_s]
    refine br_f (nI_pos (by omega)) ?_
    refine nm_e (nm_e ?_)
    have hx2 := yb_one (k := d) (by omega)
    have hx4 := yb_next (k := d) (by omega)
    have HJ : ∀ t', ysD g n t' d → wY_fill_27 post (d + 1) (nI d + (-1)) mk (nI n) cn s t' kd fr to := fun t' h => ih t' (by omega) h
    have H0 : ysT g n t d (fun _ => 0) := ⟨fun k k1 k2 => H.1 k (by omega) k2, fun k k1 => H.2 k (by omega), fun a ha => H.2 d (by omega) a ha⟩
    refine y_idChar hn hb hg (by omega) (fun hc => ?_) (fun hc => ?_)
    · refine br_f (by decide) ?_
      have hin : d < n := sg_lt hg hc.2.2.2.2.2.2
      refine y_at 0 (d + 1) (by omega) (by omega) rfl (nI_1 d) ?_
      refine y_add 0 d (by omega) (by omega) rfl rfl ?_
      have H1 := ysT_add hn (by omega) H0 0 (by omega) (((1 : Int64) <<< ((nI d).toInt64 &&& 63)) <<< ((1 : Int32).toInt64 &&& 63) ||| t (0 * 25 + (d + 1)))
      dsimp only
      have e : t (0 * 25 + d) = 0 := H0.2.2 0 (by omega)
      have hr : yr0 g n ((0 : Int64) ||| (((1 : Int64) <<< ((nI d).toInt64 &&& 63)) <<< ((1 : Int32).toInt64 &&& 63) ||| t (0 * 25 + (d + 1)))) d := by
        rw [y_z_or]; exact y_r0t hg hc H0.1 hx4
      have K := y_69 (post := post) (J := wY_fill_27 post (d + 1)) hn (by omega) hg hb hx2 hx4 HJ H1 rfl hr rfl rfl rfl rfl rfl rfl
      rw [e] at K ⊢
      exact K
    · refine br_t rfl ?_
      exact y_69 (E := fun _ => 0) hn (by omega) hg hb hx2 hx4 HJ H0 rfl (y_r0f hc) rfl rfl rfl rfl rfl rfl
theorem y_2 (hn : n ≤ 24) (hg : sg_End g n) (hb : ∀ i, i < n → s i = g i) (hp : ∀ t', (∀ k, k ≤ n → yRow g n t' k) → post (mk, nI n, cn, s, t', kd, fr, to)) : ∀ d j (t : Nat → Int64), j + d = 175 → (∀ x, x < j → t x = 0) → wY_fill_2 post mk (nI n) cn (d + 1) (nI j) s t kd fr to := by
  intro d
  induction d with
  | zero =>
    intro j t hj h0
    refine br_t (nI_le (a := 175) (by omega) (by omega)) ⟨n + 1 + 1, ?_⟩
    have K := y_27 hn hg hb hp (n + 1) t (by omega) ⟨fun k k1 k2 => by omega, fun k k1 a ha => h0 _ (by omega)⟩
    rw [y_pre_s] at K
    exact K
  | succ d ih =>
    intro j t hj h0
    refine br_f (nI_ge (b := 175) (by omega) (by omega)) ⟨vp_in_nI (by omega) (by omega), fun t' e1 x' e2 => ?_⟩
    rw [nI_clamp (by omega)] at e1
    rw [nI_1] at e2
    subst e1 e2
    refine ih (j + 1) _ (by omega) ?_
    intro x hx
    by_cases e : x = j
    · subst e; exact pk_uLs
    · rw [pk_uLn e]; exact h0 x (by omega)
theorem y_fill {t : Nat → Int64} (hn : n ≤ 24) (hg : sg_End g n) (hb : ∀ i, i < n → s i = g i) (hp : ∀ t', (∀ k, k ≤ n → yRow g n t' k) → post (mk, nI n, cn, s, t', kd, fr, to)) : wpY_fill post (mk, nI n, cn, s, t, kd, fr, to) := ⟨_, y_2 hn hg hb hp 175 0 t (by omega) (fun x h => absurd h (by omega))⟩
end
end
section
abbrev yKT : Type := Int32 → Int32 → Int64 → Int32 → Int32 → (Nat → Int32) → (Nat → Int64) → (Nat → Int32) → (Nat → Int32) → (Nat → Int32) → Prop
def yBar (g : Nat → Int32) (n i : Nat) : Prop := ∃ q, q < i ∧ sg_N g n q ∧ g q = 76 ∧ sg_pk g n (q + 1) ≠ 0 ∧ g (sg_D g n q) = 46
def yNd (g : Nat → Int32) (n i c : Nat) (kd fr to : Nat → Int32) : Prop := ∃ F : Nat → Nat, sg_En g n i c F ∧ ∀ m, m < c → kd m = sg_K g (F m) ∧ fr m = nI (F m) ∧ to m = nI (sg_E g n (F m))
def yI (g : Nat → Int32) (n i : Nat) (x1 : Int32) (mk : Int64) (c : Nat) (kd fr to : Nat → Int32) : Prop := (∀ j, yb mk j = true ↔ sg_M g n i j) ∧ yNd g n i c kd fr to ∧ (x1 ≠ 0 ↔ yBar g n i)
theorem y_nb (k : Int32) (hk : k = 1 ∨ k = 2 ∨ k = 3 ∨ k = 4 ∨ k = 5 ∨ k = 6 ∨ k = 7 ∨ k = 8) : vp_nar .byte k.toInt8.toInt32 = k := by
  rw [vp_nar_byte]
  rcases hk with h | h | h | h | h | h | h | h <;> subst h <;> decide
theorem y_n16 : ∀ i, i < 25 → (nI i).toInt16.toInt32 = nI i := by decide +kernel
theorem y_ns {i : Nat} (h : i < 25) : vp_nar .short (nI i).toInt16.toInt32 = nI i := by rw [pk_vs, y_n16 i h]
section
variable {g : Nat → Int32} {n : Nat}
theorem y_K8 (f : Nat) : sg_K g f = 1 ∨ sg_K g f = 2 ∨ sg_K g f = 3 ∨ sg_K g f = 4 ∨ sg_K g f = 5 ∨ sg_K g f = 6 ∨ sg_K g f = 7 ∨ sg_K g f = 8 := by
  unfold sg_K
  split
  · exact Or.inr (Or.inl rfl)
  split
  · exact Or.inr (Or.inr (Or.inr (Or.inr (Or.inr (Or.inr (Or.inl rfl))))))
  split
  · exact Or.inr (Or.inr (Or.inr (Or.inr (Or.inl rfl))))
  split
  · exact Or.inr (Or.inr (Or.inr (Or.inr (Or.inr (Or.inl rfl)))))
  split
  · exact Or.inl rfl
  split
  · exact Or.inr (Or.inr (Or.inl rfl))
  split
  · exact Or.inr (Or.inr (Or.inr (Or.inl rfl)))
  · exact Or.inr (Or.inr (Or.inr (Or.inr (Or.inr (Or.inr (Or.inr rfl))))))
theorem y_K0 (f : Nat) : sg_K g f ≠ 0 := by
  rcases y_K8 (g := g) f with h | h | h | h | h | h | h | h <;> rw [h] <;> decide
theorem y_M46 {i : Nat} (h : g i = 46) (j : Nat) : sg_M g n i j ↔ sg_M g n (i + 1) j := by
  constructor
  · exact Or.inl
  · rintro (z | ⟨_, z | ⟨_, z | z | z⟩⟩ | ⟨_, z, _⟩)
    · exact z
    · exact sg_nx h z
    · exact sg_nx h z
    · exact sg_nx h z
    · exact sg_nx h z
    · exact absurd h z
theorem y_Mno {i : Nat} (h : ¬ sg_M g n i i) (j : Nat) : (sg_M g n i j ∨ (g i = 60 ∧ j = i + 1)) ↔ sg_M g n (i + 1) j := by
  constructor
  · rintro (z | ⟨z1, z2⟩)
    · exact Or.inl z
    · exact Or.inr (Or.inl ⟨z2, Or.inl z1⟩)
  · rintro (z | ⟨z1, z | ⟨z, _⟩⟩ | ⟨z, _⟩)
    · exact Or.inl z
    · exact Or.inr ⟨z, z1⟩
    · exact absurd z h
    · exact absurd z h
theorem y_Myes {i : Nat} (h : sg_M g n i i) (h6 : g i ≠ 46) (j : Nat) : ((sg_M g n i j ∨ (j = i + 1 ∧ (g i = 91 ∨ g i = 43 ∨ g i = 45))) ∨ (g i = 60 ∧ j = i + 1) ∨ (sg_E g n i = j ∧ j < n ∧ g j ≠ 62)) ↔ sg_M g n (i + 1) j := by
  constructor
  · rintro ((z | ⟨z1, z2⟩) | ⟨z1, z2⟩ | z)
    · exact Or.inl z
    · exact Or.inr (Or.inl ⟨z1, Or.inr ⟨h, z2⟩⟩)
    · exact Or.inr (Or.inl ⟨z2, Or.inl z1⟩)
    · exact Or.inr (Or.inr ⟨h, h6, z⟩)
  · rintro (z | ⟨z1, z | ⟨_, z⟩⟩ | ⟨_, _, z⟩)
    · exact Or.inl (Or.inl z)
    · exact Or.inr (Or.inl ⟨z, z1⟩)
    · exact Or.inl (Or.inr ⟨z1, z⟩)
    · exact Or.inr (Or.inr z)
theorem yBar_no {i : Nat} (h : ¬ (sg_N g n i ∧ g i = 76 ∧ sg_pk g n (i + 1) ≠ 0 ∧ g (sg_D g n i) = 46)) : yBar g n (i + 1) ↔ yBar g n i := by
  constructor
  · rintro ⟨q, h1, h2⟩
    by_cases e : q = i
    · subst e; exact absurd h2 h
    · exact ⟨q, by omega, h2⟩
  · rintro ⟨q, h1, h2⟩
    exact ⟨q, by omega, h2⟩
theorem yBar_yes {i : Nat} (h : sg_N g n i ∧ g i = 76 ∧ sg_pk g n (i + 1) ≠ 0 ∧ g (sg_D g n i) = 46) : yBar g n (i + 1) := ⟨i, by omega, h⟩
theorem yBar_n (hg : sg_End g n) : yBar g n n ↔ sg_bar g n n := by
  constructor
  · rintro ⟨q, h1, h2, h3, h4, h5⟩
    exact ⟨q, h2, h3, h4, h5, sg_lt hg (sg_ne h5)⟩
  · rintro ⟨q, h2, h3, h4, h5, h6⟩
    exact ⟨q, sg_lt hg (sg_ne h3), h2, h3, h4, h5⟩
theorem y_top5 {m : Int64} {i e : Nat} (hg : sg_End g n) (hn : n ≤ 24) (hz : sg_ref g n i ≠ 0) (h : yr5 g n m i) (h1 : e = 0 ∨ yb m e = true) (h2 : ∀ j, j < 25 → yb m j = true → j ≤ e) : e = sg_ref g n i := by
  have hp := sg_ref_pos hg hz
  have hb := h2 _ (by omega) ((h _).mpr ⟨hz, rfl⟩)
  rcases h1 with z | z
  · omega
  · exact ((h e).mp z).2.symm
theorem y_top6 {m : Int64} {i e : Nat} (hg : sg_End g n) (hn : n ≤ 24) (hz : sg_jt g n i ≠ 0) (h : yr6 g n m i) (h1 : e = 0 ∨ yb m e = true) (h2 : ∀ j, j < 25 → yb m j = true → j ≤ e) : e = sg_jt g n i := by
  have hp := sg_jt_pos hg hz
  have hb := h2 _ (by omega) ((h _).mpr ⟨hz, rfl⟩)
  rcases h1 with z | z
  · omega
  · exact ((h e).mp z).2.symm
theorem y_top3 {m : Int64} {i e : Nat} (hg : sg_End g n) (hn : n ≤ 24) (hi : i ≠ 0) (hz : sg_sc g n i ≠ 0) (h : yr3 g n m i) (h1 : e = 0 ∨ yb m e = true) (h2 : ∀ j, j < 25 → yb m j = true → j ≤ e) : e = sg_sc g n i := by
  have hp := sg_sc_pos hg hz
  have hb := h2 _ (by omega) (yr3_sc hg hi h hz)
  have hge := sg_ie_ge (g := g) (n := n) i
  rcases h1 with z | z
  · omega
  · have hne : sg_ie g n i ≠ i := fun y => hz (sg_sc_x y)
    by_cases e60 : g (sg_ie g n i) = 60
    · have hs := sg_sc_a hi hne e60
      rcases (h e).mp z with ⟨k1, k2⟩ | ⟨_, _, k3, k4⟩
      · rw [hs] at hz
        have p1 := sg_at_pos hg hz
        have p2 := sg_arg_pos hg (sg_at_nz hg hz)
        omega
      · omega
    · have hs := sg_sc_i hi hne e60
      rcases (h e).mp z with ⟨k1, k2⟩ | ⟨_, k2, _, _⟩
      · omega
      · exact absurd k2 e60
end
section
variable {g : Nat → Int32} {n i c : Nat} {t : Nat → Int64} {post : Int32 → SY → Prop} {J : yKT} {mk : Int64} {s kd fr to : Nat → Int32} {x1 x4 x5 : Int32}
theorem y_mark {ps : Int64 → SY → Prop} {cn : Int32} {p0 : Int32} (k : Nat) (hk : k < 64) (e0 : p0 = nI k) (h : ∀ r m', (∀ j, yb m' j = true ↔ (yb mk j = true ∨ j = k)) → ps r (m', nI n, cn, s, t, kd, fr, to)) : wpY_mark ps (mk, nI n, cn, s, t, kd, fr, to) p0 := by
  subst e0
  unfold wpY_mark
  dsimp only
  refine nm_e (h _ _ ?_)
  intro j
  rw [yb_orp, yb_one hk]
theorem y_328s (hn : n ≤ 24) (hi : i < n) (HJ : ∀ (x1 : Int32) (mk : Int64) (c : Nat) (kd fr to : Nat → Int32), yI g n (i + 1) x1 mk c kd fr to → J x1 (nI (i + 1)) mk (nI n) (nI c) s t kd fr to) (hN : sg_N g n i) (hE : sg_E g n i ≤ n) (h4 : x4 = sg_K g i) (h5 : x5 = nI (sg_E g n i)) (hm : ∀ j, yb mk j = true ↔ sg_M g n (i + 1) j) (hd : yNd g n i c kd fr to) (hx : x1 ≠ 0 ↔ yBar g n (i + 1)) : wY_parseField_328 post J x1 (nI i) x4 x5 mk (nI n) (nI c) s t kd fr to := by
  obtain ⟨F, hF, hA⟩ := hd
  have hc := sg_En_le hF
  have hv : vp_in (nI c) 24 := vp_in_nI (by omega) (by omega)
  subst h4 h5
  refine br_f (y_K0 i) ⟨hv, fun kd' e1 => ⟨hv, fun fr' e2 => ?_⟩⟩
  intro c' e3
  refine ⟨hv, fun to' e4 x2' e5 => ?_⟩
  rw [nI_clamp (by omega)] at e1 e2 e4
  rw [nI_1] at e3 e5
  rw [y_nb _ (y_K8 i)] at e1
  rw [y_ns (by omega)] at e2 e4
  subst e1 e2 e3 e4 e5
  refine HJ _ _ _ _ _ _ ⟨hm, ⟨sg_u F c i, sg_En_add hF hN, ?_⟩, hx⟩
  intro m hm
  exact ⟨sg_up1 (R := sg_K g) (fun m hm => (hA m hm).1) rfl m hm, sg_up1 (R := nI) (fun m hm => (hA m hm).2.1) rfl m hm, sg_up1 (R := fun f => nI (sg_E g n f)) (fun m hm => (hA m hm).2.2) rfl m hm⟩
theorem y_314s (hn : n ≤ 24) (hi : i < n) (HJ : ∀ (x1 : Int32) (mk : Int64) (c : Nat) (kd fr to : Nat → Int32), yI g n (i + 1) x1 mk c kd fr to → J x1 (nI (i + 1)) mk (nI n) (nI c) s t kd fr to) (hN : sg_N g n i) (hE : sg_E g n i ≤ n) (h4 : x4 = sg_K g i) (h5 : x5 = nI (sg_E g n i)) (hm : ∀ j, (yb mk j = true ∨ (g i = 60 ∧ j = i + 1)) ↔ sg_M g n (i + 1) j) (hd : yNd g n i c kd fr to) (hx : x1 ≠ 0 ↔ yBar g n (i + 1)) : wY_parseField_314 post J x1 (nI i) (g i) x4 x5 mk (nI n) (nI c) s t kd fr to := by
  refine br_c (fun e => ?_) (fun e => ?_)
  · refine y_mark (i + 1) (by omega) (nI_1 i) (fun r m' hm' => ?_)
    refine y_328s hn hi HJ hN hE h4 h5 (fun j => ?_) hd hx
    rw [hm', ← hm j]
    exact ⟨fun z => z.elim Or.inl (fun y => Or.inr ⟨e, y⟩), fun z => z.elim Or.inl (fun y => Or.inr y.2)⟩
  · refine y_328s hn hi HJ hN hE h4 h5 (fun j => ?_) hd hx
    rw [← hm j]
    exact ⟨Or.inl, fun z => z.elim id (fun y => absurd y.1 e)⟩
theorem y_286 (hn : n ≤ 24) (hi : i < n) (hb : ∀ i, i < n → s i = g i) (HJ : ∀ (x1 : Int32) (mk : Int64) (c : Nat) (kd fr to : Nat → Int32), yI g n (i + 1) x1 mk c kd fr to → J x1 (nI (i + 1)) mk (nI n) (nI c) s t kd fr to) (hN : sg_N g n i) (hE : sg_E g n i ≤ n) (h4 : x4 = sg_K g i) (h5 : x5 = nI (sg_E g n i)) (hm : ∀ j, (yb mk j = true ∨ (g i = 60 ∧ j = i + 1) ∨ (sg_E g n i = j ∧ j < n ∧ g j ≠ 62)) ↔ sg_M g n (i + 1) j) (hd : yNd g n i c kd fr to) (hx : x1 ≠ 0 ↔ yBar g n (i + 1)) : wY_parseField_286 post J x1 (nI i) (g i) x4 x5 mk (nI n) (nI c) s t kd fr to := by
  have k1 : (sg_E g n i < n → g (sg_E g n i) = 62) → wY_parseField_314 post J x1 (nI i) (g i) x4 x5 mk (nI n) (nI c) s t kd fr to := by
    intro hz
    refine y_314s hn hi HJ hN hE h4 h5 (fun j => ?_) hd hx
    rw [← hm j]
    constructor
    · rintro (z | z)
      · exact Or.inl z
      · exact Or.inr (Or.inl z)
    · rintro (z | z | ⟨z1, z2, z3⟩)
      · exact Or.inl z
      · exact Or.inr z
      · subst z1; exact absurd (hz z2) z3
  by_cases e : sg_E g n i < n
  · refine br_f (by rw [h5]; exact nI_ge (by omega) (by omega)) ⟨by rw [h5]; exact vp_in_nI (by omega) (by omega), ?_⟩
    have e2 : s x5.toNatClampNeg = g (sg_E g n i) := by rw [h5, nI_clamp (by omega)]; exact hb _ e
    rw [e2]
    refine br_c (fun z => k1 (fun _ => z)) (fun z => ?_)
    refine y_mark (sg_E g n i) (by omega) h5 (fun r m' hm' => ?_)
    refine y_314s hn hi HJ hN hE h4 h5 (fun j => ?_) hd hx
    rw [hm', ← hm j]
    constructor
    · rintro ((y | y) | y)
      · exact Or.inl y
      · subst y; exact Or.inr (Or.inr ⟨rfl, e, z⟩)
      · exact Or.inr (Or.inl y)
    · rintro (y | y | ⟨y, _⟩)
      · exact Or.inl (Or.inl y)
      · exact Or.inr y
      · exact Or.inl (Or.inr y.symm)
  · exact br_t (by rw [h5]; exact nI_le (by omega) (by omega)) (k1 (fun z => absurd z e))
theorem y_172 (hn : n ≤ 24) (hg : sg_End g n) (hi : i < n) (hb : ∀ i, i < n → s i = g i) (hT : ∀ k, k ≤ n → yRow g n t k) (HJ : ∀ (x1 : Int32) (mk : Int64) (c : Nat) (kd fr to : Nat → Int32), yI g n (i + 1) x1 mk c kd fr to → J x1 (nI (i + 1)) mk (nI n) (nI c) s t kd fr to) (hM : sg_M g n i i) (hE : sg_E g n i ≠ 0) (h4 : x4 = sg_K g i) (hc : g i = 43 ∨ g i = 45) (hI : yI g n i x1 mk c kd fr to) : wY_parseField_172 post J x1 (nI i) (g i) (nI (i + 1)) x4 mk (nI n) (nI c) s t kd fr to := by
  have hEp := sg_E_pos hg hE
  have hEr := sg_E_pm (n := n) hc
  have n46 : g i ≠ 46 := by rcases hc with h | h <;> exact sg_ne h
  unfold wY_parseField_172
  refine y_mark (i + 1) (by omega) rfl (fun r m' hm' => ?_)
  dsimp only
  refine y_at 5 (i + 1) (by omega) (by omega) rfl rfl ?_
  refine y_top (fun e he h1 h2 => ?_)
  have hR := (hT (i + 1) (by omega)).2.2.2.2.2.1
  have ee : e = sg_E g n i := by rw [hEr]; rw [hEr] at hE; exact y_top5 hg hn hE hR h1 h2
  rw [ee]
  refine y_286 hn hi hb HJ (Or.inr hM) hEp.2 h4 rfl (fun j => ?_) hI.2.1 ?_
  · rw [← y_Myes hM n46 j, hm', hI.1]
    have e2 : (j = i + 1 ∧ (g i = 91 ∨ g i = 43 ∨ g i = 45)) ↔ j = i + 1 := ⟨fun z => z.1, fun z => ⟨z, Or.inr hc⟩⟩
    rw [e2]
  · rw [hI.2.2, yBar_no]
    rintro ⟨_, z, _⟩
    rcases hc with h | h <;> exact sg_nx h z
theorem y_274 (hn : n ≤ 24) (hg : sg_End g n) (hi : i < n) (hb : ∀ i, i < n → s i = g i) (hT : ∀ k, k ≤ n → yRow g n t k) (HJ : ∀ (x1 : Int32) (mk : Int64) (c : Nat) (kd fr to : Nat → Int32), yI g n (i + 1) x1 mk c kd fr to → J x1 (nI (i + 1)) mk (nI n) (nI c) s t kd fr to) (hM : sg_M g n i i) (hE : sg_E g n i ≠ 0) (h4 : x4 = sg_K g i) (c1 : g i ≠ 46) (c2 : g i ≠ 42) (c3 : g i ≠ 43) (c4 : g i ≠ 45) (hm : ∀ j, yb mk j = true ↔ (sg_M g n i j ∨ (j = i + 1 ∧ (g i = 91 ∨ g i = 43 ∨ g i = 45)))) (hd : yNd g n i c kd fr to) (hx : x1 ≠ 0 ↔ yBar g n (i + 1)) : wY_parseField_274 post J x1 (nI i) (g i) x4 mk (nI n) (nI c) s t kd fr to := by
  have hEp := sg_E_pos hg hE
  have hEr := sg_E_jt (g := g) (n := n) c1 c2 c3 c4
  unfold wY_parseField_274
  refine y_at 6 i (by omega) (by omega) rfl rfl ?_
  refine y_top (fun e he h1 h2 => ?_)
  have hR := (hT i (by omega)).2.2.2.2.2.2
  have ee : e = sg_E g n i := by rw [hEr]; rw [hEr] at hE; exact y_top6 hg hn hE hR h1 h2
  rw [ee]
  refine y_286 hn hi hb HJ (Or.inr hM) hEp.2 h4 rfl (fun j => ?_) hd hx
  rw [← y_Myes hM c1 j, hm]
theorem y_bare (hg : sg_End g n) (hi : i < n) (hT : ∀ k, k ≤ n → yRow g n t k) {r1 r2 : Int64} (h1 : ∀ j, yb r1 j = true ↔ ∃ k, k ≤ n ∧ yb (t (1 * 25 + (i + 1))) k = true ∧ yb (t (0 * 25 + k)) j = true) (h2 : ∀ j, yb r2 j = true ↔ ∃ k, k < n ∧ yb r1 k = true ∧ g k = 46 ∧ j = k + 1) : r2 = 0 ↔ ¬ (sg_pk g n (i + 1) ≠ 0 ∧ g (sg_D g n i) = 46) := by
  have hP := (hT (i + 1) (by omega)).2.1
  rw [yb_nz]
  constructor
  · rintro h ⟨z1, z2⟩
    have hpp := sg_pk_pos hg z1
    have hge := sg_ie_ge (g := g) (n := n) (sg_pk g n (i + 1))
    have hkb := (hP.2 (by omega) (sg_pk g n (i + 1))).mpr ⟨rfl, z1⟩
    have hkn := (hP.1 _ hkb.1)
    have h0 := (hT _ hkn.2).1
    have hlt : sg_D g n i < n := sg_lt hg (sg_ne z2)
    refine h (sg_D g n i + 1) ((h2 _).mpr ⟨_, hlt, (h1 _).mpr ⟨_, hkn.2, hkb.1, (h0 _).mpr ?_⟩, z2, rfl⟩)
    unfold sg_D
    omega
  · intro h j hj
    apply h
    obtain ⟨u, u1, u2, u3, u4⟩ := (h2 j).mp hj
    obtain ⟨k, k1, k2, k3⟩ := (h1 u).mp u2
    have h0 := ((hT k k1).1 u).mp k3
    have e : u = sg_ie g n k := by
      apply Classical.byContradiction
      intro z
      have := sg_ie_in (g := g) (n := n) (Nat.le_of_lt h0.1) (by omega)
      exact this.1 u3
    subst e
    have := (hP.2 (by omega) k).mp ⟨k2, by omega, sg_ne u3⟩
    unfold sg_D
    rw [← this.1]
    exact ⟨this.2, u3⟩
theorem y_243p (hn : n ≤ 24) (hg : sg_End g n) (hi : i < n) (hb : ∀ i, i < n → s i = g i) (hT : ∀ k, k ≤ n → yRow g n t k) (HJ : ∀ (x1 : Int32) (mk : Int64) (c : Nat) (kd fr to : Nat → Int32), yI g n (i + 1) x1 mk c kd fr to → J x1 (nI (i + 1)) mk (nI n) (nI c) s t kd fr to) (hM : sg_M g n i i) (hE : sg_E g n i ≠ 0) (h4 : x4 = sg_K g i) (c1 : g i ≠ 46) (c2 : g i ≠ 42) (c3 : g i ≠ 43) (c4 : g i ≠ 45) (h76 : x4 = 1 ↔ g i = 76) (hm : ∀ j, yb mk j = true ↔ (sg_M g n i j ∨ (j = i + 1 ∧ (g i = 91 ∨ g i = 43 ∨ g i = 45)))) (hd : yNd g n i c kd fr to) (hx : x1 ≠ 0 ↔ yBar g n i) : wY_parseField_243 post J x1 (nI i) (g i) x4 (nI (i + 1)) mk (nI n) (nI c) s t kd fr to := by
  refine br_c (fun e => ?_) (fun e => ?_)
  · have e76 := h76.mp e
    refine y_at 1 (i + 1) (by omega) (by omega) rfl rfl ?_
    refine y_seq 0 (by omega) rfl hn (fun a1 ha1 => ?_)
    refine y_ch hn hb (fun a2 ha2 => ?_)
    have hbr := y_bare hg hi hT ha1 ha2
    refine br_c (fun z => ?_) (fun z => ?_)
    · refine y_274 hn hg hi hb hT HJ hM hE h4 c1 c2 c3 c4 hm hd ?_
      rw [hx, yBar_no]
      rintro ⟨_, _, y⟩
      exact hbr.mp z y
    · refine y_274 hn hg hi hb hT HJ hM hE h4 c1 c2 c3 c4 hm hd ?_
      have y := Classical.not_not.mp (fun y => z (hbr.mpr y))
      exact ⟨fun _ => yBar_yes ⟨Or.inr hM, e76, y⟩, fun _ => by decide⟩
  · refine y_274 hn hg hi hb hT HJ hM hE h4 c1 c2 c3 c4 hm hd ?_
    rw [hx, yBar_no]
    rintro ⟨_, y, _⟩
    exact e (h76.mpr y)
theorem y_228 (hn : n ≤ 24) (hg : sg_End g n) (hi : i < n) (hb : ∀ i, i < n → s i = g i) (hT : ∀ k, k ≤ n → yRow g n t k) (HJ : ∀ (x1 : Int32) (mk : Int64) (c : Nat) (kd fr to : Nat → Int32), yI g n (i + 1) x1 mk c kd fr to → J x1 (nI (i + 1)) mk (nI n) (nI c) s t kd fr to) (hM : sg_M g n i i) (hE : sg_E g n i ≠ 0) (h4 : x4 = sg_K g i) (c1 : g i ≠ 46) (c2 : g i ≠ 42) (c3 : g i ≠ 43) (c4 : g i ≠ 45) (h76 : x4 = 1 ↔ g i = 76) (h91 : x4 = 4 ↔ g i = 91) (hI : yI g n i x1 mk c kd fr to) : wY_parseField_228 post J x1 (nI i) (g i) (nI (i + 1)) x4 mk (nI n) (nI c) s t kd fr to := by
  refine br_c (fun e => ?_) (fun e => ?_)
  · refine y_mark (i + 1) (by omega) rfl (fun r m' hm' => ?_)
    refine y_243p hn hg hi hb hT HJ hM hE h4 c1 c2 c3 c4 h76 (fun j => ?_) hI.2.1 hI.2.2
    rw [hm', hI.1]
    exact ⟨fun z => z.elim Or.inl (fun y => Or.inr ⟨y, Or.inl (h91.mp e)⟩), fun z => z.elim Or.inl (fun y => Or.inr y.1)⟩
  · refine y_243p hn hg hi hb hT HJ hM hE h4 c1 c2 c3 c4 h76 (fun j => ?_) hI.2.1 hI.2.2
    rw [hI.1]
    constructor
    · exact Or.inl
    · rintro (z | ⟨_, z | z | z⟩)
      · exact z
      · exact absurd (h91.mpr z) e
      · exact absurd z c3
      · exact absurd z c4
end
end
section
section
variable {g : Nat → Int32} {n : Nat} {t : Nat → Int64} {post : Int32 → SY → Prop} {s : Nat → Int32}
theorem y_K_8 {i : Nat} (c1 : g i ≠ 46) (c2 : g i ≠ 42) (c3 : g i ≠ 43) (c4 : g i ≠ 45) (c5 : g i ≠ 76) (c6 : g i ≠ 84) (c7 : g i ≠ 91) : 8 = sg_K g i := by
  unfold sg_K
  rw [if_neg c1, if_neg c2, if_neg c3, if_neg c4, if_neg c5, if_neg c6, if_neg c7]
theorem y_328n {i c : Nat} {J : yKT} {mk : Int64} {kd fr to : Nat → Int32} {x1 x5 : Int32} (HJ : ∀ (x1 : Int32) (mk : Int64) (c : Nat) (kd fr to : Nat → Int32), yI g n (i + 1) x1 mk c kd fr to → J x1 (nI (i + 1)) mk (nI n) (nI c) s t kd fr to) (hN : ¬ sg_N g n i) (hm : ∀ j, yb mk j = true ↔ sg_M g n (i + 1) j) (hd : yNd g n i c kd fr to) (hx : x1 ≠ 0 ↔ yBar g n i) : wY_parseField_328 post J x1 (nI i) 0 x5 mk (nI n) (nI c) s t kd fr to := by
  obtain ⟨F, hF, hA⟩ := hd
  refine br_t rfl (nm_r (nI_1 i) (HJ _ _ _ _ _ _ ⟨hm, ⟨F, sg_En_skip hF (by omega) (fun k k1 k2 => by rw [show k = i by omega]; exact hN), hA⟩, ?_⟩))
  rw [hx, yBar_no (fun z => hN z.1)]
theorem y_st {i c : Nat} {J : yKT} {mk : Int64} {kd fr to : Nat → Int32} {x1 : Int32} (hn : n ≤ 24) (hg : sg_End g n) (hi : i < n) (hb : ∀ i, i < n → s i = g i) (hT : ∀ k, k ≤ n → yRow g n t k) (hE : ∀ q, q < n → sg_N g n q → sg_E g n q ≠ 0) (HJ : ∀ (x1 : Int32) (mk : Int64) (c : Nat) (kd fr to : Nat → Int32), yI g n (i + 1) x1 mk c kd fr to → J x1 (nI (i + 1)) mk (nI n) (nI c) s t kd fr to) (hI : yI g n i x1 mk c kd fr to) (c46 : g i ≠ 46) (hM : sg_M g n i i) : (g i = 42 → wY_parseField_286 post J x1 (nI i) (g i) 7 (nI (i + 1)) mk (nI n) (nI c) s t kd fr to) ∧ (¬ g i = 42 → ((g i = 43 → wY_parseField_160 post J x1 (nI i) (g i) (nI (i + 1)) mk (nI n) (nI c) s t kd fr to) ∧ (¬ g i = 43 → ((g i = 45 → wY_parseField_160 post J x1 (nI i) (g i) (nI (i + 1)) mk (nI n) (nI c) s t kd fr to) ∧ (¬ g i = 45 → ((g i = 76 → wY_parseField_228 post J x1 (nI i) (g i) (nI (i + 1)) 1 mk (nI n) (nI c) s t kd fr to) ∧ (¬ g i = 76 → ((g i = 84 → wY_parseField_228 post J x1 (nI i) (g i) (nI (i + 1)) 3 mk (nI n) (nI c) s t kd fr to) ∧ (¬ g i = 84 → ((g i = 91 → wY_parseField_228 post J x1 (nI i) (g i) (nI (i + 1)) 4 mk (nI n) (nI c) s t kd fr to) ∧ (¬ g i = 91 → wY_parseField_228 post J x1 (nI i) (g i) (nI (i + 1)) 8 mk (nI n) (nI c) s t kd fr to))))))))))) := by
  have hEi := hE i hi (Or.inr hM)
  have hEp := sg_E_pos hg hEi
  refine br_c (fun e => ?_) (fun c2 => br_c (fun e => ?_) (fun c3 => br_c (fun e => ?_) (fun c4 => br_c (fun e => ?_) (fun c5 => br_c (fun e => ?_) (fun c6 => br_c (fun e => ?_) (fun c7 => ?_))))))
  · refine y_286 hn hi hb HJ (Or.inr hM) hEp.2 (sg_K_s e) (by rw [sg_E_42 e]) (fun j => ?_) hI.2.1 ?_
    · rw [← y_Myes hM c46 j, hI.1]
      constructor
      · rintro (z | z)
        · exact Or.inl (Or.inl z)
        · exact Or.inr z
      · rintro ((z | ⟨_, z | z | z⟩) | z)
        · exact Or.inl z
        · exact sg_nx e z
        · exact sg_nx e z
        · exact sg_nx e z
        · exact Or.inr z
    · rw [hI.2.2, yBar_no]
      rintro ⟨_, z, _⟩
      exact sg_nx e z
  · exact br_t e (y_172 hn hg hi hb hT HJ hM hEi (sg_K_p e) (Or.inl e) hI)
  · exact br_f c3 (y_172 hn hg hi hb hT HJ hM hEi (sg_K_m e) (Or.inr e) hI)
  · exact y_228 hn hg hi hb hT HJ hM hEi (sg_K_L e) c46 c2 c3 c4 ⟨fun _ => e, fun _ => rfl⟩ ⟨fun z => absurd z (by decide), fun z => sg_nx e z⟩ hI
  · exact y_228 hn hg hi hb hT HJ hM hEi (sg_K_T e) c46 c2 c3 c4 ⟨fun z => absurd z (by decide), fun z => sg_nx e z⟩ ⟨fun z => absurd z (by decide), fun z => sg_nx e z⟩ hI
  · exact y_228 hn hg hi hb hT HJ hM hEi (sg_K_A e) c46 c2 c3 c4 ⟨fun z => absurd z (by decide), fun z => sg_nx e z⟩ ⟨fun _ => e, fun _ => rfl⟩ hI
  · exact y_228 hn hg hi hb hT HJ hM hEi (y_K_8 c46 c2 c3 c4 c5 c6 c7) c46 c2 c3 c4 ⟨fun z => absurd z (by decide), fun z => absurd z c5⟩ ⟨fun z => absurd z (by decide), fun z => absurd z c7⟩ hI
theorem y_75 (hn : n ≤ 24) (hg : sg_End g n) (hb : ∀ i, i < n → s i = g i) (hT : ∀ k, k ≤ n → yRow g n t k) (hE : ∀ q, q < n → sg_N g n q → sg_E g n q ≠ 0) (hS : ∀ (x1 : Int32) (mk : Int64) (c : Nat) (kd fr to : Nat → Int32), yI g n n x1 mk c kd fr to → (x1 = 0 → post 0 (mk, nI n, nI c, s, t, kd, fr, to)) ∧ (¬ x1 = 0 → post (-2) (mk, nI n, 0, s, t, kd, fr, to))) : ∀ d i (x1 : Int32) (mk : Int64) (c : Nat) (kd fr to : Nat → Int32), i + d = n → yI g n i x1 mk c kd fr to → wY_parseField_75 post (d + 1) x1 (nI i) mk (nI n) (nI c) s t kd fr to := by
  intro d
  induction d with
  | zero =>
    intro i x1 mk c kd fr to hi hI
    have e : i = n := by omega
    subst e
    exact br_t (nI_le (by omega) (by omega)) (hS _ _ _ _ _ _ hI)
  | succ d ih =>
    intro i x1 mk c kd fr to hi hI
    have HJ : ∀ (x1 : Int32) (mk : Int64) (c : Nat) (kd fr to : Nat → Int32), yI g n (i + 1) x1 mk c kd fr to → wY_parseField_75 post (d + 1) x1 (nI (i + 1)) mk (nI n) (nI c) s t kd fr to := fun x1 mk c kd fr to h => ih (i + 1) x1 mk c kd fr to (by omega) h
    refine br_f (nI_ge (by omega) (by omega)) ⟨vp_in_nI (by omega) (by omega), nm_r (e' := g i) (by rw [nI_clamp (by omega)]; exact hb i (by omega)) (nm_r (nI_1 i) ?_)⟩
    refine br_c (fun c46 => ?_) (fun c46 => yb_brt (by omega) (fun hM => ?_) (fun hM => ?_))
    · have hN : sg_N g n i := Or.inl c46
      have hEi := hE i (by omega) hN
      have hEp := sg_E_pos hg hEi
      have hEr := sg_E_46 (n := n) c46
      refine y_at 3 (i + 1) (by omega) (by omega) rfl rfl ?_
      refine y_top (fun e he h1 h2 => ?_)
      have ee : e = sg_E g n i := by
        rw [hEr]; rw [hEr] at hEi
        exact y_top3 hg hn (by omega) hEi (hT (i + 1) (by omega)).2.2.2.1 h1 h2
      rw [ee]
      refine y_314s hn (by omega) HJ hN hEp.2 (sg_K_d c46) rfl (fun j => ?_) hI.2.1 ?_
      · rw [← y_M46 c46 j, hI.1]
        exact ⟨fun z => z.elim id (fun y => sg_nx c46 y.1), Or.inl⟩
      · rw [hI.2.2, yBar_no]
        rintro ⟨_, z, _⟩
        exact sg_nx c46 z
    · exact y_st hn hg (by omega) hb hT hE HJ hI c46 ((hI.1 i).mp hM)
    · have hM2 : ¬ sg_M g n i i := fun z => hM ((hI.1 i).mpr z)
      have hN : ¬ sg_N g n i := fun z => z.elim c46 hM2
      refine br_c (fun e => ?_) (fun e => ?_)
      · refine y_mark (i + 1) (by omega) (nI_1 i) (fun r m' hm' => ?_)
        refine y_328n HJ hN (fun j => ?_) hI.2.1 hI.2.2
        rw [hm', hI.1, ← y_Mno hM2 j]
        exact ⟨fun z => z.elim Or.inl (fun y => Or.inr ⟨e, y⟩), fun z => z.elim Or.inl (fun y => Or.inr y.2)⟩
      · refine y_328n HJ hN (fun j => ?_) hI.2.1 hI.2.2
        rw [hI.1, ← y_Mno hM2 j]
        exact ⟨Or.inl, fun z => z.elim id (fun y => absurd y.1 e)⟩
theorem y_7 {mk : Int64} {kd fr to : Nat → Int32} (hn : n ≤ 24) (hg : sg_End g n) (hb : ∀ i, i < n → s i = g i) (hB : sg_anyB g n → post (-2) (mk, nI n, 0, s, t, kd, fr, to)) (hF : ¬ sg_anyB g n → ¬ sg_acc g n → ∀ t', post (-1) (mk, nI n, 0, s, t', kd, fr, to)) (hE : ¬ sg_anyB g n → sg_acc g n → ∀ q, q < n → sg_N g n q → sg_E g n q ≠ 0) (hS : ¬ sg_anyB g n → sg_acc g n → ∀ (t' : Nat → Int64) (x1 : Int32) (mk : Int64) (c : Nat) (kd fr to : Nat → Int32), yI g n n x1 mk c kd fr to → (x1 = 0 → post 0 (mk, nI n, nI c, s, t', kd, fr, to)) ∧ (¬ x1 = 0 → post (-2) (mk, nI n, 0, s, t', kd, fr, to))) : ∀ d j, j + d = n → (∀ i, i < j → ¬ sg_bk (g i)) → wY_parseField_7 post mk (nI n) 0 s t kd fr to (d + 1) (nI j) := by
  intro d
  induction d with
  | zero =>
    intro j hj hi
    have hnB : ¬ sg_anyB g n := by
      rintro ⟨i, h1, h2⟩
      exact hi i (by omega) h2
    refine br_t (nI_le (by omega) (by omega)) (y_fill hn hg hb (fun t' hT => ?_))
    dsimp only
    refine y_at 5 0 (by omega) (by omega) rfl rfl ?_
    have h5 := (hT 0 (by omega)).2.2.2.2.2.1
    have hacc : yb (t' (5 * 25 + 0)) n = true ↔ sg_acc g n := by
      rw [h5 n]
      unfold sg_acc
      constructor
      · rintro ⟨a, b⟩; exact ⟨b, by omega⟩
      · rintro ⟨a, b⟩; exact ⟨by omega, a⟩
    refine yb_brt (by omega) (fun ha => ?_) (fun ha => hF hnB (fun z => ha (hacc.mpr z)) t')
    have ha2 := hacc.mp ha
    refine y_mark 0 (by omega) rfl (fun r m' hm' => ?_)
    refine ⟨n + 1, y_75 hn hg hb hT (hE hnB ha2) (hS hnB ha2 t') n 0 0 m' 0 kd fr to (by omega) ⟨?_, ⟨fun _ => 0, sg_En_0, fun _ h => absurd h (by omega)⟩, ?_⟩⟩
    · intro j
      rw [hm', yb_0]
      exact ⟨fun z => z.elim (fun y => absurd y (by decide)) id, Or.inr⟩
    · exact ⟨fun h => absurd rfl h, fun ⟨_, h, _⟩ => absurd h (by omega)⟩
  | succ d ih =>
    intro j hj hi
    refine br_f (nI_ge (by omega) (by omega)) ⟨vp_in_nI (by omega) (by omega), ?_⟩
    rw [nI_clamp (by omega), hb j (by omega)]
    refine xb_Y (fun h => ?_) (fun h => ?_)
    · exact br_f (by decide) (hB ⟨j, by omega, h⟩)
    · refine br_t rfl (nm_r (nI_1 j) (ih (j + 1) (by omega) ?_))
      intro i h1
      by_cases e : i = j
      · rw [e]; exact h
      · exact hi i (by omega)
theorem y_parse {mk : Int64} {cn : Int32} {kd fr to : Nat → Int32} (hn : n ≤ 24) (hg : sg_End g n) (hb : ∀ i, i < n → s i = g i) (hB : sg_anyB g n → post (-2) (mk, nI n, 0, s, t, kd, fr, to)) (hF : ¬ sg_anyB g n → ¬ sg_acc g n → ∀ t', post (-1) (mk, nI n, 0, s, t', kd, fr, to)) (hE : ¬ sg_anyB g n → sg_acc g n → ∀ q, q < n → sg_N g n q → sg_E g n q ≠ 0) (hS : ¬ sg_anyB g n → sg_acc g n → ∀ (t' : Nat → Int64) (x1 : Int32) (mk : Int64) (c : Nat) (kd fr to : Nat → Int32), yI g n n x1 mk c kd fr to → (x1 = 0 → post 0 (mk, nI n, nI c, s, t', kd, fr, to)) ∧ (¬ x1 = 0 → post (-2) (mk, nI n, 0, s, t', kd, fr, to))) : wpY_parseField post (mk, nI n, cn, s, t, kd, fr, to) := ⟨_, y_7 hn hg hb hB hF hE hS n 0 (by omega) (fun _ h => absurd h (by omega))⟩
end
end
section
def sg_Ct (c : Nat) (F T fi nx pa : Nat → Nat) : Prop := (∀ m m', m < m' → m' < c → F m < F m') ∧ (∀ k, k < c → fi k = 0 → ∀ m, k < m → m < c → ¬ F m < T k) ∧ (∀ k, k < c → fi k ≠ 0 → fi k = k + 1 ∧ k + 1 < c ∧ pa (k + 1) = k ∧ F (k + 1) < T k) ∧ (∀ k, k < c → 0 < k → nx k = 0 → ∀ m, k < m → m < c → F m < T (pa k) → F m < T k) ∧ (∀ k, k < c → nx k ≠ 0 → k < nx k ∧ nx k < c ∧ pa (nx k) = pa k ∧ ¬ F (nx k) < T k ∧ F (nx k) < T (pa k) ∧ ∀ m, k < m → m < nx k → F m < T k)
def sg_Tr (c : Nat) (kd fs nt fr to kd' fr' to' : Nat → Int32) : Prop := ∃ F T fi nx pa : Nat → Nat, sg_Ct c F T fi nx pa ∧ ∀ m, m < c → kd' m = kd m ∧ fr m = nI (F m) ∧ fr' m = nI (F m) ∧ to m = nI (T m) ∧ to' m = nI (T m) ∧ fs m = sg_o1 (fi m) ∧ nt m = sg_o1 (nx m) ∧ F m ≤ 24 ∧ T m ≤ 24
section
variable {n c : Nat} {mk : Int64} {ln : Int32} {t : Nat → Int64} {b kd fs nt fr to ls st s kd' fr' to' : Nat → Int32} {F T fi nx pa : Nat → Nat}
theorem sg_o1_neg {x : Nat} (h : x = 0) : sg_o1 x < 0 := by rw [h]; decide
theorem c_X0 {post : Int32 → Prop} {N : Nat} {x2 : Int32} (hp : post (-1)) : wX_childOf_25 post ln (nI c) b kd fs nt fr to ls st (N + 1) x2 (-1) := br_t (by decide) (br_f (by decide) hp)
theorem c_main (hc : c ≤ 24) (hC : sg_Ct c F T fi nx pa) (hA : ∀ m, m < c → kd' m = kd m ∧ fr m = nI (F m) ∧ fr' m = nI (F m) ∧ to m = nI (T m) ∧ to' m = nI (T m) ∧ fs m = sg_o1 (fi m) ∧ nt m = sg_o1 (nx m) ∧ F m ≤ 24 ∧ T m ≤ 24) {q : Nat} (hq : q < c) : ∀ d m k z cov, m + d = c → q < m → k < 2 ^ 31 → cov ≤ 24 → (z = 0 → ∀ m', m ≤ m' → m' < c → cov ≤ F m' → ¬ F m' < T q) → (z ≠ 0 → m ≤ z ∧ z < c ∧ pa z = q ∧ cov ≤ F z ∧ F z < T q ∧ ∀ m', m ≤ m' → m' < z → F m' < cov) → ∃ r : Int32, (∀ (post : Int32 → Prop) (N : Nat), d < N → post r → wX_childOf_25 post ln (nI c) b kd fs nt fr to ls st N (nI k) (sg_o1 z)) ∧ (∀ post : Int32 → Prop, post r → wY_childOf_25 post (nI q) mk ln (nI c) s t kd' fr' to' (d + 1) (nI k) (nI cov) (nI m)) := by
  have hxn : ∀ (post : Int32 → Prop) (N d : Nat) (k : Nat), d < N → post (-1) → wX_childOf_25 post ln (nI c) b kd fs nt fr to ls st N (nI k) (sg_o1 0) := by
    intro post N d k hN hp
    cases N with
    | zero => omega
    | succ N => exact c_X0 hp
  intro d
  induction d with
  | zero =>
    intro m k z cov hm hqm hk hcov h0 h1
    have z0 : z = 0 := by
      apply Classical.byContradiction
      intro y
      have := h1 y
      omega
    subst z0
    refine ⟨-1, fun post N hN hp => hxn post N 0 k hN hp, fun post hp => ?_⟩
    exact br_t (nI_le (by omega) (by omega)) hp
  | succ d ih =>
    intro m k z cov hm hqm hk hcov h0 h1
    have hmc : m < c := by omega
    obtain ⟨_, _, am, _, _, _, _, am1, am2⟩ := hA m hmc
    obtain ⟨_, _, _, _, aq, _, _, _, aq2⟩ := hA q hq
    have hvm : vp_in (nI m) 24 := vp_in_nI (by omega) (by omega)
    have hvq : vp_in (nI q) 24 := vp_in_nI (by omega) (by omega)
    have em : fr' (nI m).toNatClampNeg = nI (F m) := by rw [nI_clamp (by omega)]; exact am
    have eq : to' (nI q).toNatClampNeg = nI (T q) := by rw [nI_clamp (by omega)]; exact aq
    by_cases hT : F m < T q
    · by_cases hV : F m < cov
      · have zm : z ≠ 0 → m < z := by
          intro y
          have := h1 y
          apply Classical.byContradiction
          intro y2
          have e : m = z := by omega
          subst e
          omega
        obtain ⟨r, hX, hY⟩ := ih (m + 1) k z cov (by omega) (by omega) hk hcov (fun y m' m1 m2 => h0 y m' (by omega) m2) (fun y => by
          have y1 := h1 y
          have y2 := zm y
          exact ⟨by omega, y1.2.1, y1.2.2.1, y1.2.2.2.1, y1.2.2.2.2.1, fun m' m1 m2 => y1.2.2.2.2.2 m' (by omega) m2⟩)
        refine ⟨r, fun post N hN hp => hX post N (by omega) hp, fun post hp => ?_⟩
        refine br_f (nI_ge (by omega) (by omega)) ⟨hvm, hvq, ?_⟩
        rw [em, eq]
        refine br_t (nI_lt hT (by omega)) ⟨hvm, br_t (nI_lt hV (by omega)) (nm_r (nI_1 m) (hY post hp))⟩
      · have zn : z ≠ 0 := by
          intro y
          exact h0 y m (by omega) hmc (by omega) hT
        obtain ⟨y1, y2, y3, y4, y5, y6⟩ := h1 zn
        have zm : z = m := by
          apply Classical.byContradiction
          intro y
          exact hV (y6 m (by omega) (by omega))
        subst zm
        by_cases hk0 : k = 0
        · subst hk0
          refine ⟨nI z, fun post N hN hp => ?_, fun post hp => ?_⟩
          · cases N with
            | zero => omega
            | succ N =>
              rw [sg_o1_p zn]
              refine br_f (nI_pos (by omega)) (br_t (by decide) (br_t (nI_pos' (by omega)) hp))
          · refine br_f (nI_ge (by omega) (by omega)) ⟨hvm, hvq, ?_⟩
            rw [em, eq]
            exact br_t (nI_lt hT (by omega)) ⟨hvm, br_f (nI_nlt (by omega) (by omega)) (br_t rfl hp)⟩
        · obtain ⟨_, _, _, az, az', _, azn, _, _⟩ := hA z hmc
          obtain ⟨r, hX, hY⟩ := ih (z + 1) (k - 1) (nx z) (T z) (by omega) (by omega) (by omega) am2 (fun e m' m1 m2 m3 m4 => by
            have := hC.2.2.2.1 z hmc (by omega) e m' (by omega) m2 (by rw [y3]; exact m4)
            omega) (fun e => by
            obtain ⟨w1, w2, w3, w4, w5, w6⟩ := hC.2.2.2.2 z hmc e
            rw [y3] at w3 w5
            exact ⟨by omega, w2, w3, by omega, w5, fun m' m1 m2 => w6 m' (by omega) m2⟩)
          obtain ⟨k', rfl⟩ : ∃ k', k = k' + 1 := ⟨k - 1, by omega⟩
          rw [Nat.add_sub_cancel] at hX hY
          refine ⟨r, fun post N hN hp => ?_, fun post hp => ?_⟩
          · cases N with
            | zero => omega
            | succ N =>
              rw [sg_o1_p zn]
              refine br_f (nI_pos (by omega)) (br_f (nI_nle (by omega) hk) ⟨hvm, nm_r (e' := sg_o1 (nx z)) (by rw [nI_clamp (by omega)]; exact azn) (nm_r (nI_pred k') (hX post N (by omega) hp))⟩)
          · refine br_f (nI_ge (by omega) (by omega)) ⟨hvm, hvq, ?_⟩
            rw [em, eq]
            refine br_t (nI_lt hT (by omega)) ⟨hvm, br_f (nI_nlt (by omega) (by omega)) (br_f (nI_ne0 (by omega) hk) (nm_r (pk_m1 k') ⟨hvm, nm_r (e' := nI (T z)) (by rw [nI_clamp (by omega)]; exact az') (nm_r (nI_1 z) (hY post hp))⟩))⟩
    · have z0 : z = 0 := by
        apply Classical.byContradiction
        intro y
        obtain ⟨y1, y2, y3, y4, y5, y6⟩ := h1 y
        by_cases e : m = z
        · subst e; exact hT y5
        · have := hC.1 m z (by omega) y2
          omega
      subst z0
      refine ⟨-1, fun post N hN hp => hxn post N (d + 1) k hN hp, fun post hp => ?_⟩
      refine br_f (nI_ge (by omega) (by omega)) ⟨hvm, hvq, ?_⟩
      rw [em, eq]
      exact br_f (nI_nlt (by omega) (by omega)) hp
end
end
section
def i_Rel (k : Nat) (u : SX) (v : SY) : Prop := ∃ (n c : Nat) (mk : Int64) (b kd fs nt fr to ls st : Nat → Int32) (t : Nat → Int64) (kd' fr' to' : Nat → Int32), u = (nI n, nI c, b, kd, fs, nt, fr, to, ls, st) ∧ v = (mk, nI n, nI c, b, t, kd', fr', to') ∧ n ≤ 24 ∧ c ≤ 24 ∧ sg_Tr c kd fs nt fr to kd' fr' to'
theorem sg_Tr0 {kd fs nt fr to kd' fr' to' : Nat → Int32} : sg_Tr 0 kd fs nt fr to kd' fr' to' := ⟨fun _ => 0, fun _ => 0, fun _ => 0, fun _ => 0, fun _ => 0, ⟨fun _ _ _ h => absurd h (by omega), fun _ h => absurd h (by omega), fun _ h => absurd h (by omega), fun _ h => absurd h (by omega), fun _ h => absurd h (by omega)⟩, fun _ h => absurd h (by omega)⟩
theorem i_up {k : Nat} {u : SX} {v : SY} (h : i_Rel k u v) : i_Rel (k + 3) u v := h
theorem i_vc0 : wpX_init (fun u => wpY_init (fun v => i_Rel 0 u v)) := by
  unfold wpX_init wpY_init
  exact ⟨0, 0, 0, _, _, _, _, _, _, _, _, _, _, _, _, rfl, rfl, by omega, by omega, sg_Tr0⟩
theorem i_vc_put {k : Nat} {u : SX} {v : SY} (I : i_Rel k u v) (hk : k + 3 ≤ 1536) (v1 : Int32) : wpX_put (fun r u' => wpY_put (fun r' v' => r' = r ∧ i_Rel (k + 3) u' v') v v1) u v1 := by
  obtain ⟨n, c, mk, b, kd, fs, nt, fr, to, ls, st, t, kd', fr', to', rfl, rfl, hn, hc, hT⟩ := I
  unfold wpX_put wpY_put
  dsimp only
  by_cases e : n < 24
  · have hl : nI n < 24 := nI_lt (b := 24) e (by omega)
    have hv : vp_in (nI n) 24 := vp_in_nI e (by omega)
    refine br_t hl ⟨hv, fun b1 e1 x e2 => br_t hl ?_⟩
    intro x' e3
    refine ⟨hv, fun b2 e4 => ?_⟩
    rw [nI_1] at e2 e3
    rw [← e1] at e4
    subst e2 e3 e4
    exact ⟨rfl, n + 1, c, mk, _, kd, fs, nt, fr, to, ls, st, t, kd', fr', to', rfl, rfl, by omega, hc, hT⟩
  · have hl : ¬ nI n < 24 := nI_nlt (b := 24) (by omega) (by omega)
    refine br_f hl (br_f hl ⟨rfl, n, c, mk, b, kd, fs, nt, fr, to, ls, st, t, kd', fr', to', rfl, rfl, hn, hc, hT⟩)
theorem i_vc_clear {k : Nat} {u : SX} {v : SY} (I : i_Rel k u v) (hk : k + 3 ≤ 1536) : wpX_clear (fun r u' => wpY_clear (fun r' v' => r' = r ∧ i_Rel (k + 3) u' v') v) u := by
  obtain ⟨n, c, mk, b, kd, fs, nt, fr, to, ls, st, t, kd', fr', to', rfl, rfl, hn, hc, hT⟩ := I
  unfold wpX_clear wpY_clear
  dsimp only
  exact ⟨rfl, 0, 0, mk, b, kd, fs, nt, fr, to, ls, st, t, kd', fr', to', rfl, rfl, by omega, by omega, sg_Tr0⟩
theorem i_fin {b : Nat → Int32} {n c : Nat} {F S fi nx la pa : Nat → Nat} {kd fs nt fr to ls kd' fr' to' : Nat → Int32} {c' : Nat} (hn : n ≤ 24) (Z : sg_Z (sg_g b n) n n 0 c F S fi nx la pa) (R : sg_Rp (sg_g b n) n c 0 F S fi nx la kd fs nt fr to ls) (H : yNd (sg_g b n) n n c' kd' fr' to') : c' = c ∧ c ≤ 24 ∧ sg_Tr c kd fs nt fr to kd' fr' to' := by
  obtain ⟨F', hE', hA⟩ := H
  obtain ⟨hB, _, hC, hD, _⟩ := Z
  obtain ⟨ec, eF⟩ := sg_En_uniq hB.2.1 hE'
  have hle := sg_En_le hB.2.1
  have hop : ∀ m, ¬ sg_Op 0 S m := fun m ⟨j, hj, _⟩ => absurd hj (by omega)
  have hbl : ∀ m k, sg_bl (sg_g b n) n 0 F S m k ↔ F m < sg_E (sg_g b n) n (F k) := fun m k => ⟨fun h => h.resolve_left (hop k), Or.inr⟩
  obtain ⟨r1, r2, r3, r4, r5, r6⟩ := R
  refine ⟨ec.symm, by omega, F, fun m => sg_E (sg_g b n) n (F m), fi, nx, pa, ⟨hB.2.1.2.1, ?_, ?_, ?_, ?_⟩, ?_⟩
  · intro k hk hz m h1 h2
    have := hC.1 k hk hz m h1 h2
    rw [hbl] at this
    exact this
  · intro k hk hz
    have := hC.2 k hk hz
    rw [hbl] at this
    exact this
  · intro k hk k0 hz m h1 h2 h3
    have := hD.1 k hk k0 hz m h1 h2
    rw [hbl, hbl] at this
    exact this h3
  · intro k hk hz
    obtain ⟨a1, a2, a3, a4, a5, a6⟩ := hD.2 k hk hz
    rw [hbl] at a4 a5
    exact ⟨a1, a2, a3, a4, a5, fun m m1 m2 => (hbl m k).mp (a6 m m1 m2)⟩
  · intro m hm
    obtain ⟨q1, q2, q3⟩ := hA m (by omega)
    have h1 := (hB.2.1.1 m hm).1
    have h2 := hB.2.2.2.2 m hm (hop m)
    rw [← eF m hm] at q1 q2 q3
    exact ⟨by rw [q1, r1 m hm], r4 m hm, q2, r5 m hm (hop m), q3, r2 m hm, r3 m hm, by omega, by dsimp only; omega⟩
theorem i_vc_parseField {k : Nat} {u : SX} {v : SY} (I : i_Rel k u v) (hk : k + 3 ≤ 1536) : wpX_parseField (fun r u' => wpY_parseField (fun r' v' => r' = r ∧ i_Rel (k + 3) u' v') v) u := by
  obtain ⟨n, c, mk, b, kd, fs, nt, fr, to, ls, st, t, kd', fr', to', rfl, rfl, hn, hc, hT⟩ := I
  have hg := sg_g_end b n
  have hb : ∀ i, i < n → b i = sg_g b n i := fun i h => sg_g_lt h
  refine x_parse hn hg hb (fun hB => ?_) (fun hB hF kd fs nt fr to ls st => ?_) (fun hB c x5 kd fs nt fr to ls st hX => ?_)
  · refine y_parse hn hg hb (fun _ => ?_) (fun h => absurd hB h) (fun h => absurd hB h) (fun h => absurd hB h)
    exact ⟨rfl, n, 0, mk, b, kd, fs, nt, fr, to, ls, st, t, kd', fr', to', rfl, rfl, hn, by omega, sg_Tr0⟩
  · refine y_parse hn hg hb (fun h => absurd h hB) (fun _ _ t' => ?_) (fun _ h => absurd h hF) (fun _ h => absurd h hF)
    exact ⟨rfl, n, 0, mk, b, kd, fs, nt, fr, to, ls, st, t', kd', fr', to', rfl, rfl, hn, by omega, sg_Tr0⟩
  · obtain ⟨hacc, F, S, fi, nx, la, pa, Z, R, hbar⟩ := hX
    have hE : ∀ q, q < n → sg_N (sg_g b n) n q → sg_E (sg_g b n) n q ≠ 0 := by
      intro q hq hN
      obtain ⟨m, hm, e⟩ := Z.1.2.1.2.2 q hq hN
      have := Z.1.2.2.2.2 m hm (fun ⟨j, hj, _⟩ => absurd hj (by omega))
      rw [e] at this
      omega
    refine ⟨fun e5 => ?_, fun e5 => ?_⟩
    · refine y_parse hn hg hb (fun h => absurd h hB) (fun _ h => absurd hacc h) (fun _ _ => hE) (fun _ _ t' x1 mk' c' kd2 fr2 to2 hY => ⟨fun e1 => ?_, fun e1 => ?_⟩)
      · obtain ⟨ec, hc2, hTr⟩ := i_fin hn Z R hY.2.1
        subst ec
        exact ⟨rfl, n, c', mk', b, kd, fs, nt, fr, to, ls, st, t', kd2, fr2, to2, rfl, rfl, hn, hc2, hTr⟩
      · exact absurd e5 (hbar.mpr ((yBar_n hg).mp (hY.2.2.mp e1)))
    · refine y_parse hn hg hb (fun h => absurd h hB) (fun _ h => absurd hacc h) (fun _ _ => hE) (fun _ _ t' x1 mk' c' kd2 fr2 to2 hY => ⟨fun e1 => ?_, fun e1 => ?_⟩)
      · exact absurd e1 (hY.2.2.mpr ((yBar_n hg).mpr (hbar.mp e5)))
      · exact ⟨rfl, n, 0, mk', b, kd, fs, nt, fr, to, ls, st, t', kd2, fr2, to2, rfl, rfl, hn, by omega, sg_Tr0⟩
theorem i_vc_kindOf {k : Nat} {u : SX} {v : SY} (I : i_Rel k u v) (hk : k + 3 ≤ 1536) (v1 : Int32) : wpX_kindOf (fun r => wpY_kindOf (fun r' => r' = r ∧ i_Rel (k + 3) u v) v v1) u v1 := by
  have I' := I
  obtain ⟨n, c, mk, b, kd, fs, nt, fr, to, ls, st, t, kd', fr', to', rfl, rfl, hn, hc, hT⟩ := I
  unfold wpX_kindOf wpY_kindOf
  dsimp only
  by_cases h0 : v1 < 0
  · exact br_t h0 (br_t h0 ⟨rfl, I'⟩)
  · obtain ⟨j, hj, rfl⟩ := nI_of h0
    refine br_f h0 ?_
    by_cases e : j < c
    · have hl : nI j < nI c := nI_lt e (by omega)
      have hv : vp_in (nI j) 24 := vp_in_nI (by omega) (by omega)
      refine br_t hl ⟨hv, br_f h0 (br_t hl ⟨hv, ?_, I'⟩)⟩
      obtain ⟨F, T, fi, nx, pa, _, hA⟩ := hT
      rw [nI_clamp hj]
      exact (hA j e).1
    · have hl : ¬ nI j < nI c := nI_nlt (by omega) (by omega)
      exact br_f hl (br_f h0 (br_f hl ⟨rfl, I'⟩))
theorem i_vc_childOf {k : Nat} {u : SX} {v : SY} (I : i_Rel k u v) (hk : k + 3 ≤ 1536) (v1 : Int32) (v2 : Int32) : wpX_childOf (fun r => wpY_childOf (fun r' => r' = r ∧ i_Rel (k + 3) u v) v v1 v2) u v1 v2 := by
  have I' := I
  obtain ⟨n, c, mk, b, kd, fs, nt, fr, to, ls, st, t, kd', fr', to', rfl, rfl, hn, hc, hT⟩ := I
  unfold wpX_childOf wpY_childOf
  dsimp only
  by_cases h0 : v1 < 0
  · exact br_t h0 (br_t h0 ⟨rfl, I'⟩)
  · obtain ⟨q, hq, rfl⟩ := nI_of h0
    refine br_f h0 ?_
    by_cases e : q < c
    · have hl : ¬ nI c ≤ nI q := nI_ge e (by omega)
      have hv : vp_in (nI q) 24 := vp_in_nI (by omega) (by omega)
      refine br_f hl ?_
      by_cases h2 : 0 ≤ v2
      · obtain ⟨j, hj, rfl⟩ := nI_of (x := v2) (Int32.not_lt.mpr h2)
        obtain ⟨F, T, fi, nx, pa, hC, hA⟩ := hT
        obtain ⟨r, hX, hY⟩ := c_main (mk := mk) (ln := nI n) (b := b) (ls := ls) (st := st) (s := b) (t := t) hc hC hA e (c - (q + 1)) (q + 1) j (fi q) 0 (by omega) (by omega) hj (by omega) (fun z m' m1 m2 _ => hC.2.1 q e z m' (by omega) m2) (fun z => by
          obtain ⟨w1, w2, w3, w4⟩ := hC.2.2.1 q e z
          rw [w1]
          exact ⟨by omega, w2, w3, by omega, w4, fun m' m1 m2 => by omega⟩)
        refine br_t h2 ⟨hv, nm_r (e' := sg_o1 (fi q)) (by rw [nI_clamp hq]; exact (hA q e).2.2.2.2.2.1) ⟨c - (q + 1) + 1, hX _ _ (by omega) ?_⟩⟩
        refine br_f h0 (br_f hl (br_t h2 (nm_r (nI_1 q) ⟨_, hY _ ⟨rfl, I'⟩⟩)))
      · exact br_f h2 (br_f h0 (br_f hl (br_f h2 ⟨rfl, I'⟩)))
    · have hl : nI c ≤ nI q := nI_le (by omega) (by omega)
      exact br_t hl (br_f h0 (br_t hl ⟨rfl, I'⟩))
theorem i_vc_spanOf {k : Nat} {u : SX} {v : SY} (I : i_Rel k u v) (hk : k + 3 ≤ 1536) (v1 : Int32) : wpX_spanOf (fun r => wpY_spanOf (fun r' => r' = r ∧ i_Rel (k + 3) u v) v v1) u v1 := by
  have I' := I
  obtain ⟨n, c, mk, b, kd, fs, nt, fr, to, ls, st, t, kd', fr', to', rfl, rfl, hn, hc, hT⟩ := I
  unfold wpX_spanOf wpY_spanOf
  dsimp only
  by_cases h0 : v1 < 0
  · exact br_t h0 (br_t h0 ⟨rfl, I'⟩)
  · obtain ⟨j, hj, rfl⟩ := nI_of h0
    refine br_f h0 ?_
    by_cases e : j < c
    · have hl : nI j < nI c := nI_lt e (by omega)
      have hv : vp_in (nI j) 24 := vp_in_nI (by omega) (by omega)
      refine br_t hl ⟨hv, hv, br_f h0 (br_t hl ⟨hv, hv, ?_, I'⟩)⟩
      obtain ⟨F, T, fi, nx, pa, _, hA⟩ := hT
      obtain ⟨_, a1, a2, a3, a4, _⟩ := hA j e
      rw [nI_clamp hj, a1, a2, a3, a4]
    · have hl : ¬ nI j < nI c := nI_nlt (by omega) (by omega)
      exact br_f hl (br_f h0 (br_f hl ⟨rfl, I'⟩))
end
