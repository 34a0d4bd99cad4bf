section
/-! small numbers and bits -/
theorem zb_and (a b : Nat) : nI a &&& nI b = nI (a &&& b) := by
  apply Int32.toBitVec_inj.1
  show BitVec.ofNat 32 a &&& BitVec.ofNat 32 b = BitVec.ofNat 32 (a &&& b)
  apply BitVec.eq_of_getLsbD_eq
  intro i hi
  simp [hi]
theorem zb_or (a b : Nat) : nI a ||| nI b = nI (a ||| b) := by
  apply Int32.toBitVec_inj.1
  show BitVec.ofNat 32 a ||| BitVec.ofNat 32 b = BitVec.ofNat 32 (a ||| b)
  apply BitVec.eq_of_getLsbD_eq
  intro i hi
  simp [hi]
theorem zb_m1 : (-1 : Int32).toBitVec = BitVec.allOnes 32 := by decide
theorem zb_not (a b : Nat) : nI a &&& (nI b ^^^ (-1)) = nI (a ^^^ (a &&& b)) := by
  apply Int32.toBitVec_inj.1
  rw [Int32.toBitVec_and, Int32.toBitVec_xor, zb_m1]
  show BitVec.ofNat 32 a &&& (BitVec.ofNat 32 b ^^^ BitVec.allOnes 32) = BitVec.ofNat 32 (a ^^^ (a &&& b))
  apply BitVec.eq_of_getLsbD_eq
  intro i hi
  simp only [BitVec.getLsbD_and, BitVec.getLsbD_xor, BitVec.getLsbD_ofNat, BitVec.getLsbD_allOnes, Nat.testBit_xor, Nat.testBit_and]
  cases a.testBit i <;> cases b.testBit i <;> simp [hi]
theorem zb_sl : ∀ n, n < 32 → ((nI n &&& 31).toBitVec.smod 32).toNat = n := by decide +kernel
theorem zb_1 : ∀ c, c < 31 → (1 : Int32) <<< (nI c &&& 31) = nI (2 ^ c) := by decide +kernel
theorem zb_bit {s c : Nat} (hs : s < 2 ^ 31) (hc : c < 31) : ((nI s >>> (nI c &&& 31)) &&& 1) = nI (s / 2 ^ c % 2) := by
  rw [pk_shrN hs (nI c &&& 31) c (zb_sl c (by omega))]
  have hd : s / 2 ^ c ≤ s := Nat.div_le_self _ _
  exact pk_andN (n := s / 2 ^ c) (by omega) 1 (by decide)
theorem zb_tb (s c : Nat) : s.testBit c = decide (s / 2 ^ c % 2 = 1) := Nat.testBit_eq_decide_div_mod_eq
theorem zb_tf {s c : Nat} (h : s / 2 ^ c % 2 = 0) : s.testBit c = false := by
  rw [zb_tb]; exact decide_eq_false (by omega)
theorem zb_tt {s c : Nat} (h : s / 2 ^ c % 2 ≠ 0) : s.testBit c = true := by
  rw [zb_tb]; exact decide_eq_true (by omega)
theorem zb_nf {x : Bool} (h : ¬ x = true) : x = false := by cases x <;> simp_all
theorem zb_ft {x : Bool} (h : x = false) : ¬ x = true := by rw [h]; decide
/-- a branch on a bit -/
theorem zb_if {A D : Prop} {s c : Nat} {x y : Int32} (hx : x = nI s) (hy : y = nI c) (hs : s < 2 ^ 31) (hc : c < 31) (h0 : s.testBit c = false → A) (h1 : s.testBit c = true → D) : (((x >>> (y &&& 31)) &&& 1) = 0 → A) ∧ (¬ ((x >>> (y &&& 31)) &&& 1) = 0 → D) := by
  subst hx hy
  rw [zb_bit hs hc]
  have hlt : s / 2 ^ c % 2 < 2 := Nat.mod_lt _ (by omega)
  exact pk_eq (s / 2 ^ c % 2) 0 (fun z => h0 (zb_tf z)) (fun z => h1 (zb_tt z))
theorem zb_31 : ∀ a, a < 32 → ∀ b, b < 32 → (a ||| b = 31 ↔ ∀ c, c < 5 → (a.testBit c = true ∨ b.testBit c = true)) := by decide +kernel
theorem zb_sub : ∀ a, a < 32 → ∀ b, b < 32 → (a ^^^ (a &&& b) = 0 ↔ ∀ c, c < 5 → a.testBit c = true → b.testBit c = true) := by decide +kernel
theorem zb_ext : ∀ a, a < 32 → ∀ b, b < 32 → (∀ c, c < 5 → (a.testBit c = true ↔ b.testBit c = true)) → a = b := by decide +kernel
theorem zb_two : ∀ c, c < 11 → ∀ d, d < 11 → ((2 ^ c).testBit d = true ↔ d = c) := by decide +kernel
theorem zb_pos : ∀ s, s < 32 → 1 ≤ s → ∃ c, c < 5 ∧ s.testBit c = true := by decide +kernel
theorem zb_ge {s c : Nat} (h : s.testBit c = true) : 1 ≤ s := by
  rcases Nat.eq_zero_or_pos s with e | e
  · rw [e, Nat.zero_testBit] at h; exact absurd h (by decide)
  · exact e
theorem zb_orlt {s c : Nat} (hs : s < 32) (hc : c < 5) : s ||| 2 ^ c < 32 :=
  Nat.or_lt_two_pow (n := 5) hs (Nat.pow_lt_pow_right (by omega) hc)
theorem zb_olt {a b : Nat} (ha : a < 32) (hb : b < 32) : a ||| b < 32 := Nat.or_lt_two_pow (n := 5) ha hb
theorem zb_dlt {a b : Nat} (ha : a < 32) : a ^^^ (a &&& b) < 32 :=
  Nat.xor_lt_two_pow (n := 5) ha (Nat.lt_of_le_of_lt Nat.and_le_left ha)
theorem zb_dbit (a b i : Nat) : (a ^^^ (a &&& b)).testBit i = (a.testBit i && !b.testBit i) := by
  rw [Nat.testBit_xor, Nat.testBit_and]
  cases a.testBit i <;> cases b.testBit i <;> rfl
/-- the set s and the bit of c -/
theorem zb_set {s c : Nat} {x y : Int32} (hx : x = nI s) (hy : y = nI c) (hc : c < 31) : x ||| ((1 : Int32) <<< (y &&& 31)) = nI (s ||| 2 ^ c) := by
  rw [hx, hy, zb_1 c hc, zb_or]
theorem zb_obit {s c d : Nat} (hc : c < 11) (hd : d < 11) : ((s ||| 2 ^ c).testBit d = true ↔ s.testBit d = true ∨ d = c) := by
  rw [Nat.testBit_or, Bool.or_eq_true, zb_two c hc d hd]
theorem zb_i8 : ∀ n, n < 128 → (nI n).toInt8.toInt32 = nI n := by decide +kernel
theorem zb_i16 : ∀ n, n < 4096 → (nI n).toInt16.toInt32 = nI n := by decide +kernel
theorem zb_bo : ∀ n, n < 2 → vp_nar .boolean (nI n) = nI n := by decide +kernel
theorem zb_by {n : Nat} (h : n < 128) : vp_nar .byte (nI n) = nI n := by rw [vp_nar_byte, zb_i8 n h]
theorem zb_ix (a b : Nat) : (5 : Int32) * nI a + nI b = nI (5 * a + b) := by
  show nI 5 * nI a + nI b = _
  rw [pk_mul, nI_add]
theorem zb_rd {a : Nat → Int32} {x : Int32} {n : Nat} (hx : x = nI n) (hn : n < 2 ^ 31) : a x.toNatClampNeg = a n := by
  rw [hx, nI_clamp hn]
theorem zb_up {a : Nat → Int32} {k x v : Int32} {n : Nat} (hk : k = nI n) (hn : n < 2 ^ 31) (hx : x = v) : upd a k.toNatClampNeg x = upd a n v := by
  rw [hk, nI_clamp hn, hx]
theorem zb_ieq {a b c d : Nat} (hb : b < 5) (hd : d < 5) (h : 5 * a + b = 5 * c + d) : a = c ∧ b = d := by omega
/-- margins as differences of two small numbers -/
theorem zg_i8 : ∀ p, p < 11 → ∀ q, q < 11 → (nI p - nI q).toInt8.toInt32 = nI p - nI q := by decide +kernel
theorem zg_le0 : ∀ p, p < 11 → ∀ q, q < 11 → (nI p - nI q ≤ 0 ↔ p ≤ q) := by decide +kernel
theorem zg_eq0 : ∀ p, p < 11 → ∀ q, q < 11 → (nI p - nI q = 0 ↔ p = q) := by decide +kernel
theorem zg_neg : ∀ p, p < 11 → ∀ q, q < 11 → nI p - nI q = -(nI q - nI p) := by decide +kernel
theorem zg_eqm : ∀ p, p < 11 → ∀ q, q < 11 → ∀ m, m < 11 → (nI p - nI q = nI m ↔ p = q + m) := by decide +kernel
theorem zg_by : ∀ p, p < 11 → ∀ q, q < 11 → q < p → vp_nar .byte (nI p - nI q) = nI (p - q) := by
  intro p hp q hq h
  rw [vp_nar_byte, zg_i8 p hp q hq, pk_sub (by omega)]
theorem zg_lack : ∀ p, p < 11 → ∀ q, q < 11 → p ≤ q → (((-(nI p - nI q)) / 2) + 1).toInt8.toInt32 = nI ((q - p) / 2 + 1) := by decide +kernel
theorem zg_toInt {p q : Nat} (hp : p < 11) (hq : q < 11) : (nI p - nI q).toInt = (p : Int) - q := pk_sub_toInt (by omega) (by omega)
/-- the number of ones, of ten bits -/
def zo (n : Nat) : Nat := n % 2 + n / 2 % 2 + n / 4 % 2 + n / 8 % 2 + n / 16 % 2 + n / 32 % 2 + n / 64 % 2 + n / 128 % 2 + n / 256 % 2 + n / 512 % 2
theorem zo_step : ∀ n, n < 1024 → n ≠ 0 → zo (n &&& (n - 1)) + 1 = zo n ∧ n &&& (n - 1) < n := by decide +kernel
theorem zo_0 : zo 0 = 0 := by decide
theorem zo_le (n : Nat) : zo n ≤ 10 := by unfold zo; omega
theorem zo_cnt : ∀ C, C < 10 → ∀ x, x < 512 → x < 2 ^ C → zo x + zo ((2 ^ C - 1) ^^^ x) = C := by decide +kernel
theorem zo_lt : ∀ C, C < 10 → ∀ x, x < 512 → x < 2 ^ C → zo x ≤ C ∧ (zo x = C → x = 2 ^ C - 1) := by decide +kernel
theorem zo_all : ∀ C, C < 10 → zo (2 ^ C - 1) = C := by decide +kernel
theorem zo_5 : ∀ s, s < 32 → zo s ≤ 5 := by decide +kernel
theorem zo_pow : ∀ c, c < 10 → zo (2 ^ c) = 1 := by decide +kernel
theorem zo_one : ∀ s, s < 32 → 1 ≤ s → zo s ≤ 1 → ∃ c, c < 5 ∧ s = 2 ^ c := by decide +kernel
theorem zo_add : ∀ s, s < 32 → ∀ c, c < 5 → s.testBit c = false → zo (s ||| 2 ^ c) = zo s + 1 := by decide +kernel
theorem zo_miss : ∀ x, x < 32 → ∀ s, s < 32 → ∀ c, c < 5 → s.testBit c = true → x.testBit c = false → zo (x &&& s) < zo s := by decide +kernel
/-- all but one: then each other member is in x -/
theorem zo_front0 : ∀ x, x < 32 → ∀ s, s < 32 → ∀ c, c < 5 → (s.testBit c = true ∧ x.testBit c = false ∧ zo (x &&& s) + 1 = zo s) → s ^^^ (s &&& (x ||| 2 ^ c)) = 0 := by decide +kernel
theorem zo_front (x : Nat) (hx : x < 32) (s : Nat) (hs : s < 32) (c : Nat) (hc : c < 5) (h1 : s.testBit c = true) (h2 : x.testBit c = false) (h3 : zo (x &&& s) + 1 = zo s) (d : Nat) (hd : d < 5) (h4 : s.testBit d = true) (h5 : d ≠ c) : x.testBit d = true := by
  have e := (zb_sub s hs (x ||| 2 ^ c) (zb_orlt hx hc)).mp (zo_front0 x hx s hs c hc ⟨h1, h2, h3⟩) d hd h4
  exact ((zb_obit (by omega) (by omega)).mp e).elim id (fun z => absurd z h5)
theorem zo_at : zo 1 = 1 := by decide
end
section
/-! the pure picture: masks of ballots P a b, beaten sets B a -/
/-- a beats b -/
def zc_bt (P : Nat → Nat → Nat) (a b : Nat) : Prop := zo (P b a) < zo (P a b)
def zk_P (C : Nat) (P : Nat → Nat → Nat) : Prop := ∀ a b, a < 5 → b < 5 → P a b < 2 ^ C ∧ (a = b → P a b = 0) ∧ (a ≠ b → P b a = (2 ^ C - 1) ^^^ P a b)
def zk_B (P : Nat → Nat → Nat) (B : Nat → Nat) : Prop := ∀ a, a < 5 → B a < 32 ∧ ∀ b, b < 5 → ((B a).testBit b = true ↔ zc_bt P a b)
def zk_A (B : Nat → Nat) : Prop := (∀ a, a < 5 → B a < 32) ∧ ∀ a b, a < 5 → b < 5 → (B a).testBit b = true → (B b).testBit a = true → False
theorem zk_BA {P : Nat → Nat → Nat} {B : Nat → Nat} (h : zk_B P B) : zk_A B := by
  refine ⟨fun a ha => (h a ha).1, fun a b ha hb h1 h2 => ?_⟩
  have e1 : zo (P b a) < zo (P a b) := ((h a ha).2 b hb).mp h1
  have e2 : zo (P a b) < zo (P b a) := ((h b hb).2 a ha).mp h2
  omega
/-- the two counts of a couple make C -/
theorem zk_sum {C : Nat} {P : Nat → Nat → Nat} (hC : C ≤ 9) (h : zk_P C P) {a b : Nat} (ha : a < 5) (hb : b < 5) (hab : a ≠ b) : zo (P a b) + zo (P b a) = C := by
  obtain ⟨h1, _, h3⟩ := h a b ha hb
  rw [h3 hab]
  have h9 : (2 : Nat) ^ C ≤ 2 ^ 9 := Nat.pow_le_pow_right (by omega) hC
  exact zo_cnt C (by omega) _ (by omega) h1
theorem zk_lt {C : Nat} {P : Nat → Nat → Nat} (hC : C ≤ 9) (h : zk_P C P) {a b : Nat} (ha : a < 5) (hb : b < 5) : P a b < 512 := by
  have h9 : (2 : Nat) ^ C ≤ 2 ^ 9 := Nat.pow_le_pow_right (by omega) hC
  have := (h a b ha hb).1
  omega
theorem zk_w {C : Nat} {P : Nat → Nat → Nat} (hC : C ≤ 9) (h : zk_P C P) {a b : Nat} (ha : a < 5) (hb : b < 5) : zo (P a b) ≤ 9 := by
  by_cases e : a = b
  · rw [(h a b ha hb).2.1 e, zo_0]; omega
  · have := zk_sum hC h ha hb e; omega
/-- the leader; a set that beats all outside; a set within each of those -/
def zl_L (B : Nat → Nat) (c : Nat) : Prop := c < 5 ∧ ∀ b, b < 5 → b ≠ c → (B c).testBit b = true
def zl_D (B : Nat → Nat) (S : Nat) : Prop := S < 32 ∧ 1 ≤ S ∧ ∀ c, c < 5 → S.testBit c = true → B c ||| S = 31
def zl_in (B : Nat → Nat) (s : Nat) : Prop := 1 ≤ s ∧ s < 32 ∧ ∀ S, zl_D B S → ∀ c, c < 5 → s.testBit c = true → S.testBit c = true
theorem zl_2lt {c : Nat} (hc : c < 5) : 2 ^ c < 32 := Nat.pow_lt_pow_right (n := 5) (by omega) hc
theorem zl_31 {B : Nat → Nat} (hA : zk_A B) {c : Nat} (hc : c < 5) : B c ||| 2 ^ c = 31 ↔ zl_L B c := by
  rw [zb_31 (B c) (hA.1 c hc) (2 ^ c) (zl_2lt hc)]
  constructor
  · intro h
    refine ⟨hc, fun b hb hne => ?_⟩
    rcases h b hb with e | e
    · exact e
    · exact absurd ((zb_two c (by omega) b (by omega)).mp e) hne
  · intro h b hb
    by_cases e : b = c
    · exact Or.inr ((zb_two c (by omega) b (by omega)).mpr e)
    · exact Or.inl (h.2 b hb e)
theorem zl_Ld {B : Nat → Nat} (hA : zk_A B) {c : Nat} (h : zl_L B c) : zl_D B (2 ^ c) := by
  refine ⟨zl_2lt h.1, Nat.two_pow_pos _, fun d hd e => ?_⟩
  rw [(zb_two c (by have := h.1; omega) d (by omega)).mp e]
  exact (zl_31 hA h.1).mpr h
theorem zl_one {B : Nat → Nat} (hA : zk_A B) {c d : Nat} (hc : zl_L B c) (hd : zl_L B d) : c = d := by
  by_cases e : c = d
  · exact e
  · exact absurd (hd.2 c hc.1 e) (fun z => hA.2 d c hd.1 hc.1 z (hc.2 d hd.1 (fun q => e q.symm)))
theorem zl_s1 : ∀ s, s < 32 → ∀ c, c < 5 → 1 ≤ s → (∀ d, d < 5 → s.testBit d = true → d = c) → s = 2 ^ c := by decide +kernel
theorem zl_inL {B : Nat → Nat} (hA : zk_A B) {s c : Nat} (hs : zl_in B s) (hc : zl_L B c) : s = 2 ^ c :=
  zl_s1 s hs.2.1 c hc.1 hs.1 (fun d hd e => (zb_two c (by have := hc.1; omega) d (by omega)).mp (hs.2.2 _ (zl_Ld hA hc) d hd e))
theorem zl_out {B : Nat → Nat} (hA : zk_A B) {S t c : Nat} (hS : zl_D B S) (ht : t < 5) (h1 : S.testBit t = true) (hc : c < 5) (h2 : S.testBit c = false) : (B t).testBit c = true := by
  rcases (zb_31 (B t) (hA.1 t ht) S hS.1).mp (hS.2.2 t ht h1) c hc with e | e
  · exact e
  · rw [h2] at e; exact absurd e (by decide)
/-- a strict order on five has a greatest one, in the sense of none above -/
theorem zp_max (lt : Nat → Nat → Prop) (irr : ∀ a, a < 5 → ¬ lt a a) (tr : ∀ a b c, a < 5 → b < 5 → c < 5 → lt a b → lt b c → lt a c) : ∃ a, a < 5 ∧ ∀ b, b < 5 → ¬ lt b a := by
  have main : ∀ n, n < 5 → ∃ a, a ≤ n ∧ ∀ b, b ≤ n → ¬ lt b a := by
    intro n
    induction n with
    | zero =>
      intro _
      refine ⟨0, Nat.le_refl 0, fun b hb => ?_⟩
      have e : b = 0 := by omega
      subst e
      exact irr 0 (by omega)
    | succ n ih =>
      intro hn
      obtain ⟨a, ha, h⟩ := ih (by omega)
      by_cases e : lt (n + 1) a
      · refine ⟨n + 1, Nat.le_refl _, fun b hb hlt => ?_⟩
        by_cases e2 : b = n + 1
        · subst e2; exact irr _ hn hlt
        · exact h b (by omega) (tr b (n + 1) a (by omega) hn (by omega) hlt e)
      · refine ⟨a, by omega, fun b hb hlt => ?_⟩
        by_cases e2 : b = n + 1
        · subst e2; exact e hlt
        · exact h b (by omega) hlt
  obtain ⟨a, ha, h⟩ := main 4 (by omega)
  exact ⟨a, by omega, fun b hb => h b (by omega)⟩
/-- rule 13 -/
theorem zp_unc {B : Nat → Nat} (hA : zk_A B) {s : Nat} (hs : s < 32) (h : ∀ c, c < 5 → (s.testBit c = true ↔ ∀ b, b < 5 → ¬ ((B b).testBit c = true ∧ B c ^^^ (B c &&& B b) = 0))) : zl_in B s := by
  refine ⟨?_, hs, fun S hS c hc hsc => ?_⟩
  · obtain ⟨a, ha, hm⟩ := zp_max (fun b a => (B b).testBit a = true ∧ B a ^^^ (B a &&& B b) = 0) (fun a ha z => hA.2 a a ha ha z.1 z.1) (fun a b c ha hb hc h1 h2 => by
      have e1 := (zb_sub (B b) (hA.1 b hb) (B a) (hA.1 a ha)).mp h1.2
      have e2 := (zb_sub (B c) (hA.1 c hc) (B b) (hA.1 b hb)).mp h2.2
      exact ⟨e1 c hc h2.1, (zb_sub (B c) (hA.1 c hc) (B a) (hA.1 a ha)).mpr (fun d hd z => e1 d hd (e2 d hd z))⟩)
    exact zb_ge ((h a ha).mpr hm)
  · cases e : S.testBit c with
    | true => rfl
    | false =>
      obtain ⟨t, ht, et⟩ := zb_pos S hS.1 hS.2.1
      refine absurd ⟨zl_out hA hS ht et hc e, ?_⟩ ((h c hc).mp hsc t ht)
      refine (zb_sub (B c) (hA.1 c hc) (B t) (hA.1 t ht)).mpr (fun d hd z => ?_)
      cases e2 : S.testBit d with
      | true => exact absurd (zl_out hA hS hd e2 hc e) (fun q => hA.2 d c hd hc q z)
      | false => exact zl_out hA hS ht et hd e2
/-- closing reaches -/
def zq_cl (r0 r : Nat → Nat) : Prop := (∀ a, a < 5 → r a < 32) ∧ (∀ a b, a < 5 → b < 5 → (r0 a).testBit b = true → (r a).testBit b = true) ∧ (∀ a b c, a < 5 → b < 5 → c < 5 → (r a).testBit b = true → (r b).testBit c = true → (r a).testBit c = true) ∧ (∀ Q : Nat → Nat → Prop, (∀ a b c, a < 5 → b < 5 → c < 5 → Q a b → Q b c → Q a c) → (∀ a b, a < 5 → b < 5 → (r0 a).testBit b = true → Q a b) → ∀ a b, a < 5 → b < 5 → (r a).testBit b = true → Q a b)
def zq_st (r : Nat → Nat) (c : Nat) : Nat → Nat := fun a => if (r a).testBit c = true then r a ||| r c else r a
def zq_it (r : Nat → Nat) : Nat → Nat → Nat
  | 0 => r
  | c + 1 => zq_st (zq_it r c) c
theorem zq_sb (r : Nat → Nat) (c a b : Nat) : (zq_st r c a).testBit b = true ↔ ((r a).testBit b = true ∨ ((r a).testBit c = true ∧ (r c).testBit b = true)) := by
  unfold zq_st
  by_cases e : (r a).testBit c = true
  · rw [if_pos e, Nat.testBit_or, Bool.or_eq_true]
    exact ⟨fun z => z.elim Or.inl (fun q => Or.inr ⟨e, q⟩), fun z => z.elim Or.inl (fun q => Or.inr q.2)⟩
  · rw [if_neg e]
    exact ⟨Or.inl, fun z => z.elim id (fun q => absurd q.1 e)⟩
theorem zq_main {r : Nat → Nat} (h : ∀ a, a < 5 → r a < 32) : ∀ n, n ≤ 5 → (∀ a, a < 5 → zq_it r n a < 32) ∧ (∀ a b, a < 5 → b < 5 → (r a).testBit b = true → (zq_it r n a).testBit b = true) ∧ (∀ k, k < n → ∀ a c, a < 5 → c < 5 → (zq_it r n a).testBit k = true → (zq_it r n k).testBit c = true → (zq_it r n a).testBit c = true) ∧ (∀ Q : Nat → Nat → Prop, (∀ a b c, a < 5 → b < 5 → c < 5 → Q a b → Q b c → Q a c) → (∀ a b, a < 5 → b < 5 → (r a).testBit b = true → Q a b) → ∀ a b, a < 5 → b < 5 → (zq_it r n a).testBit b = true → Q a b) := by
  intro n
  induction n with
  | zero => exact fun _ => ⟨h, fun _ _ _ _ z => z, fun k hk => absurd hk (by omega), fun Q _ h2 => h2⟩
  | succ n ih =>
    intro hn
    obtain ⟨h1, h2, h3, h4⟩ := ih (by omega)
    refine ⟨fun a ha => ?_, fun a b ha hb z => ?_, fun k hk a c ha hc z1 z2 => ?_, fun Q q1 q2 a b ha hb z => ?_⟩
    · show zq_st (zq_it r n) n a < 32
      unfold zq_st
      by_cases e : (zq_it r n a).testBit n = true
      · rw [if_pos e]; exact zb_olt (h1 a ha) (h1 n (by omega))
      · rw [if_neg e]; exact h1 a ha
    · exact (zq_sb (zq_it r n) n a b).mpr (Or.inl (h2 a b ha hb z))
    · have z1' := (zq_sb (zq_it r n) n a k).mp z1
      have z2' := (zq_sb (zq_it r n) n k c).mp z2
      refine (zq_sb (zq_it r n) n a c).mpr ?_
      by_cases e : k = n
      · subst e
        have y1 : (zq_it r k a).testBit k = true := z1'.elim id (fun q => q.1)
        have y2 : (zq_it r k k).testBit c = true := z2'.elim id (fun q => q.2)
        exact Or.inr ⟨y1, y2⟩
      · have kn : k < n := by omega
        rcases z1' with y1 | ⟨y1, y1'⟩
        · rcases z2' with y2 | ⟨y2, y2'⟩
          · exact Or.inl (h3 k kn a c ha hc y1 y2)
          · exact Or.inr ⟨h3 k kn a n ha (by omega) y1 y2, y2'⟩
        · rcases z2' with y2 | ⟨y2, y2'⟩
          · exact Or.inr ⟨y1, h3 k kn n c (by omega) hc y1' y2⟩
          · exact Or.inr ⟨y1, y2'⟩
    · rcases (zq_sb (zq_it r n) n a b).mp z with y | ⟨y, y'⟩
      · exact h4 Q q1 q2 a b ha hb y
      · exact q1 a n b ha (by omega) hb (h4 Q q1 q2 a n ha (by omega) y) (h4 Q q1 q2 n b (by omega) hb y')
theorem zq_it5 {r : Nat → Nat} (h : ∀ a, a < 5 → r a < 32) : zq_cl r (zq_it r 5) := by
  obtain ⟨h1, h2, h3, h4⟩ := zq_main h 5 (Nat.le_refl 5)
  exact ⟨h1, h2, fun a b c ha hb hc z1 z2 => h3 b hb a c ha hc z1 z2, h4⟩
/-- rule 12 -/
theorem zp_unr {B r : Nat → Nat} (hA : zk_A B) (hr : zq_cl B r) {s : Nat} (hs : s < 32) (h : ∀ c, c < 5 → (s.testBit c = true ↔ ∀ b, b < 5 → ((r b).testBit c = true → (r c).testBit b = true))) : 1 ≤ s ∧ ∀ c, zl_L B c → s = 2 ^ c := by
  obtain ⟨_, h2, h3, h4⟩ := hr
  have hpos : 1 ≤ s := by
    obtain ⟨a, ha, hm⟩ := zp_max (fun b a => (r b).testBit a = true ∧ ¬ (r a).testBit b = true) (fun a _ z => z.2 z.1) (fun a b c ha hb hc y1 y2 => ⟨h3 a b c ha hb hc y1.1 y2.1, fun z => y1.2 (h3 b c a hb hc ha y2.1 z)⟩)
    refine zb_ge ((h a ha).mpr (fun b hb z => ?_))
    by_cases e : (r a).testBit b = true
    · exact e
    · exact absurd ⟨z, e⟩ (hm b hb)
  refine ⟨hpos, fun c hc => zl_s1 s hs c hc.1 hpos (fun d hd z => ?_)⟩
  by_cases e : d = c
  · exact e
  · have y := (h d hd).mp z c hc.1 (h2 c d hc.1 hd (hc.2 d hd e))
    exact h4 (fun x y => y = c → x = c) (fun _ _ _ _ _ _ q1 q2 t => q1 (q2 t)) (fun x y hx hy q t => by
      by_cases e2 : x = c
      · exact e2
      · rw [t] at q
        exact absurd (hc.2 x hx e2) (fun w => hA.2 x c hx hc.1 q w)) d c hd hc.1 y rfl
end
section
/-! rule 9: strengths -/
def zs_st (D : Nat → Nat → Nat) (c : Nat) : Nat → Nat → Nat := fun a b => if a ≠ c ∧ b ≠ a ∧ b ≠ c then max (D a b) (min (D a c) (D c b)) else D a b
def zs_it (D : Nat → Nat → Nat) : Nat → Nat → Nat → Nat
  | 0 => D
  | c + 1 => zs_st (zs_it D c) c
def zs_0 (P : Nat → Nat → Nat) : Nat → Nat → Nat := fun a b => zo (P a b) - zo (P b a)
theorem zs_y {D : Nat → Nat → Nat} {a b c : Nat} (h1 : a ≠ c) (h2 : b ≠ a) (h3 : b ≠ c) : zs_st D c a b = max (D a b) (min (D a c) (D c b)) := if_pos ⟨h1, h2, h3⟩
theorem zs_n {D : Nat → Nat → Nat} {a b c : Nat} (h : ¬ (a ≠ c ∧ b ≠ a ∧ b ≠ c)) : zs_st D c a b = D a b := if_neg h
theorem zs_ge (D : Nat → Nat → Nat) (c a b : Nat) : D a b ≤ zs_st D c a b := by
  by_cases h : a ≠ c ∧ b ≠ a ∧ b ≠ c
  · rw [zs_y h.1 h.2.1 h.2.2]; omega
  · rw [zs_n h]; omega
theorem zs_main {D : Nat → Nat → Nat} (h9 : ∀ a b, a < 5 → b < 5 → D a b ≤ 9) : ∀ n, n ≤ 5 → (∀ a b, a < 5 → b < 5 → zs_it D n a b ≤ 9) ∧ (∀ a b, D a b ≤ zs_it D n a b) ∧ (∀ k, k < n → ∀ a b, a < 5 → b < 5 → a ≠ b → a ≠ k → b ≠ k → min (zs_it D n a k) (zs_it D n k b) ≤ zs_it D n a b) ∧ (∀ p : Nat → Bool, (∀ a b, a < 5 → b < 5 → p a = false → p b = true → D a b = 0) → (∀ a b, a < 5 → b < 5 → p a = false → p b = true → zs_it D n a b = 0)) := by
  intro n
  induction n with
  | zero => exact fun _ => ⟨h9, fun _ _ => Nat.le_refl _, fun k hk => absurd hk (by omega), fun p h => h⟩
  | succ n ih =>
    intro hn
    obtain ⟨h1, h2, h3, h4⟩ := ih (by omega)
    have hn5 : n < 5 := by omega
    refine ⟨fun a b ha hb => ?_, fun a b => ?_, fun k hk a b ha hb hab hak hbk => ?_, fun p hp a b ha hb pa pb => ?_⟩
    · show zs_st (zs_it D n) n a b ≤ 9
      have e1 := h1 a b ha hb
      have e2 := h1 a n ha hn5
      have e3 := h1 n b hn5 hb
      by_cases h : a ≠ n ∧ b ≠ a ∧ b ≠ n
      · rw [zs_y h.1 h.2.1 h.2.2]; omega
      · rw [zs_n h]; exact e1
    · exact Nat.le_trans (h2 a b) (zs_ge _ _ _ _)
    · show min (zs_st (zs_it D n) n a k) (zs_st (zs_it D n) n k b) ≤ zs_st (zs_it D n) n a b
      by_cases ek : k = n
      · rw [ek] at hak hbk ⊢
        rw [zs_n (a := a) (b := n) (fun z => z.2.2 rfl), zs_n (a := n) (b := b) (fun z => z.1 rfl), zs_y hak (fun z => hab z.symm) hbk]
        omega
      · have kn : k < n := by omega
        have hk5 : k < 5 := by omega
        by_cases ea : a = n
        · rw [ea] at hab hak ⊢
          rw [zs_n (a := n) (b := k) (fun z => z.1 rfl), zs_n (a := n) (b := b) (fun z => z.1 rfl), zs_y ek hbk (fun z => hab z.symm)]
          have t := h3 k kn n b hn5 hb hab hak hbk
          omega
        · by_cases eb : b = n
          · rw [eb] at hab hbk ⊢
            rw [zs_n (a := k) (b := n) (fun z => z.2.2 rfl), zs_n (a := a) (b := n) (fun z => z.2.2 rfl), zs_y ea (fun z => hak z.symm) ek]
            have t := h3 k kn a n ha hn5 hab hak hbk
            omega
          · rw [zs_y ea (fun z => hak z.symm) ek, zs_y ek hbk eb, zs_y ea (fun z => hab z.symm) eb]
            have t1 := h3 k kn a b ha hb hab hak hbk
            have t2 := h3 k kn n b hn5 hb (fun z => eb z.symm) (fun z => ek z.symm) hbk
            have t3 := h3 k kn a n ha hn5 ea hak (fun z => ek z.symm)
            omega
    · show zs_st (zs_it D n) n a b = 0
      have e := h4 p hp
      by_cases h : a ≠ n ∧ b ≠ a ∧ b ≠ n
      · rw [zs_y h.1 h.2.1 h.2.2]
        have e1 := e a b ha hb pa pb
        cases pn : p n with
        | true => have e2 := e a n ha hn5 pa pn; omega
        | false => have e2 := e n b hn5 hb pn pb; omega
      · rw [zs_n h]; exact e a b ha hb pa pb
theorem zs_09 {C : Nat} {P : Nat → Nat → Nat} (hC : C ≤ 9) (hP : zk_P C P) : ∀ a b, a < 5 → b < 5 → zs_0 P a b ≤ 9 := by
  intro a b ha hb
  have := zk_w hC hP ha hb
  show zo (P a b) - zo (P b a) ≤ 9
  omega
theorem zp_str {C : Nat} {P : Nat → Nat → Nat} {B : Nat → Nat} (hC : C ≤ 9) (hP : zk_P C P) (hB : zk_B P B) {s : Nat} (hs : s < 32) (h : ∀ c, c < 5 → (s.testBit c = true ↔ ∀ b, b < 5 → ¬ zs_it (zs_0 P) 5 c b < zs_it (zs_0 P) 5 b c)) : zl_in B s := by
  have hA := zk_BA hB
  obtain ⟨_, h2, h3, h4⟩ := zs_main (zs_09 hC hP) 5 (Nat.le_refl 5)
  refine ⟨?_, hs, fun S hS c hc hsc => ?_⟩
  · obtain ⟨a, ha, hm⟩ := zp_max (fun b a => zs_it (zs_0 P) 5 a b < zs_it (zs_0 P) 5 b a) (fun a _ z => by omega) (fun a b c ha hb hc y1 y2 => by
      by_cases e1 : a = b
      · rw [e1] at y1; omega
      · by_cases e2 : b = c
        · rw [e2] at y2; omega
        · by_cases e3 : a = c
          · rw [e3] at y1; omega
          · have t1 := h3 b hb a c ha hc e3 e1 (fun z => e2 z.symm)
            have t2 := h3 c hc b a hb ha (fun z => e1 z.symm) e2 e3
            have t3 := h3 a ha c b hc hb (fun z => e2 z.symm) (fun z => e3 z.symm) (fun z => e1 z.symm)
            omega)
    exact zb_ge ((h a ha).mpr (fun b hb => hm b hb))
  · cases e : S.testBit c with
    | true => rfl
    | false =>
      obtain ⟨t, ht, et⟩ := zb_pos S hS.1 hS.2.1
      have z0 := h4 (fun x => S.testBit x) (fun a b ha hb pa pb => by
        have q : zo (P a b) < zo (P b a) := ((hB b hb).2 a ha).mp (zl_out hA hS hb pb ha pa)
        show zo (P a b) - zo (P b a) = 0
        omega) c t hc ht e et
      have q : zo (P c t) < zo (P t c) := ((hB t ht).2 c hc).mp (zl_out hA hS ht et hc e)
      have q2 : zo (P t c) - zo (P c t) ≤ zs_it (zs_0 P) 5 t c := h2 t c
      exact absurd ((h c hc).mp hsc t ht) (fun z => z (by omega))
/-! rule 14: chains -/
def zh_ch (B : Nat → Nat) (s : Nat) : Prop := ∀ t, t < zo s → ∃ c, c < 5 ∧ s.testBit c = true ∧ zo (B c &&& s) = t
def zh_lo (B : Nat → Nat) (s : Nat) : Prop := ∀ c, c < 5 → (s.testBit c = true ∨ s ^^^ (s &&& B c) ≠ 0)
def zh_fr (B : Nat → Nat) (s f : Nat) : Prop := f < 5 ∧ s.testBit f = true ∧ zo (B f &&& s) + 1 = zo s
theorem zh_full : ∀ s, s < 32 → zo s = 5 → ∀ c, c < 5 → s.testBit c = true := by decide +kernel
theorem zh_al {x s : Nat} (hs : s < 32) : x &&& s < 32 := Nat.lt_of_le_of_lt Nat.and_le_right hs
theorem zh_ex {B : Nat → Nat} (hA : zk_A B) : ∀ k s, s < 32 → 1 ≤ s → zo s + k = 5 → zh_ch B s → ∃ s', s' < 32 ∧ 1 ≤ s' ∧ zh_ch B s' ∧ zh_lo B s' := by
  intro k
  induction k with
  | zero => exact fun s hs h1 hz hc => ⟨s, hs, h1, hc, fun c hc5 => Or.inl (zh_full s hs (by omega) c hc5)⟩
  | succ k ih =>
    intro s hs h1 hz hch
    by_cases e : ∃ c, c < 5 ∧ s.testBit c = false ∧ s ^^^ (s &&& B c) = 0
    · obtain ⟨c, hc, ec, es⟩ := e
      have sub := (zb_sub s hs (B c) (hA.1 c hc)).mp es
      have hs' : s ||| 2 ^ c < 32 := zb_orlt hs hc
      have hz' := zo_add s hs c hc ec
      refine ih (s ||| 2 ^ c) hs' (Nat.le_trans h1 Nat.left_le_or) (by omega) (fun t ht => ?_)
      by_cases et : t < zo s
      · obtain ⟨d, hd, ed, ez⟩ := hch t et
        refine ⟨d, hd, (zb_obit (by omega) (by omega)).mpr (Or.inl ed), ?_⟩
        have hcd : (B d).testBit c = false := zb_nf (fun z => hA.2 d c hd hc z (sub d hd ed))
        have eq : B d &&& (s ||| 2 ^ c) = B d &&& s := by
          refine zb_ext _ (zh_al hs') _ (zh_al hs) (fun x hx => ?_)
          rw [Nat.testBit_and, Nat.testBit_and, Bool.and_eq_true, Bool.and_eq_true, zb_obit (by omega) (by omega)]
          constructor
          · rintro ⟨q1, q2 | q2⟩
            · exact ⟨q1, q2⟩
            · rw [q2, hcd] at q1; exact absurd q1 (by decide)
          · exact fun q => ⟨q.1, Or.inl q.2⟩
        rw [eq]; exact ez
      · refine ⟨c, hc, (zb_obit (by omega) (by omega)).mpr (Or.inr rfl), ?_⟩
        have eq : B c &&& (s ||| 2 ^ c) = s := by
          refine zb_ext _ (zh_al hs') _ hs (fun x hx => ?_)
          rw [Nat.testBit_and, Bool.and_eq_true, zb_obit (by omega) (by omega)]
          constructor
          · rintro ⟨q1, q2 | q2⟩
            · exact q2
            · rw [q2] at q1; exact absurd q1 (fun z => hA.2 c c hc hc z z)
          · exact fun q => ⟨sub x hx q, Or.inl q⟩
        rw [eq]; omega
    · refine ⟨s, hs, h1, hch, fun c hc => ?_⟩
      cases ec : s.testBit c with
      | true => exact Or.inl rfl
      | false => exact Or.inr (fun z => e ⟨c, hc, ec, z⟩)
theorem zh_ex1 {B : Nat → Nat} (hA : zk_A B) : ∃ s', s' < 32 ∧ 1 ≤ s' ∧ zh_ch B s' ∧ zh_lo B s' := by
  refine zh_ex hA 4 1 (by omega) (by omega) (by decide) (fun t ht => ⟨0, by omega, by decide, ?_⟩)
  have e0 : (B 0).testBit 0 = false := zb_nf (fun z => hA.2 0 0 (by omega) (by omega) z z)
  have eq : B 0 &&& 1 = 0 := by
    refine zb_ext _ (zh_al (by omega)) _ (by omega) (fun x hx => ?_)
    rw [Nat.testBit_and, Bool.and_eq_true, Nat.zero_testBit]
    constructor
    · rintro ⟨q1, q2⟩
      have ex : x = 0 := (zb_two 0 (by omega) x (by omega)).mp q2
      rw [ex, e0] at q1; exact absurd q1 (by decide)
    · exact fun q => absurd q (by decide)
  rw [eq, zo_0]
  have : zo 1 = 1 := zo_at
  omega
theorem zh_in {B : Nat → Nat} (hA : zk_A B) {s f : Nat} (hs : s < 32) (hf : zh_fr B s f) (hl : zh_lo B s) {S : Nat} (hS : zl_D B S) : S.testBit f = true := by
  cases e : S.testBit f with
  | true => rfl
  | false =>
    obtain ⟨f5, fs, fz⟩ := hf
    have ff : (B f).testBit f = false := zb_nf (fun z => hA.2 f f f5 f5 z z)
    have fb := zo_front (B f) (hA.1 f f5) s hs f f5 fs ff fz
    have out : ∀ d, d < 5 → s.testBit d = true → S.testBit d = false := by
      intro d hd ed
      cases e2 : S.testBit d with
      | false => rfl
      | true =>
        have ne : d ≠ f := fun z => by rw [z, e] at e2; exact absurd e2 (by decide)
        exact absurd (zl_out hA hS hd e2 f5 e) (fun z => hA.2 d f hd f5 z (fb d hd ed ne))
    obtain ⟨t, ht, et⟩ := zb_pos S hS.1 hS.2.1
    rcases hl t ht with q | q
    · rw [out t ht q] at et; exact absurd et (by decide)
    · exact absurd ((zb_sub s hs (B t) (hA.1 t ht)).mpr (fun d hd ed => zl_out hA hS ht et hd (out d hd ed))) q
/-! rule 10: couples; zy_R: there is a way from a to b over kept couples -/
def zy_R (K : Nat) (A Z : Nat → Nat) (j a b : Nat) : Prop := ∀ Q : Nat → Nat → Prop, (∀ a b c, Q a b → Q b c → Q a c) → (∀ k, k < K → j.testBit k = true → Q (A k) (Z k)) → Q a b
theorem zy_tr {K : Nat} {A Z : Nat → Nat} {j a b c : Nat} (h1 : zy_R K A Z j a b) (h2 : zy_R K A Z j b c) : zy_R K A Z j a c := fun Q q1 q2 => q1 a b c (h1 Q q1 q2) (h2 Q q1 q2)
theorem zy_ed {K : Nat} {A Z : Nat → Nat} {j k : Nat} (hk : k < K) (h : j.testBit k = true) : zy_R K A Z j (A k) (Z k) := fun _ _ q2 => q2 k hk h
theorem zy_mo {K : Nat} {A Z : Nat → Nat} {j j' a b : Nat} (hj : ∀ k, k < K → j.testBit k = true → j'.testBit k = true) (h : zy_R K A Z j a b) : zy_R K A Z j' a b := fun Q q1 q2 => h Q q1 (fun k hk e => q2 k hk (hj k hk e))
def zy_ac (K : Nat) (A Z : Nat → Nat) (j : Nat) : Prop := ∀ a, a < 5 → ¬ zy_R K A Z j a a
/-- one more couple that closes no way round keeps it so -/
theorem zy_cyc {K : Nat} {A Z : Nat → Nat} {j j' k : Nat} (hne : A k ≠ Z k) (hac : zy_ac K A Z j) (hnb : ¬ zy_R K A Z j (Z k) (A k)) (hj : ∀ i, i < K → j'.testBit i = true → j.testBit i = true ∨ i = k) : zy_ac K A Z j' := by
  intro a ha hR
  have key : ∀ x, (x = A k ∨ zy_R K A Z j x (A k)) → (x = Z k ∨ zy_R K A Z j (Z k) x) → False := by
    rintro x (e1 | e1) (e2 | e2)
    · exact hne (e1.symm.trans e2)
    · rw [e1] at e2; exact hnb e2
    · rw [e2] at e1; exact hnb e1
    · exact hnb (zy_tr e2 e1)
  have h := hR (fun x y => zy_R K A Z j x y ∨ ((x = A k ∨ zy_R K A Z j x (A k)) ∧ (y = Z k ∨ zy_R K A Z j (Z k) y))) ?_ ?_
  · rcases h with h | ⟨h1, h2⟩
    · exact hac a ha h
    · exact key a h1 h2
  · rintro x y z (h1 | ⟨h1, h1'⟩) (h2 | ⟨h2, h2'⟩)
    · exact Or.inl (zy_tr h1 h2)
    · refine Or.inr ⟨Or.inr ?_, h2'⟩
      rcases h2 with e | e
      · rw [e] at h1; exact h1
      · exact zy_tr h1 e
    · refine Or.inr ⟨h1, Or.inr ?_⟩
      rcases h1' with e | e
      · rw [e] at h2; exact h2
      · exact zy_tr e h2
    · exact absurd (key y h2 h1') id
  · intro i hi e
    rcases hj i hi e with q | q
    · exact Or.inl (zy_ed hi q)
    · rw [q]; exact Or.inr ⟨Or.inl rfl, Or.inl rfl⟩
def zy_co (K : Nat) (A Z : Nat → Nat) (j g : Nat) : Prop := zy_ac K A Z j ∧ ∀ k, k < K → g.testBit k = true → j.testBit k = false → zy_R K A Z j (Z k) (A k)
theorem zy_g0 : ∀ e, e < 11 → ∀ d, d < 11 → ∀ k, k < 11 → (decide (d ≤ e) && ((2 ^ e - 2 ^ d).testBit k != (decide (d ≤ k) && decide (k < e)))) = false := by decide +kernel
theorem zy_g (e : Nat) (he : e < 11) (d : Nat) (hd : d < 11) (k : Nat) (hk : k < 11) (hde : d ≤ e) : ((2 ^ e - 2 ^ d).testBit k = true ↔ d ≤ k ∧ k < e) := by
  have h := zy_g0 e he d hd k hk
  rw [decide_eq_true hde, Bool.true_and, bne_eq_false_iff_eq] at h
  rw [h, Bool.and_eq_true, decide_eq_true_iff, decide_eq_true_iff]
theorem zy_bit {d p x k : Nat} (hx : x < 2 ^ d) : (2 ^ d * p + x).testBit k = if k < d then x.testBit k else p.testBit (k - d) := Nat.testBit_two_pow_mul_add p hx k
/-- the greatest p below m with a property -/
theorem zy_top (Q : Nat → Prop) : ∀ m, (∃ p, p < m ∧ Q p) → ∃ p, p < m ∧ Q p ∧ ∀ p', p' < m → p < p' → ¬ Q p' := by
  intro m
  induction m with
  | zero => rintro ⟨p, hp, _⟩; omega
  | succ m ih =>
    rintro ⟨p, hp, hq⟩
    by_cases e : Q m
    · exact ⟨m, by omega, e, fun p' h1 h2 => by omega⟩
    · have pm : p ≠ m := fun z => e (z ▸ hq)
      obtain ⟨r, hr, hQ, ht⟩ := ih ⟨p, by omega, hq⟩
      refine ⟨r, by omega, hQ, fun p' h1 h2 => ?_⟩
      by_cases e2 : p' = m
      · rw [e2]; exact e
      · exact ht p' (by omega) h2
theorem zy_exist {K : Nat} {A Z : Nat → Nat} {d e x : Nat} (hde : d ≤ e) (heK : e ≤ K) (hK : K ≤ 10) (hne : ∀ k, k < K → A k ≠ Z k) (hx : x < 2 ^ d) (hac : zy_ac K A Z x) : ∃ p, p < 2 ^ (e - d) ∧ zy_co K A Z (2 ^ d * p + x) (2 ^ e - 2 ^ d) := by
  obtain ⟨p, hp, hQ, ht⟩ := zy_top (fun p => zy_ac K A Z (2 ^ d * p + x)) (2 ^ (e - d)) ⟨0, Nat.two_pow_pos _, by rw [Nat.mul_zero, Nat.zero_add]; exact hac⟩
  refine ⟨p, hp, hQ, fun k hk hg hj => ?_⟩
  obtain ⟨hdk, hke⟩ := (zy_g e (by omega) d (by omega) k (by omega) hde).mp hg
  rw [zy_bit hx, if_neg (by omega)] at hj
  by_cases hR : zy_R K A Z (2 ^ d * p + x) (Z k) (A k)
  · exact hR
  · have hlt : p ||| 2 ^ (k - d) < 2 ^ (e - d) := Nat.or_lt_two_pow hp (Nat.pow_lt_pow_right (by omega) (by omega))
    have hgt : p < p ||| 2 ^ (k - d) := by
      rcases Nat.lt_or_ge p (p ||| 2 ^ (k - d)) with z | z
      · exact z
      · have eq : p ||| 2 ^ (k - d) = p := Nat.le_antisymm z Nat.left_le_or
        have q : (p ||| 2 ^ (k - d)).testBit (k - d) = true := (zb_obit (by omega) (by omega)).mpr (Or.inr rfl)
        rw [eq, hj] at q
        exact absurd q (by decide)
    refine absurd (zy_cyc (j' := 2 ^ d * (p ||| 2 ^ (k - d)) + x) (hne k hk) hQ hR (fun i hi z => ?_)) (ht _ hlt hgt)
    rw [zy_bit hx] at z ⊢
    by_cases ei : i < d
    · rw [if_pos ei] at z ⊢; exact Or.inl z
    · rw [if_neg ei] at z ⊢
      rcases (zb_obit (by omega) (by omega)).mp z with q | q
      · exact Or.inl q
      · exact Or.inr (by omega)
end
section
/-! small methods -/
theorem zw_isIn {post : Int32 → Prop} {u : St1} {s c : Nat} {x y : Int32} (hx : x = nI s) (hy : y = nI c) (hs : s < 2 ^ 31) (hc : c < 31) (h0 : s.testBit c = false → post 0) (h1 : s.testBit c = true → post 1) : wpX_isIn post u x y := by
  obtain ⟨f0, f1, f2, a1, a2, a3, a4, a5, a6, a7, a8, a9, a10, a11, a12, a13, a14, a15, a16, a17⟩ := u
  exact zb_if hx hy hs hc h0 h1
/-- a call of isIn, and the branch on its answer -/
theorem zw_in {A D : Prop} {u : St1} {s c : Nat} {x y : Int32} (hx : x = nI s) (hy : y = nI c) (hs : s < 2 ^ 31) (hc : c < 31) (h0 : s.testBit c = false → A) (h1 : s.testBit c = true → D) : wpX_isIn (fun r => (r = 0 → A) ∧ (¬ r = 0 → D)) u x y :=
  zw_isIn hx hy hs hc (fun z => br_t rfl (h0 z)) (fun z => br_f (by decide) (h1 z))
theorem zb_pred {r : Nat} (h : r ≠ 0) : nI r - 1 = nI (r - 1) := by
  cases r with
  | zero => exact absurd rfl h
  | succ r => exact nI_pred r
theorem zw_ones {post : Int32 → Prop} {u : St1} {n : Nat} {x : Int32} (hx : x = nI n) (hn : n < 1024) (H : post (nI (zo n))) : wpX_onesIn post u x := by
  obtain ⟨f0, f1, f2, a1, a2, a3, a4, a5, a6, a7, a8, a9, a10, a11, a12, a13, a14, a15, a16, a17⟩ := u
  subst hx
  refine loop_m (σ := Nat × Nat) (fun k s => wX_onesIn_4 post f0 f1 f2 a1 a2 a3 a4 a5 a6 a7 a8 a9 a10 a11 a12 a13 a14 a15 a16 a17 k (nI s.1) (nI s.2)) (fun s => s.2 < 1024 ∧ s.1 + zo s.2 = zo n) (fun s => s.2) ?_ (0, n) ⟨hn, Nat.zero_add _⟩
  rintro k ⟨s, r⟩ ⟨h1, h2⟩ hw
  have h1' : r < 1024 := h1
  have h2' : s + zo r = zo n := h2
  refine pk_eq r 0 (fun z => ?_) (fun z => ?_)
  · rw [z, zo_0, Nat.add_zero] at h2'
    show post (nI s)
    rw [h2']
    exact H
  · obtain ⟨e1, e2⟩ := zo_step r h1' z
    refine nm_r (e' := nI (r &&& (r - 1))) ?_ (nm_r (nI_1 s) (hw (s + 1, r &&& (r - 1)) ⟨?_, ?_⟩ e2))
    · show nI r &&& (nI r - 1) = _
      rw [zb_pred z, zb_and]
    · show r &&& (r - 1) < 1024
      omega
    · show s + 1 + zo (r &&& (r - 1)) = zo n
      omega
theorem zw_cand {post : Int32 → Prop} {u : St1} {c : Nat} (hc : c < 5) (H : post 1) : wpX_isCandidate post u (nI c) := by
  obtain ⟨f0, f1, f2, a1, a2, a3, a4, a5, a6, a7, a8, a9, a10, a11, a12, a13, a14, a15, a16, a17⟩ := u
  exact br_f (nI_pos (by omega)) (br_f (nI_ge (b := 5) hc (by omega)) H)
/-! the law's order: it ends -/
theorem zw_o31 {post : Int32 → Prop} {J : Int32 → Int32 → Int32 → Int32 → Int32 → Prop} {x1 x2 x3 x4 x5 : Int32} (hx4 : ¬ x4 = 0) (hJ1 : x5 ≤ 1 → ∀ y1 y2 y3, J y1 y2 y3 1 (x5 + (-1))) (hJ2 : ¬ x5 ≤ 1 → ¬ x5 = 0 ∧ ∀ y1 y2 y3, J y1 y2 y3 (x4 / x5) (x5 + (-1))) (x6 x7 : Int32) : ∃ n, wL_order_31 post J x1 x2 x3 x4 x5 n x6 x7 0 := by
  refine pk_loop (σ := Int32 × Int32) (fun n i s => wL_order_31 post J x1 x2 x3 x4 x5 n s.1 s.2 (nI i)) (fun _ _ => True) 5 0 (x6, x7) (by omega) trivial ?_ ?_
  · exact fun n s _ => pk_le 5 5 (fun _ => fun y3 _ y2 _ => ⟨hx4, fun y1 _ => ⟨fun z => nm_e (hJ1 z y1 y2 y3), fun z => ⟨(hJ2 z).1, nm_e (nm_e ((hJ2 z).2 y1 y2 y3))⟩⟩⟩) (fun z => absurd z (by omega))
  · rintro n i ⟨p, q⟩ hi _ hw
    have w1 : wL_order_31 post J x1 x2 x3 x4 x5 n (p + (-1)) q (nI (i + 1)) := hw (p + (-1), q) trivial
    have w2 : wL_order_31 post J x1 x2 x3 x4 x5 n (p + (-1)) (nI i) (nI (i + 1)) := hw (p + (-1), nI i) trivial
    have w3 : wL_order_31 post J x1 x2 x3 x4 x5 n p q (nI (i + 1)) := hw (p, q) trivial
    refine pk_le 5 i (fun z => absurd z (by omega)) (fun _ => br_c (fun _ => br_c (fun _ => br_c (fun _ => ?_) (fun _ => ?_)) (fun _ => ?_)) (fun _ => ?_))
    · exact nm_e (nm_r (nI_1 i) w1)
    · exact nm_e (nm_r (nI_1 i) w2)
    · exact nm_e (nm_r (nI_1 i) w1)
    · exact nm_r (nI_1 i) w3
theorem zw_o14 {post : Int32 → Prop} {n : Nat} {x4 x5 y4 y5 : Int32} (h5 : ¬ x5 < 0) (hx4 : ¬ x4 = 0) (hy : (x5 ≤ 1 → y4 = 1) ∧ (¬ x5 ≤ 1 → ¬ x5 = 0 ∧ x4 / x5 = y4)) (hy5 : x5 + (-1) = y5) (hn : ∀ y1 y2 y3, wL_order_14 post n y1 y2 y3 y4 y5) (x1 x2 x3 : Int32) : wL_order_14 post (n + 1) x1 x2 x3 x4 x5 := by
  refine br_f h5 ⟨hx4, nm_e (zw_o31 hx4 (fun z => ?_) (fun z => ⟨(hy.2 z).1, ?_⟩) _ _)⟩
  · have e := hy.1 z
    subst e
    rw [hy5]
    exact hn
  · rw [(hy.2 z).2, hy5]
    exact hn
theorem zw_order {post : Int32 → Prop} {u : St2} {p : Int32} (H : ∀ r, post r) : wpL_order post u p := by
  have s0 : ∀ y1 y2 y3, wL_order_14 post 1 y1 y2 y3 1 (-1) := fun _ _ _ => br_t (by decide) (H _)
  have s1 : ∀ y1 y2 y3, wL_order_14 post 2 y1 y2 y3 1 0 := zw_o14 (by decide) (by decide) (by decide) (by decide) s0
  have s2 : ∀ y1 y2 y3, wL_order_14 post 3 y1 y2 y3 1 1 := zw_o14 (by decide) (by decide) (by decide) (by decide) s1
  have s3 : ∀ y1 y2 y3, wL_order_14 post 4 y1 y2 y3 2 2 := zw_o14 (by decide) (by decide) (by decide) (by decide) s2
  have s4 : ∀ y1 y2 y3, wL_order_14 post 5 y1 y2 y3 6 3 := zw_o14 (by decide) (by decide) (by decide) (by decide) s3
  have s5 : ∀ y1 y2 y3, wL_order_14 post 6 y1 y2 y3 24 4 := zw_o14 (by decide) (by decide) (by decide) (by decide) s4
  exact ⟨6, s5 p 31 0⟩
/-! orders and rows -/
def zd_seen (o : Nat) : Nat → Nat
  | 0 => 0
  | k + 1 => zd_seen o k ||| 2 ^ (o / 5 ^ k % 5)
theorem zd_perm : ∀ o, o < 3125 → zd_seen o 5 = 31 → (∀ k, k < 5 → ∀ l, l < 5 → o / 5 ^ (4 - k) % 5 = o / 5 ^ (4 - l) % 5 → k = l) ∧ (∀ c, c < 5 → ∃ k, k < 5 ∧ o / 5 ^ (4 - k) % 5 = c) := by decide +kernel
theorem zw_isOrder {post : Int32 → Prop} {u : St1} {p : Int32} (h0 : post 0) (h1 : ∀ o, p = nI o → o < 3125 → zd_seen o 5 = 31 → post 1) : wpX_isOrder post u p := by
  obtain ⟨f0, f1, f2, a1, a2, a3, a4, a5, a6, a7, a8, a9, a10, a11, a12, a13, a14, a15, a16, a17⟩ := u
  refine br_c (fun _ => h0) (fun z => br_c (fun z2 => ?_) (fun _ => h0))
  obtain ⟨o, ho, e⟩ := nI_of2 (n := 3124) (M := 3124) (by decide) z z2
  subst e
  refine pk_loop (σ := Nat × Nat) (fun n i s => wX_isOrder_20 post f0 f1 f2 a1 a2 a3 a4 a5 a6 a7 a8 a9 a10 a11 a12 a13 a14 a15 a16 a17 n (nI s.1) (nI s.2) (nI i)) (fun i s => s.1 = zd_seen o i ∧ s.2 = o / 5 ^ i) 5 0 (0, o) (by omega) ⟨rfl, by simp⟩ ?_ ?_
  · rintro n ⟨s, r⟩ ⟨e1, e2⟩
    have e1' : s = zd_seen o 5 := e1
    subst e1'
    refine pk_le 5 5 (fun _ => br_c (fun q => ?_) (fun _ => h0)) (fun z => absurd z (by omega))
    have lt : zd_seen o 5 < 2 ^ 5 := by
      have d : ∀ k, o / 5 ^ k % 5 < 5 := fun k => Nat.mod_lt _ (by omega)
      have p2 : ∀ k, 2 ^ (o / 5 ^ k % 5) < 2 ^ 5 := fun k => Nat.pow_lt_pow_right (by omega) (d k)
      exact Nat.or_lt_two_pow (Nat.or_lt_two_pow (Nat.or_lt_two_pow (Nat.or_lt_two_pow (Nat.or_lt_two_pow (show (0 : Nat) < 2 ^ 5 by decide) (p2 0)) (p2 1)) (p2 2)) (p2 3)) (p2 4)
    exact h1 o rfl (by omega) ((nI_eq (by omega) (by omega)).mp (show nI (zd_seen o 5) = nI 31 from q))
  · rintro n i ⟨s, r⟩ hi ⟨e1, e2⟩ hw
    have e1' : s = zd_seen o i := e1
    have e2' : r = o / 5 ^ i := e2
    have hr : r ≤ o := by rw [e2']; exact Nat.div_le_self _ _
    have hm : r % 5 < 5 := Nat.mod_lt _ (by omega)
    refine pk_le 5 i (fun z => absurd z (by omega)) (fun _ => ⟨by decide, nm_r (zb_set (s := s) (c := r % 5) rfl (pk_rem (a := r) (d := 5) (by omega) (by omega) (by omega)) (by omega)) ⟨by decide, nm_r (pk_div (a := r) (d := 5) (by omega) (by omega) (by omega)) (nm_r (nI_1 i) (hw (s ||| 2 ^ (r % 5), r / 5) ⟨?_, ?_⟩))⟩⟩)
    · show s ||| 2 ^ (r % 5) = zd_seen o i ||| 2 ^ (o / 5 ^ i % 5)
      rw [e1', e2']
    · show r / 5 = o / 5 ^ (i + 1)
      rw [e2', Nat.div_div_eq_div_mul, Nat.pow_succ]
def zr_row (a1 a2 : Nat → Int32) (i : Nat) : Prop := ∃ o, o < 3125 ∧ zd_seen o 5 = 31 ∧ a1 i = nI o ∧ ∀ k, k < 5 → a2 (5 * i + k) = nI (o / 5 ^ (4 - k) % 5)
def zr (C : Nat) (a1 a2 : Nat → Int32) : Prop := ∀ i, i < C → zr_row a1 a2 i
def zr_R (a2 : Nat → Int32) (i : Nat) (R : Nat → Nat) : Prop := (∀ k, k < 5 → a2 (5 * i + k) = nI (R k) ∧ R k < 5) ∧ (∀ k l, k < 5 → l < 5 → R k = R l → k = l) ∧ (∀ c, c < 5 → ∃ k, k < 5 ∧ R k = c)
theorem zr_get {a1 a2 : Nat → Int32} {i : Nat} (h : zr_row a1 a2 i) : ∃ R, zr_R a2 i R := by
  obtain ⟨o, ho, hs, _, h2⟩ := h
  obtain ⟨p1, p2⟩ := zd_perm o ho hs
  exact ⟨fun k => o / 5 ^ (4 - k) % 5, fun k hk => ⟨h2 k hk, Nat.mod_lt _ (by omega)⟩, fun k l hk hl e => p1 k hk l hl e, p2⟩
theorem zw_put {post : St1 → Prop} {f0 f1 f2 : Int32} {a1 a2 a3 a4 a5 a6 a7 a8 a9 a10 a11 a12 a13 a14 a15 a16 a17 : Nat → Int32} {i o : Nat} {p : Int32} (hi : i < 9) (hp : p = nI o) (ho : o < 3125) (hv : zd_seen o 5 = 31) (H : ∀ b1 b2, zr_row b1 b2 i → (∀ j, j ≠ i → zr_row a1 a2 j → zr_row b1 b2 j) → post (f0, 0, f2, b1, b2, a3, a4, a5, a6, a7, a8, a9, a10, a11, a12, a13, a14, a15, a16, a17)) : wpX_put post (f0, f1, f2, a1, a2, a3, a4, a5, a6, a7, a8, a9, a10, a11, a12, a13, a14, a15, a16, a17) (nI i) p := by
  subst hp
  refine ⟨pk_in i 9 hi, nm_r (zb_up (n := i) (v := nI o) rfl (by omega) (zb_i16 o (by omega))) ?_⟩
  refine ⟨6, pk_loopD (σ := Nat × Int32 × (Nat → Int32)) (fun n m s => wX_put_13 post (nI i) f0 f1 f2 n (nI s.1) s.2.1 (upd a1 i (nI o)) s.2.2 a3 a4 a5 a6 a7 a8 a9 a10 a11 a12 a13 a14 a15 a16 a17) (fun m s => m ≤ 5 ∧ s.1 = o / 5 ^ (5 - m) ∧ s.2.1 = nI m + (-1) ∧ (∀ j, ¬ (5 * i ≤ j ∧ j < 5 * i + 5) → s.2.2 j = a2 j) ∧ (∀ k, m ≤ k → k < 5 → s.2.2 (5 * i + k) = nI (o / 5 ^ (4 - k) % 5))) ?_ ?_ 5 (o, 4, a2) ⟨by omega, by simp, (show (4 : Int32) = nI 5 + (-1) by decide), fun j _ => rfl, fun k h1 h2 => absurd h1 (by omega)⟩⟩
  · rintro n ⟨r, x, b⟩ ⟨e0, e1, e2, e3, e4⟩
    have e2' : x = nI 0 + (-1) := e2
    subst e2'
    refine br_t (show (nI 0 + (-1) : Int32) < 0 by decide) (H (upd a1 i (nI o)) b ⟨o, ho, hv, pk_us, fun k hk => e4 k (by omega) hk⟩ (fun j hj hr => ?_))
    obtain ⟨o', q1, q2, q3, q4⟩ := hr
    refine ⟨o', q1, q2, by rw [pk_un hj]; exact q3, fun k hk => ?_⟩
    rw [show b (5 * j + k) = a2 (5 * j + k) from e3 _ (by omega)]
    exact q4 k hk
  · rintro n m ⟨r, x, b⟩ ⟨e0, e1, e2, e3, e4⟩ hw
    have e1' : r = o / 5 ^ (5 - (m + 1)) := e1
    have e2' : x = nI m := (show x = nI (m + 1) + (-1) from e2).trans (pk_m1 m)
    have e3' : ∀ j, ¬ (5 * i ≤ j ∧ j < 5 * i + 5) → b j = a2 j := e3
    have e4' : ∀ k, m + 1 ≤ k → k < 5 → b (5 * i + k) = nI (o / 5 ^ (4 - k) % 5) := e4
    subst e2'
    have hr : r ≤ o := by rw [e1']; exact Nat.div_le_self _ _
    have hm : r % 5 < 5 := Nat.mod_lt _ (by omega)
    have hrem : nI r - nI r / 5 * 5 = nI (r % 5) := pk_rem (a := r) (d := 5) (by omega) (by omega) (by omega)
    refine br_f (nI_pos (by omega)) ⟨by decide, pk_in (5 * i + m) 45 (by omega) (zb_ix i m), nm_r (zb_up (n := 5 * i + m) (v := nI (r % 5)) (zb_ix i m) (by omega) ?_) ⟨by decide, nm_r (pk_div (a := r) (d := 5) (by omega) (by omega) (by omega)) (nm_e (hw (r / 5, nI m + (-1), upd b (5 * i + m) (nI (r % 5))) ⟨by omega, ?_, rfl, ?_, ?_⟩))⟩⟩
    · show (nI r - nI r / 5 * 5).toInt8.toInt32 = nI (r % 5)
      rw [hrem, zb_i8 _ (by omega)]
    · show r / 5 = o / 5 ^ (5 - m)
      rw [show 5 - m = (5 - (m + 1)) + 1 by omega, Nat.pow_succ, ← Nat.div_div_eq_div_mul, e1']
    · intro j hj
      show upd b (5 * i + m) (nI (r % 5)) j = a2 j
      rw [pk_un (by omega)]
      exact e3' j hj
    · intro k hk hk5
      show upd b (5 * i + m) (nI (r % 5)) (5 * i + k) = nI (o / 5 ^ (4 - k) % 5)
      by_cases e : k = m
      · rw [e, pk_us, e1', show 5 - (m + 1) = 4 - m by omega]
      · rw [pk_un (by omega)]
        exact e4' k (by omega) hk5
theorem zw_ballot {post : Int32 → St1 → Prop} {f0 f1 f2 : Int32} {a1 a2 a3 a4 a5 a6 a7 a8 a9 a10 a11 a12 a13 a14 a15 a16 a17 : Nat → Int32} {C : Nat} {p : Int32} (hC : C ≤ 9) (hf : f0 = nI C) (hr : zr C a1 a2) (H0 : ∀ r : Int32, r ≤ 0 → post r (f0, f1, f2, a1, a2, a3, a4, a5, a6, a7, a8, a9, a10, a11, a12, a13, a14, a15, a16, a17)) (H1 : C < 9 → ∀ b1 b2, zr (C + 1) b1 b2 → post (nI (C + 1)) (nI (C + 1), 0, f2, b1, b2, a3, a4, a5, a6, a7, a8, a9, a10, a11, a12, a13, a14, a15, a16, a17)) : wpX_ballot post (f0, f1, f2, a1, a2, a3, a4, a5, a6, a7, a8, a9, a10, a11, a12, a13, a14, a15, a16, a17) p := by
  subst hf
  refine pk_lt C 9 (fun z => ?_) (fun _ => H0 (-1001) (by decide))
  refine zw_isOrder (br_t rfl (H0 (-1000) (by decide))) (fun o ho h1 h2 => br_f (by decide) ?_)
  refine zw_put z ho h1 h2 (fun b1 b2 q1 q2 => ?_)
  refine nm_r (nI_1 C) (H1 z b1 b2 (fun i hi => ?_))
  by_cases e : i = C
  · rw [e]; exact q1
  · exact q2 i e (hr i (by omega))
theorem zw_drop {post : Int32 → St1 → Prop} {f0 f1 f2 : Int32} {a1 a2 a3 a4 a5 a6 a7 a8 a9 a10 a11 a12 a13 a14 a15 a16 a17 : Nat → Int32} {C i : Nat} {p : Int32} (hC : C ≤ 9) (hf : f0 = nI C) (hp : p = nI i) (hi : i < C) (hr : zr C a1 a2) (H : ∀ b1 b2, zr (C - 1) b1 b2 → post (nI (C - 1)) (nI (C - 1), 0, f2, b1, b2, a3, a4, a5, a6, a7, a8, a9, a10, a11, a12, a13, a14, a15, a16, a17)) : wpX_drop post (f0, f1, f2, a1, a2, a3, a4, a5, a6, a7, a8, a9, a10, a11, a12, a13, a14, a15, a16, a17) p := by
  subst hf hp
  refine br_f (nI_pos (by omega)) (br_t (nI_lt hi (by omega)) (nm_r (zb_pred (by omega)) ?_))
  refine pk_loop (σ := Int32 × (Nat → Int32) × (Nat → Int32)) (fun n k s => wX_drop_28 post n (nI k) (nI (C - 1)) s.1 f2 s.2.1 s.2.2 a3 a4 a5 a6 a7 a8 a9 a10 a11 a12 a13 a14 a15 a16 a17) (fun _ s => zr C s.2.1 s.2.2) (C - 1) i (f1, a1, a2) (by omega) hr ?_ ?_
  · rintro n ⟨g, b1, b2⟩ h
    have h' : zr C b1 b2 := h
    exact pk_le (C - 1) (C - 1) (fun _ => H b1 b2 (fun j hj => h' j (by omega))) (fun z => absurd z (by omega))
  · rintro n k ⟨g, b1, b2⟩ hk h hw
    have h' : zr C b1 b2 := h
    refine pk_le (C - 1) k (fun z => absurd z (by omega)) (fun _ => ⟨pk_in (k + 1) 9 (by omega) (nI_1 k), ?_⟩)
    obtain ⟨o, q1, q2, q3, q4⟩ := h' (k + 1) (by omega)
    refine zw_put (by omega) ((zb_rd (nI_1 k) (by omega)).trans q3) q1 q2 (fun c1 c2 w1 w2 => nm_r (nI_1 k) (hw (0, c1, c2) (fun j hj => ?_)))
    by_cases e : j = k
    · rw [e]; exact w1
    · exact w2 j e (h' j hj)
end
section
/-! counting -/
theorem zb_inj {a b : Nat} (ha : a < 2 ^ 31) (hb : b < 2 ^ 31) (h : nI a = nI b) : a = b := (nI_eq ha hb).mp h
def zt_bf (a2 : Nat → Int32) (j a b : Nat) : Prop := ∃ k l, k < l ∧ l < 5 ∧ a2 (5 * j + k) = nI a ∧ a2 (5 * j + l) = nI b
def zt_J (a2 : Nat → Int32) (i : Nat) (s : Nat → Int32) : Prop := ∀ a b, a < 5 → b < 5 → ∃ q, s (5 * a + b) = nI q ∧ q < 2 ^ i ∧ ∀ j, j < i → (q.testBit j = true ↔ zt_bf a2 j a b)
def zt_pr (k l k' l' : Nat) : Prop := k' < l' ∧ l' < 5 ∧ (k' < k ∨ (k' = k ∧ l' < l))
def zt_I (a2 : Nat → Int32) (i k l : Nat) (s : Nat → Int32) : Prop := ∀ a b, a < 5 → b < 5 → ∃ q, s (5 * a + b) = nI q ∧ q < 2 ^ (i + 1) ∧ (∀ j, j < i → (q.testBit j = true ↔ zt_bf a2 j a b)) ∧ (q.testBit i = true ↔ ∃ k' l', zt_pr k l k' l' ∧ a2 (5 * i + k') = nI a ∧ a2 (5 * i + l') = nI b)
theorem zt_start {a2 s : Nat → Int32} {i : Nat} (h : zt_J a2 i s) : zt_I a2 i 0 1 s := by
  intro a b ha hb
  obtain ⟨q, h1, h2, h3⟩ := h a b ha hb
  refine ⟨q, h1, by rw [Nat.pow_succ]; omega, h3, ?_⟩
  rw [Nat.testBit_lt_two_pow h2]
  constructor
  · intro z; exact absurd z (by decide)
  · rintro ⟨k', l', ⟨p1, p2, p3⟩, _⟩
    omega
theorem zt_next {a2 s : Nat → Int32} {i k : Nat} (h : zt_I a2 i k 5 s) : zt_I a2 i (k + 1) (k + 1 + 1) s := by
  intro a b ha hb
  obtain ⟨q, h1, h2, h3, h4⟩ := h a b ha hb
  refine ⟨q, h1, h2, h3, h4.trans ?_⟩
  constructor
  · rintro ⟨k', l', ⟨p1, p2, p3⟩, e⟩
    exact ⟨k', l', ⟨p1, p2, by omega⟩, e⟩
  · rintro ⟨k', l', ⟨p1, p2, p3⟩, e⟩
    exact ⟨k', l', ⟨p1, p2, by omega⟩, e⟩
theorem zt_end {a2 s : Nat → Int32} {i : Nat} (h : zt_I a2 i 5 6 s) : zt_J a2 (i + 1) s := by
  intro a b ha hb
  obtain ⟨q, h1, h2, h3, h4⟩ := h a b ha hb
  refine ⟨q, h1, h2, fun j hj => ?_⟩
  by_cases e : j = i
  · rw [e]
    refine h4.trans ⟨?_, ?_⟩
    · rintro ⟨k', l', ⟨p1, p2, p3⟩, e⟩
      exact ⟨k', l', p1, p2, e⟩
    · rintro ⟨k', l', p1, p2, e⟩
      exact ⟨k', l', ⟨p1, p2, by omega⟩, e⟩
  · exact h3 j (by omega)
theorem zt_step {a2 s : Nat → Int32} {i k l : Nat} {R : Nat → Nat} (hi : i < 9) (hR : zr_R a2 i R) (hkl : k < l) (hl : l < 5) (h : zt_I a2 i k l s) : ∃ q, s (5 * R k + R l) = nI q ∧ q < 2 ^ (i + 1) ∧ zt_I a2 i k (l + 1) (upd s (5 * R k + R l) (nI (q ||| 2 ^ i))) := by
  obtain ⟨rk, rk5⟩ := hR.1 k (by omega)
  obtain ⟨rl, rl5⟩ := hR.1 l hl
  obtain ⟨q, h1, h2, h3, h4⟩ := h (R k) (R l) rk5 rl5
  refine ⟨q, h1, h2, fun a b ha hb => ?_⟩
  by_cases e : a = R k ∧ b = R l
  · refine ⟨q ||| 2 ^ i, by rw [e.1, e.2, pk_us], Nat.or_lt_two_pow h2 (Nat.pow_lt_pow_right (by omega) (by omega)), fun j hj => ?_, ?_⟩
    · rw [zb_obit (by omega) (by omega), e.1, e.2, ← h3 j hj]
      exact ⟨fun z => z.elim id (fun w => absurd w (by omega)), Or.inl⟩
    · refine ⟨fun _ => ⟨k, l, ⟨hkl, hl, by omega⟩, by rw [e.1]; exact rk, by rw [e.2]; exact rl⟩, fun _ => (zb_obit (by omega) (by omega)).mpr (Or.inr rfl)⟩
  · obtain ⟨q', g1, g2, g3, g4⟩ := h a b ha hb
    refine ⟨q', ?_, g2, g3, g4.trans ⟨?_, ?_⟩⟩
    · rw [pk_un (fun z => e (zb_ieq hb rl5 z))]; exact g1
    · rintro ⟨k', l', ⟨p1, p2, p3⟩, w⟩
      exact ⟨k', l', ⟨p1, p2, by omega⟩, w⟩
    · rintro ⟨k', l', ⟨p1, p2, p3⟩, w1, w2⟩
      refine ⟨k', l', ⟨p1, p2, ?_⟩, w1, w2⟩
      by_cases e2 : k' = k ∧ l' = l
      · rw [e2.1] at w1
        rw [e2.2] at w2
        exact absurd ⟨zb_inj (by omega) (by omega) (w1.symm.trans rk), zb_inj (by omega) (by omega) (w2.symm.trans rl)⟩ e
      · omega
theorem zw_countBallot {post : St1 → Prop} {f0 f1 f2 : Int32} {a1 a2 a3 a4 a5 a6 a7 a8 a9 a10 a11 a12 a13 a14 a15 a16 a17 : Nat → Int32} {i : Nat} {R : Nat → Nat} (hi : i < 9) (hR : zr_R a2 i R) (h : zt_J a2 i a3) (H : ∀ s, zt_J a2 (i + 1) s → post (f0, f1, f2, a1, a2, s, a4, a5, a6, a7, a8, a9, a10, a11, a12, a13, a14, a15, a16, a17)) : wpX_countBallot post (f0, f1, f2, a1, a2, a3, a4, a5, a6, a7, a8, a9, a10, a11, a12, a13, a14, a15, a16, a17) (nI i) := by
  refine pk_loop (fun n k s => wX_countBallot_2 post (nI i) f0 f1 f2 n (nI k) a1 a2 s a4 a5 a6 a7 a8 a9 a10 a11 a12 a13 a14 a15 a16 a17) (fun k s => zt_I a2 i k (k + 1) s) 5 0 a3 (by omega) (zt_start h) ?_ ?_
  · intro n s hs
    exact pk_le 5 5 (fun _ => H s (zt_end hs)) (fun z => absurd z (by omega))
  · intro n k s hk hs hw
    refine pk_le 5 k (fun z => absurd z (by omega)) (fun _ => nm_r (nI_1 k) ?_)
    refine pk_loop (fun m l s => wX_countBallot_11 post (wX_countBallot_2 post (nI i) f0 f1 f2 n) (nI i) (nI k) f0 f1 f2 m (nI l) a1 a2 s a4 a5 a6 a7 a8 a9 a10 a11 a12 a13 a14 a15 a16 a17) (fun l s => k < l ∧ zt_I a2 i k l s) 5 (k + 1) s (by omega) ⟨by omega, hs⟩ ?_ ?_
    · intro m s' hs'
      exact pk_le 5 5 (fun _ => nm_r (nI_1 k) (hw s' (zt_next hs'.2))) (fun z => absurd z (by omega))
    · intro m l s' hl hs' hw'
      obtain ⟨rk, rk5⟩ := hR.1 k hk
      obtain ⟨rl, rl5⟩ := hR.1 l hl
      obtain ⟨q, q1, q2, q3⟩ := zt_step hi hR hs'.1 hl hs'.2
      have ek : a2 (5 * nI i + nI k).toNatClampNeg = nI (R k) := (zb_rd (zb_ix i k) (by omega)).trans rk
      have el : a2 (5 * nI i + nI l).toNatClampNeg = nI (R l) := (zb_rd (zb_ix i l) (by omega)).trans rl
      have e : 5 * a2 (5 * nI i + nI k).toNatClampNeg + a2 (5 * nI i + nI l).toNatClampNeg = nI (5 * R k + R l) := by rw [ek, el, zb_ix]
      have h10 : (2 : Nat) ^ (i + 1) ≤ 2 ^ 9 := Nat.pow_le_pow_right (by omega) (by omega)
      have ho : q ||| 2 ^ i < 2 ^ (i + 1) := Nat.or_lt_two_pow q2 (Nat.pow_lt_pow_right (by omega) (by omega))
      refine pk_le 5 l (fun z => absurd z (by omega)) (fun _ => ⟨pk_in (5 * i + k) 45 (by omega) (zb_ix i k), pk_in (5 * i + l) 45 (by omega) (zb_ix i l), pk_in (5 * R k + R l) 25 (by omega) e, pk_in (5 * R k + R l) 25 (by omega) e, nm_r (zb_up (n := 5 * R k + R l) (v := nI (q ||| 2 ^ i)) e (by omega) ?_) (nm_r (nI_1 l) (hw' _ ⟨by omega, q3⟩))⟩)
      rw [zb_set (s := q) (c := i) ((zb_rd e (by omega)).trans q1) rfl (by omega), zb_i16 _ (by omega)]
/-- what the rows give -/
theorem zt_cmp {a1 a2 : Nat → Int32} {j a b : Nat} (h : zr_row a1 a2 j) (ha : a < 5) (hb : b < 5) : (a = b → ¬ zt_bf a2 j a b) ∧ (a ≠ b → (zt_bf a2 j b a ↔ ¬ zt_bf a2 j a b)) := by
  obtain ⟨R, r1, r2, r3⟩ := zr_get h
  have val : ∀ k c, k < 5 → c < 5 → (a2 (5 * j + k) = nI c ↔ R k = c) := by
    intro k c hk hc
    obtain ⟨e1, e2⟩ := r1 k hk
    rw [e1]
    exact nI_eq (by omega) (by omega)
  constructor
  · rintro e ⟨k, l, h1, h2, h3, h4⟩
    have e1 := (val k a (by omega) ha).mp h3
    have e2 := (val l b h2 hb).mp h4
    have := r2 k l (by omega) h2 (by omega)
    omega
  · intro ne
    obtain ⟨x, hx, ex⟩ := r3 a ha
    obtain ⟨y, hy, ey⟩ := r3 b hb
    have nxy : x ≠ y := fun z => ne (by rw [← ex, ← ey, z])
    constructor
    · rintro ⟨k, l, h1, h2, h3, h4⟩ ⟨k', l', h1', h2', h3', h4'⟩
      have e1 := (val k b (by omega) hb).mp h3
      have e2 := (val l a h2 ha).mp h4
      have e3 := (val k' a (by omega) ha).mp h3'
      have e4 := (val l' b h2' hb).mp h4'
      have := r2 k l' (by omega) h2' (by omega)
      have := r2 l k' h2 (by omega) (by omega)
      omega
    · intro hn
      refine ⟨y, x, ?_, hx, (val y b hy hb).mpr ey, (val x a hx ha).mpr ex⟩
      rcases Nat.lt_or_ge y x with z | z
      · exact z
      · exact absurd ⟨x, y, by omega, hy, (val x a hx ha).mpr ex, (val y b hy hb).mpr ey⟩ hn
theorem zt_P {a1 a2 s : Nat → Int32} {C : Nat} (hC : C ≤ 9) (hr : zr C a1 a2) (h : zt_J a2 C s) : zk_P C (fun a b => (s (5 * a + b)).toNatClampNeg) ∧ ∀ a b, a < 5 → b < 5 → s (5 * a + b) = nI (s (5 * a + b)).toNatClampNeg := by
  have h9 : (2 : Nat) ^ C ≤ 2 ^ 9 := Nat.pow_le_pow_right (by omega) hC
  have val : ∀ a b, a < 5 → b < 5 → ∃ q, s (5 * a + b) = nI q ∧ (s (5 * a + b)).toNatClampNeg = q ∧ q < 2 ^ C ∧ ∀ j, j < C → (q.testBit j = true ↔ zt_bf a2 j a b) := by
    intro a b ha hb
    obtain ⟨q, h1, h2, h3⟩ := h a b ha hb
    exact ⟨q, h1, by rw [h1, nI_clamp (by omega)], h2, h3⟩
  refine ⟨fun a b ha hb => ?_, fun a b ha hb => ?_⟩
  · obtain ⟨q, h1, h2, h3, h4⟩ := val a b ha hb
    obtain ⟨q', g1, g2, g3, g4⟩ := val b a hb ha
    show (s (5 * a + b)).toNatClampNeg < 2 ^ C ∧ (a = b → (s (5 * a + b)).toNatClampNeg = 0) ∧ (a ≠ b → (s (5 * b + a)).toNatClampNeg = (2 ^ C - 1) ^^^ (s (5 * a + b)).toNatClampNeg)
    rw [h2, g2]
    refine ⟨h3, fun e => Nat.eq_of_testBit_eq (fun j => ?_), fun ne => Nat.eq_of_testBit_eq (fun j => ?_)⟩
    · rw [Nat.zero_testBit]
      by_cases hj : j < C
      · exact zb_nf (fun z => (zt_cmp (hr j hj) ha hb).1 e ((h4 j hj).mp z))
      · exact Nat.testBit_lt_two_pow (Nat.lt_of_lt_of_le h3 (Nat.pow_le_pow_right (by omega) (by omega)))
    · rw [Nat.testBit_xor, Nat.testBit_two_pow_sub_one]
      by_cases hj : j < C
      · have t := (zt_cmp (hr j hj) ha hb).2 ne
        rw [← h4 j hj, ← g4 j hj] at t
        rw [decide_eq_true hj]
        cases e1 : q.testBit j <;> cases e2 : q'.testBit j <;> simp_all
      · rw [Nat.testBit_lt_two_pow (Nat.lt_of_lt_of_le h3 (Nat.pow_le_pow_right (by omega) (by omega))), Nat.testBit_lt_two_pow (Nat.lt_of_lt_of_le g3 (Nat.pow_le_pow_right (by omega) (by omega))), decide_eq_false hj]
        rfl
  · obtain ⟨q, h1, h2, _⟩ := val a b ha hb
    rw [h2]; exact h1
/-! the state's picture -/
def zk_C (C : Nat) (P : Nat → Nat → Nat) (B : Nat → Nat) (f0 f1 : Int32) (a1 a2 a3 a4 a5 : Nat → Int32) : Prop := C ≤ 9 ∧ f0 = nI C ∧ zr C a1 a2 ∧ ¬ f1 = 0 ∧ (∀ a b, a < 5 → b < 5 → a3 (5 * a + b) = nI (P a b)) ∧ (∀ a b, a < 5 → b < 5 → a4 (5 * a + b) = nI (zo (P a b)) - nI (zo (P b a))) ∧ (∀ a, a < 5 → a5 a = nI (B a)) ∧ zk_P C P ∧ zk_B P B
def zk (C : Nat) (P : Nat → Nat → Nat) (B : Nat → Nat) (u : St1) : Prop := zk_C C P B u.1 u.2.1 u.2.2.2.1 u.2.2.2.2.1 u.2.2.2.2.2.1 u.2.2.2.2.2.2.1 u.2.2.2.2.2.2.2.1
def zs (C : Nat) (u : St1) : Prop := C ≤ 9 ∧ u.1 = nI C ∧ zr C u.2.2.2.1 u.2.2.2.2.1 ∧ (u.2.1 = 0 ∨ ∃ P B, zk C P B u)
def zt_4 (P : Nat → Nat → Nat) (a b : Nat) (s : Nat → Int32) : Prop := ∀ x y, x < 5 → y < 5 → (x < a ∨ (x = a ∧ y < b)) → s (5 * x + y) = nI (zo (P x y)) - nI (zo (P y x))
def zt_5 (P : Nat → Nat → Nat) (a : Nat) (s : Nat → Int32) : Prop := ∀ x, x < a → ∃ t, t < 32 ∧ s x = nI t ∧ ∀ y, y < 5 → (t.testBit y = true ↔ zc_bt P x y)
def zt_6 (P : Nat → Nat → Nat) (a b : Nat) (s : Nat → Int32) : Prop := zt_5 P a s ∧ ∃ t, t < 32 ∧ s a = nI t ∧ ∀ y, y < 5 → (t.testBit y = true ↔ y < b ∧ zc_bt P a y)
theorem zt_4s {P : Nat → Nat → Nat} {a b : Nat} {s : Nat → Int32} (hb : b < 5) (h : zt_4 P a b s) : zt_4 P a (b + 1) (upd s (5 * a + b) (nI (zo (P a b)) - nI (zo (P b a)))) := by
  intro x y hx hy hlt
  by_cases e : x = a ∧ y = b
  · rw [e.1, e.2, pk_us]
  · rw [pk_un (fun z => e (zb_ieq hy hb z))]
    exact h x y hx hy (by omega)
theorem zw_ca71 {post : St1 → Prop} {J : Int32 → (Nat → Int32) → (Nat → Int32) → (Nat → Int32) → (Nat → Int32) → (Nat → Int32) → (Nat → Int32) → (Nat → Int32) → (Nat → Int32) → (Nat → Int32) → (Nat → Int32) → (Nat → Int32) → (Nat → Int32) → (Nat → Int32) → (Nat → Int32) → (Nat → Int32) → (Nat → Int32) → (Nat → Int32) → Prop} {f0 f1 f2 : Int32} {a1 a2 a3 a4 a5 a6 a7 a8 a9 a10 a11 a12 a13 a14 a15 a16 a17 : Nat → Int32} {P : Nat → Nat → Nat} {C a : Nat} (ha : a < 5) (hC : C ≤ 9) (hP : zk_P C P) (h3 : ∀ a b, a < 5 → b < 5 → a3 (5 * a + b) = nI (P a b)) (h4 : zt_4 P a 0 a4) (h6 : zt_6 P a 0 a5) (H : ∀ s4 s5, zt_4 P a 5 s4 → zt_6 P a 5 s5 → J (nI (a + 1)) a1 a2 a3 s4 s5 a6 a7 a8 a9 a10 a11 a12 a13 a14 a15 a16 a17) : ∃ n, wX_countAll_71 post J (nI a) f0 f1 f2 n 0 a1 a2 a3 a4 a5 a6 a7 a8 a9 a10 a11 a12 a13 a14 a15 a16 a17 := by
  refine pk_loop (σ := (Nat → Int32) × (Nat → Int32)) (fun n b s => wX_countAll_71 post J (nI a) f0 f1 f2 n (nI b) a1 a2 a3 s.1 s.2 a6 a7 a8 a9 a10 a11 a12 a13 a14 a15 a16 a17) (fun b s => zt_4 P a b s.1 ∧ zt_6 P a b s.2) 5 0 (a4, a5) (by omega) ⟨h4, h6⟩ ?_ ?_
  · rintro n ⟨s4, s5⟩ ⟨g4, g6⟩
    exact pk_le 5 5 (fun _ => nm_r (nI_1 a) (H s4 s5 g4 g6)) (fun z => absurd z (by omega))
  · rintro n b ⟨s4, s5⟩ hb ⟨g4, g6⟩ hw
    have g4' : zt_4 P a b s4 := g4
    obtain ⟨g5, t, t1, t2, t3⟩ : zt_6 P a b s5 := g6
    have w1 := zk_w hC hP ha hb
    have w2 := zk_w hC hP hb ha
    have l1 := zk_lt hC hP ha hb
    have l2 := zk_lt hC hP hb ha
    refine pk_le 5 b (fun z => absurd z (by omega)) (fun _ => ⟨pk_in (5 * a + b) 25 (by omega) (zb_ix a b), zw_ones (n := P a b) ((zb_rd (zb_ix a b) (by omega)).trans (h3 a b ha hb)) (by omega) ⟨pk_in (5 * b + a) 25 (by omega) (zb_ix b a), zw_ones (n := P b a) ((zb_rd (zb_ix b a) (by omega)).trans (h3 b a hb ha)) (by omega) (nm_e ⟨pk_in (5 * a + b) 25 (by omega) (zb_ix a b), nm_r (zb_up (n := 5 * a + b) (zb_ix a b) (by omega) (zg_i8 _ (by omega) _ (by omega))) ?_⟩)⟩⟩)
    refine ek_if (zg_le0 (zo (P a b)) (by omega) (zo (P b a)) (by omega)) (fun le => nm_r (nI_1 b) (hw (upd s4 (5 * a + b) (nI (zo (P a b)) - nI (zo (P b a))), s5) ⟨zt_4s hb g4', g5, t, t1, t2, fun y hy => (t3 y hy).trans ?_⟩)) (fun nle => ⟨pk_in a 5 ha, pk_in a 5 ha, nm_r (zb_up (n := a) (v := nI (t ||| 2 ^ b)) rfl (by omega) ?_) (nm_r (nI_1 b) (hw (upd s4 (5 * a + b) (nI (zo (P a b)) - nI (zo (P b a))), upd s5 a (nI (t ||| 2 ^ b))) ⟨zt_4s hb g4', ?_, t ||| 2 ^ b, zb_orlt t1 hb, pk_us, fun y hy => ?_⟩))⟩)
    · constructor
      · exact fun z => ⟨by omega, z.2⟩
      · rintro ⟨z1, z2⟩
        refine ⟨?_, z2⟩
        by_cases e : y = b
        · rw [e] at z2
          have z3 : zo (P b a) < zo (P a b) := z2
          omega
        · omega
    · rw [zb_set (s := t) (c := b) ((zb_rd rfl (by omega)).trans t2) rfl (by omega), zb_i8 _ (Nat.lt_trans (zb_orlt t1 hb) (by omega))]
    · intro x hx
      obtain ⟨t', q1, q2, q3⟩ := g5 x hx
      refine ⟨t', q1, ?_, q3⟩
      show upd s5 a (nI (t ||| 2 ^ b)) x = nI t'
      rw [pk_un (by omega)]; exact q2
    · rw [zb_obit (by omega) (by omega), t3 y hy]
      have z3 : zo (P b a) < zo (P a b) := by omega
      constructor
      · rintro (⟨z1, z2⟩ | z1)
        · exact ⟨by omega, z2⟩
        · rw [z1]; exact ⟨by omega, z3⟩
      · rintro ⟨z1, z2⟩
        by_cases e : y = b
        · exact Or.inr e
        · exact Or.inl ⟨by omega, z2⟩
theorem zw_ca57 {post : St1 → Prop} {f0 f1 f2 : Int32} {a1 a2 a3 a4 a5 a6 a7 a8 a9 a10 a11 a12 a13 a14 a15 a16 a17 : Nat → Int32} {P : Nat → Nat → Nat} {C : Nat} (hC : C ≤ 9) (hP : zk_P C P) (h3 : ∀ a b, a < 5 → b < 5 → a3 (5 * a + b) = nI (P a b)) (H : ∀ s4 s5, zt_4 P 5 0 s4 → zt_5 P 5 s5 → post (f0, f1, f2, a1, a2, a3, s4, s5, a6, a7, a8, a9, a10, a11, a12, a13, a14, a15, a16, a17)) : ∃ n, wX_countAll_57 post f0 f1 f2 n 0 a1 a2 a3 a4 a5 a6 a7 a8 a9 a10 a11 a12 a13 a14 a15 a16 a17 := by
  refine pk_loop (σ := (Nat → Int32) × (Nat → Int32)) (fun n a s => wX_countAll_57 post f0 f1 f2 n (nI a) a1 a2 a3 s.1 s.2 a6 a7 a8 a9 a10 a11 a12 a13 a14 a15 a16 a17) (fun a s => zt_4 P a 0 s.1 ∧ zt_5 P a s.2) 5 0 (a4, a5) (by omega) ⟨fun x y _ _ z => absurd z (by omega), fun x z => absurd z (by omega)⟩ ?_ ?_
  · rintro n ⟨s4, s5⟩ ⟨g4, g5⟩
    exact pk_le 5 5 (fun _ => H s4 s5 g4 g5) (fun z => absurd z (by omega))
  · rintro n a ⟨s4, s5⟩ ha ⟨g4, g5⟩ hw
    have g5' : zt_5 P a s5 := g5
    refine pk_le 5 a (fun z => absurd z (by omega)) (fun _ => ⟨pk_in a 5 ha, nm_r (zb_up (n := a) (v := nI 0) rfl (by omega) rfl) (zw_ca71 ha hC hP h3 g4 ⟨fun x hx => ?_, 0, by omega, pk_us, fun y _ => ?_⟩ (fun t4 t5 q4 q5 => hw (t4, t5) ⟨fun x y hx hy z => q4 x y hx hy (by omega), fun x hx => ?_⟩))⟩)
    · obtain ⟨t', q1, q2, q3⟩ := g5' x hx
      exact ⟨t', q1, by rw [pk_un (by omega)]; exact q2, q3⟩
    · rw [Nat.zero_testBit]
      exact ⟨fun z => absurd z (by decide), fun z => absurd z.1 (by omega)⟩
    · by_cases e : x = a
      · obtain ⟨_, t, t1, t2, t3⟩ := q5
        rw [e]
        exact ⟨t, t1, t2, fun y hy => (t3 y hy).trans ⟨fun z => z.2, fun z => ⟨hy, z⟩⟩⟩
      · exact q5.1 x (by omega)
theorem zw_ca36 {post : St1 → Prop} {f0 f1 f2 : Int32} {a1 a2 a3 a4 a5 a6 a7 a8 a9 a10 a11 a12 a13 a14 a15 a16 a17 : Nat → Int32} {C : Nat} (hC : C ≤ 9) (hf : f0 = nI C) (hr : zr C a1 a2) (h : zt_J a2 0 a3) (H : ∀ P B s3 s4 s5, (∀ a b, a < 5 → b < 5 → s3 (5 * a + b) = nI (P a b)) → (∀ a b, a < 5 → b < 5 → s4 (5 * a + b) = nI (zo (P a b)) - nI (zo (P b a))) → (∀ a, a < 5 → s5 a = nI (B a)) → zk_P C P → zk_B P B → post (f0, f1, f2, a1, a2, s3, s4, s5, a6, a7, a8, a9, a10, a11, a12, a13, a14, a15, a16, a17)) : ∃ n, wX_countAll_36 post n 0 f0 f1 f2 a1 a2 a3 a4 a5 a6 a7 a8 a9 a10 a11 a12 a13 a14 a15 a16 a17 := by
  subst hf
  refine pk_loop (fun n i s => wX_countAll_36 post n (nI i) (nI C) f1 f2 a1 a2 s a4 a5 a6 a7 a8 a9 a10 a11 a12 a13 a14 a15 a16 a17) (fun i s => zt_J a2 i s) C 0 a3 (by omega) h ?_ ?_
  · intro n s hs
    obtain ⟨hP, hv⟩ := zt_P hC hr hs
    refine pk_le C C (fun _ => zw_ca57 hC hP hv (fun s4 s5 q4 q5 => ?_)) (fun z => absurd z (by omega))
    have vb : ∀ x, x < 5 → (s5 x).toNatClampNeg < 32 ∧ s5 x = nI (s5 x).toNatClampNeg ∧ ∀ y, y < 5 → ((s5 x).toNatClampNeg.testBit y = true ↔ zc_bt (fun a b => (s (5 * a + b)).toNatClampNeg) x y) := by
      intro x hx
      obtain ⟨t, t1, t2, t3⟩ := q5 x hx
      have e : (s5 x).toNatClampNeg = t := by rw [t2, nI_clamp (by omega)]
      rw [e]
      exact ⟨t1, t2, t3⟩
    exact H (fun a b => (s (5 * a + b)).toNatClampNeg) (fun x => (s5 x).toNatClampNeg) s s4 s5 hv (fun a b ha hb => q4 a b ha hb (by omega)) (fun a ha => (vb a ha).2.1) hP (fun a ha => ⟨(vb a ha).1, (vb a ha).2.2⟩)
  · intro n i s hi hs hw
    obtain ⟨R, hR⟩ := zr_get (hr i hi)
    exact pk_le C i (fun z => absurd z (by omega)) (fun _ => zw_countBallot (by omega) hR hs (fun s' hs' => nm_r (nI_1 i) (hw s' hs')))
theorem zw_count0 {post : St1 → Prop} {u : St1} {C : Nat} (h : zs C u) (H : ∀ P B u', zk C P B u' → post u') : wpX_countAll post u := by
  obtain ⟨f0, f1, f2, a1, a2, a3, a4, a5, a6, a7, a8, a9, a10, a11, a12, a13, a14, a15, a16, a17⟩ := u
  obtain ⟨hC, hf, hr, h1⟩ := h
  refine br_c (fun z => ?_) (fun z => ?_)
  · refine pk_loop (fun n k s => wX_countAll_15 post f0 1 f2 n (nI k) a1 a2 s a4 a5 a6 a7 a8 a9 a10 a11 a12 a13 a14 a15 a16 a17) (fun k s => ∀ j, j < k → s j = nI 0) 25 0 a3 (by omega) (fun j hj => absurd hj (by omega)) ?_ ?_
    · intro n s hs
      refine pk_le 25 25 (fun _ => zw_ca36 hC hf hr (fun a b ha hb => ⟨0, hs _ (by omega), by decide, fun j hj => absurd hj (by omega)⟩) (fun P B s3 s4 s5 g3 g4 g5 gP gB => ?_)) (fun z => absurd z (by omega))
      exact H P B (f0, 1, f2, a1, a2, s3, s4, s5, a6, a7, a8, a9, a10, a11, a12, a13, a14, a15, a16, a17) ⟨hC, hf, hr, (show ¬ (1 : Int32) = 0 by decide), g3, g4, g5, gP, gB⟩
    · intro n k s hk hs hw
      refine pk_le 25 k (fun z => absurd z (by omega)) (fun _ => ⟨pk_in k 25 hk, nm_r (zb_up (n := k) (v := nI 0) rfl (by omega) rfl) (nm_r (nI_1 k) (hw _ (fun j hj => ?_)))⟩)
      by_cases e : j = k
      · rw [e, pk_us]
      · rw [pk_un e]; exact hs j (by omega)
  · rcases h1 with e | ⟨P, B, hk⟩
    · exact absurd e z
    · exact H P B _ hk
theorem zw_count1 {post : St1 → Prop} {u : St1} {C : Nat} {P : Nat → Nat → Nat} {B : Nat → Nat} (h : zk C P B u) (H : post u) : wpX_countAll post u := by
  obtain ⟨f0, f1, f2, a1, a2, a3, a4, a5, a6, a7, a8, a9, a10, a11, a12, a13, a14, a15, a16, a17⟩ := u
  obtain ⟨_, _, _, h1, _⟩ := h
  exact br_f h1 H
theorem zk_s {C : Nat} {P : Nat → Nat → Nat} {B : Nat → Nat} {u : St1} (h : zk C P B u) : zs C u := ⟨h.1, h.2.1, h.2.2.1, Or.inr ⟨P, B, h⟩⟩
theorem zw_candb {A D : Prop} {u : St1} {c : Nat} (hc : c < 5) (H : D) : wpX_isCandidate (fun r => (r = 0 → A) ∧ (¬ r = 0 → D)) u (nI c) := zw_cand hc (br_f (by decide) H)
theorem zw_margin0 {post : Int32 → St1 → Prop} {u : St1} {C a b : Nat} (h : zs C u) (ha : a < 5) (hb : b < 5) (H : ∀ P B u', zk C P B u' → post (nI (zo (P a b)) - nI (zo (P b a))) u') : wpX_margin post u (nI a) (nI b) := by
  obtain ⟨f0, f1, f2, a1, a2, a3, a4, a5, a6, a7, a8, a9, a10, a11, a12, a13, a14, a15, a16, a17⟩ := u
  unfold wpX_margin
  refine zw_candb ha (zw_candb hb (zw_count0 h ?_))
  rintro P B ⟨f0, f1, f2, a1, a2, a3, a4, a5, a6, a7, a8, a9, a10, a11, a12, a13, a14, a15, a16, a17⟩ h'
  refine ⟨pk_in (5 * a + b) 25 (by omega) (zb_ix a b), ?_⟩
  have e : a4 (5 * nI a + nI b).toNatClampNeg = nI (zo (P a b)) - nI (zo (P b a)) := (zb_rd (zb_ix a b) (by omega)).trans (h'.2.2.2.2.2.1 a b ha hb)
  rw [e]
  exact H P B _ h'
theorem zw_margin1 {post : Int32 → St1 → Prop} {u : St1} {C a b : Nat} {P : Nat → Nat → Nat} {B : Nat → Nat} (h : zk C P B u) (ha : a < 5) (hb : b < 5) (H : post (nI (zo (P a b)) - nI (zo (P b a))) u) : wpX_margin post u (nI a) (nI b) := by
  obtain ⟨f0, f1, f2, a1, a2, a3, a4, a5, a6, a7, a8, a9, a10, a11, a12, a13, a14, a15, a16, a17⟩ := u
  unfold wpX_margin
  refine zw_candb ha (zw_candb hb (zw_count1 h ?_))
  refine ⟨pk_in (5 * a + b) 25 (by omega) (zb_ix a b), ?_⟩
  have e : a4 (5 * nI a + nI b).toNatClampNeg = nI (zo (P a b)) - nI (zo (P b a)) := (zb_rd (zb_ix a b) (by omega)).trans (h.2.2.2.2.2.1 a b ha hb)
  rw [e]
  exact H
theorem zw_leader {post : Int32 → St1 → Prop} {u : St1} {C : Nat} {P : Nat → Nat → Nat} {B : Nat → Nat} (h : zk C P B u) (H0 : (∀ c, ¬ zl_L B c) → post (-1002) u) (H1 : ∀ c, zl_L B c → post (nI c) u) : wpX_leader post u := by
  obtain ⟨f0, f1, f2, a1, a2, a3, a4, a5, a6, a7, a8, a9, a10, a11, a12, a13, a14, a15, a16, a17⟩ := u
  have hA := zk_BA h.2.2.2.2.2.2.2.2
  refine zw_count1 h ?_
  refine pk_loop (σ := Unit) (fun n i _ => wX_leader_6 post f0 f1 f2 a1 a2 a3 a4 a5 a6 a7 a8 a9 a10 a11 a12 a13 a14 a15 a16 a17 n (nI i)) (fun i _ => ∀ c, c < i → ¬ zl_L B c) 5 0 () (by omega) (fun c hc => absurd hc (by omega)) ?_ ?_
  · intro n _ hs
    exact pk_le 5 5 (fun _ => H0 (fun c hc => hs c hc.1 hc)) (fun z => absurd z (by omega))
  · intro n i _ hi hs hw
    have e5 := h.2.2.2.2.2.2.1 i hi
    have hB := hA.1 i hi
    have ho := zb_orlt hB hi
    refine pk_le 5 i (fun z => absurd z (by omega)) (fun _ => ⟨pk_in i 5 hi, ?_⟩)
    refine pk_eq (B i ||| 2 ^ i) 31 (fun z => H1 i ((zl_31 hA hi).mp z)) (fun z => nm_r (nI_1 i) (hw () (fun c hc => ?_))) (zb_set (s := B i) (c := i) ((zb_rd rfl (by omega)).trans e5) rfl (by omega))
    by_cases e : c = i
    · rw [e]; exact fun q => z ((zl_31 hA hi).mpr q)
    · exact hs c (by omega)
end
section
/-! two shapes of loops -/
/-- for (b = 0; b < 5 && good; b++) good = cond b -/
theorem zg_all {W : Nat → Int32 → Int32 → Prop} {E : Int32 → Prop} (cond : Nat → Prop) (h5 : ∀ n x, E x → W (n + 1) x (nI 5)) (h0 : ∀ n i, i < 5 → E 0 → W (n + 1) 0 (nI i)) (hs : ∀ n i, i < 5 → (cond i → W n 1 (nI (i + 1))) → (¬ cond i → W n 0 (nI (i + 1))) → W (n + 1) 1 (nI i)) (H1 : (∀ i, i < 5 → cond i) → E 1) (H0 : ∀ i, i < 5 → ¬ cond i → E 0) : ∃ n, W n 1 (nI 0) := by
  refine pk_loop (σ := Int32) (fun n i x => W n x (nI i)) (fun i x => (x = 1 ∧ ∀ j, j < i → cond j) ∨ (x = 0 ∧ ∃ j, j < 5 ∧ ¬ cond j)) 5 0 1 (by omega) (Or.inl ⟨rfl, fun j hj => absurd hj (by omega)⟩) ?_ ?_
  · rintro n x (⟨e, h⟩ | ⟨e, j, hj, h⟩)
    · exact h5 n x (by rw [e]; exact H1 h)
    · exact h5 n x (by rw [e]; exact H0 j hj h)
  · rintro n i x hi (⟨e, h⟩ | ⟨e, j, hj, h⟩) hw
    · show W (n + 1) x (nI i)
      rw [e]
      refine hs n i hi (fun c => hw 1 (Or.inl ⟨rfl, fun j hj => ?_⟩)) (fun c => hw 0 (Or.inr ⟨rfl, i, hi, c⟩))
      by_cases q : j = i
      · rw [q]; exact c
      · exact h j (by omega)
    · show W (n + 1) x (nI i)
      rw [e]
      exact h0 n i hi (H0 j hj h)
/-- for (a = 0; a < 5; a++) if (good a) set |= 1 << a -/
theorem zg_set {W : Nat → Int32 → Int32 → Prop} (good : Nat → Prop) (hx : ∀ n s, s < 32 → (∀ c, c < 5 → (s.testBit c = true ↔ good c)) → W (n + 1) (nI s) (nI 5)) (hs : ∀ n i s, i < 5 → s < 32 → (good i → W n (nI (s ||| 2 ^ i)) (nI (i + 1))) → (¬ good i → W n (nI s) (nI (i + 1))) → W (n + 1) (nI s) (nI i)) : ∃ n, W n (nI 0) (nI 0) := by
  refine pk_loop (σ := Nat) (fun n i s => W n (nI s) (nI i)) (fun i s => s < 32 ∧ ∀ c, c < 5 → (s.testBit c = true ↔ c < i ∧ good c)) 5 0 0 (by omega) ⟨by omega, fun c _ => ?_⟩ ?_ ?_
  · rw [Nat.zero_testBit]
    exact ⟨fun z => absurd z (by decide), fun z => absurd z.1 (by omega)⟩
  · rintro n s ⟨h1, h2⟩
    exact hx n s h1 (fun c hc => (h2 c hc).trans ⟨fun z => z.2, fun z => ⟨hc, z⟩⟩)
  · rintro n i s hi ⟨h1, h2⟩ hw
    refine hs n i s hi h1 (fun g => hw _ ⟨zb_orlt h1 hi, fun c hc => ?_⟩) (fun g => hw _ ⟨h1, fun c hc => ?_⟩)
    · rw [zb_obit (by omega) (by omega), h2 c hc]
      constructor
      · rintro (⟨z1, z2⟩ | z)
        · exact ⟨by omega, z2⟩
        · rw [z]; exact ⟨by omega, g⟩
      · rintro ⟨z1, z2⟩
        by_cases e : c = i
        · exact Or.inr e
        · exact Or.inl ⟨by omega, z2⟩
    · rw [h2 c hc]
      constructor
      · rintro ⟨z1, z2⟩
        exact ⟨by omega, z2⟩
      · rintro ⟨z1, z2⟩
        refine ⟨?_, z2⟩
        by_cases e : c = i
        · rw [e] at z2; exact absurd z2 g
        · omega
/-! rule 13 -/
theorem zw_uncovered {post : Int32 → Prop} {u : St1} {C : Nat} {P : Nat → Nat → Nat} {B : Nat → Nat} (h : zk C P B u) (H : ∀ s, zl_in B s → post (nI s)) : wpX_uncovered post u := by
  obtain ⟨f0, f1, f2, a1, a2, a3, a4, a5, a6, a7, a8, a9, a10, a11, a12, a13, a14, a15, a16, a17⟩ := u
  have hA := zk_BA h.2.2.2.2.2.2.2.2
  have e5 : ∀ a, a < 5 → a5 a = nI (B a) := h.2.2.2.2.2.2.1
  refine zg_set (W := fun n x y => wX_uncovered_4 post f0 f1 f2 a1 a2 a3 a4 a5 a6 a7 a8 a9 a10 a11 a12 a13 a14 a15 a16 a17 n x y) (fun a => ∀ b, b < 5 → ¬ ((B b).testBit a = true ∧ B a ^^^ (B a &&& B b) = 0)) ?_ ?_
  · intro n s hs hg
    exact pk_le 5 5 (fun _ => H s (zp_unc hA hs hg)) (fun z => absurd z (by omega))
  · intro n i s hi hs w1 w0
    refine pk_le 5 i (fun z => absurd z (by omega)) (fun _ => ?_)
    refine zg_all (W := fun m x y => wX_uncovered_14 post (wX_uncovered_4 post f0 f1 f2 a1 a2 a3 a4 a5 a6 a7 a8 a9 a10 a11 a12 a13 a14 a15 a16 a17 n) (nI s) (nI i) f0 f1 f2 a1 a2 a3 a4 a5 a6 a7 a8 a9 a10 a11 a12 a13 a14 a15 a16 a17 m x y) (E := fun x => wX_uncovered_70 post (wX_uncovered_4 post f0 f1 f2 a1 a2 a3 a4 a5 a6 a7 a8 a9 a10 a11 a12 a13 a14 a15 a16 a17 n) (nI s) (nI i) x f0 f1 f2 a1 a2 a3 a4 a5 a6 a7 a8 a9 a10 a11 a12 a13 a14 a15 a16 a17) (fun b => ¬ ((B b).testBit i = true ∧ B i ^^^ (B i &&& B b) = 0)) ?_ ?_ ?_ ?_ ?_
    · exact fun m x e => pk_le 5 5 (fun _ => e) (fun z => absurd z (by omega))
    · exact fun m j hj e => pk_le 5 j (fun z => absurd z (by omega)) (fun _ => br_t rfl e)
    · intro m j hj c1 c0
      have hBj := hA.1 j hj
      have hBi := hA.1 i hi
      have hd : B i ^^^ (B i &&& B j) < 32 := zb_dlt hBi
      refine pk_le 5 j (fun z => absurd z (by omega)) (fun _ => br_f (by decide) ⟨pk_in j 5 hj, zw_in (s := B j) (c := i) ((zb_rd rfl (by omega)).trans (e5 j hj)) rfl (by omega) (by omega) (fun z => nm_r (nI_1 j) (c1 (fun q => absurd q.1 (zb_ft z)))) (fun z => ⟨pk_in i 5 hi, pk_in j 5 hj, ?_⟩)⟩)
      refine pk_eq (B i ^^^ (B i &&& B j)) 0 (fun q => nm_r (nI_1 j) (c0 (fun w => w ⟨z, q⟩))) (fun q => nm_r (nI_1 j) (c1 (fun w => q w.2))) ?_
      rw [zb_rd (a := a5) (n := i) rfl (by omega), zb_rd (a := a5) (n := j) rfl (by omega), e5 i hi, e5 j hj, zb_not]
    · exact fun g => br_f (by decide) (nm_r (zb_set rfl rfl (by omega)) (nm_r (nI_1 i) (w1 g)))
    · exact fun j hj nc => br_t rfl (nm_r (nI_1 i) (w0 (fun g => nc (g j hj))))
/-! rule 11 -/
theorem zl_pow : ∀ c, c < 5 → 2 ^ c < 31 ∧ 1 ≤ 2 ^ c := by decide
theorem zw_smallestSet {post : Int32 → Prop} {u : St1} {C : Nat} {P : Nat → Nat → Nat} {B : Nat → Nat} (h : zk C P B u) (H : ∀ s, zl_D B s → (∀ c, zl_L B c → s = 2 ^ c) → post (nI s)) : wpX_smallestSet post u := by
  obtain ⟨f0, f1, f2, a1, a2, a3, a4, a5, a6, a7, a8, a9, a10, a11, a12, a13, a14, a15, a16, a17⟩ := u
  have hA := zk_BA h.2.2.2.2.2.2.2.2
  have e5 : ∀ a, a < 5 → a5 a = nI (B a) := h.2.2.2.2.2.2.1
  refine pk_loop (σ := Nat) (fun n i s => wX_smallestSet_5 post f0 f1 f2 a1 a2 a3 a4 a5 a6 a7 a8 a9 a10 a11 a12 a13 a14 a15 a16 a17 n (nI s) (nI i)) (fun i s => 1 ≤ i ∧ zl_D B s ∧ ∀ t, t < i → zl_D B t → zo s ≤ zo t) 31 1 31 (by omega) ⟨by omega, ⟨by omega, by omega, fun c hc _ => ?_⟩, fun t ht hD => absurd hD.2.1 (by omega)⟩ ?_ ?_
  · exact (zb_31 (B c) (hA.1 c hc) 31 (by omega)).mpr (fun d hd => Or.inr (zh_full 31 (by omega) (by decide) d hd))
  · rintro n s ⟨_, h1, h2⟩
    refine pk_le 31 31 (fun _ => H s h1 (fun c hc => ?_)) (fun z => absurd z (by omega))
    have z := h2 (2 ^ c) (zl_pow c hc.1).1 (zl_Ld hA hc)
    rw [zo_pow c (by have := hc.1; omega)] at z
    obtain ⟨d, hd, ed⟩ := zo_one s h1.1 h1.2.1 z
    have hd2 : zl_L B d := by
      refine (zl_31 hA hd).mp ?_
      have := h1.2.2 d hd (by rw [ed]; exact (zb_two d (by omega) d (by omega)).mpr rfl)
      rw [ed] at this
      exact this
    rw [ed, zl_one hA hd2 hc]
  · rintro n i s hi ⟨hi1, h1, h2⟩ hw
    have hs := h1.1
    have skip : ¬ (zl_D B i ∧ zo i < zo s) → wX_smallestSet_5 post f0 f1 f2 a1 a2 a3 a4 a5 a6 a7 a8 a9 a10 a11 a12 a13 a14 a15 a16 a17 n (nI s) (nI (i + 1)) := by
      intro ng
      refine hw s ⟨by omega, h1, fun t ht hD => ?_⟩
      by_cases e : t = i
      · rw [e] at hD ⊢
        rcases Nat.lt_or_ge (zo i) (zo s) with z | z
        · exact absurd ⟨hD, z⟩ ng
        · exact z
      · exact h2 t (by omega) hD
    refine pk_le 31 i (fun z => absurd z (by omega)) (fun _ => zw_ones (n := i) rfl (by omega) (zw_ones (n := s) rfl (by omega) ?_))
    have q1 := zo_le i
    have q2 := zo_le s
    refine pk_le (zo s) (zo i) (fun z => ⟨1, pk_le 5 0 (fun z => absurd z (by omega)) (fun _ => br_t rfl (br_t rfl (nm_r (nI_1 i) (skip (fun w => absurd w.2 (by omega))))))⟩) (fun z => ?_)
    refine zg_all (W := fun m x y => wX_smallestSet_33 post (wX_smallestSet_5 post f0 f1 f2 a1 a2 a3 a4 a5 a6 a7 a8 a9 a10 a11 a12 a13 a14 a15 a16 a17 n) (nI s) (nI i) f0 f1 f2 a1 a2 a3 a4 a5 a6 a7 a8 a9 a10 a11 a12 a13 a14 a15 a16 a17 m x y) (E := fun x => wX_smallestSet_79 post (wX_smallestSet_5 post f0 f1 f2 a1 a2 a3 a4 a5 a6 a7 a8 a9 a10 a11 a12 a13 a14 a15 a16 a17 n) (nI s) (nI i) x f0 f1 f2 a1 a2 a3 a4 a5 a6 a7 a8 a9 a10 a11 a12 a13 a14 a15 a16 a17) (fun c => i.testBit c = true → B c ||| i = 31) ?_ ?_ ?_ ?_ ?_
    · exact fun m x e => pk_le 5 5 (fun _ => e) (fun z => absurd z (by omega))
    · exact fun m j hj e => pk_le 5 j (fun z => absurd z (by omega)) (fun _ => br_t rfl e)
    · intro m j hj c1 c0
      have hBj := hA.1 j hj
      have ho : B j ||| i < 32 := zb_olt hBj (by omega)
      refine pk_le 5 j (fun z => absurd z (by omega)) (fun _ => br_f (by decide) (zw_in (s := i) (c := j) rfl rfl (by omega) (by omega) (fun w => nm_r (nI_1 j) (c1 (fun q => absurd q (zb_ft w)))) (fun w => ⟨pk_in j 5 hj, ?_⟩)))
      refine pk_eq (B j ||| i) 31 (fun q => nm_r (nI_1 j) (c1 (fun _ => q))) (fun q => nm_r (nI_1 j) (c0 (fun t => q (t w)))) ?_
      rw [zb_rd (a := a5) (n := j) rfl (by omega), e5 j hj, zb_or]
    · refine fun g => br_f (by decide) (nm_r (nI_1 i) (hw i ⟨by omega, ⟨by omega, hi1, g⟩, fun t ht hD => ?_⟩))
      by_cases e : t = i
      · rw [e]; exact Nat.le_refl _
      · have := h2 t (by omega) hD; omega
    · exact fun j hj nc => br_t rfl (nm_r (nI_1 i) (skip (fun w => nc (w.1.2.2 j hj))))
/-! rule 12, and closing reaches -/
def zq_ar (r : Nat → Nat) (s : Nat → Int32) : Prop := ∀ a, a < 5 → s a = nI (r a)
theorem zq_cc (q : Nat → Nat) (c : Nat) : zq_st q c c = q c := by
  unfold zq_st
  split
  · exact Nat.or_self _
  · rfl
theorem zw_closeReaches {post : St1 → Prop} {f0 f1 f2 : Int32} {a1 a2 a3 a4 a5 a6 a7 a8 a9 a10 a11 a12 a13 a14 a15 a16 a17 : Nat → Int32} {r : Nat → Nat} (h : zq_ar r a9) (hr : ∀ a, a < 5 → r a < 32) (H : ∀ s r', zq_cl r r' → zq_ar r' s → post (f0, f1, f2, a1, a2, a3, a4, a5, a6, a7, a8, s, a10, a11, a12, a13, a14, a15, a16, a17)) : wpX_closeReaches post (f0, f1, f2, a1, a2, a3, a4, a5, a6, a7, a8, a9, a10, a11, a12, a13, a14, a15, a16, a17) := by
  refine pk_loop (fun n c s => wX_closeReaches_2 post f0 f1 f2 n (nI c) a1 a2 a3 a4 a5 a6 a7 a8 s a10 a11 a12 a13 a14 a15 a16 a17) (fun c s => zq_ar (zq_it r c) s) 5 0 a9 (by omega) h ?_ ?_
  · intro n s hs
    exact pk_le 5 5 (fun _ => H s _ (zq_it5 hr) hs) (fun z => absurd z (by omega))
  · intro n c s hc hs hw
    have hq : ∀ a, a < 5 → zq_it r c a < 32 := (zq_main hr c (by omega)).1
    refine pk_le 5 c (fun z => absurd z (by omega)) (fun _ => ?_)
    refine pk_loop (fun m a s => wX_closeReaches_9 post (wX_closeReaches_2 post f0 f1 f2 n) (nI c) f0 f1 f2 m (nI a) a1 a2 a3 a4 a5 a6 a7 a8 s a10 a11 a12 a13 a14 a15 a16 a17) (fun a s => ∀ x, x < 5 → s x = nI (if x < a then zq_st (zq_it r c) c x else zq_it r c x)) 5 0 s (by omega) (fun x hx => by rw [if_neg (by omega)]; exact hs x hx) ?_ ?_
    · intro m s' hs'
      refine pk_le 5 5 (fun _ => nm_r (nI_1 c) (hw s' (fun x hx => ?_))) (fun z => absurd z (by omega))
      have := hs' x hx
      rw [if_pos hx] at this
      exact this
    · intro m a s' ha hs' hw'
      have ea : s' a = nI (zq_it r c a) := by
        have := hs' a ha
        rw [if_neg (by omega)] at this
        exact this
      have ec : s' c = nI (zq_it r c c) := by
        have := hs' c hc
        rw [zq_cc, ite_self] at this
        exact this
      have la := hq a ha
      have lc := hq c hc
      refine pk_le 5 a (fun z => absurd z (by omega)) (fun _ => ⟨pk_in a 5 ha, zw_in (s := zq_it r c a) (c := c) ((zb_rd rfl (by omega)).trans ea) rfl (by omega) (by omega) (fun z => nm_r (nI_1 a) (hw' s' (fun x hx => ?_))) (fun z => ⟨pk_in a 5 ha, pk_in c 5 hc, pk_in a 5 ha, nm_r (zb_up (n := a) (v := nI (zq_it r c a ||| zq_it r c c)) rfl (by omega) ?_) (nm_r (nI_1 a) (hw' _ (fun x hx => ?_)))⟩)⟩)
      · by_cases e : x = a
        · rw [e, if_pos (by omega), ea]
          unfold zq_st
          rw [if_neg (zb_ft z)]
        · have := hs' x hx
          by_cases e2 : x < a
          · rw [if_pos e2] at this; rw [if_pos (by omega)]; exact this
          · rw [if_neg e2] at this; rw [if_neg (by omega)]; exact this
      · rw [zb_rd (a := s') (n := a) rfl (by omega), zb_rd (a := s') (n := c) rfl (by omega), ea, ec, zb_or, zb_i8 _ (Nat.lt_trans (zb_olt la lc) (by omega))]
      · by_cases e : x = a
        · rw [e, if_pos (by omega), pk_us]
          unfold zq_st
          rw [if_pos z]
        · rw [pk_un e]
          have := hs' x hx
          by_cases e2 : x < a
          · rw [if_pos e2] at this; rw [if_pos (by omega)]; exact this
          · rw [if_neg e2] at this; rw [if_neg (by omega)]; exact this
theorem zw_unreturned {post : Int32 → St1 → Prop} {u : St1} {C : Nat} {P : Nat → Nat → Nat} {B : Nat → Nat} (h : zk C P B u) (H : ∀ s u', zk C P B u' → 1 ≤ s → s < 32 → (∀ c, zl_L B c → s = 2 ^ c) → post (nI s) u') : wpX_unreturned post u := by
  obtain ⟨f0, f1, f2, a1, a2, a3, a4, a5, a6, a7, a8, a9, a10, a11, a12, a13, a14, a15, a16, a17⟩ := u
  have hA := zk_BA h.2.2.2.2.2.2.2.2
  have e5 : ∀ a, a < 5 → a5 a = nI (B a) := h.2.2.2.2.2.2.1
  refine pk_loop (fun n i s => wX_unreturned_2 post f0 f1 f2 n (nI i) a1 a2 a3 a4 a5 a6 a7 a8 s a10 a11 a12 a13 a14 a15 a16 a17) (fun i s => ∀ j, j < i → s j = nI (B j)) 5 0 a9 (by omega) (fun j hj => absurd hj (by omega)) ?_ ?_
  · intro n s hs
    refine pk_le 5 5 (fun _ => zw_closeReaches hs hA.1 (fun s' r' hcl har => ?_)) (fun z => absurd z (by omega))
    refine zg_set (W := fun n x y => wX_unreturned_33 post f0 f1 f2 a1 a2 a3 a4 a5 a6 a7 a8 s' a10 a11 a12 a13 a14 a15 a16 a17 n x y) (fun a => ∀ b, b < 5 → ((r' b).testBit a = true → (r' a).testBit b = true)) ?_ ?_
    · intro n t ht hg
      obtain ⟨p1, p2⟩ := zp_unr hA hcl ht hg
      exact pk_le 5 5 (fun _ => H t (f0, f1, f2, a1, a2, a3, a4, a5, a6, a7, a8, s', a10, a11, a12, a13, a14, a15, a16, a17) h p1 ht p2) (fun z => absurd z (by omega))
    · intro n i t hi ht w1 w0
      refine pk_le 5 i (fun z => absurd z (by omega)) (fun _ => ?_)
      refine zg_all (W := fun m x y => wX_unreturned_43 post (wX_unreturned_33 post f0 f1 f2 a1 a2 a3 a4 a5 a6 a7 a8 s' a10 a11 a12 a13 a14 a15 a16 a17 n) (nI t) (nI i) f0 f1 f2 a1 a2 a3 a4 a5 a6 a7 a8 s' a10 a11 a12 a13 a14 a15 a16 a17 m x y) (E := fun x => wX_unreturned_95 post (wX_unreturned_33 post f0 f1 f2 a1 a2 a3 a4 a5 a6 a7 a8 s' a10 a11 a12 a13 a14 a15 a16 a17 n) (nI t) (nI i) x f0 f1 f2 a1 a2 a3 a4 a5 a6 a7 a8 s' a10 a11 a12 a13 a14 a15 a16 a17) (fun b => ((r' b).testBit i = true → (r' i).testBit b = true)) ?_ ?_ ?_ ?_ ?_
      · exact fun m x e => pk_le 5 5 (fun _ => e) (fun z => absurd z (by omega))
      · exact fun m j hj e => pk_le 5 j (fun z => absurd z (by omega)) (fun _ => br_t rfl e)
      · intro m j hj c1 c0
        have lj := hcl.1 j hj
        have li := hcl.1 i hi
        exact pk_le 5 j (fun z => absurd z (by omega)) (fun _ => br_f (by decide) ⟨pk_in j 5 hj, zw_in (s := r' j) (c := i) ((zb_rd rfl (by omega)).trans (har j hj)) rfl (by omega) (by omega) (fun z => nm_r (nI_1 j) (c1 (fun q => absurd q (zb_ft z)))) (fun z => ⟨pk_in i 5 hi, zw_in (s := r' i) (c := j) ((zb_rd rfl (by omega)).trans (har i hi)) rfl (by omega) (by omega) (fun z2 => nm_r (nI_1 j) (c0 (fun q => absurd (q z) (zb_ft z2)))) (fun z2 => nm_r (nI_1 j) (c1 (fun _ => z2)))⟩)⟩)
      · exact fun g => br_f (by decide) (nm_r (zb_set rfl rfl (by omega)) (nm_r (nI_1 i) (w1 g)))
      · exact fun j hj nc => br_t rfl (nm_r (nI_1 i) (w0 (fun g => nc (g j hj))))
  · intro n i s hi hs hw
    have hBi := hA.1 i hi
    refine pk_le 5 i (fun z => absurd z (by omega)) (fun _ => ⟨pk_in i 5 hi, pk_in i 5 hi, nm_r (zb_up (n := i) (v := nI (B i)) rfl (by omega) ?_) (nm_r (nI_1 i) (hw _ (fun j hj => ?_)))⟩)
    · rw [zb_rd (a := a5) (n := i) rfl (by omega), e5 i hi, zb_by (by omega)]
    · by_cases e : j = i
      · rw [e, pk_us]
      · rw [pk_un e]; exact hs j (by omega)
end
section
/-! rule 14 -/
theorem zo_ge1 : ∀ s, s < 32 → 1 ≤ s → 1 ≤ zo s := by decide +kernel
theorem zb_p1 : ∀ z, z < 6 → (1 : Int32) <<< (nI z &&& 31) - 1 = nI (2 ^ z - 1) := by decide +kernel
theorem zw_frontOf {post : Int32 → Prop} {u : St1} {C s : Nat} {P : Nat → Nat → Nat} {B : Nat → Nat} (h : zk C P B u) (hs : s < 32) (hs1 : 1 ≤ s) (H1 : zh_ch B s → ∀ f, zh_fr B s f → post (nI f)) (H0 : ¬ zh_ch B s → post (-1)) : wpX_frontOf post u (nI s) := by
  obtain ⟨f0, f1, f2, a1, a2, a3, a4, a5, a6, a7, a8, a9, a10, a11, a12, a13, a14, a15, a16, a17⟩ := u
  have hA := zk_BA h.2.2.2.2.2.2.2.2
  have e5 : ∀ a, a < 5 → a5 a = nI (B a) := h.2.2.2.2.2.2.1
  have z1 := zo_ge1 s hs hs1
  have z5 := zo_5 s hs
  unfold wpX_frontOf
  refine zw_ones (n := s) rfl (by omega) ?_
  refine pk_loop (σ := Nat × Int32) (fun n i q => wX_frontOf_14 post (nI s) (nI (zo s)) f0 f1 f2 a1 a2 a3 a4 a5 a6 a7 a8 a9 a10 a11 a12 a13 a14 a15 a16 a17 n (nI q.1) q.2 (nI i)) (fun i q => q.1 < 2 ^ 6 ∧ (∀ t, t < 6 → (q.1.testBit t = true ↔ ∃ c, c < i ∧ c < 5 ∧ s.testBit c = true ∧ zo (B c &&& s) = t)) ∧ ((q.2 = -1 ∧ ∀ c, c < i → s.testBit c = true → zo (B c &&& s) + 1 ≠ zo s) ∨ ∃ f, q.2 = nI f ∧ zh_fr B s f)) 5 0 (0, -1) (by omega) ⟨by decide, fun t _ => ?_, Or.inl ⟨rfl, fun c hc => absurd hc (by omega)⟩⟩ ?_ ?_
  · show (0 : Nat).testBit t = true ↔ _
    rw [Nat.zero_testBit]
    constructor
    · intro z; exact absurd z (by decide)
    · rintro ⟨c, hc, _⟩; exact absurd hc (by omega)
  · rintro n ⟨seen, fr⟩ ⟨q1, q2, q3⟩
    have q1' : seen < 2 ^ 6 := q1
    have q2' : ∀ t, t < 6 → (seen.testBit t = true ↔ ∃ c, c < 5 ∧ c < 5 ∧ s.testBit c = true ∧ zo (B c &&& s) = t) := q2
    have hlt : ∀ c, c < 5 → s.testBit c = true → zo (B c &&& s) < zo s := fun c hc ec => zo_miss (B c) (hA.1 c hc) s hs c hc ec (zb_nf (fun z => hA.2 c c hc hc z z))
    have p6 : (2 : Nat) ^ zo s ≤ 2 ^ 5 := Nat.pow_le_pow_right (by omega) z5
    have key : seen = 2 ^ zo s - 1 ↔ zh_ch B s := by
      constructor
      · intro e t ht
        have : seen.testBit t = true := by rw [e, Nat.testBit_two_pow_sub_one]; exact decide_eq_true ht
        obtain ⟨c, hc, _, e1, e2⟩ := (q2' t (by omega)).mp this
        exact ⟨c, hc, e1, e2⟩
      · intro hch
        refine Nat.eq_of_testBit_eq (fun t => ?_)
        rw [Nat.testBit_two_pow_sub_one]
        by_cases ht : t < zo s
        · rw [decide_eq_true ht]
          obtain ⟨c, hc, e1, e2⟩ := hch t ht
          exact (q2' t (by omega)).mpr ⟨c, hc, hc, e1, e2⟩
        · rw [decide_eq_false ht]
          by_cases h6 : t < 6
          · refine zb_nf (fun z => ?_)
            obtain ⟨c, hc, _, e1, e2⟩ := (q2' t h6).mp z
            have := hlt c hc e1
            omega
          · exact Nat.testBit_lt_two_pow (Nat.lt_of_lt_of_le q1' (Nat.pow_le_pow_right (by omega) (by omega)))
    refine pk_le 5 5 (fun _ => ?_) (fun z => absurd z (by omega))
    refine pk_eq seen (2 ^ zo s - 1) (fun z => ?_) (fun z => H0 (fun w => z (key.mpr w))) rfl (zb_p1 (zo s) (by omega))
    have hch := key.mp z
    rcases q3 with ⟨_, hn⟩ | ⟨f, ef, hf⟩
    · obtain ⟨c, hc, e1, e2⟩ := hch (zo s - 1) (by omega)
      exact absurd (show zo (B c &&& s) + 1 = zo s by omega) (hn c hc e1)
    · show post fr
      rw [show fr = nI f from ef]
      exact H1 hch f hf
  · rintro n i ⟨seen, fr⟩ hi ⟨q1, q2, q3⟩ hw
    have q1' : seen < 2 ^ 6 := q1
    have q2' : ∀ t, t < 6 → (seen.testBit t = true ↔ ∃ c, c < i ∧ c < 5 ∧ s.testBit c = true ∧ zo (B c &&& s) = t) := q2
    have q3' : (fr = -1 ∧ ∀ c, c < i → s.testBit c = true → zo (B c &&& s) + 1 ≠ zo s) ∨ ∃ f, fr = nI f ∧ zh_fr B s f := q3
    refine pk_le 5 i (fun z => absurd z (by omega)) (fun _ => zw_in (s := s) (c := i) rfl rfl (by omega) (by omega) (fun z => nm_r (nI_1 i) (hw (seen, fr) ⟨q1', fun t ht => ?_, ?_⟩)) (fun z => ⟨pk_in i 5 hi, ?_⟩))
    · refine (q2' t ht).trans ⟨?_, ?_⟩
      · rintro ⟨c, c1, c2, c3, c4⟩
        exact ⟨c, by omega, c2, c3, c4⟩
      · rintro ⟨c, c1, c2, c3, c4⟩
        have : c ≠ i := fun e => by rw [e, z] at c3; exact absurd c3 (by decide)
        exact ⟨c, by omega, c2, c3, c4⟩
    · rcases q3' with ⟨e, hn⟩ | hf
      · refine Or.inl ⟨e, fun c hc ec => ?_⟩
        have : c ≠ i := fun e => by rw [e, z] at ec; exact absurd ec (by decide)
        exact hn c (by omega) ec
      · exact Or.inr hf
    · have hl : B i &&& s < 32 := zh_al hs
      have hz : zo (B i &&& s) < zo s := zo_miss (B i) (hA.1 i hi) s hs i hi z (zb_nf (fun z => hA.2 i i hi hi z z))
      have nb : ∀ t, t < 6 → ((seen ||| 2 ^ zo (B i &&& s)).testBit t = true ↔ ∃ c, c < i + 1 ∧ c < 5 ∧ s.testBit c = true ∧ zo (B c &&& s) = t) := by
        intro t ht
        rw [zb_obit (by omega) (by omega), q2' t ht]
        constructor
        · rintro (⟨c, c1, c2, c3, c4⟩ | e)
          · exact ⟨c, by omega, c2, c3, c4⟩
          · exact ⟨i, by omega, hi, z, e.symm⟩
        · rintro ⟨c, c1, c2, c3, c4⟩
          by_cases e : c = i
          · rw [e] at c4; exact Or.inr c4.symm
          · exact Or.inl ⟨c, by omega, c2, c3, c4⟩
      have n6 : seen ||| 2 ^ zo (B i &&& s) < 2 ^ 6 := Nat.or_lt_two_pow q1' (Nat.pow_lt_pow_right (by omega) (by omega))
      refine zw_ones (n := B i &&& s) ?_ (by omega) (nm_r (zb_set (s := seen) (c := zo (B i &&& s)) rfl rfl (by omega)) ?_)
      · rw [zb_rd (a := a5) (n := i) rfl (by omega), e5 i hi, zb_and]
      · refine pk_eq (zo (B i &&& s)) (zo s - 1) (fun e => nm_r (nI_1 i) (hw (_, nI i) ⟨n6, nb, Or.inr ⟨i, rfl, hi, z, by omega⟩⟩)) (fun e => nm_r (nI_1 i) (hw (_, fr) ⟨n6, nb, ?_⟩)) rfl (zb_pred (by omega))
        rcases q3' with ⟨e', hn⟩ | hf
        · refine Or.inl ⟨e', fun c hc ec => ?_⟩
          by_cases e2 : c = i
          · rw [e2]; omega
          · exact hn c (by omega) ec
        · exact Or.inr hf
theorem zw_chainFronts {post : Int32 → Prop} {u : St1} {C : Nat} {P : Nat → Nat → Nat} {B : Nat → Nat} (h : zk C P B u) (H : ∀ s, zl_in B s → post (nI s)) : wpX_chainFronts post u := by
  have hk := h
  obtain ⟨f0, f1, f2, a1, a2, a3, a4, a5, a6, a7, a8, a9, a10, a11, a12, a13, a14, a15, a16, a17⟩ := u
  have hA := zk_BA h.2.2.2.2.2.2.2.2
  have e5 : ∀ a, a < 5 → a5 a = nI (B a) := h.2.2.2.2.2.2.1
  refine pk_loop (σ := Nat) (fun n i r => wX_chainFronts_4 post f0 f1 f2 a1 a2 a3 a4 a5 a6 a7 a8 a9 a10 a11 a12 a13 a14 a15 a16 a17 n (nI r) (nI i)) (fun i r => 1 ≤ i ∧ r < 32 ∧ (∀ f, f < 5 → r.testBit f = true → ∃ s, s < 32 ∧ zh_fr B s f ∧ zh_lo B s) ∧ (∀ s, 1 ≤ s → s < i → zh_ch B s → zh_lo B s → 1 ≤ r)) 32 1 0 (by omega) ⟨by omega, by omega, fun f _ z => ?_, fun s h1 h2 => absurd h1 (by omega)⟩ ?_ ?_
  · rw [Nat.zero_testBit] at z; exact absurd z (by decide)
  · rintro n r ⟨_, r1, r2, r3⟩
    refine pk_lt 31 32 (fun _ => H r ⟨?_, r1, fun S hS c hc ec => ?_⟩) (fun z => absurd z (by omega))
    · obtain ⟨s, s1, s2, s3, s4⟩ := zh_ex1 hA
      exact r3 s s2 s1 s3 s4
    · obtain ⟨s, s1, s2, s3⟩ := r2 c hc ec
      exact zh_in hA s1 s2 s3 hS
  · rintro n i r hi ⟨hi1, r1, r2, r3⟩ hw
    have skip : ¬ (zh_ch B i ∧ zh_lo B i) → wX_chainFronts_4 post f0 f1 f2 a1 a2 a3 a4 a5 a6 a7 a8 a9 a10 a11 a12 a13 a14 a15 a16 a17 n (nI r) (nI (i + 1)) := by
      intro ng
      refine hw r ⟨by omega, r1, r2, fun s s1 s2 s3 s4 => ?_⟩
      by_cases e : s = i
      · rw [e] at s3 s4; exact absurd ⟨s3, s4⟩ ng
      · exact r3 s s1 (by omega) s3 s4
    refine pk_lt 31 i (fun z => absurd z (by omega)) (fun _ => zw_frontOf hk hi hi1 (fun hch f hf => br_t (nI_pos' (by have := hf.1; omega)) ?_) (fun hch => br_f (by decide) (nm_r (nI_1 i) (skip (fun w => hch w.1)))))
    have f5 := hf.1
    refine zg_all (W := fun m x y => wX_chainFronts_29 post (wX_chainFronts_4 post f0 f1 f2 a1 a2 a3 a4 a5 a6 a7 a8 a9 a10 a11 a12 a13 a14 a15 a16 a17 n) (nI r) (nI i) (nI f) f0 f1 f2 a1 a2 a3 a4 a5 a6 a7 a8 a9 a10 a11 a12 a13 a14 a15 a16 a17 m x y) (E := fun x => wX_chainFronts_77 post (wX_chainFronts_4 post f0 f1 f2 a1 a2 a3 a4 a5 a6 a7 a8 a9 a10 a11 a12 a13 a14 a15 a16 a17 n) (nI r) (nI i) (nI f) x f0 f1 f2 a1 a2 a3 a4 a5 a6 a7 a8 a9 a10 a11 a12 a13 a14 a15 a16 a17) (fun c => i.testBit c = true ∨ i ^^^ (i &&& B c) ≠ 0) ?_ ?_ ?_ ?_ ?_
    · exact fun m x e => pk_le 5 5 (fun _ => e) (fun z => absurd z (by omega))
    · exact fun m j hj e => pk_le 5 j (fun z => absurd z (by omega)) (fun _ => br_t rfl e)
    · intro m j hj c1 c0
      have hd : i ^^^ (i &&& B j) < 32 := zb_dlt hi
      refine pk_le 5 j (fun z => absurd z (by omega)) (fun _ => br_f (by decide) (zw_in (s := i) (c := j) rfl rfl (by omega) (by omega) (fun w => ⟨pk_in j 5 hj, ?_⟩) (fun w => nm_r (nI_1 j) (c1 (Or.inl w)))))
      refine pk_eq (i ^^^ (i &&& B j)) 0 (fun q => nm_r (nI_1 j) (c0 (fun t => t.elim (zb_ft w) (fun t => t q)))) (fun q => nm_r (nI_1 j) (c1 (Or.inr q))) ?_
      rw [zb_rd (a := a5) (n := j) rfl (by omega), e5 j hj, zb_not]
    · refine fun g => br_f (by decide) (nm_r (zb_set rfl rfl (by omega)) (nm_r (nI_1 i) (hw (r ||| 2 ^ f) ⟨by omega, zb_orlt r1 f5, fun c hc ec => ?_, fun s s1 s2 s3 s4 => ?_⟩)))
      · rcases (zb_obit (by omega) (by omega)).mp ec with q | q
        · exact r2 c hc q
        · rw [q]; exact ⟨i, hi, hf, g⟩
      · exact zb_ge ((zb_obit (s := r) (c := f) (d := f) (by omega) (by omega)).mpr (Or.inr rfl))
    · exact fun j hj nc => br_t rfl (nm_r (nI_1 i) (skip (fun w => nc (w.2 j hj))))
/-! rule 9 -/
def zs_ar (D : Nat → Nat → Nat) (s : Nat → Int32) : Prop := ∀ a b, a < 5 → b < 5 → s (5 * a + b) = nI (D a b)
def zs_p (D : Nat → Nat → Nat) (a c k : Nat) : Nat → Nat → Nat := fun x y => if x = a ∧ y < k then zs_st D c x y else D x y
theorem zw_passOver {post : St1 → Prop} {f0 f1 f2 : Int32} {a1 a2 a3 a4 a5 a6 a7 a8 a9 a10 a11 a12 a13 a14 a15 a16 a17 : Nat → Int32} {D : Nat → Nat → Nat} {a c : Nat} (ha : a < 5) (hc : c < 5) (hac : a ≠ c) (h9 : ∀ a b, a < 5 → b < 5 → D a b ≤ 9) (h : zs_ar D a8) (H : ∀ s, zs_ar (zs_p D a c 5) s → post (f0, f1, f2, a1, a2, a3, a4, a5, a6, a7, s, a9, a10, a11, a12, a13, a14, a15, a16, a17)) : wpX_passOver post (f0, f1, f2, a1, a2, a3, a4, a5, a6, a7, a8, a9, a10, a11, a12, a13, a14, a15, a16, a17) (nI a) (nI c) := by
  refine pk_loop (fun n b s => wX_passOver_2 post (nI a) (nI c) f0 f1 f2 n (nI b) a1 a2 a3 a4 a5 a6 a7 s a9 a10 a11 a12 a13 a14 a15 a16 a17) (fun b s => zs_ar (zs_p D a c b) s) 5 0 a8 (by omega) (fun x y hx hy => ?_) ?_ ?_
  · unfold zs_p
    rw [if_neg (by omega)]
    exact h x y hx hy
  · intro n s hs
    exact pk_le 5 5 (fun _ => H s hs) (fun z => absurd z (by omega))
  · intro n b s hb hs hw
    have same : zs_st D c a b = D a b → wX_passOver_2 post (nI a) (nI c) f0 f1 f2 n (nI (b + 1)) a1 a2 a3 a4 a5 a6 a7 s a9 a10 a11 a12 a13 a14 a15 a16 a17 := by
      intro e
      refine hw s (fun x y hx hy => ?_)
      rw [hs x y hx hy]
      unfold zs_p
      by_cases e1 : x = a ∧ y < b
      · rw [if_pos e1, if_pos ⟨e1.1, by omega⟩]
      · rw [if_neg e1]
        by_cases e2 : x = a ∧ y < b + 1
        · have : y = b := by omega
          rw [if_pos e2, e2.1, this, e]
        · rw [if_neg e2]
    refine pk_le 5 b (fun z => absurd z (by omega)) (fun _ => pk_eq b a (fun e => nm_r (nI_1 b) (same (zs_n (fun z => z.2.1 e)))) (fun nba => pk_eq b c (fun e => nm_r (nI_1 b) (same (zs_n (fun z => z.2.2 e)))) (fun nbc => ⟨pk_in (5 * a + c) 25 (by omega) (zb_ix a c), pk_in (5 * c + b) 25 (by omega) (zb_ix c b), ?_⟩)))
    have eac : s (5 * a + c) = nI (D a c) := by
      rw [hs a c ha hc]
      unfold zs_p
      by_cases e : a = a ∧ c < b
      · rw [if_pos e, zs_n (fun z => z.2.2 rfl)]
      · rw [if_neg e]
    have ecb : s (5 * c + b) = nI (D c b) := by
      rw [hs c b hc hb]
      unfold zs_p
      rw [if_neg (fun z => hac z.1.symm)]
    have eab : s (5 * a + b) = nI (D a b) := by
      rw [hs a b ha hb]
      unfold zs_p
      rw [if_neg (by omega)]
    have d1 := h9 a c ha hc
    have d2 := h9 c b hc hb
    have d3 := h9 a b ha hb
    have est : zs_st D c a b = max (D a b) (min (D a c) (D c b)) := zs_y hac nba nbc
    have fin : ∀ v : Nat, v = min (D a c) (D c b) → ∀ x : Int32, x = nI v → wX_passOver_66 post (wX_passOver_2 post (nI a) (nI c) f0 f1 f2 n) (nI a) (nI c) (nI b) x f0 f1 f2 a1 a2 a3 a4 a5 a6 a7 s a9 a10 a11 a12 a13 a14 a15 a16 a17 := by
      intro v ev x ex
      refine ⟨pk_in (5 * a + b) 25 (by omega) (zb_ix a b), ?_⟩
      refine pk_le v (D a b) (fun le => nm_r (nI_1 b) (same (by omega))) (fun gt => ⟨pk_in (5 * a + b) 25 (by omega) (zb_ix a b), nm_r (zb_up (n := 5 * a + b) (v := nI v) (zb_ix a b) (by omega) (by rw [ex, zb_i8 v (by omega)])) (nm_r (nI_1 b) (hw _ (fun x y hx hy => ?_)))⟩) ex ((zb_rd (zb_ix a b) (by omega)).trans eab)
      by_cases e1 : x = a ∧ y = b
      · rw [e1.1, e1.2, pk_us]
        unfold zs_p
        rw [if_pos ⟨rfl, by omega⟩, est, show max (D a b) (min (D a c) (D c b)) = v by omega]
      · rw [pk_un (fun z => e1 (zb_ieq hy hb z)), hs x y hx hy]
        unfold zs_p
        by_cases e2 : x = a ∧ y < b
        · rw [if_pos e2, if_pos ⟨e2.1, by omega⟩]
        · rw [if_neg e2, if_neg (by omega)]
    refine pk_le (D c b) (D a c) (fun le => ⟨pk_in (5 * c + b) 25 (by omega) (zb_ix c b), fin (D c b) (by omega) _ ((zb_rd (zb_ix c b) (by omega)).trans ecb)⟩) (fun gt => ⟨pk_in (5 * a + c) 25 (by omega) (zb_ix a c), fin (D a c) (by omega) _ ((zb_rd (zb_ix a c) (by omega)).trans eac)⟩) ((zb_rd (zb_ix c b) (by omega)).trans ecb) ((zb_rd (zb_ix a c) (by omega)).trans eac)
def zs_q (D : Nat → Nat → Nat) (c a : Nat) : Nat → Nat → Nat := fun x y => if x < a then zs_st D c x y else D x y
theorem zs_q1 {D : Nat → Nat → Nat} {c a x y : Nat} (h : x < a) : zs_q D c a x y = zs_st D c x y := if_pos h
theorem zs_q0 {D : Nat → Nat → Nat} {c a x y : Nat} (h : ¬ x < a) : zs_q D c a x y = D x y := if_neg h
theorem zs_qc (D : Nat → Nat → Nat) (c a y : Nat) : zs_q D c a c y = D c y := by
  by_cases e : c < a
  · rw [zs_q1 e, zs_n (fun z => z.1 rfl)]
  · rw [zs_q0 e]
theorem zs_qs (D : Nat → Nat → Nat) (c a y : Nat) : zs_st (zs_q D c a) c a y = zs_st D c a y := by
  by_cases h : a ≠ c ∧ y ≠ a ∧ y ≠ c
  · rw [zs_y h.1 h.2.1 h.2.2, zs_y h.1 h.2.1 h.2.2, zs_qc, zs_q0 (Nat.lt_irrefl a), zs_q0 (Nat.lt_irrefl a)]
  · rw [zs_n h, zs_n h, zs_q0 (Nat.lt_irrefl a)]
theorem zw_fst48 {post : St1 → Prop} {J : Int32 → Int32 → Int32 → Int32 → (Nat → Int32) → (Nat → Int32) → (Nat → Int32) → (Nat → Int32) → (Nat → Int32) → (Nat → Int32) → (Nat → Int32) → (Nat → Int32) → (Nat → Int32) → (Nat → Int32) → (Nat → Int32) → (Nat → Int32) → (Nat → Int32) → (Nat → Int32) → (Nat → Int32) → (Nat → Int32) → (Nat → Int32) → Prop} {f0 f1 f2 : Int32} {a1 a2 a3 a4 a5 a6 a7 a8 a9 a10 a11 a12 a13 a14 a15 a16 a17 : Nat → Int32} {D : Nat → Nat → Nat} {c : Nat} (hc : c < 5) (h9 : ∀ a b, a < 5 → b < 5 → D a b ≤ 9) (h : zs_ar D a8) (H : ∀ s, zs_ar (zs_st D c) s → J (nI (c + 1)) f0 f1 f2 a1 a2 a3 a4 a5 a6 a7 s a9 a10 a11 a12 a13 a14 a15 a16 a17) : ∃ n, wX_findStrengths_48 post J (nI c) n 0 f0 f1 f2 a1 a2 a3 a4 a5 a6 a7 a8 a9 a10 a11 a12 a13 a14 a15 a16 a17 := by
  have hst : ∀ a b, a < 5 → b < 5 → zs_st D c a b ≤ 9 := by
    intro a b ha hb
    have e1 := h9 a b ha hb
    have e2 := h9 a c ha hc
    have e3 := h9 c b hc hb
    by_cases h : a ≠ c ∧ b ≠ a ∧ b ≠ c
    · rw [zs_y h.1 h.2.1 h.2.2]; omega
    · rw [zs_n h]; exact e1
  refine pk_loop (fun n a s => wX_findStrengths_48 post J (nI c) n (nI a) f0 f1 f2 a1 a2 a3 a4 a5 a6 a7 s a9 a10 a11 a12 a13 a14 a15 a16 a17) (fun a s => zs_ar (zs_q D c a) s) 5 0 a8 (by omega) (fun x y hx hy => ?_) ?_ ?_
  · rw [zs_q0 (by omega)]; exact h x y hx hy
  · intro n s hs
    refine pk_le 5 5 (fun _ => nm_r (nI_1 c) (H s (fun x y hx hy => ?_))) (fun z => absurd z (by omega))
    rw [hs x y hx hy, zs_q1 hx]
  · intro n a s ha hs hw
    refine pk_le 5 a (fun z => absurd z (by omega)) (fun _ => pk_eq a c (fun e => nm_r (nI_1 a) (hw s (fun x y hx hy => ?_))) (fun nac => ?_))
    · rw [hs x y hx hy]
      by_cases e1 : x < a
      · rw [zs_q1 e1, zs_q1 (by omega)]
      · rw [zs_q0 e1]
        by_cases e2 : x < a + 1
        · rw [zs_q1 e2, zs_n (fun z => z.1 (by omega))]
        · rw [zs_q0 e2]
    · refine zw_passOver (D := zs_q D c a) ha hc nac (fun x y hx hy => ?_) hs (fun s' hs' => nm_r (nI_1 a) (hw s' (fun x y hx hy => ?_)))
      · by_cases e1 : x < a
        · rw [zs_q1 e1]; exact hst x y hx hy
        · rw [zs_q0 e1]; exact h9 x y hx hy
      · rw [hs' x y hx hy]
        unfold zs_p
        by_cases e1 : x = a ∧ y < 5
        · rw [if_pos e1, zs_q1 (show x < a + 1 by omega), e1.1, zs_qs]
        · have e2 : x ≠ a := fun z => e1 ⟨z, hy⟩
          rw [if_neg e1]
          by_cases e3 : x < a
          · rw [zs_q1 e3, zs_q1 (by omega)]
          · rw [zs_q0 e3, zs_q0 (by omega)]
theorem zw_findStrengths {post : St1 → Prop} {u : St1} {C : Nat} {P : Nat → Nat → Nat} {B : Nat → Nat} (h : zk C P B u) (H : ∀ u', zk C P B u' → zs_ar (zs_it (zs_0 P) 5) u'.2.2.2.2.2.2.2.2.2.2.1 → post u') : wpX_findStrengths post u := by
  obtain ⟨f0, f1, f2, a1, a2, a3, a4, a5, a6, a7, a8, a9, a10, a11, a12, a13, a14, a15, a16, a17⟩ := u
  have hC : C ≤ 9 := h.1
  have hP : zk_P C P := h.2.2.2.2.2.2.2.1
  have e4 : ∀ a b, a < 5 → b < 5 → a4 (5 * a + b) = nI (zo (P a b)) - nI (zo (P b a)) := h.2.2.2.2.2.1
  refine pk_loop (fun n k s => wX_findStrengths_2 post f0 f1 f2 n (nI k) a1 a2 a3 a4 a5 a6 a7 s a9 a10 a11 a12 a13 a14 a15 a16 a17) (fun k s => ∀ a b, a < 5 → b < 5 → 5 * a + b < k → s (5 * a + b) = nI (zs_0 P a b)) 25 0 a8 (by omega) (fun a b _ _ z => absurd z (by omega)) ?_ ?_
  · intro n s hs
    refine pk_le 25 25 (fun _ => ?_) (fun z => absurd z (by omega))
    refine pk_loop (fun n c s => wX_findStrengths_41 post n (nI c) f0 f1 f2 a1 a2 a3 a4 a5 a6 a7 s a9 a10 a11 a12 a13 a14 a15 a16 a17) (fun c s => zs_ar (zs_it (zs_0 P) c) s) 5 0 s (by omega) (fun a b ha hb => hs a b ha hb (by omega)) ?_ ?_
    · intro n s' hs'
      exact pk_le 5 5 (fun _ => H (f0, f1, f2, a1, a2, a3, a4, a5, a6, a7, s', a9, a10, a11, a12, a13, a14, a15, a16, a17) h hs') (fun z => absurd z (by omega))
    · intro n c s' hc hs' hw
      exact pk_le 5 c (fun z => absurd z (by omega)) (fun _ => zw_fst48 hc (zs_main (zs_09 hC hP) c (by omega)).1 hs' (fun s'' hs'' => hw s'' hs''))
  · intro n k s hk hs hw
    have ek : k = 5 * (k / 5) + k % 5 := by omega
    have ka : k / 5 < 5 := by omega
    have kb : k % 5 < 5 := by omega
    have w1 := zk_w hC hP ka kb
    have w2 := zk_w hC hP kb ka
    have e : a4 k = nI (zo (P (k / 5) (k % 5))) - nI (zo (P (k % 5) (k / 5))) := by
      have := e4 (k / 5) (k % 5) ka kb
      rw [← ek] at this
      exact this
    have next : ∀ v, v = zs_0 P (k / 5) (k % 5) → wX_findStrengths_2 post f0 f1 f2 n (nI (k + 1)) a1 a2 a3 a4 a5 a6 a7 (upd s k (nI v)) a9 a10 a11 a12 a13 a14 a15 a16 a17 := by
      intro v ev
      refine hw _ (fun a b ha hb hlt => ?_)
      by_cases e1 : 5 * a + b = k
      · have ea : a = k / 5 := by omega
        have eb : b = k % 5 := by omega
        rw [e1, pk_us, ev, ea, eb]
      · rw [pk_un e1]; exact hs a b ha hb (by omega)
    refine pk_le 25 k (fun z => absurd z (by omega)) (fun _ => ⟨pk_in k 25 hk, ?_⟩)
    have er : a4 (nI k).toNatClampNeg = nI (zo (P (k / 5) (k % 5))) - nI (zo (P (k % 5) (k / 5))) := (zb_rd rfl (by omega)).trans e
    rw [er]
    refine ek_if (zg_le0 _ (by omega) _ (by omega)) (fun le => ⟨pk_in k 25 hk, nm_r (zb_up (n := k) (v := nI 0) rfl (by omega) rfl) (nm_r (nI_1 k) (next 0 ?_))⟩) (fun nle => ⟨pk_in k 25 hk, pk_in k 25 hk, nm_r (zb_up (n := k) (v := nI (zo (P (k / 5) (k % 5)) - zo (P (k % 5) (k / 5)))) rfl (by omega) ?_) (nm_r (nI_1 k) (next _ rfl))⟩)
    · show 0 = zo (P (k / 5) (k % 5)) - zo (P (k % 5) (k / 5))
      omega
    · exact zg_by _ (by omega) _ (by omega) (by omega)
theorem zw_byStrength {post : Int32 → St1 → Prop} {u : St1} {C : Nat} {P : Nat → Nat → Nat} {B : Nat → Nat} (h : zk C P B u) (H : ∀ s u', zk C P B u' → zl_in B s → post (nI s) u') : wpX_byStrength post u := by
  obtain ⟨f0, f1, f2, a1, a2, a3, a4, a5, a6, a7, a8, a9, a10, a11, a12, a13, a14, a15, a16, a17⟩ := u
  unfold wpX_byStrength
  refine zw_findStrengths h ?_
  clear h
  rintro ⟨f0, f1, f2, a1, a2, a3, a4, a5, a6, a7, a8, a9, a10, a11, a12, a13, a14, a15, a16, a17⟩ h hs
  have hC : C ≤ 9 := h.1
  have hP : zk_P C P := h.2.2.2.2.2.2.2.1
  have hB : zk_B P B := h.2.2.2.2.2.2.2.2
  have h9 := (zs_main (zs_09 hC hP) 5 (by omega)).1
  have hs' : zs_ar (zs_it (zs_0 P) 5) a8 := hs
  refine zg_set (W := fun n x y => wX_byStrength_8 post f0 f1 f2 a1 a2 a3 a4 a5 a6 a7 a8 a9 a10 a11 a12 a13 a14 a15 a16 a17 n x y) (fun a => ∀ b, b < 5 → ¬ zs_it (zs_0 P) 5 a b < zs_it (zs_0 P) 5 b a) ?_ ?_
  · intro n s hs hg
    exact pk_le 5 5 (fun _ => H s (f0, f1, f2, a1, a2, a3, a4, a5, a6, a7, a8, a9, a10, a11, a12, a13, a14, a15, a16, a17) h (zp_str hC hP hB hs hg)) (fun z => absurd z (by omega))
  · intro n i s hi hs w1 w0
    refine pk_le 5 i (fun z => absurd z (by omega)) (fun _ => ?_)
    refine zg_all (W := fun m x y => wX_byStrength_18 post (wX_byStrength_8 post f0 f1 f2 a1 a2 a3 a4 a5 a6 a7 a8 a9 a10 a11 a12 a13 a14 a15 a16 a17 n) (nI s) (nI i) f0 f1 f2 a1 a2 a3 a4 a5 a6 a7 a8 a9 a10 a11 a12 a13 a14 a15 a16 a17 m x y) (E := fun x => wX_byStrength_65 post (wX_byStrength_8 post f0 f1 f2 a1 a2 a3 a4 a5 a6 a7 a8 a9 a10 a11 a12 a13 a14 a15 a16 a17 n) (nI s) (nI i) x f0 f1 f2 a1 a2 a3 a4 a5 a6 a7 a8 a9 a10 a11 a12 a13 a14 a15 a16 a17) (fun b => ¬ zs_it (zs_0 P) 5 i b < zs_it (zs_0 P) 5 b i) ?_ ?_ ?_ ?_ ?_
    · exact fun m x e => pk_le 5 5 (fun _ => e) (fun z => absurd z (by omega))
    · exact fun m j hj e => pk_le 5 j (fun z => absurd z (by omega)) (fun _ => br_t rfl e)
    · intro m j hj c1 c0
      have d1 := h9 i j hi hj
      have d2 := h9 j i hj hi
      exact pk_le 5 j (fun z => absurd z (by omega)) (fun _ => br_f (by decide) ⟨pk_in (5 * i + j) 25 (by omega) (zb_ix i j), pk_in (5 * j + i) 25 (by omega) (zb_ix j i), pk_lt (zs_it (zs_0 P) 5 i j) (zs_it (zs_0 P) 5 j i) (fun q => nm_r (nI_1 j) (c0 (fun t => t q))) (fun q => nm_r (nI_1 j) (c1 (by omega))) ((zb_rd (zb_ix i j) (by omega)).trans (hs' i j hi hj)) ((zb_rd (zb_ix j i) (by omega)).trans (hs' j i hj hi))⟩)
    · exact fun g => br_f (by decide) (nm_r (zb_set rfl rfl (by omega)) (nm_r (nI_1 i) (w1 g)))
    · exact fun j hj nc => br_t rfl (nm_r (nI_1 i) (w0 (fun g => nc (g j hj))))
end
section
/-! rules 0 to 5 -/
theorem zi_add {x y : Int32} (h1 : -1000000 ≤ x.toInt + y.toInt) (h2 : x.toInt + y.toInt ≤ 1000000) : (x + y).toInt = x.toInt + y.toInt := by
  rw [Int32.toInt_add]
  exact Int.bmod_eq_of_le (by omega) (by omega)
theorem zi_1 : (1 : Int32).toInt = 1 := by decide
theorem zi_m1 : (-1 : Int32).toInt = -1 := by decide
theorem zw_pointsOf {post : Int32 → Prop} {u : St1} {C c s : Nat} {P : Nat → Nat → Nat} {B : Nat → Nat} {p : Int32} (h : zk C P B u) (hc : c < 5) (hp : p = nI s) (hs : s < 32) (H : ∀ t, t ≤ 50 → post (nI t)) : wpX_pointsOf post u (nI c) p := by
  subst hp
  obtain ⟨f0, f1, f2, a1, a2, a3, a4, a5, a6, a7, a8, a9, a10, a11, a12, a13, a14, a15, a16, a17⟩ := u
  have hC : C ≤ 9 := h.1
  have hP : zk_P C P := h.2.2.2.2.2.2.2.1
  have e3 : ∀ a b, a < 5 → b < 5 → a3 (5 * a + b) = nI (P a b) := h.2.2.2.2.1
  refine pk_loop (σ := Nat) (fun n i t => wX_pointsOf_5 post (nI c) (nI s) f0 f1 f2 a1 a2 a3 a4 a5 a6 a7 a8 a9 a10 a11 a12 a13 a14 a15 a16 a17 n (nI t) (nI i)) (fun i t => t ≤ 10 * i) 5 0 0 (by omega) (by omega) ?_ ?_
  · intro n t ht
    exact pk_le 5 5 (fun _ => H t (by omega)) (fun z => absurd z (by omega))
  · intro n i t hi ht hw
    have hl := zk_lt hC hP hc hi
    have hz := zo_le (P c i)
    exact pk_le 5 i (fun z => absurd z (by omega)) (fun _ => zw_in (s := s) (c := i) rfl rfl (by omega) (by omega) (fun z => nm_r (nI_1 i) (hw t (by omega))) (fun z => ⟨pk_in (5 * c + i) 25 (by omega) (zb_ix c i), zw_ones (n := P c i) ((zb_rd (zb_ix c i) (by omega)).trans (e3 c i hc hi)) (by omega) (nm_r (nI_add t (zo (P c i))) (nm_r (nI_1 i) (hw (t + zo (P c i)) (by omega))))⟩))
def zf_cop (P : Nat → Nat → Nat) (c : Nat) : Nat → Nat
  | 0 => 0
  | b + 1 => zf_cop P c b + (if b = c then 0 else if zo (P c b) ≤ zo (P b c) then (if zo (P c b) = zo (P b c) then 1 else 0) else 2)
theorem zf_copL {P : Nat → Nat → Nat} {c : Nat} (h : ∀ b, b < 5 → b ≠ c → zo (P b c) < zo (P c b)) : ∀ i, i ≤ 5 → zf_cop P c i + (if c < i then 2 else 0) = 2 * i := by
  intro i
  induction i with
  | zero => intro _; rfl
  | succ i ih =>
    intro hi
    have := ih (by omega)
    show zf_cop P c i + (if i = c then 0 else if zo (P c i) ≤ zo (P i c) then (if zo (P c i) = zo (P i c) then 1 else 0) else 2) + (if c < i + 1 then 2 else 0) = 2 * (i + 1)
    by_cases e : i = c
    · rw [if_pos e, if_pos (by omega)]
      rw [if_neg (by omega)] at this
      omega
    · have := h i (by omega) e
      rw [if_neg e, if_neg (by omega)]
      by_cases e2 : c < i
      · rw [if_pos e2] at *; rw [if_pos (by omega)]; omega
      · rw [if_neg e2] at *; rw [if_neg (by omega)]; omega
theorem zf_copN {P : Nat → Nat → Nat} {c d : Nat} (hne : d ≠ c) (h : zo (P d c) < zo (P c d)) : ∀ i, zf_cop P d i + (if d < i then 2 else 0) + (if c < i then 2 else 0) ≤ 2 * i := by
  intro i
  induction i with
  | zero => exact Nat.le_refl 0
  | succ i ih =>
    show zf_cop P d i + (if i = d then 0 else if zo (P d i) ≤ zo (P i d) then (if zo (P d i) = zo (P i d) then 1 else 0) else 2) + (if d < i + 1 then 2 else 0) + (if c < i + 1 then 2 else 0) ≤ 2 * (i + 1)
    by_cases e : i = d
    · rw [if_pos e, if_pos (show d < i + 1 by omega)]
      rw [if_neg (show ¬ d < i by omega)] at ih
      by_cases e2 : c < i
      · rw [if_pos e2] at ih; rw [if_pos (by omega)]; omega
      · rw [if_neg e2] at ih; rw [if_neg (by omega)]; omega
    · have ed : (if d < i + 1 then 2 else 0) = (if d < i then 2 else 0) := by
        by_cases e2 : d < i
        · rw [if_pos e2, if_pos (by omega)]
        · rw [if_neg e2, if_neg (by omega)]
      rw [if_neg e, ed]
      by_cases e3 : i = c
      · rw [if_pos (show c < i + 1 by omega), e3, if_pos (by omega), if_neg (by omega)]
        rw [e3, if_neg (Nat.lt_irrefl c)] at ih
        omega
      · have ec : (if c < i + 1 then 2 else 0) = (if c < i then 2 else 0) := by
          by_cases e2 : c < i
          · rw [if_pos e2, if_pos (by omega)]
          · rw [if_neg e2, if_neg (by omega)]
        rw [ec]
        have : (if zo (P d i) ≤ zo (P i d) then (if zo (P d i) = zo (P i d) then 1 else 0) else 2) ≤ 2 := by
          split
          · split <;> omega
          · omega
        omega
theorem zf_cop_le (P : Nat → Nat → Nat) (c : Nat) : ∀ i, zf_cop P c i ≤ 2 * i := by
  intro i
  induction i with
  | zero => exact Nat.le_refl 0
  | succ i ih =>
    show zf_cop P c i + (if i = c then 0 else if zo (P c i) ≤ zo (P i c) then (if zo (P c i) = zo (P i c) then 1 else 0) else 2) ≤ 2 * (i + 1)
    have : (if i = c then 0 else if zo (P c i) ≤ zo (P i c) then (if zo (P c i) = zo (P i c) then 1 else 0) else 2) ≤ 2 := by
      split
      · omega
      · split
        · split <;> omega
        · omega
    omega
theorem zw_copeland {post : Int32 → Prop} {u : St1} {C c : Nat} {P : Nat → Nat → Nat} {B : Nat → Nat} (h : zk C P B u) (hc : c < 5) (H : post (nI (zf_cop P c 5))) : wpX_copeland post u (nI c) := by
  obtain ⟨f0, f1, f2, a1, a2, a3, a4, a5, a6, a7, a8, a9, a10, a11, a12, a13, a14, a15, a16, a17⟩ := u
  have hC : C ≤ 9 := h.1
  have hP : zk_P C P := h.2.2.2.2.2.2.2.1
  have e4 : ∀ a b, a < 5 → b < 5 → a4 (5 * a + b) = nI (zo (P a b)) - nI (zo (P b a)) := h.2.2.2.2.2.1
  refine pk_loop (σ := Nat) (fun n i t => wX_copeland_4 post (nI c) f0 f1 f2 a1 a2 a3 a4 a5 a6 a7 a8 a9 a10 a11 a12 a13 a14 a15 a16 a17 n (nI t) (nI i)) (fun i t => t = zf_cop P c i) 5 0 0 (by omega) rfl ?_ ?_
  · intro n t ht
    rw [show t = zf_cop P c 5 from ht]
    exact pk_le 5 5 (fun _ => H) (fun z => absurd z (by omega))
  · intro n i t hi ht hw
    have w1 := zk_w hC hP hc hi
    have w2 := zk_w hC hP hi hc
    have nx : ∀ v, v = (if i = c then 0 else if zo (P c i) ≤ zo (P i c) then (if zo (P c i) = zo (P i c) then 1 else 0) else 2) → wX_copeland_4 post (nI c) f0 f1 f2 a1 a2 a3 a4 a5 a6 a7 a8 a9 a10 a11 a12 a13 a14 a15 a16 a17 n (nI (t + v)) (nI (i + 1)) := by
      intro v hv
      refine hw (t + v) ?_
      rw [ht, hv]
      rfl
    refine pk_le 5 i (fun z => absurd z (by omega)) (fun _ => pk_eq i c (fun e => nm_r (nI_1 i) (nx 0 (by rw [if_pos e]))) (fun e => ⟨pk_in (5 * c + i) 25 (by omega) (zb_ix c i), nm_r ((zb_rd (zb_ix c i) (by omega)).trans (e4 c i hc hi)) ?_⟩))
    refine ek_if (zg_le0 _ (by omega) _ (by omega)) (fun le => ek_if (zg_eq0 _ (by omega) _ (by omega)) (fun eq => nm_r (nI_1 t) (nm_r (nI_1 i) (nx 1 (by rw [if_neg e, if_pos le, if_pos eq])))) (fun ne => nm_r (nI_add t 0) (nm_r (nI_1 i) (nx 0 (by rw [if_neg e, if_pos le, if_neg ne]))))) (fun nle => nm_r (nI_add t 2) (nm_r (nI_1 i) (nx 2 (by rw [if_neg e, if_neg nle]))))
def zf_sm (P : Nat → Nat → Nat) (c i : Nat) (x : Int32) : Prop := -9 ≤ x.toInt ∧ x.toInt ≤ 100 ∧ (∀ b, b < i → b ≠ c → x.toInt ≤ (zo (P c b) : Int) - zo (P b c)) ∧ (x.toInt = 100 ∨ ∃ b, b < i ∧ b ≠ c ∧ x.toInt = (zo (P c b) : Int) - zo (P b c))
theorem zw_smallestMargin {post : Int32 → Prop} {u : St1} {C c : Nat} {P : Nat → Nat → Nat} {B : Nat → Nat} (h : zk C P B u) (hc : c < 5) (H : ∀ x, zf_sm P c 5 x → post x) : wpX_smallestMargin post u (nI c) := by
  obtain ⟨f0, f1, f2, a1, a2, a3, a4, a5, a6, a7, a8, a9, a10, a11, a12, a13, a14, a15, a16, a17⟩ := u
  have hC : C ≤ 9 := h.1
  have hP : zk_P C P := h.2.2.2.2.2.2.2.1
  have e4 : ∀ a b, a < 5 → b < 5 → a4 (5 * a + b) = nI (zo (P a b)) - nI (zo (P b a)) := h.2.2.2.2.2.1
  refine pk_loop (σ := Int32) (fun n i x => wX_smallestMargin_5 post (nI c) f0 f1 f2 a1 a2 a3 a4 a5 a6 a7 a8 a9 a10 a11 a12 a13 a14 a15 a16 a17 n x (nI i)) (fun i x => zf_sm P c i x) 5 0 100 (by omega) ⟨by decide, by decide, fun b hb => absurd hb (by omega), Or.inl (by decide)⟩ ?_ ?_
  · intro n x hx
    exact pk_le 5 5 (fun _ => H x hx) (fun z => absurd z (by omega))
  · intro n i x hi hx hw
    obtain ⟨x1, x2, x3, x4⟩ := hx
    have w1 := zk_w hC hP hc hi
    have w2 := zk_w hC hP hi hc
    have er : a4 (5 * nI c + nI i).toNatClampNeg = nI (zo (P c i)) - nI (zo (P i c)) := (zb_rd (zb_ix c i) (by omega)).trans (e4 c i hc hi)
    have et := zg_toInt (p := zo (P c i)) (q := zo (P i c)) (by omega) (by omega)
    refine pk_le 5 i (fun z => absurd z (by omega)) (fun _ => pk_eq i c (fun e => nm_r (nI_1 i) (hw x ⟨x1, x2, fun b hb hne => x3 b (by omega) hne, ?_⟩)) (fun e => ⟨pk_in (5 * c + i) 25 (by omega) (zb_ix c i), ?_⟩))
    · rcases x4 with q | ⟨b, b1, b2, b3⟩
      · exact Or.inl q
      · exact Or.inr ⟨b, by omega, b2, b3⟩
    · rw [er]
      refine ek_if Int32.le_iff_toInt_le (fun le => nm_r (nI_1 i) (hw x ⟨x1, x2, fun b hb hne => ?_, ?_⟩)) (fun nle => ⟨pk_in (5 * c + i) 25 (by omega) (zb_ix c i), nm_e (nm_r (nI_1 i) (hw _ ⟨by omega, by omega, fun b hb hne => ?_, Or.inr ⟨i, by omega, e, et⟩⟩))⟩)
      · rw [et] at le
        by_cases q : b = i
        · rw [q]; exact le
        · exact x3 b (by omega) hne
      · rcases x4 with q | ⟨b, b1, b2, b3⟩
        · exact Or.inl q
        · exact Or.inr ⟨b, by omega, b2, b3⟩
      · by_cases q : b = i
        · rw [q, et]; exact Int.le_refl _
        · have := x3 b (by omega) hne; omega
/-- what the scores must be -/
def zf_ok (B : Nat → Nat) (rule : Nat) (s : Nat → Int32) : Prop := (∀ c, c < 5 → -1000 < (s c).toInt) ∧ ((rule = 3 ∨ rule = 4) → ∀ L, zl_L B L → ∀ d, d < 5 → d ≠ L → (s d).toInt < (s L).toInt)
theorem zi_n {n : Nat} (h : n < 2 ^ 31) : (nI n).toInt = (n : Int) := nI_toInt h
theorem zw_fs123 {post : St1 → Prop} {f0 f1 f2 : Int32} {a1 a2 a3 a4 a5 a6 a7 a8 a9 a10 a11 a12 a13 a14 a15 a16 a17 : Nat → Int32} {C rule : Nat} {P : Nat → Nat → Nat} {B : Nat → Nat} (h : zk C P B (f0, f1, f2, a1, a2, a3, a4, a5, a6, a7, a8, a9, a10, a11, a12, a13, a14, a15, a16, a17)) (hr : rule < 6) (H : ∀ s, zf_ok B rule s → post (f0, f1, f2, a1, a2, a3, a4, a5, s, a7, a8, a9, a10, a11, a12, a13, a14, a15, a16, a17)) : ∃ n, wX_findScores_123 post (nI rule) f0 f1 f2 n 0 a1 a2 a3 a4 a5 a6 a7 a8 a9 a10 a11 a12 a13 a14 a15 a16 a17 := by
  have hB : zk_B P B := h.2.2.2.2.2.2.2.2
  refine pk_loop (fun n i s => wX_findScores_123 post (nI rule) f0 f1 f2 n (nI i) a1 a2 a3 a4 a5 s a7 a8 a9 a10 a11 a12 a13 a14 a15 a16 a17) (fun i s => ∀ c, c < i → -1000 < (s c).toInt ∧ (rule = 3 → s c = nI (zf_cop P c 5)) ∧ (rule = 4 → zf_sm P c 5 (s c))) 5 0 a6 (by omega) (fun c hc => absurd hc (by omega)) ?_ ?_
  · intro n s hs
    refine pk_le 5 5 (fun _ => H s ⟨fun c hc => (hs c hc).1, fun hru L hL d hd hne => ?_⟩) (fun z => absurd z (by omega))
    have hL5 := hL.1
    have bt : ∀ b, b < 5 → b ≠ L → zo (P b L) < zo (P L b) := fun b hb hbL => ((hB L hL5).2 b hb).mp (hL.2 b hb hbL)
    rcases hru with e | e
    · rw [(hs d hd).2.1 e, (hs L hL5).2.1 e]
      have q1 := zf_copL bt 5 (by omega)
      have q2 := zf_copN hne (bt d hd hne) 5
      rw [if_pos hL5] at q1 q2
      rw [if_pos hd] at q2
      rw [zi_n (by omega), zi_n (by omega)]
      omega
    · obtain ⟨_, _, q3, _⟩ := (hs d hd).2.2 e
      obtain ⟨_, _, _, r4⟩ := (hs L hL5).2.2 e
      have z1 := q3 L hL5 (fun z => hne z.symm)
      have z2 := bt d hd hne
      rcases r4 with r | ⟨b, b1, b2, b3⟩
      · omega
      · have z3 := bt b b1 b2
        omega
  · intro n i s hi hs hw
    have nx : ∀ x : Int32, -1000 < x.toInt → (rule = 3 → x = nI (zf_cop P i 5)) → (rule = 4 → zf_sm P i 5 x) → wX_findScores_123 post (nI rule) f0 f1 f2 n (nI (i + 1)) a1 a2 a3 a4 a5 (upd s i x) a7 a8 a9 a10 a11 a12 a13 a14 a15 a16 a17 := by
      intro x h1 h2 h3
      refine hw _ (fun c hc => ?_)
      by_cases e : c = i
      · rw [e, pk_us]; exact ⟨h1, h2, h3⟩
      · rw [pk_un e]; exact hs c (by omega)
    refine pk_le 5 i (fun z => absurd z (by omega)) (fun _ => pk_eq rule 2 (fun e => ?_) (fun e2 => pk_eq rule 3 (fun e => ?_) (fun e3 => ?_)))
    · refine zw_pointsOf (u := (f0, f1, f2, a1, a2, a3, a4, a5, s, a7, a8, a9, a10, a11, a12, a13, a14, a15, a16, a17)) (s := 31) h hi rfl (by omega) (fun t ht => ⟨pk_in i 5 hi, nm_r (zb_up (n := i) rfl (by omega) rfl) (nm_r (nI_1 i) (nx _ ?_ (fun z => absurd z (by omega)) (fun z => absurd z (by omega))))⟩)
      rw [zi_n (by omega)]; omega
    · refine zw_copeland (u := (f0, f1, f2, a1, a2, a3, a4, a5, s, a7, a8, a9, a10, a11, a12, a13, a14, a15, a16, a17)) h hi ⟨pk_in i 5 hi, nm_r (zb_up (n := i) rfl (by omega) rfl) (nm_r (nI_1 i) (nx _ ?_ (fun _ => rfl) (fun z => absurd z (by omega))))⟩
      have := zf_cop_le P i 5
      rw [zi_n (by omega)]; omega
    · refine zw_smallestMargin (u := (f0, f1, f2, a1, a2, a3, a4, a5, s, a7, a8, a9, a10, a11, a12, a13, a14, a15, a16, a17)) h hi (fun x hx => ⟨pk_in i 5 hi, nm_r (zb_up (n := i) rfl (by omega) rfl) (nm_r (nI_1 i) (nx _ ?_ (fun z => absurd z (by omega)) (fun _ => hx)))⟩)
      have := hx.1
      omega
theorem zw_fs31 {post : St1 → Prop} {f0 f1 f2 : Int32} {a1 a2 a3 a4 a5 a6 a7 a8 a9 a10 a11 a12 a13 a14 a15 a16 a17 : Nat → Int32} {C rule : Nat} {P : Nat → Nat → Nat} {B : Nat → Nat} (h : zk C P B (f0, f1, f2, a1, a2, a3, a4, a5, a6, a7, a8, a9, a10, a11, a12, a13, a14, a15, a16, a17)) (hr : rule < 2) (h6 : ∀ c, c < 5 → a6 c = nI 0) (H : ∀ s, zf_ok B rule s → post (f0, f1, f2, a1, a2, a3, a4, a5, s, a7, a8, a9, a10, a11, a12, a13, a14, a15, a16, a17)) : ∃ n, wX_findScores_31 post (nI rule) f0 f1 f2 n 0 a1 a2 a3 a4 a5 a6 a7 a8 a9 a10 a11 a12 a13 a14 a15 a16 a17 := by
  have hC : C ≤ 9 := h.1
  have hf : f0 = nI C := h.2.1
  have hrow : zr C a1 a2 := h.2.2.1
  subst hf
  refine pk_loop (fun n i s => wX_findScores_31 post (nI rule) (nI C) f1 f2 n (nI i) a1 a2 a3 a4 a5 s a7 a8 a9 a10 a11 a12 a13 a14 a15 a16 a17) (fun i s => ∀ c, c < 5 → -(i : Int) ≤ (s c).toInt ∧ (s c).toInt ≤ i) C 0 a6 (by omega) (fun c hc => ?_) ?_ ?_
  · rw [h6 c hc, zi_n (by omega)]; omega
  · intro n s hs
    refine pk_le C C (fun _ => H s ⟨fun c hc => ?_, fun z => absurd z (by omega)⟩) (fun z => absurd z (by omega))
    have := (hs c hc).1
    omega
  · intro n i s hi hs hw
    obtain ⟨R, hR, _⟩ := zr_get (hrow i hi)
    have fin : ∀ k, k < 5 → ∀ z0 : Int32, z0 = nI k → wX_findScores_59 post (wX_findScores_31 post (nI rule) (nI C) f1 f2 n) (nI rule) (nI i) z0 (5 * nI i) (nI C) f1 f2 a1 a2 a3 a4 a5 s a7 a8 a9 a10 a11 a12 a13 a14 a15 a16 a17 := by
      intro k hk z0 ez
      subst ez
      obtain ⟨rk, rk5⟩ := hR k hk
      have e : a2 (5 * nI i + nI k).toNatClampNeg = nI (R k) := (zb_rd (zb_ix i k) (by omega)).trans rk
      have up : ∀ x : Int32, (x = s (R k) + 1 ∨ x = s (R k) + (-1)) → wX_findScores_31 post (nI rule) (nI C) f1 f2 n (nI (i + 1)) a1 a2 a3 a4 a5 (upd s (R k) x) a7 a8 a9 a10 a11 a12 a13 a14 a15 a16 a17 := by
        intro x hx
        refine hw _ (fun c hc => ?_)
        have q := hs c hc
        by_cases ec : c = R k
        · rw [ec] at q ⊢
          rw [pk_us]
          rcases hx with hx | hx
          · rw [hx, zi_add (by rw [zi_1]; omega) (by rw [zi_1]; omega), zi_1]; omega
          · rw [hx, zi_add (by rw [zi_m1]; omega) (by rw [zi_m1]; omega), zi_m1]; omega
        · rw [pk_un ec]; omega
      refine ⟨pk_in (5 * i + k) 45 (by omega) (zb_ix i k), pk_in (R k) 5 rk5 e, br_c (fun _ => ⟨pk_in (R k) 5 rk5 e, nm_r (zb_up (n := R k) (v := s (R k) + 1) e (by omega) (by rw [zb_rd (a := s) e (by omega)])) (nm_r (nI_1 i) (up _ (Or.inl rfl)))⟩) (fun _ => ⟨pk_in (R k) 5 rk5 e, nm_r (zb_up (n := R k) (v := s (R k) + (-1)) e (by omega) (by rw [zb_rd (a := s) e (by omega)])) (nm_r (nI_1 i) (up _ (Or.inr rfl)))⟩)⟩
    exact pk_le C i (fun z => absurd z (by omega)) (fun _ => br_c (fun _ => fin 0 (by omega) 0 rfl) (fun _ => fin 4 (by omega) 4 rfl))
/-! rule 5 -/
theorem zw_countAmongFirst {post : St1 → Prop} {f0 f1 f2 : Int32} {a1 a2 a3 a4 a5 a6 a7 a8 a9 a10 a11 a12 a13 a14 a15 a16 a17 : Nat → Int32} {C k : Nat} {P : Nat → Nat → Nat} {B : Nat → Nat} {p : Int32} (h : zk C P B (f0, f1, f2, a1, a2, a3, a4, a5, a6, a7, a8, a9, a10, a11, a12, a13, a14, a15, a16, a17)) (hp : p = nI k) (hk : k ≤ 5) (H : ∀ s, (∀ c, c < 5 → 0 ≤ (s c).toInt ∧ (s c).toInt ≤ 45) → post (f0, f1, f2, a1, a2, a3, a4, a5, s, a7, a8, a9, a10, a11, a12, a13, a14, a15, a16, a17)) : wpX_countAmongFirst post (f0, f1, f2, a1, a2, a3, a4, a5, a6, a7, a8, a9, a10, a11, a12, a13, a14, a15, a16, a17) p := by
  subst hp
  have hC : C ≤ 9 := h.1
  have hf : f0 = nI C := h.2.1
  have hrow : zr C a1 a2 := h.2.2.1
  subst hf
  refine pk_loop (fun n i s => wX_countAmongFirst_2 post (nI k) (nI C) f1 f2 n (nI i) a1 a2 a3 a4 a5 s a7 a8 a9 a10 a11 a12 a13 a14 a15 a16 a17) (fun i s => ∀ c, c < i → s c = nI 0) 5 0 a6 (by omega) (fun c hc => absurd hc (by omega)) ?_ ?_
  · intro n s hs
    refine pk_le 5 5 (fun _ => ?_) (fun z => absurd z (by omega))
    refine pk_loop (fun n i s => wX_countAmongFirst_22 post (nI k) (nI C) f1 f2 n (nI i) a1 a2 a3 a4 a5 s a7 a8 a9 a10 a11 a12 a13 a14 a15 a16 a17) (fun i s => ∀ c, c < 5 → 0 ≤ (s c).toInt ∧ (s c).toInt ≤ 5 * (i : Int)) C 0 s (by omega) (fun c hc => ?_) ?_ ?_
    · rw [hs c hc, zi_n (by omega)]; omega
    · intro n s' hs'
      refine pk_le C C (fun _ => H s' (fun c hc => ?_)) (fun z => absurd z (by omega))
      have := hs' c hc
      omega
    · intro n i s' hi hs' hw
      obtain ⟨R, hR, _⟩ := zr_get (hrow i hi)
      refine pk_le C i (fun z => absurd z (by omega)) (fun _ => ?_)
      refine pk_loop (fun m l s => wX_countAmongFirst_32 post (wX_countAmongFirst_22 post (nI k) (nI C) f1 f2 n) (nI k) (nI i) (nI C) f1 f2 m (nI l) a1 a2 a3 a4 a5 s a7 a8 a9 a10 a11 a12 a13 a14 a15 a16 a17) (fun l s => ∀ c, c < 5 → 0 ≤ (s c).toInt ∧ (s c).toInt ≤ 5 * (i : Int) + l) k 0 s' (by omega) (fun c hc => ?_) ?_ ?_
      · have := hs' c hc
        omega
      · intro m t ht
        refine pk_le k k (fun _ => nm_r (nI_1 i) (hw t (fun c hc => ?_))) (fun z => absurd z (by omega))
        have := ht c hc
        omega
      · intro m l t hl ht hw'
        obtain ⟨rk, rk5⟩ := hR l (by omega)
        have e : a2 (5 * nI i + nI l).toNatClampNeg = nI (R l) := (zb_rd (zb_ix i l) (by omega)).trans rk
        refine pk_le k l (fun z => absurd z (by omega)) (fun _ => ⟨pk_in (5 * i + l) 45 (by omega) (zb_ix i l), pk_in (R l) 5 rk5 e, pk_in (R l) 5 rk5 e, nm_r (zb_up (n := R l) (v := t (R l) + 1) e (by omega) (by rw [zb_rd (a := t) e (by omega)])) (nm_r (nI_1 l) (hw' _ (fun c hc => ?_)))⟩)
        have q := ht c hc
        by_cases ec : c = R l
        · rw [ec] at q ⊢
          rw [pk_us, zi_add (by rw [zi_1]; omega) (by rw [zi_1]; omega), zi_1]; omega
        · rw [pk_un ec]; omega
  · intro n i s hi hs hw
    refine pk_le 5 i (fun z => absurd z (by omega)) (fun _ => ⟨pk_in i 5 hi, nm_r (zb_up (n := i) (v := nI 0) rfl (by omega) rfl) (nm_r (nI_1 i) (hw _ (fun c hc => ?_)))⟩)
    by_cases e : c = i
    · rw [e, pk_us]
    · rw [pk_un e]; exact hs c (by omega)
theorem zw_hasHalf {A D : Prop} {u : St1} (h0 : A) (h1 : D) : wpX_hasHalf (fun r => (r = 0 → A) ∧ (¬ r = 0 → D)) u := by
  obtain ⟨f0, f1, f2, a1, a2, a3, a4, a5, a6, a7, a8, a9, a10, a11, a12, a13, a14, a15, a16, a17⟩ := u
  exact pk_loop (σ := Unit) (fun n i _ => wX_hasHalf_2 (fun r => (r = 0 → A) ∧ (¬ r = 0 → D)) f0 f1 f2 a1 a2 a3 a4 a5 a6 a7 a8 a9 a10 a11 a12 a13 a14 a15 a16 a17 n (nI i)) (fun _ _ => True) 5 0 () (by omega) trivial
    (fun n _ _ => pk_le 5 5 (fun _ => br_t rfl h0) (fun z => absurd z (by omega)))
    (fun n i _ hi _ hw => pk_le 5 i (fun z => absurd z (by omega)) (fun _ => ⟨pk_in i 5 hi, br_c (fun _ => nm_r (nI_1 i) (hw () trivial)) (fun _ => br_f (by decide) h1)⟩))
theorem zw_findScores {post : St1 → Prop} {u : St1} {C rule : Nat} {P : Nat → Nat → Nat} {B : Nat → Nat} (h : zk C P B u) (hr : rule < 6) (H : ∀ u', zk C P B u' → zf_ok B rule u'.2.2.2.2.2.2.2.2.1 → post u') : wpX_findScores post u (nI rule) := by
  obtain ⟨f0, f1, f2, a1, a2, a3, a4, a5, a6, a7, a8, a9, a10, a11, a12, a13, a14, a15, a16, a17⟩ := u
  refine pk_loop (fun n i s => wX_findScores_2 post (nI rule) f0 f1 f2 n (nI i) a1 a2 a3 a4 a5 s a7 a8 a9 a10 a11 a12 a13 a14 a15 a16 a17) (fun i s => ∀ c, c < i → s c = nI 0) 5 0 a6 (by omega) (fun c hc => absurd hc (by omega)) ?_ ?_
  · intro n s hs
    have H' : ∀ t, zf_ok B rule t → post (f0, f1, f2, a1, a2, a3, a4, a5, t, a7, a8, a9, a10, a11, a12, a13, a14, a15, a16, a17) := fun t ht => H (f0, f1, f2, a1, a2, a3, a4, a5, t, a7, a8, a9, a10, a11, a12, a13, a14, a15, a16, a17) h ht
    have hk : zk C P B (f0, f1, f2, a1, a2, a3, a4, a5, s, a7, a8, a9, a10, a11, a12, a13, a14, a15, a16, a17) := h
    refine pk_le 5 5 (fun _ => pk_eq rule 0 (fun e => zw_fs31 hk (by omega) hs H') (fun e0 => pk_eq rule 1 (fun e => zw_fs31 hk (by omega) hs H') (fun e1 => pk_eq rule 5 (fun e => ?_) (fun e5 => zw_fs123 hk hr H')))) (fun z => absurd z (by omega))
    refine zw_countAmongFirst (k := 1) hk rfl (by omega) (fun t ht => ?_)
    have ok : ∀ t : Nat → Int32, (∀ c, c < 5 → 0 ≤ (t c).toInt ∧ (t c).toInt ≤ 45) → zf_ok B rule t := by
      intro t ht
      refine ⟨fun c hc => ?_, fun z => absurd z (by omega)⟩
      have := ht c hc
      omega
    refine pk_loop (fun n k s => wX_findScores_95 post n (nI k) f0 f1 f2 a1 a2 a3 a4 a5 s a7 a8 a9 a10 a11 a12 a13 a14 a15 a16 a17) (fun k s => ∀ c, c < 5 → 0 ≤ (s c).toInt ∧ (s c).toInt ≤ 45) 5 1 t (by omega) ht ?_ ?_
    · intro n t' ht'
      exact pk_le 5 5 (fun _ => H' t' (ok t' ht')) (fun z => absurd z (by omega))
    · intro n k t' hk5 ht' hw
      have hk' : zk C P B (f0, f1, f2, a1, a2, a3, a4, a5, t', a7, a8, a9, a10, a11, a12, a13, a14, a15, a16, a17) := h
      exact pk_le 5 k (fun z => absurd z (by omega)) (fun _ => zw_hasHalf (nm_r (nI_1 k) (zw_countAmongFirst hk' rfl (by omega) (fun t'' ht'' => hw t'' ht''))) (H' t' (ok t' ht')))
  · intro n i s hi hs hw
    refine pk_le 5 i (fun z => absurd z (by omega)) (fun _ => ⟨pk_in i 5 hi, nm_r (zb_up (n := i) (v := nI 0) rfl (by omega) rfl) (nm_r (nI_1 i) (hw _ (fun c hc => ?_)))⟩)
    by_cases e : c = i
    · rw [e, pk_us]
    · rw [pk_un e]; exact hs c (by omega)
theorem zw_greatestScores {post : Int32 → St1 → Prop} {u : St1} {C rule : Nat} {P : Nat → Nat → Nat} {B : Nat → Nat} (h : zk C P B u) (hr : rule < 6) (H : ∀ s u', zk C P B u' → 1 ≤ s → s < 32 → ((rule = 3 ∨ rule = 4) → ∀ L, zl_L B L → s = 2 ^ L) → post (nI s) u') : wpX_greatestScores post u (nI rule) := by
  obtain ⟨f0, f1, f2, a1, a2, a3, a4, a5, a6, a7, a8, a9, a10, a11, a12, a13, a14, a15, a16, a17⟩ := u
  unfold wpX_greatestScores
  refine zw_findScores h hr ?_
  clear h
  rintro ⟨f0, f1, f2, a1, a2, a3, a4, a5, a6, a7, a8, a9, a10, a11, a12, a13, a14, a15, a16, a17⟩ h hok
  obtain ⟨ok1, ok2⟩ : zf_ok B rule a6 := hok
  refine pk_loop (σ := Nat × Int32) (fun n i q => wX_greatestScores_14 post f0 f1 f2 a1 a2 a3 a4 a5 a6 a7 a8 a9 a10 a11 a12 a13 a14 a15 a16 a17 n (nI q.1) q.2 (nI i)) (fun i q => q.1 < 32 ∧ (i = 0 → q.2.toInt = -1000) ∧ (∀ j, j < 5 → q.1.testBit j = true → j < i ∧ (a6 j).toInt = q.2.toInt) ∧ (∀ j, j < i → (a6 j).toInt ≤ q.2.toInt) ∧ (0 < i → 1 ≤ q.1)) 5 0 (0, -1000) (by omega) ⟨by decide, fun _ => by decide, fun j _ z => ?_, fun j hj => absurd hj (by omega), fun z => absurd z (by omega)⟩ ?_ ?_
  · rw [show ((0 : Nat), (-1000 : Int32)).1 = 0 from rfl, Nat.zero_testBit] at z
    exact absurd z (by decide)
  · rintro n ⟨s, b⟩ ⟨q1, q2, q3, q4, q5⟩
    have q1' : s < 32 := q1
    have q3' : ∀ j, j < 5 → s.testBit j = true → j < 5 ∧ (a6 j).toInt = b.toInt := q3
    have q4' : ∀ j, j < 5 → (a6 j).toInt ≤ b.toInt := q4
    have q5' : 1 ≤ s := q5 (by omega)
    refine pk_le 5 5 (fun _ => H s (f0, f1, f2, a1, a2, a3, a4, a5, a6, a7, a8, a9, a10, a11, a12, a13, a14, a15, a16, a17) h q5' q1' (fun hru L hL => zl_s1 s q1' L hL.1 q5' (fun d hd ed => ?_))) (fun z => absurd z (by omega))
    by_cases e : d = L
    · exact e
    · have z1 := ok2 hru L hL d hd e
      have z2 := (q3' d hd ed).2
      have z3 := q4' L hL.1
      omega
  · rintro n i ⟨s, b⟩ hi ⟨q1, q2, q3, q4, q5⟩ hw
    have q1' : s < 32 := q1
    have q2' : i = 0 → b.toInt = -1000 := q2
    have q3' : ∀ j, j < 5 → s.testBit j = true → j < i ∧ (a6 j).toInt = b.toInt := q3
    have q4' : ∀ j, j < i → (a6 j).toInt ≤ b.toInt := q4
    have q5' : 0 < i → 1 ≤ s := q5
    have ok := ok1 i hi
    have er : a6 (nI i).toNatClampNeg = a6 i := zb_rd rfl (by omega)
    refine pk_le 5 i (fun z => absurd z (by omega)) (fun _ => ⟨pk_in i 5 hi, ?_⟩)
    rw [er]
    refine ek_if Int32.le_iff_toInt_le (fun le => ⟨pk_in i 5 hi, ?_⟩) (fun nle => ⟨pk_in i 5 hi, ?_⟩)
    · rw [er]
      refine ek_if Int32.lt_iff_toInt_lt (fun lt => nm_r (nI_1 i) (hw (s, b) ⟨q1', fun z => absurd z (by omega), fun j hj ej => ⟨by have := (q3' j hj ej).1; omega, (q3' j hj ej).2⟩, fun j hj => ?_, fun _ => ?_⟩)) (fun nlt => ⟨pk_in i 5 hi, nm_e (nm_r (zb_set (s := s) (c := i) rfl rfl (by omega)) (nm_r (nI_1 i) (hw (s ||| 2 ^ i, a6 i) ⟨zb_orlt q1' hi, fun z => absurd z (by omega), fun j hj ej => ?_, fun j hj => ?_, fun _ => ?_⟩)))⟩)
      · by_cases e : j = i
        · rw [e]; exact le
        · exact q4' j (by omega)
      · rcases Nat.eq_zero_or_pos i with e | e
        · have := q2' e; omega
        · exact q5' e
      · show j < i + 1 ∧ (a6 j).toInt = (a6 i).toInt
        rcases (zb_obit (by omega) (by omega)).mp ej with z | z
        · have := q3' j hj z
          have le' : (a6 i).toInt ≤ b.toInt := le
          have nlt' : ¬ (a6 i).toInt < b.toInt := nlt
          omega
        · rw [z]; exact ⟨by omega, rfl⟩
      · show (a6 j).toInt ≤ (a6 i).toInt
        by_cases e : j = i
        · rw [e]; exact Int.le_refl _
        · have := q4' j (by omega)
          have nlt' : ¬ (a6 i).toInt < b.toInt := nlt
          omega
      · exact zb_ge ((zb_obit (s := s) (c := i) (d := i) (by omega) (by omega)).mpr (Or.inr rfl))
    · rw [er]
      refine br_f (fun z => nle (by have := Int32.lt_iff_toInt_lt.mp z; omega)) ⟨pk_in i 5 hi, nm_e (nm_r (zb_set (s := 0) (c := i) rfl rfl (by omega)) (nm_r (nI_1 i) (hw (0 ||| 2 ^ i, a6 i) ⟨zb_orlt (by omega) hi, fun z => absurd z (by omega), fun j hj ej => ?_, fun j hj => ?_, fun _ => ?_⟩)))⟩
      · show j < i + 1 ∧ (a6 j).toInt = (a6 i).toInt
        rcases (zb_obit (by omega) (by omega)).mp ej with z | z
        · rw [Nat.zero_testBit] at z; exact absurd z (by decide)
        · rw [z]; exact ⟨by omega, rfl⟩
      · show (a6 j).toInt ≤ (a6 i).toInt
        by_cases e : j = i
        · rw [e]; exact Int.le_refl _
        · have := q4' j (by omega)
          have nle' : ¬ (a6 i).toInt ≤ b.toInt := nle
          omega
      · exact zb_ge ((zb_obit (s := 0) (c := i) (d := i) (by omega) (by omega)).mpr (Or.inr rfl))
end
section
/-! rules 6 to 8 -/
theorem zb_all {C : Nat} (hC : C ≤ 9) : (1 : Int32) <<< (nI C &&& 31) - 1 = nI (2 ^ C - 1) := by
  rw [zb_1 C (by omega)]
  exact zb_pred (Nat.ne_of_gt (Nat.two_pow_pos C))
theorem zw_extremeCount {post : Int32 → Prop} {u : St1} {C c s : Nat} {P : Nat → Nat → Nat} {B : Nat → Nat} {x3 : Int32} (h : zk C P B u) (hc : c < 5) (hs : s < 32) (H : ∀ t, t ≤ 10 → post (nI t)) : wpX_extremeCount post u (nI s) (nI c) x3 := by
  obtain ⟨f0, f1, f2, a1, a2, a3, a4, a5, a6, a7, a8, a9, a10, a11, a12, a13, a14, a15, a16, a17⟩ := u
  have hC : C ≤ 9 := h.1
  have hf : f0 = nI C := h.2.1
  have hP : zk_P C P := h.2.2.2.2.2.2.2.1
  have e3 : ∀ a b, a < 5 → b < 5 → a3 (5 * a + b) = nI (P a b) := h.2.2.2.2.1
  subst hf
  have h9 : (2 : Nat) ^ C ≤ 2 ^ 9 := Nat.pow_le_pow_right (by omega) hC
  refine nm_r (zb_all hC) ?_
  refine pk_loop (σ := Nat) (fun n i t => wX_extremeCount_13 post (nI s) (nI c) x3 (nI C) f1 f2 a1 a2 a3 a4 a5 a6 a7 a8 a9 a10 a11 a12 a13 a14 a15 a16 a17 n (nI t) (nI i)) (fun i t => t < 512) 5 0 (2 ^ C - 1) (by omega) (show 2 ^ C - 1 < 512 by omega) ?_ ?_
  · intro n t ht
    exact pk_le 5 5 (fun _ => zw_ones (n := t) rfl (by omega) (H _ (zo_le t))) (fun z => absurd z (by omega))
  · intro n i t hi ht hw
    have an : ∀ x, t &&& x < 512 := fun x => Nat.lt_of_le_of_lt Nat.and_le_left ht
    refine pk_le 5 i (fun z => absurd z (by omega)) (fun _ => pk_eq i c (fun e => nm_r (nI_1 i) (hw t ht)) (fun e => zw_in (s := s) (c := i) rfl rfl (by omega) (by omega) (fun z => nm_r (nI_1 i) (hw t ht)) (fun z => br_c (fun _ => ⟨pk_in (5 * i + c) 25 (by omega) (zb_ix i c), nm_r (e' := nI (t &&& P i c)) ?_ (nm_r (nI_1 i) (hw _ (an _)))⟩) (fun _ => ⟨pk_in (5 * c + i) 25 (by omega) (zb_ix c i), nm_r (e' := nI (t &&& P c i)) ?_ (nm_r (nI_1 i) (hw _ (an _)))⟩))))
    · rw [zb_rd (a := a3) (zb_ix i c) (by omega), e3 i c hi hc, zb_and]
    · rw [zb_rd (a := a3) (zb_ix c i) (by omega), e3 c i hc hi, zb_and]
theorem ze_1 : ∀ s, s < 32 → ∀ j, j < 5 → ((s &&& (s - 1)) ≠ 0 ∧ s.testBit j = true → 1 ≤ s ^^^ (s &&& 2 ^ j) ∧ s ^^^ (s &&& 2 ^ j) < s) := by decide +kernel
theorem zb_del {s i : Nat} (hi : i < 5) : nI s &&& (((1 : Int32) <<< (nI i &&& 31)) ^^^ (-1)) = nI (s ^^^ (s &&& 2 ^ i)) := by
  rw [zb_1 i (by omega), zb_not]
theorem zw_el103 {post : St1 → Prop} {f0 f1 f2 : Int32} {a1 a2 a3 a4 a5 a6 a7 a8 a9 a10 a11 a12 a13 a14 a15 a16 a17 : Nat → Int32} {s j : Nat} {x : Int32} (hs : s < 32) (hj : j < 5) (hb : s.testBit j = true) (hx : a6 j = x) (H : ∀ t, t (s ^^^ (s &&& 2 ^ j)) = nI 1 → post (f0, f1, f2, a1, a2, a3, a4, a5, a6, t, a8, a9, a10, a11, a12, a13, a14, a15, a16, a17)) : ∃ n, wX_eliminate_103 post (nI s) x f0 f1 f2 n 0 a1 a2 a3 a4 a5 a6 a7 a8 a9 a10 a11 a12 a13 a14 a15 a16 a17 := by
  refine pk_loop (fun n i t => wX_eliminate_103 post (nI s) x f0 f1 f2 n (nI i) a1 a2 a3 a4 a5 a6 t a8 a9 a10 a11 a12 a13 a14 a15 a16 a17) (fun i t => j < i → t (s ^^^ (s &&& 2 ^ j)) = nI 1) 5 0 a7 (by omega) (fun z => absurd z (by omega)) ?_ ?_
  · intro n t ht
    exact pk_le 5 5 (fun _ => H t (ht hj)) (fun z => absurd z (by omega))
  · intro n i t hi ht hw
    have hd : s ^^^ (s &&& 2 ^ i) < 32 := zb_dlt hs
    refine pk_le 5 i (fun z => absurd z (by omega)) (fun _ => zw_in (s := s) (c := i) rfl rfl (by omega) (by omega) (fun z => nm_r (nI_1 i) (hw t (fun q => ht ?_))) (fun z => ⟨pk_in i 5 hi, br_c (fun e => ⟨pk_in (s ^^^ (s &&& 2 ^ i)) 32 hd (zb_del hi), nm_r (zb_up (n := s ^^^ (s &&& 2 ^ i)) (v := nI 1) (zb_del hi) (by omega) rfl) (nm_r (nI_1 i) (hw _ (fun q => ?_)))⟩) (fun e => nm_r (nI_1 i) (hw t (fun q => ht ?_)))⟩))
    · by_cases e : j = i
      · rw [e, z] at hb; exact absurd hb (by decide)
      · omega
    · by_cases e2 : s ^^^ (s &&& 2 ^ j) = s ^^^ (s &&& 2 ^ i)
      · rw [e2, pk_us]
      · rw [pk_un e2]
        refine ht ?_
        by_cases e3 : j = i
        · exact absurd (by rw [e3]) e2
        · omega
    · by_cases e3 : j = i
      · rw [zb_rd (a := a6) (n := i) rfl (by omega), ← e3] at e
        exact absurd hx e
      · omega
theorem zw_eliminate {post : St1 → Prop} {f0 f1 f2 : Int32} {a1 a2 a3 a4 a5 a6 a7 a8 a9 a10 a11 a12 a13 a14 a15 a16 a17 : Nat → Int32} {C rule s : Nat} {P : Nat → Nat → Nat} {B : Nat → Nat} (h : zk C P B (f0, f1, f2, a1, a2, a3, a4, a5, a6, a7, a8, a9, a10, a11, a12, a13, a14, a15, a16, a17)) (hr : rule < 17) (hs : s < 32) (hs1 : 1 ≤ s) (H : ∀ s6 s7 j, j < 5 → s.testBit j = true → s7 (s ^^^ (s &&& 2 ^ j)) = nI 1 → post (f0, f1, f2, a1, a2, a3, a4, a5, s6, s7, a8, a9, a10, a11, a12, a13, a14, a15, a16, a17)) : wpX_eliminate post (f0, f1, f2, a1, a2, a3, a4, a5, a6, a7, a8, a9, a10, a11, a12, a13, a14, a15, a16, a17) (nI rule) (nI s) := by
  refine pk_loop (σ := Int32 × (Nat → Int32)) (fun n i q => wX_eliminate_7 post (nI rule) (nI s) f0 f1 f2 n q.1 (nI i) a1 a2 a3 a4 a5 q.2 a7 a8 a9 a10 a11 a12 a13 a14 a15 a16 a17) (fun i q => (q.1.toInt = 1000 ∧ ∀ j, j < i → s.testBit j = false) ∨ ∃ j, j < i ∧ s.testBit j = true ∧ q.2 j = q.1) 5 0 (1000, a6) (by omega) (Or.inl ⟨by show (1000 : Int32).toInt = 1000; decide, fun j hj => absurd hj (by omega)⟩) ?_ ?_
  · rintro n ⟨x, t⟩ hq
    refine pk_le 5 5 (fun _ => ?_) (fun z => absurd z (by omega))
    rcases hq with ⟨_, q2⟩ | ⟨j, q1, q2, q3⟩
    · obtain ⟨c, hc, ec⟩ := zb_pos s hs hs1
      rw [q2 c hc] at ec
      exact absurd ec (by decide)
    · exact zw_el103 hs q1 q2 q3 (fun t' ht' => H t t' j q1 q2 ht')
  · rintro n i ⟨x, t⟩ hi hq hw
    have hq' : (x.toInt = 1000 ∧ ∀ j, j < i → s.testBit j = false) ∨ ∃ j, j < i ∧ s.testBit j = true ∧ t j = x := hq
    have fin : s.testBit i = true → ∀ v : Int32, v.toInt < 1000 → wX_eliminate_74 post (wX_eliminate_7 post (nI rule) (nI s) f0 f1 f2 n) (nI rule) (nI s) x (nI i) v (nI i) f0 f1 f2 a1 a2 a3 a4 a5 t a7 a8 a9 a10 a11 a12 a13 a14 a15 a16 a17 := by
      intro hb v hv
      refine ⟨pk_in i 5 hi, nm_r (zb_up (n := i) (v := v) rfl (by omega) rfl) ⟨pk_in i 5 hi, ?_⟩⟩
      rw [zb_rd (a := upd t i v) (n := i) rfl (by omega), pk_us]
      refine ek_if Int32.le_iff_toInt_le (fun le => nm_r (nI_1 i) (hw (x, upd t i v) (Or.inr ?_))) (fun nle => ⟨pk_in i 5 hi, nm_e (nm_r (nI_1 i) (hw (v, upd t i v) (Or.inr ⟨i, by omega, hb, pk_us⟩)))⟩)
      rcases hq' with ⟨q1, q2⟩ | ⟨j, q1, q2, q3⟩
      · omega
      · exact ⟨j, by omega, q2, by show upd t i v j = x; rw [pk_un (by omega)]; exact q3⟩
    refine pk_le 5 i (fun z => absurd z (by omega)) (fun _ => zw_in (s := s) (c := i) rfl rfl (by omega) (by omega) (fun z => nm_r (nI_1 i) (hw (x, t) ?_)) (fun z => br_c (fun _ => zw_extremeCount (u := (f0, f1, f2, a1, a2, a3, a4, a5, t, a7, a8, a9, a10, a11, a12, a13, a14, a15, a16, a17)) h hi hs (fun w hw' => fin z _ ?_)) (fun _ => br_c (fun _ => zw_extremeCount (u := (f0, f1, f2, a1, a2, a3, a4, a5, t, a7, a8, a9, a10, a11, a12, a13, a14, a15, a16, a17)) h hi hs (fun w hw' => fin z _ ?_)) (fun _ => zw_pointsOf (u := (f0, f1, f2, a1, a2, a3, a4, a5, t, a7, a8, a9, a10, a11, a12, a13, a14, a15, a16, a17)) h hi rfl hs (fun w hw' => fin z _ ?_)))))
    · rcases hq' with ⟨q1, q2⟩ | ⟨j, q1, q2, q3⟩
      · refine Or.inl ⟨q1, fun j hj => ?_⟩
        by_cases e : j = i
        · rw [e]; exact z
        · exact q2 j (by omega)
      · exact Or.inr ⟨j, by omega, q2, q3⟩
    · rw [zi_n (by omega)]; omega
    · rw [sb_negT (by omega)]; omega
    · rw [zi_n (by omega)]; omega
theorem zw_byElimination {post : Int32 → St1 → Prop} {u : St1} {C rule : Nat} {P : Nat → Nat → Nat} {B : Nat → Nat} (h : zk C P B u) (hr : rule < 17) (H : ∀ s u', zk C P B u' → 1 ≤ s → s < 32 → post (nI s) u') : wpX_byElimination post u (nI rule) := by
  obtain ⟨f0, f1, f2, a1, a2, a3, a4, a5, a6, a7, a8, a9, a10, a11, a12, a13, a14, a15, a16, a17⟩ := u
  refine pk_loop (fun n i t => wX_byElimination_2 post (nI rule) f0 f1 f2 n (nI i) a1 a2 a3 a4 a5 a6 t a8 a9 a10 a11 a12 a13 a14 a15 a16 a17) (fun i t => True) 31 0 a7 (by omega) trivial ?_ ?_
  · intro n t _
    refine pk_le 31 31 (fun _ => nm_e ⟨32, ?_⟩) (fun z => absurd z (by omega))
    refine pk_loopD (σ := Nat × (Nat → Int32) × (Nat → Int32)) (fun n k q => wX_byElimination_34 post (nI rule) n (nI q.1) (nI k) f0 f1 f2 a1 a2 a3 a4 a5 q.2.1 q.2.2 a8 a9 a10 a11 a12 a13 a14 a15 a16 a17) (fun k q => q.1 < 32 ∧ k ≤ 31 ∧ (1 ≤ q.1 ∨ ∃ m, 1 ≤ m ∧ m ≤ k ∧ ¬ q.2.2 m = 0)) ?_ ?_ 31 (0, a6, upd t 31 1) ⟨(show (0 : Nat) < 32 by decide), by omega, Or.inr ⟨31, by omega, by omega, by show ¬ upd t 31 1 31 = 0; rw [pk_us]; decide⟩⟩
    · rintro n ⟨r, t6, t7⟩ ⟨q1, q2, q3⟩
      have q1' : r < 32 := q1
      refine pk_le 0 0 (fun _ => H r (f0, f1, f2, a1, a2, a3, a4, a5, t6, t7, a8, a9, a10, a11, a12, a13, a14, a15, a16, a17) h ?_ q1') (fun z => absurd z (by omega))
      rcases q3 with q | ⟨m, m1, m2, _⟩
      · exact q
      · omega
    · rintro n k ⟨r, t6, t7⟩ ⟨q1, q2, q3⟩ hw
      have q1' : r < 32 := q1
      have q3' : 1 ≤ r ∨ ∃ m, 1 ≤ m ∧ m ≤ k + 1 ∧ ¬ t7 m = 0 := q3
      have hk : zk C P B (f0, f1, f2, a1, a2, a3, a4, a5, t6, t7, a8, a9, a10, a11, a12, a13, a14, a15, a16, a17) := h
      have er : t7 (nI (k + 1)).toNatClampNeg = t7 (k + 1) := zb_rd rfl (by omega)
      refine pk_le (k + 1) 0 (fun z => absurd z (by omega)) (fun _ => ⟨pk_in (k + 1) 32 (by omega), br_c (fun z => nm_r (pk_m1 k) (hw (r, t6, t7) ⟨q1', by omega, ?_⟩)) (fun z => ?_)⟩)
      · rcases q3' with q | ⟨m, m1, m2, m3⟩
        · exact Or.inl q
        · refine Or.inr ⟨m, m1, ?_, m3⟩
          by_cases e : m = k + 1
          · rw [e] at m3; exact absurd (er.symm.trans z) m3
          · omega
      · have ea : nI (k + 1) &&& (nI (k + 1) - 1) = nI ((k + 1) &&& (k + 1 - 1)) := by rw [zb_pred (by omega), zb_and]
        have la : (k + 1) &&& (k + 1 - 1) < 32 := Nat.lt_of_le_of_lt Nat.and_le_left (by omega)
        refine pk_eq ((k + 1) &&& (k + 1 - 1)) 0 (fun e => nm_r (zb_or r (k + 1)) (nm_r (pk_m1 k) (hw (r ||| (k + 1), t6, t7) ⟨zb_olt q1' (by omega), by omega, Or.inl ?_⟩))) (fun e => zw_eliminate hk hr (by omega) (by omega) (fun s6 s7 j hj hb hm => nm_r (pk_m1 k) (hw (r, s6, s7) ⟨q1', by omega, Or.inr ?_⟩))) ea
        · have : k + 1 ≤ r ||| (k + 1) := Nat.right_le_or
          exact Nat.le_trans (by omega) this
        · obtain ⟨w1, w2⟩ := ze_1 (k + 1) (by omega) j hj ⟨e, hb⟩
          exact ⟨_, w1, by omega, by show ¬ s7 _ = 0; rw [hm]; decide⟩
  · intro n i t hi _ hw
    exact pk_le 31 i (fun z => absurd z (by omega)) (fun _ => ⟨pk_in i 32 (by omega), nm_e (nm_r (nI_1 i) (hw _ trivial))⟩)
end
section
/-! rule 10: the list of couples -/
def zu_s (f : Nat → Nat) : Nat → Nat
  | 0 => 0
  | n + 1 => zu_s f n + f n
theorem zu_scg {f g : Nat → Nat} : ∀ n, (∀ q, q < n → g q = f q) → zu_s g n = zu_s f n := by
  intro n
  induction n with
  | zero => exact fun _ => rfl
  | succ n ih =>
    intro h
    show zu_s g n + g n = zu_s f n + f n
    rw [ih (fun q hq => h q (by omega)), h n (by omega)]
theorem zu_s1 {f g : Nat → Nat} {q0 : Nat} : ∀ n, q0 < n → (∀ q, q < n → q ≠ q0 → g q = f q) → g q0 = f q0 + 1 → zu_s g n = zu_s f n + 1 := by
  intro n
  induction n with
  | zero => intro h; omega
  | succ n ih =>
    intro h0 h1 h2
    show zu_s g n + g n = zu_s f n + f n + 1
    by_cases e : n = q0
    · rw [e, h2, zu_scg q0 (fun q hq => h1 q (by omega) (by omega))]
      omega
    · rw [ih (by omega) (fun q hq => h1 q (by omega)) h2, h1 n (by omega) e]
      omega
theorem zu_10 {f : Nat → Nat} (h1 : ∀ x y, x < 5 → y < 5 → x ≠ y → f (5 * x + y) + f (5 * y + x) ≤ 1) (h0 : ∀ x, x < 5 → f (5 * x + x) = 0) : zu_s f 25 ≤ 10 := by
  have d0 : f 0 = 0 := h0 0 (by omega)
  have d1 : f 6 = 0 := h0 1 (by omega)
  have d2 : f 12 = 0 := h0 2 (by omega)
  have d3 : f 18 = 0 := h0 3 (by omega)
  have d4 : f 24 = 0 := h0 4 (by omega)
  have a1 : f 1 + f 5 ≤ 1 := h1 0 1 (by omega) (by omega) (by omega)
  have a2 : f 2 + f 10 ≤ 1 := h1 0 2 (by omega) (by omega) (by omega)
  have a3 : f 3 + f 15 ≤ 1 := h1 0 3 (by omega) (by omega) (by omega)
  have a4 : f 4 + f 20 ≤ 1 := h1 0 4 (by omega) (by omega) (by omega)
  have b2 : f 7 + f 11 ≤ 1 := h1 1 2 (by omega) (by omega) (by omega)
  have b3 : f 8 + f 16 ≤ 1 := h1 1 3 (by omega) (by omega) (by omega)
  have b4 : f 9 + f 21 ≤ 1 := h1 1 4 (by omega) (by omega) (by omega)
  have c3 : f 13 + f 17 ≤ 1 := h1 2 3 (by omega) (by omega) (by omega)
  have c4 : f 14 + f 22 ≤ 1 := h1 2 4 (by omega) (by omega) (by omega)
  have e4 : f 19 + f 23 ≤ 1 := h1 3 4 (by omega) (by omega) (by omega)
  show 0 + f 0 + f 1 + f 2 + f 3 + f 4 + f 5 + f 6 + f 7 + f 8 + f 9 + f 10 + f 11 + f 12 + f 13 + f 14 + f 15 + f 16 + f 17 + f 18 + f 19 + f 20 + f 21 + f 22 + f 23 + f 24 ≤ 10
  omega
/-- the couple x, y is listed when margin m, a, b is next -/
def zu_d (P : Nat → Nat → Nat) (m a b x y : Nat) : Prop := m < zs_0 P x y ∨ (zs_0 P x y = m ∧ (x < a ∨ (x = a ∧ y < b)))
noncomputable def zu_f (P : Nat → Nat → Nat) (m a b : Nat) : Nat → Nat := fun q => if m < zs_0 P (q / 5) (q % 5) ∨ (zs_0 P (q / 5) (q % 5) = m ∧ (q / 5 < a ∨ (q / 5 = a ∧ q % 5 < b))) then 1 else 0
theorem zu_f1 {P : Nat → Nat → Nat} {m a b q : Nat} (h : zu_d P m a b (q / 5) (q % 5)) : zu_f P m a b q = 1 := if_pos h
theorem zu_f0 {P : Nat → Nat → Nat} {m a b q : Nat} (h : ¬ zu_d P m a b (q / 5) (q % 5)) : zu_f P m a b q = 0 := if_neg h
theorem zu_fle (P : Nat → Nat → Nat) (m a b q : Nat) : zu_f P m a b q ≤ 1 := by
  by_cases h : zu_d P m a b (q / 5) (q % 5)
  · rw [zu_f1 h]; omega
  · rw [zu_f0 h]; omega
theorem zu_fcg {P : Nat → Nat → Nat} {m a b m' a' b' q : Nat} (h : zu_d P m a b (q / 5) (q % 5) ↔ zu_d P m' a' b' (q / 5) (q % 5)) : zu_f P m a b q = zu_f P m' a' b' q := by
  by_cases e : zu_d P m a b (q / 5) (q % 5)
  · rw [zu_f1 e, zu_f1 (h.mp e)]
  · rw [zu_f0 e, zu_f0 (fun z => e (h.mpr z))]
theorem zu_pos {P : Nat → Nat → Nat} {m a b x y : Nat} (hm : 1 ≤ m) (h : zu_d P m a b x y) : 1 ≤ zs_0 P x y := by
  rcases h with h | h
  · omega
  · omega
theorem zu_le10 {P : Nat → Nat → Nat} {m a b : Nat} (hm : 1 ≤ m) : zu_s (zu_f P m a b) 25 ≤ 10 := by
  have key : ∀ x y, x < 5 → y < 5 → zu_f P m a b (5 * x + y) = 1 → 1 ≤ zs_0 P x y := by
    intro x y hx hy h
    have ex : (5 * x + y) / 5 = x := by omega
    have ey : (5 * x + y) % 5 = y := by omega
    by_cases e : zu_d P m a b ((5 * x + y) / 5) ((5 * x + y) % 5)
    · have := zu_pos hm e
      rw [ex, ey] at this
      exact this
    · rw [zu_f0 e] at h; omega
  refine zu_10 (fun x y hx hy hne => ?_) (fun x hx => ?_)
  · have l1 := zu_fle P m a b (5 * x + y)
    have l2 := zu_fle P m a b (5 * y + x)
    by_cases e1 : zu_f P m a b (5 * x + y) = 1
    · by_cases e2 : zu_f P m a b (5 * y + x) = 1
      · have q1 : 1 ≤ zo (P x y) - zo (P y x) := key x y hx hy e1
        have q2 : 1 ≤ zo (P y x) - zo (P x y) := key y x hy hx e2
        omega
      · omega
    · omega
  · have l1 := zu_fle P m a b (5 * x + x)
    by_cases e1 : zu_f P m a b (5 * x + x) = 1
    · have q1 : 1 ≤ zo (P x x) - zo (P x x) := key x x hx hx e1
      omega
    · omega
def zu_I (P : Nat → Nat → Nat) (m a b : Nat) (f2 : Int32) (a10 a11 : Nat → Int32) : Prop := ∃ (K : Nat) (A Z : Nat → Nat), f2 = nI K ∧ K = zu_s (zu_f P m a b) 25 ∧ (∀ k, k < K → a10 k = nI (A k) ∧ a11 k = nI (Z k) ∧ A k < 5 ∧ Z k < 5 ∧ 1 ≤ zs_0 P (A k) (Z k)) ∧ (∀ x y, x < 5 → y < 5 → zu_d P m a b x y → ∃ k, k < K ∧ A k = x ∧ Z k = y)
theorem zu_cg {P : Nat → Nat → Nat} {m a b m' a' b' : Nat} {f2 : Int32} {a10 a11 : Nat → Int32} (hd : ∀ x y, x < 5 → y < 5 → (zu_d P m a b x y ↔ zu_d P m' a' b' x y)) (h : zu_I P m a b f2 a10 a11) : zu_I P m' a' b' f2 a10 a11 := by
  obtain ⟨K, A, Z, h1, h2, h3, h4⟩ := h
  refine ⟨K, A, Z, h1, h2.trans ?_, h3, fun x y hx hy z => h4 x y hx hy ((hd x y hx hy).mpr z)⟩
  exact zu_scg 25 (fun q hq => zu_fcg (hd (q / 5) (q % 5) (by omega) (by omega)))
theorem zu_add {P : Nat → Nat → Nat} {m a b : Nat} {f2 : Int32} {a10 a11 : Nat → Int32} (hm : 1 ≤ m) (ha : a < 5) (hb : b < 5) (e : zs_0 P a b = m) (h : zu_I P m a b f2 a10 a11) : ∃ K, f2 = nI K ∧ K < 10 ∧ zu_I P m a (b + 1) (nI (K + 1)) (upd a10 K (nI a)) (upd a11 K (nI b)) := by
  obtain ⟨K, A, Z, h1, h2, h3, h4⟩ := h
  have key : zu_s (zu_f P m a (b + 1)) 25 = zu_s (zu_f P m a b) 25 + 1 := by
    refine zu_s1 (q0 := 5 * a + b) 25 (by omega) (fun q hq hne => zu_fcg ?_) ?_
    · unfold zu_d
      constructor
      · rintro (z | ⟨z1, z2⟩)
        · exact Or.inl z
        · exact Or.inr ⟨z1, by omega⟩
      · rintro (z | ⟨z1, z2⟩)
        · exact Or.inl z
        · exact Or.inr ⟨z1, by omega⟩
    · have ex : (5 * a + b) / 5 = a := by omega
      have ey : (5 * a + b) % 5 = b := by omega
      rw [zu_f1 (show zu_d P m a (b + 1) ((5 * a + b) / 5) ((5 * a + b) % 5) by rw [ex, ey]; exact Or.inr ⟨e, by omega⟩), zu_f0 (fun z => ?_)]
      rw [ex, ey] at z
      rcases z with z | ⟨z1, z2⟩ <;> omega
  have l10 := zu_le10 (P := P) (m := m) (a := a) (b := b + 1) hm
  refine ⟨K, h1, by omega, K + 1, fun k => if k = K then a else A k, fun k => if k = K then b else Z k, rfl, by omega, fun k hk => ?_, fun x y hx hy z => ?_⟩
  · by_cases ek : k = K
    · rw [ek, pk_us, pk_us]
      show nI a = nI (if K = K then a else A K) ∧ nI b = nI (if K = K then b else Z K) ∧ (if K = K then a else A K) < 5 ∧ (if K = K then b else Z K) < 5 ∧ 1 ≤ zs_0 P (if K = K then a else A K) (if K = K then b else Z K)
      rw [if_pos rfl, if_pos rfl]
      exact ⟨rfl, rfl, ha, hb, by omega⟩
    · rw [pk_un ek, pk_un ek]
      show a10 k = nI (if k = K then a else A k) ∧ a11 k = nI (if k = K then b else Z k) ∧ (if k = K then a else A k) < 5 ∧ (if k = K then b else Z k) < 5 ∧ 1 ≤ zs_0 P (if k = K then a else A k) (if k = K then b else Z k)
      rw [if_neg ek, if_neg ek]
      exact h3 k (by omega)
  · by_cases e2 : x = a ∧ y = b
    · exact ⟨K, by omega, by show (if K = K then a else A K) = x; rw [if_pos rfl, e2.1], by show (if K = K then b else Z K) = y; rw [if_pos rfl, e2.2]⟩
    · have z' : zu_d P m a b x y := by
        rcases z with z | ⟨z1, z2⟩
        · exact Or.inl z
        · exact Or.inr ⟨z1, by omega⟩
      obtain ⟨k, k1, k2, k3⟩ := h4 x y hx hy z'
      exact ⟨k, by omega, by show (if k = K then a else A k) = x; rw [if_neg (by omega), k2], by show (if k = K then b else Z k) = y; rw [if_neg (by omega), k3]⟩
theorem zw_addCouple {post : St1 → Prop} {f0 f1 f2 : Int32} {a1 a2 a3 a4 a5 a6 a7 a8 a9 a10 a11 a12 a13 a14 a15 a16 a17 : Nat → Int32} {K a b : Nat} (hf : f2 = nI K) (hK : K < 10) (ha : a < 5) (hb : b < 5) (H : post (f0, f1, nI (K + 1), a1, a2, a3, a4, a5, a6, a7, a8, a9, upd a10 K (nI a), upd a11 K (nI b), a12, a13, a14, a15, a16, a17)) : wpX_addCouple post (f0, f1, f2, a1, a2, a3, a4, a5, a6, a7, a8, a9, a10, a11, a12, a13, a14, a15, a16, a17) (nI a) (nI b) := by
  subst hf
  exact ⟨pk_in K 10 hK, nm_r (zb_up (n := K) rfl (by omega) (zb_i8 a (by omega))) ⟨pk_in K 10 hK, nm_r (zb_up (n := K) rfl (by omega) (zb_i8 b (by omega))) (nm_r (nI_1 K) H)⟩⟩
/-- the list, done: K couples A k, Z k, each a winner and its loser, and all of them -/
def zu_K (B : Nat → Nat) (K : Nat) (A Z : Nat → Nat) (f2 : Int32) (a10 a11 : Nat → Int32) : Prop := K ≤ 10 ∧ f2 = nI K ∧ (∀ k, k < K → a10 k = nI (A k) ∧ a11 k = nI (Z k) ∧ A k < 5 ∧ Z k < 5 ∧ (B (A k)).testBit (Z k) = true) ∧ (∀ x y, x < 5 → y < 5 → (B x).testBit y = true → ∃ k, k < K ∧ A k = x ∧ Z k = y)
theorem zw_listCouples {post : St1 → Prop} {u : St1} {C : Nat} {P : Nat → Nat → Nat} {B : Nat → Nat} (h : zk C P B u) (H : ∀ u' K A Z, zk C P B u' → zu_K B K A Z u'.2.2.1 u'.2.2.2.2.2.2.2.2.2.2.2.2.1 u'.2.2.2.2.2.2.2.2.2.2.2.2.2.1 → post u') : wpX_listCouples post u := by
  obtain ⟨f0, f1, f2, a1, a2, a3, a4, a5, a6, a7, a8, a9, a10, a11, a12, a13, a14, a15, a16, a17⟩ := u
  have hC : C ≤ 9 := h.1
  have hP : zk_P C P := h.2.2.2.2.2.2.2.1
  have hB : zk_B P B := h.2.2.2.2.2.2.2.2
  have e4 : ∀ a b, a < 5 → b < 5 → a4 (5 * a + b) = nI (zo (P a b)) - nI (zo (P b a)) := h.2.2.2.2.2.1
  refine ⟨10, pk_loopD (σ := Int32 × (Nat → Int32) × (Nat → Int32)) (fun n m q => wX_listCouples_8 post n (nI m) f0 f1 q.1 a1 a2 a3 a4 a5 a6 a7 a8 a9 q.2.1 q.2.2 a12 a13 a14 a15 a16 a17) (fun m q => m ≤ 9 ∧ zu_I P m 0 0 q.1 q.2.1 q.2.2 ∧ zu_s (zu_f P m 0 0) 25 ≤ 10) ?_ ?_ 9 (0, a10, a11) ⟨by omega, ?_, zu_le10 (by omega)⟩⟩
  · rintro n ⟨g, b10, b11⟩ ⟨_, hI, hle⟩
    obtain ⟨K, A, Z, h1, h2, h3, h4⟩ := hI
    refine pk_le 0 0 (fun _ => H (f0, f1, g, a1, a2, a3, a4, a5, a6, a7, a8, a9, b10, b11, a12, a13, a14, a15, a16, a17) K A Z h ⟨by omega, h1, fun k hk => ?_, fun x y hx hy z => h4 x y hx hy ?_⟩) (fun z => absurd z (by omega))
    · obtain ⟨q1, q2, q3, q4, q5⟩ := h3 k hk
      have q5' : 1 ≤ zo (P (A k) (Z k)) - zo (P (Z k) (A k)) := q5
      exact ⟨q1, q2, q3, q4, ((hB (A k) q3).2 (Z k) q4).mpr (show zo (P (Z k) (A k)) < zo (P (A k) (Z k)) by omega)⟩
    · have z' : zo (P y x) < zo (P x y) := ((hB x hx).2 y hy).mp z
      exact Or.inl (show 0 < zo (P x y) - zo (P y x) by omega)
  · rintro n m ⟨g, b10, b11⟩ ⟨hm, hI, _⟩ hw
    have hI' : zu_I P (m + 1) 0 0 g b10 b11 := hI
    refine pk_le (m + 1) 0 (fun z => absurd z (by omega)) (fun _ => ?_)
    refine pk_loop (σ := Int32 × (Nat → Int32) × (Nat → Int32)) (fun i a q => wX_listCouples_14 post (wX_listCouples_8 post n) (nI (m + 1)) i (nI a) f0 f1 q.1 a1 a2 a3 a4 a5 a6 a7 a8 a9 q.2.1 q.2.2 a12 a13 a14 a15 a16 a17) (fun a q => zu_I P (m + 1) a 0 q.1 q.2.1 q.2.2) 5 0 (g, b10, b11) (by omega) hI' ?_ ?_
    · rintro i ⟨g, b10, b11⟩ hI
      refine pk_le 5 5 (fun _ => nm_r (pk_m1 m) (hw (g, b10, b11) ⟨by omega, zu_cg (fun x y hx hy => ?_) hI, ?_⟩)) (fun z => absurd z (by omega))
      · unfold zu_d
        constructor
        · rintro (z | ⟨z1, z2⟩) <;> exact Or.inl (by omega)
        · rintro (z | ⟨z1, z2⟩)
          · by_cases e : m + 1 < zs_0 P x y
            · exact Or.inl e
            · exact Or.inr ⟨by omega, by omega⟩
          · omega
      · have e := zu_scg (f := zu_f P (m + 1) 5 0) (g := zu_f P m 0 0) 25 (fun q hq => zu_fcg ?_)
        · rw [e]; exact zu_le10 (by omega)
        · unfold zu_d
          constructor
          · rintro (z | ⟨z1, z2⟩)
            · by_cases e : m + 1 < zs_0 P (q / 5) (q % 5)
              · exact Or.inl e
              · exact Or.inr ⟨by omega, by omega⟩
            · omega
          · rintro (z | ⟨z1, z2⟩) <;> exact Or.inl (by omega)
    · rintro i a ⟨g, b10, b11⟩ ha hI hw2
      refine pk_le 5 a (fun z => absurd z (by omega)) (fun _ => ?_)
      refine pk_loop (σ := Int32 × (Nat → Int32) × (Nat → Int32)) (fun l b q => wX_listCouples_21 post (wX_listCouples_8 post n) (wX_listCouples_14 post (wX_listCouples_8 post n) (nI (m + 1)) i) (nI (m + 1)) (nI a) l (nI b) f0 f1 q.1 a1 a2 a3 a4 a5 a6 a7 a8 a9 q.2.1 q.2.2 a12 a13 a14 a15 a16 a17) (fun b q => zu_I P (m + 1) a b q.1 q.2.1 q.2.2) 5 0 (g, b10, b11) (by omega) hI ?_ ?_
      · rintro l ⟨g, b10, b11⟩ hI
        refine pk_le 5 5 (fun _ => nm_r (nI_1 a) (hw2 (g, b10, b11) (zu_cg (fun x y hx hy => ?_) hI))) (fun z => absurd z (by omega))
        unfold zu_d
        constructor
        · rintro (z | ⟨z1, z2⟩)
          · exact Or.inl z
          · exact Or.inr ⟨z1, by omega⟩
        · rintro (z | ⟨z1, z2⟩)
          · exact Or.inl z
          · exact Or.inr ⟨z1, by omega⟩
      · rintro l b ⟨g, b10, b11⟩ hb hI hw3
        have hI' : zu_I P (m + 1) a b g b10 b11 := hI
        have w1 := zk_w hC hP ha hb
        have w2 := zk_w hC hP hb ha
        refine pk_le 5 b (fun z => absurd z (by omega)) (fun _ => ⟨pk_in (5 * a + b) 25 (by omega) (zb_ix a b), ?_⟩)
        have er : a4 (5 * nI a + nI b).toNatClampNeg = nI (zo (P a b)) - nI (zo (P b a)) := (zb_rd (zb_ix a b) (by omega)).trans (e4 a b ha hb)
        rw [er]
        refine ek_if (zg_eqm _ (by omega) _ (by omega) (m + 1) (by omega)) (fun e => ?_) (fun e => nm_r (nI_1 b) (hw3 (g, b10, b11) (zu_cg (fun x y hx hy => ?_) hI')))
        · have e' : zs_0 P a b = m + 1 := show zo (P a b) - zo (P b a) = m + 1 by omega
          obtain ⟨K, k1, k2, k3⟩ := zu_add (by omega) ha hb e' hI'
          exact zw_addCouple k1 k2 ha hb (nm_r (nI_1 b) (hw3 (nI (K + 1), upd b10 K (nI a), upd b11 K (nI b)) k3))
        · have e' : ¬ zs_0 P a b = m + 1 := fun z => e (by have z' : zo (P a b) - zo (P b a) = m + 1 := z; omega)
          unfold zu_d
          constructor
          · rintro (z | ⟨z1, z2⟩)
            · exact Or.inl z
            · exact Or.inr ⟨z1, by omega⟩
          · rintro (z | ⟨z1, z2⟩)
            · exact Or.inl z
            · refine Or.inr ⟨z1, ?_⟩
              by_cases q : x = a ∧ y = b
              · rw [q.1, q.2] at z1; exact absurd z1 e'
              · omega
  · have none : ∀ x y, x < 5 → y < 5 → ¬ zu_d P 9 0 0 x y := by
      intro x y hx hy z
      have := zs_09 hC hP x y hx hy
      rcases z with z | ⟨z1, z2⟩ <;> omega
    refine ⟨0, fun _ => 0, fun _ => 0, rfl, ?_, fun k hk => absurd hk (by omega), fun x y hx hy z => absurd z (none x y hx hy)⟩
    have e := zu_scg (f := fun _ => 0) (g := zu_f P 9 0 0) 25 (fun q hq => zu_f0 (none (q / 5) (q % 5) (by omega) (by omega)))
    rw [e]
    rfl
theorem zw_marginOf {post : Int32 → Prop} {f0 f1 f2 : Int32} {a1 a2 a3 a4 a5 a6 a7 a8 a9 a10 a11 a12 a13 a14 a15 a16 a17 : Nat → Int32} {B : Nat → Nat} {K k : Nat} {A Z : Nat → Nat} (h : zu_K B K A Z f2 a10 a11) (hk : k < K) (H : post (a4 (5 * A k + Z k))) : wpX_marginOf post (f0, f1, f2, a1, a2, a3, a4, a5, a6, a7, a8, a9, a10, a11, a12, a13, a14, a15, a16, a17) (nI k) := by
  obtain ⟨k1, _, k3, _⟩ := h
  obtain ⟨q1, q2, q3, q4, _⟩ := k3 k hk
  have e : 5 * a10 (nI k).toNatClampNeg + a11 (nI k).toNatClampNeg = nI (5 * A k + Z k) := by
    rw [zb_rd (a := a10) (n := k) rfl (by omega), zb_rd (a := a11) (n := k) rfl (by omega), q1, q2, zb_ix]
  refine ⟨pk_in k 10 (by omega), pk_in k 10 (by omega), pk_in (5 * A k + Z k) 25 (by omega) e, ?_⟩
  rw [zb_rd (a := a4) e (by omega)]
  exact H
theorem zw_unbeaten {post : Int32 → Prop} {f0 f1 f2 : Int32} {a1 a2 a3 a4 a5 a6 a7 a8 a9 a10 a11 a12 a13 a14 a15 a16 a17 : Nat → Int32} {B : Nat → Nat} {K j : Nat} {A Z : Nat → Nat} (h : zu_K B K A Z f2 a10 a11) (hj : j < 1024) (H : ∀ s, s < 32 → (∀ c, c < 5 → (s.testBit c = true ↔ ∀ k, k < K → j.testBit k = true → Z k ≠ c)) → post (nI s)) : wpX_unbeaten post (f0, f1, f2, a1, a2, a3, a4, a5, a6, a7, a8, a9, a10, a11, a12, a13, a14, a15, a16, a17) (nI j) := by
  obtain ⟨k1, k2, k3, _⟩ := h
  subst k2
  refine pk_loop (σ := Nat) (fun n k s => wX_unbeaten_5 post (nI j) f0 f1 (nI K) a1 a2 a3 a4 a5 a6 a7 a8 a9 a10 a11 a12 a13 a14 a15 a16 a17 n (nI s) (nI k)) (fun k s => s < 32 ∧ ∀ c, c < 5 → (s.testBit c = true ↔ ∀ i, i < k → j.testBit i = true → Z i ≠ c)) K 0 31 (by omega) ⟨by omega, fun c hc => ?_⟩ ?_ ?_
  · rw [zh_full 31 (by omega) (by decide) c hc]
    exact ⟨fun _ i hi => absurd hi (by omega), fun _ => rfl⟩
  · rintro n s ⟨q1, q2⟩
    exact pk_le K K (fun _ => H s q1 q2) (fun z => absurd z (by omega))
  · rintro n k s hk ⟨q1, q2⟩ hw
    obtain ⟨w1, w2, w3, w4, w5⟩ := k3 k hk
    refine pk_le K k (fun z => absurd z (by omega)) (fun _ => zb_if (s := j) (c := k) rfl rfl (by omega) (by omega) (fun z => nm_r (nI_1 k) (hw s ⟨q1, fun c hc => (q2 c hc).trans ?_⟩)) (fun z => ⟨pk_in k 10 (by omega), nm_r (e' := nI (s ^^^ (s &&& 2 ^ Z k))) ?_ (nm_r (nI_1 k) (hw _ ⟨zb_dlt q1, fun c hc => ?_⟩))⟩))
    · constructor
      · intro g i hi ei
        by_cases e : i = k
        · rw [e, z] at ei; exact absurd ei (by decide)
        · exact g i (by omega) ei
      · exact fun g i hi ei => g i (by omega) ei
    · rw [zb_rd (a := a11) (n := k) rfl (by omega), w2, zb_del w4]
    · rw [zb_dbit, Bool.and_eq_true, q2 c hc, Bool.not_eq_true', ← Bool.not_eq_true, zb_two (Z k) (by omega) c (by omega)]
      constructor
      · rintro ⟨g1, g2⟩ i hi ei
        by_cases e : i = k
        · rw [e]; exact fun q => g2 q.symm
        · exact g1 i (by omega) ei
      · exact fun g => ⟨fun i hi ei => g i (by omega) ei, fun q => g k (by omega) z q.symm⟩
end
section
/-! rule 10: reaches and complete sets -/
theorem zw_findReaches {post : St1 → Prop} {f0 f1 f2 : Int32} {a1 a2 a3 a4 a5 a6 a7 a8 a9 a10 a11 a12 a13 a14 a15 a16 a17 : Nat → Int32} {B : Nat → Nat} {K j : Nat} {A Z : Nat → Nat} {y : Int32} (h : zu_K B K A Z f2 a10 a11) (hy : y = nI j) (hj : j < 1024) (H : ∀ s r, zq_ar r s → (∀ a, a < 5 → r a < 32) → (∀ a b, a < 5 → b < 5 → ((r a).testBit b = true ↔ zy_R K A Z j a b)) → post (f0, f1, f2, a1, a2, a3, a4, a5, a6, a7, a8, s, a10, a11, a12, a13, a14, a15, a16, a17)) : wpX_findReaches post (f0, f1, f2, a1, a2, a3, a4, a5, a6, a7, a8, a9, a10, a11, a12, a13, a14, a15, a16, a17) y := by
  obtain ⟨k1, k2, k3, k4⟩ := h
  subst k2 hy
  refine pk_loop (fun n i s => wX_findReaches_2 post (nI j) f0 f1 (nI K) n (nI i) a1 a2 a3 a4 a5 a6 a7 a8 s a10 a11 a12 a13 a14 a15 a16 a17) (fun i s => ∀ c, c < i → s c = nI 0) 5 0 a9 (by omega) (fun c hc => absurd hc (by omega)) ?_ ?_
  · intro n s hs
    refine pk_le 5 5 (fun _ => ?_) (fun z => absurd z (by omega))
    refine pk_loop (fun n k s => wX_findReaches_22 post (nI j) f0 f1 (nI K) n (nI k) a1 a2 a3 a4 a5 a6 a7 a8 s a10 a11 a12 a13 a14 a15 a16 a17) (fun k s => ∃ r, zq_ar r s ∧ (∀ a, a < 5 → r a < 32) ∧ ∀ a b, a < 5 → b < 5 → ((r a).testBit b = true ↔ ∃ i, i < k ∧ j.testBit i = true ∧ A i = a ∧ Z i = b)) K 0 s (by omega) ⟨fun _ => 0, fun a ha => hs a ha, fun a _ => by show (0 : Nat) < 32; omega, fun a b _ _ => ?_⟩ ?_ ?_
    · show (0 : Nat).testBit b = true ↔ _
      rw [Nat.zero_testBit]
      constructor
      · intro z; exact absurd z (by decide)
      · rintro ⟨i, hi, _⟩; exact absurd hi (by omega)
    · rintro n s' ⟨r, r1, r2, r3⟩
      refine pk_le K K (fun _ => zw_closeReaches r1 r2 (fun s'' r' hcl har => H s'' r' har hcl.1 (fun a b ha hb => ⟨fun z => ?_, fun z => ?_⟩))) (fun z => absurd z (by omega))
      · refine hcl.2.2.2 (zy_R K A Z j) (fun _ _ _ _ _ _ q1 q2 => zy_tr q1 q2) (fun x y hx hy w => ?_) a b ha hb z
        obtain ⟨i, i1, i2, i3, i4⟩ := (r3 x y hx hy).mp w
        rw [← i3, ← i4]
        exact zy_ed i1 i2
      · refine (z (fun x y => x < 5 ∧ y < 5 ∧ (r' x).testBit y = true) (fun x y w q1 q2 => ⟨q1.1, q2.2.1, hcl.2.2.1 x y w q1.1 q1.2.1 q2.2.1 q1.2.2 q2.2.2⟩) (fun k hk ek => ?_)).2.2
        obtain ⟨_, _, w3, w4, _⟩ := k3 k hk
        exact ⟨w3, w4, hcl.2.1 _ _ w3 w4 ((r3 _ _ w3 w4).mpr ⟨k, hk, ek, rfl, rfl⟩)⟩
    · rintro n k s' hk ⟨r, r1, r2, r3⟩ hw
      obtain ⟨w1, w2, w3, w4, _⟩ := k3 k hk
      have e10 : a10 (nI k).toNatClampNeg = nI (A k) := (zb_rd rfl (by omega)).trans w1
      have e11 : a11 (nI k).toNatClampNeg = nI (Z k) := (zb_rd rfl (by omega)).trans w2
      have lr := r2 (A k) w3
      refine pk_le K k (fun z => absurd z (by omega)) (fun _ => zb_if (s := j) (c := k) rfl rfl (by omega) (by omega) (fun z => nm_r (nI_1 k) (hw s' ⟨r, r1, r2, fun a b ha hb => (r3 a b ha hb).trans ?_⟩)) (fun z => ⟨pk_in k 10 (by omega), pk_in (A k) 5 w3 e10, pk_in k 10 (by omega), pk_in (A k) 5 w3 e10, nm_r (zb_up (n := A k) (v := nI (r (A k) ||| 2 ^ Z k)) e10 (by omega) ?_) (nm_r (nI_1 k) (hw _ ⟨fun x => if x = A k then r x ||| 2 ^ Z k else r x, fun x hx => ?_, fun x hx => ?_, fun a b ha hb => ?_⟩))⟩))
      · constructor
        · rintro ⟨i, i1, i2, i3⟩
          exact ⟨i, by omega, i2, i3⟩
        · rintro ⟨i, i1, i2, i3⟩
          have : i ≠ k := fun e => by rw [e, z] at i2; exact absurd i2 (by decide)
          exact ⟨i, by omega, i2, i3⟩
      · rw [zb_set (s := r (A k)) (c := Z k) ((zb_rd e10 (by omega)).trans (r1 (A k) w3)) e11 (by omega), zb_i8 _ (Nat.lt_trans (zb_orlt lr w4) (by omega))]
      · show upd s' (A k) (nI (r (A k) ||| 2 ^ Z k)) x = nI (if x = A k then r x ||| 2 ^ Z k else r x)
        by_cases e : x = A k
        · rw [if_pos e, e, pk_us]
        · rw [if_neg e, pk_un e]; exact r1 x hx
      · show (if x = A k then r x ||| 2 ^ Z k else r x) < 32
        by_cases e : x = A k
        · rw [if_pos e]; exact zb_orlt (r2 x hx) w4
        · rw [if_neg e]; exact r2 x hx
      · show (if a = A k then r a ||| 2 ^ Z k else r a).testBit b = true ↔ _
        by_cases e : a = A k
        · rw [if_pos e, zb_obit (by omega) (by omega), r3 a b ha hb]
          constructor
          · rintro (⟨i, i1, i2, i3⟩ | q)
            · exact ⟨i, by omega, i2, i3⟩
            · exact ⟨k, by omega, z, e.symm, q.symm⟩
          · rintro ⟨i, i1, i2, i3, i4⟩
            by_cases ei : i = k
            · rw [ei] at i4; exact Or.inr i4.symm
            · exact Or.inl ⟨i, by omega, i2, i3, i4⟩
        · rw [if_neg e, r3 a b ha hb]
          constructor
          · rintro ⟨i, i1, i2, i3⟩
            exact ⟨i, by omega, i2, i3⟩
          · rintro ⟨i, i1, i2, i3, i4⟩
            have : i ≠ k := fun ei => by rw [ei] at i3; exact e i3.symm
            exact ⟨i, by omega, i2, i3, i4⟩
  · intro n i s hi hs hw
    refine pk_le 5 i (fun z => absurd z (by omega)) (fun _ => ⟨pk_in i 5 hi, nm_r (zb_up (n := i) (v := nI 0) rfl (by omega) rfl) (nm_r (nI_1 i) (hw _ (fun c hc => ?_)))⟩)
    by_cases e : c = i
    · rw [e, pk_us]
    · rw [pk_un e]; exact hs c (by omega)
theorem zw_isComplete {post : Int32 → St1 → Prop} {f0 f1 f2 : Int32} {a1 a2 a3 a4 a5 a6 a7 a8 a9 a10 a11 a12 a13 a14 a15 a16 a17 : Nat → Int32} {B : Nat → Nat} {K j g : Nat} {A Z : Nat → Nat} {y z : Int32} (h : zu_K B K A Z f2 a10 a11) (hy : y = nI j) (hz : z = nI g) (hj : j < 1024) (hg : g < 1024) (H1 : zy_co K A Z j g → ∀ s, post 1 (f0, f1, f2, a1, a2, a3, a4, a5, a6, a7, a8, s, a10, a11, a12, a13, a14, a15, a16, a17)) (H0 : ¬ zy_co K A Z j g → ∀ s, post 0 (f0, f1, f2, a1, a2, a3, a4, a5, a6, a7, a8, s, a10, a11, a12, a13, a14, a15, a16, a17)) : wpX_isComplete post (f0, f1, f2, a1, a2, a3, a4, a5, a6, a7, a8, a9, a10, a11, a12, a13, a14, a15, a16, a17) y z := by
  unfold wpX_isComplete
  refine zw_findReaches h hy hj (fun s r har hlt hR => ?_)
  obtain ⟨k1, k2, k3, k4⟩ := h
  subst k2 hy hz
  refine pk_loop (σ := Unit) (fun n i _ => wX_isComplete_7 post (nI j) (nI g) f0 f1 (nI K) a1 a2 a3 a4 a5 a6 a7 a8 s a10 a11 a12 a13 a14 a15 a16 a17 n (nI i)) (fun i _ => ∀ a, a < i → (r a).testBit a = false) 5 0 () (by omega) (fun a ha => absurd ha (by omega)) ?_ ?_
  · intro n _ hac
    refine pk_le 5 5 (fun _ => ?_) (fun z => absurd z (by omega))
    refine pk_loop (σ := Unit) (fun n k _ => wX_isComplete_36 post (nI j) (nI g) f0 f1 (nI K) a1 a2 a3 a4 a5 a6 a7 a8 s a10 a11 a12 a13 a14 a15 a16 a17 n (nI k)) (fun k _ => ∀ i, i < k → g.testBit i = true → j.testBit i = false → (r (Z i)).testBit (A i) = true) K 0 () (by omega) (fun i hi => absurd hi (by omega)) ?_ ?_
    · intro n _ hco
      refine pk_le K K (fun _ => H1 ⟨fun a ha q => ?_, fun k hk q1 q2 => ?_⟩ s) (fun z => absurd z (by omega))
      · have := (hR a a ha ha).mpr q
        rw [hac a ha] at this
        exact absurd this (by decide)
      · obtain ⟨_, _, w3, w4, _⟩ := k3 k hk
        exact (hR _ _ w4 w3).mp (hco k hk q1 q2)
    · intro n k _ hk hco hw
      obtain ⟨w1, w2, w3, w4, _⟩ := k3 k hk
      have e10 : a10 (nI k).toNatClampNeg = nI (A k) := (zb_rd rfl (by omega)).trans w1
      have e11 : a11 (nI k).toNatClampNeg = nI (Z k) := (zb_rd rfl (by omega)).trans w2
      have lr := hlt (Z k) w4
      have skip : ¬ (g.testBit k = true ∧ j.testBit k = false ∧ ¬ (r (Z k)).testBit (A k) = true) → wX_isComplete_36 post (nI j) (nI g) f0 f1 (nI K) a1 a2 a3 a4 a5 a6 a7 a8 s a10 a11 a12 a13 a14 a15 a16 a17 n (nI (k + 1)) := by
        intro q
        refine hw () (fun i hi i1 i2 => ?_)
        by_cases e : i = k
        · rw [e] at i1 i2 ⊢
          by_cases e2 : (r (Z k)).testBit (A k) = true
          · exact e2
          · exact absurd ⟨i1, i2, e2⟩ q
        · exact hco i (by omega) i1 i2
      refine pk_le K k (fun z => absurd z (by omega)) (fun _ => zb_if (s := g) (c := k) rfl rfl (by omega) (by omega) (fun z => br_t rfl (nm_r (nI_1 k) (skip (fun q => absurd q.1 (zb_ft z))))) (fun z => zb_if (s := j) (c := k) rfl rfl (by omega) (by omega) (fun z2 => br_f (by decide) ⟨pk_in k 10 (by omega), pk_in (Z k) 5 w4 e11, pk_in k 10 (by omega), ?_⟩) (fun z2 => br_t rfl (nm_r (nI_1 k) (skip (fun q => absurd z2 (zb_ft q.2.1)))))))
      refine zw_in (s := r (Z k)) (c := A k) ((zb_rd e11 (by omega)).trans (har (Z k) w4)) e10 (by omega) (by omega) (fun z3 => H0 (fun co => ?_) s) (fun z3 => nm_r (nI_1 k) (skip (fun q => q.2.2 z3)))
      exact absurd ((hR _ _ w4 w3).mpr (co.2 k hk z z2)) (zb_ft z3)
  · intro n i _ hi hac hw
    have lr := hlt i hi
    refine pk_le 5 i (fun z => absurd z (by omega)) (fun _ => ⟨pk_in i 5 hi, zw_in (s := r i) (c := i) ((zb_rd rfl (by omega)).trans (har i hi)) rfl (by omega) (by omega) (fun z => nm_r (nI_1 i) (hw () (fun a ha => ?_))) (fun z => H0 (fun co => co.1 i hi ((hR i i hi hi).mp z)) s)⟩)
    by_cases e : a = i
    · rw [e]; exact z
    · exact hac a (by omega)
end
section
/-! rule 10: groups -/
theorem zx_or {d p x : Nat} (hx : x < 2 ^ d) : x ||| 2 ^ d * p = 2 ^ d * p + x := by
  rw [Nat.or_comm, ← Nat.two_pow_add_eq_or_of_lt hx]
theorem zx_g {d e : Nat} (hde : d ≤ e) : 2 ^ e - 2 ^ d = 2 ^ d * (2 ^ (e - d) - 1) := by
  rw [Nat.mul_sub, ← Nat.pow_add, Nat.mul_one, show d + (e - d) = e by omega]
theorem zx_next {d e p : Nat} (hde : d ≤ e) (hp : p + 1 < 2 ^ (e - d)) : (2 ^ d * (p + 1) - 1) &&& (2 ^ e - 2 ^ d) = 2 ^ d * p := by
  have h0 := Nat.two_pow_pos d
  have e1 : 2 ^ d * (p + 1) - 1 = 2 ^ d * p + (2 ^ d - 1) := by rw [Nat.mul_add, Nat.mul_one]; omega
  rw [e1, zx_g hde]
  refine Nat.eq_of_testBit_eq (fun k => ?_)
  have b1 := zy_bit (d := d) (p := p) (x := 2 ^ d - 1) (k := k) (by omega)
  have b2 := zy_bit (d := d) (p := 2 ^ (e - d) - 1) (x := 0) (k := k) h0
  have b3 := zy_bit (d := d) (p := p) (x := 0) (k := k) h0
  rw [Nat.add_zero] at b2 b3
  rw [Nat.testBit_and, b1, b2, b3]
  by_cases hk : k < d
  · rw [if_pos hk, if_pos hk, if_pos hk, Nat.zero_testBit, Bool.and_false]
  · rw [if_neg hk, if_neg hk, if_neg hk, Nat.testBit_two_pow_sub_one]
    by_cases h2 : k - d < e - d
    · rw [decide_eq_true h2, Bool.and_true]
    · rw [decide_eq_false h2, Bool.and_false, Nat.testBit_lt_two_pow (Nat.lt_of_lt_of_le (show p < 2 ^ (e - d) by omega) (Nat.pow_le_pow_right (by omega) (by omega)))]
theorem zx_lt {d e p x : Nat} (hde : d ≤ e) (he : e ≤ 10) (hp : p < 2 ^ (e - d)) (hx : x < 2 ^ d) : 2 ^ d * p + x < 2 ^ e ∧ 2 ^ d * p + x < 1024 := by
  have h1 : 2 ^ d * (p + 1) ≤ 2 ^ d * 2 ^ (e - d) := Nat.mul_le_mul_left _ hp
  rw [← Nat.pow_add, show d + (e - d) = e by omega, Nat.mul_add, Nat.mul_one] at h1
  have h2 : (2 : Nat) ^ e ≤ 2 ^ 10 := Nat.pow_le_pow_right (by omega) he
  omega
theorem zx_1024 {e : Nat} (he : e ≤ 10) : 2 ^ e ≤ 1024 := Nat.pow_le_pow_right (n := 2) (j := 10) (by omega) he
/-- what extend has done when the parts from k up are done -/
def zx_M (K : Nat) (A Z : Nat → Nat) (d e x : Nat) (t0 : Nat → Int32) (k : Nat) (t : Nat → Int32) : Prop := (∀ i, i < 1024 → t i = nI 0 ∨ t i = nI 1) ∧ (∀ i, i < 1024 → ¬ t0 i = 0 → ¬ t i = 0) ∧ (∀ i, i < 1024 → ¬ t i = 0 → ¬ t0 i = 0 ∨ ∃ p, p < 2 ^ (e - d) ∧ i = 2 ^ d * p + x ∧ zy_co K A Z i (2 ^ e - 2 ^ d)) ∧ (∀ p, k ≤ p → p < 2 ^ (e - d) → zy_co K A Z (2 ^ d * p + x) (2 ^ e - 2 ^ d) → ¬ t (2 ^ d * p + x) = 0)
theorem zx_M1 {K : Nat} {A Z : Nat → Nat} {d e x k : Nat} {t0 t : Nat → Int32} (hk : k < 2 ^ (e - d)) (hco : zy_co K A Z (2 ^ d * k + x) (2 ^ e - 2 ^ d)) (h : zx_M K A Z d e x t0 (k + 1) t) : zx_M K A Z d e x t0 k (upd t (2 ^ d * k + x) (nI 1)) := by
  obtain ⟨h1, h2, h3, h4⟩ := h
  have n1 : ¬ nI 1 = 0 := by decide
  refine ⟨fun i hi => ?_, fun i hi q => ?_, fun i hi q => ?_, fun p p1 p2 p3 => ?_⟩
  · by_cases e : i = 2 ^ d * k + x
    · rw [e, pk_us]; exact Or.inr rfl
    · rw [pk_un e]; exact h1 i hi
  · by_cases e : i = 2 ^ d * k + x
    · rw [e, pk_us]; exact n1
    · rw [pk_un e]; exact h2 i hi q
  · by_cases e : i = 2 ^ d * k + x
    · exact Or.inr ⟨k, hk, e, by rw [e]; exact hco⟩
    · rw [pk_un e] at q; exact h3 i hi q
  · by_cases e : 2 ^ d * p + x = 2 ^ d * k + x
    · rw [e, pk_us]; exact n1
    · rw [pk_un e]
      refine h4 p ?_ p2 p3
      by_cases e2 : p = k
      · rw [e2] at e; exact absurd rfl e
      · omega
theorem zx_M0 {K : Nat} {A Z : Nat → Nat} {d e x k : Nat} {t0 t : Nat → Int32} (hco : ¬ zy_co K A Z (2 ^ d * k + x) (2 ^ e - 2 ^ d)) (h : zx_M K A Z d e x t0 (k + 1) t) : zx_M K A Z d e x t0 k t := by
  obtain ⟨h1, h2, h3, h4⟩ := h
  refine ⟨h1, h2, h3, fun p p1 p2 p3 => h4 p ?_ p2 p3⟩
  by_cases e2 : p = k
  · rw [e2] at p3; exact absurd p3 hco
  · omega
theorem zw_extend {post : St1 → Prop} {f0 f1 f2 : Int32} {a1 a2 a3 a4 a5 a6 a7 a8 a9 a10 a11 a12 a13 a14 a15 a16 a17 : Nat → Int32} {B : Nat → Nat} {K d e x : Nat} {A Z : Nat → Nat} (h : zu_K B K A Z f2 a10 a11) (hde : d ≤ e) (he : e ≤ K) (hx : x < 2 ^ d) (h01 : ∀ i, i < 1024 → a13 i = nI 0 ∨ a13 i = nI 1) (H : ∀ s9 t, zx_M K A Z d e x a13 0 t → post (f0, f1, f2, a1, a2, a3, a4, a5, a6, a7, a8, s9, a10, a11, a12, t, a14, a15, a16, a17)) : wpX_extend post (f0, f1, f2, a1, a2, a3, a4, a5, a6, a7, a8, a9, a10, a11, a12, a13, a14, a15, a16, a17) (nI x) (nI (2 ^ e - 2 ^ d)) := by
  have hK : K ≤ 10 := h.1
  have he10 := zx_1024 (show e ≤ 10 by omega)
  have hpos := Nat.two_pow_pos (e - d)
  have hd0 := Nat.two_pow_pos d
  refine ⟨2 ^ (e - d) + 1, pk_loopD (σ := Int32 × Int32 × (Nat → Int32) × (Nat → Int32)) (fun n k q => wX_extend_5 post (nI x) (nI (2 ^ e - 2 ^ d)) n q.1 q.2.1 f0 f1 f2 a1 a2 a3 a4 a5 a6 a7 a8 q.2.2.1 a10 a11 a12 q.2.2.2 a14 a15 a16 a17) (fun k q => (k = 0 → q.2.1 = 0) ∧ (0 < k → q.2.1 = 1 ∧ q.1 = nI (2 ^ d * (k - 1))) ∧ k ≤ 2 ^ (e - d) ∧ zx_M K A Z d e x a13 k q.2.2.2) ?_ ?_ (2 ^ (e - d)) (nI (2 ^ e - 2 ^ d), 1, a9, a13) ⟨fun z => absurd z (by omega), fun _ => ⟨rfl, by show nI (2 ^ e - 2 ^ d) = nI (2 ^ d * (2 ^ (e - d) - 1)); rw [zx_g hde]⟩, Nat.le_refl _, h01, fun _ _ q => q, fun _ _ q => Or.inl q, fun p p1 p2 => absurd p1 (by omega)⟩⟩
  · rintro n ⟨x3, x4, s9, t⟩ ⟨q1, q2, q3, q4⟩
    have q1' : x4 = 0 := q1 rfl
    subst q1'
    exact br_t rfl (H s9 t q4)
  · rintro n k ⟨x3, x4, s9, t⟩ ⟨q1, q2, q3, q4⟩ hw
    have q2' : x4 = 1 ∧ x3 = nI (2 ^ d * k) := q2 (by omega)
    obtain ⟨e4, e3⟩ := q2'
    subst e4 e3
    have q4' : zx_M K A Z d e x a13 (k + 1) t := q4
    have hk : k < 2 ^ (e - d) := q3
    have hl := (zx_lt hde (by omega) hk hx).2
    have hor : nI x ||| nI (2 ^ d * k) = nI (2 ^ d * k + x) := by rw [zb_or, zx_or hx]
    have fin : ∀ s9' t', zx_M K A Z d e x a13 k t' → wX_extend_30 post (wX_extend_5 post (nI x) (nI (2 ^ e - 2 ^ d)) n) (nI x) (nI (2 ^ e - 2 ^ d)) (nI (2 ^ d * k)) f0 f1 f2 a1 a2 a3 a4 a5 a6 a7 a8 s9' a10 a11 a12 t' a14 a15 a16 a17 := by
      intro s9' t' hM
      refine pk_eq (2 ^ d * k) 0 (fun z => ?_) (fun z => ?_)
      · have k0 : k = 0 := by
          rcases Nat.mul_eq_zero.mp z with w | w
          · omega
          · exact w
        exact nm_e (hw (_, 0, s9', t') ⟨fun _ => rfl, fun w => absurd w (by omega), by omega, hM⟩)
      · have k0 : k ≠ 0 := fun w => z (by rw [w, Nat.mul_zero])
        refine nm_r (e' := nI (2 ^ d * (k - 1))) ?_ (hw (_, 1, s9', t') ⟨fun w => absurd w k0, fun _ => ⟨rfl, rfl⟩, by omega, hM⟩)
        have ek : k = (k - 1) + 1 := by omega
        rw [zb_pred z, zb_and]
        have := zx_next (d := d) (e := e) (p := k - 1) hde (by omega)
        rw [← ek] at this
        rw [this]
    refine br_f (show ¬ (1 : Int32) = 0 by decide) (zw_isComplete h hor rfl hl (by omega) (fun co s => br_f (by decide) ⟨pk_in (2 ^ d * k + x) 1024 hl hor, nm_r (zb_up (n := 2 ^ d * k + x) (v := nI 1) hor (by omega) rfl) (fin s _ (zx_M1 hk co q4'))⟩) (fun nco s => br_t rfl (fin s t (zx_M0 nco q4'))))
theorem zw_addGroup {post : St1 → Prop} {f0 f1 f2 : Int32} {a1 a2 a3 a4 a5 a6 a7 a8 a9 a10 a11 a12 a13 a14 a15 a16 a17 : Nat → Int32} {B : Nat → Nat} {K d e : Nat} {A Z : Nat → Nat} {y z : Int32} (h : zu_K B K A Z f2 a10 a11) (hde : d ≤ e) (he : e ≤ K) (hy : y = nI d) (hz : z = nI (2 ^ e - 2 ^ d)) (H : ∀ s9 s12 s13, (∀ m, m < 1024 → ¬ s12 m = 0 → ∃ x p, x < 2 ^ d ∧ ¬ a12 x = 0 ∧ p < 2 ^ (e - d) ∧ m = 2 ^ d * p + x ∧ zy_co K A Z m (2 ^ e - 2 ^ d)) → (∀ x, x < 2 ^ d → ¬ a12 x = 0 → ∀ p, p < 2 ^ (e - d) → zy_co K A Z (2 ^ d * p + x) (2 ^ e - 2 ^ d) → ¬ s12 (2 ^ d * p + x) = 0) → post (f0, f1, f2, a1, a2, a3, a4, a5, a6, a7, a8, s9, a10, a11, s12, s13, a14, a15, a16, a17)) : wpX_addGroup post (f0, f1, f2, a1, a2, a3, a4, a5, a6, a7, a8, a9, a10, a11, a12, a13, a14, a15, a16, a17) y z := by
  subst hy hz
  have hK : K ≤ 10 := h.1
  have hd10 := zx_1024 (show d ≤ 10 by omega)
  refine pk_loop (fun n i t => wX_addGroup_2 post (nI d) (nI (2 ^ e - 2 ^ d)) f0 f1 f2 n (nI i) a1 a2 a3 a4 a5 a6 a7 a8 a9 a10 a11 a12 t a14 a15 a16 a17) (fun i t => ∀ m, m < i → t m = nI 0) 1024 0 a13 (by omega) (fun m hm => absurd hm (by omega)) ?_ ?_
  · intro n t ht
    refine pk_le 1024 1024 (fun _ => ?_) (fun z => absurd z (by omega))
    refine pk_loop (σ := (Nat → Int32) × (Nat → Int32)) (fun n i q => wX_addGroup_24 post (nI d) (nI (2 ^ e - 2 ^ d)) n (nI i) f0 f1 f2 a1 a2 a3 a4 a5 a6 a7 a8 q.1 a10 a11 a12 q.2 a14 a15 a16 a17) (fun i q => (∀ m, m < 1024 → q.2 m = nI 0 ∨ q.2 m = nI 1) ∧ (∀ m, m < 1024 → ¬ q.2 m = 0 → ∃ x p, x < 2 ^ d ∧ ¬ a12 x = 0 ∧ p < 2 ^ (e - d) ∧ m = 2 ^ d * p + x ∧ zy_co K A Z m (2 ^ e - 2 ^ d)) ∧ (∀ x, x < i → ¬ a12 x = 0 → ∀ p, p < 2 ^ (e - d) → zy_co K A Z (2 ^ d * p + x) (2 ^ e - 2 ^ d) → ¬ q.2 (2 ^ d * p + x) = 0)) (2 ^ d) 0 (a9, t) (Nat.zero_le _) ⟨fun m hm => Or.inl (ht m hm), fun m hm q => absurd (ht m hm) q, fun x hx => absurd hx (by omega)⟩ ?_ ?_
    · rintro n ⟨s9, t'⟩ ⟨q1, q2, q3⟩
      have q1' : ∀ m, m < 1024 → t' m = nI 0 ∨ t' m = nI 1 := q1
      have q2' : ∀ m, m < 1024 → ¬ t' m = 0 → ∃ x p, x < 2 ^ d ∧ ¬ a12 x = 0 ∧ p < 2 ^ (e - d) ∧ m = 2 ^ d * p + x ∧ zy_co K A Z m (2 ^ e - 2 ^ d) := q2
      have q3' : ∀ x, x < 2 ^ d → ¬ a12 x = 0 → ∀ p, p < 2 ^ (e - d) → zy_co K A Z (2 ^ d * p + x) (2 ^ e - 2 ^ d) → ¬ t' (2 ^ d * p + x) = 0 := q3
      refine pk_le (2 ^ d) (2 ^ d) (fun _ => ?_) (fun z => absurd z (by omega)) (zb_1 d (by omega))
      refine pk_loop (fun n i s => wX_addGroup_54 post f0 f1 f2 n (nI i) a1 a2 a3 a4 a5 a6 a7 a8 s9 a10 a11 s t' a14 a15 a16 a17) (fun i s => ∀ m, m < i → s m = t' m) 1024 0 a12 (by omega) (fun m hm => absurd hm (by omega)) ?_ ?_
      · intro n s hs
        refine pk_le 1024 1024 (fun _ => H s9 s t' (fun m hm q => q2' m hm (by rw [← hs m hm]; exact q)) (fun x hx hF p hp hco => ?_)) (fun z => absurd z (by omega))
        rw [hs _ (zx_lt hde (by omega) hp hx).2]
        exact q3' x hx hF p hp hco
      · intro n i s hi hs hw
        refine pk_le 1024 i (fun z => absurd z (by omega)) (fun _ => ⟨pk_in i 1024 hi, pk_in i 1024 hi, nm_r (zb_up (n := i) (v := t' i) rfl (by omega) ?_) (nm_r (nI_1 i) (hw _ (fun m hm => ?_)))⟩)
        · rw [zb_rd (a := t') (n := i) rfl (by omega)]
          rcases q1' i hi with w | w
          · rw [w, zb_bo 0 (by omega)]
          · rw [w, zb_bo 1 (by omega)]
        · by_cases e : m = i
          · rw [e, pk_us]
          · rw [pk_un e]; exact hs m (by omega)
    · rintro n i ⟨s9, t'⟩ hi ⟨q1, q2, q3⟩ hw
      have q1' : ∀ m, m < 1024 → t' m = nI 0 ∨ t' m = nI 1 := q1
      have q2' : ∀ m, m < 1024 → ¬ t' m = 0 → ∃ x p, x < 2 ^ d ∧ ¬ a12 x = 0 ∧ p < 2 ^ (e - d) ∧ m = 2 ^ d * p + x ∧ zy_co K A Z m (2 ^ e - 2 ^ d) := q2
      have q3' : ∀ x, x < i → ¬ a12 x = 0 → ∀ p, p < 2 ^ (e - d) → zy_co K A Z (2 ^ d * p + x) (2 ^ e - 2 ^ d) → ¬ t' (2 ^ d * p + x) = 0 := q3
      have er : a12 (nI i).toNatClampNeg = a12 i := zb_rd rfl (by omega)
      refine pk_le (2 ^ d) i (fun z => absurd z (by omega)) (fun _ => ⟨pk_in i 1024 (by omega), br_c (fun z => nm_r (nI_1 i) (hw (s9, t') ⟨q1', q2', fun x hx hF => ?_⟩)) (fun z => ?_)⟩) (zb_1 d (by omega))
      · by_cases e : x = i
        · rw [e] at hF; exact absurd (er.symm.trans z) hF
        · exact q3' x (by omega) hF
      · have hF : ¬ a12 i = 0 := fun w => z (er.trans w)
        refine zw_extend (x := i) h hde he hi q1' (fun s9' t'' hM => nm_r (nI_1 i) (hw (s9', t'') ⟨hM.1, fun m hm q => ?_, fun x hx hFx p hp hco => ?_⟩))
        · rcases hM.2.2.1 m hm q with w | ⟨p, p1, p2, p3⟩
          · exact q2' m hm w
          · exact ⟨i, p, hi, hF, p1, p2, p3⟩
        · by_cases e : x = i
          · rw [e] at hco ⊢; exact hM.2.2.2 p (by omega) hp hco
          · exact hM.2.1 _ (zx_lt hde (by omega) hp (by omega)).2 (q3' x (by omega) hFx p hp hco)
  · intro n i t hi ht hw
    refine pk_le 1024 i (fun z => absurd z (by omega)) (fun _ => ⟨pk_in i 1024 hi, nm_r (zb_up (n := i) (v := nI 0) rfl (by omega) rfl) (nm_r (nI_1 i) (hw _ (fun m hm => ?_)))⟩)
    by_cases e : m = i
    · rw [e, pk_us]
    · rw [pk_un e]; exact ht m (by omega)
/-- the family when d couples are done -/
def zv_F (K : Nat) (A Z : Nat → Nat) (d : Nat) (s : Nat → Int32) : Prop := (∀ m, m < 1024 → ¬ s m = 0 → m < 2 ^ d ∧ zy_ac K A Z m ∧ ∀ k, k < d → m.testBit k = false → zy_R K A Z m (Z k) (A k)) ∧ ∃ m, m < 1024 ∧ ¬ s m = 0
theorem zv_step {K d e : Nat} {A Z : Nat → Nat} {s s' : Nat → Int32} (hK : K ≤ 10) (hde : d ≤ e) (he : e ≤ K) (hne : ∀ k, k < K → A k ≠ Z k) (hF : zv_F K A Z d s) (h1 : ∀ m, m < 1024 → ¬ s' m = 0 → ∃ x p, x < 2 ^ d ∧ ¬ s x = 0 ∧ p < 2 ^ (e - d) ∧ m = 2 ^ d * p + x ∧ zy_co K A Z m (2 ^ e - 2 ^ d)) (h2 : ∀ x, x < 2 ^ d → ¬ s x = 0 → ∀ p, p < 2 ^ (e - d) → zy_co K A Z (2 ^ d * p + x) (2 ^ e - 2 ^ d) → ¬ s' (2 ^ d * p + x) = 0) : zv_F K A Z e s' := by
  have hd10 := zx_1024 (show d ≤ 10 by omega)
  refine ⟨fun m hm q => ?_, ?_⟩
  · obtain ⟨x, p, hx, hs, hp, em, co⟩ := h1 m hm q
    obtain ⟨_, _, f3⟩ := hF.1 x (by omega) hs
    refine ⟨by rw [em]; exact (zx_lt hde (by omega) hp hx).1, co.1, fun k hk hb => ?_⟩
    by_cases kd : k < d
    · rw [em, zy_bit hx, if_pos kd] at hb
      refine zy_mo (fun i hi w => ?_) (f3 k kd hb)
      rw [em, zy_bit hx]
      by_cases id : i < d
      · rw [if_pos id]; exact w
      · rw [Nat.testBit_lt_two_pow (Nat.lt_of_lt_of_le hx (Nat.pow_le_pow_right (by omega) (by omega)))] at w
        exact absurd w (by decide)
    · exact co.2 k (by omega) ((zy_g e (by omega) d (by omega) k (by omega) hde).mpr ⟨by omega, hk⟩) hb
  · obtain ⟨x, hx, hs⟩ := hF.2
    obtain ⟨f1, f2, _⟩ := hF.1 x hx hs
    obtain ⟨p, hp, co⟩ := zy_exist hde he hK hne f1 f2
    exact ⟨_, (zx_lt hde (by omega) hp f1).2, h2 x f1 hs p hp co⟩
theorem zv_end {B : Nat → Nat} {K : Nat} {A Z : Nat → Nat} {f2 : Int32} {a10 a11 s : Nat → Int32} (hA : zk_A B) (hK : zu_K B K A Z f2 a10 a11) (hF : zv_F K A Z K s) {r : Nat} (hr : r < 32) (h : ∀ c, c < 5 → (r.testBit c = true ↔ ∃ m, m < 1024 ∧ ¬ s m = 0 ∧ ∀ k, k < K → m.testBit k = true → Z k ≠ c)) : zl_in B r := by
  obtain ⟨k1, k2, k3, k4⟩ := hK
  refine ⟨?_, hr, fun S hS c hc ec => ?_⟩
  · obtain ⟨m, hm, hs⟩ := hF.2
    obtain ⟨_, f2, _⟩ := hF.1 m hm hs
    obtain ⟨a, ha, hmax⟩ := zp_max (fun x y => zy_R K A Z m x y) f2 (fun _ _ _ _ _ _ q1 q2 => zy_tr q1 q2)
    refine zb_ge ((h a ha).mpr ⟨m, hm, hs, fun k hk e q => ?_⟩)
    obtain ⟨_, _, w3, _⟩ := k3 k hk
    refine hmax (A k) w3 ?_
    rw [← q]
    exact zy_ed hk e
  · obtain ⟨m, hm, hs, hu⟩ := (h c hc).mp ec
    obtain ⟨_, _, f3⟩ := hF.1 m hm hs
    cases e : S.testBit c with
    | true => rfl
    | false =>
      obtain ⟨t, ht, et⟩ := zb_pos S hS.1 hS.2.1
      obtain ⟨k, hk, ek1, ek2⟩ := k4 t c ht hc (zl_out hA hS ht et hc e)
      have nb : m.testBit k = false := zb_nf (fun z => hu k hk z ek2)
      have R := f3 k hk nb
      rw [ek1, ek2] at R
      have := R (fun x y => S.testBit y = true → S.testBit x = true) (fun _ _ _ q1 q2 w => q1 (q2 w)) (fun i hi _ w => by
        obtain ⟨_, _, w3, w4, w5⟩ := k3 i hi
        cases e2 : S.testBit (A i) with
        | true => rfl
        | false => exact absurd (zl_out hA hS w4 w w3 e2) (fun q => hA.2 _ _ w3 w4 w5 q)) et
      rw [e] at this
      exact absurd this (by decide)
theorem zw_bc96 {post : Int32 → St1 → Prop} {f0 f1 f2 : Int32} {a1 a2 a3 a4 a5 a6 a7 a8 a9 a10 a11 a12 a13 a14 a15 a16 a17 : Nat → Int32} {B : Nat → Nat} {K : Nat} {A Z : Nat → Nat} (hA : zk_A B) (hK : zu_K B K A Z f2 a10 a11) (hF : zv_F K A Z K a12) (H : ∀ s, zl_in B s → post (nI s) (f0, f1, f2, a1, a2, a3, a4, a5, a6, a7, a8, a9, a10, a11, a12, a13, a14, a15, a16, a17)) : ∃ n, wX_byCouples_96 post f0 f1 f2 a1 a2 a3 a4 a5 a6 a7 a8 a9 a10 a11 a12 a13 a14 a15 a16 a17 n 0 0 := by
  refine pk_loop (σ := Nat) (fun n i r => wX_byCouples_96 post f0 f1 f2 a1 a2 a3 a4 a5 a6 a7 a8 a9 a10 a11 a12 a13 a14 a15 a16 a17 n (nI r) (nI i)) (fun i r => r < 32 ∧ ∀ c, c < 5 → (r.testBit c = true ↔ ∃ m, m < i ∧ ¬ a12 m = 0 ∧ ∀ k, k < K → m.testBit k = true → Z k ≠ c)) 1024 0 0 (by omega) ⟨by omega, fun c _ => ?_⟩ ?_ ?_
  · rw [Nat.zero_testBit]
    constructor
    · intro z; exact absurd z (by decide)
    · rintro ⟨m, hm, _⟩; exact absurd hm (by omega)
  · rintro n r ⟨q1, q2⟩
    exact pk_le 1024 1024 (fun _ => H r (zv_end hA hK hF q1 q2)) (fun z => absurd z (by omega))
  · rintro n i r hi ⟨q1, q2⟩ hw
    have er : a12 (nI i).toNatClampNeg = a12 i := zb_rd rfl (by omega)
    refine pk_le 1024 i (fun z => absurd z (by omega)) (fun _ => ⟨pk_in i 1024 hi, br_c (fun z => nm_r (nI_1 i) (hw r ⟨q1, fun c hc => (q2 c hc).trans ?_⟩)) (fun z => zw_unbeaten hK hi (fun s s1 s2 => nm_r (zb_or r s) (nm_r (nI_1 i) (hw (r ||| s) ⟨zb_olt q1 s1, fun c hc => ?_⟩))))⟩)
    · constructor
      · rintro ⟨m, m1, m2, m3⟩
        exact ⟨m, by omega, m2, m3⟩
      · rintro ⟨m, m1, m2, m3⟩
        have : m ≠ i := fun e => by rw [e] at m2; exact m2 (er.symm.trans z)
        exact ⟨m, by omega, m2, m3⟩
    · rw [Nat.testBit_or, Bool.or_eq_true, q2 c hc, s2 c hc]
      constructor
      · rintro (⟨m, m1, m2, m3⟩ | w)
        · exact ⟨m, by omega, m2, m3⟩
        · exact ⟨i, by omega, fun e => z (er.trans e), w⟩
      · rintro ⟨m, m1, m2, m3⟩
        by_cases e : m = i
        · rw [e] at m3; exact Or.inr m3
        · exact Or.inl ⟨m, by omega, m2, m3⟩
theorem zw_bc36 {post : Int32 → St1 → Prop} {f0 f1 f2 : Int32} {a1 a2 a3 a4 a5 a6 a7 a8 a9 a10 a11 a12 a13 a14 a15 a16 a17 : Nat → Int32} {B : Nat → Nat} {K : Nat} {A Z : Nat → Nat} (hA : zk_A B) (hK : zu_K B K A Z f2 a10 a11) (hF : zv_F K A Z 0 a12) (H : ∀ s s9 s12 s13, zl_in B s → post (nI s) (f0, f1, f2, a1, a2, a3, a4, a5, a6, a7, a8, s9, a10, a11, s12, s13, a14, a15, a16, a17)) : ∃ n, wX_byCouples_36 post n 0 f0 f1 f2 a1 a2 a3 a4 a5 a6 a7 a8 a9 a10 a11 a12 a13 a14 a15 a16 a17 := by
  have hK' := hK
  obtain ⟨k1, k2, k3, k4⟩ := hK'
  have hne : ∀ k, k < K → A k ≠ Z k := by
    intro k hk e
    obtain ⟨_, _, w3, w4, w5⟩ := k3 k hk
    rw [← e] at w5
    exact hA.2 _ _ w3 w3 w5 w5
  subst k2
  refine loop_m (σ := Nat × (Nat → Int32) × (Nat → Int32) × (Nat → Int32)) (fun n q => wX_byCouples_36 post n (nI q.1) f0 f1 (nI K) a1 a2 a3 a4 a5 a6 a7 a8 q.2.1 a10 a11 q.2.2.1 q.2.2.2 a14 a15 a16 a17) (fun q => q.1 ≤ K ∧ zv_F K A Z q.1 q.2.2.1) (fun q => K - q.1) ?_ (0, a9, a12, a13) ⟨by show 0 ≤ K; omega, hF⟩
  rintro n ⟨d, s9, s12, s13⟩ ⟨hd, hFd⟩ hw
  have hd' : d ≤ K := hd
  have hFd' : zv_F K A Z d s12 := hFd
  refine pk_le K d (fun z => ?_) (fun z => ?_)
  · have e : d = K := by omega
    rw [e] at hFd'
    exact zw_bc96 hA hK hFd' (fun s hs => H s s9 s12 s13 hs)
  · have grp : ∀ e, d < e → e ≤ K → wX_byCouples_75 post (wX_byCouples_36 post n) (nI d) (nI e) f0 f1 (nI K) a1 a2 a3 a4 a5 a6 a7 a8 s9 a10 a11 s12 s13 a14 a15 a16 a17 := by
      intro e h1 h2
      unfold wX_byCouples_75
      refine zw_addGroup (d := d) (e := e) hK (by omega) h2 rfl ?_ (fun t9 t12 t13 g1 g2 => hw (e, t9, t12, t13) ⟨h2, zv_step k1 (by omega) h2 hne hFd' g1 g2⟩ ?_)
      · rw [zb_1 e (by omega), zb_1 d (by omega), pk_sub (Nat.pow_le_pow_right (by omega) (by omega))]
      · show K - e < K - d
        omega
    refine zw_marginOf hK z ?_
    refine pk_loop (σ := Unit) (fun m i _ => wX_byCouples_52 post (wX_byCouples_36 post n) (nI d) (a4 (5 * A d + Z d)) f0 f1 (nI K) a1 a2 a3 a4 a5 a6 a7 a8 s9 a10 a11 s12 s13 a14 a15 a16 a17 m (nI i)) (fun i _ => d ≤ i) K d () (by omega) (Nat.le_refl d) ?_ ?_
    · intro m _ _
      exact pk_le K K (fun _ => grp K z (Nat.le_refl K)) (fun z => absurd z (by omega))
    · intro m i _ hi hdi hw2
      have hdi' : d ≤ i := hdi
      refine pk_le K i (fun z => absurd z (by omega)) (fun _ => zw_marginOf hK hi (br_c (fun eq => nm_r (nI_1 i) (hw2 () (by omega))) (fun ne => grp i ?_ (by omega))))
      by_cases e : i = d
      · rw [e] at ne; exact absurd rfl ne
      · omega
theorem zw_byCouples {post : Int32 → St1 → Prop} {u : St1} {C : Nat} {P : Nat → Nat → Nat} {B : Nat → Nat} (h : zk C P B u) (H : ∀ s u', zk C P B u' → zl_in B s → post (nI s) u') : wpX_byCouples post u := by
  obtain ⟨f0, f1, f2, a1, a2, a3, a4, a5, a6, a7, a8, a9, a10, a11, a12, a13, a14, a15, a16, a17⟩ := u
  unfold wpX_byCouples
  refine zw_listCouples h ?_
  clear h
  rintro ⟨f0, f1, f2, a1, a2, a3, a4, a5, a6, a7, a8, a9, a10, a11, a12, a13, a14, a15, a16, a17⟩ K A Z h hK
  have hA := zk_BA h.2.2.2.2.2.2.2.2
  have hK' : zu_K B K A Z f2 a10 a11 := hK
  refine pk_loop (fun n i s => wX_byCouples_6 post f0 f1 f2 n (nI i) a1 a2 a3 a4 a5 a6 a7 a8 a9 a10 a11 s a13 a14 a15 a16 a17) (fun i s => ∀ m, m < i → (m = 0 → s m = nI 1) ∧ (m ≠ 0 → s m = nI 0)) 1024 0 a12 (by omega) (fun m hm => absurd hm (by omega)) ?_ ?_
  · intro n s hs
    refine pk_le 1024 1024 (fun _ => zw_bc36 hA hK' ⟨fun m hm q => ?_, 0, by omega, ?_⟩ (fun r s9 s12 s13 hr => H r (f0, f1, f2, a1, a2, a3, a4, a5, a6, a7, a8, s9, a10, a11, s12, s13, a14, a15, a16, a17) h hr)) (fun z => absurd z (by omega))
    · have m0 : m = 0 := by
        by_cases e : m = 0
        · exact e
        · exact absurd ((hs m hm).2 e) q
      refine ⟨by rw [m0]; decide, fun a _ R => ?_, fun k hk => absurd hk (by omega)⟩
      exact R (fun _ _ => False) (fun _ _ _ q _ => q) (fun k _ e => by rw [m0, Nat.zero_testBit] at e; exact absurd e (by decide))
    · rw [(hs 0 (by omega)).1 rfl]; decide
  · intro n i s hi hs hw
    have nx : ∀ v, ((i = 0 → v = nI 1) ∧ (i ≠ 0 → v = nI 0)) → wX_byCouples_6 post f0 f1 f2 n (nI (i + 1)) a1 a2 a3 a4 a5 a6 a7 a8 a9 a10 a11 (upd s i v) a13 a14 a15 a16 a17 := by
      intro v hv
      refine hw _ (fun m hm => ?_)
      by_cases e : m = i
      · rw [e, pk_us]; exact hv
      · rw [pk_un e]; exact hs m (by omega)
    exact pk_le 1024 i (fun z => absurd z (by omega)) (fun _ => pk_eq i 0 (fun e => ⟨pk_in i 1024 hi, nm_r (zb_up (n := i) (v := nI 1) rfl (by omega) rfl) (nm_r (nI_1 i) (nx _ ⟨fun _ => rfl, fun z => absurd e z⟩))⟩) (fun e => ⟨pk_in i 1024 hi, nm_r (zb_up (n := i) (v := nI 0) rfl (by omega) rfl) (nm_r (nI_1 i) (nx _ ⟨fun z => absurd z e, fun _ => rfl⟩))⟩))
end
section
/-! rule 16: removals -/
theorem zk_L {C : Nat} {P : Nat → Nat → Nat} {B : Nat → Nat} (hC : C ≤ 9) (hP : zk_P C P) (hB : zk_B P B) {c : Nat} (hc : c < 5) : zl_L B c ↔ ∀ b, b < 5 → b ≠ c → C < 2 * zo (P c b) := by
  constructor
  · intro h b hb hne
    have q : zo (P b c) < zo (P c b) := ((hB c hc).2 b hb).mp (h.2 b hb hne)
    have := zk_sum hC hP hc hb (fun z => hne z.symm)
    omega
  · intro h
    refine ⟨hc, fun b hb hne => ((hB c hc).2 b hb).mpr ?_⟩
    have q := h b hb hne
    have := zk_sum hC hP hc hb (fun z => hne z.symm)
    show zo (P b c) < zo (P c b)
    omega
theorem zk_L0 {C : Nat} {P : Nat → Nat → Nat} {B : Nat → Nat} (hC : C ≤ 9) (hP : zk_P C P) (hB : zk_B P B) {c : Nat} (h : zl_L B c) : 1 ≤ C := by
  have hc := h.1
  have q := (zk_L hC hP hB hc).mp h
  by_cases e : c = 0
  · have q1 := q 1 (by omega) (by omega)
    have := zk_sum hC hP hc (b := 1) (by omega) (by omega)
    omega
  · have q1 := q 0 (by omega) (by omega)
    have := zk_sum hC hP hc (b := 0) (by omega) (by omega)
    omega
/-- what swapsOf and removalsOf answer for c -/
def zz_a (B : Nat → Nat) (c : Nat) (r : Int32) : Prop := (zl_L B c → r = 0) ∧ (¬ zl_L B c → r = -1002 ∨ ∃ v, 1 ≤ v ∧ v ≤ 100 ∧ r = nI v)
theorem zw_removalsOf {post : Int32 → Prop} {u : St1} {C c : Nat} {P : Nat → Nat → Nat} {B : Nat → Nat} (h : zk C P B u) (hc : c < 5) (H : ∀ r, zz_a B c r → post r) : wpX_removalsOf post u (nI c) := by
  obtain ⟨f0, f1, f2, a1, a2, a3, a4, a5, a6, a7, a8, a9, a10, a11, a12, a13, a14, a15, a16, a17⟩ := u
  have hC : C ≤ 9 := h.1
  have hf : f0 = nI C := h.2.1
  have hP : zk_P C P := h.2.2.2.2.2.2.2.1
  have hB : zk_B P B := h.2.2.2.2.2.2.2.2
  have e3 : ∀ a b, a < 5 → b < 5 → a3 (5 * a + b) = nI (P a b) := h.2.2.2.2.1
  subst hf
  have h9 : (2 : Nat) ^ C ≤ 2 ^ 9 := Nat.pow_le_pow_right (by omega) hC
  have hp := Nat.two_pow_pos C
  have hL := zk_L hC hP hB hc
  refine pk_loop (σ := Nat) (fun n i m => wX_removalsOf_4 post (nI c) (nI C) f1 f2 a1 a2 a3 a4 a5 a6 a7 a8 a9 a10 a11 a12 a13 a14 a15 a16 a17 n (nI m) (nI i)) (fun i m => 1 ≤ i ∧ m ≤ C ∧ (¬ zl_L B c → m = 0 ∨ m < C) ∧ (zl_L B c → 2 ^ C ≤ i → m = C)) (2 ^ C) 1 0 (by omega) ⟨by omega, by omega, fun _ => Or.inl rfl, fun q z => ?_⟩ ?_ ?_
  · have := zk_L0 hC hP hB q
    have : (2 : Nat) ^ 1 ≤ 2 ^ C := Nat.pow_le_pow_right (by omega) this
    omega
  · rintro n m ⟨_, m1, m2, m3⟩
    refine pk_le (2 ^ C) (2 ^ C) (fun _ => pk_eq m 0 (fun z => H _ ⟨fun q => ?_, fun _ => Or.inl rfl⟩) (fun z => H _ ⟨fun q => ?_, fun q => ?_⟩)) (fun z => absurd z (by omega)) (zb_1 C (by omega))
    · have := zk_L0 hC hP hB q
      have := m3 q (Nat.le_refl _)
      omega
    · rw [m3 q (Nat.le_refl _), pk_sub (Nat.le_refl C), Nat.sub_self]
      rfl
    · rw [pk_sub m1]
      exact Or.inr ⟨C - m, by have := m2 q; omega, by omega, rfl⟩
  · rintro n i m hi ⟨hi1, m1, m2, m3⟩ hw
    obtain ⟨z1, z2⟩ := zo_lt C (by omega) i (by omega) hi
    have keep : (zl_L B c → i = 2 ^ C - 1 → m = C) → wX_removalsOf_4 post (nI c) (nI C) f1 f2 a1 a2 a3 a4 a5 a6 a7 a8 a9 a10 a11 a12 a13 a14 a15 a16 a17 n (nI m) (nI (i + 1)) := fun q => hw m ⟨by omega, m1, m2, fun l z => q l (by omega)⟩
    refine pk_le (2 ^ C) i (fun z => absurd z (by omega)) (fun _ => zw_ones (n := i) rfl (by omega) (pk_lt m (zo i) (fun lt => ?_) (fun ge => nm_r (nI_1 i) (keep (fun _ e => ?_))))) (zb_1 C (by omega))
    · refine zg_all (W := fun k x y => wX_removalsOf_36 post (wX_removalsOf_4 post (nI c) (nI C) f1 f2 a1 a2 a3 a4 a5 a6 a7 a8 a9 a10 a11 a12 a13 a14 a15 a16 a17 n) (nI c) (nI m) (nI i) (nI (zo i)) (nI C) f1 f2 a1 a2 a3 a4 a5 a6 a7 a8 a9 a10 a11 a12 a13 a14 a15 a16 a17 k x y) (E := fun x => wX_removalsOf_90 post (wX_removalsOf_4 post (nI c) (nI C) f1 f2 a1 a2 a3 a4 a5 a6 a7 a8 a9 a10 a11 a12 a13 a14 a15 a16 a17 n) (nI c) (nI m) (nI i) (nI (zo i)) x (nI C) f1 f2 a1 a2 a3 a4 a5 a6 a7 a8 a9 a10 a11 a12 a13 a14 a15 a16 a17) (fun b => b = c ∨ zo i < 2 * zo (P c b &&& i)) ?_ ?_ ?_ ?_ ?_
      · exact fun k x e => pk_le 5 5 (fun _ => e) (fun z => absurd z (by omega))
      · exact fun k j hj e => pk_le 5 j (fun z => absurd z (by omega)) (fun _ => br_t rfl e)
      · intro k j hj c1 c0
        have hl : P c j &&& i < 512 := Nat.lt_of_le_of_lt Nat.and_le_left (zk_lt hC hP hc hj)
        have hz := zo_le (P c j &&& i)
        refine pk_le 5 j (fun z => absurd z (by omega)) (fun _ => br_f (by decide) (pk_eq j c (fun e => nm_r (nI_1 j) (c1 (Or.inl e))) (fun e => ⟨pk_in (5 * c + j) 25 (by omega) (zb_ix c j), zw_ones (n := P c j &&& i) ?_ (by omega) (pk_le (2 * zo (P c j &&& i)) (zo i) (fun le => nm_r (nI_1 j) (c0 (by omega))) (fun gt => nm_r (nI_1 j) (c1 (Or.inr gt))) (pk_mul 2 _))⟩)))
        rw [zb_rd (a := a3) (zb_ix c j) (by omega), e3 c j hc hj, zb_and]
      · intro g
        refine br_f (by decide) (nm_r (nI_1 i) (hw (zo i) ⟨by omega, z1, fun nl => ?_, fun l z => ?_⟩))
        · by_cases e : zo i = C
          · refine absurd (hL.mpr (fun b hb hne => ?_)) nl
            have q := (g b hb).elim (fun z => absurd z hne) id
            rw [z2 e, Nat.and_two_pow_sub_one_eq_mod, Nat.mod_eq_of_lt (hP c b hc hb).1, zo_all C (by omega)] at q
            exact q
          · omega
        · rw [show i = 2 ^ C - 1 by omega, zo_all C (by omega)]
      · intro j hj nc
        refine br_t rfl (nm_r (nI_1 i) (keep (fun l e => absurd ?_ nc)))
        by_cases ej : j = c
        · exact Or.inl ej
        · right
          rw [e, Nat.and_two_pow_sub_one_eq_mod, Nat.mod_eq_of_lt (hP c j hc hj).1, zo_all C (by omega)]
          exact hL.mp l j hj ej
    · rw [e, zo_all C (by omega)] at ge
      omega
/-! rule 15: swaps -/
def zn (c b : Nat) : Nat := if c < b then b - 1 else b
theorem zn_4 {c b : Nat} (hc : c < 5) (hb : b < 5) (h : b ≠ c) : zn c b < 4 := by
  unfold zn
  split <;> omega
theorem zn_s {c b : Nat} (h : b ≠ c) : zn c (b + 1) = zn c b + 1 := by
  unfold zn
  split
  · split <;> omega
  · split <;> omega
theorem zn_c {c : Nat} : zn c (c + 1) = zn c c := by
  unfold zn
  rw [if_pos (by omega), if_neg (by omega)]
  omega
theorem zn_ne {c b i : Nat} (h1 : b ≠ c) (h2 : b < i) (h3 : i ≠ c) : zn c b ≠ zn c i := by
  unfold zn
  split
  · split <;> omega
  · split <;> omega
theorem zw_findLacking {post : Int32 → St1 → Prop} {f0 f1 f2 : Int32} {a1 a2 a3 a4 a5 a6 a7 a8 a9 a10 a11 a12 a13 a14 a15 a16 a17 : Nat → Int32} {C c : Nat} {P : Nat → Nat → Nat} {B : Nat → Nat} (h : zk C P B (f0, f1, f2, a1, a2, a3, a4, a5, a6, a7, a8, a9, a10, a11, a12, a13, a14, a15, a16, a17)) (hc : c < 5) (H : ∀ st s14 s15, st < 1296 → (st = 0 ↔ zl_L B c) → (∀ b, b < 5 → b ≠ c → s15 (zn c b) = nI b) → post (nI st) (f0, f1, f2, a1, a2, a3, a4, a5, a6, a7, a8, a9, a10, a11, a12, a13, s14, s15, a16, a17)) : wpX_findLacking post (f0, f1, f2, a1, a2, a3, a4, a5, a6, a7, a8, a9, a10, a11, a12, a13, a14, a15, a16, a17) (nI c) := by
  have hC : C ≤ 9 := h.1
  have hP : zk_P C P := h.2.2.2.2.2.2.2.1
  have hB : zk_B P B := h.2.2.2.2.2.2.2.2
  have e4 : ∀ a b, a < 5 → b < 5 → a4 (5 * a + b) = nI (zo (P a b)) - nI (zo (P b a)) := h.2.2.2.2.2.1
  refine pk_loop (σ := Nat × Nat × Nat × (Nat → Int32) × (Nat → Int32)) (fun n i q => wX_findLacking_10 post (nI c) f0 f1 f2 n (nI q.1) (nI q.2.1) (nI q.2.2.1) (nI i) a1 a2 a3 a4 a5 a6 a7 a8 a9 a10 a11 a12 a13 q.2.2.2.1 q.2.2.2.2 a16 a17) (fun i q => q.1 = zn c i ∧ q.2.2.1 = 6 ^ zn c i ∧ q.2.1 < 6 ^ zn c i ∧ (q.2.1 = 0 ↔ ∀ b, b < i → b ≠ c → zo (P b c) < zo (P c b)) ∧ (∀ b, b < i → b ≠ c → q.2.2.2.2 (zn c b) = nI b)) 5 0 (0, 0, 1, a14, a15) (by omega) ⟨?_, ?_, ?_, ⟨fun _ b hb => absurd hb (by omega), fun _ => rfl⟩, fun b hb => absurd hb (by omega)⟩ ?_ ?_
  · show 0 = zn c 0
    unfold zn
    rw [if_neg (by omega)]
  · show 1 = 6 ^ zn c 0
    unfold zn
    rw [if_neg (by omega)]
  · show 0 < 6 ^ zn c 0
    exact Nat.pow_pos (by omega)
  · rintro n ⟨k, st, w, s14, s15⟩ ⟨q1, q2, q3, q4, q5⟩
    have ez : zn c 5 = 4 := by unfold zn; rw [if_pos (by omega)]
    have q3' : st < 6 ^ zn c 5 := q3
    have q4' : st = 0 ↔ ∀ b, b < 5 → b ≠ c → zo (P b c) < zo (P c b) := q4
    rw [ez] at q3'
    refine pk_le 5 5 (fun _ => H st s14 s15 (by omega) (q4'.trans ?_) q5) (fun z => absurd z (by omega))
    constructor
    · exact fun g => ⟨hc, fun b hb hne => ((hB c hc).2 b hb).mpr (g b hb hne)⟩
    · exact fun g b hb hne => ((hB c hc).2 b hb).mp (g.2 b hb hne)
  · rintro n i ⟨k, st, w, s14, s15⟩ hi ⟨q1, q2, q3, q4, q5⟩ hw
    have q1' : k = zn c i := q1
    have q2' : w = 6 ^ zn c i := q2
    have q3' : st < 6 ^ zn c i := q3
    have q4' : st = 0 ↔ ∀ b, b < i → b ≠ c → zo (P b c) < zo (P c b) := q4
    have q5' : ∀ b, b < i → b ≠ c → s15 (zn c b) = nI b := q5
    refine pk_le 5 i (fun z => absurd z (by omega)) (fun _ => pk_eq i c (fun e => nm_r (nI_1 i) (hw (k, st, w, s14, s15) ?_)) (fun e => ?_))
    · have ez : zn c (i + 1) = zn c i := by rw [e]; exact zn_c
      refine ⟨q1'.trans ez.symm, by show w = 6 ^ zn c (i + 1); rw [ez]; exact q2', by show st < 6 ^ zn c (i + 1); rw [ez]; exact q3', q4'.trans ?_, fun b hb hne => q5' b (by omega) hne⟩
      constructor
      · exact fun g b hb hne => g b (by omega) hne
      · exact fun g b hb hne => g b (by omega) hne
    · have w1 := zk_w hC hP hc hi
      have w2 := zk_w hC hP hi hc
      have k4 : k < 4 := by rw [q1']; exact zn_4 hc hi e
      have fin : ∀ l : Nat, l ≤ 5 → (l = 0 ↔ zo (P i c) < zo (P c i)) → ∀ z0 : Int32, z0.toInt8.toInt32 = nI l → wX_findLacking_68 post (wX_findLacking_10 post (nI c) f0 f1 f2 n) (nI c) (nI k) (nI st) (nI w) (nI i) z0 (nI k) f0 f1 f2 a1 a2 a3 a4 a5 a6 a7 a8 a9 a10 a11 a12 a13 s14 (upd s15 k (nI i)) a16 a17 := by
        intro l l5 l0 z0 ez0
        refine ⟨pk_in k 4 k4, nm_r (zb_up (n := k) (v := nI l) rfl (by omega) ez0) ⟨pk_in k 4 k4, nm_r (e' := nI (st + w * l)) ?_ (nm_r (pk_mul w 6) (nm_r (nI_1 k) (nm_r (nI_1 i) (hw (k + 1, st + w * l, w * 6, upd s14 k (nI l), upd s15 k (nI i)) ?_))))⟩⟩
        · rw [zb_rd (a := upd s14 k (nI l)) (n := k) rfl (by omega), pk_us, pk_mul, nI_add]
        · have wp : 0 < w := by rw [q2']; exact Nat.pow_pos (by omega)
          have wl : w * l ≤ w * 5 := Nat.mul_le_mul_left w l5
          refine ⟨?_, ?_, ?_, ?_, ?_⟩
          · show k + 1 = zn c (i + 1)
            rw [zn_s e, q1']
          · show w * 6 = 6 ^ zn c (i + 1)
            rw [zn_s e, q2', Nat.pow_succ]
          · show st + w * l < 6 ^ zn c (i + 1)
            rw [zn_s e, Nat.pow_succ, ← q2']
            rw [← q2'] at q3'
            omega
          · show st + w * l = 0 ↔ ∀ b, b < i + 1 → b ≠ c → zo (P b c) < zo (P c b)
            constructor
            · intro z b hb hne
              have z1 : st = 0 := by omega
              have z2 : w * l = 0 := by omega
              by_cases eb : b = i
              · rw [eb]
                refine l0.mp ?_
                rcases Nat.mul_eq_zero.mp z2 with y | y
                · omega
                · exact y
              · exact q4'.mp z1 b (by omega) hne
            · intro g
              have z1 : st = 0 := q4'.mpr (fun b hb hne => g b (by omega) hne)
              have z2 : l = 0 := l0.mpr (g i (by omega) e)
              rw [z1, z2, Nat.mul_zero]
          · intro b hb hne
            show upd s15 k (nI i) (zn c b) = nI b
            by_cases eb : b = i
            · rw [eb, ← q1', pk_us]
            · rw [pk_un (by rw [q1']; exact zn_ne hne (by omega) e)]
              exact q5' b (by omega) hne
      refine ⟨pk_in (5 * c + i) 25 (by omega) (zb_ix c i), nm_r ((zb_rd (zb_ix c i) (by omega)).trans (e4 c i hc hi)) ⟨pk_in k 4 k4, nm_r (zb_up (n := k) (v := nI i) rfl (by omega) (zb_i8 i (by omega))) ?_⟩⟩
      refine ek_if (zg_le0 _ (by omega) _ (by omega)) (fun le => ⟨by decide, fin ((zo (P i c) - zo (P c i)) / 2 + 1) (by omega) (by omega) _ (zg_lack _ (by omega) _ (by omega) le)⟩) (fun nle => fin 0 (by omega) (by omega) _ (by decide))
theorem zw_gainOver {post : Int32 → Prop} {f0 f1 f2 : Int32} {a1 a2 a3 a4 a5 a6 a7 a8 a9 a10 a11 a12 a13 a14 a15 a16 a17 : Nat → Int32} {s t b : Nat} {y z : Int32} (hy : y = nI s) (hz : z = nI b) (hs : s < 1296) (ht : t < 4) (h : a15 t = nI b) (H : ∀ r, r < 1296 → post (nI r)) : wpX_gainOver post (f0, f1, f2, a1, a2, a3, a4, a5, a6, a7, a8, a9, a10, a11, a12, a13, a14, a15, a16, a17) y z := by
  subst hy hz
  have fin : ∀ i w, i < 4 → w = 6 ^ i → (¬ nI w = 0 ∧ (¬ (6 : Int32) = 0 ∧ ((((nI s / nI w) - (nI s / nI w) / 6 * 6) ≤ 0 → post (nI s)) ∧ (¬ ((nI s / nI w) - (nI s / nI w) / 6 * 6) ≤ 0 → post (nI s - nI w))))) := by
    intro i w hi ew
    have wp : 0 < w := by rw [ew]; exact Nat.pow_pos (by omega)
    have wl : w ≤ 6 ^ 3 := by rw [ew]; exact Nat.pow_le_pow_right (by omega) (by omega)
    have dl : s / w ≤ s := Nat.div_le_self s w
    have ml : s / w % 6 < 6 := Nat.mod_lt _ (by omega)
    refine ⟨nI_ne0 wp (by omega), by decide, ?_⟩
    rw [pk_div (a := s) (d := w) (by omega) wp (by omega)]
    refine pk_le (s / w % 6) 0 (fun _ => H s hs) (fun g => ?_) (pk_rem (a := s / w) (d := 6) (by omega) (by omega) (by omega))
    have : w ≤ s := by
      rcases Nat.lt_or_ge s w with q | q
      · rw [Nat.div_eq_of_lt q] at g; omega
      · exact q
    rw [pk_sub this]
    exact H _ (by omega)
  refine pk_loop (σ := Nat) (fun n i w => wX_gainOver_5 post (nI s) (nI b) f0 f1 f2 a1 a2 a3 a4 a5 a6 a7 a8 a9 a10 a11 a12 a13 a14 a15 a16 a17 n (nI w) (nI i)) (fun i w => w = 6 ^ i) t 0 1 (by omega) rfl ?_ ?_
  · intro n w hw
    exact ⟨pk_in t 4 ht, br_t ((zb_rd rfl (by omega)).trans h) (fin t w ht hw)⟩
  · intro n i w hi hw hn
    refine ⟨pk_in i 4 (by omega), br_c (fun _ => fin i w (by omega) hw) (fun _ => nm_r (pk_mul w 6) (nm_r (nI_1 i) (hn (w * 6) ?_)))⟩
    show w * 6 = 6 ^ (i + 1)
    rw [Nat.pow_succ, ← show w = 6 ^ i from hw]
/-- the costs: small numbers, 0 at the start alone -/
def zz_N (st : Nat) (t : Nat → Int32) : Prop := ∀ x, x < 1296 → ∃ v, v ≤ 100 ∧ t x = nI v ∧ (v = 0 → x = st)
def zz_C (st : Nat) (t : Nat → Int32) : Prop := zz_N st t ∧ t st = nI 0
theorem zw_moveUp {post : St1 → Prop} {f0 f1 f2 : Int32} {a1 a2 a3 a4 a5 a6 a7 a8 a9 a10 a11 a12 a13 a14 a15 a16 a17 : Nat → Int32} {i k s st c : Nat} {R : Nat → Nat} (hi : i < 9) (hR : zr_R a2 i R) (hk : k < 5) (hkc : R k = c) (hc : c < 5) (ho : ∀ b, b < 5 → b ≠ c → a15 (zn c b) = nI b) (hs : s < 1296) (hst : st < 1296) {v : Nat} (hv : v < 100) (h16 : a16 s = nI v) (hv0 : v = 0 → s = st) (hv1 : s = st → v = 0) (hN : zz_N st a17) (H : ∀ t, zz_N st t → ((s = st ∨ a17 st = nI 0) → t st = nI 0) → post (f0, f1, f2, a1, a2, a3, a4, a5, a6, a7, a8, a9, a10, a11, a12, a13, a14, a15, a16, t)) : wpX_moveUp post (f0, f1, f2, a1, a2, a3, a4, a5, a6, a7, a8, a9, a10, a11, a12, a13, a14, a15, a16, a17) (nI i) (nI k) (nI s) := by
  refine pk_loop (σ := Nat × (Nat → Int32)) (fun n up q => wX_moveUp_6 post (nI i) (nI k) (nI s) f0 f1 f2 n (nI q.1) (nI up) a1 a2 a3 a4 a5 a6 a7 a8 a9 a10 a11 a12 a13 a14 a15 a16 q.2) (fun up q => q.1 < 1296 ∧ (up = 0 → q.1 = s) ∧ zz_N st q.2 ∧ (((s = st ∧ 0 < up) ∨ a17 st = nI 0) → q.2 st = nI 0)) (k + 1) 0 (s, a17) (by omega) ⟨hs, fun _ => rfl, hN, ?_⟩ ?_ ?_
  · rintro (⟨_, z⟩ | z)
    · exact absurd z (by omega)
    · exact z
  · rintro n ⟨x, t⟩ ⟨q1, q2, q3, q4⟩
    refine pk_lt k (k + 1) (fun _ => H t q3 (fun z => q4 ?_)) (fun z => absurd z (by omega))
    rcases z with z | z
    · exact Or.inl ⟨z, by omega⟩
    · exact Or.inr z
  · rintro n up ⟨x, t⟩ hup ⟨q1, q2, q3, q4⟩ hw
    have q1' : x < 1296 := q1
    have q2' : up = 0 → x = s := q2
    have q3' : zz_N st t := q3
    have q4' : ((s = st ∧ 0 < up) ∨ a17 st = nI 0) → t st = nI 0 := q4
    have fin : ∀ x', x' < 1296 → (up = 0 → x' = s) → wX_moveUp_38 post (wX_moveUp_6 post (nI i) (nI k) (nI s) f0 f1 f2 n) (nI i) (nI k) (nI s) (nI x') (nI up) f0 f1 f2 a1 a2 a3 a4 a5 a6 a7 a8 a9 a10 a11 a12 a13 a14 a15 a16 t := by
      intro x' hx' hx0
      obtain ⟨w, w1, w2, w3⟩ := q3' x' hx'
      have ea : a16 (nI s).toNatClampNeg + nI up = nI (v + up) := by rw [zb_rd (a := a16) (n := s) rfl (by omega), h16, nI_add]
      have et : t (nI x').toNatClampNeg = nI w := (zb_rd rfl (by omega)).trans w2
      refine ⟨pk_in s 1296 hs, pk_in x' 1296 hx', pk_le w (v + up) (fun le => nm_r (nI_1 up) (hw (x', t) ⟨hx', fun z => absurd z (by omega), q3', ?_⟩)) (fun gt => ⟨pk_in s 1296 hs, pk_in x' 1296 hx', nm_r (zb_up (n := x') (v := nI (v + up)) rfl (by omega) ?_) (nm_r (nI_1 up) (hw (x', upd t x' (nI (v + up))) ⟨hx', fun z => absurd z (by omega), fun y hy => ?_, ?_⟩))⟩) et ea⟩
      · intro z
        by_cases e0 : s = st ∧ up = 0
        · have ex : x' = st := (hx0 e0.2).trans e0.1
          have v0 := hv1 e0.1
          have w0 : w = 0 := by omega
          show t st = nI 0
          rw [← ex, w2, w0]
        · refine q4' ?_
          rcases z with z | z
          · exact Or.inl ⟨z.1, by omega⟩
          · exact Or.inr z
      · rw [ea, zb_i8 _ (by omega)]
      · show ∃ v', v' ≤ 100 ∧ upd t x' (nI (v + up)) y = nI v' ∧ (v' = 0 → y = st)
        by_cases e : y = x'
        · rw [e, pk_us]
          refine ⟨v + up, by omega, rfl, fun z => ?_⟩
          rw [hx0 (by omega)]
          exact hv0 (by omega)
        · rw [pk_un e]; exact q3' y hy
      · intro z
        show upd t x' (nI (v + up)) st = nI 0
        by_cases e : st = x'
        · by_cases e0 : s = st ∧ up = 0
          · rw [e, pk_us, hv1 e0.1, e0.2]
          · have t0 : t st = nI 0 := by
              refine q4' ?_
              rcases z with z | z
              · exact Or.inl ⟨z.1, by omega⟩
              · exact Or.inr z
            rw [e, w2] at t0
            have := zb_inj (by omega) (by omega) t0
            omega
        · rw [pk_un e]
          refine q4' ?_
          rcases z with z | z
          · by_cases e0 : up = 0
            · exact absurd ((hx0 e0).trans z.1).symm e
            · exact Or.inl ⟨z.1, by omega⟩
          · exact Or.inr z
    refine pk_lt k up (fun z => absurd z (by omega)) (fun le => pk_le up 0 (fun z => fin x q1' q2') (fun z => ?_))
    have ei : 5 * nI i + nI k - nI up = nI (5 * i + (k - up)) := by
      rw [zb_ix, pk_sub (by omega), show 5 * i + k - up = 5 * i + (k - up) by omega]
    obtain ⟨rk, rk5⟩ := hR.1 (k - up) (by omega)
    have ne : R (k - up) ≠ c := fun e => by
      have := hR.2.1 (k - up) k (by omega) hk (by rw [e, hkc])
      omega
    exact ⟨pk_in (5 * i + (k - up)) 45 (by omega) ei, zw_gainOver (s := x) (t := zn c (R (k - up))) (b := R (k - up)) rfl ((zb_rd ei (by omega)).trans rk) q1' (zn_4 hc rk5 ne) (ho _ rk5 ne) (fun r hr => fin r hr (fun z0 => absurd z0 (by omega)))⟩
theorem zw_useBallot {post : St1 → Prop} {f0 f1 f2 : Int32} {a1 a2 a3 a4 a5 a6 a7 a8 a9 a10 a11 a12 a13 a14 a15 a16 a17 : Nat → Int32} {i st c : Nat} {R : Nat → Nat} (hi : i < 9) (hR : zr_R a2 i R) (hc : c < 5) (ho : ∀ b, b < 5 → b ≠ c → a15 (zn c b) = nI b) (hst : st < 1296) (h16 : zz_C st a16) (H : ∀ s16 s17, zz_C st s16 → post (f0, f1, f2, a1, a2, a3, a4, a5, a6, a7, a8, a9, a10, a11, a12, a13, a14, a15, s16, s17)) : wpX_useBallot post (f0, f1, f2, a1, a2, a3, a4, a5, a6, a7, a8, a9, a10, a11, a12, a13, a14, a15, a16, a17) (nI i) (nI c) := by
  obtain ⟨k, hk, hkc⟩ := hR.2.2 c hc
  refine pk_loop (fun n x t => wX_useBallot_2 post (nI i) (nI c) f0 f1 f2 n (nI x) a1 a2 a3 a4 a5 a6 a7 a8 a9 a10 a11 a12 a13 a14 a15 a16 t) (fun x t => ∀ y, y < x → t y = nI 100) 1296 0 a17 (by omega) (fun y hy => absurd hy (by omega)) ?_ ?_
  · intro n t ht
    refine pk_le 1296 1296 (fun _ => ?_) (fun z => absurd z (by omega))
    refine pk_loop (σ := Unit) (fun n x _ => wX_useBallot_25 post (nI i) (nI c) f0 f1 f2 a1 a2 a3 a4 a5 a6 a7 a8 a9 a10 a11 a12 a13 a14 a15 a16 t n (nI x)) (fun x _ => x ≤ k) k 0 () (by omega) (by omega) ?_ ?_
    · intro n _ _
      obtain ⟨rk, rk5⟩ := hR.1 k hk
      refine ⟨pk_in (5 * i + k) 45 (by omega) (zb_ix i k), br_t ((zb_rd (zb_ix i k) (by omega)).trans (by rw [rk, hkc])) ?_⟩
      refine pk_loop (fun n x t => wX_useBallot_48 post (nI i) (nI k) n (nI x) f0 f1 f2 a1 a2 a3 a4 a5 a6 a7 a8 a9 a10 a11 a12 a13 a14 a15 a16 t) (fun x t => zz_N st t ∧ (st < x → t st = nI 0)) 1296 0 t (by omega) ⟨fun y hy => ⟨100, by omega, ht y hy, fun z => absurd z (by omega)⟩, fun z => absurd z (by omega)⟩ ?_ ?_
      · rintro n t' ⟨g1, g2⟩
        refine pk_le 1296 1296 (fun _ => ?_) (fun z => absurd z (by omega))
        refine pk_loop (fun n x s => wX_useBallot_85 post f0 f1 f2 n (nI x) a1 a2 a3 a4 a5 a6 a7 a8 a9 a10 a11 a12 a13 a14 a15 s t') (fun x s => ∀ y, y < x → s y = t' y) 1296 0 a16 (by omega) (fun y hy => absurd hy (by omega)) ?_ ?_
        · intro n s hs
          refine pk_le 1296 1296 (fun _ => H s t' ⟨fun y hy => ?_, ?_⟩) (fun z => absurd z (by omega))
          · rw [hs y hy]; exact g1 y hy
          · rw [hs st hst]; exact g2 hst
        · intro n x s hx hs hw
          obtain ⟨v, v1, v2, _⟩ := g1 x hx
          refine pk_le 1296 x (fun z => absurd z (by omega)) (fun _ => ⟨pk_in x 1296 hx, pk_in x 1296 hx, nm_r (zb_up (n := x) (v := t' x) rfl (by omega) ?_) (nm_r (nI_1 x) (hw _ (fun y hy => ?_)))⟩)
          · rw [zb_rd (a := t') (n := x) rfl (by omega), v2, zb_by (by omega)]
          · by_cases e : y = x
            · rw [e, pk_us]
            · rw [pk_un e]; exact hs y (by omega)
      · rintro n x t' hx ⟨g1, g2⟩ hw
        obtain ⟨v, v1, v2, v3⟩ := h16.1 x hx
        have v4 : x = st → v = 0 := by
          intro e
          have := h16.2
          rw [← e, v2] at this
          exact zb_inj (by omega) (by omega) this
        refine pk_le 1296 x (fun z => absurd z (by omega)) (fun _ => ⟨pk_in x 1296 hx, pk_le 100 v (fun le => nm_r (nI_1 x) (hw t' ⟨g1, fun z => g2 ?_⟩)) (fun lt => zw_moveUp (v := v) hi hR hk hkc hc ho hx hst lt v2 v3 v4 g1 (fun t'' m1 m2 => nm_r (nI_1 x) (hw t'' ⟨m1, fun z => m2 ?_⟩))) rfl ((zb_rd rfl (by omega)).trans v2)⟩)
        · by_cases e : x = st
          · have := v4 e; omega
          · omega
        · by_cases e : x = st
          · exact Or.inl e
          · exact Or.inr (g2 (by omega))
    · intro n x _ hx _ hw
      obtain ⟨rk, rk5⟩ := hR.1 x (by omega)
      refine ⟨pk_in (5 * i + x) 45 (by omega) (zb_ix i x), pk_eq (R x) c (fun e => ?_) (fun e => nm_r (nI_1 x) (hw () (by omega))) ((zb_rd (zb_ix i x) (by omega)).trans rk)⟩
      have := hR.2.1 x k (by omega) hk (by rw [e, hkc])
      omega
  · intro n x t hx ht hw
    refine pk_le 1296 x (fun z => absurd z (by omega)) (fun _ => ⟨pk_in x 1296 hx, nm_r (zb_up (n := x) (v := nI 100) rfl (by omega) rfl) (nm_r (nI_1 x) (hw _ (fun y hy => ?_)))⟩)
    by_cases e : y = x
    · rw [e, pk_us]
    · rw [pk_un e]; exact ht y (by omega)
end
section
/-- the picture by its parts: the kernel must not compare two states place by place -/
theorem zk_e {f0 f1 f2 : Int32} {a1 a2 a3 a4 a5 a6 a7 a8 a9 a10 a11 a12 a13 a14 a15 a16 a17 : Nat → Int32} {C : Nat} {P : Nat → Nat → Nat} {B : Nat → Nat} (h : zk C P B (f0, f1, f2, a1, a2, a3, a4, a5, a6, a7, a8, a9, a10, a11, a12, a13, a14, a15, a16, a17)) : zk_C C P B f0 f1 a1 a2 a3 a4 a5 := h
theorem zk_i {f0 f1 f2 : Int32} {a1 a2 a3 a4 a5 a6 a7 a8 a9 a10 a11 a12 a13 a14 a15 a16 a17 : Nat → Int32} {C : Nat} {P : Nat → Nat → Nat} {B : Nat → Nat} (h : zk_C C P B f0 f1 a1 a2 a3 a4 a5) : zk C P B (f0, f1, f2, a1, a2, a3, a4, a5, a6, a7, a8, a9, a10, a11, a12, a13, a14, a15, a16, a17) := h
theorem zw_sw49 {post : Int32 → St1 → Prop} {f0 f1 f2 : Int32} {a1 a2 a3 a4 a5 a6 a7 a8 a9 a10 a11 a12 a13 a14 a15 a16 a17 : Nat → Int32} {C c st : Nat} {P : Nat → Nat → Nat} {B : Nat → Nat} (h : zk C P B (f0, f1, f2, a1, a2, a3, a4, a5, a6, a7, a8, a9, a10, a11, a12, a13, a14, a15, a16, a17)) (hc : c < 5) (st1 : st < 1296) (st2 : st = 0 ↔ zl_L B c) (ho : ∀ b, b < 5 → b ≠ c → a15 (zn c b) = nI b) (h16 : zz_C st a16) (H : ∀ r u', zk C P B u' → zz_a B c r → post r u') : ∃ n, wX_swapsOf_49 post (nI c) n 0 f0 f1 f2 a1 a2 a3 a4 a5 a6 a7 a8 a9 a10 a11 a12 a13 a14 a15 a16 a17 := by
  have hC : C ≤ 9 := h.1
  have hf : f0 = nI C := h.2.1
  have hrow : zr C a1 a2 := h.2.2.1
  subst hf
  refine pk_loop (σ := (Nat → Int32) × (Nat → Int32)) (fun n i q => wX_swapsOf_49 post (nI c) n (nI i) (nI C) f1 f2 a1 a2 a3 a4 a5 a6 a7 a8 a9 a10 a11 a12 a13 a14 a15 q.1 q.2) (fun i q => zz_C st q.1) C 0 (a16, a17) (by omega) h16 ?_ ?_
  · rintro n ⟨s16, s17⟩ hz
    obtain ⟨hz1, hz2⟩ : zz_C st s16 := hz
    obtain ⟨v, v1, v2, v3⟩ := hz1 0 (by omega)
    have hk : zk C P B (nI C, f1, f2, a1, a2, a3, a4, a5, a6, a7, a8, a9, a10, a11, a12, a13, a14, a15, s16, s17) := zk_i (zk_e h)
    refine pk_le C C (fun _ => pk_eq v 100 (fun e => H _ _ hk ⟨fun q => ?_, fun _ => Or.inl rfl⟩) (fun e => H _ _ hk ⟨fun q => ?_, fun q => Or.inr ⟨v, ?_, v1, v2⟩⟩) v2) (fun z => absurd z (by omega))
    · have s0 := st2.mpr q
      rw [s0, v2] at hz2
      have := zb_inj (by omega) (by omega) hz2
      omega
    · have s0 := st2.mpr q
      rw [s0] at hz2
      exact hz2
    · by_cases e0 : v = 0
      · exact absurd (st2.mp (v3 e0).symm) q
      · omega
  · rintro n i ⟨s16, s17⟩ hi hz hw
    obtain ⟨R, hR⟩ := zr_get (hrow i hi)
    exact pk_le C i (fun z => absurd z (by omega)) (fun _ => zw_useBallot (by omega) hR hc ho st1 hz (fun t16 t17 ht => nm_r (nI_1 i) (hw (t16, t17) ht)))
theorem zw_sw19 {post : Int32 → St1 → Prop} {f0 f1 f2 : Int32} {a1 a2 a3 a4 a5 a6 a7 a8 a9 a10 a11 a12 a13 a14 a15 a16 a17 : Nat → Int32} {C c st : Nat} {P : Nat → Nat → Nat} {B : Nat → Nat} (h : zk C P B (f0, f1, f2, a1, a2, a3, a4, a5, a6, a7, a8, a9, a10, a11, a12, a13, a14, a15, a16, a17)) (hc : c < 5) (st1 : st < 1296) (st2 : st = 0 ↔ zl_L B c) (ho : ∀ b, b < 5 → b ≠ c → a15 (zn c b) = nI b) (H : ∀ r u', zk C P B u' → zz_a B c r → post r u') : ∃ n, wX_swapsOf_19 post (nI c) (nI st) f0 f1 f2 n 0 a1 a2 a3 a4 a5 a6 a7 a8 a9 a10 a11 a12 a13 a14 a15 a16 a17 := by
  refine pk_loop (fun n x t => wX_swapsOf_19 post (nI c) (nI st) f0 f1 f2 n (nI x) a1 a2 a3 a4 a5 a6 a7 a8 a9 a10 a11 a12 a13 a14 a15 t a17) (fun x t => ∀ y, y < x → t y = nI 100) 1296 0 a16 (by omega) (fun y hy => absurd hy (by omega)) ?_ ?_
  · intro n t ht
    have hk : zk C P B (f0, f1, f2, a1, a2, a3, a4, a5, a6, a7, a8, a9, a10, a11, a12, a13, a14, a15, upd t st (nI 0), a17) := zk_i (zk_e h)
    refine pk_le 1296 1296 (fun _ => ⟨pk_in st 1296 st1, nm_r (zb_up (n := st) (v := nI 0) rfl (by omega) rfl) (zw_sw49 hk hc st1 st2 ho ⟨fun y hy => ?_, pk_us⟩ H)⟩) (fun z => absurd z (by omega))
    by_cases e : y = st
    · rw [e, pk_us]; exact ⟨0, by omega, rfl, fun _ => rfl⟩
    · rw [pk_un e]; exact ⟨100, by omega, ht y hy, fun z => absurd z (by omega)⟩
  · intro n x t hx ht hw
    refine pk_le 1296 x (fun z => absurd z (by omega)) (fun _ => ⟨pk_in x 1296 hx, nm_r (zb_up (n := x) (v := nI 100) rfl (by omega) rfl) (nm_r (nI_1 x) (hw _ (fun y hy => ?_)))⟩)
    by_cases e : y = x
    · rw [e, pk_us]
    · rw [pk_un e]; exact ht y (by omega)
theorem zw_swapsOf {post : Int32 → St1 → Prop} {u : St1} {C c : Nat} {P : Nat → Nat → Nat} {B : Nat → Nat} (h : zk C P B u) (hc : c < 5) (H : ∀ r u', zk C P B u' → zz_a B c r → post r u') : wpX_swapsOf post u (nI c) := by
  obtain ⟨f0, f1, f2, a1, a2, a3, a4, a5, a6, a7, a8, a9, a10, a11, a12, a13, a14, a15, a16, a17⟩ := u
  have hC : C ≤ 9 := h.1
  have hf : f0 = nI C := h.2.1
  have hP : zk_P C P := h.2.2.2.2.2.2.2.1
  have hB : zk_B P B := h.2.2.2.2.2.2.2.2
  subst hf
  unfold wpX_swapsOf
  refine pk_eq C 0 (fun z => H (-1002) _ h ⟨fun q => ?_, fun _ => Or.inl rfl⟩) (fun z => zw_findLacking h hc (fun st s14 s15 st1 st2 ho => ?_))
  · have := zk_L0 hC hP hB q
    omega
  · have hk : zk C P B (nI C, f1, f2, a1, a2, a3, a4, a5, a6, a7, a8, a9, a10, a11, a12, a13, s14, s15, a16, a17) := zk_i (zk_e h)
    exact zw_sw19 hk hc st1 st2 ho H
end
section
/-! rules 15 and 16, and all rules -/
theorem zw_fewest {post : Int32 → St1 → Prop} {u : St1} {C rule : Nat} {P : Nat → Nat → Nat} {B : Nat → Nat} (h : zk C P B u) (hr : rule < 17) (H : ∀ s u', zk C P B u' → 1 ≤ s → s < 32 → (∀ L, zl_L B L → s = 2 ^ L) → post (nI s) u') : wpX_fewest post u (nI rule) := by
  have hA : zk_A B := zk_BA h.2.2.2.2.2.2.2.2
  have h' := h
  obtain ⟨f0, f1, f2, a1, a2, a3, a4, a5, a6, a7, a8, a9, a10, a11, a12, a13, a14, a15, a16, a17⟩ := u
  refine pk_loop (σ := Nat × Nat × St1) (fun n i q => wX_fewest_9 post (nI rule) n (nI q.1) (nI q.2.1) (nI i) q.2.2.1 q.2.2.2.1 q.2.2.2.2.1 q.2.2.2.2.2.1 q.2.2.2.2.2.2.1 q.2.2.2.2.2.2.2.1 q.2.2.2.2.2.2.2.2.1 q.2.2.2.2.2.2.2.2.2.1 q.2.2.2.2.2.2.2.2.2.2.1 q.2.2.2.2.2.2.2.2.2.2.2.1 q.2.2.2.2.2.2.2.2.2.2.2.2.1 q.2.2.2.2.2.2.2.2.2.2.2.2.2.1 q.2.2.2.2.2.2.2.2.2.2.2.2.2.2.1 q.2.2.2.2.2.2.2.2.2.2.2.2.2.2.2.1 q.2.2.2.2.2.2.2.2.2.2.2.2.2.2.2.2.1 q.2.2.2.2.2.2.2.2.2.2.2.2.2.2.2.2.2.1 q.2.2.2.2.2.2.2.2.2.2.2.2.2.2.2.2.2.2.1 q.2.2.2.2.2.2.2.2.2.2.2.2.2.2.2.2.2.2.2.1 q.2.2.2.2.2.2.2.2.2.2.2.2.2.2.2.2.2.2.2.2.1 q.2.2.2.2.2.2.2.2.2.2.2.2.2.2.2.2.2.2.2.2.2) (fun i q => q.1 < 32 ∧ q.2.1 ≤ 1000 ∧ zk C P B q.2.2 ∧ ∀ L, zl_L B L → ((i ≤ L → 1 ≤ q.2.1) ∧ (L < i → q.1 = 2 ^ L ∧ q.2.1 = 0))) 5 0 (0, 1000, (f0, f1, f2, a1, a2, a3, a4, a5, a6, a7, a8, a9, a10, a11, a12, a13, a14, a15, a16, a17)) (by omega) ⟨?_, ?_, h', ?_⟩ ?_ ?_
  · show (0 : Nat) < 32; omega
  · show (1000 : Nat) ≤ 1000; omega
  · intro L hL
    refine ⟨fun _ => ?_, fun z => absurd z (by omega)⟩
    show 1 ≤ 1000
    omega
  · clear h h'
    rintro n ⟨s, l, ⟨f0, f1, f2, a1, a2, a3, a4, a5, a6, a7, a8, a9, a10, a11, a12, a13, a14, a15, a16, a17⟩⟩ ⟨q1, q2, q3, q4⟩
    have q1' : s < 32 := q1
    have q4' : ∀ L, zl_L B L → s = 2 ^ L := fun L hL => ((q4 L hL).2 hL.1).1
    refine pk_le 5 5 (fun _ => pk_eq s 0 (fun z => H 31 (f0, f1, f2, a1, a2, a3, a4, a5, a6, a7, a8, a9, a10, a11, a12, a13, a14, a15, a16, a17) q3 (by omega) (by omega) (fun L hL => ?_)) (fun z => H s (f0, f1, f2, a1, a2, a3, a4, a5, a6, a7, a8, a9, a10, a11, a12, a13, a14, a15, a16, a17) q3 (by omega) q1' q4')) (fun z => absurd z (by omega))
    have := q4' L hL
    have := Nat.two_pow_pos L
    omega
  · clear h h'
    rintro n i ⟨s, l, ⟨f0, f1, f2, a1, a2, a3, a4, a5, a6, a7, a8, a9, a10, a11, a12, a13, a14, a15, a16, a17⟩⟩ hi ⟨q1, q2, q3, q4⟩ hw
    have q1' : s < 32 := q1
    have q2' : l ≤ 1000 := q2
    have q4' : ∀ L, zl_L B L → ((i ≤ L → 1 ≤ l) ∧ (L < i → s = 2 ^ L ∧ l = 0)) := q4
    have fin : ∀ (r : Int32) (u' : St1), zk C P B u' → zz_a B i r → wX_fewest_36 post (wX_fewest_9 post (nI rule) n) (nI rule) (nI s) (nI l) (nI i) r u'.1 u'.2.1 u'.2.2.1 u'.2.2.2.1 u'.2.2.2.2.1 u'.2.2.2.2.2.1 u'.2.2.2.2.2.2.1 u'.2.2.2.2.2.2.2.1 u'.2.2.2.2.2.2.2.2.1 u'.2.2.2.2.2.2.2.2.2.1 u'.2.2.2.2.2.2.2.2.2.2.1 u'.2.2.2.2.2.2.2.2.2.2.2.1 u'.2.2.2.2.2.2.2.2.2.2.2.2.1 u'.2.2.2.2.2.2.2.2.2.2.2.2.2.1 u'.2.2.2.2.2.2.2.2.2.2.2.2.2.2.1 u'.2.2.2.2.2.2.2.2.2.2.2.2.2.2.2.1 u'.2.2.2.2.2.2.2.2.2.2.2.2.2.2.2.2.1 u'.2.2.2.2.2.2.2.2.2.2.2.2.2.2.2.2.2.1 u'.2.2.2.2.2.2.2.2.2.2.2.2.2.2.2.2.2.2.1 u'.2.2.2.2.2.2.2.2.2.2.2.2.2.2.2.2.2.2.2 := by
      intro r u' hk ha
      by_cases hL : zl_L B i
      · have e := ha.1 hL
        subst e
        have l1 := (q4' i hL).1 (Nat.le_refl i)
        refine br_t (by decide) (pk_le l 0 (fun z => absurd z (by omega)) (fun _ => pk_lt l 0 (fun z => absurd z (by omega)) (fun _ => nm_r (zb_set (s := 0) (c := i) rfl rfl (by omega)) (nm_r (nI_1 i) (hw (0 ||| 2 ^ i, 0, u') ⟨zb_orlt (by omega) hi, Nat.zero_le _, hk, fun L hLL => ?_⟩)))))
        have e := zl_one hA hLL hL
        refine ⟨fun z => absurd z (by omega), fun _ => ⟨?_, rfl⟩⟩
        show 0 ||| 2 ^ i = 2 ^ L
        rw [Nat.zero_or, e]
      · have ne : ∀ L, zl_L B L → L ≠ i := fun L hLL e => hL (e ▸ hLL)
        have skip : wX_fewest_9 post (nI rule) n (nI s) (nI l) (nI (i + 1)) u'.1 u'.2.1 u'.2.2.1 u'.2.2.2.1 u'.2.2.2.2.1 u'.2.2.2.2.2.1 u'.2.2.2.2.2.2.1 u'.2.2.2.2.2.2.2.1 u'.2.2.2.2.2.2.2.2.1 u'.2.2.2.2.2.2.2.2.2.1 u'.2.2.2.2.2.2.2.2.2.2.1 u'.2.2.2.2.2.2.2.2.2.2.2.1 u'.2.2.2.2.2.2.2.2.2.2.2.2.1 u'.2.2.2.2.2.2.2.2.2.2.2.2.2.1 u'.2.2.2.2.2.2.2.2.2.2.2.2.2.2.1 u'.2.2.2.2.2.2.2.2.2.2.2.2.2.2.2.1 u'.2.2.2.2.2.2.2.2.2.2.2.2.2.2.2.2.1 u'.2.2.2.2.2.2.2.2.2.2.2.2.2.2.2.2.2.1 u'.2.2.2.2.2.2.2.2.2.2.2.2.2.2.2.2.2.2.1 u'.2.2.2.2.2.2.2.2.2.2.2.2.2.2.2.2.2.2.2 := by
          refine hw (s, l, u') ⟨q1', q2', hk, fun L hLL => ⟨fun z => (q4' L hLL).1 (by omega), fun z => (q4' L hLL).2 ?_⟩⟩
          have := ne L hLL
          omega
        rcases ha.2 hL with e | ⟨v, v1, v2, e⟩
        · subst e
          exact br_f (by decide) (nm_r (nI_1 i) skip)
        · subst e
          have put : ∀ s', s' < 32 → v ≤ l → wX_fewest_9 post (nI rule) n (nI (s' ||| 2 ^ i)) (nI v) (nI (i + 1)) u'.1 u'.2.1 u'.2.2.1 u'.2.2.2.1 u'.2.2.2.2.1 u'.2.2.2.2.2.1 u'.2.2.2.2.2.2.1 u'.2.2.2.2.2.2.2.1 u'.2.2.2.2.2.2.2.2.1 u'.2.2.2.2.2.2.2.2.2.1 u'.2.2.2.2.2.2.2.2.2.2.1 u'.2.2.2.2.2.2.2.2.2.2.2.1 u'.2.2.2.2.2.2.2.2.2.2.2.2.1 u'.2.2.2.2.2.2.2.2.2.2.2.2.2.1 u'.2.2.2.2.2.2.2.2.2.2.2.2.2.2.1 u'.2.2.2.2.2.2.2.2.2.2.2.2.2.2.2.1 u'.2.2.2.2.2.2.2.2.2.2.2.2.2.2.2.2.1 u'.2.2.2.2.2.2.2.2.2.2.2.2.2.2.2.2.2.1 u'.2.2.2.2.2.2.2.2.2.2.2.2.2.2.2.2.2.2.1 u'.2.2.2.2.2.2.2.2.2.2.2.2.2.2.2.2.2.2.2 := by
            intro s' hs' hvl
            refine hw (s' ||| 2 ^ i, v, u') ⟨zb_orlt hs' hi, show v ≤ 1000 by omega, hk, fun L hLL => ⟨fun _ => v1, fun z => ?_⟩⟩
            have n1 := ne L hLL
            have := ((q4' L hLL).2 (by omega)).2
            omega
          exact br_t (nI_pos' (by omega)) (pk_le l v (fun le => pk_lt l v (fun lt => nm_r (nI_1 i) skip) (fun ge => nm_r (zb_set (s := s) (c := i) rfl rfl (by omega)) (nm_r (nI_1 i) (put s q1' (by omega))))) (fun gt => pk_lt l v (fun z => absurd z (by omega)) (fun _ => nm_r (zb_set (s := 0) (c := i) rfl rfl (by omega)) (nm_r (nI_1 i) (put 0 (by omega) (by omega))))))
    refine pk_le 5 i (fun z => absurd z (by omega)) (fun _ => pk_eq rule 15 (fun _ => zw_swapsOf q3 hi (fun r u' hk ha => ?_)) (fun _ => zw_removalsOf q3 hi (fun r ha => fin r (f0, f1, f2, a1, a2, a3, a4, a5, a6, a7, a8, a9, a10, a11, a12, a13, a14, a15, a16, a17) q3 ha)))
    have f := fin r u' hk ha
    obtain ⟨f0, f1, f2, a1, a2, a3, a4, a5, a6, a7, a8, a9, a10, a11, a12, a13, a14, a15, a16, a17⟩ := u'
    exact f
theorem zw_swaps {post : Int32 → St1 → Prop} {u : St1} {C c : Nat} {P : Nat → Nat → Nat} {B : Nat → Nat} (h : zk C P B u) (hc : c < 5) (H : ∀ r u', zk C P B u' → zz_a B c r → post r u') : wpX_swaps post u (nI c) := by
  obtain ⟨f0, f1, f2, a1, a2, a3, a4, a5, a6, a7, a8, a9, a10, a11, a12, a13, a14, a15, a16, a17⟩ := u
  unfold wpX_swaps
  refine zw_candb hc (zw_count1 h ?_)
  refine zw_swapsOf h hc (fun r u' hk ha => ?_)
  have f := H r u' hk ha
  obtain ⟨f0, f1, f2, a1, a2, a3, a4, a5, a6, a7, a8, a9, a10, a11, a12, a13, a14, a15, a16, a17⟩ := u'
  exact f
theorem zw_removals {post : Int32 → St1 → Prop} {u : St1} {C c : Nat} {P : Nat → Nat → Nat} {B : Nat → Nat} (h : zk C P B u) (hc : c < 5) (H : ∀ r, zz_a B c r → post r u) : wpX_removals post u (nI c) := by
  obtain ⟨f0, f1, f2, a1, a2, a3, a4, a5, a6, a7, a8, a9, a10, a11, a12, a13, a14, a15, a16, a17⟩ := u
  unfold wpX_removals
  refine zw_candb hc (zw_count1 h ?_)
  exact zw_removalsOf h hc (fun r ha => H r ha)
/-- what winners answers -/
def zl_G (B : Nat → Nat) (rule s : Nat) : Prop := 1 ≤ s ∧ s < 32 ∧ ((3 ≤ rule ∧ rule ≠ 5 ∧ rule ≠ 6 ∧ rule ≠ 7 ∧ rule ≠ 8) → ∀ L, zl_L B L → s = 2 ^ L) ∧ ((rule = 9 ∨ rule = 10 ∨ rule = 13 ∨ rule = 14) → ∀ S, zl_D B S → ∀ c, c < 5 → s.testBit c = true → S.testBit c = true) ∧ (rule = 11 → zl_D B s)
theorem zl_Gin {B : Nat → Nat} {rule s : Nat} (hA : zk_A B) (h : zl_in B s) (hr : rule ≠ 11) : zl_G B rule s := ⟨h.1, h.2.1, fun _ _ hL => zl_inL hA h hL, fun _ => h.2.2, fun z => absurd z hr⟩
theorem zl_Gn {B : Nat → Nat} {rule s : Nat} (h1 : 1 ≤ s) (h2 : s < 32) (h : (3 ≤ rule ∧ rule ≠ 5 ∧ rule ≠ 6 ∧ rule ≠ 7 ∧ rule ≠ 8) → ∀ L, zl_L B L → s = 2 ^ L) (hr : rule ≠ 9 ∧ rule ≠ 10 ∧ rule ≠ 11 ∧ rule ≠ 13 ∧ rule ≠ 14) : zl_G B rule s := ⟨h1, h2, h, fun z => absurd z (by omega), fun z => absurd z (by omega)⟩
theorem zw_winnersBy {post : Int32 → St1 → Prop} {u : St1} {C rule : Nat} {P : Nat → Nat → Nat} {B : Nat → Nat} (h : zk C P B u) (hr : rule < 17) (H : ∀ s u', zk C P B u' → zl_G B rule s → post (nI s) u') : wpX_winnersBy post u (nI rule) := by
  have hA : zk_A B := zk_BA h.2.2.2.2.2.2.2.2
  obtain ⟨f0, f1, f2, a1, a2, a3, a4, a5, a6, a7, a8, a9, a10, a11, a12, a13, a14, a15, a16, a17⟩ := u
  unfold wpX_winnersBy
  refine zw_count1 h ?_
  refine pk_le 6 rule (fun g6 => pk_le 9 rule (fun g9 => pk_eq rule 9 (fun e => zw_byStrength h (fun s u' hk hs => ?_)) (fun n9 => pk_eq rule 10 (fun e => zw_byCouples h (fun s u' hk hs => ?_)) (fun n10 => pk_eq rule 11 (fun e => zw_smallestSet h (fun s hD hL => H s _ h ⟨hD.2.1, hD.1, fun _ => hL, fun z => absurd z (by omega), fun _ => hD⟩)) (fun n11 => pk_eq rule 12 (fun e => zw_unreturned h (fun s u' hk h1 h2 hL => ?_)) (fun n12 => pk_eq rule 13 (fun e => zw_uncovered h (fun s hs => H s _ h (zl_Gin hA hs (by omega)))) (fun n13 => pk_eq rule 14 (fun e => zw_chainFronts h (fun s hs => H s _ h (zl_Gin hA hs (by omega)))) (fun n14 => zw_fewest h hr (fun s u' hk h1 h2 hL => ?_)))))))) (fun l9 => zw_byElimination h hr (fun s u' hk h1 h2 => ?_))) (fun l6 => zw_greatestScores h l6 (fun s u' hk h1 h2 hL => ?_))
  · have f := H s u' hk (zl_Gin hA hs (by omega))
    obtain ⟨f0, f1, f2, a1, a2, a3, a4, a5, a6, a7, a8, a9, a10, a11, a12, a13, a14, a15, a16, a17⟩ := u'
    exact f
  · have f := H s u' hk (zl_Gin hA hs (by omega))
    obtain ⟨f0, f1, f2, a1, a2, a3, a4, a5, a6, a7, a8, a9, a10, a11, a12, a13, a14, a15, a16, a17⟩ := u'
    exact f
  · have f := H s u' hk (zl_Gn h1 h2 (fun _ => hL) (by omega))
    obtain ⟨f0, f1, f2, a1, a2, a3, a4, a5, a6, a7, a8, a9, a10, a11, a12, a13, a14, a15, a16, a17⟩ := u'
    exact f
  · have f := H s u' hk (zl_Gn h1 h2 (fun _ => hL) (by omega))
    obtain ⟨f0, f1, f2, a1, a2, a3, a4, a5, a6, a7, a8, a9, a10, a11, a12, a13, a14, a15, a16, a17⟩ := u'
    exact f
  · have f := H s u' hk (zl_Gn h1 h2 (fun z => absurd z (by omega)) (by omega))
    obtain ⟨f0, f1, f2, a1, a2, a3, a4, a5, a6, a7, a8, a9, a10, a11, a12, a13, a14, a15, a16, a17⟩ := u'
    exact f
  · have f := H s u' hk (zl_Gn h1 h2 (fun z => hL (by omega)) (by omega))
    obtain ⟨f0, f1, f2, a1, a2, a3, a4, a5, a6, a7, a8, a9, a10, a11, a12, a13, a14, a15, a16, a17⟩ := u'
    exact f
theorem zw_winners {post : Int32 → St1 → Prop} {u : St1} {C rule : Nat} {P : Nat → Nat → Nat} {B : Nat → Nat} {p : Int32} (h : zk C P B u) (hp : p = nI rule) (hr : rule < 17) (H : ∀ s u', zk C P B u' → zl_G B rule s → post (nI s) u') : wpX_winners post u p := by
  subst hp
  obtain ⟨f0, f1, f2, a1, a2, a3, a4, a5, a6, a7, a8, a9, a10, a11, a12, a13, a14, a15, a16, a17⟩ := u
  refine br_f (nI_pos (by omega)) (br_t (nI_le (b := 16) (by omega) (by omega)) (zw_winnersBy h hr (fun s u' hk hs => ?_)))
  have f := H s u' hk hs
  obtain ⟨f0, f1, f2, a1, a2, a3, a4, a5, a6, a7, a8, a9, a10, a11, a12, a13, a14, a15, a16, a17⟩ := u'
  exact f
end
section
/-! the law -/
theorem zw_leader0 {post : Int32 → St1 → Prop} {u : St1} {C : Nat} (h : zs C u) (H : ∀ P B u' r, zk C P B u' → ((r = -1002 ∧ ∀ c, ¬ zl_L B c) ∨ ∃ c, r = nI c ∧ zl_L B c) → post r u') : wpX_leader post u := by
  obtain ⟨f0, f1, f2, a1, a2, a3, a4, a5, a6, a7, a8, a9, a10, a11, a12, a13, a14, a15, a16, a17⟩ := u
  unfold wpX_leader
  refine zw_count0 h ?_
  clear h
  rintro P B ⟨f0, f1, f2, a1, a2, a3, a4, a5, a6, a7, a8, a9, a10, a11, a12, a13, a14, a15, a16, a17⟩ h
  have hA := zk_BA h.2.2.2.2.2.2.2.2
  refine pk_loop (σ := Unit) (fun n i _ => wX_leader_6 post f0 f1 f2 a1 a2 a3 a4 a5 a6 a7 a8 a9 a10 a11 a12 a13 a14 a15 a16 a17 n (nI i)) (fun i _ => ∀ c, c < i → ¬ zl_L B c) 5 0 () (by omega) (fun c hc => absurd hc (by omega)) ?_ ?_
  · intro n _ hs
    exact pk_le 5 5 (fun _ => H P B (f0, f1, f2, a1, a2, a3, a4, a5, a6, a7, a8, a9, a10, a11, a12, a13, a14, a15, a16, a17) (-1002) h (Or.inl ⟨rfl, fun c hc => hs c hc.1 hc⟩)) (fun z => absurd z (by omega))
  · intro n i _ hi hs hw
    have e5 := h.2.2.2.2.2.2.1 i hi
    have hB := hA.1 i hi
    have ho := zb_orlt hB hi
    refine pk_le 5 i (fun z => absurd z (by omega)) (fun _ => ⟨pk_in i 5 hi, ?_⟩)
    refine pk_eq (B i ||| 2 ^ i) 31 (fun z => H P B (f0, f1, f2, a1, a2, a3, a4, a5, a6, a7, a8, a9, a10, a11, a12, a13, a14, a15, a16, a17) (nI i) h (Or.inr ⟨i, rfl, (zl_31 hA hi).mp z⟩)) (fun z => nm_r (nI_1 i) (hw () (fun c hc => ?_))) (zb_set (s := B i) (c := i) ((zb_rd rfl (by omega)).trans e5) rfl (by omega))
    by_cases e : c = i
    · rw [e]; exact fun q => z ((zl_31 hA hi).mpr q)
    · exact hs c (by omega)
theorem zw_l271 {post : Int32 → Prop} {L : Nat} {xs : Nat → Int32} {J12 : Int32 → Int32 → Int32 → Int32 → Int32 → (Nat → Int32) → (Nat → Int32) → (Nat → Int32) → (Nat → Int32) → (Nat → Int32) → (Nat → Int32) → (Nat → Int32) → (Nat → Int32) → (Nat → Int32) → (Nat → Int32) → (Nat → Int32) → (Nat → Int32) → (Nat → Int32) → (Nat → Int32) → (Nat → Int32) → (Nat → Int32) → (Nat → Int32) → Prop} {J154 : Int32 → Int32 → Int32 → Int32 → (Nat → Int32) → (Nat → Int32) → (Nat → Int32) → (Nat → Int32) → (Nat → Int32) → (Nat → Int32) → (Nat → Int32) → (Nat → Int32) → (Nat → Int32) → (Nat → Int32) → (Nat → Int32) → (Nat → Int32) → (Nat → Int32) → (Nat → Int32) → (Nat → Int32) → (Nat → Int32) → (Nat → Int32) → Prop} {x2 x3 x5 : Int32} {kc ks rule s m : Nat} {f0 f1 f2 : Int32} {a1 a2 a3 a4 a5 a6 a7 a8 a9 a10 a11 a12 a13 a14 a15 a16 a17 : Nat → Int32} (hs : s < 32) (hm : m < 32) (h : ∀ c, c < 5 → s.testBit c = true → m.testBit c = true) (hJ : J154 (nI (rule + 1)) f0 f1 f2 a1 a2 a3 a4 a5 a6 a7 a8 a9 a10 a11 a12 a13 a14 a15 a16 a17) : wL_law_271 post L xs J12 J154 x2 x3 x5 (nI m) (nI rule) (nI s) kc ks f0 f1 f2 a1 a2 a3 a4 a5 a6 a7 a8 a9 a10 a11 a12 a13 a14 a15 a16 a17 :=
  br_t ((zb_not s m).trans (by rw [(zb_sub s hs m hm).mpr h]; rfl)) (nm_r (nI_1 rule) hJ)
theorem zw_l243 {post : Int32 → Prop} {L : Nat} {xs : Nat → Int32} {J12 : Int32 → Int32 → Int32 → Int32 → Int32 → (Nat → Int32) → (Nat → Int32) → (Nat → Int32) → (Nat → Int32) → (Nat → Int32) → (Nat → Int32) → (Nat → Int32) → (Nat → Int32) → (Nat → Int32) → (Nat → Int32) → (Nat → Int32) → (Nat → Int32) → (Nat → Int32) → (Nat → Int32) → (Nat → Int32) → (Nat → Int32) → (Nat → Int32) → Prop} {J154 : Int32 → Int32 → Int32 → Int32 → (Nat → Int32) → (Nat → Int32) → (Nat → Int32) → (Nat → Int32) → (Nat → Int32) → (Nat → Int32) → (Nat → Int32) → (Nat → Int32) → (Nat → Int32) → (Nat → Int32) → (Nat → Int32) → (Nat → Int32) → (Nat → Int32) → (Nat → Int32) → (Nat → Int32) → (Nat → Int32) → (Nat → Int32) → Prop} {x2 x3 x5 : Int32} {kc ks rule s m : Nat} {B : Nat → Nat} {f0 f1 f2 : Int32} {a1 a2 a3 a4 a5 a6 a7 a8 a9 a10 a11 a12 a13 a14 a15 a16 a17 : Nat → Int32} (hr : rule < 17) (hG : zl_G B rule s) (hm : zl_D B m) (hJ : J154 (nI (rule + 1)) f0 f1 f2 a1 a2 a3 a4 a5 a6 a7 a8 a9 a10 a11 a12 a13 a14 a15 a16 a17) : wL_law_243 post L xs J12 J154 x2 x3 x5 (nI m) (nI rule) (nI s) kc ks f0 f1 f2 a1 a2 a3 a4 a5 a6 a7 a8 a9 a10 a11 a12 a13 a14 a15 a16 a17 :=
  pk_eq rule 9 (fun e => zw_l271 hG.2.1 hm.1 (hG.2.2.2.1 (by omega) m hm) hJ) (fun _ => pk_eq rule 10 (fun e => zw_l271 hG.2.1 hm.1 (hG.2.2.2.1 (by omega) m hm) hJ) (fun _ => pk_eq rule 13 (fun e => zw_l271 hG.2.1 hm.1 (hG.2.2.2.1 (by omega) m hm) hJ) (fun _ => pk_eq rule 14 (fun e => zw_l271 hG.2.1 hm.1 (hG.2.2.2.1 (by omega) m hm) hJ) (fun _ => nm_r (nI_1 rule) hJ))))
theorem zw_l207 {post : Int32 → Prop} {L : Nat} {xs : Nat → Int32} {J12 : Int32 → Int32 → Int32 → Int32 → Int32 → (Nat → Int32) → (Nat → Int32) → (Nat → Int32) → (Nat → Int32) → (Nat → Int32) → (Nat → Int32) → (Nat → Int32) → (Nat → Int32) → (Nat → Int32) → (Nat → Int32) → (Nat → Int32) → (Nat → Int32) → (Nat → Int32) → (Nat → Int32) → (Nat → Int32) → (Nat → Int32) → (Nat → Int32) → Prop} {J154 : Int32 → Int32 → Int32 → Int32 → (Nat → Int32) → (Nat → Int32) → (Nat → Int32) → (Nat → Int32) → (Nat → Int32) → (Nat → Int32) → (Nat → Int32) → (Nat → Int32) → (Nat → Int32) → (Nat → Int32) → (Nat → Int32) → (Nat → Int32) → (Nat → Int32) → (Nat → Int32) → (Nat → Int32) → (Nat → Int32) → (Nat → Int32) → Prop} {x2 x3 x5 z0 : Int32} {kc ks rule s m : Nat} {B : Nat → Nat} {f0 f1 f2 : Int32} {a1 a2 a3 a4 a5 a6 a7 a8 a9 a10 a11 a12 a13 a14 a15 a16 a17 : Nat → Int32} (hr : rule < 17) (hG : zl_G B rule s) (hm : zl_D B m) (h5 : (x5 = -1002 ∧ ∀ c, ¬ zl_L B c) ∨ ∃ c, x5 = nI c ∧ zl_L B c) (hz : z0 = 0 ∨ (3 ≤ rule ∧ rule ≠ 5 ∧ rule ≠ 6 ∧ rule ≠ 7 ∧ rule ≠ 8)) (hJ : J154 (nI (rule + 1)) f0 f1 f2 a1 a2 a3 a4 a5 a6 a7 a8 a9 a10 a11 a12 a13 a14 a15 a16 a17) : wL_law_207 post L xs J12 J154 x2 x3 x5 (nI m) (nI rule) (nI s) z0 kc ks f0 f1 f2 a1 a2 a3 a4 a5 a6 a7 a8 a9 a10 a11 a12 a13 a14 a15 a16 a17 := by
  have h1 := hG.1
  have h2 := hG.2.1
  refine pk_lt s 1 (fun z => absurd z (by omega)) (fun _ => pk_lt 31 s (fun z => absurd z (by omega)) (fun _ => br_c (fun _ => zw_l243 hr hG hm hJ) (fun n5 => br_c (fun _ => zw_l243 hr hG hm hJ) (fun nz => br_t ?_ (zw_l243 hr hG hm hJ)))))
  rcases h5 with ⟨e, _⟩ | ⟨c, e, hL⟩
  · rw [e] at n5
    exact absurd (show (-1002 : Int32) < 0 by decide) n5
  · have c5 := hL.1
    rw [e, zb_1 c (by omega), hG.2.2.1 (hz.elim (fun q => absurd q nz) id) c hL]
theorem zw_l154 {L : Nat} {xs : Nat → Int32} {J12 : Int32 → Int32 → Int32 → Int32 → Int32 → (Nat → Int32) → (Nat → Int32) → (Nat → Int32) → (Nat → Int32) → (Nat → Int32) → (Nat → Int32) → (Nat → Int32) → (Nat → Int32) → (Nat → Int32) → (Nat → Int32) → (Nat → Int32) → (Nat → Int32) → (Nat → Int32) → (Nat → Int32) → (Nat → Int32) → (Nat → Int32) → (Nat → Int32) → Prop} {x5 : Int32} {kc ks C i m : Nat} {P : Nat → Nat → Nat} {B : Nat → Nat} {f0 f1 f2 : Int32} {a1 a2 a3 a4 a5 a6 a7 a8 a9 a10 a11 a12 a13 a14 a15 a16 a17 : Nat → Int32} (h : zk C P B (f0, f1, f2, a1, a2, a3, a4, a5, a6, a7, a8, a9, a10, a11, a12, a13, a14, a15, a16, a17)) (hm : zl_D B m) (h5 : (x5 = -1002 ∧ ∀ c, ¬ zl_L B c) ∨ ∃ c, x5 = nI c ∧ zl_L B c) (hJ : ∀ u', zs C u' → J12 (nI C) (nI (i + 2)) u'.1 u'.2.1 u'.2.2.1 u'.2.2.2.1 u'.2.2.2.2.1 u'.2.2.2.2.2.1 u'.2.2.2.2.2.2.1 u'.2.2.2.2.2.2.2.1 u'.2.2.2.2.2.2.2.2.1 u'.2.2.2.2.2.2.2.2.2.1 u'.2.2.2.2.2.2.2.2.2.2.1 u'.2.2.2.2.2.2.2.2.2.2.2.1 u'.2.2.2.2.2.2.2.2.2.2.2.2.1 u'.2.2.2.2.2.2.2.2.2.2.2.2.2.1 u'.2.2.2.2.2.2.2.2.2.2.2.2.2.2.1 u'.2.2.2.2.2.2.2.2.2.2.2.2.2.2.2.1 u'.2.2.2.2.2.2.2.2.2.2.2.2.2.2.2.2.1 u'.2.2.2.2.2.2.2.2.2.2.2.2.2.2.2.2.2.1 u'.2.2.2.2.2.2.2.2.2.2.2.2.2.2.2.2.2.2.1 u'.2.2.2.2.2.2.2.2.2.2.2.2.2.2.2.2.2.2.2) : ∃ n, wL_law_154 (fun r => r = 1) L xs J12 (nI C) (nI i) x5 (nI m) kc ks n 0 f0 f1 f2 a1 a2 a3 a4 a5 a6 a7 a8 a9 a10 a11 a12 a13 a14 a15 a16 a17 := by
  refine pk_loop (σ := St1) (fun n rule u => wL_law_154 (fun r => r = 1) L xs J12 (nI C) (nI i) x5 (nI m) kc ks n (nI rule) u.1 u.2.1 u.2.2.1 u.2.2.2.1 u.2.2.2.2.1 u.2.2.2.2.2.1 u.2.2.2.2.2.2.1 u.2.2.2.2.2.2.2.1 u.2.2.2.2.2.2.2.2.1 u.2.2.2.2.2.2.2.2.2.1 u.2.2.2.2.2.2.2.2.2.2.1 u.2.2.2.2.2.2.2.2.2.2.2.1 u.2.2.2.2.2.2.2.2.2.2.2.2.1 u.2.2.2.2.2.2.2.2.2.2.2.2.2.1 u.2.2.2.2.2.2.2.2.2.2.2.2.2.2.1 u.2.2.2.2.2.2.2.2.2.2.2.2.2.2.2.1 u.2.2.2.2.2.2.2.2.2.2.2.2.2.2.2.2.1 u.2.2.2.2.2.2.2.2.2.2.2.2.2.2.2.2.2.1 u.2.2.2.2.2.2.2.2.2.2.2.2.2.2.2.2.2.2.1 u.2.2.2.2.2.2.2.2.2.2.2.2.2.2.2.2.2.2.2) (fun _ u => zk C P B u) 17 0 (f0, f1, f2, a1, a2, a3, a4, a5, a6, a7, a8, a9, a10, a11, a12, a13, a14, a15, a16, a17) (by omega) h ?_ ?_
  · clear h
    rintro n ⟨f0, f1, f2, a1, a2, a3, a4, a5, a6, a7, a8, a9, a10, a11, a12, a13, a14, a15, a16, a17⟩ h
    refine pk_le 17 17 (fun _ => br_c (fun _ => nm_r (nI_add i 2) (hJ (f0, f1, f2, a1, a2, a3, a4, a5, a6, a7, a8, a9, a10, a11, a12, a13, a14, a15, a16, a17) (zk_s h))) (fun n5 => ?_)) (fun z => absurd z (by omega))
    rcases h5 with ⟨e, _⟩ | ⟨c, e, hL⟩
    · rw [e] at n5
      exact absurd (show (-1002 : Int32) < 0 by decide) n5
    · subst e
      refine zw_swaps h hL.1 (fun r u' hk ha => ?_)
      clear h
      obtain ⟨f0, f1, f2, a1, a2, a3, a4, a5, a6, a7, a8, a9, a10, a11, a12, a13, a14, a15, a16, a17⟩ := u'
      have e := ha.1 hL
      refine br_t e ?_
      refine zw_removals hk hL.1 (fun r2 ha2 => ?_)
      exact br_t (ha2.1 hL) (nm_r (nI_add i 2) (hJ (f0, f1, f2, a1, a2, a3, a4, a5, a6, a7, a8, a9, a10, a11, a12, a13, a14, a15, a16, a17) (zk_s hk)))
  · clear h
    rintro n rule ⟨f0, f1, f2, a1, a2, a3, a4, a5, a6, a7, a8, a9, a10, a11, a12, a13, a14, a15, a16, a17⟩ hr h hw
    refine pk_le 17 rule (fun z => absurd z (by omega)) (fun _ => zw_winners h rfl hr (fun s u' hk hG => ?_))
    clear h
    obtain ⟨f0, f1, f2, a1, a2, a3, a4, a5, a6, a7, a8, a9, a10, a11, a12, a13, a14, a15, a16, a17⟩ := u'
    have J : wL_law_154 (fun r => r = 1) L xs J12 (nI C) (nI i) x5 (nI m) kc ks n (nI (rule + 1)) f0 f1 f2 a1 a2 a3 a4 a5 a6 a7 a8 a9 a10 a11 a12 a13 a14 a15 a16 a17 := hw (f0, f1, f2, a1, a2, a3, a4, a5, a6, a7, a8, a9, a10, a11, a12, a13, a14, a15, a16, a17) hk
    exact pk_lt rule 3 (fun _ => zw_l207 hr hG hm h5 (Or.inl rfl) J) (fun g3 => pk_eq rule 5 (fun _ => zw_l207 hr hG hm h5 (Or.inl rfl) J) (fun n5 => pk_eq rule 6 (fun _ => zw_l207 hr hG hm h5 (Or.inl rfl) J) (fun n6 => pk_eq rule 7 (fun _ => zw_l207 hr hG hm h5 (Or.inl rfl) J) (fun n7 => pk_eq rule 8 (fun _ => zw_l207 hr hG hm h5 (Or.inl rfl) J) (fun n8 => zw_l207 hr hG hm h5 (Or.inr ⟨g3, n5, n6, n7, n8⟩) J)))))
theorem zw_l97 {L : Nat} {xs : Nat → Int32} {J12 : Int32 → Int32 → Int32 → Int32 → Int32 → (Nat → Int32) → (Nat → Int32) → (Nat → Int32) → (Nat → Int32) → (Nat → Int32) → (Nat → Int32) → (Nat → Int32) → (Nat → Int32) → (Nat → Int32) → (Nat → Int32) → (Nat → Int32) → (Nat → Int32) → (Nat → Int32) → (Nat → Int32) → (Nat → Int32) → (Nat → Int32) → (Nat → Int32) → Prop} {J88 : Int32 → Int32 → Int32 → Int32 → (Nat → Int32) → (Nat → Int32) → (Nat → Int32) → (Nat → Int32) → (Nat → Int32) → (Nat → Int32) → (Nat → Int32) → (Nat → Int32) → (Nat → Int32) → (Nat → Int32) → (Nat → Int32) → (Nat → Int32) → (Nat → Int32) → (Nat → Int32) → (Nat → Int32) → (Nat → Int32) → (Nat → Int32) → Prop} {x2 x3 : Int32} {kc ks C a : Nat} {f0 f1 f2 : Int32} {a1 a2 a3 a4 a5 a6 a7 a8 a9 a10 a11 a12 a13 a14 a15 a16 a17 : Nat → Int32} (h : zs C (f0, f1, f2, a1, a2, a3, a4, a5, a6, a7, a8, a9, a10, a11, a12, a13, a14, a15, a16, a17)) (ha : a < 5) (hJ : ∀ u', zs C u' → J88 (nI (a + 1)) u'.1 u'.2.1 u'.2.2.1 u'.2.2.2.1 u'.2.2.2.2.1 u'.2.2.2.2.2.1 u'.2.2.2.2.2.2.1 u'.2.2.2.2.2.2.2.1 u'.2.2.2.2.2.2.2.2.1 u'.2.2.2.2.2.2.2.2.2.1 u'.2.2.2.2.2.2.2.2.2.2.1 u'.2.2.2.2.2.2.2.2.2.2.2.1 u'.2.2.2.2.2.2.2.2.2.2.2.2.1 u'.2.2.2.2.2.2.2.2.2.2.2.2.2.1 u'.2.2.2.2.2.2.2.2.2.2.2.2.2.2.1 u'.2.2.2.2.2.2.2.2.2.2.2.2.2.2.2.1 u'.2.2.2.2.2.2.2.2.2.2.2.2.2.2.2.2.1 u'.2.2.2.2.2.2.2.2.2.2.2.2.2.2.2.2.2.1 u'.2.2.2.2.2.2.2.2.2.2.2.2.2.2.2.2.2.2.1 u'.2.2.2.2.2.2.2.2.2.2.2.2.2.2.2.2.2.2.2) : ∃ n, wL_law_97 (fun r => r = 1) L xs J12 J88 x2 x3 (nI a) kc ks n 0 f0 f1 f2 a1 a2 a3 a4 a5 a6 a7 a8 a9 a10 a11 a12 a13 a14 a15 a16 a17 := by
  refine pk_loop (σ := St1) (fun n b u => wL_law_97 (fun r => r = 1) L xs J12 J88 x2 x3 (nI a) kc ks n (nI b) u.1 u.2.1 u.2.2.1 u.2.2.2.1 u.2.2.2.2.1 u.2.2.2.2.2.1 u.2.2.2.2.2.2.1 u.2.2.2.2.2.2.2.1 u.2.2.2.2.2.2.2.2.1 u.2.2.2.2.2.2.2.2.2.1 u.2.2.2.2.2.2.2.2.2.2.1 u.2.2.2.2.2.2.2.2.2.2.2.1 u.2.2.2.2.2.2.2.2.2.2.2.2.1 u.2.2.2.2.2.2.2.2.2.2.2.2.2.1 u.2.2.2.2.2.2.2.2.2.2.2.2.2.2.1 u.2.2.2.2.2.2.2.2.2.2.2.2.2.2.2.1 u.2.2.2.2.2.2.2.2.2.2.2.2.2.2.2.2.1 u.2.2.2.2.2.2.2.2.2.2.2.2.2.2.2.2.2.1 u.2.2.2.2.2.2.2.2.2.2.2.2.2.2.2.2.2.2.1 u.2.2.2.2.2.2.2.2.2.2.2.2.2.2.2.2.2.2.2) (fun _ u => zs C u) 5 0 (f0, f1, f2, a1, a2, a3, a4, a5, a6, a7, a8, a9, a10, a11, a12, a13, a14, a15, a16, a17) (by omega) h ?_ ?_
  · clear h
    rintro n ⟨f0, f1, f2, a1, a2, a3, a4, a5, a6, a7, a8, a9, a10, a11, a12, a13, a14, a15, a16, a17⟩ h
    exact pk_le 5 5 (fun _ => nm_r (nI_1 a) (hJ (f0, f1, f2, a1, a2, a3, a4, a5, a6, a7, a8, a9, a10, a11, a12, a13, a14, a15, a16, a17) h)) (fun z => absurd z (by omega))
  · clear h
    rintro n b ⟨f0, f1, f2, a1, a2, a3, a4, a5, a6, a7, a8, a9, a10, a11, a12, a13, a14, a15, a16, a17⟩ hb h hw
    refine pk_le 5 b (fun z => absurd z (by omega)) (fun _ => zw_margin0 h ha hb (fun P B u' hk => ?_))
    clear h
    obtain ⟨f0, f1, f2, a1, a2, a3, a4, a5, a6, a7, a8, a9, a10, a11, a12, a13, a14, a15, a16, a17⟩ := u'
    have hC : C ≤ 9 := hk.1
    have hP : zk_P C P := hk.2.2.2.2.2.2.2.1
    have w1 := zk_w hC hP ha hb
    have w2 := zk_w hC hP hb ha
    refine zw_margin1 hk hb ha ?_
    exact br_t (zg_neg _ (by omega) _ (by omega)) (nm_r (nI_1 b) (hw (f0, f1, f2, a1, a2, a3, a4, a5, a6, a7, a8, a9, a10, a11, a12, a13, a14, a15, a16, a17) (zk_s hk)))
theorem zw_l88 {L : Nat} {xs : Nat → Int32} {J12 : Int32 → Int32 → Int32 → Int32 → Int32 → (Nat → Int32) → (Nat → Int32) → (Nat → Int32) → (Nat → Int32) → (Nat → Int32) → (Nat → Int32) → (Nat → Int32) → (Nat → Int32) → (Nat → Int32) → (Nat → Int32) → (Nat → Int32) → (Nat → Int32) → (Nat → Int32) → (Nat → Int32) → (Nat → Int32) → (Nat → Int32) → (Nat → Int32) → Prop} {kc ks C i : Nat} {f0 f1 f2 : Int32} {a1 a2 a3 a4 a5 a6 a7 a8 a9 a10 a11 a12 a13 a14 a15 a16 a17 : Nat → Int32} (h : zs C (f0, f1, f2, a1, a2, a3, a4, a5, a6, a7, a8, a9, a10, a11, a12, a13, a14, a15, a16, a17)) (hJ : ∀ u', zs C u' → J12 (nI C) (nI (i + 2)) u'.1 u'.2.1 u'.2.2.1 u'.2.2.2.1 u'.2.2.2.2.1 u'.2.2.2.2.2.1 u'.2.2.2.2.2.2.1 u'.2.2.2.2.2.2.2.1 u'.2.2.2.2.2.2.2.2.1 u'.2.2.2.2.2.2.2.2.2.1 u'.2.2.2.2.2.2.2.2.2.2.1 u'.2.2.2.2.2.2.2.2.2.2.2.1 u'.2.2.2.2.2.2.2.2.2.2.2.2.1 u'.2.2.2.2.2.2.2.2.2.2.2.2.2.1 u'.2.2.2.2.2.2.2.2.2.2.2.2.2.2.1 u'.2.2.2.2.2.2.2.2.2.2.2.2.2.2.2.1 u'.2.2.2.2.2.2.2.2.2.2.2.2.2.2.2.2.1 u'.2.2.2.2.2.2.2.2.2.2.2.2.2.2.2.2.2.1 u'.2.2.2.2.2.2.2.2.2.2.2.2.2.2.2.2.2.2.1 u'.2.2.2.2.2.2.2.2.2.2.2.2.2.2.2.2.2.2.2) : ∃ n, wL_law_88 (fun r => r = 1) L xs J12 (nI C) (nI i) kc ks n 0 f0 f1 f2 a1 a2 a3 a4 a5 a6 a7 a8 a9 a10 a11 a12 a13 a14 a15 a16 a17 := by
  refine pk_loop (σ := St1) (fun n a u => wL_law_88 (fun r => r = 1) L xs J12 (nI C) (nI i) kc ks n (nI a) u.1 u.2.1 u.2.2.1 u.2.2.2.1 u.2.2.2.2.1 u.2.2.2.2.2.1 u.2.2.2.2.2.2.1 u.2.2.2.2.2.2.2.1 u.2.2.2.2.2.2.2.2.1 u.2.2.2.2.2.2.2.2.2.1 u.2.2.2.2.2.2.2.2.2.2.1 u.2.2.2.2.2.2.2.2.2.2.2.1 u.2.2.2.2.2.2.2.2.2.2.2.2.1 u.2.2.2.2.2.2.2.2.2.2.2.2.2.1 u.2.2.2.2.2.2.2.2.2.2.2.2.2.2.1 u.2.2.2.2.2.2.2.2.2.2.2.2.2.2.2.1 u.2.2.2.2.2.2.2.2.2.2.2.2.2.2.2.2.1 u.2.2.2.2.2.2.2.2.2.2.2.2.2.2.2.2.2.1 u.2.2.2.2.2.2.2.2.2.2.2.2.2.2.2.2.2.2.1 u.2.2.2.2.2.2.2.2.2.2.2.2.2.2.2.2.2.2.2) (fun _ u => zs C u) 5 0 (f0, f1, f2, a1, a2, a3, a4, a5, a6, a7, a8, a9, a10, a11, a12, a13, a14, a15, a16, a17) (by omega) h ?_ ?_
  · clear h
    rintro n ⟨f0, f1, f2, a1, a2, a3, a4, a5, a6, a7, a8, a9, a10, a11, a12, a13, a14, a15, a16, a17⟩ h
    refine pk_le 5 5 (fun _ => zw_leader0 h (fun P B u' r hk h5 => ?_)) (fun z => absurd z (by omega))
    clear h
    obtain ⟨f0, f1, f2, a1, a2, a3, a4, a5, a6, a7, a8, a9, a10, a11, a12, a13, a14, a15, a16, a17⟩ := u'
    refine zw_winners (rule := 11) hk rfl (by omega) (fun s u' hk' hG => ?_)
    clear hk
    obtain ⟨f0, f1, f2, a1, a2, a3, a4, a5, a6, a7, a8, a9, a10, a11, a12, a13, a14, a15, a16, a17⟩ := u'
    exact zw_l154 hk' (hG.2.2.2.2 rfl) h5 hJ
  · clear h
    rintro n a ⟨f0, f1, f2, a1, a2, a3, a4, a5, a6, a7, a8, a9, a10, a11, a12, a13, a14, a15, a16, a17⟩ ha h hw
    exact pk_le 5 a (fun z => absurd z (by omega)) (fun _ => zw_l97 h ha (fun u' hu' => hw u' hu'))
theorem zw_l55 {L : Nat} {xs : Nat → Int32} {J12 : Int32 → Int32 → Int32 → Int32 → Int32 → (Nat → Int32) → (Nat → Int32) → (Nat → Int32) → (Nat → Int32) → (Nat → Int32) → (Nat → Int32) → (Nat → Int32) → (Nat → Int32) → (Nat → Int32) → (Nat → Int32) → (Nat → Int32) → (Nat → Int32) → (Nat → Int32) → (Nat → Int32) → (Nat → Int32) → (Nat → Int32) → (Nat → Int32) → Prop} {x4 : Int32} {kc ks C i : Nat} {f0 f1 f2 : Int32} {a1 a2 a3 a4 a5 a6 a7 a8 a9 a10 a11 a12 a13 a14 a15 a16 a17 : Nat → Int32} (h : zs C (f0, f1, f2, a1, a2, a3, a4, a5, a6, a7, a8, a9, a10, a11, a12, a13, a14, a15, a16, a17)) (hJ : ∀ C' u', zs C' u' → J12 (nI C') (nI (i + 2)) u'.1 u'.2.1 u'.2.2.1 u'.2.2.2.1 u'.2.2.2.2.1 u'.2.2.2.2.2.1 u'.2.2.2.2.2.2.1 u'.2.2.2.2.2.2.2.1 u'.2.2.2.2.2.2.2.2.1 u'.2.2.2.2.2.2.2.2.2.1 u'.2.2.2.2.2.2.2.2.2.2.1 u'.2.2.2.2.2.2.2.2.2.2.2.1 u'.2.2.2.2.2.2.2.2.2.2.2.2.1 u'.2.2.2.2.2.2.2.2.2.2.2.2.2.1 u'.2.2.2.2.2.2.2.2.2.2.2.2.2.2.1 u'.2.2.2.2.2.2.2.2.2.2.2.2.2.2.2.1 u'.2.2.2.2.2.2.2.2.2.2.2.2.2.2.2.2.1 u'.2.2.2.2.2.2.2.2.2.2.2.2.2.2.2.2.2.1 u'.2.2.2.2.2.2.2.2.2.2.2.2.2.2.2.2.2.2.1 u'.2.2.2.2.2.2.2.2.2.2.2.2.2.2.2.2.2.2.2) : wL_law_55 (fun r => r = 1) L xs J12 (nI C) (nI i) x4 kc ks f0 f1 f2 a1 a2 a3 a4 a5 a6 a7 a8 a9 a10 a11 a12 a13 a14 a15 a16 a17 := by
  have hC : C ≤ 9 := h.1
  refine ⟨by decide, zw_order (fun r => zw_ballot hC h.2.1 h.2.2.1 (fun r hr => br_t hr (zw_l88 h (hJ C))) (fun c9 b1 b2 hb => br_f (nI_nle (by omega) (by omega)) (zw_l88 ⟨by omega, rfl, hb, Or.inl rfl⟩ (hJ (C + 1)))))⟩
theorem zw_l12 {L : Nat} {xs : Nat → Int32} {kc ks : Nat} (hL : L ≤ 260) {u : St1} (h : zs 0 u) : ∃ n, wL_law_12 (fun r => r = 1) L xs kc ks n (nI 0) (nI 0) u.1 u.2.1 u.2.2.1 u.2.2.2.1 u.2.2.2.2.1 u.2.2.2.2.2.1 u.2.2.2.2.2.2.1 u.2.2.2.2.2.2.2.1 u.2.2.2.2.2.2.2.2.1 u.2.2.2.2.2.2.2.2.2.1 u.2.2.2.2.2.2.2.2.2.2.1 u.2.2.2.2.2.2.2.2.2.2.2.1 u.2.2.2.2.2.2.2.2.2.2.2.2.1 u.2.2.2.2.2.2.2.2.2.2.2.2.2.1 u.2.2.2.2.2.2.2.2.2.2.2.2.2.2.1 u.2.2.2.2.2.2.2.2.2.2.2.2.2.2.2.1 u.2.2.2.2.2.2.2.2.2.2.2.2.2.2.2.2.1 u.2.2.2.2.2.2.2.2.2.2.2.2.2.2.2.2.2.1 u.2.2.2.2.2.2.2.2.2.2.2.2.2.2.2.2.2.2.1 u.2.2.2.2.2.2.2.2.2.2.2.2.2.2.2.2.2.2.2 := by
  refine loop_m (σ := Nat × Nat × St1) (fun n q => wL_law_12 (fun r => r = 1) L xs kc ks n (nI q.1) (nI q.2.1) q.2.2.1 q.2.2.2.1 q.2.2.2.2.1 q.2.2.2.2.2.1 q.2.2.2.2.2.2.1 q.2.2.2.2.2.2.2.1 q.2.2.2.2.2.2.2.2.1 q.2.2.2.2.2.2.2.2.2.1 q.2.2.2.2.2.2.2.2.2.2.1 q.2.2.2.2.2.2.2.2.2.2.2.1 q.2.2.2.2.2.2.2.2.2.2.2.2.1 q.2.2.2.2.2.2.2.2.2.2.2.2.2.1 q.2.2.2.2.2.2.2.2.2.2.2.2.2.2.1 q.2.2.2.2.2.2.2.2.2.2.2.2.2.2.2.1 q.2.2.2.2.2.2.2.2.2.2.2.2.2.2.2.2.1 q.2.2.2.2.2.2.2.2.2.2.2.2.2.2.2.2.2.1 q.2.2.2.2.2.2.2.2.2.2.2.2.2.2.2.2.2.2.1 q.2.2.2.2.2.2.2.2.2.2.2.2.2.2.2.2.2.2.2.1 q.2.2.2.2.2.2.2.2.2.2.2.2.2.2.2.2.2.2.2.2.1 q.2.2.2.2.2.2.2.2.2.2.2.2.2.2.2.2.2.2.2.2.2) (fun q => q.2.1 ≤ L ∧ zs q.1 q.2.2) (fun q => L - q.2.1) ?_ (0, 0, u) ⟨Nat.zero_le _, h⟩
  clear h
  rintro n ⟨C, i, ⟨f0, f1, f2, a1, a2, a3, a4, a5, a6, a7, a8, a9, a10, a11, a12, a13, a14, a15, a16, a17⟩⟩ ⟨hi, h⟩ hw
  have hi' : i ≤ L := hi
  have h' : zs C (f0, f1, f2, a1, a2, a3, a4, a5, a6, a7, a8, a9, a10, a11, a12, a13, a14, a15, a16, a17) := h
  have hC : C ≤ 9 := h'.1
  have et : (nI L - nI 2).toInt = (L : Int) - 2 := pk_sub_toInt (by omega) (by omega)
  have ei : (nI i).toInt = (i : Int) := zi_n (by omega)
  refine br_c (fun _ => rfl) (fun nlt => ?_)
  have hlt : i + 2 ≤ L := by
    have : ¬ (nI L - nI 2) < nI i := nlt
    rw [Int32.lt_iff_toInt_lt, et, ei] at this
    omega
  have hJ : ∀ C' u', zs C' u' → wL_law_12 (fun r => r = 1) L xs kc ks n (nI C') (nI (i + 2)) u'.1 u'.2.1 u'.2.2.1 u'.2.2.2.1 u'.2.2.2.2.1 u'.2.2.2.2.2.1 u'.2.2.2.2.2.2.1 u'.2.2.2.2.2.2.2.1 u'.2.2.2.2.2.2.2.2.1 u'.2.2.2.2.2.2.2.2.2.1 u'.2.2.2.2.2.2.2.2.2.2.1 u'.2.2.2.2.2.2.2.2.2.2.2.1 u'.2.2.2.2.2.2.2.2.2.2.2.2.1 u'.2.2.2.2.2.2.2.2.2.2.2.2.2.1 u'.2.2.2.2.2.2.2.2.2.2.2.2.2.2.1 u'.2.2.2.2.2.2.2.2.2.2.2.2.2.2.2.1 u'.2.2.2.2.2.2.2.2.2.2.2.2.2.2.2.2.1 u'.2.2.2.2.2.2.2.2.2.2.2.2.2.2.2.2.2.1 u'.2.2.2.2.2.2.2.2.2.2.2.2.2.2.2.2.2.2.1 u'.2.2.2.2.2.2.2.2.2.2.2.2.2.2.2.2.2.2.2 := fun C' u' hu => hw (C', i + 2, u') ⟨hlt, hu⟩ (show L - (i + 2) < L - i by omega)
  refine ⟨pk_in (i + 1) L (by omega) (nI_1 i), nm_e ⟨pk_in i L (by omega), br_c (fun _ => pk_le C 0 (fun _ => zw_l55 h' hJ) (fun c0 => ⟨nI_ne0 c0 (by omega), ?_⟩)) (fun _ => zw_l55 h' hJ)⟩⟩
  obtain ⟨w, hw1, hw2⟩ := pk_andE (xs (nI i + 1).toNatClampNeg) (m := 255) 8 (by decide)
  have lt : w % C < C := Nat.mod_lt _ c0
  refine zw_drop (C := C) (i := w % C) hC h'.2.1 ?_ lt h'.2.2.1 (fun b1 b2 hb => zw_l88 ⟨by omega, rfl, hb, Or.inl rfl⟩ (hJ (C - 1)))
  rw [hw2]
  exact pk_rem (by omega) c0 (by omega)
end
section
theorem i_vc (xs : Nat → Int32) (L : Nat) (hL : L ≤ 260) : wpL_law (fun r => r = 1) L xs := by
  refine ⟨17, 4844, by omega, by omega, ?_⟩
  unfold wpX_init
  refine ⟨by decide, by decide, by decide, by decide, by decide, by decide, by decide, by decide, by decide, by decide, by decide, by decide, by decide, by decide, by decide, by decide, by decide, by decide, by decide, by decide, by decide, by decide, by decide, by decide, by decide, by decide, by decide, by decide, by decide, by decide, by decide, by decide, by decide, by decide, ?_⟩
  exact zw_l12 hL (u := (0, 0, 0, (fun _ => 0), (fun _ => 0), (fun _ => 0), (fun _ => 0), (fun _ => 0), (fun _ => 0), (fun _ => 0), (fun _ => 0), (fun _ => 0), (fun _ => 0), (fun _ => 0), (fun _ => 0), (fun _ => 0), (fun _ => 0), (fun _ => 0), (fun _ => 0), (fun _ => 0))) ⟨by omega, rfl, fun i hi => absurd hi (by omega), Or.inl rfl⟩
end
