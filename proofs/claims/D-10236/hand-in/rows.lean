section
/-! nI under and, xor, >>>, one bit (starting text of the kit: BITS.to-paste, family nx_) -/
theorem nx_and (a b : Nat) : nI a &&& nI b = nI (a &&& b) := by
  apply Int32.toBitVec_inj.1
  show BitVec.ofNat 32 a &&& BitVec.ofNat 32 b = BitVec.ofNat 32 (a &&& b)
  apply BitVec.eq_of_getLsbD_eq
  intro i hi
  simp [hi]
theorem nx_xor (a b : Nat) : nI a ^^^ nI b = nI (a ^^^ b) := by
  apply Int32.toBitVec_inj.1
  show BitVec.ofNat 32 a ^^^ BitVec.ofNat 32 b = BitVec.ofNat 32 (a ^^^ b)
  apply BitVec.eq_of_getLsbD_eq
  intro i hi
  simp [hi]
theorem nx_or (a b : Nat) : nI a ||| nI b = nI (a ||| b) := by
  apply Int32.toBitVec_inj.1
  show BitVec.ofNat 32 a ||| BitVec.ofNat 32 b = BitVec.ofNat 32 (a ||| b)
  apply BitVec.eq_of_getLsbD_eq
  intro i hi
  simp [hi]
theorem nx_cnt : ∀ j : Fin 32, (UInt32.ofNat j.val &&& Int32.toUInt32 31).toNat % 32 = j.val := by decide +kernel
theorem nx_ush {k j : Nat} (hk : k < 65536) (hj : j < 32) : ((nI k).toUInt32 >>> ((nI j).toUInt32 &&& Int32.toUInt32 31)).toInt32 = nI (k >>> j) := by
  have hs : k >>> j ≤ k := by
    rw [Nat.shiftRight_eq_div_pow]
    exact Nat.div_le_self _ _
  have e2 : UInt32.ofNat k >>> (UInt32.ofNat j &&& Int32.toUInt32 31) = UInt32.ofNat (k >>> j) := by
    apply UInt32.toNat_inj.1
    have h1 : (UInt32.ofNat k).toNat = k := Nat.mod_eq_of_lt (by omega)
    have h2 : (UInt32.ofNat (k >>> j)).toNat = k >>> j := Nat.mod_eq_of_lt (by omega)
    rw [UInt32.toNat_shiftRight, nx_cnt ⟨j, hj⟩, h1, h2]
  show (UInt32.ofNat k >>> (UInt32.ofNat j &&& Int32.toUInt32 31)).toInt32 = _
  rw [e2]
  rfl
theorem nx_bit {k j : Nat} (hk : k < 65536) (hj : j < 16) : (((nI k).toUInt32 >>> ((nI j).toUInt32 &&& Int32.toUInt32 31)).toInt32 &&& 1) = 0 ↔ k.testBit j = false := by
  rw [nx_ush hk (by omega)]
  show nI (k >>> j) &&& nI 1 = 0 ↔ _
  rw [nx_and, Nat.and_one_is_mod, ← nI_0, nI_eq (by omega) (by omega), Nat.testBit_eq_decide_div_mod_eq, Nat.shiftRight_eq_div_pow, decide_eq_false_iff_not]
  generalize k / 2 ^ j = z
  omega
/-! the pure picture: a simplex is a number below 32, held is h -/
def hc_ptn (s : Nat) : Nat → Nat
  | 0 => 0
  | n + 1 => hc_ptn s n + (s >>> n) % 2
def hc_pt (s : Nat) : Nat := hc_ptn s 5
theorem hc_ptn_le (s n : Nat) : hc_ptn s n ≤ n := by
  induction n with
  | zero => exact Nat.le_refl 0
  | succ n ih =>
    show hc_ptn s n + (s >>> n) % 2 ≤ n + 1
    have := Nat.mod_lt (s >>> n) (show 2 > 0 by omega)
    omega
theorem hc_pt_le (s : Nat) : hc_pt s ≤ 5 := hc_ptn_le s 5
theorem hc_pt_0 : hc_pt 0 = 0 := by decide +kernel
theorem hc_pt_pos : ∀ s, s < 32 → s ≠ 0 → hc_pt s ≠ 0 := by decide +kernel
/-- the held simplices of p points below n, in order; how many; the i-th -/
def hc_sl (h : Nat → Bool) (p n : Nat) : List Nat := (List.range n).filter (fun s => h s && hc_pt s == p)
def hc_cn (h : Nat → Bool) (p n : Nat) : Nat := (hc_sl h p n).length
def hc_sx (h : Nat → Bool) (p i : Nat) : Nat := (hc_sl h p 32).getD i 0
theorem hc_sl_t {h : Nat → Bool} {p n : Nat} (h1 : h n = true) (h2 : hc_pt n = p) : hc_sl h p (n + 1) = hc_sl h p n ++ [n] := by
  unfold hc_sl
  rw [List.range_succ, List.filter_append]
  simp [h1, h2]
theorem hc_sl_f {h : Nat → Bool} {p n : Nat} (h1 : ¬ (h n = true ∧ hc_pt n = p)) : hc_sl h p (n + 1) = hc_sl h p n := by
  have e : (h n && hc_pt n == p) = false := by
    cases hn : h n with
    | false => rfl
    | true =>
      have : hc_pt n ≠ p := fun e => h1 ⟨hn, e⟩
      simp [this]
  unfold hc_sl
  rw [List.range_succ, List.filter_append]
  simp [e]
theorem hc_cn_0 {h : Nat → Bool} {p : Nat} : hc_cn h p 0 = 0 := rfl
theorem hc_cn_t {h : Nat → Bool} {p n : Nat} (h1 : h n = true) (h2 : hc_pt n = p) : hc_cn h p (n + 1) = hc_cn h p n + 1 := by
  unfold hc_cn
  rw [hc_sl_t h1 h2, List.length_append]
  rfl
theorem hc_cn_f {h : Nat → Bool} {p n : Nat} (h1 : ¬ (h n = true ∧ hc_pt n = p)) : hc_cn h p (n + 1) = hc_cn h p n := by
  unfold hc_cn
  rw [hc_sl_f h1]
theorem hc_cn_1 {h : Nat → Bool} {p : Nat} (hp : 0 < p) : hc_cn h p 1 = 0 := by
  rw [show (1 : Nat) = 0 + 1 from rfl, hc_cn_f (fun z => by have := z.2; rw [hc_pt_0] at this; omega)]
  rfl
theorem hc_cn_up {h : Nat → Bool} {p n : Nat} : hc_cn h p n ≤ hc_cn h p (n + 1) := by
  by_cases c : h n = true ∧ hc_pt n = p
  · rw [hc_cn_t c.1 c.2]
    omega
  · rw [hc_cn_f c]
    exact Nat.le_refl _
theorem hc_mono {h : Nat → Bool} {p n m : Nat} (hnm : n ≤ m) : hc_cn h p n ≤ hc_cn h p m := by
  induction m with
  | zero => rw [show n = 0 by omega]; exact Nat.le_refl _
  | succ m ih =>
    by_cases e : n = m + 1
    · rw [e]; exact Nat.le_refl _
    · exact Nat.le_trans (ih (by omega)) hc_cn_up
theorem hc_cn_tt {h : Nat → Bool} {p n : Nat} : hc_cn h p n ≤ hc_cn (fun _ => true) p n := by
  induction n with
  | zero => exact Nat.le_refl _
  | succ n ih =>
    by_cases c : hc_pt n = p
    · rw [hc_cn_t (h := fun _ => true) rfl c]
      by_cases c2 : h n = true ∧ hc_pt n = p
      · rw [hc_cn_t c2.1 c2.2]; omega
      · rw [hc_cn_f c2]; omega
    · rw [hc_cn_f (fun z => c z.2), hc_cn_f (fun z => c z.2)]
      exact ih
theorem hc_cn_big {h : Nat → Bool} {p n : Nat} (hp : 5 < p) : hc_cn h p n = 0 := by
  induction n with
  | zero => rfl
  | succ n ih =>
    rw [hc_cn_f (fun z => by have := hc_pt_le n; have := z.2; omega)]
    exact ih
theorem hc_cn_all : ∀ p, p < 6 → hc_cn (fun _ => true) p 32 ≤ 10 := by decide +kernel
theorem hc_cn_le (h : Nat → Bool) (p : Nat) : hc_cn h p 32 ≤ 10 := by
  by_cases c : p < 6
  · exact Nat.le_trans hc_cn_tt (hc_cn_all p c)
  · rw [hc_cn_big (by omega)]
    omega
theorem hc_ex {h : Nat → Bool} {p i n : Nat} (hi : i < hc_cn h p n) : ∃ s, s < n ∧ h s = true ∧ hc_pt s = p ∧ hc_cn h p s = i := by
  induction n with
  | zero => exact absurd hi (by rw [hc_cn_0]; omega)
  | succ n ih =>
    by_cases c : h n = true ∧ hc_pt n = p
    · rw [hc_cn_t c.1 c.2] at hi
      by_cases e : hc_cn h p n = i
      · exact ⟨n, by omega, c.1, c.2, e⟩
      · obtain ⟨s, h1, h2⟩ := ih (by omega)
        exact ⟨s, by omega, h2⟩
    · rw [hc_cn_f c] at hi
      obtain ⟨s, h1, h2⟩ := ih hi
      exact ⟨s, by omega, h2⟩
theorem hc_sl_at {h : Nat → Bool} {p s n : Nat} (hs : s < n) (h1 : h s = true) (h2 : hc_pt s = p) : (hc_sl h p n)[hc_cn h p s]? = some s := by
  induction n with
  | zero => exact absurd hs (by omega)
  | succ n ih =>
    by_cases e : s = n
    · subst e
      rw [hc_sl_t h1 h2]
      show (hc_sl h p s ++ [s])[(hc_sl h p s).length]? = some s
      simp
    · have i1 := ih (by omega)
      by_cases c : h n = true ∧ hc_pt n = p
      · have hl : hc_cn h p s < (hc_sl h p n).length := by
          have a1 : hc_cn h p (s + 1) ≤ hc_cn h p n := hc_mono (by omega)
          rw [hc_cn_t h1 h2] at a1
          exact a1
        rw [hc_sl_t c.1 c.2, List.getElem?_append_left hl]
        exact i1
      · rw [hc_sl_f c]
        exact i1
theorem hc_sx_at {h : Nat → Bool} {p s : Nat} (hs : s < 32) (h1 : h s = true) (h2 : hc_pt s = p) : hc_sx h p (hc_cn h p s) = s := by
  unfold hc_sx
  rw [List.getD_eq_getElem?_getD, hc_sl_at hs h1 h2]
  rfl
theorem hc_sx_sp {h : Nat → Bool} {p i : Nat} (hi : i < hc_cn h p 32) : hc_sx h p i < 32 ∧ h (hc_sx h p i) = true ∧ hc_pt (hc_sx h p i) = p ∧ hc_cn h p (hc_sx h p i) = i := by
  obtain ⟨s, hs, h1, h2, h3⟩ := hc_ex hi
  have e := hc_sx_at hs h1 h2
  rw [h3] at e
  rw [e]
  exact ⟨hs, h1, h2, h3⟩
def hc_pl (h : Nat → Bool) (f : Nat) : Nat := hc_cn h (hc_pt f) f
theorem hc_pl_le {h : Nat → Bool} {f : Nat} (hf : f ≤ 32) : hc_pl h f ≤ 10 := Nat.le_trans (hc_mono hf) (hc_cn_le h (hc_pt f))
theorem hc_pl_lt {h : Nat → Bool} {f : Nat} (hf : f < 32) (h1 : h f = true) : hc_pl h f < hc_cn h (hc_pt f) 32 := by
  have a1 : hc_cn h (hc_pt f) (f + 1) ≤ hc_cn h (hc_pt f) 32 := hc_mono (by omega)
  rw [hc_cn_t h1 rfl] at a1
  exact a1
/-- a simplex is closed: every part of a held one is held -/
def hc_closed (h : Nat → Bool) : Prop := ∀ s t, s < 32 → t ≠ 0 → t &&& s = t → h s = true → h t = true
theorem hc_face : ∀ s, s < 32 → ∀ n, n < 5 → s.testBit n = true → (s - 2 ^ n) &&& s = s - 2 ^ n ∧ hc_pt (s - 2 ^ n) + 1 = hc_pt s ∧ s - 2 ^ n < 32 := by decide +kernel
theorem hc_face_h {h : Nat → Bool} (hc : hc_closed h) {s n : Nat} (hs : s < 32) (h1 : h s = true) (hn : n < 5) (hb : s.testBit n = true) (hp : 2 ≤ hc_pt s) : h (s - 2 ^ n) = true := by
  obtain ⟨f1, f2, f3⟩ := hc_face s hs n hn hb
  refine hc s (s - 2 ^ n) hs (fun e => ?_) f1 h1
  rw [e, hc_pt_0] at f2
  omega
/-! faces, over any weight P of a face -/
def hc_fP (P : Nat → Nat) (s : Nat) : Nat → Nat
  | 0 => 0
  | n + 1 => if s.testBit n = true then hc_fP P s n ^^^ P (s - 2 ^ n) else hc_fP P s n
def hc_P (h : Nat → Bool) : Nat → Nat := fun f => 2 ^ hc_pl h f
def hc_fc (h : Nat → Bool) (s : Nat) : Nat := hc_fP (hc_P h) s 5
def hc_dP (P : Nat → Nat) (s : Nat) : Nat → Nat
  | 0 => 0
  | n + 1 => if s.testBit n = true then hc_dP P s n ^^^ hc_fP P (s - 2 ^ n) 5 else hc_dP P s n
theorem hc_fP_lt {P : Nat → Nat} {s m : Nat} : ∀ n, (∀ x, x < n → s.testBit x = true → P (s - 2 ^ x) < 2 ^ m) → hc_fP P s n < 2 ^ m := by
  intro n
  induction n with
  | zero => exact fun _ => Nat.two_pow_pos m
  | succ n ih =>
    intro hP
    have i1 := ih (fun x hx hb => hP x (by omega) hb)
    show (if s.testBit n = true then hc_fP P s n ^^^ P (s - 2 ^ n) else hc_fP P s n) < 2 ^ m
    by_cases c : s.testBit n = true
    · rw [if_pos c]
      exact Nat.xor_lt_two_pow i1 (hP n (by omega) c)
    · rw [if_neg c]
      exact i1
theorem hc_fc_lt {h : Nat → Bool} {s : Nat} (hs : s < 32) : hc_fc h s < 2 ^ 11 := by
  refine hc_fP_lt 5 (fun x _ _ => ?_)
  have : hc_pl h (s - 2 ^ x) ≤ 10 := hc_pl_le (Nat.le_trans (Nat.sub_le s (2 ^ x)) (by omega))
  exact Nat.pow_lt_pow_right (by omega) (by omega)
theorem hc_fc_in {h : Nat → Bool} (hc : hc_closed h) {s p : Nat} (hs : s < 32) (h1 : h s = true) (hp : hc_pt s = p + 1) (hp1 : 1 ≤ p) : hc_fc h s < 2 ^ hc_cn h p 32 := by
  refine hc_fP_lt 5 (fun x hx hb => ?_)
  obtain ⟨f1, f2, f3⟩ := hc_face s hs x hx hb
  have hf := hc_face_h hc hs h1 hx hb (by omega)
  have := hc_pl_lt f3 hf
  rw [show hc_pt (s - 2 ^ x) = p by omega] at this
  exact Nat.pow_lt_pow_right (by omega) this
/-! xor -/
theorem hc_x4 (a b g : Nat) : (a ^^^ g) ^^^ (b ^^^ g) = a ^^^ b := by
  apply Nat.eq_of_testBit_eq
  intro i
  simp only [Nat.testBit_xor]
  cases a.testBit i <;> cases b.testBit i <;> cases g.testBit i <;> rfl
theorem hc_x3 (a b g : Nat) : (a ^^^ g) ^^^ b = (a ^^^ b) ^^^ g := by
  apply Nat.eq_of_testBit_eq
  intro i
  simp only [Nat.testBit_xor]
  cases a.testBit i <;> cases b.testBit i <;> cases g.testBit i <;> rfl
theorem hc_xc (a b : Nat) : a ^^^ (a ^^^ b) = b := by
  rw [← Nat.xor_assoc, Nat.xor_self, Nat.zero_xor]
theorem hc_xl (a b c : Nat) : a ^^^ (b ^^^ c) = b ^^^ (a ^^^ c) := by
  rw [← Nat.xor_assoc, Nat.xor_comm a b, Nat.xor_assoc]
theorem hc_x0 {a b : Nat} (h : a ^^^ b = 0) : a = b := by
  have e := hc_xc a b
  rw [h, Nat.xor_zero] at e
  exact e
theorem hc_dP_0 (P : Nat → Nat) (s : Nat) (hs : s < 32) : hc_dP P s 5 = 0 := by
  have c : s = 0 ∨ s = 1 ∨ s = 2 ∨ s = 3 ∨ s = 4 ∨ s = 5 ∨ s = 6 ∨ s = 7 ∨ s = 8 ∨ s = 9 ∨ s = 10 ∨ s = 11 ∨ s = 12 ∨ s = 13 ∨ s = 14 ∨ s = 15 ∨ s = 16 ∨ s = 17 ∨ s = 18 ∨ s = 19 ∨ s = 20 ∨ s = 21 ∨ s = 22 ∨ s = 23 ∨ s = 24 ∨ s = 25 ∨ s = 26 ∨ s = 27 ∨ s = 28 ∨ s = 29 ∨ s = 30 ∨ s = 31 := by omega
  rcases c with rfl | rfl | rfl | rfl | rfl | rfl | rfl | rfl | rfl | rfl | rfl | rfl | rfl | rfl | rfl | rfl | rfl | rfl | rfl | rfl | rfl | rfl | rfl | rfl | rfl | rfl | rfl | rfl | rfl | rfl | rfl | rfl <;>
    simp [hc_dP, hc_fP, Nat.testBit, Nat.xor_assoc, Nat.xor_comm, hc_xl, hc_xc]
/-! a linear map, by its columns -/
def hc_lin (G : Nat → Nat) (c : Nat) : Nat → Nat
  | 0 => 0
  | n + 1 => if c.testBit n = true then hc_lin G c n ^^^ G n else hc_lin G c n
theorem hc_lin_t {G : Nat → Nat} {c n : Nat} (h : c.testBit n = true) : hc_lin G c (n + 1) = hc_lin G c n ^^^ G n := if_pos h
theorem hc_lin_f {G : Nat → Nat} {c n : Nat} (h : c.testBit n = false) : hc_lin G c (n + 1) = hc_lin G c n := if_neg (by rw [h]; exact Bool.false_ne_true)
theorem hc_lin_xor (G : Nat → Nat) (a b n : Nat) : hc_lin G (a ^^^ b) n = hc_lin G a n ^^^ hc_lin G b n := by
  induction n with
  | zero => exact (Nat.xor_self 0).symm
  | succ n ih =>
    have hx : (a ^^^ b).testBit n = (a.testBit n ^^ b.testBit n) := Nat.testBit_xor a b n
    cases ha : a.testBit n with
    | false =>
      cases hb : b.testBit n with
      | false =>
        rw [ha, hb] at hx
        rw [hc_lin_f hx, hc_lin_f ha, hc_lin_f hb, ih]
      | true =>
        rw [ha, hb] at hx
        rw [hc_lin_t hx, hc_lin_f ha, hc_lin_t hb, ih, Nat.xor_assoc]
    | true =>
      cases hb : b.testBit n with
      | false =>
        rw [ha, hb] at hx
        rw [hc_lin_t hx, hc_lin_t ha, hc_lin_f hb, ih, hc_x3]
      | true =>
        rw [ha, hb] at hx
        rw [hc_lin_f hx, hc_lin_t ha, hc_lin_t hb, ih, hc_x4]
theorem hc_lin_0 (G : Nat → Nat) (n : Nat) : hc_lin G 0 n = 0 := by
  induction n with
  | zero => rfl
  | succ n ih => rw [hc_lin_f (Nat.zero_testBit n), ih]
theorem hc_lin_big {G : Nat → Nat} {i : Nat} : ∀ n, n ≤ i → hc_lin G (2 ^ i) n = 0 := by
  intro n
  induction n with
  | zero => exact fun _ => rfl
  | succ n ih =>
    intro hn
    rw [hc_lin_f (Nat.testBit_two_pow_of_ne (by omega)), ih (by omega)]
theorem hc_lin_pow {G : Nat → Nat} {i : Nat} : ∀ n, i < n → hc_lin G (2 ^ i) n = G i := by
  intro n
  induction n with
  | zero => exact fun hn => absurd hn (by omega)
  | succ n ih =>
    intro hn
    by_cases e : i = n
    · subst e
      rw [hc_lin_t Nat.testBit_two_pow_self, hc_lin_big i (Nat.le_refl i), Nat.zero_xor]
    · rw [hc_lin_f (Nat.testBit_two_pow_of_ne e), ih (by omega)]
theorem hc_lin_lt {G : Nat → Nat} {c m : Nat} : ∀ n, (∀ x, x < n → c.testBit x = true → G x < 2 ^ m) → hc_lin G c n < 2 ^ m := by
  intro n
  induction n with
  | zero => exact fun _ => Nat.two_pow_pos m
  | succ n ih =>
    intro hP
    have i1 := ih (fun x hx hb => hP x (by omega) hb)
    cases hb : c.testBit n with
    | false => rw [hc_lin_f hb]; exact i1
    | true => rw [hc_lin_t hb]; exact Nat.xor_lt_two_pow i1 (hP n (by omega) hb)
/-! the boundary -/
def hc_G (h : Nat → Bool) (k : Nat) : Nat → Nat := fun n => if k = 0 then 0 else hc_fc h (hc_sx h (k + 1) n)
def hc_bd (h : Nat → Bool) (k c : Nat) : Nat := hc_lin (hc_G h k) c 10
theorem hc_bit_lt {c n i : Nat} (hc : c < 2 ^ n) (hb : c.testBit i = true) : i < n := by
  rcases Nat.lt_or_ge i n with z | z
  · exact z
  · have : c < 2 ^ i := Nat.lt_of_lt_of_le hc (Nat.pow_le_pow_right (by omega) z)
    rw [Nat.testBit_lt_two_pow this] at hb
    exact absurd hb Bool.false_ne_true
theorem hc_bd_xor (h : Nat → Bool) (k a b : Nat) : hc_bd h k (a ^^^ b) = hc_bd h k a ^^^ hc_bd h k b := hc_lin_xor _ a b 10
theorem hc_bd_0 (h : Nat → Bool) (k : Nat) : hc_bd h k 0 = 0 := hc_lin_0 _ 10
theorem hc_bd_k0 (h : Nat → Bool) (c : Nat) : hc_bd h 0 c = 0 := by
  have key : ∀ n, hc_lin (hc_G h 0) c n = 0 := by
    intro n
    induction n with
    | zero => rfl
    | succ n ih =>
      cases hb : c.testBit n with
      | false => rw [hc_lin_f hb, ih]
      | true => rw [hc_lin_t hb, ih, Nat.zero_xor]; rfl
  exact key 10
theorem hc_G_s {h : Nat → Bool} {k n : Nat} (hk : k ≠ 0) : hc_G h k n = hc_fc h (hc_sx h (k + 1) n) := if_neg hk
theorem hc_bd_lt {h : Nat → Bool} {k c : Nat} (hc : c < 2 ^ hc_cn h (k + 1) 32) : hc_bd h k c < 2 ^ 11 := by
  refine hc_lin_lt 10 (fun x hx hb => ?_)
  by_cases hk : k = 0
  · unfold hc_G
    rw [if_pos hk]
    exact Nat.two_pow_pos 11
  · rw [hc_G_s hk]
    exact hc_fc_lt (hc_sx_sp (hc_bit_lt hc hb)).1
theorem hc_bd_in {h : Nat → Bool} (hcl : hc_closed h) {k c : Nat} (hk : k ≠ 0) (hc : c < 2 ^ hc_cn h (k + 1) 32) : hc_bd h k c < 2 ^ hc_cn h k 32 := by
  refine hc_lin_lt 10 (fun x hx hb => ?_)
  rw [hc_G_s hk]
  obtain ⟨s1, s2, s3, s4⟩ := hc_sx_sp (hc_bit_lt hc hb)
  exact hc_fc_in hcl s1 s2 s3 (by omega)
theorem hc_dd1 {h : Nat → Bool} (hcl : hc_closed h) {k s : Nat} (hk : k ≠ 0) (hs : s < 32) (h1 : h s = true) (hp : hc_pt s = k + 2) : hc_bd h k (hc_fc h s) = 0 := by
  have key : ∀ n, n ≤ 5 → hc_bd h k (hc_fP (hc_P h) s n) = hc_dP (hc_P h) s n := by
    intro n
    induction n with
    | zero => exact fun _ => hc_bd_0 h k
    | succ n ih =>
      intro hn
      show hc_bd h k (if s.testBit n = true then hc_fP (hc_P h) s n ^^^ hc_P h (s - 2 ^ n) else hc_fP (hc_P h) s n) = (if s.testBit n = true then hc_dP (hc_P h) s n ^^^ hc_fP (hc_P h) (s - 2 ^ n) 5 else hc_dP (hc_P h) s n)
      by_cases hb : s.testBit n = true
      · rw [if_pos hb, if_pos hb, hc_bd_xor, ih (by omega)]
        obtain ⟨f1, f2, f3⟩ := hc_face s hs n (by omega) hb
        have hf := hc_face_h hcl hs h1 (by omega) hb (by omega)
        have hpf : hc_pt (s - 2 ^ n) = k + 1 := by omega
        have hlt := hc_pl_lt f3 hf
        have hle := hc_cn_le h (hc_pt (s - 2 ^ n))
        have e1 : hc_bd h k (hc_P h (s - 2 ^ n)) = hc_fP (hc_P h) (s - 2 ^ n) 5 := by
          show hc_lin (hc_G h k) (2 ^ hc_pl h (s - 2 ^ n)) 10 = _
          rw [hc_lin_pow 10 (by omega), hc_G_s hk]
          have e2 := hc_sx_at f3 hf hpf
          unfold hc_pl
          rw [hpf, e2]
          rfl
        rw [e1]
      · rw [if_neg hb, if_neg hb]
        exact ih (by omega)
  show hc_bd h k (hc_fP (hc_P h) s 5) = 0
  rw [key 5 (Nat.le_refl 5)]
  exact hc_dP_0 _ s hs
/-- the boundary of a boundary is empty -/
theorem hc_dd {h : Nat → Bool} (hcl : hc_closed h) {k c : Nat} (hc : c < 2 ^ hc_cn h (k + 2) 32) : hc_bd h k (hc_bd h (k + 1) c) = 0 := by
  by_cases hk : k = 0
  · rw [hk]
    exact hc_bd_k0 h _
  · have key : ∀ n, hc_bd h k (hc_lin (hc_G h (k + 1)) c n) = 0 := by
      intro n
      induction n with
      | zero => exact hc_bd_0 h k
      | succ n ih =>
        cases hb : c.testBit n with
        | false => rw [hc_lin_f hb]; exact ih
        | true =>
          obtain ⟨s1, s2, s3, s4⟩ := hc_sx_sp (hc_bit_lt hc hb)
          rw [hc_lin_t hb, hc_bd_xor, ih, hc_G_s (by omega), hc_dd1 hcl hk s1 s2 s3]
          rfl
    exact key 10
end
section
/-! elimination, pure -/
theorem hc_xe {x y f : Nat} (e : x ^^^ y = f) : x = y ^^^ f := by
  rw [← e, hc_xl, Nat.xor_self, Nat.xor_zero]
def hc_up (f : Nat → Nat) (k v : Nat) : Nat → Nat := fun j => bif j == k then v else f j
theorem hc_up_s {f : Nat → Nat} {k v : Nat} : hc_up f k v k = v := by simp [hc_up]
theorem hc_up_n {f : Nat → Nat} {k v j : Nat} (h : j ≠ k) : hc_up f k v j = f j := by
  have e : (j == k) = false := by simp [h]
  show (bif j == k then v else f j) = f j
  rw [e]
  rfl
theorem hc_up_all {f : Nat → Nat} {k v : Nat} {p : Nat → Prop} (h : ∀ b, p (f b)) (hv : p v) : ∀ b, p (hc_up f k v b) := by
  intro b
  by_cases e : b = k
  · rw [e, hc_up_s]; exact hv
  · rw [hc_up_n e]; exact h b
/-- what is left of l after rows n-1 .. 0 -/
def hc_rl (row : Nat → Nat) : Nat → Nat → Nat
  | 0, l => l
  | n + 1, l => bif !(row n == 0) && l.testBit n then hc_rl row n (l ^^^ row n) else hc_rl row n l
def hc_rt (row org : Nat → Nat) : Nat → Nat → Nat → Nat
  | 0, _, t => t
  | n + 1, l, t => bif !(row n == 0) && l.testBit n then hc_rt row org n (l ^^^ row n) (t ^^^ org n) else hc_rt row org n l t
theorem hc_rl_s {row : Nat → Nat} {n l : Nat} (h1 : row n ≠ 0) (h2 : l.testBit n = true) : hc_rl row (n + 1) l = hc_rl row n (l ^^^ row n) := by
  have e : (!(row n == 0) && l.testBit n) = true := by simp [h1, h2]
  show (bif !(row n == 0) && l.testBit n then hc_rl row n (l ^^^ row n) else hc_rl row n l) = _
  rw [e]
  rfl
theorem hc_rl_z {row : Nat → Nat} {n l : Nat} (h : row n = 0 ∨ l.testBit n = false) : hc_rl row (n + 1) l = hc_rl row n l := by
  have e : (!(row n == 0) && l.testBit n) = false := by
    rcases h with h | h
    · simp [h]
    · simp [h]
  show (bif !(row n == 0) && l.testBit n then hc_rl row n (l ^^^ row n) else hc_rl row n l) = _
  rw [e]
  rfl
theorem hc_rt_s {row org : Nat → Nat} {n l t : Nat} (h1 : row n ≠ 0) (h2 : l.testBit n = true) : hc_rt row org (n + 1) l t = hc_rt row org n (l ^^^ row n) (t ^^^ org n) := by
  have e : (!(row n == 0) && l.testBit n) = true := by simp [h1, h2]
  show (bif !(row n == 0) && l.testBit n then hc_rt row org n (l ^^^ row n) (t ^^^ org n) else hc_rt row org n l t) = _
  rw [e]
  rfl
theorem hc_rt_z {row org : Nat → Nat} {n l t : Nat} (h : row n = 0 ∨ l.testBit n = false) : hc_rt row org (n + 1) l t = hc_rt row org n l t := by
  have e : (!(row n == 0) && l.testBit n) = false := by
    rcases h with h | h
    · simp [h]
    · simp [h]
  show (bif !(row n == 0) && l.testBit n then hc_rt row org n (l ^^^ row n) (t ^^^ org n) else hc_rt row org n l t) = _
  rw [e]
  rfl
theorem hc_rc (row : Nat → Nat) (n l : Nat) : (row n ≠ 0 ∧ l.testBit n = true) ∨ (row n = 0 ∨ l.testBit n = false) := by
  by_cases c : row n = 0
  · exact Or.inr (Or.inl c)
  · cases hb : l.testBit n with
    | false => exact Or.inr (Or.inr rfl)
    | true => exact Or.inl ⟨c, rfl⟩
theorem hc_rl_lt {row : Nat → Nat} {m : Nat} (hr : ∀ b, row b < 2 ^ m) : ∀ n l, l < 2 ^ m → hc_rl row n l < 2 ^ m := by
  intro n
  induction n with
  | zero => exact fun l hl => hl
  | succ n ih =>
    intro l hl
    rcases hc_rc row n l with c | c
    · rw [hc_rl_s c.1 c.2]; exact ih _ (Nat.xor_lt_two_pow hl (hr n))
    · rw [hc_rl_z c]; exact ih _ hl
theorem hc_rt_lt {row org : Nat → Nat} {m : Nat} (ho : ∀ b, org b < 2 ^ m) : ∀ n l t, t < 2 ^ m → hc_rt row org n l t < 2 ^ m := by
  intro n
  induction n with
  | zero => exact fun l t ht => ht
  | succ n ih =>
    intro l t ht
    rcases hc_rc row n l with c | c
    · rw [hc_rt_s c.1 c.2]; exact ih _ _ (Nat.xor_lt_two_pow ht (ho n))
    · rw [hc_rt_z c]; exact ih _ _ ht
theorem hc_rl_0 (row : Nat → Nat) (n : Nat) : hc_rl row n 0 = 0 := by
  induction n with
  | zero => rfl
  | succ n ih => rw [hc_rl_z (Or.inr (Nat.zero_testBit n)), ih]
/-- the rows are boundaries: what was taken off is one -/
theorem hc_rl_B {row org : Nat → Nat} {B : Nat → Nat} (hB : ∀ a b, B (a ^^^ b) = B a ^^^ B b) (hr : ∀ b, row b = B (org b)) : ∀ n l t, hc_rl row n l ^^^ B (hc_rt row org n l t) = l ^^^ B t := by
  intro n
  induction n with
  | zero => exact fun l t => rfl
  | succ n ih =>
    intro l t
    rcases hc_rc row n l with c | c
    · rw [hc_rl_s c.1 c.2, hc_rt_s c.1 c.2, ih, hB, ← hr n, hc_x4]
    · rw [hc_rl_z c, hc_rt_z c, ih]
/-- the cycles taken off: the boundary stays -/
theorem hc_fl_B {cyc : Nat → Nat} {B : Nat → Nat} (hB : ∀ a b, B (a ^^^ b) = B a ^^^ B b) (hr : ∀ b, B (cyc b) = 0) : ∀ n l, B (hc_rl cyc n l) = B l := by
  intro n
  induction n with
  | zero => exact fun l => rfl
  | succ n ih =>
    intro l
    rcases hc_rc cyc n l with c | c
    · rw [hc_rl_s c.1 c.2, ih, hB, hr n, Nat.xor_zero]
    · rw [hc_rl_z c, ih]
def hc_hi (s : Nat) : Nat → Nat
  | 0 => 0
  | n + 1 => bif s.testBit n then n else hc_hi s n
theorem hc_hi_t {s n : Nat} (h : s.testBit n = true) : hc_hi s (n + 1) = n := by
  show (bif s.testBit n then n else hc_hi s n) = n
  rw [h]
  rfl
theorem hc_hi_f {s n : Nat} (h : s.testBit n = false) : hc_hi s (n + 1) = hc_hi s n := by
  show (bif s.testBit n then n else hc_hi s n) = _
  rw [h]
  rfl
theorem hc_hi_le {s : Nat} : ∀ n, n ≤ 10 → hc_hi s n < 10 := by
  intro n
  induction n with
  | zero => exact fun _ => (by decide : (0 : Nat) < 10)
  | succ n ih =>
    intro hn
    cases hb : s.testBit n with
    | false => rw [hc_hi_f hb]; exact ih (by omega)
    | true => rw [hc_hi_t hb]; omega
def hc_ac (cyc : Nat → Nat) : Nat → Nat → (Nat → Nat)
  | 0, _ => cyc
  | n + 1, c => bif c.testBit n then (bif cyc n == 0 then hc_up cyc n c else hc_ac cyc n (c ^^^ cyc n)) else hc_ac cyc n c
theorem hc_ac_f {cyc : Nat → Nat} {n c : Nat} (h : c.testBit n = false) : hc_ac cyc (n + 1) c = hc_ac cyc n c := by
  show (bif c.testBit n then (bif cyc n == 0 then hc_up cyc n c else hc_ac cyc n (c ^^^ cyc n)) else hc_ac cyc n c) = _
  rw [h]
  rfl
theorem hc_ac_z {cyc : Nat → Nat} {n c : Nat} (h : c.testBit n = true) (hz : cyc n = 0) : hc_ac cyc (n + 1) c = hc_up cyc n c := by
  show (bif c.testBit n then (bif cyc n == 0 then hc_up cyc n c else hc_ac cyc n (c ^^^ cyc n)) else hc_ac cyc n c) = _
  rw [h, show (cyc n == 0) = true by simp [hz]]
  rfl
theorem hc_ac_n {cyc : Nat → Nat} {n c : Nat} (h : c.testBit n = true) (hz : cyc n ≠ 0) : hc_ac cyc (n + 1) c = hc_ac cyc n (c ^^^ cyc n) := by
  show (bif c.testBit n then (bif cyc n == 0 then hc_up cyc n c else hc_ac cyc n (c ^^^ cyc n)) else hc_ac cyc n c) = _
  rw [h, show (cyc n == 0) = false by simp [hz]]
  rfl
/-- what holds of the cycles and of the chain, and is kept by xor, holds after addCycle -/
theorem hc_ac_all {cyc : Nat → Nat} {p : Nat → Prop} (hx : ∀ a b, p a → p b → p (a ^^^ b)) (hc : ∀ b, p (cyc b)) : ∀ n c, p c → ∀ b, p (hc_ac cyc n c b) := by
  intro n
  induction n with
  | zero => exact fun c _ b => hc b
  | succ n ih =>
    intro c pc
    cases hb : c.testBit n with
    | false => rw [hc_ac_f hb]; exact ih c pc
    | true =>
      by_cases hz : cyc n = 0
      · rw [hc_ac_z hb hz]; exact hc_up_all hc pc
      · rw [hc_ac_n hb hz]; exact ih _ (hx _ _ pc (hc n))
/-! the elimination: rank, rows, origins, cycles after n columns of F -/
def hc_st (f i : Nat) (s : Nat × (Nat → Nat) × (Nat → Nat) × (Nat → Nat)) : Nat × (Nat → Nat) × (Nat → Nat) × (Nat → Nat) :=
  if hc_rl s.2.1 10 f = 0 then (s.1, s.2.1, s.2.2.1, hc_ac s.2.2.2 10 (hc_rt s.2.1 s.2.2.1 10 f 0 ^^^ 2 ^ i))
  else (s.1 + 1, hc_up s.2.1 (hc_hi (hc_rl s.2.1 10 f) 10) (hc_rl s.2.1 10 f), hc_up s.2.2.1 (hc_hi (hc_rl s.2.1 10 f) 10) (hc_rt s.2.1 s.2.2.1 10 f 0 ^^^ 2 ^ i), s.2.2.2)
def hc_el (F : Nat → Nat) : Nat → Nat × (Nat → Nat) × (Nat → Nat) × (Nat → Nat)
  | 0 => (0, (fun _ => 0), (fun _ => 0), (fun _ => 0))
  | n + 1 => hc_st (F n) n (hc_el F n)
theorem hc_el_z {F : Nat → Nat} {n : Nat} (h : hc_rl (hc_el F n).2.1 10 (F n) = 0) : hc_el F (n + 1) = ((hc_el F n).1, (hc_el F n).2.1, (hc_el F n).2.2.1, hc_ac (hc_el F n).2.2.2 10 (hc_rt (hc_el F n).2.1 (hc_el F n).2.2.1 10 (F n) 0 ^^^ 2 ^ n)) := if_pos h
theorem hc_el_n {F : Nat → Nat} {n : Nat} (h : hc_rl (hc_el F n).2.1 10 (F n) ≠ 0) : hc_el F (n + 1) = ((hc_el F n).1 + 1, hc_up (hc_el F n).2.1 (hc_hi (hc_rl (hc_el F n).2.1 10 (F n)) 10) (hc_rl (hc_el F n).2.1 10 (F n)), hc_up (hc_el F n).2.2.1 (hc_hi (hc_rl (hc_el F n).2.1 10 (F n)) 10) (hc_rt (hc_el F n).2.1 (hc_el F n).2.2.1 10 (F n) 0 ^^^ 2 ^ n), (hc_el F n).2.2.2) := if_neg h
theorem hc_pw {a b : Nat} (h : a ≤ b) {x : Nat} (hx : x < 2 ^ a) : x < 2 ^ b := Nat.lt_of_lt_of_le hx (Nat.pow_le_pow_right (by omega) h)
/-- everything stays below 2^11; the rank is at most the number of columns -/
theorem hc_el_bd {F : Nat → Nat} {N : Nat} (hN : N ≤ 10) (hF : ∀ i, i < N → F i < 2 ^ 11) : ∀ n, n ≤ N → (hc_el F n).1 ≤ n ∧ (∀ b, (hc_el F n).2.1 b < 2 ^ 11) ∧ (∀ b, (hc_el F n).2.2.1 b < 2 ^ 11) ∧ (∀ b, (hc_el F n).2.2.2 b < 2 ^ 11) := by
  intro n
  induction n with
  | zero => exact fun _ => ⟨Nat.le_refl 0, fun _ => Nat.two_pow_pos 11, fun _ => Nat.two_pow_pos 11, fun _ => Nat.two_pow_pos 11⟩
  | succ n ih =>
    intro hn
    obtain ⟨i1, i2, i3, i4⟩ := ih (by omega)
    have hl : hc_rl (hc_el F n).2.1 10 (F n) < 2 ^ 11 := hc_rl_lt i2 10 _ (hF n (by omega))
    have ht : hc_rt (hc_el F n).2.1 (hc_el F n).2.2.1 10 (F n) 0 ^^^ 2 ^ n < 2 ^ 11 := Nat.xor_lt_two_pow (hc_rt_lt i3 10 _ _ (Nat.two_pow_pos 11)) (Nat.pow_lt_pow_right (by omega) (by omega))
    by_cases c : hc_rl (hc_el F n).2.1 10 (F n) = 0
    · rw [hc_el_z c]
      exact ⟨Nat.le_succ_of_le i1, i2, i3, hc_ac_all (p := fun x => x < 2 ^ 11) (fun a b => Nat.xor_lt_two_pow) i4 10 _ ht⟩
    · rw [hc_el_n c]
      exact ⟨Nat.succ_le_succ i1, hc_up_all (p := fun x => x < 2 ^ 11) i2 hl, hc_up_all (p := fun x => x < 2 ^ 11) i3 ht, i4⟩
/-- a row is the boundary of its origin, a cycle has none; both are chains of the first n columns -/
theorem hc_el_inv {F B : Nat → Nat} (hB : ∀ a b, B (a ^^^ b) = B a ^^^ B b) (h0 : B 0 = 0) {N : Nat} (hF : ∀ i, i < N → F i = B (2 ^ i)) : ∀ n, n ≤ N → (∀ b, (hc_el F n).2.1 b = B ((hc_el F n).2.2.1 b)) ∧ (∀ b, (hc_el F n).2.2.1 b < 2 ^ n) ∧ (∀ b, B ((hc_el F n).2.2.2 b) = 0) ∧ (∀ b, (hc_el F n).2.2.2 b < 2 ^ n) := by
  intro n
  induction n with
  | zero => exact fun _ => ⟨fun _ => h0.symm, fun _ => Nat.two_pow_pos 0, fun _ => h0, fun _ => Nat.two_pow_pos 0⟩
  | succ n ih =>
    intro hn
    obtain ⟨i1, i2, i3, i4⟩ := ih (by omega)
    have ht0 : hc_rt (hc_el F n).2.1 (hc_el F n).2.2.1 10 (F n) 0 < 2 ^ (n + 1) := hc_pw (Nat.le_succ n) (hc_rt_lt i2 10 _ _ (Nat.two_pow_pos n))
    have ht : hc_rt (hc_el F n).2.1 (hc_el F n).2.2.1 10 (F n) 0 ^^^ 2 ^ n < 2 ^ (n + 1) := Nat.xor_lt_two_pow ht0 (Nat.pow_lt_pow_right (by omega) (by omega))
    have hb : hc_rl (hc_el F n).2.1 10 (F n) = B (hc_rt (hc_el F n).2.1 (hc_el F n).2.2.1 10 (F n) 0 ^^^ 2 ^ n) := by
      have e := hc_rl_B hB i1 10 (F n) 0
      rw [h0, Nat.xor_zero] at e
      rw [hB, ← hF n (by omega)]
      exact hc_xe e
    by_cases c : hc_rl (hc_el F n).2.1 10 (F n) = 0
    · rw [c] at hb
      rw [hc_el_z c]
      refine ⟨i1, fun b => hc_pw (Nat.le_succ n) (i2 b), ?_, ?_⟩
      · exact hc_ac_all (p := fun x => B x = 0) (fun a b ha hb => by show B (a ^^^ b) = 0; rw [hB, ha, hb]; rfl) i3 10 _ hb.symm
      · exact hc_ac_all (p := fun x => x < 2 ^ (n + 1)) (fun a b => Nat.xor_lt_two_pow) (fun b => hc_pw (Nat.le_succ n) (i4 b)) 10 _ ht
    · rw [hc_el_n c]
      refine ⟨fun b => ?_, hc_up_all (p := fun x => x < 2 ^ (n + 1)) (fun b => hc_pw (Nat.le_succ n) (i2 b)) ht, i3, fun b => hc_pw (Nat.le_succ n) (i4 b)⟩
      show hc_up _ _ _ b = B (hc_up _ _ _ b)
      by_cases e : b = hc_hi (hc_rl (hc_el F n).2.1 10 (F n)) 10
      · rw [e, hc_up_s, hc_up_s]; exact hb
      · rw [hc_up_n e, hc_up_n e]; exact i1 b
/-- no columns but empty ones: rank 0 -/
theorem hc_el_r0 {F : Nat → Nat} (hF : ∀ i, F i = 0) : ∀ n, (hc_el F n).1 = 0 := by
  intro n
  induction n with
  | zero => rfl
  | succ n ih =>
    rw [hc_el_z (by rw [hF n]; exact hc_rl_0 _ 10)]
    exact ih
end
section
/-! the graph of points and edges: how the law counts its parts, against the rank -/
def hc_cf {α : Type} (n : Nat) (k : Nat → α) : α := match n with
  | 0 => k 0
  | m + 1 => k (m + 1)
theorem hc_cf_e {α : Type} (n : Nat) (k : Nat → α) : hc_cf n k = k n := by
  cases n <;> rfl
/-- a part spread over the edges l, i steps -/
def hc_sp (l : List Nat) (p : Nat) : Nat → Nat
  | 0 => p
  | i + 1 => hc_cf (hc_sp l p i) (fun q => hc_cf (l.getD (i % l.length) 0) (fun e => bif e &&& q == 0 then q else q ||| e))
def hc_low (a : Nat) : Nat := a &&& (4294967296 - a)
/-- the loop over the points left ends after exactly c parts -/
def hc_chk (l : List Nat) : Nat → Nat → Nat → Bool
  | 0, left, c => left == 0 && c == 0
  | f + 1, left, c => bif left == 0 then c == 0 else (match c with
    | 0 => false
    | c' + 1 => hc_cf (hc_sp l (hc_low left) (5 * l.length)) (fun q => hc_cf (left ^^^ (left &&& q)) (fun left' => hc_chk l f left' c')))
/-- rank and rows, one column more -/
def hc_rs (s : Nat × (Nat → Nat)) (f : Nat) : Nat × (Nat → Nat) :=
  if hc_rl s.2 10 f = 0 then s else (s.1 + 1, hc_up s.2 (hc_hi (hc_rl s.2 10 f) 10) (hc_rl s.2 10 f))
theorem hc_rs_el (F : Nat → Nat) (n : Nat) : ((List.range n).map F).foldl hc_rs (0, fun _ => 0) = ((hc_el F n).1, (hc_el F n).2.1) := by
  induction n with
  | zero => rfl
  | succ n ih =>
    rw [List.range_succ, List.map_append, List.foldl_append, ih]
    show hc_rs ((hc_el F n).1, (hc_el F n).2.1) (F n) = _
    by_cases c : hc_rl (hc_el F n).2.1 10 (F n) = 0
    · rw [hc_el_z c]
      exact if_pos c
    · rw [hc_el_n c]
      exact if_neg c
/-- the points of V, their number -/
def hc_hV (V : Nat) : Nat → Bool := fun s => !(s &&& V == 0)
def hc_n0 (V : Nat) : Nat := ([1, 2, 4, 8, 16].filter (hc_hV V)).length
/-- every choice among the edges es that V holds -/
def hc_dfs (V N : Nat) : List (Nat × Nat) → (Nat → Nat) → Nat → List Nat → Bool
  | [], _, rk, acc => Nat.ble rk N && hc_chk acc 5 V (N - rk)
  | e :: es, row, rk, acc => hc_dfs V N es row rk acc && (bif e.1 &&& V == e.1 then
      hc_cf (hc_rl row 10 e.2) (fun l => bif l == 0 then hc_dfs V N es row rk (acc ++ [e.1])
        else hc_cf (hc_hi l 10) (fun t => hc_dfs V N es (hc_up row t l) (rk + 1) (acc ++ [e.1])))
      else true)
theorem hc_dfs_ok {V N : Nat} (g : Nat → Bool) : ∀ (es : List (Nat × Nat)) (row : Nat → Nat) (rk : Nat) (acc : List Nat), hc_dfs V N es row rk acc = true → (∀ e, e ∈ es → g e.1 = true → e.1 &&& V = e.1) →
    (((es.filter (fun e => g e.1)).map (fun e => e.2)).foldl hc_rs (rk, row)).1 ≤ N ∧ hc_chk (acc ++ (es.filter (fun e => g e.1)).map (fun e => e.1)) 5 V (N - (((es.filter (fun e => g e.1)).map (fun e => e.2)).foldl hc_rs (rk, row)).1) = true := by
  intro es
  induction es with
  | nil =>
    intro row rk acc hd _
    have hd' : (Nat.ble rk N && hc_chk acc 5 V (N - rk)) = true := hd
    rw [Bool.and_eq_true] at hd'
    refine ⟨Nat.le_of_ble_eq_true hd'.1, ?_⟩
    show hc_chk (acc ++ []) 5 V (N - rk) = true
    rw [List.append_nil]
    exact hd'.2
  | cons e es ih =>
    intro row rk acc hd hg
    have hd' : (hc_dfs V N es row rk acc && (bif e.1 &&& V == e.1 then
      hc_cf (hc_rl row 10 e.2) (fun l => bif l == 0 then hc_dfs V N es row rk (acc ++ [e.1])
        else hc_cf (hc_hi l 10) (fun t => hc_dfs V N es (hc_up row t l) (rk + 1) (acc ++ [e.1])))
      else true)) = true := hd
    rw [Bool.and_eq_true] at hd'
    have hg' : ∀ e', e' ∈ es → g e'.1 = true → e'.1 &&& V = e'.1 := fun e' he' => hg e' (List.mem_cons_of_mem e he')
    by_cases c : g e.1 = true
    · rw [List.filter_cons_of_pos (p := fun e : Nat × Nat => g e.1) c]
      have hs := hg e List.mem_cons_self c
      have hd2 := hd'.2
      rw [show (e.1 &&& V == e.1) = true by simp [hs], cond_true, hc_cf_e] at hd2
      have ea : ∀ l : List Nat, acc ++ (e.1 :: l) = (acc ++ [e.1]) ++ l := fun l => by simp
      rw [List.map_cons, List.map_cons, List.foldl_cons, ea]
      by_cases z : hc_rl row 10 e.2 = 0
      · rw [show (hc_rl row 10 e.2 == 0) = true by simp [z], cond_true] at hd2
        rw [show hc_rs (rk, row) e.2 = (rk, row) from if_pos z]
        exact ih row rk (acc ++ [e.1]) hd2 hg'
      · rw [show (hc_rl row 10 e.2 == 0) = false by simp [z], cond_false, hc_cf_e] at hd2
        rw [show hc_rs (rk, row) e.2 = (rk + 1, hc_up row (hc_hi (hc_rl row 10 e.2) 10) (hc_rl row 10 e.2)) from if_neg z]
        exact ih _ _ (acc ++ [e.1]) hd2 hg'
    · rw [List.filter_cons_of_neg (p := fun e : Nat × Nat => g e.1) c]
      exact ih row rk acc hd'.1 hg'
def hc_es : List Nat := [3, 5, 6, 9, 10, 12, 17, 18, 20, 24]
def hc_ef (V : Nat) : List (Nat × Nat) := hc_es.map (fun e => (e, hc_fc (hc_hV V) e))
def hc_all (V : Nat) : Bool := hc_dfs V (hc_n0 V) (hc_ef V) (fun _ => 0) 0 []
theorem hc_all_a : ∀ V, V < 31 → hc_all V = true := by decide +kernel
theorem hc_all_b : hc_all 31 = true := by decide +kernel
theorem hc_all_ok {V : Nat} (h : V < 32) : hc_all V = true := by
  by_cases e : V = 31
  · rw [e]; exact hc_all_b
  · exact hc_all_a V (by omega)
/-! from the graph to h -/
/-- the points left at the beginning: i of the list l -/
def hc_lf (l : List Nat) : Nat → Nat
  | 0 => 0
  | i + 1 => hc_lf l i ||| l.getD i 0
def hc_vl (b0 b1 b2 b3 b4 : Bool) : List Nat := (bif b0 then [1] else []) ++ (bif b1 then [2] else []) ++ (bif b2 then [4] else []) ++ (bif b3 then [8] else []) ++ (bif b4 then [16] else [])
def hc_vf (l : List Nat) : Nat := hc_lf l l.length
theorem hc_vl_ok : ∀ b0 b1 b2 b3 b4 : Bool, hc_vf (hc_vl b0 b1 b2 b3 b4) < 32 ∧ hc_hV (hc_vf (hc_vl b0 b1 b2 b3 b4)) 1 = b0 ∧ hc_hV (hc_vf (hc_vl b0 b1 b2 b3 b4)) 2 = b1 ∧ hc_hV (hc_vf (hc_vl b0 b1 b2 b3 b4)) 4 = b2 ∧ hc_hV (hc_vf (hc_vl b0 b1 b2 b3 b4)) 8 = b3 ∧ hc_hV (hc_vf (hc_vl b0 b1 b2 b3 b4)) 16 = b4 := by decide +kernel
theorem hc_r1 : (List.range 32).filter (fun s => hc_pt s == 1) = [1, 2, 4, 8, 16] := by decide +kernel
theorem hc_r2 : (List.range 32).filter (fun s => hc_pt s == 2) = hc_es := by decide +kernel
theorem hc_sl_1 (h : Nat → Bool) : hc_sl h 1 32 = [1, 2, 4, 8, 16].filter h := by
  rw [← hc_r1, List.filter_filter]
  rfl
theorem hc_sl_2 (h : Nat → Bool) : hc_sl h 2 32 = hc_es.filter h := by
  rw [← hc_r2, List.filter_filter]
  rfl
theorem hc_vl_f (h : Nat → Bool) : [1, 2, 4, 8, 16].filter h = hc_vl (h 1) (h 2) (h 4) (h 8) (h 16) := by
  unfold hc_vl
  rw [List.filter_cons, List.filter_cons, List.filter_cons, List.filter_cons, List.filter_cons, List.filter_nil]
  cases h 1 <;> cases h 2 <;> cases h 4 <;> cases h 8 <;> cases h 16 <;> rfl
def hc_V (h : Nat → Bool) : Nat := hc_vf (hc_sl h 1 32)
theorem hc_V_ok (h : Nat → Bool) : hc_V h < 32 ∧ ∀ s, s ∈ [1, 2, 4, 8, 16] → hc_hV (hc_V h) s = h s := by
  have e : hc_V h = hc_vf (hc_vl (h 1) (h 2) (h 4) (h 8) (h 16)) := by
    unfold hc_V
    rw [hc_sl_1, hc_vl_f]
  obtain ⟨v0, v1, v2, v3, v4, v5⟩ := hc_vl_ok (h 1) (h 2) (h 4) (h 8) (h 16)
  rw [← e] at v0 v1 v2 v3 v4 v5
  refine ⟨v0, fun s hs => ?_⟩
  simp only [List.mem_cons, List.not_mem_nil, or_false] at hs
  rcases hs with rfl | rfl | rfl | rfl | rfl
  · exact v1
  · exact v2
  · exact v3
  · exact v4
  · exact v5
theorem hc_pt1 : ∀ s, s < 32 → hc_pt s = 1 → s ∈ [1, 2, 4, 8, 16] := by decide +kernel
theorem hc_cnV (h : Nat → Bool) {n : Nat} (hn : n ≤ 32) : hc_cn (hc_hV (hc_V h)) 1 n = hc_cn h 1 n := by
  unfold hc_cn hc_sl
  congr 1
  refine List.filter_congr (fun s hs => ?_)
  have hs' : s < n := List.mem_range.mp hs
  by_cases c : hc_pt s = 1
  · rw [(hc_V_ok h).2 s (hc_pt1 s (by omega) c)]
  · have e0 : (hc_pt s == 1) = false := by simp [c]
    rw [e0, Bool.and_false, Bool.and_false]
theorem hc_es_pt : ∀ e, e ∈ hc_es → e < 32 ∧ ∀ x, x < 5 → e.testBit x = true → hc_pt (e - 2 ^ x) = 1 := by decide +kernel
theorem hc_fP_e {P Q : Nat → Nat} {s : Nat} : ∀ n, (∀ x, x < n → s.testBit x = true → P (s - 2 ^ x) = Q (s - 2 ^ x)) → hc_fP P s n = hc_fP Q s n := by
  intro n
  induction n with
  | zero => exact fun _ => rfl
  | succ n ih =>
    intro hP
    show (if s.testBit n = true then hc_fP P s n ^^^ P (s - 2 ^ n) else hc_fP P s n) = (if s.testBit n = true then hc_fP Q s n ^^^ Q (s - 2 ^ n) else hc_fP Q s n)
    rw [ih (fun x hx => hP x (by omega))]
    by_cases c : s.testBit n = true
    · rw [if_pos c, if_pos c, hP n (by omega) c]
    · rw [if_neg c, if_neg c]
theorem hc_fcV (h : Nat → Bool) {e : Nat} (he : e ∈ hc_es) : hc_fc (hc_hV (hc_V h)) e = hc_fc h e := by
  obtain ⟨e1, e2⟩ := hc_es_pt e he
  refine hc_fP_e 5 (fun x hx hb => ?_)
  show 2 ^ hc_pl _ (e - 2 ^ x) = 2 ^ hc_pl h (e - 2 ^ x)
  unfold hc_pl
  rw [e2 x hx hb, hc_cnV h (Nat.le_trans (Nat.sub_le e (2 ^ x)) (by omega))]
theorem hc_es_V : ∀ V, V < 32 → ∀ e, e ∈ hc_es → (∀ s, s ∈ [1, 2, 4, 8, 16] → s &&& e = s → hc_hV V s = true) → e &&& V = e := by decide +kernel
theorem hc_pts_0 : ∀ s, s ∈ [1, 2, 4, 8, 16] → s ≠ 0 := by decide +kernel
/-- the law's count of the parts is the number of points less the rank of the edges -/
theorem hc_parts {h : Nat → Bool} (hcl : hc_closed h) : (hc_el (fun i => hc_bd h 1 (2 ^ i)) (hc_cn h 2 32)).1 ≤ hc_cn h 1 32 ∧ hc_chk (hc_sl h 2 32) 5 (hc_V h) (hc_cn h 1 32 - (hc_el (fun i => hc_bd h 1 (2 ^ i)) (hc_cn h 2 32)).1) = true := by
  have hV := hc_V_ok h
  have hd : hc_dfs (hc_V h) (hc_n0 (hc_V h)) (hc_ef (hc_V h)) (fun _ => 0) 0 [] = true := hc_all_ok hV.1
  have hg : ∀ e, e ∈ hc_ef (hc_V h) → h e.1 = true → e.1 &&& hc_V h = e.1 := by
    intro e he hh
    unfold hc_ef at he
    obtain ⟨a, ha, rfl⟩ := List.mem_map.mp he
    have hh' : h a = true := hh
    show a &&& hc_V h = a
    refine hc_es_V _ hV.1 a ha (fun s hs hsa => ?_)
    rw [hV.2 s hs]
    exact hcl a s (hc_es_pt a ha).1 (hc_pts_0 s hs) hsa hh'
  have key := hc_dfs_ok h _ _ _ _ hd hg
  have ef : (hc_ef (hc_V h)).filter (fun e => h e.1) = (hc_es.filter h).map (fun e => (e, hc_fc (hc_hV (hc_V h)) e)) := by
    unfold hc_ef
    rw [List.filter_map]
    rfl
  have e1 : ((hc_ef (hc_V h)).filter (fun e => h e.1)).map (fun e => e.1) = hc_sl h 2 32 := by
    rw [ef, List.map_map, hc_sl_2]
    exact List.map_id'' (fun _ => rfl) _
  have e2 : ((hc_ef (hc_V h)).filter (fun e => h e.1)).map (fun e => e.2) = (List.range (hc_cn h 2 32)).map (fun i => hc_bd h 1 (2 ^ i)) := by
    rw [ef, List.map_map]
    have e3 : (hc_es.filter h).map ((fun e : Nat × Nat => e.2) ∘ fun e => (e, hc_fc (hc_hV (hc_V h)) e)) = (hc_es.filter h).map (hc_fc h) :=
      List.map_congr_left (fun a ha => hc_fcV h (List.mem_filter.mp ha).1)
    rw [e3, ← hc_sl_2]
    apply List.ext_getElem
    · rw [List.length_map, List.length_map, List.length_range]
      rfl
    · intro i hi1 hi2
      have hi : i < (hc_sl h 2 32).length := by
        rw [List.length_map] at hi1
        exact hi1
      have hle := hc_cn_le h 2
      have hi' : i < hc_cn h 2 32 := hi
      rw [List.getElem_map, List.getElem_map, List.getElem_range]
      show hc_fc h _ = hc_lin (hc_G h 1) (2 ^ i) 10
      rw [hc_lin_pow 10 (by omega), hc_G_s (by omega)]
      unfold hc_sx
      rw [← List.getElem_eq_getD (h := hi) 0]
  have e4 : hc_n0 (hc_V h) = hc_cn h 1 32 := by
    unfold hc_n0 hc_cn
    rw [hc_sl_1, List.filter_congr hV.2]
  rw [e1, e2, e4, hc_rs_el] at key
  exact key
end
section
/-! the walks: points .. boundaryOf -/
def hc_H (a1 : Nat → Int32) (h : Nat → Bool) : Prop := ∀ j, j < 32 → (a1 j = 0 ↔ h j = false)
theorem hw_shl : ∀ p, p < 31 → (1 : Int32) <<< (nI p &&& 31) = nI (2 ^ p) := by decide +kernel
theorem hw_clr : ∀ s, s < 32 → ∀ x, x < 5 → s.testBit x = true → nI s &&& (((1 : Int32) <<< (nI x &&& 31)) ^^^ (-1)) = nI (s - 2 ^ x) := by decide +kernel
theorem hw_p1 {i k : Nat} (hk : k ≤ 10) : nI (hc_pt i) = nI k + 1 ↔ hc_pt i = k + 1 := by
  have := hc_pt_le i
  rw [nI_1, nI_eq (by omega) (by omega)]
theorem hw_isDim {post : Int32 → Prop} {u : St2} {k : Nat} (hk : k ≤ 4) (H : post 1) : wpX_isDimension post u (nI k) :=
  pk_lt k 0 (fun z => absurd z (by omega)) (fun _ => pk_lt 4 k (fun z => absurd z (by omega)) (fun _ => H))
theorem hw_points {post : Int32 → Prop} {u : St2} {s : Nat} (hs : s < 32) (H : post (nI (hc_pt s))) : wpX_points post u (nI s) :=
  pk_loop (fun n i (x : Int32) => wX_points_4 post (nI s) n x (nI i)) (fun i x => x = nI (hc_ptn s i)) 5 0 0 (by omega) rfl
    (fun n x h => pk_le 5 5 (fun _ => by rw [h]; exact H) (fun z => absurd z (by omega)))
    (fun n i x hi h hw => pk_le 5 i (fun z => absurd z (by omega)) (fun _ => nm_r (e' := nI (hc_ptn s (i + 1))) (by
      rw [h, nx_ush (by omega) (by omega), show (1 : Int32) = nI 1 from rfl, nx_and, nI_add, Nat.and_one_is_mod]
      rfl) (nm_r (nI_1 i) (hw _ rfl))))
theorem hw_countOf {post : Int32 → Prop} {r l t : Int32} {a1 a2 a3 a4 : Nat → Int32} {h : Nat → Bool} {k : Nat} (hH : hc_H a1 h) (hk : k ≤ 10) (H : post (nI (hc_cn h (k + 1) 32))) : wpX_countOf post (r, l, t, a1, a2, a3, a4) (nI k) :=
  pk_loop (fun n i (x : Int32) => wX_countOf_4 post (nI k) r l t a1 a2 a3 a4 n x (nI i)) (fun i x => x = nI (hc_cn h (k + 1) i)) 32 1 0 (by omega) (by rw [hc_cn_1 (by omega)]; rfl)
    (fun n x hx => pk_le 32 32 (fun _ => by rw [hx]; exact H) (fun z => absurd z (by omega)))
    (fun n i x hi hx hw => pk_le 32 i (fun z => absurd z (by omega)) (fun _ => ⟨pk_in i 32 hi, by
      rw [nI_clamp (show i < 2 ^ 31 by omega)]
      refine br_c (fun z => nm_r (e' := nI (hc_cn h (k + 1) (i + 1))) ?_ (nm_r (nI_1 i) (hw _ rfl))) (fun z => hw_points hi (br_c (fun g => nm_r (e' := nI (hc_cn h (k + 1) (i + 1))) ?_ (nm_r (nI_1 i) (hw _ rfl))) (fun g => nm_r (e' := nI (hc_cn h (k + 1) (i + 1))) ?_ (nm_r (nI_1 i) (hw _ rfl)))))
      · have hf := (hH i hi).mp z
        rw [hx, hc_cn_f (fun q => by rw [hf] at q; exact Bool.false_ne_true q.1)]
        exact nI_add _ 0
      · have hf : h i = true := by
          cases e : h i with
          | true => rfl
          | false => exact absurd ((hH i hi).mpr e) z
        rw [hx, hc_cn_t hf ((hw_p1 hk).mp g)]
        exact nI_1 _
      · rw [hx, hc_cn_f (fun q => g ((hw_p1 hk).mpr q.2))]
        exact nI_add _ 0⟩))
theorem hw_simplexAt {post : Int32 → Prop} {r l t : Int32} {a1 a2 a3 a4 : Nat → Int32} {h : Nat → Bool} {k s i : Nat} (hH : hc_H a1 h) (hk : k ≤ 10) (hs : s < 32) (h1 : h s = true) (h2 : hc_pt s = k + 1) (h3 : hc_cn h (k + 1) s = i) (H : post (nI s)) : wpX_simplexAt post (r, l, t, a1, a2, a3, a4) (nI k) (nI i) := by
  have hs0 : 1 ≤ s := by
    rcases Nat.eq_zero_or_pos s with z | z
    · rw [z, hc_pt_0] at h2; omega
    · exact z
  have hi10 : i ≤ 10 := by rw [← h3]; exact Nat.le_trans (hc_mono (by omega)) (hc_cn_le h (k + 1))
  refine pk_loop (fun n j (x : Int32) => wX_simplexAt_5 post (nI k) r l t a1 a2 a3 a4 n x (nI j)) (fun j x => x = nI (i - hc_cn h (k + 1) j)) s 1 (nI i) hs0 (by rw [hc_cn_1 (by omega)]; rfl) ?_ ?_
  · intro n x hx
    refine pk_le 32 s (fun z => absurd z (by omega)) (fun _ => ⟨pk_in s 32 hs, ?_⟩)
    rw [nI_clamp (show s < 2 ^ 31 by omega)]
    refine br_f (fun z => ?_) (hw_points hs (br_t ((hw_p1 hk).mpr h2) (br_t ?_ H)))
    · rw [(hH s hs).mp z] at h1
      exact Bool.false_ne_true h1
    · rw [hx, h3, Nat.sub_self]
      rfl
  · intro n j x hj hx hw
    refine pk_le 32 j (fun z => absurd z (by omega)) (fun _ => ⟨pk_in j 32 (by omega), ?_⟩)
    rw [nI_clamp (show j < 2 ^ 31 by omega)]
    refine br_c (fun z => nm_r (nI_1 j) (hw _ ?_)) (fun z => hw_points (by omega) (br_c (fun g => br_f ?_ (nm_r (e' := nI (i - hc_cn h (k + 1) (j + 1))) ?_ (nm_r (nI_1 j) (hw _ rfl)))) (fun g => nm_r (nI_1 j) (hw _ ?_))))
    · have hf := (hH j (by omega)).mp z
      rw [hx, hc_cn_f (fun q => by rw [hf] at q; exact Bool.false_ne_true q.1)]
    · have hf : h j = true := by
        cases e : h j with
        | true => rfl
        | false => exact absurd ((hH j (by omega)).mpr e) z
      have e1 := hc_cn_t hf ((hw_p1 hk).mp g)
      have e2 : hc_cn h (k + 1) (j + 1) ≤ hc_cn h (k + 1) s := hc_mono (by omega)
      rw [hx]
      exact nI_ne0 (by omega) (by omega)
    · have hf : h j = true := by
        cases e : h j with
        | true => rfl
        | false => exact absurd ((hH j (by omega)).mpr e) z
      have e1 := hc_cn_t hf ((hw_p1 hk).mp g)
      have e2 : hc_cn h (k + 1) (j + 1) ≤ hc_cn h (k + 1) s := hc_mono (by omega)
      rw [hx, sb_m1 (by omega), e1, Nat.sub_sub]
    · rw [hx, hc_cn_f (fun q => g ((hw_p1 hk).mpr q.2))]
theorem hw_placeOf {post : Int32 → Prop} {r l t : Int32} {a1 a2 a3 a4 : Nat → Int32} {h : Nat → Bool} {s : Nat} (hH : hc_H a1 h) (hs : s < 32) (hs0 : 1 ≤ s) (H : post (nI (hc_pl h s))) : wpX_placeOf post (r, l, t, a1, a2, a3, a4) (nI s) := by
  have hp := hc_pt_pos s hs (by omega)
  have hp5 := hc_pt_le s
  unfold wpX_placeOf
  refine hw_points hs (pk_loop (fun n j (x : Int32) => wX_placeOf_10 post (nI s) (nI (hc_pt s)) r l t a1 a2 a3 a4 n x (nI j)) (fun j x => x = nI (hc_cn h (hc_pt s) j)) s 1 0 hs0 (by rw [hc_cn_1 (by omega)]; rfl) ?_ ?_)
  · intro n x hx
    exact pk_le s s (fun _ => by rw [hx]; exact H) (fun z => absurd z (by omega))
  · intro n i x hi hx hw
    have hp5i := hc_pt_le i
    refine pk_le s i (fun z => absurd z (by omega)) (fun _ => ⟨pk_in i 32 (by omega), ?_⟩)
    rw [nI_clamp (show i < 2 ^ 31 by omega)]
    refine br_c (fun z => nm_r (e' := nI (hc_cn h (hc_pt s) (i + 1))) ?_ (nm_r (nI_1 i) (hw _ rfl))) (fun z => hw_points (by omega) (pk_eq (hc_pt i) (hc_pt s) (fun g => nm_r (e' := nI (hc_cn h (hc_pt s) (i + 1))) ?_ (nm_r (nI_1 i) (hw _ rfl))) (fun g => nm_r (e' := nI (hc_cn h (hc_pt s) (i + 1))) ?_ (nm_r (nI_1 i) (hw _ rfl)))))
    · have hf := (hH i (by omega)).mp z
      rw [hx, hc_cn_f (fun q => by rw [hf] at q; exact Bool.false_ne_true q.1)]
      exact nI_add _ 0
    · have hf : h i = true := by
        cases e : h i with
        | true => rfl
        | false => exact absurd ((hH i (by omega)).mpr e) z
      rw [hx, hc_cn_t hf g]
      exact nI_1 _
    · rw [hx, hc_cn_f (fun q => g q.2)]
      exact nI_add _ 0
theorem hw_facesOf {post : Int32 → Prop} {r l t : Int32} {a1 a2 a3 a4 : Nat → Int32} {h : Nat → Bool} {s : Nat} (hH : hc_H a1 h) (hs : s < 32) (hp : 2 ≤ hc_pt s) (H : post (nI (hc_fc h s))) : wpX_facesOf post (r, l, t, a1, a2, a3, a4) (nI s) := by
  refine pk_loop (fun n i (x : Int32) => wX_facesOf_4 post (nI s) r l t a1 a2 a3 a4 n x (nI i)) (fun i x => x = nI (hc_fP (hc_P h) s i)) 5 0 0 (by omega) rfl ?_ ?_
  · intro n x hx
    exact pk_le 5 5 (fun _ => by rw [hx]; exact H) (fun z => absurd z (by omega))
  · intro n i x hi hx hw
    refine pk_le 5 i (fun z => absurd z (by omega)) (fun _ => br_c (fun z => nm_r (nI_1 i) (hw _ ?_)) (fun z => ?_))
    · have hb := (nx_bit (by omega) (by omega)).mp z
      rw [hx]
      show _ = nI (if s.testBit i = true then hc_fP (hc_P h) s i ^^^ hc_P h (s - 2 ^ i) else hc_fP (hc_P h) s i)
      rw [if_neg (by rw [hb]; exact Bool.false_ne_true)]
    · have hb : s.testBit i = true := by
        cases e : s.testBit i with
        | true => rfl
        | false => exact absurd ((nx_bit (by omega) (by omega)).mpr e) z
      obtain ⟨f1, f2, f3⟩ := hc_face s hs i hi hb
      have hpl : hc_pl h (s - 2 ^ i) ≤ 10 := hc_pl_le (by omega)
      rw [hw_clr s hs i hi hb]
      refine hw_placeOf hH f3 ?_ (nm_r (e' := nI (hc_fP (hc_P h) s (i + 1))) ?_ (nm_r (nI_1 i) (hw _ rfl)))
      · rcases Nat.eq_zero_or_pos (s - 2 ^ i) with z0 | z0
        · rw [z0, hc_pt_0] at f2; omega
        · exact z0
      · rw [hx, hw_shl _ (by omega), nx_xor]
        show _ = nI (if s.testBit i = true then hc_fP (hc_P h) s i ^^^ hc_P h (s - 2 ^ i) else hc_fP (hc_P h) s i)
        rw [if_pos hb]
        rfl
theorem hw_boundaryOf {post : Int32 → Prop} {r l t : Int32} {a1 a2 a3 a4 : Nat → Int32} {h : Nat → Bool} {k c : Nat} (hH : hc_H a1 h) (hk : k ≤ 4) (hc : c < 2 ^ hc_cn h (k + 1) 32) (H : post (nI (hc_bd h k c))) : wpX_boundaryOf post (r, l, t, a1, a2, a3, a4) (nI k) (nI c) := by
  have hc10 : c < 2 ^ 10 := hc_pw (hc_cn_le h (k + 1)) hc
  refine pk_loop (fun n i (x : Int32) => wX_boundaryOf_5 post (nI k) (nI c) r l t a1 a2 a3 a4 n x (nI i)) (fun i x => x = nI (hc_lin (hc_G h k) c i)) 10 0 0 (by omega) rfl ?_ ?_
  · intro n x hx
    exact pk_le 10 10 (fun _ => by rw [hx]; exact H) (fun z => absurd z (by omega))
  · intro n i x hi hx hw
    refine pk_le 10 i (fun z => absurd z (by omega)) (fun _ => pk_le k 0 (fun z => nm_r (nI_1 i) (hw _ ?_)) (fun z => br_c (fun g => nm_r (nI_1 i) (hw _ ?_)) (fun g => ?_)))
    · have hk0 : k = 0 := by omega
      rw [hx]
      cases hb : c.testBit i with
      | false => rw [hc_lin_f hb]
      | true =>
        rw [hc_lin_t hb]
        unfold hc_G
        rw [if_pos hk0, Nat.xor_zero]
    · have hb := (nx_bit (by omega) (by omega)).mp g
      rw [hx, hc_lin_f hb]
    · have hb : c.testBit i = true := by
        cases e : c.testBit i with
        | true => rfl
        | false => exact absurd ((nx_bit (by omega) (by omega)).mpr e) g
      obtain ⟨s1, s2, s3, s4⟩ := hc_sx_sp (hc_bit_lt hc hb)
      refine hw_simplexAt hH (by omega) s1 s2 s3 s4 (hw_facesOf hH s1 (by omega) (nm_r (e' := nI (hc_lin (hc_G h k) c (i + 1))) ?_ (nm_r (nI_1 i) (hw _ rfl))))
      rw [hx, nx_xor, hc_lin_t hb, hc_G_s (by omega)]
end
section
/-! the walks: reduce .. eliminate -/
def hc_R (a : Nat → Int32) (f : Nat → Nat) : Prop := ∀ b, b < 10 → a b = nI (f b)
theorem hw_upR {a : Nat → Int32} {f : Nat → Nat} {k v : Nat} (h : hc_R a f) : hc_R (upd a k (nI v)) (hc_up f k v) := by
  intro b hb
  by_cases e : b = k
  · rw [e, pk_us, hc_up_s]
  · rw [pk_un e, hc_up_n e]
    exact h b hb
theorem hw_bit {c i : Nat} (hc : c < 2 ^ 11) (hi : i < 10) : (((nI c).toUInt32 >>> ((nI i).toUInt32 &&& Int32.toUInt32 31)).toInt32 &&& 1) = 0 ↔ c.testBit i = false := nx_bit (by omega) (by omega)
theorem hw_tb {b : Bool} (h : ¬ b = false) : b = true := by
  cases b with
  | true => rfl
  | false => exact absurd rfl h
theorem hw_z {v : Nat} (hv : v < 2 ^ 11) : nI v = 0 ↔ v = 0 := by
  rw [← nI_0, nI_eq (by omega) (by omega)]
theorem hw_reduce {post : St1 → Prop} {r l t : Int32} {a1 a2 a3 a4 : Nat → Int32} {row org : Nat → Nat} {c : Nat} (h2 : hc_R a2 row) (h3 : hc_R a3 org) (b2 : ∀ b, row b < 2 ^ 11) (hc : c < 2 ^ 11)
    (H : post (r, nI (hc_rl row 10 c), nI (hc_rt row org 10 c 0), a1, a2, a3, a4)) : wpX_reduce post (r, l, t, a1, a2, a3, a4) (nI c) := by
  refine ⟨11, pk_loopD (fun n i (s : Nat × Nat) => i ≤ 10 → wX_reduce_13 post r a1 a2 a3 a4 n (nI i + (-1)) (nI s.1) (nI s.2)) (fun i s => s.1 < 2 ^ 11 ∧ hc_rl row i s.1 = hc_rl row 10 c ∧ hc_rt row org i s.1 s.2 = hc_rt row org 10 c 0) ?_ ?_ 10 (c, 0) ⟨hc, rfl, rfl⟩ (Nat.le_refl 10)⟩
  · intro n s hs hi
    obtain ⟨h0, e1, e2⟩ := hs
    have e1' : s.1 = hc_rl row 10 c := e1
    have e2' : s.2 = hc_rt row org 10 c 0 := e2
    rw [e1', e2']
    exact br_t (by decide) H
  · intro n i s hs hw hi
    obtain ⟨h0, e1, e2⟩ := hs
    have hi' : i < 10 := by omega
    rw [pk_m1]
    refine br_f (nI_pos (by omega)) ⟨pk_in i 10 hi', ?_⟩
    rw [nI_clamp (show i < 2 ^ 31 by omega), h2 i hi', h3 i hi']
    refine br_c (fun z => nm_e (hw s ⟨h0, ?_, ?_⟩ (by omega))) (fun z => br_c (fun g => nm_e (hw s ⟨h0, ?_, ?_⟩ (by omega))) (fun g => ⟨pk_in i 10 hi', nm_r (nx_xor _ _) ⟨pk_in i 10 hi', nm_r (nx_xor _ _) (nm_e (hw (s.1 ^^^ row i, s.2 ^^^ org i) ⟨Nat.xor_lt_two_pow h0 (b2 i), ?_, ?_⟩ (by omega)))⟩⟩))
    · rw [← e1, hc_rl_z (Or.inl ((hw_z (b2 i)).mp z))]
    · rw [← e2, hc_rt_z (Or.inl ((hw_z (b2 i)).mp z))]
    · rw [← e1, hc_rl_z (Or.inr ((hw_bit h0 hi').mp g))]
    · rw [← e2, hc_rt_z (Or.inr ((hw_bit h0 hi').mp g))]
    · rw [← e1, hc_rl_s (fun e => z ((hw_z (b2 i)).mpr e)) (hw_tb (fun e => g ((hw_bit h0 hi').mpr e)))]
    · rw [← e2, hc_rt_s (fun e => z ((hw_z (b2 i)).mpr e)) (hw_tb (fun e => g ((hw_bit h0 hi').mpr e)))]
theorem hw_highest {post : Int32 → Prop} {u : St2} {c : Nat} (hc : c < 2 ^ 11) (H : post (nI (hc_hi c 10))) : wpX_highest post u (nI c) := by
  refine pk_loop (fun n i (x : Int32) => wX_highest_4 post (nI c) n x (nI i)) (fun i x => x = nI (hc_hi c i)) 10 0 0 (by omega) rfl ?_ ?_
  · intro n x hx
    exact pk_le 10 10 (fun _ => by rw [hx]; exact H) (fun z => absurd z (by omega))
  · intro n i x hi hx hw
    refine pk_le 10 i (fun z => absurd z (by omega)) (fun _ => br_c (fun z => nm_r (nI_1 i) (hw _ ?_)) (fun z => nm_r (nI_1 i) (hw _ ?_)))
    · rw [hx, hc_hi_f ((hw_bit hc hi).mp z)]
    · rw [hc_hi_t (hw_tb (fun e => z ((hw_bit hc hi).mpr e)))]
theorem hw_addCycle {post : St1 → Prop} {r l t : Int32} {a1 a2 a3 a4 : Nat → Int32} {cyc : Nat → Nat} {c : Nat} (h4 : hc_R a4 cyc) (b4 : ∀ b, cyc b < 2 ^ 11) (hc : c < 2 ^ 11)
    (H : ∀ a4', hc_R a4' (hc_ac cyc 10 c) → post (r, l, t, a1, a2, a3, a4')) : wpX_addCycle post (r, l, t, a1, a2, a3, a4) (nI c) := by
  refine ⟨11, pk_loopD (fun n i (s : Nat) => i ≤ 10 → wX_addCycle_5 post r l t a1 a2 a3 a4 n (nI s) (nI i + (-1))) (fun i s => s < 2 ^ 11 ∧ hc_ac cyc i s = hc_ac cyc 10 c) ?_ ?_ 10 c ⟨hc, rfl⟩ (Nat.le_refl 10)⟩
  · intro n s hs hi
    obtain ⟨h0, e1⟩ := hs
    refine br_t (by decide) (H a4 ?_)
    rw [← e1]
    exact h4
  · intro n i s hs hw hi
    obtain ⟨h0, e1⟩ := hs
    have hi' : i < 10 := by omega
    rw [pk_m1]
    refine br_f (nI_pos (by omega)) ?_
    rw [nI_clamp (show i < 2 ^ 31 by omega), h4 i hi']
    refine br_c (fun z => nm_e (hw s ⟨h0, ?_⟩ (by omega))) (fun z => ⟨pk_in i 10 hi', br_c (fun g => ⟨pk_in i 10 hi', nm_e (H _ ?_)⟩) (fun g => ⟨pk_in i 10 hi', nm_r (nx_xor _ _) (nm_e (hw (s ^^^ cyc i) ⟨Nat.xor_lt_two_pow h0 (b4 i), ?_⟩ (by omega)))⟩)⟩)
    · rw [← e1, hc_ac_f ((hw_bit h0 hi').mp z)]
    · rw [← e1, hc_ac_z (hw_tb (fun e => z ((hw_bit h0 hi').mpr e))) ((hw_z (b4 i)).mp g)]
      exact hw_upR h4
    · rw [← e1, hc_ac_n (hw_tb (fun e => z ((hw_bit h0 hi').mpr e))) (fun e => g ((hw_z (b4 i)).mpr e))]
/-- the elimination of held h, dimension k -/
def hc_E (h : Nat → Bool) (k : Nat) : Nat × (Nat → Nat) × (Nat → Nat) × (Nat → Nat) := hc_el (fun i => hc_bd h k (2 ^ i)) (hc_cn h (k + 1) 32)
theorem hw_F {h : Nat → Bool} {k i : Nat} (hi : i < hc_cn h (k + 1) 32) : hc_bd h k (2 ^ i) < 2 ^ 11 := hc_bd_lt (Nat.pow_lt_pow_right (by omega) hi)
theorem hw_Ebd (h : Nat → Bool) (k : Nat) : (hc_E h k).1 ≤ 10 ∧ (∀ b, (hc_E h k).2.1 b < 2 ^ 11) ∧ (∀ b, (hc_E h k).2.2.1 b < 2 ^ 11) ∧ (∀ b, (hc_E h k).2.2.2 b < 2 ^ 11) := by
  have hle := hc_cn_le h (k + 1)
  obtain ⟨i1, i2⟩ := hc_el_bd (F := fun i => hc_bd h k (2 ^ i)) hle (fun i hi => hw_F hi) _ (Nat.le_refl _)
  exact ⟨Nat.le_trans i1 hle, i2⟩
theorem hw_el57 {post : St1 → Prop} {r l t : Int32} {a1 a2 a3 a4 : Nat → Int32} {h : Nat → Bool} {k N : Nat} (hH : hc_H a1 h) (hk : k ≤ 5) (hN : N = hc_cn h (k + 1) 32) (hr : r = 0) (h2 : hc_R a2 (fun _ => 0)) (h3 : hc_R a3 (fun _ => 0)) (h4 : hc_R a4 (fun _ => 0))
    (H : ∀ l' t' a2' a3' a4', hc_R a2' (hc_E h k).2.1 → hc_R a3' (hc_E h k).2.2.1 → hc_R a4' (hc_E h k).2.2.2 → post (nI (hc_E h k).1, l', t', a1, a2', a3', a4')) :
    ∃ n, wX_eliminate_57 post (nI k) (nI N) n 0 r l t a1 a2 a3 a4 := by
  have hN10 : N ≤ 10 := by rw [hN]; exact hc_cn_le h (k + 1)
  refine pk_loop (fun n i (s : Int32 × Int32 × Int32 × (Nat → Int32) × (Nat → Int32) × (Nat → Int32)) => wX_eliminate_57 post (nI k) (nI N) n (nI i) s.1 s.2.1 s.2.2.1 a1 s.2.2.2.1 s.2.2.2.2.1 s.2.2.2.2.2)
    (fun i s => s.1 = nI (hc_el (fun i => hc_bd h k (2 ^ i)) i).1 ∧ hc_R s.2.2.2.1 (hc_el (fun i => hc_bd h k (2 ^ i)) i).2.1 ∧ hc_R s.2.2.2.2.1 (hc_el (fun i => hc_bd h k (2 ^ i)) i).2.2.1 ∧ hc_R s.2.2.2.2.2 (hc_el (fun i => hc_bd h k (2 ^ i)) i).2.2.2) N 0 (r, l, t, a2, a3, a4) (by omega) ⟨by rw [hr]; rfl, h2, h3, h4⟩ ?_ ?_
  · intro n s hs
    obtain ⟨s0, s1, s2, s3, s4, s5⟩ := s
    obtain ⟨e0, e2, e3, e4⟩ := hs
    dsimp only at e0 e2 e3 e4
    subst hN
    refine pk_le (hc_cn h (k + 1) 32) (hc_cn h (k + 1) 32) (fun _ => ?_) (fun z => absurd z (by omega))
    rw [e0]
    exact H _ _ _ _ _ e2 e3 e4
  · intro n i s hi hs hw
    obtain ⟨s0, s1, s2, s3, s4, s5⟩ := s
    obtain ⟨e0, e2, e3, e4⟩ := hs
    dsimp only at e0 e2 e3 e4
    have hk4 : k ≤ 4 := by
      rcases Nat.lt_or_ge 4 k with z | z
      · rw [hN, hc_cn_big (by omega)] at hi; omega
      · exact z
    obtain ⟨b1, b2, b3, b4⟩ := hc_el_bd (F := fun i => hc_bd h k (2 ^ i)) hN10 (fun i hi => hw_F (by omega)) i (by omega)
    have hF : hc_bd h k (2 ^ i) < 2 ^ 11 := hw_F (by omega)
    have hl : hc_rl (hc_el (fun i => hc_bd h k (2 ^ i)) i).2.1 10 (hc_bd h k (2 ^ i)) < 2 ^ 11 := hc_rl_lt b2 10 _ hF
    have ht : hc_rt (hc_el (fun i => hc_bd h k (2 ^ i)) i).2.1 (hc_el (fun i => hc_bd h k (2 ^ i)) i).2.2.1 10 (hc_bd h k (2 ^ i)) 0 ^^^ 2 ^ i < 2 ^ 11 := Nat.xor_lt_two_pow (hc_rt_lt b3 10 _ _ (Nat.two_pow_pos 11)) (Nat.pow_lt_pow_right (by omega) (by omega))
    refine pk_le N i (fun z => absurd z (by omega)) (fun _ => ?_)
    rw [hw_shl i (by omega)]
    refine hw_boundaryOf hH hk4 (by rw [← hN]; exact Nat.pow_lt_pow_right (by omega) hi) (hw_reduce e2 e3 b2 hF (nm_r (nx_xor _ _) ?_))
    refine br_c (fun z => hw_addCycle e4 b4 ht (fun a4' h4' => nm_r (nI_1 i) (hw (_, _, _, _, _, a4') ?_))) (fun z => hw_highest hl ⟨pk_in _ 10 (hc_hi_le 10 (Nat.le_refl 10)), ?_⟩)
    · have z' : hc_rl (hc_el (fun i => hc_bd h k (2 ^ i)) i).2.1 10 ((fun i => hc_bd h k (2 ^ i)) i) = 0 := (hw_z hl).mp z
      rw [hc_el_z z']
      exact ⟨e0, e2, e3, h4'⟩
    · have z' : hc_rl (hc_el (fun i => hc_bd h k (2 ^ i)) i).2.1 10 ((fun i => hc_bd h k (2 ^ i)) i) ≠ 0 := fun e => z ((hw_z hl).mpr e)
      have hh := hc_hi_le (s := hc_rl (hc_el (fun i => hc_bd h k (2 ^ i)) i).2.1 10 (hc_bd h k (2 ^ i))) 10 (Nat.le_refl 10)
      rw [nI_clamp (show hc_hi (hc_rl (hc_el (fun i => hc_bd h k (2 ^ i)) i).2.1 10 (hc_bd h k (2 ^ i))) 10 < 2 ^ 31 by omega)]
      refine nm_e ⟨pk_in _ 10 hh, nm_e (nm_e (nm_r (nI_1 i) (hw (_, _, _, _, _, _) ?_)))⟩
      rw [hc_el_n z']
      exact ⟨by rw [e0]; exact nI_1 _, hw_upR e2, hw_upR e3, e4⟩
theorem hw_eliminate {post : St1 → Prop} {r l t : Int32} {a1 a2 a3 a4 : Nat → Int32} {h : Nat → Bool} {k : Nat} (hH : hc_H a1 h) (hk : k ≤ 5)
    (H : ∀ l' t' a2' a3' a4', hc_R a2' (hc_E h k).2.1 → hc_R a3' (hc_E h k).2.2.1 → hc_R a4' (hc_E h k).2.2.2 → post (nI (hc_E h k).1, l', t', a1, a2', a3', a4')) :
    wpX_eliminate post (r, l, t, a1, a2, a3, a4) (nI k) := by
  refine pk_loop (fun n i (s : (Nat → Int32) × (Nat → Int32) × (Nat → Int32)) => wX_eliminate_7 post (nI k) 0 l t n (nI i) a1 s.1 s.2.1 s.2.2)
    (fun i s => (∀ b, b < i → s.1 b = 0) ∧ (∀ b, b < i → s.2.1 b = 0) ∧ (∀ b, b < i → s.2.2 b = 0)) 10 0 (a2, a3, a4) (by omega) ⟨fun b hb => absurd hb (by omega), fun b hb => absurd hb (by omega), fun b hb => absurd hb (by omega)⟩ ?_ ?_
  · intro n s hs
    obtain ⟨s1, s2, s3⟩ := s
    obtain ⟨e1, e2, e3⟩ := hs
    refine pk_le 10 10 (fun _ => pk_le k 4 (fun z => hw_countOf hH (by omega) (hw_el57 hH hk rfl rfl e1 e2 e3 H)) (fun z => hw_el57 (N := 0) hH hk ?_ rfl e1 e2 e3 H)) (fun z => absurd z (by omega))
    rw [hc_cn_big (by omega)]
  · intro n i s hi hs hw
    obtain ⟨s1, s2, s3⟩ := s
    obtain ⟨e1, e2, e3⟩ := hs
    have key : ∀ f : Nat → Int32, (∀ b, b < i → f b = 0) → ∀ b, b < i + 1 → upd f i 0 b = 0 := by
      intro f hf b hb
      by_cases e : b = i
      · rw [e, pk_us]
      · rw [pk_un e]
        exact hf b (by omega)
    refine pk_le 10 i (fun z => absurd z (by omega)) (fun _ => ⟨pk_in i 10 hi, ?_⟩)
    rw [nI_clamp (show i < 2 ^ 31 by omega)]
    exact nm_e ⟨pk_in i 10 hi, nm_e ⟨pk_in i 10 hi, nm_e (nm_r (nI_1 i) (hw (_, _, _) ⟨key _ e1, key _ e2, key _ e3⟩))⟩⟩
end
section
/-! the walks: holes, alternating, count, simplex, boundary, filled, filling, least, chain -/
theorem hw_holes {post : Int32 → St1 → Prop} {r l t : Int32} {a1 a2 a3 a4 : Nat → Int32} {h : Nat → Bool} {k : Nat} (hH : hc_H a1 h) (hk : k ≤ 4)
    (H : ∀ r' l' t' a2' a3' a4', post (nI (hc_cn h (k + 1) 32) - nI (hc_E h k).1 - nI (hc_E h (k + 1)).1) (r', l', t', a1, a2', a3', a4')) :
    wpX_holes post (r, l, t, a1, a2, a3, a4) (nI k) := by
  unfold wpX_holes
  dsimp only
  refine hw_isDim hk (br_f (by decide) (hw_countOf hH (by omega) (hw_eliminate hH (by omega) (fun l1 t1 b2 b3 b4 _ _ _ => nm_e ?_))))
  rw [nI_1]
  exact hw_eliminate hH (by omega) (fun l2 t2 c2 c3 c4 _ _ _ => H _ _ _ _ _ _)
def hc_alt (h : Nat → Bool) : Nat → Int32
  | 0 => 0
  | i + 1 => if i % 2 = 0 then hc_alt h i + nI (hc_cn h (i + 1) 32) else hc_alt h i + (-(nI (hc_cn h (i + 1) 32)))
theorem hw_even : ∀ i, i < 5 → ((nI i &&& 1) = 0 ↔ i % 2 = 0) := by decide +kernel
theorem hw_alternating {post : Int32 → Prop} {r l t : Int32} {a1 a2 a3 a4 : Nat → Int32} {h : Nat → Bool} (hH : hc_H a1 h) (H : post (hc_alt h 5)) : wpX_alternating post (r, l, t, a1, a2, a3, a4) := by
  refine pk_loop (fun n i (x : Int32) => wX_alternating_4 post r l t a1 a2 a3 a4 n x (nI i)) (fun i x => x = hc_alt h i) 5 0 0 (by omega) rfl ?_ ?_
  · intro n x hx
    exact pk_le 5 5 (fun _ => by rw [hx]; exact H) (fun z => absurd z (by omega))
  · intro n i x hi hx hw
    refine pk_le 5 i (fun z => absurd z (by omega)) (fun _ => hw_countOf hH (by omega) (br_c (fun z => nm_r (e' := hc_alt h (i + 1)) ?_ (nm_r (nI_1 i) (hw _ rfl))) (fun z => nm_r (e' := hc_alt h (i + 1)) ?_ (nm_r (nI_1 i) (hw _ rfl)))))
    · rw [hx]
      exact (if_pos ((hw_even i hi).mp z)).symm
    · rw [hx]
      exact (if_neg (fun e => z ((hw_even i hi).mpr e))).symm
theorem hw_count {post : Int32 → Prop} {r l t : Int32} {a1 a2 a3 a4 : Nat → Int32} {h : Nat → Bool} {k : Nat} (hH : hc_H a1 h) (hk : k ≤ 4) (H : post (nI (hc_cn h (k + 1) 32))) : wpX_count post (r, l, t, a1, a2, a3, a4) (nI k) := by
  unfold wpX_count
  dsimp only
  exact hw_isDim hk (br_f (by decide) (hw_countOf hH (by omega) H))
theorem hw_simplex {post : Int32 → Prop} {r l t : Int32} {a1 a2 a3 a4 : Nat → Int32} {h : Nat → Bool} {k i : Nat} (hH : hc_H a1 h) (hk : k ≤ 4) (hi : i < hc_cn h (k + 1) 32) (H : post (nI (hc_sx h (k + 1) i))) : wpX_simplex post (r, l, t, a1, a2, a3, a4) (nI k) (nI i) := by
  have hle := hc_cn_le h (k + 1)
  obtain ⟨s1, s2, s3, s4⟩ := hc_sx_sp hi
  unfold wpX_simplex
  dsimp only
  exact hw_isDim hk (br_f (by decide) (br_f (nI_pos (by omega)) (hw_countOf hH (by omega) (br_f (nI_ge hi (by omega)) (hw_simplexAt hH (by omega) s1 s2 s3 s4 H)))))
theorem hw_isChain {post : Int32 → Prop} {r l t : Int32} {a1 a2 a3 a4 : Nat → Int32} {h : Nat → Bool} {k c : Nat} (hH : hc_H a1 h) (hk : k ≤ 4) (hc : c < 2 ^ hc_cn h (k + 1) 32) (H : post 1) : wpX_isChain post (r, l, t, a1, a2, a3, a4) (nI k) (nI c) := by
  have hle := hc_cn_le h (k + 1)
  have hp : 2 ^ hc_cn h (k + 1) 32 ≤ 2 ^ 10 := Nat.pow_le_pow_right (by omega) hle
  unfold wpX_isChain
  dsimp only
  refine hw_isDim hk (br_f (by decide) (br_f (nI_pos (by omega)) (hw_countOf hH (by omega) (br_f ?_ H))))
  rw [hw_shl _ (by omega)]
  exact nI_ge hc (by omega)
theorem hw_boundary {post : Int32 → Prop} {r l t : Int32} {a1 a2 a3 a4 : Nat → Int32} {h : Nat → Bool} {k c : Nat} (hH : hc_H a1 h) (hk : k ≤ 4) (hc : c < 2 ^ hc_cn h (k + 1) 32) (H : post (nI (hc_bd h k c))) : wpX_boundary post (r, l, t, a1, a2, a3, a4) (nI k) (nI c) := by
  unfold wpX_boundary
  dsimp only
  exact hw_isChain hH hk hc (br_f (by decide) (hw_boundaryOf hH hk hc H))
/-- what is left of c over the elimination one dimension up, and what was taken -/
def hc_L (h : Nat → Bool) (k c : Nat) : Nat := hc_rl (hc_E h (k + 1)).2.1 10 c
def hc_T (h : Nat → Bool) (k c : Nat) : Nat := hc_rt (hc_E h (k + 1)).2.1 (hc_E h (k + 1)).2.2.1 10 c 0
def hc_Fi (h : Nat → Bool) (k c : Nat) : Nat := hc_rl (hc_E h (k + 1)).2.2.2 10 (hc_T h k c)
theorem hw_c11 {h : Nat → Bool} {k c : Nat} (hc : c < 2 ^ hc_cn h (k + 1) 32) : c < 2 ^ 11 := hc_pw (Nat.le_succ_of_le (hc_cn_le h (k + 1))) hc
theorem hw_L {h : Nat → Bool} {k c : Nat} (hc : c < 2 ^ hc_cn h (k + 1) 32) : hc_L h k c < 2 ^ 11 := hc_rl_lt (hw_Ebd h (k + 1)).2.1 10 _ (hw_c11 hc)
theorem hw_filled {post : Int32 → St1 → Prop} {r l t : Int32} {a1 a2 a3 a4 : Nat → Int32} {h : Nat → Bool} {k c : Nat} (hH : hc_H a1 h) (hk : k ≤ 4) (hc : c < 2 ^ hc_cn h (k + 1) 32)
    (H : ∀ r' l' t' a2' a3' a4', post (if hc_L h k c = 0 then 1 else 0) (r', l', t', a1, a2', a3', a4')) : wpX_filled post (r, l, t, a1, a2, a3, a4) (nI k) (nI c) := by
  have hb := hw_Ebd h (k + 1)
  unfold wpX_filled
  dsimp only
  refine hw_isChain hH hk hc (br_f (by decide) ?_)
  rw [nI_1]
  refine hw_eliminate hH (by omega) (fun l1 t1 b2 b3 b4 h2 h3 h4 => hw_reduce h2 h3 hb.2.1 (hw_c11 hc) (br_c (fun z => ?_) (fun z => ?_)))
  · have e : hc_L h k c = 0 := (hw_z (hw_L hc)).mp z
    rw [if_pos e] at H
    exact H _ _ _ _ _ _
  · have e : ¬ hc_L h k c = 0 := fun e => z ((hw_z (hw_L hc)).mpr e)
    rw [if_neg e] at H
    exact H _ _ _ _ _ _
theorem hw_least {post : Int32 → St1 → Prop} {r l t : Int32} {a1 a2 a3 a4 : Nat → Int32} {h : Nat → Bool} {k c : Nat} (hH : hc_H a1 h) (hk : k ≤ 4) (hc : c < 2 ^ hc_cn h (k + 1) 32)
    (H : ∀ r' l' t' a2' a3' a4', post (nI (hc_L h k c)) (r', l', t', a1, a2', a3', a4')) : wpX_least post (r, l, t, a1, a2, a3, a4) (nI k) (nI c) := by
  have hb := hw_Ebd h (k + 1)
  unfold wpX_least
  dsimp only
  refine hw_isChain hH hk hc (br_f (by decide) ?_)
  rw [nI_1]
  exact hw_eliminate hH (by omega) (fun l1 t1 b2 b3 b4 h2 h3 h4 => hw_reduce h2 h3 hb.2.1 (hw_c11 hc) (H _ _ _ _ _ _))
theorem hw_filling_42 {post : Int32 → St1 → Prop} {r l t : Int32} {a1 a2 a3 a4 : Nat → Int32} {cyc : Nat → Nat} {c : Nat} (h4 : hc_R a4 cyc) (b4 : ∀ b, cyc b < 2 ^ 11) (hc : c < 2 ^ 11)
    (H : post (nI (hc_rl cyc 10 c)) (r, l, t, a1, a2, a3, a4)) : ∃ n, wX_filling_42 post r l t a1 a2 a3 a4 n (nI c) 9 := by
  refine ⟨11, pk_loopD (fun n i (s : Nat) => i ≤ 10 → wX_filling_42 post r l t a1 a2 a3 a4 n (nI s) (nI i + (-1))) (fun i s => s < 2 ^ 11 ∧ hc_rl cyc i s = hc_rl cyc 10 c) ?_ ?_ 10 c ⟨hc, rfl⟩ (Nat.le_refl 10)⟩
  · intro n s hs hi
    obtain ⟨h0, e1⟩ := hs
    have e1' : s = hc_rl cyc 10 c := e1
    rw [e1']
    exact br_t (by decide) H
  · intro n i s hs hw hi
    obtain ⟨h0, e1⟩ := hs
    have hi' : i < 10 := by omega
    rw [pk_m1]
    refine br_f (nI_pos (by omega)) ⟨pk_in i 10 hi', ?_⟩
    rw [nI_clamp (show i < 2 ^ 31 by omega), h4 i hi']
    refine br_c (fun z => nm_e (hw s ⟨h0, ?_⟩ (by omega))) (fun z => br_c (fun g => nm_e (hw s ⟨h0, ?_⟩ (by omega))) (fun g => ⟨pk_in i 10 hi', nm_r (nx_xor _ _) (nm_e (hw (s ^^^ cyc i) ⟨Nat.xor_lt_two_pow h0 (b4 i), ?_⟩ (by omega)))⟩))
    · rw [← e1, hc_rl_z (Or.inl ((hw_z (b4 i)).mp z))]
    · rw [← e1, hc_rl_z (Or.inr ((hw_bit h0 hi').mp g))]
    · rw [← e1, hc_rl_s (fun e => z ((hw_z (b4 i)).mpr e)) (hw_tb (fun e => g ((hw_bit h0 hi').mpr e)))]
theorem hw_filling {post : Int32 → St1 → Prop} {r l t : Int32} {a1 a2 a3 a4 : Nat → Int32} {h : Nat → Bool} {k c : Nat} (hH : hc_H a1 h) (hk : k ≤ 4) (hc : c < 2 ^ hc_cn h (k + 1) 32)
    (H : ∀ r' l' t' a2' a3' a4', post (if hc_L h k c = 0 then nI (hc_Fi h k c) else (-2)) (r', l', t', a1, a2', a3', a4')) : wpX_filling post (r, l, t, a1, a2, a3, a4) (nI k) (nI c) := by
  have hb := hw_Ebd h (k + 1)
  have hT : hc_T h k c < 2 ^ 11 := hc_rt_lt hb.2.2.1 10 _ _ (Nat.two_pow_pos 11)
  unfold wpX_filling
  dsimp only
  refine hw_isChain hH hk hc (br_f (by decide) ?_)
  rw [nI_1]
  refine hw_eliminate hH (by omega) (fun l1 t1 b2 b3 b4 h2 h3 h4 => hw_reduce h2 h3 hb.2.1 (hw_c11 hc) (br_c (fun z => ?_) (fun z => ?_)))
  · have e : hc_L h k c = 0 := (hw_z (hw_L hc)).mp z
    rw [if_pos e] at H
    exact hw_filling_42 h4 hb.2.2.2 hT (H _ _ _ _ _ _)
  · have e : ¬ hc_L h k c = 0 := fun e => z ((hw_z (hw_L hc)).mpr e)
    rw [if_neg e] at H
    exact H _ _ _ _ _ _
/-- if nothing is left: the filling is a chain one dimension up, its boundary is c, and c has none -/
theorem hc_fill {h : Nat → Bool} (hcl : hc_closed h) {k c : Nat} (e : hc_L h k c = 0) : hc_Fi h k c < 2 ^ hc_cn h (k + 2) 32 ∧ hc_bd h (k + 1) (hc_Fi h k c) = c ∧ hc_bd h k c = 0 := by
  obtain ⟨i1, i2, i3, i4⟩ := hc_el_inv (F := fun i => hc_bd h (k + 1) (2 ^ i)) (B := hc_bd h (k + 1)) (hc_bd_xor h (k + 1)) (hc_bd_0 h (k + 1)) (N := hc_cn h (k + 2) 32) (fun i _ => rfl) _ (Nat.le_refl _)
  have hT : hc_T h k c < 2 ^ hc_cn h (k + 2) 32 := hc_rt_lt i2 10 _ _ (Nat.two_pow_pos _)
  have hBT : hc_bd h (k + 1) (hc_T h k c) = c := by
    have q : hc_L h k c ^^^ hc_bd h (k + 1) (hc_T h k c) = c ^^^ hc_bd h (k + 1) 0 := hc_rl_B (hc_bd_xor h (k + 1)) i1 10 c 0
    rw [e, hc_bd_0, Nat.xor_zero, Nat.zero_xor] at q
    exact q
  have hF : hc_bd h (k + 1) (hc_Fi h k c) = hc_bd h (k + 1) (hc_T h k c) := hc_fl_B (hc_bd_xor h (k + 1)) i3 10 _
  refine ⟨hc_rl_lt i4 10 _ hT, by rw [hF, hBT], ?_⟩
  rw [← hBT]
  exact hc_dd hcl hT
theorem hw_mask : ∀ n, n < 11 → (((1 : Int32) <<< (nI n &&& 31)) - 1).toBitVec.toNat = 2 ^ n - 1 := by decide +kernel
theorem hw_chain_141 {post : Int32 → St1 → Prop} {r l t : Int32} {a1 a2 a3 a4 : Nat → Int32} {h : Nat → Bool} {k c f : Nat} (hH : hc_H a1 h) (hk : k ≤ 4) (hf : f < 2 ^ hc_cn h (k + 2) 32) (hb : hc_bd h (k + 1) f = c)
    (H : post 1 (r, l, t, a1, a2, a3, a4)) : wL_chain_141 post (nI k) (nI c) 1 (nI f) r l t a1 a2 a3 a4 := by
  unfold wL_chain_141
  refine br_t rfl (pk_eq k 4 (fun z => H) (fun z => ?_))
  rw [nI_1]
  refine hw_boundary hH (by omega) hf (br_t ?_ H)
  rw [hb]
theorem hw_chain_48 {post : Int32 → St1 → Prop} {r l t : Int32} {a1 a2 a3 a4 : Nat → Int32} {h : Nat → Bool} {k c : Nat} (hH : hc_H a1 h) (hcl : hc_closed h) (hk : k ≤ 4) (hc : c < 2 ^ hc_cn h (k + 1) 32)
    (H : ∀ r' l' t' a2' a3' a4', post 1 (r', l', t', a1, a2', a3', a4')) : wL_chain_48 post (nI k) (nI c) (nI (hc_bd h k c)) r l t a1 a2 a3 a4 := by
  have hle := hc_cn_le h (k + 2)
  unfold wL_chain_48
  refine hw_filled hH hk hc (fun r1 l1 t1 b2 b3 b4 => hw_filling hH hk hc (fun r2 l2 t2 c2 c3 c4 => hw_least hH hk hc (fun r3 l3 t3 d2 d3 d4 => ?_)))
  by_cases e : hc_L h k c = 0
  · obtain ⟨f1, f2, f3⟩ := hc_fill hcl e
    have f4 : hc_Fi h k c < 2 ^ 10 := hc_pw hle f1
    rw [if_pos e, if_pos e, e, f3]
    refine br_t rfl ?_
    unfold wL_chain_86
    refine br_t rfl ?_
    unfold wL_chain_96
    refine br_t rfl (br_t rfl ?_)
    unfold wL_chain_110
    refine br_f (nI_pos (by omega)) ?_
    unfold wL_chain_120
    exact br_t rfl (br_f (by decide) (br_t rfl (br_t rfl (hw_chain_141 hH hk f1 f2 (H _ _ _ _ _ _)))))
  · rw [if_neg e, if_neg e]
    refine br_f (by decide) ?_
    unfold wL_chain_86
    refine br_f (fun z => e ((hw_z (hw_L hc)).mp z)) ?_
    unfold wL_chain_96
    refine br_t rfl (br_f (by decide) ?_)
    unfold wL_chain_110
    refine br_t (by decide) ?_
    unfold wL_chain_120
    refine br_t rfl (br_f (by decide) (br_f (by decide) ?_))
    unfold wL_chain_141
    exact br_f (by decide) (H _ _ _ _ _ _)
theorem hw_chain {post : Int32 → St1 → Prop} {r l t : Int32} {a1 a2 a3 a4 : Nat → Int32} {h : Nat → Bool} {k : Nat} {x : Int32} (hH : hc_H a1 h) (hcl : hc_closed h) (hk : k ≤ 4)
    (H : ∀ r' l' t' a2' a3' a4', post 1 (r', l', t', a1, a2', a3', a4')) : wpL_chain post (r, l, t, a1, a2, a3, a4) (nI k) x := by
  have hle := hc_cn_le h (k + 1)
  obtain ⟨c, hc, ec⟩ := pk_andE x (hc_cn h (k + 1) 32) (hw_mask _ (show hc_cn h (k + 1) 32 < 11 by omega))
  have hb := hc_bd_lt hc
  unfold wpL_chain
  dsimp only
  refine hw_count hH hk (nm_r ec (hw_boundary hH hk hc (br_f (nI_pos (by omega)) (pk_lt k 1 (fun z => ?_) (fun z => ?_)))))
  · exact hw_chain_48 hH hcl hk hc H
  · obtain ⟨j, rfl⟩ : ∃ j, k = j + 1 := ⟨k - 1, by omega⟩
    rw [nI_pred]
    refine hw_boundary hH (by omega) (hc_bd_in hcl (by omega) hc) (br_t ?_ ?_)
    · rw [hc_dd hcl hc]
      rfl
    · exact hw_chain_48 hH hcl hk hc H
end
section
/-! the walk: parts -/
theorem hc_sp_s (l : List Nat) (p i : Nat) : hc_sp l p (i + 1) = (bif l.getD (i % l.length) 0 &&& hc_sp l p i == 0 then hc_sp l p i else hc_sp l p i ||| l.getD (i % l.length) 0) := by
  show hc_cf (hc_sp l p i) (fun q => hc_cf (l.getD (i % l.length) 0) (fun e => bif e &&& q == 0 then q else q ||| e)) = _
  rw [hc_cf_e, hc_cf_e]
theorem hw_low : ∀ a, a < 32 → nI a &&& (-(nI a)) = nI (hc_low a) ∧ hc_low a < 32 := by decide +kernel
theorem hw_less : ∀ a, a < 32 → ∀ b, b < 32 → nI a &&& (nI b ^^^ (-1)) = nI (a ^^^ (a &&& b)) ∧ a ^^^ (a &&& b) < 32 := by decide +kernel
theorem hw_p52 {post : Int32 → Prop} {J : Int32 → Int32 → Prop} {r l t : Int32} {a1 a2 a3 a4 : Nat → Int32} {h : Nat → Bool} {left c p : Nat} (hH : hc_H a1 h) (hl : left < 32) (hp : p < 32)
    (H : J (nI (left ^^^ (left &&& hc_sp (hc_sl h 2 32) p (5 * hc_cn h 2 32)))) (nI (c + 1))) : ∃ n, wL_parts_52 post J (nI left) (nI c) (nI (hc_cn h 2 32)) r l t a1 a2 a3 a4 n (nI p) 0 := by
  have hm := hc_cn_le h 2
  refine pk_loop (fun n i (x : Int32) => wL_parts_52 post J (nI left) (nI c) (nI (hc_cn h 2 32)) r l t a1 a2 a3 a4 n x (nI i)) (fun i x => x = nI (hc_sp (hc_sl h 2 32) p i) ∧ hc_sp (hc_sl h 2 32) p i < 2 ^ 5) (5 * hc_cn h 2 32) 0 (nI p) (by omega) ⟨rfl, hp⟩ ?_ ?_
  · intro n x hx
    obtain ⟨rfl, hx2⟩ := hx
    refine pk_le (5 * hc_cn h 2 32) (5 * hc_cn h 2 32) (fun _ => nm_r (hw_less left hl _ hx2).1 (nm_r (nI_1 c) H)) (fun z => absurd z (by omega)) (pk_mul 5 _) rfl
  · intro n i x hi hx hw
    obtain ⟨rfl, hx2⟩ := hx
    have hm0 : 0 < hc_cn h 2 32 := by omega
    have hlt : i % hc_cn h 2 32 < hc_cn h 2 32 := Nat.mod_lt _ hm0
    obtain ⟨s1, s2, s3, s4⟩ := hc_sx_sp hlt
    have hand : hc_sx h 2 (i % hc_cn h 2 32) &&& hc_sp (hc_sl h 2 32) p i < 2 ^ 5 := Nat.and_lt_two_pow _ hx2
    have hz := hw_z (Nat.lt_trans hand (by decide : (2 : Nat) ^ 5 < 2 ^ 11))
    have hor : hc_sp (hc_sl h 2 32) p i ||| hc_sx h 2 (i % hc_cn h 2 32) < 2 ^ 5 := Nat.or_lt_two_pow hx2 s1
    have e0 : hc_sp (hc_sl h 2 32) p (i + 1) = (bif hc_sx h 2 (i % hc_cn h 2 32) &&& hc_sp (hc_sl h 2 32) p i == 0 then hc_sp (hc_sl h 2 32) p i else hc_sp (hc_sl h 2 32) p i ||| hc_sx h 2 (i % hc_cn h 2 32)) := hc_sp_s _ _ _
    refine pk_le (5 * hc_cn h 2 32) i (fun z => absurd z (by omega)) (fun _ => ⟨nI_ne0 hm0 (by omega), ?_⟩) (pk_mul 5 _) rfl
    rw [pk_rem (by omega) hm0 (by omega)]
    refine hw_simplex (k := 1) hH (by omega) hlt ?_
    rw [nx_and]
    refine br_c (fun z => nm_r (nx_or _ 0) (nm_r (nI_1 i) (hw _ ?_))) (fun z => nm_r (nx_or _ _) (nm_r (nI_1 i) (hw _ ?_)))
    · have z' := hz.mp z
      rw [e0, z']
      exact ⟨by rw [Nat.or_zero]; rfl, hx2⟩
    · have z' : (hc_sx h 2 (i % hc_cn h 2 32) &&& hc_sp (hc_sl h 2 32) p i == 0) = false := by
        cases q : (hc_sx h 2 (i % hc_cn h 2 32) &&& hc_sp (hc_sl h 2 32) p i == 0) with
        | false => rfl
        | true => exact absurd (hz.mpr (eq_of_beq q)) z
      rw [e0, z']
      exact ⟨rfl, hor⟩
theorem hw_p39 {post : Int32 → Prop} {r l t : Int32} {a1 a2 a3 a4 : Nat → Int32} {h : Nat → Bool} (hH : hc_H a1 h) : ∀ f left c c0, left < 32 → hc_chk (hc_sl h 2 32) f left c = true → post (nI (c0 + c)) → ∃ n, wL_parts_39 post (nI (hc_cn h 2 32)) r l t a1 a2 a3 a4 n (nI left) (nI c0) := by
  intro f
  induction f with
  | zero =>
    intro left c c0 hl hc H
    have hc' : (left == 0 && c == 0) = true := hc
    rw [Bool.and_eq_true] at hc'
    have e1 : left = 0 := eq_of_beq hc'.1
    have e2 : c = 0 := eq_of_beq hc'.2
    subst e1 e2
    exact ⟨1, br_t rfl H⟩
  | succ f ih =>
    intro left c c0 hl hc H
    by_cases e : left = 0
    · subst e
      have hc' : (c == 0) = true := hc
      have e2 : c = 0 := eq_of_beq hc'
      subst e2
      exact ⟨1, br_t rfl H⟩
    · have e' : (left == 0) = false := by simp [e]
      cases c with
      | zero =>
        have hc' : (bif left == 0 then true else false) = true := hc
        rw [e'] at hc'
        exact absurd hc' Bool.false_ne_true
      | succ c =>
        have hc' : (bif left == 0 then false else hc_cf (hc_sp (hc_sl h 2 32) (hc_low left) (5 * hc_cn h 2 32)) (fun q => hc_cf (left ^^^ (left &&& q)) (fun left' => hc_chk (hc_sl h 2 32) f left' c))) = true := hc
        rw [e', cond_false, hc_cf_e, hc_cf_e] at hc'
        obtain ⟨w1, w2⟩ := hw_low left hl
        have hm := hc_cn_le h 2
        have hq : left ^^^ (left &&& hc_sp (hc_sl h 2 32) (hc_low left) (5 * hc_cn h 2 32)) < 2 ^ 5 := Nat.xor_lt_two_pow hl (Nat.lt_of_le_of_lt Nat.and_le_left hl)
        obtain ⟨n, hn⟩ := ih _ c (c0 + 1) hq hc' (by rw [show c0 + 1 + c = c0 + (c + 1) by omega]; exact H)
        exact ⟨n + 1, br_f (nI_ne0 (by omega) (by omega)) (nm_r w1 (hw_p52 hH hl w2 hn))⟩
theorem hw_parts {post : Int32 → Prop} {r l t : Int32} {a1 a2 a3 a4 : Nat → Int32} {h : Nat → Bool} (hH : hc_H a1 h) (hcl : hc_closed h) (H : post (nI (hc_cn h 1 32 - (hc_E h 1).1))) : wpL_parts post (r, l, t, a1, a2, a3, a4) := by
  have hm := hc_cn_le h 1
  unfold wpL_parts
  dsimp only
  refine hw_count (k := 0) hH (by omega) (pk_loop (fun n i (x : Int32) => wL_parts_10 post (nI (hc_cn h 1 32)) r l t a1 a2 a3 a4 n x (nI i)) (fun i x => x = nI (hc_lf (hc_sl h 1 32) i)) (hc_cn h 1 32) 0 0 (by omega) rfl ?_ ?_)
  · intro n x hx
    subst hx
    refine pk_le (hc_cn h 1 32) (hc_cn h 1 32) (fun _ => hw_count (k := 1) hH (by omega) (hw_p39 hH 5 (hc_V h) _ 0 (hc_V_ok h).1 (hc_parts hcl).2 ?_)) (fun z => absurd z (by omega))
    rw [Nat.zero_add]
    exact H
  · intro n i x hi hx hw
    subst hx
    exact pk_le (hc_cn h 1 32) i (fun z => absurd z (by omega)) (fun _ => hw_simplex (k := 0) hH (by omega) hi (nm_r (nx_or _ _) (nm_r (nI_1 i) (hw _ rfl))))
end
section
/-! add, remove, the law -/
theorem hw_sub1 : ∀ i, i < 32 → ∀ z, z < 32 → ((nI i &&& (nI z ^^^ (-1))) = 0 ↔ i &&& z = i) := by decide +kernel
def hc_add (h : Nat → Bool) (z n : Nat) : Nat → Bool := fun j => h j || (decide (1 ≤ j ∧ j < n) && (j &&& z == j))
def hc_rem (h : Nat → Bool) (z n : Nat) : Nat → Bool := fun j => h j && !(decide (1 ≤ j ∧ j < n) && (z &&& j == z))
theorem hc_add_1 (h : Nat → Bool) (z j : Nat) : hc_add h z 1 j = h j := by
  unfold hc_add
  rw [show decide (1 ≤ j ∧ j < 1) = false from decide_eq_false (fun q => by omega), Bool.false_and, Bool.or_false]
theorem hc_rem_1 (h : Nat → Bool) (z j : Nat) : hc_rem h z 1 j = h j := by
  unfold hc_rem
  rw [show decide (1 ≤ j ∧ j < 1) = false from decide_eq_false (fun q => by omega), Bool.false_and, Bool.not_false, Bool.and_true]
theorem hc_add_o {h : Nat → Bool} {z n j : Nat} (hj : j ≠ n) : hc_add h z (n + 1) j = hc_add h z n j := by
  unfold hc_add
  rw [show decide (1 ≤ j ∧ j < n + 1) = decide (1 ≤ j ∧ j < n) from decide_eq_decide.mpr (by omega)]
theorem hc_rem_o {h : Nat → Bool} {z n j : Nat} (hj : j ≠ n) : hc_rem h z (n + 1) j = hc_rem h z n j := by
  unfold hc_rem
  rw [show decide (1 ≤ j ∧ j < n + 1) = decide (1 ≤ j ∧ j < n) from decide_eq_decide.mpr (by omega)]
theorem hc_add_i {h : Nat → Bool} {z n : Nat} : hc_add h z n n = h n := by
  unfold hc_add
  rw [show decide (1 ≤ n ∧ n < n) = false from decide_eq_false (fun q => by omega), Bool.false_and, Bool.or_false]
theorem hc_rem_i {h : Nat → Bool} {z n : Nat} : hc_rem h z n n = h n := by
  unfold hc_rem
  rw [show decide (1 ≤ n ∧ n < n) = false from decide_eq_false (fun q => by omega), Bool.false_and, Bool.not_false, Bool.and_true]
theorem hc_add_s {h : Nat → Bool} {z n : Nat} (hn : 1 ≤ n) : hc_add h z (n + 1) n = (h n || (n &&& z == n)) := by
  unfold hc_add
  rw [show decide (1 ≤ n ∧ n < n + 1) = true from decide_eq_true (by omega), Bool.true_and]
theorem hc_rem_s {h : Nat → Bool} {z n : Nat} (hn : 1 ≤ n) : hc_rem h z (n + 1) n = (h n && !(z &&& n == z)) := by
  unfold hc_rem
  rw [show decide (1 ≤ n ∧ n < n + 1) = true from decide_eq_true (by omega), Bool.true_and]
theorem hc_add_c {h : Nat → Bool} {z : Nat} (hcl : hc_closed h) : hc_closed (hc_add h z 32) := by
  intro s t hs ht hts hh
  have hle : t ≤ s := by rw [← hts]; exact Nat.and_le_right
  have e : (h s || (decide (1 ≤ s ∧ s < 32) && (s &&& z == s))) = true := hh
  show (h t || (decide (1 ≤ t ∧ t < 32) && (t &&& z == t))) = true
  rw [Bool.or_eq_true] at e ⊢
  rcases e with e | e
  · exact Or.inl (hcl s t hs ht hts e)
  · rw [Bool.and_eq_true] at e
    have e2 : s &&& z = s := eq_of_beq e.2
    refine Or.inr ?_
    have e3 : t &&& z = t := by
      conv => lhs; rw [← hts]
      rw [Nat.and_assoc, e2, hts]
    rw [Bool.and_eq_true]
    exact ⟨decide_eq_true (by omega), by rw [e3]; exact beq_self_eq_true t⟩
theorem hc_rem_c {h : Nat → Bool} {z : Nat} (hcl : hc_closed h) : hc_closed (hc_rem h z 32) := by
  intro s t hs ht hts hh
  have hle : t ≤ s := by rw [← hts]; exact Nat.and_le_right
  have e : (h s && !(decide (1 ≤ s ∧ s < 32) && (z &&& s == z))) = true := hh
  show (h t && !(decide (1 ≤ t ∧ t < 32) && (z &&& t == z))) = true
  rw [Bool.and_eq_true] at e ⊢
  refine ⟨hcl s t hs ht hts e.1, ?_⟩
  cases q : (z &&& t == z) with
  | false => rw [Bool.and_false]; rfl
  | true =>
    have q1 : z &&& t = z := eq_of_beq q
    have q2 : z &&& s = z := by
      conv => lhs; rw [← q1]
      rw [Nat.and_assoc, hts, q1]
    have e2 := e.2
    rw [q2, show decide (1 ≤ s ∧ s < 32) = true from decide_eq_true (by omega), beq_self_eq_true] at e2
    exact absurd e2 Bool.false_ne_true
theorem hw_ne {a : Nat → Int32} {h : Nat → Bool} {i : Nat} (hH : hc_H a h) (hi : i < 32) (z : ¬ a i = 0) : h i = true := by
  cases e : h i with
  | true => rfl
  | false => exact absurd ((hH i hi).mpr e) z
theorem hw_Hs {a : Nat → Int32} {h h' : Nat → Bool} {i : Nat} (hH : hc_H a h) (ho : ∀ j, j ≠ i → h' j = h j) (hi : h' i = h i) : hc_H a h' := by
  intro j hj
  by_cases e : j = i
  · rw [e, hi]; rw [← e]; exact hH j hj
  · rw [ho j e]; exact hH j hj
theorem hw_Hu {a : Nat → Int32} {h h' : Nat → Bool} {i : Nat} {v : Int32} (hH : hc_H a h) (ho : ∀ j, j ≠ i → h' j = h j) (hi : v = 0 ↔ h' i = false) : hc_H (upd a i v) h' := by
  intro j hj
  by_cases e : j = i
  · rw [e, pk_us]; exact hi
  · rw [pk_un e, ho j e]; exact hH j hj
theorem hw_add {post : Int32 → St1 → Prop} {r l t : Int32} {a1 a2 a3 a4 : Nat → Int32} {h : Nat → Bool} {z : Nat} (hH : hc_H a1 h) (hcl : hc_closed h) (hz : z < 32)
    (H : ∀ x a1' h', hc_H a1' h' → hc_closed h' → post x (r, l, t, a1', a2, a3, a4)) : wpX_add post (r, l, t, a1, a2, a3, a4) (nI z) := by
  refine pk_lt z 1 (fun _ => H _ _ h hH hcl) (fun z1 => pk_le z 31 (fun _ => ?_) (fun q => absurd q (by omega)))
  refine pk_loop (fun n i (s : Int32 × (Nat → Int32)) => wX_add_17 post (nI z) r l t n s.1 (nI i) s.2 a2 a3 a4) (fun i s => 1 ≤ i ∧ hc_H s.2 (hc_add h z i)) 32 1 (0, a1) (by omega) ?_ ?_ ?_
  · exact ⟨Nat.le_refl 1, hw_Hs (i := 0) hH (fun j _ => hc_add_1 h z j) (hc_add_1 h z 0)⟩
  · intro n s hs
    obtain ⟨s1, s2⟩ := s
    exact pk_le 32 32 (fun _ => H _ _ _ hs.2 (hc_add_c hcl)) (fun q => absurd q (by omega))
  · intro n i s hi hs hw
    obtain ⟨s1, s2⟩ := s
    have hs' : hc_H s2 (hc_add h z i) := hs.2
    have hi1 : 1 ≤ i := hs.1
    refine pk_le 32 i (fun q => absurd q (by omega)) (fun _ => br_c (fun q => ⟨pk_in i 32 hi, ?_⟩) (fun q => nm_r (nI_1 i) (hw (s1, s2) ⟨by omega, ?_⟩)))
    · have q' := (hw_sub1 i hi z hz).mp q
      rw [nI_clamp (show i < 2 ^ 31 by omega)]
      refine br_c (fun g => ⟨pk_in i 32 hi, nm_e (nm_e (nm_r (nI_1 i) (hw (_, _) ⟨by omega, ?_⟩)))⟩) (fun g => nm_r (nI_1 i) (hw (s1, s2) ⟨by omega, ?_⟩))
      · refine hw_Hu hs' (fun j hj => hc_add_o hj) ?_
        rw [hc_add_s hi1, q', beq_self_eq_true, Bool.or_true]
        exact ⟨fun e => absurd e (by decide), fun e => absurd e.symm Bool.false_ne_true⟩
      · refine hw_Hs hs' (fun j hj => hc_add_o hj) ?_
        have g' := hw_ne hs' hi g
        rw [hc_add_i] at g'
        rw [hc_add_s hi1, hc_add_i, g', Bool.true_or]
    · refine hw_Hs hs' (fun j hj => hc_add_o hj) ?_
      have q' : (i &&& z == i) = false := by
        cases e : (i &&& z == i) with
        | false => rfl
        | true => exact absurd ((hw_sub1 i hi z hz).mpr (eq_of_beq e)) q
      rw [hc_add_s hi1, hc_add_i, q', Bool.or_false]
theorem hw_rem {post : Int32 → St1 → Prop} {r l t : Int32} {a1 a2 a3 a4 : Nat → Int32} {h : Nat → Bool} {z : Nat} (hH : hc_H a1 h) (hcl : hc_closed h) (hz : z < 32)
    (H : ∀ x a1' h', hc_H a1' h' → hc_closed h' → post x (r, l, t, a1', a2, a3, a4)) : wpX_remove post (r, l, t, a1, a2, a3, a4) (nI z) := by
  refine pk_lt z 1 (fun _ => H _ _ h hH hcl) (fun z1 => pk_le z 31 (fun _ => ?_) (fun q => absurd q (by omega)))
  refine pk_loop (fun n i (s : Int32 × (Nat → Int32)) => wX_remove_17 post (nI z) r l t n s.1 (nI i) s.2 a2 a3 a4) (fun i s => 1 ≤ i ∧ hc_H s.2 (hc_rem h z i)) 32 1 (0, a1) (by omega) ?_ ?_ ?_
  · exact ⟨Nat.le_refl 1, hw_Hs (i := 0) hH (fun j _ => hc_rem_1 h z j) (hc_rem_1 h z 0)⟩
  · intro n s hs
    obtain ⟨s1, s2⟩ := s
    exact pk_le 32 32 (fun _ => H _ _ _ hs.2 (hc_rem_c hcl)) (fun q => absurd q (by omega))
  · intro n i s hi hs hw
    obtain ⟨s1, s2⟩ := s
    have hs' : hc_H s2 (hc_rem h z i) := hs.2
    have hi1 : 1 ≤ i := hs.1
    refine pk_le 32 i (fun q => absurd q (by omega)) (fun _ => br_c (fun q => ⟨pk_in i 32 hi, ?_⟩) (fun q => nm_r (nI_1 i) (hw (s1, s2) ⟨by omega, ?_⟩)))
    · have q' := (hw_sub1 z hz i hi).mp q
      rw [nI_clamp (show i < 2 ^ 31 by omega)]
      refine br_c (fun g => nm_r (nI_1 i) (hw (s1, s2) ⟨by omega, ?_⟩)) (fun g => ⟨pk_in i 32 hi, nm_e (nm_e (nm_r (nI_1 i) (hw (_, _) ⟨by omega, ?_⟩)))⟩)
      · refine hw_Hs hs' (fun j hj => hc_rem_o hj) ?_
        have g' := (hs' i hi).mp g
        rw [hc_rem_i] at g'
        rw [hc_rem_s hi1, hc_rem_i, g', Bool.false_and]
      · refine hw_Hu hs' (fun j hj => hc_rem_o hj) ?_
        rw [hc_rem_s hi1, q', beq_self_eq_true, Bool.not_true, Bool.and_false]
        exact ⟨fun _ => rfl, fun _ => rfl⟩
    · refine hw_Hs hs' (fun j hj => hc_rem_o hj) ?_
      have q' : (z &&& i == z) = false := by
        cases e : (z &&& i == z) with
        | false => rfl
        | true => exact absurd ((hw_sub1 z hz i hi).mpr (eq_of_beq e)) q
      rw [hc_rem_s hi1, hc_rem_i, q', Bool.not_false, Bool.and_true]
theorem hc_r0 (h : Nat → Bool) : (hc_E h 0).1 = 0 := hc_el_r0 (fun i => hc_bd_k0 h _) _
theorem hc_r5 (h : Nat → Bool) : (hc_E h 5).1 = 0 := by
  unfold hc_E
  rw [hc_cn_big (by omega)]
  rfl
theorem hw_ring (n0 n1 n2 n3 n4 e1 e2 e3 e4 : Int32) : 0 + n0 + -n1 + n2 + -n3 + n4 = ((n0 - 0 - e1 - (n1 - e1 - e2)) + (n2 - e2 - e3) - (n3 - e3 - e4)) + (n4 - e4 - 0) := by grind
theorem hw_sum (h : Nat → Bool) : hc_alt h 5 = (((nI (hc_cn h (0 + 1) 32) - nI (hc_E h 0).1 - nI (hc_E h (0 + 1)).1) - (nI (hc_cn h (1 + 1) 32) - nI (hc_E h 1).1 - nI (hc_E h (1 + 1)).1)) + (nI (hc_cn h (2 + 1) 32) - nI (hc_E h 2).1 - nI (hc_E h (2 + 1)).1) - (nI (hc_cn h (3 + 1) 32) - nI (hc_E h 3).1 - nI (hc_E h (3 + 1)).1)) + (nI (hc_cn h (4 + 1) 32) - nI (hc_E h 4).1 - nI (hc_E h (4 + 1)).1) := by
  rw [hc_r0, show (hc_E h (4 + 1)).1 = 0 from hc_r5 h]
  exact hw_ring _ _ _ _ _ _ _ _ _
theorem hw_sz (z : Nat) (x : Int32) (hz : z < 32) : ∃ y : Nat, y < 32 ∧ nI z &&& x = nI y := by
  have e : x = nI x.toBitVec.toNat := by
    apply Int32.toBitVec_inj.1
    show x.toBitVec = BitVec.ofNat 32 x.toBitVec.toNat
    simp
  refine ⟨z &&& x.toBitVec.toNat, Nat.lt_of_le_of_lt Nat.and_le_left hz, ?_⟩
  rw [← nx_and, ← e]
theorem hw_89 {post : Int32 → Prop} {L : Nat} {xs : Nat → Int32} {J : Int32 → Int32 → Int32 → Int32 → (Nat → Int32) → (Nat → Int32) → (Nat → Int32) → (Nat → Int32) → Prop} {x2 x5 : Int32} {kc ks : Nat} {r l t : Int32} {a1 a2 a3 a4 : Nat → Int32} {h : Nat → Bool} (hH : hc_H a1 h) (hcl : hc_closed h)
    (H : ∀ r' l' t' a2' a3' a4', J (x2 + 3) r' l' t' a1 a2' a3' a4') : wL_law_89 post L xs J x2 x5 kc ks r l t a1 a2 a3 a4 := by
  obtain ⟨w, hw, ew⟩ := pk_andE x5 (m := 255) 8 (by decide)
  unfold wL_law_89
  refine hw_holes (k := 0) hH (by omega) (fun r1 l1 t1 b12 b13 b14 => ?_)
  refine hw_holes (k := 1) hH (by omega) (fun r2 l2 t2 b22 b23 b24 => ?_)
  refine hw_holes (k := 2) hH (by omega) (fun r3 l3 t3 b32 b33 b34 => ?_)
  refine hw_holes (k := 3) hH (by omega) (fun r4 l4 t4 b42 b43 b44 => ?_)
  refine hw_holes (k := 4) hH (by omega) (fun r5 l5 t5 b52 b53 b54 => nm_e ?_)
  refine hw_alternating hH (br_t (hw_sum h) ?_)
  refine hw_holes (k := 0) hH (by omega) (fun r6 l6 t6 b62 b63 b64 => ?_)
  refine hw_parts hH hcl (br_t ?_ ⟨by decide, ?_⟩)
  · have hp : (hc_E h 1).1 ≤ hc_cn h 1 32 := (hc_parts hcl).1
    rw [hc_r0, ← pk_sub hp]
    show nI (hc_cn h 1 32) - 0 - nI (hc_E h 1).1 = nI (hc_cn h 1 32) - nI (hc_E h 1).1
    rw [Int32.sub_zero]
  · rw [ew, show (5 : Int32) = nI 5 from rfl, pk_rem (by omega) (by omega) (by omega)]
    refine hw_chain hH hcl (by omega) (fun r7 l7 t7 b72 b73 b74 => br_f (by decide) ?_)
    exact hw_chain (k := 1) hH hcl (by omega) (fun r8 l8 t8 b82 b83 b84 => br_f (by decide) (nm_e (H _ _ _ _ _ _)))
theorem hw_law10 {L : Nat} {xs : Nat → Int32} {kc ks : Nat} (hL : L ≤ 260) {r l t : Int32} {a1 a2 a3 a4 : Nat → Int32} {h : Nat → Bool} (hH : hc_H a1 h) (hcl : hc_closed h) : ∃ n, wL_law_10 (fun r => r = 1) L xs kc ks n 0 r l t a1 a2 a3 a4 := by
  refine lp8 (wL_law_10 (fun r => r = 1) L xs kc ks) (fun x2 _ _ _ a1 _ _ _ => ∃ j, j ≤ L ∧ x2 = nI j ∧ ∃ h, hc_H a1 h ∧ hc_closed h) (fun x2 _ _ _ _ _ _ _ => L - x2.toNatClampNeg) ?_ 0 r l t a1 a2 a3 a4 ⟨0, by omega, rfl, h, hH, hcl⟩
  intro n x2 r l t a1 a2 a3 a4 hI hk
  obtain ⟨j, hj, rfl, h, hH, hcl⟩ := hI
  have e3 : nI j + 3 = nI (j + 3) := nI_add j 3
  have e1 : nI j + 1 = nI (j + 1) := nI_add j 1
  have e2 : nI j + 2 = nI (j + 2) := nI_add j 2
  refine pk_lt L (j + 3) (fun _ => rfl) (fun z => ⟨pk_in j L (by omega), nm_e ?_⟩) rfl e3
  have fin : ∀ r' l' t' a1' a2' a3' a4', (∃ h, hc_H a1' h ∧ hc_closed h) → wL_law_10 (fun r => r = 1) L xs kc ks n (nI j + 3) r' l' t' a1' a2' a3' a4' := by
    intro r' l' t' a1' a2' a3' a4' hh
    refine hk _ _ _ _ _ _ _ _ ⟨j + 3, by omega, e3, hh⟩ ?_
    rw [e3, nI_clamp (show j + 3 < 2 ^ 31 by omega), nI_clamp (show j < 2 ^ 31 by omega)]
    omega
  obtain ⟨q, hq, eq⟩ := pk_andE (xs (nI j).toNatClampNeg) (m := 7) 3 (by decide)
  obtain ⟨w, hw, ew⟩ := pk_andE (xs (nI j + 1).toNatClampNeg) (m := 255) 8 (by decide)
  have hs : w % 31 < 31 := Nat.mod_lt _ (by omega)
  have es : (1 : Int32) + ((xs (nI j + 1).toNatClampNeg &&& 255) - (xs (nI j + 1).toNatClampNeg &&& 255) / 31 * 31) = nI (1 + w % 31) := by
    rw [ew, show (31 : Int32) = nI 31 from rfl, pk_rem (by omega) (by omega) (by omega)]
    exact nI_add 1 _
  have add75 : ∀ (x5 : Int32) (y : Nat), y < 32 → wL_law_75 (fun r => r = 1) L xs (wL_law_10 (fun r => r = 1) L xs kc ks n) (nI j) x5 (nI y) kc ks r l t a1 a2 a3 a4 := by
    intro x5 y hy
    unfold wL_law_75
    exact hw_add hH hcl hy (fun x a1' h' hH' hcl' => hw_89 hH' hcl' (fun r' l' t' a2' a3' a4' => fin _ _ _ _ _ _ _ ⟨h', hH', hcl'⟩))
  refine ⟨pk_in (j + 1) L (by omega) e1, by decide, nm_r es ⟨pk_in (j + 2) L (by omega) e2, nm_e ?_⟩⟩
  rw [eq]
  refine pk_lt 4 q (fun _ => hw_rem hH hcl (by omega) (fun x a1' h' hH' hcl' => hw_89 hH' hcl' (fun r' l' t' a2' a3' a4' => fin _ _ _ _ _ _ _ ⟨h', hH', hcl'⟩))) (fun _ => pk_lt 2 q (fun _ => add75 _ _ (by omega)) (fun _ => ⟨pk_in (j + 2) L (by omega) e2, ?_⟩))
  obtain ⟨y, hy, ey⟩ := hw_sz (1 + w % 31) ((xs (nI j + 2).toNatClampNeg) >>> ((8 : Int32) &&& 31)) (by omega)
  rw [ey]
  exact add75 _ y hy
theorem i_vc (xs : Nat → Int32) (L : Nat) (hL : L ≤ 260) : wpL_law (fun r => r = 1) L xs := by
  refine ⟨4, 62, by omega, by omega, ?_⟩
  refine ⟨by omega, by omega, by omega, by omega, by omega, by omega, by omega, by omega, ?_⟩
  exact hw_law10 (h := fun _ => false) hL (fun j _ => ⟨fun _ => rfl, fun _ => rfl⟩) (fun s t _ _ _ hh => absurd hh Bool.false_ne_true)
end
