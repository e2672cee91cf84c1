section
/-! part 01: rows of the kit (PURE-ROWS.to-paste), as they stand there -/
theorem pk_us {f : Nat → Int32} {k : Nat} {x : Int32} : upd f k x k = x := if_pos rfl
theorem pk_un {f : Nat → Int32} {k j : Nat} {x : Int32} (h : j ≠ k) : upd f k x j = f j := if_neg h
theorem pk_sub {a b : Nat} (h : b ≤ a) : nI a - nI b = nI (a - b) := by
  obtain ⟨c, rfl⟩ : ∃ c, a = c + b := ⟨a - b, by omega⟩
  rw [← nI_add, Int32.add_sub_cancel, Nat.add_sub_cancel]
theorem pk_m1 (n : Nat) : nI (n + 1) + (-1) = nI n := by
  rw [← nI_1, Int32.add_assoc, show (1 : Int32) + (-1) = 0 from rfl, Int32.add_zero]
theorem pk_mul (a b : Nat) : nI a * nI b = nI (a * b) := (Int32.ofNat_mul a b).symm
theorem pk_div {a d : Nat} (ha : a < 2 ^ 31) (h0 : 0 < d) (hd : d < 2 ^ 31) : nI a / nI d = nI (a / d) := by
  apply Int32.toInt_inj.mp
  rw [lg_idiv_nonneg (by rw [nI_toInt ha]; omega) (by rw [nI_toInt hd]; omega), nI_toInt ha, nI_toInt hd, nI_toInt (Nat.lt_of_le_of_lt (Nat.div_le_self a d) ha)]
  first | rfl | exact (Int.natCast_ediv _ _).symm
theorem pk_rem {a d : Nat} (ha : a < 2 ^ 31) (h0 : 0 < d) (hd : d < 2 ^ 31) : nI a - nI a / nI d * nI d = nI (a % d) := by
  rw [pk_div ha h0 hd, pk_mul, pk_sub (Nat.div_mul_le_self a d)]
  exact congrArg nI (by have := Nat.div_add_mod' a d; omega)
theorem pk_sub_toInt {a b : Nat} (ha : a < 2 ^ 30) (hb : b < 2 ^ 30) : (nI a - nI b).toInt = (a : Int) - b := by
  rw [Int32.toInt_sub, nI_toInt (by omega), nI_toInt (by omega)]
  exact Int.bmod_eq_of_le (by omega) (by omega)
theorem pk_sneg {a b : Nat} (hb : b < 2 ^ 30) (h : a < b) : nI a - nI b < 0 := by
  rw [Int32.lt_iff_toInt_lt, pk_sub_toInt (by omega) hb, show (0 : Int32).toInt = 0 from by decide]
  omega
theorem pk_ix (x : Int32) {n : Nat} (hn : n < 2 ^ 31) : x < 0 ∨ nI n ≤ x ∨ ∃ j : Nat, j < n ∧ x = nI j := by
  by_cases h : x < 0
  · exact Or.inl h
  · obtain ⟨j, hj, rfl⟩ := nI_of h
    by_cases h2 : j < n
    · exact Or.inr (Or.inr ⟨j, h2, rfl⟩)
    · exact Or.inr (Or.inl (nI_le (by omega) hj))
theorem pk_le {x y : Int32} {A B : Prop} (a b : Nat) (f : a ≤ b → A) (g : b < a → B) (hx : x = nI a := by rfl) (hy : y = nI b := by rfl) (ha : a < 2 ^ 31 := by omega) (hb : b < 2 ^ 31 := by omega) : (x ≤ y → A) ∧ (¬ x ≤ y → B) := by
  subst hx hy
  rw [nI_leI ha hb]
  exact ⟨f, fun z => g (by omega)⟩
theorem pk_lt {x y : Int32} {A B : Prop} (a b : Nat) (f : a < b → A) (g : b ≤ a → B) (hx : x = nI a := by rfl) (hy : y = nI b := by rfl) (ha : a < 2 ^ 31 := by omega) (hb : b < 2 ^ 31 := by omega) : (x < y → A) ∧ (¬ x < y → B) := by
  subst hx hy
  rw [nI_ltI ha hb]
  exact ⟨f, fun z => g (by omega)⟩
theorem pk_eq {x y : Int32} {A B : Prop} (a b : Nat) (f : a = b → A) (g : a ≠ b → B) (hx : x = nI a := by rfl) (hy : y = nI b := by rfl) (ha : a < 2 ^ 31 := by omega) (hb : b < 2 ^ 31 := by omega) : (x = y → A) ∧ (¬ x = y → B) := by
  subst hx hy
  rw [nI_eq ha hb]
  exact ⟨f, g⟩
theorem pk_in {x : Int32} (n N : Nat) (h : n < N) (hx : x = nI n := by rfl) (hN : N < 2 ^ 31 := by omega) : vp_in x N := by
  subst hx
  exact vp_in_nI h hN
theorem pk_cl {x : Int32} (n : Nat) (hx : x = nI n := by rfl) (h : n < 2 ^ 31 := by omega) : x.toNatClampNeg = n := by
  subst hx
  exact nI_clamp h
theorem pk_shr (a s : Int32) (k : Nat) (hs : (s.toBitVec.smod 32).toNat = k) : (a >>> s).toInt = a.toInt >>> k := by
  show (a.toBitVec.sshiftRight (s.toBitVec.smod 32).toNat).toInt = _
  rw [hs, BitVec.toInt_sshiftRight]
  rfl
theorem pk_shrN {n : Nat} (h : n < 2 ^ 31) (s : Int32) (k : Nat) (hs : (s.toBitVec.smod 32).toNat = k) : nI n >>> s = nI (n / 2 ^ k) := by
  apply Int32.toInt_inj.mp
  have h2 : n / 2 ^ k ≤ n := Nat.div_le_self _ _
  rw [pk_shr _ _ k hs, nI_toInt h, nI_toInt (by omega), Int.shiftRight_eq_div_pow]
  rfl
end
section
/-! part 02: triples of exponents as numbers in base 7; the 84 of degree at most 6 -/
def sf_sz (t : Nat) : Nat := t / 49 + t / 7 % 7 + t % 7
def sf_pl : Nat → Nat
  | 0 => 0
  | t + 1 => sf_pl t + (if sf_sz t ≤ 6 then 1 else 0)
def sf_tps : List Nat := (List.range 343).filter (fun t => decide (sf_sz t ≤ 6))
def sf_tp (i : Nat) : Nat := sf_tps.getD i 0
def sf_dg (w t : Nat) : Nat := t / w % 7
def sf_W (w : Nat) : Prop := w = 49 ∨ w = 7 ∨ w = 1
set_option maxRecDepth 100000 in
theorem sf_tpF : ∀ i, i < 84 → sf_tp i < 343 ∧ sf_sz (sf_tp i) ≤ 6 ∧ sf_pl (sf_tp i) = i := by decide +kernel
set_option maxRecDepth 100000 in
theorem sf_plF : ∀ t, t < 343 → sf_sz t ≤ 6 → sf_pl t < 84 ∧ sf_tp (sf_pl t) = t := by decide +kernel
theorem sf_tp_lt {i : Nat} (h : i < 84) : sf_tp i < 343 := (sf_tpF i h).1
theorem sf_tp_sz {i : Nat} (h : i < 84) : sf_sz (sf_tp i) ≤ 6 := (sf_tpF i h).2.1
theorem sf_pl_tp {i : Nat} (h : i < 84) : sf_pl (sf_tp i) = i := (sf_tpF i h).2.2
theorem sf_pl_lt {t : Nat} (h : t < 343) (hs : sf_sz t ≤ 6) : sf_pl t < 84 := (sf_plF t h hs).1
theorem sf_tp_pl {t : Nat} (h : t < 343) (hs : sf_sz t ≤ 6) : sf_tp (sf_pl t) = t := (sf_plF t h hs).2
theorem sf_pl_mono {s t : Nat} (h : s ≤ t) : sf_pl s ≤ sf_pl t := by
  induction t with
  | zero => rw [Nat.le_zero.mp h]; exact Nat.le_refl _
  | succ t ih =>
    rcases Nat.lt_or_ge t s with z | z
    · rw [show s = t + 1 by omega]; exact Nat.le_refl _
    · have := ih z
      show sf_pl s ≤ sf_pl t + _
      omega
theorem sf_pl_succ {t : Nat} (hs : sf_sz t ≤ 6) : sf_pl (t + 1) = sf_pl t + 1 := by
  show sf_pl t + (if sf_sz t ≤ 6 then 1 else 0) = _
  rw [if_pos hs]
theorem sf_pl_skip {t : Nat} (hs : ¬ sf_sz t ≤ 6) : sf_pl (t + 1) = sf_pl t := by
  show sf_pl t + (if sf_sz t ≤ 6 then 1 else 0) = _
  rw [if_neg hs]; rfl
theorem sf_pl_smono {s t : Nat} (h : s < t) (hs : sf_sz s ≤ 6) : sf_pl s < sf_pl t := by
  have a := sf_pl_mono (s := s + 1) (t := t) h
  rw [sf_pl_succ hs] at a
  omega
theorem sf_tp_smono {i j : Nat} (h : i < j) (hj : j < 84) : sf_tp i < sf_tp j := by
  rcases Nat.lt_or_ge (sf_tp i) (sf_tp j) with z | z
  · exact z
  · have a := sf_pl_mono z
    rw [sf_pl_tp hj, sf_pl_tp (by omega)] at a
    omega
theorem sf_tp_inj {i j : Nat} (hi : i < 84) (hj : j < 84) (h : sf_tp i = sf_tp j) : i = j := by
  rw [← sf_pl_tp hi, ← sf_pl_tp hj, h]
theorem sf_dig (a b c : Nat) (hb : b < 7) (hc : c < 7) : sf_sz (49 * a + 7 * b + c) = a + b + c := by
  have e1 : (49 * a + 7 * b + c) / 49 = a := by omega
  have e2 : (49 * a + 7 * b + c) / 7 = 7 * a + b := by omega
  have e3 : (7 * a + b) % 7 = b := by omega
  have e4 : (49 * a + 7 * b + c) % 7 = c := by omega
  unfold sf_sz
  rw [e1, e2, e3, e4]
theorem sf_digE (t : Nat) : ∃ a b c, b < 7 ∧ c < 7 ∧ t = 49 * a + 7 * b + c := ⟨t / 49, t / 7 % 7, t % 7, by omega, by omega, by omega⟩
theorem sf_sz_add {a b : Nat} (ha : a < 343) (hb : b < 343) (h : sf_sz a + sf_sz b ≤ 6) : a + b < 343 ∧ sf_sz (a + b) = sf_sz a + sf_sz b := by
  obtain ⟨p, q, r, hq, hr, ea⟩ := sf_digE a
  obtain ⟨u, v, w, hv, hw, eb⟩ := sf_digE b
  subst ea eb
  rw [sf_dig p q r hq hr, sf_dig u v w hv hw] at h ⊢
  have e : 49 * p + 7 * q + r + (49 * u + 7 * v + w) = 49 * (p + u) + 7 * (q + v) + (r + w) := by omega
  rw [e, sf_dig _ _ _ (by omega) (by omega)]
  omega
theorem sf_sz0 : sf_sz 0 = 0 := rfl
theorem sf_pl0 : sf_pl 0 = 0 := rfl
theorem sf_tp0 : sf_tp 0 = 0 := by decide +kernel
theorem sf_W_in {w : Nat} (hw : sf_W w) : w ∈ [49, 7, 1] := by
  rcases hw with rfl | rfl | rfl
  · decide
  · decide
  · decide
set_option maxRecDepth 100000 in
theorem sf_dgT1 : ∀ w, w ∈ [49, 7, 1] → ∀ t, t < 343 → sf_dg w t ≤ sf_sz t ∧ sf_dg w t ≤ 6 ∧ sf_dg w t * w ≤ t := by decide +kernel
set_option maxRecDepth 100000 in
theorem sf_dgT2 : ∀ w, w ∈ [49, 7, 1] → ∀ t, t < 343 → sf_sz (t - sf_dg w t * w) + sf_dg w t = sf_sz t ∧ sf_dg w (t - sf_dg w t * w) = 0 := by decide +kernel
set_option maxRecDepth 100000 in
theorem sf_dgT3 : ∀ w, w ∈ [49, 7, 1] → ∀ t, t < 343 → 0 < sf_dg w t → w ≤ t ∧ sf_sz (t - w) + 1 = sf_sz t ∧ sf_dg w (t - w) + 1 = sf_dg w t := by decide +kernel
set_option maxRecDepth 100000 in
theorem sf_dgT4 : ∀ w, w ∈ [49, 7, 1] → ∀ t, t < 343 → sf_sz t + 1 ≤ 6 → t + w < 343 ∧ sf_sz (t + w) = sf_sz t + 1 ∧ sf_dg w (t + w) = sf_dg w t + 1 := by decide +kernel
theorem sf_dg_le {w t : Nat} (hw : sf_W w) (ht : t < 343) : sf_dg w t ≤ sf_sz t ∧ sf_dg w t ≤ 6 ∧ sf_dg w t * w ≤ t := sf_dgT1 w (sf_W_in hw) t ht
theorem sf_dg_out {w t : Nat} (hw : sf_W w) (ht : t < 343) : sf_sz (t - sf_dg w t * w) + sf_dg w t = sf_sz t ∧ sf_dg w (t - sf_dg w t * w) = 0 := sf_dgT2 w (sf_W_in hw) t ht
theorem sf_dg_down {w t : Nat} (hw : sf_W w) (ht : t < 343) (h : 0 < sf_dg w t) : w ≤ t ∧ sf_sz (t - w) + 1 = sf_sz t ∧ sf_dg w (t - w) + 1 = sf_dg w t := sf_dgT3 w (sf_W_in hw) t ht h
theorem sf_dg_up {w t : Nat} (hw : sf_W w) (ht : t < 343) (h : sf_sz t + 1 ≤ 6) : t + w < 343 ∧ sf_sz (t + w) = sf_sz t + 1 ∧ sf_dg w (t + w) = sf_dg w t + 1 := sf_dgT4 w (sf_W_in hw) t ht h
theorem sf_W_pos {w : Nat} (hw : sf_W w) : 0 < w ∧ w < 343 ∧ sf_sz w = 1 := by
  rcases hw with rfl | rfl | rfl
  · decide
  · decide
  · decide
theorem sf_dg49 {t : Nat} (h : t < 343) : sf_dg 49 t = t / 49 := by unfold sf_dg; omega
theorem sf_dg7 (t : Nat) : sf_dg 7 t = t / 7 % 7 := rfl
theorem sf_dg1 (t : Nat) : sf_dg 1 t = t % 7 := by unfold sf_dg; rw [Nat.div_one]
end
section
/-! part 03: lists of terms (triple, factor): good ones, their coefficients, the canonical form -/
def sf_Ok (p : Nat × Nat) : Prop := p.1 < 343 ∧ sf_sz p.1 ≤ 6 ∧ 0 < p.2 ∧ p.2 < 10007
def sf_Gd : List (Nat × Nat) → Prop
  | [] => True
  | p :: L => sf_Ok p ∧ (∀ q, q ∈ L → q.1 < p.1) ∧ sf_Gd L
def sf_cf : List (Nat × Nat) → Nat → Nat
  | [], _ => 0
  | p :: L, t => if p.1 = t then p.2 else sf_cf L t
theorem sf_gd_mem {L : List (Nat × Nat)} (h : sf_Gd L) {p : Nat × Nat} (hp : p ∈ L) : sf_Ok p := by
  induction L with
  | nil => cases hp
  | cons q L ih =>
    rcases List.mem_cons.mp hp with z | z
    · rw [z]; exact h.1
    · exact ih h.2.2 z
theorem sf_gd_app {A B : List (Nat × Nat)} : sf_Gd (A ++ B) ↔ sf_Gd A ∧ sf_Gd B ∧ ∀ a, a ∈ A → ∀ b, b ∈ B → b.1 < a.1 := by
  induction A with
  | nil => exact ⟨fun h => ⟨trivial, h, fun a ha => by cases ha⟩, fun h => h.2.1⟩
  | cons p A ih =>
    constructor
    · intro h
      obtain ⟨h1, h2, h3⟩ := h
      obtain ⟨a1, a2, a3⟩ := ih.mp h3
      refine ⟨⟨h1, fun q hq => h2 q (List.mem_append_left _ hq), a1⟩, a2, fun a ha b hb => ?_⟩
      rcases List.mem_cons.mp ha with z | z
      · rw [z]; exact h2 b (List.mem_append_right _ hb)
      · exact a3 a z b hb
    · intro h
      obtain ⟨⟨h1, h2, h3⟩, h4, h5⟩ := h
      refine ⟨h1, fun q hq => ?_, ih.mpr ⟨h3, h4, fun a ha => h5 a (List.mem_cons_of_mem _ ha)⟩⟩
      rcases List.mem_append.mp hq with z | z
      · exact h2 q z
      · exact h5 p List.mem_cons_self q z
theorem sf_gd_len' {L : List (Nat × Nat)} (h : sf_Gd L) : ∀ n, (∀ p, p ∈ L → sf_pl p.1 < n) → L.length ≤ n := by
  induction L with
  | nil => intro n _; exact Nat.zero_le _
  | cons p L ih =>
    intro n hn
    have a := ih h.2.2 (sf_pl p.1) (fun q hq => sf_pl_smono (h.2.1 q hq) (sf_gd_mem h.2.2 hq).2.1)
    have b := hn p List.mem_cons_self
    rw [List.length_cons]
    omega
theorem sf_gd_len {L : List (Nat × Nat)} (h : sf_Gd L) : L.length ≤ 84 :=
  sf_gd_len' h 84 fun p hp => sf_pl_lt (sf_gd_mem h hp).1 (sf_gd_mem h hp).2.1
theorem sf_cf_none {L : List (Nat × Nat)} {t : Nat} (h : ∀ p, p ∈ L → p.1 ≠ t) : sf_cf L t = 0 := by
  induction L with
  | nil => rfl
  | cons p L ih =>
    show (if p.1 = t then p.2 else sf_cf L t) = 0
    rw [if_neg (h p List.mem_cons_self)]
    exact ih fun q hq => h q (List.mem_cons_of_mem _ hq)
theorem sf_cf_low {L : List (Nat × Nat)} {t : Nat} (h : ∀ p, p ∈ L → p.1 < t) : sf_cf L t = 0 :=
  sf_cf_none fun p hp => Nat.ne_of_lt (h p hp)
theorem sf_cf_mem {L : List (Nat × Nat)} (h : sf_Gd L) {p : Nat × Nat} (hp : p ∈ L) : sf_cf L p.1 = p.2 := by
  induction L with
  | nil => cases hp
  | cons q L ih =>
    show (if q.1 = p.1 then q.2 else sf_cf L p.1) = p.2
    rcases List.mem_cons.mp hp with z | z
    · rw [z, if_pos rfl]
    · rw [if_neg (Nat.ne_of_gt (h.2.1 p z))]; exact ih h.2.2 z
theorem sf_cf_ne {L : List (Nat × Nat)} {t : Nat} (h : sf_cf L t ≠ 0) : ∃ p, p ∈ L ∧ p.1 = t ∧ p.2 = sf_cf L t := by
  induction L with
  | nil => exact absurd rfl h
  | cons q L ih =>
    have e : sf_cf (q :: L) t = if q.1 = t then q.2 else sf_cf L t := rfl
    rw [e] at h ⊢
    by_cases z : q.1 = t
    · rw [if_pos z]; exact ⟨q, List.mem_cons_self, z, rfl⟩
    · rw [if_neg z] at h ⊢
      obtain ⟨p, hp, a, b⟩ := ih h
      exact ⟨p, List.mem_cons_of_mem _ hp, a, b⟩
theorem sf_cf_lt {L : List (Nat × Nat)} (h : sf_Gd L) (t : Nat) : sf_cf L t < 10007 := by
  by_cases z : sf_cf L t = 0
  · rw [z]; decide
  · obtain ⟨p, hp, _, b⟩ := sf_cf_ne z
    rw [← b]; exact (sf_gd_mem h hp).2.2.2
theorem sf_cf_sup {L : List (Nat × Nat)} (h : sf_Gd L) {t : Nat} (z : sf_cf L t ≠ 0) : t < 343 ∧ sf_sz t ≤ 6 := by
  obtain ⟨p, hp, a, _⟩ := sf_cf_ne z
  rw [← a]; exact ⟨(sf_gd_mem h hp).1, (sf_gd_mem h hp).2.1⟩
theorem sf_uniq : ∀ (A B : List (Nat × Nat)), sf_Gd A → sf_Gd B → (∀ t, sf_cf A t = sf_cf B t) → A = B
  | [], [], _, _, _ => rfl
  | [], q :: B, _, hB, h => by
    have a := h q.1
    rw [sf_cf_mem hB List.mem_cons_self] at a
    exact absurd a (Nat.ne_of_lt hB.1.2.2.1)
  | p :: A, [], hA, _, h => by
    have a := h p.1
    rw [sf_cf_mem hA List.mem_cons_self] at a
    exact absurd a (Nat.ne_of_gt hA.1.2.2.1)
  | p :: A, q :: B, hA, hB, h => by
    have a := h p.1
    rw [sf_cf_mem hA List.mem_cons_self] at a
    have b := h q.1
    rw [sf_cf_mem hB List.mem_cons_self] at b
    have pA := hA.1.2.2.1
    have pB := hB.1.2.2.1
    rcases Nat.lt_trichotomy p.1 q.1 with z | z | z
    · exfalso
      have c : sf_cf (p :: A) q.1 = 0 := sf_cf_low fun r hr => by
        rcases List.mem_cons.mp hr with y | y
        · rw [y]; exact z
        · exact Nat.lt_trans (hA.2.1 r y) z
      omega
    · have e2 : p.2 = q.2 := by rw [← z, sf_cf_mem hA List.mem_cons_self] at b; exact b
      have ep : p = q := Prod.ext z e2
      subst ep
      refine congrArg (p :: ·) (sf_uniq A B hA.2.2 hB.2.2 fun t => ?_)
      by_cases y : p.1 = t
      · subst y
        rw [sf_cf_low hA.2.1, sf_cf_low hB.2.1]
      · have c := h t
        have e : (if p.1 = t then p.2 else sf_cf A t) = (if p.1 = t then p.2 else sf_cf B t) := c
        rw [if_neg y, if_neg y] at e
        exact e
    · exfalso
      have c : sf_cf (q :: B) p.1 = 0 := sf_cf_low fun r hr => by
        rcases List.mem_cons.mp hr with y | y
        · rw [y]; exact z
        · exact Nat.lt_trans (hB.2.1 r y) z
      omega
/-- the terms of a row of coefficients below place n, falling -/
def sf_cn (R : Nat → Nat) : Nat → List (Nat × Nat)
  | 0 => []
  | n + 1 => if R n = 0 then sf_cn R n else (sf_tp n, R n) :: sf_cn R n
theorem sf_cn_mem {R : Nat → Nat} {n : Nat} {p : Nat × Nat} (h : p ∈ sf_cn R n) : ∃ i, i < n ∧ p = (sf_tp i, R i) ∧ R i ≠ 0 := by
  induction n with
  | zero => cases h
  | succ n ih =>
    have e : sf_cn R (n + 1) = if R n = 0 then sf_cn R n else (sf_tp n, R n) :: sf_cn R n := rfl
    rw [e] at h
    by_cases z : R n = 0
    · rw [if_pos z] at h
      obtain ⟨i, a, b⟩ := ih h
      exact ⟨i, by omega, b⟩
    · rw [if_neg z] at h
      rcases List.mem_cons.mp h with y | y
      · exact ⟨n, by omega, y, z⟩
      · obtain ⟨i, a, b⟩ := ih y
        exact ⟨i, by omega, b⟩
theorem sf_cn_gd {R : Nat → Nat} (hR : ∀ i, i < 84 → R i < 10007) {n : Nat} (hn : n ≤ 84) : sf_Gd (sf_cn R n) := by
  induction n with
  | zero => exact trivial
  | succ n ih =>
    show sf_Gd (if R n = 0 then sf_cn R n else (sf_tp n, R n) :: sf_cn R n)
    by_cases z : R n = 0
    · rw [if_pos z]; exact ih (by omega)
    · rw [if_neg z]
      refine ⟨⟨sf_tp_lt (by omega), sf_tp_sz (by omega), Nat.pos_of_ne_zero z, hR n (by omega)⟩, fun q hq => ?_, ih (by omega)⟩
      obtain ⟨i, a, b, _⟩ := sf_cn_mem hq
      rw [b]
      exact sf_tp_smono a (by omega)
theorem sf_cn_cf {R : Nat → Nat} {n i : Nat} (hn : n ≤ 84) (hi : i < 84) : sf_cf (sf_cn R n) (sf_tp i) = if i < n then R i else 0 := by
  induction n with
  | zero => rfl
  | succ n ih =>
    show sf_cf (if R n = 0 then sf_cn R n else (sf_tp n, R n) :: sf_cn R n) (sf_tp i) = _
    have hh := ih (by omega)
    by_cases z : R n = 0
    · rw [if_pos z, hh]
      by_cases y : i < n
      · rw [if_pos y, if_pos (by omega)]
      · rw [if_neg y]
        by_cases x : i < n + 1
        · rw [if_pos x, show i = n by omega, z]
        · rw [if_neg x]
    · rw [if_neg z]
      show (if sf_tp n = sf_tp i then R n else sf_cf (sf_cn R n) (sf_tp i)) = _
      by_cases x : i = n
      · subst x
        rw [if_pos rfl, if_pos (by omega)]
      · rw [if_neg (fun e => x (sf_tp_inj hi (by omega) e.symm)), hh]
        by_cases y : i < n
        · rw [if_pos y, if_pos (by omega)]
        · rw [if_neg y, if_neg (by omega)]
/-- row R holds the coefficients of list L -/
def sf_rl (L : List (Nat × Nat)) (R : Nat → Nat) : Prop := ∀ i, i < 84 → R i = sf_cf L (sf_tp i)
theorem sf_rl_lt {L : List (Nat × Nat)} {R : Nat → Nat} (g : sf_Gd L) (h : sf_rl L R) : ∀ i, i < 84 → R i < 10007 := fun i hi => by
  rw [h i hi]; exact sf_cf_lt g _
theorem sf_ext {A B : List (Nat × Nat)} (hA : sf_Gd A) (hB : sf_Gd B) (h : ∀ i, i < 84 → sf_cf A (sf_tp i) = sf_cf B (sf_tp i)) : A = B := by
  refine sf_uniq A B hA hB fun t => ?_
  by_cases z : t < 343 ∧ sf_sz t ≤ 6
  · have a := h (sf_pl t) (sf_pl_lt z.1 z.2)
    rw [sf_tp_pl z.1 z.2] at a
    exact a
  · rw [Decidable.not_not.mp (fun y => z (sf_cf_sup hA y)), Decidable.not_not.mp (fun y => z (sf_cf_sup hB y))]
theorem sf_canon {L : List (Nat × Nat)} {R : Nat → Nat} (g : sf_Gd L) (h : sf_rl L R) : L = sf_cn R 84 := by
  refine sf_ext g (sf_cn_gd (sf_rl_lt g h) (Nat.le_refl _)) fun i hi => ?_
  rw [sf_cn_cf (Nat.le_refl _) hi, if_pos hi, h i hi]
/-- sums -/
def sf_ls (φ : Nat × Nat → Nat) : List (Nat × Nat) → Nat
  | [] => 0
  | p :: L => φ p + sf_ls φ L
def sf_sm (h : Nat → Nat) : Nat → Nat
  | 0 => 0
  | n + 1 => sf_sm h n + h n
theorem sf_sm_congr {f g : Nat → Nat} {n : Nat} (h : ∀ i, i < n → f i = g i) : sf_sm f n = sf_sm g n := by
  induction n with
  | zero => rfl
  | succ n ih =>
    show sf_sm f n + f n = sf_sm g n + g n
    rw [ih fun i hi => h i (by omega), h n (by omega)]
theorem sf_sm_mod {f g : Nat → Nat} {n : Nat} (h : ∀ i, i < n → f i % 10007 = g i % 10007) : sf_sm f n % 10007 = sf_sm g n % 10007 := by
  induction n with
  | zero => rfl
  | succ n ih =>
    show (sf_sm f n + f n) % 10007 = (sf_sm g n + g n) % 10007
    have a := ih fun i hi => h i (by omega)
    have b := h n (by omega)
    omega
theorem sf_sm_add (f g : Nat → Nat) (n : Nat) : sf_sm (fun i => f i + g i) n = sf_sm f n + sf_sm g n := by
  induction n with
  | zero => rfl
  | succ n ih =>
    show sf_sm (fun i => f i + g i) n + (f n + g n) = (sf_sm f n + f n) + (sf_sm g n + g n)
    rw [ih]; omega
theorem sf_sm_zero {f : Nat → Nat} {n : Nat} (h : ∀ i, i < n → f i = 0) : sf_sm f n = 0 := by
  induction n with
  | zero => rfl
  | succ n ih =>
    show sf_sm f n + f n = 0
    rw [ih fun i hi => h i (by omega), h n (by omega)]
theorem sf_ls_cn (φ : Nat × Nat → Nat) (R : Nat → Nat) (n : Nat) : sf_ls φ (sf_cn R n) = sf_sm (fun i => if R i = 0 then 0 else φ (sf_tp i, R i)) n := by
  induction n with
  | zero => rfl
  | succ n ih =>
    show sf_ls φ (if R n = 0 then sf_cn R n else (sf_tp n, R n) :: sf_cn R n) = sf_sm (fun i => if R i = 0 then 0 else φ (sf_tp i, R i)) n + (if R n = 0 then 0 else φ (sf_tp n, R n))
    by_cases z : R n = 0
    · rw [if_pos z, if_pos z, ih, Nat.add_zero]
    · rw [if_neg z, if_neg z, ← ih, Nat.add_comm]; rfl
theorem sf_ls_rl {φ : Nat × Nat → Nat} {L : List (Nat × Nat)} {R : Nat → Nat} (g : sf_Gd L) (h : sf_rl L R) (h0 : ∀ t, φ (t, 0) = 0) : sf_ls φ L = sf_sm (fun i => φ (sf_tp i, R i)) 84 := by
  rw [sf_canon g h, sf_ls_cn]
  refine sf_sm_congr fun i _ => ?_
  by_cases z : R i = 0
  · rw [if_pos z, z, h0]
  · rw [if_neg z]
theorem sf_cf_ls {L : List (Nat × Nat)} (g : sf_Gd L) (t : Nat) : sf_cf L t = sf_ls (fun p => if p.1 = t then p.2 else 0) L := by
  induction L with
  | nil => rfl
  | cons p L ih =>
    show (if p.1 = t then p.2 else sf_cf L t) = (if p.1 = t then p.2 else 0) + sf_ls (fun p => if p.1 = t then p.2 else 0) L
    rw [← ih g.2.2]
    by_cases z : p.1 = t
    · rw [if_pos z, if_pos z, ← z, sf_cf_low g.2.1]
      rfl
    · rw [if_neg z, if_neg z, Nat.zero_add]
/-- the greatest weight of a term, plus one; 0 if there is none -/
def sf_mxL (w : Nat → Nat) (L : List (Nat × Nat)) (d : Nat) : Prop := (∀ p, p ∈ L → w p.1 < d) ∧ (d = 0 ∨ ∃ p, p ∈ L ∧ w p.1 + 1 = d)
def sf_mxR (w : Nat → Nat) (R : Nat → Nat) (d : Nat) : Prop := (∀ i, i < 84 → R i ≠ 0 → w (sf_tp i) < d) ∧ (d = 0 ∨ ∃ i, i < 84 ∧ R i ≠ 0 ∧ w (sf_tp i) + 1 = d)
theorem sf_rl_of {L : List (Nat × Nat)} {R : Nat → Nat} (g : sf_Gd L) (h : sf_rl L R) {p : Nat × Nat} (hp : p ∈ L) : ∃ i, i < 84 ∧ sf_tp i = p.1 ∧ R i = p.2 ∧ R i ≠ 0 := by
  have ok := sf_gd_mem g hp
  have hi := sf_pl_lt ok.1 ok.2.1
  have ht := sf_tp_pl ok.1 ok.2.1
  have hr : R (sf_pl p.1) = p.2 := by rw [h _ hi, ht, sf_cf_mem g hp]
  exact ⟨sf_pl p.1, hi, ht, hr, by rw [hr]; exact Nat.ne_of_gt ok.2.2.1⟩
theorem sf_rl_to {L : List (Nat × Nat)} {R : Nat → Nat} (h : sf_rl L R) {i : Nat} (hi : i < 84) (z : R i ≠ 0) : ∃ p, p ∈ L ∧ p.1 = sf_tp i ∧ p.2 = R i := by
  rw [h i hi] at z ⊢
  exact sf_cf_ne z
theorem sf_mx_eq {w : Nat → Nat} {L : List (Nat × Nat)} {R : Nat → Nat} {d e : Nat} (g : sf_Gd L) (h : sf_rl L R) (a : sf_mxL w L d) (b : sf_mxR w R e) : d = e := by
  have h1 : d ≤ e := by
    rcases a.2 with z | ⟨p, hp, z⟩
    · omega
    · obtain ⟨i, hi, ht, _, hz⟩ := sf_rl_of g h hp
      have := b.1 i hi hz
      rw [ht] at this
      omega
  have h2 : e ≤ d := by
    rcases b.2 with z | ⟨i, hi, hz, z⟩
    · omega
    · obtain ⟨p, hp, ht, _⟩ := sf_rl_to h hi hz
      have := a.1 p hp
      rw [ht] at this
      omega
  omega
end
section
/-! part 04: the merge of two lists and the product, on lists -/
def sf_a1 (t v : Nat) : List (Nat × Nat) := if v = 0 then [] else [(t, v)]
def sf_mg (f sh : Nat) : List (Nat × Nat) → List (Nat × Nat) → List (Nat × Nat)
  | [], [] => []
  | p :: A, [] => sf_a1 p.1 (p.2 % 10007) ++ sf_mg f sh A []
  | [], q :: B => sf_a1 (q.1 + sh) (f * q.2 % 10007 % 10007) ++ sf_mg f sh [] B
  | p :: A, q :: B =>
    if p.1 = q.1 + sh then sf_a1 p.1 ((p.2 + f * q.2 % 10007) % 10007) ++ sf_mg f sh A B
    else if q.1 + sh < p.1 then sf_a1 p.1 (p.2 % 10007) ++ sf_mg f sh A (q :: B)
    else sf_a1 (q.1 + sh) (f * q.2 % 10007 % 10007) ++ sf_mg f sh (p :: A) B
termination_by A B => A.length + B.length
theorem sf_mg_nn (f sh : Nat) : sf_mg f sh [] [] = [] := by rw [sf_mg]
theorem sf_mg_cn (f sh : Nat) (p : Nat × Nat) (A : List (Nat × Nat)) : sf_mg f sh (p :: A) [] = sf_a1 p.1 (p.2 % 10007) ++ sf_mg f sh A [] := by rw [sf_mg]
theorem sf_mg_nc (f sh : Nat) (q : Nat × Nat) (B : List (Nat × Nat)) : sf_mg f sh [] (q :: B) = sf_a1 (q.1 + sh) (f * q.2 % 10007 % 10007) ++ sf_mg f sh [] B := by rw [sf_mg]
theorem sf_mg_eq (f sh : Nat) (p q : Nat × Nat) (A B : List (Nat × Nat)) (h : p.1 = q.1 + sh) : sf_mg f sh (p :: A) (q :: B) = sf_a1 p.1 ((p.2 + f * q.2 % 10007) % 10007) ++ sf_mg f sh A B := by rw [sf_mg, if_pos h]
theorem sf_mg_gt (f sh : Nat) (p q : Nat × Nat) (A B : List (Nat × Nat)) (h : q.1 + sh < p.1) : sf_mg f sh (p :: A) (q :: B) = sf_a1 p.1 (p.2 % 10007) ++ sf_mg f sh A (q :: B) := by rw [sf_mg, if_neg (by omega), if_pos h]
theorem sf_mg_lt (f sh : Nat) (p q : Nat × Nat) (A B : List (Nat × Nat)) (h : p.1 < q.1 + sh) : sf_mg f sh (p :: A) (q :: B) = sf_a1 (q.1 + sh) (f * q.2 % 10007 % 10007) ++ sf_mg f sh (p :: A) B := by rw [sf_mg, if_neg (by omega), if_neg (by omega)]
/-- induction along a merge -/
theorem sf_mg_ind {P : List (Nat × Nat) → List (Nat × Nat) → Prop} (sh : Nat) (h0 : P [] [])
    (h1 : ∀ p A, P A [] → P (p :: A) []) (h2 : ∀ q B, P [] B → P [] (q :: B))
    (h3 : ∀ p q A B, p.1 = q.1 + sh → P A B → P (p :: A) (q :: B))
    (h4 : ∀ p q A B, q.1 + sh < p.1 → P A (q :: B) → P (p :: A) (q :: B))
    (h5 : ∀ p q A B, p.1 < q.1 + sh → P (p :: A) B → P (p :: A) (q :: B)) : ∀ A B, P A B := by
  have key : ∀ n A B, A.length + B.length ≤ n → P A B := by
    intro n
    induction n with
    | zero =>
      intro A B h
      have hA : A = [] := List.eq_nil_of_length_eq_zero (by omega)
      have hB : B = [] := List.eq_nil_of_length_eq_zero (by omega)
      rw [hA, hB]; exact h0
    | succ n ih =>
      intro A B h
      cases A with
      | nil =>
        cases B with
        | nil => exact h0
        | cons q B => exact h2 q B (ih [] B (by rw [List.length_cons] at h; omega))
      | cons p A =>
        cases B with
        | nil => exact h1 p A (ih A [] (by rw [List.length_cons] at h; omega))
        | cons q B =>
          rw [List.length_cons, List.length_cons] at h
          rcases Nat.lt_trichotomy p.1 (q.1 + sh) with z | z | z
          · exact h5 p q A B z (ih (p :: A) B (by rw [List.length_cons]; omega))
          · exact h3 p q A B z (ih A B (by omega))
          · exact h4 p q A B z (ih A (q :: B) (by rw [List.length_cons]; omega))
  exact fun A B => key _ A B (Nat.le_refl _)
theorem sf_a1_mem {t v : Nat} {p : Nat × Nat} (h : p ∈ sf_a1 t v) : p = (t, v) ∧ v ≠ 0 := by
  unfold sf_a1 at h
  by_cases z : v = 0
  · rw [if_pos z] at h; cases h
  · rw [if_neg z] at h; exact ⟨List.mem_singleton.mp h, z⟩
theorem sf_mg_mem (f sh : Nat) : ∀ A B : List (Nat × Nat), ∀ x, x ∈ sf_mg f sh A B → (∃ a, a ∈ A ∧ x.1 = a.1) ∨ (∃ b, b ∈ B ∧ x.1 = b.1 + sh) := by
  refine sf_mg_ind sh ?_ ?_ ?_ ?_ ?_ ?_
  · intro x hx
    rw [sf_mg_nn] at hx; cases hx
  · intro p A ih x hx
    rw [sf_mg_cn] at hx
    rcases List.mem_append.mp hx with z | z
    · exact Or.inl ⟨p, List.mem_cons_self, by rw [(sf_a1_mem z).1]⟩
    · rcases ih x z with ⟨a, ha, e⟩ | ⟨b, hb, e⟩
      · exact Or.inl ⟨a, List.mem_cons_of_mem _ ha, e⟩
      · exact Or.inr ⟨b, hb, e⟩
  · intro q B ih x hx
    rw [sf_mg_nc] at hx
    rcases List.mem_append.mp hx with z | z
    · exact Or.inr ⟨q, List.mem_cons_self, by rw [(sf_a1_mem z).1]⟩
    · rcases ih x z with ⟨a, ha, e⟩ | ⟨b, hb, e⟩
      · exact Or.inl ⟨a, ha, e⟩
      · exact Or.inr ⟨b, List.mem_cons_of_mem _ hb, e⟩
  · intro p q A B h ih x hx
    rw [sf_mg_eq f sh p q A B h] at hx
    rcases List.mem_append.mp hx with z | z
    · exact Or.inl ⟨p, List.mem_cons_self, by rw [(sf_a1_mem z).1]⟩
    · rcases ih x z with ⟨a, ha, e⟩ | ⟨b, hb, e⟩
      · exact Or.inl ⟨a, List.mem_cons_of_mem _ ha, e⟩
      · exact Or.inr ⟨b, List.mem_cons_of_mem _ hb, e⟩
  · intro p q A B h ih x hx
    rw [sf_mg_gt f sh p q A B h] at hx
    rcases List.mem_append.mp hx with z | z
    · exact Or.inl ⟨p, List.mem_cons_self, by rw [(sf_a1_mem z).1]⟩
    · rcases ih x z with ⟨a, ha, e⟩ | ⟨b, hb, e⟩
      · exact Or.inl ⟨a, List.mem_cons_of_mem _ ha, e⟩
      · exact Or.inr ⟨b, hb, e⟩
  · intro p q A B h ih x hx
    rw [sf_mg_lt f sh p q A B h] at hx
    rcases List.mem_append.mp hx with z | z
    · exact Or.inr ⟨q, List.mem_cons_self, by rw [(sf_a1_mem z).1]⟩
    · rcases ih x z with ⟨a, ha, e⟩ | ⟨b, hb, e⟩
      · exact Or.inl ⟨a, ha, e⟩
      · exact Or.inr ⟨b, List.mem_cons_of_mem _ hb, e⟩
/-- all terms of a merge lie below t if those of both lists do -/
theorem sf_mg_low {f sh t : Nat} {A B : List (Nat × Nat)} (hA : ∀ a, a ∈ A → a.1 < t) (hB : ∀ b, b ∈ B → b.1 + sh < t) : ∀ x, x ∈ sf_mg f sh A B → x.1 < t := fun x hx => by
  rcases sf_mg_mem f sh A B x hx with ⟨a, ha, e⟩ | ⟨b, hb, e⟩
  · rw [e]; exact hA a ha
  · rw [e]; exact hB b hb
theorem sf_a1_gd {t v : Nat} {L : List (Nat × Nat)} (ht : t < 343) (hs : sf_sz t ≤ 6) (hv : v < 10007) (hL : sf_Gd L) (hl : ∀ x, x ∈ L → x.1 < t) : sf_Gd (sf_a1 t v ++ L) := by
  unfold sf_a1
  by_cases z : v = 0
  · rw [if_pos z]; exact hL
  · rw [if_neg z]; exact ⟨⟨ht, hs, Nat.pos_of_ne_zero z, hv⟩, hl, hL⟩
theorem sf_a1_cf {t v : Nat} {L : List (Nat × Nat)} (hl : ∀ x, x ∈ L → x.1 < t) (s : Nat) : sf_cf (sf_a1 t v ++ L) s = if t = s then v else sf_cf L s := by
  unfold sf_a1
  by_cases z : v = 0
  · rw [if_pos z]
    show sf_cf L s = _
    by_cases y : t = s
    · rw [if_pos y, z, ← y]; exact sf_cf_low hl
    · rw [if_neg y]
  · rw [if_neg z]; rfl
theorem sf_low_cons {p : Nat × Nat} {A : List (Nat × Nat)} {t : Nat} (h : p.1 < t) (g : ∀ q, q ∈ A → q.1 < p.1) : ∀ a, a ∈ p :: A → a.1 < t := fun a ha => by
  rcases List.mem_cons.mp ha with z | z
  · rw [z]; exact h
  · exact Nat.lt_trans (g a z) h
theorem sf_low_consS {p : Nat × Nat} {A : List (Nat × Nat)} {t sh : Nat} (h : p.1 + sh < t) (g : ∀ q, q ∈ A → q.1 < p.1) : ∀ a, a ∈ p :: A → a.1 + sh < t := fun a ha => by
  rcases List.mem_cons.mp ha with z | z
  · rw [z]; exact h
  · have := g a z; omega
theorem sf_nolow {P : Nat × Nat → Prop} : ∀ a, a ∈ ([] : List (Nat × Nat)) → P a := fun a ha => by cases ha
theorem sf_m10 (n : Nat) : n % 10007 < 10007 := Nat.mod_lt _ (by decide)
/-- the coefficient of a list times a term -/
def sf_cs (sh : Nat) (B : List (Nat × Nat)) (t : Nat) : Nat := if sh ≤ t then sf_cf B (t - sh) else 0
theorem sf_cs_nil (sh t : Nat) : sf_cs sh [] t = 0 := by
  unfold sf_cs
  by_cases z : sh ≤ t
  · rw [if_pos z]; rfl
  · rw [if_neg z]
theorem sf_cs_cons (sh : Nat) (q : Nat × Nat) (B : List (Nat × Nat)) (t : Nat) : sf_cs sh (q :: B) t = if q.1 + sh = t then q.2 else sf_cs sh B t := by
  unfold sf_cs
  by_cases z : sh ≤ t
  · rw [if_pos z, if_pos z]
    show (if q.1 = t - sh then q.2 else sf_cf B (t - sh)) = _
    by_cases y : q.1 = t - sh
    · rw [if_pos y, if_pos (by omega)]
    · rw [if_neg y, if_neg (by omega)]
  · rw [if_neg z, if_neg z, if_neg (by omega)]
theorem sf_cs_low {sh : Nat} {B : List (Nat × Nat)} {t : Nat} (h : ∀ b, b ∈ B → b.1 + sh < t) : sf_cs sh B t = 0 := by
  induction B with
  | nil => exact sf_cs_nil sh t
  | cons q B ih =>
    have := h q List.mem_cons_self
    rw [sf_cs_cons, if_neg (by omega)]
    exact ih fun b hb => h b (List.mem_cons_of_mem _ hb)
theorem sf_mg_gd {f sh : Nat} (hsh : sh < 343) : ∀ A B : List (Nat × Nat), sf_Gd A → sf_Gd B → (∀ b, b ∈ B → sf_sz b.1 + sf_sz sh ≤ 6) → sf_Gd (sf_mg f sh A B) := by
  have hq : ∀ (q : Nat × Nat), sf_Ok q → sf_sz q.1 + sf_sz sh ≤ 6 → q.1 + sh < 343 ∧ sf_sz (q.1 + sh) ≤ 6 := fun q hq h => by
    have a := sf_sz_add hq.1 hsh h
    exact ⟨a.1, by rw [a.2]; exact h⟩
  refine sf_mg_ind sh ?_ ?_ ?_ ?_ ?_ ?_
  · intro _ _ _; rw [sf_mg_nn]; exact trivial
  · intro p A ih hA hB hs
    rw [sf_mg_cn]
    exact sf_a1_gd hA.1.1 hA.1.2.1 (sf_m10 _) (ih hA.2.2 hB hs) (sf_mg_low hA.2.1 sf_nolow)
  · intro q B ih hA hB hs
    rw [sf_mg_nc]
    have a := hq q hB.1 (hs q List.mem_cons_self)
    exact sf_a1_gd a.1 a.2 (sf_m10 _) (ih hA hB.2.2 fun b hb => hs b (List.mem_cons_of_mem _ hb)) (sf_mg_low sf_nolow fun b hb => by have := hB.2.1 b hb; omega)
  · intro p q A B h ih hA hB hs
    rw [sf_mg_eq f sh p q A B h]
    exact sf_a1_gd hA.1.1 hA.1.2.1 (sf_m10 _) (ih hA.2.2 hB.2.2 fun b hb => hs b (List.mem_cons_of_mem _ hb)) (sf_mg_low hA.2.1 fun b hb => by have := hB.2.1 b hb; omega)
  · intro p q A B h ih hA hB hs
    rw [sf_mg_gt f sh p q A B h]
    exact sf_a1_gd hA.1.1 hA.1.2.1 (sf_m10 _) (ih hA.2.2 hB hs) (sf_mg_low hA.2.1 (sf_low_consS h hB.2.1))
  · intro p q A B h ih hA hB hs
    rw [sf_mg_lt f sh p q A B h]
    have a := hq q hB.1 (hs q List.mem_cons_self)
    exact sf_a1_gd a.1 a.2 (sf_m10 _) (ih hA hB.2.2 fun b hb => hs b (List.mem_cons_of_mem _ hb)) (sf_mg_low (sf_low_cons h hA.2.1) fun b hb => by have := hB.2.1 b hb; omega)
theorem sf_cf_cons (p : Nat × Nat) (A : List (Nat × Nat)) (t : Nat) : sf_cf (p :: A) t = if p.1 = t then p.2 else sf_cf A t := rfl
theorem sf_mg_cf (f sh t : Nat) : ∀ A B : List (Nat × Nat), sf_Gd A → sf_Gd B → sf_cf (sf_mg f sh A B) t = (sf_cf A t + f * sf_cs sh B t) % 10007 := by
  refine sf_mg_ind sh ?_ ?_ ?_ ?_ ?_ ?_
  · intro _ _; rw [sf_mg_nn, sf_cs_nil, Nat.mul_zero]; rfl
  · intro p A ih hA hB
    rw [sf_mg_cn, sf_a1_cf (sf_mg_low hA.2.1 sf_nolow), sf_cf_cons, ih hA.2.2 hB, sf_cs_nil, Nat.mul_zero]
    by_cases z : p.1 = t
    · rw [if_pos z, if_pos z, Nat.add_zero]
    · rw [if_neg z, if_neg z]
  · intro q B ih hA hB
    rw [sf_mg_nc, sf_a1_cf (sf_mg_low sf_nolow fun b hb => by have := hB.2.1 b hb; omega), sf_cs_cons, ih hA hB.2.2]
    by_cases z : q.1 + sh = t
    · rw [if_pos z, if_pos z, Nat.mod_mod]
      show _ = (0 + _) % _
      rw [Nat.zero_add]
    · rw [if_neg z, if_neg z]
  · intro p q A B h ih hA hB
    rw [sf_mg_eq f sh p q A B h, sf_a1_cf (sf_mg_low hA.2.1 fun b hb => by have := hB.2.1 b hb; omega), sf_cs_cons, sf_cf_cons, ih hA.2.2 hB.2.2, ← h]
    by_cases z : p.1 = t
    · rw [if_pos z, if_pos z, if_pos z]
      generalize f * q.2 = m
      omega
    · rw [if_neg z, if_neg z, if_neg z]
  · intro p q A B h ih hA hB
    rw [sf_mg_gt f sh p q A B h, sf_a1_cf (sf_mg_low hA.2.1 (sf_low_consS h hB.2.1)), sf_cf_cons, ih hA.2.2 hB]
    by_cases z : p.1 = t
    · rw [if_pos z, if_pos z, sf_cs_low (B := q :: B) (by rw [← z]; exact sf_low_consS h hB.2.1), Nat.mul_zero, Nat.add_zero]
    · rw [if_neg z, if_neg z]
  · intro p q A B h ih hA hB
    rw [sf_mg_lt f sh p q A B h, sf_a1_cf (sf_mg_low (sf_low_cons h hA.2.1) fun b hb => by have := hB.2.1 b hb; omega), sf_cs_cons, ih hA hB.2.2]
    by_cases z : q.1 + sh = t
    · rw [if_pos z, if_pos z, sf_cf_low (L := p :: A) (by rw [← z]; exact sf_low_cons h hA.2.1), Nat.zero_add, Nat.mod_mod]
    · rw [if_neg z, if_neg z]
/-- the product: the terms of A one by one, each times B -/
def sf_xm (B : List (Nat × Nat)) : List (Nat × Nat) → List (Nat × Nat) → List (Nat × Nat)
  | [], acc => acc
  | p :: A, acc => sf_xm B A (sf_mg p.2 p.1 acc B)
/-- every pair of terms has degree at most 6 -/
def sf_pr (A B : List (Nat × Nat)) : Prop := ∀ a, a ∈ A → ∀ b, b ∈ B → sf_sz a.1 + sf_sz b.1 ≤ 6
theorem sf_xm_step {p : Nat × Nat} {A B acc : List (Nat × Nat)} (hB : sf_Gd B) (ha : sf_Gd acc) (hp : sf_Ok p) (h : sf_pr (p :: A) B) : sf_Gd (sf_mg p.2 p.1 acc B) :=
  sf_mg_gd hp.1 acc B ha hB fun b hb => by have := h p List.mem_cons_self b hb; omega
theorem sf_xm_gd {B : List (Nat × Nat)} (hB : sf_Gd B) : ∀ A acc : List (Nat × Nat), (∀ a, a ∈ A → sf_Ok a) → sf_Gd acc → sf_pr A B → sf_Gd (sf_xm B A acc)
  | [], acc, _, ha, _ => ha
  | p :: A, acc, hA, ha, h => sf_xm_gd hB A (sf_mg p.2 p.1 acc B) (fun a h' => hA a (List.mem_cons_of_mem _ h')) (sf_xm_step hB ha (hA p List.mem_cons_self) h) fun a h' => h a (List.mem_cons_of_mem _ h')
theorem sf_xm_mem {B : List (Nat × Nat)} : ∀ A acc : List (Nat × Nat), ∀ x, x ∈ sf_xm B A acc → (∃ a, a ∈ acc ∧ x.1 = a.1) ∨ (∃ a, a ∈ A ∧ ∃ b, b ∈ B ∧ x.1 = a.1 + b.1)
  | [], acc, x, hx => Or.inl ⟨x, hx, rfl⟩
  | p :: A, acc, x, hx => by
    rcases sf_xm_mem A (sf_mg p.2 p.1 acc B) x hx with ⟨a, ha, e⟩ | ⟨a, ha, b, hb, e⟩
    · rcases sf_mg_mem p.2 p.1 acc B a ha with ⟨c, hc, e'⟩ | ⟨b, hb, e'⟩
      · exact Or.inl ⟨c, hc, e.trans e'⟩
      · exact Or.inr ⟨p, List.mem_cons_self, b, hb, by rw [e, e', Nat.add_comm]⟩
    · exact Or.inr ⟨a, List.mem_cons_of_mem _ ha, b, hb, e⟩
theorem sf_xm_cf {B : List (Nat × Nat)} (hB : sf_Gd B) (t : Nat) : ∀ A acc : List (Nat × Nat), (∀ a, a ∈ A → sf_Ok a) → sf_Gd acc → sf_pr A B → sf_cf (sf_xm B A acc) t = (sf_cf acc t + sf_ls (fun p => p.2 * sf_cs p.1 B t) A) % 10007
  | [], acc, _, ha, _ => by
    show sf_cf acc t = (sf_cf acc t + 0) % 10007
    have := sf_cf_lt ha t
    omega
  | p :: A, acc, hA, ha, h => by
    have e := sf_xm_cf hB t A (sf_mg p.2 p.1 acc B) (fun a h' => hA a (List.mem_cons_of_mem _ h')) (sf_xm_step hB ha (hA p List.mem_cons_self) h) fun a h' => h a (List.mem_cons_of_mem _ h')
    show sf_cf (sf_xm B A (sf_mg p.2 p.1 acc B)) t = (sf_cf acc t + (p.2 * sf_cs p.1 B t + sf_ls (fun p => p.2 * sf_cs p.1 B t) A)) % 10007
    rw [e, sf_mg_cf p.2 p.1 t acc B ha hB]
    generalize p.2 * sf_cs p.1 B t = m
    generalize sf_ls (fun p => p.2 * sf_cs p.1 B t) A = l
    omega
end
section
/-! part 05: rows of 84 coefficients: the product, its laws, powers, Horner's scheme -/
theorem sf_mm (a c : Nat) : (a % 10007 * c) % 10007 = (a * c) % 10007 := by
  rw [Nat.mul_mod, Nat.mod_mod, ← Nat.mul_mod]
theorem sf_mm2 (a c : Nat) : (c * (a % 10007)) % 10007 = (c * a) % 10007 := by
  rw [Nat.mul_mod, Nat.mod_mod, ← Nat.mul_mod]
/-- what place i of the first factor meets at place k of the product, as far as the second factor's places below j go -/
def sf_tj (S : Nat → Nat) (i k j : Nat) : Nat := if sf_tp i ≤ sf_tp k ∧ sf_sz (sf_tp i) + sf_sz (sf_tp k - sf_tp i) ≤ 6 ∧ sf_pl (sf_tp k - sf_tp i) < j then S (sf_pl (sf_tp k - sf_tp i)) else 0
def sf_tm (R S : Nat → Nat) (k : Nat) : Nat := sf_sm (fun i => R i * sf_tj S i k 84) 84 % 10007
theorem sf_tj0 (S : Nat → Nat) (i k : Nat) : sf_tj S i k 0 = 0 := if_neg fun h => absurd h.2.2 (Nat.not_lt_zero _)
/-- the next place of the second factor: it meets one place alone -/
theorem sf_tj_hit {S : Nat → Nat} {i j k : Nat} (hi : i < 84) (hj : j < 84) (hk : k < 84) (h : sf_sz (sf_tp i) + sf_sz (sf_tp j) ≤ 6) (e : k = sf_pl (sf_tp i + sf_tp j)) : sf_tj S i k j = 0 ∧ sf_tj S i k (j + 1) = S j := by
  have a := sf_sz_add (sf_tp_lt hi) (sf_tp_lt hj) h
  have et : sf_tp k = sf_tp i + sf_tp j := by rw [e]; exact sf_tp_pl a.1 (by rw [a.2]; exact h)
  have es : sf_tp k - sf_tp i = sf_tp j := by omega
  unfold sf_tj
  rw [es, sf_pl_tp hj]
  exact ⟨if_neg fun z => absurd z.2.2 (Nat.lt_irrefl _), if_pos ⟨by omega, h, by omega⟩⟩
theorem sf_tj_miss {S : Nat → Nat} {i j k : Nat} (hi : i < 84) (hj : j < 84) (hk : k < 84) (h : ¬ (sf_sz (sf_tp i) + sf_sz (sf_tp j) ≤ 6 ∧ k = sf_pl (sf_tp i + sf_tp j))) : sf_tj S i k (j + 1) = sf_tj S i k j := by
  unfold sf_tj
  by_cases z : sf_tp i ≤ sf_tp k ∧ sf_sz (sf_tp i) + sf_sz (sf_tp k - sf_tp i) ≤ 6 ∧ sf_pl (sf_tp k - sf_tp i) < j
  · rw [if_pos z, if_pos ⟨z.1, z.2.1, by omega⟩]
  · rw [if_neg z]
    refine if_neg fun y => ?_
    have e : sf_pl (sf_tp k - sf_tp i) = j := by
      rcases Nat.lt_or_ge (sf_pl (sf_tp k - sf_tp i)) j with x | x
      · exact absurd ⟨y.1, y.2.1, x⟩ z
      · have := y.2.2; omega
    have hk3 := sf_tp_lt hk
    have et : sf_tp j = sf_tp k - sf_tp i := by rw [← e]; exact sf_tp_pl (by omega) (by omega)
    apply h
    rw [et]
    refine ⟨y.2.1, ?_⟩
    rw [show sf_tp i + (sf_tp k - sf_tp i) = sf_tp k by omega, sf_pl_tp hk]
/-- where the second factor's value is 0 nothing changes -/
theorem sf_tj_zero {S : Nat → Nat} {i j k : Nat} (hi : i < 84) (hj : j < 84) (hk : k < 84) (h : S j = 0) : sf_tj S i k (j + 1) = sf_tj S i k j := by
  by_cases z : sf_sz (sf_tp i) + sf_sz (sf_tp j) ≤ 6 ∧ k = sf_pl (sf_tp i + sf_tp j)
  · have a := sf_tj_hit (S := S) hi hj hk z.1 z.2
    rw [a.1, a.2, h]
  · exact sf_tj_miss hi hj hk z
/-- the list's product and the row's -/
theorem sf_xm_rl {A B : List (Nat × Nat)} {R S : Nat → Nat} (gA : sf_Gd A) (gB : sf_Gd B) (hA : sf_rl A R) (hB : sf_rl B S) (h : sf_pr A B) : sf_rl (sf_xm B A []) (sf_tm R S) := by
  intro k hk
  rw [sf_xm_cf gB _ A [] (fun a ha => sf_gd_mem gA ha) trivial h, sf_ls_rl gA hA (fun t => Nat.zero_mul _)]
  show sf_sm (fun i => R i * sf_tj S i k 84) 84 % 10007 = (0 + _) % 10007
  rw [Nat.zero_add]
  refine congrArg (· % 10007) (sf_sm_congr fun i hi => ?_)
  show R i * sf_tj S i k 84 = R i * sf_cs (sf_tp i) B (sf_tp k)
  by_cases z : R i = 0
  · rw [z, Nat.zero_mul, Nat.zero_mul]
  · refine congrArg (R i * ·) ?_
    obtain ⟨a, ha, ea, _⟩ := sf_rl_to hA hi z
    unfold sf_tj sf_cs
    have hk3 := sf_tp_lt hk
    by_cases y : sf_tp i ≤ sf_tp k
    · rw [if_pos y]
      by_cases x : sf_cf B (sf_tp k - sf_tp i) = 0
      · rw [x]
        by_cases w : sf_tp i ≤ sf_tp k ∧ sf_sz (sf_tp i) + sf_sz (sf_tp k - sf_tp i) ≤ 6 ∧ sf_pl (sf_tp k - sf_tp i) < 84
        · rw [if_pos w, hB _ w.2.2, sf_tp_pl (by omega) (by omega), x]
        · rw [if_neg w]
      · obtain ⟨b, hb, eb, _⟩ := sf_cf_ne x
        have s := h a ha b hb
        rw [ea, eb] at s
        have q := sf_pl_lt (t := sf_tp k - sf_tp i) (by omega) (by omega)
        rw [if_pos ⟨y, s, q⟩, hB _ q, sf_tp_pl (by omega) (by omega)]
    · rw [if_neg y, if_neg fun w => y w.1]
theorem sf_tm_lt (R S : Nat → Nat) (k : Nat) : sf_tm R S k < 10007 := sf_m10 _
theorem sf_tm_congr {R R' S S' : Nat → Nat} (h : ∀ i, i < 84 → R i = R' i) (h' : ∀ i, i < 84 → S i = S' i) (k : Nat) : sf_tm R S k = sf_tm R' S' k := by
  refine congrArg (· % 10007) (sf_sm_congr fun i hi => ?_)
  show R i * sf_tj S i k 84 = R' i * sf_tj S' i k 84
  rw [h i hi]
  refine congrArg (R' i * ·) ?_
  unfold sf_tj
  by_cases z : sf_tp i ≤ sf_tp k ∧ sf_sz (sf_tp i) + sf_sz (sf_tp k - sf_tp i) ≤ 6 ∧ sf_pl (sf_tp k - sf_tp i) < 84
  · rw [if_pos z, if_pos z, h' _ z.2.2]
  · rw [if_neg z, if_neg z]
theorem sf_tm_zero {R S : Nat → Nat} (h : ∀ i, i < 84 → R i = 0) (k : Nat) : sf_tm R S k = 0 := by
  unfold sf_tm
  rw [sf_sm_zero fun i hi => by rw [h i hi, Nat.zero_mul]]
theorem sf_tm_add (R R' S : Nat → Nat) (k : Nat) : sf_tm (fun i => (R i + R' i) % 10007) S k = (sf_tm R S k + sf_tm R' S k) % 10007 := by
  unfold sf_tm
  rw [← Nat.add_mod, ← sf_sm_add]
  refine sf_sm_mod fun i _ => ?_
  show ((R i + R' i) % 10007 * sf_tj S i k 84) % 10007 = (R i * sf_tj S i k 84 + R' i * sf_tj S i k 84) % 10007
  rw [sf_mm, Nat.add_mul]
/-- the product of a sum of rows -/
theorem sf_tm_sum (F : Nat → Nat → Nat) (S : Nat → Nat) (k n : Nat) : sf_tm (fun i => sf_sm (fun j => F j i) n % 10007) S k = sf_sm (fun j => sf_tm (F j) S k) n % 10007 := by
  induction n with
  | zero => exact sf_tm_zero (fun i _ => rfl) k
  | succ n ih =>
    have e : sf_tm (fun i => sf_sm (fun j => F j i) (n + 1) % 10007) S k = sf_tm (fun i => (sf_sm (fun j => F j i) n % 10007 + F n i) % 10007) S k :=
      sf_tm_congr (fun i _ => by
        show (sf_sm (fun j => F j i) n + F n i) % 10007 = (sf_sm (fun j => F j i) n % 10007 + F n i) % 10007
        omega) (fun i _ => rfl) k
    rw [e, sf_tm_add (fun i => sf_sm (fun j => F j i) n % 10007) (F n) S k, ih]
    show (sf_sm (fun j => sf_tm (F j) S k) n % 10007 + sf_tm (F n) S k) % 10007 = (sf_sm (fun j => sf_tm (F j) S k) n + sf_tm (F n) S k) % 10007
    omega
/-- e products by S -/
def sf_it (S : Nat → Nat) (R : Nat → Nat) : Nat → Nat → Nat
  | 0 => R
  | e + 1 => sf_tm (sf_it S R e) S
theorem sf_it_congr {R R' S S' : Nat → Nat} (h : ∀ i, i < 84 → R i = R' i) (h' : ∀ i, i < 84 → S i = S' i) (e : Nat) : ∀ k, k < 84 → sf_it S R e k = sf_it S' R' e k := by
  induction e with
  | zero => exact h
  | succ e ih => exact fun k _ => sf_tm_congr ih h' k
theorem sf_it_zero {R S : Nat → Nat} (h : ∀ i, i < 84 → R i = 0) (e : Nat) : ∀ k, k < 84 → sf_it S R e k = 0 := by
  induction e with
  | zero => exact h
  | succ e ih => exact fun k _ => sf_tm_zero ih k
theorem sf_it_lt {R S : Nat → Nat} (h : ∀ i, i < 84 → R i < 10007) (e : Nat) : ∀ k, k < 84 → sf_it S R e k < 10007 := by
  cases e with
  | zero => exact h
  | succ e => exact fun k _ => sf_tm_lt _ _ k
/-- the one term that place j of X leaves, without its symbol of weight w -/
def sf_mo (X : Nat → Nat) (w j k : Nat) : Nat := if k = sf_pl (sf_tp j - sf_dg w (sf_tp j) * w) then X j else 0
/-- the terms of L with exponent e of the symbol, without it -/
def sf_pt (w e : Nat) : List (Nat × Nat) → List (Nat × Nat)
  | [] => []
  | p :: L => if sf_dg w p.1 = e then (p.1 - e * w, p.2) :: sf_pt w e L else sf_pt w e L
theorem sf_pt_mem {w e : Nat} {L : List (Nat × Nat)} {x : Nat × Nat} (h : x ∈ sf_pt w e L) : ∃ p, p ∈ L ∧ sf_dg w p.1 = e ∧ x = (p.1 - e * w, p.2) := by
  induction L with
  | nil => cases h
  | cons p L ih =>
    have q : sf_pt w e (p :: L) = if sf_dg w p.1 = e then (p.1 - e * w, p.2) :: sf_pt w e L else sf_pt w e L := rfl
    rw [q] at h
    by_cases z : sf_dg w p.1 = e
    · rw [if_pos z] at h
      rcases List.mem_cons.mp h with y | y
      · exact ⟨p, List.mem_cons_self, z, y⟩
      · obtain ⟨r, hr, a⟩ := ih y
        exact ⟨r, List.mem_cons_of_mem _ hr, a⟩
    · rw [if_neg z] at h
      obtain ⟨r, hr, a⟩ := ih h
      exact ⟨r, List.mem_cons_of_mem _ hr, a⟩
theorem sf_pt_ok {w e : Nat} (hw : sf_W w) {p : Nat × Nat} (ok : sf_Ok p) (z : sf_dg w p.1 = e) : sf_Ok (p.1 - e * w, p.2) ∧ sf_sz (p.1 - e * w) + e = sf_sz p.1 ∧ e * w ≤ p.1 := by
  have a := sf_dg_le hw ok.1
  have b := sf_dg_out hw ok.1
  rw [z] at a b
  refine ⟨⟨?_, ?_, ok.2.2⟩, b.1, a.2.2⟩
  · show p.1 - e * w < 343
    have := ok.1; omega
  · show sf_sz (p.1 - e * w) ≤ 6
    have := ok.2.1; omega
theorem sf_pt_gd {w e : Nat} (hw : sf_W w) {L : List (Nat × Nat)} (g : sf_Gd L) : sf_Gd (sf_pt w e L) := by
  induction L with
  | nil => exact trivial
  | cons p L ih =>
    show sf_Gd (if sf_dg w p.1 = e then (p.1 - e * w, p.2) :: sf_pt w e L else sf_pt w e L)
    by_cases z : sf_dg w p.1 = e
    · rw [if_pos z]
      have a := sf_pt_ok hw g.1 z
      refine ⟨a.1, fun q hq => ?_, ih g.2.2⟩
      obtain ⟨r, hr, zr, er⟩ := sf_pt_mem hq
      have b := sf_pt_ok hw (sf_gd_mem g.2.2 hr) zr
      have c := g.2.1 r hr
      have := a.2.2
      have := b.2.2
      rw [er]
      show r.1 - e * w < p.1 - e * w
      omega
    · rw [if_neg z]; exact ih g.2.2
theorem sf_pt_ls {w e : Nat} (φ : Nat × Nat → Nat) (L : List (Nat × Nat)) : sf_ls φ (sf_pt w e L) = sf_ls (fun p => if sf_dg w p.1 = e then φ (p.1 - e * w, p.2) else 0) L := by
  induction L with
  | nil => rfl
  | cons p L ih =>
    show sf_ls φ (if sf_dg w p.1 = e then (p.1 - e * w, p.2) :: sf_pt w e L else sf_pt w e L) = (if sf_dg w p.1 = e then φ (p.1 - e * w, p.2) else 0) + sf_ls (fun p => if sf_dg w p.1 = e then φ (p.1 - e * w, p.2) else 0) L
    rw [← ih]
    by_cases z : sf_dg w p.1 = e
    · rw [if_pos z, if_pos z]; rfl
    · rw [if_neg z, if_neg z, Nat.zero_add]
/-- the row of that part: a sum of single terms -/
theorem sf_pt_rl {w e : Nat} (hw : sf_W w) {L : List (Nat × Nat)} {X : Nat → Nat} (g : sf_Gd L) (h : sf_rl L X) : sf_rl (sf_pt w e L) (fun k => sf_sm (fun j => if sf_dg w (sf_tp j) = e then sf_mo X w j k else 0) 84) := by
  intro k hk
  rw [sf_cf_ls (sf_pt_gd hw g), sf_pt_ls, sf_ls_rl g h]
  · refine sf_sm_congr fun j hj => ?_
    show (if sf_dg w (sf_tp j) = e then sf_mo X w j k else 0) = if sf_dg w (sf_tp j) = e then (if sf_tp j - e * w = sf_tp k then X j else 0) else 0
    by_cases z : sf_dg w (sf_tp j) = e
    · rw [if_pos z, if_pos z]
      unfold sf_mo
      rw [z]
      have a := sf_dg_out hw (sf_tp_lt hj)
      rw [z] at a
      have b := sf_tp_sz hj
      have c := sf_tp_lt hj
      by_cases y : sf_tp j - e * w = sf_tp k
      · rw [if_pos y, y, sf_pl_tp hk, if_pos rfl]
      · rw [if_neg y]
        refine if_neg fun x => y ?_
        rw [x, sf_tp_pl (by omega) (by omega)]
    · rw [if_neg z, if_neg z]
  · intro t
    show (if sf_dg w t = e then (if t - e * w = sf_tp k then 0 else 0) else 0) = 0
    by_cases z : sf_dg w t = e
    · rw [if_pos z]
      by_cases y : t - e * w = sf_tp k
      · rw [if_pos y]
      · rw [if_neg y]
    · rw [if_neg z]
/-- what Horner's scheme has reckoned when the exponents e and above are done -/
def sf_ho (X S : Nat → Nat) (w e k : Nat) : Nat := sf_sm (fun j => if e ≤ sf_dg w (sf_tp j) then sf_it S (sf_mo X w j) (sf_dg w (sf_tp j) - e) k else 0) 84 % 10007
theorem sf_ho7 {X S : Nat → Nat} {w : Nat} (hw : sf_W w) (k : Nat) : sf_ho X S w 7 k = 0 := by
  unfold sf_ho
  rw [sf_sm_zero fun j hj => if_neg (by have := sf_dg_le hw (sf_tp_lt hj); omega)]
theorem sf_mo_lt {X : Nat → Nat} {w j k : Nat} (h : X j < 10007) : sf_mo X w j k < 10007 := by
  unfold sf_mo
  by_cases z : k = sf_pl (sf_tp j - sf_dg w (sf_tp j) * w)
  · rw [if_pos z]; exact h
  · rw [if_neg z]; decide
theorem sf_ho_step {X S : Nat → Nat} {w e : Nat} {k : Nat} : (sf_tm (sf_ho X S w (e + 1)) S k + 1 * (sf_sm (fun j => if sf_dg w (sf_tp j) = e then sf_mo X w j k else 0) 84)) % 10007 = sf_ho X S w e k := by
  have h1 : sf_tm (sf_ho X S w (e + 1)) S k = sf_sm (fun j => sf_tm (fun i => if e + 1 ≤ sf_dg w (sf_tp j) then sf_it S (sf_mo X w j) (sf_dg w (sf_tp j) - (e + 1)) i else 0) S k) 84 % 10007 :=
    sf_tm_sum (fun j i => if e + 1 ≤ sf_dg w (sf_tp j) then sf_it S (sf_mo X w j) (sf_dg w (sf_tp j) - (e + 1)) i else 0) S k 84
  have h2 : ∀ j, j < 84 → sf_tm (fun i => if e + 1 ≤ sf_dg w (sf_tp j) then sf_it S (sf_mo X w j) (sf_dg w (sf_tp j) - (e + 1)) i else 0) S k = if e + 1 ≤ sf_dg w (sf_tp j) then sf_it S (sf_mo X w j) (sf_dg w (sf_tp j) - e) k else 0 := fun j _ => by
    by_cases z : e + 1 ≤ sf_dg w (sf_tp j)
    · rw [if_pos z, show sf_dg w (sf_tp j) - e = (sf_dg w (sf_tp j) - (e + 1)) + 1 by omega]
      exact sf_tm_congr (fun i _ => if_pos z) (fun i _ => rfl) k
    · rw [if_neg z]
      exact sf_tm_zero (fun i _ => if_neg z) k
  rw [h1, sf_sm_congr h2, Nat.one_mul]
  unfold sf_ho
  have h3 : ∀ j, j < 84 → (if e ≤ sf_dg w (sf_tp j) then sf_it S (sf_mo X w j) (sf_dg w (sf_tp j) - e) k else 0) = (if e + 1 ≤ sf_dg w (sf_tp j) then sf_it S (sf_mo X w j) (sf_dg w (sf_tp j) - e) k else 0) + (if sf_dg w (sf_tp j) = e then sf_mo X w j k else 0) := fun j _ => by
    rcases Nat.lt_trichotomy (sf_dg w (sf_tp j)) e with z | z | z
    · rw [if_neg (by omega), if_neg (by omega), if_neg (by omega)]
    · rw [if_pos (by omega), if_neg (by omega), if_pos z, z, Nat.sub_self, Nat.zero_add]; rfl
    · rw [if_pos (by omega), if_pos (by omega), if_neg (by omega), Nat.add_zero]
  rw [sf_sm_congr h3, sf_sm_add]
  generalize sf_sm (fun j => if e + 1 ≤ sf_dg w (sf_tp j) then sf_it S (sf_mo X w j) (sf_dg w (sf_tp j) - e) k else 0) 84 = a
  generalize sf_sm (fun j => if sf_dg w (sf_tp j) = e then sf_mo X w j k else 0) 84 = b
  omega
theorem sf_ho0 (X S : Nat → Nat) (w k : Nat) : sf_ho X S w 0 k = sf_sm (fun j => sf_it S (sf_mo X w j) (sf_dg w (sf_tp j)) k) 84 % 10007 := by
  unfold sf_ho
  refine congrArg (· % 10007) (sf_sm_congr fun j _ => ?_)
  rw [if_pos (Nat.zero_le _), Nat.sub_zero]
/-- Horner's scheme on lists: what holds of line 18 when the exponents e and above are done. B: what is put in; d: its greatest degree plus one -/
def sf_hI (L B : List (Nat × Nat)) (w d e : Nat) (H : List (Nat × Nat)) : Prop := sf_Gd H ∧ (0 < d → ∀ p, p ∈ H → sf_sz p.1 + e * (d - 1) ≤ 6) ∧ ∀ X S, sf_rl L X → sf_rl B S → sf_rl H (sf_ho X S w e)
theorem sf_hI_nil {L B : List (Nat × Nat)} {w d : Nat} (hw : sf_W w) : sf_hI L B w d 7 [] :=
  ⟨trivial, fun _ p hp => (by cases hp), fun X S _ _ k _ => sf_ho7 hw k⟩
theorem sf_hI_pr {L B : List (Nat × Nat)} {w d e : Nat} {H : List (Nat × Nat)} (hd : sf_mxL sf_sz B d) (h : sf_hI L B w d (e + 1) H) : sf_pr H B := fun a ha b hb => by
  have x := hd.1 b hb
  have y := h.2.1 (by omega) a ha
  rw [Nat.add_mul] at y
  omega
theorem sf_hI_step {L B : List (Nat × Nat)} {w d e : Nat} {H : List (Nat × Nat)} (hw : sf_W w) (gL : sf_Gd L) (gB : sf_Gd B) (hd : sf_mxL sf_sz B d)
    (hc : 0 < d → ∀ p, p ∈ L → sf_sz p.1 - sf_dg w p.1 + sf_dg w p.1 * (d - 1) ≤ 6) (h : sf_hI L B w d (e + 1) H) :
    sf_Gd (sf_xm B H []) ∧ sf_Gd (sf_mg 1 0 (sf_xm B H []) (sf_pt w e L)) ∧ sf_hI L B w d e (sf_mg 1 0 (sf_xm B H []) (sf_pt w e L)) := by
  have pr := sf_hI_pr hd h
  have g1 := sf_xm_gd gB H [] (fun a ha => sf_gd_mem h.1 ha) trivial pr
  have g2 := sf_pt_gd (e := e) hw gL
  have g3 : sf_Gd (sf_mg 1 0 (sf_xm B H []) (sf_pt w e L)) := sf_mg_gd (by decide) _ _ g1 g2 fun b hb => by
    have := (sf_gd_mem g2 hb).2.1
    rw [sf_sz0]; omega
  refine ⟨g1, g3, g3, fun hd0 p hp => ?_, fun X S hX hS k hk => ?_⟩
  · rcases sf_mg_mem 1 0 _ _ p hp with ⟨a, ha, ea⟩ | ⟨b, hb, eb⟩
    · rcases sf_xm_mem H [] a ha with ⟨c, hc', _⟩ | ⟨c, hc', b, hb, e2⟩
      · cases hc'
      · have x := hd.1 b hb
        have y := h.2.1 hd0 c hc'
        have s := pr c hc' b hb
        rw [ea, e2, (sf_sz_add (sf_gd_mem h.1 hc').1 (sf_gd_mem gB hb).1 s).2]
        rw [Nat.add_mul] at y
        omega
    · obtain ⟨r, hr, zr, er⟩ := sf_pt_mem hb
      have a := sf_pt_ok hw (sf_gd_mem gL hr) zr
      have c := hc hd0 r hr
      rw [zr] at c
      rw [eb, er]
      show sf_sz (r.1 - e * w + 0) + e * (d - 1) ≤ 6
      rw [Nat.add_zero]
      have := a.2.1
      omega
  · rw [sf_mg_cf 1 0 _ _ _ g1 g2, ← sf_ho_step (e := e)]
    have e1 := sf_xm_rl h.1 gB (h.2.2 X S hX hS) hS pr k hk
    have e2 := sf_pt_rl (e := e) hw gL hX k hk
    rw [← e1]
    unfold sf_cs
    rw [if_pos (Nat.zero_le _), Nat.sub_zero, ← e2]
/-- powers on lists -/
def sf_one (k : Nat) : Nat := if k = 0 then 1 else 0
def sf_pI (B : List (Nat × Nat)) (d k : Nat) (H : List (Nat × Nat)) : Prop := sf_Gd H ∧ (0 < d → ∀ p, p ∈ H → sf_sz p.1 ≤ k * (d - 1)) ∧ ∀ S, sf_rl B S → sf_rl H (sf_it S sf_one k)
theorem sf_one_rl : sf_rl [(0, 1)] sf_one := fun i hi => by
  show (if i = 0 then 1 else 0) = if 0 = sf_tp i then 1 else 0
  by_cases z : i = 0
  · rw [if_pos z, z, sf_tp0, if_pos rfl]
  · rw [if_neg z]
    refine (if_neg fun e => z ?_).symm
    exact sf_tp_inj hi (by decide) (by rw [← e, sf_tp0])
theorem sf_one_gd : sf_Gd [(0, 1)] := ⟨⟨by decide, by decide, by decide, by decide⟩, fun q hq => (by cases hq), trivial⟩
theorem sf_pI_0 {B : List (Nat × Nat)} {d : Nat} : sf_pI B d 0 [(0, 1)] :=
  ⟨sf_one_gd, fun _ p hp => by rw [List.mem_singleton.mp hp]; exact Nat.zero_le _, fun S _ => sf_one_rl⟩
theorem sf_pI_step {B : List (Nat × Nat)} {d k n : Nat} {H : List (Nat × Nat)} (gB : sf_Gd B) (hd : sf_mxL sf_sz B d) (hk : k < n) (hn : 0 < d → (d - 1) * n ≤ 6) (h : sf_pI B d k H) : sf_pr H B ∧ sf_pI B d (k + 1) (sf_xm B H []) := by
  have pr : sf_pr H B := fun a ha b hb => by
    have x := hd.1 b hb
    have y := h.2.1 (by omega) a ha
    have z := hn (by omega)
    have q : (d - 1) * (k + 1) ≤ (d - 1) * n := Nat.mul_le_mul_left _ hk
    rw [Nat.mul_add, Nat.mul_comm] at q
    omega
  refine ⟨pr, sf_xm_gd gB H [] (fun a ha => sf_gd_mem h.1 ha) trivial pr, fun hd0 p hp => ?_, fun S hS => sf_xm_rl h.1 gB (h.2.2 S hS) hS pr⟩
  rcases sf_xm_mem H [] p hp with ⟨c, hc', _⟩ | ⟨c, hc', b, hb, e2⟩
  · cases hc'
  · have x := hd.1 b hb
    have y := h.2.1 hd0 c hc'
    have s := pr c hc' b hb
    rw [e2, (sf_sz_add (sf_gd_mem h.1 hc').1 (sf_gd_mem gB hb).1 s).2, Nat.add_mul]
    omega
/-- derivatives on lists -/
def sf_de (w : Nat) : List (Nat × Nat) → List (Nat × Nat)
  | [] => []
  | p :: L => if 0 < sf_dg w p.1 then (p.1 - w, p.2 * sf_dg w p.1 % 10007) :: sf_de w L else sf_de w L
theorem sf_de_mem {w : Nat} {L : List (Nat × Nat)} {x : Nat × Nat} (h : x ∈ sf_de w L) : ∃ p, p ∈ L ∧ 0 < sf_dg w p.1 ∧ x.1 = p.1 - w := by
  induction L with
  | nil => cases h
  | cons p L ih =>
    have q : sf_de w (p :: L) = if 0 < sf_dg w p.1 then (p.1 - w, p.2 * sf_dg w p.1 % 10007) :: sf_de w L else sf_de w L := rfl
    rw [q] at h
    by_cases z : 0 < sf_dg w p.1
    · rw [if_pos z] at h
      rcases List.mem_cons.mp h with y | y
      · exact ⟨p, List.mem_cons_self, z, by rw [y]⟩
      · obtain ⟨r, hr, a⟩ := ih y
        exact ⟨r, List.mem_cons_of_mem _ hr, a⟩
    · rw [if_neg z] at h
      obtain ⟨r, hr, a⟩ := ih h
      exact ⟨r, List.mem_cons_of_mem _ hr, a⟩
theorem sf_prime {c e : Nat} (hc : 0 < c) (hc' : c < 10007) (he : 0 < e) (he' : e ≤ 6) : 0 < c * e % 10007 := by
  have : e = 1 ∨ e = 2 ∨ e = 3 ∨ e = 4 ∨ e = 5 ∨ e = 6 := by omega
  rcases this with rfl | rfl | rfl | rfl | rfl | rfl
  · omega
  · omega
  · omega
  · omega
  · omega
  · omega
theorem sf_de_ok {w : Nat} (hw : sf_W w) {p : Nat × Nat} (ok : sf_Ok p) (z : 0 < sf_dg w p.1) : sf_Ok (p.1 - w, p.2 * sf_dg w p.1 % 10007) := by
  have a := sf_dg_down hw ok.1 z
  have b := sf_dg_le hw ok.1
  refine ⟨?_, ?_, sf_prime ok.2.2.1 ok.2.2.2 z b.2.1, sf_m10 _⟩
  · show p.1 - w < 343
    have := ok.1; omega
  · show sf_sz (p.1 - w) ≤ 6
    have := ok.2.1; omega
theorem sf_de_gd {w : Nat} (hw : sf_W w) {L : List (Nat × Nat)} (g : sf_Gd L) : sf_Gd (sf_de w L) := by
  induction L with
  | nil => exact trivial
  | cons p L ih =>
    show sf_Gd (if 0 < sf_dg w p.1 then (p.1 - w, p.2 * sf_dg w p.1 % 10007) :: sf_de w L else sf_de w L)
    by_cases z : 0 < sf_dg w p.1
    · rw [if_pos z]
      refine ⟨sf_de_ok hw g.1 z, fun q hq => ?_, ih g.2.2⟩
      obtain ⟨r, hr, zr, er⟩ := sf_de_mem hq
      have b := sf_dg_down hw (sf_gd_mem g.2.2 hr).1 zr
      have c := g.2.1 r hr
      have d := sf_dg_down hw g.1.1 z
      rw [er]
      show r.1 - w < p.1 - w
      omega
    · rw [if_neg z]; exact ih g.2.2
/-- the coefficients of the derivative -/
def sf_dr (X : Nat → Nat) (w k : Nat) : Nat := if sf_sz (sf_tp k) + 1 ≤ 6 then X (sf_pl (sf_tp k + w)) * (sf_dg w (sf_tp k) + 1) % 10007 else 0
theorem sf_de_cf {w : Nat} (hw : sf_W w) {t : Nat} (ht : t < 343) {L : List (Nat × Nat)} (g : sf_Gd L) : sf_cf (sf_de w L) t = if sf_sz t + 1 ≤ 6 then sf_cf L (t + w) * (sf_dg w t + 1) % 10007 else 0 := by
  induction L with
  | nil =>
    show 0 = if sf_sz t + 1 ≤ 6 then 0 * (sf_dg w t + 1) % 10007 else 0
    by_cases y : sf_sz t + 1 ≤ 6
    · rw [if_pos y, Nat.zero_mul]
    · rw [if_neg y]
  | cons p L ih =>
    show sf_cf (if 0 < sf_dg w p.1 then (p.1 - w, p.2 * sf_dg w p.1 % 10007) :: sf_de w L else sf_de w L) t = if sf_sz t + 1 ≤ 6 then (if p.1 = t + w then p.2 else sf_cf L (t + w)) * (sf_dg w t + 1) % 10007 else 0
    by_cases z : 0 < sf_dg w p.1
    · rw [if_pos z]
      show (if p.1 - w = t then p.2 * sf_dg w p.1 % 10007 else sf_cf (sf_de w L) t) = _
      have a := sf_dg_down hw g.1.1 z
      have b := g.1.2.1
      by_cases x : p.1 - w = t
      · rw [if_pos x]
        rw [x] at a
        rw [if_pos (by omega), if_pos (by omega), a.2.2]
      · rw [if_neg x, ih g.2.2]
        by_cases y : sf_sz t + 1 ≤ 6
        · rw [if_pos y, if_pos y, if_neg (by omega)]
        · rw [if_neg y, if_neg y]
    · rw [if_neg z, ih g.2.2]
      by_cases y : sf_sz t + 1 ≤ 6
      · rw [if_pos y, if_pos y, if_neg fun e => ?_]
        have a := sf_dg_up hw ht y
        rw [← e] at a
        omega
      · rw [if_neg y, if_neg y]
theorem sf_de_rl {w : Nat} (hw : sf_W w) {L : List (Nat × Nat)} {X : Nat → Nat} (g : sf_Gd L) (h : sf_rl L X) : sf_rl (sf_de w L) (sf_dr X w) := fun k hk => by
  rw [sf_de_cf hw (sf_tp_lt hk) g]
  unfold sf_dr
  by_cases y : sf_sz (sf_tp k) + 1 ≤ 6
  · have a := sf_dg_up hw (sf_tp_lt hk) y
    rw [if_pos y, if_pos y, h _ (sf_pl_lt a.1 (by omega)), sf_tp_pl a.1 (by omega)]
  · rw [if_neg y, if_neg y]
end
section
/-! part 06: the component's state as lines of terms; append, merge, copy, products -/
theorem sf_ix (l i : Nat) : 84 * nI l + nI i = nI (84 * l + i) := by
  show nI 84 * nI l + nI i = _
  rw [pk_mul, nI_add]
theorem sf_ix0 (l : Nat) : 84 * nI l = nI (84 * l) := pk_mul 84 l
theorem sf_cl {n : Nat} (h : n < 2147483648) : (nI n).toNatClampNeg = n := nI_clamp h
theorem sf_lt3 {x y : Int32} (h : x < y) : ¬ y < x ∧ ¬ y ≤ x := by
  rw [Int32.lt_iff_toInt_lt] at h
  rw [Int32.lt_iff_toInt_lt, Int32.le_iff_toInt_le]
  omega
theorem sf_m1lt {n : Nat} (h : n < 2147483648) : (-1 : Int32) < nI n := by
  rw [Int32.lt_iff_toInt_lt, nI_toInt h, show (-1 : Int32).toInt = -1 from by decide]
  omega
theorem sf_rem {n : Nat} (h : n < 2147483648) : nI n - nI n / 10007 * 10007 = nI (n % 10007) := pk_rem (d := 10007) h (by decide) (by decide)
theorem sf_rem7 {n : Nat} (h : n < 2147483648) : nI n - nI n / 7 * 7 = nI (n % 7) := pk_rem (d := 7) h (by decide) (by decide)
theorem sf_div7 {n : Nat} (h : n < 2147483648) : nI n / 7 = nI (n / 7) := pk_div (d := 7) h (by decide) (by decide)
theorem sf_div49 {n : Nat} (h : n < 2147483648) : nI n / 49 = nI (n / 49) := pk_div (d := 49) h (by decide) (by decide)
def sf_ln (tr fa sz : Nat → Int32) (l : Nat) (L : List (Nat × Nat)) : Prop := sz l = nI L.length ∧ ∀ i p, L[i]? = some p → tr (84 * l + i) = nI p.1 ∧ fa (84 * l + i) = nI p.2
def sf_XR (G : Nat → List (Nat × Nat)) (tr fa sz : Nat → Int32) : Prop := ∀ l, l < 20 → sf_Gd (G l) ∧ sf_ln tr fa sz l (G l)
def sf_gu (G : Nat → List (Nat × Nat)) (l : Nat) (L : List (Nat × Nat)) : Nat → List (Nat × Nat) := fun k => if k = l then L else G k
theorem sf_gus {G : Nat → List (Nat × Nat)} {l : Nat} {L : List (Nat × Nat)} : sf_gu G l L l = L := if_pos rfl
theorem sf_gun {G : Nat → List (Nat × Nat)} {l k : Nat} {L : List (Nat × Nat)} (h : k ≠ l) : sf_gu G l L k = G k := if_neg h
theorem sf_gugu {G : Nat → List (Nat × Nat)} {l : Nat} {A B : List (Nat × Nat)} : sf_gu (sf_gu G l A) l B = sf_gu G l B := by
  funext k
  by_cases z : k = l
  · rw [z, sf_gus, sf_gus]
  · rw [sf_gun z, sf_gun z, sf_gun z]
theorem sf_guid {G : Nat → List (Nat × Nat)} {l : Nat} : sf_gu G l (G l) = G := by
  funext k
  by_cases z : k = l
  · rw [z, sf_gus]
  · rw [sf_gun z]
theorem sf_get_lt {L : List (Nat × Nat)} {i : Nat} {p : Nat × Nat} (h : L[i]? = some p) : i < L.length := by
  obtain ⟨h', _⟩ := List.getElem?_eq_some_iff.mp h
  exact h'
theorem sf_get_mem {L : List (Nat × Nat)} {i : Nat} {p : Nat × Nat} (h : L[i]? = some p) : p ∈ L := List.mem_of_getElem? h
theorem sf_drop {L : List (Nat × Nat)} {i : Nat} (h : i < L.length) : ∃ p, L[i]? = some p ∧ L.drop i = p :: L.drop (i + 1) :=
  ⟨L[i], List.getElem?_eq_getElem h, List.drop_eq_getElem_cons h⟩
theorem sf_drop_nil {L : List (Nat × Nat)} {i : Nat} (h : L.length ≤ i) : L.drop i = [] := List.drop_eq_nil_of_le h
theorem sf_get_app {L : List (Nat × Nat)} {x p : Nat × Nat} {i : Nat} (h : (L ++ [x])[i]? = some p) : L[i]? = some p ∨ (i = L.length ∧ p = x) := by
  have hl := sf_get_lt h
  rw [List.length_append, List.length_singleton] at hl
  rcases Nat.lt_or_ge i L.length with z | z
  · rw [List.getElem?_append_left z] at h; exact Or.inl h
  · have e : i = L.length := by omega
    subst e
    rw [List.getElem?_append_right (Nat.le_refl _), Nat.sub_self] at h
    exact Or.inr ⟨rfl, (Option.some.inj h).symm⟩
section
variable {G : Nat → List (Nat × Nat)} {tr fa sz : Nat → Int32}
theorem sf_xsz (h : sf_XR G tr fa sz) {l : Nat} (hl : l < 20) : sz (nI l).toNatClampNeg = nI (G l).length := by
  rw [sf_cl (by omega)]; exact (h l hl).2.1
theorem sf_xlen (h : sf_XR G tr fa sz) {l : Nat} (hl : l < 20) : (G l).length ≤ 84 := sf_gd_len (h l hl).1
theorem sf_xat (h : sf_XR G tr fa sz) {l i : Nat} {p : Nat × Nat} (hl : l < 20) (hp : (G l)[i]? = some p) : tr (nI (84 * l + i)).toNatClampNeg = nI p.1 ∧ fa (nI (84 * l + i)).toNatClampNeg = nI p.2 ∧ sf_Ok p ∧ i < 84 ∧ 84 * l + i < 1680 := by
  have a := sf_xlen h hl
  have b := sf_get_lt hp
  rw [sf_cl (by omega)]
  exact ⟨((h l hl).2.2 i p hp).1, ((h l hl).2.2 i p hp).2, sf_gd_mem (h l hl).1 (sf_get_mem hp), by omega, by omega⟩
theorem sf_xzero (h : sf_XR G tr fa sz) (l : Nat) : sf_XR (sf_gu G l []) tr fa (upd sz l 0) := by
  intro k hk
  by_cases z : k = l
  · subst z
    rw [sf_gus]
    exact ⟨trivial, pk_us, fun i p hp => by cases hp⟩
  · rw [sf_gun z]
    refine ⟨(h k hk).1, ?_, (h k hk).2.2⟩
    rw [pk_un z]; exact (h k hk).2.1
theorem sf_xput (h : sf_XR G tr fa sz) {l t v : Nat} (hl : l < 20) (g : sf_Gd (G l ++ [(t, v)])) : sf_XR (sf_gu G l (G l ++ [(t, v)])) (upd tr (84 * l + (G l).length) (nI t)) (upd fa (84 * l + (G l).length) (nI v)) (upd sz l (nI ((G l).length + 1))) := by
  have hg := sf_gd_len g
  rw [List.length_append, List.length_singleton] at hg
  intro k hk
  by_cases z : k = l
  · subst z
    rw [sf_gus]
    refine ⟨g, ?_, fun i p hp => ?_⟩
    · rw [pk_us, List.length_append, List.length_singleton]
    · rcases sf_get_app hp with y | ⟨e, ep⟩
      · have := sf_get_lt y
        rw [pk_un (by omega), pk_un (by omega)]
        exact (h k hk).2.2 i p y
      · subst e
        rw [pk_us, pk_us, ep]
        exact ⟨rfl, rfl⟩
  · rw [sf_gun z]
    refine ⟨(h k hk).1, ?_, fun i p hp => ?_⟩
    · rw [pk_un z]; exact (h k hk).2.1
    · have := sf_get_lt hp
      have := sf_gd_len (h k hk).1
      rw [pk_un (by omega), pk_un (by omega)]
      exact (h k hk).2.2 i p hp
end
section
variable {post : SX → Prop} {c : Int32} {G : Nat → List (Nat × Nat)} {tr fa sz : Nat → Int32}
theorem sf_append {l t v : Nat} (hl : l < 20) (hv : v < 10007) (h : sf_XR G tr fa sz) (g : v ≠ 0 → sf_Gd (G l ++ [(t, v)])) (k : ∀ tr' fa' sz', sf_XR (sf_gu G l (G l ++ sf_a1 t v)) tr' fa' sz' → post (c, tr', fa', sz')) : wpX_append post (c, tr, fa, sz) (nI l) (nI t) (nI v) := by
  unfold wpX_append
  dsimp only
  by_cases z : v = 0
  · subst z
    refine br_t nI_0 (k tr fa sz ?_)
    show sf_XR (sf_gu G l (G l ++ [])) tr fa sz
    rw [List.append_nil, sf_guid]
    exact h
  · have gg := g z
    have hg := sf_gd_len gg
    rw [List.length_append, List.length_singleton] at hg
    have il : vp_in (nI l) 20 := vp_in_nI hl (by decide)
    have ii : vp_in (nI (84 * l + (G l).length)) 1680 := vp_in_nI (by omega) (by decide)
    rw [sf_xsz h hl, sf_ix]
    refine br_f (nI_ne0 (Nat.pos_of_ne_zero z) (by omega)) ⟨il, br_f (nI_ge (b := 84) (by omega) (by decide)) ⟨il, ii, nm_e ⟨il, ii, nm_e ⟨il, il, nm_e (k _ _ _ ?_)⟩⟩⟩⟩
    rw [sf_cl (by omega), sf_cl (by omega), nI_1]
    have e : sf_a1 t v = [(t, v)] := if_neg z
    rw [e]
    exact sf_xput h hl gg
theorem sf_single {l t v : Nat} (hl : l < 20) (hv : v < 10007) (ht : t < 343) (hs : sf_sz t ≤ 6) (h : sf_XR G tr fa sz) (k : ∀ tr' fa' sz', sf_XR (sf_gu G l (sf_a1 t v)) tr' fa' sz' → post (c, tr', fa', sz')) : wpX_single post (c, tr, fa, sz) (nI l) (nI t) (nI v) := by
  unfold wpX_single
  dsimp only
  refine ⟨vp_in_nI hl (by decide), nm_r (e' := upd sz l 0) (by rw [sf_cl (by omega)]) ?_⟩
  refine sf_append hl hv (sf_xzero h l) (fun z => ?_) fun tr' fa' sz' h' => k tr' fa' sz' ?_
  · rw [sf_gus]
    exact ⟨⟨ht, hs, Nat.pos_of_ne_zero z, hv⟩, fun q hq => (by cases hq), trivial⟩
  · rw [sf_gugu, sf_gus] at h'
    exact h'
theorem sf_m187 {J : Int32 → Int32 → Int32 → Int32 → (Nat → Int32) → (Nat → Int32) → (Nat → Int32) → Prop} {x2 x3 x4 x5 x6 x7 : Int32} {to st S t : Nat} {acc : List (Nat × Nat)} (hto : to < 20) (hS : S < 2147483648) (h : sf_XR (sf_gu G to acc) tr fa sz) (g : sf_Gd (acc ++ sf_a1 t (S % 10007)))
    (k : ∀ tr' fa' sz', sf_XR (sf_gu G to (acc ++ sf_a1 t (S % 10007))) tr' fa' sz' → J x6 x7 (nI (st + 1)) c tr' fa' sz') : wX_merge_187 post J (nI to) x2 x3 x4 x5 x6 x7 (nI st) (nI S) (nI t) (nI to) c tr fa sz := by
  unfold wX_merge_187
  refine ⟨by decide, ?_⟩
  rw [sf_rem hS]
  refine sf_append hto (sf_m10 _) h (fun z => ?_) fun tr' fa' sz' h' => ?_
  · rw [sf_gus]
    have e : sf_a1 t (S % 10007) = [(t, S % 10007)] := if_neg z
    rw [e] at g
    exact g
  · rw [sf_gugu, sf_gus] at h'
    intro x ex
    rw [ex, nI_1]
    exact k tr' fa' sz' h'
section
variable {J : Int32 → Int32 → Int32 → Int32 → (Nat → Int32) → (Nat → Int32) → (Nat → Int32) → Prop} {to a b f sh i j st : Nat} {acc : List (Nat × Nat)}
theorem sf_m105_gt {x3 x4 x5 z : Int32} {t v : Nat} (hto : to < 20) (hv : v < 10007) (hz : z < nI t) (hi : 84 * a + i < 1680) (hfa : fa (nI (84 * a + i)).toNatClampNeg = nI v) (h : sf_XR (sf_gu G to acc) tr fa sz) (g : sf_Gd (acc ++ sf_a1 t (v % 10007)))
    (k : ∀ tr' fa' sz', sf_XR (sf_gu G to (acc ++ sf_a1 t (v % 10007))) tr' fa' sz' → J (nI (i + 1)) (nI j) (nI (st + 1)) c tr' fa' sz') : wX_merge_105 post J (nI to) (nI a) x3 x4 x5 (nI i) (nI j) (nI st) (nI t) z c tr fa sz := by
  unfold wX_merge_105
  rw [sf_ix, hfa]
  refine br_f (sf_lt3 hz).1 ⟨vp_in_nI hi (by decide), nm_r (Int32.zero_add _) (nm_r (nI_1 i) ?_)⟩
  unfold wX_merge_137
  refine br_t hz ?_
  unfold wX_merge_171
  exact br_f (sf_lt3 hz).2 (sf_m187 hto (by omega) h g k)
theorem sf_m105_lt {x2 x5 x : Int32} {t v : Nat} (hto : to < 20) (hf : f < 10007) (hv : v < 10007) (hx : x < nI t) (hi : 84 * b + j < 1680) (hfa : fa (nI (84 * b + j)).toNatClampNeg = nI v) (h : sf_XR (sf_gu G to acc) tr fa sz) (g : sf_Gd (acc ++ sf_a1 t (f * v % 10007 % 10007)))
    (k : ∀ tr' fa' sz', sf_XR (sf_gu G to (acc ++ sf_a1 t (f * v % 10007 % 10007))) tr' fa' sz' → J (nI i) (nI (j + 1)) (nI (st + 1)) c tr' fa' sz') : wX_merge_105 post J (nI to) x2 (nI b) (nI f) x5 (nI i) (nI j) (nI st) x (nI t) c tr fa sz := by
  have hm : f * v < 2147483648 := Nat.lt_of_le_of_lt (Nat.mul_le_mul (Nat.le_of_lt_succ hf) (Nat.le_of_lt_succ hv)) (by decide)
  have hr := sf_m10 (f * v)
  unfold wX_merge_105
  refine br_t hx ?_
  unfold wX_merge_137
  rw [sf_ix, hfa, pk_mul, sf_rem hm]
  refine br_f (sf_lt3 hx).1 ⟨vp_in_nI hi (by decide), by decide, nm_r (Int32.zero_add _) (nm_r (nI_1 j) ?_)⟩
  unfold wX_merge_171
  refine br_t ?_ (sf_m187 hto (by omega) h g k)
  have := hx
  rw [Int32.lt_iff_toInt_lt] at this
  rw [Int32.le_iff_toInt_le]
  omega
theorem sf_m105_eq {x5 : Int32} {t v v' : Nat} (hto : to < 20) (hf : f < 10007) (hv : v < 10007) (hv' : v' < 10007) (hi : 84 * a + i < 1680) (hj : 84 * b + j < 1680) (hfa : fa (nI (84 * a + i)).toNatClampNeg = nI v) (hfb : fa (nI (84 * b + j)).toNatClampNeg = nI v') (h : sf_XR (sf_gu G to acc) tr fa sz) (g : sf_Gd (acc ++ sf_a1 t ((v + f * v' % 10007) % 10007)))
    (k : ∀ tr' fa' sz', sf_XR (sf_gu G to (acc ++ sf_a1 t ((v + f * v' % 10007) % 10007))) tr' fa' sz' → J (nI (i + 1)) (nI (j + 1)) (nI (st + 1)) c tr' fa' sz') : wX_merge_105 post J (nI to) (nI a) (nI b) (nI f) x5 (nI i) (nI j) (nI st) (nI t) (nI t) c tr fa sz := by
  have hm : f * v' < 2147483648 := Nat.lt_of_le_of_lt (Nat.mul_le_mul (Nat.le_of_lt_succ hf) (Nat.le_of_lt_succ hv')) (by decide)
  have hr := sf_m10 (f * v')
  unfold wX_merge_105
  rw [sf_ix, hfa]
  refine br_f (Int32.lt_irrefl) ⟨vp_in_nI hi (by decide), nm_r (Int32.zero_add _) (nm_r (nI_1 i) ?_)⟩
  unfold wX_merge_137
  rw [sf_ix, hfb, pk_mul, sf_rem hm, nI_add]
  refine br_f (Int32.lt_irrefl) ⟨vp_in_nI hj (by decide), by decide, nm_e (nm_r (nI_1 j) ?_)⟩
  unfold wX_merge_171
  exact br_t (Int32.le_refl _) (sf_m187 hto (by omega) h g k)
end
/-- the head of wX_merge_46: the two next triples, or -1 -/
theorem sf_m46_pq {J : Int32 → Int32 → Int32 → Int32 → (Nat → Int32) → (Nat → Int32) → (Nat → Int32) → Prop} {H : Nat → List (Nat × Nat)} {x1 x4 x8 : Int32} {a b sh i j : Nat} {p q : Nat × Nat} (h : sf_XR H tr fa sz) (ha : a < 20) (hb : b < 20) (hp : (H a)[i]? = some p) (hq : (H b)[j]? = some q)
    (k : wX_merge_105 post J x1 (nI a) (nI b) x4 (nI sh) (nI i) (nI j) x8 (nI p.1) (nI (q.1 + sh)) c tr fa sz) : wX_merge_46 post J x1 (nI a) (nI b) x4 (nI sh) (nI i) (nI j) x8 c tr fa sz := by
  have A := sf_xat h ha hp
  have B := sf_xat h hb hq
  unfold wX_merge_46
  rw [sf_xsz h ha, sf_ix, A.1]
  refine ⟨vp_in_nI ha (by decide), br_f (nI_ge (sf_get_lt hp) (by have := sf_xlen h ha; omega)) ⟨vp_in_nI A.2.2.2.2 (by decide), ?_⟩⟩
  unfold wX_merge_73
  rw [sf_xsz h hb, sf_ix, B.1, nI_add]
  exact ⟨vp_in_nI hb (by decide), br_f (nI_ge (sf_get_lt hq) (by have := sf_xlen h hb; omega)) ⟨vp_in_nI B.2.2.2.2 (by decide), k⟩⟩
theorem sf_m46_p {J : Int32 → Int32 → Int32 → Int32 → (Nat → Int32) → (Nat → Int32) → (Nat → Int32) → Prop} {H : Nat → List (Nat × Nat)} {x1 x4 x5 x8 : Int32} {a b i j : Nat} {p : Nat × Nat} (h : sf_XR H tr fa sz) (ha : a < 20) (hb : b < 20) (hp : (H a)[i]? = some p) (hj : j = (H b).length)
    (k : wX_merge_105 post J x1 (nI a) (nI b) x4 x5 (nI i) (nI j) x8 (nI p.1) (-1) c tr fa sz) : wX_merge_46 post J x1 (nI a) (nI b) x4 x5 (nI i) (nI j) x8 c tr fa sz := by
  have A := sf_xat h ha hp
  unfold wX_merge_46
  rw [sf_xsz h ha, sf_ix, A.1]
  refine ⟨vp_in_nI ha (by decide), br_f (nI_ge (sf_get_lt hp) (by have := sf_xlen h ha; omega)) ⟨vp_in_nI A.2.2.2.2 (by decide), ?_⟩⟩
  unfold wX_merge_73
  rw [sf_xsz h hb, ← hj]
  exact ⟨vp_in_nI hb (by decide), br_t (Int32.le_refl _) k⟩
theorem sf_m46_q {J : Int32 → Int32 → Int32 → Int32 → (Nat → Int32) → (Nat → Int32) → (Nat → Int32) → Prop} {H : Nat → List (Nat × Nat)} {x1 x4 x8 : Int32} {a b sh i j : Nat} {q : Nat × Nat} (h : sf_XR H tr fa sz) (ha : a < 20) (hb : b < 20) (hi : i = (H a).length) (hq : (H b)[j]? = some q)
    (k : wX_merge_105 post J x1 (nI a) (nI b) x4 (nI sh) (nI i) (nI j) x8 (-1) (nI (q.1 + sh)) c tr fa sz) : wX_merge_46 post J x1 (nI a) (nI b) x4 (nI sh) (nI i) (nI j) x8 c tr fa sz := by
  have B := sf_xat h hb hq
  unfold wX_merge_46
  rw [sf_xsz h ha, ← hi]
  refine ⟨vp_in_nI ha (by decide), br_t (Int32.le_refl _) ?_⟩
  unfold wX_merge_73
  rw [sf_xsz h hb, sf_ix, B.1, nI_add]
  exact ⟨vp_in_nI hb (by decide), br_f (nI_ge (sf_get_lt hq) (by have := sf_xlen h hb; omega)) ⟨vp_in_nI B.2.2.2.2 (by decide), k⟩⟩
theorem sf_gd_left {A B : List (Nat × Nat)} (h : sf_Gd (A ++ B)) : sf_Gd A := (sf_gd_app.mp h).1
theorem sf_merge_loop {to a b f sh : Nat} (hto : to < 20) (ha : a < 20) (hb : b < 20) (na : a ≠ to) (nb : b ≠ to) (hf : f < 10007) (hsh : sh < 343) : ∀ n i j st acc tr fa sz, (G a).length - i + ((G b).length - j) < n → i ≤ (G a).length → j ≤ (G b).length → st ≤ i + j → sf_XR (sf_gu G to acc) tr fa sz → sf_Gd (acc ++ sf_mg f sh ((G a).drop i) ((G b).drop j)) →
    (∀ tr' fa' sz', sf_XR (sf_gu G to (acc ++ sf_mg f sh ((G a).drop i) ((G b).drop j))) tr' fa' sz' → post (c, tr', fa', sz')) → wX_merge_16 post (nI to) (nI a) (nI b) (nI f) (nI sh) n (nI i) (nI j) (nI st) c tr fa sz := by
  intro n
  induction n with
  | zero => intro i j st acc tr fa sz hn; exact absurd hn (Nat.not_lt_zero _)
  | succ n ih =>
    intro i j st acc tr fa sz hn hi hj hst h g k
    have la : (G a).length ≤ 84 := by have := sf_xlen h ha; rw [sf_gun na] at this; exact this
    have lb : (G b).length ≤ 84 := by have := sf_xlen h hb; rw [sf_gun nb] at this; exact this
    have ga : sf_gu G to acc a = G a := sf_gun na
    have gb : sf_gu G to acc b = G b := sf_gun nb
    have sa := sf_xsz h ha
    have sb := sf_xsz h hb
    rw [ga] at sa
    rw [gb] at sb
    unfold wX_merge_16
    rw [sa, sb]
    have ia : vp_in (nI a) 20 := vp_in_nI ha (by decide)
    have ib : vp_in (nI b) 20 := vp_in_nI hb (by decide)
    rcases Nat.lt_or_ge i (G a).length with zi | zi
    · obtain ⟨p, hp, dp⟩ := sf_drop zi
      have hp' : (sf_gu G to acc a)[i]? = some p := by rw [ga]; exact hp
      have A := sf_xat h ha hp'
      refine br_f (nI_ge (b := 168) (by omega) (by decide)) ⟨ia, br_t (nI_lt zi (by omega)) ?_⟩
      rcases Nat.lt_or_ge j (G b).length with zj | zj
      · obtain ⟨q, hq, dq⟩ := sf_drop zj
        have hq' : (sf_gu G to acc b)[j]? = some q := by rw [gb]; exact hq
        have B := sf_xat h hb hq'
        have b1 := B.2.2.1.1
        have a1 := A.2.2.1.1
        refine sf_m46_pq h ha hb hp' hq' ?_
        rcases Nat.lt_trichotomy p.1 (q.1 + sh) with z | z | z
        · rw [dp, dq, sf_mg_lt f sh p q _ _ z, ← dp, ← List.append_assoc] at g k
          exact sf_m105_lt hto hf B.2.2.1.2.2.2 (nI_lt z (by omega)) B.2.2.2.2 B.2.1 h (sf_gd_left g) fun tr' fa' sz' h' => ih i (j + 1) (st + 1) _ tr' fa' sz' (by omega) hi (by omega) (by omega) h' g k
        · rw [dp, dq, sf_mg_eq f sh p q _ _ z, ← List.append_assoc] at g k
          rw [← z]
          exact sf_m105_eq hto hf A.2.2.1.2.2.2 B.2.2.1.2.2.2 A.2.2.2.2 B.2.2.2.2 A.2.1 B.2.1 h (sf_gd_left g) fun tr' fa' sz' h' => ih (i + 1) (j + 1) (st + 1) _ tr' fa' sz' (by omega) (by omega) (by omega) (by omega) h' g k
        · rw [dp, dq, sf_mg_gt f sh p q _ _ z, ← dq, ← List.append_assoc] at g k
          exact sf_m105_gt hto A.2.2.1.2.2.2 (nI_lt z (by omega)) A.2.2.2.2 A.2.1 h (sf_gd_left g) fun tr' fa' sz' h' => ih (i + 1) j (st + 1) _ tr' fa' sz' (by omega) (by omega) hj (by omega) h' g k
      · have ej : j = (G b).length := by omega
        have dq : (G b).drop j = [] := sf_drop_nil zj
        have a1 := A.2.2.1.1
        rw [dp, dq, sf_mg_cn f sh p, ← dq, ← List.append_assoc] at g k
        refine sf_m46_p h ha hb hp' (by rw [gb]; exact ej) ?_
        exact sf_m105_gt hto A.2.2.1.2.2.2 (sf_m1lt (by omega)) A.2.2.2.2 A.2.1 h (sf_gd_left g) fun tr' fa' sz' h' => ih (i + 1) j (st + 1) _ tr' fa' sz' (by omega) (by omega) hj (by omega) h' g k
    · have ei : i = (G a).length := by omega
      have dp : (G a).drop i = [] := sf_drop_nil zi
      rcases Nat.lt_or_ge j (G b).length with zj | zj
      · obtain ⟨q, hq, dq⟩ := sf_drop zj
        have hq' : (sf_gu G to acc b)[j]? = some q := by rw [gb]; exact hq
        have B := sf_xat h hb hq'
        have b1 := B.2.2.1.1
        rw [dp, dq, sf_mg_nc f sh q, ← dp, ← List.append_assoc] at g k
        refine br_f (nI_ge (b := 168) (by omega) (by decide)) ⟨ia, br_f (nI_nlt zi (by omega)) ⟨ib, br_f (nI_ge zj (by omega)) ?_⟩⟩
        refine sf_m46_q h ha hb (by rw [ga]; exact ei) hq' ?_
        exact sf_m105_lt hto hf B.2.2.1.2.2.2 (sf_m1lt (by omega)) B.2.2.2.2 B.2.1 h (sf_gd_left g) fun tr' fa' sz' h' => ih i (j + 1) (st + 1) _ tr' fa' sz' (by omega) hi (by omega) (by omega) h' g k
      · have dq : (G b).drop j = [] := sf_drop_nil zj
        rw [dp, dq, sf_mg_nn, List.append_nil] at k
        have kk := k tr fa sz h
        exact br_c (fun _ => kk) fun _ => ⟨ia, br_f (nI_nlt zi (by omega)) ⟨ib, br_t (nI_le zj (by omega)) kk⟩⟩
theorem sf_merge {to a b f sh : Nat} (hto : to < 20) (ha : a < 20) (hb : b < 20) (na : a ≠ to) (nb : b ≠ to) (hf : f < 10007) (hsh : sh < 343) (h : sf_XR G tr fa sz) (g : sf_Gd (sf_mg f sh (G a) (G b)))
    (k : ∀ tr' fa' sz', sf_XR (sf_gu G to (sf_mg f sh (G a) (G b))) tr' fa' sz' → post (c, tr', fa', sz')) : wpX_merge post (c, tr, fa, sz) (nI to) (nI a) (nI b) (nI f) (nI sh) := by
  unfold wpX_merge
  dsimp only
  refine ⟨vp_in_nI hto (by decide), nm_r (e' := upd sz to 0) (by rw [sf_cl (by omega)]) ⟨(G a).length + (G b).length + 1, ?_⟩⟩
  exact sf_merge_loop hto ha hb na nb hf hsh _ 0 0 0 [] tr fa _ (by omega) (Nat.zero_le _) (Nat.zero_le _) (Nat.zero_le _) (sf_xzero h to) g k
end
end
section
/-! part 07: copies, products, parts, derivatives of the component's lines -/
/-- while a line is being copied: all lines but that one stand -/
def sf_XC (G : Nat → List (Nat × Nat)) (to fr i : Nat) (tr fa sz : Nat → Int32) : Prop := (∀ l, l < 20 → l ≠ to → sf_Gd (G l) ∧ sf_ln tr fa sz l (G l)) ∧ sz to = nI (G fr).length ∧ ∀ j p, j < i → (G fr)[j]? = some p → tr (84 * to + j) = nI p.1 ∧ fa (84 * to + j) = nI p.2
section
variable {post : SX → Prop} {c : Int32} {G : Nat → List (Nat × Nat)} {tr fa sz : Nat → Int32}
theorem sf_copy_loop {to fr : Nat} (hto : to < 20) (hfr : fr < 20) (ne : fr ≠ to) (k : ∀ tr' fa' sz', sf_XR (sf_gu G to (G fr)) tr' fa' sz' → post (c, tr', fa', sz')) : ∀ n i tr fa sz, (G fr).length - i < n → i ≤ (G fr).length → sf_XC G to fr i tr fa sz → wX_copy_14 post (nI to) (nI fr) c n (nI i) tr fa sz := by
  intro n
  induction n with
  | zero => intro i tr fa sz hn; exact absurd hn (Nat.not_lt_zero _)
  | succ n ih =>
    intro i tr fa sz hn hi h
    have F := h.1 fr hfr ne
    have lf := sf_gd_len F.1
    have es : sz (nI fr).toNatClampNeg = nI (G fr).length := by rw [sf_cl (by omega)]; exact F.2.1
    unfold wX_copy_14
    rw [es]
    refine ⟨vp_in_nI hfr (by decide), ?_⟩
    rcases Nat.lt_or_ge i (G fr).length with z | z
    · obtain ⟨p, hp, _⟩ := sf_drop z
      have A := F.2.2 i p hp
      have i1 : vp_in (nI (84 * fr + i)) 1680 := vp_in_nI (by omega) (by decide)
      have i2 : vp_in (nI (84 * to + i)) 1680 := vp_in_nI (by omega) (by decide)
      rw [sf_ix, sf_ix]
      refine br_f (nI_ge z (by omega)) ⟨i1, i2, nm_e ⟨i1, i2, nm_e (nm_r (nI_1 i) ?_)⟩⟩
      rw [sf_cl (by omega), sf_cl (by omega), A.1, A.2]
      refine ih (i + 1) _ _ _ (by omega) z ⟨fun l hl hne => ?_, h.2.1, fun j q hj hq => ?_⟩
      · have L := h.1 l hl hne
        refine ⟨L.1, L.2.1, fun j q hq => ?_⟩
        have a := sf_get_lt hq
        have b := sf_gd_len L.1
        rw [pk_un (by omega), pk_un (by omega)]
        exact L.2.2 j q hq
      · by_cases y : j = i
        · subst y
          rw [pk_us, pk_us]
          rw [hp] at hq
          rw [Option.some.inj hq]
          exact ⟨rfl, rfl⟩
        · rw [pk_un (by omega), pk_un (by omega)]
          exact h.2.2 j q (by omega) hq
    · refine br_t (nI_le z (by omega)) (k tr fa sz fun l hl => ?_)
      by_cases y : l = to
      · subst y
        rw [sf_gus]
        refine ⟨F.1, h.2.1, fun j q hq => h.2.2 j q (by have := sf_get_lt hq; omega) hq⟩
      · rw [sf_gun y]
        exact h.1 l hl y
theorem sf_copy {to fr : Nat} (hto : to < 20) (hfr : fr < 20) (ne : fr ≠ to) (h : sf_XR G tr fa sz) (k : ∀ tr' fa' sz', sf_XR (sf_gu G to (G fr)) tr' fa' sz' → post (c, tr', fa', sz')) : wpX_copy post (c, tr, fa, sz) (nI to) (nI fr) := by
  unfold wpX_copy
  dsimp only
  rw [sf_xsz h hfr]
  refine ⟨vp_in_nI hfr (by decide), vp_in_nI hto (by decide), nm_r (e' := upd sz to (nI (G fr).length)) (by rw [sf_cl (by omega)]) ⟨(G fr).length + 1, ?_⟩⟩
  refine sf_copy_loop hto hfr ne k _ 0 tr fa _ (by omega) (Nat.zero_le _) ⟨fun l hl hne => ⟨(h l hl).1, ?_, (h l hl).2.2⟩, pk_us, fun j p hj => absurd hj (Nat.not_lt_zero _)⟩
  rw [pk_un hne]; exact (h l hl).2.1
/-- two families of lines agree but at 16, 17 and to -/
def sf_fr (to : Nat) (G H : Nat → List (Nat × Nat)) : Prop := ∀ l, l < 20 → l ≠ 16 → l ≠ 17 → l ≠ to → H l = G l
theorem sf_mul_loop {to x y : Nat} (hto : to < 20) (hx : x < 20) (hy : y < 20) (x6 : x ≠ 16) (x7 : x ≠ 17) (y6 : y ≠ 16) (y7 : y ≠ 17) (t6 : to ≠ 16) : ∀ n i G tr fa sz, (G x).length - i < n → i ≤ (G x).length → sf_XR G tr fa sz → sf_pr ((G x).drop i) (G y) →
    (∀ H tr' fa' sz', sf_XR H tr' fa' sz' → sf_fr to G H → H to = sf_xm (G y) ((G x).drop i) (G 16) → post (c, tr', fa', sz')) → wX_multiplyInto_14 post (nI to) (nI x) (nI y) n (nI (84 * x + i)) c tr fa sz := by
  intro n
  induction n with
  | zero => intro i G tr fa sz hn; exact absurd hn (Nat.not_lt_zero _)
  | succ n ih =>
    intro i G tr fa sz hn hi h pr k
    have lx := sf_xlen h hx
    unfold wX_multiplyInto_14
    rw [sf_xsz h hx, sf_ix]
    refine ⟨vp_in_nI hx (by decide), ?_⟩
    rcases Nat.lt_or_ge i (G x).length with z | z
    · obtain ⟨p, hp, dp⟩ := sf_drop z
      have A := sf_xat h hx hp
      have ok := A.2.2.1
      have ii : vp_in (nI (84 * x + i)) 1680 := vp_in_nI A.2.2.2.2 (by decide)
      rw [A.1, A.2.1]
      rw [dp] at pr
      refine br_f (nI_ge (by omega) (by omega)) ⟨ii, ii, ?_⟩
      have g := sf_xm_step (acc := G 16) (h y hy).1 (h 16 (by decide)).1 ok pr
      refine sf_merge (to := 17) (a := 16) (b := y) (by decide) (by decide) hy (by decide) y7 ok.2.2.2 ok.1 h g fun tr1 fa1 sz1 h1 => ?_
      refine sf_copy (to := 16) (fr := 17) (by decide) (by decide) (by decide) h1 fun tr2 fa2 sz2 h2 => ?_
      intro x' ex
      rw [ex, nI_1]
      rw [sf_gus] at h2
      have ex2 : ∀ l, l ≠ 16 → l ≠ 17 → sf_gu (sf_gu G 17 (sf_mg p.2 p.1 (G 16) (G y))) 16 (sf_mg p.2 p.1 (G 16) (G y)) l = G l := fun l a b => by rw [sf_gun a, sf_gun b]
      refine ih (i + 1) _ tr2 fa2 sz2 ?_ ?_ h2 ?_ ?_
      · rw [ex2 x x6 x7]; omega
      · rw [ex2 x x6 x7]; omega
      · rw [ex2 x x6 x7, ex2 y y6 y7]
        exact fun a ha => pr a (List.mem_cons_of_mem _ ha)
      · rw [ex2 x x6 x7, ex2 y y6 y7, sf_gus]
        intro H tr' fa' sz' hH fH eH
        refine k H tr' fa' sz' hH (fun l hl a b d => ?_) ?_
        · rw [fH l hl a b d, ex2 l a b]
        · rw [eH, dp]; rfl
    · refine br_t (nI_le (by omega) (by omega)) ?_
      refine sf_copy (to := to) (fr := 16) hto (by decide) t6.symm h fun tr1 fa1 sz1 h1 => ?_
      refine k _ tr1 fa1 sz1 h1 (fun l hl a b d => sf_gun d) ?_
      rw [sf_gus, sf_drop_nil z]; rfl
theorem sf_mul {to x y : Nat} (hto : to < 20) (hx : x < 20) (hy : y < 20) (x6 : x ≠ 16) (x7 : x ≠ 17) (y6 : y ≠ 16) (y7 : y ≠ 17) (t6 : to ≠ 16) (h : sf_XR G tr fa sz) (pr : sf_pr (G x) (G y))
    (k : ∀ H tr' fa' sz', sf_XR H tr' fa' sz' → sf_fr to G H → H to = sf_xm (G y) (G x) [] → post (c, tr', fa', sz')) : wpX_multiplyInto post (c, tr, fa, sz) (nI to) (nI x) (nI y) := by
  unfold wpX_multiplyInto
  dsimp only
  refine nm_e (nm_r (e' := nI (84 * x + 0)) (sf_ix0 x) ⟨(G x).length + 1, ?_⟩)
  have ex : sf_gu G 16 [] x = G x := sf_gun x6
  have ey : sf_gu G 16 [] y = G y := sf_gun y6
  refine sf_mul_loop hto hx hy x6 x7 y6 y7 t6 _ 0 (sf_gu G 16 []) tr fa _ ?_ (Nat.zero_le _) (sf_xzero h 16) ?_ ?_
  · rw [ex]; omega
  · rw [ex, ey]; exact pr
  · rw [ex, ey, sf_gus]
    intro H tr' fa' sz' hH fH eH
    refine k H tr' fa' sz' hH (fun l hl a b d => ?_) eH
    rw [fH l hl a b d, sf_gun a]
/-- an exponent, as the component and the reference take it -/
theorem sf_dgI {w t : Nat} (hw : sf_W w) (ht : t < 343) : nI t / nI w - nI t / nI w / 7 * 7 = nI (sf_dg w t) := by
  have p := sf_W_pos hw
  rw [pk_div (by omega) p.1 (by omega), sf_rem7 (Nat.lt_of_le_of_lt (Nat.div_le_self _ _) (by omega))]
  rfl
theorem sf_W_n0 {w : Nat} (hw : sf_W w) : ¬ nI w = 0 := nI_ne0 (sf_W_pos hw).1 (by have := sf_W_pos hw; omega)
theorem sf_W_nle {w : Nat} (hw : sf_W w) : ¬ nI w ≤ 0 := nI_nle (sf_W_pos hw).1 (by have := sf_W_pos hw; omega)
theorem sf_app_cons {A B : List (Nat × Nat)} {p : Nat × Nat} : A ++ p :: B = (A ++ [p]) ++ B := by rw [List.append_assoc]; rfl
theorem sf_a1_pos {t v : Nat} (h : 0 < v) : sf_a1 t v = [(t, v)] := if_neg (Nat.ne_of_gt h)
theorem sf_part_loop {x w e : Nat} (hx : x < 20) (x7 : x ≠ 17) (hw : sf_W w) : ∀ n i acc tr fa sz, (G x).length - i < n → i ≤ (G x).length → sf_XR (sf_gu G 17 acc) tr fa sz → sf_Gd (acc ++ sf_pt w e ((G x).drop i)) →
    (∀ tr' fa' sz', sf_XR (sf_gu G 17 (acc ++ sf_pt w e ((G x).drop i))) tr' fa' sz' → post (c, tr', fa', sz')) → e ≤ 6 → wX_takePart_25 post (nI x) (nI e) (nI w) n (nI (84 * x + i)) c tr fa sz := by
  intro n
  induction n with
  | zero => intro i acc tr fa sz hn; exact absurd hn (Nat.not_lt_zero _)
  | succ n ih =>
    intro i acc tr fa sz hn hi h g k he
    have gx : sf_gu G 17 acc x = G x := sf_gun x7
    have lx := sf_xlen h hx
    have sx := sf_xsz h hx
    rw [gx] at lx sx
    unfold wX_takePart_25
    rw [sx, sf_ix]
    refine ⟨vp_in_nI hx (by decide), ?_⟩
    rcases Nat.lt_or_ge i (G x).length with z | z
    · obtain ⟨p, hp, dp⟩ := sf_drop z
      have A := sf_xat (l := x) (i := i) (p := p) h hx (by rw [gx]; exact hp)
      have ok := A.2.2.1
      have ii : vp_in (nI (84 * x + i)) 1680 := vp_in_nI A.2.2.2.2 (by decide)
      rw [A.1, A.2.1, sf_dgI hw ok.1]
      refine br_f (nI_ge (by omega) (by omega)) ⟨ii, sf_W_n0 hw, by decide, ?_⟩
      have d6 := (sf_dg_le hw ok.1).2.1
      have q : sf_pt w e (p :: (G x).drop (i + 1)) = if sf_dg w p.1 = e then (p.1 - e * w, p.2) :: sf_pt w e ((G x).drop (i + 1)) else sf_pt w e ((G x).drop (i + 1)) := rfl
      by_cases y : sf_dg w p.1 = e
      · rw [dp, q, if_pos y, sf_app_cons] at g k
        have B := sf_pt_ok hw ok y
        rw [pk_mul, pk_sub B.2.2]
        refine br_t (congrArg nI y) ⟨ii, ii, ?_⟩
        refine sf_append (l := 17) (by decide) ok.2.2.2 h (fun _ => ?_) fun tr' fa' sz' h' => ?_
        · rw [sf_gus]; exact sf_gd_left g
        · rw [sf_gugu, sf_gus, sf_a1_pos ok.2.2.1] at h'
          intro x' ex
          rw [ex, nI_1]
          exact ih (i + 1) _ tr' fa' sz' (by omega) (by omega) h' g k he
      · rw [dp, q, if_neg y] at g k
        refine br_f (fun e' => y ((nI_eq (by omega) (by omega)).mp e')) (nm_r (nI_1 _) ?_)
        exact ih (i + 1) _ tr fa sz (by omega) (by omega) h g k he
    · rw [sf_drop_nil z] at k
      refine br_t (nI_le (by omega) (by omega)) (k tr fa sz ?_)
      show sf_XR (sf_gu G 17 (acc ++ [])) tr fa sz
      rw [List.append_nil]
      exact h
theorem sf_part {x w e : Nat} (hx : x < 20) (x7 : x ≠ 17) (hw : sf_W w) (he : e ≤ 6) (h : sf_XR G tr fa sz) (k : ∀ tr' fa' sz', sf_XR (sf_gu G 17 (sf_pt w e (G x))) tr' fa' sz' → post (c, tr', fa', sz')) : wpX_takePart post (c, tr, fa, sz) (nI x) (nI w) (nI e) := by
  unfold wpX_takePart
  dsimp only
  refine br_f (sf_W_nle hw) ?_
  unfold wX_takePart_9
  refine nm_e (nm_r (e' := nI (84 * x + 0)) (sf_ix0 x) ⟨(G x).length + 1, ?_⟩)
  exact sf_part_loop hx x7 hw _ 0 [] tr fa _ (by omega) (Nat.zero_le _) (sf_xzero h 17) (sf_pt_gd hw (h x hx).1) k he
end
section
variable {post : Int32 → SX → Prop} {G : Nat → List (Nat × Nat)} {tr fa sz : Nat → Int32}
theorem sf_der_loop {x w m : Nat} (hm : m < 16) (hx : x < m) (hw : sf_W w) : ∀ n i acc tr fa sz, (G x).length - i < n → i ≤ (G x).length → sf_XR (sf_gu G m acc) tr fa sz → sf_Gd (acc ++ sf_de w ((G x).drop i)) →
    (∀ tr' fa' sz', sf_XR (sf_gu G m (acc ++ sf_de w ((G x).drop i))) tr' fa' sz' → post (nI m) (nI (m + 1), tr', fa', sz')) → wX_derive_45 post (nI x) (nI w) n (nI (84 * x + i)) (nI m) tr fa sz := by
  intro n
  induction n with
  | zero => intro i acc tr fa sz hn; exact absurd hn (Nat.not_lt_zero _)
  | succ n ih =>
    intro i acc tr fa sz hn hi h g k
    have gx : sf_gu G m acc x = G x := sf_gun (by omega)
    have hx2 : x < 20 := by omega
    have lx := sf_xlen h hx2
    have sx := sf_xsz h hx2
    rw [gx] at lx sx
    unfold wX_derive_45
    rw [sx, sf_ix]
    refine ⟨vp_in_nI hx2 (by decide), ?_⟩
    rcases Nat.lt_or_ge i (G x).length with z | z
    · obtain ⟨p, hp, dp⟩ := sf_drop z
      have A := sf_xat (l := x) (i := i) (p := p) h hx2 (by rw [gx]; exact hp)
      have ok := A.2.2.1
      have ii : vp_in (nI (84 * x + i)) 1680 := vp_in_nI A.2.2.2.2 (by decide)
      rw [A.1]
      refine br_f (nI_ge (by omega) (by omega)) ⟨ii, br_f (sf_W_nle hw) ?_⟩
      unfold wX_derive_79
      rw [A.1, A.2.1]
      refine ⟨sf_W_n0 hw, by decide, nm_r (sf_dgI hw ok.1) ?_⟩
      have d6 := (sf_dg_le hw ok.1).2.1
      have q : sf_de w (p :: (G x).drop (i + 1)) = if 0 < sf_dg w p.1 then (p.1 - w, p.2 * sf_dg w p.1 % 10007) :: sf_de w ((G x).drop (i + 1)) else sf_de w ((G x).drop (i + 1)) := rfl
      by_cases y : 0 < sf_dg w p.1
      · rw [dp, q, if_pos y, sf_app_cons] at g k
        have B := sf_dg_down hw ok.1 y
        have hmul : p.2 * sf_dg w p.1 < 2147483648 := Nat.lt_of_le_of_lt (Nat.mul_le_mul (Nat.le_of_lt ok.2.2.2) d6) (by decide)
        rw [pk_mul, sf_rem hmul, pk_sub B.1]
        refine br_f (nI_nle y (by omega)) ⟨ii, ii, by decide, ?_⟩
        refine sf_append (l := m) (by omega) (sf_m10 _) h (fun _ => ?_) fun tr' fa' sz' h' => ?_
        · rw [sf_gus]; exact sf_gd_left g
        · rw [sf_gugu, sf_gus, sf_a1_pos (sf_prime ok.2.2.1 ok.2.2.2 y d6)] at h'
          intro x' ex
          rw [ex, nI_1]
          exact ih (i + 1) _ tr' fa' sz' (by omega) (by omega) h' g k
      · rw [dp, q, if_neg y] at g k
        have e0 : sf_dg w p.1 = 0 := by omega
        rw [e0]
        refine br_t (Int32.le_refl _) (nm_r (nI_1 _) ?_)
        exact ih (i + 1) _ tr fa sz (by omega) (by omega) h g k
    · rw [sf_drop_nil z] at k
      refine br_t (nI_le (by omega) (by omega)) (nm_r (nI_1 m) ?_)
      rw [nI_pred]
      refine k tr fa sz ?_
      show sf_XR (sf_gu G m (acc ++ [])) tr fa sz
      rw [List.append_nil]
      exact h
end
end
section
/-! part 08: what the component's methods read: degrees, equality, coefficients, values -/
theorem sf_neg1 : nI 0 - 1 = -1 := by decide +kernel
theorem sf_dm {s d : Nat} (hs : s < 10000) (hd : d < 10000) : nI s ≤ nI d - 1 ↔ s < d := by
  rw [Int32.le_iff_toInt_le, nI_toInt (by omega), show nI d - 1 = nI d - nI 1 from rfl, pk_sub_toInt (by omega) (by omega)]
  omega
theorem sf_dmlt {s d : Nat} (hs : s < 10000) (hd : d < 10000) : nI d - 1 < nI s ↔ d ≤ s := by
  rw [Int32.lt_iff_toInt_lt, nI_toInt (by omega), show nI d - 1 = nI d - nI 1 from rfl, pk_sub_toInt (by omega) (by omega)]
  omega
theorem sf_sumI {t : Nat} (h : t < 343) : nI t / 49 + (nI t / 7 - nI t / 7 / 7 * 7) + (nI t - nI t / 7 * 7) = nI (sf_sz t) := by
  rw [sf_rem7 (n := t) (by omega), sf_div49 (by omega), sf_div7 (by omega), sf_rem7 (n := t / 7) (by omega), nI_add, nI_add]
  rfl
theorem sf_sumX {post : Int32 → Prop} {t : Nat} (h : t < 343) (k : post (nI (sf_sz t))) : wpX_sumOf post (nI t) := by
  unfold wpX_sumOf
  rw [sf_sumI h]
  exact ⟨by decide, by decide, by decide, by decide, k⟩
theorem sf_gd_srt {L : List (Nat × Nat)} (g : sf_Gd L) : ∀ {i j : Nat} {p q : Nat × Nat}, i < j → L[i]? = some p → L[j]? = some q → q.1 < p.1 := by
  induction L with
  | nil => intro i j p q _ hp; cases hp
  | cons r L ih =>
    intro i j p q hij hp hq
    cases j with
    | zero => exact absurd hij (Nat.not_lt_zero _)
    | succ j =>
      have hq' : L[j]? = some q := hq
      cases i with
      | zero =>
        have e : some r = some p := hp
        rw [← Option.some.inj e]
        exact g.2.1 q (sf_get_mem hq')
      | succ i =>
        have hp' : L[i]? = some p := hp
        exact ih g.2.2 (by omega) hp' hq'
/-- an answer that the whole list gives, from its places -/
theorem sf_mx_all {w : Nat → Nat} {L : List (Nat × Nat)} {i d : Nat} (hi : L.length ≤ i) (a : ∀ j p, j < i → L[j]? = some p → w p.1 < d) (b : d = 0 ∨ ∃ p, p ∈ L ∧ w p.1 + 1 = d) : sf_mxL w L d := ⟨fun p hp => by
  obtain ⟨j, hj⟩ := List.mem_iff_getElem?.mp hp
  exact a j p (by have := sf_get_lt hj; omega) hj, b⟩
theorem sf_mx_keep {w : Nat → Nat} {L : List (Nat × Nat)} {i d : Nat} {p : Nat × Nat} (hp : L[i]? = some p) (h : w p.1 < d) (a : ∀ j p, j < i → L[j]? = some p → w p.1 < d) : ∀ j p, j < i + 1 → L[j]? = some p → w p.1 < d := fun j q hj hq => by
  by_cases z : j = i
  · subst z
    rw [hp] at hq
    rw [← Option.some.inj hq]
    exact h
  · exact a j q (by omega) hq
section
variable {post : Int32 → Prop} {c : Int32} {G : Nat → List (Nat × Nat)} {tr fa sz : Nat → Int32}
theorem sf_deg_loop {x : Nat} (hx : x < 20) (h : sf_XR G tr fa sz) (k : ∀ d, d ≤ 7 → sf_mxL sf_sz (G x) d → post (nI d - 1)) : ∀ n i d, (G x).length - i < n → i ≤ (G x).length → d ≤ 7 → (∀ j p, j < i → (G x)[j]? = some p → sf_sz p.1 < d) → (d = 0 ∨ ∃ p, p ∈ G x ∧ sf_sz p.1 + 1 = d) → wX_degreeOf_7 post (nI x) c tr fa sz n (nI d - 1) (nI (84 * x + i)) := by
  intro n
  induction n with
  | zero => intro i d hn; exact absurd hn (Nat.not_lt_zero _)
  | succ n ih =>
    intro i d hn hi hd ha hb
    have lx := sf_xlen h hx
    unfold wX_degreeOf_7
    rw [sf_xsz h hx, sf_ix]
    refine ⟨vp_in_nI hx (by decide), ?_⟩
    rcases Nat.lt_or_ge i (G x).length with z | z
    · obtain ⟨p, hp, _⟩ := sf_drop z
      have A := sf_xat h hx hp
      have ok := A.2.2.1
      have s6 := ok.2.1
      rw [A.1]
      refine br_f (nI_ge (by omega) (by omega)) ⟨vp_in_nI A.2.2.2.2 (by decide), sf_sumX ok.1 ?_⟩
      by_cases y : sf_sz p.1 < d
      · refine br_t ((sf_dm (by omega) (by omega)).mpr y) (nm_r (nI_1 _) ?_)
        exact ih (i + 1) d (by omega) z hd (sf_mx_keep hp y ha) hb
      · refine br_f (fun e => y ((sf_dm (by omega) (by omega)).mp e)) (nm_r (nI_1 _) ?_)
        have q := ih (i + 1) (sf_sz p.1 + 1) (by omega) z (by omega) (sf_mx_keep hp (Nat.lt_succ_self _) fun j q hj hq => by have := ha j q hj hq; omega) (Or.inr ⟨p, sf_get_mem hp, rfl⟩)
        rw [nI_pred] at q
        exact q
    · exact br_t (nI_le (by omega) (by omega)) (k d hd (sf_mx_all z ha hb))
theorem sf_deg {x : Nat} (hx : x < 20) (h : sf_XR G tr fa sz) (k : ∀ d, d ≤ 7 → sf_mxL sf_sz (G x) d → post (nI d - 1)) : wpX_degreeOf post (c, tr, fa, sz) (nI x) := by
  unfold wpX_degreeOf
  dsimp only
  refine nm_r (e' := nI (84 * x + 0)) (sf_ix0 x) ⟨(G x).length + 1, ?_⟩
  rw [← sf_neg1]
  exact sf_deg_loop hx h k _ 0 0 (by omega) (Nat.zero_le _) (by decide) (fun j p hj => absurd hj (Nat.not_lt_zero _)) (Or.inl rfl)
theorem sf_din_loop {x w : Nat} (hx : x < 20) (hw : sf_W w) (h : sf_XR G tr fa sz) (k : ∀ d, d ≤ 7 → sf_mxL (sf_dg w) (G x) d → post (nI d - 1)) : ∀ n i d, (G x).length - i < n → i ≤ (G x).length → d ≤ 7 → (∀ j p, j < i → (G x)[j]? = some p → sf_dg w p.1 < d) → (d = 0 ∨ ∃ p, p ∈ G x ∧ sf_dg w p.1 + 1 = d) → wX_degreeIn_35 post (nI x) (nI w) c tr fa sz n (nI d - 1) (nI (84 * x + i)) := by
  intro n
  induction n with
  | zero => intro i d hn; exact absurd hn (Nat.not_lt_zero _)
  | succ n ih =>
    intro i d hn hi hd ha hb
    have lx := sf_xlen h hx
    unfold wX_degreeIn_35
    rw [sf_xsz h hx, sf_ix]
    refine ⟨vp_in_nI hx (by decide), ?_⟩
    rcases Nat.lt_or_ge i (G x).length with z | z
    · obtain ⟨p, hp, _⟩ := sf_drop z
      have A := sf_xat h hx hp
      have ok := A.2.2.1
      have s6 := (sf_dg_le hw ok.1).2.1
      rw [A.1]
      refine br_f (nI_ge (by omega) (by omega)) ⟨vp_in_nI A.2.2.2.2 (by decide), br_f (sf_W_nle hw) ?_⟩
      unfold wX_degreeIn_67
      refine ⟨sf_W_n0 hw, by decide, nm_r (sf_dgI hw ok.1) ?_⟩
      by_cases y : sf_dg w p.1 < d
      · refine br_t ((sf_dm (by omega) (by omega)).mpr y) (nm_r (nI_1 _) ?_)
        exact ih (i + 1) d (by omega) z hd (sf_mx_keep hp y ha) hb
      · refine br_f (fun e => y ((sf_dm (by omega) (by omega)).mp e)) (nm_r (nI_1 _) ?_)
        have q := ih (i + 1) (sf_dg w p.1 + 1) (by omega) z (by omega) (sf_mx_keep hp (Nat.lt_succ_self _) fun j q hj hq => by have := ha j q hj hq; omega) (Or.inr ⟨p, sf_get_mem hp, rfl⟩)
        rw [nI_pred] at q
        exact q
    · exact br_t (nI_le (by omega) (by omega)) (k d hd (sf_mx_all z ha hb))
theorem sf_same_loop {x y : Nat} (hx : x < 20) (hy : y < 20) (h : sf_XR G tr fa sz) (hl : (G x).length = (G y).length) (k1 : G x = G y → post 1) (k0 : G x ≠ G y → post 0) : ∀ n i, (G x).length - i < n → i ≤ (G x).length → (∀ j, j < i → (G x)[j]? = (G y)[j]?) → wX_isSame_19 post (nI x) (nI y) c tr fa sz n (nI i) := by
  intro n
  induction n with
  | zero => intro i hn; exact absurd hn (Nat.not_lt_zero _)
  | succ n ih =>
    intro i hn hi ha
    have lx := sf_xlen h hx
    unfold wX_isSame_19
    rw [sf_xsz h hx, sf_ix, sf_ix]
    refine ⟨vp_in_nI hx (by decide), ?_⟩
    rcases Nat.lt_or_ge i (G x).length with z | z
    · obtain ⟨p, hp, _⟩ := sf_drop z
      obtain ⟨q, hq, _⟩ := sf_drop (L := G y) (i := i) (by omega)
      have A := sf_xat h hx hp
      have B := sf_xat h hy hq
      have a := A.2.2.1
      have b := B.2.2.1
      have a1 := a.1
      have a2 := a.2.2.2
      have b1 := b.1
      have b2 := b.2.2.2
      have i1 : vp_in (nI (84 * x + i)) 1680 := vp_in_nI A.2.2.2.2 (by decide)
      have i2 : vp_in (nI (84 * y + i)) 1680 := vp_in_nI B.2.2.2.2 (by decide)
      rw [A.1, B.1, A.2.1, B.2.1]
      refine br_f (nI_ge z (by omega)) ⟨i1, i2, ?_⟩
      have no : p ≠ q → post 0 := fun e => k0 fun f => e (by rw [f, hq] at hp; exact (Option.some.inj hp).symm)
      refine br_c (fun e1 => ⟨i1, i2, br_c (fun e2 => nm_r (nI_1 i) ?_) fun e2 => no fun e => e2 (by rw [e])⟩) fun e1 => no fun e => e1 (by rw [e])
      have f1 := (nI_eq (by omega) (by omega)).mp e1
      have f2 := (nI_eq (by omega) (by omega)).mp e2
      have e : p = q := Prod.ext f1 f2
      refine ih (i + 1) (by omega) z fun j hj => ?_
      by_cases w : j = i
      · rw [w, hp, hq, e]
      · exact ha j (by omega)
    · refine br_t (nI_le z (by omega)) (k1 (List.ext_getElem? fun j => ?_))
      by_cases w : j < i
      · exact ha j w
      · rw [List.getElem?_eq_none (by omega), List.getElem?_eq_none (by omega)]
theorem sf_same {x y : Nat} (hx : x < 20) (hy : y < 20) (h : sf_XR G tr fa sz) (k1 : G x = G y → post 1) (k0 : G x ≠ G y → post 0) : wpX_isSame post (c, tr, fa, sz) (nI x) (nI y) := by
  have lx := sf_xlen h hx
  have ly := sf_xlen h hy
  unfold wpX_isSame
  dsimp only
  rw [sf_xsz h hx, sf_xsz h hy]
  refine ⟨vp_in_nI hx (by decide), vp_in_nI hy (by decide), br_c (fun e => ⟨(G x).length + 1, ?_⟩) fun e => k0 fun f => e (by rw [f])⟩
  exact sf_same_loop hx hy h ((nI_eq (by omega) (by omega)).mp e) k1 k0 _ 0 (by omega) (Nat.zero_le _) fun j hj => absurd hj (Nat.not_lt_zero _)
theorem sf_coef_loop {x t : Nat} (hx : x < 20) (ht : t < 343) (h : sf_XR G tr fa sz) (k : post (nI (sf_cf (G x) t))) : ∀ n lo hi st, 8 - st < n → st ≤ 8 → lo ≤ hi → hi ≤ (G x).length → (hi - lo) * 2 ^ st ≤ 84 → (∀ j p, (G x)[j]? = some p → p.1 = t → lo ≤ j ∧ j < hi) → wX_coefficient_44 post (nI t) c tr fa sz n (nI (84 * x + lo)) (nI (84 * x + hi) - 1) (nI st) := by
  intro n
  induction n with
  | zero => intro lo hi st hn; exact absurd hn (Nat.not_lt_zero _)
  | succ n ih =>
    intro lo hi st hn hs hl hh hb ha
    have lx := sf_xlen h hx
    have g := (h x hx).1
    have none : hi ≤ lo → post 0 := fun e => by
      have c0 : sf_cf (G x) t = 0 := sf_cf_none fun p hp et => by
        obtain ⟨j, hj⟩ := List.mem_iff_getElem?.mp hp
        have := ha j p hj et
        omega
      rw [c0] at k
      exact k
    unfold wX_coefficient_44
    rcases Nat.lt_or_ge st 8 with z | z
    · refine br_f (nI_ge (b := 8) z (by decide)) ?_
      rcases Nat.lt_or_ge lo hi with y | y
      · obtain ⟨m, em⟩ : ∃ m, m = (lo + hi - 1) / 2 := ⟨_, rfl⟩
        obtain ⟨p, hp, _⟩ := sf_drop (L := G x) (i := m) (by omega)
        have A := sf_xat h hx hp
        have ok := A.2.2.1
        have ok1 := ok.1
        refine br_f (fun e => absurd ((sf_dmlt (by omega) (by omega)).mp e) (by omega)) ?_
        have emid : (nI (84 * x + lo) + (nI (84 * x + hi) - 1)) >>> ((1 : Int32) &&& 31) = nI (84 * x + m) := by
          rw [show 84 * x + hi = (84 * x + hi - 1) + 1 by omega, nI_pred, nI_add, pk_shrN (by omega) _ 1 (by decide)]
          exact congrArg nI (by omega)
        have ii : vp_in (nI (84 * x + m)) 1680 := vp_in_nI A.2.2.2.2 (by decide)
        refine nm_r emid ⟨ii, ?_⟩
        rw [A.1, A.2.1]
        refine br_c (fun e => ⟨ii, ?_⟩) fun e => ⟨ii, br_c (fun e2 => nm_e (nm_r (nI_1 st) ?_)) fun e2 => nm_r (nI_1 _) (nm_r (nI_1 st) ?_)⟩
        · have e' := (nI_eq (by omega) (by omega)).mp e
          rw [← e', sf_cf_mem g (sf_get_mem hp)] at k
          exact k
        · have e1 : p.1 < t := by
            have a := (nI_leI (by omega) (by omega)).mp e2
            have b : p.1 ≠ t := fun f => e (by rw [f])
            omega
          refine ih lo m (st + 1) (by omega) (by omega) (by omega) (by omega) ?_ fun j q hj hq => ?_
          · have : (m - lo) * 2 ^ (st + 1) = ((m - lo) * 2) * 2 ^ st := by rw [Nat.pow_succ, Nat.mul_assoc, Nat.mul_comm 2]
            rw [this]
            exact Nat.le_trans (Nat.mul_le_mul_right _ (by omega)) hb
          · have a := ha j q hj hq
            refine ⟨a.1, ?_⟩
            rcases Nat.lt_trichotomy j m with w | w | w
            · exact w
            · subst w
              rw [hp] at hj
              rw [← Option.some.inj hj] at hq
              omega
            · have := sf_gd_srt g w hp hj
              omega
        · have e1 : t < p.1 := by
            have a : ¬ p.1 ≤ t := fun f => e2 ((nI_leI (by omega) (by omega)).mpr f)
            omega
          have q := ih (m + 1) hi (st + 1) (by omega) (by omega) (by omega) hh ?_ fun j q hj hq => ?_
          · exact q
          · have : (hi - (m + 1)) * 2 ^ (st + 1) = ((hi - (m + 1)) * 2) * 2 ^ st := by rw [Nat.pow_succ, Nat.mul_assoc, Nat.mul_comm 2]
            rw [this]
            exact Nat.le_trans (Nat.mul_le_mul_right _ (by omega)) hb
          · have a := ha j q hj hq
            refine ⟨?_, a.2⟩
            rcases Nat.lt_trichotomy j m with w | w | w
            · have := sf_gd_srt g w hj hp
              omega
            · subst w
              rw [hp] at hj
              rw [← Option.some.inj hj] at hq
              omega
            · exact w
      · exact br_t ((sf_dmlt (by omega) (by omega)).mpr (by omega)) (none y)
    · have e8 : st = 8 := by omega
      subst e8
      exact br_t (nI_le (a := 8) (Nat.le_refl _) (by decide)) (none (by omega))
theorem sf_raised_loop {u e : Nat} (hu : u < 10007) (he : e < 100) (k : post (nI (u ^ e % 10007))) : ∀ n i, e - i < n → i ≤ e → wX_raised_4 post (nI u) (nI e) n (nI (u ^ i % 10007)) (nI i) := by
  intro n
  induction n with
  | zero => intro i hn; exact absurd hn (Nat.not_lt_zero _)
  | succ n ih =>
    intro i hn hi
    unfold wX_raised_4
    rcases Nat.lt_or_ge i e with z | z
    · have r := sf_m10 (u ^ i)
      have hm : u ^ i % 10007 * u < 2147483648 := Nat.lt_of_le_of_lt (Nat.mul_le_mul (Nat.le_of_lt r) (Nat.le_of_lt hu)) (by decide)
      refine br_f (nI_ge z (by omega)) ⟨by decide, nm_r (e' := nI (u ^ (i + 1) % 10007)) ?_ (nm_r (nI_1 i) (ih (i + 1) (by omega) z))⟩
      rw [pk_mul, sf_rem hm, sf_mm, Nat.pow_succ]
    · have ee : i = e := by omega
      subst ee
      exact br_t (Int32.le_refl _) k
theorem sf_raised {u e : Nat} (hu : u < 10007) (he : e < 100) (k : post (nI (u ^ e % 10007))) : wpX_raised post (nI u) (nI e) := by
  unfold wpX_raised
  exact ⟨e + 1, sf_raised_loop hu he k _ 0 (by omega) (Nat.zero_le _)⟩
/-- the value of the power product of a triple -/
def sf_mon (u v w t : Nat) : Nat := u ^ (t / 49) * v ^ (t / 7 % 7) * w ^ (t % 7)
theorem sf_val_eq (c A B C : Nat) : c * (A % 10007) % 10007 * (B % 10007) % 10007 * (C % 10007) % 10007 = c * (A * B * C) % 10007 := by
  rw [sf_mm2, sf_mm2, sf_mm2, sf_mm, Nat.mul_assoc (c * A % 10007), sf_mm, Nat.mul_assoc, Nat.mul_assoc]
theorem sf_mulb {a b : Nat} (ha : a < 10007) (hb : b < 10007) : a * b < 2147473640 := Nat.lt_of_le_of_lt (Nat.mul_le_mul (Nat.le_of_lt ha) (Nat.le_of_lt hb)) (by decide)
theorem sf_val_loop {x u v w : Nat} (hx : x < 20) (hu : u < 10007) (hv : v < 10007) (hw : w < 10007) (h : sf_XR G tr fa sz) : ∀ n i s, (G x).length - i < n → i ≤ (G x).length → s < 10007 → post (nI ((s + sf_ls (fun p => p.2 * sf_mon u v w p.1) ((G x).drop i)) % 10007)) → wX_value_38 post (nI x) (nI u) (nI v) (nI w) c tr fa sz n (nI s) (nI (84 * x + i)) := by
  intro n
  induction n with
  | zero => intro i s hn; exact absurd hn (Nat.not_lt_zero _)
  | succ n ih =>
    intro i s hn hi hs k
    have lx := sf_xlen h hx
    unfold wX_value_38
    rw [sf_xsz h hx, sf_ix]
    refine ⟨vp_in_nI hx (by decide), ?_⟩
    rcases Nat.lt_or_ge i (G x).length with z | z
    · obtain ⟨p, hp, dp⟩ := sf_drop z
      have A := sf_xat h hx hp
      have ok := A.2.2.1
      have ok1 := ok.1
      have ii : vp_in (nI (84 * x + i)) 1680 := vp_in_nI A.2.2.2.2 (by decide)
      rw [A.1]
      refine br_f (nI_ge (by omega) (by omega)) ⟨ii, nm_r A.2.1 ⟨ii, by decide, ?_⟩⟩
      rw [sf_div49 (by omega), sf_rem7 (n := p.1) (by omega), sf_div7 (by omega), sf_rem7 (n := p.1 / 7) (by omega)]
      refine sf_raised hu (by omega) ⟨by decide, nm_r (e' := nI (p.2 * (u ^ (p.1 / 49) % 10007) % 10007)) ?_ ⟨ii, by decide, by decide, sf_raised hv (by omega) ⟨by decide, nm_r (e' := nI (p.2 * (u ^ (p.1 / 49) % 10007) % 10007 * (v ^ (p.1 / 7 % 7) % 10007) % 10007)) ?_ ⟨ii, by decide, sf_raised hw (by omega) ⟨by decide, nm_r (e' := nI (p.2 * sf_mon u v w p.1 % 10007)) ?_ ⟨by decide, nm_r (e' := nI ((s + p.2 * sf_mon u v w p.1 % 10007) % 10007)) ?_ (nm_r (nI_1 _) ?_)⟩⟩⟩⟩⟩⟩
      · rw [pk_mul, sf_rem (by have := sf_mulb ok.2.2.2 (sf_m10 (u ^ (p.1 / 49))); omega)]
      · rw [pk_mul, sf_rem (by have := sf_mulb (sf_m10 (p.2 * (u ^ (p.1 / 49) % 10007))) (sf_m10 (v ^ (p.1 / 7 % 7))); omega)]
      · rw [pk_mul, sf_rem (by have := sf_mulb (sf_m10 (p.2 * (u ^ (p.1 / 49) % 10007) % 10007 * (v ^ (p.1 / 7 % 7) % 10007))) (sf_m10 (w ^ (p.1 % 7))); omega), sf_val_eq]
        rfl
      · have := sf_m10 (p.2 * sf_mon u v w p.1)
        rw [nI_add, sf_rem (by omega)]
      · refine ih (i + 1) _ (by omega) z (sf_m10 _) ?_
        rw [dp] at k
        have e : (s + sf_ls (fun p => p.2 * sf_mon u v w p.1) (p :: (G x).drop (i + 1))) % 10007 = ((s + p.2 * sf_mon u v w p.1 % 10007) % 10007 + sf_ls (fun p => p.2 * sf_mon u v w p.1) ((G x).drop (i + 1))) % 10007 := by
          show (s + (p.2 * sf_mon u v w p.1 + sf_ls (fun p => p.2 * sf_mon u v w p.1) ((G x).drop (i + 1)))) % 10007 = _
          generalize p.2 * sf_mon u v w p.1 = a
          generalize sf_ls (fun p => p.2 * sf_mon u v w p.1) ((G x).drop (i + 1)) = b
          omega
        rw [← e]
        exact k
    · rw [sf_drop_nil z] at k
      have e : (s + sf_ls (fun p => p.2 * sf_mon u v w p.1) []) % 10007 = s := by
        show (s + 0) % 10007 = s
        omega
      rw [e] at k
      exact br_t (nI_le (by omega) (by omega)) k
end
end
section
/-! part 09: the reference's state as rows of coefficients; zero, copy, times, take, sums -/
def sf_YP (pla tri : Nat → Int32) : Prop := (∀ t, t < 343 → sf_sz t ≤ 6 → pla t = nI (sf_pl t)) ∧ (∀ t, t < 343 → ¬ sf_sz t ≤ 6 → pla t = -1) ∧ ∀ i, i < 84 → tri i = nI (sf_tp i)
def sf_YR (T : Nat → Nat → Nat) (tab : Nat → Int32) : Prop := ∀ r, r < 24 → ∀ i, i < 84 → tab (84 * r + i) = nI (T r i) ∧ T r i < 10007
def sf_tu (T : Nat → Nat → Nat) (r : Nat) (R : Nat → Nat) : Nat → Nat → Nat := fun q => if q = r then R else T q
def sf_fi (F R : Nat → Nat) (n : Nat) : Nat → Nat := fun k => if k < n then F k else R k
theorem sf_tus {T : Nat → Nat → Nat} {r : Nat} {R : Nat → Nat} : sf_tu T r R r = R := if_pos rfl
theorem sf_tun {T : Nat → Nat → Nat} {r q : Nat} {R : Nat → Nat} (h : q ≠ r) : sf_tu T r R q = T q := if_neg h
theorem sf_tutu {T : Nat → Nat → Nat} {r : Nat} {R S : Nat → Nat} : sf_tu (sf_tu T r R) r S = sf_tu T r S := by
  funext q
  by_cases z : q = r
  · rw [z, sf_tus, sf_tus]
  · rw [sf_tun z, sf_tun z, sf_tun z]
section
variable {T : Nat → Nat → Nat} {tab : Nat → Int32}
theorem sf_ycongr {T' : Nat → Nat → Nat} (h : sf_YR T tab) (e : ∀ q k, q < 24 → k < 84 → T q k = T' q k) : sf_YR T' tab := fun r hr i hi => by
  rw [← e r i hr hi]; exact h r hr i hi
theorem sf_ycongr1 {r : Nat} {R S : Nat → Nat} (h : sf_YR (sf_tu T r R) tab) (e : ∀ k, k < 84 → R k = S k) : sf_YR (sf_tu T r S) tab := by
  refine sf_ycongr h fun q k _ hk => ?_
  by_cases z : q = r
  · rw [z, sf_tus, sf_tus]; exact e k hk
  · rw [sf_tun z, sf_tun z]
theorem sf_yself (h : sf_YR T tab) {r : Nat} {R : Nat → Nat} (e : ∀ k, k < 84 → T r k = R k) : sf_YR (sf_tu T r R) tab := by
  refine sf_ycongr h fun q k _ hk => ?_
  by_cases z : q = r
  · rw [z, sf_tus]; exact e k hk
  · rw [sf_tun z]
theorem sf_yat (h : sf_YR T tab) {r i : Nat} (hr : r < 24) (hi : i < 84) : tab (nI (84 * r + i)).toNatClampNeg = nI (T r i) ∧ T r i < 10007 ∧ vp_in (nI (84 * r + i)) 2016 := by
  rw [sf_cl (by omega)]
  exact ⟨(h r hr i hi).1, (h r hr i hi).2, vp_in_nI (by omega) (by decide)⟩
theorem sf_yput (h : sf_YR T tab) {r i v : Nat} (hr : r < 24) (hi : i < 84) (hv : v < 10007) : sf_YR (sf_tu T r (fun k => if k = i then v else T r k)) (upd tab (nI (84 * r + i)).toNatClampNeg (nI v)) := by
  rw [sf_cl (by omega)]
  intro q hq j hj
  by_cases z : q = r
  · subst z
    rw [sf_tus]
    by_cases y : j = i
    · subst y
      rw [if_pos rfl, pk_us]
      exact ⟨rfl, hv⟩
    · rw [if_neg y, pk_un (by omega)]
      exact h q hq j hj
  · rw [sf_tun z, pk_un (by omega)]
    exact h q hq j hj
/-- one step of a loop that writes a row place by place -/
theorem sf_yel {F R : Nat → Nat} {r i v : Nat} (h : sf_YR (sf_tu T r (sf_fi F R i)) tab) (hr : r < 24) (hi : i < 84) (hv : v < 10007) (e : F i = v) : sf_YR (sf_tu T r (sf_fi F R (i + 1))) (upd tab (nI (84 * r + i)).toNatClampNeg (nI v)) := by
  have a := sf_yput h hr hi hv
  rw [sf_tutu, sf_tus] at a
  refine sf_ycongr1 a fun k _ => ?_
  unfold sf_fi
  by_cases z : k = i
  · subst z
    rw [if_pos rfl, if_pos (by omega), e]
  · rw [if_neg z]
    by_cases y : k < i
    · rw [if_pos y, if_pos (by omega)]
    · rw [if_neg y, if_neg (by omega)]
theorem sf_yel0 {F : Nat → Nat} {r : Nat} (h : sf_YR T tab) : sf_YR (sf_tu T r (sf_fi F (T r) 0)) tab := sf_yself h fun k _ => (if_neg (Nat.not_lt_zero k)).symm
theorem sf_yelE {F R : Nat → Nat} {r i : Nat} (hi : 84 ≤ i) (h : sf_YR (sf_tu T r (sf_fi F R i)) tab) : sf_YR (sf_tu T r F) tab := sf_ycongr1 h fun k hk => if_pos (by omega)
end
theorem sf_fi_at {F R : Nat → Nat} {i : Nat} : sf_fi F R i i = R i := if_neg (Nat.lt_irrefl i)
section
variable {post : SY → Prop} {c : Int32} {pla tri tab : Nat → Int32} {T : Nat → Nat → Nat}
theorem sf_yzero_loop {r : Nat} (hr : r < 24) (k : ∀ tab', sf_YR (sf_tu T r (fun _ => 0)) tab' → post (c, pla, tri, tab')) : ∀ n i tab, 84 - i < n → i ≤ 84 → sf_YR (sf_tu T r (sf_fi (fun _ => 0) (T r) i)) tab → wY_zero_2 post (nI r) c n (nI i) pla tri tab := by
  intro n
  induction n with
  | zero => intro i tab hn; exact absurd hn (Nat.not_lt_zero _)
  | succ n ih =>
    intro i tab hn hi h
    unfold wY_zero_2
    rcases Nat.lt_or_ge i 84 with z | z
    · rw [sf_ix]
      refine br_f (nI_ge (b := 84) z (by decide)) ⟨vp_in_nI (by omega) (by decide), nm_e (nm_r (nI_1 i) ?_)⟩
      exact ih (i + 1) _ (by omega) z (sf_yel h hr z (v := 0) (by decide) rfl)
    · exact br_t (nI_le (a := 84) z (by omega)) (k tab (sf_yelE z h))
theorem sf_yzero {r : Nat} (hr : r < 24) (h : sf_YR T tab) (k : ∀ tab', sf_YR (sf_tu T r (fun _ => 0)) tab' → post (c, pla, tri, tab')) : wpY_zero post (c, pla, tri, tab) (nI r) := by
  unfold wpY_zero
  dsimp only
  exact ⟨85, sf_yzero_loop hr k 85 0 tab (by decide) (by decide) (sf_yel0 h)⟩
theorem sf_ycopy_loop {r q : Nat} (hr : r < 24) (hq : q < 24) (ne : q ≠ r) (k : ∀ tab', sf_YR (sf_tu T r (T q)) tab' → post (c, pla, tri, tab')) : ∀ n i tab, 84 - i < n → i ≤ 84 → sf_YR (sf_tu T r (sf_fi (T q) (T r) i)) tab → wY_copy_2 post (nI q) (nI r) c n (nI i) pla tri tab := by
  intro n
  induction n with
  | zero => intro i tab hn; exact absurd hn (Nat.not_lt_zero _)
  | succ n ih =>
    intro i tab hn hi h
    unfold wY_copy_2
    rcases Nat.lt_or_ge i 84 with z | z
    · have A := sf_yat h hq z
      rw [sf_tun ne] at A
      rw [sf_ix, sf_ix, A.1]
      refine br_f (nI_ge (b := 84) z (by decide)) ⟨A.2.2, vp_in_nI (by omega) (by decide), nm_e (nm_r (nI_1 i) ?_)⟩
      exact ih (i + 1) _ (by omega) z (sf_yel h hr z A.2.1 rfl)
    · exact br_t (nI_le (a := 84) z (by omega)) (k tab (sf_yelE z h))
theorem sf_ycopy {r q : Nat} (hr : r < 24) (hq : q < 24) (ne : q ≠ r) (h : sf_YR T tab) (k : ∀ tab', sf_YR (sf_tu T r (T q)) tab' → post (c, pla, tri, tab')) : wpY_copy post (c, pla, tri, tab) (nI q) (nI r) := by
  unfold wpY_copy
  dsimp only
  exact ⟨85, sf_ycopy_loop hr hq ne k 85 0 tab (by decide) (by decide) (sf_yel0 h)⟩
theorem sf_yadd_loop (k : ∀ tab', sf_YR (sf_tu T 18 (fun i => (T 18 i + T 16 i) % 10007)) tab' → post (c, pla, tri, tab')) : ∀ n i tab, 84 - i < n → i ≤ 84 → sf_YR (sf_tu T 18 (sf_fi (fun i => (T 18 i + T 16 i) % 10007) (T 18) i)) tab → wY_addTo18_2 post c n (nI i) pla tri tab := by
  intro n
  induction n with
  | zero => intro i tab hn; exact absurd hn (Nat.not_lt_zero _)
  | succ n ih =>
    intro i tab hn hi h
    unfold wY_addTo18_2
    rcases Nat.lt_or_ge i 84 with z | z
    · have A := sf_yat (r := 16) h (by decide) z
      rw [sf_tun (by decide)] at A
      have B := sf_yat (r := 18) h (by decide) z
      rw [sf_tus, sf_fi_at] at B
      have e1 : 1512 + nI i = nI (84 * 18 + i) := nI_add 1512 i
      have e2 : 1344 + nI i = nI (84 * 16 + i) := nI_add 1344 i
      rw [e1, e2, A.1, B.1, nI_add, sf_rem (by omega)]
      refine br_f (nI_ge (b := 84) z (by decide)) ⟨B.2.2, A.2.2, by decide, B.2.2, nm_e (nm_r (nI_1 i) ?_)⟩
      exact ih (i + 1) _ (by omega) z (sf_yel h (by decide) z (sf_m10 _) rfl)
    · exact br_t (nI_le (a := 84) z (by omega)) (k tab (sf_yelE z h))
theorem sf_yadd (h : sf_YR T tab) (k : ∀ tab', sf_YR (sf_tu T 18 (fun i => (T 18 i + T 16 i) % 10007)) tab' → post (c, pla, tri, tab')) : wpY_addTo18 post (c, pla, tri, tab) := by
  unfold wpY_addTo18
  dsimp only
  exact ⟨85, sf_yadd_loop k 85 0 tab (by decide) (by decide) (sf_yel0 h)⟩
end
theorem sf_sizeY {post : Int32 → Prop} {c : Int32} {pla tri tab : Nat → Int32} {t : Nat} (h : t < 343) (k : post (nI (sf_sz t))) : wpY_size post (c, pla, tri, tab) (nI t) := by
  unfold wpY_size
  dsimp only
  rw [sf_sumI h]
  exact ⟨by decide, by decide, by decide, by decide, k⟩
section
variable {post : SY → Prop} {c : Int32} {pla tri tab : Nat → Int32} {T : Nat → Nat → Nat}
theorem sf_times_in {J : Int32 → (Nat → Int32) → (Nat → Int32) → (Nat → Int32) → Prop} {t x y i : Nat} {acc : Nat → Nat} (ht : t < 24) (hx : x < 24) (hy : y < 24) (nx : x ≠ t) (ny : y ≠ t) (hi : i < 84) (P : sf_YP pla tri)
    (k : ∀ tab', sf_YR (sf_tu T t (fun k => (acc k + T x i * sf_tj (T y) i k 84) % 10007)) tab' → J (nI (i + 1)) pla tri tab') : ∀ n j tab, 84 - j < n → j ≤ 84 → sf_YR (sf_tu T t (fun k => (acc k + T x i * sf_tj (T y) i k j) % 10007)) tab → wY_times_18 post J (nI t) (nI x) (nI y) (nI i) c n (nI j) pla tri tab := by
  intro n
  induction n with
  | zero => intro j tab hn; exact absurd hn (Nat.not_lt_zero _)
  | succ n ih =>
    intro j tab hn hj h
    unfold wY_times_18
    rcases Nat.lt_or_ge j 84 with z | z
    · have A := sf_yat h hx hi
      rw [sf_tun nx] at A
      have B := sf_yat h hy z
      rw [sf_tun ny] at B
      have ei : tri (nI i).toNatClampNeg = nI (sf_tp i) := by rw [sf_cl (by omega)]; exact P.2.2 i hi
      have ej : tri (nI j).toNatClampNeg = nI (sf_tp j) := by rw [sf_cl (by omega)]; exact P.2.2 j z
      have vi : vp_in (nI i) 84 := vp_in_nI hi (by decide)
      have vj : vp_in (nI j) 84 := vp_in_nI z (by decide)
      have ti := sf_tp_lt hi
      have tj := sf_tp_lt z
      have si := sf_tp_sz hi
      have sj := sf_tp_sz z
      rw [sf_ix, sf_ix, ei, ej]
      refine br_f (nI_ge (b := 84) z (by decide)) ⟨A.2.2, nm_r A.1 ⟨B.2.2, nm_r B.1 ?_⟩⟩
      have go : (∀ k, k < 84 → (acc k + T x i * sf_tj (T y) i k j) % 10007 = (acc k + T x i * sf_tj (T y) i k (j + 1)) % 10007) → wY_times_18 post J (nI t) (nI x) (nI y) (nI i) c n (nI (j + 1)) pla tri tab := fun e => ih (j + 1) tab (by omega) z (sf_ycongr1 h e)
      refine br_c (fun e => nm_r (nI_1 j) (go fun k _ => ?_)) fun e => br_c (fun e' => nm_r (nI_1 j) (go fun k hk => ?_)) fun e' => ⟨vi, sf_sizeY ti ⟨vj, sf_sizeY tj ?_⟩⟩
      · have e0 : T x i = 0 := (nI_eq (b := 0) (by omega) (by decide)).mp e
        rw [e0, Nat.zero_mul, Nat.zero_mul]
      · have e0 : T y j = 0 := (nI_eq (b := 0) (by omega) (by decide)).mp e'
        rw [sf_tj_zero hi z hk e0]
      · rw [nI_add]
        rcases Nat.lt_or_ge 6 (sf_sz (sf_tp i) + sf_sz (sf_tp j)) with w | w
        · refine br_t (nI_lt (a := 6) w (by omega)) (nm_r (nI_1 j) (go fun k hk => ?_))
          rw [sf_tj_miss hi z hk fun q => absurd q.1 (by omega)]
        · have a := sf_sz_add ti tj w
          have a6 : sf_sz (sf_tp i + sf_tp j) ≤ 6 := by omega
          have hk := sf_pl_lt a.1 a6
          have C := sf_yat h ht hk
          rw [sf_tus] at C
          have hit := sf_tj_hit (S := T y) hi z hk w rfl
          have ep : pla (nI (sf_tp i + sf_tp j)).toNatClampNeg = nI (sf_pl (sf_tp i + sf_tp j)) := by rw [sf_cl (by omega)]; exact P.1 _ a.1 a6
          have vb := sf_mulb A.2.1 B.2.1
          rw [nI_add, ep, sf_ix]
          refine br_f (nI_nlt (a := 6) w (by decide)) ⟨vi, vj, vp_in_nI a.1 (by decide), nm_e ⟨C.2.2, by decide, C.2.2, nm_e (nm_r (nI_1 j) ?_)⟩⟩
          rw [C.1, hit.1, pk_mul, nI_add, sf_rem (by have := sf_m10 (acc (sf_pl (sf_tp i + sf_tp j)) + T x i * 0); omega)]
          refine ih (j + 1) _ (by omega) z ?_
          have q := sf_yput h ht hk (sf_m10 ((acc (sf_pl (sf_tp i + sf_tp j)) + T x i * 0) % 10007 + T x i * T y j))
          rw [sf_tutu, sf_tus] at q
          refine sf_ycongr1 q fun k hk' => ?_
          by_cases ek : k = sf_pl (sf_tp i + sf_tp j)
          · rw [if_pos ek, ek, hit.2, Nat.mul_zero, Nat.add_zero]
            generalize T x i * T y j = m
            omega
          · rw [if_neg ek, sf_tj_miss hi z hk' fun q => ek q.2]
    · exact br_t (nI_le (a := 84) z (by omega)) (nm_r (nI_1 i) (k tab (sf_ycongr1 h fun q _ => by rw [show j = 84 by omega])))
theorem sf_times_out {t x y : Nat} (ht : t < 24) (hx : x < 24) (hy : y < 24) (nx : x ≠ t) (ny : y ≠ t) (P : sf_YP pla tri)
    (k : ∀ tab', sf_YR (sf_tu T t (sf_tm (T x) (T y))) tab' → post (c, pla, tri, tab')) : ∀ n i tab, 84 - i < n → i ≤ 84 → sf_YR (sf_tu T t (fun k => sf_sm (fun i => T x i * sf_tj (T y) i k 84) i % 10007)) tab → wY_times_8 post (nI t) (nI x) (nI y) c n (nI i) pla tri tab := by
  intro n
  induction n with
  | zero => intro i tab hn; exact absurd hn (Nat.not_lt_zero _)
  | succ n ih =>
    intro i tab hn hi h
    unfold wY_times_8
    rcases Nat.lt_or_ge i 84 with z | z
    · refine br_f (nI_ge (b := 84) z (by decide)) ⟨85, ?_⟩
      refine sf_times_in (T := T) (acc := fun k => sf_sm (fun i => T x i * sf_tj (T y) i k 84) i % 10007) ht hx hy nx ny z P (fun tab' h' => ih (i + 1) tab' (by omega) z (sf_ycongr1 h' fun k _ => ?_)) 85 0 tab (by decide) (by decide) (sf_ycongr1 h fun k _ => ?_)
      · show (sf_sm (fun i => T x i * sf_tj (T y) i k 84) i % 10007 + T x i * sf_tj (T y) i k 84) % 10007 = (sf_sm (fun i => T x i * sf_tj (T y) i k 84) i + T x i * sf_tj (T y) i k 84) % 10007
        omega
      · show sf_sm (fun i => T x i * sf_tj (T y) i k 84) i % 10007 = (sf_sm (fun i => T x i * sf_tj (T y) i k 84) i % 10007 + T x i * sf_tj (T y) i k 0) % 10007
        rw [sf_tj0, Nat.mul_zero, Nat.add_zero, Nat.mod_mod]
    · exact br_t (nI_le (a := 84) z (by omega)) (k tab (sf_ycongr1 h fun q _ => by rw [show i = 84 by omega]; rfl))
theorem sf_ytimes {t x y : Nat} (ht : t < 24) (hx : x < 24) (hy : y < 24) (nx : x ≠ t) (ny : y ≠ t) (P : sf_YP pla tri) (h : sf_YR T tab)
    (k : ∀ tab', sf_YR (sf_tu T t (sf_tm (T x) (T y))) tab' → post (c, pla, tri, tab')) : wpY_times post (c, pla, tri, tab) (nI t) (nI x) (nI y) := by
  unfold wpY_times
  dsimp only
  refine sf_yzero ht h fun tab' h' => ⟨85, ?_⟩
  exact sf_times_out (T := T) ht hx hy nx ny P k 85 0 tab' (by decide) (by decide) h'
end
section
variable {post : Int32 → SY → Prop} {pla tri tab : Nat → Int32} {T : Nat → Nat → Nat}
theorem sf_take {m : Nat} (hm : m < 16) (h : sf_YR T tab) (k : ∀ tab', sf_YR (sf_tu T m (T 16)) tab' → post (nI m) (nI (m + 1), pla, tri, tab')) : wpY_take post (nI m, pla, tri, tab) := by
  unfold wpY_take
  dsimp only
  refine sf_ycopy (r := m) (q := 16) (by omega) (by decide) (by omega) h fun tab' h' => ?_
  intro x ex
  rw [ex, nI_1, nI_pred]
  exact k tab' h'
end
end
section
/-! part 10: symbols, indices, remainders (both sides); what the reference's methods read -/
theorem sf_red (v : Int32) : ∃ m : Nat, m < 10007 ∧ (m : Int) = v.toInt % 10007 ∧ ((0 ≤ v - v / 10007 * 10007 ∧ v - v / 10007 * 10007 = nI m) ∨ (¬ 0 ≤ v - v / 10007 * 10007 ∧ v - v / 10007 * 10007 + 10007 = nI m)) := by
  have hr : (v - v / 10007 * 10007).toInt = v.toInt.tmod 10007 := by
    have a := rem_toInt v 10007
    rw [show (10007 : Int32).toInt = 10007 from by decide] at a
    exact a
  have hb := tmod_bounds (a := v.toInt) (M := 10007) (by decide)
  have he : v.toInt.tmod 10007 = v.toInt % 10007 ∨ v.toInt.tmod 10007 = v.toInt % 10007 - 10007 := by
    rw [Int.tmod_eq_emod]
    by_cases z : 0 ≤ v.toInt ∨ (10007 : Int) ∣ v.toInt
    · rw [if_pos z]; left; omega
    · rw [if_neg z]; right; rfl
  have hm : 0 ≤ v.toInt % 10007 ∧ v.toInt % 10007 < 10007 := by omega
  have z0 : (0 : Int32).toInt = 0 := by decide
  refine ⟨(v.toInt % 10007).toNat, by omega, by omega, ?_⟩
  generalize v - v / 10007 * 10007 = r at hr
  have hn : (nI (v.toInt % 10007).toNat).toInt = v.toInt % 10007 := by rw [nI_toInt (by omega)]; omega
  rw [Int32.le_iff_toInt_le, z0, hr]
  by_cases z : 0 ≤ v.toInt.tmod 10007
  · refine Or.inl ⟨z, Int32.toInt_inj.mp ?_⟩
    rw [hn, hr]; omega
  · refine Or.inr ⟨z, Int32.toInt_inj.mp ?_⟩
    rw [hn, Int32.toInt_add, hr, show (10007 : Int32).toInt = 10007 from by decide, Int.bmod_eq_of_le (by omega) (by omega)]
    omega
theorem sf_redX {post : Int32 → Prop} {v : Int32} {m : Nat} (h : (0 ≤ v - v / 10007 * 10007 ∧ v - v / 10007 * 10007 = nI m) ∨ (¬ 0 ≤ v - v / 10007 * 10007 ∧ v - v / 10007 * 10007 + 10007 = nI m)) (k : post (nI m)) : wpX_reduced post v := by
  unfold wpX_reduced
  refine ⟨by decide, nm_e ?_⟩
  rcases h with ⟨a, b⟩ | ⟨a, b⟩
  · exact br_t a (by rw [b]; exact k)
  · exact br_f a (by rw [b]; exact k)
theorem sf_redY {post : Int32 → Prop} {c : Int32} {pla tri tab : Nat → Int32} {v : Int32} {m : Nat} (h : (0 ≤ v - v / 10007 * 10007 ∧ v - v / 10007 * 10007 = nI m) ∨ (¬ 0 ≤ v - v / 10007 * 10007 ∧ v - v / 10007 * 10007 + 10007 = nI m)) (k : post (nI m)) : wpY_reduced post (c, pla, tri, tab) v := by
  unfold wpY_reduced
  dsimp only
  refine ⟨by decide, nm_e ?_⟩
  rcases h with ⟨a, b⟩ | ⟨a, b⟩
  · exact br_t a (by rw [b]; exact k)
  · exact br_f a (by rw [b]; exact k)
/-- a symbol: not one, or one with its weight -/
def sf_badS (v : Int32) : Prop := v < 0 ∨ 2 < v
def sf_isS (v : Int32) (w : Nat) : Prop := (v = 0 ∧ w = 49) ∨ (v = 1 ∧ w = 7) ∨ (v = 2 ∧ w = 1)
theorem sf_sym (v : Int32) : sf_badS v ∨ ∃ w, sf_isS v w := by
  by_cases h0 : v < 0
  · exact Or.inl (Or.inl h0)
  · by_cases h2 : 2 < v
    · exact Or.inl (Or.inr h2)
    · obtain ⟨j, hj, rfl⟩ := nI_of2 (M := 2) (n := 2) (by decide) h0 (Int32.not_lt.mp h2)
      have : j = 0 ∨ j = 1 ∨ j = 2 := by omega
      rcases this with rfl | rfl | rfl
      · exact Or.inr ⟨49, Or.inl ⟨rfl, rfl⟩⟩
      · exact Or.inr ⟨7, Or.inr (Or.inl ⟨rfl, rfl⟩)⟩
      · exact Or.inr ⟨1, Or.inr (Or.inr ⟨rfl, rfl⟩)⟩
theorem sf_isS_W {v : Int32} {w : Nat} (h : sf_isS v w) : sf_W w := by
  rcases h with ⟨_, h⟩ | ⟨_, h⟩ | ⟨_, h⟩
  · exact Or.inl h
  · exact Or.inr (Or.inl h)
  · exact Or.inr (Or.inr h)
theorem sf_isS_n {v : Int32} {w : Nat} (h : sf_isS v w) : ¬ v < 0 ∧ ¬ 2 < v ∧ v ≤ 2 := by
  rcases h with ⟨h, _⟩ | ⟨h, _⟩ | ⟨h, _⟩
  · subst h; decide
  · subst h; decide
  · subst h; decide
section
variable {post : Int32 → Prop} {c : Int32} {pla tri tab : Nat → Int32}
theorem sf_symX0 {v : Int32} (h : sf_badS v) (k : post 0) : wpX_isSymbol post v := by
  unfold wpX_isSymbol
  exact br_c (fun _ => k) fun a => br_t (h.resolve_left a) k
theorem sf_symX1 {v : Int32} {w : Nat} (h : sf_isS v w) (k : post 1) : wpX_isSymbol post v := by
  unfold wpX_isSymbol
  exact br_f (sf_isS_n h).1 (br_f (sf_isS_n h).2.1 k)
theorem sf_symY1 {v : Int32} (h : sf_badS v) (k : post 1) : wpY_badSymbol post (c, pla, tri, tab) v := by
  unfold wpY_badSymbol
  dsimp only
  exact br_c (fun _ => k) fun a => br_f (sf_lt3 (h.resolve_left a)).2 k
theorem sf_symY0 {v : Int32} {w : Nat} (h : sf_isS v w) (k : post 0) : wpY_badSymbol post (c, pla, tri, tab) v := by
  unfold wpY_badSymbol
  dsimp only
  exact br_f (sf_isS_n h).1 (br_t (sf_isS_n h).2.2 k)
theorem sf_wX {v : Int32} {w : Nat} (h : sf_isS v w) (k : post (nI w)) : wpX_weightOf post v := by
  unfold wpX_weightOf
  rcases h with ⟨a, b⟩ | ⟨a, b⟩ | ⟨a, b⟩
  · subst a b; exact br_t rfl k
  · subst a b; exact br_f (by decide) (br_t rfl k)
  · subst a b; exact br_f (by decide) (br_f (by decide) k)
theorem sf_wY {v : Int32} {w : Nat} (h : sf_isS v w) (k : post (nI w)) : wpY_unit post (c, pla, tri, tab) v := by
  unfold wpY_unit
  dsimp only
  rcases h with ⟨a, b⟩ | ⟨a, b⟩ | ⟨a, b⟩
  · subst a b; exact br_t rfl k
  · subst a b; exact br_f (by decide) (br_t rfl k)
  · subst a b; exact br_f (by decide) (br_f (by decide) k)
theorem sf_partY {v : Int32} {w t : Nat} (h : sf_isS v w) (ht : t < 343) (k : post (nI (sf_dg w t))) : wpY_part post (c, pla, tri, tab) (nI t) v := by
  unfold wpY_part
  dsimp only
  rw [sf_div49 (by omega), sf_rem7 (n := t) (by omega), sf_div7 (by omega), sf_rem7 (n := t / 7) (by omega)]
  rcases h with ⟨a, b⟩ | ⟨a, b⟩ | ⟨a, b⟩
  · subst a b
    rw [sf_dg49 ht] at k
    exact br_t rfl ⟨by decide, k⟩
  · subst a b
    exact br_f (by decide) (br_t rfl ⟨by decide, by decide, k⟩)
  · subst a b
    rw [sf_dg1] at k
    exact br_f (by decide) (br_f (by decide) ⟨by decide, k⟩)
/-- an index: bad, or below the count -/
def sf_badI (m : Nat) (v : Int32) : Prop := v < 0 ∨ nI m ≤ v
theorem sf_idx (m : Nat) (hm : m ≤ 16) (v : Int32) : sf_badI m v ∨ ∃ x, x < m ∧ v = nI x := by
  rcases pk_ix v (n := m) (by omega) with h | h | h
  · exact Or.inl (Or.inl h)
  · exact Or.inl (Or.inr h)
  · exact Or.inr h
theorem sf_goodX0 {m : Nat} {v : Int32} (h : sf_badI m v) (k : post 0) : wpX_isGood post (nI m, pla, tri, tab) v := by
  unfold wpX_isGood
  dsimp only
  exact br_c (fun _ => k) fun a => br_t (h.resolve_left a) k
theorem sf_goodX1 {m x : Nat} (hm : m ≤ 16) (hx : x < m) (k : post 1) : wpX_isGood post (nI m, pla, tri, tab) (nI x) := by
  unfold wpX_isGood
  dsimp only
  exact br_f (nI_pos (by omega)) (br_f (nI_ge hx (by omega)) k)
theorem sf_badY1 {m : Nat} {v : Int32} (h : sf_badI m v) (k : post 1) : wpY_bad post (nI m, pla, tri, tab) v := by
  unfold wpY_bad
  dsimp only
  exact br_c (fun _ => k) fun a => br_t (h.resolve_left a) k
theorem sf_badY0 {m x : Nat} (hm : m ≤ 16) (hx : x < m) (k : post 0) : wpY_bad post (nI m, pla, tri, tab) (nI x) := by
  unfold wpY_bad
  dsimp only
  exact br_f (nI_pos (by omega)) (br_f (nI_ge hx (by omega)) (br_t (nI_le (b := 15) (by omega) (by decide)) k))
theorem sf_full0 {m : Nat} (h : m < 16) (k : post 0) : wpY_full post (nI m, pla, tri, tab) := by
  unfold wpY_full
  dsimp only
  exact br_t (nI_lt (b := 16) h (by decide)) k
theorem sf_full1 (k : post 1) : wpY_full post (nI 16, pla, tri, tab) := by
  unfold wpY_full
  dsimp only
  exact br_f Int32.lt_irrefl k
theorem sf_ref1 {m : Nat} {v v' : Int32} (h : sf_badI m v) (k : post (-1)) : wpX_refused post (nI m, pla, tri, tab) v v' := by
  unfold wpX_refused
  dsimp only
  exact sf_goodX0 h (br_t rfl k)
theorem sf_ref2 {m x : Nat} {v' : Int32} (hm : m ≤ 16) (hx : x < m) (h : sf_badI m v') (k : post (-1)) : wpX_refused post (nI m, pla, tri, tab) (nI x) v' := by
  unfold wpX_refused
  dsimp only
  exact sf_goodX1 hm hx (br_f (by decide) (sf_goodX0 h (br_t rfl k)))
theorem sf_ref3 {x y : Nat} (hx : x < 16) (hy : y < 16) (k : post (-2)) : wpX_refused post (nI 16, pla, tri, tab) (nI x) (nI y) := by
  unfold wpX_refused
  dsimp only
  exact sf_goodX1 (Nat.le_refl _) hx (br_f (by decide) (sf_goodX1 (Nat.le_refl _) hy (br_f (by decide) (br_t rfl k))))
theorem sf_ref0 {m x y : Nat} (hm : m < 16) (hx : x < m) (hy : y < m) (k : post 0) : wpX_refused post (nI m, pla, tri, tab) (nI x) (nI y) := by
  unfold wpX_refused
  dsimp only
  exact sf_goodX1 (by omega) hx (br_f (by decide) (sf_goodX1 (by omega) hy (br_f (by decide) (br_f (fun e => absurd ((nI_eq (b := 16) (by omega) (by decide)).mp e) (by omega)) k))))
end
section
variable {post : Int32 → Prop} {c : Int32} {pla tri tab : Nat → Int32} {T : Nat → Nat → Nat}
theorem sf_tri (P : sf_YP pla tri) {i : Nat} (hi : i < 84) : tri (nI i).toNatClampNeg = nI (sf_tp i) := by
  rw [sf_cl (by omega)]; exact P.2.2 i hi
theorem sf_mxR_keep {w R : Nat → Nat} {i d e : Nat} (hde : d ≤ e) (h : R i ≠ 0 → w (sf_tp i) < e) (a : ∀ j, j < i → R j ≠ 0 → w (sf_tp j) < d) : ∀ j, j < i + 1 → R j ≠ 0 → w (sf_tp j) < e := fun j hj hR => by
  by_cases z : j = i
  · subst z; exact h hR
  · have := a j (by omega) hR; omega
theorem sf_ydeg_loop {x : Nat} (hx : x < 24) (P : sf_YP pla tri) (h : sf_YR T tab) (k : ∀ d, d ≤ 7 → sf_mxR sf_sz (T x) d → post (nI d - 1)) : ∀ n i d, 84 - i < n → i ≤ 84 → d ≤ 7 → (∀ j, j < i → T x j ≠ 0 → sf_sz (sf_tp j) < d) → (d = 0 ∨ ∃ j, j < 84 ∧ T x j ≠ 0 ∧ sf_sz (sf_tp j) + 1 = d) → wY_degreeOf_4 post (nI x) c pla tri tab n (nI d - 1) (nI i) := by
  intro n
  induction n with
  | zero => intro i d hn; exact absurd hn (Nat.not_lt_zero _)
  | succ n ih =>
    intro i d hn hi hd ha hb
    unfold wY_degreeOf_4
    rcases Nat.lt_or_ge i 84 with z | z
    · have A := sf_yat h hx z
      have ti := sf_tp_lt z
      have si := sf_tp_sz z
      have vi : vp_in (nI i) 84 := vp_in_nI z (by decide)
      rw [sf_ix, A.1, sf_tri P z]
      refine br_f (nI_ge (b := 84) z (by decide)) ⟨A.2.2, br_c (fun e => nm_r (nI_1 i) ?_) fun e => ⟨vi, sf_sizeY ti ?_⟩⟩
      · have e0 : T x i = 0 := (nI_eq (b := 0) (by omega) (by decide)).mp e
        exact ih (i + 1) d (by omega) z hd (sf_mxR_keep (Nat.le_refl _) (fun q => absurd e0 q) ha) hb
      · have e0 : T x i ≠ 0 := fun q => e (by rw [q]; rfl)
        by_cases y : sf_sz (sf_tp i) < d
        · refine br_t ((sf_dm (by omega) (by omega)).mpr y) (nm_r (nI_1 i) ?_)
          exact ih (i + 1) d (by omega) z hd (sf_mxR_keep (Nat.le_refl _) (fun _ => y) ha) hb
        · refine br_f (fun q => y ((sf_dm (by omega) (by omega)).mp q)) ⟨vi, sf_sizeY ti (nm_r (nI_1 i) ?_)⟩
          have q := ih (i + 1) (sf_sz (sf_tp i) + 1) (by omega) z (by omega) (sf_mxR_keep (d := d) (by omega) (fun _ => Nat.lt_succ_self _) ha) (Or.inr ⟨i, z, e0, rfl⟩)
          rw [nI_pred] at q
          exact q
    · exact br_t (nI_le (a := 84) z (by omega)) (k d hd ⟨fun j hj => ha j (by omega), hb⟩)
theorem sf_ydeg {x : Nat} (hx : x < 24) (P : sf_YP pla tri) (h : sf_YR T tab) (k : ∀ d, d ≤ 7 → sf_mxR sf_sz (T x) d → post (nI d - 1)) : wpY_degreeOf post (c, pla, tri, tab) (nI x) := by
  unfold wpY_degreeOf
  dsimp only
  rw [← sf_neg1]
  exact ⟨85, sf_ydeg_loop hx P h k 85 0 0 (by decide) (by decide) (by decide) (fun j hj => absurd hj (Nat.not_lt_zero _)) (Or.inl rfl)⟩
theorem sf_ydin_loop {x w : Nat} {v : Int32} (hx : x < 24) (hv : sf_isS v w) (P : sf_YP pla tri) (h : sf_YR T tab) (k : ∀ d, d ≤ 7 → sf_mxR (sf_dg w) (T x) d → post (nI d - 1)) : ∀ n i d, 84 - i < n → i ≤ 84 → d ≤ 7 → (∀ j, j < i → T x j ≠ 0 → sf_dg w (sf_tp j) < d) → (d = 0 ∨ ∃ j, j < 84 ∧ T x j ≠ 0 ∧ sf_dg w (sf_tp j) + 1 = d) → wY_degreeIn_27 post (nI x) v c pla tri tab n (nI d - 1) (nI i) := by
  intro n
  induction n with
  | zero => intro i d hn; exact absurd hn (Nat.not_lt_zero _)
  | succ n ih =>
    intro i d hn hi hd ha hb
    unfold wY_degreeIn_27
    rcases Nat.lt_or_ge i 84 with z | z
    · have A := sf_yat h hx z
      have ti := sf_tp_lt z
      have si := (sf_dg_le (sf_isS_W hv) ti).2.1
      have vi : vp_in (nI i) 84 := vp_in_nI z (by decide)
      rw [sf_ix, A.1, sf_tri P z]
      refine br_f (nI_ge (b := 84) z (by decide)) ⟨A.2.2, br_c (fun e => nm_r (nI_1 i) ?_) fun e => ⟨vi, sf_partY hv ti ?_⟩⟩
      · have e0 : T x i = 0 := (nI_eq (b := 0) (by omega) (by decide)).mp e
        exact ih (i + 1) d (by omega) z hd (sf_mxR_keep (Nat.le_refl _) (fun q => absurd e0 q) ha) hb
      · have e0 : T x i ≠ 0 := fun q => e (by rw [q]; rfl)
        by_cases y : sf_dg w (sf_tp i) < d
        · refine br_t ((sf_dm (by omega) (by omega)).mpr y) (nm_r (nI_1 i) ?_)
          exact ih (i + 1) d (by omega) z hd (sf_mxR_keep (Nat.le_refl _) (fun _ => y) ha) hb
        · refine br_f (fun q => y ((sf_dm (by omega) (by omega)).mp q)) ⟨vi, sf_partY hv ti (nm_r (nI_1 i) ?_)⟩
          have q := ih (i + 1) (sf_dg w (sf_tp i) + 1) (by omega) z (by omega) (sf_mxR_keep (d := d) (by omega) (fun _ => Nat.lt_succ_self _) ha) (Or.inr ⟨i, z, e0, rfl⟩)
          rw [nI_pred] at q
          exact q
    · exact br_t (nI_le (a := 84) z (by omega)) (k d hd ⟨fun j hj => ha j (by omega), hb⟩)
theorem sf_yeq_loop {x y : Nat} (hx : x < 24) (hy : y < 24) (h : sf_YR T tab) (k1 : (∀ i, i < 84 → T x i = T y i) → post 1) (k0 : ¬ (∀ i, i < 84 → T x i = T y i) → post 0) : ∀ n i, 84 - i < n → i ≤ 84 → (∀ j, j < i → T x j = T y j) → wY_equal_2 post (nI x) (nI y) c pla tri tab n (nI i) := by
  intro n
  induction n with
  | zero => intro i hn; exact absurd hn (Nat.not_lt_zero _)
  | succ n ih =>
    intro i hn hi ha
    unfold wY_equal_2
    rcases Nat.lt_or_ge i 84 with z | z
    · have A := sf_yat h hx z
      have B := sf_yat h hy z
      have a := A.2.1
      have b := B.2.1
      rw [sf_ix, sf_ix, A.1, B.1]
      refine br_f (nI_ge (b := 84) z (by decide)) ⟨A.2.2, B.2.2, br_c (fun e => nm_r (nI_1 i) ?_) fun e => k0 fun f => e (by rw [f i z])⟩
      have e' := (nI_eq (by omega) (by omega)).mp e
      exact ih (i + 1) (by omega) z fun j hj => by
        by_cases w : j = i
        · rw [w]; exact e'
        · exact ha j (by omega)
    · exact br_t (nI_le (a := 84) z (by omega)) (k1 fun j hj => ha j (by omega))
theorem sf_yeq {x y : Nat} (hx : x < 24) (hy : y < 24) (h : sf_YR T tab) (k1 : (∀ i, i < 84 → T x i = T y i) → post 1) (k0 : ¬ (∀ i, i < 84 → T x i = T y i) → post 0) : wpY_equal post (c, pla, tri, tab) (nI x) (nI y) := by
  unfold wpY_equal
  dsimp only
  exact ⟨85, sf_yeq_loop hx hy h k1 k0 85 0 (by decide) (by decide) fun j hj => absurd hj (Nat.not_lt_zero _)⟩
theorem sf_cn_len {R : Nat → Nat} (n : Nat) : (sf_cn R n).length ≤ n := by
  induction n with
  | zero => exact Nat.le_refl _
  | succ n ih =>
    show (if R n = 0 then sf_cn R n else (sf_tp n, R n) :: sf_cn R n).length ≤ n + 1
    by_cases z : R n = 0
    · rw [if_pos z]; omega
    · rw [if_neg z, List.length_cons]; omega
theorem sf_cn0 {R : Nat → Nat} {n : Nat} (z : R n = 0) : sf_cn R (n + 1) = sf_cn R n := if_pos z
theorem sf_cn1 {R : Nat → Nat} {n : Nat} (z : R n ≠ 0) : sf_cn R (n + 1) = (sf_tp n, R n) :: sf_cn R n := if_neg z
theorem sf_terms_loop {x : Nat} (hx : x < 24) (h : sf_YR T tab) (k : post (nI (sf_cn (T x) 84).length)) : ∀ n i, 84 - i < n → i ≤ 84 → wY_terms_14 post (nI x) c pla tri tab n (nI (sf_cn (T x) i).length) (nI i) := by
  intro n
  induction n with
  | zero => intro i hn; exact absurd hn (Nat.not_lt_zero _)
  | succ n ih =>
    intro i hn hi
    unfold wY_terms_14
    rcases Nat.lt_or_ge i 84 with z | z
    · have A := sf_yat h hx z
      have a := A.2.1
      rw [sf_ix, A.1]
      have q := ih (i + 1) (by omega) z
      refine br_f (nI_ge (b := 84) z (by decide)) ⟨A.2.2, br_c (fun e => nm_r (nI_1 i) ?_) fun e => nm_r (nI_1 _) (nm_r (nI_1 i) ?_)⟩
      · rw [sf_cn0 ((nI_eq (b := 0) (by omega) (by decide)).mp e)] at q
        exact q
      · rw [sf_cn1 fun e0 => e (by rw [e0]; rfl)] at q
        exact q
    · have e : i = 84 := by omega
      subst e
      exact br_t (Int32.le_refl _) k
theorem sf_pm (k : Nat) : nI k + (-1) = nI k - 1 := (Int32.sub_eq_add_neg _ _).symm
theorem sf_term_loop {x : Nat} {v : Int32} (hx : x < 24) (P : sf_YP pla tri) (h : sf_YR T tab) : ∀ n i b, i < n → i ≤ 84 → b ≤ 84 - i →
    ((∀ j, j < (sf_cn (T x) i).length → nI (b + j) ≠ v) ∧ post (-2)) ∨ (∃ j p, v = nI (b + j) ∧ (sf_cn (T x) i)[j]? = some p ∧ post (nI p.1)) → wY_term_16 post (nI x) v c pla tri tab n (nI b) (nI i - 1) := by
  intro n
  induction n with
  | zero => intro i b hn; exact absurd hn (Nat.not_lt_zero _)
  | succ n ih =>
    intro i b hn hi hb k
    unfold wY_term_16
    cases i with
    | zero =>
      refine br_t (by rw [sf_neg1]; decide) ?_
      rcases k with k | ⟨j, p, _, hp, _⟩
      · exact k.2
      · cases hp
    | succ i =>
      have z : i < 84 := hi
      have A := sf_yat h hx z
      have a := A.2.1
      rw [nI_pred, sf_ix, A.1, sf_tri P z]
      refine br_f (nI_pos (by omega)) ⟨A.2.2, br_c (fun e => nm_r (sf_pm i) ?_) fun e => ?_⟩
      · rw [sf_cn0 ((nI_eq (b := 0) (by omega) (by decide)).mp e)] at k
        exact ih i b (by omega) (by omega) (by omega) k
      · rw [sf_cn1 fun e0 => e (by rw [e0]; rfl)] at k
        refine br_c (fun ev => ⟨vp_in_nI z (by decide), ?_⟩) fun ev => nm_r (nI_1 b) (nm_r (sf_pm i) (ih i (b + 1) (by omega) (by omega) (by omega) ?_))
        · rcases k with k | ⟨j, p, hv, hp, kp⟩
          · exact absurd ev (k.1 0 (by rw [List.length_cons]; omega))
          · have hj := sf_get_lt hp
            have hl := sf_cn_len (R := T x) i
            rw [List.length_cons] at hj
            rw [hv] at ev
            have ej : b = b + j := (nI_eq (by omega) (by omega)).mp ev
            have e0 : j = 0 := by omega
            subst e0
            have ep : some (sf_tp i, T x i) = some p := hp
            rw [← Option.some.inj ep] at kp
            exact kp
        · rcases k with k | ⟨j, p, hv, hp, kp⟩
          · refine Or.inl ⟨fun j hj => ?_, k.2⟩
            have q := k.1 (j + 1) (by rw [List.length_cons]; omega)
            rw [show b + 1 + j = b + (j + 1) by omega]
            exact q
          · cases j with
            | zero => exact absurd hv.symm ev
            | succ j =>
              refine Or.inr ⟨j, p, ?_, hp, kp⟩
              rw [hv, show b + 1 + j = b + (j + 1) by omega]
theorem sf_yraised_loop {u e : Nat} (hu : u < 10007) (he : e < 100) (k : post (nI (u ^ e % 10007))) : ∀ n i, e - i < n → i ≤ e → wY_raised_5 post (nI u) (nI e) c pla tri tab n (nI (u ^ i % 10007)) (nI i) := by
  intro n
  induction n with
  | zero => intro i hn; exact absurd hn (Nat.not_lt_zero _)
  | succ n ih =>
    intro i hn hi
    unfold wY_raised_5
    rcases Nat.lt_or_ge i e with z | z
    · have r := sf_m10 (u ^ i)
      have hm : u ^ i % 10007 * u < 2147483648 := Nat.lt_of_le_of_lt (Nat.mul_le_mul (Nat.le_of_lt r) (Nat.le_of_lt hu)) (by decide)
      refine br_f (nI_ge z (by omega)) ⟨by decide, nm_r (e' := nI (u ^ (i + 1) % 10007)) ?_ (nm_r (nI_1 i) (ih (i + 1) (by omega) z))⟩
      rw [pk_mul, sf_rem hm, sf_mm, Nat.pow_succ]
    · have ee : i = e := by omega
      subst ee
      exact br_t (Int32.le_refl _) k
theorem sf_yraised {u e : Nat} (hu : u < 10007) (he : e < 100) (k : post (nI (u ^ e % 10007))) : wpY_raised post (c, pla, tri, tab) (nI u) (nI e) := by
  unfold wpY_raised
  dsimp only
  exact ⟨e + 1, sf_yraised_loop hu he k _ 0 (by omega) (Nat.zero_le _)⟩
theorem sf_yval_eq (A B C : Nat) : A % 10007 * (B % 10007) % 10007 * (C % 10007) % 10007 = A * B * C % 10007 := by
  rw [sf_mm2, sf_mm2, sf_mm, Nat.mul_assoc, sf_mm, Nat.mul_assoc]
theorem sf_yval_loop {x u v w : Nat} (hx : x < 24) (hu : u < 10007) (hv : v < 10007) (hw : w < 10007) (P : sf_YP pla tri) (h : sf_YR T tab) (k : post (nI (sf_sm (fun i => T x i * sf_mon u v w (sf_tp i)) 84 % 10007))) : ∀ n i, 84 - i < n → i ≤ 84 → wY_value_38 post (nI x) (nI u) (nI v) (nI w) c pla tri tab n (nI (sf_sm (fun i => T x i * sf_mon u v w (sf_tp i)) i % 10007)) (nI i) := by
  intro n
  induction n with
  | zero => intro i hn; exact absurd hn (Nat.not_lt_zero _)
  | succ n ih =>
    intro i hn hi
    unfold wY_value_38
    rcases Nat.lt_or_ge i 84 with z | z
    · have A := sf_yat h hx z
      have ti := sf_tp_lt z
      have vi : vp_in (nI i) 84 := vp_in_nI z (by decide)
      have d0 := sf_dg49 ti
      have d1 := sf_dg7 (sf_tp i)
      have d2 := sf_dg1 (sf_tp i)
      rw [sf_ix, A.1, sf_tri P z]
      refine br_f (nI_ge (b := 84) z (by decide)) ⟨vi, sf_partY (w := 49) (Or.inl ⟨rfl, rfl⟩) ti ⟨vi, sf_partY (w := 7) (Or.inr (Or.inl ⟨rfl, rfl⟩)) ti ⟨vi, sf_partY (w := 1) (Or.inr (Or.inr ⟨rfl, rfl⟩)) ti ?_⟩⟩⟩
      rw [d0, d1, d2]
      refine sf_yraised hu (by omega) (sf_yraised hv (by omega) (sf_yraised hw (by omega) ⟨by decide, by decide, nm_r (e' := nI (sf_mon u v w (sf_tp i) % 10007)) ?_ ⟨A.2.2, by decide, nm_r (e' := nI (sf_sm (fun i => T x i * sf_mon u v w (sf_tp i)) (i + 1) % 10007)) ?_ (nm_r (nI_1 i) (ih (i + 1) (by omega) z))⟩⟩))
      · have b1 := sf_mulb (sf_m10 (u ^ (sf_tp i / 49))) (sf_m10 (v ^ (sf_tp i / 7 % 7)))
        have b2 := sf_mulb (sf_m10 (u ^ (sf_tp i / 49) % 10007 * (v ^ (sf_tp i / 7 % 7) % 10007))) (sf_m10 (w ^ (sf_tp i % 7)))
        rw [pk_mul, sf_rem (by omega), pk_mul, sf_rem (by omega), sf_yval_eq]
        rfl
      · have b1 := sf_mulb A.2.1 (sf_m10 (sf_mon u v w (sf_tp i)))
        have b2 := sf_m10 (sf_sm (fun i => T x i * sf_mon u v w (sf_tp i)) i)
        rw [pk_mul, nI_add, sf_rem (by omega)]
        have e : (T x i * (sf_mon u v w (sf_tp i) % 10007)) % 10007 = (T x i * sf_mon u v w (sf_tp i)) % 10007 := sf_mm2 _ _
        show _ = nI ((sf_sm (fun i => T x i * sf_mon u v w (sf_tp i)) i + T x i * sf_mon u v w (sf_tp i)) % 10007)
        refine congrArg nI ?_
        generalize T x i * (sf_mon u v w (sf_tp i) % 10007) = a at e ⊢
        generalize T x i * sf_mon u v w (sf_tp i) = b at e ⊢
        omega
    · have e : i = 84 := by omega
      subst e
      exact br_t (Int32.le_refl _) k
end
end
section
/-! part 11: the component's powers and substitutions -/
section
variable {post : Int32 → SX → Prop} {F : Nat → List (Nat × Nat)}
theorem sf_xpow_loop {x m e d : Nat} (hm : m < 16) (hx : x < m) (he : e ≤ 6) (g : sf_Gd (F x)) (hd : sf_mxL sf_sz (F x) d) (hc : 0 < d → (d - 1) * e ≤ 6)
    (kk : ∀ G tr fa sz, sf_XR G tr fa sz → (∀ l, l < 16 → l ≠ m → G l = F l) → sf_pI (F x) d e (G m) → post (nI m) (nI (m + 1), tr, fa, sz)) : ∀ n k G tr fa sz, e - k < n → k ≤ e → sf_XR G tr fa sz → (∀ l, l < 16 → G l = F l) → sf_pI (F x) d k (G 18) → wX_power_52 post (nI x) (nI e) n (nI k) (nI m) tr fa sz := by
  intro n
  induction n with
  | zero => intro k G tr fa sz hn; exact absurd hn (Nat.not_lt_zero _)
  | succ n ih =>
    intro k G tr fa sz hn hk h hG hI
    unfold wX_power_52
    rcases Nat.lt_or_ge k e with z | z
    · refine br_f (nI_ge z (by omega)) ?_
      have S := sf_pI_step g hd z hc hI
      refine sf_mul (to := 19) (x := 18) (y := x) (by decide) (by decide) (by omega) (by decide) (by decide) (by omega) (by omega) (by decide) h (by rw [hG x (by omega)]; exact S.1) fun H tr1 fa1 sz1 h1 f1 e1 => ?_
      refine sf_copy (to := 18) (fr := 19) (by decide) (by decide) (by decide) h1 fun tr2 fa2 sz2 h2 => ?_
      intro x' ex
      rw [ex, nI_1]
      refine ih (k + 1) _ tr2 fa2 sz2 (by omega) z h2 (fun l hl => ?_) ?_
      · rw [sf_gun (by omega), f1 l (by omega) (by omega) (by omega) (by omega)]
        exact hG l hl
      · rw [sf_gus, e1, hG x (by omega)]
        exact S.2
    · have ek : k = e := by omega
      subst ek
      refine br_t (Int32.le_refl _) ?_
      refine sf_copy (to := m) (fr := 18) (by omega) (by decide) (by omega) h fun tr1 fa1 sz1 h1 => ?_
      intro x' ex
      rw [ex, nI_1, nI_pred]
      refine kk _ tr1 fa1 sz1 h1 (fun l hl ne => ?_) ?_
      · rw [sf_gun ne]; exact hG l hl
      · rw [sf_gus]; exact hI
theorem sf_xsub_loop {x y m w d : Nat} (hm : m < 16) (hx : x < m) (hy : y < m) (hw : sf_W w) (gx : sf_Gd (F x)) (gy : sf_Gd (F y)) (hd : sf_mxL sf_sz (F y) d) (hc : 0 < d → ∀ p, p ∈ F x → sf_sz p.1 - sf_dg w p.1 + sf_dg w p.1 * (d - 1) ≤ 6)
    (kk : ∀ G tr fa sz, sf_XR G tr fa sz → (∀ l, l < 16 → l ≠ m → G l = F l) → sf_hI (F x) (F y) w d 0 (G m) → post (nI m) (nI (m + 1), tr, fa, sz)) : ∀ n e G tr fa sz, e < n → e ≤ 7 → sf_XR G tr fa sz → (∀ l, l < 16 → G l = F l) → sf_hI (F x) (F y) w d e (G 18) → wX_substitute_134 post (nI x) (nI y) (nI w) n (nI e - 1) (nI m) tr fa sz := by
  intro n
  induction n with
  | zero => intro e G tr fa sz hn; exact absurd hn (Nat.not_lt_zero _)
  | succ n ih =>
    intro e G tr fa sz hn he h hG hI
    unfold wX_substitute_134
    cases e with
    | zero =>
      refine br_t (by rw [sf_neg1]; decide) ?_
      refine sf_copy (to := m) (fr := 18) (by omega) (by decide) (by omega) h fun tr1 fa1 sz1 h1 => ?_
      intro x' ex
      rw [ex, nI_1, nI_pred]
      refine kk _ tr1 fa1 sz1 h1 (fun l hl ne => ?_) ?_
      · rw [sf_gun ne]; exact hG l hl
      · rw [sf_gus]; exact hI
    | succ e =>
      rw [nI_pred]
      refine br_f (nI_pos (by omega)) ?_
      have S := sf_hI_step hw gx gy hd hc hI
      have pr := sf_hI_pr hd hI
      refine sf_mul (to := 19) (x := 18) (y := y) (by decide) (by decide) (by omega) (by decide) (by decide) (by omega) (by omega) (by decide) h (by rw [hG y (by omega)]; exact pr) fun H tr1 fa1 sz1 h1 f1 e1 => ?_
      rw [hG y (by omega)] at e1
      have ex1 : H x = F x := by rw [f1 x (by omega) (by omega) (by omega) (by omega)]; exact hG x (by omega)
      refine sf_part (x := x) (w := w) (e := e) (by omega) (by omega) hw (by omega) h1 fun tr2 fa2 sz2 h2 => ?_
      rw [ex1] at h2
      refine sf_merge (to := 18) (a := 19) (b := 17) (f := 1) (sh := 0) (by decide) (by decide) (by decide) (by decide) (by decide) (by decide) (by decide) h2 ?_ fun tr3 fa3 sz3 h3 => ?_
      · rw [sf_gun (by decide), sf_gus, e1]
        exact S.2.1
      · rw [sf_gun (k := 19) (by decide), sf_gus, e1] at h3
        intro x' ex
        rw [ex, sf_pm]
        refine ih e _ tr3 fa3 sz3 (by omega) (by omega) h3 (fun l hl => ?_) ?_
        · rw [sf_gun (by omega), sf_gun (by omega), f1 l (by omega) (by omega) (by omega) (by omega)]
          exact hG l hl
        · rw [sf_gus]
          exact S.2.2
end
/-- the check of a substitution: the degree of one term's image -/
def sf_ck (w d t : Nat) : Prop := d = 0 ∨ sf_sz t - sf_dg w t + sf_dg w t * (d - 1) ≤ 6
theorem sf_ckT : ∀ s, s < 7 → ∀ e, e < 7 → ∀ d, d < 8 → e ≤ s → (nI s - nI e + nI e * (nI d - 1) ≤ 6 ↔ (d = 0 ∨ s - e + e * (d - 1) ≤ 6)) := by decide +kernel
theorem sf_ckI {w d t : Nat} (hw : sf_W w) (ht : t < 343) (hs : sf_sz t ≤ 6) (hd : d ≤ 7) : nI (sf_sz t) - nI (sf_dg w t) + nI (sf_dg w t) * (nI d - 1) ≤ 6 ↔ sf_ck w d t := by
  have a := sf_dg_le hw ht
  exact sf_ckT _ (by omega) _ (by omega) _ (by omega) a.1
section
variable {post : Int32 → SX → Prop} {c : Int32} {G : Nat → List (Nat × Nat)} {tr fa sz : Nat → Int32}
theorem sf_xck_loop {x w d : Nat} {x3 : Int32} (hx : x < 20) (hw : sf_W w) (hd : d ≤ 7) (h : sf_XR G tr fa sz) (k0 : (∃ p, p ∈ G x ∧ ¬ sf_ck w d p.1) → post (-3) (c, tr, fa, sz)) (k1 : (∀ p, p ∈ G x → sf_ck w d p.1) → ∃ n, wX_substitute_134 post (nI x) x3 (nI w) n 6 c tr fa (upd sz 18 0)) : ∀ n i, (G x).length - i < n → i ≤ (G x).length → (∀ j p, j < i → (G x)[j]? = some p → sf_ck w d p.1) → wX_substitute_45 post (nI x) x3 (nI w) (nI d - 1) c tr fa sz n (nI (84 * x + i)) := by
  intro n
  induction n with
  | zero => intro i hn; exact absurd hn (Nat.not_lt_zero _)
  | succ n ih =>
    intro i hn hi ha
    have lx := sf_xlen h hx
    unfold wX_substitute_45
    rw [sf_xsz h hx, sf_ix]
    refine ⟨vp_in_nI hx (by decide), ?_⟩
    rcases Nat.lt_or_ge i (G x).length with z | z
    · obtain ⟨p, hp, _⟩ := sf_drop z
      have A := sf_xat h hx hp
      have ok := A.2.2.1
      have ii : vp_in (nI (84 * x + i)) 1680 := vp_in_nI A.2.2.2.2 (by decide)
      refine br_f (nI_ge (by omega) (by omega)) ⟨ii, br_f (sf_W_nle hw) ?_⟩
      unfold wX_substitute_79
      rw [A.1]
      refine ⟨sf_W_n0 hw, by decide, nm_r (sf_dgI hw ok.1) ⟨ii, sf_sumX ok.1 (nm_e ?_)⟩⟩
      refine br_c (fun e => nm_r (nI_1 _) ?_) fun e => k0 ⟨p, sf_get_mem hp, fun q => e ((sf_ckI hw ok.1 ok.2.1 hd).mpr q)⟩
      refine ih (i + 1) (by omega) z fun j q hj hq => ?_
      by_cases y : j = i
      · subst y
        rw [hp] at hq
        rw [← Option.some.inj hq]
        exact (sf_ckI hw ok.1 ok.2.1 hd).mp e
      · exact ha j q (by omega) hq
    · refine br_t (nI_le (by omega) (by omega)) (nm_e (k1 fun p hp => ?_))
      obtain ⟨j, hj⟩ := List.mem_iff_getElem?.mp hp
      exact ha j p (by have := sf_get_lt hj; omega) hj
end
/-- kinds: how many lines differ from all lines ahead of them -/
def sf_kf (E : Nat → Nat → Bool) (x : Nat) : Nat → Bool
  | 0 => true
  | y + 1 => sf_kf E x y && !E x y
def sf_kc (E : Nat → Nat → Bool) : Nat → Nat
  | 0 => 0
  | x + 1 => sf_kc E x + (if sf_kf E x x = true then 1 else 0)
theorem sf_kc_le (E : Nat → Nat → Bool) (n : Nat) : sf_kc E n ≤ n := by
  induction n with
  | zero => exact Nat.le_refl _
  | succ n ih =>
    show sf_kc E n + (if sf_kf E n n = true then 1 else 0) ≤ n + 1
    by_cases z : sf_kf E n n = true
    · rw [if_pos z]; omega
    · rw [if_neg z]; omega
def sf_bI (b : Bool) : Int32 := if b = true then 1 else 0
section
variable {post : Int32 → Prop} {m : Nat} {E : Nat → Nat → Bool}
theorem sf_kc_1 {x : Nat} (h : sf_kf E x x = true) : sf_kc E (x + 1) = sf_kc E x + 1 := congrArg (sf_kc E x + ·) (if_pos h)
theorem sf_kc_0 {x : Nat} (h : sf_kf E x x = false) : sf_kc E (x + 1) = sf_kc E x := congrArg (sf_kc E x + ·) (if_neg (by rw [h]; decide))
theorem sf_kf_s {x y : Nat} {a b : Bool} (h : sf_kf E x y = a) (e : E x y = b) : sf_kf E x (y + 1) = (a && !b) := by
  show (sf_kf E x y && !E x y) = _
  rw [h, e]
theorem sf_xk_in {J : Int32 → Int32 → Prop} {G : Nat → List (Nat × Nat)} {tr fa sz : Nat → Int32} {x : Nat} (hm : m ≤ 16) (hx : x < m) (h : sf_XR G tr fa sz) (hE : ∀ x y, x < m → y < m → (G x = G y ↔ E x y = true)) (k : J (nI (sf_kc E (x + 1))) (nI (x + 1))) : ∀ n y b, x - y < n → y ≤ x → sf_kf E x y = b → wX_kinds_17 post J (nI (sf_kc E x)) (nI x) (nI m) tr fa sz n (sf_bI b) (nI y) := by
  intro n
  induction n with
  | zero => intro y b hn; exact absurd hn (Nat.not_lt_zero _)
  | succ n ih =>
    intro y b hn hy hb
    unfold wX_kinds_17
    rcases Nat.lt_or_ge y x with z | z
    · refine br_f (nI_ge z (by omega)) ?_
      cases b with
      | false =>
        refine br_t rfl (nm_r (nI_1 y) ?_)
        exact ih (y + 1) false (by omega) z (sf_kf_s hb rfl)
      | true =>
        refine br_f (show ¬ (1 : Int32) = 0 by decide) ?_
        refine sf_same (x := x) (y := y) (by omega) (by omega) h (fun e => ?_) fun e => ?_
        · refine br_f (by decide) (nm_r (nI_1 y) ?_)
          exact ih (y + 1) false (by omega) z (sf_kf_s hb ((hE x y hx (by omega)).mp e))
        · refine br_t rfl (nm_r (nI_1 y) ?_)
          refine ih (y + 1) true (by omega) z (sf_kf_s hb (b := false) ?_)
          cases q : E x y with
          | false => rfl
          | true => exact absurd ((hE x y hx (by omega)).mpr q) e
    · have ey : y = x := by omega
      subst ey
      refine br_t (Int32.le_refl _) ?_
      cases b with
      | false =>
        rw [sf_kc_0 hb] at k
        exact br_t rfl (nm_r (Int32.add_zero _) (nm_r (nI_1 y) k))
      | true =>
        rw [sf_kc_1 hb] at k
        exact br_f (show ¬ (1 : Int32) = 0 by decide) (nm_r (nI_1 _) (nm_r (nI_1 y) k))
theorem sf_xk_out {G : Nat → List (Nat × Nat)} {tr fa sz : Nat → Int32} (hm : m ≤ 16) (h : sf_XR G tr fa sz) (hE : ∀ x y, x < m → y < m → (G x = G y ↔ E x y = true)) (k : post (nI (sf_kc E m))) : ∀ n x, m - x < n → x ≤ m → wX_kinds_4 post (nI m) tr fa sz n (nI (sf_kc E x)) (nI x) := by
  intro n
  induction n with
  | zero => intro x hn; exact absurd hn (Nat.not_lt_zero _)
  | succ n ih =>
    intro x hn hx
    unfold wX_kinds_4
    rcases Nat.lt_or_ge x m with z | z
    · exact br_f (nI_ge z (by omega)) ⟨x + 1, sf_xk_in hm z h hE (ih (x + 1) (by omega) z) (x + 1) 0 true (by omega) (Nat.zero_le _) rfl⟩
    · have e : x = m := by omega
      subst e
      exact br_t (Int32.le_refl _) k
theorem sf_yk_in {J : Int32 → Int32 → Prop} {T : Nat → Nat → Nat} {pla tri tab : Nat → Int32} {x : Nat} (hm : m ≤ 16) (hx : x < m) (h : sf_YR T tab) (hE : ∀ x y, x < m → y < m → ((∀ i, i < 84 → T x i = T y i) ↔ E x y = true)) (k : J (nI (sf_kc E (x + 1))) (nI (x + 1))) : ∀ n y b, x - y < n → y ≤ x → sf_kf E x y = b → wY_kinds_23 post J (nI (sf_kc E x)) (nI x) (nI m) pla tri tab n (sf_bI b) (nI y) := by
  intro n
  induction n with
  | zero => intro y b hn; exact absurd hn (Nat.not_lt_zero _)
  | succ n ih =>
    intro y b hn hy hb
    unfold wY_kinds_23
    rcases Nat.lt_or_ge y x with z | z
    · refine br_f (nI_ge z (by omega)) ?_
      refine sf_yeq (x := x) (y := y) (by omega) (by omega) h (fun e => ?_) fun e => ?_
      · refine br_f (by decide) (nm_r (nI_1 y) ?_)
        exact ih (y + 1) false (by omega) z (by rw [sf_kf_s hb ((hE x y hx (by omega)).mp e)]; cases b <;> rfl)
      · refine br_t rfl (nm_r (nI_1 y) ?_)
        have q : E x y = false := by
          cases q : E x y with
          | false => rfl
          | true => exact absurd ((hE x y hx (by omega)).mpr q) e
        exact ih (y + 1) b (by omega) z (by rw [sf_kf_s hb q]; cases b <;> rfl)
    · have ey : y = x := by omega
      subst ey
      refine br_t (Int32.le_refl _) ?_
      cases b with
      | false =>
        rw [sf_kc_0 hb] at k
        exact br_t rfl (nm_r (nI_1 y) k)
      | true =>
        rw [sf_kc_1 hb] at k
        exact br_f (show ¬ (1 : Int32) = 0 by decide) (nm_r (nI_1 _) (nm_r (nI_1 y) k))
theorem sf_yk_out {T : Nat → Nat → Nat} {pla tri tab : Nat → Int32} (hm : m ≤ 16) (h : sf_YR T tab) (hE : ∀ x y, x < m → y < m → ((∀ i, i < 84 → T x i = T y i) ↔ E x y = true)) (k : post (nI (sf_kc E m))) : ∀ n x, m - x < n → x ≤ m → wY_kinds_4 post (nI m) pla tri tab n (nI (sf_kc E x)) (nI x) := by
  intro n
  induction n with
  | zero => intro x hn; exact absurd hn (Nat.not_lt_zero _)
  | succ n ih =>
    intro x hn hx
    unfold wY_kinds_4
    rcases Nat.lt_or_ge x m with z | z
    · exact br_f (nI_ge z (by omega)) (br_f (nI_ge (b := 16) (by omega) (by decide)) ⟨x + 1, sf_yk_in hm z h hE (ih (x + 1) (by omega) z) (x + 1) 0 true (by omega) (Nat.zero_le _) rfl⟩)
    · have e : x = m := by omega
      subst e
      exact br_t (Int32.le_refl _) k
end
end
section
/-! part 12: the reference's sums, derivatives, powers, substitutions, and its tables -/
def sf_rc (v : Int32) (m : Nat) : Prop := m < 10007 ∧ ((0 ≤ v - v / 10007 * 10007 ∧ v - v / 10007 * 10007 = nI m) ∨ (¬ 0 ≤ v - v / 10007 * 10007 ∧ v - v / 10007 * 10007 + 10007 = nI m))
theorem sf_rc_add {a b : Nat} (ha : a < 10007) (hb : b < 10007) : sf_rc (nI a + 1 * nI b) ((a + 1 * b) % 10007) := by
  obtain ⟨m, hm, e, h⟩ := sf_red (nI a + 1 * nI b)
  have q : (nI a + 1 * nI b).toInt = (a : Int) + b := by
    rw [Int32.one_mul, nI_add, nI_toInt (by omega)]; omega
  rw [q] at e
  have em : m = (a + 1 * b) % 10007 := by omega
  rw [← em]
  exact ⟨hm, h⟩
theorem sf_rc_sub {a b : Nat} (ha : a < 10007) (hb : b < 10007) : sf_rc (nI a + (-1) * nI b) ((a + 10006 * b) % 10007) := by
  obtain ⟨m, hm, e, h⟩ := sf_red (nI a + (-1) * nI b)
  have q : (nI a + (-1) * nI b).toInt = (a : Int) - b := by
    rw [Int32.neg_mul, Int32.one_mul, ← Int32.sub_eq_add_neg, pk_sub_toInt (by omega) (by omega)]
  rw [q] at e
  have em : m = (a + 10006 * b) % 10007 := by omega
  rw [← em]
  exact ⟨hm, h⟩
section
variable {post : Int32 → SY → Prop} {pla tri tab : Nat → Int32} {T : Nat → Nat → Nat}
theorem sf_comb_loop {x y m : Nat} {sg : Int32} {F : Nat → Nat} (hm : m < 16) (hx : x < 16) (hy : y < 16) (hF : ∀ i, i < 84 → sf_rc (nI (T x i) + sg * nI (T y i)) (F i)) (k : ∀ tab', sf_YR (sf_tu (sf_tu T 16 F) m F) tab' → post (nI m) (nI (m + 1), pla, tri, tab')) : ∀ n i tab, 84 - i < n → i ≤ 84 → sf_YR (sf_tu T 16 (sf_fi F (T 16) i)) tab → wY_combine_31 post (nI x) (nI y) sg (nI m) n (nI i) pla tri tab := by
  intro n
  induction n with
  | zero => intro i tab hn; exact absurd hn (Nat.not_lt_zero _)
  | succ n ih =>
    intro i tab hn hi h
    unfold wY_combine_31
    rcases Nat.lt_or_ge i 84 with z | z
    · have A := sf_yat (r := x) h (by omega) z
      rw [sf_tun (by omega)] at A
      have B := sf_yat (r := y) h (by omega) z
      rw [sf_tun (by omega)] at B
      have e2 : 1344 + nI i = nI (84 * 16 + i) := nI_add 1344 i
      rw [sf_ix, sf_ix, A.1, B.1, e2]
      refine br_f (nI_ge (b := 84) z (by decide)) ⟨A.2.2, B.2.2, sf_redY (hF i z).2 ⟨vp_in_nI (by omega) (by decide), nm_e (nm_r (nI_1 i) ?_)⟩⟩
      exact ih (i + 1) _ (by omega) z (sf_yel h (by decide) z (hF i z).1 rfl)
    · refine br_t (nI_le (a := 84) z (by omega)) ?_
      refine sf_take hm (sf_yelE z h) fun tab' h' => ?_
      rw [sf_tus] at h'
      exact k tab' h'
/-- the derivative's row as far as the first i places have been read -/
def sf_dj (X : Nat → Nat) (w i k : Nat) : Nat := if sf_sz (sf_tp k) + 1 ≤ 6 ∧ sf_pl (sf_tp k + w) < i then X (sf_pl (sf_tp k + w)) * (sf_dg w (sf_tp k) + 1) % 10007 else 0
theorem sf_dj_E {X : Nat → Nat} {w i k : Nat} (hw : sf_W w) (hk : k < 84) (hi : 84 ≤ i) : sf_dj X w i k = sf_dr X w k := by
  unfold sf_dj sf_dr
  by_cases z : sf_sz (sf_tp k) + 1 ≤ 6
  · have a := sf_dg_up hw (sf_tp_lt hk) z
    have b := sf_pl_lt a.1 (by omega)
    rw [if_pos z, if_pos ⟨z, by omega⟩]
  · rw [if_neg z, if_neg fun q => z q.1]
theorem sf_dj_skip {X : Nat → Nat} {w i k : Nat} (hw : sf_W w) (hk : k < 84) (hi : i < 84) (h : ¬ (0 < sf_dg w (sf_tp i) ∧ k = sf_pl (sf_tp i - w))) : sf_dj X w (i + 1) k = sf_dj X w i k := by
  unfold sf_dj
  by_cases z : sf_sz (sf_tp k) + 1 ≤ 6 ∧ sf_pl (sf_tp k + w) < i
  · rw [if_pos z, if_pos ⟨z.1, by omega⟩]
  · rw [if_neg z]
    refine if_neg fun q => h ?_
    have e : sf_pl (sf_tp k + w) = i := by
      rcases Nat.lt_or_ge (sf_pl (sf_tp k + w)) i with y | y
      · exact absurd ⟨q.1, y⟩ z
      · have := q.2; omega
    have a := sf_dg_up hw (sf_tp_lt hk) q.1
    have et : sf_tp i = sf_tp k + w := by rw [← e]; exact sf_tp_pl a.1 (by omega)
    rw [et, a.2.2, Nat.add_sub_cancel, sf_pl_tp hk]
    exact ⟨by omega, rfl⟩
theorem sf_dj_hit {X : Nat → Nat} {w i : Nat} (hw : sf_W w) (hi : i < 84) (h : 0 < sf_dg w (sf_tp i)) : sf_pl (sf_tp i - w) < 84 ∧ sf_dj X w (i + 1) (sf_pl (sf_tp i - w)) = X i * sf_dg w (sf_tp i) % 10007 := by
  have a := sf_dg_down hw (sf_tp_lt hi) h
  have b := sf_tp_lt hi
  have c := sf_tp_sz hi
  have e : sf_tp (sf_pl (sf_tp i - w)) = sf_tp i - w := sf_tp_pl (by omega) (by omega)
  refine ⟨sf_pl_lt (by omega) (by omega), ?_⟩
  unfold sf_dj
  rw [e, Nat.sub_add_cancel a.1, sf_pl_tp hi, if_pos ⟨by omega, by omega⟩, a.2.2]
theorem sf_yder_loop {x m w : Nat} {v : Int32} (hm : m < 16) (hx : x < 16) (hv : sf_isS v w) (P : sf_YP pla tri) (k : ∀ tab', sf_YR (sf_tu (sf_tu T 16 (sf_dr (T x) w)) m (sf_dr (T x) w)) tab' → post (nI m) (nI (m + 1), pla, tri, tab')) : ∀ n i tab, 84 - i < n → i ≤ 84 → sf_YR (sf_tu T 16 (sf_dj (T x) w i)) tab → wY_derive_39 post (nI x) v (nI m) n (nI i) pla tri tab := by
  have hw := sf_isS_W hv
  intro n
  induction n with
  | zero => intro i tab hn; exact absurd hn (Nat.not_lt_zero _)
  | succ n ih =>
    intro i tab hn hi h
    unfold wY_derive_39
    rcases Nat.lt_or_ge i 84 with z | z
    · have A := sf_yat (r := x) h (by omega) z
      rw [sf_tun (by omega)] at A
      have ti := sf_tp_lt z
      have si := sf_tp_sz z
      have d6 := (sf_dg_le hw ti).2.1
      have vi : vp_in (nI i) 84 := vp_in_nI z (by decide)
      rw [sf_ix, A.1, sf_tri P z]
      refine br_f (nI_ge (b := 84) z (by decide)) ⟨vi, sf_partY hv ti ?_⟩
      by_cases y : 0 < sf_dg w (sf_tp i)
      · have D := sf_dg_down hw ti y
        have H := sf_dj_hit (X := T x) hw z y
        have hmul : T x i * sf_dg w (sf_tp i) < 2147483648 := Nat.lt_of_le_of_lt (Nat.mul_le_mul (Nat.le_of_lt A.2.1) d6) (by decide)
        refine br_f (nI_nle y (by omega)) ⟨vi, sf_wY hv ?_⟩
        have ep : pla (nI (sf_tp i - w)).toNatClampNeg = nI (sf_pl (sf_tp i - w)) := by rw [sf_cl (by omega)]; exact P.1 _ (by omega) (by omega)
        have e2 : 1344 + nI (sf_pl (sf_tp i - w)) = nI (84 * 16 + sf_pl (sf_tp i - w)) := nI_add 1344 _
        rw [pk_sub D.1, ep, e2, pk_mul, sf_rem hmul]
        refine ⟨vp_in_nI (by omega) (by decide), A.2.2, by decide, vp_in_nI (by omega) (by decide), nm_e (nm_r (nI_1 i) ?_)⟩
        refine ih (i + 1) _ (by omega) z ?_
        have q := sf_yput (r := 16) h (by decide) H.1 (sf_m10 (T x i * sf_dg w (sf_tp i)))
        rw [sf_tutu, sf_tus] at q
        refine sf_ycongr1 q fun k hk => ?_
        by_cases ek : k = sf_pl (sf_tp i - w)
        · rw [if_pos ek, ek, H.2]
        · rw [if_neg ek, sf_dj_skip hw hk z fun q => ek q.2]
      · have e0 : sf_dg w (sf_tp i) = 0 := by omega
        rw [e0]
        refine br_t (Int32.le_refl _) (nm_r (nI_1 i) ?_)
        exact ih (i + 1) _ (by omega) z (sf_ycongr1 h fun k hk => (sf_dj_skip hw hk z fun q => y q.1).symm)
    · refine br_t (nI_le (a := 84) z (by omega)) ?_
      refine sf_take hm (sf_ycongr1 h fun k hk => sf_dj_E hw hk z) fun tab' h' => ?_
      rw [sf_tus] at h'
      exact k tab' h'
theorem sf_ypow_loop {S : Nat → Nat → Nat} {x m e : Nat} (hm : m < 16) (hx : x < 16) (he : e ≤ 6) (P : sf_YP pla tri)
    (kk : ∀ T tab, sf_YR T tab → (∀ q, q < 16 → q ≠ m → T q = S q) → T m = sf_it (S x) sf_one e → post (nI m) (nI (m + 1), pla, tri, tab)) : ∀ n k T tab, e - k < n → k ≤ e → sf_YR T tab → (∀ q, q < 16 → T q = S q) → T 16 = sf_it (S x) sf_one k → wY_power_65 post (nI x) (nI e) n (nI k) (nI m) pla tri tab := by
  intro n
  induction n with
  | zero => intro k T tab hn; exact absurd hn (Nat.not_lt_zero _)
  | succ n ih =>
    intro k T tab hn hk h hS h16
    unfold wY_power_65
    rcases Nat.lt_or_ge k e with z | z
    · refine br_f (nI_ge z (by omega)) ?_
      refine sf_ytimes (t := 17) (x := 16) (y := x) (by decide) (by decide) (by omega) (by decide) (by omega) P h fun tab1 h1 => ?_
      refine sf_ycopy (r := 16) (q := 17) (by decide) (by decide) (by decide) h1 fun tab2 h2 => ?_
      intro x' ex
      rw [ex, nI_1]
      rw [sf_tus] at h2
      refine ih (k + 1) _ tab2 (by omega) z h2 (fun q hq => ?_) ?_
      · rw [sf_tun (by omega), sf_tun (by omega)]; exact hS q hq
      · rw [sf_tus, h16, hS x hx]; rfl
    · have ek : k = e := by omega
      subst ek
      refine br_t (Int32.le_refl _) (sf_take hm h fun tab1 h1 => kk _ tab1 h1 (fun q hq ne => ?_) ?_)
      · rw [sf_tun ne]; exact hS q hq
      · rw [sf_tus]; exact h16
theorem sf_ysub_in {S : Nat → Nat → Nat} {J : Int32 → Int32 → (Nat → Int32) → (Nat → Int32) → (Nat → Int32) → Prop} {x1 x2 : Int32} {c : Int32} {y i e : Nat} {M A : Nat → Nat} (hy : y < 16) (he : e ≤ 6) (P : sf_YP pla tri)
    (kk : ∀ T tab, sf_YR T tab → (∀ q, q < 16 → T q = S q) → (∀ k, k < 84 → T 18 k = (A k + sf_it (S y) M e k) % 10007) → J (nI (i + 1)) c pla tri tab) : ∀ n k T tab, e - k < n → k ≤ e → sf_YR T tab → (∀ q, q < 16 → T q = S q) → T 18 = A → T 16 = sf_it (S y) M k → wY_substitute_228 post J x1 x2 (nI y) (nI i) (nI e) n (nI k) c pla tri tab := by
  intro n
  induction n with
  | zero => intro k T tab hn; exact absurd hn (Nat.not_lt_zero _)
  | succ n ih =>
    intro k T tab hn hk h hS h18 h16
    unfold wY_substitute_228
    rcases Nat.lt_or_ge k e with z | z
    · refine br_f (nI_ge z (by omega)) ?_
      refine sf_ytimes (t := 17) (x := 16) (y := y) (by decide) (by decide) (by omega) (by decide) (by omega) P h fun tab1 h1 => ?_
      refine sf_ycopy (r := 16) (q := 17) (by decide) (by decide) (by decide) h1 fun tab2 h2 => ?_
      intro x' ex
      rw [ex, nI_1]
      rw [sf_tus] at h2
      refine ih (k + 1) _ tab2 (by omega) z h2 (fun q hq => ?_) ?_ ?_
      · rw [sf_tun (by omega), sf_tun (by omega)]; exact hS q hq
      · rw [sf_tun (by decide), sf_tun (by decide)]; exact h18
      · rw [sf_tus, h16, hS y hy]; rfl
    · have ek : k = e := by omega
      subst ek
      refine br_t (Int32.le_refl _) (sf_yadd h fun tab1 h1 => ?_)
      intro x' ex
      rw [ex, nI_1]
      refine kk _ tab1 h1 (fun q hq => ?_) fun j hj => ?_
      · rw [sf_tun (by omega)]; exact hS q hq
      · rw [sf_tus, h18, h16]
theorem sf_ysub_out {S : Nat → Nat → Nat} {x y m w : Nat} {v : Int32} (hm : m < 16) (hx : x < 16) (hy : y < 16) (hv : sf_isS v w) (P : sf_YP pla tri)
    (kk : ∀ T tab, sf_YR T tab → (∀ q, q < 16 → q ≠ m → T q = S q) → (∀ k, k < 84 → T m k = sf_ho (S x) (S y) w 0 k) → post (nI m) (nI (m + 1), pla, tri, tab)) : ∀ n i T tab, 84 - i < n → i ≤ 84 → sf_YR T tab → (∀ q, q < 16 → T q = S q) → (∀ k, k < 84 → T 18 k = sf_sm (fun j => sf_it (S y) (sf_mo (S x) w j) (sf_dg w (sf_tp j)) k) i % 10007) → wY_substitute_141 post (nI x) v (nI y) n (nI i) (nI m) pla tri tab := by
  have hw := sf_isS_W hv
  intro n
  induction n with
  | zero => intro i T tab hn; exact absurd hn (Nat.not_lt_zero _)
  | succ n ih =>
    intro i T tab hn hi h hS h18
    unfold wY_substitute_141
    rcases Nat.lt_or_ge i 84 with z | z
    · have A := sf_yat (r := x) h (by omega) z
      rw [hS x hx] at A
      have ti := sf_tp_lt z
      have si := sf_tp_sz z
      have d6 := sf_dg_le hw ti
      have dO := sf_dg_out hw ti
      have vi : vp_in (nI i) 84 := vp_in_nI z (by decide)
      rw [sf_ix, A.1, sf_tri P z]
      refine br_f (nI_ge (b := 84) z (by decide)) ⟨A.2.2, br_c (fun e => nm_r (nI_1 i) ?_) fun e => ⟨vi, sf_partY hv ti ?_⟩⟩
      · have e0 : S x i = 0 := (nI_eq (b := 0) (by omega) (by decide)).mp e
        refine ih (i + 1) T tab (by omega) z h hS fun k hk => ?_
        rw [h18 k hk]
        show _ = (sf_sm (fun j => sf_it (S y) (sf_mo (S x) w j) (sf_dg w (sf_tp j)) k) i + sf_it (S y) (sf_mo (S x) w i) (sf_dg w (sf_tp i)) k) % 10007
        rw [sf_it_zero (R := sf_mo (S x) w i) (fun j _ => ?_) _ k hk, Nat.add_zero]
        unfold sf_mo
        by_cases y0 : j = sf_pl (sf_tp i - sf_dg w (sf_tp i) * w)
        · rw [if_pos y0, e0]
        · rw [if_neg y0]
      · refine sf_yzero (r := 16) (by decide) h fun tab1 h1 => ?_
        dsimp only
        have A1 := sf_yat (r := x) h1 (by omega) z
        rw [sf_tun (by omega), hS x hx] at A1
        refine ⟨vi, sf_wY hv ?_⟩
        have ep : pla (nI (sf_tp i - sf_dg w (sf_tp i) * w)).toNatClampNeg = nI (sf_pl (sf_tp i - sf_dg w (sf_tp i) * w)) := by rw [sf_cl (by omega)]; exact P.1 _ (by omega) (by omega)
        have e2 : 1344 + nI (sf_pl (sf_tp i - sf_dg w (sf_tp i) * w)) = nI (84 * 16 + sf_pl (sf_tp i - sf_dg w (sf_tp i) * w)) := nI_add 1344 _
        have pk := sf_pl_lt (t := sf_tp i - sf_dg w (sf_tp i) * w) (by omega) (by omega)
        rw [sf_tri P z, pk_mul, pk_sub d6.2.2, ep, e2, A1.1]
        refine ⟨vp_in_nI (by omega) (by decide), A1.2.2, vp_in_nI (by omega) (by decide), nm_e ⟨7, ?_⟩⟩
        have q := sf_yput (r := 16) h1 (by decide) pk A1.2.1
        rw [sf_tutu, sf_tus] at q
        refine sf_ysub_in (S := S) (M := sf_mo (S x) w i) (A := T 18) hy d6.2.1 P (fun T2 tab2 hY2 hS2 h182 => ih (i + 1) T2 tab2 (by omega) z hY2 hS2 fun k hk => ?_) 7 0 _ _ (by omega) (Nat.zero_le _) q (fun r hr => ?_) ?_ ?_
        · rw [h182 k hk, h18 k hk]
          show _ = (sf_sm (fun j => sf_it (S y) (sf_mo (S x) w j) (sf_dg w (sf_tp j)) k) i + sf_it (S y) (sf_mo (S x) w i) (sf_dg w (sf_tp i)) k) % 10007
          omega
        · rw [sf_tun (by omega)]; exact hS r hr
        · exact sf_tun (by decide)
        · rw [sf_tus]; rfl
    · have ei : i = 84 := by omega
      subst ei
      refine br_t (Int32.le_refl _) ?_
      refine sf_ycopy (r := 16) (q := 18) (by decide) (by decide) (by decide) h fun tab1 h1 => ?_
      refine sf_take hm h1 fun tab2 h2 => kk _ tab2 h2 (fun q hq ne => ?_) fun k hk => ?_
      · rw [sf_tun ne, sf_tun (by omega)]; exact hS q hq
      · rw [sf_tus, sf_tus, h18 k hk, sf_ho0]
theorem sf_yck_loop {c : Int32} {x w d : Nat} {v x3 : Int32} (hx : x < 24) (hv : sf_isS v w) (hd : d ≤ 7) (P : sf_YP pla tri) (h : sf_YR T tab) (k0 : (∃ i, i < 84 ∧ T x i ≠ 0 ∧ ¬ sf_ck w d (sf_tp i)) → post (-3) (c, pla, tri, tab)) (k1 : (∀ i, i < 84 → T x i ≠ 0 → sf_ck w d (sf_tp i)) → wpY_zero (fun u => match u with | (f, a, b, t) => ∃ n, wY_substitute_141 post (nI x) v x3 n 0 f a b t) (c, pla, tri, tab) 18) : ∀ n i, 84 - i < n → i ≤ 84 → (∀ j, j < i → T x j ≠ 0 → sf_ck w d (sf_tp j)) → wY_substitute_49 post (nI x) v x3 (nI d - 1) c pla tri tab n (nI i) := by
  have hw := sf_isS_W hv
  intro n
  induction n with
  | zero => intro i hn; exact absurd hn (Nat.not_lt_zero _)
  | succ n ih =>
    intro i hn hi ha
    unfold wY_substitute_49
    rcases Nat.lt_or_ge i 84 with z | z
    · have A := sf_yat h hx z
      have ti := sf_tp_lt z
      have si := sf_tp_sz z
      have d6 := sf_dg_le hw ti
      have vi : vp_in (nI i) 84 := vp_in_nI z (by decide)
      have go : (T x i ≠ 0 → sf_ck w d (sf_tp i)) → wY_substitute_49 post (nI x) v x3 (nI d - 1) c pla tri tab n (nI (i + 1)) := fun q => ih (i + 1) (by omega) z fun j hj hz => by
        by_cases y : j = i
        · subst y; exact q hz
        · exact ha j (by omega) hz
      have body : ∀ z0 : Int32, (nI (sf_sz (sf_tp i)) - nI (sf_dg w (sf_tp i)) + z0 ≤ 6 ↔ sf_ck w d (sf_tp i)) → wY_substitute_98 post (wY_substitute_49 post (nI x) v x3 (nI d - 1) c pla tri tab n) (nI x) v x3 (nI d - 1) (nI i) z0 (nI (sf_sz (sf_tp i)) - nI (sf_dg w (sf_tp i))) c pla tri tab := fun z0 hz => by
        unfold wY_substitute_98
        rw [sf_ix, A.1]
        refine nm_e ⟨A.2.2, br_c (fun e => nm_r (nI_1 i) (go fun q => ?_)) fun e => br_c (fun e' => nm_r (nI_1 i) (go fun _ => hz.mp e')) fun e' => k0 ⟨i, z, fun q => e (by rw [q]; rfl), fun q => e' (hz.mpr q)⟩⟩
        exact absurd ((nI_eq (b := 0) (by have := A.2.1; omega) (by decide)).mp e) q
      rw [sf_tri P z]
      refine br_f (nI_ge (b := 84) z (by decide)) ⟨vi, sf_partY hv ti ⟨vi, sf_sizeY ti ?_⟩⟩
      refine br_c (fun e => body 0 ?_) fun e => body _ (sf_ckI hw ti si hd)
      have e0 : sf_dg w (sf_tp i) = 0 := (nI_eq (b := 0) (by omega) (by decide)).mp e
      have q := sf_ckI (d := d) hw ti si hd
      rw [e0] at q ⊢
      rw [show nI 0 * (nI d - 1) = 0 from Int32.zero_mul] at q
      exact q
    · exact br_t (nI_le (a := 84) z (by omega)) (k1 fun j hj => ha j (by omega))
end
theorem sf_pl343 : sf_pl 343 = 84 := by decide +kernel
/-- the reference's constructor: the tables of places and triples -/
theorem sf_init_loop {post : SY → Prop} {tab : Nat → Int32} (k : ∀ pla tri, sf_YP pla tri → post (0, pla, tri, tab)) : ∀ n t pla tri, 343 - t < n → t ≤ 343 → (∀ s, s < t → sf_sz s ≤ 6 → pla s = nI (sf_pl s)) → (∀ s, s < t → ¬ sf_sz s ≤ 6 → pla s = -1) → (∀ i, i < sf_pl t → i < 84 → tri i = nI (sf_tp i)) → wY_init_34 post 0 n (nI (sf_pl t)) (nI t) pla tri tab := by
  intro n
  induction n with
  | zero => intro t pla tri hn; exact absurd hn (Nat.not_lt_zero _)
  | succ n ih =>
    intro t pla tri hn ht h1 h2 h3
    unfold wY_init_34
    rcases Nat.lt_or_ge t 343 with z | z
    · have vt : vp_in (nI t) 343 := vp_in_nI z (by decide)
      refine br_f (nI_ge (b := 343) z (by decide)) ⟨vt, nm_r (e' := upd pla t (-1)) (by rw [sf_cl (by omega)]) (sf_sizeY z ?_)⟩
      by_cases y : sf_sz t ≤ 6
      · have p84 := sf_pl_lt z y
        have q := ih (t + 1) (upd (upd pla t (-1)) t (nI (sf_pl t))) (upd tri (sf_pl t) (nI t)) (by omega) z
        rw [sf_pl_succ y] at q
        refine br_f (nI_nlt (a := 6) y (by decide)) (br_f (nI_ge (b := 84) p84 (by decide)) ⟨vt, nm_r (e' := upd (upd pla t (-1)) t (nI (sf_pl t))) (by rw [sf_cl (by omega)]) ⟨vp_in_nI p84 (by decide), nm_r (e' := upd tri (sf_pl t) (nI t)) (by rw [sf_cl (by omega)]) (nm_r (nI_1 _) (nm_r (nI_1 t) (q (fun s hs hz => ?_) (fun s hs hz => ?_) fun i hi hi' => ?_)))⟩⟩)
        · by_cases e : s = t
          · subst e; exact pk_us
          · rw [pk_un e, pk_un e]; exact h1 s (by omega) hz
        · by_cases e : s = t
          · subst e; exact absurd y hz
          · rw [pk_un e, pk_un e]; exact h2 s (by omega) hz
        · by_cases e : i = sf_pl t
          · rw [e, pk_us, sf_tp_pl z y]
          · rw [pk_un e]; exact h3 i (by omega) hi'
      · have q := ih (t + 1) (upd pla t (-1)) tri (by omega) z
        rw [sf_pl_skip y] at q
        have s18 : sf_sz t < 100 := by unfold sf_sz; omega
        refine br_t (nI_lt (a := 6) (by omega) (by omega)) (nm_r (nI_1 t) (q (fun s hs hz => ?_) (fun s hs hz => ?_) h3))
        · by_cases e : s = t
          · subst e; exact absurd hz y
          · rw [pk_un e]; exact h1 s (by omega) hz
        · by_cases e : s = t
          · subst e; exact pk_us
          · rw [pk_un e]; exact h2 s (by omega) hz
    · have e : t = 343 := by omega
      subst e
      exact br_t (Int32.le_refl _) (k pla tri ⟨h1, h2, fun i hi => h3 i (by rw [sf_pl343]; exact hi) hi⟩)
end
section
/-! part 13: the relation, and the calls that make no new expression -/
def i_Rel (k : Nat) (u : SX) (v : SY) : Prop := ∃ (m : Nat) (G : Nat → List (Nat × Nat)) (T : Nat → Nat → Nat) (tr fa sz pla tri tab : Nat → Int32), u = (nI m, tr, fa, sz) ∧ v = (nI m, pla, tri, tab) ∧ m ≤ 16 ∧ sf_XR G tr fa sz ∧ sf_YR T tab ∧ sf_YP pla tri ∧ ∀ x, x < m → sf_rl (G x) (T x)
theorem i_up {k : Nat} {u : SX} {v : SY} (h : i_Rel k u v) : i_Rel (k + 5) u v := h
theorem i_vc0 : wpX_init (fun u => wpY_init (fun v => i_Rel 0 u v)) := by
  unfold wpX_init wpY_init
  refine ⟨344, ?_⟩
  refine sf_init_loop (fun pla tri P => ?_) 344 0 (fun _ => 0) (fun _ => 0) (by decide) (by decide) (fun s hs => absurd hs (Nat.not_lt_zero _)) (fun s hs => absurd hs (Nat.not_lt_zero _)) (fun i hi => absurd hi (Nat.not_lt_zero _))
  refine ⟨0, fun _ => [], fun _ _ => 0, _, _, _, pla, tri, _, rfl, rfl, by decide, fun l _ => ⟨trivial, rfl, fun i p hp => by cases hp⟩, fun r _ i _ => ⟨rfl, show 0 < 10007 by decide⟩, P, fun x hx => absurd hx (Nat.not_lt_zero _)⟩
section
variable {k m : Nat} {G : Nat → List (Nat × Nat)} {T : Nat → Nat → Nat} {tr fa sz pla tri tab : Nat → Int32}
theorem sf_mk (hm : m ≤ 16) (hX : sf_XR G tr fa sz) (hY : sf_YR T tab) (P : sf_YP pla tri) (hR : ∀ x, x < m → sf_rl (G x) (T x)) : i_Rel k (nI m, tr, fa, sz) (nI m, pla, tri, tab) := ⟨m, G, T, tr, fa, sz, pla, tri, tab, rfl, rfl, hm, hX, hY, P, hR⟩
/-- a new expression -/
theorem sf_new {G' : Nat → List (Nat × Nat)} {T' : Nat → Nat → Nat} (hm : m < 16) (hX : sf_XR G' tr fa sz) (hG : ∀ l, l < 16 → l ≠ m → G' l = G l) (hY : sf_YR T' tab) (hT : ∀ q, q < 16 → q ≠ m → T' q = T q) (P : sf_YP pla tri) (hR : ∀ x, x < m → sf_rl (G x) (T x)) (h : sf_rl (G' m) (T' m)) : i_Rel k (nI (m + 1), tr, fa, sz) (nI (m + 1), pla, tri, tab) := by
  refine sf_mk (by omega) hX hY P fun x hx => ?_
  by_cases z : x = m
  · rw [z]; exact h
  · rw [hG x (by omega) z, hT x (by omega) z]
    exact hR x (by omega)
end
theorem sf_same_iff {A B : List (Nat × Nat)} {R S : Nat → Nat} (gA : sf_Gd A) (gB : sf_Gd B) (hA : sf_rl A R) (hB : sf_rl B S) : A = B ↔ ∀ i, i < 84 → R i = S i := by
  constructor
  · intro e i hi
    rw [hA i hi, hB i hi, e]
  · intro h
    exact sf_ext gA gB fun i hi => by rw [← hA i hi, ← hB i hi, h i hi]
theorem i_vc_clear {k : Nat} {u : SX} {v : SY} (I : i_Rel k u v) (hk : k + 5 ≤ 2560) : wpX_clear (fun r u' => wpY_clear (fun r' v' => r' = r ∧ i_Rel (k + 5) u' v') v) u := by
  obtain ⟨m, G, T, tr, fa, sz, pla, tri, tab, rfl, rfl, hm, hX, hY, P, hR⟩ := I
  unfold wpX_clear wpY_clear
  dsimp only
  exact ⟨rfl, sf_mk (m := 0) (by decide) hX hY P fun x hx => absurd hx (Nat.not_lt_zero _)⟩
theorem i_vc_expressions {k : Nat} {u : SX} {v : SY} (I : i_Rel k u v) (hk : k + 5 ≤ 2560) : wpX_expressions (fun r => wpY_expressions (fun r' => r' = r ∧ i_Rel (k + 5) u v) v) u := by
  obtain ⟨m, G, T, tr, fa, sz, pla, tri, tab, rfl, rfl, hm, hX, hY, P, hR⟩ := I
  unfold wpX_expressions wpY_expressions
  dsimp only
  exact ⟨rfl, sf_mk hm hX hY P hR⟩
theorem i_vc_same {k : Nat} {u : SX} {v : SY} (I : i_Rel k u v) (hk : k + 5 ≤ 2560) (v1 : Int32) (v2 : Int32) : wpX_same (fun r => wpY_same (fun r' => r' = r ∧ i_Rel (k + 5) u v) v v1 v2) u v1 v2 := by
  obtain ⟨m, G, T, tr, fa, sz, pla, tri, tab, rfl, rfl, hm, hX, hY, P, hR⟩ := I
  have I' : i_Rel (k + 5) (nI m, tr, fa, sz) (nI m, pla, tri, tab) := sf_mk hm hX hY P hR
  unfold wpX_same wpY_same
  dsimp only
  rcases sf_idx m hm v1 with b1 | ⟨x, hx, rfl⟩
  · exact sf_goodX0 b1 (br_t rfl (sf_badY1 b1 (br_f (by decide) ⟨rfl, I'⟩)))
  · refine sf_goodX1 hm hx (br_f (by decide) ?_)
    rcases sf_idx m hm v2 with b2 | ⟨y, hy, rfl⟩
    · exact sf_goodX0 b2 (br_t rfl (sf_badY0 hm hx (br_t rfl (sf_badY1 b2 (br_f (by decide) ⟨rfl, I'⟩)))))
    · refine sf_goodX1 hm hy (br_f (by decide) ?_)
      have iff := sf_same_iff (hX x (by omega)).1 (hX y (by omega)).1 (hR x hx) (hR y hy)
      refine sf_same (by omega) (by omega) hX (fun e => br_f (by decide) ?_) fun e => br_t rfl ?_
      · exact sf_badY0 hm hx (br_t rfl (sf_badY0 hm hy (br_t rfl (sf_yeq (by omega) (by omega) hY (fun _ => br_f (by decide) ⟨rfl, I'⟩) fun f => absurd (iff.mp e) f))))
      · exact sf_badY0 hm hx (br_t rfl (sf_badY0 hm hy (br_t rfl (sf_yeq (by omega) (by omega) hY (fun f => absurd (iff.mpr f) e) fun _ => br_t rfl ⟨rfl, I'⟩))))
theorem i_vc_degree {k : Nat} {u : SX} {v : SY} (I : i_Rel k u v) (hk : k + 5 ≤ 2560) (v1 : Int32) : wpX_degree (fun r => wpY_degree (fun r' => r' = r ∧ i_Rel (k + 5) u v) v v1) u v1 := by
  obtain ⟨m, G, T, tr, fa, sz, pla, tri, tab, rfl, rfl, hm, hX, hY, P, hR⟩ := I
  have I' : i_Rel (k + 5) (nI m, tr, fa, sz) (nI m, pla, tri, tab) := sf_mk hm hX hY P hR
  unfold wpX_degree wpY_degree
  dsimp only
  rcases sf_idx m hm v1 with b1 | ⟨x, hx, rfl⟩
  · exact sf_goodX0 b1 (br_t rfl (sf_badY1 b1 (br_f (by decide) ⟨rfl, I'⟩)))
  · refine sf_goodX1 hm hx (br_f (by decide) (sf_deg (by omega) hX fun d hd md => ?_))
    refine sf_badY0 hm hx (br_t rfl (sf_ydeg (by omega) P hY fun e he me => ⟨?_, I'⟩))
    rw [sf_mx_eq (hX x (by omega)).1 (hR x hx) md me]
theorem i_vc_degreeIn {k : Nat} {u : SX} {v : SY} (I : i_Rel k u v) (hk : k + 5 ≤ 2560) (v1 : Int32) (v2 : Int32) : wpX_degreeIn (fun r => wpY_degreeIn (fun r' => r' = r ∧ i_Rel (k + 5) u v) v v1 v2) u v1 v2 := by
  obtain ⟨m, G, T, tr, fa, sz, pla, tri, tab, rfl, rfl, hm, hX, hY, P, hR⟩ := I
  have I' : i_Rel (k + 5) (nI m, tr, fa, sz) (nI m, pla, tri, tab) := sf_mk hm hX hY P hR
  unfold wpX_degreeIn wpY_degreeIn
  dsimp only
  rcases sf_idx m hm v1 with b1 | ⟨x, hx, rfl⟩
  · exact sf_goodX0 b1 (br_t rfl (sf_badY1 b1 (br_f (by decide) ⟨rfl, I'⟩)))
  · refine sf_goodX1 hm hx (br_f (by decide) ?_)
    rcases sf_sym v2 with b2 | ⟨w, hw⟩
    · exact sf_symX0 b2 (br_t rfl (sf_badY0 hm hx (br_t rfl (sf_symY1 b2 (br_f (by decide) ⟨rfl, I'⟩)))))
    · refine sf_symX1 hw (br_f (by decide) (sf_wX hw (nm_r (e' := nI (84 * x + 0)) (sf_ix0 x) ⟨(G x).length + 1, ?_⟩)))
      rw [← sf_neg1]
      refine sf_din_loop (by omega) (sf_isS_W hw) hX (fun d hd md => ?_) _ 0 0 (by omega) (Nat.zero_le _) (by decide) (fun j p hj => absurd hj (Nat.not_lt_zero _)) (Or.inl rfl)
      refine sf_badY0 hm hx (br_t rfl (sf_symY0 hw (br_t rfl ⟨85, ?_⟩)))
      refine sf_ydin_loop (by omega) hw P hY (fun e he me => ⟨?_, I'⟩) 85 0 0 (by decide) (by decide) (by decide) (fun j hj => absurd hj (Nat.not_lt_zero _)) (Or.inl rfl)
      rw [sf_mx_eq (hX x (by omega)).1 (hR x hx) md me]
theorem i_vc_coefficient {k : Nat} {u : SX} {v : SY} (I : i_Rel k u v) (hk : k + 5 ≤ 2560) (v1 : Int32) (v2 : Int32) : wpX_coefficient (fun r => wpY_coefficient (fun r' => r' = r ∧ i_Rel (k + 5) u v) v v1 v2) u v1 v2 := by
  obtain ⟨m, G, T, tr, fa, sz, pla, tri, tab, rfl, rfl, hm, hX, hY, P, hR⟩ := I
  have I' : i_Rel (k + 5) (nI m, tr, fa, sz) (nI m, pla, tri, tab) := sf_mk hm hX hY P hR
  unfold wpX_coefficient wpY_coefficient
  dsimp only
  rcases sf_idx m hm v1 with b1 | ⟨x, hx, rfl⟩
  · exact sf_goodX0 b1 (br_t rfl (sf_badY1 b1 (br_f (by decide) ⟨rfl, I'⟩)))
  · have g := (hX x (by omega)).1
    have lx := sf_xlen hX (l := x) (by omega)
    refine sf_goodX1 hm hx (br_f (by decide) (br_c (fun h0 => sf_badY0 hm hx (br_t rfl (br_t h0 ⟨rfl, I'⟩))) fun h0 => br_c (fun h3 => ?_) fun h3 => sf_badY0 hm hx (br_t rfl (br_f h0 (br_f h3 ⟨rfl, I'⟩)))))
    obtain ⟨t, ht, rfl⟩ := nI_of2 (M := 342) (n := 342) (by decide) h0 h3
    have ht' : t < 343 := by omega
    refine nm_r (e' := nI (84 * x + 0)) (sf_ix0 x) ⟨vp_in_nI (by omega) (by decide), nm_r (e' := nI (84 * x + (G x).length) - 1) (by rw [sf_xsz hX (by omega), nI_add]; rfl) ⟨9, ?_⟩⟩
    refine sf_coef_loop (t := t) (by omega) ht' hX ?_ 9 0 (G x).length 0 (by decide) (by decide) (Nat.zero_le _) (Nat.le_refl _) (by omega) fun j p hj _ => ⟨Nat.zero_le _, sf_get_lt hj⟩
    have vt : vp_in (nI t) 343 := vp_in_nI ht' (by decide)
    refine sf_badY0 hm hx (br_t rfl (br_f h0 (br_t h3 ⟨vt, ?_⟩)))
    rw [sf_cl (by omega)]
    by_cases s : sf_sz t ≤ 6
    · have pl := sf_pl_lt ht' s
      have A := sf_yat (r := x) hY (by omega) pl
      rw [P.1 t ht' s, sf_ix, A.1]
      refine br_t (nI_pos' (by omega)) ⟨vt, A.2.2, ?_, I'⟩
      rw [hR x hx _ pl, sf_tp_pl ht' s]
    · rw [P.2.1 t ht' s]
      have c0 : sf_cf (G x) t = 0 := Decidable.not_not.mp fun y => s (sf_cf_sup g y).2
      refine br_f (by decide) ⟨?_, I'⟩
      rw [c0]; rfl
theorem i_vc_terms {k : Nat} {u : SX} {v : SY} (I : i_Rel k u v) (hk : k + 5 ≤ 2560) (v1 : Int32) : wpX_terms (fun r => wpY_terms (fun r' => r' = r ∧ i_Rel (k + 5) u v) v v1) u v1 := by
  obtain ⟨m, G, T, tr, fa, sz, pla, tri, tab, rfl, rfl, hm, hX, hY, P, hR⟩ := I
  have I' : i_Rel (k + 5) (nI m, tr, fa, sz) (nI m, pla, tri, tab) := sf_mk hm hX hY P hR
  unfold wpX_terms wpY_terms
  dsimp only
  rcases sf_idx m hm v1 with b1 | ⟨x, hx, rfl⟩
  · exact sf_goodX0 b1 (br_t rfl (sf_badY1 b1 (br_f (by decide) ⟨rfl, I'⟩)))
  · refine sf_goodX1 hm hx (br_f (by decide) ⟨vp_in_nI (by omega) (by decide), ?_⟩)
    refine sf_badY0 hm hx (br_t rfl ⟨85, sf_terms_loop (x := x) (by omega) hY ⟨?_, I'⟩ 85 0 (by decide) (by decide)⟩)
    rw [sf_xsz hX (by omega), ← sf_canon (hX x (by omega)).1 (hR x hx)]
theorem sf_83 : nI 84 - 1 = 83 := by decide +kernel
theorem i_vc_term {k : Nat} {u : SX} {v : SY} (I : i_Rel k u v) (hk : k + 5 ≤ 2560) (v1 : Int32) (v2 : Int32) : wpX_term (fun r => wpY_term (fun r' => r' = r ∧ i_Rel (k + 5) u v) v v1 v2) u v1 v2 := by
  obtain ⟨m, G, T, tr, fa, sz, pla, tri, tab, rfl, rfl, hm, hX, hY, P, hR⟩ := I
  have I' : i_Rel (k + 5) (nI m, tr, fa, sz) (nI m, pla, tri, tab) := sf_mk hm hX hY P hR
  unfold wpX_term wpY_term
  dsimp only
  rcases sf_idx m hm v1 with b1 | ⟨x, hx, rfl⟩
  · exact sf_goodX0 b1 (br_t rfl (sf_badY1 b1 (br_f (by decide) ⟨rfl, I'⟩)))
  · have ec := sf_canon (hX x (by omega)).1 (hR x hx)
    have lx := sf_xlen hX (l := x) (by omega)
    have go : ∀ r : Int32, ((∀ j, j < (G x).length → nI (0 + j) ≠ v2) ∧ r = -2) ∨ (∃ j p, v2 = nI (0 + j) ∧ (G x)[j]? = some p ∧ r = nI p.1) → wpY_bad (fun r_1 => ((r_1 = 0 → (∃ n16 : Nat, wY_term_16 (fun r' => r' = r ∧ i_Rel (k + 5) (nI m, tr, fa, sz) (nI m, pla, tri, tab)) (nI x) v2 (nI m) pla tri tab n16 0 83)) ∧ (¬ r_1 = 0 → (-1 = r ∧ i_Rel (k + 5) (nI m, tr, fa, sz) (nI m, pla, tri, tab))))) (nI m, pla, tri, tab) (nI x) := fun r hr => by
      refine sf_badY0 hm hx (br_t rfl ⟨85, ?_⟩)
      rw [← sf_83]
      refine sf_term_loop (x := x) (by omega) P hY 85 84 0 (by decide) (by decide) (by decide) ?_
      rw [← ec]
      rcases hr with ⟨a, b⟩ | ⟨j, p, a, b, c⟩
      · exact Or.inl ⟨a, b.symm, I'⟩
      · exact Or.inr ⟨j, p, a, b, c.symm, I'⟩
    refine sf_goodX1 hm hx (br_f (by decide) (br_c (fun h0 => go _ (Or.inl ⟨fun j hj e => ?_, rfl⟩)) fun h0 => ⟨vp_in_nI (by omega) (by decide), ?_⟩))
    · rw [← e] at h0
      exact absurd h0 (nI_pos (by omega))
    · rw [sf_xsz hX (by omega)]
      obtain ⟨i, hi, rfl⟩ := nI_of h0
      rcases Nat.lt_or_ge i (G x).length with z | z
      · obtain ⟨p, hp, _⟩ := sf_drop z
        have A := sf_xat (l := x) hX (by omega) hp
        rw [sf_ix, A.1]
        exact br_f (nI_ge z (by omega)) ⟨vp_in_nI A.2.2.2.2 (by decide), go _ (Or.inr ⟨i, p, by rw [Nat.zero_add], hp, rfl⟩)⟩
      · refine br_t (nI_le z hi) (go _ (Or.inl ⟨fun j hj e => ?_, rfl⟩))
        have := (nI_eq (by omega) hi).mp e
        omega
theorem i_vc_value {k : Nat} {u : SX} {v : SY} (I : i_Rel k u v) (hk : k + 5 ≤ 2560) (v1 : Int32) (v2 : Int32) (v3 : Int32) (v4 : Int32) : wpX_value (fun r => wpY_value (fun r' => r' = r ∧ i_Rel (k + 5) u v) v v1 v2 v3 v4) u v1 v2 v3 v4 := by
  obtain ⟨m, G, T, tr, fa, sz, pla, tri, tab, rfl, rfl, hm, hX, hY, P, hR⟩ := I
  have I' : i_Rel (k + 5) (nI m, tr, fa, sz) (nI m, pla, tri, tab) := sf_mk hm hX hY P hR
  unfold wpX_value wpY_value
  dsimp only
  rcases sf_idx m hm v1 with b1 | ⟨x, hx, rfl⟩
  · exact sf_goodX0 b1 (br_t rfl (sf_badY1 b1 (br_f (by decide) ⟨rfl, I'⟩)))
  · obtain ⟨a, ha, _, ra⟩ := sf_red v2
    obtain ⟨b, hb, _, rb⟩ := sf_red v3
    obtain ⟨c, hc, _, rc⟩ := sf_red v4
    refine sf_goodX1 hm hx (br_f (by decide) (sf_redX ra (sf_redX rb (sf_redX rc (nm_r (e' := nI (84 * x + 0)) (sf_ix0 x) ⟨(G x).length + 1, ?_⟩)))))
    refine sf_val_loop (x := x) (by omega) ha hb hc hX _ 0 0 (by omega) (Nat.zero_le _) (by decide) ?_
    refine sf_badY0 hm hx (br_t rfl (sf_redY ra (sf_redY rb (sf_redY rc ⟨85, ?_⟩))))
    refine sf_yval_loop (x := x) (by omega) ha hb hc P hY ⟨?_, I'⟩ 85 0 (by decide) (by decide)
    rw [Nat.zero_add]
    show _ = nI (sf_ls (fun p => p.2 * sf_mon a b c p.1) (G x) % 10007)
    rw [sf_ls_rl (hX x (by omega)).1 (hR x hx) fun t => Nat.zero_mul _]
theorem i_vc_kinds {k : Nat} {u : SX} {v : SY} (I : i_Rel k u v) (hk : k + 5 ≤ 2560) : wpX_kinds (fun r => wpY_kinds (fun r' => r' = r ∧ i_Rel (k + 5) u v) v) u := by
  obtain ⟨m, G, T, tr, fa, sz, pla, tri, tab, rfl, rfl, hm, hX, hY, P, hR⟩ := I
  have I' : i_Rel (k + 5) (nI m, tr, fa, sz) (nI m, pla, tri, tab) := sf_mk hm hX hY P hR
  unfold wpX_kinds wpY_kinds
  dsimp only
  refine ⟨17, ?_⟩
  refine sf_xk_out (E := fun x y => decide (G x = G y)) hm hX (fun x y _ _ => decide_eq_true_iff.symm) ?_ 17 0 (by omega) (Nat.zero_le _)
  refine ⟨17, ?_⟩
  refine sf_yk_out (E := fun x y => decide (G x = G y)) hm hY (fun x y hx hy => ?_) ⟨rfl, I'⟩ 17 0 (by omega) (Nat.zero_le _)
  exact (sf_same_iff (hX x (by omega)).1 (hX y (by omega)).1 (hR x hx) (hR y hy)).symm.trans decide_eq_true_iff.symm
end
section
/-! part 14: the calls that make a new expression -/
theorem sf_e16 : (nI (84 * 16 + 0)).toNatClampNeg = 1344 := sf_cl (by decide)
theorem sf_n16 {m : Nat} (h : m < 16) : ¬ nI m = 16 := fun e => absurd ((nI_eq (b := 16) (by omega) (by decide)).mp e) (by omega)
theorem sf_rl1 {t v : Nat} (ht : t < 343) (hs : sf_sz t ≤ 6) : sf_rl (sf_a1 t v) (fun k => if k = sf_pl t then v else 0) := fun i hi => by
  have a := sf_a1_cf (t := t) (v := v) (L := []) (fun x hx => by cases hx) (sf_tp i)
  rw [List.append_nil] at a
  rw [a]
  show (if i = sf_pl t then v else 0) = _
  by_cases z : i = sf_pl t
  · rw [if_pos z, z, sf_tp_pl ht hs, if_pos rfl]
  · rw [if_neg z]
    refine (if_neg fun e => z ?_).symm
    rw [e, sf_pl_tp hi]
theorem i_vc_symbol {k : Nat} {u : SX} {v : SY} (I : i_Rel k u v) (hk : k + 5 ≤ 2560) (v1 : Int32) : wpX_symbol (fun r u' => wpY_symbol (fun r' v' => r' = r ∧ i_Rel (k + 5) u' v') v v1) u v1 := by
  obtain ⟨m, G, T, tr, fa, sz, pla, tri, tab, rfl, rfl, hm, hX, hY, P, hR⟩ := I
  have I' : i_Rel (k + 5) (nI m, tr, fa, sz) (nI m, pla, tri, tab) := sf_mk hm hX hY P hR
  unfold wpX_symbol wpY_symbol
  dsimp only
  rcases sf_sym v1 with b1 | ⟨w, hw⟩
  · exact sf_symX0 b1 (br_t rfl (sf_symY1 b1 (br_f (by decide) ⟨rfl, I'⟩)))
  · refine sf_symX1 hw (br_f (by decide) ?_)
    by_cases z : m = 16
    · subst z
      exact br_t rfl (sf_symY0 hw (br_t rfl (sf_full1 (br_f (by decide) ⟨rfl, I'⟩))))
    · have hm' : m < 16 := by omega
      have W := sf_W_pos (sf_isS_W hw)
      refine br_f (sf_n16 hm') (sf_wX hw ?_)
      refine sf_single (l := m) (t := w) (v := 1) (by omega) (by decide) W.2.1 (by omega) hX fun tr' fa' sz' h' => ?_
      intro c ec
      rw [ec, nI_1, nI_pred]
      refine sf_symY0 hw (br_t rfl (sf_full0 hm' (br_t rfl (sf_yzero (r := 16) (by decide) hY fun tab1 h1 => ?_))))
      refine sf_wY hw ?_
      have ep : pla (nI w).toNatClampNeg = nI (sf_pl w) := by rw [sf_cl (by omega)]; exact P.1 w W.2.1 (by omega)
      have pk := sf_pl_lt W.2.1 (by omega)
      have e2 : 1344 + nI (sf_pl w) = nI (84 * 16 + sf_pl w) := nI_add 1344 _
      dsimp only
      rw [ep, e2]
      refine ⟨vp_in_nI W.2.1 (by decide), vp_in_nI (by omega) (by decide), nm_e ?_⟩
      have q := sf_yput (r := 16) (v := 1) h1 (by decide) pk (by decide)
      rw [sf_tutu, sf_tus] at q
      refine sf_take hm' q fun tab2 h2 => And.intro rfl ?_
      rw [sf_tus] at h2
      refine sf_new (G := G) (T := T) hm' h' (fun l _ ne => sf_gun ne) h2 (fun q hq ne => ?_) P hR ?_
      · rw [sf_tun ne, sf_tun (by omega)]
      · rw [sf_gus, sf_tus]
        exact sf_rl1 W.2.1 (by omega)
theorem i_vc_number {k : Nat} {u : SX} {v : SY} (I : i_Rel k u v) (hk : k + 5 ≤ 2560) (v1 : Int32) : wpX_number (fun r u' => wpY_number (fun r' v' => r' = r ∧ i_Rel (k + 5) u' v') v v1) u v1 := by
  obtain ⟨m, G, T, tr, fa, sz, pla, tri, tab, rfl, rfl, hm, hX, hY, P, hR⟩ := I
  have I' : i_Rel (k + 5) (nI m, tr, fa, sz) (nI m, pla, tri, tab) := sf_mk hm hX hY P hR
  unfold wpX_number wpY_number
  dsimp only
  by_cases z : m = 16
  · subst z
    exact br_t rfl (sf_full1 (br_f (by decide) ⟨rfl, I'⟩))
  · have hm' : m < 16 := by omega
    obtain ⟨a, ha, _, ra⟩ := sf_red v1
    refine br_f (sf_n16 hm') (sf_redX ra ?_)
    refine sf_single (l := m) (t := 0) (v := a) (by omega) ha (by decide) (by decide) hX fun tr' fa' sz' h' => ?_
    intro c ec
    rw [ec, nI_1, nI_pred]
    refine sf_full0 hm' (br_t rfl (sf_yzero (r := 16) (by decide) hY fun tab1 h1 => ?_))
    refine sf_redY ra (nm_e ?_)
    have q := sf_yput (r := 16) (i := 0) (v := a) h1 (by decide) (by decide) ha
    rw [sf_tutu, sf_tus, sf_e16] at q
    refine sf_take hm' q fun tab2 h2 => And.intro rfl ?_
    rw [sf_tus] at h2
    refine sf_new (G := G) (T := T) hm' h' (fun l _ ne => sf_gun ne) h2 (fun q hq ne => ?_) P hR ?_
    · rw [sf_tun ne, sf_tun (by omega)]
    · rw [sf_gus, sf_tus]
      exact sf_rl1 (t := 0) (by decide) (by decide)
theorem i_vc_add {k : Nat} {u : SX} {v : SY} (I : i_Rel k u v) (hk : k + 5 ≤ 2560) (v1 : Int32) (v2 : Int32) : wpX_add (fun r u' => wpY_add (fun r' v' => r' = r ∧ i_Rel (k + 5) u' v') v v1 v2) u v1 v2 := by
  obtain ⟨m, G, T, tr, fa, sz, pla, tri, tab, rfl, rfl, hm, hX, hY, P, hR⟩ := I
  have I' : i_Rel (k + 5) (nI m, tr, fa, sz) (nI m, pla, tri, tab) := sf_mk hm hX hY P hR
  unfold wpX_add wpY_add
  dsimp only
  unfold wpY_combine
  dsimp only
  rcases sf_idx m hm v1 with b1 | ⟨x, hx, rfl⟩
  · exact sf_ref1 b1 (br_f (by decide) (sf_badY1 b1 (br_f (by decide) ⟨rfl, I'⟩)))
  rcases sf_idx m hm v2 with b2 | ⟨y, hy, rfl⟩
  · exact sf_ref2 hm hx b2 (br_f (by decide) (sf_badY0 hm hx (br_t rfl (sf_badY1 b2 (br_f (by decide) ⟨rfl, I'⟩)))))
  by_cases z : m = 16
  · subst z
    exact sf_ref3 hx hy (br_f (by decide) (sf_badY0 hm hx (br_t rfl (sf_badY0 hm hy (br_t rfl (sf_full1 (br_f (by decide) ⟨rfl, I'⟩)))))))
  have hm' : m < 16 := by omega
  have gx := (hX x (by omega)).1
  have gy := (hX y (by omega)).1
  refine sf_ref0 hm' hx hy (br_t (by decide) ?_)
  have g := sf_mg_gd (f := 1) (sh := 0) (by decide) (G x) (G y) gx gy fun b hb => by
    have := (sf_gd_mem gy hb).2.1
    rw [sf_sz0]; omega
  refine sf_merge (to := m) (a := x) (b := y) (f := 1) (sh := 0) (by omega) (by omega) (by omega) (by omega) (by omega) (by decide) (by decide) hX g fun tr' fa' sz' h' => ?_
  intro c ec
  rw [ec, nI_1, nI_pred]
  refine sf_badY0 hm hx (br_t rfl (sf_badY0 hm hy (br_t rfl (sf_full0 hm' (br_t rfl ⟨85, ?_⟩)))))
  refine sf_comb_loop (T := T) (x := x) (y := y) (m := m) (F := fun i => (T x i + 1 * T y i) % 10007) hm' (by omega) (by omega) (fun i hi => sf_rc_add (hY x (by omega) i hi).2 (hY y (by omega) i hi).2) (fun tab' h2 => And.intro rfl ?_) 85 0 tab (by decide) (by decide) (sf_yel0 hY)
  refine sf_new (G := G) (T := T) hm' h' (fun l _ ne => sf_gun ne) h2 (fun q hq ne => ?_) P hR fun i hi => ?_
  · rw [sf_tun ne, sf_tun (by omega)]
  · rw [sf_gus, sf_tus, sf_mg_cf 1 0 _ _ _ gx gy]
    unfold sf_cs
    rw [if_pos (Nat.zero_le _), Nat.sub_zero, hR x hx i hi, hR y hy i hi]
theorem i_vc_subtract {k : Nat} {u : SX} {v : SY} (I : i_Rel k u v) (hk : k + 5 ≤ 2560) (v1 : Int32) (v2 : Int32) : wpX_subtract (fun r u' => wpY_subtract (fun r' v' => r' = r ∧ i_Rel (k + 5) u' v') v v1 v2) u v1 v2 := by
  obtain ⟨m, G, T, tr, fa, sz, pla, tri, tab, rfl, rfl, hm, hX, hY, P, hR⟩ := I
  have I' : i_Rel (k + 5) (nI m, tr, fa, sz) (nI m, pla, tri, tab) := sf_mk hm hX hY P hR
  unfold wpX_subtract wpY_subtract
  dsimp only
  unfold wpY_combine
  dsimp only
  rcases sf_idx m hm v1 with b1 | ⟨x, hx, rfl⟩
  · exact sf_ref1 b1 (br_f (by decide) (sf_badY1 b1 (br_f (by decide) ⟨rfl, I'⟩)))
  rcases sf_idx m hm v2 with b2 | ⟨y, hy, rfl⟩
  · exact sf_ref2 hm hx b2 (br_f (by decide) (sf_badY0 hm hx (br_t rfl (sf_badY1 b2 (br_f (by decide) ⟨rfl, I'⟩)))))
  by_cases z : m = 16
  · subst z
    exact sf_ref3 hx hy (br_f (by decide) (sf_badY0 hm hx (br_t rfl (sf_badY0 hm hy (br_t rfl (sf_full1 (br_f (by decide) ⟨rfl, I'⟩)))))))
  have hm' : m < 16 := by omega
  have gx := (hX x (by omega)).1
  have gy := (hX y (by omega)).1
  refine sf_ref0 hm' hx hy (br_t (by decide) ?_)
  have g := sf_mg_gd (f := 10006) (sh := 0) (by decide) (G x) (G y) gx gy fun b hb => by
    have := (sf_gd_mem gy hb).2.1
    rw [sf_sz0]; omega
  refine sf_merge (to := m) (a := x) (b := y) (f := 10006) (sh := 0) (by omega) (by omega) (by omega) (by omega) (by omega) (by decide) (by decide) hX g fun tr' fa' sz' h' => ?_
  intro c ec
  rw [ec, nI_1, nI_pred]
  refine sf_badY0 hm hx (br_t rfl (sf_badY0 hm hy (br_t rfl (sf_full0 hm' (br_t rfl ⟨85, ?_⟩)))))
  refine sf_comb_loop (T := T) (x := x) (y := y) (m := m) (F := fun i => (T x i + 10006 * T y i) % 10007) hm' (by omega) (by omega) (fun i hi => sf_rc_sub (hY x (by omega) i hi).2 (hY y (by omega) i hi).2) (fun tab' h2 => And.intro rfl ?_) 85 0 tab (by decide) (by decide) (sf_yel0 hY)
  refine sf_new (G := G) (T := T) hm' h' (fun l _ ne => sf_gun ne) h2 (fun q hq ne => ?_) P hR fun i hi => ?_
  · rw [sf_tun ne, sf_tun (by omega)]
  · rw [sf_gus, sf_tus, sf_mg_cf 10006 0 _ _ _ gx gy]
    unfold sf_cs
    rw [if_pos (Nat.zero_le _), Nat.sub_zero, hR x hx i hi, hR y hy i hi]
theorem sf_mulT1 : ∀ d, d < 8 → ∀ e, e < 8 → nI d - 1 + (nI e - 1) ≤ 6 → d = 0 ∨ e = 0 ∨ d - 1 + (e - 1) ≤ 6 := by decide +kernel
theorem sf_mulT2 : ∀ d, d < 8 → ∀ e, e < 8 → ¬ nI d - 1 + (nI e - 1) ≤ 6 → ¬ nI d - 1 < 0 ∧ ¬ nI e - 1 < 0 := by decide +kernel
theorem i_vc_multiply {k : Nat} {u : SX} {v : SY} (I : i_Rel k u v) (hk : k + 5 ≤ 2560) (v1 : Int32) (v2 : Int32) : wpX_multiply (fun r u' => wpY_multiply (fun r' v' => r' = r ∧ i_Rel (k + 5) u' v') v v1 v2) u v1 v2 := by
  obtain ⟨m, G, T, tr, fa, sz, pla, tri, tab, rfl, rfl, hm, hX, hY, P, hR⟩ := I
  have I' : i_Rel (k + 5) (nI m, tr, fa, sz) (nI m, pla, tri, tab) := sf_mk hm hX hY P hR
  unfold wpX_multiply
  dsimp only
  rcases sf_idx m hm v1 with b1 | ⟨x, hx, rfl⟩
  · refine sf_ref1 b1 (br_f (by decide) ?_)
    unfold wpY_multiply
    dsimp only
    exact sf_badY1 b1 (br_f (by decide) ⟨rfl, I'⟩)
  rcases sf_idx m hm v2 with b2 | ⟨y, hy, rfl⟩
  · refine sf_ref2 hm hx b2 (br_f (by decide) ?_)
    unfold wpY_multiply
    dsimp only
    exact sf_badY0 hm hx (br_t rfl (sf_badY1 b2 (br_f (by decide) ⟨rfl, I'⟩)))
  by_cases z : m = 16
  · subst z
    refine sf_ref3 hx hy (br_f (by decide) ?_)
    unfold wpY_multiply
    dsimp only
    exact sf_badY0 hm hx (br_t rfl (sf_badY0 hm hy (br_t rfl (sf_full1 (br_f (by decide) ⟨rfl, I'⟩)))))
  have hm' : m < 16 := by omega
  have gx := (hX x (by omega)).1
  have gy := (hX y (by omega)).1
  refine sf_ref0 hm' hx hy (br_t (by decide) (sf_deg (x := x) (by omega) hX fun d hd md => sf_deg (x := y) (by omega) hX fun e he me => ?_))
  have Y : ∀ (post : Int32 → SY → Prop), (nI d - 1 + (nI e - 1) ≤ 6 → wY_multiply_62 post (nI x) (nI y) (nI m) pla tri tab) → (¬ nI d - 1 + (nI e - 1) ≤ 6 → post (-3) (nI m, pla, tri, tab)) → wpY_multiply post (nI m, pla, tri, tab) (nI x) (nI y) := fun post k1 k0 => by
    unfold wpY_multiply
    dsimp only
    refine sf_badY0 hm hx (br_t rfl (sf_badY0 hm hy (br_t rfl (sf_full0 hm' (br_t rfl (sf_ydeg (x := x) (by omega) P hY fun d' hd' md' => sf_ydeg (x := y) (by omega) P hY fun e' he' me' => ?_))))))
    rw [← sf_mx_eq gx (hR x hx) md md', ← sf_mx_eq gy (hR y hy) me me']
    by_cases c : nI d - 1 + (nI e - 1) ≤ 6
    · exact br_c (fun _ => k1 c) fun _ => br_c (fun _ => k1 c) fun _ => br_t c (k1 c)
    · have n := sf_mulT2 d (by omega) e (by omega) c
      exact br_f n.1 (br_f n.2 (br_f c (k0 c)))
  by_cases c : nI d - 1 + (nI e - 1) ≤ 6
  · refine br_t c ?_
    have pr : sf_pr (G x) (G y) := fun a ha b hb => by
      have p := md.1 a ha
      have q := me.1 b hb
      have := sf_mulT1 d (by omega) e (by omega) c
      omega
    refine sf_mul (to := m) (x := x) (y := y) (by omega) (by omega) (by omega) (by omega) (by omega) (by omega) (by omega) (by omega) hX pr fun H tr' fa' sz' h' f' e' => ?_
    intro c' ec
    rw [ec, nI_1, nI_pred]
    refine Y _ (fun _ => ?_) fun n => absurd c n
    unfold wY_multiply_62
    refine sf_ytimes (t := 16) (x := x) (y := y) (by decide) (by omega) (by omega) (by omega) (by omega) P hY fun tab1 h1 => ?_
    refine sf_take hm' h1 fun tab2 h2 => And.intro rfl ?_
    rw [sf_tus] at h2
    refine sf_new (G := G) (T := T) hm' h' (fun l hl ne => f' l (by omega) (by omega) (by omega) ne) h2 (fun q hq ne => ?_) P hR ?_
    · rw [sf_tun ne, sf_tun (by omega)]
    · rw [e', sf_tus]
      exact sf_xm_rl gx gy (hR x hx) (hR y hy) pr
  · exact br_f c (Y _ (fun n => absurd n c) fun _ => And.intro rfl I')
theorem sf_powT : ∀ d, d < 8 → ∀ e, e < 7 → ((nI d - 1) * nI e ≤ 6 ↔ (d = 0 ∨ (d - 1) * e ≤ 6)) := by decide +kernel
theorem i_vc_power {k : Nat} {u : SX} {v : SY} (I : i_Rel k u v) (hk : k + 5 ≤ 2560) (v1 : Int32) (v2 : Int32) : wpX_power (fun r u' => wpY_power (fun r' v' => r' = r ∧ i_Rel (k + 5) u' v') v v1 v2) u v1 v2 := by
  obtain ⟨m, G, T, tr, fa, sz, pla, tri, tab, rfl, rfl, hm, hX, hY, P, hR⟩ := I
  have I' : i_Rel (k + 5) (nI m, tr, fa, sz) (nI m, pla, tri, tab) := sf_mk hm hX hY P hR
  unfold wpX_power wpY_power
  dsimp only
  rcases sf_idx m hm v1 with b1 | ⟨x, hx, rfl⟩
  · exact sf_ref1 b1 (br_f (by decide) (sf_badY1 b1 (br_f (by decide) ⟨rfl, I'⟩)))
  by_cases z : m = 16
  · subst z
    exact sf_ref3 hx hx (br_f (by decide) (sf_badY0 hm hx (br_t rfl (sf_full1 (br_f (by decide) ⟨rfl, I'⟩)))))
  have hm' : m < 16 := by omega
  have gx := (hX x (by omega)).1
  refine sf_ref0 hm' hx hx (br_t (by decide) ?_)
  refine br_c (fun h0 => sf_badY0 hm hx (br_t rfl (sf_full0 hm' (br_t rfl (br_t h0 ⟨rfl, I'⟩))))) fun h0 => br_c (fun h6 => ?_) fun h6 => sf_badY0 hm hx (br_t rfl (sf_full0 hm' (br_t rfl (br_f h0 (br_f h6 ⟨rfl, I'⟩)))))
  obtain ⟨e, he, rfl⟩ := nI_of2 (M := 6) (n := 6) (by decide) h0 h6
  refine sf_deg (x := x) (by omega) hX fun d hd md => ?_
  have T1 := sf_powT d (by omega) e (by omega)
  by_cases c : (nI d - 1) * nI e ≤ 6
  · refine br_t c (sf_single (l := 18) (t := 0) (v := 1) (by decide) (by decide) (by decide) (by decide) hX fun tr1 fa1 sz1 h1 => ⟨e + 1, ?_⟩)
    have cc := T1.mp c
    refine sf_xpow_loop (F := G) (d := d) hm' hx he gx md (fun h => by omega) (fun H tr' fa' sz' h' fH pH => ?_) (e + 1) 0 (sf_gu G 18 [(0, 1)]) tr1 fa1 sz1 (by omega) (Nat.zero_le _) h1 (fun l hl => sf_gun (by omega)) (by rw [sf_gus]; exact sf_pI_0)
    refine sf_badY0 hm hx (br_t rfl (sf_full0 hm' (br_t rfl (br_f h0 (br_t h6 (sf_ydeg (x := x) (by omega) P hY fun d' hd' md' => ?_))))))
    rw [← sf_mx_eq gx (hR x hx) md md']
    refine br_t c (sf_yzero (r := 16) (by decide) hY fun tab1 hY1 => nm_e ⟨e + 1, ?_⟩)
    have q := sf_yput (r := 16) (i := 0) (v := 1) hY1 (by decide) (by decide) (by decide)
    rw [sf_tutu, sf_tus, sf_e16] at q
    refine sf_ypow_loop (S := T) hm' (by omega) he P (fun T' tab' hY' hT' eT' => And.intro rfl ?_) (e + 1) 0 _ _ (by omega) (Nat.zero_le _) q (fun r hr => sf_tun (by omega)) sf_tus
    refine sf_new (G := G) (T := T) hm' h' fH hY' hT' P hR ?_
    rw [eT']
    exact pH.2.2 _ (hR x hx)
  · refine br_f c (sf_badY0 hm hx (br_t rfl (sf_full0 hm' (br_t rfl (br_f h0 (br_t h6 (sf_ydeg (x := x) (by omega) P hY fun d' hd' md' => ?_)))))))
    rw [← sf_mx_eq gx (hR x hx) md md']
    exact br_f c ⟨rfl, I'⟩
theorem i_vc_derive {k : Nat} {u : SX} {v : SY} (I : i_Rel k u v) (hk : k + 5 ≤ 2560) (v1 : Int32) (v2 : Int32) : wpX_derive (fun r u' => wpY_derive (fun r' v' => r' = r ∧ i_Rel (k + 5) u' v') v v1 v2) u v1 v2 := by
  obtain ⟨m, G, T, tr, fa, sz, pla, tri, tab, rfl, rfl, hm, hX, hY, P, hR⟩ := I
  have I' : i_Rel (k + 5) (nI m, tr, fa, sz) (nI m, pla, tri, tab) := sf_mk hm hX hY P hR
  unfold wpX_derive wpY_derive
  dsimp only
  rcases sf_idx m hm v1 with b1 | ⟨x, hx, rfl⟩
  · exact sf_ref1 b1 (br_f (by decide) (sf_badY1 b1 (br_f (by decide) ⟨rfl, I'⟩)))
  by_cases z : m = 16
  · subst z
    exact sf_ref3 hx hx (br_f (by decide) (sf_badY0 hm hx (br_t rfl (sf_full1 (br_f (by decide) ⟨rfl, I'⟩)))))
  have hm' : m < 16 := by omega
  have gx := (hX x (by omega)).1
  refine sf_ref0 hm' hx hx (br_t (by decide) ?_)
  rcases sf_sym v2 with b2 | ⟨w, hw⟩
  · exact sf_symX0 b2 (br_t rfl (sf_badY0 hm hx (br_t rfl (sf_full0 hm' (br_t rfl (sf_symY1 b2 (br_f (by decide) ⟨rfl, I'⟩)))))))
  have W := sf_isS_W hw
  refine sf_symX1 hw (br_f (by decide) (sf_wX hw ⟨vp_in_nI (by omega) (by decide), nm_r (e' := upd sz m 0) (by rw [sf_cl (by omega)]) (nm_r (e' := nI (84 * x + 0)) (sf_ix0 x) ⟨(G x).length + 1, ?_⟩)⟩))
  refine sf_der_loop (G := G) hm' hx W _ 0 [] tr fa _ (by omega) (Nat.zero_le _) (sf_xzero hX m) (sf_de_gd W gx) fun tr' fa' sz' h' => ?_
  refine sf_badY0 hm hx (br_t rfl (sf_full0 hm' (br_t rfl (sf_symY0 hw (br_t rfl (sf_yzero (r := 16) (by decide) hY fun tab1 h1 => ⟨85, ?_⟩))))))
  refine sf_yder_loop (T := T) (x := x) hm' (by omega) hw P (fun tab' h2 => And.intro rfl ?_) 85 0 tab1 (by decide) (by decide) (sf_ycongr1 h1 fun q _ => (if_neg fun z => absurd z.2 (Nat.not_lt_zero _)).symm)
  refine sf_new (G := G) (T := T) hm' h' (fun l _ ne => sf_gun ne) h2 (fun q hq ne => ?_) P hR ?_
  · rw [sf_tun ne, sf_tun (by omega)]
  · rw [sf_gus, sf_tus]
    exact sf_de_rl W gx (hR x hx)
theorem i_vc_substitute {k : Nat} {u : SX} {v : SY} (I : i_Rel k u v) (hk : k + 5 ≤ 2560) (v1 : Int32) (v2 : Int32) (v3 : Int32) : wpX_substitute (fun r u' => wpY_substitute (fun r' v' => r' = r ∧ i_Rel (k + 5) u' v') v v1 v2 v3) u v1 v2 v3 := by
  obtain ⟨m, G, T, tr, fa, sz, pla, tri, tab, rfl, rfl, hm, hX, hY, P, hR⟩ := I
  have I' : i_Rel (k + 5) (nI m, tr, fa, sz) (nI m, pla, tri, tab) := sf_mk hm hX hY P hR
  unfold wpX_substitute wpY_substitute
  dsimp only
  rcases sf_idx m hm v1 with b1 | ⟨x, hx, rfl⟩
  · exact sf_ref1 b1 (br_f (by decide) (sf_badY1 b1 (br_f (by decide) ⟨rfl, I'⟩)))
  rcases sf_idx m hm v3 with b2 | ⟨y, hy, rfl⟩
  · exact sf_ref2 hm hx b2 (br_f (by decide) (sf_badY0 hm hx (br_t rfl (sf_badY1 b2 (br_f (by decide) ⟨rfl, I'⟩)))))
  by_cases z : m = 16
  · subst z
    exact sf_ref3 hx hy (br_f (by decide) (sf_badY0 hm hx (br_t rfl (sf_badY0 hm hy (br_t rfl (sf_full1 (br_f (by decide) ⟨rfl, I'⟩)))))))
  have hm' : m < 16 := by omega
  have gx := (hX x (by omega)).1
  have gy := (hX y (by omega)).1
  refine sf_ref0 hm' hx hy (br_t (by decide) ?_)
  rcases sf_sym v2 with b2 | ⟨w, hw⟩
  · exact sf_symX0 b2 (br_t rfl (sf_badY0 hm hx (br_t rfl (sf_badY0 hm hy (br_t rfl (sf_full0 hm' (br_t rfl (sf_symY1 b2 (br_f (by decide) ⟨rfl, I'⟩)))))))))
  have W := sf_isS_W hw
  refine sf_symX1 hw (br_f (by decide) (sf_wX hw (sf_deg (x := y) (by omega) hX fun d hd md => nm_r (e' := nI (84 * x + 0)) (sf_ix0 x) ⟨(G x).length + 1, ?_⟩)))
  refine sf_xck_loop (x := x) (w := w) (d := d) (by omega) W hd hX (fun bad => ?_) (fun good => ⟨8, ?_⟩) _ 0 (by omega) (Nat.zero_le _) (fun j p hj => absurd hj (Nat.not_lt_zero _))
  · refine sf_badY0 hm hx (br_t rfl (sf_badY0 hm hy (br_t rfl (sf_full0 hm' (br_t rfl (sf_symY0 hw (br_t rfl (sf_ydeg (x := y) (by omega) P hY fun d' hd' md' => ⟨85, ?_⟩))))))))
    rw [← sf_mx_eq gy (hR y hy) md md']
    refine sf_yck_loop (T := T) (x := x) (w := w) (d := d) (by omega) hw hd P hY (fun _ => ⟨rfl, I'⟩) (fun all => ?_) 85 0 (by decide) (by decide) (fun j hj => absurd hj (Nat.not_lt_zero _))
    obtain ⟨p, hp, np⟩ := bad
    obtain ⟨i, hi, ei, _, zi⟩ := sf_rl_of gx (hR x hx) hp
    have := all i hi zi
    rw [ei] at this
    exact absurd this np
  · refine sf_xsub_loop (F := G) (d := d) hm' hx hy W gx gy md (fun h p hp => (good p hp).resolve_left (by omega)) (fun H tr' fa' sz' h' fH hH => ?_) 8 7 (sf_gu G 18 []) tr fa _ (by decide) (by decide) (sf_xzero hX 18) (fun l hl => sf_gun (by omega)) (by rw [sf_gus]; exact sf_hI_nil W)
    refine sf_badY0 hm hx (br_t rfl (sf_badY0 hm hy (br_t rfl (sf_full0 hm' (br_t rfl (sf_symY0 hw (br_t rfl (sf_ydeg (x := y) (by omega) P hY fun d' hd' md' => ⟨85, ?_⟩))))))))
    rw [← sf_mx_eq gy (hR y hy) md md']
    refine sf_yck_loop (T := T) (x := x) (w := w) (d := d) (by omega) hw hd P hY (fun bad => ?_) (fun _ => ?_) 85 0 (by decide) (by decide) (fun j hj => absurd hj (Nat.not_lt_zero _))
    · obtain ⟨i, hi, zi, ni⟩ := bad
      obtain ⟨p, hp, ep, _⟩ := sf_rl_to (hR x hx) hi zi
      have := good p hp
      rw [ep] at this
      exact absurd this ni
    · refine sf_yzero (r := 18) (by decide) hY fun tab1 h1 => ⟨85, ?_⟩
      refine sf_ysub_out (S := T) (x := x) (y := y) (m := m) (w := w) hm' (by omega) (by omega) hw P (fun T' tab' hY' hT' eT' => And.intro rfl ?_) 85 0 _ tab1 (by decide) (by decide) h1 (fun q hq => sf_tun (by omega)) (fun k _ => by rw [sf_tus]; rfl)
      refine sf_new (G := G) (T := T) hm' h' fH hY' hT' P hR fun i hi => ?_
      rw [eT' i hi]
      exact hH.2.2 _ _ (hR x hx) (hR y hy) i hi
end
