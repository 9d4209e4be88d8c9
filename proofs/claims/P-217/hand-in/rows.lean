section
/-! rows of kit/rows/PURE-ROWS (a selection) -/
theorem pk_us {f : Nat → Int32} {k : Nat} {x : Int32} : upd f k x k = x := if_pos rfl
theorem pk_un {f : Nat → Int32} {k j : Nat} {x : Int32} (h : j ≠ k) : upd f k x j = f j := if_neg h
theorem pk_sub {a b : Nat} (h : b ≤ a) : nI a - nI b = nI (a - b) := by
  obtain ⟨c, rfl⟩ : ∃ c, a = c + b := ⟨a - b, by omega⟩
  rw [← nI_add, Int32.add_sub_cancel, Nat.add_sub_cancel]
theorem pk_m1 (n : Nat) : nI (n + 1) + (-1) = nI n := by
  rw [← nI_1, Int32.add_assoc, show (1 : Int32) + (-1) = 0 from rfl, Int32.add_zero]
theorem pk_mul (a b : Nat) : nI a * nI b = nI (a * b) := (Int32.ofNat_mul a b).symm
theorem pk_le {x y : Int32} {A B : Prop} (a b : Nat) (f : a ≤ b → A) (g : b < a → B) (hx : x = nI a := by rfl) (hy : y = nI b := by rfl) (ha : a < 2 ^ 31 := by omega) (hb : b < 2 ^ 31 := by omega) : (x ≤ y → A) ∧ (¬ x ≤ y → B) := by
  subst hx hy
  rw [nI_leI ha hb]
  exact ⟨f, fun z => g (by omega)⟩
theorem pk_lt {x y : Int32} {A B : Prop} (a b : Nat) (f : a < b → A) (g : b ≤ a → B) (hx : x = nI a := by rfl) (hy : y = nI b := by rfl) (ha : a < 2 ^ 31 := by omega) (hb : b < 2 ^ 31 := by omega) : (x < y → A) ∧ (¬ x < y → B) := by
  subst hx hy
  rw [nI_ltI ha hb]
  exact ⟨f, fun z => g (by omega)⟩
theorem pk_eq {x y : Int32} {A B : Prop} (a b : Nat) (f : a = b → A) (g : a ≠ b → B) (hx : x = nI a := by rfl) (hy : y = nI b := by rfl) (ha : a < 2 ^ 31 := by omega) (hb : b < 2 ^ 31 := by omega) : (x = y → A) ∧ (¬ x = y → B) := by
  subst hx hy
  rw [nI_eq ha hb]
  exact ⟨f, g⟩
theorem pk_in {x : Int32} (n N : Nat) (h : n < N) (hx : x = nI n := by rfl) (hN : N < 2 ^ 31 := by omega) : vp_in x N := by
  subst hx
  exact vp_in_nI h hN
theorem pk_cl {x : Int32} (n : Nat) (hx : x = nI n := by rfl) (h : n < 2 ^ 31 := by omega) : x.toNatClampNeg = n := by
  subst hx
  exact nI_clamp h
theorem pk_tn {n : Nat} (h : n < 2 ^ 32) : (nI n).toBitVec.toNat = n := Nat.mod_eq_of_lt h
theorem pk_charN {q : Nat} (hq : q < 65536) : narrow .char (.int (nI q)) = .int (nI q) ∧ fits .char (.int (nI q)) = true := by
  constructor
  · have e : (nI q).toUInt32.toUInt16.toUInt32.toInt32 = nI q := by
      apply Int32.toBitVec_inj.mp
      apply BitVec.eq_of_toNat_eq
      show (nI q).toUInt32.toUInt16.toUInt32.toNat = q % 2 ^ 32
      rw [UInt16.toNat_toUInt32, UInt32.toNat_toUInt16, show (nI q).toUInt32.toNat = q % 2 ^ 32 from rfl]
      omega
    exact congrArg Value.int e
  · have a : (0 : Int32) ≤ nI q := nI_pos' (by omega)
    have b : nI q ≤ 65535 := nI_le (b := 65535) (by omega) (by decide)
    show (decide ((0 : Int32) ≤ nI q) && decide (nI q ≤ 65535)) = true
    rw [decide_eq_true a, decide_eq_true b]
    rfl
theorem pk_char (x : Int32) : (x.toUInt32 % 65536).toInt32 = nI (x.toBitVec.toNat % 65536) := by
  apply Int32.toBitVec_inj.mp
  apply BitVec.eq_of_toNat_eq
  rw [pk_tn (by omega)]
  show (x.toUInt32 % 65536).toNat = _
  rw [UInt32.toNat_mod]
  rfl
theorem pk_nc (x : Int32) : narrow .char (.int (x.toUInt32 % 65536).toInt32) = .int (x.toUInt32 % 65536).toInt32 := by
  rw [pk_char]
  exact (pk_charN (Nat.mod_lt _ (by decide))).1
theorem pk_vc (z : Int32) : vp_nar .char (z.toUInt32 % 65536).toInt32 = (z.toUInt32 % 65536).toInt32 := Value.int.inj (pk_nc z)
end
section
/-! numbers -/
theorem hs_b13 : ∀ s, s < 13 → vp_nar .byte (nI s).toInt8.toInt32 = nI s := by
  intro s hs
  rw [vp_nar_byte]
  revert s
  decide +kernel
theorem hs_bm1 : vp_nar .byte (-1) = -1 := by rw [vp_nar_byte]; decide +kernel
theorem hs_b0 : vp_nar .byte 0 = 0 := by rw [vp_nar_byte]; decide +kernel
theorem hs_b1 : vp_nar .byte 1 = 1 := by rw [vp_nar_byte]; decide +kernel
theorem hs_o00 : vp_nar .byte (((0 : Int32) ||| 0).toInt8.toInt32) = 0 := by rw [vp_nar_byte]; decide +kernel
theorem hs_o01 : vp_nar .byte (((0 : Int32) ||| 1).toInt8.toInt32) = 1 := by rw [vp_nar_byte]; decide +kernel
theorem hs_o10 : vp_nar .byte (((1 : Int32) ||| 0).toInt8.toInt32) = 1 := by rw [vp_nar_byte]; decide +kernel
theorem hs_o11 : vp_nar .byte (((1 : Int32) ||| 1).toInt8.toInt32) = 1 := by rw [vp_nar_byte]; decide +kernel
theorem hs_10 : ¬ (1 : Int32) = 0 := by decide
theorem hs_m1n : (-1 : Int32) < 0 := by decide
/-- k released, in the upper half -/
def hs_L (k : Nat) : Int64 := (nI k).toInt64 <<< ((32 : Int32).toInt64 &&& 63)
theorem hs_L0 : hs_L 0 = 0 := by decide +kernel
theorem hs_L1 : ∀ k, k < 8 → hs_L k + 4294967296 = hs_L (k + 1) := by decide +kernel

/-! t is met on the way up from c along p -/
def hs_an (p : Nat → Nat) (t : Nat) : Nat → Nat → Prop
  | 0, _ => False
  | n + 1, c => c ≠ 0 ∧ (c = t ∨ hs_an p t n (p c))
def hs_A (p : Nat → Nat) (c t : Nat) : Prop := ∃ n, hs_an p t n c
theorem hs_A0 {p : Nat → Nat} {t : Nat} : ¬ hs_A p 0 t := by
  intro h
  obtain ⟨n, h⟩ := h
  cases n with
  | zero => exact h
  | succ n =>
    unfold hs_an at h
    exact h.1 rfl
theorem hs_As {p : Nat → Nat} {t : Nat} (h : t ≠ 0) : hs_A p t t := by
  refine ⟨1, ?_⟩
  unfold hs_an
  exact ⟨h, Or.inl rfl⟩
theorem hs_Au {p : Nat → Nat} {c t : Nat} (hc : c ≠ 0) (h : hs_A p (p c) t) : hs_A p c t := by
  obtain ⟨n, h⟩ := h
  refine ⟨n + 1, ?_⟩
  unfold hs_an
  exact ⟨hc, Or.inr h⟩
theorem hs_Ad {p : Nat → Nat} {c t : Nat} (hn : c ≠ t) (h : hs_A p c t) : hs_A p (p c) t := by
  obtain ⟨n, h⟩ := h
  cases n with
  | zero => exact h.elim
  | succ n =>
    unfold hs_an at h
    exact ⟨n, h.2.resolve_left hn⟩
theorem hs_At {p : Nat → Nat} {c t : Nat} (h : hs_A p c t) : t ≠ 0 := by
  obtain ⟨n, h⟩ := h
  induction n generalizing c with
  | zero => exact h.elim
  | succ n ih =>
    unfold hs_an at h
    rcases h.2 with e | g
    · rw [← e]; exact h.1
    · exact ih g

/-! how many of the classes 1 .. n are defined -/
def hs_cn (d : Nat → Int32) : Nat → Nat
  | 0 => 0
  | n + 1 => hs_cn d n + (if d (n + 1) = 0 then 0 else 1)
theorem hs_cn_le (d : Nat → Int32) : ∀ n, hs_cn d n ≤ n
  | 0 => Nat.le_refl 0
  | n + 1 => by
    have := hs_cn_le d n
    unfold hs_cn
    split <;> omega
theorem hs_cn_out {d : Nat → Int32} {i : Nat} {x : Int32} : ∀ n, n < i → hs_cn (upd d i x) n = hs_cn d n
  | 0, _ => rfl
  | n + 1, h => by
    have e := hs_cn_out (d := d) (x := x) n (by omega : n < i)
    have f : upd d i x (n + 1) = d (n + 1) := pk_un (by omega)
    unfold hs_cn
    rw [e, f]
theorem hs_cn_in {d : Nat → Int32} {i : Nat} {x : Int32} (h1 : 1 ≤ i) (hd : d i = 0) (hx : ¬ x = 0) : ∀ n, i ≤ n → hs_cn (upd d i x) n = hs_cn d n + 1
  | 0, h => by omega
  | n + 1, h => by
    by_cases hi : i = n + 1
    · subst hi
      have e := hs_cn_out (d := d) (x := x) n (by omega : n < n + 1)
      have f : upd d (n + 1) x (n + 1) = x := pk_us
      unfold hs_cn
      rw [e, f, if_neg hx, if_pos hd]
    · have e := hs_cn_in h1 hd hx n (by omega)
      have f : upd d i x (n + 1) = d (n + 1) := pk_un (by omega)
      unfold hs_cn
      rw [e, f]
      omega

/-! the classes: p the parent (0: none), rk a rank that falls on the way up -/
def hs_C1 (sup df par : Nat → Int32) (p rk : Nat → Nat) (i : Nat) : Prop :=
  sup i = nI (p i) ∧ par i = nI (p i) ∧ p i ≤ 12 ∧ 1 ≤ rk i ∧ rk i ≤ hs_cn df 12 ∧ (p i ≠ 0 → ¬ df (p i) = 0 ∧ rk (p i) < rk i)
def hs_C (sup df par : Nat → Int32) (p rk : Nat → Nat) : Prop :=
  ∀ i, 1 ≤ i → i ≤ 12 → (df i = 0 ∧ par i = -1) ∨ (¬ df i = 0 ∧ hs_C1 sup df par p rk i)
theorem hs_Cd {sup df par : Nat → Int32} {p rk : Nat → Nat} (C : hs_C sup df par p rk) {i : Nat} (a : 1 ≤ i) (b : i ≤ 12) (d : ¬ df i = 0) : hs_C1 sup df par p rk i := by
  rcases C i a b with h | h
  · exact absurd h.1 d
  · exact h.2
theorem hs_Crk {sup df par : Nat → Int32} {p rk : Nat → Nat} (C : hs_C sup df par p rk) {i : Nat} (a : 1 ≤ i) (b : i ≤ 12) (d : ¬ df i = 0) : 1 ≤ rk i ∧ rk i ≤ 12 := by
  have h := hs_Cd C a b d
  have g := hs_cn_le df 12
  exact ⟨h.2.2.2.1, Nat.le_trans h.2.2.2.2.1 g⟩
theorem hs_C0 : hs_C (fun _ => 0) (fun _ => 0) (fun _ => -1) (fun _ => 0) (fun _ => 0) := fun _ _ _ => Or.inl ⟨rfl, rfl⟩
/-- only the cells 1 .. 12 of par matter -/
theorem hs_Cpar {sup df par par' : Nat → Int32} {p rk : Nat → Nat} (C : hs_C sup df par p rk) (h : ∀ j, j < 13 → par' j = par j) : hs_C sup df par' p rk := by
  intro i a b
  rcases C i a b with g | g
  · exact Or.inl ⟨g.1, (h i (by omega)).trans g.2⟩
  · exact Or.inr ⟨g.1, g.2.1, (h i (by omega)).trans g.2.2.1, g.2.2.2⟩
/-- f with x at i -/
def hs_fu (f : Nat → Nat) (i x : Nat) (j : Nat) : Nat := if j = i then x else f j
theorem hs_fs {f : Nat → Nat} {i x : Nat} : hs_fu f i x i = x := if_pos rfl
theorem hs_fn {f : Nat → Nat} {i x j : Nat} (h : j ≠ i) : hs_fu f i x j = f j := if_neg h
/-- a new class i with the parent s -/
theorem hs_Cnew {sup df par : Nat → Int32} {p rk : Nat → Nat} (C : hs_C sup df par p rk) {i s : Nat} {x : Int32} (h1 : 1 ≤ i) (h12 : i ≤ 12) (hd : df i = 0) (hs : s ≤ 12) (hsd : s ≠ 0 → ¬ df s = 0) (hx : ¬ x = 0) :
    hs_C (upd sup i (nI s)) (upd df i x) (upd par i (nI s)) (hs_fu p i s) (hs_fu rk i (hs_cn df 12 + 1)) := by
  have hcn : hs_cn (upd df i x) 12 = hs_cn df 12 + 1 := hs_cn_in h1 hd hx 12 h12
  intro j a b
  by_cases hj : j = i
  · subst hj
    refine Or.inr ⟨by rw [pk_us]; exact hx, ?_⟩
    refine ⟨?_, ?_, ?_, ?_, ?_, ?_⟩
    · rw [pk_us, hs_fs]
    · rw [pk_us, hs_fs]
    · rw [hs_fs]; exact hs
    · rw [hs_fs]; omega
    · rw [hs_fs, hcn]; exact Nat.le_refl _
    · rw [hs_fs, hs_fs]
      intro s0
      have hsj : s ≠ j := fun e => hsd s0 (e ▸ hd)
      rw [hs_fn hsj, pk_un hsj]
      refine ⟨hsd s0, ?_⟩
      have := (hs_Cd C (by omega) hs (hsd s0)).2.2.2.2.1
      omega
  · rcases C j a b with g | g
    · refine Or.inl ⟨?_, ?_⟩
      · rw [pk_un hj]; exact g.1
      · rw [pk_un hj]; exact g.2
    · obtain ⟨g0, g1, g2, g3, g4, g5, g6⟩ := g
      refine Or.inr ⟨by rw [pk_un hj]; exact g0, ?_⟩
      refine ⟨?_, ?_, ?_, ?_, ?_, ?_⟩
      · rw [pk_un hj, hs_fn hj]; exact g1
      · rw [pk_un hj, hs_fn hj]; exact g2
      · rw [hs_fn hj]; exact g3
      · rw [hs_fn hj]; exact g4
      · rw [hs_fn hj, hcn]; omega
      · rw [hs_fn hj, hs_fn hj]
        intro p0
        have hp := g6 p0
        have hpi : p j ≠ i := fun e => hp.1 (e.symm ▸ hd)
        rw [hs_fn hpi, pk_un hpi]
        exact hp

/-! the type of row r, a hit of row r in frame f, the synchronised frames below n -/
def hs_T (rd : Nat → Int32) (r : Nat) : Nat := (rd (r * 4 + 3)).toNatClampNeg
def hs_R (rd : Nat → Int32) (R : Nat) : Prop := ∀ r, r < R → ∃ t, t ≤ 12 ∧ rd (r * 4 + 3) = nI t
theorem hs_RT {rd : Nat → Int32} {R r : Nat} (h : hs_R rd R) (hr : r < R) : rd (r * 4 + 3) = nI (hs_T rd r) ∧ hs_T rd r ≤ 12 := by
  obtain ⟨t, ht, e⟩ := h r hr
  have f : hs_T rd r = t := by
    unfold hs_T
    rw [e]
    exact nI_clamp (by omega)
  rw [f]
  exact ⟨e, ht⟩
def hs_H (p : Nat → Nat) (rm rd fm fp : Nat → Int32) (c r f : Nat) : Prop :=
  rm r = fm f ∧ ¬ fp f < rd (r * 4) ∧ fp f < rd (r * 4 + 1) ∧ (hs_T rd r = 0 ∨ hs_A p c (hs_T rd r))
def hs_ct (fs : Nat → Int32) : Nat → Nat
  | 0 => 0
  | n + 1 => hs_ct fs n + (if fs n = 0 then 0 else 1)
theorem hs_ct_le (fs : Nat → Int32) : ∀ n, hs_ct fs n ≤ n
  | 0 => Nat.le_refl 0
  | n + 1 => by
    have := hs_ct_le fs n
    unfold hs_ct
    split <;> omega
theorem hs_ct0 {fs : Nat → Int32} {n : Nat} (h : fs n = 0) : hs_ct fs (n + 1) = hs_ct fs n := by
  show hs_ct fs n + (if fs n = 0 then 0 else 1) = _
  rw [if_pos h]
  rfl
theorem hs_ct1 {fs : Nat → Int32} {n : Nat} (h : ¬ fs n = 0) : hs_ct fs (n + 1) = hs_ct fs n + 1 := by
  show hs_ct fs n + (if fs n = 0 then 0 else 1) = _
  rw [if_neg h]
theorem hs_ct_mono (fs : Nat → Int32) (g : Nat) : ∀ d, hs_ct fs g ≤ hs_ct fs (g + d)
  | 0 => Nat.le_refl _
  | d + 1 => by
    have := hs_ct_mono fs g d
    show _ ≤ hs_ct fs (g + d) + (if fs (g + d) = 0 then 0 else 1)
    omega
/-- no hit at all, or a best one -/
theorem hs_best1 (H : Nat → Prop) : ∀ R, (∀ r, r < R → ¬ H r) ∨ ∃ r, r < R ∧ H r ∧ ∀ r', r' < r → ¬ H r'
  | 0 => Or.inl fun r h => by omega
  | R + 1 => by
    rcases hs_best1 H R with h | h
    · by_cases g : H R
      · exact Or.inr ⟨R, by omega, g, h⟩
      · refine Or.inl fun r hr => ?_
        by_cases e : r = R
        · rw [e]; exact g
        · exact h r (by omega)
    · obtain ⟨r, a, b, c⟩ := h
      exact Or.inr ⟨r, by omega, b, c⟩
theorem hs_best (H : Nat → Nat → Prop) (R : Nat) : ∀ F, (∀ f, f < F → ∀ r, r < R → ¬ H r f) ∨ ∃ f r, f < F ∧ r < R ∧ H r f ∧ (∀ r', r' < r → ¬ H r' f) ∧ (∀ f', f < f' → f' < F → ∀ r', r' < R → ¬ H r' f')
  | 0 => Or.inl fun f h => by omega
  | F + 1 => by
    rcases hs_best1 (fun r => H r F) R with g | ⟨r, hr, h, k⟩
    · rcases hs_best H R F with h | ⟨f, r, a, b, c, d, e⟩
      · refine Or.inl fun f hf => ?_
        by_cases z : f = F
        · rw [z]; exact g
        · exact h f (by omega)
      · refine Or.inr ⟨f, r, by omega, b, c, d, fun f' x y => ?_⟩
        by_cases z : f' = F
        · rw [z]; exact g
        · exact e f' x (by omega)
    · exact Or.inr ⟨F, r, by omega, hr, h, k, fun f' x y => by omega⟩

/-! the table sub: sound; a row is done; it grows -/
def hs_S (p : Nat → Nat) (sub : Nat → Int32) : Prop := ∀ a b, a ≤ 12 → b ≤ 12 → sub (a * 13 + b) = 0 ∨ (sub (a * 13 + b) = 1 ∧ hs_A p a b)
def hs_Dn (p : Nat → Nat) (sub : Nat → Int32) (a : Nat) : Prop := ∀ b, b ≤ 12 → hs_A p a b → sub (a * 13 + b) = 1
def hs_Mo (sub sub' : Nat → Int32) : Prop := ∀ x, sub x = 1 → sub' x = 1
theorem hs_DnM {p : Nat → Nat} {sub sub' : Nat → Int32} {a : Nat} (m : hs_Mo sub sub') (h : hs_Dn p sub a) : hs_Dn p sub' a := fun b hb k => m _ (h b hb k)
/-- a store of 1 where it is right, or of a 0 where a 0 was -/
theorem hs_put {p : Nat → Nat} {sub : Nat → Int32} {i j : Nat} {w : Int32} (S : hs_S p sub) (hi : i ≤ 12) (hj : j ≤ 12) (h : (w = 0 ∧ sub (i * 13 + j) = 0) ∨ (w = 1 ∧ hs_A p i j)) :
    hs_S p (upd sub (i * 13 + j) w) ∧ hs_Mo sub (upd sub (i * 13 + j) w) := by
  constructor
  · intro a b ha hb
    by_cases e : a * 13 + b = i * 13 + j
    · have ea : a = i := by omega
      have eb : b = j := by omega
      subst ea eb
      rw [pk_us]
      rcases h with h | h
      · exact Or.inl h.1
      · exact Or.inr h
    · rw [pk_un e]
      exact S a b ha hb
  · intro x hx
    by_cases e : x = i * 13 + j
    · subst e
      rw [pk_us]
      rcases h with h | h
      · exact absurd (hx.symm.trans h.2) hs_10
      · exact h.1
    · rw [pk_un e]
      exact hx
/-- the step of the closure -/
theorem hs_or {p : Nat → Nat} {sub : Nat → Int32} {i j : Nat} (S : hs_S p sub) (h1 : 1 ≤ i) (hi : i ≤ 12) (hp : p i ≤ 12) (hj : j ≤ 12) {w : Int32} (hw : w = vp_nar .byte ((sub (i * 13 + j) ||| sub (p i * 13 + j)).toInt8.toInt32)) :
    hs_S p (upd sub (i * 13 + j) w) ∧ hs_Mo sub (upd sub (i * 13 + j) w) ∧ (sub (p i * 13 + j) = 1 → upd sub (i * 13 + j) w (i * 13 + j) = 1) := by
  have key : ((w = 0 ∧ sub (i * 13 + j) = 0) ∨ (w = 1 ∧ hs_A p i j)) ∧ (sub (p i * 13 + j) = 1 → w = 1) := by
    rcases S i j hi hj with a | a <;> rcases S (p i) j hp hj with b | b
    · rw [a, b, hs_o00] at hw
      exact ⟨Or.inl ⟨hw, a⟩, fun z => absurd (z.symm.trans b) hs_10⟩
    · rw [a, b.1, hs_o01] at hw
      exact ⟨Or.inr ⟨hw, hs_Au (by omega) b.2⟩, fun _ => hw⟩
    · rw [a.1, b, hs_o10] at hw
      exact ⟨Or.inr ⟨hw, a.2⟩, fun _ => hw⟩
    · rw [a.1, b.1, hs_o11] at hw
      exact ⟨Or.inr ⟨hw, a.2⟩, fun _ => hw⟩
  have q := hs_put S hi hj key.1
  exact ⟨q.1, q.2, fun z => pk_us.trans (key.2 z)⟩
/-- what holds ahead of round k -/
def hs_I83 (df : Nat → Int32) (p rk : Nat → Nat) (sub : Nat → Int32) (k : Nat) : Prop :=
  hs_S p sub ∧ (∀ a, 1 ≤ a → a ≤ 12 → ¬ df a = 0 → sub (a * 13 + a) = 1) ∧ (∀ a, 1 ≤ a → a ≤ 12 → ¬ df a = 0 → rk a ≤ k → hs_Dn p sub a)
/-- in round k ahead of row i -/
def hs_I91 (df : Nat → Int32) (p rk : Nat → Nat) (sub : Nat → Int32) (k i : Nat) : Prop :=
  hs_I83 df p rk sub k ∧ (∀ a, 1 ≤ a → a ≤ 12 → a < i → ¬ df a = 0 → rk a ≤ k + 1 → hs_Dn p sub a)
/-- in round k, row i, ahead of column j -/
def hs_I109 (df : Nat → Int32) (p rk : Nat → Nat) (sub : Nat → Int32) (k i j : Nat) : Prop :=
  hs_I91 df p rk sub k i ∧ (rk i ≤ k + 1 → ∀ b, b < j → hs_A p (p i) b → sub (i * 13 + b) = 1)
theorem hs_I91M {df : Nat → Int32} {p rk : Nat → Nat} {sub sub' : Nat → Int32} {k i : Nat} (h : hs_I91 df p rk sub k i) (S : hs_S p sub') (m : hs_Mo sub sub') : hs_I91 df p rk sub' k i :=
  ⟨⟨S, fun a x y z => m _ (h.1.2.1 a x y z), fun a x y z w => hs_DnM m (h.1.2.2 a x y z w)⟩, fun a x y z w v => hs_DnM m (h.2 a x y z w v)⟩
theorem hs_I91_0 {df : Nat → Int32} {p rk : Nat → Nat} {sub : Nat → Int32} {k : Nat} (h : hs_I83 df p rk sub k) : hs_I91 df p rk sub k 1 :=
  ⟨h, fun a x y z => by omega⟩
theorem hs_I91_e {df : Nat → Int32} {p rk : Nat → Nat} {sub : Nat → Int32} {k : Nat} (h : hs_I91 df p rk sub k 13) : hs_I83 df p rk sub (k + 1) :=
  ⟨h.1.1, h.1.2.1, fun a x y z w => h.2 a x y (by omega) z w⟩
/-- row i is done as soon as its parent's row is copied (or it has no parent) -/
theorem hs_I91_s {df : Nat → Int32} {p rk : Nat → Nat} {sub : Nat → Int32} {k i : Nat} (h : hs_I91 df p rk sub k i) (g : 1 ≤ i → i ≤ 12 → ¬ df i = 0 → rk i ≤ k + 1 → ∀ b, b ≤ 12 → hs_A p (p i) b → sub (i * 13 + b) = 1) : hs_I91 df p rk sub k (i + 1) := by
  refine ⟨h.1, fun a x y z w v => ?_⟩
  by_cases e : a = i
  · subst e
    intro b hb hA
    by_cases eb : a = b
    · subst eb
      exact h.1.2.1 a x y w
    · exact g x y w v b hb (hs_Ad eb hA)
  · exact h.2 a x y (by omega) w v
theorem hs_I109_s {sup df par : Nat → Int32} {p rk : Nat → Nat} {sub : Nat → Int32} {k i j : Nat} (C : hs_C sup df par p rk) (h : hs_I109 df p rk sub k i j) (h1 : 1 ≤ i) (hi : i ≤ 12) (hd : ¬ df i = 0) (hp0 : p i ≠ 0) (hj : j ≤ 12) {w : Int32} (hw : w = vp_nar .byte ((sub (i * 13 + j) ||| sub (p i * 13 + j)).toInt8.toInt32)) :
    hs_I109 df p rk (upd sub (i * 13 + j) w) k i (j + 1) := by
  have c := hs_Cd C h1 hi hd
  have hp : p i ≤ 12 := c.2.2.1
  have cp := c.2.2.2.2.2 hp0
  obtain ⟨q1, q2, q3⟩ := hs_or h.1.1.1 h1 hi hp hj hw
  refine ⟨hs_I91M h.1 q1 q2, fun v b hb hA => ?_⟩
  by_cases e : b = j
  · subst e
    exact q3 (h.1.1.2.2 (p i) (by omega) hp cp.1 (by omega) b hj hA)
  · exact q2 _ (h.2 v b (by omega) hA)
/-- after twelve rounds the row of c tells whether t is met -/
theorem hs_I83_e {sup df par : Nat → Int32} {p rk : Nat → Nat} {sub : Nat → Int32} (C : hs_C sup df par p rk) (h : hs_I83 df p rk sub 12) {c : Nat} (h1 : 1 ≤ c) (hc : c ≤ 12) (hd : ¬ df c = 0) {t : Nat} (ht : t ≤ 12) : sub (c * 13 + t) = 0 ↔ ¬ hs_A p c t := by
  have k := h.2.2 c h1 hc hd (hs_Crk C h1 hc hd).2 t ht
  constructor
  · intro z y
    exact hs_10 ((k y).symm.trans z)
  · intro y
    rcases h.1 c t hc ht with z | z
    · exact z
    · exact absurd z.2 y
end
section
section
variable {post : Int64 → SX → Prop} {J30 : Int32 → Int32 → Prop} {J63 : Int32 → Prop} {x1 x2 x4 x5 x6 fr ff : Int32} {sup df par rm rd fm fp fs : Nat → Int32} {p rk : Nat → Nat}
theorem hs_x204 {f r : Nat} (hf : f < 6) (hr : r < 6) (h : post ((x2.toInt64 <<< ((32 : Int32).toInt64 &&& 63)) ||| (((ff <<< ((16 : Int32) &&& 31)) ||| rd (r * 4 + 2)).toInt64)) (fr, ff, sup, df, rm, rd, fm, upd fp f (vp_nar .char (rd (r * 4 + 2))), fs)) :
    wX_raise_204 post J30 J63 x1 x2 (nI f) x4 x5 x6 (nI (r * 4)) 1 fr ff sup df rm rd fm fp fs := by
  have e3 : (nI (r * 4) + 2).toNatClampNeg = r * 4 + 2 := pk_cl (r * 4 + 2) (nI_add (r * 4) 2)
  have ef : (nI f).toNatClampNeg = f := nI_clamp (by omega)
  exact br_f hs_10 ⟨pk_in (r * 4 + 2) 24 (by omega) (nI_add (r * 4) 2), nm_r (e' := rd (r * 4 + 2)) (by rw [e3]) ⟨vp_in_nI hf (by decide), nm_r (e' := upd fp f (vp_nar .char (rd (r * 4 + 2)))) (by rw [ef]) h⟩⟩
theorem hs_x153 {x3 x7 : Int32} (C : hs_C sup df par p rk) {t : Nat} (ht : t ≤ 12) : ∀ m n c s : Nat, (c = 0 ∨ (1 ≤ c ∧ c ≤ 12 ∧ ¬ df c = 0 ∧ rk c ≤ m)) → m + s ≤ 12 → m < n →
    (hs_A p c t → wX_raise_204 post J30 J63 x1 x2 x3 x4 x5 x6 x7 1 fr ff sup df rm rd fm fp fs) → (¬ hs_A p c t → wX_raise_204 post J30 J63 x1 x2 x3 x4 x5 x6 x7 0 fr ff sup df rm rd fm fp fs) →
    wX_raise_153 post J30 J63 x1 x2 x3 x4 x5 x6 x7 (nI t) 0 fr ff sup df rm rd fm fp fs n (nI c) (nI s) := by
  intro m
  induction m with
  | zero =>
    intro n c s hc _ hn _ h0
    obtain ⟨n, rfl⟩ : ∃ k, n = k + 1 := ⟨n - 1, by omega⟩
    have hc0 : c = 0 := by
      rcases hc with h | ⟨a, b, d, e⟩
      · exact h
      · have := (hs_Crk C a b d).1
        omega
    subst hc0
    exact br_t (by decide) (h0 hs_A0)
  | succ m ih =>
    intro n c s hc hs hn h1 h0
    obtain ⟨n, rfl⟩ : ∃ k, n = k + 1 := ⟨n - 1, by omega⟩
    rcases hc with h | ⟨a, b, d, e⟩
    · subst h
      exact br_t (by decide) (h0 hs_A0)
    · obtain ⟨g1, g2, g3, g4, g5, g6⟩ := hs_Cd C a b d
      refine br_f (nI_nlt (b := 1) a (by omega)) (br_f (nI_nlt (a := 12) b (by decide)) (br_f (nI_ge (b := 13) (by omega) (by decide)) ?_))
      refine pk_eq c t (fun e => h1 (by rw [e]; exact hs_As (by omega))) (fun ne => ?_)
      refine ⟨vp_in_nI (by omega) (by decide), nm_r (e' := nI (p c)) (by rw [nI_clamp (by omega)]; exact g1) (nm_r (nI_1 s) ?_)⟩
      refine ih n (p c) (s + 1) ?_ (by omega) (by omega) (fun z => h1 (hs_Au (by omega) z)) (fun z => h0 (fun y => z (hs_Ad ne y)))
      by_cases z : p c = 0
      · exact Or.inl z
      · have := g6 z
        exact Or.inr ⟨by omega, g3, this.1, by omega⟩
/-- one row -/
theorem hs_x63s {R f c r n : Nat} (C : hs_C sup df par p rk) (hR : hs_R rd R) (hR6 : R ≤ 6) (hf : f < 6) (c1 : 1 ≤ c) (c12 : c ≤ 12) (cd : ¬ df c = 0) (hr : r < R)
    (hy : hs_H p rm rd fm fp c r f → post ((x2.toInt64 <<< ((32 : Int32).toInt64 &&& 63)) ||| (((ff <<< ((16 : Int32) &&& 31)) ||| rd (r * 4 + 2)).toInt64)) (nI R, ff, sup, df, rm, rd, fm, upd fp f (vp_nar .char (rd (r * 4 + 2))), fs))
    (hn : ¬ hs_H p rm rd fm fp c r f → wX_raise_63 post J30 (nI c) x2 (nI f) (fm f) (fp f) (nI R) ff sup df rm rd fm fp fs n (nI (r + 1))) :
    wX_raise_63 post J30 (nI c) x2 (nI f) (fm f) (fp f) (nI R) ff sup df rm rd fm fp fs (n + 1) (nI r) := by
  have e0 : (nI r).toNatClampNeg = r := nI_clamp (by omega)
  have e1 : (nI (r * 4)).toNatClampNeg = r * 4 := nI_clamp (by omega)
  have e2 : (nI (r * 4) + 1).toNatClampNeg = r * 4 + 1 := pk_cl (r * 4 + 1) (nI_1 _)
  have e4 : (nI (r * 4) + 3).toNatClampNeg = r * 4 + 3 := pk_cl (r * 4 + 3) (nI_add (r * 4) 3)
  obtain ⟨hT, hT12⟩ := hs_RT hR hr
  refine br_f (nI_ge hr (by omega)) (nm_r (e' := nI (r * 4)) (pk_mul r 4) ⟨vp_in_nI (by omega) (by decide), ?_⟩)
  by_cases h1 : rm r = fm f
  · refine br_t (by rw [e0]; exact h1) ⟨vp_in_nI (by omega) (by decide), ?_⟩
    by_cases h2 : fp f < rd (r * 4)
    · exact br_t (by rw [e1]; exact h2) (nm_r (nI_1 r) (hn (fun h => h.2.1 h2)))
    · refine br_f (by rw [e1]; exact h2) ⟨pk_in (r * 4 + 1) 24 (by omega) (nI_1 _), ?_⟩
      by_cases h3 : fp f < rd (r * 4 + 1)
      · refine br_t (by rw [e2]; exact h3) ⟨pk_in (r * 4 + 3) 24 (by omega) (nI_add (r * 4) 3), nm_r (e' := nI (hs_T rd r)) (by rw [e4]; exact hT) ?_⟩
        refine pk_eq (hs_T rd r) 0 (fun z => hs_x204 hf (by omega) (hy ⟨h1, h2, h3, Or.inl z⟩)) (fun nz => ⟨13, ?_⟩)
        have ck := hs_Crk C c1 c12 cd
        exact hs_x153 C hT12 12 13 c 0 (Or.inr ⟨c1, c12, cd, ck.2⟩) (by omega) (by omega) (fun z => hs_x204 hf (by omega) (hy ⟨h1, h2, h3, Or.inr z⟩)) (fun z => br_t rfl (nm_r (nI_1 r) (hn (fun h => h.2.2.2.elim nz z))))
      · exact br_f (by rw [e2]; exact h3) (nm_r (nI_1 r) (hn (fun h => h3 h.2.2.1)))
  · exact br_f (by rw [e0]; exact h1) (nm_r (nI_1 r) (hn (fun h => h1 h.1)))
/-- no hit in frame f from row r on -/
theorem hs_x63n {R f c : Nat} (C : hs_C sup df par p rk) (hR : hs_R rd R) (hR6 : R ≤ 6) (hf : f < 6) (c1 : 1 ≤ c) (c12 : c ≤ 12) (cd : ¬ df c = 0)
    (k0 : fs f = 0 → J30 x2 (nI f)) (k1 : ¬ fs f = 0 → J30 (x2 + 1) (nI f)) : ∀ d n r : Nat, r + d = R → d < n → (∀ r', r ≤ r' → r' < R → ¬ hs_H p rm rd fm fp c r' f) →
    wX_raise_63 post J30 (nI c) x2 (nI f) (fm f) (fp f) (nI R) ff sup df rm rd fm fp fs n (nI r) := by
  have ef : (nI f).toNatClampNeg = f := nI_clamp (by omega)
  intro d
  induction d with
  | zero =>
    intro n r hr hn _
    obtain ⟨n, rfl⟩ : ∃ k, n = k + 1 := ⟨n - 1, by omega⟩
    refine br_t (nI_le (by omega) (by omega)) ⟨vp_in_nI hf (by decide), ?_⟩
    by_cases z : fs f = 0
    · exact br_t (by rw [ef]; exact z) (k0 z)
    · exact br_f (by rw [ef]; exact z) (nm_e (k1 z))
  | succ d ih =>
    intro n r hr hn h
    obtain ⟨n, rfl⟩ : ∃ k, n = k + 1 := ⟨n - 1, by omega⟩
    exact hs_x63s C hR hR6 hf c1 c12 cd (by omega) (fun z => absurd z (h r (by omega) (by omega))) (fun _ => ih n (r + 1) (by omega) (by omega) (fun r' a b => h r' (by omega) b))
/-- the first hit in frame f is row q -/
theorem hs_x63h {R f c q : Nat} (C : hs_C sup df par p rk) (hR : hs_R rd R) (hR6 : R ≤ 6) (hf : f < 6) (c1 : 1 ≤ c) (c12 : c ≤ 12) (cd : ¬ df c = 0) (hq : q < R) (hH : hs_H p rm rd fm fp c q f) (hl : ∀ r, r < q → ¬ hs_H p rm rd fm fp c r f)
    (hy : post ((x2.toInt64 <<< ((32 : Int32).toInt64 &&& 63)) ||| (((ff <<< ((16 : Int32) &&& 31)) ||| rd (q * 4 + 2)).toInt64)) (nI R, ff, sup, df, rm, rd, fm, upd fp f (vp_nar .char (rd (q * 4 + 2))), fs)) : ∀ d n r : Nat, r + d = q → d < n →
    wX_raise_63 post J30 (nI c) x2 (nI f) (fm f) (fp f) (nI R) ff sup df rm rd fm fp fs n (nI r) := by
  intro d
  induction d with
  | zero =>
    intro n r hr hn
    obtain ⟨n, rfl⟩ : ∃ k, n = k + 1 := ⟨n - 1, by omega⟩
    have e : r = q := by omega
    subst e
    exact hs_x63s C hR hR6 hf c1 c12 cd hq (fun _ => hy) (fun z => absurd hH z)
  | succ d ih =>
    intro n r hr hn
    obtain ⟨n, rfl⟩ : ∃ k, n = k + 1 := ⟨n - 1, by omega⟩
    exact hs_x63s C hR hR6 hf c1 c12 cd (by omega) (fun z => absurd z (hl r (by omega))) (fun _ => ih n (r + 1) (by omega) (by omega))
/-- the frames from g on are popped -/
theorem hs_x30p {R c g T : Nat} (C : hs_C sup df par p rk) (hR : hs_R rd R) (hR6 : R ≤ 6) (c1 : 1 ≤ c) (c12 : c ≤ 12) (cd : ¬ df c = 0)
    (K : ∀ n k : Nat, k + hs_ct fs g = T → wX_raise_30 post (nI c) (nI R) sup df rm rd fm fp fs (n + 1) (nI k) (nI g)) : ∀ d n k : Nat, g + d ≤ 6 → d < n → (∀ f, g ≤ f → f < g + d → ∀ r, r < R → ¬ hs_H p rm rd fm fp c r f) → k + hs_ct fs (g + d) = T →
    wX_raise_30 post (nI c) (nI R) sup df rm rd fm fp fs n (nI k) (nI (g + d)) := by
  intro d
  induction d with
  | zero =>
    intro n k _ hn _ hk
    obtain ⟨n, rfl⟩ : ∃ k, n = k + 1 := ⟨n - 1, by omega⟩
    exact K n k hk
  | succ d ih =>
    intro n k h6 hn h hk
    obtain ⟨n, rfl⟩ : ∃ k, n = k + 1 := ⟨n - 1, by omega⟩
    have ef : (nI (g + d)).toNatClampNeg = g + d := nI_clamp (by omega)
    have hh : ∀ f, g ≤ f → f < g + d → ∀ r, r < R → ¬ hs_H p rm rd fm fp c r f := fun f a b => h f a (by omega)
    refine br_f (nI_nle (by omega) (by omega)) (nm_r (e' := nI (g + d)) (nI_pred (g + d)) ⟨vp_in_nI (by omega) (by decide), nm_r (e' := fm (g + d)) (by rw [ef]) ⟨vp_in_nI (by omega) (by decide), nm_r (e' := fp (g + d)) (by rw [ef]) ⟨R + 1, ?_⟩⟩⟩)
    refine hs_x63n C hR hR6 (by omega) c1 c12 cd ?_ ?_ R (R + 1) 0 (by omega) (by omega) (fun r' _ b => h (g + d) (by omega) (by omega) r' b)
    · intro z
      exact ih n k (by omega) (by omega) hh (by have e := hs_ct0 z; rw [← e]; exact hk)
    · intro z
      have e := hs_ct1 z
      have hk' : k + hs_ct fs (g + d + 1) = T := hk
      rw [nI_1 k]
      exact ih n (k + 1) (by omega) (by omega) hh (by omega)
/-- X's raise, no hit -/
theorem hs_xN {R F c : Nat} (C : hs_C sup df par p rk) (hR : hs_R rd R) (hR6 : R ≤ 6) (hF : F ≤ 6) (c1 : 1 ≤ c) (c12 : c ≤ 12) (cd : ¬ df c = 0)
    (h : ∀ f, f < F → ∀ r, r < R → ¬ hs_H p rm rd fm fp c r f) (hp : post (hs_L (hs_ct fs F) ||| 4294967295) (nI R, nI 0, sup, df, rm, rd, fm, fp, fs)) :
    ∃ n, wX_raise_30 post (nI c) (nI R) sup df rm rd fm fp fs n (nI 0) (nI F) := by
  have K : ∀ n k : Nat, k + hs_ct fs 0 = hs_ct fs F → wX_raise_30 post (nI c) (nI R) sup df rm rd fm fp fs (n + 1) (nI k) (nI 0) := by
    intro n k hk
    have z : hs_ct fs 0 = 0 := rfl
    have e : k = hs_ct fs F := by omega
    subst e
    exact br_t (by decide) hp
  have w := hs_x30p C hR hR6 c1 c12 cd K F (F + 1) 0 (by omega) (by omega) (fun f _ b => h f (by omega)) (by rw [Nat.zero_add, Nat.zero_add])
  rw [Nat.zero_add] at w
  exact ⟨F + 1, w⟩
/-- X's raise, the hit (f, q) -/
theorem hs_xH {R F c f q k : Nat} (C : hs_C sup df par p rk) (hR : hs_R rd R) (hR6 : R ≤ 6) (hF : F ≤ 6) (c1 : 1 ≤ c) (c12 : c ≤ 12) (cd : ¬ df c = 0) (hf : f < F) (hq : q < R)
    (hH : hs_H p rm rd fm fp c q f) (hl : ∀ r, r < q → ¬ hs_H p rm rd fm fp c r f) (h : ∀ f', f < f' → f' < F → ∀ r, r < R → ¬ hs_H p rm rd fm fp c r f') (hk : k + hs_ct fs (f + 1) = hs_ct fs F)
    (hp : post (hs_L k ||| (((nI (f + 1) <<< ((16 : Int32) &&& 31)) ||| rd (q * 4 + 2)).toInt64)) (nI R, nI (f + 1), sup, df, rm, rd, fm, upd fp f (vp_nar .char (rd (q * 4 + 2))), fs)) :
    ∃ n, wX_raise_30 post (nI c) (nI R) sup df rm rd fm fp fs n (nI 0) (nI F) := by
  have eF : f + 1 + (F - (f + 1)) = F := by omega
  have K : ∀ n k' : Nat, k' + hs_ct fs (f + 1) = hs_ct fs F → wX_raise_30 post (nI c) (nI R) sup df rm rd fm fp fs (n + 1) (nI k') (nI (f + 1)) := by
    intro n k' hk'
    have e : k' = k := by omega
    subst e
    have ef : (nI f).toNatClampNeg = f := nI_clamp (by omega)
    refine br_f (nI_nle (by omega) (by omega)) (nm_r (e' := nI f) (nI_pred f) ⟨vp_in_nI (by omega) (by decide), nm_r (e' := fm f) (by rw [ef]) ⟨vp_in_nI (by omega) (by decide), nm_r (e' := fp f) (by rw [ef]) ⟨q + 1, ?_⟩⟩⟩)
    exact hs_x63h C hR hR6 (by omega) c1 c12 cd hq hH hl hp q (q + 1) 0 (by omega) (by omega)
  have w := hs_x30p C hR hR6 c1 c12 cd K (F - (f + 1)) (F + 1) 0 (by omega) (by omega) (fun f' a b => h f' (by omega) (by omega)) (by rw [eF, Nat.zero_add])
  rw [eF] at w
  exact ⟨F + 1, w⟩
end
end
section
section
variable {post : Int64 → SY → Prop} {x1 : Int32} {sup df par rm rd fm fp fs : Nat → Int32} {p rk : Nat → Nat}
/-- the loop that clears the table -/
theorem hs_y26 {fr ff : Int32} (K : ∀ sub : Nat → Int32, (∀ j, j < 169 → sub j = 0) → ∃ n, wY_raise_48 post x1 fr ff n (nI 1) par sub rm rd fm fp fs) : ∀ (d n i : Nat) (sub : Nat → Int32), i + d = 169 → d < n → (∀ j, j < i → sub j = 0) →
    wY_raise_26 post x1 fr ff n (nI i) par sub rm rd fm fp fs := by
  intro d
  induction d with
  | zero =>
    intro n i sub hi hn h
    obtain ⟨n, rfl⟩ : ∃ k, n = k + 1 := ⟨n - 1, by omega⟩
    have e : i = 169 := by omega
    subst e
    exact br_t (nI_le (a := 169) (b := 169) (by omega) (by decide)) (K sub h)
  | succ d ih =>
    intro n i sub hi hn h
    obtain ⟨n, rfl⟩ : ∃ k, n = k + 1 := ⟨n - 1, by omega⟩
    have ei : (nI i).toNatClampNeg = i := nI_clamp (by omega)
    refine br_f (nI_ge (b := 169) (by omega) (by decide)) ⟨vp_in_nI (by omega) (by decide), nm_r (e' := upd sub i 0) (by rw [ei, hs_b0]) (nm_r (nI_1 i) ?_)⟩
    refine ih n (i + 1) (upd sub i 0) (by omega) (by omega) (fun j hj => ?_)
    by_cases e : j = i
    · rw [e, pk_us]
    · rw [pk_un e]
      exact h j (by omega)
/-- the loop that sets the diagonal -/
theorem hs_y48 {fr ff : Int32} (C : hs_C sup df par p rk) (K : ∀ sub : Nat → Int32, hs_I83 df p rk sub 0 → ∃ n, wY_raise_83 post x1 fr ff n (nI 0) par sub rm rd fm fp fs) : ∀ (d n i : Nat) (sub : Nat → Int32), i + d = 13 → d < n → 1 ≤ i → hs_S p sub → (∀ a, 1 ≤ a → a < i → ¬ df a = 0 → sub (a * 13 + a) = 1) →
    wY_raise_48 post x1 fr ff n (nI i) par sub rm rd fm fp fs := by
  intro d
  induction d with
  | zero =>
    intro n i sub hi hn h1 S h
    obtain ⟨n, rfl⟩ : ∃ k, n = k + 1 := ⟨n - 1, by omega⟩
    have e : i = 13 := by omega
    subst e
    refine br_t (nI_lt (a := 12) (b := 13) (by omega) (by decide)) (K sub ⟨S, fun a x y z => h a x (by omega) z, fun a x y z w => ?_⟩)
    have := (hs_Crk C x y z).1
    omega
  | succ d ih =>
    intro n i sub hi hn h1 S h
    obtain ⟨n, rfl⟩ : ∃ k, n = k + 1 := ⟨n - 1, by omega⟩
    have ei : (nI i).toNatClampNeg = i := nI_clamp (by omega)
    have em : nI i * 13 + nI i = nI (i * 13 + i) := by
      rw [← nI_add, ← pk_mul]
      rfl
    have ec : (nI i * 13 + nI i).toNatClampNeg = i * 13 + i := pk_cl (i * 13 + i) em
    refine br_f (nI_nlt (a := 12) (b := i) (by omega) (by decide)) ⟨vp_in_nI (by omega) (by decide), ?_⟩
    rcases C i h1 (by omega) with g | g
    · refine br_t (by rw [ei, g.2]; exact hs_m1n) (nm_r (nI_1 i) ?_)
      refine ih n (i + 1) sub (by omega) (by omega) (by omega) S (fun a x y z => ?_)
      by_cases e : a = i
      · rw [e] at z
        exact absurd g.1 z
      · exact h a x (by omega) z
    · obtain ⟨g0, g1, g2, g3, g4, g5, g6⟩ := g
      refine br_f (by rw [ei, g2]; exact nI_pos (by omega)) ⟨pk_in (i * 13 + i) 169 (by omega) em, nm_r (e' := upd sub (i * 13 + i) 1) (by rw [ec, hs_b1]) (nm_r (nI_1 i) ?_)⟩
      have q := hs_put S (i := i) (j := i) (w := 1) (by omega) (by omega) (Or.inr ⟨rfl, hs_As (by omega)⟩)
      refine ih n (i + 1) (upd sub (i * 13 + i) 1) (by omega) (by omega) (by omega) q.1 (fun a x y z => ?_)
      by_cases e : a = i
      · rw [e, pk_us]
      · exact q.2 _ (h a x (by omega) z)
/-- one row takes its parent's -/
theorem hs_y109 {fr ff x2 : Int32} {J83 J91 : Int32 → (Nat → Int32) → (Nat → Int32) → (Nat → Int32) → (Nat → Int32) → (Nat → Int32) → (Nat → Int32) → (Nat → Int32) → Prop} {k i : Nat} (C : hs_C sup df par p rk) (h1 : 1 ≤ i) (hi : i ≤ 12) (hd : ¬ df i = 0) (hp0 : p i ≠ 0)
    (K : ∀ sub : Nat → Int32, hs_I91 df p rk sub k (i + 1) → J91 (nI (i + 1)) par sub rm rd fm fp fs) : ∀ (d n j : Nat) (sub : Nat → Int32), j + d = 13 → d < n → hs_I109 df p rk sub k i j →
    wY_raise_109 post J83 J91 x1 x2 (nI i) fr ff n (nI j) par sub rm rd fm fp fs := by
  obtain ⟨g1, g2, g3, g4, g5, g6⟩ := hs_Cd C h1 hi hd
  intro d
  induction d with
  | zero =>
    intro n j sub hj hn h
    obtain ⟨n, rfl⟩ : ∃ k, n = k + 1 := ⟨n - 1, by omega⟩
    have e : j = 13 := by omega
    subst e
    exact br_t (nI_lt (a := 12) (b := 13) (by omega) (by decide)) (nm_r (nI_1 i) (K sub (hs_I91_s h.1 (fun _ _ _ v b hb hA => h.2 v b (by omega) hA))))
  | succ d ih =>
    intro n j sub hj hn h
    obtain ⟨n, rfl⟩ : ∃ k, n = k + 1 := ⟨n - 1, by omega⟩
    have ei : (nI i).toNatClampNeg = i := nI_clamp (by omega)
    have em : nI i * 13 + nI j = nI (i * 13 + j) := by
      rw [← nI_add, ← pk_mul]
      rfl
    have ep : par (nI i).toNatClampNeg * 13 + nI j = nI (p i * 13 + j) := by
      rw [ei, g2, ← nI_add, ← pk_mul]
      rfl
    have ec : (nI i * 13 + nI j).toNatClampNeg = i * 13 + j := pk_cl (i * 13 + j) em
    have eq : (par (nI i).toNatClampNeg * 13 + nI j).toNatClampNeg = p i * 13 + j := pk_cl (p i * 13 + j) ep
    refine br_f (nI_nlt (a := 12) (b := j) (by omega) (by decide)) ⟨pk_in (i * 13 + j) 169 (by omega) em, vp_in_nI (by omega) (by decide), pk_in (p i * 13 + j) 169 (by omega) ep, pk_in (i * 13 + j) 169 (by omega) em, ?_⟩
    refine nm_r (e' := upd sub (i * 13 + j) (vp_nar .byte ((sub (i * 13 + j) ||| sub (p i * 13 + j)).toInt8.toInt32))) (by rw [eq, ec]) (nm_r (nI_1 j) ?_)
    exact ih n (j + 1) _ (by omega) (by omega) (hs_I109_s C h h1 hi hd hp0 (by omega) rfl)
/-- one round -/
theorem hs_y91 {fr ff x2 : Int32} {J83 : Int32 → (Nat → Int32) → (Nat → Int32) → (Nat → Int32) → (Nat → Int32) → (Nat → Int32) → (Nat → Int32) → (Nat → Int32) → Prop} {k : Nat} (C : hs_C sup df par p rk)
    (K : ∀ sub : Nat → Int32, hs_I83 df p rk sub (k + 1) → J83 (x2 + 1) par sub rm rd fm fp fs) : ∀ (d n i : Nat) (sub : Nat → Int32), i + d = 13 → d < n → 1 ≤ i → hs_I91 df p rk sub k i →
    wY_raise_91 post J83 x1 x2 fr ff n (nI i) par sub rm rd fm fp fs := by
  intro d
  induction d with
  | zero =>
    intro n i sub hi hn h1 h
    obtain ⟨n, rfl⟩ : ∃ k, n = k + 1 := ⟨n - 1, by omega⟩
    have e : i = 13 := by omega
    subst e
    exact br_t (nI_lt (a := 12) (b := 13) (by omega) (by decide)) (nm_e (K sub (hs_I91_e h)))
  | succ d ih =>
    intro n i sub hi hn h1 h
    obtain ⟨n, rfl⟩ : ∃ k, n = k + 1 := ⟨n - 1, by omega⟩
    have ei : (nI i).toNatClampNeg = i := nI_clamp (by omega)
    refine br_f (nI_nlt (a := 12) (b := i) (by omega) (by decide)) ⟨vp_in_nI (by omega) (by decide), ?_⟩
    rcases C i h1 (by omega) with g | g
    · refine br_t (by rw [ei, g.2]; decide) (nm_r (nI_1 i) ?_)
      exact ih n (i + 1) sub (by omega) (by omega) (by omega) (hs_I91_s h (fun _ _ z => absurd g.1 z))
    · obtain ⟨g0, g1, g2, g3, g4, g5, g6⟩ := g
      by_cases z : p i = 0
      · refine br_t (by rw [ei, g2, z]; decide) (nm_r (nI_1 i) ?_)
        exact ih n (i + 1) sub (by omega) (by omega) (by omega) (hs_I91_s h (fun _ _ _ _ b _ hA => by rw [z] at hA; exact absurd hA hs_A0))
      · refine br_f (by rw [ei, g2]; exact nI_nle (by omega) (by omega)) ⟨13, ?_⟩
        exact hs_y109 (k := k) C h1 (by omega) g0 z (fun sub' h' => ih n (i + 1) sub' (by omega) (by omega) (by omega) h') 12 13 1 sub (by omega) (by omega) ⟨h, fun _ b hb hA => absurd (show b = 0 by omega) (hs_At hA)⟩
/-- the rounds -/
theorem hs_y83 {fr ff : Int32} (C : hs_C sup df par p rk) (K : ∀ sub : Nat → Int32, hs_I83 df p rk sub 12 → ∃ n, wY_raise_174 post x1 fr ff par sub rm rd fm fp fs n (-1) (-1) (nI 0)) : ∀ (d n k : Nat) (sub : Nat → Int32), k + d = 12 → d < n → hs_I83 df p rk sub k →
    wY_raise_83 post x1 fr ff n (nI k) par sub rm rd fm fp fs := by
  intro d
  induction d with
  | zero =>
    intro n k sub hk hn h
    obtain ⟨n, rfl⟩ : ∃ k, n = k + 1 := ⟨n - 1, by omega⟩
    have e : k = 12 := by omega
    subst e
    exact br_t (nI_le (a := 12) (b := 12) (by omega) (by decide)) (K sub h)
  | succ d ih =>
    intro n k sub hk hn h
    obtain ⟨n, rfl⟩ : ∃ k, n = k + 1 := ⟨n - 1, by omega⟩
    refine br_f (nI_ge (b := 12) (by omega) (by decide)) ⟨13, ?_⟩
    refine hs_y91 (k := k) C (fun sub' h' => ?_) 12 13 1 sub (by omega) (by omega) (by omega) (hs_I91_0 h)
    rw [nI_1 k]
    exact ih n (k + 1) sub' (by omega) (by omega) h'
/-- the whole table -/
theorem hs_ytab {fr ff : Int32} (C : hs_C sup df par p rk) (sub0 : Nat → Int32) (K : ∀ sub : Nat → Int32, hs_I83 df p rk sub 12 → ∃ n, wY_raise_174 post x1 fr ff par sub rm rd fm fp fs n (-1) (-1) (nI 0)) :
    ∃ n, wY_raise_26 post x1 fr ff n (nI 0) par sub0 rm rd fm fp fs := by
  refine ⟨170, hs_y26 (fun sub h => ⟨13, ?_⟩) 169 170 0 sub0 (by omega) (by omega) (fun j hj => by omega)⟩
  refine hs_y48 C (fun sub' h' => ⟨13, hs_y83 C K 12 13 0 sub' (by omega) (by omega) h'⟩) 12 13 1 sub (by omega) (by omega) (by omega) (fun a b ha hb => Or.inl (h _ (by omega))) (fun a x y => by omega)
end
end
section
section
variable {post : Int64 → SY → Prop} {sup df par sub rm rd fm fp fs : Nat → Int32} {p rk : Nat → Nat}
/-- the rows of frame f, from the last to the first, over any invariant -/
theorem hs_y191 {J174 : Int32 → Int32 → Int32 → Prop} {fr ff : Int32} {R f c : Nat} {Inv : Nat → Int32 → Int32 → Prop} (hR : hs_R rd R) (hR6 : R ≤ 6) (hf : f < 6) (c12 : c ≤ 12) (hs : ∀ t, t ≤ 12 → (sub (c * 13 + t) = 0 ↔ ¬ hs_A p c t))
    (hit : ∀ r x2 x3, r < R → hs_H p rm rd fm fp c r f → Inv (r + 1) x2 x3 → Inv r (nI f) (nI r)) (miss : ∀ r x2 x3, r < R → ¬ hs_H p rm rd fm fp c r f → Inv (r + 1) x2 x3 → Inv r x2 x3)
    (K : ∀ x2 x3, Inv 0 x2 x3 → J174 x2 x3 (nI (f + 1))) : ∀ (j n : Nat) (x2 x3 : Int32), j ≤ R → j < n → Inv j x2 x3 →
    wY_raise_191 post J174 (nI c) (nI f) fr ff par sub rm rd fm fp fs n x2 x3 (nI j + (-1)) := by
  have ef : (nI f).toNatClampNeg = f := nI_clamp (by omega)
  intro j
  induction j with
  | zero =>
    intro n x2 x3 _ hn h
    obtain ⟨n, rfl⟩ : ∃ k, n = k + 1 := ⟨n - 1, by omega⟩
    exact br_t (by decide) (nm_r (nI_1 f) (K x2 x3 h))
  | succ j ih =>
    intro n x2 x3 hj hn h
    obtain ⟨n, rfl⟩ : ∃ k, n = k + 1 := ⟨n - 1, by omega⟩
    rw [pk_m1]
    have ej : (nI j).toNatClampNeg = j := nI_clamp (by omega)
    have m0 : nI j * 4 = nI (j * 4) := pk_mul j 4
    have m1 : nI j * 4 + 1 = nI (j * 4 + 1) := by rw [m0]; exact nI_1 _
    have m3 : nI j * 4 + 3 = nI (j * 4 + 3) := by rw [m0]; exact nI_add (j * 4) 3
    have e0 : (nI j * 4).toNatClampNeg = j * 4 := pk_cl (j * 4) m0
    have e1 : (nI j * 4 + 1).toNatClampNeg = j * 4 + 1 := pk_cl (j * 4 + 1) m1
    have e3 : (nI j * 4 + 3).toNatClampNeg = j * 4 + 3 := pk_cl (j * 4 + 3) m3
    obtain ⟨hT, hT12⟩ := hs_RT hR (show j < R by omega)
    have mc : nI c * 13 + nI (hs_T rd j) = nI (c * 13 + hs_T rd j) := by
      rw [← nI_add, ← pk_mul]
      rfl
    have ec : (nI c * 13 + nI (hs_T rd j)).toNatClampNeg = c * 13 + hs_T rd j := pk_cl (c * 13 + hs_T rd j) mc
    have hno : ¬ hs_H p rm rd fm fp c j f → wY_raise_191 post J174 (nI c) (nI f) fr ff par sub rm rd fm fp fs n x2 x3 (nI j + (-1)) := fun z => ih n x2 x3 (by omega) (by omega) (miss j x2 x3 (by omega) z h)
    have hyes : hs_H p rm rd fm fp c j f → wY_raise_191 post J174 (nI c) (nI f) fr ff par sub rm rd fm fp fs n (nI f) (nI j) (nI j + (-1)) := fun z => ih n (nI f) (nI j) (by omega) (by omega) (hit j x2 x3 (by omega) z h)
    refine br_f (nI_pos (by omega)) ⟨pk_in (j * 4 + 3) 24 (by omega) m3, nm_r (e' := nI (hs_T rd j)) (by rw [e3]; exact hT) ⟨vp_in_nI (by omega) (by decide), vp_in_nI (by omega) (by decide), ?_⟩⟩
    by_cases h1 : rm j = fm f
    · refine br_t (by rw [ej, ef]; exact h1) ⟨pk_in (j * 4) 24 (by omega) m0, vp_in_nI (by omega) (by decide), ?_⟩
      by_cases h2 : fp f < rd (j * 4)
      · exact br_t (by rw [e0, ef]; exact h2) (nm_e (hno (fun z => z.2.1 h2)))
      · refine br_f (by rw [e0, ef]; exact h2) ⟨vp_in_nI (by omega) (by decide), pk_in (j * 4 + 1) 24 (by omega) m1, ?_⟩
        by_cases h3 : rd (j * 4 + 1) ≤ fp f
        · exact br_t (by rw [e1, ef]; exact h3) (nm_e (hno (fun z => Int32.not_le.mpr z.2.2.1 h3)))
        · have h3' : fp f < rd (j * 4 + 1) := Int32.not_le.mp h3
          refine br_f (by rw [e1, ef]; exact h3) ?_
          refine pk_eq (hs_T rd j) 0 (fun z => nm_e (hyes ⟨h1, h2, h3', Or.inl z⟩)) (fun nz => ⟨pk_in (c * 13 + hs_T rd j) 169 (by omega) mc, ?_⟩)
          by_cases h4 : sub (c * 13 + hs_T rd j) = 0
          · exact br_t (by rw [ec]; exact h4) (nm_e (hno (fun z => z.2.2.2.elim nz ((hs _ hT12).mp h4))))
          · exact br_f (by rw [ec]; exact h4) (nm_e (hyes ⟨h1, h2, h3', Or.inr (Classical.byContradiction (fun z => h4 ((hs _ hT12).mpr z)))⟩))
    · exact br_f (by rw [ej, ef]; exact h1) (nm_e (hno (fun z => h1 z.1)))
/-- the frames, from the first to the last -/
theorem hs_y174 {R F c : Nat} {Inv : Nat → Nat → Int32 → Int32 → Prop} (hR : hs_R rd R) (hR6 : R ≤ 6) (hF : F ≤ 6) (c12 : c ≤ 12) (hs : ∀ t, t ≤ 12 → (sub (c * 13 + t) = 0 ↔ ¬ hs_A p c t))
    (hit : ∀ f r x2 x3, f < F → r < R → hs_H p rm rd fm fp c r f → Inv f (r + 1) x2 x3 → Inv f r (nI f) (nI r)) (miss : ∀ f r x2 x3, f < F → r < R → ¬ hs_H p rm rd fm fp c r f → Inv f (r + 1) x2 x3 → Inv f r x2 x3)
    (next : ∀ f x2 x3, f < F → Inv f 0 x2 x3 → Inv (f + 1) R x2 x3)
    (K : ∀ x2 x3, Inv F R x2 x3 → ∃ n, wY_raise_312 post x2 x3 (nI R) (nI F) par sub rm rd fm fp fs n 0 (x2 + 1)) : ∀ (d n f : Nat) (x2 x3 : Int32), f + d = F → d < n → Inv f R x2 x3 →
    wY_raise_174 post (nI c) (nI R) (nI F) par sub rm rd fm fp fs n x2 x3 (nI f) := by
  intro d
  induction d with
  | zero =>
    intro n f x2 x3 hf hn h
    obtain ⟨n, rfl⟩ : ∃ k, n = k + 1 := ⟨n - 1, by omega⟩
    have e : f = F := by omega
    subst e
    exact br_t (nI_le (Nat.le_refl _) (by omega)) (nm_e (K x2 x3 h))
  | succ d ih =>
    intro n f x2 x3 hf hn h
    obtain ⟨n, rfl⟩ : ∃ k, n = k + 1 := ⟨n - 1, by omega⟩
    have e : nI R - 1 = nI R + (-1) := Int32.sub_eq_add_neg _ _
    refine br_f (nI_ge (by omega) (by omega)) (nm_r e ⟨R + 1, ?_⟩)
    exact hs_y191 (Inv := Inv f) hR hR6 (by omega) c12 hs (fun r y2 y3 a b g => hit f r y2 y3 (by omega) a b g) (fun r y2 y3 a b g => miss f r y2 y3 (by omega) a b g) (fun y2 y3 g => ih n (f + 1) y2 y3 (by omega) (by omega) (next f y2 y3 (by omega) g)) R (R + 1) x2 x3 (by omega) (by omega) h
/-- the loop that counts the released -/
theorem hs_y312 {fr x2 x3 : Int32} {F g : Nat} (hF : F ≤ 6) (K : ∀ n k : Nat, k + hs_ct fs g = hs_ct fs F → wY_raise_312 post x2 x3 fr (nI F) par sub rm rd fm fp fs (n + 1) (hs_L k) (nI F)) : ∀ d n i k : Nat, i + d = F → d < n → k + hs_ct fs g = hs_ct fs i →
    wY_raise_312 post x2 x3 fr (nI F) par sub rm rd fm fp fs n (hs_L k) (nI i) := by
  intro d
  induction d with
  | zero =>
    intro n i k hi hn hk
    obtain ⟨n, rfl⟩ : ∃ k, n = k + 1 := ⟨n - 1, by omega⟩
    have e : i = F := by omega
    subst e
    exact K n k hk
  | succ d ih =>
    intro n i k hi hn hk
    obtain ⟨n, rfl⟩ : ∃ k, n = k + 1 := ⟨n - 1, by omega⟩
    have ei : (nI i).toNatClampNeg = i := nI_clamp (by omega)
    have k8 : k < 8 := by
      have := hs_ct_le fs i
      omega
    refine br_f (nI_ge (by omega) (by omega)) ⟨vp_in_nI (by omega) (by decide), ?_⟩
    by_cases z : fs i = 0
    · exact br_t (by rw [ei]; exact z) (nm_r (nI_1 i) (ih n (i + 1) k (by omega) (by omega) (by rw [hs_ct0 z]; exact hk)))
    · exact br_f (by rw [ei]; exact z) (nm_r (hs_L1 k k8) (nm_r (nI_1 i) (ih n (i + 1) (k + 1) (by omega) (by omega) (by rw [hs_ct1 z]; omega))))
/-- Y's raise, no hit -/
theorem hs_yN {R F c : Nat} {sub0 : Nat → Int32} (C : hs_C sup df par p rk) (hR : hs_R rd R) (hR6 : R ≤ 6) (hF : F ≤ 6) (c1 : 1 ≤ c) (c12 : c ≤ 12) (cd : ¬ df c = 0)
    (h : ∀ f, f < F → ∀ r, r < R → ¬ hs_H p rm rd fm fp c r f) (hp : ∀ sub, post (hs_L (hs_ct fs F) ||| 4294967295) (nI R, nI 0, par, sub, rm, rd, fm, fp, fs)) :
    ∃ n, wY_raise_26 post (nI c) (nI R) (nI F) n (nI 0) par sub0 rm rd fm fp fs := by
  refine hs_ytab C sub0 (fun sub hI => ⟨F + 1, ?_⟩)
  refine hs_y174 (Inv := fun _ _ x2 _ => x2 = -1) hR hR6 hF c12 (fun t ht => hs_I83_e C hI c1 c12 cd ht) (fun f r _ _ a b z _ => absurd z (h f a r b)) (fun _ _ _ _ _ _ _ g => g) (fun _ _ _ _ g => g) (fun x2 x3 e => ⟨F + 1, ?_⟩) F (F + 1) 0 (-1) (-1) (by omega) (by omega) rfl
  have e : x2 = -1 := e
  subst e
  have z : hs_ct fs 0 = 0 := rfl
  have e1 : (-1 : Int32) + 1 = nI 0 := by decide +kernel
  rw [e1, ← hs_L0]
  refine hs_y312 (g := 0) hF (fun n k hk => ?_) F (F + 1) 0 0 (by omega) (by omega) (by omega)
  have ek : k = hs_ct fs F := by omega
  subst ek
  exact br_t (nI_le (Nat.le_refl _) (by omega)) (nm_r e1 (br_f (by decide) (hp sub)))
/-- Y's raise, the hit (f, q) -/
theorem hs_yH {R F c f q k : Nat} {sub0 : Nat → Int32} (C : hs_C sup df par p rk) (hR : hs_R rd R) (hR6 : R ≤ 6) (hF : F ≤ 6) (c1 : 1 ≤ c) (c12 : c ≤ 12) (cd : ¬ df c = 0) (hf : f < F) (hq : q < R)
    (hH : hs_H p rm rd fm fp c q f) (hl : ∀ r, r < q → ¬ hs_H p rm rd fm fp c r f) (h : ∀ f', f < f' → f' < F → ∀ r, r < R → ¬ hs_H p rm rd fm fp c r f') (hk : k + hs_ct fs (f + 1) = hs_ct fs F)
    (hp : ∀ sub, post ((hs_L k ||| ((nI (f + 1) <<< ((16 : Int32) &&& 31)).toInt64)) ||| ((rd (q * 4 + 2)).toInt64)) (nI R, nI (f + 1), par, sub, rm, rd, fm, upd fp f (vp_nar .char (rd (q * 4 + 2))), fs)) :
    ∃ n, wY_raise_26 post (nI c) (nI R) (nI F) n (nI 0) par sub0 rm rd fm fp fs := by
  refine hs_ytab C sub0 (fun sub hI => ⟨F + 1, ?_⟩)
  refine hs_y174 (Inv := fun g j x2 x3 => (f < g ∨ (g = f ∧ j ≤ q)) → x2 = nI f ∧ x3 = nI q) hR hR6 hF c12 (fun t ht => hs_I83_e C hI c1 c12 cd ht) ?_ ?_ ?_ (fun x2 x3 e => ⟨F + 1, ?_⟩) F (F + 1) 0 (-1) (-1) (by omega) (by omega) (fun z => by omega)
  · intro g r x2 x3 a b z _ w
    rcases w with w | w
    · exact absurd z (h g w a r b)
    · obtain ⟨w1, w2⟩ := w
      subst w1
      by_cases e : r = q
      · subst e
        exact ⟨rfl, rfl⟩
      · exact absurd z (hl r (by omega))
  · intro g r x2 x3 a b z i w
    refine i ?_
    rcases w with w | w
    · exact Or.inl w
    · obtain ⟨w1, w2⟩ := w
      refine Or.inr ⟨w1, ?_⟩
      by_cases e : r = q
      · subst e w1
        exact absurd hH z
      · omega
  · intro g x2 x3 a i w
    exact i (by omega)
  · obtain ⟨ea, eb⟩ := e (Or.inl hf)
    subst ea eb
    rw [nI_1, ← hs_L0]
    have m2 : nI q * 4 + 2 = nI (q * 4 + 2) := by rw [show nI q * 4 = nI (q * 4) from pk_mul q 4]; exact nI_add (q * 4) 2
    have e2 : (nI q * 4 + 2).toNatClampNeg = q * 4 + 2 := pk_cl (q * 4 + 2) m2
    have ef : (nI f).toNatClampNeg = f := nI_clamp (by omega)
    refine hs_y312 (g := f + 1) hF (fun n k' hk' => ?_) (F - (f + 1)) (F + 1) (f + 1) 0 (by omega) (by omega) (by omega)
    have ek : k' = k := by omega
    subst ek
    refine br_t (nI_le (Nat.le_refl _) (by omega)) (nm_r (nI_1 f) (br_t (nI_pos' (by omega)) ⟨pk_in (q * 4 + 2) 24 (by omega) m2, vp_in_nI (by omega) (by decide), nm_r (e' := upd fp f (vp_nar .char (rd (q * 4 + 2)))) (by rw [e2, ef]) ?_⟩))
    rw [e2]
    exact hp sub
end
end
section
/-! the range of a class number; the answers' two forms -/
theorem hs_rng {x : Int32} (h0 : ¬ x < 1) (h12 : x ≤ 12) : ∃ i, 1 ≤ i ∧ i ≤ 12 ∧ x = nI i := by
  have h00 : ¬ x < 0 := fun z => h0 (Int32.lt_trans z (by decide))
  obtain ⟨j, hj, rfl⟩ := nI_of2 (M := 12) (n := 12) (by decide) h00 h12
  refine ⟨j, ?_, hj, rfl⟩
  apply Nat.pos_of_ne_zero
  intro e
  subst e
  exact h0 (by decide)
theorem hs_bits (k : Int64) (a h : Int32) : (k ||| a.toInt64) ||| h.toInt64 = k ||| ((a ||| h).toInt64) := by
  rw [Int64.or_assoc, Int32.toInt64_or]
def hs_rd (rd : Nat → Int32) (R : Nat) (s e h t : Int32) : Nat → Int32 :=
  upd (upd (upd (upd rd (R * 4) (vp_nar .char s)) (R * 4 + 1) (vp_nar .char e)) (R * 4 + 2) (vp_nar .char h)) (R * 4 + 3) (vp_nar .char t)
theorem hs_Rnew {rd : Nat → Int32} {R : Nat} (hR : hs_R rd R) (s e h v : Int32) (ht : (v.toUInt32 % 65536).toInt32 ≤ 12) : hs_R (hs_rd rd R s e h (v.toUInt32 % 65536).toInt32) (R + 1) := by
  intro r hr
  by_cases z : r = R
  · subst z
    have w := pk_vc v
    rw [pk_char v] at ht w
    have lw : v.toBitVec.toNat % 65536 < 65536 := Nat.mod_lt _ (by decide)
    refine ⟨v.toBitVec.toNat % 65536, ?_, ?_⟩
    · exact (nI_leI (b := 12) (by omega) (by decide)).mp ht
    · unfold hs_rd
      rw [pk_us, pk_char v]
      exact w
  · obtain ⟨t, h12, et⟩ := hR r (by omega)
    refine ⟨t, h12, ?_⟩
    unfold hs_rd
    rw [pk_un (by omega), pk_un (by omega), pk_un (by omega), pk_un (by omega)]
    exact et
section
variable {sup df par sub rm rd fm fp fs : Nat → Int32}
theorem hs_xc51 {post : Int32 → SX → Prop} {fr ff : Int32} {i s : Nat} (hi : i ≤ 12) (hs : s ≤ 12) (h : post 0 (fr, ff, upd sup i (nI s), upd df i (vp_nar .boolean 1), rm, rd, fm, fp, fs)) :
    wX_cls_51 post (nI i) (nI s) fr ff sup df rm rd fm fp fs := by
  have ei : (nI i).toNatClampNeg = i := nI_clamp (by omega)
  exact ⟨vp_in_nI (by omega) (by decide), nm_r (e' := upd df i (vp_nar .boolean 1)) (by rw [ei]) ⟨vp_in_nI (by omega) (by decide), nm_r (e' := upd sup i (nI s)) (by rw [ei, hs_b13 s (by omega)]) h⟩⟩
theorem hs_yc51 {post : Int32 → SY → Prop} {fr ff : Int32} {i s : Nat} (hi : i ≤ 12) (hs : s ≤ 12) (h : post 0 (fr, ff, upd par i (nI s), sub, rm, rd, fm, fp, fs)) :
    wY_cls_51 post (nI i) (nI s) fr ff par sub rm rd fm fp fs := by
  have ei : (nI i).toNatClampNeg = i := nI_clamp (by omega)
  exact ⟨vp_in_nI (by omega) (by decide), nm_r (e' := upd par i (nI s)) (by rw [ei, hs_b13 s (by omega)]) h⟩
theorem hs_xe {post : Int32 → SX → Prop} {ff : Int32} {R : Nat} {v1 v2 v3 v4 v5 : Int32} (hr : R < 6) (hse : (v2.toUInt32 % 65536).toInt32 < (v3.toUInt32 % 65536).toInt32) (ht : (v5.toUInt32 % 65536).toInt32 ≤ 12)
    (h : post 0 (nI (R + 1), ff, sup, df, upd rm R (vp_nar .short v1.toInt16.toInt32), hs_rd rd R (v2.toUInt32 % 65536).toInt32 (v3.toUInt32 % 65536).toInt32 (v4.toUInt32 % 65536).toInt32 (v5.toUInt32 % 65536).toInt32, fm, fp, fs)) :
    wpX_entry post (nI R, ff, sup, df, rm, rd, fm, fp, fs) v1 v2 v3 v4 v5 := by
  have eR : (nI R).toNatClampNeg = R := nI_clamp (by omega)
  have e0 : (nI (R * 4)).toNatClampNeg = R * 4 := nI_clamp (by omega)
  have e1 : (nI (R * 4) + 1).toNatClampNeg = R * 4 + 1 := pk_cl (R * 4 + 1) (nI_1 _)
  have e2 : (nI (R * 4) + 2).toNatClampNeg = R * 4 + 2 := pk_cl (R * 4 + 2) (nI_add (R * 4) 2)
  have e3 : (nI (R * 4) + 3).toNatClampNeg = R * 4 + 3 := pk_cl (R * 4 + 3) (nI_add (R * 4) 3)
  unfold wpX_entry
  refine nm_e (nm_e (nm_e (nm_e (br_t hse (br_t ht (br_t (nI_lt (b := 6) hr (by decide)) ⟨vp_in_nI hr (by decide), nm_r (by rw [eR]) (nm_r (e' := nI (R * 4)) (pk_mul R 4) ⟨vp_in_nI (by omega) (by decide), nm_e ⟨pk_in (R * 4 + 1) 24 (by omega) (nI_1 _), nm_e ⟨pk_in (R * 4 + 2) 24 (by omega) (nI_add (R * 4) 2), nm_e ⟨pk_in (R * 4 + 3) 24 (by omega) (nI_add (R * 4) 3), nm_e (nm_r (nI_1 R) ?_)⟩⟩⟩⟩)⟩))))))
  rw [e0, e1, e2, e3]
  exact h
theorem hs_ye {post : Int32 → SY → Prop} {ff : Int32} {R : Nat} {v1 v2 v3 v4 v5 : Int32} (hr : R < 6) (hse : (v2.toUInt32 % 65536).toInt32 < (v3.toUInt32 % 65536).toInt32) (ht : (v5.toUInt32 % 65536).toInt32 ≤ 12)
    (h : post 0 (nI (R + 1), ff, par, sub, upd rm R (vp_nar .short v1.toInt16.toInt32), hs_rd rd R (v2.toUInt32 % 65536).toInt32 (v3.toUInt32 % 65536).toInt32 (v4.toUInt32 % 65536).toInt32 (v5.toUInt32 % 65536).toInt32, fm, fp, fs)) :
    wpY_entry post (nI R, ff, par, sub, rm, rd, fm, fp, fs) v1 v2 v3 v4 v5 := by
  have eR : (nI R).toNatClampNeg = R := nI_clamp (by omega)
  have e0 : (nI (R * 4)).toNatClampNeg = R * 4 := nI_clamp (by omega)
  have e1 : (nI (R * 4) + 1).toNatClampNeg = R * 4 + 1 := pk_cl (R * 4 + 1) (nI_1 _)
  have e2 : (nI (R * 4) + 2).toNatClampNeg = R * 4 + 2 := pk_cl (R * 4 + 2) (nI_add (R * 4) 2)
  have e3 : (nI (R * 4) + 3).toNatClampNeg = R * 4 + 3 := pk_cl (R * 4 + 3) (nI_add (R * 4) 3)
  unfold wpY_entry
  refine nm_e (nm_e (nm_e (br_t hse (br_t ht (br_t (nI_lt (b := 6) hr (by decide)) ⟨vp_in_nI hr (by decide), nm_r (by rw [eR]) (nm_r (nI_1 R) (nm_r (e' := nI (R * 4)) (pk_mul R 4) ⟨vp_in_nI (by omega) (by decide), nm_e ⟨pk_in (R * 4 + 1) 24 (by omega) (nI_1 _), nm_e ⟨pk_in (R * 4 + 2) 24 (by omega) (nI_add (R * 4) 2), nm_e ⟨pk_in (R * 4 + 3) 24 (by omega) (nI_add (R * 4) 3), nm_e ?_⟩⟩⟩⟩))⟩)))))
  rw [e0, e1, e2, e3]
  exact h
theorem hs_xp {post : Int32 → SX → Prop} {fr : Int32} {F : Nat} {v1 v2 b : Int32} (hF : F < 6)
    (h : post (nI (F + 1)) (fr, nI (F + 1), sup, df, rm, rd, upd fm F (vp_nar .short v1.toInt16.toInt32), upd fp F (vp_nar .char ((v2.toUInt32 % 65536).toInt32)), upd fs F (vp_nar .boolean b))) :
    wpX_push post (fr, nI F, sup, df, rm, rd, fm, fp, fs) v1 v2 b := by
  have eF : (nI F).toNatClampNeg = F := nI_clamp (by omega)
  have vF : vp_in (nI F) 6 := vp_in_nI hF (by decide)
  unfold wpX_push
  refine br_t (nI_lt (b := 6) hF (by decide)) ⟨vF, nm_e ⟨vF, nm_e ⟨vF, nm_e (nm_r (nI_1 F) ?_)⟩⟩⟩
  rw [eF]
  exact h
theorem hs_yp {post : Int32 → SY → Prop} {fr : Int32} {F : Nat} {v1 v2 b : Int32} (hF : F < 6)
    (h : post (nI (F + 1)) (fr, nI (F + 1), par, sub, rm, rd, upd fm F (vp_nar .short v1.toInt16.toInt32), upd fp F (vp_nar .char ((v2.toUInt32 % 65536).toInt32)), upd fs F (vp_nar .boolean b))) :
    wpY_push post (fr, nI F, par, sub, rm, rd, fm, fp, fs) v1 v2 b := by
  have eF : (nI F).toNatClampNeg = F := nI_clamp (by omega)
  have vF : vp_in (nI F) 6 := vp_in_nI hF (by decide)
  unfold wpY_push
  refine br_t (nI_lt (b := 6) hF (by decide)) ⟨vF, nm_e ⟨vF, nm_e ⟨vF, nm_e (nm_r (nI_1 F) ?_)⟩⟩⟩
  rw [eF, nI_1 F]
  exact h
theorem hs_yinit {post : SY → Prop} {fr ff : Int32} (K : ∀ par : Nat → Int32, (∀ j, j < 13 → par j = -1) → post (fr, ff, par, sub, rm, rd, fm, fp, fs)) : ∀ (d n i : Nat) (par : Nat → Int32), i + d = 13 → d < n → (∀ j, j < i → par j = -1) →
    wY_init_63 post fr ff n (nI i) par sub rm rd fm fp fs := by
  intro d
  induction d with
  | zero =>
    intro n i par hi hn h
    obtain ⟨n, rfl⟩ : ∃ k, n = k + 1 := ⟨n - 1, by omega⟩
    have e : i = 13 := by omega
    subst e
    exact br_t (nI_le (a := 13) (b := 13) (by omega) (by decide)) (K par h)
  | succ d ih =>
    intro n i par hi hn h
    obtain ⟨n, rfl⟩ : ∃ k, n = k + 1 := ⟨n - 1, by omega⟩
    have ei : (nI i).toNatClampNeg = i := nI_clamp (by omega)
    refine br_f (nI_ge (b := 13) (by omega) (by decide)) ⟨vp_in_nI (by omega) (by decide), nm_r (e' := upd par i (-1)) (by rw [ei, hs_bm1]) (nm_r (nI_1 i) ?_)⟩
    refine ih n (i + 1) (upd par i (-1)) (by omega) (by omega) (fun j hj => ?_)
    by_cases e : j = i
    · rw [e, pk_us]
    · rw [pk_un e]
      exact h j (by omega)
end
end
section
/-- rows, frames and their arrays are the same on both sides; the classes by hs_C; Y's table is free -/
def i_Rel (k : Nat) (u : SX) (v : SY) : Prop :=
  ∃ (R F : Nat) (sup df par sub rm rd fm fp fs : Nat → Int32) (p rk : Nat → Nat), u = (nI R, nI F, sup, df, rm, rd, fm, fp, fs) ∧ v = (nI R, nI F, par, sub, rm, rd, fm, fp, fs) ∧ R ≤ 6 ∧ F ≤ 6 ∧ hs_C sup df par p rk ∧ hs_R rd R
theorem i_up {k : Nat} {u : SX} {v : SY} (h : i_Rel k u v) : i_Rel (k + 6) u v := h
theorem hs_mk {k R F : Nat} {sup df par sub rm rd fm fp fs : Nat → Int32} {p rk : Nat → Nat} (hR6 : R ≤ 6) (hF : F ≤ 6) (C : hs_C sup df par p rk) (hR : hs_R rd R) : i_Rel k (nI R, nI F, sup, df, rm, rd, fm, fp, fs) (nI R, nI F, par, sub, rm, rd, fm, fp, fs) :=
  ⟨R, F, sup, df, par, sub, rm, rd, fm, fp, fs, p, rk, rfl, rfl, hR6, hF, C, hR⟩
theorem i_vc0 : wpX_init (fun u => wpY_init (fun v => i_Rel 0 u v)) := by
  unfold wpX_init wpY_init
  refine ⟨14, hs_yinit (fun par h => ?_) 13 14 0 _ (by omega) (by omega) (fun j hj => by omega)⟩
  exact hs_mk (R := 0) (F := 0) (by omega) (by omega) (hs_Cpar hs_C0 h) (fun r hr => by omega)
theorem i_vc_cls {k : Nat} {u : SX} {v : SY} (I : i_Rel k u v) (hk : k + 6 ≤ 3072) (v1 : Int32) (v2 : Int32) : wpX_cls (fun r u' => wpY_cls (fun r' v' => r' = r ∧ i_Rel (k + 6) u' v') v v1 v2) u v1 v2 := by
  obtain ⟨R, F, sup, df, par, sub, rm, rd, fm, fp, fs, p, rk, rfl, rfl, hR6, hF, C, hR⟩ := I
  have same : i_Rel (k + 6) (nI R, nI F, sup, df, rm, rd, fm, fp, fs) (nI R, nI F, par, sub, rm, rd, fm, fp, fs) := hs_mk hR6 hF C hR
  unfold wpX_cls wpY_cls
  by_cases h0 : v1 < 1
  · exact br_t h0 (br_t h0 ⟨rfl, same⟩)
  by_cases h12 : v1 ≤ 12
  · obtain ⟨i, i1, i12, rfl⟩ := hs_rng h0 h12
    have ei : (nI i).toNatClampNeg = i := nI_clamp (by omega)
    have vi : vp_in (nI i) 13 := vp_in_nI (by omega) (by decide)
    rcases C i i1 i12 with g | g
    · have gx : df (nI i).toNatClampNeg = 0 := by rw [ei]; exact g.1
      have gy : par (nI i).toNatClampNeg < 0 := by rw [ei, g.2]; exact hs_m1n
      by_cases s0 : v2 < 0
      · exact br_f h0 (br_t h12 ⟨vi, br_t gx (br_t s0 (br_f h0 (br_t h12 ⟨vi, br_t gy (br_t s0 ⟨rfl, same⟩)⟩)))⟩)
      by_cases s12 : v2 ≤ 12
      · obtain ⟨s, hs, rfl⟩ := nI_of2 (M := 12) (n := 12) (by decide) s0 s12
        have es : (nI s).toNatClampNeg = s := nI_clamp (by omega)
        have vs : vp_in (nI s) 13 := vp_in_nI (by omega) (by decide)
        have new : (s ≠ 0 → ¬ df s = 0) → i_Rel (k + 6) (nI R, nI F, upd sup i (nI s), upd df i (vp_nar .boolean 1), rm, rd, fm, fp, fs) (nI R, nI F, upd par i (nI s), sub, rm, rd, fm, fp, fs) :=
          fun z => hs_mk hR6 hF (hs_Cnew C i1 i12 g.1 hs z (by decide)) hR
        by_cases z : s = 0
        · subst z
          exact br_f h0 (br_t h12 ⟨vi, br_t gx (br_f s0 (br_t s12 (br_t rfl (hs_xc51 i12 hs (br_f h0 (br_t h12 ⟨vi, br_t gy (br_f s0 (br_t s12 (br_t rfl (hs_yc51 i12 hs ⟨rfl, new (fun z => absurd rfl z)⟩))))⟩))))))⟩)
        · have zs : ¬ nI s = 0 := nI_ne0 (by omega) (by omega)
          rcases C s (by omega) hs with w | w
          · have wx : df (nI s).toNatClampNeg = 0 := by rw [es]; exact w.1
            have wy : ¬ 0 ≤ par (nI s).toNatClampNeg := by rw [es, w.2]; decide
            exact br_f h0 (br_t h12 ⟨vi, br_t gx (br_f s0 (br_t s12 (br_f zs ⟨vs, br_t wx (br_f h0 (br_t h12 ⟨vi, br_t gy (br_f s0 (br_t s12 (br_f zs ⟨vs, br_f wy ⟨rfl, same⟩⟩)))⟩))⟩)))⟩)
          · have wx : ¬ df (nI s).toNatClampNeg = 0 := by rw [es]; exact w.1
            have w2 := w.2.2.1
            have w3 := w.2.2.2.1
            have wy : 0 ≤ par (nI s).toNatClampNeg := by rw [es, w2]; exact nI_pos' (by omega)
            exact br_f h0 (br_t h12 ⟨vi, br_t gx (br_f s0 (br_t s12 (br_f zs ⟨vs, br_f wx (hs_xc51 i12 hs (br_f h0 (br_t h12 ⟨vi, br_t gy (br_f s0 (br_t s12 (br_f zs ⟨vs, br_t wy (hs_yc51 i12 hs ⟨rfl, new (fun _ => w.1)⟩)⟩)))⟩)))⟩)))⟩)
      · exact br_f h0 (br_t h12 ⟨vi, br_t gx (br_f s0 (br_f s12 (br_f h0 (br_t h12 ⟨vi, br_t gy (br_f s0 (br_f s12 ⟨rfl, same⟩))⟩))))⟩)
    · have gx : ¬ df (nI i).toNatClampNeg = 0 := by rw [ei]; exact g.1
      have g2 := g.2.2.1
      have g3 := g.2.2.2.1
      have gy : ¬ par (nI i).toNatClampNeg < 0 := by rw [ei, g2]; exact nI_pos (by omega)
      exact br_f h0 (br_t h12 ⟨vi, br_f gx (br_f h0 (br_t h12 ⟨vi, br_f gy ⟨rfl, same⟩⟩))⟩)
  · exact br_f h0 (br_f h12 (br_f h0 (br_f h12 ⟨rfl, same⟩)))
theorem i_vc_entry {k : Nat} {u : SX} {v : SY} (I : i_Rel k u v) (hk : k + 6 ≤ 3072) (v1 : Int32) (v2 : Int32) (v3 : Int32) (v4 : Int32) (v5 : Int32) : wpX_entry (fun r u' => wpY_entry (fun r' v' => r' = r ∧ i_Rel (k + 6) u' v') v v1 v2 v3 v4 v5) u v1 v2 v3 v4 v5 := by
  obtain ⟨R, F, sup, df, par, sub, rm, rd, fm, fp, fs, p, rk, rfl, rfl, hR6, hF, C, hR⟩ := I
  have same : i_Rel (k + 6) (nI R, nI F, sup, df, rm, rd, fm, fp, fs) (nI R, nI F, par, sub, rm, rd, fm, fp, fs) := hs_mk hR6 hF C hR
  by_cases hse : (v2.toUInt32 % 65536).toInt32 < (v3.toUInt32 % 65536).toInt32
  · by_cases ht : (v5.toUInt32 % 65536).toInt32 ≤ 12
    · by_cases hr : R < 6
      · exact hs_xe hr hse ht (hs_ye hr hse ht ⟨rfl, hs_mk hr hF C (hs_Rnew hR _ _ _ v5 ht)⟩)
      · have hr' : ¬ nI R < 6 := nI_nlt (b := 6) (by omega) (by omega)
        unfold wpX_entry wpY_entry
        exact nm_e (nm_e (nm_e (nm_e (br_t hse (br_t ht (br_f hr' (nm_e (nm_e (nm_e (br_t hse (br_t ht (br_f hr' ⟨rfl, same⟩))))))))))))
    · unfold wpX_entry wpY_entry
      exact nm_e (nm_e (nm_e (nm_e (br_t hse (br_f ht (nm_e (nm_e (nm_e (br_t hse (br_f ht ⟨rfl, same⟩))))))))))
  · unfold wpX_entry wpY_entry
    exact nm_e (nm_e (nm_e (nm_e (br_f hse (nm_e (nm_e (nm_e (br_f hse ⟨rfl, same⟩))))))))
theorem i_vc_push {k : Nat} {u : SX} {v : SY} (I : i_Rel k u v) (hk : k + 6 ≤ 3072) (v1 : Int32) (v2 : Int32) (v3 : Int32) : wpX_push (fun r u' => wpY_push (fun r' v' => r' = r ∧ i_Rel (k + 6) u' v') v v1 v2 (lw_bz v3)) u v1 v2 (lw_bz v3) := by
  obtain ⟨R, F, sup, df, par, sub, rm, rd, fm, fp, fs, p, rk, rfl, rfl, hR6, hF, C, hR⟩ := I
  by_cases h : F < 6
  · exact hs_xp h (hs_yp h ⟨rfl, hs_mk hR6 h C hR⟩)
  · have h' : ¬ nI F < 6 := nI_nlt (b := 6) (by omega) (by omega)
    unfold wpX_push wpY_push
    exact br_f h' (br_f h' ⟨rfl, hs_mk hR6 hF C hR⟩)
theorem i_vc_raise {k : Nat} {u : SX} {v : SY} (I : i_Rel k u v) (hk : k + 6 ≤ 3072) (v1 : Int32) : wpX_raise (fun r u' => wpY_raise (fun r' v' => r' = r ∧ i_Rel (k + 6) u' v') v v1) u v1 := by
  obtain ⟨R, F, sup, df, par, sub, rm, rd, fm, fp, fs, p, rk, rfl, rfl, hR6, hF, C, hR⟩ := I
  have same : i_Rel (k + 6) (nI R, nI F, sup, df, rm, rd, fm, fp, fs) (nI R, nI F, par, sub, rm, rd, fm, fp, fs) := hs_mk hR6 hF C hR
  unfold wpX_raise wpY_raise
  by_cases h0 : v1 < 1
  · exact br_t h0 (br_t h0 ⟨rfl, same⟩)
  by_cases h12 : v1 ≤ 12
  · have h12y : ¬ 12 < v1 := Int32.not_lt.mpr h12
    obtain ⟨i, i1, i12, rfl⟩ := hs_rng h0 h12
    have ei : (nI i).toNatClampNeg = i := nI_clamp (by omega)
    have vi : vp_in (nI i) 13 := vp_in_nI (by omega) (by decide)
    rcases C i i1 i12 with g | g
    · have gx : df (nI i).toNatClampNeg = 0 := by rw [ei]; exact g.1
      have gy : ¬ 0 ≤ par (nI i).toNatClampNeg := by rw [ei, g.2]; decide
      exact br_f h0 (br_t h12 ⟨vi, br_t gx (br_f h0 (br_f h12y ⟨vi, br_f gy ⟨rfl, same⟩⟩))⟩)
    · have gx : ¬ df (nI i).toNatClampNeg = 0 := by rw [ei]; exact g.1
      have g2 := g.2.2.1
      have g3 := g.2.2.2.1
      have gy : 0 ≤ par (nI i).toNatClampNeg := by rw [ei, g2]; exact nI_pos' (by omega)
      rcases hs_best (fun r f => hs_H p rm rd fm fp i r f) R F with N | ⟨f, q, hf, hq, hH, hl, hu⟩
      · refine br_f h0 (br_t h12 ⟨vi, br_f gx (hs_xN C hR hR6 hF i1 i12 g.1 N ?_)⟩)
        refine br_f h0 (br_f h12y ⟨vi, br_t gy (hs_yN C hR hR6 hF i1 i12 g.1 N (fun sub' => ⟨rfl, ?_⟩))⟩)
        exact hs_mk hR6 (by omega) C hR
      · have hm := hs_ct_mono fs (f + 1) (F - (f + 1))
        have eF : f + 1 + (F - (f + 1)) = F := by omega
        rw [eF] at hm
        have hk' : hs_ct fs F - hs_ct fs (f + 1) + hs_ct fs (f + 1) = hs_ct fs F := by omega
        refine br_f h0 (br_t h12 ⟨vi, br_f gx (hs_xH C hR hR6 hF i1 i12 g.1 hf hq hH hl hu hk' ?_)⟩)
        refine br_f h0 (br_f h12y ⟨vi, br_t gy (hs_yH C hR hR6 hF i1 i12 g.1 hf hq hH hl hu hk' (fun sub' => ⟨hs_bits _ _ _, ?_⟩))⟩)
        exact hs_mk hR6 (by omega) C hR
  · have h12y : 12 < v1 := Int32.not_le.mp h12
    exact br_f h0 (br_f h12 (br_f h0 (br_t h12y ⟨rfl, same⟩)))
theorem i_vc_depth {k : Nat} {u : SX} {v : SY} (I : i_Rel k u v) (hk : k + 6 ≤ 3072) : wpX_depth (fun r => wpY_depth (fun r' => r' = r ∧ i_Rel (k + 6) u v) v) u := by
  obtain ⟨R, F, sup, df, par, sub, rm, rd, fm, fp, fs, p, rk, rfl, rfl, hR6, hF, C, hR⟩ := I
  exact ⟨rfl, hs_mk hR6 hF C hR⟩
theorem i_vc_pcAt {k : Nat} {u : SX} {v : SY} (I : i_Rel k u v) (hk : k + 6 ≤ 3072) (v1 : Int32) : wpX_pcAt (fun r => wpY_pcAt (fun r' => r' = r ∧ i_Rel (k + 6) u v) v v1) u v1 := by
  obtain ⟨R, F, sup, df, par, sub, rm, rd, fm, fp, fs, p, rk, rfl, rfl, hR6, hF, C, hR⟩ := I
  have same : i_Rel (k + 6) (nI R, nI F, sup, df, rm, rd, fm, fp, fs) (nI R, nI F, par, sub, rm, rd, fm, fp, fs) := hs_mk hR6 hF C hR
  unfold wpX_pcAt wpY_pcAt
  by_cases h0 : v1 < 0
  · exact br_t h0 (br_t h0 ⟨rfl, same⟩)
  · by_cases hl : v1 < nI F
    · obtain ⟨j, hj, rfl⟩ := nI_of h0
      have jF : j < F := (nI_ltI hj (by omega)).mp hl
      have vj : vp_in (nI j) 6 := vp_in_nI (by omega) (by decide)
      exact br_f h0 (br_t hl ⟨vj, br_f h0 (br_t hl ⟨vj, rfl, same⟩)⟩)
    · exact br_f h0 (br_f hl (br_f h0 (br_f hl ⟨rfl, same⟩)))
end
