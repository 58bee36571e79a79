section
/-! ===== counting, chains, sets of bits: no program in sight ===== -/
/-- 1 where P holds, else 0 -/
noncomputable def fq_b (P : Prop) : Nat := @ite Nat P (Classical.propDecidable P) 1 0
theorem fq_bt {P : Prop} (h : P) : fq_b P = 1 := if_pos h
theorem fq_bf {P : Prop} (h : ¬ P) : fq_b P = 0 := if_neg h
theorem fq_bi {P Q : Prop} (h : P ↔ Q) : fq_b P = fq_b Q := by rw [propext h]
theorem fq_b1 (P : Prop) : fq_b P ≤ 1 := by
  by_cases h : P
  · rw [fq_bt h]; exact Nat.le_refl 1
  · rw [fq_bf h]; exact Nat.zero_le 1
theorem fq_bm {P Q : Prop} (h : P → Q) : fq_b P ≤ fq_b Q := by
  by_cases hp : P
  · rw [fq_bt hp, fq_bt (h hp)]; exact Nat.le_refl 1
  · rw [fq_bf hp]; exact Nat.zero_le _
theorem fq_ba {P Q R : Prop} (h1 : R ↔ P ∨ Q) (h2 : P → Q → False) : fq_b R = fq_b P + fq_b Q := by
  by_cases hp : P
  · rw [fq_bt hp, fq_bf (fun q => h2 hp q), fq_bt (h1.mpr (Or.inl hp))]
  · by_cases hq : Q
    · rw [fq_bf hp, fq_bt hq, fq_bt (h1.mpr (Or.inr hq))]
    · rw [fq_bf hp, fq_bf hq, fq_bf (fun r => (h1.mp r).elim hp hq)]
/-- how many of the first n meet P -/
noncomputable def fq_C (P : Nat → Prop) : Nat → Nat
  | 0 => 0
  | n + 1 => fq_C P n + fq_b (P n)
theorem fq_Cs (P : Nat → Prop) (n : Nat) : fq_C P (n + 1) = fq_C P n + fq_b (P n) := rfl
theorem fq_Cc {P Q : Nat → Prop} {n : Nat} (h : ∀ j, j < n → (P j ↔ Q j)) : fq_C P n = fq_C Q n := by
  induction n with
  | zero => rfl
  | succ n ih => rw [fq_Cs, fq_Cs, ih (fun j hj => h j (by omega)), fq_bi (h n (by omega))]
theorem fq_Ca {P Q R : Nat → Prop} {n : Nat} (h1 : ∀ j, j < n → (R j ↔ P j ∨ Q j)) (h2 : ∀ j, j < n → P j → Q j → False) : fq_C R n = fq_C P n + fq_C Q n := by
  induction n with
  | zero => rfl
  | succ n ih => rw [fq_Cs, fq_Cs, fq_Cs, ih (fun j hj => h1 j (by omega)) (fun j hj => h2 j (by omega)), fq_ba (h1 n (by omega)) (h2 n (by omega))]; omega
theorem fq_Cm {P Q : Nat → Prop} {n : Nat} (h : ∀ j, j < n → P j → Q j) : fq_C P n ≤ fq_C Q n := by
  induction n with
  | zero => exact Nat.le_refl 0
  | succ n ih =>
    have h1 := ih (fun j hj => h j (by omega))
    have h2 := fq_bm (h n (by omega))
    rw [fq_Cs, fq_Cs]
    omega
theorem fq_Cn (P : Nat → Prop) (n : Nat) : fq_C P n ≤ n := by
  induction n with
  | zero => exact Nat.le_refl 0
  | succ n ih =>
    have h := fq_b1 (P n)
    rw [fq_Cs]
    omega
theorem fq_C0 {P : Nat → Prop} {n : Nat} (h : ∀ j, j < n → ¬ P j) : fq_C P n = 0 := by
  induction n with
  | zero => rfl
  | succ n ih => rw [fq_Cs, ih (fun j hj => h j (by omega)), fq_bf (h n (by omega))]
theorem fq_C1 {P : Nat → Prop} {n : Nat} (h : ∀ j, j < n → P j) : fq_C P n = n := by
  induction n with
  | zero => rfl
  | succ n ih => rw [fq_Cs, ih (fun j hj => h j (by omega)), fq_bt (h n (by omega))]
/-- the last node below k, other than 0, at place p; 0 if there is none -/
def fq_pv (ps : Nat → Nat) (p : Nat) : Nat → Nat
  | 0 => 0
  | k + 1 => if 1 ≤ k ∧ ps k = p then k else fq_pv ps p k
theorem fq_pvt {ps : Nat → Nat} {p k : Nat} (h : 1 ≤ k ∧ ps k = p) : fq_pv ps p (k + 1) = k := if_pos h
theorem fq_pvf {ps : Nat → Nat} {p k : Nat} (h : ¬ (1 ≤ k ∧ ps k = p)) : fq_pv ps p (k + 1) = fq_pv ps p k := if_neg h
theorem fq_pv_ok {ps : Nat → Nat} {p k : Nat} (h : fq_pv ps p k ≠ 0) : 1 ≤ fq_pv ps p k ∧ fq_pv ps p k < k ∧ ps (fq_pv ps p k) = p := by
  induction k with
  | zero => exact absurd rfl h
  | succ k ih =>
    by_cases e : 1 ≤ k ∧ ps k = p
    · rw [fq_pvt e]
      exact ⟨e.1, by omega, e.2⟩
    · rw [fq_pvf e] at h ⊢
      have t := ih h
      exact ⟨t.1, by omega, t.2.2⟩
theorem fq_pv_no {ps : Nat → Nat} {p k y : Nat} (h1 : fq_pv ps p k < y) (h2 : y < k) : ps y ≠ p := by
  induction k with
  | zero => omega
  | succ k ih =>
    by_cases e : 1 ≤ k ∧ ps k = p
    · rw [fq_pvt e] at h1
      omega
    · rw [fq_pvf e] at h1
      by_cases ey : y = k
      · intro z
        exact e ⟨by omega, by rw [← ey]; exact z⟩
      · exact ih h1 (by omega)
theorem fq_pv_c {ps ps' : Nat → Nat} {p k : Nat} (h : ∀ y, y < k → ps y = ps' y) : fq_pv ps p k = fq_pv ps' p k := by
  induction k with
  | zero => rfl
  | succ k ih =>
    have t := ih (fun y hy => h y (by omega))
    have t2 := h k (by omega)
    by_cases e : 1 ≤ k ∧ ps k = p
    · rw [fq_pvt e, fq_pvt (by rw [← t2]; exact e)]
    · rw [fq_pvf e, fq_pvf (by rw [← t2]; exact e), t]
/-- sets as numbers: T is a part of U -/
def fq_sub (T U : Nat) : Prop := ∀ t, T.testBit t = true → U.testBit t = true
/-- in how many of the first n baskets T lies -/
noncomputable def fq_sup (B : Nat → Nat) (n T : Nat) : Nat := fq_C (fun j => fq_sub T (B j)) n
theorem fq_tb {a t : Nat} (h : a < 256) (ht : a.testBit t = true) : t < 8 := by
  rcases Nat.lt_or_ge t 8 with z | z
  · exact z
  · have h2 : (2 : Nat) ^ 8 ≤ 2 ^ t := Nat.pow_le_pow_right (by decide) z
    rw [Nat.testBit_lt_two_pow (by omega)] at ht
    exact absurd ht (by decide)
theorem fq_ori (S t i : Nat) : (S ||| 2 ^ t).testBit i = true ↔ S.testBit i = true ∨ i = t := by
  rw [Nat.testBit_or, Nat.testBit_two_pow, Bool.or_eq_true, decide_eq_true_eq]
  constructor
  · rintro (h | h)
    · exact Or.inl h
    · exact Or.inr h.symm
  · rintro (h | h)
    · exact Or.inl h
    · exact Or.inr h.symm
theorem fq_orL {S t : Nat} (hS : S < 256) (ht : t < 8) : S ||| 2 ^ t < 256 := by
  have h : 2 ^ t < 2 ^ 8 := Nat.pow_lt_pow_right (by decide) ht
  exact Nat.or_lt_two_pow (n := 8) hS h
theorem fq_orS (S t U : Nat) : fq_sub (S ||| 2 ^ t) U ↔ fq_sub S U ∧ U.testBit t = true := by
  constructor
  · intro h
    exact ⟨fun i hi => h i ((fq_ori S t i).mpr (Or.inl hi)), h t ((fq_ori S t t).mpr (Or.inr rfl))⟩
  · intro h i hi
    rcases (fq_ori S t i).mp hi with z | z
    · exact h.1 i z
    · rw [z]; exact h.2
theorem fq_ext {a b : Nat} (h : ∀ i, a.testBit i = true ↔ b.testBit i = true) : a = b := by
  apply Nat.eq_of_testBit_eq
  intro i
  have t := h i
  cases ha : a.testBit i <;> cases hb : b.testBit i <;> simp [ha, hb] at t ⊢
/-! ===== ints ===== -/
theorem fq_i8 : ∀ v, v < 128 → (nI v).toInt8.toInt32 = nI v := by decide +kernel
theorem fq_i16 : ∀ v, v < 256 → (nI v).toInt16.toInt32 = nI v := by decide +kernel
theorem fq_vb {v : Nat} (h : v < 128) : vp_nar .byte (nI v) = nI v := by rw [vp_nar_byte, fq_i8 v h]
theorem fq_vs {v : Nat} (h : v < 256) : vp_nar .short (nI v) = nI v := by rw [vp_nar_short, fq_i16 v h]
theorem fq_m8 : ∀ g, g < 9 → (nI g - 1).toInt8.toInt32 = nI g - 1 := by decide +kernel
theorem fq_shl : ∀ t, t < 16 → (1 : Int32) <<< (nI t &&& 31) = nI (2 ^ t) := by decide +kernel
theorem fq_sl : ∀ n, n < 32 → ((nI n &&& 31).toBitVec.smod 32).toNat = n := by decide +kernel
theorem fq_and (a b : Nat) : nI a &&& nI b = nI (a &&& b) := by
  apply Int32.toBitVec_inj.1
  show BitVec.ofNat 32 a &&& BitVec.ofNat 32 b = BitVec.ofNat 32 (a &&& b)
  apply BitVec.eq_of_getLsbD_eq
  intro i hi
  simp [hi]
theorem fq_or (a b : Nat) : nI a ||| nI b = nI (a ||| b) := by
  apply Int32.toBitVec_inj.1
  show BitVec.ofNat 32 a ||| BitVec.ofNat 32 b = BitVec.ofNat 32 (a ||| b)
  apply BitVec.eq_of_getLsbD_eq
  intro i hi
  simp [hi]
theorem fq_bitN {x t : Nat} (hx : x < 256) (ht : t < 8) : (nI x >>> (nI t &&& 31)) &&& 1 = nI (x / 2 ^ t % 2) := by
  have h : x / 2 ^ t ≤ x := Nat.div_le_self _ _
  rw [pk_shrN (by omega) _ t (fq_sl t (by omega)), pk_andN (by omega) 1 (by decide)]
theorem fq_bit0 {x t : Nat} (hx : x < 256) (ht : t < 8) : (nI x >>> (nI t &&& 31)) &&& 1 = 0 ↔ ¬ x.testBit t = true := by
  rw [fq_bitN hx ht, ← nI_0, nI_eq (by omega) (by omega), Nat.testBit_eq_decide_div_mod_eq, decide_eq_true_eq]
  generalize x / 2 ^ t = z
  omega
theorem fq_ix (d x : Nat) : (161 * nI d) + nI x = nI (161 * d + x) := by
  rw [show (161 : Int32) = nI 161 from rfl, pk_mul, nI_add]
end
section
/-! ===== orderThings: the order is a permutation of the eight things ===== -/
def fq_hole (t h : Nat) (a : Nat → Int32) : Prop := (∀ p, p ≤ t → p ≠ h → ∃ v, v < t ∧ a p = nI v) ∧ (∀ p q, p ≤ t → q ≤ t → p ≠ h → q ≠ h → a p = a q → p = q) ∧ (∀ v, v < t → ∃ p, p ≤ t ∧ p ≠ h ∧ a p = nI v)
def fq_perm (t : Nat) (a : Nat → Int32) : Prop := (∀ p, p < t → ∃ v, v < t ∧ a p = nI v) ∧ (∀ p q, p < t → q < t → a p = a q → p = q) ∧ (∀ v, v < t → ∃ p, p < t ∧ a p = nI v)
theorem fq_ph {t : Nat} {a : Nat → Int32} (h : fq_perm t a) : fq_hole t t a := by
  refine ⟨fun p hp hn => h.1 p (by omega), fun p q hp hq np nq e => h.2.1 p q (by omega) (by omega) e, fun v hv => ?_⟩
  obtain ⟨p, hp, e⟩ := h.2.2 v hv
  exact ⟨p, by omega, by omega, e⟩
theorem fq_fill {t h : Nat} {a : Nat → Int32} (ht : t < 8) (hh : h ≤ t) (H : fq_hole t h a) : fq_perm (t + 1) (upd a h (nI t)) := by
  refine ⟨fun p hp => ?_, fun p q hp hq e => ?_, fun v hv => ?_⟩
  rotate_left 2
  · by_cases e : v = t
    · exact ⟨h, by omega, by rw [pk_us, e]⟩
    · obtain ⟨p, hp, hn, ep⟩ := H.2.2 v (by omega)
      exact ⟨p, by omega, by rw [pk_un hn]; exact ep⟩
  · by_cases e : p = h
    · rw [e, pk_us]
      exact ⟨t, by omega, rfl⟩
    · rw [pk_un e]
      obtain ⟨v, hv, ev⟩ := H.1 p (by omega) e
      exact ⟨v, by omega, ev⟩
  · by_cases ep : p = h
    · by_cases eq : q = h
      · rw [ep, eq]
      · obtain ⟨v, hv, ev⟩ := H.1 q (by omega) eq
        rw [ep, pk_us, pk_un eq, ev, nI_eq (by omega) (by omega)] at e
        omega
    · by_cases eq : q = h
      · obtain ⟨v, hv, ev⟩ := H.1 p (by omega) ep
        rw [eq, pk_us, pk_un ep, ev, nI_eq (by omega) (by omega)] at e
        omega
      · rw [pk_un ep, pk_un eq] at e
        exact H.2.1 p q (by omega) (by omega) ep eq e
theorem fq_shift {t h : Nat} {a : Nat → Int32} (ht : t < 8) (hh : h + 1 ≤ t) (H : fq_hole t (h + 1) a) : fq_hole t h (upd a (h + 1) (vp_nar .byte (a h))) := by
  obtain ⟨w, hw, ew⟩ := H.1 h (by omega) (by omega)
  have en : vp_nar .byte (a h) = a h := by rw [ew]; exact fq_vb (by omega)
  rw [en]
  refine ⟨fun p hp hn => ?_, fun p q hp hq np nq e => ?_, fun v hv => ?_⟩
  rotate_left 2
  · obtain ⟨p, hp, hn, ep⟩ := H.2.2 v hv
    by_cases e : p = h
    · exact ⟨h + 1, by omega, by omega, by rw [pk_us, ← e]; exact ep⟩
    · exact ⟨p, hp, e, by rw [pk_un hn]; exact ep⟩
  · by_cases e : p = h + 1
    · rw [e, pk_us]
      exact ⟨w, hw, ew⟩
    · rw [pk_un e]
      exact H.1 p hp e
  · by_cases ep : p = h + 1
    · by_cases eq : q = h + 1
      · omega
      · rw [ep, pk_us, pk_un eq] at e
        have t := H.2.1 h q (by omega) hq (by omega) eq e
        omega
    · by_cases eq : q = h + 1
      · rw [eq, pk_us, pk_un ep] at e
        have t := H.2.1 p h hp (by omega) ep (by omega) e
        omega
      · rw [pk_un ep, pk_un eq] at e
        exact H.2.1 p q hp hq ep eq e
theorem fq_o129 {post : St2 → Prop} {bc bu nc : Int32} {a1 a2 a3 a4 a5 a6 a7 a8 a9 a10 a11 a12 a13 : Nat → Int32} (h7 : fq_perm 8 a7) (H : ∀ s, post (bc, bu, nc, a1, a2, a3, a4, a5, a6, a7, s, a9, a10, a11, a12, a13)) : ∃ n, wX_orderThings_129 post bc bu nc n 0 a1 a2 a3 a4 a5 a6 a7 a8 a9 a10 a11 a12 a13 :=
  pk_loop (fun n i s => wX_orderThings_129 post bc bu nc n (nI i) a1 a2 a3 a4 a5 a6 a7 s a9 a10 a11 a12 a13) (fun _ _ => True) 8 0 a8 (by omega) trivial
    (fun n s _ => pk_le 8 8 (fun _ => H s) (fun z => absurd z (by omega)))
    (fun n i s hi _ hw => pk_le 8 i (fun z => absurd z (by omega)) (fun _ => by
      obtain ⟨v, hv, e⟩ := h7.1 i hi
      refine ⟨pk_in i 8 hi, ?_, nm_e (nm_r (nI_1 i) (hw _ trivial))⟩
      rw [nI_clamp (by omega), e]
      exact pk_in v 8 hv))
theorem fq_o113 {post : St2 → Prop} {J : Int32 → (Nat → Int32) → (Nat → Int32) → (Nat → Int32) → (Nat → Int32) → (Nat → Int32) → (Nat → Int32) → (Nat → Int32) → (Nat → Int32) → (Nat → Int32) → (Nat → Int32) → (Nat → Int32) → (Nat → Int32) → (Nat → Int32) → Prop} {bc bu nc : Int32} {a1 a2 a3 a4 a5 a6 a7 a8 a9 a10 a11 a12 a13 : Nat → Int32} {t h : Nat} (ht : t < 8) (hh : h ≤ t) (h7 : fq_hole t h a7)
    (H : ∀ s, fq_perm (t + 1) s → J (nI (t + 1)) a1 a2 a3 a4 a5 a6 s a8 a9 a10 a11 a12 a13) : wX_orderThings_113 post J (nI t) (nI h) bc bu nc a1 a2 a3 a4 a5 a6 a7 a8 a9 a10 a11 a12 a13 := by
  refine ⟨pk_in h 8 (by omega), nm_r (e' := upd a7 h (nI t)) ?_ (nm_r (nI_1 t) (H _ (fq_fill ht hh h7)))⟩
  rw [nI_clamp (by omega), fq_i8 t (by omega)]
theorem fq_o67 {post : St2 → Prop} {J : Int32 → (Nat → Int32) → (Nat → Int32) → (Nat → Int32) → (Nat → Int32) → (Nat → Int32) → (Nat → Int32) → (Nat → Int32) → (Nat → Int32) → (Nat → Int32) → (Nat → Int32) → (Nat → Int32) → (Nat → Int32) → (Nat → Int32) → Prop} {bc bu nc : Int32} {a1 a2 a3 a4 a5 a6 a7 a8 a9 a10 a11 a12 a13 : Nat → Int32} {t : Nat} (ht : t < 8) (h7 : fq_hole t t a7)
    (H : ∀ s, fq_perm (t + 1) s → J (nI (t + 1)) a1 a2 a3 a4 a5 a6 s a8 a9 a10 a11 a12 a13) : ∃ n, wX_orderThings_67 post J (nI t) bc bu nc n (nI t) a1 a2 a3 a4 a5 a6 a7 a8 a9 a10 a11 a12 a13 := by
  refine ⟨t + 1, pk_loopD (fun n i s => wX_orderThings_67 post J (nI t) bc bu nc n (nI i) a1 a2 a3 a4 a5 a6 s a8 a9 a10 a11 a12 a13) (fun i s => i ≤ t ∧ fq_hole t i s) ?_ ?_ t a7 ⟨Nat.le_refl t, h7⟩⟩
  · intro n s h
    exact pk_le 0 0 (fun _ => fq_o113 ht h.1 h.2 H) (fun z => absurd z (by omega))
  · intro n i s h hk
    obtain ⟨hi, hs⟩ := h
    obtain ⟨v, hv, ev⟩ := hs.1 i (by omega) (by omega)
    refine pk_le (i + 1) 0 (fun z => absurd z (by omega)) (fun _ => ?_)
    rw [nI_pred, nI_clamp (show i < 2 ^ 31 by omega)]
    refine ⟨pk_in i 8 (by omega), by rw [ev]; exact pk_in v 8 (by omega), pk_in t 8 ht, br_c (fun _ => fq_o113 ht hi hs H) (fun _ => ⟨pk_in i 8 (by omega), pk_in (i + 1) 8 (by omega), ?_⟩)⟩
    refine nm_r (e' := upd s (i + 1) (vp_nar .byte (s i))) (by rw [nI_clamp (by omega)]) (nm_r (pk_m1 i) (hk _ ⟨by omega, fq_shift ht hi hs⟩))
theorem fq_o59 {post : St2 → Prop} {bc bu nc : Int32} {a1 a2 a3 a4 a5 a6 a7 a8 a9 a10 a11 a12 a13 : Nat → Int32} (H : ∀ r s, fq_perm 8 r → post (bc, bu, nc, a1, a2, a3, a4, a5, a6, r, s, a9, a10, a11, a12, a13)) : ∃ n, wX_orderThings_59 post bc bu nc n 0 a1 a2 a3 a4 a5 a6 a7 a8 a9 a10 a11 a12 a13 :=
  pk_loop (fun n i s => wX_orderThings_59 post bc bu nc n (nI i) a1 a2 a3 a4 a5 a6 s a8 a9 a10 a11 a12 a13) (fun i s => fq_perm i s) 8 0 a7 (by omega) ⟨fun p hp => absurd hp (by omega), fun p q hp => absurd hp (by omega), fun v hv => absurd hv (by omega)⟩
    (fun n s h => pk_le 8 8 (fun _ => fq_o129 h (fun r => H s r h)) (fun z => absurd z (by omega)))
    (fun n i s hi h hw => pk_le 8 i (fun z => absurd z (by omega)) (fun _ => fq_o67 hi (fq_ph h) (fun r hr => hw r hr)))
theorem fq_o17 {post : St2 → Prop} {J : Int32 → (Nat → Int32) → (Nat → Int32) → (Nat → Int32) → (Nat → Int32) → (Nat → Int32) → (Nat → Int32) → (Nat → Int32) → (Nat → Int32) → (Nat → Int32) → (Nat → Int32) → (Nat → Int32) → (Nat → Int32) → (Nat → Int32) → Prop} {bu nc : Int32} {a1 a2 a3 a4 a5 a6 a7 a8 a9 a10 a11 a12 a13 : Nat → Int32} {t b : Nat} (ht : t < 8) (hb : b ≤ 20)
    (H : ∀ s, J (nI (t + 1)) a1 a2 a3 a4 a5 a6 a7 a8 s a10 a11 a12 a13) : ∃ n, wX_orderThings_17 post J (nI t) (nI b) bu nc n 0 a1 a2 a3 a4 a5 a6 a7 a8 a9 a10 a11 a12 a13 :=
  pk_loop (fun n i s => wX_orderThings_17 post J (nI t) (nI b) bu nc n (nI i) a1 a2 a3 a4 a5 a6 a7 a8 s a10 a11 a12 a13) (fun _ _ => True) b 0 a9 (by omega) trivial
    (fun n s _ => pk_le b b (fun _ => nm_r (nI_1 t) (H s)) (fun z => absurd z (by omega)))
    (fun n i s hi _ hw => pk_le b i (fun z => absurd z (by omega)) (fun _ => ⟨pk_in t 8 ht, pk_in i 20 (by omega), pk_in t 8 ht, nm_e (nm_r (nI_1 i) (hw _ trivial))⟩))
theorem fq_order {post : St2 → Prop} {bu nc : Int32} {a1 a2 a3 a4 a5 a6 a7 a8 a9 a10 a11 a12 a13 : Nat → Int32} {b : Nat} (hb : b ≤ 20)
    (H : ∀ r s w, fq_perm 8 r → post ((nI b), bu, nc, a1, a2, a3, a4, a5, a6, r, s, w, a10, a11, a12, a13)) : wpX_orderThings post ((nI b), bu, nc, a1, a2, a3, a4, a5, a6, a7, a8, a9, a10, a11, a12, a13) :=
  pk_loop (fun n i s => wX_orderThings_2 post (nI b) bu nc n (nI i) a1 a2 a3 a4 a5 a6 a7 a8 s a10 a11 a12 a13) (fun _ _ => True) 8 0 a9 (by omega) trivial
    (fun n s _ => pk_le 8 8 (fun _ => fq_o59 (fun r w h => H r w s h)) (fun z => absurd z (by omega)))
    (fun n i s hi _ hw => pk_le 8 i (fun z => absurd z (by omega)) (fun _ => ⟨pk_in i 8 hi, nm_e (fq_o17 hi hb (fun w => hw w trivial))⟩))
/-- the order as numbers -/
def fq_ord (o : Nat → Nat) (a7 : Nat → Int32) : Prop := (∀ p, p < 8 → o p < 8 ∧ a7 p = nI (o p)) ∧ (∀ p q, p < 8 → q < 8 → o p = o q → p = q) ∧ (∀ t, t < 8 → ∃ p, p < 8 ∧ o p = t)
theorem fq_ordI {a : Nat → Int32} (h : fq_perm 8 a) : fq_ord (fun p => (a p).toNatClampNeg) a := by
  have k : ∀ p, p < 8 → (a p).toNatClampNeg < 8 ∧ a p = nI (a p).toNatClampNeg := by
    intro p hp
    obtain ⟨v, hv, e⟩ := h.1 p hp
    rw [e, nI_clamp (by omega)]
    exact ⟨hv, rfl⟩
  refine ⟨k, fun p q hp hq e => h.2.1 p q hp hq ?_, fun t ht => ?_⟩
  · rw [(k p hp).2, (k q hq).2]
    exact congrArg nI e
  · obtain ⟨p, hp, e⟩ := h.2.2 t ht
    exact ⟨p, hp, by dsimp only; rw [e, nI_clamp (by omega)]⟩
end
section
/-! ===== the tree: nodes 1 .. N - 1, of each its place in the order and the node above; of each basket which nodes it goes through ===== -/
def fq_nd (N : Nat) (ps ab : Nat → Nat) : Prop := ∀ x, 1 ≤ x → x < N → ps x < 8 ∧ ab x < x
def fq_lk (N : Nat) (o ps ab : Nat → Nat) (a4 a5 a6 : Nat → Int32) : Prop := (∀ x, 1 ≤ x → x < N → a4 x = nI (ab x) ∧ a5 x = nI (fq_pv ps (ps x) x)) ∧ (∀ p, p < 8 → a6 (o p) = nI (fq_pv ps p N))
/-- one basket's way: b says which places it has; the way is known up to place q -/
def fq_path (N q : Nat) (b : Nat → Prop) (ps ab : Nat → Nat) (on : Nat → Prop) : Prop :=
  (∀ x, on x → 1 ≤ x ∧ x < N ∧ b (ps x) ∧ ps x < q) ∧ (∀ p, p < q → b p → ∃ x, on x ∧ ps x = p) ∧ (∀ x, on x → ab x = 0 ∨ on (ab x)) ∧ (∀ x z, on x → on z → ab x < z → ¬ z < x) ∧ (∀ x z, on x → on z → x < z → ps x < ps z)
/-- m baskets are planted -/
def fq_tr (bt : Nat → Nat → Prop) (o : Nat → Nat) (m N : Nat) (ps ab : Nat → Nat) (on : Nat → Nat → Prop) (a3 a4 a5 a6 : Nat → Int32) : Prop :=
  1 ≤ N ∧ fq_nd N ps ab ∧ fq_lk N o ps ab a4 a5 a6 ∧ (∀ j, j < m → fq_path N 8 (bt j) ps ab (on j)) ∧ (∀ x, 1 ≤ x → x < N → a3 x = nI (fq_C (fun j => on j x) m))
/-- m baskets are planted, and basket m up to place q: it stands at node c -/
def fq_pl (bt : Nat → Nat → Prop) (o : Nat → Nat) (m q c N : Nat) (ps ab : Nat → Nat) (on : Nat → Nat → Prop) (a3 a4 a5 a6 : Nat → Int32) : Prop :=
  fq_nd N ps ab ∧ fq_lk N o ps ab a4 a5 a6 ∧ (∀ j, j < m → fq_path N 8 (bt j) ps ab (on j)) ∧ fq_path N q (bt m) ps ab (on m) ∧ c < N ∧ (c = 0 ∨ on m c) ∧ (∀ x, on m x → x ≤ c) ∧ (∀ x, 1 ≤ x → x < N → a3 x = nI (fq_C (fun j => on j x) (m + 1)))
theorem fq_pl_0 {bt : Nat → Nat → Prop} {o : Nat → Nat} {m N : Nat} {ps ab : Nat → Nat} {on : Nat → Nat → Prop} {a3 a4 a5 a6 : Nat → Int32} (h : fq_tr bt o m N ps ab on a3 a4 a5 a6) :
    fq_pl bt o m 0 0 N ps ab (fun j x => j < m ∧ on j x) a3 a4 a5 a6 := by
  obtain ⟨h1, h2, h3, h4, h5⟩ := h
  refine ⟨h2, h3, fun j hj => ?_, ?_, by omega, Or.inl rfl, fun x hx => absurd hx.1 (by omega), fun x hx hN => ?_⟩
  · have e : (fun x => j < m ∧ on j x) = on j := funext (fun x => propext ⟨fun z => z.2, fun z => ⟨hj, z⟩⟩)
    show fq_path N 8 (bt j) ps ab (fun x => j < m ∧ on j x)
    rw [e]
    exact h4 j hj
  · exact ⟨fun x hx => absurd hx.1 (by omega), fun p hp => absurd hp (by omega), fun x hx => absurd hx.1 (by omega), fun x z hx => absurd hx.1 (by omega), fun x z hx => absurd hx.1 (by omega)⟩
  · rw [h5 x hx hN, fq_Cs, fq_bf (fun z => absurd z.1 (by omega)), Nat.add_zero]
    exact congrArg nI (fq_Cc (fun j hj => ⟨fun z => ⟨hj, z⟩, fun z => z.2⟩))
theorem fq_pl_8 {bt : Nat → Nat → Prop} {o : Nat → Nat} {m c N : Nat} {ps ab : Nat → Nat} {on : Nat → Nat → Prop} {a3 a4 a5 a6 : Nat → Int32} (h : fq_pl bt o m 8 c N ps ab on a3 a4 a5 a6) :
    fq_tr bt o (m + 1) N ps ab on a3 a4 a5 a6 := by
  obtain ⟨h1, h2, h3, h4, h5, h6, h7, h8⟩ := h
  refine ⟨by omega, h1, h2, fun j hj => ?_, h8⟩
  by_cases e : j = m
  · rw [e]; exact h4
  · exact h3 j (by omega)
theorem fq_pl_no {bt : Nat → Nat → Prop} {o : Nat → Nat} {m q c N : Nat} {ps ab : Nat → Nat} {on : Nat → Nat → Prop} {a3 a4 a5 a6 : Nat → Int32} (h : fq_pl bt o m q c N ps ab on a3 a4 a5 a6) (hb : ¬ bt m q) :
    fq_pl bt o m (q + 1) c N ps ab on a3 a4 a5 a6 := by
  obtain ⟨h1, h2, h3, h4, h5, h6, h7, h8⟩ := h
  obtain ⟨p1, p2, p3, p4, p5⟩ := h4
  refine ⟨h1, h2, h3, ⟨fun x hx => ?_, fun p hp hb' => ?_, p3, p4, p5⟩, h5, h6, h7, h8⟩
  · obtain ⟨t1, t2, t3, t4⟩ := p1 x hx
    exact ⟨t1, t2, t3, by omega⟩
  · by_cases e : p = q
    · rw [e] at hb'; exact absurd hb' hb
    · exact p2 p (by omega) hb'
theorem fq_path_x {N q : Nat} {b : Nat → Prop} {ps ab ps' ab' : Nat → Nat} {on : Nat → Prop} (h : fq_path N q b ps ab on) (hp : ∀ x, x < N → ps' x = ps x) (ha : ∀ x, x < N → ab' x = ab x) : fq_path (N + 1) q b ps' ab' on := by
  obtain ⟨p1, p2, p3, p4, p5⟩ := h
  refine ⟨fun x hx => ?_, fun p hp' hb => ?_, fun x hx => ?_, fun x z hx hz => ?_, fun x z hx hz => ?_⟩
  · obtain ⟨t1, t2, t3, t4⟩ := p1 x hx
    rw [hp x t2]
    exact ⟨t1, by omega, t3, t4⟩
  · obtain ⟨x, hx, e⟩ := p2 p hp' hb
    exact ⟨x, hx, by rw [hp x (p1 x hx).2.1]; exact e⟩
  · rw [ha x (p1 x hx).2.1]
    exact p3 x hx
  · rw [ha x (p1 x hx).2.1]
    exact p4 x z hx hz
  · rw [hp x (p1 x hx).2.1, hp z (p1 z hz).2.1]
    exact p5 x z hx hz
theorem fq_path_a {N q c x : Nat} {b : Nat → Prop} {ps ab : Nat → Nat} {on : Nat → Prop} (h : fq_path N q b ps ab on) (hc : c = 0 ∨ on c) (hm : ∀ y, on y → y ≤ c) (hx1 : 1 ≤ x) (hx : x < N) (hcx : c < x) (hps : ps x = q) (hab : ab x = c) (hb : b q) :
    fq_path N (q + 1) b ps ab (fun y => on y ∨ y = x) := by
  obtain ⟨p1, p2, p3, p4, p5⟩ := h
  refine ⟨fun y hy => ?_, fun p hp hb' => ?_, fun y hy => ?_, fun y z hy hz h1 h2 => ?_, fun y z hy hz h1 => ?_⟩
  · rcases hy with hy | hy
    · obtain ⟨t1, t2, t3, t4⟩ := p1 y hy
      exact ⟨t1, t2, t3, by omega⟩
    · rw [hy, hps]
      exact ⟨hx1, hx, hb, by omega⟩
  · by_cases e : p = q
    · exact ⟨x, Or.inr rfl, by rw [hps, e]⟩
    · obtain ⟨y, hy, ey⟩ := p2 p (by omega) hb'
      exact ⟨y, Or.inl hy, ey⟩
  · rcases hy with hy | hy
    · rcases p3 y hy with t | t
      · exact Or.inl t
      · exact Or.inr (Or.inl t)
    · rw [hy, hab]
      rcases hc with t | t
      · exact Or.inl t
      · exact Or.inr (Or.inl t)
  · rcases hy with hy | hy
    · rcases hz with hz | hz
      · exact p4 y z hy hz h1 h2
      · have t := hm y hy
        omega
    · rcases hz with hz | hz
      · have t := hm z hz
        rw [hy, hab] at h1
        omega
      · omega
  · rcases hy with hy | hy
    · rcases hz with hz | hz
      · exact p5 y z hy hz h1
      · have t := (p1 y hy).2.2.2
        rw [hz, hps]
        exact t
    · rcases hz with hz | hz
      · have t := hm z hz
        omega
      · omega
theorem fq_pl_st {bt : Nat → Nat → Prop} {o : Nat → Nat} {m q c N x : Nat} {ps ab : Nat → Nat} {on : Nat → Nat → Prop} {a3 a4 a5 a6 : Nat → Int32} (h : fq_pl bt o m q c N ps ab on a3 a4 a5 a6) (hx1 : 1 ≤ x) (hx : x < N) (hps : ps x = q) (hab : ab x = c) (hb : bt m q) :
    fq_pl bt o m (q + 1) x N ps ab (fun j y => on j y ∨ (j = m ∧ y = x)) (upd a3 x (nI (fq_C (fun j => on j x) (m + 1) + 1))) a4 a5 a6 := by
  obtain ⟨h1, h2, h3, h4, h5, h6, h7, h8⟩ := h
  have hcx : c < x := by rw [← hab]; exact (h1 x hx1 hx).2
  refine ⟨h1, h2, fun j hj => ?_, ?_, hx, Or.inr (Or.inr ⟨rfl, rfl⟩), fun y hy => ?_, fun y hy hN => ?_⟩
  · have e : (fun y => on j y ∨ (j = m ∧ y = x)) = on j := funext (fun y => propext ⟨fun z => z.elim id (fun z => absurd z.1 (by omega)), Or.inl⟩)
    show fq_path N 8 (bt j) ps ab (fun y => on j y ∨ (j = m ∧ y = x))
    rw [e]
    exact h3 j hj
  · have e : (fun y => on m y ∨ (m = m ∧ y = x)) = (fun y => on m y ∨ y = x) := funext (fun y => propext ⟨fun z => z.elim Or.inl (fun z => Or.inr z.2), fun z => z.elim Or.inl (fun z => Or.inr ⟨rfl, z⟩)⟩)
    show fq_path N (q + 1) (bt m) ps ab (fun y => on m y ∨ (m = m ∧ y = x))
    rw [e]
    exact fq_path_a h4 h6 h7 hx1 hx hcx hps hab hb
  · rcases hy with hy | hy
    · have t := h7 y hy
      omega
    · omega
  · by_cases e : y = x
    · have hno : ¬ on m x := fun z => by
        have t := (h4.1 x z).2.2.2
        omega
      rw [e, pk_us, fq_Cs, fq_Cs, fq_bf hno, fq_bt (Or.inr ⟨rfl, rfl⟩)]
      refine congrArg nI (congrArg (· + 1) ?_)
      exact fq_Cc (fun j hj => ⟨Or.inl, fun z => z.elim id (fun z => absurd z.1 (by omega))⟩)
    · rw [pk_un e, h8 y hy hN]
      exact congrArg nI (fq_Cc (fun j hj => ⟨Or.inl, fun z => z.elim id (fun z => absurd z.2 e)⟩))
theorem fq_pl_nw {bt : Nat → Nat → Prop} {o : Nat → Nat} {m q c N : Nat} {ps ab : Nat → Nat} {on : Nat → Nat → Prop} {a3 a4 a5 a6 : Nat → Int32} (h : fq_pl bt o m q c N ps ab on a3 a4 a5 a6) (hq : q < 8) (ho : ∀ p, p < 8 → o p = o q → p = q) :
    fq_pl bt o m q c (N + 1) (fun y => if y = N then q else ps y) (fun y => if y = N then c else ab y) on (upd a3 N 0) (upd a4 N (nI c)) (upd a5 N (a6 (o q))) (upd a6 (o q) (nI N)) := by
  obtain ⟨h1, h2, h3, h4, h5, h6, h7, h8⟩ := h
  have ep : ∀ x, x < N → (if x = N then q else ps x) = ps x := fun x hx => if_neg (by omega)
  have ea : ∀ x, x < N → (if x = N then c else ab x) = ab x := fun x hx => if_neg (by omega)
  have epN : (if N = N then q else ps N) = q := if_pos rfl
  have eaN : (if N = N then c else ab N) = c := if_pos rfl
  refine ⟨fun x hx1 hx => ?_, ⟨fun x hx1 hx => ?_, fun p hp => ?_⟩, fun j hj => fq_path_x (h3 j hj) ep ea, fq_path_x h4 ep ea, by omega, h6, h7, fun x hx1 hx => ?_⟩
  · dsimp only
    by_cases e : x = N
    · rw [e, epN, eaN]
      exact ⟨hq, h5⟩
    · rw [ep x (by omega), ea x (by omega)]
      exact h1 x hx1 (by omega)
  · dsimp only
    by_cases e : x = N
    · rw [e, epN, eaN, pk_us, pk_us, h2.2 q hq]
      exact ⟨rfl, congrArg nI (fq_pv_c (fun y hy => (ep y hy).symm))⟩
    · rw [ep x (by omega), ea x (by omega), pk_un e, pk_un e]
      obtain ⟨t1, t2⟩ := h2.1 x hx1 (by omega)
      rw [t1, t2]
      exact ⟨rfl, congrArg nI (fq_pv_c (fun y hy => (ep y (by omega)).symm))⟩
  · by_cases e : p = q
    · rw [e, pk_us, fq_pvt (ps := fun y => if y = N then q else ps y) (k := N) ⟨by omega, epN⟩]
    · rw [pk_un (fun z => e (ho p hp z)), h2.2 p hp, fq_pvf (ps := fun y => if y = N then q else ps y) (k := N) (fun z => e (z.2.symm.trans epN))]
      exact congrArg nI (fq_pv_c (fun y hy => (ep y hy).symm))
  · by_cases e : x = N
    · rw [e, pk_us, fq_C0 (fun j hj z => ?_)]
      · exact nI_0.symm
      · by_cases ej : j = m
        · rw [ej] at z
          have t := (h4.1 N z).2.1
          omega
        · have t := ((h3 j (by omega)).1 N z).2.1
          omega
    · rw [pk_un e]
      exact h8 x hx1 (by omega)
/-! ===== childWith: 0, or a node at the place, below the given one ===== -/
theorem fq_child {post : Int32 → Prop} {bc bu nc : Int32} {a1 a2 a3 a4 a5 a6 a7 a8 a9 a10 a11 a12 a13 : Nat → Int32} {N c p : Nat} {o ps ab : Nat → Nat} (hN : N ≤ 161) (hc : c < 161) (hp : p < 8) (ho : o p < 8) (hn : fq_nd N ps ab) (L : fq_lk N o ps ab a4 a5 a6)
    (H0 : post 0) (H1 : ∀ x, 1 ≤ x → x < N → ps x = p → ab x = c → post (nI x)) : wpX_childWith post (bc, bu, nc, a1, a2, a3, a4, a5, a6, a7, a8, a9, a10, a11, a12, a13) (nI c) (nI (o p)) := by
  refine ⟨pk_in (o p) 8 ho, nm_r (e' := nI (fq_pv ps p N)) (by rw [nI_clamp (by omega)]; exact L.2 p hp) ?_⟩
  refine loop_m (fun n k => wX_childWith_7 post (nI c) bc bu nc a1 a2 a3 a4 a5 a6 a7 a8 a9 a10 a11 a12 a13 n (nI (fq_pv ps p k))) (fun k => k ≤ N) (fun k => k) ?_ N (Nat.le_refl N)
  intro n k hk ih
  by_cases e : fq_pv ps p k = 0
  · try dsimp only
    rw [e]
    exact pk_eq 0 0 (fun _ => H0) (fun z => absurd rfl z)
  · obtain ⟨t1, t2, t3⟩ := fq_pv_ok e
    have ih' := ih (fq_pv ps p k) (by omega) t2
    try dsimp only at ih' ⊢
    revert ih' t1 t2 t3 e
    generalize fq_pv ps p k = x
    intro e t1 t2 t3 ih'
    obtain ⟨l1, l2⟩ := L.1 x t1 (by omega)
    have l3 := (hn x t1 (by omega)).2
    refine pk_eq x 0 (fun z => absurd z e) (fun _ => ⟨pk_in x 161 (by omega), ?_⟩)
    rw [nI_clamp (show x < 2 ^ 31 by omega), l1, l2, t3]
    exact pk_eq (ab x) c (fun z => H1 x t1 (by omega) t3 z) (fun _ => ⟨pk_in x 161 (by omega), nm_e ih'⟩)
/-! ===== plant ===== -/
theorem fq_p111 {post : St2 → Prop} {J : Int32 → Int32 → Int32 → (Nat → Int32) → (Nat → Int32) → (Nat → Int32) → (Nat → Int32) → (Nat → Int32) → (Nat → Int32) → (Nat → Int32) → (Nat → Int32) → (Nat → Int32) → (Nat → Int32) → (Nat → Int32) → (Nat → Int32) → (Nat → Int32) → Prop} {bc bu nc : Int32} {a1 a2 a3 a4 a5 a6 a7 a8 a9 a10 a11 a12 a13 : Nat → Int32} {x1 : Int32} {i x k : Nat} (hx : x < 161) (hk : k < 126) (h3 : a3 x = nI k)
    (H : J (nI x) (nI (i + 1)) nc a1 a2 (upd a3 x (nI (k + 1))) a4 a5 a6 a7 a8 a9 a10 a11 a12 a13) : wX_plant_111 post J x1 (nI i) (nI x) bc bu nc a1 a2 a3 a4 a5 a6 a7 a8 a9 a10 a11 a12 a13 := by
  refine ⟨pk_in x 161 hx, pk_in x 161 hx, nm_r (e' := upd a3 x (nI (k + 1))) ?_ (nm_r (nI_1 i) H)⟩
  rw [nI_clamp (by omega), h3, nI_1, fq_i8 (k + 1) (by omega)]
theorem fq_plant {post : St2 → Prop} {bc bu : Int32} {a1 a2 a3 a4 a5 a6 a7 a8 a9 a10 a11 a12 a13 : Nat → Int32} {N m b : Nat} {o ps ab : Nat → Nat} {on bt : Nat → Nat → Prop} (hm : m < 20) (hN : N ≤ 1 + 8 * m) (hb : b < 256) (hbt : ∀ p, p < 8 → (bt m p ↔ b.testBit (o p) = true)) (ho : fq_ord o a7) (T : fq_tr bt o m N ps ab on a3 a4 a5 a6)
    (H : ∀ (N' : Nat) (ps' ab' : Nat → Nat) (on' : Nat → Nat → Prop) (r2 r3 r4 r5 r6 : Nat → Int32), N' ≤ 1 + 8 * (m + 1) → fq_tr bt o (m + 1) N' ps' ab' on' r3 r4 r5 r6 → post (bc, bu, (nI N'), a1, r2, r3, r4, r5, r6, a7, a8, a9, a10, a11, a12, a13)) : wpX_plant post (bc, bu, (nI N), a1, a2, a3, a4, a5, a6, a7, a8, a9, a10, a11, a12, a13) (nI b) := by
  refine pk_loop (σ := Int32 × Int32 × (Nat → Int32) × (Nat → Int32) × (Nat → Int32) × (Nat → Int32) × (Nat → Int32)) (fun n i s => match s with | (x, y, r2, r3, r4, r5, r6) => wX_plant_4 post (nI b) bc bu n x (nI i) y a1 r2 r3 r4 r5 r6 a7 a8 a9 a10 a11 a12 a13)
    (fun i s => match s with | (x, y, r2, r3, r4, r5, r6) => ∃ (N' c : Nat) (ps' ab' : Nat → Nat) (on' : Nat → Nat → Prop), x = nI c ∧ y = nI N' ∧ N' ≤ 1 + 8 * m + i ∧ fq_pl bt o m i c N' ps' ab' on' r3 r4 r5 r6) 8 0 (nI 0, nI N, a2, a3, a4, a5, a6) (by omega) ⟨N, 0, ps, ab, _, rfl, rfl, by omega, fq_pl_0 T⟩ ?_ ?_
  · intro n s h
    obtain ⟨x, y, r2, r3, r4, r5, r6⟩ := s
    obtain ⟨N', c, ps', ab', on', ex, ey, hN', hp⟩ := h
    subst ex ey
    exact pk_le 8 8 (fun _ => H N' ps' ab' on' r2 r3 r4 r5 r6 (by omega) (fq_pl_8 hp)) (fun z => absurd z (by omega))
  · intro n i s hi h hw
    obtain ⟨x, y, r2, r3, r4, r5, r6⟩ := s
    obtain ⟨N', c, ps', ab', on', ex, ey, hN', hp⟩ := h
    subst ex ey
    have hcN : c < N' := hp.2.2.2.2.1
    have hoi := (ho.1 i hi).1
    show wX_plant_4 post (nI b) bc bu (n + 1) (nI c) (nI i) (nI N') a1 r2 r3 r4 r5 r6 a7 a8 a9 a10 a11 a12 a13
    refine pk_le 8 i (fun z => absurd z (by omega)) (fun _ => ⟨pk_in i 8 hi, nm_r (e' := nI (o i)) (by rw [nI_clamp (by omega)]; exact (ho.1 i hi).2) ?_⟩)
    by_cases hbit : b.testBit (o i) = true
    · have hbm : bt m i := (hbt i hi).mpr hbit
      refine br_f (fun z => (fq_bit0 hb hoi).mp z hbit) (fq_child (N := N') (ps := ps') (ab := ab') (by omega) (by omega) hi hoi hp.1 hp.2.1 ?_ ?_)
      · have q := fq_pl_nw hp hi (fun p hp' e => ho.2.1 p i hp' hi e)
        have q2 := fq_pl_st q (x := N') (by omega) (by omega) (if_pos rfl) (if_pos rfl) hbm
        have hl := hp.2.1.2 i hi
        have hk := q.2.2.2.2.2.2.2 N' (by omega) (by omega)
        rw [pk_us] at hk
        have h0 : fq_C (fun j => on' j N') (m + 1) = 0 := by
          have t := fq_Cn (fun j => on' j N') (m + 1)
          rw [← nI_0, nI_eq (by omega) (by omega)] at hk
          exact hk.symm
        rw [h0] at q2
        refine br_t rfl (nm_r (nI_1 N') ⟨pk_in N' 161 (by omega), nm_e ⟨pk_in N' 161 (by omega), nm_r (e' := upd r3 N' 0) (by rw [nI_clamp (by omega)]) ⟨pk_in N' 161 (by omega), nm_r (e' := upd r4 N' (nI c)) (by rw [nI_clamp (by omega), fq_i16 c (by omega)]) ⟨pk_in (o i) 8 hoi, pk_in N' 161 (by omega), nm_r (e' := upd r5 N' (r6 (o i))) ?_ ⟨pk_in (o i) 8 hoi, nm_r (e' := upd r6 (o i) (nI N')) (by rw [nI_clamp (by omega), fq_i16 N' (by omega)]) ?_⟩⟩⟩⟩⟩)
        · have hpv : fq_pv ps' i N' < 161 := by
            by_cases z : fq_pv ps' i N' = 0
            · omega
            · have t := (fq_pv_ok z).2.1
              omega
          rw [nI_clamp (by omega), nI_clamp (by omega), hl, fq_vs (by omega)]
        · exact fq_p111 (k := 0) (by omega) (by omega) (by rw [pk_us]; rfl) (hw (nI N', nI (N' + 1), _, _, _, _, _) ⟨N' + 1, N', _, _, _, rfl, rfl, by omega, q2⟩)
      · intro x hx1 hx hps hab
        have q2 := fq_pl_st hp hx1 hx hps hab hbm
        have t := fq_Cn (fun j => on' j x) (m + 1)
        refine br_f (nI_ne0 (by omega) (by omega)) (fq_p111 (by omega) (by omega) (hp.2.2.2.2.2.2.2 x hx1 hx) (hw (nI x, nI N', r2, _, r4, r5, r6) ⟨N', x, ps', ab', _, rfl, rfl, by omega, q2⟩))
    · refine br_t ((fq_bit0 hb hoi).mpr hbit) (nm_r (nI_1 i) (hw (nI c, nI N', r2, r3, r4, r5, r6) ⟨N', c, ps', ab', on', rfl, rfl, by omega, fq_pl_no hp (fun z => hbit ((hbt i hi).mp z))⟩))
end
section
/-! ===== countOn: the baskets of c that have the place ===== -/
theorem fq_countOn {post : Int32 → Prop} {bc bu nc : Int32} {a1 a2 a3 a4 a5 a6 a7 a8 a9 a10 a11 a12 a13 : Nat → Int32} {n N d p : Nat} {o ps ab : Nat → Nat} {on bt : Nat → Nat → Prop} (c : Nat → Prop) (hd : d ≤ 8) (hN : N ≤ 161) (hp : p < 8) (ho : o p < 8) (L : fq_lk N o ps ab a4 a5 a6) (P : ∀ j, j < n → fq_path N 8 (bt j) ps ab (on j))
    (W : ∀ x, 1 ≤ x → x < N → ps x = p → a11 (161 * d + x) = nI (fq_C (fun j => c j ∧ on j x) n)) (H : post (nI (fq_C (fun j => c j ∧ bt j p) n))) : wpX_countOn post (bc, bu, nc, a1, a2, a3, a4, a5, a6, a7, a8, a9, a10, a11, a12, a13) (nI d) (nI (o p)) := by
  refine ⟨pk_in (o p) 8 ho, nm_r (e' := nI (fq_pv ps p N)) (by rw [nI_clamp (by omega)]; exact L.2 p hp) ?_⟩
  have key := loop_m (fun f k => wX_countOn_10 post (nI d) bc bu nc a1 a2 a3 a4 a5 a6 a7 a8 a9 a10 a11 a12 a13 f (nI (fq_C (fun j => c j ∧ ∃ x, on j x ∧ ps x = p ∧ k ≤ x) n)) (nI (fq_pv ps p k))) (fun k => k ≤ N) (fun k => k) ?_ N (Nat.le_refl N)
  · obtain ⟨f, hf⟩ := key
    have e0 : fq_C (fun j => c j ∧ ∃ x, on j x ∧ ps x = p ∧ N ≤ x) n = 0 := fq_C0 (fun j hj z => by
      obtain ⟨_, x, hx, _, hxN⟩ := z
      have t := ((P j hj).1 x hx).2.1
      omega)
    try dsimp only at hf
    rw [e0] at hf
    exact ⟨f, hf⟩
  · intro f k hk ih
    by_cases e : fq_pv ps p k = 0
    · try dsimp only
      have ec : fq_C (fun j => c j ∧ ∃ x, on j x ∧ ps x = p ∧ k ≤ x) n = fq_C (fun j => c j ∧ bt j p) n := fq_Cc (fun j hj => by
        constructor
        · rintro ⟨hc, x, hx, ex, _⟩
          have t := ((P j hj).1 x hx).2.2.1
          rw [ex] at t
          exact ⟨hc, t⟩
        · rintro ⟨hc, hb⟩
          obtain ⟨x, hx, ex⟩ := (P j hj).2.1 p hp hb
          refine ⟨hc, x, hx, ex, ?_⟩
          rcases Nat.lt_or_ge x k with z | z
          · have t := ((P j hj).1 x hx).1
            exact absurd ex (fq_pv_no (by omega) z)
          · exact z)
      rw [e, ec]
      exact pk_eq 0 0 (fun _ => H) (fun z => absurd rfl z)
    · obtain ⟨t1, t2, t3⟩ := fq_pv_ok e
      have tn : ∀ y, fq_pv ps p k < y → y < k → ps y ≠ p := fun y h1 h2 => fq_pv_no h1 h2
      have ih' := ih (fq_pv ps p k) (by omega) t2
      try dsimp only at ih' ⊢
      revert ih' t1 t2 t3 e tn
      generalize fq_pv ps p k = x
      intro e t1 t2 t3 tn ih'
      obtain ⟨l1, l2⟩ := L.1 x t1 (by omega)
      have ea : fq_C (fun j => c j ∧ ∃ y, on j y ∧ ps y = p ∧ x ≤ y) n = fq_C (fun j => c j ∧ ∃ y, on j y ∧ ps y = p ∧ k ≤ y) n + fq_C (fun j => c j ∧ on j x) n := by
        refine fq_Ca (fun j hj => ⟨?_, ?_⟩) (fun j hj => ?_)
        · rintro ⟨hc, y, hy, ey, hxy⟩
          by_cases exy : y = x
          · rw [exy] at hy
            exact Or.inr ⟨hc, hy⟩
          · refine Or.inl ⟨hc, y, hy, ey, ?_⟩
            rcases Nat.lt_or_ge y k with z | z
            · exact absurd ey (tn y (by omega) z)
            · exact z
        · rintro (⟨hc, y, hy, ey, hky⟩ | ⟨hc, hx⟩)
          · exact ⟨hc, y, hy, ey, by omega⟩
          · exact ⟨hc, x, hx, t3, Nat.le_refl x⟩
        · rintro ⟨hc, y, hy, ey, hky⟩ ⟨_, hx⟩
          have t := (P j hj).2.2.2.2 x y hx hy (by omega)
          omega
      refine pk_eq x 0 (fun z => absurd z e) (fun _ => ?_)
      rw [fq_ix, nI_clamp (show 161 * d + x < 2 ^ 31 by omega), nI_clamp (show x < 2 ^ 31 by omega), W x t1 (by omega) t3, l2, t3, nI_add, ← ea]
      exact ⟨pk_in (161 * d + x) 1449 (by omega), nm_e ⟨pk_in x 161 (by omega), nm_e ih'⟩⟩
/-! ===== liftWeights ===== -/
/-- the nodes of a way up to place p, and node 0 -/
def fq_R (p : Nat) (ps : Nat → Nat) (on : Nat → Prop) (y : Nat) : Prop := y = 0 ∨ (on y ∧ ps y ≤ p)
/-- y holds the basket when all nodes from k on have passed their weights up -/
def fq_M (p : Nat) (ps : Nat → Nat) (on : Nat → Prop) (k y : Nat) : Prop := fq_R p ps on y ∧ ∀ z, fq_R p ps on z → y < z → k ≤ z
theorem fq_M1 {N p x y : Nat} {b : Nat → Prop} {ps ab : Nat → Nat} {on : Nat → Prop} (P : fq_path N 8 b ps ab on) (hn : fq_nd N ps ab) (hx1 : 1 ≤ x) (hx : x < N) (hy : y ≠ ab x) : fq_M p ps on x y ↔ fq_M p ps on (x + 1) y := by
  obtain ⟨p1, p2, p3, p4, p5⟩ := P
  have hax := (hn x hx1 hx).2
  constructor
  · rintro ⟨h1, h2⟩
    refine ⟨h1, fun z hz hyz => ?_⟩
    have t := h2 z hz hyz
    by_cases e : z = x
    · exfalso
      rw [e] at hz hyz
      rcases hz with h0 | ⟨ho, hps⟩
      · omega
      · have hA : fq_R p ps on (ab x) := by
          rcases p3 x ho with q | q
          · exact Or.inl q
          · have := p5 (ab x) x q ho hax
            exact Or.inr ⟨q, by omega⟩
        rcases Nat.lt_or_ge y (ab x) with q | q
        · have := h2 (ab x) hA q
          omega
        · rcases h1 with h0 | ⟨hoy, _⟩
          · omega
          · exact p4 x y ho hoy (by omega) hyz
    · omega
  · rintro ⟨h1, h2⟩
    refine ⟨h1, fun z hz hyz => ?_⟩
    have t := h2 z hz hyz
    omega
theorem fq_M2 {N p x : Nat} {b : Nat → Prop} {ps ab : Nat → Nat} {on : Nat → Prop} (P : fq_path N 8 b ps ab on) (hn : fq_nd N ps ab) (hx1 : 1 ≤ x) (hx : x < N) : (fq_M p ps on x (ab x) ↔ fq_M p ps on (x + 1) (ab x) ∨ fq_M p ps on (x + 1) x) ∧ (fq_M p ps on (x + 1) (ab x) → fq_M p ps on (x + 1) x → False) := by
  obtain ⟨p1, p2, p3, p4, p5⟩ := P
  have hax := (hn x hx1 hx).2
  refine ⟨⟨?_, ?_⟩, ?_⟩
  · rintro ⟨h1, h2⟩
    by_cases hR : fq_R p ps on x
    · exact Or.inr ⟨hR, fun z hz hyz => by omega⟩
    · refine Or.inl ⟨h1, fun z hz hyz => ?_⟩
      have t := h2 z hz hyz
      by_cases e : z = x
      · rw [e] at hz
        exact absurd hz hR
      · omega
  · rintro (⟨h1, h2⟩ | ⟨h1, h2⟩)
    · refine ⟨h1, fun z hz hyz => ?_⟩
      have t := h2 z hz hyz
      omega
    · rcases h1 with h0 | ⟨ho, hps⟩
      · omega
      · refine ⟨?_, fun z hz hyz => ?_⟩
        · rcases p3 x ho with q | q
          · exact Or.inl q
          · have := p5 (ab x) x q ho hax
            exact Or.inr ⟨q, by omega⟩
        · rcases hz with h0 | ⟨hoz, _⟩
          · omega
          · exact Nat.le_of_not_lt (p4 x z ho hoz hyz)
  · rintro ⟨h1, h2⟩ ⟨h3, h4⟩
    have t := h2 x h3 hax
    omega
/-- before the first node passes its weight up: the nodes at place p alone hold -/
theorem fq_M3 {N p y : Nat} {b : Nat → Prop} {ps ab : Nat → Nat} {on : Nat → Prop} (P : fq_path N 8 b ps ab on) (hb : b p) (hp : p < 8) : fq_M p ps on N y ↔ on y ∧ ps y = p := by
  obtain ⟨p1, p2, p3, p4, p5⟩ := P
  obtain ⟨x, hx, ex⟩ := p2 p hp hb
  have tx := p1 x hx
  have hR : fq_R p ps on x := Or.inr ⟨hx, by omega⟩
  constructor
  · rintro ⟨h1, h2⟩
    rcases h1 with h0 | ⟨hy, hps⟩
    · have t := h2 x hR (by omega)
      omega
    · refine ⟨hy, ?_⟩
      rcases Nat.lt_trichotomy x y with q | q | q
      · have t := p5 x y hx hy q
        omega
      · rw [← q]; exact ex
      · have t := h2 x hR q
        omega
  · rintro ⟨hy, hps⟩
    refine ⟨Or.inr ⟨hy, by omega⟩, fun z hz hyz => ?_⟩
    rcases hz with h0 | ⟨hoz, hpz⟩
    · omega
    · have t := p5 y z hy hoz hyz
      omega
/-- at the end -/
theorem fq_M4 {p y : Nat} {ps : Nat → Nat} {on : Nat → Prop} (hy : 1 ≤ y) (hp : ps y ≤ p) : fq_M p ps on 1 y ↔ on y := by
  constructor
  · rintro ⟨h1, h2⟩
    rcases h1 with h0 | ⟨h, _⟩
    · omega
    · exact h
  · intro h
    exact ⟨Or.inr ⟨h, hp⟩, fun z _ hyz => by omega⟩
theorem fq_l94 {post : St2 → Prop} {bc bu : Int32} {a1 a2 a3 a4 a5 a6 a7 a8 a9 a10 a11 a12 a13 : Nat → Int32} {n N t p : Nat} {o ps ab : Nat → Nat} {on bt : Nat → Nat → Prop} (c : Nat → Prop) (hn : n ≤ 20) (ht : t + 161 ≤ 1449) (hN1 : 1 ≤ N) (hN : N ≤ 161) (hd : fq_nd N ps ab) (L : fq_lk N o ps ab a4 a5 a6) (P : ∀ j, j < n → fq_path N 8 (bt j) ps ab (on j))
    (W : ∀ y, y < N → a11 (t + y) = nI (fq_C (fun j => c j ∧ fq_M p ps (on j) N y) n))
    (H : ∀ s, (∀ z, z < t → s z = a11 z) → (∀ y, y < N → s (t + y) = nI (fq_C (fun j => c j ∧ fq_M p ps (on j) 1 y) n)) → post (bc, bu, (nI N), a1, a2, a3, a4, a5, a6, a7, a8, a9, a10, s, a12, a13)) : ∃ f, wX_liftWeights_94 post (nI t) bc bu (nI N) f (nI N - 1) a1 a2 a3 a4 a5 a6 a7 a8 a9 a10 a11 a12 a13 := by
  obtain ⟨K, rfl⟩ : ∃ K, N = K + 1 := ⟨N - 1, by omega⟩
  rw [nI_pred]
  refine ⟨K + 1, pk_loopD (fun f i s => wX_liftWeights_94 post (nI t) bc bu (nI (K + 1)) f (nI i) a1 a2 a3 a4 a5 a6 a7 a8 a9 a10 s a12 a13) (fun i s => i < K + 1 ∧ (∀ z, z < t → s z = a11 z) ∧ ∀ y, y < K + 1 → s (t + y) = nI (fq_C (fun j => c j ∧ fq_M p ps (on j) (i + 1) y) n)) ?_ ?_ K a11 ⟨by omega, fun z _ => rfl, W⟩⟩
  · intro f s h
    exact pk_le 0 0 (fun _ => H s h.2.1 h.2.2) (fun z => absurd z (by omega))
  · intro f i s h hk
    obtain ⟨hi, hf, hw⟩ := h
    obtain ⟨l1, _⟩ := L.1 (i + 1) (by omega) hi
    have hab := (hd (i + 1) (by omega) hi).2
    refine pk_le (i + 1) 0 (fun z => absurd z (by omega)) (fun _ => ?_)
    rw [nI_clamp (show i + 1 < 2 ^ 31 by omega), l1, nI_add, nI_add, nI_clamp (show t + ab (i + 1) < 2 ^ 31 by omega), nI_clamp (show t + (i + 1) < 2 ^ 31 by omega), hw (ab (i + 1)) (by omega), hw (i + 1) hi, nI_add]
    have ea : fq_C (fun j => c j ∧ fq_M p ps (on j) (i + 1) (ab (i + 1))) n = fq_C (fun j => c j ∧ fq_M p ps (on j) (i + 1 + 1) (ab (i + 1))) n + fq_C (fun j => c j ∧ fq_M p ps (on j) (i + 1 + 1) (i + 1)) n := by
      refine fq_Ca (fun j hj => ?_) (fun j hj => ?_)
      · rw [(fq_M2 (P j hj) hd (by omega) hi).1]
        constructor
        · rintro ⟨h1, h2 | h2⟩
          · exact Or.inl ⟨h1, h2⟩
          · exact Or.inr ⟨h1, h2⟩
        · rintro (⟨h1, h2⟩ | ⟨h1, h2⟩)
          · exact ⟨h1, Or.inl h2⟩
          · exact ⟨h1, Or.inr h2⟩
      · intro h1 h2
        exact (fq_M2 (P j hj) hd (by omega) hi).2 h1.2 h2.2
    have hle := fq_Cn (fun j => c j ∧ fq_M p ps (on j) (i + 1) (ab (i + 1))) n
    rw [← ea, fq_i8 _ (by omega)]
    refine ⟨pk_in (i + 1) 161 (by omega), vp_in_nI (by omega) (by decide), vp_in_nI (by omega) (by decide), vp_in_nI (by omega) (by decide), nm_e (nm_r (pk_m1 i) (hk _ ⟨by omega, fun z hz => ?_, fun y hy => ?_⟩))⟩
    · rw [pk_un (by omega)]
      exact hf z hz
    · by_cases e : y = ab (i + 1)
      · rw [e, pk_us]
      · rw [pk_un (by omega), hw y hy]
        refine congrArg nI (fq_Cc (fun j hj => ?_))
        rw [fq_M1 (P j hj) hd (by omega) hi e]
theorem fq_l50 {post : St2 → Prop} {bc bu : Int32} {a1 a2 a3 a4 a5 a6 a7 a8 a9 a10 a11 a12 a13 w : Nat → Int32} {n N t f p : Nat} {o ps ab : Nat → Nat} {on bt : Nat → Nat → Prop} (c : Nat → Prop) (hp : p < 8) (hn : n ≤ 20) (hft : f + 161 ≤ t) (ht : t + 161 ≤ 1449) (hN1 : 1 ≤ N) (hN : N ≤ 161) (hd : fq_nd N ps ab) (L : fq_lk N o ps ab a4 a5 a6) (P : ∀ j, j < n → fq_path N 8 (bt j) ps ab (on j))
    (W : ∀ x, 1 ≤ x → x < N → ps x = p → w (f + x) = nI (fq_C (fun j => c j ∧ on j x) n)) (F : ∀ z, z < t → a11 z = w z) (Z : ∀ y, y < N → a11 (t + y) = 0)
    (H : ∀ s, (∀ z, z < t → s z = w z) → (∀ y, 1 ≤ y → y < N → ps y < p → s (t + y) = nI (fq_C (fun j => (c j ∧ bt j p) ∧ on j y) n)) → post (bc, bu, (nI N), a1, a2, a3, a4, a5, a6, a7, a8, a9, a10, s, a12, a13)) : ∃ g, wX_liftWeights_50 post (nI f) (nI t) bc bu (nI N) g (nI (fq_pv ps p N)) a1 a2 a3 a4 a5 a6 a7 a8 a9 a10 a11 a12 a13 := by
  refine loop_m (σ := Nat × (Nat → Int32)) (fun g s => wX_liftWeights_50 post (nI f) (nI t) bc bu (nI N) g (nI (fq_pv ps p s.1)) a1 a2 a3 a4 a5 a6 a7 a8 a9 a10 s.2 a12 a13) (fun s => s.1 ≤ N ∧ (∀ z, z < t → s.2 z = w z) ∧ ∀ y, y < N → ((1 ≤ y ∧ ps y = p ∧ s.1 ≤ y) → s.2 (t + y) = w (f + y)) ∧ (¬ (1 ≤ y ∧ ps y = p ∧ s.1 ≤ y) → s.2 (t + y) = 0)) (fun s => s.1) ?_ (N, a11) ⟨Nat.le_refl N, F, fun y hy => ⟨fun z => absurd z.2.2 (by dsimp only; omega), fun _ => Z y hy⟩⟩
  rintro g ⟨k, s⟩ ⟨hk, hf, hs⟩ ih
  try dsimp only at hk hf hs ⊢
  by_cases e : fq_pv ps p k = 0
  · have tn : ∀ y, 1 ≤ y → y < k → ps y ≠ p := fun y h1 h2 => fq_pv_no (by omega) h2
    rw [e]
    refine pk_eq 0 0 (fun _ => nm_e (fq_l94 (t := t) (p := p) (fun j => c j ∧ bt j p) hn ht hN1 hN hd L P ?_ (fun s' h1 h2 => H s' (fun z hz => (h1 z hz).trans (hf z hz)) ?_))) (fun z => absurd rfl z)
    · intro y hy
      by_cases q : 1 ≤ y ∧ ps y = p
      · have hky : k ≤ y := by
          rcases Nat.lt_or_ge y k with z | z
          · exact absurd q.2 (tn y q.1 z)
          · exact z
        rw [(hs y hy).1 ⟨q.1, q.2, hky⟩, W y q.1 hy q.2]
        refine congrArg nI (fq_Cc (fun j hj => ?_))
        constructor
        · rintro ⟨h1, h2⟩
          have hb := ((P j hj).1 y h2).2.2.1
          rw [q.2] at hb
          exact ⟨⟨h1, hb⟩, (fq_M3 (P j hj) hb hp).mpr ⟨h2, q.2⟩⟩
        · rintro ⟨⟨h1, hb⟩, h2⟩
          exact ⟨h1, ((fq_M3 (P j hj) hb hp).mp h2).1⟩
      · rw [(hs y hy).2 (fun z => q ⟨z.1, z.2.1⟩), fq_C0 (fun j hj z => ?_)]
        · exact nI_0.symm
        · obtain ⟨⟨h1, hb⟩, h2⟩ := z
          have h3 := (fq_M3 (P j hj) hb hp).mp h2
          exact q ⟨((P j hj).1 y h3.1).1, h3.2⟩
    · intro y hy1 hy hps
      rw [h2 y hy]
      refine congrArg nI (fq_Cc (fun j hj => ?_))
      rw [fq_M4 hy1 (by omega)]
  · obtain ⟨t1, t2, t3⟩ := fq_pv_ok e
    have tn : ∀ y, fq_pv ps p k < y → y < k → ps y ≠ p := fun y h1 h2 => fq_pv_no h1 h2
    have ih' := fun r h => ih (fq_pv ps p k, r) h t2
    try dsimp only at ih'
    revert ih' t1 t2 t3 e tn
    generalize fq_pv ps p k = x
    intro e t1 t2 t3 tn ih'
    obtain ⟨l1, l2⟩ := L.1 x t1 (by omega)
    have hwx := W x t1 (by omega) t3
    have hle := fq_Cn (fun j => c j ∧ on j x) n
    refine pk_eq x 0 (fun z => absurd z e) (fun _ => ?_)
    rw [nI_add, nI_add, nI_clamp (show f + x < 2 ^ 31 by omega), nI_clamp (show t + x < 2 ^ 31 by omega), nI_clamp (show x < 2 ^ 31 by omega), hf (f + x) (by omega), hwx, fq_vb (by omega), l2, t3]
    refine ⟨vp_in_nI (by omega) (by decide), vp_in_nI (by omega) (by decide), nm_e ⟨pk_in x 161 (by omega), nm_e (ih' _ ⟨by omega, fun z hz => ?_, fun y hy => ⟨fun q => ?_, fun q => ?_⟩⟩)⟩⟩
    · rw [pk_un (by omega)]
      exact hf z hz
    · by_cases ey : y = x
      · rw [ey, pk_us, hwx]
      · rw [pk_un (by omega)]
        refine (hs y hy).1 ⟨q.1, q.2.1, ?_⟩
        rcases Nat.lt_or_ge y k with z | z
        · exact absurd q.2.1 (tn y (by omega) z)
        · exact z
    · have ey : y ≠ x := fun z => q ⟨by omega, by rw [z]; exact t3, by omega⟩
      rw [pk_un (by omega)]
      exact (hs y hy).2 (fun z => q ⟨z.1, z.2.1, by omega⟩)
theorem fq_lift {post : St2 → Prop} {bc bu : Int32} {a1 a2 a3 a4 a5 a6 a7 a8 a9 a10 a11 a12 a13 : Nat → Int32} {n N d p : Nat} {o ps ab : Nat → Nat} {on bt : Nat → Nat → Prop} (c : Nat → Prop) (hd8 : d < 8) (hp : p < 8) (ho : o p < 8) (hn : n ≤ 20) (hN1 : 1 ≤ N) (hN : N ≤ 161) (hd : fq_nd N ps ab) (L : fq_lk N o ps ab a4 a5 a6) (P : ∀ j, j < n → fq_path N 8 (bt j) ps ab (on j))
    (W : ∀ x, 1 ≤ x → x < N → ps x = p → a11 (161 * d + x) = nI (fq_C (fun j => c j ∧ on j x) n))
    (H : ∀ s, (∀ z, z < 161 * (d + 1) → s z = a11 z) → (∀ y, 1 ≤ y → y < N → ps y < p → s (161 * (d + 1) + y) = nI (fq_C (fun j => (c j ∧ bt j p) ∧ on j y) n)) → post (bc, bu, (nI N), a1, a2, a3, a4, a5, a6, a7, a8, a9, a10, s, a12, a13)) : wpX_liftWeights post (bc, bu, (nI N), a1, a2, a3, a4, a5, a6, a7, a8, a9, a10, a11, a12, a13) (nI d) (nI (o p)) := by
  refine nm_r (e' := nI (161 * d)) (by rw [show (161 : Int32) = nI 161 from rfl, pk_mul]) (nm_r (e' := nI (161 * (d + 1))) (by rw [show (161 : Int32) = nI 161 from rfl, nI_add]; exact congrArg nI (by omega)) ?_)
  refine pk_loop (fun g i s => wX_liftWeights_16 post (nI (o p)) (nI (161 * d)) (nI (161 * (d + 1))) bc bu (nI N) g (nI i) a1 a2 a3 a4 a5 a6 a7 a8 a9 a10 s a12 a13) (fun i s => (∀ z, z < 161 * (d + 1) → s z = a11 z) ∧ ∀ y, y < i → s (161 * (d + 1) + y) = 0) N 0 a11 (by omega) ⟨fun z _ => rfl, fun y hy => absurd hy (by omega)⟩ ?_ ?_
  · intro g s h
    refine pk_le N N (fun _ => ⟨pk_in (o p) 8 ho, nm_r (e' := nI (fq_pv ps p N)) (by rw [nI_clamp (by omega)]; exact L.2 p hp) ?_⟩) (fun z => absurd z (by omega))
    exact fq_l50 (w := a11) c hp hn (by omega) (by omega) hN1 hN hd L P W h.1 h.2 H
  · intro g i s hi h hw
    refine pk_le N i (fun z => absurd z (by omega)) (fun _ => ?_)
    rw [nI_add, nI_clamp (show 161 * (d + 1) + i < 2 ^ 31 by omega)]
    refine ⟨vp_in_nI (by omega) (by decide), nm_e (nm_r (nI_1 i) (hw _ ⟨fun z hz => ?_, fun y hy => ?_⟩))⟩
    · rw [pk_un (by omega)]
      exact h.1 z hz
    · by_cases e : y = i
      · rw [e, pk_us]
      · rw [pk_un (by omega)]
        exact h.2 y (by omega)
end
section
/-! ===== growing sets ===== -/
/-- basket j has the thing at place p -/
def fq_has (o B : Nat → Nat) (j p : Nat) : Prop := (B j).testBit (o p) = true
/-- T is S and some things at places below g -/
def fq_Sb (o : Nat → Nat) (S g T : Nat) : Prop := T ≠ S ∧ fq_sub S T ∧ ∀ p, g ≤ p → p < 8 → T.testBit (o p) = true → S.testBit (o p) = true
theorem fq_Sb_a {o : Nat → Nat} {S g T : Nat} (h : fq_Sb o S g T) : fq_Sb o S (g + 1) T := ⟨h.1, h.2.1, fun p h1 h2 => h.2.2 p (by omega) h2⟩
theorem fq_Sb_b {o : Nat → Nat} {S g T : Nat} (hg : g < 8) (ho : ∀ p q, p < 8 → q < 8 → o p = o q → p = q) (hS : ¬ S.testBit (o g) = true) (h : fq_Sb o (S ||| 2 ^ o g) g T) : fq_Sb o S (g + 1) T := by
  obtain ⟨h1, h2, h3⟩ := h
  have hs := (fq_orS S (o g) T).mp h2
  refine ⟨fun z => hS (by rw [← z]; exact hs.2), hs.1, fun p hp hp8 ht => ?_⟩
  rcases (fq_ori S (o g) (o p)).mp (h3 p (by omega) hp8 ht) with z | z
  · exact z
  · have := ho p g hp8 hg z
    omega
theorem fq_Sb_c {o : Nat → Nat} {S g : Nat} (hg : g < 8) (ho : ∀ p q, p < 8 → q < 8 → o p = o q → p = q) (hS : ¬ S.testBit (o g) = true) : fq_Sb o S (g + 1) (S ||| 2 ^ o g) := by
  refine ⟨fun z => hS (by rw [← z]; exact (fq_ori S (o g) (o g)).mpr (Or.inr rfl)), fun t ht => (fq_ori S (o g) t).mpr (Or.inl ht), fun p hp hp8 ht => ?_⟩
  rcases (fq_ori S (o g) (o p)).mp ht with z | z
  · exact z
  · have := ho p g hp8 hg z
    omega
theorem fq_Sb_d {o : Nat → Nat} {S g T : Nat} (h : fq_Sb o S (g + 1) T) (ht : T.testBit (o g) = true) : T = S ||| 2 ^ o g ∨ fq_Sb o (S ||| 2 ^ o g) g T := by
  by_cases e : T = S ||| 2 ^ o g
  · exact Or.inl e
  · refine Or.inr ⟨e, (fq_orS S (o g) T).mpr ⟨h.2.1, ht⟩, fun p hp hp8 hb => ?_⟩
    by_cases ep : p = g
    · rw [ep]
      exact (fq_ori S (o g) (o g)).mpr (Or.inr rfl)
    · exact (fq_ori S (o g) (o p)).mpr (Or.inl (h.2.2 p (by omega) hp8 hb))
theorem fq_Sb_e {o : Nat → Nat} {S g T : Nat} (h : fq_Sb o S (g + 1) T) (ht : ¬ T.testBit (o g) = true) : fq_Sb o S g T := by
  refine ⟨h.1, h.2.1, fun p hp hp8 hb => ?_⟩
  by_cases ep : p = g
  · rw [ep] at hb
    exact absurd hb ht
  · exact h.2.2 p (by omega) hp8 hb
theorem fq_Sb_f {o : Nat → Nat} {S g T : Nat} (hg : g < 8) (hS : ¬ S.testBit (o g) = true) (h : fq_Sb o S g T) : ¬ T.testBit (o g) = true := fun z => hS (h.2.2 g (Nat.le_refl g) hg z)
theorem fq_Sb_g {o : Nat → Nat} {S g T : Nat} (h : fq_Sb o (S ||| 2 ^ o g) g T) : T.testBit (o g) = true := ((fq_orS S (o g) T).mp h.2.1).2
theorem fq_sup_or (o B : Nat → Nat) (n S g : Nat) : fq_C (fun j => fq_sub S (B j) ∧ fq_has o B j g) n = fq_sup B n (S ||| 2 ^ o g) := fq_Cc (fun j _ => (fq_orS S (o g) (B j)).symm)
theorem fq_sup_le {B : Nat → Nat} {n S T : Nat} (h : fq_sub S T) : fq_sup B n T ≤ fq_sup B n S := fq_Cm (fun j _ hT t ht => hT t (h t ht))
def fq_F : Nat → Nat
  | 0 => 1
  | g + 1 => fq_F g + fq_F g + 1
theorem fq_F1 (g : Nat) : fq_F (g + 1) = fq_F g + fq_F g + 1 := rfl
/-- what a search from depth d with set S over the places below g leaves -/
def fq_done (B o : Nat → Nat) (n d S g : Nat) (a10 a11 a12 a13 r10 r11 r12 r13 : Nat → Int32) : Prop :=
  (∀ i, i < d → r12 i = a12 i ∧ r13 i = a13 i) ∧ (∀ z, z < 161 * d → r11 z = a11 z) ∧ (∀ T, T < 256 → (fq_Sb o S g T → r10 T = nI (fq_sup B n T)) ∧ (¬ fq_Sb o S g T → r10 T = a10 T))
/-- where such a search begins -/
def fq_at (B o ps : Nat → Nat) (on : Nat → Nat → Prop) (n N d S g : Nat) (a10 a11 a12 a13 : Nat → Int32) : Prop :=
  d + g ≤ 8 ∧ S < 256 ∧ a12 d = nI S ∧ a13 d = nI g - 1 ∧ (∀ p, p < g → ¬ S.testBit (o p) = true) ∧ (∀ x, 1 ≤ x → x < N → ps x < g → a11 (161 * d + x) = nI (fq_C (fun j => fq_sub S (B j) ∧ on j x) n)) ∧ (∀ T, T < 256 → fq_Sb o S g T → a10 T = 0)
theorem fq_dfs {post : St2 → Prop} {bc bu : Int32} {a1 a2 a3 a4 a5 a6 a7 a8 a9 : Nat → Int32} {n N : Nat} {o B ps ab : Nat → Nat} {on : Nat → Nat → Prop} (hn : n ≤ 20) (hN : N ≤ 161) (ho : fq_ord o a7) (hT : fq_tr (fq_has o B) o n N ps ab on a3 a4 a5 a6) :
    ∀ g, g ≤ 8 → ∀ (d S k : Nat) (a10 a11 a12 a13 : Nat → Int32), fq_at B o ps on n N d S g a10 a11 a12 a13 →
    (∀ r10 r11 r12 r13, fq_done B o n d S g a10 a11 a12 a13 r10 r11 r12 r13 → ∀ f, k ≤ f → wX_growSets_78 post f (nI d + (-1)) bc bu (nI N) a1 a2 a3 a4 a5 a6 a7 a8 a9 r10 r11 r12 r13) →
    ∀ f, k + fq_F g ≤ f → wX_growSets_78 post f (nI d) bc bu (nI N) a1 a2 a3 a4 a5 a6 a7 a8 a9 a10 a11 a12 a13 := by
  intro g
  induction g with
  | zero =>
    intro _ d S k a10 a11 a12 a13 hat H f hf
    obtain ⟨h1, h2, h3, h4, h5, h6, h7⟩ := hat
    obtain ⟨f', rfl⟩ : ∃ f', f = f' + 1 := ⟨f - 1, by have : fq_F 0 = 1 := rfl; omega⟩
    refine pk_lt d 0 (fun z => absurd z (by omega)) (fun _ => ⟨pk_in d 9 (by omega), nm_r (e' := nI 0 - 1) (by rw [nI_clamp (by omega)]; exact h4) (br_f (by decide) (nm_e (H a10 a11 a12 a13 ⟨fun i _ => ⟨rfl, rfl⟩, fun z _ => rfl, fun T hT => ⟨fun hs => ?_, fun _ => rfl⟩⟩ f' (by have : fq_F 0 = 1 := rfl; omega))))⟩)
    exfalso
    have k1 : fq_sub T S := fun t ht => by
      obtain ⟨p, hp, e⟩ := ho.2.2 t (fq_tb hT ht)
      rw [← e] at ht ⊢
      exact hs.2.2 p (by omega) hp ht
    exact hs.1 (fq_ext (fun i => ⟨k1 i, hs.2.1 i⟩))
  | succ g ih =>
    intro hg d S k a10 a11 a12 a13 hat H f hf
    obtain ⟨h1, h2, h3, h4, h5, h6, h7⟩ := hat
    rw [fq_F1] at hf
    obtain ⟨f', rfl⟩ : ∃ f', f = f' + 1 := ⟨f - 1, by omega⟩
    have hg8 : g < 8 := by omega
    have hog := (ho.1 g hg8).1
    have hSg := h5 g (by omega)
    rw [nI_pred] at h4
    have h4' : (a13 d - 1).toInt8.toInt32 = nI g - 1 := by rw [h4]; exact fq_m8 g (by omega)
    refine pk_lt d 0 (fun z => absurd z (by omega)) (fun _ => ⟨pk_in d 9 (by omega), nm_r (e' := nI g) (by rw [nI_clamp (by omega)]; exact h4) (br_t (nI_pos' (by omega)) ⟨pk_in d 9 (by omega), pk_in d 9 (by omega), nm_r (e' := upd a13 d (nI g - 1)) (by rw [nI_clamp (by omega), h4']) ⟨pk_in g 8 hg8, nm_r (e' := nI (o g)) (by rw [nI_clamp (by omega)]; exact (ho.1 g hg8).2) ?_⟩⟩)⟩)
    refine fq_countOn (N := N) (n := n) (o := o) (ps := ps) (ab := ab) (on := on) (bt := fq_has o B) (p := g) (fun j => fq_sub S (B j)) (by omega) hN hg8 hog hT.2.2.1 hT.2.2.2.1 (fun x hx1 hx hps => h6 x hx1 hx (by omega)) ?_
    rw [fq_sup_or]
    have hle : fq_sup B n (S ||| 2 ^ o g) ≤ n := fq_Cn _ n
    have hS' := fq_orL h2 hog
    refine pk_eq (fq_sup B n (S ||| 2 ^ o g)) 0 (fun z => ?_) (fun z => ?_)
    · refine ih (by omega) d S k a10 a11 a12 (upd a13 d (nI g - 1)) ⟨by omega, h2, h3, pk_us, fun p hp => h5 p (by omega), fun x hx1 hx hps => h6 x hx1 hx (by omega), fun T hT hs => h7 T hT (fq_Sb_a hs)⟩ (fun r10 r11 r12 r13 hd => H r10 r11 r12 r13 ⟨fun i hi => ⟨(hd.1 i hi).1, by rw [(hd.1 i hi).2, pk_un (by omega)]⟩, hd.2.1, fun T hT => ⟨fun hs => ?_, fun hs => (hd.2.2 T hT).2 (fun q => hs (fq_Sb_a q))⟩⟩) f' (by omega)
      by_cases q : fq_Sb o S g T
      · exact (hd.2.2 T hT).1 q
      · have hb : T.testBit (o g) = true := by
          by_cases hb : T.testBit (o g) = true
          · exact hb
          · exact absurd (fq_Sb_e hs hb) q
        have t := fq_sup_le (B := B) (n := n) ((fq_orS S (o g) T).mpr ⟨hs.2.1, hb⟩)
        rw [(hd.2.2 T hT).2 q, h7 T hT hs, show fq_sup B n T = 0 by omega]
        rfl
    · refine ⟨pk_in d 9 (by omega), nm_r (e' := nI (S ||| 2 ^ o g)) (by rw [nI_clamp (by omega), h3, fq_shl _ (by omega), fq_or]) ⟨pk_in _ 256 hS', nm_r (e' := upd a10 (S ||| 2 ^ o g) (nI (fq_sup B n (S ||| 2 ^ o g)))) (by rw [nI_clamp (by omega), fq_i8 _ (by omega)]) ?_⟩⟩
      refine fq_lift (N := N) (n := n) (o := o) (ps := ps) (ab := ab) (on := on) (bt := fq_has o B) (p := g) (fun j => fq_sub S (B j)) (by omega) hg8 hog hn hT.1 hN hT.2.1 hT.2.2.1 hT.2.2.2.1 (fun x hx1 hx hps => h6 x hx1 hx (by omega)) (fun s hs1 hs2 => ?_)
      refine nm_r (nI_1 d) ⟨pk_in (d + 1) 9 (by omega), nm_r (e' := upd a12 (d + 1) (nI (S ||| 2 ^ o g))) (by rw [nI_clamp (by omega), fq_i16 _ hS']) ⟨pk_in (d + 1) 9 (by omega), nm_r (e' := upd (upd a13 d (nI g - 1)) (d + 1) (nI g - 1)) (by rw [nI_clamp (by omega), fq_m8 g (by omega)]) ?_⟩⟩
      refine ih (by omega) (d + 1) (S ||| 2 ^ o g) (k + fq_F g) _ s _ _ ⟨by omega, hS', pk_us, pk_us, fun p hp q => ?_, fun x hx1 hx hps => ?_, fun T hT hs => ?_⟩ (fun r10 r11 r12 r13 hd f2 hf2 => ?_) f' (by omega)
      · rcases (fq_ori S (o g) (o p)).mp q with q | q
        · exact h5 p (by omega) q
        · have := ho.2.1 p g (by omega) hg8 q
          omega
      · rw [hs2 x hx1 hx hps]
        exact congrArg nI (fq_Cc (fun j _ => by
          have e := fq_orS S (o g) (B j)
          constructor
          · rintro ⟨q1, q2⟩
            exact ⟨e.mpr q1, q2⟩
          · rintro ⟨q1, q2⟩
            exact ⟨e.mp q1, q2⟩))
      · rw [pk_un hs.1]
        exact h7 T hT (fq_Sb_b hg8 ho.2.1 hSg hs)
      · obtain ⟨d1, d2, d3⟩ := hd
        rw [pk_m1]
        have e12 : ∀ i, i < d + 1 → r12 i = a12 i := fun i hi => by rw [(d1 i hi).1, pk_un (by omega)]
        have e13 : ∀ i, i < d + 1 → r13 i = upd a13 d (nI g - 1) i := fun i hi => by rw [(d1 i hi).2, pk_un (by omega)]
        have e11 : ∀ z, z < 161 * (d + 1) → r11 z = a11 z := fun z hz => by rw [d2 z hz, hs1 z hz]
        refine ih (by omega) d S k r10 r11 r12 r13 ⟨by omega, h2, by rw [e12 d (by omega)]; exact h3, by rw [e13 d (by omega), pk_us], fun p hp => h5 p (by omega), fun x hx1 hx hps => ?_, fun T hT hs => ?_⟩ (fun t10 t11 t12 t13 hd' => H t10 t11 t12 t13 ⟨fun i hi => ⟨?_, ?_⟩, fun z hz => ?_, fun T hT => ⟨fun hs => ?_, fun hs => ?_⟩⟩) f2 hf2
        · rw [e11 _ (by omega)]
          exact h6 x hx1 hx (by omega)
        · have hb := fq_Sb_f hg8 hSg hs
          rw [(d3 T hT).2 (fun q => hb (fq_Sb_g q)), pk_un (fun q => hb (by rw [q]; exact (fq_ori S (o g) (o g)).mpr (Or.inr rfl)))]
          exact h7 T hT (fq_Sb_a hs)
        · rw [(hd'.1 i hi).1, e12 i (by omega)]
        · rw [(hd'.1 i hi).2, e13 i (by omega), pk_un (by omega)]
        · rw [hd'.2.1 z hz, e11 z (by omega)]
        · by_cases q : fq_Sb o S g T
          · exact (hd'.2.2 T hT).1 q
          · rw [(hd'.2.2 T hT).2 q]
            have hb : T.testBit (o g) = true := by
              by_cases hb : T.testBit (o g) = true
              · exact hb
              · exact absurd (fq_Sb_e hs hb) q
            rcases fq_Sb_d hs hb with e | e
            · rw [(d3 T hT).2 (fun q => q.1 e), e, pk_us]
            · exact (d3 T hT).1 e
        · rw [(hd'.2.2 T hT).2 (fun q => hs (fq_Sb_a q)), (d3 T hT).2 (fun q => hs (fq_Sb_b hg8 ho.2.1 hSg q)), pk_un (fun q => hs (by rw [q]; exact fq_Sb_c hg8 ho.2.1 hSg))]
theorem fq_grow {post : St2 → Prop} {bu : Int32} {a1 a2 a3 a4 a5 a6 a7 a8 a9 a10 a11 a12 a13 : Nat → Int32} {n N : Nat} {o B ps ab : Nat → Nat} {on : Nat → Nat → Prop} (hn : n ≤ 20) (hN : N ≤ 161) (ho : fq_ord o a7) (hT : fq_tr (fq_has o B) o n N ps ab on a3 a4 a5 a6)
    (H : ∀ r10 r11 r12 r13, (∀ T, T < 256 → r10 T = nI (fq_sup B n T)) → post ((nI n), bu, (nI N), a1, a2, a3, a4, a5, a6, a7, a8, a9, r10, r11, r12, r13)) : wpX_growSets post ((nI n), bu, (nI N), a1, a2, a3, a4, a5, a6, a7, a8, a9, a10, a11, a12, a13) := by
  refine pk_loop (fun f i s => wX_growSets_2 post (nI n) bu (nI N) f (nI i) a1 a2 a3 a4 a5 a6 a7 a8 a9 s a11 a12 a13) (fun i s => ∀ T, T < i → s T = 0) 256 0 a10 (by omega) (fun T hT => absurd hT (by omega)) ?_ ?_
  · intro f s hs
    refine pk_le 256 256 (fun _ => nm_r (e' := upd s 0 (nI n)) (by rw [fq_i8 n (by omega)]) ?_) (fun z => absurd z (by omega))
    refine pk_loop (fun f i w => wX_growSets_35 post (nI n) bu (nI N) f (nI i) a1 a2 a3 a4 a5 a6 a7 a8 a9 (upd s 0 (nI n)) w a12 a13) (fun i w => ∀ x, 1 ≤ x → x < i → w x = a3 x) N 0 a11 (by omega) (fun x _ hx => absurd hx (by omega)) ?_ ?_
    · intro f w hw
      refine pk_le N N (fun _ => nm_e (nm_e ⟨1 + fq_F 8, ?_⟩)) (fun z => absurd z (by omega))
      refine fq_dfs hn hN ho hT 8 (by omega) 0 0 1 (upd s 0 (nI n)) w (upd a12 0 0) (upd a13 0 7) ⟨by omega, by omega, pk_us, pk_us, fun p _ => by rw [Nat.zero_testBit]; decide, fun x hx1 hx _ => ?_, fun T hT hs' => ?_⟩ (fun r10 r11 r12 r13 hd f2 hf2 => ?_) (1 + fq_F 8) (Nat.le_refl _)
      · rw [Nat.mul_zero, Nat.zero_add, hw x hx1 hx, hT.2.2.2.2 x hx1 hx]
        exact congrArg nI (fq_Cc (fun j _ => ⟨fun z => ⟨fun t ht => absurd ht (by rw [Nat.zero_testBit]; decide), z⟩, fun z => z.2⟩))
      · rw [pk_un hs'.1]
        exact hs T hT
      · obtain ⟨f3, rfl⟩ : ∃ f3, f2 = f3 + 1 := ⟨f2 - 1, by omega⟩
        refine br_t (by decide) (H r10 r11 r12 r13 (fun T hT => ?_))
        by_cases e : T = 0
        · rw [(hd.2.2 T hT).2 (fun q => q.1 e), e, pk_us]
          exact congrArg nI (fq_C1 (fun j _ t ht => absurd ht (by rw [Nat.zero_testBit]; decide))).symm
        · exact (hd.2.2 T hT).1 ⟨e, fun t ht => absurd ht (by rw [Nat.zero_testBit]; decide), fun p h1 h2 => absurd h1 (by omega)⟩
    · intro f i w hi hw hk
      refine pk_le N i (fun z => absurd z (by omega)) (fun _ => ?_)
      rw [nI_clamp (show i < 2 ^ 31 by omega)]
      refine ⟨pk_in i 161 (by omega), pk_in i 1449 (by omega), nm_e (nm_r (nI_1 i) (hk _ (fun x hx1 hx => ?_)))⟩
      by_cases e : x = i
      · have t := fq_Cn (fun j => on j i) n
        rw [e] at hx1 ⊢
        rw [pk_us, hT.2.2.2.2 i hx1 hi, fq_vb (by omega)]
      · rw [pk_un e]
        exact hw x hx1 (by omega)
  · intro f i s hi hs hk
    refine pk_le 256 i (fun z => absurd z (by omega)) (fun _ => ?_)
    rw [nI_clamp (show i < 2 ^ 31 by omega)]
    refine ⟨pk_in i 256 hi, nm_e (nm_r (nI_1 i) (hk _ (fun T hT => ?_)))⟩
    by_cases e : T = i
    · rw [e, pk_us]
    · rw [pk_un e]
      exact hs T (by omega)
end
section
/-! ===== build ===== -/
/-- n baskets B; if the object says that it is built, its counts are right -/
def fq_K (n : Nat) (B : Nat → Nat) (u : St2) : Prop := match u with
  | (bc, bu, nc, a1, a2, a3, a4, a5, a6, a7, a8, a9, a10, a11, a12, a13) => bc = nI n ∧ (∀ j, j < n → a1 j = nI (B j)) ∧ (bu = 0 ∨ (bu = 1 ∧ ∀ T, T < 256 → a10 T = nI (fq_sup B n T)))
def fq_K1 (n : Nat) (B : Nat → Nat) (u : St2) : Prop := match u with
  | (bc, bu, nc, a1, a2, a3, a4, a5, a6, a7, a8, a9, a10, a11, a12, a13) => bc = nI n ∧ (∀ j, j < n → a1 j = nI (B j)) ∧ (bu = 1 ∧ ∀ T, T < 256 → a10 T = nI (fq_sup B n T))
theorem fq_KK {n : Nat} {B : Nat → Nat} {u : St2} (h : fq_K1 n B u) : fq_K n B u := by
  obtain ⟨bc, bu, nc, a1, a2, a3, a4, a5, a6, a7, a8, a9, a10, a11, a12, a13⟩ := u
  exact ⟨h.1, h.2.1, Or.inr h.2.2⟩
theorem fq_b56 {post : St2 → Prop} {a1 a2 a3 a4 a5 a6 a7 a8 a9 a10 a11 a12 a13 : Nat → Int32} {n N : Nat} {o B ps ab : Nat → Nat} {on : Nat → Nat → Prop} (hn : n ≤ 20) (hB : ∀ j, j < n → B j < 256) (h1 : ∀ j, j < n → a1 j = nI (B j)) (ho : fq_ord o a7) (hN : N ≤ 1) (hT : fq_tr (fq_has o B) o 0 N ps ab on a3 a4 a5 a6)
    (H : ∀ u', fq_K1 n B u' → post u') : ∃ f, wX_build_56 post f 0 (nI n) 1 (nI N) a1 a2 a3 a4 a5 a6 a7 a8 a9 a10 a11 a12 a13 := by
  refine pk_loop (σ := Int32 × (Nat → Int32) × (Nat → Int32) × (Nat → Int32) × (Nat → Int32) × (Nat → Int32)) (fun f i s => match s with | (y, r2, r3, r4, r5, r6) => wX_build_56 post f (nI i) (nI n) 1 y a1 r2 r3 r4 r5 r6 a7 a8 a9 a10 a11 a12 a13)
    (fun i s => match s with | (y, r2, r3, r4, r5, r6) => ∃ (N' : Nat) (ps' ab' : Nat → Nat) (on' : Nat → Nat → Prop), y = nI N' ∧ N' ≤ 1 + 8 * i ∧ fq_tr (fq_has o B) o i N' ps' ab' on' r3 r4 r5 r6) n 0 (nI N, a2, a3, a4, a5, a6) (by omega) ⟨N, ps, ab, on, rfl, by omega, hT⟩ ?_ ?_
  · intro f s h
    obtain ⟨y, r2, r3, r4, r5, r6⟩ := s
    obtain ⟨N', ps', ab', on', ey, hN', ht⟩ := h
    subst ey
    exact pk_le n n (fun _ => fq_grow hn (by omega) ho ht (fun r10 r11 r12 r13 hr => H _ ⟨rfl, h1, rfl, hr⟩)) (fun z => absurd z (by omega))
  · intro f i s hi h hw
    obtain ⟨y, r2, r3, r4, r5, r6⟩ := s
    obtain ⟨N', ps', ab', on', ey, hN', ht⟩ := h
    subst ey
    show wX_build_56 post (f + 1) (nI i) (nI n) 1 (nI N') a1 r2 r3 r4 r5 r6 a7 a8 a9 a10 a11 a12 a13
    refine pk_le n i (fun z => absurd z (by omega)) (fun _ => ?_)
    rw [nI_clamp (show i < 2 ^ 31 by omega), h1 i hi]
    refine ⟨pk_in i 20 (by omega), fq_plant (m := i) (by omega) hN' (hB i hi) (fun p _ => Iff.rfl) ho ht (fun N2 ps2 ab2 on2 q2 q3 q4 q5 q6 hN2 ht2 => ?_)⟩
    exact nm_r (nI_1 i) (hw (nI N2, q2, q3, q4, q5, q6) ⟨N2, ps2, ab2, on2, rfl, hN2, ht2⟩)
theorem fq_build {post : St2 → Prop} {u : St2} {n : Nat} {B : Nat → Nat} (hn : n ≤ 20) (hB : ∀ j, j < n → B j < 256) (K : fq_K n B u) (H : ∀ u', fq_K1 n B u' → post u') : wpX_build post u := by
  obtain ⟨bc, bu, nc, a1, a2, a3, a4, a5, a6, a7, a8, a9, a10, a11, a12, a13⟩ := u
  obtain ⟨e, h1, hb⟩ := K
  subst e
  rcases hb with hb | hb
  · subst hb
    refine br_t rfl (fq_order hn (fun r s w hr => nm_e ?_))
    have ho := fq_ordI hr
    refine pk_loop (fun f i v => wX_build_35 post (nI n) 1 1 f (nI i) a1 a2 (upd a3 0 (nI n).toInt8.toInt32) a4 a5 v r s w a10 a11 a12 a13) (fun i v => ∀ t, t < i → v t = 0) 8 0 a6 (by omega) (fun t ht => absurd ht (by omega)) ?_ ?_
    · intro f v hv
      refine pk_le 8 8 (fun _ => ?_) (fun z => absurd z (by omega))
      refine fq_b56 (N := 1) (ps := fun _ => 0) (ab := fun _ => 0) (on := fun _ _ => False) hn hB h1 ho (by omega) ⟨by omega, fun x hx1 hx => absurd hx (by omega), ⟨fun x hx1 hx => absurd hx (by omega), fun p hp => ?_⟩, fun j hj => absurd hj (by omega), fun x hx1 hx => absurd hx (by omega)⟩ H
      rw [hv _ (ho.1 p hp).1, fq_pvf (fun z => absurd z.1 (by omega))]
      rfl
    · intro f i v hi hv hw
      refine pk_le 8 i (fun z => absurd z (by omega)) (fun _ => ?_)
      rw [nI_clamp (show i < 2 ^ 31 by omega)]
      refine ⟨pk_in i 8 hi, nm_e (nm_r (nI_1 i) (hw _ (fun t ht => ?_)))⟩
      by_cases e : t = i
      · rw [e, pk_us]
      · rw [pk_un e]
        exact hv t (by omega)
  · exact br_f (by rw [hb.1]; decide) (H _ ⟨rfl, h1, hb⟩)
end
section
/-! ===== the methods that answer ===== -/
theorem fq_isSet {post : Int32 → Prop} {u : St2} {T : Nat} (hT : T < 256) (H : post 1) : wpX_isSet post u (nI T) := by
  obtain ⟨bc, bu, nc, a1, a2, a3, a4, a5, a6, a7, a8, a9, a10, a11, a12, a13⟩ := u
  exact pk_lt T 0 (fun z => absurd z (by omega)) (fun _ => pk_lt 255 T (fun z => absurd z (by omega)) (fun _ => H))
theorem fq_isBound {post : Int32 → Prop} {u : St2} {m : Nat} (h1 : 1 ≤ m) (h2 : m ≤ 20) (H : post 1) : wpX_isBound post u (nI m) := by
  obtain ⟨bc, bu, nc, a1, a2, a3, a4, a5, a6, a7, a8, a9, a10, a11, a12, a13⟩ := u
  exact pk_lt m 1 (fun z => absurd z (by omega)) (fun _ => pk_lt 20 m (fun z => absurd z (by omega)) (fun _ => H))
theorem fq_add {post : Int32 → St2 → Prop} {u : St2} {n v : Nat} {B : Nat → Nat} (hn : n < 20) (hv : B n = v) (hB : v < 256) (K : fq_K n B u) (H : ∀ u', fq_K (n + 1) B u' → post (nI (n + 1)) u') : wpX_add post u (nI v) := by
  subst hv
  obtain ⟨bc, bu, nc, a1, a2, a3, a4, a5, a6, a7, a8, a9, a10, a11, a12, a13⟩ := u
  obtain ⟨e, h1, hb⟩ := K
  subst e
  refine pk_lt n 20 (fun _ => fq_isSet hB (br_f (by decide) ⟨pk_in n 20 hn, nm_r (e' := upd a1 n (nI (B n))) (by rw [nI_clamp (by omega), fq_i16 _ hB]) (nm_r (nI_1 n) (H _ ⟨rfl, fun j hj => ?_, Or.inl rfl⟩))⟩)) (fun z => absurd z (by omega))
  by_cases e : j = n
  · rw [e, pk_us]
  · rw [pk_un e]
    exact h1 j (by omega)
theorem fq_count {post : Int32 → St2 → Prop} {u : St2} {n T : Nat} {B : Nat → Nat} (hn : n ≤ 20) (hB : ∀ j, j < n → B j < 256) (K : fq_K n B u) (hT : T < 256) (H : ∀ u', fq_K1 n B u' → post (nI (fq_sup B n T)) u') : wpX_count post u (nI T) := by
  obtain ⟨bc, bu, nc, a1, a2, a3, a4, a5, a6, a7, a8, a9, a10, a11, a12, a13⟩ := u
  unfold wpX_count
  try dsimp only
  refine fq_isSet hT ?_
  refine br_f (by decide) (fq_build hn hB K (fun u' K' => ?_))
  obtain ⟨bc, bu, nc, a1, a2, a3, a4, a5, a6, a7, a8, a9, a10, a11, a12, a13⟩ := u'
  have t := H _ K'
  rw [← K'.2.2.2 T hT] at t
  refine ⟨pk_in T 256 hT, ?_⟩
  rw [nI_clamp (by omega)]
  exact t
theorem fq_closure {post : Int32 → St2 → Prop} {u : St2} {n T : Nat} {B : Nat → Nat} (hn : n ≤ 20) (hB : ∀ j, j < n → B j < 256) (K : fq_K n B u) (hT : T < 256) (H0 : ∀ u', fq_sup B n T = 0 → fq_K1 n B u' → post (-3) u')
    (H1 : ∀ u' r, fq_sup B n T ≠ 0 → fq_K1 n B u' → r < 256 → (∀ b, r.testBit b = true ↔ T.testBit b = true ∨ (b < 8 ∧ fq_sup B n (T ||| 2 ^ b) = fq_sup B n T)) → post (nI r) u') : wpX_closure post u (nI T) := by
  obtain ⟨bc, bu, nc, a1, a2, a3, a4, a5, a6, a7, a8, a9, a10, a11, a12, a13⟩ := u
  unfold wpX_closure
  try dsimp only
  refine fq_isSet hT ?_
  refine br_f (by decide) (fq_build hn hB K (fun u' K' => ?_))
  obtain ⟨bc, bu, nc, a1, a2, a3, a4, a5, a6, a7, a8, a9, a10, a11, a12, a13⟩ := u'
  have hc := K'.2.2.2
  have hle : ∀ T, fq_sup B n T ≤ n := fun T => fq_Cn _ n
  have hl := hle T
  refine ⟨pk_in T 256 hT, ?_⟩
  dsimp only
  rw [nI_clamp (show T < 2 ^ 31 by omega), hc T hT]
  refine pk_eq (fq_sup B n T) 0 (fun z => H0 _ z K') (fun z => ?_)
  refine pk_loop (σ := Nat) (fun f i r => wX_closure_30 post (nI T) bc bu nc a1 a2 a3 a4 a5 a6 a7 a8 a9 a10 a11 a12 a13 f (nI r) (nI i)) (fun i r => r < 256 ∧ ∀ b, r.testBit b = true ↔ T.testBit b = true ∨ (b < i ∧ fq_sup B n (T ||| 2 ^ b) = fq_sup B n T)) 8 0 T (by omega) ⟨hT, fun b => ⟨Or.inl, fun q => q.elim id (fun q => absurd q.1 (by omega))⟩⟩ ?_ ?_
  · intro f r hr
    exact pk_le 8 8 (fun _ => H1 _ r z K' hr.1 hr.2) (fun z => absurd z (by omega))
  · intro f i r hi hr hw
    have hTi := fq_orL hT hi
    have hl2 := hle (T ||| 2 ^ i)
    refine pk_le 8 i (fun z => absurd z (by omega)) (fun _ => ?_)
    rw [fq_shl i (by omega), fq_or, fq_or, nI_clamp (show T < 2 ^ 31 by omega), nI_clamp (show T ||| 2 ^ i < 2 ^ 31 by omega), hc T hT, hc _ hTi]
    refine ⟨pk_in _ 256 hTi, pk_in T 256 hT, pk_eq (fq_sup B n (T ||| 2 ^ i)) (fq_sup B n T) (fun q => nm_e (nm_r (nI_1 i) (hw (r ||| 2 ^ i) ⟨fq_orL hr.1 hi, fun b => ?_⟩))) (fun q => nm_r (nI_1 i) (hw r ⟨hr.1, fun b => ?_⟩))⟩
    · rw [fq_ori, hr.2 b]
      constructor
      · rintro ((h | h) | h)
        · exact Or.inl h
        · exact Or.inr ⟨by omega, h.2⟩
        · exact Or.inr ⟨by omega, by rw [h]; exact q⟩
      · rintro (h | h)
        · exact Or.inl (Or.inl h)
        · by_cases e : b = i
          · exact Or.inr e
          · exact Or.inl (Or.inr ⟨by omega, h.2⟩)
    · rw [hr.2 b]
      constructor
      · rintro (h | h)
        · exact Or.inl h
        · exact Or.inr ⟨by omega, h.2⟩
      · rintro (h | h)
        · exact Or.inl h
        · by_cases e : b = i
          · rw [e] at h
            exact absurd h.2 q
          · exact Or.inr ⟨by omega, h.2⟩
theorem fq_frequent {post : Int32 → St2 → Prop} {u : St2} {n m : Nat} {B : Nat → Nat} (hn : n ≤ 20) (hB : ∀ j, j < n → B j < 256) (K : fq_K n B u) (hm1 : 1 ≤ m) (hm : m ≤ 20) (H : ∀ u', fq_K1 n B u' → post (nI (fq_C (fun T => 1 ≤ T ∧ m ≤ fq_sup B n T) 256)) u') : wpX_frequent post u (nI m) := by
  obtain ⟨bc, bu, nc, a1, a2, a3, a4, a5, a6, a7, a8, a9, a10, a11, a12, a13⟩ := u
  unfold wpX_frequent
  try dsimp only
  refine fq_isBound hm1 hm ?_
  refine br_f (by decide) (fq_build hn hB K (fun u' K' => ?_))
  obtain ⟨bc, bu, nc, a1, a2, a3, a4, a5, a6, a7, a8, a9, a10, a11, a12, a13⟩ := u'
  have hc := K'.2.2.2
  have hle : ∀ T, fq_sup B n T ≤ n := fun T => fq_Cn _ n
  have key := pk_loop (σ := Unit) (fun f i _ => wX_frequent_18 post (nI m) bc bu nc a1 a2 a3 a4 a5 a6 a7 a8 a9 a10 a11 a12 a13 f (nI (fq_C (fun T => 1 ≤ T ∧ m ≤ fq_sup B n T) i)) (nI i)) (fun i _ => 1 ≤ i) 256 1 () (by omega) (by omega) ?_ ?_
  · obtain ⟨f, hf⟩ := key
    try dsimp only at hf
    rw [fq_Cs, fq_bf (fun z => absurd z.1 (by omega))] at hf
    exact ⟨f, hf⟩
  · intro f _ _
    exact pk_le 256 256 (fun _ => H _ K') (fun z => absurd z (by omega))
  · intro f i _ hi h1 hw
    have hw' := hw () (by omega)
    try dsimp only at hw'
    have hl := hle i
    refine pk_le 256 i (fun z => absurd z (by omega)) (fun _ => ?_)
    rw [nI_clamp (show i < 2 ^ 31 by omega), hc i hi]
    refine ⟨pk_in i 256 hi, pk_lt (fq_sup B n i) m (fun z => nm_r (nI_1 i) ?_) (fun z => nm_r (nI_1 _) (nm_r (nI_1 i) ?_))⟩
    · rw [fq_Cs, fq_bf (fun q => absurd q.2 (by omega))] at hw'
      exact hw'
    · rw [fq_Cs, fq_bt ⟨h1, z⟩] at hw'
      exact hw'
/-- how many ones T has below i -/
def fq_ones (T : Nat) : Nat → Nat
  | 0 => 0
  | i + 1 => fq_ones T i + T / 2 ^ i % 2
theorem fq_ones1 (T i : Nat) : fq_ones T (i + 1) = fq_ones T i + T / 2 ^ i % 2 := rfl
theorem fq_onesL (T i : Nat) : fq_ones T i ≤ i := by
  induction i with
  | zero => exact Nat.le_refl 0
  | succ i ih =>
    rw [fq_ones1]
    have : T / 2 ^ i % 2 < 2 := Nat.mod_lt _ (by omega)
    omega
theorem fq_onesOf {post : Int32 → Prop} {T : Nat} (hT : T < 256) (H : post (nI (fq_ones T 8))) : wpL_ones post () (nI T) := by
  refine pk_loop (σ := Unit) (fun f i _ => wL_ones_4 post (nI T) f (nI (fq_ones T i)) (nI i)) (fun _ _ => True) 8 0 () (by omega) trivial ?_ ?_
  · intro f _ _
    exact pk_le 8 8 (fun _ => H) (fun z => absurd z (by omega))
  · intro f i _ hi _ hw
    refine pk_le 8 i (fun z => absurd z (by omega)) (fun _ => nm_r (e' := nI (fq_ones T (i + 1))) ?_ (nm_r (nI_1 i) (hw () trivial)))
    rw [fq_bitN hT hi, nI_add]
    rfl
theorem fq_sizeOf {post : Int32 → Prop} {u : St2} {T : Nat} (hT : T < 256) (H : post (nI (fq_ones T 8))) : wpX_sizeOf post u (nI T) := by
  obtain ⟨bc, bu, nc, a1, a2, a3, a4, a5, a6, a7, a8, a9, a10, a11, a12, a13⟩ := u
  refine pk_loop (σ := Unit) (fun f i _ => wX_sizeOf_4 post (nI T) bc bu nc a1 a2 a3 a4 a5 a6 a7 a8 a9 a10 a11 a12 a13 f (nI (fq_ones T i)) (nI i)) (fun _ _ => True) 8 0 () (by omega) trivial ?_ ?_
  · intro f _ _
    exact pk_le 8 8 (fun _ => H) (fun z => absurd z (by omega))
  · intro f i _ hi _ hw
    refine pk_le 8 i (fun z => absurd z (by omega)) (fun _ => nm_r (e' := nI (fq_ones T (i + 1))) ?_ (nm_r (nI_1 i) (hw () trivial)))
    rw [fq_bitN hT hi, nI_add]
    rfl
/-- T is frequent, and no set with one thing more is -/
def fq_LG (B : Nat → Nat) (n m T : Nat) : Prop := m ≤ fq_sup B n T ∧ ∀ t, t < 8 → ¬ T.testBit t = true → fq_sup B n (T ||| 2 ^ t) < m
theorem fq_isLargest {post : Int32 → Prop} {u : St2} {n m T : Nat} {B : Nat → Nat} (hn : n ≤ 20) (hm : m ≤ 20) (K : fq_K1 n B u) (hT : T < 256) (H0 : ¬ fq_LG B n m T → post 0) (H1 : fq_LG B n m T → post 1) : wpX_isLargest post u (nI T) (nI m) := by
  obtain ⟨bc, bu, nc, a1, a2, a3, a4, a5, a6, a7, a8, a9, a10, a11, a12, a13⟩ := u
  have hc := K.2.2.2
  have hle : ∀ T, fq_sup B n T ≤ n := fun T => fq_Cn _ n
  have hl := hle T
  refine ⟨pk_in T 256 hT, ?_⟩
  rw [nI_clamp (show T < 2 ^ 31 by omega), hc T hT]
  refine pk_le m (fq_sup B n T) (fun hmT => ?_) (fun z => H0 (fun q => absurd q.1 (by omega)))
  refine pk_loop (σ := Unit) (fun f i _ => wX_isLargest_14 post (nI T) (nI m) bc bu nc a1 a2 a3 a4 a5 a6 a7 a8 a9 a10 a11 a12 a13 f (nI i)) (fun i _ => ∀ t, t < i → ¬ T.testBit t = true → fq_sup B n (T ||| 2 ^ t) < m) 8 0 () (by omega) (fun t ht => absurd ht (by omega)) ?_ ?_
  · intro f _ h
    exact pk_le 8 8 (fun _ => H1 ⟨hmT, h⟩) (fun z => absurd z (by omega))
  · intro f i _ hi h hw
    have hTi := fq_orL hT hi
    have hl2 := hle (T ||| 2 ^ i)
    refine pk_le 8 i (fun z => absurd z (by omega)) (fun _ => ?_)
    by_cases hb : T.testBit i = true
    · refine br_f (fun z => (fq_bit0 hT hi).mp z hb) (nm_r (nI_1 i) (hw () (fun t ht hn => ?_)))
      by_cases e : t = i
      · rw [e] at hn
        exact absurd hb hn
      · exact h t (by omega) hn
    · refine br_t ((fq_bit0 hT hi).mpr hb) ?_
      rw [fq_shl i (by omega), fq_or, nI_clamp (show T ||| 2 ^ i < 2 ^ 31 by omega), hc _ hTi]
      refine ⟨pk_in _ 256 hTi, pk_lt (fq_sup B n (T ||| 2 ^ i)) m (fun z => nm_r (nI_1 i) (hw () (fun t ht hn => ?_))) (fun z => H0 (fun q => absurd (q.2 i hi hb) (by omega)))⟩
      by_cases e : t = i
      · rw [e]; exact z
      · exact h t (by omega) hn
theorem fq_largest {post : Int32 → St2 → Prop} {u : St2} {n m : Nat} {B : Nat → Nat} (hn : n ≤ 20) (hB : ∀ j, j < n → B j < 256) (K : fq_K n B u) (hm1 : 1 ≤ m) (hm : m ≤ 20) (H : ∀ u', fq_K1 n B u' → post (nI (fq_C (fun T => 1 ≤ T ∧ fq_LG B n m T) 256)) u') : wpX_largest post u (nI m) := by
  obtain ⟨bc, bu, nc, a1, a2, a3, a4, a5, a6, a7, a8, a9, a10, a11, a12, a13⟩ := u
  unfold wpX_largest
  try dsimp only
  refine fq_isBound hm1 hm ?_
  refine br_f (by decide) (fq_build hn hB K (fun u' K' => ?_))
  obtain ⟨bc, bu, nc, a1, a2, a3, a4, a5, a6, a7, a8, a9, a10, a11, a12, a13⟩ := u'
  have key := pk_loop (σ := Unit) (fun f i _ => wX_largest_18 post (nI m) bc bu nc a1 a2 a3 a4 a5 a6 a7 a8 a9 a10 a11 a12 a13 f (nI (fq_C (fun T => 1 ≤ T ∧ fq_LG B n m T) i)) (nI i)) (fun i _ => 1 ≤ i) 256 1 () (by omega) (by omega) ?_ ?_
  · obtain ⟨f, hf⟩ := key
    try dsimp only at hf
    rw [fq_Cs, fq_bf (fun z => absurd z.1 (by omega))] at hf
    exact ⟨f, hf⟩
  · intro f _ _
    exact pk_le 256 256 (fun _ => H _ K') (fun z => absurd z (by omega))
  · intro f i _ hi h1 hw
    have hw' := hw () (by omega)
    try dsimp only at hw'
    refine pk_le 256 i (fun z => absurd z (by omega)) (fun _ => fq_isLargest hn hm K' hi (fun z => br_t rfl (nm_r (nI_1 i) ?_)) (fun z => br_f (by decide) (nm_r (nI_1 _) (nm_r (nI_1 i) ?_))))
    · rw [fq_Cs, fq_bf (fun q => absurd q.2 z)] at hw'
      exact hw'
    · rw [fq_Cs, fq_bt ⟨h1, z⟩] at hw'
      exact hw'
theorem fq_widest {post : Int32 → St2 → Prop} {u : St2} {n m : Nat} {B : Nat → Nat} (hn : n ≤ 20) (hB : ∀ j, j < n → B j < 256) (K : fq_K n B u) (hm1 : 1 ≤ m) (hm : m ≤ 20)
    (H : ∀ u' w, fq_K1 n B u' → w ≤ 8 → (∀ T, 1 ≤ T → T < 256 → m ≤ fq_sup B n T → fq_ones T 8 ≤ w) → (w = 0 ∨ ∃ T, 1 ≤ T ∧ T < 256 ∧ m ≤ fq_sup B n T ∧ fq_ones T 8 = w) → post (nI w) u') : wpX_widest post u (nI m) := by
  obtain ⟨bc, bu, nc, a1, a2, a3, a4, a5, a6, a7, a8, a9, a10, a11, a12, a13⟩ := u
  unfold wpX_widest
  try dsimp only
  refine fq_isBound hm1 hm ?_
  refine br_f (by decide) (fq_build hn hB K (fun u' K' => ?_))
  obtain ⟨bc, bu, nc, a1, a2, a3, a4, a5, a6, a7, a8, a9, a10, a11, a12, a13⟩ := u'
  have hc := K'.2.2.2
  have hle : ∀ T, fq_sup B n T ≤ n := fun T => fq_Cn _ n
  refine pk_loop (σ := Nat) (fun f i w => wX_widest_18 post (nI m) bc bu nc a1 a2 a3 a4 a5 a6 a7 a8 a9 a10 a11 a12 a13 f (nI w) (nI i)) (fun i w => w ≤ 8 ∧ (∀ T, 1 ≤ T → T < i → m ≤ fq_sup B n T → fq_ones T 8 ≤ w) ∧ (w = 0 ∨ ∃ T, 1 ≤ T ∧ T < i ∧ m ≤ fq_sup B n T ∧ fq_ones T 8 = w)) 256 1 0 (by omega) ⟨by omega, fun T h1 h2 => absurd h2 (by omega), Or.inl rfl⟩ ?_ ?_
  · intro f w h
    exact pk_le 256 256 (fun _ => H _ w K' h.1 h.2.1 h.2.2) (fun z => absurd z (by omega))
  · intro f i w hi h hw
    obtain ⟨h1, h2, h3⟩ := h
    have hl := hle i
    have ho := fq_onesL i 8
    have h3' : w = 0 ∨ ∃ T, 1 ≤ T ∧ T < i + 1 ∧ m ≤ fq_sup B n T ∧ fq_ones T 8 = w := by
      rcases h3 with h3 | ⟨T, t1, t2, t3, t4⟩
      · exact Or.inl h3
      · exact Or.inr ⟨T, t1, by omega, t3, t4⟩
    refine pk_le 256 i (fun z => absurd z (by omega)) (fun _ => fq_sizeOf hi ?_)
    refine ⟨pk_in i 256 hi, ?_⟩
    rw [nI_clamp (show i < 2 ^ 31 by omega), hc i hi]
    refine pk_lt (fq_sup B n i) m (fun z => nm_r (nI_1 i) (hw w ⟨h1, fun T t1 t2 t3 => ?_, h3'⟩)) (fun z => pk_le (fq_ones i 8) w (fun q => nm_r (nI_1 i) (hw w ⟨h1, fun T t1 t2 t3 => ?_, h3'⟩)) (fun q => nm_r (nI_1 i) (hw (fq_ones i 8) ⟨ho, fun T t1 t2 t3 => ?_, ?_⟩)))
    · by_cases e : T = i
      · rw [e] at t3
        omega
      · exact h2 T t1 (by omega) t3
    · by_cases e : T = i
      · rw [e]; exact q
      · exact h2 T t1 (by omega) t3
    · by_cases e : T = i
      · rw [e]; exact Nat.le_refl _
      · have t := h2 T t1 (by omega) t3
        omega
    · by_cases e : i = 0
      · rw [e]
        exact Or.inl (by decide)
      · exact Or.inr ⟨i, by omega, by omega, z, rfl⟩
theorem fq_drop {post : Int32 → St2 → Prop} {u : St2} {n : Nat} {B : Nat → Nat} (hn : n + 1 ≤ 20) (hB : ∀ j, j < n + 1 → B j < 256) (K : fq_K (n + 1) B u) (H : ∀ u', fq_K n (fun j => B (j + 1)) u' → post (nI n) u') : wpX_drop post u := by
  obtain ⟨bc, bu, nc, a1, a2, a3, a4, a5, a6, a7, a8, a9, a10, a11, a12, a13⟩ := u
  obtain ⟨e, h1, hb⟩ := K
  subst e
  refine pk_eq (n + 1) 0 (fun z => absurd z (by omega)) (fun _ => nm_r (nI_pred n) ?_)
  refine pk_loop (fun f i s => wX_drop_22 post (nI n) bu nc f (nI i) s a2 a3 a4 a5 a6 a7 a8 a9 a10 a11 a12 a13) (fun i s => (∀ j, j < i → s j = nI (B (j + 1))) ∧ (∀ j, i ≤ j → j < n + 1 → s j = nI (B j))) n 0 a1 (by omega) ⟨fun j hj => absurd hj (by omega), fun j _ hj => h1 j hj⟩ ?_ ?_
  · intro f s h
    exact pk_le n n (fun _ => H _ ⟨rfl, h.1, Or.inl rfl⟩) (fun z => absurd z (by omega))
  · intro f i s hi h hw
    refine pk_le n i (fun z => absurd z (by omega)) (fun _ => ?_)
    rw [nI_1, nI_clamp (show i < 2 ^ 31 by omega), nI_clamp (show i + 1 < 2 ^ 31 by omega), h.2 (i + 1) (by omega) (by omega), fq_vs (hB (i + 1) (by omega))]
    refine ⟨pk_in (i + 1) 20 (by omega), pk_in i 20 (by omega), nm_e (nm_e (hw _ ⟨fun j hj => ?_, fun j hj hj2 => ?_⟩))⟩
    · by_cases e : j = i
      · rw [e, pk_us]
      · rw [pk_un e]
        exact h.1 j (by omega)
    · rw [pk_un (by omega)]
      exact h.2 j (by omega) hj2
end
section
/-! ===== the law's numbers ===== -/
theorem fq_gl {s i : Nat} (hi : i < 32) : (nI s).toBitVec.getLsbD i = s.testBit i := by
  show (BitVec.ofNat 32 s).getLsbD i = _
  rw [BitVec.getLsbD_ofNat]
  simp [hi]
theorem fq_gm : ∀ i, i < 32 → (-1 : Int32).toBitVec.getLsbD i = true := by decide +kernel
theorem fq_gx {s a i : Nat} (hi : i < 32) : (nI s &&& (nI a ^^^ (-1))).toBitVec.getLsbD i = (s.testBit i && !(a.testBit i)) := by
  rw [Int32.toBitVec_and, BitVec.getLsbD_and, Int32.toBitVec_xor, BitVec.getLsbD_xor, fq_gl hi, fq_gl hi, fq_gm i hi, Bool.xor_true]
theorem fq_g0 (i : Nat) : (0 : Int32).toBitVec.getLsbD i = false := BitVec.getLsbD_zero
theorem fq_in {s a : Nat} (hs : s < 256) : (nI s &&& (nI a ^^^ (-1))) = 0 ↔ fq_sub s a := by
  constructor
  · intro h t ht
    have t8 := fq_tb hs ht
    have g := fq_gx (s := s) (a := a) (show t < 32 by omega)
    rw [h, fq_g0, ht, Bool.true_and] at g
    cases e : a.testBit t
    · rw [e] at g
      exact absurd g (by decide)
    · rfl
  · intro h
    refine Int32.toBitVec_inj.mp (BitVec.eq_of_getLsbD_eq (fun i hi => ?_))
    rw [fq_gx hi, fq_g0]
    cases e : s.testBit i
    · rfl
    · rw [h i e]
      rfl
def fq_AB (a b : Nat) : Nat → Nat := fun j => if j = 1 then b else a
theorem fq_ABL {a b : Nat} (ha : a < 256) (hb : b < 256) (j : Nat) : fq_AB a b j < 256 := by
  unfold fq_AB
  by_cases e : j = 1
  · rw [if_pos e]; exact hb
  · rw [if_neg e]; exact ha
theorem fq_sup3 (a b T : Nat) : fq_sup (fq_AB a b) 3 T = fq_b (fq_sub T a) + fq_b (fq_sub T b) + fq_b (fq_sub T a) := by
  show 0 + fq_b (fq_sub T a) + fq_b (fq_sub T b) + fq_b (fq_sub T a) = _
  rw [Nat.zero_add]
theorem fq_sup2 (a b T : Nat) : fq_sup (fun j => fq_AB a b (j + 1)) 2 T = fq_b (fq_sub T b) + fq_b (fq_sub T a) := by
  show 0 + fq_b (fq_sub T b) + fq_b (fq_sub T a) = _
  rw [Nat.zero_add]
theorem fq_andS (T a b : Nat) : fq_sub T (a &&& b) ↔ fq_sub T a ∧ fq_sub T b := by
  constructor
  · intro h
    refine ⟨fun t ht => ?_, fun t ht => ?_⟩
    · have g := h t ht
      rw [Nat.testBit_and, Bool.and_eq_true] at g
      exact g.1
    · have g := h t ht
      rw [Nat.testBit_and, Bool.and_eq_true] at g
      exact g.2
  · intro h t ht
    rw [Nat.testBit_and, Bool.and_eq_true]
    exact ⟨h.1 t ht, h.2 t ht⟩
theorem fq_andL {a : Nat} (b : Nat) (ha : a < 256) : a &&& b < 256 := Nat.lt_of_le_of_lt Nat.and_le_left ha
theorem fq_c2 (a b T : Nat) : 2 ≤ fq_sup (fq_AB a b) 3 T ↔ fq_sub T a := by
  rw [fq_sup3]
  have h := fq_b1 (fq_sub T b)
  by_cases hA : fq_sub T a
  · rw [fq_bt hA]
    exact ⟨fun _ => hA, fun _ => by omega⟩
  · rw [fq_bf hA]
    exact ⟨fun z => absurd z (by omega), fun z => absurd z hA⟩
theorem fq_c3 (a b T : Nat) : 3 ≤ fq_sup (fq_AB a b) 3 T ↔ fq_sub T (a &&& b) := by
  rw [fq_sup3, fq_andS]
  have h := fq_b1 (fq_sub T b)
  by_cases hA : fq_sub T a
  · rw [fq_bt hA]
    by_cases hB : fq_sub T b
    · rw [fq_bt hB]
      exact ⟨fun _ => ⟨hA, hB⟩, fun _ => by omega⟩
    · rw [fq_bf hB]
      exact ⟨fun z => absurd z (by omega), fun z => absurd z.2 hB⟩
  · rw [fq_bf hA]
    exact ⟨fun z => absurd z (by omega), fun z => absurd z.1 hA⟩
/-- one thing more, the same count -/
theorem fq_cl (a b s i : Nat) : fq_sup (fq_AB a b) 3 (s ||| 2 ^ i) = fq_sup (fq_AB a b) 3 s ↔ (fq_sub s a → a.testBit i = true) ∧ (fq_sub s b → b.testBit i = true) := by
  rw [fq_sup3, fq_sup3, fq_bi (fq_orS s i a), fq_bi (fq_orS s i b)]
  have h1 : fq_b (fq_sub s a ∧ a.testBit i = true) ≤ fq_b (fq_sub s a) := fq_bm (fun z => z.1)
  have h2 : fq_b (fq_sub s b ∧ b.testBit i = true) ≤ fq_b (fq_sub s b) := fq_bm (fun z => z.1)
  constructor
  · intro e
    refine ⟨fun hA => ?_, fun hB => ?_⟩
    · by_cases q : a.testBit i = true
      · exact q
      · rw [fq_bf (fun z => q z.2), fq_bt hA] at e
        omega
    · by_cases q : b.testBit i = true
      · exact q
      · rw [fq_bf (P := fq_sub s b ∧ b.testBit i = true) (fun z => q z.2), fq_bt hB] at e
        omega
  · rintro ⟨e1, e2⟩
    rw [fq_bi (P := fq_sub s a ∧ a.testBit i = true) (Q := fq_sub s a) ⟨fun z => z.1, fun z => ⟨z, e1 z⟩⟩, fq_bi (P := fq_sub s b ∧ b.testBit i = true) (Q := fq_sub s b) ⟨fun z => z.1, fun z => ⟨z, e2 z⟩⟩]
/-- what closure answers: a set that has, besides s, all that a has if s lies in a, and all that b has if s lies in b -/
theorem fq_clr {a b s r e : Nat} (he8 : e < 256) (hse : fq_sub s e) (h : ∀ i, r.testBit i = true ↔ s.testBit i = true ∨ (i < 8 ∧ fq_sup (fq_AB a b) 3 (s ||| 2 ^ i) = fq_sup (fq_AB a b) 3 s))
    (he : ∀ i, e.testBit i = true ↔ (fq_sub s a → a.testBit i = true) ∧ (fq_sub s b → b.testBit i = true)) : r = e := by
  refine fq_ext (fun i => ?_)
  rw [h i, fq_cl, ← he i]
  constructor
  · rintro (z | z)
    · exact hse i z
    · exact z.2
  · intro z
    exact Or.inr ⟨fq_tb he8 z, z⟩
def fq_cn (c : Nat) : Nat → Nat
  | 0 => 0
  | i + 1 => fq_cn c i + (if (Nat.ble 1 i && Nat.beq (i &&& c) i) = true then 1 else 0)
theorem fq_subA (T c : Nat) : fq_sub T c ↔ T &&& c = T := by
  constructor
  · intro h
    refine fq_ext (fun i => ?_)
    rw [Nat.testBit_and, Bool.and_eq_true]
    exact ⟨fun z => z.1, fun z => ⟨z, h i z⟩⟩
  · intro h t ht
    rw [← h, Nat.testBit_and, Bool.and_eq_true] at ht
    exact ht.2
theorem fq_cnC (c i : Nat) : fq_C (fun T => 1 ≤ T ∧ fq_sub T c) i = fq_cn c i := by
  induction i with
  | zero => rfl
  | succ i ih =>
    rw [fq_Cs, ih]
    show fq_cn c i + _ = fq_cn c i + _
    by_cases h : 1 ≤ i ∧ fq_sub i c
    · rw [fq_bt h, if_pos]
      rw [Bool.and_eq_true]
      exact ⟨Nat.ble_eq.mpr h.1, Nat.beq_eq.mpr ((fq_subA i c).mp h.2)⟩
    · rw [fq_bf h, if_neg]
      intro z
      rw [Bool.and_eq_true] at z
      exact h ⟨Nat.ble_eq.mp z.1, (fq_subA i c).mpr (Nat.beq_eq.mp z.2)⟩
set_option maxRecDepth 100000 in
theorem fq_cnP : ∀ c, c < 256 → fq_cn c 256 = 2 ^ fq_ones c 8 - 1 := by decide +kernel
theorem fq_freq {a b : Nat} (ha : a < 256) : fq_C (fun T => 1 ≤ T ∧ 3 ≤ fq_sup (fq_AB a b) 3 T) 256 = 2 ^ fq_ones (a &&& b) 8 - 1 := by
  rw [← fq_cnP (a &&& b) (fq_andL b ha), ← fq_cnC]
  exact fq_Cc (fun T _ => by rw [fq_c3])
theorem fq_LGa {a b T : Nat} (ha : a < 256) : fq_LG (fq_AB a b) 3 2 T ↔ T = a := by
  constructor
  · rintro ⟨h1, h2⟩
    have hs := (fq_c2 a b T).mp h1
    refine fq_ext (fun i => ⟨hs i, fun hi => ?_⟩)
    by_cases q : T.testBit i = true
    · exact q
    · have t := h2 i (fq_tb ha hi) q
      have t2 := (fq_c2 a b (T ||| 2 ^ i)).mpr ((fq_orS T i a).mpr ⟨hs, hi⟩)
      omega
  · intro e
    rw [e]
    refine ⟨(fq_c2 a b a).mpr (fun t ht => ht), fun t _ ht => ?_⟩
    refine Nat.lt_of_not_le (fun z => ht ?_)
    exact ((fq_orS a t a).mp ((fq_c2 a b (a ||| 2 ^ t)).mp z)).2
theorem fq_one (a k : Nat) : fq_C (fun T => 1 ≤ T ∧ T = a) k = fq_b (1 ≤ a ∧ a < k) := by
  induction k with
  | zero => exact (fq_bf (fun z => absurd z.2 (by omega))).symm
  | succ k ih =>
    rw [fq_Cs, ih]
    refine (fq_ba ⟨fun z => ?_, fun z => ?_⟩ (fun z1 z2 => ?_)).symm
    · by_cases e : k = a
      · exact Or.inr ⟨by omega, e⟩
      · exact Or.inl ⟨z.1, by omega⟩
    · rcases z with z | z
      · exact ⟨z.1, by omega⟩
      · exact ⟨by omega, by omega⟩
    · omega
theorem fq_larg {a b : Nat} (ha : a < 256) : fq_C (fun T => 1 ≤ T ∧ fq_LG (fq_AB a b) 3 2 T) 256 = fq_b (1 ≤ a) := by
  rw [fq_Cc (Q := fun T => 1 ≤ T ∧ T = a) (fun T _ => by rw [fq_LGa ha]), fq_one]
  exact fq_bi ⟨fun z => z.1, fun z => ⟨z, ha⟩⟩
theorem fq_onesM {T a : Nat} (h : fq_sub T a) (i : Nat) : fq_ones T i ≤ fq_ones a i := by
  induction i with
  | zero => exact Nat.le_refl 0
  | succ i ih =>
    rw [fq_ones1, fq_ones1]
    have t := h i
    rw [Nat.testBit_eq_decide_div_mod_eq, Nat.testBit_eq_decide_div_mod_eq, decide_eq_true_eq, decide_eq_true_eq] at t
    revert t
    generalize T / 2 ^ i = x
    generalize a / 2 ^ i = y
    intro t
    omega
theorem fq_wid {a b w : Nat} (ha : a < 256) (h1 : ∀ T, 1 ≤ T → T < 256 → 2 ≤ fq_sup (fq_AB a b) 3 T → fq_ones T 8 ≤ w) (h2 : w = 0 ∨ ∃ T, 1 ≤ T ∧ T < 256 ∧ 2 ≤ fq_sup (fq_AB a b) 3 T ∧ fq_ones T 8 = w) : w = fq_ones a 8 := by
  have k1 : w ≤ fq_ones a 8 := by
    rcases h2 with h2 | ⟨T, t1, t2, t3, t4⟩
    · omega
    · rw [← t4]
      exact fq_onesM ((fq_c2 a b T).mp t3) 8
  have k2 : fq_ones a 8 ≤ w := by
    by_cases e : a = 0
    · rw [e, show fq_ones 0 8 = 0 by decide]
      exact Nat.zero_le w
    · exact h1 a (by omega) ha ((fq_c2 a b a).mpr (fun t ht => ht))
  omega
end
section
/-! ===== the law ===== -/
theorem fq_l269 {post : Int32 → St0 → Prop} {mc ms kc ks x y : Nat} {z0 : Int32} (hx : x ≤ 1) (hy : z0 = nI y) (H : post 1 ()) : wL_lawOf_269 post mc ms (nI x) z0 (nI (x + y)) kc ks := by
  subst hy
  refine pk_eq x 0 (fun z => br_t ?_ H) (fun z => br_t ?_ H)
  · rw [z, Nat.zero_add, ← nI_0, nI_add, Nat.add_zero]
  · rw [show x = 1 by omega, nI_1, Nat.add_comm]
theorem fq_l221 {post : Int32 → St0 → Prop} {mc ms kc ks a b s : Nat} {z z' : Int32} {bc bu nc : Int32} {a1 a2 a3 a4 a5 a6 a7 a8 a9 a10 a11 a12 a13 : Nat → Int32} (ha : a < 256) (hb : b < 256) (hs : s < 256) (K : fq_K1 3 (fq_AB a b) (bc, bu, nc, a1, a2, a3, a4, a5, a6, a7, a8, a9, a10, a11, a12, a13)) (hz : z' = z) (H : post 1 ()) :
    wL_lawOf_221 post mc ms (nI a) (nI s) (nI (fq_b (fq_sub s a))) (nI (fq_b (fq_sub s b))) z z' kc ks bc bu nc a1 a2 a3 a4 a5 a6 a7 a8 a9 a10 a11 a12 a13 := by
  have hAB := fq_ABL ha hb
  have h1 := fq_b1 (fq_sub s a)
  have h2 := fq_b1 (fq_sub s b)
  refine br_t hz (fq_widest (m := 2) (by omega) (fun j _ => hAB j) (fq_KK K) (by omega) (by omega) (fun u' w K' hw8 hw1 hw2 => ?_))
  obtain ⟨bc, bu, nc, a1, a2, a3, a4, a5, a6, a7, a8, a9, a10, a11, a12, a13⟩ := u'
  have ew := fq_wid ha hw1 hw2
  subst ew
  refine fq_onesOf ha (br_t rfl (fq_drop (n := 2) (by omega) (fun j _ => hAB j) (fq_KK K') (fun u2 K2 => ?_)))
  obtain ⟨bc, bu, nc, a1, a2, a3, a4, a5, a6, a7, a8, a9, a10, a11, a12, a13⟩ := u2
  refine br_t rfl (fq_count (n := 2) (by omega) (fun j _ => hAB (j + 1)) K2 hs (fun u3 K3 => ?_))
  obtain ⟨bc, bu, nc, a1, a2, a3, a4, a5, a6, a7, a8, a9, a10, a11, a12, a13⟩ := u3
  rw [fq_sup2]
  refine pk_eq (fq_b (fq_sub s a)) 0 (fun q => ?_) (fun q => ?_)
  · rw [q]
    exact fq_l269 h2 rfl H
  · rw [show fq_b (fq_sub s a) = 1 by omega]
    exact fq_l269 h2 rfl H
theorem fq_l181 {post : Int32 → St0 → Prop} {mc ms kc ks a b s : Nat} {z z' : Int32} {bc bu nc : Int32} {a1 a2 a3 a4 a5 a6 a7 a8 a9 a10 a11 a12 a13 : Nat → Int32} (ha : a < 256) (hb : b < 256) (hs : s < 256) (K : fq_K1 3 (fq_AB a b) (bc, bu, nc, a1, a2, a3, a4, a5, a6, a7, a8, a9, a10, a11, a12, a13)) (hz : z' = z) (H : post 1 ()) :
    wL_lawOf_181 post mc ms (nI a) (nI s) (nI (fq_b (fq_sub s a))) (nI (fq_b (fq_sub s b))) (nI (a &&& b)) z z' kc ks bc bu nc a1 a2 a3 a4 a5 a6 a7 a8 a9 a10 a11 a12 a13 := by
  have hAB := fq_ABL ha hb
  have ho := fq_onesL (a &&& b) 8
  refine br_t hz (fq_frequent (m := 3) (by omega) (fun j _ => hAB j) (fq_KK K) (by omega) (by omega) (fun u' K' => ?_))
  obtain ⟨bc, bu, nc, a1, a2, a3, a4, a5, a6, a7, a8, a9, a10, a11, a12, a13⟩ := u'
  refine fq_onesOf (fq_andL b ha) (br_t ?_ (fq_largest (m := 2) (by omega) (fun j _ => hAB j) (fq_KK K') (by omega) (by omega) (fun u2 K2 => ?_)))
  · rw [fq_freq ha, fq_shl _ (by omega)]
    exact (pk_sub (b := 1) (Nat.two_pow_pos _)).symm
  obtain ⟨bc, bu, nc, a1, a2, a3, a4, a5, a6, a7, a8, a9, a10, a11, a12, a13⟩ := u2
  rw [fq_larg ha]
  refine pk_le a 0 (fun q => fq_l221 ha hb hs K2 ?_ H) (fun q => fq_l221 ha hb hs K2 ?_ H)
  · rw [fq_bf (by omega)]; rfl
  · rw [fq_bt (by omega)]; rfl
theorem fq_l160 {post : Int32 → St0 → Prop} {mc ms kc ks a b s : Nat} {z : Int32} {bc bu nc : Int32} {a1 a2 a3 a4 a5 a6 a7 a8 a9 a10 a11 a12 a13 : Nat → Int32} (ha : a < 256) (hb : b < 256) (hs : s < 256) (K : fq_K1 3 (fq_AB a b) (bc, bu, nc, a1, a2, a3, a4, a5, a6, a7, a8, a9, a10, a11, a12, a13)) (h1 : fq_sub s a → z = nI a) (h2 : ¬ fq_sub s a → fq_sub s b → z = nI b) (h3 : ¬ fq_sub s a → ¬ fq_sub s b → z = -3) (H : post 1 ()) :
    wL_lawOf_160 post mc ms (nI a) (nI b) (nI s) (nI (fq_b (fq_sub s a))) (nI (fq_b (fq_sub s b))) (nI (a &&& b)) z kc ks bc bu nc a1 a2 a3 a4 a5 a6 a7 a8 a9 a10 a11 a12 a13 := by
  by_cases hA : fq_sub s a
  · refine br_f (by rw [fq_bt hA]; decide) (fq_l181 ha hb hs K (h1 hA) H)
  · refine br_t (by rw [fq_bf hA]; rfl) ?_
    by_cases hB : fq_sub s b
    · exact br_f (by rw [fq_bt hB]; decide) (fq_l181 ha hb hs K (h2 hA hB) H)
    · exact br_t (by rw [fq_bf hB]; rfl) (fq_l181 ha hb hs K (h3 hA hB) H)
theorem fq_l132 {post : Int32 → St0 → Prop} {mc ms kc ks a b s : Nat} {z0 z1 z2 : Int32} {bc bu nc : Int32} {a1 a2 a3 a4 a5 a6 a7 a8 a9 a10 a11 a12 a13 : Nat → Int32} (ha : a < 256) (hb : b < 256) (hs : s < 256) (K : fq_K1 3 (fq_AB a b) (bc, bu, nc, a1, a2, a3, a4, a5, a6, a7, a8, a9, a10, a11, a12, a13)) (hz : z2 = z1 + z0) (H : post 1 ()) :
    wL_lawOf_132 post mc ms (nI a) (nI b) (nI s) (nI (fq_b (fq_sub s a))) (nI (fq_b (fq_sub s b))) (nI (a &&& b)) z0 z1 z2 kc ks bc bu nc a1 a2 a3 a4 a5 a6 a7 a8 a9 a10 a11 a12 a13 := by
  have hAB := fq_ABL ha hb
  refine br_t hz (fq_closure (n := 3) (by omega) (fun j _ => hAB j) (fq_KK K) hs (fun u' h0 K' => ?_) (fun u' r h0 K' hr hrb => ?_))
  · obtain ⟨bc, bu, nc, a1, a2, a3, a4, a5, a6, a7, a8, a9, a10, a11, a12, a13⟩ := u'
    have hA : ¬ fq_sub s a := fun q => by
      have t := (fq_c2 a b s).mpr q
      omega
    have hB : ¬ fq_sub s b := fun q => by
      rw [fq_sup3, fq_bt q] at h0
      omega
    exact br_t (by rw [fq_bf hA]; rfl) (fq_l160 ha hb hs K' (fun q => absurd q hA) (fun _ q => absurd q hB) (fun _ _ => rfl) H)
  · obtain ⟨bc, bu, nc, a1, a2, a3, a4, a5, a6, a7, a8, a9, a10, a11, a12, a13⟩ := u'
    by_cases hA : fq_sub s a
    · refine br_f (by rw [fq_bt hA]; decide) ?_
      by_cases hB : fq_sub s b
      · refine br_f (by rw [fq_bt hB]; decide) (fq_l181 ha hb hs K' ?_ H)
        refine congrArg nI (fq_clr (fq_andL b ha) ((fq_andS s a b).mpr ⟨hA, hB⟩) hrb (fun i => ?_))
        rw [Nat.testBit_and, Bool.and_eq_true]
        exact ⟨fun q => ⟨fun _ => q.1, fun _ => q.2⟩, fun q => ⟨q.1 hA, q.2 hB⟩⟩
      · refine br_t (by rw [fq_bf hB]; rfl) (fq_l160 ha hb hs K' (fun _ => ?_) (fun q => absurd hA q) (fun q => absurd hA q) H)
        exact congrArg nI (fq_clr ha hA hrb (fun i => ⟨fun q => ⟨fun _ => q, fun z => absurd z hB⟩, fun q => q.1 hA⟩))
    · refine br_t (by rw [fq_bf hA]; rfl) (fq_l160 ha hb hs K' (fun q => absurd q hA) (fun _ hB => ?_) (fun _ hB => ?_) H)
      · exact congrArg nI (fq_clr hb hB hrb (fun i => ⟨fun q => ⟨fun z => absurd z hA, fun _ => q⟩, fun q => q.2 hB⟩))
      · exfalso
        apply h0
        rw [fq_sup3, fq_bf hA, fq_bf hB]
theorem fq_l122 {post : Int32 → St0 → Prop} {mc ms kc ks a b s : Nat} {z0 z1 : Int32} {bc bu nc : Int32} {a1 a2 a3 a4 a5 a6 a7 a8 a9 a10 a11 a12 a13 : Nat → Int32} (ha : a < 256) (hb : b < 256) (hs : s < 256) (K : fq_K1 3 (fq_AB a b) (bc, bu, nc, a1, a2, a3, a4, a5, a6, a7, a8, a9, a10, a11, a12, a13)) (hz : z1 = z0 + nI (fq_b (fq_sub s b))) (H : post 1 ()) :
    wL_lawOf_122 post mc ms (nI a) (nI b) (nI s) (nI (fq_b (fq_sub s a))) (nI (fq_b (fq_sub s b))) (nI (a &&& b)) z0 z1 kc ks bc bu nc a1 a2 a3 a4 a5 a6 a7 a8 a9 a10 a11 a12 a13 := by
  by_cases hB : fq_sub s b
  · refine br_f (by rw [fq_bt hB]; decide) (fq_l132 ha hb hs K ?_ H)
    rw [hz, fq_bt hB]
    rfl
  · refine br_t (by rw [fq_bf hB]; rfl) (fq_l132 ha hb hs K ?_ H)
    rw [hz, fq_bf hB]
    rfl
theorem fq_l51 {post : Int32 → St0 → Prop} {mc ms a b s : Nat} {x6 x7 : Int32} (hmc : 14 ≤ mc) (hms : 2435 ≤ ms) (ha : a < 256) (hb : b < 256) (hs : s < 256) (e6 : x6 = nI (fq_b (fq_sub s a))) (e7 : x7 = nI (fq_b (fq_sub s b))) (H : post 1 ()) :
    wL_lawOf_51 post mc ms (nI a) (nI b) (nI s) x6 x7 0 0 := by
  subst e6 e7
  have hAB := fq_ABL ha hb
  refine nm_r (fq_and a b) ⟨by omega, by omega, 13, 2419, by omega, by omega, ?_⟩
  refine ⟨by omega, by omega, by omega, by omega, by omega, by omega, by omega, by omega, by omega, by omega, by omega, by omega, by omega, by omega, by omega, by omega, by omega, by omega, by omega, by omega, by omega, by omega, by omega, by omega, by omega, by omega, ?_⟩
  refine fq_add (n := 0) (B := fq_AB a b) (by omega) rfl ha ⟨rfl, fun j hj => absurd hj (by omega), Or.inl rfl⟩ (fun u1 K1 => ?_)
  obtain ⟨bc, bu, nc, a1, a2, a3, a4, a5, a6, a7, a8, a9, a10, a11, a12, a13⟩ := u1
  refine br_t rfl (fq_add (n := 1) (B := fq_AB a b) (by omega) rfl hb K1 (fun u2 K2 => ?_))
  obtain ⟨bc, bu, nc, a1, a2, a3, a4, a5, a6, a7, a8, a9, a10, a11, a12, a13⟩ := u2
  refine br_t rfl (fq_add (n := 2) (B := fq_AB a b) (by omega) rfl ha K2 (fun u3 K3 => ?_))
  obtain ⟨bc, bu, nc, a1, a2, a3, a4, a5, a6, a7, a8, a9, a10, a11, a12, a13⟩ := u3
  refine br_t rfl (fq_count (n := 3) (by omega) (fun j _ => hAB j) K3 hs (fun u4 K4 => ?_))
  obtain ⟨bc, bu, nc, a1, a2, a3, a4, a5, a6, a7, a8, a9, a10, a11, a12, a13⟩ := u4
  rw [fq_sup3]
  by_cases hA : fq_sub s a
  · refine br_f (by rw [fq_bt hA]; decide) (fq_l122 ha hb hs K4 ?_ H)
    show _ = nI 2 + _
    rw [fq_bt hA, nI_add]
    exact congrArg nI (by omega)
  · refine br_t (by rw [fq_bf hA]; rfl) (fq_l122 ha hb hs K4 ?_ H)
    show _ = nI 0 + _
    rw [fq_bf hA, nI_add]
    exact congrArg nI (by omega)
theorem fq_lawOf {post : Int32 → St0 → Prop} {mc ms : Nat} (hmc : 14 ≤ mc) (hms : 2435 ≤ ms) (p0 p1 p2 : Int32) (H : post 1 ()) : wpL_lawOf post mc ms () p0 p1 p2 := by
  obtain ⟨a, ha, ea⟩ := pk_andE p0 (m := 255) 8 (by decide)
  obtain ⟨b, hb, eb⟩ := pk_andE p1 (m := 255) 8 (by decide)
  obtain ⟨s, hs, es⟩ := pk_andE p2 (m := 255) 8 (by decide)
  have t34 : ∀ x6, x6 = nI (fq_b (fq_sub s a)) → wL_lawOf_34 post mc ms (nI a) (nI b) (nI s) x6 0 0 := by
    intro x6 e6
    by_cases hB : fq_sub s b
    · exact br_t ((fq_in hs).mpr hB) (fq_l51 hmc hms ha hb hs e6 (by rw [fq_bt hB]; rfl) H)
    · exact br_f (fun q => hB ((fq_in hs).mp q)) (fq_l51 hmc hms ha hb hs e6 (by rw [fq_bf hB]; rfl) H)
  refine nm_r ea (nm_r eb (nm_r es ?_))
  by_cases hA : fq_sub s a
  · exact br_t ((fq_in hs).mpr hA) (t34 _ (by rw [fq_bt hA]; rfl))
  · exact br_f (fun q => hA ((fq_in hs).mp q)) (t34 _ (by rw [fq_bf hA]; rfl))
theorem fq_cell {post : Int32 → Prop} {L : Nat} {xs : Nat → Int32} (hL : L ≤ 3) (i : Nat) (hi : i < 3) (H : ∀ v, post v) : wpL_cellAt post L xs () (nI i) :=
  pk_le L i (fun _ => H _) (fun z => ⟨pk_in i L z, H _⟩)
theorem i_vc (xs : Nat → Int32) (L : Nat) (hL : L ≤ 3) : wpL_law (fun r => r = 1) L xs := by
  unfold wpL_law
  exact fq_cell hL 0 (by omega) (fun r1 => fq_cell hL 1 (by omega) (fun r2 => fq_cell hL 2 (by omega) (fun r3 => ⟨390, 6224, by omega, by omega, fq_lawOf (by omega) (by omega) r1 r2 r3 rfl⟩)))
end
