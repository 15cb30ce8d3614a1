section
/-! small numbers: and, or, one bit, narrowing -/
theorem fq_and (a b : Nat) : nI a &&& nI b = nI (a &&& b) := by
  apply Int32.toBitVec_inj.1
  show BitVec.ofNat 32 a &&& BitVec.ofNat 32 b = BitVec.ofNat 32 (a &&& b)
  apply BitVec.eq_of_getLsbD_eq
  intro i hi
  simp [hi]
theorem fq_or (a b : Nat) : nI a ||| nI b = nI (a ||| b) := by
  apply Int32.toBitVec_inj.1
  show BitVec.ofNat 32 a ||| BitVec.ofNat 32 b = BitVec.ofNat 32 (a ||| b)
  apply BitVec.eq_of_getLsbD_eq
  intro i hi
  simp [hi]
theorem fq_sh : ∀ t, t < 8 → (1 : Int32) <<< (nI t &&& 31) = nI (2 ^ t) := by decide +kernel
theorem fq_sl : ∀ n, n < 32 → ((nI n &&& 31).toBitVec.smod 32).toNat = n := by decide +kernel
theorem fq_bit0 {s t : Nat} (hs : s < 2 ^ 31) (ht : t < 32) : ((nI s >>> (nI t &&& 31)) &&& 1) = 0 ↔ s.testBit t = false := by
  rw [pk_shrN hs _ t (fq_sl t ht)]
  show nI (s / 2 ^ t) &&& nI 1 = nI 0 ↔ _
  rw [fq_and, Nat.and_one_is_mod, nI_eq (by omega) (by omega), Nat.testBit_eq_decide_div_mod_eq, decide_eq_false_iff_not]
  omega
theorem fq_b8 : ∀ n, n < 128 → (nI n).toInt8.toInt32 = nI n := by decide +kernel
theorem fq_s16 : ∀ n, n < 256 → (nI n).toInt16.toInt32 = nI n := by decide +kernel
theorem fq_g8 : ∀ h, h < 9 → (nI h - 1).toInt8.toInt32 = nI h - 1 := by decide +kernel
theorem fq_nb {n : Nat} (h : n < 128) : vp_nar .byte (nI n) = nI n := by
  rw [vp_nar_byte, fq_b8 n h]
theorem fq_ns {n : Nat} (h : n < 256) : vp_nar .short (nI n) = nI n := by
  rw [vp_nar_short, fq_s16 n h]
/-! sets as numbers -/
theorem fq_subI {s B : Nat} (h : ∀ t, s.testBit t = true → B.testBit t = true) : s &&& B = s := by
  apply Nat.eq_of_testBit_eq
  intro t
  rw [Nat.testBit_and]
  cases e : s.testBit t with
  | false => rfl
  | true => rw [h t e]; rfl
theorem fq_subE {s B : Nat} (h : s &&& B = s) {t : Nat} (e : s.testBit t = true) : B.testBit t = true := by
  rw [← h, Nat.testBit_and] at e
  cases f : B.testBit t with
  | true => rfl
  | false => rw [f, Bool.and_false] at e; exact absurd e (by decide)
theorem fq_orb (S t j : Nat) : (S ||| 2 ^ t).testBit j = (S.testBit j || decide (t = j)) := by
  rw [Nat.testBit_or, Nat.testBit_two_pow]
theorem fq_orlt {S t : Nat} (hS : S < 256) (ht : t < 8) : S ||| 2 ^ t < 256 := by
  have h : 2 ^ t < 2 ^ 8 := Nat.pow_lt_pow_right (by omega) ht
  exact Nat.or_lt_two_pow (n := 8) hS h
theorem fq_big {s t : Nat} (hs : s < 256) (ht : 8 ≤ t) : s.testBit t = false := by
  apply Nat.testBit_lt_two_pow
  exact Nat.lt_of_lt_of_le (show s < 2 ^ 8 from hs) (Nat.pow_le_pow_right (by omega) ht)
theorem fq_ext {s r : Nat} (hs : s < 256) (hr : r < 256) (h : ∀ t, t < 8 → s.testBit t = r.testBit t) : s = r := by
  apply Nat.eq_of_testBit_eq
  intro t
  rcases Nat.lt_or_ge t 8 with ht | ht
  · exact h t ht
  · rw [fq_big hs ht, fq_big hr ht]
theorem fq_orsub {S B t : Nat} (h : S &&& B = S) (ht : B.testBit t = true) : (S ||| 2 ^ t) &&& B = S ||| 2 ^ t := by
  apply fq_subI
  intro j hj
  rw [fq_orb] at hj
  rcases (Bool.or_eq_true _ _).mp hj with h1 | h1
  · exact fq_subE h h1
  · have e : t = j := of_decide_eq_true h1
    rw [← e]; exact ht
theorem fq_orsubE {S B t : Nat} (h : (S ||| 2 ^ t) &&& B = S ||| 2 ^ t) : B.testBit t = true := by
  apply fq_subE h
  rw [fq_orb, decide_eq_true rfl, Bool.or_true]
theorem fq_orsubL {S B t : Nat} (h : (S ||| 2 ^ t) &&& B = S ||| 2 ^ t) : S &&& B = S := by
  apply fq_subI
  intro j hj
  apply fq_subE h
  rw [fq_orb, hj]; rfl
/-- what counts holds of a set -/
def fq_cn (c B s : Nat) : Int32 := if s &&& B = s then nI c else 0
theorem fq_cnT {c B s : Nat} (h : s &&& B = s) : fq_cn c B s = nI c := if_pos h
theorem fq_cnF {c B s : Nat} (h : ¬ s &&& B = s) : fq_cn c B s = 0 := if_neg h
/-- how many of the first n places hold a thing of B -/
def fq_cnt (o : Nat → Nat) (B : Nat) : Nat → Nat
  | 0 => 0
  | n + 1 => fq_cnt o B n + (if B.testBit (o n) then 1 else 0)
theorem fq_cntT {o : Nat → Nat} {B n : Nat} (h : B.testBit (o n) = true) : fq_cnt o B (n + 1) = fq_cnt o B n + 1 := by
  show _ + _ = _
  rw [if_pos h]
theorem fq_cntF {o : Nat → Nat} {B n : Nat} (h : B.testBit (o n) = false) : fq_cnt o B (n + 1) = fq_cnt o B n := by
  show _ + _ = _
  rw [h]; rfl
theorem fq_cntS (o : Nat → Nat) (B n : Nat) : fq_cnt o B n ≤ fq_cnt o B (n + 1) := by
  show _ ≤ _ + _
  omega
theorem fq_cntM (o : Nat → Nat) (B n : Nat) : ∀ d, fq_cnt o B n ≤ fq_cnt o B (n + d) := by
  intro d
  induction d with
  | zero => exact Nat.le_refl _
  | succ d ih => exact Nat.le_trans ih (fq_cntS o B (n + d))
theorem fq_cntLe (o : Nat → Nat) (B : Nat) {n m : Nat} (h : n ≤ m) : fq_cnt o B n ≤ fq_cnt o B m := by
  have := fq_cntM o B n (m - n)
  rw [show n + (m - n) = m by omega] at this
  exact this
theorem fq_cntN (o : Nat → Nat) (B n : Nat) : fq_cnt o B n ≤ n := by
  induction n with
  | zero => exact Nat.le_refl _
  | succ n ih =>
    cases h : B.testBit (o n) with
    | true => rw [fq_cntT h]; omega
    | false => rw [fq_cntF h]; omega
end
section
/-! orderThings: the order is a permutation of the eight things -/
abbrev fq_A : Type := Nat → Int32
abbrev fq_J13 : Type := Int32 → fq_A → fq_A → fq_A → fq_A → fq_A → fq_A → fq_A → fq_A → fq_A → fq_A → fq_A → fq_A → fq_A → Prop
def fq_put (o : Nat → Nat) (k v : Nat) : Nat → Nat := fun q => if q = k then v else o q
theorem fq_ps {o : Nat → Nat} {k v q : Nat} (h : q = k) : fq_put o k v q = v := if_pos h
theorem fq_pn {o : Nat → Nat} {k v q : Nat} (h : ¬ q = k) : fq_put o k v q = o q := if_neg h
def fq_po (m : Nat) (f : fq_A) (o : Nat → Nat) : Prop := (∀ q, q < m → f q = nI (o q) ∧ o q < m) ∧ (∀ q r, q < m → r < m → o q = o r → q = r) ∧ (∀ v, v < m → ∃ q, q < m ∧ o q = v)
def fq_pm (m : Nat) (f : fq_A) : Prop := ∃ o : Nat → Nat, fq_po m f o
def fq_ph (m a : Nat) (f : fq_A) : Prop := ∃ o : Nat → Nat, (∀ q, q ≤ m → q ≠ a → f q = nI (o q) ∧ o q < m) ∧ (∀ q r, q ≤ m → r ≤ m → q ≠ a → r ≠ a → o q = o r → q = r) ∧ (∀ v, v < m → ∃ q, q ≤ m ∧ q ≠ a ∧ o q = v)
theorem fq_pm0 (f : fq_A) : fq_pm 0 f := ⟨fun _ => 0, fun q h => absurd h (by omega), fun q r h => absurd h (by omega), fun v h => absurd h (by omega)⟩
theorem fq_pmIn {m : Nat} {f : fq_A} (h : fq_pm m f) (hm : m ≤ 8) {q : Nat} (hq : q < m) : vp_in (f q) 8 := by
  obtain ⟨o, h1, _, _⟩ := h
  obtain ⟨e, hb⟩ := h1 q hq
  exact pk_in (o q) 8 (by omega) e
theorem fq_phIn {m a : Nat} {f : fq_A} (h : fq_ph m a f) (hm : m ≤ 8) {q : Nat} (hq : q ≤ m) (hn : q ≠ a) : vp_in (f q) 8 := by
  obtain ⟨o, h1, _, _⟩ := h
  obtain ⟨e, hb⟩ := h1 q hq hn
  exact pk_in (o q) 8 (by omega) e
theorem fq_phN {m a : Nat} {f : fq_A} (h : fq_ph m a f) (hm : m ≤ 8) {q : Nat} (hq : q ≤ m) (hn : q ≠ a) : vp_nar .byte (f q) = f q := by
  obtain ⟨o, h1, _, _⟩ := h
  obtain ⟨e, hb⟩ := h1 q hq hn
  rw [e]
  exact fq_nb (by omega)
theorem fq_ph0 {m : Nat} {f : fq_A} (h : fq_pm m f) : fq_ph m m f := by
  obtain ⟨o, h1, h2, h3⟩ := h
  refine ⟨o, fun q a b => h1 q (by omega), fun q r a b c d => h2 q r (by omega) (by omega), fun v hv => ?_⟩
  obtain ⟨q, hq, e⟩ := h3 v hv
  exact ⟨q, by omega, by omega, e⟩
theorem fq_phS {m a : Nat} {f : fq_A} (ha : a + 1 ≤ m) (h : fq_ph m (a + 1) f) : fq_ph m a (upd f (a + 1) (f a)) := by
  obtain ⟨o, h1, h2, h3⟩ := h
  refine ⟨fq_put o (a + 1) (o a), fun q hq hn => ?_, fun q r hq hr nq nr e => ?_, fun v hv => ?_⟩
  · by_cases e : q = a + 1
    · subst e
      rw [pk_us, fq_ps rfl]
      exact h1 a (by omega) (by omega)
    · rw [pk_un e, fq_pn e]
      exact h1 q hq e
  · by_cases e1 : q = a + 1
    · by_cases e2 : r = a + 1
      · omega
      · rw [fq_ps e1, fq_pn e2] at e
        exact absurd (h2 a r (by omega) hr (by omega) e2 e).symm nr
    · by_cases e2 : r = a + 1
      · rw [fq_pn e1, fq_ps e2] at e
        exact absurd (h2 q a hq (by omega) e1 (by omega) e) nq
      · rw [fq_pn e1, fq_pn e2] at e
        exact h2 q r hq hr e1 e2 e
  · obtain ⟨q, hq, nq, e⟩ := h3 v hv
    by_cases ea : q = a
    · refine ⟨a + 1, ha, by omega, ?_⟩
      rw [fq_ps rfl, ← ea]
      exact e
    · refine ⟨q, hq, ea, ?_⟩
      rw [fq_pn nq]
      exact e
theorem fq_phE {m a : Nat} {f : fq_A} (ha : a ≤ m) (h : fq_ph m a f) : fq_pm (m + 1) (upd f a (nI m)) := by
  obtain ⟨o, h1, h2, h3⟩ := h
  refine ⟨fq_put o a m, fun q hq => ?_, fun q r hq hr e => ?_, fun v hv => ?_⟩
  · by_cases e : q = a
    · subst e
      rw [pk_us, fq_ps rfl]
      exact ⟨rfl, by omega⟩
    · rw [pk_un e, fq_pn e]
      have h4 := h1 q (by omega) e
      exact ⟨h4.1, by omega⟩
  · by_cases e1 : q = a
    · by_cases e2 : r = a
      · omega
      · rw [fq_ps e1, fq_pn e2] at e
        have h4 := (h1 r (by omega) e2).2
        omega
    · by_cases e2 : r = a
      · rw [fq_pn e1, fq_ps e2] at e
        have h4 := (h1 q (by omega) e1).2
        omega
      · rw [fq_pn e1, fq_pn e2] at e
        exact h2 q r (by omega) (by omega) e1 e2 e
  · by_cases ev : v = m
    · exact ⟨a, by omega, by rw [fq_ps rfl, ev]⟩
    · obtain ⟨q, hq, nq, e⟩ := h3 v (by omega)
      exact ⟨q, by omega, by rw [fq_pn nq]; exact e⟩
section
variable {post : St2 → Prop} {bc bu nc : Int32} {a1 a2 a3 a4 a5 a6 a7 a8 a9 a10 a11 a12 a13 : fq_A}
theorem fq_o129 (h : fq_pm 8 a7) (H : ∀ s : fq_A, post (bc, bu, nc, a1, a2, a3, a4, a5, a6, a7, s, a9, a10, a11, a12, a13)) : ∃ n, wX_orderThings_129 post bc bu nc n 0 a1 a2 a3 a4 a5 a6 a7 a8 a9 a10 a11 a12 a13 :=
  pk_loop (fun n i s => wX_orderThings_129 post bc bu nc n (nI i) a1 a2 a3 a4 a5 a6 a7 s a9 a10 a11 a12 a13) (fun _ _ => True) 8 0 a8 (by omega) trivial
    (fun n s _ => pk_le 8 8 (fun _ => H s) (fun z => absurd z (by omega)))
    (fun n i s hi _ hw => pk_le 8 i (fun z => absurd z (by omega)) (fun _ => ⟨pk_in i 8 hi, by rw [nI_clamp (by omega)]; exact fq_pmIn h (by omega) hi, nm_e (nm_r (nI_1 i) (hw _ trivial))⟩))
theorem fq_o113 {J : fq_J13} {t a : Nat} (ht : t < 8) (ha : a ≤ t) (h : fq_ph t a a7) (H : ∀ s, fq_pm (t + 1) s → J (nI (t + 1)) a1 a2 a3 a4 a5 a6 s a8 a9 a10 a11 a12 a13) : wX_orderThings_113 post J (nI t) (nI a) bc bu nc a1 a2 a3 a4 a5 a6 a7 a8 a9 a10 a11 a12 a13 :=
  And.intro (pk_in a 8 (by omega)) (nm_r (by rw [nI_clamp (by omega), fq_b8 t (by omega)]) (nm_r (nI_1 t) (H _ (fq_phE ha h))))
theorem fq_o67 {J : fq_J13} {t : Nat} (ht : t < 8) (h : fq_pm t a7) (H : ∀ s, fq_pm (t + 1) s → J (nI (t + 1)) a1 a2 a3 a4 a5 a6 s a8 a9 a10 a11 a12 a13) : ∃ n, wX_orderThings_67 post J (nI t) bc bu nc n (nI t) a1 a2 a3 a4 a5 a6 a7 a8 a9 a10 a11 a12 a13 := by
  refine ⟨t + 1, pk_loopD (fun n i s => wX_orderThings_67 post J (nI t) bc bu nc n (nI i) a1 a2 a3 a4 a5 a6 s a8 a9 a10 a11 a12 a13) (fun i s => i ≤ t ∧ fq_ph t i s) ?_ ?_ t a7 ⟨Nat.le_refl t, fq_ph0 h⟩⟩
  · intro n s h
    obtain ⟨hi, hp⟩ := h
    exact pk_le 0 0 (fun _ => fq_o113 ht hi hp H) (fun z => absurd z (by omega))
  · intro n i s h hw
    obtain ⟨hi, hp⟩ := h
    have e : (nI (i + 1) - 1).toNatClampNeg = i := by rw [nI_pred, nI_clamp (by omega)]
    refine pk_le (i + 1) 0 (fun z => absurd z (by omega)) (fun _ => ⟨pk_in i 8 (by omega) (nI_pred i), ?_, pk_in t 8 ht, br_c (fun _ => fq_o113 ht hi hp H) (fun _ => ⟨pk_in i 8 (by omega) (nI_pred i), pk_in (i + 1) 8 (by omega), nm_r ?_ (nm_r (pk_m1 i) (hw _ ⟨by omega, fq_phS hi hp⟩))⟩)⟩)
    · rw [e]
      exact fq_phIn hp (by omega) (by omega) (by omega)
    · rw [e, nI_clamp (by omega), fq_phN hp (by omega) (by omega) (by omega)]
theorem fq_o59 (H : ∀ s7 s8 : fq_A, fq_pm 8 s7 → post (bc, bu, nc, a1, a2, a3, a4, a5, a6, s7, s8, a9, a10, a11, a12, a13)) : ∃ n, wX_orderThings_59 post bc bu nc n 0 a1 a2 a3 a4 a5 a6 a7 a8 a9 a10 a11 a12 a13 :=
  pk_loop (fun n i s => wX_orderThings_59 post bc bu nc n (nI i) a1 a2 a3 a4 a5 a6 s a8 a9 a10 a11 a12 a13) (fun i s => fq_pm i s) 8 0 a7 (by omega) (fq_pm0 a7)
    (fun n s h => pk_le 8 8 (fun _ => fq_o129 h (fun s8 => H s s8 h)) (fun z => absurd z (by omega)))
    (fun n i s hi h hw => pk_le 8 i (fun z => absurd z (by omega)) (fun _ => fq_o67 hi h hw))
theorem fq_o17 {J : fq_J13} {t c : Nat} (ht : t < 8) (hc : c ≤ 20) (H : ∀ s : fq_A, J (nI (t + 1)) a1 a2 a3 a4 a5 a6 a7 a8 s a10 a11 a12 a13) : ∃ n, wX_orderThings_17 post J (nI t) (nI c) bu nc n 0 a1 a2 a3 a4 a5 a6 a7 a8 a9 a10 a11 a12 a13 :=
  pk_loop (fun n i s => wX_orderThings_17 post J (nI t) (nI c) bu nc n (nI i) a1 a2 a3 a4 a5 a6 a7 a8 s a10 a11 a12 a13) (fun _ _ => True) c 0 a9 (by omega) trivial
    (fun n s _ => pk_le c c (fun _ => nm_r (nI_1 t) (H s)) (fun z => absurd z (by omega)))
    (fun n i s hi _ hw => pk_le c i (fun z => absurd z (by omega)) (fun _ => ⟨pk_in t 8 ht, pk_in i 20 (by omega), pk_in t 8 ht, nm_e (nm_r (nI_1 i) (hw _ trivial))⟩))
theorem fq_o2 {c : Nat} (hc : c ≤ 20) (H : ∀ s : fq_A, ∃ n, wX_orderThings_59 post (nI c) bu nc n 0 a1 a2 a3 a4 a5 a6 a7 a8 s a10 a11 a12 a13) : ∃ n, wX_orderThings_2 post (nI c) bu nc n 0 a1 a2 a3 a4 a5 a6 a7 a8 a9 a10 a11 a12 a13 :=
  pk_loop (fun n i s => wX_orderThings_2 post (nI c) bu nc n (nI i) a1 a2 a3 a4 a5 a6 a7 a8 s a10 a11 a12 a13) (fun _ _ => True) 8 0 a9 (by omega) trivial
    (fun n s _ => pk_le 8 8 (fun _ => H s) (fun z => absurd z (by omega)))
    (fun n i s hi _ hw => pk_le 8 i (fun z => absurd z (by omega)) (fun _ => ⟨pk_in i 8 hi, nm_e (fq_o17 hi hc (fun s => hw s trivial))⟩))
theorem fq_order {c : Nat} (hc : c ≤ 20) (H : ∀ s7 s8 s9 : fq_A, fq_pm 8 s7 → post (nI c, bu, nc, a1, a2, a3, a4, a5, a6, s7, s8, s9, a10, a11, a12, a13)) : wpX_orderThings post (nI c, bu, nc, a1, a2, a3, a4, a5, a6, a7, a8, a9, a10, a11, a12, a13) :=
  fq_o2 hc (fun s9 => fq_o59 (fun s7 s8 h => H s7 s8 s9 h))
end
end
section
/-! plant: one basket makes a chain of nodes -/
def fq_Tr (o : Nat → Nat) (B p : Nat) (s3 s4 s5 s6 : fq_A) : Prop := (∀ x, 1 ≤ x → x ≤ fq_cnt o B p → s3 x = 1 ∧ s4 x = nI (x - 1) ∧ s5 x = 0) ∧ (∀ q, q < p → B.testBit (o q) = true → s6 (o q) = nI (fq_cnt o B q + 1)) ∧ (∀ q, q < 8 → (p ≤ q ∨ B.testBit (o q) = false) → s6 (o q) = 0)
theorem fq_Tr0 {o : Nat → Nat} {B : Nat} {s3 s4 s5 s6 : fq_A} (ho : ∀ q, q < 8 → o q < 8) (h : ∀ j, j < 8 → s6 j = 0) : fq_Tr o B 0 s3 s4 s5 s6 := by
  refine ⟨fun x h1 h2 => ?_, fun q hq => absurd hq (by omega), fun q hq _ => h _ (ho q hq)⟩
  have : fq_cnt o B 0 = 0 := rfl
  omega
theorem fq_TrF {o : Nat → Nat} {B p : Nat} {s3 s4 s5 s6 : fq_A} (hb : B.testBit (o p) = false) (h : fq_Tr o B p s3 s4 s5 s6) : fq_Tr o B (p + 1) s3 s4 s5 s6 := by
  obtain ⟨h1, h2, h3⟩ := h
  refine ⟨fun x hx hy => h1 x hx (by rw [fq_cntF hb] at hy; exact hy), fun q hq e => ?_, fun q hq e => h3 q hq ?_⟩
  · by_cases ep : q = p
    · rw [ep, hb] at e
      exact absurd e (by decide)
    · exact h2 q (by omega) e
  · rcases e with e | e
    · exact Or.inl (by omega)
    · exact Or.inr e
theorem fq_TrT {o : Nat → Nat} {B p : Nat} {s3 s4 s5 s6 : fq_A} (hi : ∀ q r, q < 8 → r < 8 → o q = o r → q = r) (hp : p < 8) (hb : B.testBit (o p) = true) (h : fq_Tr o B p s3 s4 s5 s6) :
    fq_Tr o B (p + 1) (upd (upd s3 (fq_cnt o B p + 1) 0) (fq_cnt o B p + 1) 1) (upd s4 (fq_cnt o B p + 1) (nI (fq_cnt o B p))) (upd s5 (fq_cnt o B p + 1) 0) (upd s6 (o p) (nI (fq_cnt o B p + 1))) := by
  obtain ⟨h1, h2, h3⟩ := h
  refine ⟨fun x hx hy => ?_, fun q hq e => ?_, fun q hq e => ?_⟩
  · rw [fq_cntT hb] at hy
    by_cases ex : x = fq_cnt o B p + 1
    · rw [ex, pk_us, pk_us, pk_us]
      exact ⟨rfl, rfl, rfl⟩
    · rw [pk_un ex, pk_un ex, pk_un ex, pk_un ex]
      exact h1 x hx (by omega)
  · by_cases ep : q = p
    · rw [ep, pk_us]
    · rw [pk_un (fun z => ep (hi q p (by omega) hp z))]
      exact h2 q (by omega) e
  · by_cases ep : q = p
    · rcases e with e | e
      · omega
      · rw [ep, hb] at e
        exact absurd e (by decide)
    · rw [pk_un (fun z => ep (hi q p hq hp z))]
      refine h3 q hq ?_
      rcases e with e | e
      · exact Or.inl (by omega)
      · exact Or.inr e
section
variable {bc bu nc : Int32} {a1 a2 a3 a4 a5 a6 a7 a8 a9 a10 a11 a12 a13 : fq_A}
theorem fq_child0 {post : Int32 → Prop} {x : Int32} {t : Nat} (ht : t < 8) (h : a6 t = 0) (H : post 0) : wpX_childWith post (bc, bu, nc, a1, a2, a3, a4, a5, a6, a7, a8, a9, a10, a11, a12, a13) x (nI t) :=
  And.intro (pk_in t 8 ht) (nm_r (e' := 0) (by rw [nI_clamp (by omega), h]) ⟨1, br_t rfl H⟩)
theorem fq_pl {post : St2 → Prop} {o : Nat → Nat} {B : Nat} (ho : fq_po 8 a7 o) (hB : B < 256) (H : ∀ s2 s3 s4 s5 s6 : fq_A, fq_Tr o B 8 s3 s4 s5 s6 → post (bc, bu, nI (fq_cnt o B 8 + 1), a1, s2, s3, s4, s5, s6, a7, a8, a9, a10, a11, a12, a13)) :
    ∀ d p, p + d = 8 → ∀ s2 s3 s4 s5 s6 : fq_A, fq_Tr o B p s3 s4 s5 s6 → wX_plant_4 post (nI B) bc bu (d + 1) (nI (fq_cnt o B p)) (nI p) (nI (fq_cnt o B p + 1)) a1 s2 s3 s4 s5 s6 a7 a8 a9 a10 a11 a12 a13 := by
  intro d
  induction d with
  | zero =>
    intro p hp s2 s3 s4 s5 s6 h
    have e : p = 8 := by omega
    subst e
    exact pk_le 8 8 (fun _ => H s2 s3 s4 s5 s6 h) (fun z => absurd z (by omega))
  | succ d ih =>
    intro p hp s2 s3 s4 s5 s6 h
    obtain ⟨e7, h7⟩ := ho.1 p (by omega)
    have hk := fq_cntN o B p
    refine pk_le 8 p (fun z => absurd z (by omega)) (fun _ => ⟨pk_in p 8 (by omega), nm_r (e' := nI (o p)) (by rw [nI_clamp (by omega), e7]) ?_⟩)
    cases hb : B.testBit (o p) with
    | false =>
      have t := ih (p + 1) (by omega) s2 s3 s4 s5 s6 (fq_TrF hb h)
      rw [fq_cntF hb] at t
      exact br_t ((fq_bit0 (by omega) (by omega)).mpr hb) (nm_r (nI_1 p) t)
    | true =>
      have t := ih (p + 1) (by omega) (upd s2 (fq_cnt o B p + 1) (nI (o p))) _ _ _ _ (fq_TrT ho.2.1 (by omega) hb h)
      rw [fq_cntT hb] at t
      have h6 : s6 (o p) = 0 := h.2.2 p (by omega) (Or.inl (Nat.le_refl p))
      have hz : ¬ ((nI B >>> (nI (o p) &&& 31)) &&& 1) = 0 := by
        rw [fq_bit0 (by omega) (by omega), hb]
        decide
      have ek : (nI (fq_cnt o B p + 1)).toNatClampNeg = fq_cnt o B p + 1 := nI_clamp (by omega)
      have eo : (nI (o p)).toNatClampNeg = o p := nI_clamp (by omega)
      have hin : vp_in (nI (fq_cnt o B p + 1)) 161 := pk_in (fq_cnt o B p + 1) 161 (by omega)
      have hio : vp_in (nI (o p)) 8 := pk_in (o p) 8 h7
      refine br_f hz (fq_child0 h7 h6 (br_t rfl (nm_r (nI_1 (fq_cnt o B p + 1)) ⟨hin, nm_r (e' := upd s2 (fq_cnt o B p + 1) (nI (o p))) ?_ ⟨hin, nm_r (e' := upd s3 (fq_cnt o B p + 1) 0) ?_ ⟨hin, nm_r (e' := upd s4 (fq_cnt o B p + 1) (nI (fq_cnt o B p))) ?_ ⟨hio, hin, nm_r (e' := upd s5 (fq_cnt o B p + 1) 0) ?_ ⟨hio, nm_r (e' := upd s6 (o p) (nI (fq_cnt o B p + 1))) ?_ ?_⟩⟩⟩⟩⟩)))
      · rw [ek, fq_b8 _ (by omega)]
      · rw [ek]
      · rw [ek, fq_s16 _ (by omega)]
      · rw [ek, eo, h6, ← nI_0, fq_ns (by omega)]
      · rw [eo, fq_s16 _ (by omega)]
      · refine And.intro hin ⟨hin, nm_r (e' := upd (upd s3 (fq_cnt o B p + 1) 0) (fq_cnt o B p + 1) 1) ?_ (nm_r (nI_1 p) t)⟩
        rw [ek, pk_us, show ((0 : Int32) + 1).toInt8.toInt32 = 1 from by decide]
theorem fq_plant {post : St2 → Prop} {o : Nat → Nat} {B : Nat} (ho : fq_po 8 a7 o) (hB : B < 256) (h6 : ∀ j, j < 8 → a6 j = 0) (H : ∀ s2 s3 s4 s5 s6 : fq_A, fq_Tr o B 8 s3 s4 s5 s6 → post (bc, bu, nI (fq_cnt o B 8 + 1), a1, s2, s3, s4, s5, s6, a7, a8, a9, a10, a11, a12, a13)) : wpX_plant post (bc, bu, 1, a1, a2, a3, a4, a5, a6, a7, a8, a9, a10, a11, a12, a13) (nI B) :=
  ⟨9, fq_pl ho hB H 8 0 rfl a2 a3 a4 a5 a6 (fq_Tr0 (fun q hq => (ho.1 q hq).2) h6)⟩
end
end
section
/-! countOn and liftWeights over a chain -/
theorem fq_ix (D x : Nat) : (161 : Int32) * nI D + nI x = nI (161 * D + x) := by
  show nI 161 * nI D + nI x = _
  rw [pk_mul, nI_add]
def fq_L (k y G i : Nat) (a s : fq_A) : Prop := i ≤ k ∧ (∀ x, x ≤ k → (x = y ∨ (i ≤ x ∧ x < y)) → s (G + x) = 1) ∧ (∀ x, x ≤ k → ¬ (x = y ∨ (i ≤ x ∧ x < y)) → s (G + x) = 0) ∧ (∀ j, j < G → s j = a j)
theorem fq_LS {k y G i : Nat} {a s : fq_A} (h : fq_L k y G (i + 1) a s) : fq_L k y G i a (upd s (G + i) ((s (G + i) + s (G + (i + 1))).toInt8.toInt32)) := by
  obtain ⟨hi, h1, h0, hj⟩ := h
  refine ⟨by omega, fun x hx hc => ?_, fun x hx hc => ?_, fun j hj' => ?_⟩
  · by_cases e : x = i
    · subst e
      rw [pk_us]
      by_cases ey : x = y
      · rw [h1 x hx (Or.inl ey), h0 (x + 1) hi (by omega)]
        decide
      · rw [h0 x hx (by omega), h1 (x + 1) hi (by omega)]
        decide
    · rw [pk_un (by omega)]
      exact h1 x hx (by omega)
  · by_cases e : x = i
    · subst e
      rw [pk_us, h0 x hx (by omega), h0 (x + 1) hi (by omega)]
      decide
    · rw [pk_un (by omega)]
      exact h0 x hx (by omega)
  · rw [pk_un (by omega)]
    exact hj j hj'
section
variable {bc bu nc : Int32} {a1 a2 a3 a4 a5 a6 a7 a8 a9 a10 a11 a12 a13 : fq_A}
theorem fq_cn0 {post : Int32 → Prop} {x : Int32} {t : Nat} (ht : t < 8) (h : a6 t = 0) (H : post 0) : wpX_countOn post (bc, bu, nc, a1, a2, a3, a4, a5, a6, a7, a8, a9, a10, a11, a12, a13) x (nI t) :=
  And.intro (pk_in t 8 ht) (nm_r (e' := 0) (by rw [nI_clamp (by omega), h]) ⟨1, br_t rfl H⟩)
theorem fq_cn1 {post : Int32 → Prop} {D t x : Nat} (ht : t < 8) (hD : D ≤ 8) (h : a6 t = nI x) (hx : 1 ≤ x) (hx2 : x ≤ 8) (h5 : a5 x = 0) (h11 : a11 (161 * D + x) = 1) (H : post 1) : wpX_countOn post (bc, bu, nc, a1, a2, a3, a4, a5, a6, a7, a8, a9, a10, a11, a12, a13) (nI D) (nI t) :=
  And.intro (pk_in t 8 ht) (nm_r (e' := nI x) (by rw [nI_clamp (by omega), h]) ⟨2, br_f (nI_ne0 (by omega) (by omega)) ⟨pk_in (161 * D + x) 1449 (by omega) (fq_ix D x), nm_r (e' := 1) (by rw [fq_ix, nI_clamp (by omega), h11] <;> decide) ⟨pk_in x 161 (by omega), nm_r (e' := 0) (by rw [nI_clamp (by omega), h5]) (br_t rfl H)⟩⟩⟩)
theorem fq_l94 {post : St2 → Prop} {k y G : Nat} {a : fq_A} (hG : G + 161 ≤ 1449) (hk : k ≤ 8) (hy : y ≤ k) (h4 : ∀ x, 1 ≤ x → x ≤ k → a4 x = nI (x - 1)) (H : ∀ s : fq_A, (∀ x, x ≤ y → s (G + x) = 1) → (∀ j, j < G → s j = a j) → post (bc, bu, nc, a1, a2, a3, a4, a5, a6, a7, a8, a9, a10, s, a12, a13)) (h : fq_L k y G k a a11) :
    ∃ n, wX_liftWeights_94 post (nI G) bc bu nc n (nI k) a1 a2 a3 a4 a5 a6 a7 a8 a9 a10 a11 a12 a13 := by
  refine ⟨k + 1, pk_loopD (fun n i s => wX_liftWeights_94 post (nI G) bc bu nc n (nI i) a1 a2 a3 a4 a5 a6 a7 a8 a9 a10 s a12 a13) (fun i s => fq_L k y G i a s) ?_ ?_ k a11 h⟩
  · intro n s h
    exact pk_le 0 0 (fun _ => H s (fun x hx => h.2.1 x (by omega) (by omega)) h.2.2.2) (fun z => absurd z (by omega))
  · intro n i s h hw
    have hi : i + 1 ≤ k := h.1
    have e4 : a4 (nI (i + 1)).toNatClampNeg = nI i := by
      rw [nI_clamp (by omega), h4 (i + 1) (by omega) (by omega)]
      rfl
    have e1 : nI G + a4 (nI (i + 1)).toNatClampNeg = nI (G + i) := by rw [e4, nI_add]
    refine pk_le (i + 1) 0 (fun z => absurd z (by omega)) (fun _ => ⟨pk_in (i + 1) 161 (by omega), pk_in (G + i) 1449 (by omega) e1, pk_in (G + (i + 1)) 1449 (by omega) (nI_add G (i + 1)), pk_in (G + i) 1449 (by omega) e1, nm_r ?_ (nm_r (pk_m1 i) (hw _ (fq_LS h)))⟩)
    rw [e1, nI_add, nI_clamp (by omega), nI_clamp (by omega)]
theorem fq_lift {post : St2 → Prop} {D k t y : Nat} (hD : D ≤ 7) (hk : k ≤ 8) (ht : t < 8) (h6 : a6 t = nI y) (hy1 : 1 ≤ y) (hy : y ≤ k) (h4 : ∀ x, 1 ≤ x → x ≤ k → a4 x = nI (x - 1)) (h5 : a5 y = 0) (h11 : a11 (161 * D + y) = 1)
    (H : ∀ s : fq_A, (∀ x, x ≤ y → s (161 * D + 161 + x) = 1) → (∀ j, j < 161 * D + 161 → s j = a11 j) → post (bc, bu, nI (k + 1), a1, a2, a3, a4, a5, a6, a7, a8, a9, a10, s, a12, a13)) : wpX_liftWeights post (bc, bu, nI (k + 1), a1, a2, a3, a4, a5, a6, a7, a8, a9, a10, a11, a12, a13) (nI D) (nI t) := by
  unfold wpX_liftWeights
  have eF : (161 : Int32) * nI D = nI (161 * D) := pk_mul 161 D
  have eG : nI (161 * D) + 161 = nI (161 * D + 161) := nI_add (161 * D) 161
  refine nm_r (e' := nI (161 * D)) eF (nm_r (e' := nI (161 * D + 161)) eG ?_)
  refine pk_loop (fun n i s => wX_liftWeights_16 post (nI t) (nI (161 * D)) (nI (161 * D + 161)) bc bu (nI (k + 1)) n (nI i) a1 a2 a3 a4 a5 a6 a7 a8 a9 a10 s a12 a13) (fun i s => (∀ x, x < i → s (161 * D + 161 + x) = 0) ∧ (∀ j, j < 161 * D + 161 → s j = a11 j)) (k + 1) 0 a11 (by omega) ⟨fun x hx => absurd hx (by omega), fun j _ => rfl⟩ ?_ ?_
  · intro n s h
    obtain ⟨h0, hj⟩ := h
    refine pk_le (k + 1) (k + 1) (fun _ => ⟨pk_in t 8 ht, nm_r (e' := nI y) (by rw [nI_clamp (by omega), h6]) ⟨2, br_f (nI_ne0 (by omega) (by omega)) ⟨pk_in (161 * D + y) 1449 (by omega) (nI_add _ _), pk_in (161 * D + 161 + y) 1449 (by omega) (nI_add _ _), nm_r (e' := upd s (161 * D + 161 + y) 1) ?_ ⟨pk_in y 161 (by omega), nm_r (e' := 0) (by rw [nI_clamp (by omega), h5]) (br_t rfl (nm_r (nI_pred k) (fq_l94 (by omega) hk hy h4 H ⟨Nat.le_refl k, fun x hx hc => ?_, fun x hx hc => ?_, fun j hj' => ?_⟩)))⟩⟩⟩⟩) (fun z => absurd z (by omega))
    · rw [nI_add, nI_add, nI_clamp (by omega), nI_clamp (by omega), hj _ (by omega), h11, show vp_nar .byte (1 : Int32) = 1 from fq_nb (n := 1) (by omega)]
    · have ex : x = y := by omega
      rw [ex, pk_us]
    · rw [pk_un (by omega)]
      exact h0 x (by omega)
    · rw [pk_un (by omega)]
      exact hj j hj'
  · intro n i s hi h hw
    obtain ⟨h0, hj⟩ := h
    refine pk_le (k + 1) i (fun z => absurd z (by omega)) (fun _ => ⟨pk_in (161 * D + 161 + i) 1449 (by omega) (nI_add _ _), nm_r (e' := upd s (161 * D + 161 + i) 0) (by rw [nI_add, nI_clamp (by omega)]) (nm_r (nI_1 i) (hw _ ⟨fun x hx => ?_, fun j hj' => ?_⟩))⟩)
    · by_cases e : x = i
      · rw [e, pk_us]
      · rw [pk_un (by omega)]
        exact h0 x (by omega)
    · rw [pk_un (by omega)]
      exact hj j hj'
end
end
section
/-! growSets: the search visits every part of the basket -/
def fq_ag (o : Nat → Nat) (s S h : Nat) : Prop := ∀ q, h ≤ q → q < 8 → s.testBit (o q) = S.testBit (o q)
def fq_lo (o : Nat → Nat) (S h : Nat) : Prop := ∀ q, q < h → S.testBit (o q) = false
def fq_Pr (o : Nat → Nat) (B c D S h : Nat) (s10 s11 s12 s13 : fq_A) : Prop := S < 256 ∧ S &&& B = S ∧ fq_lo o S h ∧ s12 D = nI S ∧ s13 D = nI h - 1 ∧ s10 S = nI c ∧ (∀ x, 1 ≤ x → x ≤ fq_cnt o B h → s11 (161 * D + x) = 1)
def fq_Po (o : Nat → Nat) (B c D S h : Nat) (s10 s11 s12 s13 r10 r11 r12 r13 : fq_A) : Prop := (∀ s, s < 256 → ¬ s &&& B = s → r10 s = s10 s) ∧ (∀ s, s < 256 → s10 s = nI c → r10 s = nI c) ∧ (∀ s, s < 256 → s &&& B = s → fq_ag o s S h → r10 s = nI c) ∧ (∀ j, j < 161 * D + 161 → r11 j = s11 j) ∧ (∀ d, d ≤ D → r12 d = s12 d) ∧ (∀ d, d < D → r13 d = s13 d)
/-- how many turns a frame takes -/
def fq_T (o : Nat → Nat) (B : Nat) : Nat → Nat
  | 0 => 1
  | h + 1 => fq_T o B h + (if B.testBit (o h) then fq_T o B h else 0) + 1
theorem fq_TT {o : Nat → Nat} {B h : Nat} (n : Nat) (hb : B.testBit (o h) = true) : n + fq_T o B (h + 1) = (n + fq_T o B h + fq_T o B h) + 1 := by
  show n + (fq_T o B h + (if B.testBit (o h) then fq_T o B h else 0) + 1) = _
  rw [if_pos hb]
  omega
theorem fq_TF {o : Nat → Nat} {B h : Nat} (n : Nat) (hb : B.testBit (o h) = false) : n + fq_T o B (h + 1) = (n + fq_T o B h) + 1 := by
  show n + (fq_T o B h + (if B.testBit (o h) then fq_T o B h else 0) + 1) = _
  rw [hb]
  show n + (fq_T o B h + 0 + 1) = _
  omega
theorem fq_agE {o : Nat → Nat} {s S : Nat} (hv : ∀ v, v < 8 → ∃ q, q < 8 ∧ o q = v) (hs : s < 256) (hS : S < 256) (h : fq_ag o s S 0) : s = S := by
  refine fq_ext hs hS (fun t ht => ?_)
  obtain ⟨q, hq, e⟩ := hv t ht
  rw [← e]
  exact h q (by omega) hq
/-- a place whose thing isn't in the basket -/
theorem fq_agF {o : Nat → Nat} {B s S h : Nat} (hb : B.testBit (o h) = false) (hs : s &&& B = s) (hl : fq_lo o S (h + 1)) (h1 : fq_ag o s S (h + 1)) : fq_ag o s S h := by
  intro q hq hq8
  by_cases e : q = h
  · rw [e, hl h (by omega)]
    cases f : s.testBit (o h) with
    | false => rfl
    | true =>
      rw [fq_subE hs f] at hb
      exact hb
  · exact h1 q (by omega) hq8
theorem fq_agN {o : Nat → Nat} {s S h : Nat} (f : s.testBit (o h) = false) (hl : fq_lo o S (h + 1)) (h1 : fq_ag o s S (h + 1)) : fq_ag o s S h := by
  intro q hq hq8
  by_cases e : q = h
  · rw [e, hl h (by omega), f]
  · exact h1 q (by omega) hq8
theorem fq_agT {o : Nat → Nat} {s S h : Nat} (hi : ∀ q r, q < 8 → r < 8 → o q = o r → q = r) (hh : h < 8) (f : s.testBit (o h) = true) (h1 : fq_ag o s S (h + 1)) : fq_ag o s (S ||| 2 ^ o h) h := by
  intro q hq hq8
  rw [fq_orb]
  by_cases e : q = h
  · rw [e, f, decide_eq_true rfl, Bool.or_true]
  · rw [decide_eq_false (fun z => e (hi h q hh hq8 z).symm), Bool.or_false]
    exact h1 q (by omega) hq8
theorem fq_loT {o : Nat → Nat} {S h : Nat} (hi : ∀ q r, q < 8 → r < 8 → o q = o r → q = r) (hh : h < 8) (hl : fq_lo o S (h + 1)) : fq_lo o (S ||| 2 ^ o h) h := by
  intro q hq
  rw [fq_orb, hl q (by omega), decide_eq_false (fun z => absurd (hi h q hh (by omega) z) (by omega))]
  rfl
section
variable {post : St2 → Prop} {bc bu : Int32} {a1 a2 a3 a4 a5 a6 a7 a8 a9 a10 a11 a12 a13 : fq_A} {o : Nat → Nat} {B c : Nat}
theorem fq_frame (ho : fq_po 8 a7 o) (hB : B < 256) (hc : ∀ t, B.testBit t = true → c = 1) (hT : fq_Tr o B 8 a3 a4 a5 a6) :
    ∀ (h D S n : Nat) (s10 s11 s12 s13 : fq_A), D + h ≤ 8 → fq_Pr o B c D S h s10 s11 s12 s13 →
      (∀ r10 r11 r12 r13 : fq_A, fq_Po o B c D S h s10 s11 s12 s13 r10 r11 r12 r13 → wX_growSets_78 post n (nI D + (-1)) bc bu (nI (fq_cnt o B 8 + 1)) a1 a2 a3 a4 a5 a6 a7 a8 a9 r10 r11 r12 r13) →
      wX_growSets_78 post (n + fq_T o B h) (nI D) bc bu (nI (fq_cnt o B 8 + 1)) a1 a2 a3 a4 a5 a6 a7 a8 a9 s10 s11 s12 s13 := by
  intro h
  induction h with
  | zero =>
    intro D S n s10 s11 s12 s13 hD hP K
    obtain ⟨hS, hSB, hl, h12, h13, h10, h11⟩ := hP
    show wX_growSets_78 post (n + 1) (nI D) bc bu (nI (fq_cnt o B 8 + 1)) a1 a2 a3 a4 a5 a6 a7 a8 a9 s10 s11 s12 s13
    refine br_f (nI_pos (by omega)) ⟨pk_in D 9 (by omega), nm_r (e' := nI 0 - 1) (by rw [nI_clamp (by omega), h13]) (br_f (by decide) (nm_e (K s10 s11 s12 s13 ⟨fun s _ _ => rfl, fun s _ e => e, fun s hs _ ha => ?_, fun j _ => rfl, fun d _ => rfl, fun d _ => rfl⟩)))⟩
    rw [fq_agE ho.2.2 hs hS ha]
    exact h10
  | succ h ih =>
    intro D S n s10 s11 s12 s13 hD hP K
    obtain ⟨hS, hSB, hl, h12, h13, h10, h11⟩ := hP
    obtain ⟨e7, h7⟩ := ho.1 h (by omega)
    have hk8 := fq_cntN o B 8
    have eD : (nI D).toNatClampNeg = D := nI_clamp (by omega)
    have e13 : s13 (nI D).toNatClampNeg = nI h := by rw [eD, h13, nI_pred]
    have e13' : upd s13 (nI D).toNatClampNeg ((s13 (nI D).toNatClampNeg - 1).toInt8.toInt32) = upd s13 D (nI h - 1) := by rw [e13, eD, fq_g8 h (by omega)]
    have hD9 : vp_in (nI D) 9 := pk_in D 9 (by omega)
    cases hb : B.testBit (o h) with
    | false =>
      rw [fq_TF n hb]
      have h6 : a6 (o h) = 0 := hT.2.2 h (by omega) (Or.inr hb)
      refine br_f (nI_pos (by omega)) ⟨hD9, nm_r (e' := nI h) e13 (br_t (nI_pos' (by omega)) ⟨hD9, hD9, nm_r (e' := upd s13 D (nI h - 1)) e13' ⟨pk_in h 8 (by omega), nm_r (e' := nI (o h)) (by rw [nI_clamp (by omega), e7]) (fq_cn0 h7 h6 (br_t rfl ?_))⟩⟩)⟩
      refine ih D S n s10 s11 s12 (upd s13 D (nI h - 1)) (by omega) ⟨hS, hSB, fun q hq => hl q (by omega), h12, pk_us, h10, fun x hx hy => h11 x hx (by rw [fq_cntF hb]; exact hy)⟩ (fun r10 r11 r12 r13 hP => ?_)
      obtain ⟨p1, p2, p3, p4, p5, p6⟩ := hP
      refine K r10 r11 r12 r13 ⟨p1, p2, fun s hs hsB ha => p3 s hs hsB (fq_agF hb hsB hl ha), p4, p5, fun d hd => ?_⟩
      rw [p6 d hd, pk_un (by omega)]
    | true =>
      rw [fq_TT n hb]
      have hc1 : c = 1 := hc _ hb
      have hy : fq_cnt o B h + 1 ≤ fq_cnt o B 8 := by
        have := fq_cntLe o B (show h + 1 ≤ 8 by omega)
        rw [fq_cntT hb] at this
        exact this
      have h6 : a6 (o h) = nI (fq_cnt o B h + 1) := hT.2.1 h (by omega) hb
      have h5 : a5 (fq_cnt o B h + 1) = 0 := (hT.1 _ (by omega) hy).2.2
      have hw : s11 (161 * D + (fq_cnt o B h + 1)) = 1 := h11 _ (by omega) (by rw [fq_cntT hb]; exact Nat.le_refl _)
      have hS' : S ||| 2 ^ o h < 256 := fq_orlt hS h7
      have e5 : s12 (nI D).toNatClampNeg ||| ((1 : Int32) <<< (nI (o h) &&& 31)) = nI (S ||| 2 ^ o h) := by rw [eD, h12, fq_sh _ h7, fq_or]
      have e10 : upd s10 (nI (S ||| 2 ^ o h)).toNatClampNeg (1 : Int32).toInt8.toInt32 = upd s10 (S ||| 2 ^ o h) (nI c) := by rw [nI_clamp (by omega), hc1, show (1 : Int32).toInt8.toInt32 = nI 1 from by decide]
      have eD1 : (nI (D + 1)).toNatClampNeg = D + 1 := nI_clamp (by omega)
      have hD19 : vp_in (nI (D + 1)) 9 := pk_in (D + 1) 9 (by omega)
      refine br_f (nI_pos (by omega)) ⟨hD9, nm_r (e' := nI h) e13 (br_t (nI_pos' (by omega)) ⟨hD9, hD9, nm_r (e' := upd s13 D (nI h - 1)) e13' ⟨pk_in h 8 (by omega), nm_r (e' := nI (o h)) (by rw [nI_clamp (by omega), e7]) (fq_cn1 h7 (by omega) h6 (by omega) (by omega) h5 hw (br_f (by decide) ⟨hD9, nm_r e5 ⟨pk_in _ 256 hS', nm_r e10 ?_⟩⟩))⟩⟩)⟩
      refine fq_lift (by omega) hk8 h7 h6 (by omega) hy (fun x hx hx2 => (hT.1 x hx hx2).2.1) h5 hw (fun s hs1 hs2 => ?_)
      refine nm_r (nI_1 D) ⟨hD19, nm_r (e' := upd s12 (D + 1) (nI (S ||| 2 ^ o h))) (by rw [eD1, fq_s16 _ hS']) ⟨hD19, nm_r (e' := upd (upd s13 D (nI h - 1)) (D + 1) (nI h - 1)) (by rw [eD1, fq_g8 h (by omega)]) ?_⟩⟩
      refine ih (D + 1) (S ||| 2 ^ o h) (n + fq_T o B h) (upd s10 (S ||| 2 ^ o h) (nI c)) s (upd s12 (D + 1) (nI (S ||| 2 ^ o h))) (upd (upd s13 D (nI h - 1)) (D + 1) (nI h - 1)) (by omega) ⟨hS', fq_orsub hSB hb, fq_loT ho.2.1 (by omega) hl, pk_us, pk_us, pk_us, fun x hx hx2 => ?_⟩ (fun r10 r11 r12 r13 hP => ?_)
      · rw [show 161 * (D + 1) + x = 161 * D + 161 + x by omega]
        exact hs1 x (by omega)
      · obtain ⟨p1, p2, p3, p4, p5, p6⟩ := hP
        rw [pk_m1]
        have q10 : ∀ s, s < 256 → s10 s = nI c → r10 s = nI c := by
          intro s hs e
          refine p2 s hs ?_
          by_cases es : s = S ||| 2 ^ o h
          · rw [es, pk_us]
          · rw [pk_un es, e]
        refine ih D S n r10 r11 r12 r13 (by omega) ⟨hS, hSB, fun q hq => hl q (by omega), ?_, ?_, q10 S hS h10, fun x hx hx2 => ?_⟩ (fun t10 t11 t12 t13 hQ => ?_)
        · rw [p5 D (by omega), pk_un (by omega), h12]
        · rw [p6 D (by omega), pk_un (by omega), pk_us]
        · rw [p4 _ (by omega), hs2 _ (by omega)]
          exact h11 x hx (by rw [fq_cntT hb]; omega)
        · obtain ⟨u1, u2, u3, u4, u5, u6⟩ := hQ
          refine K t10 t11 t12 t13 ⟨fun s hs hsB => ?_, fun s hs e => u2 s hs (q10 s hs e), fun s hs hsB ha => ?_, fun j hj => ?_, fun d hd => ?_, fun d hd => ?_⟩
          · rw [u1 s hs hsB, p1 s hs hsB, pk_un]
            intro z
            rw [z] at hsB
            exact hsB (fq_orsub hSB hb)
          · cases f : s.testBit (o h) with
            | true => exact u2 s hs (p3 s hs hsB (fq_agT ho.2.1 (by omega) f ha))
            | false => exact u3 s hs hsB (fq_agN f hl ha)
          · rw [u4 j hj, p4 j (by omega), hs2 j hj]
          · rw [u5 d hd, p5 d (by omega), pk_un (by omega)]
          · rw [u6 d hd, p6 d (by omega), pk_un (by omega), pk_un (by omega)]
end
end
section
/-! growSets as a whole, and build -/
def fq_ok (c B : Nat) : Prop := B < 256 ∧ c ≤ 1 ∧ (c = 0 → B = 0)
theorem fq_okB {c B : Nat} (h : fq_ok c B) {t : Nat} (e : B.testBit t = true) : c = 1 := by
  obtain ⟨_, h1, h2⟩ := h
  by_cases hc : c = 0
  · rw [h2 hc, Nat.zero_testBit] at e
    exact absurd e (by decide)
  · omega
theorem fq_cntZ (o : Nat → Nat) (n : Nat) : fq_cnt o 0 n = 0 := by
  induction n with
  | zero => rfl
  | succ n ih => rw [fq_cntF (Nat.zero_testBit _), ih]
theorem fq_TrZ {o : Nat → Nat} {s3 s4 s5 s6 : fq_A} (ho : ∀ q, q < 8 → o q < 8) (h : ∀ j, j < 8 → s6 j = 0) : fq_Tr o 0 8 s3 s4 s5 s6 := by
  refine ⟨fun x h1 h2 => ?_, fun q _ e => ?_, fun q hq _ => h _ (ho q hq)⟩
  · rw [fq_cntZ] at h2
    omega
  · rw [Nat.zero_testBit] at e
    exact absurd e (by decide)
section
variable {post : St2 → Prop} {bc bu nc : Int32} {a1 a2 a3 a4 a5 a6 a7 a8 a9 a10 a11 a12 a13 : fq_A} {o : Nat → Nat} {B c : Nat}
theorem fq_g35 (ho : fq_po 8 a7 o) (hk : fq_ok c B) (hT : fq_Tr o B 8 a3 a4 a5 a6) (h10 : a10 0 = nI c) (h10' : ∀ s, s < 256 → s ≠ 0 → a10 s = 0)
    (H : ∀ s10 s11 s12 s13 : fq_A, (∀ s, s < 256 → s10 s = fq_cn c B s) → post (bc, bu, nI (fq_cnt o B 8 + 1), a1, a2, a3, a4, a5, a6, a7, a8, a9, s10, s11, s12, s13)) :
    ∃ n, wX_growSets_35 post bc bu (nI (fq_cnt o B 8 + 1)) n 0 a1 a2 a3 a4 a5 a6 a7 a8 a9 a10 a11 a12 a13 := by
  have hk8 := fq_cntN o B 8
  refine pk_loop (fun n i s => wX_growSets_35 post bc bu (nI (fq_cnt o B 8 + 1)) n (nI i) a1 a2 a3 a4 a5 a6 a7 a8 a9 a10 s a12 a13) (fun i s => ∀ x, 1 ≤ x → x < i → s x = 1) (fq_cnt o B 8 + 1) 0 a11 (by omega) (fun x hx hx2 => absurd hx2 (by omega)) ?_ ?_
  · intro n s h
    refine pk_le (fq_cnt o B 8 + 1) (fq_cnt o B 8 + 1) (fun _ => nm_e (nm_e ⟨1 + fq_T o B 8, fq_frame ho hk.1 (fun t e => fq_okB hk e) hT 8 0 0 1 a10 s (upd a12 0 0) (upd a13 0 7) (by omega) ⟨by omega, Nat.zero_and B, fun q _ => Nat.zero_testBit _, pk_us, pk_us.trans (by decide), h10, fun x hx hx2 => ?_⟩ (fun r10 r11 r12 r13 hP => br_t (by decide) (H r10 r11 r12 r13 (fun s hs => ?_)))⟩)) (fun z => absurd z (by omega))
    · rw [show 161 * 0 + x = x by omega]
      exact h x hx (by omega)
    · obtain ⟨p1, p2, p3, _, _, _⟩ := hP
      by_cases e : s &&& B = s
      · rw [fq_cnT e]
        exact p3 s hs e (fun q hq hq8 => absurd hq8 (by omega))
      · rw [fq_cnF e, p1 s hs e]
        refine h10' s hs (fun z => ?_)
        rw [z] at e
        exact e (Nat.zero_and B)
  · intro n i s hi h hw
    refine pk_le (fq_cnt o B 8 + 1) i (fun z => absurd z (by omega)) (fun _ => ⟨pk_in i 161 (by omega), pk_in i 1449 (by omega), nm_e (nm_r (nI_1 i) (hw _ (fun x hx hx2 => ?_)))⟩)
    rw [nI_clamp (by omega)]
    by_cases e : x = i
    · rw [e, pk_us, (hT.1 i (by omega) (by omega)).1]
      exact fq_nb (n := 1) (by omega)
    · rw [pk_un e]
      exact h x hx (by omega)
theorem fq_grow (ho : fq_po 8 a7 o) (hk : fq_ok c B) (hT : fq_Tr o B 8 a3 a4 a5 a6)
    (H : ∀ s10 s11 s12 s13 : fq_A, (∀ s, s < 256 → s10 s = fq_cn c B s) → post (nI c, bu, nI (fq_cnt o B 8 + 1), a1, a2, a3, a4, a5, a6, a7, a8, a9, s10, s11, s12, s13)) :
    wpX_growSets post (nI c, bu, nI (fq_cnt o B 8 + 1), a1, a2, a3, a4, a5, a6, a7, a8, a9, a10, a11, a12, a13) := by
  have hc := hk.2.1
  refine pk_loop (fun n i s => wX_growSets_2 post (nI c) bu (nI (fq_cnt o B 8 + 1)) n (nI i) a1 a2 a3 a4 a5 a6 a7 a8 a9 s a11 a12 a13) (fun i s => ∀ j, j < i → s j = 0) 256 0 a10 (by omega) (fun j hj => absurd hj (by omega)) ?_ ?_
  · intro n s h
    exact pk_le 256 256 (fun _ => nm_r (e' := upd s 0 (nI c)) (by rw [fq_b8 c (by omega)]) (fq_g35 ho hk hT pk_us (fun r hr hn => by rw [pk_un hn]; exact h r hr) H)) (fun z => absurd z (by omega))
  · intro n i s hi h hw
    refine pk_le 256 i (fun z => absurd z (by omega)) (fun _ => ⟨pk_in i 256 hi, nm_e (nm_r (nI_1 i) (hw _ (fun j hj => ?_)))⟩)
    rw [nI_clamp (by omega)]
    by_cases e : j = i
    · rw [e, pk_us]
    · rw [pk_un e]
      exact h j (by omega)
/-- what build leaves -/
def fq_K (post : St2 → Prop) (c B : Nat) : Prop := ∀ (bc bu nc : Int32) (b1 b2 b3 b4 b5 b6 b7 b8 b9 b10 b11 b12 b13 : fq_A), ¬ bu = 0 → (∀ s, s < 256 → b10 s = fq_cn c B s) → post (bc, bu, nc, b1, b2, b3, b4, b5, b6, b7, b8, b9, b10, b11, b12, b13)
theorem fq_b56 (ho : fq_po 8 a7 o) (hk : fq_ok c B) (hbu : ¬ bu = 0) (h1 : c = 1 → a1 0 = nI B) (h6 : ∀ j, j < 8 → a6 j = 0) (H : fq_K post c B) : ∃ n, wX_build_56 post n 0 (nI c) bu 1 a1 a2 a3 a4 a5 a6 a7 a8 a9 a10 a11 a12 a13 := by
  by_cases hc : c = 0
  · have hB : B = 0 := hk.2.2 hc
    subst hc hB
    refine ⟨1, pk_le 0 0 (fun _ => ?_) (fun z => absurd z (by omega))⟩
    have t := fq_grow (post := post) (bu := bu) (a1 := a1) (a2 := a2) (a8 := a8) (a9 := a9) (a10 := a10) (a11 := a11) (a12 := a12) (a13 := a13) ho hk (fq_TrZ (s3 := a3) (s4 := a4) (s5 := a5) (fun q hq => (ho.1 q hq).2) h6) (fun s10 s11 s12 s13 hs => H _ _ _ _ _ _ _ _ _ _ _ _ _ _ _ _ hbu hs)
    rw [fq_cntZ] at t
    exact t
  · have hc1 : c = 1 := by have := hk.2.1; omega
    have e : a1 (0 : Int32).toNatClampNeg = nI B := by
      rw [sb_cl0]
      exact h1 hc1
    subst hc1
    refine ⟨2, pk_le 1 0 (fun z => absurd z (by omega)) (fun _ => ⟨pk_in 0 20 (by omega), ?_⟩)⟩
    rw [e]
    exact fq_plant ho hk.1 h6 (fun s2 s3 s4 s5 s6 hT => nm_r (nI_1 0) (pk_le 1 1 (fun _ => fq_grow ho hk hT (fun s10 s11 s12 s13 hs => H _ _ _ _ _ _ _ _ _ _ _ _ _ _ _ _ hbu hs)) (fun z => absurd z (by omega))))
theorem fq_b35 (ho : fq_po 8 a7 o) (hk : fq_ok c B) (hbu : ¬ bu = 0) (h1 : c = 1 → a1 0 = nI B) (H : fq_K post c B) : ∃ n, wX_build_35 post (nI c) bu 1 n 0 a1 a2 a3 a4 a5 a6 a7 a8 a9 a10 a11 a12 a13 := by
  refine pk_loop (fun n i s => wX_build_35 post (nI c) bu 1 n (nI i) a1 a2 a3 a4 a5 s a7 a8 a9 a10 a11 a12 a13) (fun i s => ∀ j, j < i → s j = 0) 8 0 a6 (by omega) (fun j hj => absurd hj (by omega)) ?_ ?_
  · intro n s h
    exact pk_le 8 8 (fun _ => fq_b56 ho hk hbu h1 h H) (fun z => absurd z (by omega))
  · intro n i s hi h hw
    refine pk_le 8 i (fun z => absurd z (by omega)) (fun _ => ⟨pk_in i 8 hi, nm_e (nm_r (nI_1 i) (hw _ (fun j hj => ?_)))⟩)
    rw [nI_clamp (by omega)]
    by_cases e : j = i
    · rw [e, pk_us]
    · rw [pk_un e]
      exact h j (by omega)
/-- the object: not yet built, or built -/
def fq_J (c B : Nat) (bc bu : Int32) (s1 s10 : fq_A) : Prop := (bu = 0 ∧ bc = nI c ∧ (c = 1 → s1 0 = nI B)) ∨ (¬ bu = 0 ∧ ∀ s, s < 256 → s10 s = fq_cn c B s)
theorem fq_build (hk : fq_ok c B) (hJ : fq_J c B bc bu a1 a10) (H : fq_K post c B) : wpX_build post (bc, bu, nc, a1, a2, a3, a4, a5, a6, a7, a8, a9, a10, a11, a12, a13) := by
  rcases hJ with ⟨e0, ec, e1⟩ | ⟨e0, e10⟩
  · subst e0 ec
    refine br_t rfl (fq_order (by have := hk.2.1; omega) (fun s7 s8 s9 hp => ?_))
    obtain ⟨o, ho⟩ := hp
    exact nm_e (fq_b35 ho hk (by decide) e1 H)
  · exact br_f e0 (H _ _ _ _ _ _ _ _ _ _ _ _ _ _ _ _ e0 e10)
end
end
section
/-! the answers -/
def fq_bad (p : Int32) : Prop := p < 0 ∨ 255 < p
def fq_badm (p : Int32) : Prop := p < 1 ∨ 20 < p
/-- a post over results and states that match -/
def fq_Q (post : Int32 → St2 → Prop) (c B : Nat) (r : Int32) : Prop := ∀ (bc bu nc : Int32) (b1 b2 b3 b4 b5 b6 b7 b8 b9 b10 b11 b12 b13 : fq_A), fq_J c B bc bu b1 b10 → post r (bc, bu, nc, b1, b2, b3, b4, b5, b6, b7, b8, b9, b10, b11, b12, b13)
def fq_clo (c B s : Nat) : Int32 := if c = 1 ∧ s &&& B = s then nI B else (-3)
def fq_cld (c B m : Nat) : Int32 := if c = 1 ∧ m = 1 ∧ 1 ≤ B then 1 else 0
def fq_cls (c B m : Nat) (k : Int32) : Int32 := if (c = 1 ∧ m = 1 ∧ 1 ≤ B) ∧ k = 0 then nI B else (-3)
def fq_tot (c B m i : Nat) : Int32 := if c = 1 ∧ m = 1 ∧ 1 ≤ B ∧ B < i then 1 else 0
theorem fq_or2 {s i : Nat} (hi : i < 8) : nI s ||| ((1 : Int32) <<< (nI i &&& 31)) = nI (s ||| 2 ^ i) := by rw [fq_sh i hi, fq_or]
section
variable {bc bu nc : Int32} {a1 a2 a3 a4 a5 a6 a7 a8 a9 a10 a11 a12 a13 : fq_A} {B c : Nat}
theorem fq_set_g {post : Int32 → Prop} {s : Nat} (hs : s < 256) (H : post 1) : wpX_isSet post (bc, bu, nc, a1, a2, a3, a4, a5, a6, a7, a8, a9, a10, a11, a12, a13) (nI s) :=
  br_f (nI_pos (by omega)) (br_f (nI_nlt (a := 255) (b := s) (by omega) (by omega)) H)
theorem fq_set_b {post : Int32 → Prop} {p : Int32} (h : fq_bad p) (H : post 0) : wpX_isSet post (bc, bu, nc, a1, a2, a3, a4, a5, a6, a7, a8, a9, a10, a11, a12, a13) p :=
  br_c (fun _ => H) (fun h0 => br_t (h.resolve_left h0) H)
theorem fq_bd_g {post : Int32 → Prop} {m : Nat} (h1 : 1 ≤ m) (h2 : m ≤ 20) (H : post 1) : wpX_isBound post (bc, bu, nc, a1, a2, a3, a4, a5, a6, a7, a8, a9, a10, a11, a12, a13) (nI m) :=
  br_f (nI_nlt (a := m) (b := 1) (by omega) (by omega)) (br_f (nI_nlt (a := 20) (b := m) (by omega) (by omega)) H)
theorem fq_bd_b {post : Int32 → Prop} {p : Int32} (h : fq_badm p) (H : post 0) : wpX_isBound post (bc, bu, nc, a1, a2, a3, a4, a5, a6, a7, a8, a9, a10, a11, a12, a13) p :=
  br_c (fun _ => H) (fun h0 => br_t (h.resolve_left h0) H)
theorem fq_count_g {post : Int32 → St2 → Prop} {s : Nat} (hk : fq_ok c B) (hJ : fq_J c B bc bu a1 a10) (hs : s < 256) (H : fq_Q post c B (fq_cn c B s)) : wpX_count post (bc, bu, nc, a1, a2, a3, a4, a5, a6, a7, a8, a9, a10, a11, a12, a13) (nI s) := by
  unfold wpX_count
  refine fq_set_g hs (br_f (by decide) (fq_build hk hJ (fun bc bu nc b1 b2 b3 b4 b5 b6 b7 b8 b9 b10 b11 b12 b13 hb h10 => ⟨pk_in s 256 hs, ?_⟩)))
  rw [nI_clamp (by omega), h10 s hs]
  exact H bc bu nc b1 b2 b3 b4 b5 b6 b7 b8 b9 b10 b11 b12 b13 (Or.inr ⟨hb, h10⟩)
theorem fq_count_b {post : Int32 → St2 → Prop} {p : Int32} (h : fq_bad p) (H : post (-1) (bc, bu, nc, a1, a2, a3, a4, a5, a6, a7, a8, a9, a10, a11, a12, a13)) : wpX_count post (bc, bu, nc, a1, a2, a3, a4, a5, a6, a7, a8, a9, a10, a11, a12, a13) p := by
  unfold wpX_count
  exact fq_set_b h (br_t rfl H)
/-- one step of closure's and isClosed's look at a set with one thing more -/
theorem fq_more {s i : Nat} (hc : c = 1) (hs : s < 256) (hsB : s &&& B = s) (h10 : ∀ s, s < 256 → a10 s = fq_cn c B s) (hi : i < 8) : a10 (s ||| 2 ^ i) = a10 s ↔ B.testBit i = true := by
  rw [h10 _ (fq_orlt hs hi), h10 s hs, fq_cnT hsB]
  constructor
  · intro e
    by_cases h : (s ||| 2 ^ i) &&& B = s ||| 2 ^ i
    · exact fq_orsubE h
    · rw [fq_cnF h, hc] at e
      exact absurd e (by decide)
  · intro e
    rw [fq_cnT (fq_orsub hsB e)]
theorem fq_c30 {post : Int32 → St2 → Prop} {s : Nat} (hB : B < 256) (hc : c = 1) (hs : s < 256) (hsB : s &&& B = s) (h10 : ∀ s, s < 256 → a10 s = fq_cn c B s) (H : post (nI B) (bc, bu, nc, a1, a2, a3, a4, a5, a6, a7, a8, a9, a10, a11, a12, a13)) : ∃ n, wX_closure_30 post (nI s) bc bu nc a1 a2 a3 a4 a5 a6 a7 a8 a9 a10 a11 a12 a13 n (nI s) 0 := by
  refine pk_loop (fun n i r => wX_closure_30 post (nI s) bc bu nc a1 a2 a3 a4 a5 a6 a7 a8 a9 a10 a11 a12 a13 n (nI r) (nI i)) (fun i r => r < 256 ∧ ∀ j, j < 8 → r.testBit j = (s.testBit j || (decide (j < i) && B.testBit j))) 8 0 s (by omega) ⟨hs, fun j _ => ?_⟩ ?_ ?_
  · rw [decide_eq_false (by omega), Bool.false_and, Bool.or_false]
  · intro n r h
    obtain ⟨hr, h⟩ := h
    have e : r = B := by
      refine fq_ext hr hB (fun t ht => ?_)
      rw [h t ht, decide_eq_true ht, Bool.true_and]
      cases f : s.testBit t with
      | false => rfl
      | true => rw [fq_subE hsB f]; rfl
    subst e
    exact pk_le 8 8 (fun _ => H) (fun z => absurd z (by omega))
  · intro n i r hi h hw
    obtain ⟨hr, h⟩ := h
    have e2 : (nI s ||| ((1 : Int32) <<< (nI i &&& 31))).toNatClampNeg = s ||| 2 ^ i := by
      have := fq_orlt hs hi
      rw [fq_or2 hi, nI_clamp (by omega)]
    have e1 : (nI s).toNatClampNeg = s := nI_clamp (by omega)
    refine pk_le 8 i (fun z => absurd z (by omega)) (fun _ => ⟨pk_in _ 256 (fq_orlt hs hi) (fq_or2 hi), pk_in s 256 hs, ?_⟩)
    rw [e1, e2, fq_more hc hs hsB h10 hi]
    refine br_c (fun hb => nm_r (fq_or2 hi) (nm_r (nI_1 i) (hw _ ⟨fq_orlt hr hi, fun j hj => ?_⟩))) (fun hb => nm_r (nI_1 i) (hw _ ⟨hr, fun j hj => ?_⟩))
    · rw [fq_orb, h j hj]
      by_cases e : i = j
      · subst e
        rw [decide_eq_true rfl, Bool.or_true, hb, decide_eq_true (show i < i + 1 by omega)]
        cases s.testBit i <;> rfl
      · rw [decide_eq_false e, Bool.or_false]
        by_cases e3 : j < i
        · rw [decide_eq_true e3, decide_eq_true (show j < i + 1 by omega)]
        · rw [decide_eq_false e3, decide_eq_false (show ¬ j < i + 1 by omega)]
    · rw [h j hj]
      by_cases e : i = j
      · subst e
        rw [Bool.eq_false_iff.mpr hb, Bool.and_false, Bool.and_false]
      · by_cases e3 : j < i
        · rw [decide_eq_true e3, decide_eq_true (show j < i + 1 by omega)]
        · rw [decide_eq_false e3, decide_eq_false (show ¬ j < i + 1 by omega)]
theorem fq_closure_g {post : Int32 → St2 → Prop} {s : Nat} (hk : fq_ok c B) (hJ : fq_J c B bc bu a1 a10) (hs : s < 256) (H : fq_Q post c B (fq_clo c B s)) : wpX_closure post (bc, bu, nc, a1, a2, a3, a4, a5, a6, a7, a8, a9, a10, a11, a12, a13) (nI s) := by
  unfold wpX_closure
  refine fq_set_g hs (br_f (by decide) (fq_build hk hJ (fun bc bu nc b1 b2 b3 b4 b5 b6 b7 b8 b9 b10 b11 b12 b13 hb h10 => ⟨pk_in s 256 hs, ?_⟩)))
  have h := H bc bu nc b1 b2 b3 b4 b5 b6 b7 b8 b9 b10 b11 b12 b13 (Or.inr ⟨hb, h10⟩)
  rw [nI_clamp (by omega), h10 s hs]
  unfold fq_clo at h
  by_cases e : c = 1 ∧ s &&& B = s
  · rw [if_pos e] at h
    rw [fq_cnT e.2]
    exact br_f (by rw [e.1]; decide) (fq_c30 hk.1 e.1 hs e.2 h10 h)
  · rw [if_neg e] at h
    refine br_t ?_ h
    by_cases e2 : s &&& B = s
    · have hc : c = 0 := by
        have h1 := hk.2.1
        have h2 : ¬ c = 1 := fun z => e ⟨z, e2⟩
        omega
      rw [fq_cnT e2, hc]
      rfl
    · rw [fq_cnF e2]
theorem fq_closure_b {post : Int32 → St2 → Prop} {p : Int32} (h : fq_bad p) (H : post (-1) (bc, bu, nc, a1, a2, a3, a4, a5, a6, a7, a8, a9, a10, a11, a12, a13)) : wpX_closure post (bc, bu, nc, a1, a2, a3, a4, a5, a6, a7, a8, a9, a10, a11, a12, a13) p := by
  unfold wpX_closure
  exact fq_set_b h (br_t rfl H)
theorem fq_i14 {post : Int32 → Prop} {s : Nat} (hB : B < 256) (hc : c = 1) (hs : s < 256) (hsB : s &&& B = s) (h10 : ∀ s, s < 256 → a10 s = fq_cn c B s) (H1 : s = B → post 1) (H0 : ¬ s = B → post 0) : ∃ n, wX_isClosed_14 post (nI s) bc bu nc a1 a2 a3 a4 a5 a6 a7 a8 a9 a10 a11 a12 a13 n 0 := by
  refine pk_loop (σ := Unit) (fun n i _ => wX_isClosed_14 post (nI s) bc bu nc a1 a2 a3 a4 a5 a6 a7 a8 a9 a10 a11 a12 a13 n (nI i)) (fun i _ => ∀ j, j < i → s.testBit j = B.testBit j) 8 0 () (by omega) (fun j hj => absurd hj (by omega)) ?_ ?_
  · intro n _ h
    exact pk_le 8 8 (fun _ => H1 (fq_ext hs hB h)) (fun z => absurd z (by omega))
  · intro n i _ hi h hw
    have e2 : (nI s ||| ((1 : Int32) <<< (nI i &&& 31))).toNatClampNeg = s ||| 2 ^ i := by
      have := fq_orlt hs hi
      rw [fq_or2 hi, nI_clamp (by omega)]
    have e1 : (nI s).toNatClampNeg = s := nI_clamp (by omega)
    refine pk_le 8 i (fun z => absurd z (by omega)) (fun _ => ?_)
    rw [fq_bit0 (by omega) (by omega), e1, e2, fq_more hc hs hsB h10 hi]
    have nx : s.testBit i = B.testBit i → wX_isClosed_14 post (nI s) bc bu nc a1 a2 a3 a4 a5 a6 a7 a8 a9 a10 a11 a12 a13 n (nI (i + 1)) := by
      intro e
      refine hw () (fun j hj => ?_)
      by_cases ej : j = i
      · rw [ej, e]
      · exact h j (by omega)
    refine br_c (fun f => ⟨pk_in _ 256 (fq_orlt hs hi) (fq_or2 hi), pk_in s 256 hs, br_c (fun g => H0 (fun z => ?_)) (fun g => nm_r (nI_1 i) (nx ?_))⟩) (fun f => nm_r (nI_1 i) (nx ?_))
    · rw [z, g] at f
      exact absurd f (by decide)
    · rw [f, Bool.eq_false_iff.mpr g]
    · have f' : s.testBit i = true := (Bool.not_eq_false _).mp f
      rw [f', fq_subE hsB f']
theorem fq_isC {post : Int32 → Prop} {s m : Nat} (hk : fq_ok c B) (h10 : ∀ s, s < 256 → a10 s = fq_cn c B s) (hs : s < 256) (h1 : 1 ≤ m) (h2 : m ≤ 20) (H1 : c = 1 ∧ m = 1 ∧ s = B → post 1) (H0 : ¬ (c = 1 ∧ m = 1 ∧ s = B) → post 0) : wpX_isClosed post (bc, bu, nc, a1, a2, a3, a4, a5, a6, a7, a8, a9, a10, a11, a12, a13) (nI s) (nI m) := by
  refine And.intro (pk_in s 256 hs) ?_
  rw [nI_clamp (by omega), h10 s hs]
  by_cases e : s &&& B = s
  · rw [fq_cnT e]
    have hc := hk.2.1
    refine pk_le m c (fun z => ?_) (fun z => H0 (fun t => ?_))
    · have hc1 : c = 1 := by omega
      have hm1 : m = 1 := by omega
      exact fq_i14 hk.1 hc1 hs e h10 (fun g => H1 ⟨hc1, hm1, g⟩) (fun g => H0 (fun t => g t.2.2))
    · have t1 := t.1
      have t2 := t.2.1
      omega
  · rw [fq_cnF e]
    refine pk_le m 0 (fun z => absurd z (by omega)) (fun _ => H0 (fun t => e ?_))
    rw [t.2.2, Nat.and_self]
theorem fq_closed_g {post : Int32 → St2 → Prop} {m : Nat} (hk : fq_ok c B) (hJ : fq_J c B bc bu a1 a10) (h1 : 1 ≤ m) (h2 : m ≤ 20) (H : fq_Q post c B (fq_cld c B m)) : wpX_closed post (bc, bu, nc, a1, a2, a3, a4, a5, a6, a7, a8, a9, a10, a11, a12, a13) (nI m) := by
  unfold wpX_closed
  refine fq_bd_g h1 h2 (br_f (by decide) (fq_build hk hJ (fun bc bu nc b1 b2 b3 b4 b5 b6 b7 b8 b9 b10 b11 b12 b13 hb h10 => ?_)))
  have h := H bc bu nc b1 b2 b3 b4 b5 b6 b7 b8 b9 b10 b11 b12 b13 (Or.inr ⟨hb, h10⟩)
  have hB := hk.1
  have t0 : fq_tot c B m 1 = 0 := if_neg (fun z => by have := z.2.2; omega)
  have t1 : fq_tot c B m 256 = fq_cld c B m := by
    unfold fq_tot fq_cld
    by_cases e : c = 1 ∧ m = 1 ∧ 1 ≤ B
    · rw [if_pos e, if_pos ⟨e.1, e.2.1, e.2.2, hB⟩]
    · rw [if_neg e, if_neg (fun z => e ⟨z.1, z.2.1, z.2.2.1⟩)]
  have k : ∃ n, wX_closed_18 post (nI m) bc bu nc b1 b2 b3 b4 b5 b6 b7 b8 b9 b10 b11 b12 b13 n (fq_tot c B m 1) (nI 1) := by
    refine pk_loop (σ := Unit) (fun n i _ => wX_closed_18 post (nI m) bc bu nc b1 b2 b3 b4 b5 b6 b7 b8 b9 b10 b11 b12 b13 n (fq_tot c B m i) (nI i)) (fun i _ => 1 ≤ i) 256 1 () (by omega) (Nat.le_refl 1) ?_ ?_
    · intro n _ _
      rw [← t1] at h
      exact pk_le 256 256 (fun _ => h) (fun z => absurd z (by omega))
    · intro n i _ hi hi1 hw
      have w := hw () (by omega)
      refine pk_le 256 i (fun z => absurd z (by omega)) (fun _ => fq_isC hk h10 hi h1 h2 (fun e => br_f (by decide) (nm_r (e' := fq_tot c B m (i + 1)) ?_ (nm_r (nI_1 i) w))) (fun e => br_t rfl (nm_r (nI_1 i) ?_)))
      · unfold fq_tot
        rw [if_neg (fun z => by have := z.2.2.2; have := e.2.2; omega), if_pos ⟨e.1, e.2.1, by have := e.2.2; omega, by have := e.2.2; omega⟩]
        decide
      · have t : fq_tot c B m (i + 1) = fq_tot c B m i := by
          unfold fq_tot
          by_cases g : c = 1 ∧ m = 1 ∧ 1 ≤ B ∧ B < i
          · rw [if_pos g, if_pos ⟨g.1, g.2.1, g.2.2.1, by have := g.2.2.2; omega⟩]
          · rw [if_neg g, if_neg]
            intro z
            by_cases ei : i = B
            · exact e ⟨z.1, z.2.1, ei⟩
            · exact g ⟨z.1, z.2.1, z.2.2.1, by have := z.2.2.2; omega⟩
        rw [t] at w
        exact w
  rw [t0] at k
  exact k
theorem fq_closed_b {post : Int32 → St2 → Prop} {p : Int32} (h : fq_badm p) (H : post (-1) (bc, bu, nc, a1, a2, a3, a4, a5, a6, a7, a8, a9, a10, a11, a12, a13)) : wpX_closed post (bc, bu, nc, a1, a2, a3, a4, a5, a6, a7, a8, a9, a10, a11, a12, a13) p := by
  unfold wpX_closed
  exact fq_bd_b h (br_t rfl H)
theorem fq_cset_g {post : Int32 → St2 → Prop} {m : Nat} {k : Int32} (hk : fq_ok c B) (hJ : fq_J c B bc bu a1 a10) (h1 : 1 ≤ m) (h2 : m ≤ 20) (H : fq_Q post c B (fq_cls c B m k)) : wpX_closedSet post (bc, bu, nc, a1, a2, a3, a4, a5, a6, a7, a8, a9, a10, a11, a12, a13) (nI m) k := by
  unfold wpX_closedSet
  refine fq_bd_g h1 h2 (br_f (by decide) (fq_build hk hJ (fun bc bu nc b1 b2 b3 b4 b5 b6 b7 b8 b9 b10 b11 b12 b13 hb h10 => ?_)))
  have h := H bc bu nc b1 b2 b3 b4 b5 b6 b7 b8 b9 b10 b11 b12 b13 (Or.inr ⟨hb, h10⟩)
  have hB := hk.1
  have hN : ¬ ((c = 1 ∧ m = 1 ∧ 1 ≤ B) ∧ k = 0) → post (-3) (bc, bu, nc, b1, b2, b3, b4, b5, b6, b7, b8, b9, b10, b11, b12, b13) := by
    intro z
    unfold fq_cls at h
    rw [if_neg z] at h
    exact h
  refine pk_loop (fun n i x => wX_closedSet_19 post (nI m) bc bu nc b1 b2 b3 b4 b5 b6 b7 b8 b9 b10 b11 b12 b13 n x (nI i)) (fun i x => 1 ≤ i ∧ (c = 1 ∧ m = 1 ∧ 1 ≤ B → i ≤ B → x = k) ∧ (c = 1 ∧ m = 1 ∧ 1 ≤ B → B < i → ¬ k = 0)) 256 1 k (by omega) ⟨by omega, fun _ _ => rfl, fun z g => absurd z.2.2 (by omega)⟩ ?_ ?_
  · intro n x g
    obtain ⟨_, _, g2⟩ := g
    exact pk_le 256 256 (fun _ => hN (fun z => g2 z.1 hB z.2)) (fun z => absurd z (by omega))
  · intro n i x hi g hw
    obtain ⟨gi, g1, g2⟩ := g
    refine pk_le 256 i (fun z => absurd z (by omega)) (fun _ => br_c (fun hx => hN (fun z => ?_)) (fun hx => fq_isC hk h10 hi h1 h2 (fun e => br_f (by decide) (br_c (fun hx0 => ?_) (fun hx0 => nm_e (nm_r (nI_1 i) (hw _ ⟨by omega, fun z y => ?_, fun z y => ?_⟩))))) (fun e => br_t rfl (nm_r (nI_1 i) (hw _ ⟨by omega, fun z y => g1 z (by omega), fun z y => g2 z ?_⟩)))))
    · by_cases y : i ≤ B
      · rw [g1 z.1 y, z.2] at hx
        exact absurd hx (by decide)
      · exact g2 z.1 (by omega) z.2
    · have cd : c = 1 ∧ m = 1 ∧ 1 ≤ B := ⟨e.1, e.2.1, by have := e.2.2; omega⟩
      have ek : k = 0 := by rw [← g1 cd (by have := e.2.2; omega)]; exact hx0
      unfold fq_cls at h
      rw [if_pos ⟨cd, ek⟩, ← e.2.2] at h
      exact h
    · have := e.2.2
      omega
    · rw [← g1 z (by have := e.2.2; omega)]
      exact hx0
    · by_cases ei : i = B
      · exact absurd ⟨z.1, z.2.1, ei⟩ e
      · omega
theorem fq_cset_b {post : Int32 → St2 → Prop} {p k : Int32} (h : fq_badm p) (H : post (-1) (bc, bu, nc, a1, a2, a3, a4, a5, a6, a7, a8, a9, a10, a11, a12, a13)) : wpX_closedSet post (bc, bu, nc, a1, a2, a3, a4, a5, a6, a7, a8, a9, a10, a11, a12, a13) p k := by
  unfold wpX_closedSet
  exact fq_bd_b h (br_t rfl H)
theorem fq_r60 {post : Int32 → St2 → Prop} {J : Int32 → Int32 → Prop} {x1 x2 : Int32} {i M : Nat} (hi : i < 256) (H : ∀ t, t ≤ M → J (nI t) (nI (i + 1))) (t p : Nat) (hp : p < 256) (ht : t + p ≤ M) : ∃ n, wX_rules_60 post J x1 x2 (nI i) bc bu nc a1 a2 a3 a4 a5 a6 a7 a8 a9 a10 a11 a12 a13 n (nI t) (nI p) := by
  refine loop_m (σ := Nat × Nat) (fun n s => wX_rules_60 post J x1 x2 (nI i) bc bu nc a1 a2 a3 a4 a5 a6 a7 a8 a9 a10 a11 a12 a13 n (nI s.1) (nI s.2)) (fun s => s.2 < 256 ∧ s.1 + s.2 ≤ M) (fun s => s.2) ?_ (t, p) ⟨hp, ht⟩
  intro n s h hw
  obtain ⟨t, p⟩ := s
  obtain ⟨h1, h2⟩ := h
  have hp : p < 256 := h1
  have ht : t + p ≤ M := h2
  have le : (p - 1) &&& i ≤ p - 1 := Nat.and_le_left
  refine pk_le p 0 (fun z => nm_r (nI_1 i) (H t (by omega))) (fun z => ?_)
  have e : (nI p - 1) &&& nI i = nI ((p - 1) &&& i) := by
    rw [show nI p - 1 = nI (p - 1) from pk_sub (a := p) (b := 1) (by omega), fq_and]
  have lt : ((p - 1) &&& i) < p := by omega
  exact ⟨pk_in i 256 hi, pk_in p 256 hp, br_c (fun _ => nm_r e (hw (t, (p - 1) &&& i) ⟨show (p - 1) &&& i < 256 by omega, show t + ((p - 1) &&& i) ≤ M by omega⟩ lt)) (fun _ => nm_r (nI_1 t) (nm_r e (hw (t + 1, (p - 1) &&& i) ⟨show (p - 1) &&& i < 256 by omega, show t + 1 + ((p - 1) &&& i) ≤ M by omega⟩ lt)))⟩
theorem fq_rules_g {post : Int32 → St2 → Prop} {m : Nat} {q : Int32} (hk : fq_ok c B) (hJ : fq_J c B bc bu a1 a10) (h1 : 1 ≤ m) (h2 : m ≤ 20) (hq : ¬ q < 0) (hq2 : q ≤ 100) (H : ∀ r : Int32, ¬ r = -1 → fq_Q post c B r) : wpX_rules post (bc, bu, nc, a1, a2, a3, a4, a5, a6, a7, a8, a9, a10, a11, a12, a13) (nI m) q := by
  unfold wpX_rules
  refine fq_bd_g h1 h2 (br_f (by decide) (br_f hq (br_t hq2 (fq_build hk hJ (fun bc bu nc b1 b2 b3 b4 b5 b6 b7 b8 b9 b10 b11 b12 b13 hb h10 => ?_)))))
  refine pk_loop (fun n i t => wX_rules_29 post (nI m) q bc bu nc b1 b2 b3 b4 b5 b6 b7 b8 b9 b10 b11 b12 b13 n (nI t) (nI i)) (fun i t => 1 ≤ i ∧ t ≤ 256 * i) 256 1 0 (by omega) ⟨by omega, by omega⟩ ?_ ?_
  · intro n t g
    have g2 : t ≤ 256 * 256 := g.2
    refine pk_le 256 256 (fun _ => H _ (fun z => ?_) bc bu nc b1 b2 b3 b4 b5 b6 b7 b8 b9 b10 b11 b12 b13 (Or.inr ⟨hb, h10⟩)) (fun z => absurd z (by omega))
    have hp : ¬ nI t < 0 := nI_pos (by omega)
    rw [z] at hp
    exact hp (by decide)
  · intro n i t hi g hw
    obtain ⟨g1, g2⟩ := g
    have le : (i - 1) &&& i ≤ i - 1 := Nat.and_le_left
    have e : (nI i - 1) &&& nI i = nI ((i - 1) &&& i) := by
      rw [show nI i - 1 = nI (i - 1) from pk_sub (a := i) (b := 1) (by omega), fq_and]
    exact pk_le 256 i (fun z => absurd z (by omega)) (fun _ => ⟨pk_in i 256 hi, br_c (fun _ => nm_r e (fq_r60 (M := 256 * i + 255) hi (fun t ht => hw t ⟨by omega, by omega⟩) t _ (by omega) (by omega))) (fun _ => nm_r (nI_1 i) (hw t ⟨by omega, by omega⟩))⟩)
theorem fq_rules_b {post : Int32 → St2 → Prop} {p q : Int32} (h : fq_badm p) (H : post (-1) (bc, bu, nc, a1, a2, a3, a4, a5, a6, a7, a8, a9, a10, a11, a12, a13)) : wpX_rules post (bc, bu, nc, a1, a2, a3, a4, a5, a6, a7, a8, a9, a10, a11, a12, a13) p q := by
  unfold wpX_rules
  exact fq_bd_b h (br_t rfl H)
theorem fq_rules_c {post : Int32 → St2 → Prop} {m : Nat} {q : Int32} (h1 : 1 ≤ m) (h2 : m ≤ 20) (h : q < 0 ∨ ¬ q ≤ 100) (H : post (-1) (bc, bu, nc, a1, a2, a3, a4, a5, a6, a7, a8, a9, a10, a11, a12, a13)) : wpX_rules post (bc, bu, nc, a1, a2, a3, a4, a5, a6, a7, a8, a9, a10, a11, a12, a13) (nI m) q := by
  unfold wpX_rules
  exact fq_bd_g h1 h2 (br_f (by decide) (br_c (fun _ => H) (fun h0 => br_f (h.resolve_left h0) H)))
end
end
section
/-! the law -/
theorem fq_xm (x y : Int32) : (x &&& (y ^^^ (-1))) = 0 ↔ x &&& y = x := by
  constructor
  · intro h
    apply Int32.toBitVec_inj.1
    apply BitVec.eq_of_getLsbD_eq
    intro i hi
    have e := congrArg (fun z : Int32 => z.toBitVec.getLsbD i) h
    rw [Int32.toBitVec_and, Int32.toBitVec_xor, BitVec.getLsbD_and, BitVec.getLsbD_xor, show (-1 : Int32).toBitVec = BitVec.allOnes 32 from by decide, BitVec.getLsbD_allOnes, decide_eq_true hi, show (0 : Int32).toBitVec = 0#32 from rfl, BitVec.getLsbD_zero] at e
    rw [Int32.toBitVec_and, BitVec.getLsbD_and]
    cases f : x.toBitVec.getLsbD i with
    | false => rfl
    | true =>
      rw [f] at e
      cases g : y.toBitVec.getLsbD i with
      | true => rfl
      | false =>
        rw [g] at e
        exact absurd e (by decide)
  · intro h
    apply Int32.toBitVec_inj.1
    apply BitVec.eq_of_getLsbD_eq
    intro i hi
    have e := congrArg (fun z : Int32 => z.toBitVec.getLsbD i) h
    rw [Int32.toBitVec_and, BitVec.getLsbD_and] at e
    rw [Int32.toBitVec_and, Int32.toBitVec_xor, BitVec.getLsbD_and, BitVec.getLsbD_xor, show (-1 : Int32).toBitVec = BitVec.allOnes 32 from by decide, BitVec.getLsbD_allOnes, decide_eq_true hi, show (0 : Int32).toBitVec = 0#32 from rfl, BitVec.getLsbD_zero]
    cases f : x.toBitVec.getLsbD i with
    | false => rfl
    | true =>
      rw [f] at e
      cases g : y.toBitVec.getLsbD i with
      | true => rfl
      | false =>
        rw [g] at e
        exact absurd e (by decide)
theorem fq_xs {s B : Nat} (hs : s < 256) : (nI s &&& (nI B ^^^ (-1))) = 0 ↔ s &&& B = s := by
  have h : s &&& B ≤ s := Nat.and_le_left
  rw [fq_xm, fq_and, nI_eq (by omega) (by omega)]
theorem fq_gd {p : Int32} (h0 : ¬ p < 0) (h1 : ¬ 255 < p) : ∃ n, n < 256 ∧ p = nI n := by
  obtain ⟨j, hj, e⟩ := nI_of2 (M := 255) (n := 255) (by decide) h0 (Int32.not_lt.mp h1)
  exact ⟨j, by omega, e⟩
theorem fq_gm {p : Int32} (h0 : ¬ p < 1) (h1 : ¬ 20 < p) : ∃ m, 1 ≤ m ∧ m ≤ 20 ∧ p = nI m := by
  have hp : ¬ p < 0 := by
    intro z
    exact h0 (Int32.lt_trans z (by decide))
  obtain ⟨j, hj, e⟩ := nI_of2 (M := 20) (n := 20) (by decide) hp (Int32.not_lt.mp h1)
  refine ⟨j, ?_, hj, e⟩
  rcases Nat.eq_zero_or_pos j with z | z
  · rw [e, z] at h0
    exact absurd (by decide) h0
  · exact z
/-- put and the add's answer -/
def fq_put5 (c B : Nat) (x0 x5 : Int32) : Prop := (x5 = 1 ∧ c = 1 ∧ x0 = nI B) ∨ (x5 = 0 ∧ c = 0 ∧ fq_bad x0)
/-- asked and in -/
def fq_ask (c B : Nat) (x1 x6 x7 : Int32) : Prop := (x6 = 1 ∧ ∃ s, s < 256 ∧ x1 = nI s ∧ ((x7 = 1 ∧ c = 1 ∧ s &&& B = s) ∨ (x7 = 0 ∧ ¬ (c = 1 ∧ s &&& B = s)))) ∨ (x6 = 0 ∧ fq_bad x1)
/-- level and some -/
def fq_lev (c B : Nat) (x2 x8 x9 : Int32) : Prop := (x8 = 1 ∧ ∃ m, 1 ≤ m ∧ m ≤ 20 ∧ x2 = nI m ∧ ((x9 = 1 ∧ c = 1 ∧ m = 1 ∧ 1 ≤ B) ∨ (x9 = 0 ∧ ¬ (c = 1 ∧ m = 1 ∧ 1 ≤ B)))) ∨ (x8 = 0 ∧ fq_badm x2)
def fq_ps1 : Int32 → St0 → Prop := fun r _ => r = 1
section
variable {bc bu nc : Int32} {a1 a2 a3 a4 a5 a6 a7 a8 a9 a10 a11 a12 a13 : fq_A} {B c mc ms kc ks : Nat} {x0 x1 x2 x3 x4 x5 x6 x7 x8 x9 : Int32}
theorem fq_274 {z : Int32} (h1 : (x8 = 0 ∨ x4 < 0 ∨ ¬ x4 ≤ 100) → z = 1) (h0 : ¬ (x8 = 0 ∨ x4 < 0 ∨ ¬ x4 ≤ 100) → z = 0) : wL_lawOf_274 fq_ps1 mc ms x4 x8 z kc ks :=
  br_c (fun a => br_t (h1 (Or.inl a)) rfl) (fun a => br_c (fun b => br_t (h1 (Or.inr (Or.inl b))) rfl) (fun b => br_c (fun d => br_t (h0 (fun t => t.elim a (fun t => t.elim b (fun t => t d)))) rfl) (fun d => br_t (h1 (Or.inr (Or.inr d))) rfl)))
theorem fq_252 {z : Int32} (hk : fq_ok c B) (hl : fq_lev c B x2 x8 x9) (hJ : fq_J c B bc bu a1 a10) : wL_lawOf_252 fq_ps1 mc ms x2 x4 x8 z z kc ks bc bu nc a1 a2 a3 a4 a5 a6 a7 a8 a9 a10 a11 a12 a13 := by
  refine br_t rfl ?_
  rcases hl with ⟨h8, m, m1, m2, e2, _⟩ | ⟨h8, hb⟩
  · subst h8 e2
    by_cases hq : x4 < 0
    · exact fq_rules_c m1 m2 (Or.inl hq) (br_t rfl (fq_274 (fun _ => rfl) (fun t => absurd (Or.inr (Or.inl hq)) t)))
    · by_cases hq2 : x4 ≤ 100
      · refine fq_rules_g hk hJ m1 m2 hq hq2 (fun r hr bc bu nc b1 b2 b3 b4 b5 b6 b7 b8 b9 b10 b11 b12 b13 _ => br_f hr (fq_274 (fun t => ?_) (fun _ => rfl)))
        rcases t with t | t | t
        · exact absurd t (by decide)
        · exact absurd t hq
        · exact absurd hq2 t
      · exact fq_rules_c m1 m2 (Or.inr hq2) (br_t rfl (fq_274 (fun _ => rfl) (fun t => absurd (Or.inr (Or.inr hq2)) t)))
  · exact fq_rules_b hb (br_t rfl (fq_274 (fun _ => rfl) (fun t => absurd (Or.inl h8) t)))
theorem fq_216 {z : Int32} (hk : fq_ok c B) (h0 : c = 1 → x0 = nI B) (hl : fq_lev c B x2 x8 x9) (hJ : fq_J c B bc bu a1 a10) : wL_lawOf_216 fq_ps1 mc ms x0 x2 x3 x4 x8 x9 z z kc ks bc bu nc a1 a2 a3 a4 a5 a6 a7 a8 a9 a10 a11 a12 a13 := by
  refine br_t rfl ?_
  have hl' := hl
  rcases hl with ⟨h8, m, m1, m2, e2, h9⟩ | ⟨h8, hb⟩
  · subst e2
    refine fq_cset_g hk hJ m1 m2 (fun bc bu nc b1 b2 b3 b4 b5 b6 b7 b8 b9 b10 b11 b12 b13 hJ => br_f (by rw [h8]; decide) ?_)
    rcases h9 with ⟨h9, hc⟩ | ⟨h9, hc⟩
    · refine br_f (by rw [h9]; decide) (br_c (fun hx => ?_) (fun hx => ?_))
      · rw [show fq_cls c B m x3 = x0 from by rw [h0 hc.1]; exact if_pos ⟨hc, hx⟩]
        exact fq_252 hk hl' hJ
      · rw [show fq_cls c B m x3 = -3 from if_neg (fun t => hx t.2)]
        exact fq_252 hk hl' hJ
    · refine br_t h9 ?_
      rw [show fq_cls c B m x3 = -3 from if_neg (fun t => hc t.1)]
      exact fq_252 hk hl' hJ
  · exact fq_cset_b hb (br_t h8 (fq_252 hk hl' hJ))
theorem fq_186 {z : Int32} (hk : fq_ok c B) (h0 : c = 1 → x0 = nI B) (hl : fq_lev c B x2 x8 x9) (hJ : fq_J c B bc bu a1 a10) : wL_lawOf_186 fq_ps1 mc ms x0 x2 x3 x4 x8 x9 z z kc ks bc bu nc a1 a2 a3 a4 a5 a6 a7 a8 a9 a10 a11 a12 a13 := by
  refine br_t rfl ?_
  have hl' := hl
  rcases hl with ⟨h8, m, m1, m2, e2, h9⟩ | ⟨h8, hb⟩
  · subst e2
    refine fq_closed_g hk hJ m1 m2 (fun bc bu nc b1 b2 b3 b4 b5 b6 b7 b8 b9 b10 b11 b12 b13 hJ => br_f (by rw [h8]; decide) ?_)
    rcases h9 with ⟨h9, hc⟩ | ⟨h9, hc⟩
    · refine br_f (by rw [h9]; decide) ?_
      rw [show fq_cld c B m = 1 from if_pos hc]
      exact fq_216 hk h0 hl' hJ
    · refine br_t h9 ?_
      rw [show fq_cld c B m = 0 from if_neg hc]
      exact fq_216 hk h0 hl' hJ
  · exact fq_closed_b hb (br_t h8 (fq_216 hk h0 hl' hJ))
theorem fq_155 {z : Int32} (hk : fq_ok c B) (h0 : c = 1 → x0 = nI B) (ha : fq_ask c B x1 x6 x7) (hl : fq_lev c B x2 x8 x9) (hJ : fq_J c B bc bu a1 a10) : wL_lawOf_155 fq_ps1 mc ms x0 x1 x2 x3 x4 x6 x7 x8 x9 z z kc ks bc bu nc a1 a2 a3 a4 a5 a6 a7 a8 a9 a10 a11 a12 a13 := by
  refine br_t rfl ?_
  rcases ha with ⟨h6, s, hs, e1, h7⟩ | ⟨h6, hb⟩
  · subst e1
    refine fq_closure_g hk hJ hs (fun bc bu nc b1 b2 b3 b4 b5 b6 b7 b8 b9 b10 b11 b12 b13 hJ => br_f (by rw [h6]; decide) ?_)
    rcases h7 with ⟨h7, hc⟩ | ⟨h7, hc⟩
    · refine br_f (by rw [h7]; decide) ?_
      rw [show fq_clo c B s = x0 from by rw [h0 hc.1]; exact if_pos hc]
      exact fq_186 hk h0 hl hJ
    · refine br_t h7 ?_
      rw [show fq_clo c B s = -3 from if_neg hc]
      exact fq_186 hk h0 hl hJ
  · exact fq_closure_b hb (br_t h6 (fq_186 hk h0 hl hJ))
theorem fq_125 {z : Int32} (hk : fq_ok c B) (h0 : c = 1 → x0 = nI B) (ha : fq_ask c B x1 x6 x7) (hl : fq_lev c B x2 x8 x9) (hJ : fq_J c B bc bu a1 a10) : wL_lawOf_125 fq_ps1 mc ms x0 x1 x2 x3 x4 x6 x7 x8 x9 z z kc ks bc bu nc a1 a2 a3 a4 a5 a6 a7 a8 a9 a10 a11 a12 a13 := by
  refine br_t rfl ?_
  have ha' := ha
  rcases ha with ⟨h6, s, hs, e1, h7⟩ | ⟨h6, hb⟩
  · subst e1
    refine fq_count_g hk hJ hs (fun bc bu nc b1 b2 b3 b4 b5 b6 b7 b8 b9 b10 b11 b12 b13 hJ => br_f (by rw [h6]; decide) ?_)
    rcases h7 with ⟨h7, hc⟩ | ⟨h7, hc⟩
    · refine br_f (by rw [h7]; decide) ?_
      rw [fq_cnT hc.2, hc.1]
      exact fq_155 hk h0 ha' hl hJ
    · refine br_t h7 ?_
      have e : fq_cn c B s = 0 := by
        by_cases g : s &&& B = s
        · have hc0 : c = 0 := by
            have h1 := hk.2.1
            have h2 : ¬ c = 1 := fun t => hc ⟨t, g⟩
            omega
          rw [fq_cnT g, hc0]
          rfl
        · exact fq_cnF g
      rw [e]
      exact fq_155 hk h0 ha' hl hJ
  · exact fq_count_b hb (br_t h6 (fq_155 hk h0 ha' hl hJ))
theorem fq_98 (hk : fq_ok c B) (hp : fq_put5 c B x0 x5) (ha : fq_ask c B x1 x6 x7) (hl : fq_lev c B x2 x8 x9) : wL_lawOf_98 fq_ps1 14 2435 x0 x1 x2 x3 x4 x5 x6 x7 x8 x9 0 0 := by
  refine And.intro (by decide) ⟨by decide, 13, 2419, by decide, by decide, ?_⟩
  refine And.intro (by decide) ⟨by decide, by decide, by decide, by decide, by decide, by decide, by decide, by decide, by decide, by decide, by decide, by decide, by decide, by decide, by decide, by decide, by decide, by decide, by decide, by decide, by decide, by decide, by decide, by decide, by decide, ?_⟩
  refine br_t (show (0 : Int32) < 20 by decide) ?_
  rcases hp with ⟨h5, hc, e0⟩ | ⟨h5, hc, hb⟩
  · subst e0
    refine fq_set_g hk.1 (br_f (by decide) ⟨pk_in 0 20 (by omega), nm_r (e' := upd (fun _ => 0) 0 (nI B)) ?_ (nm_r (e' := 1) (by decide) (br_f (by rw [h5]; decide) (fq_125 hk (fun _ => rfl) ha hl (Or.inl ⟨rfl, by rw [hc]; rfl, fun _ => pk_us⟩))))⟩)
    rw [sb_cl0, fq_s16 B hk.1]
  · exact fq_set_b hb (br_t rfl (br_t h5 (fq_125 hk (fun z => absurd z (by omega)) ha hl (Or.inl ⟨rfl, by rw [hc]; rfl, fun z => absurd z (by omega)⟩))))
theorem fq_77 (hk : fq_ok c B) (hp : fq_put5 c B x0 x5) (ha : fq_ask c B x1 x6 x7) (hl : (x8 = 1 ∧ ∃ m, 1 ≤ m ∧ m ≤ 20 ∧ x2 = nI m) ∨ (x8 = 0 ∧ fq_badm x2)) : wL_lawOf_77 fq_ps1 14 2435 x0 x1 x2 x3 x4 x5 x6 x7 x8 0 0 := by
  have n0 : (∀ m, x2 = nI m → 1 ≤ m → m ≤ 20 → ¬ (c = 1 ∧ m = 1 ∧ 1 ≤ B)) → fq_lev c B x2 x8 0 := by
    intro h
    rcases hl with ⟨h8, m, m1, m2, e⟩ | ⟨h8, hb⟩
    · exact Or.inl ⟨h8, m, m1, m2, e, Or.inr ⟨rfl, h m e m1 m2⟩⟩
    · exact Or.inr ⟨h8, hb⟩
  refine br_c (fun h5 => fq_98 hk hp ha (n0 (fun m _ _ _ t => ?_))) (fun h5 => br_c (fun h0 => fq_98 hk hp ha (n0 (fun m _ _ _ t => ?_))) (fun h0 => br_c (fun h2 => fq_98 hk hp ha ?_) (fun h2 => fq_98 hk hp ha (n0 (fun m e _ _ t => h2 ?_)))))
  · rcases hp with ⟨g5, _, _⟩ | ⟨_, hc, _⟩
    · rw [g5] at h5
      exact absurd h5 (by decide)
    · have := t.1
      omega
  · rcases hp with ⟨_, _, e0⟩ | ⟨g5, _, _⟩
    · rw [e0] at h0
      exact nI_nle (n := B) t.2.2 (by have := hk.1; omega) h0
    · exact absurd g5 h5
  · rcases hp with ⟨_, hc, e0⟩ | ⟨g5, _, _⟩
    · rcases hl with ⟨h8, m, m1, m2, e⟩ | ⟨h8, hb⟩
      · refine Or.inl ⟨h8, m, m1, m2, e, Or.inl ⟨rfl, hc, ?_, ?_⟩⟩
        · rw [e] at h2
          exact (nI_eq (a := m) (b := 1) (by omega) (by omega)).mp h2
        · rcases Nat.eq_zero_or_pos B with z | z
          · rw [e0, z] at h0
            exact absurd (by decide) h0
          · exact z
      · rw [h2] at hb
        rcases hb with hb | hb
        · exact absurd hb (by decide)
        · exact absurd hb (by decide)
    · exact absurd g5 h5
  · rw [e, t.2.1]
    rfl
theorem fq_59 (hk : fq_ok c B) (hp : fq_put5 c B x0 x5) (ha : fq_ask c B x1 x6 x7) : wL_lawOf_59 fq_ps1 14 2435 x0 x1 x2 x3 x4 x5 x6 x7 0 0 :=
  br_c (fun h => fq_77 hk hp ha (Or.inr ⟨rfl, Or.inl h⟩)) (fun h => br_c (fun h2 => fq_77 hk hp ha (Or.inr ⟨rfl, Or.inr h2⟩)) (fun h2 => fq_77 hk hp ha (Or.inl ⟨rfl, fq_gm h h2⟩)))
theorem fq_34 (hk : fq_ok c B) (hp : fq_put5 c B x0 x5) (ha : (x6 = 1 ∧ ∃ s, s < 256 ∧ x1 = nI s) ∨ (x6 = 0 ∧ fq_bad x1)) : wL_lawOf_34 fq_ps1 14 2435 x0 x1 x2 x3 x4 x5 x6 0 0 := by
  have n0 : (∀ s, s < 256 → x1 = nI s → x6 = 1 → ¬ (c = 1 ∧ s &&& B = s)) → fq_ask c B x1 x6 0 := by
    intro h
    rcases ha with ⟨h6, s, hs, e⟩ | ⟨h6, hb⟩
    · exact Or.inl ⟨h6, s, hs, e, Or.inr ⟨rfl, h s hs e h6⟩⟩
    · exact Or.inr ⟨h6, hb⟩
  refine br_c (fun h5 => fq_59 hk hp (n0 (fun s _ _ _ t => ?_))) (fun h5 => br_c (fun h6 => fq_59 hk hp (n0 (fun s _ _ g t => ?_))) (fun h6 => br_c (fun h => fq_59 hk hp ?_) (fun h => fq_59 hk hp (n0 (fun s hs e _ t => ?_)))))
  · rcases hp with ⟨g5, _, _⟩ | ⟨_, hc, _⟩
    · rw [g5] at h5
      exact absurd h5 (by decide)
    · have := t.1
      omega
  · rw [g] at h6
    exact absurd h6 (by decide)
  · rcases hp with ⟨_, hc, e0⟩ | ⟨g5, _, _⟩
    · rcases ha with ⟨h6, s, hs, e⟩ | ⟨g6, hb⟩
      · rw [e, e0] at h
        exact Or.inl ⟨h6, s, hs, e, Or.inl ⟨rfl, hc, (fq_xs hs).mp h⟩⟩
      · exact absurd g6 h6
    · exact absurd g5 h5
  · rcases hp with ⟨_, hc, e0⟩ | ⟨g5, _, _⟩
    · rw [e, e0] at h
      exact h ((fq_xs hs).mpr t.2)
    · exact absurd g5 h5
theorem fq_16 (hk : fq_ok c B) (hp : fq_put5 c B x0 x5) : wL_lawOf_16 fq_ps1 14 2435 x0 x1 x2 x3 x4 x5 0 0 :=
  br_c (fun h => fq_34 hk hp (Or.inr ⟨rfl, Or.inl h⟩)) (fun h => br_c (fun h2 => fq_34 hk hp (Or.inr ⟨rfl, Or.inr h2⟩)) (fun h2 => fq_34 hk hp (Or.inl ⟨rfl, fq_gd h h2⟩)))
end
theorem fq_lawOf (x0 x1 x2 x3 x4 : Int32) : wpL_lawOf fq_ps1 14 2435 () x0 x1 x2 x3 x4 := by
  have k0 : fq_ok 0 0 := ⟨by omega, by omega, fun _ => rfl⟩
  refine br_c (fun h => fq_16 k0 (Or.inr ⟨rfl, rfl, Or.inl h⟩)) (fun h => br_c (fun h2 => fq_16 k0 (Or.inr ⟨rfl, rfl, Or.inr h2⟩)) (fun h2 => ?_))
  obtain ⟨B, hB, e⟩ := fq_gd h h2
  exact fq_16 (c := 1) (B := B) ⟨hB, by omega, fun z => absurd z (by omega)⟩ (Or.inl ⟨rfl, rfl, e⟩)
theorem fq_cell {post : Int32 → Prop} {xs : Nat → Int32} {L : Nat} (hL : L ≤ 5) (i : Nat) (hi : i < 5) (H : ∀ r, post r) : wpL_cellAt post L xs () (nI i) :=
  pk_le L i (fun _ => H _) (fun z => ⟨pk_in i L z, H _⟩)
end
section
theorem i_vc (xs : Nat → Int32) (L : Nat) (hL : L ≤ 5) : wpL_law (fun r => r = 1) L xs :=
  fq_cell hL 0 (by omega) (fun r1 => fq_cell hL 1 (by omega) (fun r2 => fq_cell hL 2 (by omega) (fun r3 => fq_cell hL 3 (by omega) (fun r4 => fq_cell hL 4 (by omega) (fun r5 => ⟨14, 2435, by decide, by decide, fq_lawOf r1 r2 r3 r4 r5⟩)))))
end
