section
/-! ===== bits of an Int32 (the family 'bt' of the given BITS rows, renamed; a starting text) ===== -/
def lj_bt (x : Int32) (i : Nat) : Bool := x.toBitVec.getLsbD i
theorem lj_bext {x y : Int32} (h : ∀ i, i < 32 → lj_bt x i = lj_bt y i) : x = y := Int32.toBitVec_inj.mp (BitVec.eq_of_getLsbD_eq (fun i hi => h i hi))
theorem lj_bor (x y : Int32) (i : Nat) : lj_bt (x ||| y) i = (lj_bt x i || lj_bt y i) := by unfold lj_bt; rw [Int32.toBitVec_or, BitVec.getLsbD_or]
theorem lj_band (x y : Int32) (i : Nat) : lj_bt (x &&& y) i = (lj_bt x i && lj_bt y i) := by unfold lj_bt; rw [Int32.toBitVec_and, BitVec.getLsbD_and]
theorem lj_bxor (x y : Int32) (i : Nat) : lj_bt (x ^^^ y) i = (lj_bt x i ^^ lj_bt y i) := by unfold lj_bt; rw [Int32.toBitVec_xor, BitVec.getLsbD_xor]
theorem lj_bm1 : ∀ i, i < 32 → lj_bt (-1) i = true := by decide +kernel
theorem lj_b0 (i : Nat) : lj_bt 0 i = false := BitVec.getLsbD_zero
theorem lj_b1 : ∀ i, i < 32 → lj_bt 1 i = decide (i = 0) := by decide +kernel
theorem lj_sl : ∀ n, n < 32 → ((nI n &&& 31).toBitVec.smod 32).toNat = n := by decide +kernel
theorem lj_bsshr (n : Nat) (hn : n < 32) (x : Int32) {i : Nat} (hi : i < 32) : lj_bt (x >>> (nI n &&& 31)) i = if n + i < 32 then lj_bt x (n + i) else lj_bt x 31 := by
  unfold lj_bt
  rw [Int32.toBitVec_shiftRight]
  show (x.toBitVec.sshiftRight ((nI n &&& 31).toBitVec.smod 32).toNat).getLsbD i = _
  rw [lj_sl n hn, BitVec.getLsbD_sshiftRight, BitVec.msb_eq_getLsbD_last]
  simp [hi]
/-! ===== one bit: 1 << p ===== -/
def lj_sg (p : Nat) : Int32 := (1 : Int32) <<< (nI p &&& 31)
theorem lj_sgb : ∀ p, p < 32 → ∀ t, t < 32 → lj_bt (lj_sg p) t = decide (t = p) := by decide +kernel
/-- the test of one bit -/
theorem lj_tst (m : Int32) {t : Nat} (ht : t < 32) : ((m >>> (nI t &&& 31)) &&& 1) = if lj_bt m t = true then 1 else 0 := by
  apply lj_bext
  intro i hi
  rw [lj_band, lj_bsshr t ht m hi, lj_b1 i hi]
  by_cases e : i = 0
  · subst e
    rw [Nat.add_zero, if_pos ht]
    by_cases g : lj_bt m t = true
    · rw [if_pos g, g]; rfl
    · rw [if_neg g, lj_b0, Bool.eq_false_iff.mpr g]; rfl
  · rw [decide_eq_false e, Bool.and_false]
    by_cases g : lj_bt m t = true
    · rw [if_pos g, lj_b1 i hi, decide_eq_false e]
    · rw [if_neg g, lj_b0]
theorem lj_and0 {m : Int32} {p : Nat} (hp : p < 32) (h : lj_bt m p = false) : (m &&& lj_sg p) = 0 := by
  apply lj_bext
  intro i hi
  rw [lj_band, lj_sgb p hp i hi, lj_b0]
  by_cases e : i = p
  · rw [e, h, Bool.false_and]
  · rw [decide_eq_false e, Bool.and_false]
theorem lj_and1 {m : Int32} {p : Nat} (hp : p < 32) (h : lj_bt m p = true) : ¬ (m &&& lj_sg p) = 0 := by
  intro z
  have h2 : lj_bt (m &&& lj_sg p) p = lj_bt 0 p := by rw [z]
  rw [lj_band, lj_sgb p hp p hp, lj_b0, h] at h2
  simp at h2
theorem lj_b2 {p q : Nat} (hp : p < 30) (hq : q < 30) {t : Nat} (ht : t < 32) : lj_bt (lj_sg p ||| lj_sg q) t = (decide (t = p) || decide (t = q)) := by
  rw [lj_bor, lj_sgb p (by omega) t ht, lj_sgb q (by omega) t ht]
/-! normal forms of the draft -/
theorem lj_z0 (p : Nat) : (0 : Int32) ||| lj_sg p = lj_sg p := by
  apply lj_bext
  intro i hi
  rw [lj_bor, lj_b0, Bool.false_or]
theorem lj_zd {p : Nat} (hp : p < 30) : lj_sg p &&& (lj_sg p ^^^ (-1)) = 0 := by
  apply lj_bext
  intro i hi
  rw [lj_band, lj_bxor, lj_bm1 i hi, lj_b0]
  cases lj_bt (lj_sg p) i <;> rfl
theorem lj_zp {p q : Nat} (hp : p < 30) (hq : q < 30) (h : p ≠ q) : (lj_sg p ||| lj_sg q) &&& (lj_sg q ^^^ (-1)) = lj_sg p := by
  apply lj_bext
  intro i hi
  rw [lj_band, lj_bor, lj_bxor, lj_bm1 i hi, lj_sgb p (by omega) i hi, lj_sgb q (by omega) i hi]
  by_cases e : i = p
  · rw [decide_eq_true e, decide_eq_false (show ¬ i = q by omega)]; rfl
  · rw [decide_eq_false e]
    cases decide (i = q) <;> rfl
/-! what two masks have in common -/
theorem lj_aa (m : Int32) : m &&& m = m := by
  apply lj_bext
  intro i hi
  rw [lj_band, Bool.and_self]
theorem lj_a11 {p q : Nat} (hp : p < 30) (hq : q < 30) (h : p ≠ q) : lj_sg p &&& lj_sg q = 0 := by
  apply lj_and0 (by omega)
  rw [lj_sgb p (by omega) q (by omega), decide_eq_false (show ¬ q = p by omega)]
theorem lj_a21 {p q : Nat} (hp : p < 30) (hq : q < 30) : (lj_sg p ||| lj_sg q) &&& lj_sg p = lj_sg p := by
  apply lj_bext
  intro i hi
  rw [lj_band, lj_bor]
  cases lj_bt (lj_sg p) i <;> cases lj_bt (lj_sg q) i <;> rfl
theorem lj_a21' {p q : Nat} (hp : p < 30) (hq : q < 30) : (lj_sg p ||| lj_sg q) &&& lj_sg q = lj_sg q := by
  apply lj_bext
  intro i hi
  rw [lj_band, lj_bor]
  cases lj_bt (lj_sg p) i <;> cases lj_bt (lj_sg q) i <;> rfl
theorem lj_a12 {p q : Nat} (hp : p < 30) (hq : q < 30) : lj_sg p &&& (lj_sg p ||| lj_sg q) = lj_sg p := by
  apply lj_bext
  intro i hi
  rw [lj_band, lj_bor]
  cases lj_bt (lj_sg p) i <;> cases lj_bt (lj_sg q) i <;> rfl
theorem lj_a210 {p q r : Nat} (hp : p < 30) (hq : q < 30) (hr : r < 30) (h : r ≠ p) (h2 : r ≠ q) : (lj_sg p ||| lj_sg q) &&& lj_sg r = 0 := by
  apply lj_and0 (by omega)
  rw [lj_b2 hp hq (by omega), decide_eq_false h, decide_eq_false h2]; rfl
theorem lj_a22 {p q r : Nat} (hp : p < 30) (hq : q < 30) (hr : r < 30) (h2 : r ≠ q) : (lj_sg p ||| lj_sg q) &&& (lj_sg p ||| lj_sg r) = lj_sg p := by
  apply lj_bext
  intro i hi
  rw [lj_band, lj_b2 hp hq hi, lj_b2 hp hr hi, lj_sgb p (by omega) i hi]
  by_cases e : i = p
  · rw [decide_eq_true e]; rfl
  · rw [decide_eq_false e]
    by_cases e2 : i = q
    · rw [decide_eq_false (show ¬ i = r by omega), Bool.or_false, Bool.and_false]
    · rw [decide_eq_false e2]; rfl
/-! ===== ones ===== -/
def lj_ones (p0 : Int32) : Int32 :=
  let x1_1 := p0 - (((p0.toUInt32 >>> ((1 : Int32).toUInt32 &&& Int32.toUInt32 31)).toInt32) &&& 1431655765)
  let x1_2 := (x1_1 &&& 858993459) + (((x1_1.toUInt32 >>> ((2 : Int32).toUInt32 &&& Int32.toUInt32 31)).toInt32) &&& 858993459)
  let x1_3 := (x1_2 + ((x1_2.toUInt32 >>> ((4 : Int32).toUInt32 &&& Int32.toUInt32 31)).toInt32)) &&& 252645135
  ((x1_3 * 16843009).toUInt32 >>> ((24 : Int32).toUInt32 &&& Int32.toUInt32 31)).toInt32
theorem lj_wones {post : Int32 → Prop} {x r : Int32} (h : lj_ones x = r) (hp : post r) : wpX_ones post () x := by
  unfold wpX_ones
  intro x1 e1 x2 e2 x3 e3
  subst e1; subst e2; subst e3
  have h' : lj_ones x = r := h
  rw [← h'] at hp
  exact hp
theorem lj_o0 : lj_ones 0 = nI 0 := by decide +kernel
theorem lj_o1 : ∀ p, p < 30 → lj_ones (lj_sg p) = nI 1 := by decide +kernel
theorem lj_o2 : ∀ p, p < 30 → ∀ q, q < 30 → p ≠ q → lj_ones (lj_sg p ||| lj_sg q) = nI 2 := by decide +kernel
theorem lj_orow : ∀ a, a < 2 → ∀ k, k < 4 → lj_ones (((nI k).toUInt32 >>> ((nI a + 1).toUInt32 &&& Int32.toUInt32 31)).toInt32) = nI (k / 2 ^ (a + 1)) := by decide +kernel
theorem lj_row1 : ∀ k, k < 4 → ((nI k >>> ((1 : Int32) &&& 31)) &&& 1) = nI (k / 2) := by decide +kernel
theorem lj_cb : ∀ b, b < 2 → ∀ w, w < 4 → ((nI w >>> (nI b &&& 31)) &&& 1) = nI (w / 2 ^ b % 2) := by decide +kernel
theorem lj_or1 : ∀ b, b < 2 → ∀ k, k < 2 ^ b → (nI k ||| ((1 : Int32) <<< (nI b &&& 31))) = nI (k + 2 ^ b) := by decide +kernel
theorem lj_or2 : ∀ r, r < 2 → ∀ v, v < 2 ^ (r + 1) → (nI v ||| ((1 : Int32) <<< (nI r &&& 31))) = nI (if v < 2 ^ r then v + 2 ^ r else v) := by decide +kernel
theorem lj_or4 : ∀ v, v < 4 → ∀ w, w < 4 → (nI v ||| nI w) = nI (v ||| w) ∧ v ||| w < 4 ∧ (((v ||| w) / 2 = 1) ↔ (v / 2 = 1 ∨ w / 2 = 1)) := by decide +kernel
theorem lj_ix (L k : Nat) : (12 : Int32) * nI L + nI k = nI (12 * L + k) := by
  rw [show (12 : Int32) = nI 12 from rfl, pk_mul, nI_add]
theorem lj_ix1 (L k : Nat) : (12 : Int32) * nI L + nI (k + 1) - 1 = nI (12 * L + k) := by
  rw [lj_ix, ← Nat.add_assoc, nI_pred]
end
section
/-! ===== counting, and the rank of a token ===== -/
def lj_cnt (P : Nat → Bool) : Nat → Nat
  | 0 => 0
  | n + 1 => lj_cnt P n + (if P n = true then 1 else 0)
theorem lj_cnt_le (P : Nat → Bool) (n : Nat) : lj_cnt P n ≤ n := by
  induction n with
  | zero => exact Nat.le_refl 0
  | succ n ih =>
    show lj_cnt P n + (if P n = true then 1 else 0) ≤ n + 1
    split <;> omega
theorem lj_cnt_mono {P Q : Nat → Bool} (n : Nat) (h : ∀ s, s < n → P s = true → Q s = true) : lj_cnt P n ≤ lj_cnt Q n := by
  induction n with
  | zero => exact Nat.le_refl 0
  | succ n ih =>
    have h1 := ih (fun s hs => h s (by omega))
    have h2 := h n (by omega)
    show lj_cnt P n + (if P n = true then 1 else 0) ≤ lj_cnt Q n + (if Q n = true then 1 else 0)
    by_cases c : P n = true
    · rw [if_pos c, if_pos (h2 c)]; omega
    · rw [if_neg c]; omega
theorem lj_cnt_lt {P Q : Nat → Bool} (n : Nat) (h : ∀ s, s < n → P s = true → Q s = true) (k : Nat) (hk : k < n) (hq : Q k = true) (hp : ¬ P k = true) : lj_cnt P n < lj_cnt Q n := by
  induction n with
  | zero => omega
  | succ n ih =>
    show lj_cnt P n + (if P n = true then 1 else 0) < lj_cnt Q n + (if Q n = true then 1 else 0)
    by_cases e : k = n
    · subst e
      have h1 := lj_cnt_mono k (fun s hs => h s (by omega))
      rw [if_pos hq, if_neg hp]; omega
    · have h1 := ih (fun s hs => h s (by omega)) (by omega)
      have h2 := h n (by omega)
      by_cases c : P n = true
      · rw [if_pos c, if_pos (h2 c)]; omega
      · rw [if_neg c]; omega
/-- s stands ahead of t -/
def lj_pr (K : Nat → Int32) (t s : Nat) : Bool := decide ((K s).toInt < (K t).toInt ∨ ((K s).toInt = (K t).toInt ∧ s < t))
def lj_rk (K : Nat → Int32) (t : Nat) : Nat := lj_cnt (lj_pr K t) 30
theorem lj_pr_t {K : Nat → Int32} {t s : Nat} (h : (K s).toInt < (K t).toInt ∨ ((K s).toInt = (K t).toInt ∧ s < t)) : lj_pr K t s = true := decide_eq_true h
theorem lj_pr_f {K : Nat → Int32} {t s : Nat} (h : ¬ ((K s).toInt < (K t).toInt ∨ ((K s).toInt = (K t).toInt ∧ s < t))) : ¬ lj_pr K t s = true := by
  intro z
  exact h (of_decide_eq_true z)
theorem lj_rk_lt (K : Nat → Int32) {t : Nat} (ht : t < 30) : lj_rk K t < 30 := by
  have h := lj_cnt_lt (P := lj_pr K t) (Q := fun _ => true) 30 (fun s _ _ => rfl) t ht rfl (lj_pr_f (by omega))
  have h2 := lj_cnt_le (fun _ => true) 30
  unfold lj_rk
  omega
theorem lj_rk_mono {K : Nat → Int32} {s t : Nat} (hs : s < 30) (h : (K s).toInt < (K t).toInt ∨ ((K s).toInt = (K t).toInt ∧ s < t)) : lj_rk K s < lj_rk K t := by
  refine lj_cnt_lt 30 (fun x _ hx => ?_) s hs (lj_pr_t h) (lj_pr_f (by omega))
  have hx' := of_decide_eq_true hx
  exact lj_pr_t (by omega)
theorem lj_rk_inj {K : Nat → Int32} {s t : Nat} (hs : s < 30) (ht : t < 30) (h : lj_rk K s = lj_rk K t) : s = t := by
  by_cases c1 : (K s).toInt < (K t).toInt ∨ ((K s).toInt = (K t).toInt ∧ s < t)
  · have := lj_rk_mono hs c1; omega
  · by_cases c2 : (K t).toInt < (K s).toInt ∨ ((K t).toInt = (K s).toInt ∧ t < s)
    · have := lj_rk_mono ht c2; omega
    · omega
theorem lj_fill {f s : Nat → Int32} {i : Nat} {x : Int32} (h : ∀ j, j < i → s j = f j) (hx : x = f i) : ∀ j, j < i + 1 → upd s i x j = f j := by
  intro j hj
  by_cases e : j = i
  · rw [e, pk_us, hx]
  · rw [pk_un e]
    exact h j (by omega)
section
variable {post : St2 → Prop} {d ds c T U cu : Int32} {a1 a2 a3 a4 a5 a6 a7 a8 : Nat → Int32}
theorem lj_68 {J : Int32 → (Nat → Int32) → (Nat → Int32) → (Nat → Int32) → (Nat → Int32) → (Nat → Int32) → (Nat → Int32) → (Nat → Int32) → (Nat → Int32) → Prop} {t : Nat} (ht : t < 30)
    (H : J (nI (t + 1)) a1 a2 a3 (upd a4 t (nI (lj_rk a5 t))) a5 a6 a7 a8) : ∃ n, wX_rankTokens_68 post J (nI t) d ds c T U cu a1 a2 a3 a4 a5 a6 a7 a8 n 0 0 := by
  refine pk_loop (σ := Unit) (fun n s _ => wX_rankTokens_68 post J (nI t) d ds c T U cu a1 a2 a3 a4 a5 a6 a7 a8 n (nI (lj_cnt (lj_pr a5 t) s)) (nI s)) (fun _ _ => True) 30 0 () (by omega) trivial
    (fun n _ _ => pk_le 30 30 (fun _ => ⟨pk_in t 30 ht, nm_r (by rw [nI_clamp (by omega)]; rfl) (nm_r (nI_1 t) H)⟩) (fun z => absurd z (by omega))) ?_
  intro n s _ hs _ hw
  have t1 : wX_rankTokens_68 post J (nI t) d ds c T U cu a1 a2 a3 a4 a5 a6 a7 a8 n (nI (lj_cnt (lj_pr a5 t) s + (if lj_pr a5 t s = true then 1 else 0))) (nI (s + 1)) := hw () trivial
  show wX_rankTokens_68 post J (nI t) d ds c T U cu a1 a2 a3 a4 a5 a6 a7 a8 (n + 1) (nI (lj_cnt (lj_pr a5 t) s)) (nI s)
  refine pk_le 30 s (fun z => absurd z (by omega)) (fun _ => ⟨pk_in s 30 hs, pk_in t 30 ht, ?_⟩)
  rw [nI_clamp (show s < 2 ^ 31 by omega), nI_clamp (show t < 2 ^ 31 by omega)]
  refine br_c (fun c1 => ?_) (fun c1 => ⟨pk_in s 30 hs, pk_in t 30 ht, br_c (fun c2 => ?_) (fun c2 => ?_)⟩)
  · rw [if_pos (lj_pr_t (Or.inl (Int32.lt_iff_toInt_lt.mp c1)))] at t1
    exact nm_r (nI_1 _) (nm_r (nI_1 s) t1)
  · have e : (a5 s).toInt = (a5 t).toInt := by rw [c2]
    refine pk_le t s (fun z => ?_) (fun z => ?_)
    · rw [if_neg (lj_pr_f (by omega))] at t1
      exact nm_r (nI_1 s) t1
    · rw [if_pos (lj_pr_t (by omega))] at t1
      exact nm_r (nI_1 _) (nm_r (nI_1 s) t1)
  · have e1 : ¬ (a5 s).toInt < (a5 t).toInt := fun z => c1 (Int32.lt_iff_toInt_lt.mpr z)
    have e2 : ¬ (a5 s).toInt = (a5 t).toInt := fun z => c2 (Int32.toInt_inj.mp z)
    rw [if_neg (lj_pr_f (by omega))] at t1
    exact nm_r (nI_1 s) t1
theorem lj_58 (H : ∀ s, (∀ t, t < 30 → s t = nI (lj_rk a5 t)) → post (d, ds, c, T, U, cu, a1, a2, a3, s, a5, a6, a7, a8)) : ∃ n, wX_rankTokens_58 post d ds c T U cu n 0 a1 a2 a3 a4 a5 a6 a7 a8 :=
  pk_loop (fun n t s => wX_rankTokens_58 post d ds c T U cu n (nI t) a1 a2 a3 s a5 a6 a7 a8) (fun t s => ∀ j, j < t → s j = nI (lj_rk a5 j)) 30 0 a4 (by omega) (fun j hj => absurd hj (by omega))
    (fun n s h => pk_le 30 30 (fun _ => H s h) (fun z => absurd z (by omega)))
    (fun n t s ht h hw => pk_le 30 t (fun z => absurd z (by omega)) (fun _ => lj_68 ht (hw _ (lj_fill (f := fun j => nI (lj_rk a5 j)) h rfl))))
theorem lj_17 {J : Int32 → (Nat → Int32) → (Nat → Int32) → (Nat → Int32) → (Nat → Int32) → (Nat → Int32) → (Nat → Int32) → (Nat → Int32) → (Nat → Int32) → Prop} {t : Nat} (ht : t < 30) {k : Nat} (hk : k ≤ 20)
    (H : ∀ s, J (nI (t + 1)) a1 a2 a3 a4 s a6 a7 a8) : ∃ n, wX_rankTokens_17 post J (nI t) d ds (nI k) T U cu n 0 a1 a2 a3 a4 a5 a6 a7 a8 :=
  pk_loop (fun n r s => wX_rankTokens_17 post J (nI t) d ds (nI k) T U cu n (nI r) a1 a2 a3 a4 s a6 a7 a8) (fun _ _ => True) k 0 a5 (by omega) trivial
    (fun n s _ => pk_le k k (fun _ => nm_r (nI_1 t) (H s)) (fun z => absurd z (by omega)))
    (fun n r s hr _ hw => pk_le k r (fun z => absurd z (by omega)) (fun _ => ⟨pk_in t 30 ht, pk_in r 20 (by omega), pk_in t 30 ht, nm_e (nm_r (nI_1 r) (hw _ trivial))⟩))
theorem lj_rank {k : Nat} (hk : k ≤ 20)
    (H : ∀ s4 s5, (∀ t, t < 30 → s4 t = nI (lj_rk s5 t)) → post (d, ds, nI k, T, U, cu, a1, a2, a3, s4, s5, a6, a7, a8)) : wpX_rankTokens post (d, ds, nI k, T, U, cu, a1, a2, a3, a4, a5, a6, a7, a8) :=
  pk_loop (fun n t s => wX_rankTokens_2 post d ds (nI k) T U cu n (nI t) a1 a2 a3 a4 s a6 a7 a8) (fun _ _ => True) 30 0 a5 (by omega) trivial
    (fun n s _ => pk_le 30 30 (fun _ => lj_58 (fun s4 h => H s4 s h)) (fun z => absurd z (by omega)))
    (fun n t s ht _ hw => pk_le 30 t (fun z => absurd z (by omega)) (fun _ => ⟨pk_in t 30 ht, nm_e (lj_17 ht hk (fun s' => hw s' trivial))⟩))
end
end
section
/-! ===== root and joinRow: parents stay in range; nothing else changes ===== -/
def lj_PR (s : Nat → Int32) : Prop := ∀ i, i < 20 → ∃ v, v < 20 ∧ s i = nI v
theorem lj_PR_upd {s : Nat → Int32} {k v : Nat} (h : lj_PR s) (hv : v < 20) : lj_PR (upd s k (nI v)) := by
  intro i hi
  by_cases e : i = k
  · exact ⟨v, hv, by rw [e, pk_us]⟩
  · obtain ⟨w, hw, e2⟩ := h i hi
    exact ⟨w, hw, by rw [pk_un e, e2]⟩
theorem lj_PR_0 : lj_PR (fun _ => 0) := fun _ _ => ⟨0, by omega, rfl⟩
section
variable {d ds c T U cu : Int32} {a1 a2 a3 a4 a5 a6 a7 a8 : Nat → Int32}
theorem lj_root {post : Int32 → St2 → Prop} {r : Nat} (hr : r < 20) (h : lj_PR a8)
    (H : ∀ v s, v < 20 → lj_PR s → post (nI v) (d, ds, c, T, U, cu, a1, a2, a3, a4, a5, a6, a7, s)) : wpX_root post (d, ds, c, T, U, cu, a1, a2, a3, a4, a5, a6, a7, a8) (nI r) := by
  refine pk_loop (σ := Nat × (Nat → Int32)) (fun n k s => wX_root_4 post d ds c T U cu n (nI s.1) (nI k) a1 a2 a3 a4 a5 a6 a7 s.2) (fun _ s => s.1 < 20 ∧ lj_PR s.2) 20 0 (r, a8) (by omega) ⟨hr, h⟩
    (fun n s hI => pk_le 20 20 (fun _ => H s.1 s.2 hI.1 hI.2) (fun z => absurd z (by omega))) ?_
  intro n k s hk hI hw
  obtain ⟨x, a⟩ := s
  have hx : x < 20 := hI.1
  have ha : lj_PR a := hI.2
  show wX_root_4 post d ds c T U cu (n + 1) (nI x) (nI k) a1 a2 a3 a4 a5 a6 a7 a
  obtain ⟨v, hv, e⟩ := ha x hx
  obtain ⟨v2, hv2, e2⟩ := ha v hv
  have t1 : wX_root_4 post d ds c T U cu n (nI v2) (nI (k + 1)) a1 a2 a3 a4 a5 a6 a7 (upd a x (nI v2)) := hw (v2, upd a x (nI v2)) ⟨hv2, lj_PR_upd ha hv2⟩
  refine pk_le 20 k (fun z => absurd z (by omega)) (fun _ => ⟨pk_in x 20 hx, ?_⟩)
  rw [nI_clamp (show x < 2 ^ 31 by omega), e, nI_clamp (show v < 2 ^ 31 by omega), e2]
  exact pk_eq v x (fun _ => H x a hx ha) (fun _ => ⟨pk_in x 20 hx, pk_in v 20 hv, pk_in x 20 hx, nm_e ⟨pk_in x 20 hx, nm_r pk_us (nm_r (nI_1 k) t1)⟩⟩)
theorem lj_j51 {post : St2 → Prop} {J : Int32 → Int32 → Int32 → Int32 → Int32 → Int32 → Int32 → (Nat → Int32) → (Nat → Int32) → (Nat → Int32) → (Nat → Int32) → (Nat → Int32) → (Nat → Int32) → (Nat → Int32) → (Nat → Int32) → Prop}
    {x1 : Int32} {b x y z : Nat} (hx : x < 20) (hy : y < 20) (hz : z < 20) (h : lj_PR a8) (H : ∀ s, lj_PR s → J (nI (b + 1)) d ds c T U cu a1 a2 a3 a4 a5 a6 a7 s) :
    wX_joinRow_51 post J x1 (nI b) (nI x) (nI y) (nI z) d ds c T U cu a1 a2 a3 a4 a5 a6 a7 a8 :=
  ⟨pk_in x 20 hx, nm_e ⟨pk_in y 20 hy, nm_e (nm_r (nI_1 b) (H _ (lj_PR_upd (lj_PR_upd h hz) hz)))⟩⟩
theorem lj_joinRow {post : St2 → Prop} {k r : Nat} (hk : k ≤ 20) (hr : r < k) (h : lj_PR a8)
    (H : ∀ s, lj_PR s → post (d, ds, nI k, T, U, cu, a1, a2, a3, a4, a5, a6, a7, s)) : wpX_joinRow post (d, ds, nI k, T, U, cu, a1, a2, a3, a4, a5, a6, a7, a8) (nI r) := by
  unfold wpX_joinRow
  refine nm_r (nI_1 r) ?_
  refine pk_loop (fun n b s => wX_joinRow_4 post (nI r) n (nI b) d ds (nI k) T U cu a1 a2 a3 a4 a5 a6 a7 s) (fun _ s => lj_PR s) k (r + 1) a8 (by omega) h
    (fun n s hs => pk_le k k (fun _ => H s hs) (fun z => absurd z (by omega))) ?_
  intro n b s hb hs hw
  refine pk_le k b (fun z => absurd z (by omega)) (fun _ => ⟨pk_in r 20 (by omega), br_c (fun _ => ?_) (fun _ => nm_r (nI_1 b) (hw s hs))⟩)
  refine lj_root (by omega) hs (fun v s1 hv h1 => ?_)
  refine lj_root (by omega) h1 (fun v2 s2 hv2 h2 => ?_)
  exact pk_le v2 v (fun _ => lj_j51 hv hv2 hv2 h2 hw) (fun _ => lj_j51 hv hv2 hv h2 hw)
end
end
section
/-! ===== a record: {p} (q = 30) or {p, q} with p < q < 30; spell writes its ranks in rising order ===== -/
def lj_R (m : Int32) (n p q : Nat) : Prop := p < q ∧ p < 30 ∧ q ≤ 30 ∧ (n = if q = 30 then 1 else 2) ∧ ∀ t, t < 30 → (lj_bt m t = true ↔ t = p ∨ t = q)
theorem lj_R1 {p : Nat} (hp : p < 30) : lj_R (lj_sg p) 1 p 30 :=
  ⟨hp, hp, Nat.le_refl 30, rfl, fun t ht => by
    rw [lj_sgb p (by omega) t (by omega), decide_eq_true_eq]
    omega⟩
theorem lj_R2 {p q : Nat} (hp : p < 30) (hq : q < 30) (h : p ≠ q) : lj_R (lj_sg p ||| lj_sg q) 2 (min p q) (max p q) :=
  ⟨by omega, by omega, by omega, by rw [if_neg (by omega)], fun t ht => by
    rw [lj_b2 hp hq (by omega), Bool.or_eq_true, decide_eq_true_eq, decide_eq_true_eq]
    omega⟩
theorem lj_Rbit {m : Int32} {n p q t : Nat} (h : lj_R m n p q) (ht : t < 30) : ((m >>> (nI t &&& 31)) &&& 1) = if t = p ∨ t = q then 1 else 0 := by
  rw [lj_tst m (by omega)]
  by_cases e : t = p ∨ t = q
  · rw [if_pos e, if_pos ((h.2.2.2.2 t ht).mpr e)]
  · rw [if_neg e, if_neg (fun z => e ((h.2.2.2.2 t ht).mp z))]
/-- the line of a record: its k-th rank -/
def lj_al (rho : Nat → Nat) (p q k : Nat) : Nat := if k = 0 then (if q = 30 then rho p else min (rho p) (rho q)) else max (rho p) (rho q)
def lj_SI (rho : Nat → Nat) (L p q : Nat) (a : Nat → Int32) (t : Nat) (s : Nat × (Nat → Int32)) : Prop :=
  (∀ j, j < 12 * L ∨ 12 * L + 12 ≤ j → s.2 j = a j) ∧
  ((t ≤ p ∧ s.1 = 0) ∨ (p < t ∧ t ≤ q ∧ s.1 = 1 ∧ s.2 (12 * L) = nI (rho p)) ∨
   (q < t ∧ s.1 = 2 ∧ s.2 (12 * L) = nI (min (rho p) (rho q)) ∧ s.2 (12 * L + 1) = nI (max (rho p) (rho q))))
theorem lj_SI_fr {a s : Nat → Int32} {L k : Nat} {x : Int32} (hk : k < 12) (h : ∀ j, j < 12 * L ∨ 12 * L + 12 ≤ j → s j = a j) : ∀ j, j < 12 * L ∨ 12 * L + 12 ≤ j → upd s (12 * L + k) x j = a j := by
  intro j hj
  rw [pk_un (by omega)]
  exact h j hj
section
variable {post : St2 → Prop} {d ds c T U cu : Int32} {a1 a2 a3 a4 a5 a6 a7 a8 : Nat → Int32}
theorem lj_92 {J : Int32 → Int32 → (Nat → Int32) → (Nat → Int32) → (Nat → Int32) → (Nat → Int32) → (Nat → Int32) → (Nat → Int32) → (Nat → Int32) → (Nat → Int32) → Prop}
    {m : Int32} {L k t x v : Nat} (hL : L < 20) (hx : x < 12) (ht : t < 30) (e : a4 t = nI v)
    (H : J (nI (k + 1)) (nI (t + 1)) a1 a2 (upd a3 (12 * L + x) (nI v)) a4 a5 a6 a7 a8) :
    wX_spell_92 post J (nI L) m (nI k) (nI t) (nI x) d ds c T U cu a1 a2 a3 a4 a5 a6 a7 a8 :=
  ⟨pk_in t 30 ht, pk_in (12 * L + x) 252 (by omega) (lj_ix L x), nm_r (by rw [lj_ix, nI_clamp (by omega), nI_clamp (by omega), e]) (nm_r (nI_1 k) (nm_r (nI_1 t) H))⟩
theorem lj_31a {J : Int32 → Int32 → (Nat → Int32) → (Nat → Int32) → (Nat → Int32) → (Nat → Int32) → (Nat → Int32) → (Nat → Int32) → (Nat → Int32) → (Nat → Int32) → Prop}
    {m : Int32} {L k t v n : Nat} (hL : L < 20) (ht : t < 30) (e : a4 t = nI v)
    (H : J (nI (k + 1)) (nI (t + 1)) a1 a2 (upd a3 (12 * L + 0) (nI v)) a4 a5 a6 a7 a8) :
    wX_spell_31 post J (nI L) m (nI k) (nI t) d ds c T U cu (n + 1) (nI 0) a1 a2 a3 a4 a5 a6 a7 a8 :=
  pk_le 0 0 (fun _ => lj_92 hL (by omega) ht e H) (fun z => absurd z (by omega))
theorem lj_31b {J : Int32 → Int32 → (Nat → Int32) → (Nat → Int32) → (Nat → Int32) → (Nat → Int32) → (Nat → Int32) → (Nat → Int32) → (Nat → Int32) → (Nat → Int32) → Prop}
    {m : Int32} {L k t v w : Nat} (hL : L < 20) (ht : t < 30) (hv : v < 30) (hw : w < 30) (e : a4 t = nI v) (e3 : a3 (12 * L) = nI w)
    (H1 : w ≤ v → J (nI (k + 1)) (nI (t + 1)) a1 a2 (upd a3 (12 * L + 1) (nI v)) a4 a5 a6 a7 a8)
    (H2 : v < w → J (nI (k + 1)) (nI (t + 1)) a1 a2 (upd (upd a3 (12 * L + 1) (nI w)) (12 * L + 0) (nI v)) a4 a5 a6 a7 a8) :
    wX_spell_31 post J (nI L) m (nI k) (nI t) d ds c T U cu 2 (nI 1) a1 a2 a3 a4 a5 a6 a7 a8 := by
  have i1 : (12 : Int32) * nI L + nI 1 - 1 = nI (12 * L) := lj_ix1 L 0
  refine pk_le 1 0 (fun z => absurd z (by omega)) (fun _ => ⟨pk_in (12 * L) 252 (by omega) i1, pk_in t 30 ht, ?_⟩)
  rw [i1, lj_ix, nI_clamp (show 12 * L < 2 ^ 31 by omega), nI_clamp (show t < 2 ^ 31 by omega), nI_clamp (show 12 * L + 1 < 2 ^ 31 by omega), e3, e]
  refine pk_le w v (fun z => lj_92 hL (by omega) ht e (H1 z)) (fun z => ⟨pk_in (12 * L) 252 (by omega), pk_in (12 * L + 1) 252 (by omega), nm_e (nm_r (pk_m1 0) ?_)⟩)
  exact lj_31a (n := 0) hL ht e (H2 z)
theorem lj_spell {m : Int32} {rho : Nat → Nat} {L n p q : Nat} (hL : L < 20) (hR : lj_R m n p q) (e4 : ∀ t, t < 30 → a4 t = nI (rho t)) (hr : ∀ t, t < 30 → rho t < 30)
    (H : ∀ s, (∀ j, j < 12 * L ∨ 12 * L + 12 ≤ j → s j = a3 j) → (∀ k, k < n → s (12 * L + k) = nI (lj_al rho p q k)) → post (d, ds, c, T, U, cu, a1, a2, s, a4, a5, a6, a7, a8)) :
    wpX_spell post (d, ds, c, T, U, cu, a1, a2, a3, a4, a5, a6, a7, a8) (nI L) m := by
  obtain ⟨h1, h2, h3, h4, _⟩ := id hR
  refine pk_loop (σ := Nat × (Nat → Int32)) (fun n t s => wX_spell_5 post (nI L) m d ds c T U cu n (nI s.1) (nI t) a1 a2 s.2 a4 a5 a6 a7 a8) (lj_SI rho L p q a3) 30 0 (0, a3) (by omega)
    ⟨fun _ _ => rfl, Or.inl ⟨by omega, rfl⟩⟩ ?_ ?_
  · intro f s hI
    obtain ⟨k, s⟩ := s
    obtain ⟨hF, hC⟩ := hI
    refine pk_le 30 30 (fun _ => H s hF (fun k hk => ?_)) (fun z => absurd z (by omega))
    dsimp only at hC
    rcases hC with ⟨z, _⟩ | ⟨_, z, _, e⟩ | ⟨z, _, e, e'⟩
    · omega
    · have eq : q = 30 := by omega
      rw [if_pos eq] at h4
      have ek : k = 0 := by omega
      subst ek
      unfold lj_al
      rw [if_pos rfl, if_pos eq]
      exact e
    · have eq : ¬ q = 30 := by omega
      rw [if_neg eq] at h4
      unfold lj_al
      by_cases ek : k = 0
      · subst ek
        rw [if_pos rfl, if_neg eq]
        exact e
      · have ek1 : k = 1 := by omega
        subst ek1
        rw [if_neg ek]
        exact e'
  · intro f t s ht hI hw
    obtain ⟨k, s⟩ := s
    obtain ⟨hF, hC⟩ := hI
    dsimp only at hF hC
    have W : ∀ k' s', lj_SI rho L p q a3 (t + 1) (k', s') → wX_spell_5 post (nI L) m d ds c T U cu f (nI k') (nI (t + 1)) a1 a2 s' a4 a5 a6 a7 a8 := fun k' s' h => hw (k', s') h
    show wX_spell_5 post (nI L) m d ds c T U cu (f + 1) (nI k) (nI t) a1 a2 s a4 a5 a6 a7 a8
    refine pk_le 30 t (fun z => absurd z (by omega)) (fun _ => ?_)
    rw [lj_Rbit hR ht]
    by_cases e1 : t = p
    · subst e1
      have ek : k = 0 := by
        rcases hC with z | z | z
        · exact z.2
        · omega
        · omega
      subst ek
      rw [if_pos (Or.inl rfl)]
      refine br_t rfl (pk_le 12 0 (fun z => absurd z (by omega)) (fun _ => ⟨1, lj_31a (n := 0) hL ht (e4 t ht) (W 1 _ ?_)⟩))
      exact ⟨lj_SI_fr (by omega) hF, Or.inr (Or.inl ⟨by omega, by omega, rfl, pk_us⟩)⟩
    · by_cases e2 : t = q
      · subst e2
        rcases hC with z | ⟨z, _, ek, e⟩ | z
        · omega
        · subst ek
          rw [if_pos (Or.inr rfl)]
          refine br_t rfl (pk_le 12 1 (fun z => absurd z (by omega)) (fun _ => ⟨2, lj_31b hL ht (hr t ht) (hr p h2) (e4 t ht) e (fun g => W 2 _ ?_) (fun g => W 2 _ ?_)⟩))
          · refine ⟨lj_SI_fr (by omega) hF, Or.inr (Or.inr ⟨by omega, rfl, ?_, ?_⟩)⟩
            · show upd s (12 * L + 1) (nI (rho t)) (12 * L) = _
              rw [pk_un (by omega), e, Nat.min_eq_left g]
            · show upd s (12 * L + 1) (nI (rho t)) (12 * L + 1) = _
              rw [pk_us, Nat.max_eq_right g]
          · refine ⟨lj_SI_fr (by omega) (lj_SI_fr (by omega) hF), Or.inr (Or.inr ⟨by omega, rfl, ?_, ?_⟩)⟩
            · show upd (upd s (12 * L + 1) (nI (rho p))) (12 * L) (nI (rho t)) (12 * L) = _
              rw [pk_us, Nat.min_eq_right (by omega)]
            · show upd (upd s (12 * L + 1) (nI (rho p))) (12 * L + 0) (nI (rho t)) (12 * L + 1) = _
              rw [pk_un (by omega), pk_us, Nat.max_eq_left (by omega)]
        · omega
      · rw [if_neg (by omega)]
        refine br_f (by decide) (nm_r (nI_1 t) (W k s ⟨hF, ?_⟩))
        dsimp only
        rcases hC with z | z | z
        · exact Or.inl ⟨by omega, z.2⟩
        · exact Or.inr (Or.inl ⟨by omega, by omega, z.2.2⟩)
        · exact Or.inr (Or.inr ⟨by omega, z.2⟩)
end
end
section
/-! ===== how many ranks are looked at; the merge of two lines ===== -/
def lj_pl (T U n : Nat) : Nat := n - (T * n + U - 1) / U + 1
def lj_nd (T U n m : Nat) : Nat := (T * (n + m) + (T + U) - 1) / (T + U)
theorem lj_pred {a : Nat} (h : 0 < a) : nI a - 1 = nI (a - 1) := by
  rw [show (1 : Int32) = nI 1 from rfl, pk_sub h]
theorem lj_mul_le {T n a b : Nat} (h : T ≤ a) (h2 : n ≤ b) : T * n ≤ a * b := Nat.mul_le_mul h h2
theorem lj_pl_q {T U n : Nat} (hT : 1 ≤ T) (hTU : T ≤ U) : (T * n + U - 1) / U ≤ n := by
  have h : T * n ≤ U * n := Nat.mul_le_mul_right n hTU
  apply Nat.le_of_lt_succ
  apply (Nat.div_lt_iff_lt_mul (by omega)).mpr
  rw [Nat.succ_mul, Nat.mul_comm n U]
  omega
section
variable {d ds c cu : Int32} {a1 a2 a3 a4 a5 a6 a7 a8 : Nat → Int32}
theorem lj_plw {post : Int32 → Prop} {T U n : Nat} (hT : 1 ≤ T) (hTU : T ≤ U) (hU : U ≤ 12) (hn : n ≤ 12) (H : post (nI (lj_pl T U n))) :
    wpX_prefixLength post (d, ds, c, nI T, nI U, cu, a1, a2, a3, a4, a5, a6, a7, a8) (nI n) := by
  have hb : T * n ≤ 12 * 12 := lj_mul_le (by omega) hn
  have hq := lj_pl_q (n := n) hT hTU
  refine br_f (nI_nle (by omega) (by omega)) ⟨nI_ne0 (by omega) (by omega), nm_r (e' := nI ((T * n + U - 1) / U)) ?_ ?_⟩
  · rw [pk_mul, nI_add, lj_pred (by omega), pk_div (by omega) (by omega) (by omega)]
  · rw [pk_sub hq, nI_1]
    exact H
theorem lj_111 {post : Int32 → Prop} {J : Int32 → Int32 → Int32 → Int32 → Prop} {T U x2 : Int32} {L b nd i j k st z A B : Nat} (hL : 12 * L + i < 252) (hb : 12 * b + j < 252)
    (eA : a3 (12 * L + i) = nI A) (eB : a3 (12 * b + j) = nI B) (hA : A < 30) (hB : B < 30) (hnd : nd < 2 ^ 31) (hk : k + z < 2 ^ 31)
    (H0 : k + z < nd → post 0)
    (HE : A = B → J (nI (i + 1)) (nI (j + 1)) (nI (k + 1)) (nI (st + 1)))
    (HL : A < B → J (nI (i + 1)) (nI j) (nI k) (nI (st + 1)))
    (HG : B < A → J (nI i) (nI (j + 1)) (nI k) (nI (st + 1))) :
    wX_verify_111 post J (nI L) x2 (nI b) (nI nd) (nI i) (nI j) (nI k) (nI st) (nI z) d ds c T U cu a1 a2 a3 a4 a5 a6 a7 a8 := by
  refine pk_le nd (k + z) (fun _ => ⟨pk_in (12 * L + i) 252 hL (lj_ix L i), nm_r (e' := nI A) (by rw [lj_ix, nI_clamp (by omega), eA]) ⟨pk_in (12 * b + j) 252 hb (lj_ix b j), nm_r (e' := nI B) (by rw [lj_ix, nI_clamp (by omega), eB]) ?_⟩⟩) H0 rfl (nI_add k z) hnd hk
  rcases Nat.lt_trichotomy A B with h | h | h
  · refine pk_eq A B (fun z => absurd z (by omega)) (fun _ => ?_)
    refine pk_lt B A (fun z => absurd z (by omega)) (fun _ => ?_)
    exact nm_r (nI_1 i) (pk_lt A B (fun _ => nm_r (Int32.add_zero _) (nm_r (nI_1 st) (HL h))) (fun z => absurd z (by omega)))
  · refine pk_eq A B (fun _ => nm_r (nI_1 k) ?_) (fun z => absurd h z)
    refine pk_lt B A (fun z => absurd z (by omega)) (fun _ => ?_)
    exact nm_r (nI_1 i) (pk_lt A B (fun z => absurd z (by omega)) (fun _ => nm_r (nI_1 j) (nm_r (nI_1 st) (HE h))))
  · refine pk_eq A B (fun z => absurd z (by omega)) (fun _ => ?_)
    refine pk_lt B A (fun _ => ?_) (fun z => absurd z (by omega))
    exact nm_r (Int32.add_zero _) (pk_lt A B (fun z => absurd z (by omega)) (fun _ => nm_r (nI_1 j) (nm_r (nI_1 st) (HG h))))
/-- what is still in common from places i and j on -/
def lj_CC (n m : Nat) (al be : Nat → Nat) (C : Nat → Nat → Nat) : Prop :=
  (∀ i j, n ≤ i ∨ m ≤ j → C i j = 0) ∧
  (∀ i j, i < n → j < m → (al i = be j → C i j = C (i + 1) (j + 1) + 1) ∧ (al i < be j → C i j = C (i + 1) j) ∧ (be j < al i → C i j = C i (j + 1)) ∧ C i j ≤ n - i ∧ C i j ≤ m - j)
theorem lj_55 {post : Int32 → Prop} {T U : Int32} {L b n m nd : Nat} {al be : Nat → Nat} {C : Nat → Nat → Nat} (hn : n ≤ 12) (hm : m ≤ 12) (hL : L < 20) (hb : b < 20) (hnd : nd < 2 ^ 31)
    (e2 : a2 b = nI m) (eA : ∀ i, i < n → a3 (12 * L + i) = nI (al i)) (eB : ∀ j, j < m → a3 (12 * b + j) = nI (be j)) (hA : ∀ i, i < n → al i < 30) (hB : ∀ j, j < m → be j < 30)
    (hC : lj_CC n m al be C) (H1 : nd ≤ C 0 0 → post 1) (H0 : C 0 0 < nd → post 0) :
    ∃ f, wX_verify_55 post (nI L) (nI n) (nI b) (nI nd) d ds c T U cu a1 a2 a3 a4 a5 a6 a7 a8 f 0 0 0 0 := by
  obtain ⟨C0, CS⟩ := hC
  refine lp4 (fun f i j k st => wX_verify_55 post (nI L) (nI n) (nI b) (nI nd) d ds c T U cu a1 a2 a3 a4 a5 a6 a7 a8 f (nI i) (nI j) (nI k) (nI st))
    (fun i j k st => i ≤ n ∧ j ≤ m ∧ st ≤ i + j ∧ k ≤ i ∧ k + C i j = C 0 0) (fun i j _ _ => (n - i) + (m - j)) ?_ 0 0 0 0 ⟨by omega, by omega, by omega, by omega, by omega⟩
  intro f i j k st hI hw
  obtain ⟨hi, hj, hst, hk, hc⟩ := hI
  have fin : C i j = 0 → wX_verify_203 post (nI nd) (nI k) d ds c T U cu a1 a2 a3 a4 a5 a6 a7 a8 := fun z => pk_lt k nd (fun h => H0 (by omega)) (fun h => H1 (by omega))
  show wX_verify_55 post (nI L) (nI n) (nI b) (nI nd) d ds c T U cu a1 a2 a3 a4 a5 a6 a7 a8 (f + 1) (nI i) (nI j) (nI k) (nI st)
  refine pk_le 24 st (fun z => fin (C0 i j (by omega))) (fun _ => pk_le n i (fun z => fin (C0 i j (Or.inl z))) (fun hin => ⟨pk_in b 20 hb, ?_⟩))
  rw [nI_clamp (show b < 2 ^ 31 by omega), e2]
  refine pk_le m j (fun z => fin (C0 i j (Or.inr z))) (fun hjm => ⟨pk_in b 20 hb, ?_⟩)
  rw [pk_sub hj, pk_sub hi]
  obtain ⟨cE, cL, cG, b1, b2⟩ := CS i j hin hjm
  have turn : ∀ z, C i j ≤ z → z ≤ 12 → wX_verify_111 post (wX_verify_55 post (nI L) (nI n) (nI b) (nI nd) d ds c T U cu a1 a2 a3 a4 a5 a6 a7 a8 f) (nI L) (nI n) (nI b) (nI nd) (nI i) (nI j) (nI k) (nI st) (nI z) d ds c T U cu a1 a2 a3 a4 a5 a6 a7 a8 := by
    intro z hz hz2
    refine lj_111 (by omega) (by omega) (eA i hin) (eB j hjm) (hA i hin) (hB j hjm) hnd (by omega) (fun g => H0 (by omega)) (fun g => hw _ _ _ _ ?_ ?_) (fun g => hw _ _ _ _ ?_ ?_) (fun g => hw _ _ _ _ ?_ ?_)
    · have := cE g
      exact ⟨by omega, by omega, by omega, by omega, by omega⟩
    · show (n - (i + 1)) + (m - (j + 1)) < (n - i) + (m - j)
      omega
    · have := cL g
      exact ⟨by omega, by omega, by omega, by omega, by omega⟩
    · show (n - (i + 1)) + (m - j) < (n - i) + (m - j)
      omega
    · have := cG g
      exact ⟨by omega, by omega, by omega, by omega, by omega⟩
    · show (n - i) + (m - (j + 1)) < (n - i) + (m - j)
      omega
  exact pk_le (m - j) (n - i) (fun _ => ⟨pk_in b 20 hb, turn (m - j) b2 (by omega)⟩) (fun _ => turn (n - i) b1 (by omega))
theorem lj_verify {post : Int32 → Prop} {T U L b n m : Nat} {al be : Nat → Nat} {C : Nat → Nat → Nat} (hT : 1 ≤ T) (hTU : T ≤ U) (hU : U ≤ 12) (hn : n ≤ 12) (hm : m ≤ 12) (hL : L < 20) (hb : b < 20)
    (e2 : a2 b = nI m) (eA : ∀ i, i < n → a3 (12 * L + i) = nI (al i)) (eB : ∀ j, j < m → a3 (12 * b + j) = nI (be j)) (hA : ∀ i, i < n → al i < 30) (hB : ∀ j, j < m → be j < 30)
    (hC : lj_CC n m al be C) (H1 : lj_nd T U n m ≤ C 0 0 → post 1) (H0 : C 0 0 < lj_nd T U n m → post 0) :
    wpX_verify post (d, ds, c, nI T, nI U, cu, a1, a2, a3, a4, a5, a6, a7, a8) (nI L) (nI n) (nI b) := by
  have hb2 : T * (n + m) ≤ 12 * 24 := lj_mul_le (by omega) (by omega)
  have hnd : lj_nd T U n m < 2 ^ 31 := Nat.lt_of_le_of_lt (Nat.div_le_self _ _) (by omega)
  unfold wpX_verify
  dsimp only
  refine nm_r (nI_add T U) ⟨pk_in b 20 hb, br_f (nI_nle (by omega) (by omega)) ⟨nI_ne0 (by omega) (by omega), nm_r (e' := nI (lj_nd T U n m)) ?_ (lj_55 hn hm hL hb hnd e2 eA eB hA hB hC H1 H0)⟩⟩
  rw [nI_clamp (show b < 2 ^ 31 by omega), e2, nI_add, pk_mul, nI_add, lj_pred (by omega), pk_div (by omega) (by omega) (by omega)]
  rfl
end
/-! ===== lines of one or two ranks: what they have in common, counted ===== -/
def lj_C (n m : Nat) (al be : Nat → Nat) (i j : Nat) : Nat :=
  (if 0 < n ∧ 0 < m ∧ i ≤ 0 ∧ j ≤ 0 ∧ al 0 = be 0 then 1 else 0) + (if 0 < n ∧ 1 < m ∧ i ≤ 0 ∧ j ≤ 1 ∧ al 0 = be 1 then 1 else 0) +
  (if 1 < n ∧ 0 < m ∧ i ≤ 1 ∧ j ≤ 0 ∧ al 1 = be 0 then 1 else 0) + (if 1 < n ∧ 1 < m ∧ i ≤ 1 ∧ j ≤ 1 ∧ al 1 = be 1 then 1 else 0)
theorem lj_CC_C {n m : Nat} {al be : Nat → Nat} (hn : n = 1 ∨ n = 2) (hm : m = 1 ∨ m = 2) (ha : n = 2 → al 0 < al 1) (hb : m = 2 → be 0 < be 1) : lj_CC n m al be (lj_C n m al be) := by
  constructor
  · intro i j h
    unfold lj_C
    rw [if_neg (by omega), if_neg (by omega), if_neg (by omega), if_neg (by omega)]
  · intro i j hi hj
    have hi' : i = 0 ∨ i = 1 := by omega
    have hj' : j = 0 ∨ j = 1 := by omega
    unfold lj_C
    rcases hn with rfl | rfl <;> rcases hm with rfl | rfl <;> rcases hi' with rfl | rfl <;> rcases hj' with rfl | rfl <;> grind (splits := 40)
end
section
/-! ===== probe ===== -/
theorem lj_pl_le {T U n : Nat} (hT : 1 ≤ T) (hTU : T ≤ U) (hn : 1 ≤ n) : lj_pl T U n ≤ n := by
  have h1 := lj_pl_q (n := n) hT hTU
  have h2 : 1 * 1 ≤ T * n := Nat.mul_le_mul hT hn
  have h3 : 0 < (T * n + U - 1) / U := Nat.div_pos (by omega) (by omega)
  unfold lj_pl
  omega
section
variable {post : Int32 → Prop} {d ds cu : Int32} {a1 a2 a3 a4 a5 a6 a7 a8 : Nat → Int32}
theorem lj_112 {J : Int32 → Int32 → Prop} {c T U x1 x2 x3 x5 : Int32} {b : Nat} (HN : J x5 (nI (b + 1))) :
    wX_probe_112 post J x1 x2 x3 x5 (nI b) d ds c T U cu a1 a2 a3 a4 a5 a6 a7 a8 := by
  unfold wX_probe_112 wX_probe_113
  exact br_c (fun _ => br_t rfl (nm_r (nI_1 b) HN)) (fun _ => nm_r (nI_1 b) HN)
theorem lj_113 {J : Int32 → Int32 → Prop} {c T U : Int32} {r nr w f b : Nat} {Y : Prop} (hb : b < 2) (hw : w < 4) (hf : f < 2 ^ b)
    (HV : ∀ ps : Int32 → Prop, (Y → ps 1) → (¬ Y → ps 0) → wpX_verify ps (d, ds, c, T, U, cu, a1, a2, a3, a4, a5, a6, a7, a8) (nI r) (nI nr) (nI b))
    (HY : w / 2 ^ b % 2 = 1 → Y → J (nI (f + 2 ^ b)) (nI (b + 1)))
    (HN : ¬ (w / 2 ^ b % 2 = 1 ∧ Y) → J (nI f) (nI (b + 1))) :
    wX_probe_113 post J (nI r) (nI nr) (nI w) (nI f) (nI b) 1 d ds c T U cu a1 a2 a3 a4 a5 a6 a7 a8 := by
  have hq : w / 2 ^ b % 2 < 2 ^ 31 := Nat.lt_trans (Nat.mod_lt _ (by decide)) (by decide)
  unfold wX_probe_113
  rw [lj_cb b hb w hw]
  refine pk_eq (w / 2 ^ b % 2) 1 (fun h => br_f (by decide) (HV _ (fun y => br_f (by decide) ?_) (fun y => br_t rfl ?_))) (fun h => nm_r (nI_1 b) (HN (fun t => h t.1))) rfl rfl hq (by decide)
  · exact nm_r (lj_or1 b hb f hf) (nm_r (nI_1 b) (HY h y))
  · exact nm_r (nI_1 b) (HN (fun t => y t.2))
theorem lj_57 {c T U r nr w : Nat} {N : Nat → Nat} {Y : Nat → Prop} (hc : c ≤ 2) (hT : T ≤ 12) (hU : U ≤ 12) (hnr : nr ≤ 12) (hN : ∀ b, b < c → N b ≤ 12) (hw : w < 4) (e2 : ∀ b, b < c → a2 b = nI (N b))
    (HV : ∀ b, b < c → ∀ ps : Int32 → Prop, (Y b → ps 1) → (¬ Y b → ps 0) → wpX_verify ps (d, ds, nI c, nI T, nI U, cu, a1, a2, a3, a4, a5, a6, a7, a8) (nI r) (nI nr) (nI b))
    (H : ∀ k, k < 2 ^ c → (c = 2 → (k / 2 = 1 ↔ (w / 2 = 1 ∧ T * nr ≤ U * N 1 ∧ T * N 1 ≤ U * nr ∧ Y 1))) → post (nI k)) :
    ∃ f, wX_probe_57 post (nI r) (nI nr) (nI w) d ds (nI c) (nI T) (nI U) cu a1 a2 a3 a4 a5 a6 a7 a8 f 0 0 := by
  refine pk_loop (fun f b k => wX_probe_57 post (nI r) (nI nr) (nI w) d ds (nI c) (nI T) (nI U) cu a1 a2 a3 a4 a5 a6 a7 a8 f (nI k) (nI b))
    (fun b k => k < 2 ^ b ∧ (b = 2 → (k / 2 = 1 ↔ (w / 2 = 1 ∧ T * nr ≤ U * N 1 ∧ T * N 1 ≤ U * nr ∧ Y 1)))) c 0 0 (by omega) ⟨by decide, fun z => absurd z (by omega)⟩
    (fun f k hI => pk_le c c (fun _ => H k hI.1 hI.2) (fun z => absurd z (by omega))) ?_
  intro f b k hb hI hw'
  have hk := hI.1
  have hp : 2 ^ (b + 1) = 2 ^ b * 2 := Nat.pow_succ 2 b
  have HN : ¬ (w / 2 ^ b % 2 = 1 ∧ T * nr ≤ U * N b ∧ T * N b ≤ U * nr ∧ Y b) → wX_probe_57 post (nI r) (nI nr) (nI w) d ds (nI c) (nI T) (nI U) cu a1 a2 a3 a4 a5 a6 a7 a8 f (nI k) (nI (b + 1)) := by
    intro g
    refine hw' k ⟨by omega, fun eb => ?_⟩
    have eb1 : b = 1 := by omega
    subst eb1
    have hk2 : k < 2 := hk
    constructor
    · intro z; omega
    · intro z
      have z1 := z.1
      exact absurd ⟨by omega, z.2⟩ g
  have HY : (w / 2 ^ b % 2 = 1 ∧ T * nr ≤ U * N b ∧ T * N b ≤ U * nr ∧ Y b) → wX_probe_57 post (nI r) (nI nr) (nI w) d ds (nI c) (nI T) (nI U) cu a1 a2 a3 a4 a5 a6 a7 a8 f (nI (k + 2 ^ b)) (nI (b + 1)) := by
    intro g
    refine hw' (k + 2 ^ b) ⟨by omega, fun eb => ?_⟩
    have eb1 : b = 1 := by omega
    subst eb1
    have hk2 : k < 2 := hk
    constructor
    · intro z
      have g1 := g.1
      exact ⟨by omega, g.2⟩
    · intro z
      omega
  have b1 : U * N b ≤ 12 * 12 := lj_mul_le hU (hN b hb)
  have b2 : T * nr ≤ 12 * 12 := lj_mul_le hT hnr
  have b3 : U * nr ≤ 12 * 12 := lj_mul_le hU hnr
  have b4 : T * N b ≤ 12 * 12 := lj_mul_le hT (hN b hb)
  show wX_probe_57 post (nI r) (nI nr) (nI w) d ds (nI c) (nI T) (nI U) cu a1 a2 a3 a4 a5 a6 a7 a8 (f + 1) (nI k) (nI b)
  refine pk_le c b (fun z => absurd z (by omega)) (fun _ => ⟨pk_in b 20 (by omega), ?_⟩)
  rw [nI_clamp (show b < 2 ^ 31 by omega), e2 b hb]
  refine pk_lt (U * N b) (T * nr) (fun z => lj_112 (HN (fun g => absurd g.2.1 (by omega)))) (fun z => ⟨pk_in b 20 (by omega), ?_⟩) (pk_mul _ _) (pk_mul _ _)
  refine pk_lt (U * nr) (T * N b) (fun z2 => lj_112 (HN (fun g => absurd g.2.2.1 (by omega)))) (fun z2 => ?_) (pk_mul _ _) (pk_mul _ _)
  exact lj_113 (by omega) hw hk (HV b hb) (fun g1 g2 => HY ⟨g1, z, z2, g2⟩) (fun g => HN (fun t => g ⟨t.1, t.2.2.2⟩))
theorem lj_18 {c T U x2 : Int32} {r pl : Nat} {al : Nat → Nat} {Q : Nat → Prop} (hr : r < 20) (hpl : pl ≤ 12) (eA : ∀ k, k < pl → a3 (12 * r + k) = nI (al k)) (hA : ∀ k, k < pl → al k < 30)
    (e6 : ∀ j, j < 30 → ∃ v, v < 4 ∧ a6 j = nI v ∧ (v / 2 = 1 ↔ Q j))
    (H : ∀ w, w < 4 → (w / 2 = 1 ↔ ∃ k, k < pl ∧ Q (al k)) → ∃ f, wX_probe_57 post (nI r) x2 (nI w) d ds c T U cu a1 a2 a3 a4 a5 a6 a7 a8 f 0 0) :
    ∃ f, wX_probe_18 post (nI r) x2 (nI pl) d ds c T U cu a1 a2 a3 a4 a5 a6 a7 a8 f 0 0 := by
  refine pk_loop (fun f k w => wX_probe_18 post (nI r) x2 (nI pl) d ds c T U cu a1 a2 a3 a4 a5 a6 a7 a8 f (nI w) (nI k)) (fun k w => w < 4 ∧ (w / 2 = 1 ↔ ∃ k', k' < k ∧ Q (al k'))) pl 0 0 (by omega)
    ⟨by omega, ⟨fun z => absurd z (by omega), fun ⟨k', h, _⟩ => absurd h (by omega)⟩⟩
    (fun f w hI => pk_le pl pl (fun _ => H w hI.1 hI.2) (fun z => absurd z (by omega))) ?_
  intro f k w hk hI hw
  have ha := hA k hk
  obtain ⟨v, hv, ev, qv⟩ := e6 (al k) ha
  obtain ⟨o1, o2, o3⟩ := lj_or4 w hI.1 v hv
  show wX_probe_18 post (nI r) x2 (nI pl) d ds c T U cu a1 a2 a3 a4 a5 a6 a7 a8 (f + 1) (nI w) (nI k)
  refine pk_le pl k (fun z => absurd z (by omega)) (fun _ => ⟨pk_in (12 * r + k) 252 (by omega) (lj_ix r k), ?_⟩)
  rw [lj_ix, nI_clamp (show 12 * r + k < 2 ^ 31 by omega), eA k hk, nI_clamp (show al k < 2 ^ 31 by omega), ev]
  refine ⟨pk_in (al k) 30 ha, nm_r o1 (nm_r (nI_1 k) (hw (w ||| v) ⟨o2, ?_⟩))⟩
  rw [o3, hI.2, qv]
  constructor
  · rintro (⟨k', h1, h2⟩ | h)
    · exact ⟨k', by omega, h2⟩
    · exact ⟨k, by omega, h⟩
  · rintro ⟨k', h1, h2⟩
    by_cases e : k' = k
    · subst e
      exact Or.inr h2
    · exact Or.inl ⟨k', by omega, h2⟩
theorem lj_probe {c T U r : Nat} {N : Nat → Nat} {al : Nat → Nat → Nat} {Q : Nat → Prop} (hc : c ≤ 2) (hT : 1 ≤ T) (hTU : T ≤ U) (hU : U ≤ 12) (hr : r < c) (hN : ∀ b, b < c → N b = 1 ∨ N b = 2) (e2 : ∀ b, b < c → a2 b = nI (N b))
    (eA : ∀ b, b < c → ∀ k, k < N b → a3 (12 * b + k) = nI (al b k)) (hA : ∀ b, b < c → ∀ k, k < N b → al b k < 30) (hS : ∀ b, b < c → N b = 2 → al b 0 < al b 1)
    (e6 : ∀ j, j < 30 → ∃ v, v < 4 ∧ a6 j = nI v ∧ (v / 2 = 1 ↔ Q j))
    (H : ∀ k, k < 2 ^ c → (c = 2 → (k / 2 = 1 ↔ ((∃ k', k' < lj_pl T U (N r) ∧ Q (al r k')) ∧ T * N r ≤ U * N 1 ∧ T * N 1 ≤ U * N r ∧ lj_nd T U (N r) (N 1) ≤ lj_C (N r) (N 1) (al r) (al 1) 0 0))) → post (nI k)) :
    wpX_probe post (d, ds, nI c, nI T, nI U, cu, a1, a2, a3, a4, a5, a6, a7, a8) (nI r) (nI (N r)) := by
  have hn := hN r hr
  have hpl : lj_pl T U (N r) ≤ N r := lj_pl_le hT hTU (by omega)
  have hN12 : ∀ b, b < c → N b ≤ 12 := by
    intro b hb
    have := hN b hb
    omega
  have hn12 : N r ≤ 12 := hN12 r hr
  have hr20 : r < 20 := by omega
  have hT12 : T ≤ 12 := by omega
  have hV : ∀ b, b < c → ∀ ps : Int32 → Prop, (lj_nd T U (N r) (N b) ≤ lj_C (N r) (N b) (al r) (al b) 0 0 → ps 1) → (¬ lj_nd T U (N r) (N b) ≤ lj_C (N r) (N b) (al r) (al b) 0 0 → ps 0) →
      wpX_verify ps (d, ds, nI c, nI T, nI U, cu, a1, a2, a3, a4, a5, a6, a7, a8) (nI r) (nI (N r)) (nI b) := by
    intro b hb ps y1 y0
    have hb20 : b < 20 := by omega
    exact lj_verify hT hTU hU hn12 (hN12 b hb) hr20 hb20 (e2 b hb) (eA r hr) (eA b hb) (hA r hr) (hA b hb) (lj_CC_C hn (hN b hb) (hS r hr) (hS b hb)) y1 (fun z => y0 (Nat.not_le.mpr z))
  have eA' : ∀ k, k < lj_pl T U (N r) → a3 (12 * r + k) = nI (al r k) := fun k hk => eA r hr k (Nat.lt_of_lt_of_le hk hpl)
  have hA' : ∀ k, k < lj_pl T U (N r) → al r k < 30 := fun k hk => hA r hr k (Nat.lt_of_lt_of_le hk hpl)
  have hpl12 : lj_pl T U (N r) ≤ 12 := by omega
  refine br_f (nI_ne0 (by omega) (by omega)) (lj_plw hT hTU hU hn12 ?_)
  refine lj_18 hr20 hpl12 eA' hA' e6 (fun w hw hq => ?_)
  refine lj_57 (Y := fun b => lj_nd T U (N r) (N b) ≤ lj_C (N r) (N b) (al r) (al b) 0 0) hc hT12 hU hn12 hN12 hw e2 hV (fun k hk hG => H k hk (fun e => ?_))
  rw [hG e, hq]
end
/-! ===== the law of it: what probe finds is what is alike ===== -/
theorem lj_ceil {x D C : Nat} (hD : 0 < D) : (x + D - 1) / D ≤ C ↔ x ≤ D * C := by
  rw [← Nat.lt_succ_iff, Nat.div_lt_iff_lt_mul hD, Nat.succ_mul, Nat.mul_comm C D]
  omega
theorem lj_pl1 {T U : Nat} (hT : 1 ≤ T) (hTU : T ≤ U) : lj_pl T U 1 = 1 := by
  have h1 := lj_pl_le (n := 1) hT hTU (by omega)
  unfold lj_pl at h1 ⊢
  omega
theorem lj_pl2 {T U : Nat} (hT : 1 ≤ T) (h2 : 2 * T ≤ U) : lj_pl T U 2 = 2 := by
  have h3 : (T * 2 + U - 1) / U ≤ 1 := (lj_ceil (by omega)).mpr (by omega)
  have h4 : 0 < (T * 2 + U - 1) / U := Nat.div_pos (by omega) (by omega)
  unfold lj_pl
  omega
theorem lj_pl0 (T U n : Nat) : 0 < lj_pl T U n := by
  unfold lj_pl
  omega
theorem lj_eqv {T U n m : Nat} {al be : Nat → Nat} (hT : 1 ≤ T) (hTU : T ≤ U) (hn : n = 1 ∨ n = 2) (hm : m = 1 ∨ m = 2) (ha : n = 2 → al 0 < al 1) (hb : m = 2 → be 0 < be 1) :
    ((∃ k, k < lj_pl T U n ∧ ∃ l, l < lj_pl T U m ∧ be l = al k) ∧ T * n ≤ U * m ∧ T * m ≤ U * n ∧ lj_nd T U n m ≤ lj_C n m al be 0 0) ↔ T * (n + m - lj_C n m al be 0 0) ≤ U * lj_C n m al be 0 0 := by
  have p1 := lj_pl1 hT hTU
  have p2 : 2 * T ≤ U → lj_pl T U 2 = 2 := lj_pl2 hT
  have q0 := lj_pl0 T U n
  have q1 := lj_pl0 T U m
  have key : ∀ C, C ≤ n → C ≤ m → (lj_nd T U n m ≤ C ↔ T * (n + m - C) ≤ U * C) := by
    intro C c1 c2
    unfold lj_nd
    rw [lj_ceil (by omega)]
    have hC : C = 0 ∨ C = 1 ∨ C = 2 := by omega
    rcases hn with rfl | rfl <;> rcases hm with rfl | rfl <;> rcases hC with rfl | rfl | rfl <;> omega
  have near : ∀ C, C ≤ n → C ≤ m → T * (n + m - C) ≤ U * C → T * n ≤ U * m ∧ T * m ≤ U * n := by
    intro C c1 c2 h
    have hC : C = 0 ∨ C = 1 ∨ C = 2 := by omega
    rcases hn with rfl | rfl <;> rcases hm with rfl | rfl <;> rcases hC with rfl | rfl | rfl <;> omega
  have hC := ((lj_CC_C hn hm ha hb).2 0 0 (by omega) (by omega)).2.2.2
  constructor
  · intro h
    exact (key _ hC.1 hC.2).mp h.2.2.2
  · intro h
    refine ⟨?_, (near _ hC.1 hC.2 h).1, (near _ hC.1 hC.2 h).2, (key _ hC.1 hC.2).mpr h⟩
    by_cases e00 : al 0 = be 0
    · exact ⟨0, q0, 0, q1, e00.symm⟩
    · by_cases e01 : m = 2 ∧ al 0 = be 1
      · refine ⟨0, q0, 1, ?_, e01.2.symm⟩
        have hU : 2 * T ≤ U := by
          have hb' := hb e01.1
          rcases hn with rfl | rfl <;> rcases hm with rfl | rfl <;> grind [lj_C]
        rw [e01.1, p2 hU]; omega
      · by_cases e10 : n = 2 ∧ al 1 = be 0
        · refine ⟨1, ?_, 0, q1, e10.2.symm⟩
          have hU : 2 * T ≤ U := by
            have ha' := ha e10.1
            rcases hn with rfl | rfl <;> rcases hm with rfl | rfl <;> grind [lj_C]
          rw [e10.1, p2 hU]; omega
        · by_cases e11 : n = 2 ∧ m = 2 ∧ al 1 = be 1
          · have hU : 2 * T ≤ U := by
              have ha' := ha e11.1
              have hb' := hb e11.2.1
              have hn2 := e11.1
              have hm2 := e11.2.1
              subst hn2
              subst hm2
              have hC1 : lj_C 2 2 al be 0 0 = 1 := by
                unfold lj_C
                rw [if_neg (by omega), if_neg (by omega), if_neg (by omega), if_pos ⟨by omega, by omega, by omega, by omega, e11.2.2⟩]
              rw [hC1] at h
              omega
            refine ⟨1, ?_, 1, ?_, e11.2.2.symm⟩
            · rw [e11.1, p2 hU]; omega
            · rw [e11.2.1, p2 hU]; omega
          · have hz : lj_C n m al be 0 0 = 0 := by
              unfold lj_C
              rw [if_neg (by omega), if_neg (by omega), if_neg (by omega), if_neg (by omega)]
            rw [hz] at h
            rcases hn with rfl | rfl <;> rcases hm with rfl | rfl <;> omega
end
section
/-! ===== common tokens of two records, by tokens and by ranks ===== -/
def lj_i (a b : Nat) : Nat := if a = b ∧ a < 30 then 1 else 0
def lj_cm (p q p' q' : Nat) : Nat := lj_i p p' + lj_i p q' + lj_i q p' + lj_i q q'
theorem lj_i_rho {rho : Nat → Nat} (inj : ∀ s t, s < 30 → t < 30 → rho s = rho t → s = t) {x y : Nat} (hx : x < 30) (hy : y < 30) : lj_i x y = if rho x = rho y then 1 else 0 := by
  unfold lj_i
  by_cases e : x = y
  · rw [if_pos ⟨e, hx⟩, if_pos (by rw [e])]
  · rw [if_neg (fun z => e z.1), if_neg (fun z => e (inj x y hx hy z))]
theorem lj_i_30 {x : Nat} (hx : x < 30) : lj_i x 30 = 0 ∧ lj_i 30 x = 0 := by
  unfold lj_i
  exact ⟨if_neg (by omega), if_neg (by omega)⟩
theorem lj_i_33 : lj_i 30 30 = 0 := rfl
theorem lj_C11 (al be : Nat → Nat) : lj_C 1 1 al be 0 0 = if al 0 = be 0 then 1 else 0 := by simp [lj_C]
theorem lj_C12 (al be : Nat → Nat) : lj_C 1 2 al be 0 0 = (if al 0 = be 0 then 1 else 0) + (if al 0 = be 1 then 1 else 0) := by simp [lj_C]
theorem lj_C21 (al be : Nat → Nat) : lj_C 2 1 al be 0 0 = (if al 0 = be 0 then 1 else 0) + (if al 1 = be 0 then 1 else 0) := by simp [lj_C]
theorem lj_C22 (al be : Nat → Nat) : lj_C 2 2 al be 0 0 = (if al 0 = be 0 then 1 else 0) + (if al 0 = be 1 then 1 else 0) + (if al 1 = be 0 then 1 else 0) + (if al 1 = be 1 then 1 else 0) := by simp [lj_C]
theorem lj_al1 (rho : Nat → Nat) (p : Nat) : lj_al rho p 30 0 = rho p := rfl
theorem lj_al2 (rho : Nat → Nat) {p q : Nat} (hq : q < 30) : lj_al rho p q 0 = min (rho p) (rho q) ∧ lj_al rho p q 1 = max (rho p) (rho q) := by
  unfold lj_al
  rw [if_pos rfl, if_neg (by omega), if_neg (by omega)]
  exact ⟨rfl, rfl⟩
theorem lj_Cm {rho : Nat → Nat} (inj : ∀ s t, s < 30 → t < 30 → rho s = rho t → s = t) {n p q n' p' q' : Nat} {m m' : Int32} (h : lj_R m n p q) (h' : lj_R m' n' p' q') :
    lj_C n n' (lj_al rho p q) (lj_al rho p' q') 0 0 = lj_cm p q p' q' := by
  obtain ⟨_, hp, hq, hn, _⟩ := h
  obtain ⟨_, hp', hq', hn', _⟩ := h'
  unfold lj_cm
  by_cases e : q = 30
  · by_cases e' : q' = 30
    · subst e; subst e'
      rw [hn, hn', if_pos rfl, lj_C11, lj_al1, lj_al1, (lj_i_30 hp).1, (lj_i_30 hp').2, lj_i_33, lj_i_rho inj hp hp']
      omega
    · subst e
      have hq2 : q' < 30 := by omega
      rw [hn, hn', if_pos rfl, if_neg e', lj_C12, lj_al1, (lj_al2 rho hq2).1, (lj_al2 rho hq2).2, (lj_i_30 hp').2, (lj_i_30 hq2).2, lj_i_rho inj hp hp', lj_i_rho inj hp hq2]
      rcases Nat.lt_or_ge (rho p') (rho q') with g | g
      · rw [Nat.min_eq_left (by omega), Nat.max_eq_right (by omega)]; omega
      · rw [Nat.min_eq_right (by omega), Nat.max_eq_left (by omega)]; omega
  · have hq1 : q < 30 := by omega
    by_cases e' : q' = 30
    · subst e'
      rw [hn, hn', if_pos rfl, if_neg e, lj_C21, lj_al1, (lj_al2 rho hq1).1, (lj_al2 rho hq1).2, (lj_i_30 hp).1, (lj_i_30 hq1).1, lj_i_rho inj hp hp', lj_i_rho inj hq1 hp']
      rcases Nat.lt_or_ge (rho p) (rho q) with g | g
      · rw [Nat.min_eq_left (by omega), Nat.max_eq_right (by omega)]; omega
      · rw [Nat.min_eq_right (by omega), Nat.max_eq_left (by omega)]; omega
    · have hq2 : q' < 30 := by omega
      rw [hn, hn', if_neg e, if_neg e', lj_C22, (lj_al2 rho hq1).1, (lj_al2 rho hq1).2, (lj_al2 rho hq2).1, (lj_al2 rho hq2).2, lj_i_rho inj hp hp', lj_i_rho inj hp hq2, lj_i_rho inj hq1 hp', lj_i_rho inj hq1 hq2]
      rcases Nat.lt_or_ge (rho p) (rho q) with g | g <;> rcases Nat.lt_or_ge (rho p') (rho q') with g' | g'
      · rw [Nat.min_eq_left (Nat.le_of_lt g), Nat.max_eq_right (Nat.le_of_lt g), Nat.min_eq_left (Nat.le_of_lt g'), Nat.max_eq_right (Nat.le_of_lt g')]
      · rw [Nat.min_eq_left (Nat.le_of_lt g), Nat.max_eq_right (Nat.le_of_lt g), Nat.min_eq_right g', Nat.max_eq_left g']; omega
      · rw [Nat.min_eq_right g, Nat.max_eq_left g, Nat.min_eq_left (Nat.le_of_lt g'), Nat.max_eq_right (Nat.le_of_lt g')]; omega
      · rw [Nat.min_eq_right g, Nat.max_eq_left g, Nat.min_eq_right g', Nat.max_eq_left g']; omega
theorem lj_al_lt {rho : Nat → Nat} (hr : ∀ t, t < 30 → rho t < 30) {m : Int32} {n p q k : Nat} (h : lj_R m n p q) (hk : k < n) : lj_al rho p q k < 30 := by
  obtain ⟨_, hp, hq, hn, _⟩ := h
  have h1 := hr p hp
  by_cases e : q = 30
  · rw [if_pos e] at hn
    have ek : k = 0 := by omega
    subst e; subst ek
    exact h1
  · have h2 := hr q (by omega)
    unfold lj_al
    split
    · omega
    · omega
theorem lj_al_s {rho : Nat → Nat} (inj : ∀ s t, s < 30 → t < 30 → rho s = rho t → s = t) {m : Int32} {n p q : Nat} (h : lj_R m n p q) (hn2 : n = 2) : lj_al rho p q 0 < lj_al rho p q 1 := by
  obtain ⟨hpq, hp, hq, hn, _⟩ := h
  by_cases e : q = 30
  · rw [if_pos e] at hn; omega
  · have h2 : ¬ rho p = rho q := fun z => absurd (inj p q hp (by omega) z) (by omega)
    rw [(lj_al2 rho (show q < 30 by omega)).1, (lj_al2 rho (show q < 30 by omega)).2]
    omega
theorem lj_R_n {m : Int32} {n p q : Nat} (h : lj_R m n p q) : n = 1 ∨ n = 2 := by
  have hn := h.2.2.2.1
  by_cases e : q = 30
  · rw [if_pos e] at hn; exact Or.inl hn
  · rw [if_neg e] at hn; exact Or.inr hn
/-! ===== refresh ===== -/
section
variable {post : St2 → Prop} {d ds cu : Int32} {a1 a2 a3 a4 a5 a6 a7 a8 : Nat → Int32}
theorem lj_72 {J : Int32 → Int32 → Int32 → Int32 → Int32 → Int32 → Int32 → (Nat → Int32) → (Nat → Int32) → (Nat → Int32) → (Nat → Int32) → (Nat → Int32) → (Nat → Int32) → (Nat → Int32) → (Nat → Int32) → Prop}
    {c T U : Int32} {r pl : Nat} {al : Nat → Nat} (hr : r < 2) (hpl : pl ≤ 12) (eA : ∀ k, k < pl → a3 (12 * r + k) = nI (al k)) (hA : ∀ k, k < pl → al k < 30) (e6 : ∀ j, j < 30 → ∃ v, v < 2 ^ r ∧ a6 j = nI v)
    (H : ∀ s, (∀ j, j < 30 → ∃ v, v < 2 ^ (r + 1) ∧ s j = nI v ∧ (2 ^ r ≤ v ↔ ∃ k, k < pl ∧ al k = j)) → J (nI (r + 1)) d ds c T U cu a1 a2 a3 a4 a5 s a7 a8) :
    ∃ f, wX_refresh_72 post J (nI r) (nI pl) d ds c T U cu f 0 a1 a2 a3 a4 a5 a6 a7 a8 := by
  have hp : 2 ^ (r + 1) = 2 ^ r * 2 := Nat.pow_succ 2 r
  refine pk_loop (fun f k s => wX_refresh_72 post J (nI r) (nI pl) d ds c T U cu f (nI k) a1 a2 a3 a4 a5 s a7 a8)
    (fun k s => ∀ j, j < 30 → ∃ v, v < 2 ^ (r + 1) ∧ s j = nI v ∧ (2 ^ r ≤ v ↔ ∃ k', k' < k ∧ al k' = j)) pl 0 a6 (by omega) ?_
    (fun f s hI => pk_le pl pl (fun _ => nm_r (nI_1 r) (H s hI)) (fun z => absurd z (by omega))) ?_
  · intro j hj
    obtain ⟨v, hv, e⟩ := e6 j hj
    exact ⟨v, by omega, e, ⟨fun z => absurd z (by omega), fun ⟨k', h, _⟩ => absurd h (by omega)⟩⟩
  · intro f k s hk hI hw
    have ha := hA k hk
    obtain ⟨v0, hv0, e0, q0⟩ := hI (al k) ha
    have o := lj_or2 r hr v0 hv0
    show wX_refresh_72 post J (nI r) (nI pl) d ds c T U cu (f + 1) (nI k) a1 a2 a3 a4 a5 s a7 a8
    refine pk_le pl k (fun z => absurd z (by omega)) (fun _ => ⟨pk_in (12 * r + k) 252 (by omega) (lj_ix r k), nm_r (e' := nI (al k)) (by rw [lj_ix, nI_clamp (by omega), eA k hk]) ⟨pk_in (al k) 30 ha, pk_in (al k) 30 ha, nm_r (e' := upd s (al k) (nI (if v0 < 2 ^ r then v0 + 2 ^ r else v0))) (by rw [nI_clamp (by omega), e0, o]) (nm_r (nI_1 k) (hw _ ?_))⟩⟩)
    intro j hj
    by_cases e : j = al k
    · subst e
      refine ⟨_, ?_, pk_us, ⟨fun _ => ⟨k, by omega, rfl⟩, fun _ => ?_⟩⟩
      · split <;> omega
      · split <;> omega
    · obtain ⟨v, hv, ev, qv⟩ := hI j hj
      refine ⟨v, hv, by rw [pk_un e, ev], ?_⟩
      rw [qv]
      constructor
      · rintro ⟨k', h1, h2⟩
        exact ⟨k', by omega, h2⟩
      · rintro ⟨k', h1, h2⟩
        have : k' ≠ k := fun z => e (by rw [← h2, z])
        exact ⟨k', by omega, h2⟩
/-- the index after r records -/
def lj_X (r pl : Nat) (al : Nat → Nat) (s : Nat → Int32) : Prop := ∀ j, j < 30 → ∃ v, v < 2 ^ r ∧ s j = nI v ∧ (r = 2 → (v / 2 = 1 ↔ ∃ k, k < pl ∧ al k = j))
theorem lj_40 {c T U : Nat} {N P Q : Nat → Nat} {rho : Nat → Nat} (hc : c ≤ 2) (hT : 1 ≤ T) (hTU : T ≤ U) (hU : U ≤ 12) (hR : ∀ r, r < c → lj_R (a1 r) (N r) (P r) (Q r)) (e2 : ∀ r, r < c → a2 r = nI (N r))
    (e4 : ∀ t, t < 30 → a4 t = nI (rho t)) (hr : ∀ t, t < 30 → rho t < 30) (e6 : ∀ j, j < 30 → a6 j = nI 0)
    (H : ∀ s3 s6, (∀ r, r < c → ∀ k, k < N r → s3 (12 * r + k) = nI (lj_al rho (P r) (Q r) k)) → lj_X c (lj_pl T U (N 1)) (lj_al rho (P 1) (Q 1)) s6 →
      ∃ f, wX_refresh_122 post d ds (nI c) (nI T) (nI U) cu f 0 a1 a2 s3 a4 a5 s6 a7 a8) :
    ∃ f, wX_refresh_40 post f 0 d ds (nI c) (nI T) (nI U) cu a1 a2 a3 a4 a5 a6 a7 a8 := by
  refine pk_loop (σ := (Nat → Int32) × (Nat → Int32)) (fun f r s => wX_refresh_40 post f (nI r) d ds (nI c) (nI T) (nI U) cu a1 a2 s.1 a4 a5 s.2 a7 a8)
    (fun r s => (∀ r', r' < r → ∀ k, k < N r' → s.1 (12 * r' + k) = nI (lj_al rho (P r') (Q r') k)) ∧ lj_X r (lj_pl T U (N 1)) (lj_al rho (P 1) (Q 1)) s.2) c 0 (a3, a6) (by omega)
    ⟨fun r' h => absurd h (by omega), fun j hj => ⟨0, by decide, e6 j hj, fun z => absurd z (by omega)⟩⟩
    (fun f s hI => pk_le c c (fun _ => H s.1 s.2 hI.1 hI.2) (fun z => absurd z (by omega))) ?_
  intro f r s hrc hI hw
  obtain ⟨s3, s6⟩ := s
  obtain ⟨hL, hX⟩ := hI
  dsimp only at hL hX
  have hRr := hR r hrc
  have hn := lj_R_n hRr
  have hpl : lj_pl T U (N r) ≤ N r := lj_pl_le hT hTU (by omega)
  show wX_refresh_40 post (f + 1) (nI r) d ds (nI c) (nI T) (nI U) cu a1 a2 s3 a4 a5 s6 a7 a8
  refine pk_le c r (fun z => absurd z (by omega)) (fun _ => ⟨pk_in r 20 (by omega), ?_⟩)
  rw [nI_clamp (show r < 2 ^ 31 by omega)]
  refine lj_spell (by omega) hRr e4 hr (fun s hF hl => ?_)
  refine ⟨pk_in r 20 (by omega), ?_⟩
  rw [e2 r hrc]
  refine lj_plw hT hTU hU (by omega) ?_
  refine lj_72 (by omega) (by omega) (fun k hk => hl k (by omega)) (fun k hk => lj_al_lt hr hRr (by omega)) (fun j hj => ?_) (fun s' hs' => hw (s, s') ⟨?_, ?_⟩)
  · obtain ⟨v, hv, e, _⟩ := hX j hj
    exact ⟨v, hv, e⟩
  · intro r' hr' k hk
    by_cases e : r' = r
    · subst e
      exact hl k hk
    · show s (12 * r' + k) = _
      have hn' := lj_R_n (hR r' (by omega))
      rw [hF _ (by omega)]
      exact hL r' (by omega) k hk
  · intro j hj
    obtain ⟨v, hv, e, q⟩ := hs' j hj
    refine ⟨v, hv, e, fun er => ?_⟩
    have er1 : r = 1 := by omega
    subst er1
    rw [← q]
    have hv4 : v < 4 := hv
    constructor
    · intro z; show 2 ≤ v; omega
    · intro z
      have z' : 2 ≤ v := z
      omega
theorem lj_19 {c T U : Int32} (H : ∀ s, (∀ j, j < 30 → s j = nI 0) → ∃ f, wX_refresh_40 post f 0 d ds c T U cu a1 a2 a3 a4 a5 s a7 a8) : ∃ f, wX_refresh_19 post d ds c T U cu f 0 a1 a2 a3 a4 a5 a6 a7 a8 :=
  pk_loop (fun f t s => wX_refresh_19 post d ds c T U cu f (nI t) a1 a2 a3 a4 a5 s a7 a8) (fun t s => ∀ j, j < t → s j = nI 0) 30 0 a6 (by omega) (fun j hj => absurd hj (by omega))
    (fun f s h => pk_le 30 30 (fun _ => H s h) (fun z => absurd z (by omega)))
    (fun f t s ht h hw => pk_le 30 t (fun z => absurd z (by omega)) (fun _ => ⟨pk_in t 30 ht, nm_r (e' := upd s t (nI 0)) (by rw [nI_clamp (by omega)]; rfl) (nm_r (nI_1 t) (hw _ (lj_fill (f := fun _ => nI 0) h rfl)))⟩))
theorem lj_162 {c : Nat} {T U : Int32} (hc : c ≤ 20) (h8 : lj_PR a8) (H : ∀ s, post (d, ds, nI c, T, U, cu, a1, a2, a3, a4, a5, a6, a7, s)) : ∃ f, wX_refresh_162 post f 0 d ds (nI c) T U cu a1 a2 a3 a4 a5 a6 a7 a8 :=
  pk_loop (fun f r s => wX_refresh_162 post f (nI r) d ds (nI c) T U cu a1 a2 a3 a4 a5 a6 a7 s) (fun _ s => lj_PR s) c 0 a8 (by omega) h8
    (fun f s h => pk_le c c (fun _ => H s) (fun z => absurd z (by omega)))
    (fun f r s hr h hw => pk_le c r (fun z => absurd z (by omega)) (fun _ => lj_joinRow hc hr h (fun s' h' => nm_r (nI_1 r) (hw s' h'))))
theorem lj_122 {c : Nat} {T U : Int32} {F : Nat → Int32 → Prop} (hc : c ≤ 20) (h8 : lj_PR a8)
    (HP : ∀ r, r < c → ∀ (ps : Int32 → Prop) s7 s8, (∀ x, F r x → ps x) → wpX_probe ps (d, ds, nI c, T, U, cu, a1, a2, a3, a4, a5, a6, s7, s8) (nI r) (a2 r))
    (H : ∀ s7 s8, (∀ r, r < c → F r (s7 r)) → lj_PR s8 → ∃ f, wX_refresh_162 post f 0 d ds (nI c) T U cu a1 a2 a3 a4 a5 a6 s7 s8) :
    ∃ f, wX_refresh_122 post d ds (nI c) T U cu f 0 a1 a2 a3 a4 a5 a6 a7 a8 := by
  refine pk_loop (σ := (Nat → Int32) × (Nat → Int32)) (fun f r s => wX_refresh_122 post d ds (nI c) T U cu f (nI r) a1 a2 a3 a4 a5 a6 s.1 s.2)
    (fun r s => (∀ r', r' < r → F r' (s.1 r')) ∧ lj_PR s.2) c 0 (a7, a8) (by omega) ⟨fun r' h => absurd h (by omega), h8⟩
    (fun f s hI => pk_le c c (fun _ => H s.1 s.2 hI.1 hI.2) (fun z => absurd z (by omega))) ?_
  intro f r s hr hI hw
  obtain ⟨s7, s8⟩ := s
  obtain ⟨h7, hp⟩ := hI
  dsimp only at h7 hp
  show wX_refresh_122 post d ds (nI c) T U cu (f + 1) (nI r) a1 a2 a3 a4 a5 a6 s7 s8
  refine pk_le c r (fun z => absurd z (by omega)) (fun _ => ⟨pk_in r 20 (by omega), ?_⟩)
  rw [nI_clamp (show r < 2 ^ 31 by omega)]
  refine HP r hr _ s7 s8 (fun x hx => ⟨pk_in r 20 (by omega), nm_e ⟨pk_in r 20 (by omega), nm_e (nm_r (nI_1 r) (hw (upd s7 r x, upd s8 r (nI r)) ⟨?_, lj_PR_upd hp (by omega)⟩))⟩⟩)
  intro r' hr'
  show F r' (upd s7 r x r')
  by_cases e : r' = r
  · rw [e, pk_us]; exact hx
  · rw [pk_un e]; exact h7 r' (by omega)
/-- what a row holds -/
def lj_F (c T U : Nat) (N P Q : Nat → Nat) (r : Nat) (x : Int32) : Prop :=
  ∃ k, x = nI k ∧ k < 2 ^ c ∧ (c = 2 → r = 0 → (k / 2 = 1 ↔ T * (N 0 + N 1 - lj_cm (P 0) (Q 0) (P 1) (Q 1)) ≤ U * lj_cm (P 0) (Q 0) (P 1) (Q 1)))
theorem lj_refresh {c T U : Nat} {N P Q : Nat → Nat} (hc : c ≤ 2) (hT : 1 ≤ T) (hTU : T ≤ U) (hU : U ≤ 12) (hR : ∀ r, r < c → lj_R (a1 r) (N r) (P r) (Q r)) (e2 : ∀ r, r < c → a2 r = nI (N r)) (h8 : lj_PR a8)
    (H : ∀ s3 s4 s5 s6 s7 s8, (∀ r, r < c → lj_F c T U N P Q r (s7 r)) → post (d, ds, nI c, nI T, nI U, 1, a1, a2, s3, s4, s5, s6, s7, s8)) :
    wpX_refresh post (d, ds, nI c, nI T, nI U, 0, a1, a2, a3, a4, a5, a6, a7, a8) := by
  refine br_t rfl (lj_rank (by omega) (fun s4 s5 e4 => ?_))
  have inj : ∀ s t, s < 30 → t < 30 → lj_rk s5 s = lj_rk s5 t → s = t := fun s t hs ht h => lj_rk_inj hs ht h
  have hr : ∀ t, t < 30 → lj_rk s5 t < 30 := fun t ht => lj_rk_lt s5 ht
  refine lj_19 (fun s6' e6' => lj_40 hc hT hTU hU hR e2 e4 hr e6' (fun s3 s6 hL hX => ?_))
  refine lj_122 (F := lj_F c T U N P Q) (by omega) h8 (fun r hrc ps s7 s8 hps => ?_) (fun s7 s8 h7 hp => lj_162 (by omega) hp (fun s => H s3 s4 s5 s6 s7 s h7))
  rw [e2 r hrc]
  refine lj_probe (al := fun r k => lj_al (lj_rk s5) (P r) (Q r) k) (Q := fun j => c = 2 ∧ ∃ k, k < lj_pl T U (N 1) ∧ lj_al (lj_rk s5) (P 1) (Q 1) k = j) hc hT hTU hU hrc (fun b hb => lj_R_n (hR b hb)) e2 hL
    (fun b hb k hk => lj_al_lt hr (hR b hb) hk) (fun b hb h2 => lj_al_s inj (hR b hb) h2) (fun j hj => ?_) (fun k hk hG => hps _ ⟨k, rfl, hk, fun ec er => ?_⟩)
  · obtain ⟨v, hv, e, q⟩ := hX j hj
    by_cases ec : c = 2
    · refine ⟨v, ?_, e, ?_⟩
      · rw [ec] at hv; exact hv
      · rw [q ec]
        exact ⟨fun z => ⟨ec, z⟩, fun z => z.2⟩
    · have hv2 : v < 2 := by
        have h01 : c = 0 ∨ c = 1 := by omega
        rcases h01 with h | h
        · rw [h] at hv; have hv' : v < 1 := hv; omega
        · rw [h] at hv; exact hv
      exact ⟨v, by omega, e, ⟨fun z => absurd z (by omega), fun z => absurd z.1 ec⟩⟩
  · subst er
    rw [hG ec]
    have R0 := hR 0 (by omega)
    have R1 := hR 1 (by omega)
    have hq := lj_eqv (al := lj_al (lj_rk s5) (P 0) (Q 0)) (be := lj_al (lj_rk s5) (P 1) (Q 1)) hT hTU (lj_R_n R0) (lj_R_n R1) (fun h2 => lj_al_s inj R0 h2) (fun h2 => lj_al_s inj R1 h2)
    rw [lj_Cm inj R0 R1] at hq
    rw [← hq]
    have hC := lj_Cm inj R0 R1
    constructor
    · rintro ⟨⟨k', h1, _, h2⟩, h3, h4, h5⟩
      have h5' : lj_nd T U (N 0) (N 1) ≤ lj_C (N 0) (N 1) (lj_al (lj_rk s5) (P 0) (Q 0)) (lj_al (lj_rk s5) (P 1) (Q 1)) 0 0 := h5
      rw [hC] at h5'
      exact ⟨⟨k', h1, h2⟩, h3, h4, h5'⟩
    · rintro ⟨⟨k', h1, h2⟩, h3, h4, h5⟩
      refine ⟨⟨k', h1, ec, h2⟩, h3, h4, ?_⟩
      show lj_nd T U (N 0) (N 1) ≤ lj_C (N 0) (N 1) (lj_al (lj_rk s5) (P 0) (Q 0)) (lj_al (lj_rk s5) (P 1) (Q 1)) 0 0
      rw [hC]
      exact h5
end
end
section
/-! ===== the law's end: similar, common, pairs ===== -/
theorem lj_cm_le {m m' : Int32} {n p q n' p' q' : Nat} (h : lj_R m n p q) (h' : lj_R m' n' p' q') : lj_cm p q p' q' ≤ n ∧ lj_cm p q p' q' ≤ n' := by
  have inj : ∀ s t : Nat, s < 30 → t < 30 → id s = id t → s = t := fun s t _ _ e => e
  have hC := lj_Cm (rho := id) inj h h'
  have hb := ((lj_CC_C (lj_R_n h) (lj_R_n h') (fun e => lj_al_s inj h e) (fun e => lj_al_s inj h' e)).2 0 0 (by have := lj_R_n h; omega) (by have := lj_R_n h'; omega)).2.2.2
  rw [hC] at hb
  exact hb
section
variable {d ds : Int32} {a1 a2 a3 a4 a5 a6 a7 a8 : Nat → Int32}
theorem lj_p8 {post : Int32 → St2 → Prop} {T U cu : Int32} {c : Nat} {K : Nat → Nat} (hc : c ≤ 2) (e7 : ∀ r, r < c → a7 r = nI (K r) ∧ K r < 2 ^ c)
    (H : post (nI (if c = 0 then 0 else K 0 / 2)) (d, ds, nI c, T, U, cu, a1, a2, a3, a4, a5, a6, a7, a8)) : ∃ f, wX_pairs_8 post d ds (nI c) T U cu a1 a2 a3 a4 a5 a6 a7 a8 f 0 0 := by
  refine pk_loop (σ := Unit) (fun f r _ => wX_pairs_8 post d ds (nI c) T U cu a1 a2 a3 a4 a5 a6 a7 a8 f (nI (if r = 0 then 0 else K 0 / 2)) (nI r)) (fun _ _ => True) c 0 () (by omega) trivial
    (fun f _ _ => pk_le c c (fun _ => H) (fun z => absurd z (by omega))) ?_
  intro f r _ hr _ hw
  have t1 : wX_pairs_8 post d ds (nI c) T U cu a1 a2 a3 a4 a5 a6 a7 a8 f (nI (if r + 1 = 0 then 0 else K 0 / 2)) (nI (r + 1)) := hw () trivial
  rw [if_neg (by omega)] at t1
  obtain ⟨e, hK⟩ := e7 r hr
  have hK4 : K r < 4 := Nat.lt_of_lt_of_le hK (Nat.pow_le_pow_right (by omega) hc)
  show wX_pairs_8 post d ds (nI c) T U cu a1 a2 a3 a4 a5 a6 a7 a8 (f + 1) (nI (if r = 0 then 0 else K 0 / 2)) (nI r)
  refine pk_le c r (fun z => absurd z (by omega)) (fun _ => ⟨pk_in r 20 (by omega), ?_⟩)
  rw [nI_clamp (show r < 2 ^ 31 by omega), e]
  refine lj_wones (lj_orow r (by omega) (K r) hK4) (nm_r (e' := nI (K 0 / 2)) ?_ (nm_r (nI_1 r) t1))
  rw [nI_add]
  have h01 : r = 0 ∨ r = 1 := by omega
  rcases h01 with rfl | rfl
  · rw [if_pos rfl, Nat.zero_add]
  · rw [if_neg (by omega), show K 1 / 2 ^ (1 + 1) = 0 from Nat.div_eq_of_lt hK4, Nat.add_zero]
/-- two records -/
def lj_2f (x y r : Nat) : Nat := if r = 0 then x else y
theorem lj_457_two {post : Int32 → St0 → Prop} {mc ms kc ks T U n m k g p q p' q' : Nat} {m0 m1 : Int32} (hT : 1 ≤ T) (hTU : T ≤ U) (hU : U ≤ 12) (R0 : lj_R m0 n p q) (R1 : lj_R m1 m p' q') (hk : lj_cm p q p' q' = k)
    (ho : lj_ones (m0 &&& m1) = nI k) (h8 : lj_PR a8) (hp : post 1 ()) (hg : g = 0 ∨ g = 1) (hG : g = 1 ↔ T * (n + m - k) ≤ U * k) :
    wL_lawOf_457 post mc ms 1 (nI k) (nI g) kc ks d ds (nI 2) (nI T) (nI U) 0 (upd (upd a1 0 m0) 1 m1) (upd (upd a2 0 (nI n)) 1 (nI m)) a3 a4 a5 a6 a7 a8 := by
  have u0 : ∀ (f : Nat → Int32) (x y : Int32), upd (upd f 0 x) 1 y 0 = x := fun f x y => by rw [pk_un (by omega), pk_us]
  have u1 : ∀ (f : Nat → Int32) (x y : Int32), upd (upd f 0 x) 1 y 1 = y := fun f x y => pk_us
  have i1 : vp_in (0 : Int32) 20 := pk_in 0 20 (by omega)
  have i2 : vp_in (1 : Int32) 20 := pk_in 1 20 (by omega)
  have c0 : (0 : Int32).toNatClampNeg = 0 := pk_cl 0
  have c1 : (1 : Int32).toNatClampNeg = 1 := pk_cl 1
  have n0 : ¬ (0 : Int32) < 0 := by decide
  have n1 : ¬ (1 : Int32) < 0 := by decide
  have n2 : ¬ nI 2 ≤ 0 := by decide
  have n3 : ¬ nI 2 ≤ 1 := by decide
  have n4 : ¬ (1 : Int32) = 0 := by decide
  refine br_f n0 (br_f n2 (br_f n4 (br_f n1 (br_f n3 (br_f n4 ?_)))))
  refine lj_refresh (N := lj_2f n m) (P := lj_2f p p') (Q := lj_2f q q') (by omega) hT hTU hU (fun r hr => ?_) (fun r hr => ?_) h8 (fun s3 s4 s5 s6 s7 s8 hF => ?_)
  · have h01 : r = 0 ∨ r = 1 := by omega
    rcases h01 with rfl | rfl
    · rw [u0]; exact R0
    · rw [u1]; exact R1
  · have h01 : r = 0 ∨ r = 1 := by omega
    rcases h01 with rfl | rfl
    · exact u0 a2 (nI n) (nI m)
    · exact u1 a2 (nI n) (nI m)
  · refine ⟨i1, ?_⟩
    obtain ⟨K0, e0, b0, q0⟩ := hF 0 (by omega)
    obtain ⟨K1, e1, b1, _⟩ := hF 1 (by omega)
    have q0' : K0 / 2 = 1 ↔ T * (n + m - lj_cm p q p' q') ≤ U * lj_cm p q p' q' := q0 rfl rfl
    have b0' : K0 < 4 := b0
    rw [hk] at q0'
    have hKg : K0 / 2 = g := by
      rcases hg with h | h
      · have : ¬ K0 / 2 = 1 := fun z => absurd (hG.mpr (q0'.mp z)) (by omega)
        omega
      · rw [h]; exact q0'.mpr (hG.mp h)
    rw [c0, e0, lj_row1 K0 b0', hKg]
    have fin : wL_lawOf_485 post mc ms 1 (nI k) (nI g) (nI g) (nI g) kc ks d ds (nI 2) (nI T) (nI U) 1 (upd (upd a1 0 m0) 1 m1) (upd (upd a2 0 (nI n)) 1 (nI m)) s3 s4 s5 s6 s7 s8 := by
      refine br_t rfl (br_f n0 (br_f n2 (br_f n4 (br_f n1 (br_f n3 (br_f n4 ⟨i1, i2, ?_⟩))))))
      rw [c0, c1, u0, u1]
      refine lj_wones ho (br_f n4 (br_t rfl (br_f n4 ?_)))
      refine lj_p8 (K := lj_2f K0 K1) (by omega) (fun r hr => ?_) ?_
      · have h01 : r = 0 ∨ r = 1 := by omega
        rcases h01 with rfl | rfl
        · exact ⟨e0, b0⟩
        · exact ⟨e1, b1⟩
      · refine br_f n4 (pk_eq g 0 (fun z => br_t ?_ hp) (fun z => br_t ?_ hp))
        · show nI (K0 / 2) = 0
          rw [hKg, z]; rfl
        · show nI (K0 / 2) = 1
          rw [hKg, show g = 1 by omega]; rfl
    rcases hg with h | h
    · subst h
      exact br_f n4 (br_t rfl fin)
    · subst h
      exact br_f n4 (br_f n4 fin)
theorem lj_431_two {post : Int32 → St0 → Prop} {mc ms kc ks T U n m k p q p' q' : Nat} {m0 m1 : Int32} (hT : 1 ≤ T) (hTU : T ≤ U) (hU : U ≤ 12) (R0 : lj_R m0 n p q) (R1 : lj_R m1 m p' q') (hk : lj_cm p q p' q' = k)
    (ho : lj_ones (m0 &&& m1) = nI k) (h8 : lj_PR a8) (hp : post 1 ()) :
    wL_lawOf_431 post mc ms (nI n) (nI m) 1 (nI k) (nI T) (nI U) kc ks d ds (nI 2) (nI T) (nI U) 0 (upd (upd a1 0 m0) 1 m1) (upd (upd a2 0 (nI n)) 1 (nI m)) a3 a4 a5 a6 a7 a8 := by
  have hle := lj_cm_le R0 R1
  rw [hk] at hle
  have hn := lj_R_n R0
  have hm := lj_R_n R1
  have b1 : U * k ≤ 12 * 2 := lj_mul_le hU (by omega)
  have b2 : T * (n + m - k) ≤ 12 * 4 := lj_mul_le (by omega) (by omega)
  refine pk_lt (U * k) (T * (n + m - k)) (fun z => ?_) (fun z => ?_) (pk_mul _ _) (by rw [nI_add, pk_sub (by omega), pk_mul])
  · exact lj_457_two (g := 0) hT hTU hU R0 R1 hk ho h8 hp (Or.inl rfl) ⟨fun z => absurd z (by omega), fun y => absurd y (by omega)⟩
  · exact lj_457_two (g := 1) hT hTU hU R0 R1 hk ho h8 hp (Or.inr rfl) ⟨fun _ => z, fun _ => rfl⟩
/-- one record or none -/
theorem lj_457_one {post : Int32 → St0 → Prop} {mc ms kc ks T U c n p q : Nat} {x16 z0 : Int32} (hc : c ≤ 1) (hT : 1 ≤ T) (hTU : T ≤ U) (hU : U ≤ 12) (R0 : 0 < c → lj_R (a1 0) n p q) (e2 : 0 < c → a2 0 = nI n) (h8 : lj_PR a8) (hp : post 1 ()) :
    wL_lawOf_457 post mc ms 0 x16 z0 kc ks d ds (nI c) (nI T) (nI U) 0 a1 a2 a3 a4 a5 a6 a7 a8 := by
  have n0 : ¬ (0 : Int32) < 0 := by decide
  have n1 : ¬ (1 : Int32) < 0 := by decide
  have n4 : ¬ (1 : Int32) = 0 := by decide
  have hrec : ∀ A B : Prop, A → wpX_isRecord (fun r_1 => ((r_1 = 0 → A) ∧ (¬ r_1 = 0 → (wpX_isRecord (fun r_3 => ((r_3 = 0 → A) ∧ (¬ r_3 = 0 → B))) (d, ds, nI c, nI T, nI U, 0, a1, a2, a3, a4, a5, a6, a7, a8) 1)))) (d, ds, nI c, nI T, nI U, 0, a1, a2, a3, a4, a5, a6, a7, a8) 0 := by
    intro A B hA
    have h01 : c = 0 ∨ c = 1 := by omega
    rcases h01 with rfl | rfl
    · exact br_f n0 (br_t (by decide) (br_t rfl hA))
    · exact br_f n0 (br_f (by decide) (br_f n4 (br_f n1 (br_t (by decide) (br_t rfl hA)))))
  refine hrec _ _ (br_t rfl (br_t rfl (hrec _ _ (br_t rfl (br_t rfl ?_)))))
  refine lj_refresh (N := lj_2f n n) (P := lj_2f p p) (Q := lj_2f q q) (by omega) hT hTU hU (fun r hr => ?_) (fun r hr => ?_) h8 (fun s3 s4 s5 s6 s7 s8 hF => ?_)
  · have h0 : r = 0 := by omega
    subst h0
    exact R0 hr
  · have h0 : r = 0 := by omega
    subst h0
    exact e2 hr
  · have h01 : c = 0 ∨ c = 1 := by omega
    rcases h01 with rfl | rfl
    · exact lj_p8 (K := fun _ => 0) (by omega) (fun r hr => absurd hr (by omega)) (br_t rfl (br_t rfl hp))
    · obtain ⟨K0, e0, b0, _⟩ := hF 0 (by omega)
      have b0' : K0 < 2 := b0
      refine lj_p8 (K := fun _ => K0) (by omega) (fun r hr => ?_) (br_t rfl (br_t ?_ hp))
      · have h0 : r = 0 := by omega
        subst h0
        exact ⟨e0, b0⟩
      · show nI (K0 / 2) = 0
        rw [show K0 / 2 = 0 by omega]; rfl
theorem lj_431_one {post : Int32 → St0 → Prop} {mc ms kc ks T U c n p q : Nat} {x9 x13 x16 x18 z0 : Int32} (hc : c ≤ 1) (hT : 1 ≤ T) (hTU : T ≤ U) (hU : U ≤ 12) (R0 : 0 < c → lj_R (a1 0) n p q) (e2 : 0 < c → a2 0 = nI n) (h8 : lj_PR a8) (hp : post 1 ()) :
    wL_lawOf_431 post mc ms x9 x13 0 x16 x18 z0 kc ks d ds (nI c) (nI T) (nI U) 0 a1 a2 a3 a4 a5 a6 a7 a8 :=
  br_c (fun _ => lj_457_one hc hT hTU hU R0 e2 h8 hp) (fun _ => lj_457_one hc hT hTU hU R0 e2 h8 hp)
/-! ===== threshold ===== -/
theorem lj_nat {x : Int32} (h1 : ¬ x < 1) (h2 : ¬ 12 < x) : ∃ T : Nat, 1 ≤ T ∧ T ≤ 12 ∧ x = nI T := by
  obtain ⟨j, hj, e⟩ := nI_of (fun z => h1 (Int32.lt_trans z (by decide)))
  refine ⟨j, ?_, ?_, e⟩
  · rcases Nat.lt_or_ge j 1 with z | z
    · exact absurd (show x < 1 by rw [e]; exact nI_lt (b := 1) z (by decide)) h1
    · exact z
  · rcases Nat.lt_or_ge 12 j with z | z
    · exact absurd (show 12 < x by rw [e]; exact nI_lt (a := 12) z hj) h2
    · exact z
theorem lj_360_0 {post : Int32 → St0 → Prop} {mc ms kc ks : Nat} {c x3 x4 x9 x13 x14 x16 : Int32} (hb : x3 < 1 ∨ 12 < x3 ∨ x4 < 1 ∨ 12 < x4)
    (H : wL_lawOf_431 post mc ms x9 x13 x14 x16 1 2 kc ks d ds c 1 2 0 a1 a2 a3 a4 a5 a6 a7 a8) :
    wL_lawOf_360 post mc ms x3 x4 x9 x13 x14 x16 0 kc ks d ds c 1 2 0 a1 a2 a3 a4 a5 a6 a7 a8 := by
  have thr : ∀ ps : Int32 → St2 → Prop, ps (-1) (d, ds, c, 1, 2, 0, a1, a2, a3, a4, a5, a6, a7, a8) → wpX_threshold ps (d, ds, c, 1, 2, 0, a1, a2, a3, a4, a5, a6, a7, a8) x3 x4 := by
    intro ps hps
    refine br_c (fun _ => hps) (fun z1 => br_c (fun _ => hps) (fun z2 => br_c (fun _ => hps) (fun z3 => br_f ?_ hps)))
    have z4 : 12 < x4 := ((hb.resolve_left z1).resolve_left z2).resolve_left z3
    exact fun y => absurd (Int32.le_iff_toInt_le.mp y) (by have := Int32.lt_iff_toInt_lt.mp z4; omega)
  exact thr _ (br_t rfl (br_t rfl (br_t rfl (br_t rfl H))))
theorem lj_328 {post : Int32 → St0 → Prop} {mc ms kc ks : Nat} {c x3 x4 x9 x13 x14 z0 z1 x16 : Int32} (e : z1 + z0 = x16)
    (H : ∀ T U : Nat, 1 ≤ T → T ≤ U → U ≤ 12 → wL_lawOf_431 post mc ms x9 x13 x14 x16 (nI T) (nI U) kc ks d ds c (nI T) (nI U) 0 a1 a2 a3 a4 a5 a6 a7 a8) :
    wL_lawOf_328 post mc ms x3 x4 x9 x13 x14 z0 z1 kc ks d ds c 1 2 0 a1 a2 a3 a4 a5 a6 a7 a8 := by
  have H12 : wL_lawOf_431 post mc ms x9 x13 x14 x16 1 2 kc ks d ds c 1 2 0 a1 a2 a3 a4 a5 a6 a7 a8 := H 1 2 (by omega) (by omega) (by omega)
  have n4 : ¬ (1 : Int32) = 0 := by decide
  refine nm_r e (br_c (fun z => lj_360_0 (Or.inl z) H12) (fun z1 => br_c (fun z => lj_360_0 (Or.inr (Or.inl z)) H12) (fun z2 => br_c (fun z => lj_360_0 (Or.inr (Or.inr (Or.inl z))) H12) (fun z3 => br_c (fun z => lj_360_0 (Or.inr (Or.inr (Or.inr z))) H12) (fun z4 => ?_)))))
  obtain ⟨T, hT1, hT2, eT⟩ := lj_nat z1 z2
  obtain ⟨U, hU1, hU2, eU⟩ := lj_nat z3 z4
  have l4 : x4 ≤ 12 := by rw [eU]; exact nI_le (b := 12) hU2 (by decide)
  rcases Nat.lt_or_ge U T with h | h
  · have l1 : ¬ x3 ≤ x4 := by rw [eT, eU]; exact nI_ge h (by omega)
    have l2 : x4 < x3 := by rw [eT, eU]; exact nI_lt h (by omega)
    refine br_f z1 (br_f z2 (br_f z3 (br_t l4 (br_f l1 ?_))))
    exact br_f n4 (br_f l1 (br_t rfl (br_f n4 (br_t l2 (br_f n4 (br_t l2 H12))))))
  · have l1 : x3 ≤ x4 := by rw [eT, eU]; exact nI_le h (by omega)
    have l2 : ¬ x4 < x3 := by rw [eT, eU]; exact nI_nlt h (by omega)
    have HTU := H T U hT1 h hU2
    rw [← eT, ← eU] at HTU
    refine br_f z1 (br_f z2 (br_f z3 (br_t l4 (br_t l1 ?_))))
    exact br_f n4 (br_t l1 (br_t rfl (br_f n4 (br_f l2 (br_f n4 (br_f l2 HTU))))))
end
end
section
/-! ===== the law's calls: token, drop, store ===== -/
def lj_bad (x : Int32) : Prop := x < 0 ∨ 29 < x
theorem lj_gb (x : Int32) : lj_bad x ∨ ∃ p : Nat, p < 30 ∧ x = nI p := by
  rcases pk_ix x (n := 30) (by decide) with h | h | h
  · exact Or.inl (Or.inl h)
  · refine Or.inl (Or.inr (Int32.lt_iff_toInt_lt.mpr ?_))
    have h1 := Int32.le_iff_toInt_le.mp h
    have h2 : (nI 30).toInt = 30 := by decide
    have h3 : (29 : Int32).toInt = 29 := by decide
    omega
  · exact Or.inr h
theorem lj_good_b {post : Int32 → Prop} {x : Int32} (h : lj_bad x) (H : post 0) : wpL_good post () x :=
  br_c (fun _ => H) (fun z => br_t (h.resolve_left z) H)
theorem lj_good_g {post : Int32 → Prop} {p : Nat} (h : p < 30) (H : post 1) : wpL_good post () (nI p) :=
  br_f (nI_pos (by omega)) (br_f (nI_nlt (a := 29) (by omega) (by decide)) H)
theorem lj_isT_b {post : Int32 → Prop} {x : Int32} (h : lj_bad x) (H : post 0) : wpX_isToken post () x := by
  refine br_c (fun _ => H) (fun z => br_t (Int32.le_iff_toInt_le.mpr ?_) H)
  have h1 := Int32.lt_iff_toInt_lt.mp (h.resolve_left z)
  have h2 : (30 : Int32).toInt = 30 := by decide
  have h3 : (29 : Int32).toInt = 29 := by decide
  omega
theorem lj_isT_g {post : Int32 → Prop} {p : Nat} (h : p < 30) (H : post 1) : wpX_isToken post () (nI p) :=
  br_f (nI_pos (by omega)) (br_f (nI_ge (b := 30) h (by decide)) H)
section
variable {post : Int32 → St2 → Prop} {dr dr' c T U cu : Int32} {a1 a2 a3 a4 a5 a6 a7 a8 : Nat → Int32}
theorem lj_tok_b {ds x : Int32} (h : lj_bad x) (H : post (-1) (dr, ds, c, T, U, cu, a1, a2, a3, a4, a5, a6, a7, a8)) : wpX_token post (dr, ds, c, T, U, cu, a1, a2, a3, a4, a5, a6, a7, a8) x := by
  unfold wpX_token
  dsimp only
  exact lj_isT_b h (br_t rfl H)
theorem lj_tok_n {p : Nat} (k : Nat) (hp : p < 30) (hm : lj_bt dr p = false) (hk : k < 12) (e : dr ||| lj_sg p = dr') (H : post (nI (k + 1)) (dr', nI (k + 1), c, T, U, cu, a1, a2, a3, a4, a5, a6, a7, a8)) :
    wpX_token post (dr, nI k, c, T, U, cu, a1, a2, a3, a4, a5, a6, a7, a8) (nI p) := by
  unfold wpX_token
  dsimp only
  exact lj_isT_g hp (br_f (by decide) (nm_r (e' := lj_sg p) rfl (br_t (lj_and0 (by omega) hm) (br_f (fun z => absurd ((nI_eq (b := 12) (by omega) (by omega)).mp z) (by omega)) (nm_r e (nm_r (nI_1 k) H))))))
theorem lj_tok_o {p : Nat} (k : Nat) (hp : p < 30) (hm : lj_bt dr p = true) (H : post (nI k) (dr, nI k, c, T, U, cu, a1, a2, a3, a4, a5, a6, a7, a8)) :
    wpX_token post (dr, nI k, c, T, U, cu, a1, a2, a3, a4, a5, a6, a7, a8) (nI p) := by
  unfold wpX_token
  dsimp only
  exact lj_isT_g hp (br_f (by decide) (nm_r (e' := lj_sg p) rfl (br_f (lj_and1 (by omega) hm) H)))
theorem lj_drp_b {ds x : Int32} (h : lj_bad x) (H : post (-1) (dr, ds, c, T, U, cu, a1, a2, a3, a4, a5, a6, a7, a8)) : wpX_drop post (dr, ds, c, T, U, cu, a1, a2, a3, a4, a5, a6, a7, a8) x := by
  unfold wpX_drop
  dsimp only
  exact lj_isT_b h (br_t rfl H)
theorem lj_drp_i {p : Nat} (k : Nat) (hp : p < 30) (hm : lj_bt dr p = true) (e : dr &&& (lj_sg p ^^^ (-1)) = dr') (H : post (nI k) (dr', nI k, c, T, U, cu, a1, a2, a3, a4, a5, a6, a7, a8)) :
    wpX_drop post (dr, nI (k + 1), c, T, U, cu, a1, a2, a3, a4, a5, a6, a7, a8) (nI p) := by
  unfold wpX_drop
  dsimp only
  exact lj_isT_g hp (br_f (by decide) (nm_r (e' := lj_sg p) rfl (br_f (lj_and1 (by omega) hm) (nm_r e (nm_r (nI_pred k) H)))))
theorem lj_sto_0 (H : post (-1) (dr, nI 0, c, T, U, cu, a1, a2, a3, a4, a5, a6, a7, a8)) : wpX_store post (dr, nI 0, c, T, U, cu, a1, a2, a3, a4, a5, a6, a7, a8) :=
  br_t rfl H
theorem lj_sto_n (k n : Nat) (hk : 0 < k) (hk2 : k < 13) (hn : n < 20) (H : post (nI n) (dr, nI k, nI (n + 1), T, U, 0, upd a1 n dr, upd a2 n (nI k), a3, a4, a5, a6, a7, a8)) :
    wpX_store post (dr, nI k, nI n, T, U, cu, a1, a2, a3, a4, a5, a6, a7, a8) := by
  refine br_f (nI_ne0 hk (by omega)) (br_f (fun z => absurd ((nI_eq (b := 20) (by omega) (by omega)).mp z) (by omega)) ⟨pk_in n 20 hn, nm_r (e' := upd a1 n dr) (by rw [nI_clamp (by omega)]) ⟨pk_in n 20 hn, nm_r (e' := upd a2 n (nI k)) (by rw [nI_clamp (by omega)]) (nm_r (nI_1 n) ?_)⟩⟩)
  rw [nI_pred]
  exact H
end
theorem lj_yb {p : Nat} (hp : p < 30) : lj_bt (lj_sg p) p = true := by rw [lj_sgb p (by omega) p (by omega), decide_eq_true rfl]
theorem lj_nb {p q : Nat} (hp : p < 30) (hq : q < 30) (h : p ≠ q) : lj_bt (lj_sg p) q = false := by rw [lj_sgb p (by omega) q (by omega), decide_eq_false (by omega)]
theorem lj_yb2 {p q : Nat} (hp : p < 30) (hq : q < 30) : lj_bt (lj_sg p ||| lj_sg q) q = true := by rw [lj_bor, lj_yb hq, Bool.or_true]
theorem lj_neq {p q : Nat} (hp : p < 30) (hq : q < 30) (h : p ≠ q) : ¬ nI p = nI q := fun z => h ((nI_eq (by omega) (by omega)).mp z)
end
section
/-! ===== the fifteen patterns of x, y, z (printed by gen.py) ===== -/
theorem lj_pat0 {x y z : Int32} (hx : lj_bad x) (hy : lj_bad y) (hz : lj_bad z) (t u : Int32) : wpL_lawOf (fun r _ => r = 1) 9 436 () x y z t u := by
  refine ⟨by decide, by decide, 8, 422, by decide, by decide, ?_⟩
  refine ⟨by decide, by decide, by decide, by decide, by decide, by decide, by decide, by decide, by decide, by decide, by decide, by decide, by decide, by decide, by decide, by decide, ?_⟩
  refine lj_good_b hx ?_
  refine lj_good_b hy ?_
  refine lj_good_b hz ?_
  refine lj_tok_b hx ?_
  refine br_t rfl ?_
  refine br_t rfl ?_
  refine br_t rfl ?_
  refine br_t rfl ?_
  refine nm_r (show _ = nI 0 from rfl) ?_
  refine lj_tok_b hy ?_
  refine br_t rfl ?_
  refine br_t rfl ?_
  refine lj_sto_0 ?_
  refine br_t (by decide) ?_
  refine br_t rfl ?_
  refine br_t rfl ?_
  refine br_t rfl ?_
  refine lj_drp_b hy ?_
  refine br_t rfl ?_
  refine br_t rfl ?_
  refine br_t rfl ?_
  refine br_t rfl ?_
  refine nm_r (show _ = nI 0 from rfl) ?_
  refine lj_tok_b hz ?_
  refine br_t rfl ?_
  refine br_t rfl ?_
  refine br_t (by decide) ?_
  unfold wL_lawOf_252 wL_lawOf_253
  refine lj_sto_0 ?_
  refine br_t (by decide) ?_
  refine br_t rfl ?_
  refine br_t rfl ?_
  refine br_t rfl ?_
  refine lj_328 (x16 := nI 0) rfl (fun T U h1 h2 h3 => ?_)
  exact lj_431_one (c := 0) (n := 0) (p := 0) (q := 0) (by omega) h1 h2 h3 (fun h => absurd h (by omega)) (fun h => absurd h (by omega)) lj_PR_0 rfl
theorem lj_pat1 {r : Nat} (hr : r < 30) {x y : Int32} (hx : lj_bad x) (hy : lj_bad y) (t u : Int32) : wpL_lawOf (fun r _ => r = 1) 9 436 () x y (nI r) t u := by
  refine ⟨by decide, by decide, 8, 422, by decide, by decide, ?_⟩
  refine ⟨by decide, by decide, by decide, by decide, by decide, by decide, by decide, by decide, by decide, by decide, by decide, by decide, by decide, by decide, by decide, by decide, ?_⟩
  refine lj_good_b hx ?_
  refine lj_good_b hy ?_
  refine lj_good_g hr ?_
  refine lj_tok_b hx ?_
  refine br_t rfl ?_
  refine br_t rfl ?_
  refine br_t rfl ?_
  refine br_t rfl ?_
  refine nm_r (show _ = nI 0 from rfl) ?_
  refine lj_tok_b hy ?_
  refine br_t rfl ?_
  refine br_t rfl ?_
  refine lj_sto_0 ?_
  refine br_t (by decide) ?_
  refine br_t rfl ?_
  refine br_t rfl ?_
  refine br_t rfl ?_
  refine lj_drp_b hy ?_
  refine br_t rfl ?_
  refine br_t rfl ?_
  refine br_f (by decide) ?_
  refine br_t rfl ?_
  refine br_f (by decide) ?_
  refine nm_r (show _ = nI 1 from rfl) ?_
  refine lj_tok_n 0 hr (lj_b0 _) (by omega) (lj_z0 r) ?_
  refine br_f (by decide) ?_
  refine br_t rfl ?_
  refine br_t (by decide) ?_
  unfold wL_lawOf_252 wL_lawOf_253
  refine lj_sto_n 1 0 (by omega) (by omega) (by omega) ?_
  refine br_f (by decide) ?_
  refine br_t (by decide) ?_
  refine br_t rfl ?_
  refine br_f (by decide) ?_
  refine br_t rfl ?_
  refine br_t rfl ?_
  refine br_t rfl ?_
  refine lj_328 (x16 := nI 0) rfl (fun T U h1 h2 h3 => ?_)
  exact lj_431_one (c := 1) (by omega) h1 h2 h3 (fun _ => (lj_R1 hr)) (fun _ => rfl) lj_PR_0 rfl
theorem lj_pat2 {q : Nat} (hq : q < 30) {x z : Int32} (hx : lj_bad x) (hz : lj_bad z) (t u : Int32) : wpL_lawOf (fun r _ => r = 1) 9 436 () x (nI q) z t u := by
  refine ⟨by decide, by decide, 8, 422, by decide, by decide, ?_⟩
  refine ⟨by decide, by decide, by decide, by decide, by decide, by decide, by decide, by decide, by decide, by decide, by decide, by decide, by decide, by decide, by decide, by decide, ?_⟩
  refine lj_good_b hx ?_
  refine lj_good_g hq ?_
  refine lj_good_b hz ?_
  refine lj_tok_b hx ?_
  refine br_t rfl ?_
  refine br_t rfl ?_
  refine br_t rfl ?_
  refine br_f (by decide) ?_
  refine br_t rfl ?_
  refine nm_r (show _ = nI 1 from rfl) ?_
  refine lj_tok_n 0 hq (lj_b0 _) (by omega) (lj_z0 q) ?_
  refine br_f (by decide) ?_
  refine br_t rfl ?_
  refine lj_sto_n 1 0 (by omega) (by omega) (by omega) ?_
  refine br_f (by decide) ?_
  refine br_t rfl ?_
  refine br_t rfl ?_
  refine br_t rfl ?_
  refine lj_drp_i 0 hq (lj_yb hq) (lj_zd hq) ?_
  refine br_f (by decide) ?_
  refine br_t rfl ?_
  refine br_t rfl ?_
  refine br_t rfl ?_
  refine nm_r (show _ = nI 0 from rfl) ?_
  refine lj_tok_b hz ?_
  refine br_t rfl ?_
  refine br_t rfl ?_
  refine br_f (by decide) ?_
  refine br_t (by decide) ?_
  unfold wL_lawOf_252 wL_lawOf_253
  refine lj_sto_0 ?_
  refine br_t (by decide) ?_
  refine br_t rfl ?_
  refine br_t rfl ?_
  refine br_t rfl ?_
  refine lj_328 (x16 := nI 0) rfl (fun T U h1 h2 h3 => ?_)
  exact lj_431_one (c := 1) (by omega) h1 h2 h3 (fun _ => (lj_R1 hq)) (fun _ => rfl) lj_PR_0 rfl
theorem lj_pat3 {q : Nat} (hq : q < 30) {x : Int32} (hx : lj_bad x) (t u : Int32) : wpL_lawOf (fun r _ => r = 1) 9 436 () x (nI q) (nI q) t u := by
  refine ⟨by decide, by decide, 8, 422, by decide, by decide, ?_⟩
  refine ⟨by decide, by decide, by decide, by decide, by decide, by decide, by decide, by decide, by decide, by decide, by decide, by decide, by decide, by decide, by decide, by decide, ?_⟩
  refine lj_good_b hx ?_
  refine lj_good_g hq ?_
  refine lj_good_g hq ?_
  refine lj_tok_b hx ?_
  refine br_t rfl ?_
  refine br_t rfl ?_
  refine br_t rfl ?_
  refine br_f (by decide) ?_
  refine br_t rfl ?_
  refine nm_r (show _ = nI 1 from rfl) ?_
  refine lj_tok_n 0 hq (lj_b0 _) (by omega) (lj_z0 q) ?_
  refine br_f (by decide) ?_
  refine br_t rfl ?_
  refine lj_sto_n 1 0 (by omega) (by omega) (by omega) ?_
  refine br_f (by decide) ?_
  refine br_t rfl ?_
  refine br_t rfl ?_
  refine br_t rfl ?_
  refine lj_drp_i 0 hq (lj_yb hq) (lj_zd hq) ?_
  refine br_f (by decide) ?_
  refine br_t rfl ?_
  refine br_f (by decide) ?_
  refine br_t rfl ?_
  refine br_f (by decide) ?_
  refine nm_r (show _ = nI 1 from rfl) ?_
  refine lj_tok_n 0 hq (lj_b0 _) (by omega) (lj_z0 q) ?_
  refine br_f (by decide) ?_
  refine br_t rfl ?_
  refine br_f (by decide) ?_
  refine br_f (by decide) ?_
  refine lj_sto_n 1 1 (by omega) (by omega) (by omega) ?_
  refine br_f (by decide) ?_
  refine br_f (by decide) ?_
  refine br_t rfl ?_
  refine br_f (by decide) ?_
  refine br_t rfl ?_
  refine br_f (by decide) ?_
  refine br_t rfl ?_
  refine br_f (by decide) ?_
  refine lj_328 (x16 := nI 1) rfl (fun T U h1 h2 h3 => ?_)
  refine lj_431_two h1 h2 h3 (lj_R1 hq) (lj_R1 hq) ?_ ?_ lj_PR_0 rfl
  · unfold lj_cm lj_i
    repeat' split
    all_goals omega
  · rw [lj_aa _]
    exact lj_o1 q hq
theorem lj_pat4 {q r : Nat} (hq : q < 30) (hr : r < 30) (nqr : q ≠ r) {x : Int32} (hx : lj_bad x) (t u : Int32) : wpL_lawOf (fun r _ => r = 1) 9 436 () x (nI q) (nI r) t u := by
  refine ⟨by decide, by decide, 8, 422, by decide, by decide, ?_⟩
  refine ⟨by decide, by decide, by decide, by decide, by decide, by decide, by decide, by decide, by decide, by decide, by decide, by decide, by decide, by decide, by decide, by decide, ?_⟩
  refine lj_good_b hx ?_
  refine lj_good_g hq ?_
  refine lj_good_g hr ?_
  refine lj_tok_b hx ?_
  refine br_t rfl ?_
  refine br_t rfl ?_
  refine br_t rfl ?_
  refine br_f (by decide) ?_
  refine br_t rfl ?_
  refine nm_r (show _ = nI 1 from rfl) ?_
  refine lj_tok_n 0 hq (lj_b0 _) (by omega) (lj_z0 q) ?_
  refine br_f (by decide) ?_
  refine br_t rfl ?_
  refine lj_sto_n 1 0 (by omega) (by omega) (by omega) ?_
  refine br_f (by decide) ?_
  refine br_t rfl ?_
  refine br_t rfl ?_
  refine br_t rfl ?_
  refine lj_drp_i 0 hq (lj_yb hq) (lj_zd hq) ?_
  refine br_f (by decide) ?_
  refine br_t rfl ?_
  refine br_f (by decide) ?_
  refine br_t rfl ?_
  refine br_f (by decide) ?_
  refine nm_r (show _ = nI 1 from rfl) ?_
  refine lj_tok_n 0 hr (lj_b0 _) (by omega) (lj_z0 r) ?_
  refine br_f (by decide) ?_
  refine br_t rfl ?_
  refine br_f (by decide) ?_
  refine br_f (by decide) ?_
  refine lj_sto_n 1 1 (by omega) (by omega) (by omega) ?_
  refine br_f (by decide) ?_
  refine br_f (by decide) ?_
  refine br_t rfl ?_
  refine br_f (by decide) ?_
  refine br_t rfl ?_
  refine br_f (by decide) ?_
  refine br_f (lj_neq hq hr nqr) ?_
  refine br_t rfl ?_
  refine lj_328 (x16 := nI 0) rfl (fun T U h1 h2 h3 => ?_)
  refine lj_431_two h1 h2 h3 (lj_R1 hq) (lj_R1 hr) ?_ ?_ lj_PR_0 rfl
  · unfold lj_cm lj_i
    repeat' split
    all_goals omega
  · rw [lj_a11 hq hr nqr]
    exact lj_o0
theorem lj_pat5 {p : Nat} (hp : p < 30) {y z : Int32} (hy : lj_bad y) (hz : lj_bad z) (t u : Int32) : wpL_lawOf (fun r _ => r = 1) 9 436 () (nI p) y z t u := by
  refine ⟨by decide, by decide, 8, 422, by decide, by decide, ?_⟩
  refine ⟨by decide, by decide, by decide, by decide, by decide, by decide, by decide, by decide, by decide, by decide, by decide, by decide, by decide, by decide, by decide, by decide, ?_⟩
  refine lj_good_g hp ?_
  refine lj_good_b hy ?_
  refine lj_good_b hz ?_
  refine lj_tok_n 0 hp (lj_b0 _) (by omega) (lj_z0 p) ?_
  refine br_f (by decide) ?_
  refine br_t rfl ?_
  refine br_f (by decide) ?_
  refine br_t rfl ?_
  refine nm_r (show _ = nI 1 from rfl) ?_
  refine lj_tok_b hy ?_
  refine br_t rfl ?_
  refine br_t rfl ?_
  refine lj_sto_n 1 0 (by omega) (by omega) (by omega) ?_
  refine br_f (by decide) ?_
  refine br_t rfl ?_
  refine br_f (by decide) ?_
  refine br_t rfl ?_
  refine br_f (by decide) ?_
  refine lj_drp_b hy ?_
  refine br_t rfl ?_
  refine br_t rfl ?_
  refine br_t rfl ?_
  refine br_t rfl ?_
  refine nm_r (show _ = nI 1 from rfl) ?_
  refine lj_tok_b hz ?_
  refine br_t rfl ?_
  refine br_t rfl ?_
  refine br_f (by decide) ?_
  refine br_f (by decide) ?_
  refine lj_sto_n 1 1 (by omega) (by omega) (by omega) ?_
  refine br_f (by decide) ?_
  refine br_f (by decide) ?_
  refine br_t rfl ?_
  refine br_t rfl ?_
  refine br_t rfl ?_
  refine lj_328 (x16 := nI 1) rfl (fun T U h1 h2 h3 => ?_)
  refine lj_431_two h1 h2 h3 (lj_R1 hp) (lj_R1 hp) ?_ ?_ lj_PR_0 rfl
  · unfold lj_cm lj_i
    repeat' split
    all_goals omega
  · rw [lj_aa _]
    exact lj_o1 p hp
theorem lj_pat6 {p : Nat} (hp : p < 30) {y : Int32} (hy : lj_bad y) (t u : Int32) : wpL_lawOf (fun r _ => r = 1) 9 436 () (nI p) y (nI p) t u := by
  refine ⟨by decide, by decide, 8, 422, by decide, by decide, ?_⟩
  refine ⟨by decide, by decide, by decide, by decide, by decide, by decide, by decide, by decide, by decide, by decide, by decide, by decide, by decide, by decide, by decide, by decide, ?_⟩
  refine lj_good_g hp ?_
  refine lj_good_b hy ?_
  refine lj_good_g hp ?_
  refine lj_tok_n 0 hp (lj_b0 _) (by omega) (lj_z0 p) ?_
  refine br_f (by decide) ?_
  refine br_t rfl ?_
  refine br_f (by decide) ?_
  refine br_t rfl ?_
  refine nm_r (show _ = nI 1 from rfl) ?_
  refine lj_tok_b hy ?_
  refine br_t rfl ?_
  refine br_t rfl ?_
  refine lj_sto_n 1 0 (by omega) (by omega) (by omega) ?_
  refine br_f (by decide) ?_
  refine br_t rfl ?_
  refine br_f (by decide) ?_
  refine br_t rfl ?_
  refine br_f (by decide) ?_
  refine lj_drp_b hy ?_
  refine br_t rfl ?_
  refine br_t rfl ?_
  refine br_f (by decide) ?_
  refine br_f (by decide) ?_
  refine br_t rfl ?_
  refine br_t rfl ?_
  refine nm_r (show _ = nI 1 from rfl) ?_
  refine lj_tok_o 1 hp (lj_yb hp) ?_
  refine br_f (by decide) ?_
  refine br_t rfl ?_
  refine br_f (by decide) ?_
  refine br_f (by decide) ?_
  refine lj_sto_n 1 1 (by omega) (by omega) (by omega) ?_
  refine br_f (by decide) ?_
  refine br_f (by decide) ?_
  refine br_t rfl ?_
  refine br_t rfl ?_
  refine br_t rfl ?_
  refine lj_328 (x16 := nI 1) rfl (fun T U h1 h2 h3 => ?_)
  refine lj_431_two h1 h2 h3 (lj_R1 hp) (lj_R1 hp) ?_ ?_ lj_PR_0 rfl
  · unfold lj_cm lj_i
    repeat' split
    all_goals omega
  · rw [lj_aa _]
    exact lj_o1 p hp
theorem lj_pat7 {p r : Nat} (hp : p < 30) (hr : r < 30) (npr : p ≠ r) {y : Int32} (hy : lj_bad y) (t u : Int32) : wpL_lawOf (fun r _ => r = 1) 9 436 () (nI p) y (nI r) t u := by
  refine ⟨by decide, by decide, 8, 422, by decide, by decide, ?_⟩
  refine ⟨by decide, by decide, by decide, by decide, by decide, by decide, by decide, by decide, by decide, by decide, by decide, by decide, by decide, by decide, by decide, by decide, ?_⟩
  refine lj_good_g hp ?_
  refine lj_good_b hy ?_
  refine lj_good_g hr ?_
  refine lj_tok_n 0 hp (lj_b0 _) (by omega) (lj_z0 p) ?_
  refine br_f (by decide) ?_
  refine br_t rfl ?_
  refine br_f (by decide) ?_
  refine br_t rfl ?_
  refine nm_r (show _ = nI 1 from rfl) ?_
  refine lj_tok_b hy ?_
  refine br_t rfl ?_
  refine br_t rfl ?_
  refine lj_sto_n 1 0 (by omega) (by omega) (by omega) ?_
  refine br_f (by decide) ?_
  refine br_t rfl ?_
  refine br_f (by decide) ?_
  refine br_t rfl ?_
  refine br_f (by decide) ?_
  refine lj_drp_b hy ?_
  refine br_t rfl ?_
  refine br_t rfl ?_
  refine br_f (by decide) ?_
  refine br_f (by decide) ?_
  refine br_f (lj_neq hp hr npr) ?_
  refine br_f (by decide) ?_
  refine nm_r (show _ = nI 2 from rfl) ?_
  refine lj_tok_n 1 hr (lj_nb hp hr npr) (by omega) rfl ?_
  refine br_f (by decide) ?_
  refine br_t rfl ?_
  refine br_f (by decide) ?_
  refine br_f (by decide) ?_
  refine lj_sto_n 2 1 (by omega) (by omega) (by omega) ?_
  refine br_f (by decide) ?_
  refine br_f (by decide) ?_
  refine br_t rfl ?_
  refine br_f (by decide) ?_
  refine br_f (by decide) ?_
  refine br_f (lj_neq hp hr npr) ?_
  refine br_t rfl ?_
  refine br_t rfl ?_
  refine lj_328 (x16 := nI 1) rfl (fun T U h1 h2 h3 => ?_)
  refine lj_431_two h1 h2 h3 (lj_R1 hp) (lj_R2 hp hr npr) ?_ ?_ lj_PR_0 rfl
  · unfold lj_cm lj_i
    repeat' split
    all_goals omega
  · rw [lj_a12 hp hr]
    exact lj_o1 p hp
theorem lj_pat8 {p : Nat} (hp : p < 30) {z : Int32} (hz : lj_bad z) (t u : Int32) : wpL_lawOf (fun r _ => r = 1) 9 436 () (nI p) (nI p) z t u := by
  refine ⟨by decide, by decide, 8, 422, by decide, by decide, ?_⟩
  refine ⟨by decide, by decide, by decide, by decide, by decide, by decide, by decide, by decide, by decide, by decide, by decide, by decide, by decide, by decide, by decide, by decide, ?_⟩
  refine lj_good_g hp ?_
  refine lj_good_g hp ?_
  refine lj_good_b hz ?_
  refine lj_tok_n 0 hp (lj_b0 _) (by omega) (lj_z0 p) ?_
  refine br_f (by decide) ?_
  refine br_t rfl ?_
  refine br_f (by decide) ?_
  refine br_f (by decide) ?_
  refine br_f (by decide) ?_
  refine br_t rfl ?_
  refine nm_r (show _ = nI 1 from rfl) ?_
  refine lj_tok_o 1 hp (lj_yb hp) ?_
  refine br_f (by decide) ?_
  refine br_t rfl ?_
  refine lj_sto_n 1 0 (by omega) (by omega) (by omega) ?_
  refine br_f (by decide) ?_
  refine br_t rfl ?_
  refine br_f (by decide) ?_
  refine br_f (by decide) ?_
  refine br_t rfl ?_
  refine br_t rfl ?_
  refine lj_drp_i 0 hp (lj_yb hp) (lj_zd hp) ?_
  refine br_f (by decide) ?_
  refine br_t rfl ?_
  refine br_t rfl ?_
  refine br_t rfl ?_
  refine nm_r (show _ = nI 0 from rfl) ?_
  refine lj_tok_b hz ?_
  refine br_t rfl ?_
  refine br_t rfl ?_
  refine br_f (by decide) ?_
  refine br_t (by decide) ?_
  unfold wL_lawOf_252 wL_lawOf_253
  refine lj_sto_0 ?_
  refine br_t (by decide) ?_
  refine br_t rfl ?_
  refine br_t rfl ?_
  refine br_t rfl ?_
  refine lj_328 (x16 := nI 0) rfl (fun T U h1 h2 h3 => ?_)
  exact lj_431_one (c := 1) (by omega) h1 h2 h3 (fun _ => (lj_R1 hp)) (fun _ => rfl) lj_PR_0 rfl
theorem lj_pat9 {p q : Nat} (hp : p < 30) (hq : q < 30) (npq : p ≠ q) {z : Int32} (hz : lj_bad z) (t u : Int32) : wpL_lawOf (fun r _ => r = 1) 9 436 () (nI p) (nI q) z t u := by
  refine ⟨by decide, by decide, 8, 422, by decide, by decide, ?_⟩
  refine ⟨by decide, by decide, by decide, by decide, by decide, by decide, by decide, by decide, by decide, by decide, by decide, by decide, by decide, by decide, by decide, by decide, ?_⟩
  refine lj_good_g hp ?_
  refine lj_good_g hq ?_
  refine lj_good_b hz ?_
  refine lj_tok_n 0 hp (lj_b0 _) (by omega) (lj_z0 p) ?_
  refine br_f (by decide) ?_
  refine br_t rfl ?_
  refine br_f (by decide) ?_
  refine br_f (by decide) ?_
  refine br_f (by decide) ?_
  refine br_f (lj_neq hp hq npq) ?_
  refine nm_r (show _ = nI 2 from rfl) ?_
  refine lj_tok_n 1 hq (lj_nb hp hq npq) (by omega) rfl ?_
  refine br_f (by decide) ?_
  refine br_t rfl ?_
  refine lj_sto_n 2 0 (by omega) (by omega) (by omega) ?_
  refine br_f (by decide) ?_
  refine br_t rfl ?_
  refine br_f (by decide) ?_
  refine br_f (by decide) ?_
  refine br_f (lj_neq hp hq npq) ?_
  refine br_f (by decide) ?_
  refine lj_drp_i 1 hq (lj_yb2 hp hq) (lj_zp hp hq npq) ?_
  refine br_f (by decide) ?_
  refine br_t rfl ?_
  refine br_t rfl ?_
  refine br_t rfl ?_
  refine nm_r (show _ = nI 1 from rfl) ?_
  refine lj_tok_b hz ?_
  refine br_t rfl ?_
  refine br_t rfl ?_
  refine br_f (by decide) ?_
  refine br_f (by decide) ?_
  refine lj_sto_n 1 1 (by omega) (by omega) (by omega) ?_
  refine br_f (by decide) ?_
  refine br_f (by decide) ?_
  refine br_t rfl ?_
  refine br_t rfl ?_
  refine br_t rfl ?_
  refine lj_328 (x16 := nI 1) rfl (fun T U h1 h2 h3 => ?_)
  refine lj_431_two h1 h2 h3 (lj_R2 hp hq npq) (lj_R1 hp) ?_ ?_ lj_PR_0 rfl
  · unfold lj_cm lj_i
    repeat' split
    all_goals omega
  · rw [lj_a21 hp hq]
    exact lj_o1 p hp
theorem lj_pat10 {p : Nat} (hp : p < 30) (t u : Int32) : wpL_lawOf (fun r _ => r = 1) 9 436 () (nI p) (nI p) (nI p) t u := by
  refine ⟨by decide, by decide, 8, 422, by decide, by decide, ?_⟩
  refine ⟨by decide, by decide, by decide, by decide, by decide, by decide, by decide, by decide, by decide, by decide, by decide, by decide, by decide, by decide, by decide, by decide, ?_⟩
  refine lj_good_g hp ?_
  refine lj_good_g hp ?_
  refine lj_good_g hp ?_
  refine lj_tok_n 0 hp (lj_b0 _) (by omega) (lj_z0 p) ?_
  refine br_f (by decide) ?_
  refine br_t rfl ?_
  refine br_f (by decide) ?_
  refine br_f (by decide) ?_
  refine br_f (by decide) ?_
  refine br_t rfl ?_
  refine nm_r (show _ = nI 1 from rfl) ?_
  refine lj_tok_o 1 hp (lj_yb hp) ?_
  refine br_f (by decide) ?_
  refine br_t rfl ?_
  refine lj_sto_n 1 0 (by omega) (by omega) (by omega) ?_
  refine br_f (by decide) ?_
  refine br_t rfl ?_
  refine br_f (by decide) ?_
  refine br_f (by decide) ?_
  refine br_t rfl ?_
  refine br_t rfl ?_
  refine lj_drp_i 0 hp (lj_yb hp) (lj_zd hp) ?_
  refine br_f (by decide) ?_
  refine br_t rfl ?_
  refine br_f (by decide) ?_
  refine br_t rfl ?_
  refine br_f (by decide) ?_
  refine nm_r (show _ = nI 1 from rfl) ?_
  refine lj_tok_n 0 hp (lj_b0 _) (by omega) (lj_z0 p) ?_
  refine br_f (by decide) ?_
  refine br_t rfl ?_
  refine br_f (by decide) ?_
  refine br_f (by decide) ?_
  refine lj_sto_n 1 1 (by omega) (by omega) (by omega) ?_
  refine br_f (by decide) ?_
  refine br_f (by decide) ?_
  refine br_t rfl ?_
  refine br_f (by decide) ?_
  refine br_f (by decide) ?_
  refine br_t rfl ?_
  refine br_f (by decide) ?_
  refine lj_328 (x16 := nI 1) rfl (fun T U h1 h2 h3 => ?_)
  refine lj_431_two h1 h2 h3 (lj_R1 hp) (lj_R1 hp) ?_ ?_ lj_PR_0 rfl
  · unfold lj_cm lj_i
    repeat' split
    all_goals omega
  · rw [lj_aa _]
    exact lj_o1 p hp
theorem lj_pat11 {p r : Nat} (hp : p < 30) (hr : r < 30) (npr : p ≠ r) (t u : Int32) : wpL_lawOf (fun r _ => r = 1) 9 436 () (nI p) (nI p) (nI r) t u := by
  refine ⟨by decide, by decide, 8, 422, by decide, by decide, ?_⟩
  refine ⟨by decide, by decide, by decide, by decide, by decide, by decide, by decide, by decide, by decide, by decide, by decide, by decide, by decide, by decide, by decide, by decide, ?_⟩
  refine lj_good_g hp ?_
  refine lj_good_g hp ?_
  refine lj_good_g hr ?_
  refine lj_tok_n 0 hp (lj_b0 _) (by omega) (lj_z0 p) ?_
  refine br_f (by decide) ?_
  refine br_t rfl ?_
  refine br_f (by decide) ?_
  refine br_f (by decide) ?_
  refine br_f (by decide) ?_
  refine br_t rfl ?_
  refine nm_r (show _ = nI 1 from rfl) ?_
  refine lj_tok_o 1 hp (lj_yb hp) ?_
  refine br_f (by decide) ?_
  refine br_t rfl ?_
  refine lj_sto_n 1 0 (by omega) (by omega) (by omega) ?_
  refine br_f (by decide) ?_
  refine br_t rfl ?_
  refine br_f (by decide) ?_
  refine br_f (by decide) ?_
  refine br_t rfl ?_
  refine br_t rfl ?_
  refine lj_drp_i 0 hp (lj_yb hp) (lj_zd hp) ?_
  refine br_f (by decide) ?_
  refine br_t rfl ?_
  refine br_f (by decide) ?_
  refine br_t rfl ?_
  refine br_f (by decide) ?_
  refine nm_r (show _ = nI 1 from rfl) ?_
  refine lj_tok_n 0 hr (lj_b0 _) (by omega) (lj_z0 r) ?_
  refine br_f (by decide) ?_
  refine br_t rfl ?_
  refine br_f (by decide) ?_
  refine br_f (by decide) ?_
  refine lj_sto_n 1 1 (by omega) (by omega) (by omega) ?_
  refine br_f (by decide) ?_
  refine br_f (by decide) ?_
  refine br_t rfl ?_
  refine br_f (by decide) ?_
  refine br_f (by decide) ?_
  refine br_f (lj_neq hp hr npr) ?_
  refine br_f (by decide) ?_
  refine br_f (lj_neq hp hr npr) ?_
  refine br_t rfl ?_
  refine lj_328 (x16 := nI 0) rfl (fun T U h1 h2 h3 => ?_)
  refine lj_431_two h1 h2 h3 (lj_R1 hp) (lj_R1 hr) ?_ ?_ lj_PR_0 rfl
  · unfold lj_cm lj_i
    repeat' split
    all_goals omega
  · rw [lj_a11 hp hr npr]
    exact lj_o0
theorem lj_pat12 {p q : Nat} (hp : p < 30) (hq : q < 30) (npq : p ≠ q) (t u : Int32) : wpL_lawOf (fun r _ => r = 1) 9 436 () (nI p) (nI q) (nI p) t u := by
  refine ⟨by decide, by decide, 8, 422, by decide, by decide, ?_⟩
  refine ⟨by decide, by decide, by decide, by decide, by decide, by decide, by decide, by decide, by decide, by decide, by decide, by decide, by decide, by decide, by decide, by decide, ?_⟩
  refine lj_good_g hp ?_
  refine lj_good_g hq ?_
  refine lj_good_g hp ?_
  refine lj_tok_n 0 hp (lj_b0 _) (by omega) (lj_z0 p) ?_
  refine br_f (by decide) ?_
  refine br_t rfl ?_
  refine br_f (by decide) ?_
  refine br_f (by decide) ?_
  refine br_f (by decide) ?_
  refine br_f (lj_neq hp hq npq) ?_
  refine nm_r (show _ = nI 2 from rfl) ?_
  refine lj_tok_n 1 hq (lj_nb hp hq npq) (by omega) rfl ?_
  refine br_f (by decide) ?_
  refine br_t rfl ?_
  refine lj_sto_n 2 0 (by omega) (by omega) (by omega) ?_
  refine br_f (by decide) ?_
  refine br_t rfl ?_
  refine br_f (by decide) ?_
  refine br_f (by decide) ?_
  refine br_f (lj_neq hp hq npq) ?_
  refine br_f (by decide) ?_
  refine lj_drp_i 1 hq (lj_yb2 hp hq) (lj_zp hp hq npq) ?_
  refine br_f (by decide) ?_
  refine br_t rfl ?_
  refine br_f (by decide) ?_
  refine br_f (by decide) ?_
  refine br_t rfl ?_
  refine br_t rfl ?_
  refine nm_r (show _ = nI 1 from rfl) ?_
  refine lj_tok_o 1 hp (lj_yb hp) ?_
  refine br_f (by decide) ?_
  refine br_t rfl ?_
  refine br_f (by decide) ?_
  refine br_f (by decide) ?_
  refine lj_sto_n 1 1 (by omega) (by omega) (by omega) ?_
  refine br_f (by decide) ?_
  refine br_f (by decide) ?_
  refine br_t rfl ?_
  refine br_t rfl ?_
  refine br_t rfl ?_
  refine lj_328 (x16 := nI 1) rfl (fun T U h1 h2 h3 => ?_)
  refine lj_431_two h1 h2 h3 (lj_R2 hp hq npq) (lj_R1 hp) ?_ ?_ lj_PR_0 rfl
  · unfold lj_cm lj_i
    repeat' split
    all_goals omega
  · rw [lj_a21 hp hq]
    exact lj_o1 p hp
theorem lj_pat13 {p q : Nat} (hp : p < 30) (hq : q < 30) (npq : p ≠ q) (t u : Int32) : wpL_lawOf (fun r _ => r = 1) 9 436 () (nI p) (nI q) (nI q) t u := by
  refine ⟨by decide, by decide, 8, 422, by decide, by decide, ?_⟩
  refine ⟨by decide, by decide, by decide, by decide, by decide, by decide, by decide, by decide, by decide, by decide, by decide, by decide, by decide, by decide, by decide, by decide, ?_⟩
  refine lj_good_g hp ?_
  refine lj_good_g hq ?_
  refine lj_good_g hq ?_
  refine lj_tok_n 0 hp (lj_b0 _) (by omega) (lj_z0 p) ?_
  refine br_f (by decide) ?_
  refine br_t rfl ?_
  refine br_f (by decide) ?_
  refine br_f (by decide) ?_
  refine br_f (by decide) ?_
  refine br_f (lj_neq hp hq npq) ?_
  refine nm_r (show _ = nI 2 from rfl) ?_
  refine lj_tok_n 1 hq (lj_nb hp hq npq) (by omega) rfl ?_
  refine br_f (by decide) ?_
  refine br_t rfl ?_
  refine lj_sto_n 2 0 (by omega) (by omega) (by omega) ?_
  refine br_f (by decide) ?_
  refine br_t rfl ?_
  refine br_f (by decide) ?_
  refine br_f (by decide) ?_
  refine br_f (lj_neq hp hq npq) ?_
  refine br_f (by decide) ?_
  refine lj_drp_i 1 hq (lj_yb2 hp hq) (lj_zp hp hq npq) ?_
  refine br_f (by decide) ?_
  refine br_t rfl ?_
  refine br_f (by decide) ?_
  refine br_f (by decide) ?_
  refine br_f (lj_neq hp hq npq) ?_
  refine br_f (by decide) ?_
  refine nm_r (show _ = nI 2 from rfl) ?_
  refine lj_tok_n 1 hq (lj_nb hp hq npq) (by omega) rfl ?_
  refine br_f (by decide) ?_
  refine br_t rfl ?_
  refine br_f (by decide) ?_
  refine br_f (by decide) ?_
  refine lj_sto_n 2 1 (by omega) (by omega) (by omega) ?_
  refine br_f (by decide) ?_
  refine br_f (by decide) ?_
  refine br_t rfl ?_
  refine br_f (by decide) ?_
  refine br_f (by decide) ?_
  refine br_f (lj_neq hp hq npq) ?_
  refine br_f (by decide) ?_
  refine br_t rfl ?_
  refine br_f (by decide) ?_
  refine lj_328 (x16 := nI 2) rfl (fun T U h1 h2 h3 => ?_)
  refine lj_431_two h1 h2 h3 (lj_R2 hp hq npq) (lj_R2 hp hq npq) ?_ ?_ lj_PR_0 rfl
  · unfold lj_cm lj_i
    repeat' split
    all_goals omega
  · rw [lj_aa _]
    exact lj_o2 p hp q hq npq
theorem lj_pat14 {p q r : Nat} (hp : p < 30) (hq : q < 30) (hr : r < 30) (npq : p ≠ q) (npr : p ≠ r) (nqr : q ≠ r) (t u : Int32) : wpL_lawOf (fun r _ => r = 1) 9 436 () (nI p) (nI q) (nI r) t u := by
  refine ⟨by decide, by decide, 8, 422, by decide, by decide, ?_⟩
  refine ⟨by decide, by decide, by decide, by decide, by decide, by decide, by decide, by decide, by decide, by decide, by decide, by decide, by decide, by decide, by decide, by decide, ?_⟩
  refine lj_good_g hp ?_
  refine lj_good_g hq ?_
  refine lj_good_g hr ?_
  refine lj_tok_n 0 hp (lj_b0 _) (by omega) (lj_z0 p) ?_
  refine br_f (by decide) ?_
  refine br_t rfl ?_
  refine br_f (by decide) ?_
  refine br_f (by decide) ?_
  refine br_f (by decide) ?_
  refine br_f (lj_neq hp hq npq) ?_
  refine nm_r (show _ = nI 2 from rfl) ?_
  refine lj_tok_n 1 hq (lj_nb hp hq npq) (by omega) rfl ?_
  refine br_f (by decide) ?_
  refine br_t rfl ?_
  refine lj_sto_n 2 0 (by omega) (by omega) (by omega) ?_
  refine br_f (by decide) ?_
  refine br_t rfl ?_
  refine br_f (by decide) ?_
  refine br_f (by decide) ?_
  refine br_f (lj_neq hp hq npq) ?_
  refine br_f (by decide) ?_
  refine lj_drp_i 1 hq (lj_yb2 hp hq) (lj_zp hp hq npq) ?_
  refine br_f (by decide) ?_
  refine br_t rfl ?_
  refine br_f (by decide) ?_
  refine br_f (by decide) ?_
  refine br_f (lj_neq hp hr npr) ?_
  refine br_f (by decide) ?_
  refine nm_r (show _ = nI 2 from rfl) ?_
  refine lj_tok_n 1 hr (lj_nb hp hr npr) (by omega) rfl ?_
  refine br_f (by decide) ?_
  refine br_t rfl ?_
  refine br_f (by decide) ?_
  refine br_f (by decide) ?_
  refine lj_sto_n 2 1 (by omega) (by omega) (by omega) ?_
  refine br_f (by decide) ?_
  refine br_f (by decide) ?_
  refine br_t rfl ?_
  refine br_f (by decide) ?_
  refine br_f (by decide) ?_
  refine br_f (lj_neq hp hr npr) ?_
  refine br_f (by decide) ?_
  refine br_f (lj_neq hq hr nqr) ?_
  refine br_t rfl ?_
  refine lj_328 (x16 := nI 1) rfl (fun T U h1 h2 h3 => ?_)
  refine lj_431_two h1 h2 h3 (lj_R2 hp hq npq) (lj_R2 hp hr npr) ?_ ?_ lj_PR_0 rfl
  · unfold lj_cm lj_i
    repeat' split
    all_goals omega
  · rw [lj_a22 hp hq hr nqr.symm]
    exact lj_o1 p hp
end
section
theorem lj_all (x y z t u : Int32) : wpL_lawOf (fun r _ => r = 1) 9 436 () x y z t u := by
  rcases lj_gb x with hx | ⟨p, hp, rfl⟩ <;> rcases lj_gb y with hy | ⟨q, hq, rfl⟩ <;> rcases lj_gb z with hz | ⟨r, hr, rfl⟩
  · exact lj_pat0 hx hy hz t u
  · exact lj_pat1 hr hx hy t u
  · exact lj_pat2 hq hx hz t u
  · by_cases e : q = r
    · subst e
      exact lj_pat3 hq hx t u
    · exact lj_pat4 hq hr e hx t u
  · exact lj_pat5 hp hy hz t u
  · by_cases e : p = r
    · subst e
      exact lj_pat6 hp hy t u
    · exact lj_pat7 hp hr e hy t u
  · by_cases e : p = q
    · subst e
      exact lj_pat8 hp hz t u
    · exact lj_pat9 hp hq e hz t u
  · by_cases e : p = q
    · subst e
      by_cases e2 : p = r
      · subst e2
        exact lj_pat10 hp t u
      · exact lj_pat11 hp hr e2 t u
    · by_cases e2 : p = r
      · subst e2
        exact lj_pat12 hp hq e t u
      · by_cases e3 : q = r
        · subst e3
          exact lj_pat13 hp hq e t u
        · exact lj_pat14 hp hq hr e e2 e3 t u
theorem lj_cell {post : Int32 → Prop} {L : Nat} {xs : Nat → Int32} (hL : L ≤ 5) (k : Nat) (hk : k < 5) (H : ∀ r, post r) : wpL_cellAt post L xs () (nI k) :=
  pk_le L k (fun _ => H 0) (fun z => ⟨pk_in k L z, H _⟩)
theorem i_vc (xs : Nat → Int32) (L : Nat) (hL : L ≤ 5) : wpL_law (fun r => r = 1) L xs :=
  lj_cell hL 0 (by omega) (fun x => lj_cell hL 1 (by omega) (fun y => lj_cell hL 2 (by omega) (fun z => lj_cell hL 3 (by omega) (fun t => lj_cell hL 4 (by omega) (fun u => ⟨9, 436, by decide, by decide, lj_all x y z t u⟩)))))
end
