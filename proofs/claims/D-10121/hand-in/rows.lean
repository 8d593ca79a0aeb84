section
/-! arrays of small numbers against pictures over Nat; permutations of [0, n); beginnings of rotations as numbers -/
def qa_A (a : Nat → Int32) (f : Nat → Nat) (n : Nat) : Prop := ∀ j, j < n → a j = nI (f j)
def qa_u (f : Nat → Nat) (k v : Nat) : Nat → Nat := fun j => if j = k then v else f j
theorem qa_us (f : Nat → Nat) (k v : Nat) : qa_u f k v k = v := if_pos rfl
theorem qa_un {f : Nat → Nat} {k j v : Nat} (h : j ≠ k) : qa_u f k v j = f j := if_neg h
theorem qa_up {a : Nat → Int32} {f : Nat → Nat} {n k v : Nat} (h : qa_A a f n) : qa_A (upd a k (nI v)) (qa_u f k v) n := by
  intro j hj
  by_cases e : j = k
  · rw [e, pk_us, qa_us]
  · rw [pk_un e, qa_un e]; exact h j hj
theorem qa_fill {a : Nat → Int32} {f : Nat → Nat} {i : Nat} {x : Int32} (h : qa_A a f i) (hx : x = nI (f i)) : qa_A (upd a i x) f (i + 1) := by
  intro j hj
  by_cases e : j = i
  · rw [e, pk_us, hx]
  · rw [pk_un e]; exact h j (by omega)
theorem qa_mono {a : Nat → Int32} {f : Nat → Nat} {m n : Nat} (h : qa_A a f n) (hm : m ≤ n) : qa_A a f m := fun j hj => h j (by omega)
theorem qa_congr {a : Nat → Int32} {f g : Nat → Nat} {n : Nat} (h : qa_A a f n) (hg : ∀ j, j < n → f j = g j) : qa_A a g n := fun j hj => by rw [h j hj, hg j hj]
theorem qa_b : ∀ v, v < 128 → (nI v).toInt8.toInt32 = nI v := by decide +kernel
theorem qa_nb {v : Nat} (h : v < 128) : vp_nar .byte (nI v) = nI v := by rw [vp_nar_byte, qa_b v h]
theorem qa_sgn {a b : Nat} (ha : a < 2 ^ 30) (hb : b < 2 ^ 30) : (nI a - nI b = 0 ↔ a = b) ∧ (0 < nI a - nI b ↔ b < a) := by
  have h := pk_sub_toInt ha hb
  have z : (0 : Int32).toInt = 0 := by decide
  constructor
  · rw [← Int32.toInt_inj, h, z]; omega
  · rw [Int32.lt_iff_toInt_lt, h, z]; omega

/-! permutations -/
def qp_P (o : Nat → Nat) (n : Nat) : Prop := (∀ j, j < n → o j < n) ∧ (∀ i j, i < n → j < n → o i = o j → i = j)
theorem qp_surj : ∀ (n : Nat) (f : Nat → Nat), qp_P f n → ∀ p, p < n → ∃ j, j < n ∧ f j = p
  | 0, _, _, _, hp => absurd hp (by omega)
  | n + 1, f, h, p, hp => by
    obtain ⟨h1, h2⟩ := h
    have hv : f n < n + 1 := h1 n (by omega)
    have hg : qp_P (fun j => if f j = n then f n else f j) n := by
      constructor
      · intro j hj
        have a := h1 j (by omega)
        show (if f j = n then f n else f j) < n
        by_cases e : f j = n
        · rw [if_pos e]
          have : f n ≠ n := fun z => absurd (h2 j n (by omega) (by omega) (by rw [e, z])) (by omega)
          omega
        · rw [if_neg e]; omega
      · intro i j hi hj e
        have e' : (if f i = n then f n else f i) = (if f j = n then f n else f j) := e
        by_cases ei : f i = n
        · by_cases ej : f j = n
          · exact h2 i j (by omega) (by omega) (by rw [ei, ej])
          · rw [if_pos ei, if_neg ej] at e'
            exact absurd (h2 n j (by omega) (by omega) e') (by omega)
        · by_cases ej : f j = n
          · rw [if_neg ei, if_pos ej] at e'
            exact absurd (h2 i n (by omega) (by omega) e') (by omega)
          · rw [if_neg ei, if_neg ej] at e'
            exact h2 i j (by omega) (by omega) e'
    by_cases hpn : p = f n
    · exact ⟨n, by omega, hpn.symm⟩
    · by_cases hq : p = n
      · have hlt : f n < n := by omega
        obtain ⟨j, hj, e⟩ := qp_surj n _ hg (f n) hlt
        have e' : (if f j = n then f n else f j) = f n := e
        by_cases ej : f j = n
        · exact ⟨j, by omega, by omega⟩
        · rw [if_neg ej] at e'
          exact absurd (h2 j n (by omega) (by omega) e') (by omega)
      · obtain ⟨j, hj, e⟩ := qp_surj n _ hg p (by omega)
        have e' : (if f j = n then f n else f j) = p := e
        by_cases ej : f j = n
        · rw [if_pos ej] at e'; omega
        · rw [if_neg ej] at e'; exact ⟨j, by omega, e'⟩
theorem qp_comp {f g : Nat → Nat} {n : Nat} (hf : qp_P f n) (hg : qp_P g n) : qp_P (fun j => f (g j)) n :=
  ⟨fun j hj => hf.1 _ (hg.1 j hj), fun i j hi hj e => hg.2 i j hi hj (hf.2 _ _ (hg.1 i hi) (hg.1 j hj) e)⟩
theorem qp_le {f : Nat → Nat} {k n : Nat} (h1 : ∀ j, j < k → f j < n) (h2 : ∀ i j, i < k → j < k → f i = f j → i = j) : k ≤ n := by
  rcases Nat.lt_or_ge n k with z | z
  · obtain ⟨j, hj, e⟩ := qp_surj k f ⟨fun j hj => by have := h1 j hj; omega, h2⟩ n z
    have := h1 j hj
    omega
  · exact z
theorem qp_onto {f : Nat → Nat} {k n : Nat} (h : ∀ m, m < n → ∃ j, j < k ∧ f j = m) : n ≤ k := by
  have h' : ∀ m, ∃ j, m < n → (j < k ∧ f j = m) := by
    intro m
    by_cases hm : m < n
    · obtain ⟨j, hj⟩ := h m hm
      exact ⟨j, fun _ => hj⟩
    · exact ⟨0, fun z => absurd z hm⟩
  obtain ⟨g, hg⟩ := Classical.skolem.mp h'
  refine qp_le (f := g) (fun j hj => (hg j hj).1) (fun i j hi hj e => ?_)
  rw [← (hg i hi).2, ← (hg j hj).2, e]
/-- sorted by V below i -/
def qs_S (V o : Nat → Nat) (i : Nat) : Prop := ∀ j k, j ≤ k → k < i → V (o j) ≤ V (o k)
theorem qp_sle {V p r : Nat → Nat} {n : Nat} (hp : qp_P p n) (hr : qp_P r n) (sp : qs_S V p n) (sr : qs_S V r n) {j : Nat} (hj : j < n) : V (p j) ≤ V (r j) := by
  rcases Nat.lt_or_ge (V (r j)) (V (p j)) with z | z
  · have h' : ∀ i, ∃ k, i < j + 1 → (k < j ∧ p k = r i) := by
      intro i
      by_cases hi : i < j + 1
      · obtain ⟨k, hk, e⟩ := qp_surj n p hp (r i) (hr.1 i (by omega))
        refine ⟨k, fun _ => ⟨?_, e⟩⟩
        rcases Nat.lt_or_ge k j with y | y
        · exact y
        · have a := sp j k y hk
          have b := sr i j (by omega) hj
          rw [e] at a
          omega
      · exact ⟨0, fun y => absurd y hi⟩
    obtain ⟨g, hg⟩ := Classical.skolem.mp h'
    have := qp_le (f := g) (k := j + 1) (n := j) (fun i hi => (hg i hi).1) (fun a b ha hb e => by
      have ea := (hg a ha).2
      have eb := (hg b hb).2
      rw [e, eb] at ea
      exact (hr.2 b a (by omega) (by omega) ea).symm)
    omega
  · exact z
theorem qp_seq {V p r : Nat → Nat} {n : Nat} (hp : qp_P p n) (hr : qp_P r n) (sp : qs_S V p n) (sr : qs_S V r n) {j : Nat} (hj : j < n) : V (p j) = V (r j) :=
  Nat.le_antisymm (qp_sle hp hr sp sr hj) (qp_sle hr hp sr sp hj)

/-! beginnings of rotations as numbers to the base 6 -/
def qv_V (t : Nat → Nat) (n : Nat) : Nat → Nat → Nat
  | 0, _ => 0
  | r + 1, p => t (p % n) * 6 ^ r + qv_V t n r (p + 1)
theorem qv_per {t : Nat → Nat} {n : Nat} : ∀ r p q, p % n = q % n → qv_V t n r p = qv_V t n r q
  | 0, _, _, _ => rfl
  | r + 1, p, q, h => by
    show t (p % n) * 6 ^ r + qv_V t n r (p + 1) = t (q % n) * 6 ^ r + qv_V t n r (q + 1)
    rw [h, qv_per r (p + 1) (q + 1) (by rw [Nat.add_mod, h, ← Nat.add_mod])]
theorem qv_lt {t : Nat → Nat} {n : Nat} (ht : ∀ j, j < n → t j < 6) (hn : 0 < n) : ∀ r p, qv_V t n r p < 6 ^ r
  | 0, _ => by show 0 < 6 ^ 0; decide
  | r + 1, p => by
    have a := qv_lt ht hn r (p + 1)
    have b := ht (p % n) (Nat.mod_lt _ hn)
    show t (p % n) * 6 ^ r + qv_V t n r (p + 1) < 6 ^ (r + 1)
    rw [Nat.pow_succ]
    have c : t (p % n) * 6 ^ r ≤ 5 * 6 ^ r := Nat.mul_le_mul_right _ (by omega)
    omega
theorem qv_add {t : Nat → Nat} {n : Nat} : ∀ r s p, qv_V t n (r + s) p = qv_V t n r p * 6 ^ s + qv_V t n s (p + r)
  | 0, s, p => by
    rw [Nat.zero_add]
    show _ = 0 * 6 ^ s + _
    rw [Nat.zero_mul, Nat.zero_add, Nat.add_zero]
  | r + 1, s, p => by
    rw [show r + 1 + s = (r + s) + 1 by omega]
    show t (p % n) * 6 ^ (r + s) + qv_V t n (r + s) (p + 1) = (t (p % n) * 6 ^ r + qv_V t n r (p + 1)) * 6 ^ s + qv_V t n s (p + (r + 1))
    rw [qv_add r s (p + 1), Nat.pow_add, Nat.add_mul, Nat.mul_assoc, show p + 1 + r = p + (r + 1) by omega, Nat.add_assoc]
theorem qv_lexlt {A A' B B' m : Nat} (hB : B < m) (hB' : B' < m) : A * m + B < A' * m + B' ↔ A < A' ∨ (A = A' ∧ B < B') := by
  rcases Nat.lt_trichotomy A A' with h | h | h
  · have : (A + 1) * m ≤ A' * m := Nat.mul_le_mul_right _ h
    rw [Nat.add_mul] at this
    omega
  · rw [h]; omega
  · have : (A' + 1) * m ≤ A * m := Nat.mul_le_mul_right _ h
    rw [Nat.add_mul] at this
    omega
theorem qv_split {A A' B B' m : Nat} (hB : B < m) (hB' : B' < m) (e : A * m + B = A' * m + B') : A = A' ∧ B = B' := by
  have h1 := qv_lexlt (A := A) (A' := A') hB hB'
  have h2 := qv_lexlt (A := A') (A' := A) hB' hB
  omega
/-- the numbers c go with V -/
def qv_C (c V : Nat → Nat) (n : Nat) : Prop := ∀ p q, p < n → q < n → (c p < c q ↔ V p < V q)
/-- what compare looks at -/
def qv_D (c V : Nat → Nat) (r n : Nat) : Prop := ∀ p q, p < n → q < n → (V p < V q ↔ c p < c q ∨ (c p = c q ∧ c ((p + r) % n) < c ((q + r) % n)))
theorem qv_dbl {t c : Nat → Nat} {n r : Nat} (ht : ∀ j, j < n → t j < 6) (h : qv_C c (qv_V t n r) n) : qv_D c (qv_V t n (r + r)) r n := by
  intro p q hp hq
  have hn : 0 < n := by omega
  have hp' : (p + r) % n < n := Nat.mod_lt _ hn
  have hq' : (q + r) % n < n := Nat.mod_lt _ hn
  have e1 : qv_V t n r ((p + r) % n) = qv_V t n r (p + r) := qv_per r _ _ (Nat.mod_mod _ _)
  have e2 : qv_V t n r ((q + r) % n) = qv_V t n r (q + r) := qv_per r _ _ (Nat.mod_mod _ _)
  rw [qv_add, qv_add, qv_lexlt (qv_lt ht hn r _) (qv_lt ht hn r _), h p q hp hq, h _ _ hp' hq', e1, e2]
  have a := h p q hp hq
  have b := h q p hq hp
  constructor
  · rintro (z | ⟨z, y⟩)
    · exact Or.inl z
    · exact Or.inr ⟨by omega, y⟩
  · rintro (z | ⟨z, y⟩)
    · exact Or.inl z
    · exact Or.inr ⟨by omega, y⟩
end
section
/-! compare, comesAfter, sink, sortRotations -/
theorem bk_compare {post : Int32 → Prop} {f2 f3 f4 f5 : Int32} {a1 a2 a3 a4 a5 a6 a7 a8 a9 a10 a11 a12 a14 a15 : Nat → Int32} {a13 : Nat → Int64} {c V : Nat → Nat} {n p q r : Nat} (hn : n ≤ 32) (hc : qa_A a3 c n) (hb : ∀ j, j < n → c j < 64) (hV : qv_D c V r n) (hp : p < n) (hq : q < n) (hr : r < 64)
    (H : ∀ x : Int32, (x = 0 ↔ V p = V q) → (0 < x ↔ V q < V p) → post x) : wpX_compare post ((nI n), f2, f3, f4, f5, a1, a2, a3, a4, a5, a6, a7, a8, a9, a10, a11, a12, a13, a14, a15) (nI p) (nI q) (nI r) := by
  unfold wpX_compare
  dsimp only
  have hn0 : 0 < n := by omega
  have hP : (p + r) % n < n := Nat.mod_lt _ hn0
  have hQ : (q + r) % n < n := Nat.mod_lt _ hn0
  have e1 : a3 (nI p).toNatClampNeg = nI (c p) := by rw [nI_clamp (by omega)]; exact hc p hp
  have e2 : a3 (nI q).toNatClampNeg = nI (c q) := by rw [nI_clamp (by omega)]; exact hc q hq
  have r1 : (nI p + nI r) - (nI p + nI r) / nI n * nI n = nI ((p + r) % n) := by rw [nI_add]; exact pk_rem (by omega) hn0 (by omega)
  have r2 : (nI q + nI r) - (nI q + nI r) / nI n * nI n = nI ((q + r) % n) := by rw [nI_add]; exact pk_rem (by omega) hn0 (by omega)
  have e3 : a3 (nI ((p + r) % n)).toNatClampNeg = nI (c ((p + r) % n)) := by rw [nI_clamp (by omega)]; exact hc _ hP
  have e4 : a3 (nI ((q + r) % n)).toNatClampNeg = nI (c ((q + r) % n)) := by rw [nI_clamp (by omega)]; exact hc _ hQ
  have b1 := hb p hp
  have b2 := hb q hq
  have b3 := hb _ hP
  have b4 := hb _ hQ
  have d1 := hV p q hp hq
  have d2 := hV q p hq hp
  rw [r1, r2, e1, e2, e3, e4]
  refine ⟨pk_in p 32 (by omega), pk_in q 32 (by omega), pk_eq (c p) (c q) (fun z => ?_) (fun z => ?_)⟩
  · refine ⟨nI_ne0 hn0 (by omega), pk_in ((p + r) % n) 32 (by omega), nI_ne0 hn0 (by omega), pk_in ((q + r) % n) 32 (by omega), ?_⟩
    have s := qa_sgn (a := c ((p + r) % n)) (b := c ((q + r) % n)) (by omega) (by omega)
    exact H _ (by rw [s.1]; omega) (by rw [s.2]; omega)
  · refine ⟨pk_in p 32 (by omega), pk_in q 32 (by omega), ?_⟩
    have s := qa_sgn (a := c p) (b := c q) (by omega) (by omega)
    exact H _ (by rw [s.1]; omega) (by rw [s.2]; omega)
theorem bk_after {post : Int32 → Prop} {f2 f3 f4 f5 : Int32} {a1 a2 a3 a4 a5 a6 a7 a8 a9 a10 a11 a12 a14 a15 : Nat → Int32} {a13 : Nat → Int64} {c V : Nat → Nat} {n p q r : Nat} (hn : n ≤ 32) (hc : qa_A a3 c n) (hb : ∀ j, j < n → c j < 64) (hV : qv_D c V r n) (hp : p < n) (hq : q < n) (hr : r < 64)
    (H0 : V p ≤ V q → post 0) (H1 : V q ≤ V p → post 1) : wpX_comesAfter post ((nI n), f2, f3, f4, f5, a1, a2, a3, a4, a5, a6, a7, a8, a9, a10, a11, a12, a13, a14, a15) (nI p) (nI q) (nI r) := by
  unfold wpX_comesAfter
  dsimp only
  refine bk_compare hn hc hb hV hp hq hr (fun x h0 h1 => br_c (fun z => H1 ?_) (fun z => br_c (fun y => br_c (fun _ => H0 ?_) (fun _ => H1 ?_)) (fun _ => H0 ?_)))
  · have := h1.mp z; omega
  · have := h0.mp y; omega
  · have := h0.mp y; omega
  · have : ¬ V q < V p := fun w => z (h1.mpr w)
    omega
/-- o i is put at place w, those from w on are moved up -/
def qs_ins (o : Nat → Nat) (i w : Nat) : Nat → Nat := fun j => if j < w then o j else if j = w then o i else if j ≤ i then o (j - 1) else o j
def qs_rot (i w : Nat) : Nat → Nat := fun j => if j < w then j else if j = w then i else if j ≤ i then j - 1 else j
theorem qs_insrot (o : Nat → Nat) (i w : Nat) : qs_ins o i w = fun j => o (qs_rot i w j) := by
  funext j
  unfold qs_ins qs_rot
  by_cases h1 : j < w
  · rw [if_pos h1, if_pos h1]
  · by_cases h2 : j = w
    · rw [if_neg h1, if_pos h2, if_neg h1, if_pos h2]
    · by_cases h3 : j ≤ i
      · rw [if_neg h1, if_neg h2, if_pos h3, if_neg h1, if_neg h2, if_pos h3]
      · rw [if_neg h1, if_neg h2, if_neg h3, if_neg h1, if_neg h2, if_neg h3]
theorem qs_rotP {i w n : Nat} (hi : i < n) (hw : w ≤ i) : qp_P (qs_rot i w) n := by
  constructor
  · intro j hj
    unfold qs_rot
    split
    · exact hj
    · split
      · exact hi
      · split <;> omega
  · intro a b ha hb e
    unfold qs_rot at e
    split at e <;> split at e <;> (try omega) <;> split at e <;> (try omega) <;> split at e <;> (try omega) <;> split at e <;> (try omega) <;> split at e <;> omega
theorem qs_insP {o : Nat → Nat} {i w n : Nat} (h : qp_P o n) (hi : i < n) (hw : w ≤ i) : qp_P (qs_ins o i w) n := by
  rw [qs_insrot]; exact qp_comp h (qs_rotP hi hw)
theorem qs_insS {V o : Nat → Nat} {i w : Nat} (h : qs_S V o i) (hw : w ≤ i) (h1 : 0 < w → V (o (w - 1)) ≤ V (o i)) (h2 : ∀ j, w < j → j ≤ i → V (o i) ≤ V (o (j - 1))) : qs_S V (qs_ins o i w) (i + 1) := by
  intro j k hjk hk
  unfold qs_ins
  by_cases j1 : j < w
  · rw [if_pos j1]
    by_cases k1 : k < w
    · rw [if_pos k1]; exact h j k hjk (by omega)
    · rw [if_neg k1]
      by_cases k2 : k = w
      · rw [if_pos k2]
        have a := h j (w - 1) (by omega) (by omega)
        have b := h1 (by omega)
        omega
      · rw [if_neg k2, if_pos (by omega)]
        exact h j (k - 1) (by omega) (by omega)
  · rw [if_neg j1, if_neg (show ¬ k < w by omega)]
    by_cases j2 : j = w
    · rw [if_pos j2]
      by_cases k2 : k = w
      · rw [if_pos k2]; exact Nat.le_refl _
      · rw [if_neg k2, if_pos (by omega)]
        exact h2 k (by omega) (by omega)
    · rw [if_neg j2, if_pos (by omega), if_neg (show ¬ k = w by omega), if_pos (by omega)]
      exact h (j - 1) (k - 1) (by omega) (by omega)
/-- the row while o i sinks: place w is free -/
def qs_mid (o : Nat → Nat) (i w : Nat) : Nat → Nat := fun j => if j ≤ w then o j else if j ≤ i then o (j - 1) else o j
theorem qs_midins (o : Nat → Nat) (i w j : Nat) : qa_u (qs_mid o i w) w (o i) j = qs_ins o i w j := by
  unfold qa_u qs_mid qs_ins
  by_cases e : j = w
  · rw [if_pos e, if_neg (show ¬ j < w by omega), if_pos e]
  · rw [if_neg e]
    by_cases e2 : j ≤ w
    · rw [if_pos e2, if_pos (show j < w by omega)]
    · rw [if_neg e2, if_neg (show ¬ j < w by omega), if_neg e]
theorem qs_midmid {o : Nat → Nat} {i w : Nat} (hw : w + 1 ≤ i) (j : Nat) : qa_u (qs_mid o i (w + 1)) (w + 1) (o w) j = qs_mid o i w j := by
  unfold qa_u qs_mid
  by_cases e : j = w + 1
  · rw [if_pos e, if_neg (show ¬ j ≤ w by omega), if_pos (show j ≤ i by omega), e]; rfl
  · rw [if_neg e]
    by_cases e2 : j ≤ w + 1
    · rw [if_pos e2, if_pos (show j ≤ w by omega)]
    · rw [if_neg e2, if_neg (show ¬ j ≤ w by omega)]
theorem bk_sink {post : St1 → Prop} {f2 f3 f4 f5 : Int32} {a1 a2 a3 a4 a5 a6 a7 a8 a9 a10 a11 a12 a14 a15 : Nat → Int32} {a13 : Nat → Int64} {c V o : Nat → Nat} {n i r : Nat} (hn : n ≤ 32) (hc : qa_A a3 c n) (hb : ∀ j, j < n → c j < 64) (hV : qv_D c V r n) (hr : r < 64) (hi : i < n) (ho : qa_A a2 o n) (hP : qp_P o n) (hS : qs_S V o i)
    (H : ∀ a2' o', qa_A a2' o' n → qp_P o' n → qs_S V o' (i + 1) → post ((nI n), f2, f3, f4, f5, a1, a2', a3, a4, a5, a6, a7, a8, a9, a10, a11, a12, a13, a14, a15)) : wpX_sink post ((nI n), f2, f3, f4, f5, a1, a2, a3, a4, a5, a6, a7, a8, a9, a10, a11, a12, a13, a14, a15) (nI i) (nI r) := by
  unfold wpX_sink
  dsimp only
  have hoi := hP.1 i hi
  have e0 : a2 (nI i).toNatClampNeg = nI (o i) := by rw [nI_clamp (by omega)]; exact ho i hi
  refine ⟨pk_in i 32 (by omega), nm_r e0 ⟨i + 1, ?_⟩⟩
  refine pk_loopD (fun m w s => wX_sink_10 post (nI r) (nI (o i)) (nI n) f2 f3 f4 f5 m (nI w) a1 s a3 a4 a5 a6 a7 a8 a9 a10 a11 a12 a13 a14 a15)
    (fun w s => w ≤ i ∧ qa_A s (qs_mid o i w) n ∧ ∀ j, w < j → j ≤ i → V (o i) ≤ V (o (j - 1))) ?_ ?_ i a2 ?_
  · intro m s ⟨_, hs, h2⟩
    refine pk_le 0 0 (fun _ => ⟨pk_in 0 32 (by omega), nm_e ?_⟩) (fun z => absurd z (by omega))
    rw [qa_nb (by omega), nI_clamp (by omega)]
    exact H _ (qs_ins o i 0) (qa_congr (qa_up hs) (fun j _ => qs_midins o i 0 j)) (qs_insP hP hi (by omega)) (qs_insS hS (by omega) (fun z => absurd z (by omega)) h2)
  · intro m w s ⟨hw, hs, h2⟩ hW
    have ow : qs_mid o i (w + 1) w = o w := if_pos (by omega)
    have e1 : s (nI (w + 1) - 1).toNatClampNeg = nI (o w) := by rw [nI_pred, nI_clamp (by omega), hs w (by omega), ow]
    have hoW := hP.1 w (by omega)
    refine pk_le (w + 1) 0 (fun z => absurd z (by omega)) (fun _ => ⟨by rw [nI_pred]; exact pk_in w 32 (by omega), ?_⟩)
    rw [e1]
    refine bk_after hn hc hb hV hoW hoi hr (fun z => ?_) (fun z => ?_)
    · refine br_t rfl ⟨pk_in (w + 1) 32 (by omega), nm_e ?_⟩
      rw [qa_nb (by omega), nI_clamp (by omega)]
      exact H _ (qs_ins o i (w + 1)) (qa_congr (qa_up hs) (fun j _ => qs_midins o i (w + 1) j)) (qs_insP hP hi hw) (qs_insS hS hw (fun _ => z) h2)
    · refine br_f (by decide) ⟨by rw [nI_pred]; exact pk_in w 32 (by omega), pk_in (w + 1) 32 (by omega), nm_e (nm_r (pk_m1 w) ?_)⟩
      rw [qa_nb (by omega), nI_clamp (by omega)]
      refine hW _ ⟨by omega, qa_congr (qa_up hs) (fun j _ => qs_midmid hw j), fun j hj hj2 => ?_⟩
      by_cases e : j = w + 1
      · rw [e]; exact z
      · exact h2 j (by omega) hj2
  · refine ⟨by omega, qa_congr ho (fun j hj => ?_), fun j h1 h2 => absurd h1 (by omega)⟩
    unfold qs_mid
    by_cases e : j ≤ i
    · rw [if_pos e]
    · rw [if_neg e, if_neg e]
end
section
/-! sortRotations -/
theorem bk_128 {post : St1 → Prop} {J : (Int32 → Int32 → Int32 → Int32 → Int32 → Int32 → (Nat → Int32) → (Nat → Int32) → (Nat → Int32) → (Nat → Int32) → (Nat → Int32) → (Nat → Int32) → (Nat → Int32) → (Nat → Int32) → (Nat → Int32) → (Nat → Int32) → (Nat → Int32) → (Nat → Int32) → (Nat → Int64) → (Nat → Int32) → (Nat → Int32) → Prop)} {f2 f3 f4 f5 : Int32} {a1 a2 a3 a4 a5 a6 a7 a8 a9 a10 a11 a12 a14 a15 : Nat → Int32} {a13 : Nat → Int64} {c : Nat → Nat} {n r : Nat} (hn : n ≤ 32) (hc : qa_A a4 c n) (hb : ∀ j, j < n → c j < 32)
    (H : ∀ a3', qa_A a3' c n → J (nI (r * 2)) (nI n) f2 f3 f4 f5 a1 a2 a3' a4 a5 a6 a7 a8 a9 a10 a11 a12 a13 a14 a15) : ∃ m, wX_sortRotations_128 post J (nI r) (nI n) f2 f3 f4 f5 m 0 a1 a2 a3 a4 a5 a6 a7 a8 a9 a10 a11 a12 a13 a14 a15 :=
  pk_loop (fun m i s => wX_sortRotations_128 post J (nI r) (nI n) f2 f3 f4 f5 m (nI i) a1 a2 s a4 a5 a6 a7 a8 a9 a10 a11 a12 a13 a14 a15) (fun i s => qa_A s c i) n 0 a3 (by omega) (fun j hj => absurd hj (by omega))
    (fun m s h => pk_le n n (fun _ => nm_r (pk_mul r 2) (H s h)) (fun z => absurd z (by omega)))
    (fun m i s hi h hw => pk_le n i (fun z => absurd z (by omega)) (fun _ => ⟨pk_in i 32 (by omega), pk_in i 32 (by omega), nm_e (nm_r (nI_1 i) (hw _ (by
      have b := hb i hi
      rw [nI_clamp (by omega)]
      exact qa_fill h (by rw [hc i hi, qa_nb (by omega)]))))⟩))
/-- how many changes of V stand ahead of place j -/
def qs_d (V o : Nat → Nat) : Nat → Nat
  | 0 => 0
  | j + 1 => qs_d V o j + if V (o j) = V (o (j + 1)) then 0 else 1
theorem qs_d_le (V o : Nat → Nat) : ∀ j, qs_d V o j ≤ j
  | 0 => Nat.le_refl 0
  | j + 1 => by
    have a := qs_d_le V o j
    show qs_d V o j + (if V (o j) = V (o (j + 1)) then 0 else 1) ≤ j + 1
    split <;> omega
theorem qs_d_mono (V o : Nat → Nat) (j : Nat) : ∀ k, qs_d V o j ≤ qs_d V o (j + k)
  | 0 => Nat.le_refl _
  | k + 1 => by
    have a := qs_d_mono V o j k
    show qs_d V o j ≤ qs_d V o (j + k) + _
    omega
theorem qs_d_lt {V o : Nat → Nat} {n j : Nat} (hS : qs_S V o n) : ∀ k, j + k < n → (qs_d V o j < qs_d V o (j + k) ↔ V (o j) < V (o (j + k)))
  | 0, _ => ⟨fun z => absurd z (Nat.lt_irrefl _), fun z => absurd z (Nat.lt_irrefl _)⟩
  | k + 1, h => by
    have a := qs_d_lt (j := j) hS k (by omega)
    have m := qs_d_mono V o j k
    have s1 := hS j (j + k) (by omega) (by omega)
    have s2 := hS (j + k) (j + k + 1) (by omega) h
    show qs_d V o j < qs_d V o (j + k) + (if V (o (j + k)) = V (o (j + k + 1)) then 0 else 1) ↔ V (o j) < V (o (j + k + 1))
    by_cases e : V (o (j + k)) = V (o (j + k + 1))
    · rw [if_pos e, ← e, Nat.add_zero]; exact a
    · rw [if_neg e]; omega
theorem qs_dC {V o c : Nat → Nat} {n : Nat} (hP : qp_P o n) (hS : qs_S V o n) (hc : ∀ j, j < n → c (o j) = qs_d V o j) : qv_C c V n := by
  intro p q hp hq
  obtain ⟨i, hi, ei⟩ := qp_surj n o hP p hp
  obtain ⟨j, hj, ej⟩ := qp_surj n o hP q hq
  rw [← ei, ← ej, hc i hi, hc j hj]
  rcases Nat.lt_or_ge j i with z | z
  · have a := qs_d_mono V o j (i - j)
    have b := hS j i (by omega) hi
    rw [show j + (i - j) = i by omega] at a
    omega
  · have a := qs_d_lt (j := i) hS (j - i) (by omega)
    rw [show i + (j - i) = j by omega] at a
    exact a
theorem bk_70 {post : St1 → Prop} {J : (Int32 → Int32 → Int32 → Int32 → Int32 → Int32 → (Nat → Int32) → (Nat → Int32) → (Nat → Int32) → (Nat → Int32) → (Nat → Int32) → (Nat → Int32) → (Nat → Int32) → (Nat → Int32) → (Nat → Int32) → (Nat → Int32) → (Nat → Int32) → (Nat → Int32) → (Nat → Int64) → (Nat → Int32) → (Nat → Int32) → Prop)} {f2 f3 f4 f5 : Int32} {a1 a2 a3 a4 a5 a6 a7 a8 a9 a10 a11 a12 a14 a15 : Nat → Int32} {a13 : Nat → Int64} {c V o : Nat → Nat} {n r : Nat} (hn : n ≤ 32) (hc : qa_A a3 c n) (hb : ∀ j, j < n → c j < 64) (hV : qv_D c V r n) (hr : r < 64) (ho : qa_A a2 o n) (hP : qp_P o n) (hS : qs_S V o n)
    (H : ∀ a3' a4' c', qa_A a3' c' n → (∀ j, j < n → c' j < 64) → qv_C c' V n → J (nI (r * 2)) (nI n) f2 f3 f4 f5 a1 a2 a3' a4' a5 a6 a7 a8 a9 a10 a11 a12 a13 a14 a15) : ∃ m, wX_sortRotations_70 post J (nI r) (nI n) f2 f3 f4 f5 m 0 0 a1 a2 a3 a4 a5 a6 a7 a8 a9 a10 a11 a12 a13 a14 a15 := by
  refine pk_loop (fun m i s => wX_sortRotations_70 post J (nI r) (nI n) f2 f3 f4 f5 m (nI (qs_d V o (i - 1))) (nI i) a1 a2 a3 s a5 a6 a7 a8 a9 a10 a11 a12 a13 a14 a15) (fun i s => ∀ j, j < i → s (o j) = nI (qs_d V o j)) n 0 a4 (by omega) (fun j hj => absurd hj (by omega)) ?_ ?_
  · intro m s h
    refine pk_le n n (fun _ => ?_) (fun z => absurd z (by omega))
    have hd : ∀ j, j < n → (s (o j)).toNatClampNeg = qs_d V o j := fun j hj => by
      have := qs_d_le V o j
      rw [h j hj, nI_clamp (by omega)]
    refine bk_128 (c := fun p => (s p).toNatClampNeg) hn (fun p hp => ?_) (fun p hp => ?_) (fun a3' h3 => H a3' s _ h3 (fun p hp => ?_) (qs_dC hP hS hd))
    · obtain ⟨j, hj, e⟩ := qp_surj n o hP p hp
      show s p = nI (s p).toNatClampNeg
      rw [← e, hd j hj, h j hj]
    · obtain ⟨j, hj, e⟩ := qp_surj n o hP p hp
      have := qs_d_le V o j
      show (s p).toNatClampNeg < 32
      rw [← e, hd j hj]
      omega
    · obtain ⟨j, hj, e⟩ := qp_surj n o hP p hp
      have := qs_d_le V o j
      show (s p).toNatClampNeg < 64
      rw [← e, hd j hj]
      omega
  · intro m i s hi h hW
    have oi := hP.1 i hi
    have di := qs_d_le V o i
    have core : wX_sortRotations_107 post J (wX_sortRotations_70 post J (nI r) (nI n) f2 f3 f4 f5 m) (nI r) (nI (qs_d V o i)) (nI i) (nI n) f2 f3 f4 f5 a1 a2 a3 s a5 a6 a7 a8 a9 a10 a11 a12 a13 a14 a15 := by
      unfold wX_sortRotations_107
      have e : a2 (nI i).toNatClampNeg = nI (o i) := by rw [nI_clamp (by omega)]; exact ho i hi
      rw [e]
      refine ⟨pk_in i 32 (by omega), pk_in (o i) 32 (by omega), nm_e (nm_r (nI_1 i) (hW _ ?_))⟩
      rw [nI_clamp (by omega), qa_b _ (by omega)]
      intro j hj
      by_cases ej : j = i
      · rw [ej, pk_us]
      · rw [pk_un (fun z => ej (hP.2 j i (by omega) hi z))]; exact h j (by omega)
    refine pk_le n i (fun z => absurd z (by omega)) (fun _ => ?_)
    cases i with
    | zero => exact pk_le 0 0 (fun _ => core) (fun z => absurd z (by omega))
    | succ i =>
      have e1 : a2 (nI (i + 1) - 1).toNatClampNeg = nI (o i) := by rw [nI_pred, nI_clamp (by omega)]; exact ho i (by omega)
      have e2 : a2 (nI (i + 1)).toNatClampNeg = nI (o (i + 1)) := by rw [nI_clamp (by omega)]; exact ho (i + 1) hi
      have oi' := hP.1 i (by omega)
      refine pk_le (i + 1) 0 (fun z => absurd z (by omega)) (fun _ => ⟨by rw [nI_pred]; exact pk_in i 32 (by omega), pk_in (i + 1) 32 (by omega), ?_⟩)
      rw [e1, e2]
      refine bk_compare hn hc hb hV oi' oi hr (fun x h0 _ => br_c (fun z => ?_) (fun z => nm_r (nI_1 _) ?_))
      · have e3 : qs_d V o (i + 1) = qs_d V o i := by
          show qs_d V o i + (if V (o i) = V (o (i + 1)) then 0 else 1) = _
          rw [if_pos (h0.mp z), Nat.add_zero]
        rw [e3] at core
        exact core
      · have e3 : qs_d V o (i + 1) = qs_d V o i + 1 := by
          show qs_d V o i + (if V (o i) = V (o (i + 1)) then 0 else 1) = _
          rw [if_neg (fun y => z (h0.mpr y))]
        rw [e3] at core
        exact core
theorem bk_46 {post : St1 → Prop} {J : (Int32 → Int32 → Int32 → Int32 → Int32 → Int32 → (Nat → Int32) → (Nat → Int32) → (Nat → Int32) → (Nat → Int32) → (Nat → Int32) → (Nat → Int32) → (Nat → Int32) → (Nat → Int32) → (Nat → Int32) → (Nat → Int32) → (Nat → Int32) → (Nat → Int32) → (Nat → Int64) → (Nat → Int32) → (Nat → Int32) → Prop)} {f2 f3 f4 f5 : Int32} {a1 a2 a3 a4 a5 a6 a7 a8 a9 a10 a11 a12 a14 a15 : Nat → Int32} {a13 : Nat → Int64} {c V o : Nat → Nat} {n r : Nat} (hn : n ≤ 32) (hc : qa_A a3 c n) (hb : ∀ j, j < n → c j < 64) (hV : qv_D c V r n) (hr : r < 64) (ho : qa_A a2 o n) (hP : qp_P o n)
    (H : ∀ a2' a3' a4' o' c', qa_A a2' o' n → qp_P o' n → qs_S V o' n → qa_A a3' c' n → (∀ j, j < n → c' j < 64) → qv_C c' V n → J (nI (r * 2)) (nI n) f2 f3 f4 f5 a1 a2' a3' a4' a5 a6 a7 a8 a9 a10 a11 a12 a13 a14 a15) : ∃ m, wX_sortRotations_46 post J (nI r) m 1 (nI n) f2 f3 f4 f5 a1 a2 a3 a4 a5 a6 a7 a8 a9 a10 a11 a12 a13 a14 a15 := by
  refine pk_loop (fun m i s => wX_sortRotations_46 post J (nI r) m (nI i) (nI n) f2 f3 f4 f5 a1 s a3 a4 a5 a6 a7 a8 a9 a10 a11 a12 a13 a14 a15) (fun i s => 1 ≤ i ∧ ∃ o, qa_A s o n ∧ qp_P o n ∧ qs_S V o i) (max n 1) 1 a2 (by omega) ⟨by omega, o, ho, hP, fun j k _ _ => ?_⟩ ?_ ?_
  · rw [show j = 0 by omega, show k = 0 by omega]; exact Nat.le_refl _
  · intro m s ⟨_, o', h1, h2, h3⟩
    refine pk_le n (max n 1) (fun _ => ?_) (fun z => absurd z (by omega))
    exact bk_70 hn hc hb hV hr h1 h2 (fun j k hj hk => h3 j k hj (by omega)) (fun a3' a4' c' g1 g2 g3 => H s a3' a4' o' c' h1 h2 (fun j k hj hk => h3 j k hj (by omega)) g1 g2 g3)
  · intro m i s hi ⟨hi1, o', h1, h2, h3⟩ hW
    refine pk_le n i (fun z => absurd z (by omega)) (fun _ => ?_)
    refine bk_sink hn hc hb hV hr (by omega) h1 h2 h3 (fun a2' o2 g1 g2 g3 => nm_r (nI_1 i) (hW a2' ⟨by omega, o2, g1, g2, g3⟩))
theorem qs_p2 {k : Nat} (h : k < 6) : 2 ^ k < 64 := by
  have : 2 ^ k ≤ 2 ^ 5 := Nat.pow_le_pow_right (by omega) (by omega)
  omega
theorem bk_sortRot {post : St1 → Prop} {f2 f3 f4 f5 : Int32} {a1 a2 a3 a4 a5 a6 a7 a8 a9 a10 a11 a12 a14 a15 : Nat → Int32} {a13 : Nat → Int64} {t : Nat → Nat} {n : Nat} (hn : n ≤ 32) (ht : ∀ j, j < n → t j < 6) (h1 : qa_A a1 t n)
    (H : ∀ a2' a3' a4' o, qa_A a2' o n → qp_P o n → qs_S (qv_V t n 64) o n → post ((nI n), f2, f3, f4, f5, a1, a2', a3', a4', a5, a6, a7, a8, a9, a10, a11, a12, a13, a14, a15)) : wpX_sortRotations post ((nI n), f2, f3, f4, f5, a1, a2, a3, a4, a5, a6, a7, a8, a9, a10, a11, a12, a13, a14, a15) := by
  unfold wpX_sortRotations
  dsimp only
  refine pk_loop (fun m i (s : (Nat → Int32) × (Nat → Int32)) => wX_sortRotations_2 post (nI n) f2 f3 f4 f5 m (nI i) a1 s.1 s.2 a4 a5 a6 a7 a8 a9 a10 a11 a12 a13 a14 a15) (fun i s => qa_A s.1 (fun j => j) i ∧ qa_A s.2 t i) n 0 (a2, a3) (by omega) ⟨fun j hj => absurd hj (by omega), fun j hj => absurd hj (by omega)⟩ ?_ ?_
  · intro m s ⟨g1, g2⟩
    refine pk_le n n (fun _ => ?_) (fun z => absurd z (by omega))
    refine pk_loop (fun m k (s : (Nat → Int32) × (Nat → Int32) × (Nat → Int32)) => wX_sortRotations_38 post m (nI (2 ^ k)) (nI n) f2 f3 f4 f5 a1 s.1 s.2.1 s.2.2 a5 a6 a7 a8 a9 a10 a11 a12 a13 a14 a15)
      (fun k s => ∃ o c, qa_A s.1 o n ∧ qp_P o n ∧ qa_A s.2.1 c n ∧ (∀ j, j < n → c j < 64) ∧ qv_C c (qv_V t n (2 ^ k)) n ∧ (k = 0 ∨ qs_S (qv_V t n (2 ^ k)) o n)) 6 0 (s.1, s.2, a4) (by omega) ⟨fun j => j, t, g1, ⟨fun j hj => hj, fun i j _ _ e => e⟩, g2, fun j hj => by have := ht j hj; omega, ?_, Or.inl rfl⟩ ?_ ?_
    · intro p q hp hq
      show t p < t q ↔ t (p % n) * 6 ^ 0 + 0 < t (q % n) * 6 ^ 0 + 0
      rw [Nat.mod_eq_of_lt hp, Nat.mod_eq_of_lt hq]
      omega
    · intro m s ⟨o, c, k1, k2, k3, k4, k5, k6⟩
      refine pk_le 64 64 (fun _ => ?_) (fun z => absurd z (by omega))
      rcases k6 with k6 | k6
      · exact absurd k6 (by omega)
      · exact H s.1 s.2.1 s.2.2 o k1 k2 k6
    · intro m k s hk ⟨o, c, k1, k2, k3, k4, k5, k6⟩ hW
      have hp2 := qs_p2 hk
      refine pk_le 64 (2 ^ k) (fun z => absurd z (by omega)) (fun _ => ?_)
      refine bk_46 (V := qv_V t n (2 ^ k + 2 ^ k)) hn k3 k4 (qv_dbl ht k5) hp2 k1 k2 (fun a2' a3' a4' o' c' q1 q2 q3 q4 q5 q6 => ?_)
      have e : 2 ^ (k + 1) = 2 ^ k + 2 ^ k := by rw [Nat.pow_succ]; omega
      have w := hW (a2', a3', a4') ⟨o', c', q1, q2, q4, q5, by rw [e]; exact q6, Or.inr (by rw [e]; exact q3)⟩
      exact w
  · intro m i s hi ⟨g1, g2⟩ hW
    have ti := ht i hi
    refine pk_le n i (fun z => absurd z (by omega)) (fun _ => ⟨pk_in i 32 (by omega), nm_e ⟨pk_in i 32 (by omega), pk_in i 32 (by omega), nm_e (nm_r (nI_1 i) (hW (_, _) ⟨?_, ?_⟩))⟩⟩)
    · show qa_A (upd s.1 (nI i).toNatClampNeg _) _ _
      rw [nI_clamp (by omega)]
      exact qa_fill g1 (qa_b i (by omega))
    · show qa_A (upd s.2 (nI i).toNatClampNeg (vp_nar .byte (a1 (nI i).toNatClampNeg))) _ _
      rw [nI_clamp (by omega)]
      exact qa_fill g2 (by rw [h1 i hi, qa_nb (by omega)])
end
section
/-! undoSorting: the stable counting sort, then the walk from the mark; what it computes is the text -/
/-- the column sorted so far: letters below l, and of l those ahead of k -/
def qu_I (L : Nat → Nat) (n l k to : Nat) (g : Nat → Nat) : Prop :=
  (∀ j, j < to → g j < n ∧ (L (g j) < l ∨ (L (g j) = l ∧ g j < k))) ∧ (∀ i j, i < j → j < to → L (g i) < L (g j) ∨ (L (g i) = L (g j) ∧ g i < g j)) ∧ (∀ m, m < n → (L m < l ∨ (L m = l ∧ m < k)) → ∃ j, j < to ∧ g j = m)
theorem qu_skip {L g : Nat → Nat} {n l k to : Nat} (h : qu_I L n l k to g) (hk : L k ≠ l) : qu_I L n l (k + 1) to g := by
  obtain ⟨h1, h2, h3⟩ := h
  refine ⟨fun j hj => ⟨(h1 j hj).1, ?_⟩, h2, fun m hm z => h3 m hm ?_⟩
  · have := (h1 j hj).2; omega
  · rcases z with z | ⟨z, y⟩
    · exact Or.inl z
    · by_cases e : m = k
      · rw [e] at z; exact absurd z hk
      · exact Or.inr ⟨z, by omega⟩
theorem qu_next {L g : Nat → Nat} {n l to : Nat} (h : qu_I L n l n to g) : qu_I L n (l + 1) 0 to g := by
  obtain ⟨h1, h2, h3⟩ := h
  refine ⟨fun j hj => ⟨(h1 j hj).1, ?_⟩, h2, fun m hm z => h3 m hm ?_⟩
  · have := (h1 j hj).2; omega
  · omega
theorem qu_inj {L g : Nat → Nat} {to : Nat} (h2 : ∀ i j, i < j → j < to → L (g i) < L (g j) ∨ (L (g i) = L (g j) ∧ g i < g j)) : ∀ i j, i < to → j < to → g i = g j → i = j := by
  intro i j hi hj e
  rcases Nat.lt_trichotomy i j with z | z | z
  · have := h2 i j z hj; rw [e] at this; omega
  · exact z
  · have := h2 j i z hi; rw [e] at this; omega
theorem qu_add {L g : Nat → Nat} {n l k to : Nat} (h : qu_I L n l k to g) (hk : L k = l) (hkn : k < n) : to < n ∧ qu_I L n l (k + 1) (to + 1) (qa_u g to k) := by
  obtain ⟨h1, h2, h3⟩ := h
  have lo : ∀ j, j < to → qa_u g to k j = g j := fun j hj => qa_un (by omega)
  have hi : qa_u g to k to = k := qa_us _ _ _
  have s : ∀ i j, i < j → j < to + 1 → L (qa_u g to k i) < L (qa_u g to k j) ∨ (L (qa_u g to k i) = L (qa_u g to k j) ∧ qa_u g to k i < qa_u g to k j) := by
    intro i j hij hj
    by_cases e : j = to
    · rw [e, hi, lo i (by omega), hk]
      have := (h1 i (by omega)).2
      omega
    · rw [lo i (by omega), lo j (by omega)]
      exact h2 i j hij (by omega)
  have r : ∀ j, j < to + 1 → qa_u g to k j < n := by
    intro j hj
    by_cases e : j = to
    · rw [e, hi]; exact hkn
    · rw [lo j (by omega)]; exact (h1 j (by omega)).1
  refine ⟨qp_le r (qu_inj s), fun j hj => ⟨r j hj, ?_⟩, s, fun m hm z => ?_⟩
  · by_cases e : j = to
    · rw [e, hi]; exact Or.inr ⟨hk, by omega⟩
    · rw [lo j (by omega)]
      have := (h1 j (by omega)).2
      omega
  · by_cases e : m = k
    · exact ⟨to, by omega, by rw [hi, e]⟩
    · obtain ⟨j, hj, ej⟩ := h3 m hm (by omega)
      exact ⟨j, by omega, by rw [lo j hj, ej]⟩
/-- what the sort gives in the end -/
def qu_E (L : Nat → Nat) (n : Nat) (g : Nat → Nat) : Prop := qp_P g n ∧ ∀ i j, i < j → j < n → L (g i) < L (g j) ∨ (L (g i) = L (g j) ∧ g i < g j)
theorem qu_end {L g : Nat → Nat} {n to : Nat} (hL : ∀ j, j < n → L j < 6) (h : qu_I L n 6 0 to g) : to = n ∧ qu_E L n g := by
  obtain ⟨h1, h2, h3⟩ := h
  have a : to ≤ n := qp_le (fun j hj => (h1 j hj).1) (qu_inj h2)
  have b : n ≤ to := qp_onto (fun m hm => h3 m hm (Or.inl (hL m hm)))
  have e : to = n := by omega
  subst e
  exact ⟨rfl, ⟨fun j hj => (h1 j hj).1, qu_inj h2⟩, h2⟩
def qu_at (g : Nat → Nat) (m : Nat) : Nat → Nat
  | 0 => m
  | k + 1 => g (qu_at g m k)
def qu_pd (n p : Nat) : Nat := if p = 0 then n - 1 else p - 1
theorem qu_pd_lt {n p : Nat} (h : p < n) : qu_pd n p < n := by unfold qu_pd; split <;> omega
theorem qu_pd_1 {n p : Nat} (h : p < n) : (qu_pd n p + 1) % n = p := by
  unfold qu_pd
  split
  · next e => rw [show n - 1 + 1 = n by omega, Nat.mod_self, e]
  · rw [show p - 1 + 1 = p by omega, Nat.mod_eq_of_lt h]
theorem qu_pdP (n : Nat) : qp_P (qu_pd n) n := by
  refine ⟨fun j hj => qu_pd_lt hj, fun i j hi hj e => ?_⟩
  rw [← qu_pd_1 hi, ← qu_pd_1 hj, e]
theorem qv_hd {t : Nat → Nat} {n r p q : Nat} (ht : ∀ j, j < n → t j < 6) (hn : 0 < n) (e : qv_V t n (r + 1) p = qv_V t n (r + 1) q) : t (p % n) = t (q % n) ∧ qv_V t n r (p + 1) = qv_V t n r (q + 1) := by
  have e' : t (p % n) * 6 ^ r + qv_V t n r (p + 1) = t (q % n) * 6 ^ r + qv_V t n r (q + 1) := e
  exact qv_split (qv_lt ht hn _ _) (qv_lt ht hn _ _) e'
theorem qv_pre {t : Nat → Nat} {n r s p q : Nat} (ht : ∀ j, j < n → t j < 6) (hn : 0 < n) (e : qv_V t n (r + s) p = qv_V t n (r + s) q) : qv_V t n r p = qv_V t n r q := by
  rw [qv_add, qv_add] at e
  exact (qv_split (qv_lt ht hn _ _) (qv_lt ht hn _ _) e).1
theorem qu_step {t o g L : Nat → Nat} {n : Nat} (ht : ∀ j, j < n → t j < 6) (hP : qp_P o n) (hS : qs_S (qv_V t n 64) o n) (hL : ∀ k, k < n → L k = t (qu_pd n (o k))) (hg : qu_E L n g) {j : Nat} (hj : j < n) :
    t (o j) = L (g j) ∧ qv_V t n 63 (o j + 1) = qv_V t n 63 (o (g j)) := by
  have hn : 0 < n := by omega
  obtain ⟨gP, gS⟩ := hg
  have hr : qp_P (fun j => qu_pd n (o (g j))) n := qp_comp (f := qu_pd n) (qu_pdP n) (qp_comp hP gP)
  have hd : ∀ j, j < n → qv_V t n 64 (qu_pd n (o (g j))) = L (g j) * 6 ^ 63 + qv_V t n 63 (o (g j)) := by
    intro j hj
    have og := hP.1 _ (gP.1 j hj)
    show t (qu_pd n (o (g j)) % n) * 6 ^ 63 + qv_V t n 63 (qu_pd n (o (g j)) + 1) = _
    rw [Nat.mod_eq_of_lt (qu_pd_lt og), ← hL (g j) (gP.1 j hj), qv_per 63 (qu_pd n (o (g j)) + 1) (o (g j)) (by rw [qu_pd_1 og, Nat.mod_eq_of_lt og])]
  have sr : qs_S (qv_V t n 64) (fun j => qu_pd n (o (g j))) n := by
    intro i j hij hj
    show qv_V t n 64 (qu_pd n (o (g i))) ≤ qv_V t n 64 (qu_pd n (o (g j)))
    by_cases e : i = j
    · rw [e]; exact Nat.le_refl _
    · rw [hd i (by omega), hd j hj]
      have bi := qv_lt ht hn 63 (o (g i))
      have bj := qv_lt ht hn 63 (o (g j))
      rcases gS i j (by omega) hj with z | ⟨z, y⟩
      · exact Nat.le_of_lt ((qv_lexlt bi bj).mpr (Or.inl z))
      · rw [z]
        have s := hS (g i) (g j) (by omega) (gP.1 j hj)
        rw [show (64 : Nat) = 63 + 1 from rfl, qv_add 63 1, qv_add 63 1] at s
        have c1 := qv_lt ht hn 1 (o (g i) + 63)
        have c2 := qv_lt ht hn 1 (o (g j) + 63)
        have s2 : qv_V t n 63 (o (g i)) ≤ qv_V t n 63 (o (g j)) := by
          rw [show (6 : Nat) ^ 1 = 6 from rfl] at s c1 c2
          omega
        omega
  have e := qp_seq (V := qv_V t n 64) hP hr hS sr hj
  have e2 : qv_V t n 64 (o j) = L (g j) * 6 ^ 63 + qv_V t n 63 (o (g j)) := by rw [e]; exact hd j hj
  have e3 : t (o j % n) * 6 ^ 63 + qv_V t n 63 (o j + 1) = L (g j) * 6 ^ 63 + qv_V t n 63 (o (g j)) := e2
  rw [Nat.mod_eq_of_lt (hP.1 j hj)] at e3
  exact qv_split (qv_lt ht hn _ _) (qv_lt ht hn _ _) e3
theorem qu_inv {t o g L : Nat → Nat} {n m : Nat} (hn : n ≤ 32) (ht : ∀ j, j < n → t j < 6) (hP : qp_P o n) (hS : qs_S (qv_V t n 64) o n) (hL : ∀ k, k < n → L k = t (qu_pd n (o k))) (hg : qu_E L n g) (hm : m < n) (om : o m = 0) :
    ∀ k, k ≤ n → qu_at g m k < n ∧ qv_V t n (64 - k) (o (qu_at g m k)) = qv_V t n (64 - k) k
  | 0, _ => ⟨hm, by show qv_V t n 64 (o m) = _; rw [om]⟩
  | k + 1, hk => by
    obtain ⟨a, b⟩ := qu_inv hn ht hP hS hL hg hm om k (by omega)
    refine ⟨hg.1.1 _ a, ?_⟩
    have hn0 : 0 < n := by omega
    have s := (qu_step ht hP hS hL hg a).2
    rw [show 64 - k = (63 - k) + 1 by omega] at b
    have h1 := (qv_hd ht hn0 b).2
    have h2 : qv_V t n (63 - k) (o (qu_at g m k) + 1) = qv_V t n (63 - k) (o (g (qu_at g m k))) := by
      refine qv_pre (s := k) ht hn0 ?_
      rw [show 63 - k + k = 63 by omega]
      exact s
    rw [show 64 - (k + 1) = 63 - k by omega, ← h1, h2]
    rfl
theorem qu_text {t o g L : Nat → Nat} {n m : Nat} (hn : n ≤ 32) (ht : ∀ j, j < n → t j < 6) (hP : qp_P o n) (hS : qs_S (qv_V t n 64) o n) (hL : ∀ k, k < n → L k = t (qu_pd n (o k))) (hg : qu_E L n g) (hm : m < n) (om : o m = 0) {k : Nat} (hk : k < n) :
    L (g (qu_at g m k)) = t k := by
  obtain ⟨a, b⟩ := qu_inv hn ht hP hS hL hg hm om k (by omega)
  rw [show 64 - k = (63 - k) + 1 by omega] at b
  have h1 := (qv_hd ht (by omega) b).1
  rw [Nat.mod_eq_of_lt hk, Nat.mod_eq_of_lt (hP.1 _ a)] at h1
  rw [← (qu_step ht hP hS hL hg a).1, h1]

/-! the walk -/
theorem bk_u13 {post : St1 → Prop} {J : (Int32 → Int32 → (Nat → Int32) → (Nat → Int32) → (Nat → Int32) → (Nat → Int32) → (Nat → Int32) → (Nat → Int32) → (Nat → Int32) → (Nat → Int32) → (Nat → Int32) → (Nat → Int32) → (Nat → Int32) → (Nat → Int32) → (Nat → Int64) → (Nat → Int32) → (Nat → Int32) → Prop)} {f1 f2 f3 f4 f5 : Int32} {a1 a2 a3 a4 a5 a6 a7 a8 a9 a10 a11 a12 a14 a15 : Nat → Int32} {a13 : Nat → Int64} {L : Nat → Nat} {n l to : Nat} {g : Nat → Nat} (hn : n ≤ 32) (hL : ∀ j, j < n → L j < 6) (hl : l < 6) (hb : qa_A a14 L n) (ha : qa_A a15 g to) (hI : qu_I L n l 0 to g)
    (H : ∀ to' a15' g', qa_A a15' g' to' → qu_I L n (l + 1) 0 to' g' → J (nI to') (nI (l + 1)) a1 a2 a3 a4 a5 a6 a7 a8 a9 a10 a11 a12 a13 a14 a15') : ∃ m, wX_undoSorting_13 post J (nI n) (nI l) f1 f2 f3 f4 f5 m (nI to) 0 a1 a2 a3 a4 a5 a6 a7 a8 a9 a10 a11 a12 a13 a14 a15 := by
  refine pk_loop (fun m k (s : Int32 × (Nat → Int32)) => wX_undoSorting_13 post J (nI n) (nI l) f1 f2 f3 f4 f5 m s.1 (nI k) a1 a2 a3 a4 a5 a6 a7 a8 a9 a10 a11 a12 a13 a14 s.2) (fun k s => ∃ to g, s.1 = nI to ∧ qa_A s.2 g to ∧ qu_I L n l k to g) n 0 (nI to, a15) (by omega) ⟨to, g, rfl, ha, hI⟩ ?_ ?_
  · rintro m ⟨x, s⟩ ⟨to, g, e, h1, h2⟩
    have e' : x = nI to := e
    subst e'
    exact pk_le n n (fun _ => nm_r (nI_1 l) (H to s g h1 (qu_next h2))) (fun z => absurd z (by omega))
  · rintro m k ⟨x, s⟩ hk ⟨to, g, e, h1, h2⟩ hW
    have e' : x = nI to := e
    subst e'
    have ek : a14 (nI k).toNatClampNeg = nI (L k) := by rw [nI_clamp (by omega)]; exact hb k hk
    have lk := hL k hk
    refine pk_le n k (fun z => absurd z (by omega)) (fun _ => ⟨pk_in k 32 (by omega), ?_⟩)
    refine pk_eq (L k) l (fun z => ?_) (fun z => nm_r (nI_1 k) (hW (_, _) ⟨to, g, rfl, h1, qu_skip h2 z⟩)) ek rfl
    obtain ⟨q1, q2⟩ := qu_add h2 z hk
    refine ⟨pk_in to 32 (by omega), nm_e (nm_r (nI_1 to) (nm_r (nI_1 k) (hW (_, _) ⟨to + 1, _, rfl, ?_, q2⟩)))⟩
    show qa_A (upd s (nI to).toNatClampNeg _) _ _
    rw [nI_clamp (by omega)]
    refine qa_fill (fun j hj => ?_) ?_
    · rw [qa_un (by omega)]; exact h1 j hj
    · rw [qa_us]; exact qa_b k (by omega)
theorem bk_u90 {post : St1 → Prop} {f1 f2 f3 f4 f5 : Int32} {a1 a2 a3 a4 a5 a6 a7 a8 a9 a10 a11 a12 a14 a15 : Nat → Int32} {a13 : Nat → Int64} {L g : Nat → Nat} {n mk : Nat} (hn : n ≤ 32) (hL : ∀ j, j < n → L j < 6) (h4 : qa_A a4 L n) (h15 : qa_A a15 g n) (gP : qp_P g n) (hm : 0 < n → mk < n)
    (H : ∀ a14', qa_A a14' (fun k => L (g (qu_at g mk k))) n → post (f1, f2, f3, f4, f5, a1, a2, a3, a4, a5, a6, a7, a8, a9, a10, a11, a12, a13, a14', a15)) : ∃ m, wX_undoSorting_90 post (nI n) f1 f2 f3 f4 f5 m (nI mk) 0 a1 a2 a3 a4 a5 a6 a7 a8 a9 a10 a11 a12 a13 a14 a15 := by
  have hat : 0 < n → ∀ k, qu_at g mk k < n := by
    intro h0 k
    induction k with
    | zero => exact hm h0
    | succ k ih => exact gP.1 _ ih
  refine pk_loop (fun m k (s : Int32 × (Nat → Int32)) => wX_undoSorting_90 post (nI n) f1 f2 f3 f4 f5 m s.1 (nI k) a1 a2 a3 a4 a5 a6 a7 a8 a9 a10 a11 a12 a13 s.2 a15) (fun k s => s.1 = nI (qu_at g mk k) ∧ qa_A s.2 (fun k => L (g (qu_at g mk k))) k) n 0 (nI mk, a14) (by omega) ⟨rfl, fun j hj => absurd hj (by omega)⟩ ?_ ?_
  · rintro m ⟨x, s⟩ ⟨_, h⟩
    exact pk_le n n (fun _ => H s h) (fun z => absurd z (by omega))
  · rintro m k ⟨x, s⟩ hk ⟨e, h⟩ hW
    have e' : x = nI (qu_at g mk k) := e
    subst e'
    have h0 := hat (by omega) k
    have h0' := hat (by omega) (k + 1)
    have e1 : a15 (nI (qu_at g mk k)).toNatClampNeg = nI (qu_at g mk (k + 1)) := by rw [nI_clamp (by omega)]; exact h15 _ h0
    have e2 : a4 (nI (qu_at g mk (k + 1))).toNatClampNeg = nI (L (qu_at g mk (k + 1))) := by rw [nI_clamp (by omega)]; exact h4 _ h0'
    have b := hL _ h0'
    refine pk_le n k (fun z => absurd z (by omega)) (fun _ => ⟨pk_in (qu_at g mk k) 32 (by omega), nm_r e1 ⟨pk_in (qu_at g mk (k + 1)) 32 (by omega), pk_in k 32 (by omega), nm_e (nm_r (nI_1 k) (hW (_, _) ⟨rfl, ?_⟩))⟩⟩)
    show qa_A (upd s (nI k).toNatClampNeg _) _ _
    rw [nI_clamp (show k < 2 ^ 31 by omega)]
    refine qa_fill h ?_
    rw [e2, qa_nb (by omega)]
    rfl
theorem bk_u59 {post : St1 → Prop} {f1 f2 f3 f4 f5 : Int32} {a1 a2 a3 a4 a5 a6 a7 a8 a9 a10 a11 a12 a14 a15 : Nat → Int32} {a13 : Nat → Int64} {L : Nat → Nat} {n : Nat} (hn : n ≤ 32) (hL : ∀ j, j < n → L j < 6) (h14 : qa_A a14 L n)
    (H : ∀ a4', qa_A a4' L n → ∃ m, wX_undoSorting_90 post (nI n) f1 f2 f3 f4 f5 m f3 0 a1 a2 a3 a4' a5 a6 a7 a8 a9 a10 a11 a12 a13 a14 a15) : ∃ m, wX_undoSorting_59 post (nI n) f1 f2 f3 f4 f5 m 0 a1 a2 a3 a4 a5 a6 a7 a8 a9 a10 a11 a12 a13 a14 a15 :=
  pk_loop (fun m k s => wX_undoSorting_59 post (nI n) f1 f2 f3 f4 f5 m (nI k) a1 a2 a3 s a5 a6 a7 a8 a9 a10 a11 a12 a13 a14 a15) (fun k s => qa_A s L k) n 0 a4 (by omega) (fun j hj => absurd hj (by omega))
    (fun m s h => pk_le n n (fun _ => H s h) (fun z => absurd z (by omega)))
    (fun m k s hk h hW => pk_le n k (fun z => absurd z (by omega)) (fun _ => ⟨pk_in k 32 (by omega), pk_in k 32 (by omega), nm_e (nm_r (nI_1 k) (hW _ (by
      have b := hL k hk
      rw [nI_clamp (by omega)]
      exact qa_fill h (by rw [h14 k hk, qa_nb (by omega)]))))⟩))
theorem bk_unsort {post : St1 → Prop} {f1 f2 f4 f5 : Int32} {a1 a2 a3 a4 a5 a6 a7 a8 a9 a10 a11 a12 a14 a15 : Nat → Int32} {a13 : Nat → Int64} {L : Nat → Nat} {n mk : Nat} (hn : n ≤ 32) (hL : ∀ j, j < n → L j < 6) (h14 : qa_A a14 L n) (hm : 0 < n → mk < n)
    (H : ∀ a4' a14' a15' g, qu_E L n g → qa_A a14' (fun k => L (g (qu_at g mk k))) n → post (f1, f2, (nI mk), f4, f5, a1, a2, a3, a4', a5, a6, a7, a8, a9, a10, a11, a12, a13, a14', a15')) : wpX_undoSorting post (f1, f2, (nI mk), f4, f5, a1, a2, a3, a4, a5, a6, a7, a8, a9, a10, a11, a12, a13, a14, a15) (nI n) := by
  unfold wpX_undoSorting
  dsimp only
  refine pk_loop (fun m l (s : Int32 × (Nat → Int32)) => wX_undoSorting_4 post (nI n) f1 f2 (nI mk) f4 f5 m s.1 (nI l) a1 a2 a3 a4 a5 a6 a7 a8 a9 a10 a11 a12 a13 a14 s.2) (fun l s => ∃ to g, s.1 = nI to ∧ qa_A s.2 g to ∧ qu_I L n l 0 to g) 6 0 (nI 0, a15) (by omega) ⟨0, fun j => j, rfl, fun j hj => absurd hj (by omega), fun j hj => absurd hj (by omega), fun i j _ hj => absurd hj (by omega), fun m _ z => absurd z (by omega)⟩ ?_ ?_
  · rintro m ⟨x, s⟩ ⟨to, g, e, h1, h2⟩
    obtain ⟨e1, gE⟩ := qu_end hL h2
    subst e1
    exact pk_le 6 6 (fun _ => bk_u59 hn hL h14 (fun a4' h4 => bk_u90 hn hL h4 h1 gE.1 hm (fun a14' h => H a4' a14' s g gE h))) (fun z => absurd z (by omega))
  · rintro m l ⟨x, s⟩ hl ⟨to, g, e, h1, h2⟩ hW
    have e' : x = nI to := e
    subst e'
    exact pk_le 6 l (fun z => absurd z (by omega)) (fun _ => bk_u13 hn hL hl h14 h1 h2 (fun to' a15' g' q1 q2 => hW (nI to', a15') ⟨to', g', rfl, q1, q2⟩))
end
section
/-! resetRow, toFront, rankLetters, undoRanks -/
theorem bk_reset {post : St1 → Prop} {f1 f2 f3 f4 f5 : Int32} {a1 a2 a3 a4 a5 a6 a7 a8 a9 a10 a11 a12 a14 a15 : Nat → Int32} {a13 : Nat → Int64} (H : ∀ a8', qa_A a8' (fun r => r) 6 → post (f1, f2, f3, f4, f5, a1, a2, a3, a4, a5, a6, a7, a8', a9, a10, a11, a12, a13, a14, a15)) : wpX_resetRow post (f1, f2, f3, f4, f5, a1, a2, a3, a4, a5, a6, a7, a8, a9, a10, a11, a12, a13, a14, a15) := by
  unfold wpX_resetRow
  dsimp only
  exact pk_loop (fun m i s => wX_resetRow_2 post f1 f2 f3 f4 f5 m (nI i) a1 a2 a3 a4 a5 a6 a7 s a9 a10 a11 a12 a13 a14 a15) (fun i s => qa_A s (fun r => r) i) 6 0 a8 (by omega) (fun j hj => absurd hj (by omega))
    (fun m s h => pk_le 6 6 (fun _ => H s h) (fun z => absurd z (by omega)))
    (fun m i s hi h hW => pk_le 6 i (fun z => absurd z (by omega)) (fun _ => ⟨pk_in i 6 (by omega), nm_e (nm_r (nI_1 i) (hW _ (by
      rw [nI_clamp (by omega)]
      exact qa_fill h (qa_b i (by omega)))))⟩))
theorem bk_front {post : St1 → Prop} {f1 f2 f3 f4 f5 : Int32} {a1 a2 a3 a4 a5 a6 a7 a8 a9 a10 a11 a12 a14 a15 : Nat → Int32} {a13 : Nat → Int64} {row : Nat → Nat} {p : Nat} (hp : p < 6) (hr : ∀ j, j < 6 → row j < 6) (h8 : qa_A a8 row 6)
    (H : ∀ a8', qa_A a8' (qs_ins row p 0) 6 → post (f1, f2, f3, f4, f5, a1, a2, a3, a4, a5, a6, a7, a8', a9, a10, a11, a12, a13, a14, a15)) : wpX_toFront post (f1, f2, f3, f4, f5, a1, a2, a3, a4, a5, a6, a7, a8, a9, a10, a11, a12, a13, a14, a15) (nI p) := by
  unfold wpX_toFront
  dsimp only
  have e0 : a8 (nI p).toNatClampNeg = nI (row p) := by rw [nI_clamp (by omega)]; exact h8 p hp
  have rp0 := hr p hp
  refine ⟨pk_in p 6 hp, nm_r e0 ⟨p + 1, ?_⟩⟩
  refine pk_loopD (fun m w s => wX_toFront_9 post (nI (row p)) f1 f2 f3 f4 f5 m (nI w) a1 a2 a3 a4 a5 a6 a7 s a9 a10 a11 a12 a13 a14 a15) (fun w s => w ≤ p ∧ qa_A s (qs_mid row p w) 6) ?_ ?_ p a8 ?_
  · intro m s ⟨_, hs⟩
    refine pk_le 0 0 (fun _ => nm_e ?_) (fun z => absurd z (by omega))
    rw [qa_nb (by omega)]
    exact H _ (qa_congr (qa_up hs) (fun j _ => qs_midins row p 0 j))
  · intro m w s ⟨hw, hs⟩ hW
    have ow : qs_mid row p (w + 1) w = row w := if_pos (by omega)
    have e1 : s (nI (w + 1) - 1).toNatClampNeg = nI (row w) := by rw [nI_pred, nI_clamp (by omega), hs w (by omega), ow]
    have rw0 := hr w (by omega)
    refine pk_le (w + 1) 0 (fun z => absurd z (by omega)) (fun _ => ⟨by rw [nI_pred]; exact pk_in w 6 (by omega), pk_in (w + 1) 6 (by omega), nm_e (nm_r (pk_m1 w) ?_)⟩)
    rw [e1, qa_nb (by omega), nI_clamp (by omega)]
    exact hW _ ⟨by omega, qa_congr (qa_up hs) (fun j _ => qs_midmid hw j)⟩
  · refine ⟨by omega, qa_congr h8 (fun j hj => ?_)⟩
    unfold qs_mid
    by_cases e : j ≤ p
    · rw [if_pos e]
    · rw [if_neg e, if_neg e]
/-- the row ahead of step k, where the ranks are rk -/
def qm_row (rk : Nat → Nat) : Nat → Nat → Nat
  | 0 => fun r => r
  | k + 1 => qs_ins (qm_row rk k) (rk k) 0
theorem qm_congr {rk rk' : Nat → Nat} : ∀ k, (∀ j, j < k → rk j = rk' j) → qm_row rk k = qm_row rk' k
  | 0, _ => rfl
  | k + 1, h => by
    show qs_ins (qm_row rk k) (rk k) 0 = qs_ins (qm_row rk' k) (rk' k) 0
    rw [qm_congr k (fun j hj => h j (by omega)), h k (by omega)]
theorem qm_rowP {rk : Nat → Nat} : ∀ k, (∀ j, j < k → rk j < 6) → qp_P (qm_row rk k) 6
  | 0, _ => ⟨fun _ hj => hj, fun _ _ _ _ e => e⟩
  | k + 1, h => qs_insP (qm_rowP k (fun j hj => h j (by omega))) (h k (by omega)) (by omega)
theorem bk_r16 {post : St1 → Prop} {J : (Int32 → Int32 → Int32 → Int32 → Int32 → Int32 → (Nat → Int32) → (Nat → Int32) → (Nat → Int32) → (Nat → Int32) → (Nat → Int32) → (Nat → Int32) → (Nat → Int32) → (Nat → Int32) → (Nat → Int32) → (Nat → Int32) → (Nat → Int32) → (Nat → Int32) → (Nat → Int64) → (Nat → Int32) → (Nat → Int32) → Prop)} {f1 f2 f3 f4 f5 : Int32} {a1 a2 a3 a4 a5 a6 a7 a8 a9 a10 a11 a12 a14 a15 : Nat → Int32} {a13 : Nat → Int64} {row : Nat → Nat} {k p v : Nat} (hk : k < 32) (hp : p < 6) (hP : qp_P row 6) (h8 : qa_A a8 row 6) (hv : row p = v) (h5 : a5 k = nI v)
    (H : ∀ a8', qa_A a8' (qs_ins row p 0) 6 → J (nI (k + 1)) f1 f2 f3 f4 f5 a1 a2 a3 a4 a5 (upd a6 k (nI p)) a7 a8' a9 a10 a11 a12 a13 a14 a15) : ∃ m, wX_rankLetters_16 post J (nI k) f1 f2 f3 f4 f5 a1 a2 a3 a4 a5 a6 a7 a8 a9 a10 a11 a12 a13 a14 a15 m 0 := by
  have hv6 : v < 6 := by rw [← hv]; exact hP.1 p hp
  refine pk_loop (σ := Unit) (fun m i _ => wX_rankLetters_16 post J (nI k) f1 f2 f3 f4 f5 a1 a2 a3 a4 a5 a6 a7 a8 a9 a10 a11 a12 a13 a14 a15 m (nI i)) (fun _ _ => True) p 0 () (by omega) trivial ?_ ?_
  · intro m _ _
    have e : a8 (nI p).toNatClampNeg = nI v := by rw [nI_clamp (by omega), h8 p hp, hv]
    have e5 : a5 (nI k).toNatClampNeg = nI v := by rw [nI_clamp (by omega), h5]
    refine ⟨pk_in p 6 hp, pk_in k 32 hk, br_t (by rw [e, e5]) ⟨pk_in k 32 hk, nm_e ?_⟩⟩
    refine bk_front hp hP.1 h8 (fun a8' h => nm_r (nI_1 k) ?_)
    rw [nI_clamp (by omega), qa_b p (by omega)]
    exact H a8' h
  · intro m i _ hi _ hW
    have ri := hP.1 i (by omega)
    have e : a8 (nI i).toNatClampNeg = nI (row i) := by rw [nI_clamp (by omega), h8 i (by omega)]
    have e5 : a5 (nI k).toNatClampNeg = nI v := by rw [nI_clamp (by omega), h5]
    refine ⟨pk_in i 6 (by omega), pk_in k 32 hk, pk_eq (row i) v (fun z => ?_) (fun _ => nm_r (nI_1 i) (hW () trivial)) e e5⟩
    exact absurd (hP.2 i p (by omega) hp (by rw [z, hv])) (by omega)
theorem bk_rank {post : St1 → Prop} {f2 f3 f4 f5 : Int32} {a1 a2 a3 a4 a5 a6 a7 a8 a9 a10 a11 a12 a14 a15 : Nat → Int32} {a13 : Nat → Int64} {cl : Nat → Nat} {n : Nat} (hn : n ≤ 32) (hc : ∀ j, j < n → cl j < 6) (h5 : qa_A a5 cl n)
    (H : ∀ a6' a8' rk, qa_A a6' rk n → (∀ k, k < n → rk k < 6 ∧ qm_row rk k (rk k) = cl k) → post ((nI n), f2, f3, f4, f5, a1, a2, a3, a4, a5, a6', a7, a8', a9, a10, a11, a12, a13, a14, a15)) : wpX_rankLetters post ((nI n), f2, f3, f4, f5, a1, a2, a3, a4, a5, a6, a7, a8, a9, a10, a11, a12, a13, a14, a15) := by
  unfold wpX_rankLetters
  dsimp only
  refine bk_reset (fun b8 hb8 => ?_)
  refine pk_loop (fun m k (s : (Nat → Int32) × (Nat → Int32)) => wX_rankLetters_6 post m (nI k) (nI n) f2 f3 f4 f5 a1 a2 a3 a4 a5 s.1 a7 s.2 a9 a10 a11 a12 a13 a14 a15) (fun k s => ∃ rk, qa_A s.1 rk k ∧ (∀ j, j < k → rk j < 6 ∧ qm_row rk j (rk j) = cl j) ∧ qa_A s.2 (qm_row rk k) 6) n 0 (a6, b8) (by omega) ⟨fun _ => 0, fun j hj => absurd hj (by omega), fun j hj => absurd hj (by omega), hb8⟩ ?_ ?_
  · intro m s ⟨rk, h1, h2, _⟩
    exact pk_le n n (fun _ => H s.1 s.2 rk h1 h2) (fun z => absurd z (by omega))
  · intro m k s hk ⟨rk, h1, h2, h3⟩ hW
    have hP := qm_rowP k (fun j hj => (h2 j hj).1)
    obtain ⟨p, hp, ep⟩ := qp_surj 6 _ hP (cl k) (hc k hk)
    refine pk_le n k (fun z => absurd z (by omega)) (fun _ => ?_)
    refine bk_r16 (by omega) hp hP h3 ep (h5 k hk) (fun a8' h => hW (_, a8') ⟨qa_u rk k p, ?_, ?_, ?_⟩)
    · refine qa_fill (fun j hj => ?_) (by rw [qa_us])
      rw [qa_un (by omega)]; exact h1 j hj
    · intro j hj
      have e : qm_row (qa_u rk k p) j = qm_row rk j := qm_congr j (fun i hi => qa_un (by omega))
      rw [e]
      by_cases ej : j = k
      · rw [ej, qa_us]; exact ⟨hp, ep⟩
      · rw [qa_un ej]; exact h2 j (by omega)
    · show qa_A a8' (qs_ins (qm_row (qa_u rk k p) k) (qa_u rk k p k) 0) 6
      rw [qm_congr (rk := qa_u rk k p) (rk' := rk) k (fun i hi => qa_un (by omega)), qa_us]
      exact h
theorem bk_unrank {post : St1 → Prop} {f1 f2 f3 f4 f5 : Int32} {a1 a2 a3 a4 a5 a6 a7 a8 a9 a10 a11 a12 a14 a15 : Nat → Int32} {a13 : Nat → Int64} {rk : Nat → Nat} {n : Nat} (hn : n ≤ 32) (hr : ∀ j, j < n → rk j < 6) (h15 : qa_A a15 rk n)
    (H : ∀ a8' a14', qa_A a14' (fun k => qm_row rk k (rk k)) n → post (f1, f2, f3, f4, f5, a1, a2, a3, a4, a5, a6, a7, a8', a9, a10, a11, a12, a13, a14', a15)) : wpX_undoRanks post (f1, f2, f3, f4, f5, a1, a2, a3, a4, a5, a6, a7, a8, a9, a10, a11, a12, a13, a14, a15) (nI n) := by
  unfold wpX_undoRanks
  dsimp only
  refine bk_reset (fun b8 hb8 => ?_)
  refine pk_loop (fun m k (s : (Nat → Int32) × (Nat → Int32)) => wX_undoRanks_6 post (nI n) m (nI k) f1 f2 f3 f4 f5 a1 a2 a3 a4 a5 a6 a7 s.1 a9 a10 a11 a12 a13 s.2 a15) (fun k s => qa_A s.1 (qm_row rk k) 6 ∧ qa_A s.2 (fun k => qm_row rk k (rk k)) k) n 0 (b8, a14) (by omega) ⟨hb8, fun j hj => absurd hj (by omega)⟩ ?_ ?_
  · intro m s ⟨_, h⟩
    exact pk_le n n (fun _ => H s.1 s.2 h) (fun z => absurd z (by omega))
  · intro m k s hk ⟨h1, h2⟩ hW
    have hP := qm_rowP (rk := rk) k (fun j hj => hr j (by omega))
    have rk6 := hr k hk
    have r6 := hP.1 _ rk6
    have e1 : a15 (nI k).toNatClampNeg = nI (rk k) := by rw [nI_clamp (by omega)]; exact h15 k hk
    have e2 : s.1 (nI (rk k)).toNatClampNeg = nI (qm_row rk k (rk k)) := by rw [nI_clamp (by omega)]; exact h1 _ rk6
    refine pk_le n k (fun z => absurd z (by omega)) (fun _ => ⟨pk_in k 32 (by omega), nm_r e1 ⟨pk_in (rk k) 6 rk6, pk_in k 32 (by omega), nm_e ?_⟩⟩)
    rw [e2, qa_nb (by omega), nI_clamp (by omega)]
    exact bk_front rk6 hP.1 h1 (fun a8' h => nm_r (nI_1 k) (hW (a8', _) ⟨h, qa_fill h2 rfl⟩))
end
section
/-! shortenRuns, undoRuns -/
/-- how many ranks the first i symbols stand for, and what the next run's symbol is worth -/
def qr_s (sy : Nat → Nat) : Nat → Nat × Nat
  | 0 => (0, 1)
  | i + 1 => if 1 < sy i then ((qr_s sy i).1 + 1, 1) else ((qr_s sy i).1 + (qr_s sy i).2 * (sy i + 1), (qr_s sy i).2 * 2)
def qr_c (sy : Nat → Nat) (i : Nat) : Nat := (qr_s sy i).1
def qr_w (sy : Nat → Nat) (i : Nat) : Nat := (qr_s sy i).2
theorem qr_hi {sy : Nat → Nat} {i : Nat} (h : 1 < sy i) : qr_c sy (i + 1) = qr_c sy i + 1 ∧ qr_w sy (i + 1) = 1 := by
  unfold qr_c qr_w
  rw [qr_s, if_pos h]
  exact ⟨rfl, rfl⟩
theorem qr_lo {sy : Nat → Nat} {i : Nat} (h : sy i ≤ 1) : qr_c sy (i + 1) = qr_c sy i + qr_w sy i * (sy i + 1) ∧ qr_w sy (i + 1) = qr_w sy i * 2 := by
  unfold qr_c qr_w
  rw [qr_s, if_neg (by omega)]
  exact ⟨rfl, rfl⟩
theorem qr_congr {sy sy' : Nat → Nat} : ∀ i, (∀ j, j < i → sy j = sy' j) → qr_s sy i = qr_s sy' i
  | 0, _ => rfl
  | i + 1, h => by rw [qr_s, qr_s, qr_congr i (fun j hj => h j (by omega)), h i (by omega)]
theorem qr_pos (sy : Nat → Nat) : ∀ i, 0 < qr_w sy i
  | 0 => by show 0 < 1; omega
  | i + 1 => by
    have := qr_pos sy i
    rcases Nat.lt_or_ge 1 (sy i) with h | h
    · rw [(qr_hi h).2]; omega
    · rw [(qr_lo h).2]; omega
theorem qr_inc (sy : Nat → Nat) (i : Nat) : qr_c sy i + 1 ≤ qr_c sy (i + 1) := by
  rcases Nat.lt_or_ge 1 (sy i) with h | h
  · rw [(qr_hi h).1]; exact Nat.le_refl _
  · rw [(qr_lo h).1]
    have := Nat.mul_pos (qr_pos sy i) (show 0 < sy i + 1 by omega)
    omega
theorem qr_ic (sy : Nat → Nat) : ∀ i, i ≤ qr_c sy i
  | 0 => Nat.zero_le _
  | i + 1 => by
    have a := qr_ic sy i
    have b := qr_inc sy i
    omega
theorem qr_mono (sy : Nat → Nat) (i : Nat) : ∀ k, qr_c sy i ≤ qr_c sy (i + k)
  | 0 => Nat.le_refl _
  | k + 1 => by
    have a := qr_mono sy i k
    have b := qr_inc sy (i + k)
    show qr_c sy i ≤ qr_c sy (i + k + 1)
    omega
theorem qr_w64 {sy : Nat → Nat} : ∀ i, qr_c sy i ≤ 32 → qr_w sy i ≤ 64
  | 0, _ => by show 1 ≤ 64; omega
  | i + 1, h => by
    rcases Nat.lt_or_ge 1 (sy i) with g | g
    · rw [(qr_hi g).2]; omega
    · rw [(qr_lo g).2]
      rw [(qr_lo g).1] at h
      have : qr_w sy i * 1 ≤ qr_w sy i * (sy i + 1) := Nat.mul_le_mul_left _ (by omega)
      omega
/-- the first S symbols stand for ranks of rk -/
def qr_ok (sy rk : Nat → Nat) (S : Nat) : Prop := ∀ i, i < S → (1 < sy i → rk (qr_c sy i) = sy i - 1) ∧ (sy i ≤ 1 → ∀ z, z < qr_w sy i * (sy i + 1) → rk (qr_c sy i + z) = 0)
theorem qr_ok_add {sy rk : Nat → Nat} {S v : Nat} (h : qr_ok sy rk S) (h1 : 1 < v → rk (qr_c sy S) = v - 1) (h2 : v ≤ 1 → ∀ z, z < qr_w sy S * (v + 1) → rk (qr_c sy S + z) = 0) : qr_ok (qa_u sy S v) rk (S + 1) := by
  intro i hi
  have e : qr_s (qa_u sy S v) i = qr_s sy i := qr_congr i (fun j hj => qa_un (by omega))
  have e1 : qr_c (qa_u sy S v) i = qr_c sy i := by unfold qr_c; rw [e]
  have e2 : qr_w (qa_u sy S v) i = qr_w sy i := by unfold qr_w; rw [e]
  rw [e1, e2]
  by_cases ei : i = S
  · rw [ei, qa_us]; exact ⟨h1, h2⟩
  · rw [qa_un ei]; exact h i (by omega)
/-- symbols so far, z zeros of worth w are owed up to e -/
def qr_Q (rk sy : Nat → Nat) (S e z w : Nat) : Prop := (∀ i, i < S → sy i < 7) ∧ qr_ok sy rk S ∧ qr_c sy S + w * z = e ∧ qr_w sy S = w ∧ ∀ y, qr_c sy S ≤ y → y < e → rk y = 0
theorem qr_at {sy : Nat → Nat} {S v : Nat} : qr_c (qa_u sy S v) S = qr_c sy S ∧ qr_w (qa_u sy S v) S = qr_w sy S := by
  have e : qr_s (qa_u sy S v) S = qr_s sy S := qr_congr S (fun j hj => qa_un (by omega))
  unfold qr_c qr_w
  rw [e]
  exact ⟨rfl, rfl⟩
theorem qr_sy7 {sy : Nat → Nat} {S v : Nat} (h : ∀ i, i < S → sy i < 7) (hv : v < 7) : ∀ i, i < S + 1 → qa_u sy S v i < 7 := by
  intro i hi
  by_cases e : i = S
  · rw [e, qa_us]; exact hv
  · rw [qa_un e]; exact h i (by omega)
theorem qr_addlo {rk sy : Nat → Nat} {S e z w v : Nat} (h : qr_Q rk sy S e z w) (hv : v ≤ 1) (hz : v + 1 ≤ z) (hp : (z - (v + 1)) % 2 = 0) : qr_Q rk (qa_u sy S v) (S + 1) e ((z - (v + 1)) / 2) (w * 2) := by
  obtain ⟨h1, h2, h3, h4, h5⟩ := h
  have us : qa_u sy S v S = v := qa_us _ _ _
  have l := qr_lo (sy := qa_u sy S v) (i := S) (by rw [us]; exact hv)
  rw [us, qr_at.1, qr_at.2, h4] at l
  have hle : w * (v + 1) ≤ w * z := Nat.mul_le_mul_left _ hz
  refine ⟨qr_sy7 h1 (by omega), qr_ok_add h2 (fun y => absurd y (by omega)) (fun _ y hy => h5 _ (by omega) ?_), ?_, l.2, fun y hy hy2 => h5 y ?_ hy2⟩
  · rw [h4] at hy; omega
  · rw [l.1]
    have e1 : z = (v + 1) + 2 * ((z - (v + 1)) / 2) := by omega
    have e2 : w * z = w * (v + 1) + w * 2 * ((z - (v + 1)) / 2) := by
      rw [Nat.mul_assoc, ← Nat.mul_add, ← e1]
    omega
  · rw [l.1] at hy; omega
theorem qr_addhi {rk sy : Nat → Nat} {S e w : Nat} (h : qr_Q rk sy S e 0 w) (hr : rk e ≠ 0) (hv : rk e < 6) : qr_Q rk (qa_u sy S (rk e + 1)) (S + 1) (e + 1) 0 1 := by
  obtain ⟨h1, h2, h3, h4, h5⟩ := h
  have us : qa_u sy S (rk e + 1) S = rk e + 1 := qa_us _ _ _
  have l := qr_hi (sy := qa_u sy S (rk e + 1)) (i := S) (by rw [us]; omega)
  rw [qr_at.1] at l
  rw [Nat.mul_zero, Nat.add_zero] at h3
  refine ⟨qr_sy7 h1 (by omega), qr_ok_add h2 (fun _ => by rw [h3]; rfl) (fun y => absurd y (by omega)), ?_, l.2, fun y hy hy2 => ?_⟩
  · rw [l.1]; omega
  · rw [l.1] at hy; omega

/-! walks -/
theorem bk_addS {post : St1 → Prop} {f1 f2 f3 f5 : Int32} {a1 a2 a3 a4 a5 a6 a7 a8 a9 a10 a11 a12 a14 a15 : Nat → Int32} {a13 : Nat → Int64} {S v : Nat} (hS : S < 32) (hv : v < 128) (H : post (f1, f2, f3, (nI (S + 1)), f5, a1, a2, a3, a4, a5, a6, (upd a7 S (nI v)), a8, a9, a10, a11, a12, a13, a14, a15)) : wpX_addSymbol post (f1, f2, f3, (nI S), f5, a1, a2, a3, a4, a5, a6, a7, a8, a9, a10, a11, a12, a13, a14, a15) (nI v) := by
  unfold wpX_addSymbol
  dsimp only
  refine ⟨pk_in S 32 hS, nm_e (nm_r (nI_1 S) ?_)⟩
  rw [nI_clamp (by omega), qa_b v hv]
  exact H
theorem qr_fill {a7 : Nat → Int32} {sy : Nat → Nat} {S v : Nat} (h : qa_A a7 sy S) : qa_A (upd a7 S (nI v)) (qa_u sy S v) (S + 1) := by
  refine qa_fill (fun j hj => ?_) (by rw [qa_us])
  rw [qa_un (by omega)]; exact h j hj
theorem bk_s40 {post : St1 → Prop} {J : (Int32 → Int32 → Int32 → Int32 → Int32 → Int32 → Int32 → (Nat → Int32) → (Nat → Int32) → (Nat → Int32) → (Nat → Int32) → (Nat → Int32) → (Nat → Int32) → (Nat → Int32) → (Nat → Int32) → (Nat → Int32) → (Nat → Int32) → (Nat → Int32) → (Nat → Int32) → (Nat → Int64) → (Nat → Int32) → (Nat → Int32) → Prop)} {f2 f3 f5 : Int32} {a1 a2 a3 a4 a5 a6 a7 a8 a9 a10 a11 a12 a14 a15 : Nat → Int32} {a13 : Nat → Int64} {rk sy : Nat → Nat} {n k z S w : Nat} (hn : n ≤ 32) (hk : k ≤ n) (h6 : qa_A a6 rk n) (hr : ∀ j, j < n → rk j < 6) (hk0 : k < n → rk k ≠ 0) (h7 : qa_A a7 sy S) (hQ : qr_Q rk sy S k z w)
    (H : ∀ S' sy' a7' w', qa_A a7' sy' S' → (k < n → qr_Q rk sy' S' (k + 1) 0 1) → (k = n → qr_Q rk sy' S' n 0 w') → J (nI 0) (nI (k + 1)) (nI n) f2 f3 (nI S') f5 a1 a2 a3 a4 a5 a6 a7' a8 a9 a10 a11 a12 a13 a14 a15) : ∃ m, wX_shortenRuns_40 post J (nI k) m (nI z) (nI n) f2 f3 (nI S) f5 a1 a2 a3 a4 a5 a6 a7 a8 a9 a10 a11 a12 a13 a14 a15 := by
  refine loop_m (fun m (s : Int32 × Int32 × (Nat → Int32)) => wX_shortenRuns_40 post J (nI k) m s.1 (nI n) f2 f3 s.2.1 f5 a1 a2 a3 a4 a5 a6 s.2.2 a8 a9 a10 a11 a12 a13 a14 a15)
    (fun s => ∃ z S sy w, s.1 = nI z ∧ s.2.1 = nI S ∧ qa_A s.2.2 sy S ∧ qr_Q rk sy S k z w) (fun s => s.1.toNatClampNeg) ?_ (nI z, nI S, a7) ⟨z, S, sy, w, rfl, rfl, h7, hQ⟩
  rintro m ⟨x, y, s⟩ ⟨z, S, sy, w, ez, eS, h7, hQ⟩ hW
  have ez' : x = nI z := ez
  have eS' : y = nI S := eS
  subst ez' eS'
  have wz : w * 1 ≤ w * z ∨ z = 0 := by
    rcases Nat.eq_zero_or_pos z with g | g
    · exact Or.inr g
    · exact Or.inl (Nat.mul_le_mul_left _ g)
  have hw := qr_pos sy S
  have hic := qr_ic sy S
  have h3 := hQ.2.2.1
  rw [hQ.2.2.2.1] at hw
  have hz32 : z ≤ 32 := by
    have : 1 * z ≤ w * z := Nat.mul_le_mul_right _ hw
    omega
  refine pk_le z 0 (fun g => ?_) (fun g => ?_)
  · have g0 : z = 0 := by omega
    subst g0
    refine pk_le n k (fun q => nm_r (nI_1 k) (H S sy s w h7 (fun y => absurd y (by omega)) (fun e => ?_))) (fun q => ⟨pk_in k 32 (by omega), ?_⟩)
    · rw [e] at hQ; exact hQ
    · have e6 : a6 (nI k).toNatClampNeg + 1 = nI (rk k + 1) := by rw [nI_clamp (by omega), h6 k q, nI_1]
      have rk6 := hr k q
      rw [e6]
      exact bk_addS (by omega) (by omega) (nm_r (nI_1 k) (H (S + 1) _ _ 0 (qr_fill h7) (fun _ => qr_addhi hQ (hk0 q) rk6) (fun e => absurd e (by omega))))
  · have ea : nI z &&& 1 = nI (z % 2) := pk_andN (by omega) 1 (by decide)
    refine pk_eq (z % 2) 0 (fun q => ?_) (fun q => ?_) ea rfl
    · refine br_t rfl ?_
      refine bk_addS (v := 1) (by omega) (by omega) (br_t rfl ⟨by decide, nm_r (e' := nI ((z - 2) / 2)) ?_ ?_⟩)
      · show (nI z - nI 2) / nI 2 = _
        rw [pk_sub (by omega), pk_div (by omega) (by omega) (by omega)]
      · refine hW (nI ((z - 2) / 2), nI (S + 1), _) ⟨(z - 2) / 2, S + 1, qa_u sy S 1, w * 2, rfl, rfl, qr_fill h7, qr_addlo (v := 1) hQ (by omega) (by omega) (by omega)⟩ ?_
        show (nI ((z - 2) / 2)).toNatClampNeg < (nI z).toNatClampNeg
        rw [nI_clamp (by omega), nI_clamp (by omega)]
        omega
    · refine br_f (by decide) ?_
      refine bk_addS (v := 0) (by omega) (by omega) (br_f (by decide) ⟨by decide, nm_r (e' := nI ((z - 1) / 2)) ?_ ?_⟩)
      · show (nI z - nI 1) / nI 2 = _
        rw [pk_sub (by omega), pk_div (by omega) (by omega) (by omega)]
      · refine hW (nI ((z - 1) / 2), nI (S + 1), _) ⟨(z - 1) / 2, S + 1, qa_u sy S 0, w * 2, rfl, rfl, qr_fill h7, qr_addlo (v := 0) hQ (by omega) (by omega) (by omega)⟩ ?_
        show (nI ((z - 1) / 2)).toNatClampNeg < (nI z).toNatClampNeg
        rw [nI_clamp (by omega), nI_clamp (by omega)]
        omega
theorem bk_shorten {post : St1 → Prop} {f2 f3 f4 f5 : Int32} {a1 a2 a3 a4 a5 a6 a7 a8 a9 a10 a11 a12 a14 a15 : Nat → Int32} {a13 : Nat → Int64} {rk : Nat → Nat} {n : Nat} (hn : n ≤ 32) (h6 : qa_A a6 rk n) (hr : ∀ j, j < n → rk j < 6)
    (H : ∀ S sy a7', S ≤ 32 → qa_A a7' sy S → (∀ i, i < S → sy i < 7) → qr_ok sy rk S → qr_c sy S = n → post ((nI n), f2, f3, (nI S), f5, a1, a2, a3, a4, a5, a6, a7', a8, a9, a10, a11, a12, a13, a14, a15)) : wpX_shortenRuns post ((nI n), f2, f3, f4, f5, a1, a2, a3, a4, a5, a6, a7, a8, a9, a10, a11, a12, a13, a14, a15) := by
  unfold wpX_shortenRuns
  dsimp only
  refine pk_loop (fun m k (s : Int32 × Int32 × (Nat → Int32)) => wX_shortenRuns_9 post m s.1 (nI k) (nI n) f2 f3 s.2.1 f5 a1 a2 a3 a4 a5 a6 s.2.2 a8 a9 a10 a11 a12 a13 a14 a15)
    (fun k s => ∃ z S sy w, s.1 = nI z ∧ s.2.1 = nI S ∧ qa_A s.2.2 sy S ∧ (k ≤ n → qr_Q rk sy S k z 1) ∧ (k = n + 1 → qr_Q rk sy S n 0 w)) (n + 1) 0 (nI 0, nI 0, a7) (by omega)
    ⟨0, 0, fun _ => 0, 1, rfl, rfl, fun j hj => absurd hj (by omega), fun _ => ⟨fun i hi => absurd hi (by omega), fun i hi => absurd hi (by omega), rfl, rfl, fun y _ hy => absurd hy (by omega)⟩, fun h => absurd h (by omega)⟩ ?_ ?_
  · rintro m ⟨x, y, s⟩ ⟨z, S, sy, w, _, eS, h7, _, hQ⟩
    have eS' : y = nI S := eS
    subst eS'
    obtain ⟨q1, q2, q3, _, _⟩ := hQ rfl
    have hc : qr_c sy S = n := by rw [Nat.mul_zero] at q3; exact q3
    have hic := qr_ic sy S
    exact pk_lt n (n + 1) (fun _ => H S sy s (by omega) h7 q1 q2 hc) (fun z => absurd z (by omega))
  · rintro m k ⟨x, y, s⟩ hk ⟨z, S, sy, w, ez, eS, h7, hQ, _⟩ hW
    have ez' : x = nI z := ez
    have eS' : y = nI S := eS
    subst ez' eS'
    have Q := hQ (by omega)
    have fin : (k < n → rk k ≠ 0) → ∃ m', wX_shortenRuns_40 post (wX_shortenRuns_9 post m) (nI k) m' (nI z) (nI n) f2 f3 (nI S) f5 a1 a2 a3 a4 a5 a6 s a8 a9 a10 a11 a12 a13 a14 a15 := fun h0 =>
      bk_s40 hn (by omega) h6 hr h0 h7 Q (fun S' sy' a7' w' g1 g2 g3 => hW (nI 0, nI S', a7') ⟨0, S', sy', w', rfl, rfl, g1, fun e => g2 (by omega), fun e => g3 (by omega)⟩)
    refine pk_lt n k (fun z => absurd z (by omega)) (fun _ => pk_le n k (fun g => fin (fun g2 => absurd g2 (by omega))) (fun g => ⟨pk_in k 32 (by omega), ?_⟩))
    have rk6 := hr k g
    have e6 : a6 (nI k).toNatClampNeg = nI (rk k) := by rw [nI_clamp (by omega)]; exact h6 k g
    refine pk_eq (rk k) 0 (fun q => nm_r (nI_1 z) (nm_r (nI_1 k) (hW (nI (z + 1), nI S, s) ⟨z + 1, S, sy, w, rfl, rfl, h7, fun _ => ?_, fun e => absurd e (by omega)⟩))) (fun q => fin (fun _ => q)) e6 rfl
    obtain ⟨q1, q2, q3, q4, q5⟩ := Q
    refine ⟨q1, q2, by omega, q4, fun y hy hy2 => ?_⟩
    by_cases e : y = k
    · rw [e]; exact q
    · exact q5 y hy (by omega)
theorem bk_58 {post : Int32 → St1 → Prop} {J : (Int32 → Int32 → Int32 → (Nat → Int32) → (Nat → Int32) → (Nat → Int32) → (Nat → Int32) → (Nat → Int32) → (Nat → Int32) → (Nat → Int32) → (Nat → Int32) → (Nat → Int32) → (Nat → Int32) → (Nat → Int32) → (Nat → Int32) → (Nat → Int64) → (Nat → Int32) → (Nat → Int32) → Prop)} {f1 f2 f3 f4 f5 : Int32} {a1 a2 a3 a4 a5 a6 a7 a8 a9 a10 a11 a12 a14 a15 : Nat → Int32} {a13 : Nat → Int64} {rk : Nat → Nat} {c w k u : Nat} {x1 : Int32} (hc : c + u ≤ 32) (h15 : qa_A a15 rk c) (h0 : ∀ z, z < u → rk (c + z) = 0)
    (H : ∀ a15', qa_A a15' rk (c + u) → J (nI (c + u)) (nI (w * 2)) (nI (k + 1)) a1 a2 a3 a4 a5 a6 a7 a8 a9 a10 a11 a12 a13 a14 a15') : ∃ m, wX_undoRuns_58 post J x1 (nI c) (nI w) (nI k) (nI u) f1 f2 f3 f4 f5 m 0 a1 a2 a3 a4 a5 a6 a7 a8 a9 a10 a11 a12 a13 a14 a15 :=
  pk_loop (fun m z s => wX_undoRuns_58 post J x1 (nI c) (nI w) (nI k) (nI u) f1 f2 f3 f4 f5 m (nI z) a1 a2 a3 a4 a5 a6 a7 a8 a9 a10 a11 a12 a13 a14 s) (fun z s => qa_A s rk (c + z)) u 0 a15 (by omega) h15
    (fun m s h => pk_le u u (fun _ => nm_r (nI_add c u) (nm_r (pk_mul w 2) (nm_r (nI_1 k) (H s h)))) (fun z => absurd z (by omega)))
    (fun m z s hz h hW => pk_le u z (fun y => absurd y (by omega)) (fun _ => ⟨pk_in (c + z) 32 (by omega) (nI_add c z), nm_e (nm_r (nI_1 z) (hW _ (by
      rw [nI_add, nI_clamp (by omega)]
      exact qa_fill h (by rw [h0 z hz]; rfl))))⟩))
theorem bk_unruns {post : Int32 → St1 → Prop} {f1 f2 f3 f4 f5 : Int32} {a1 a2 a3 a4 a5 a6 a7 a8 a9 a10 a11 a12 a14 a15 : Nat → Int32} {a13 : Nat → Int64} {rk sy : Nat → Nat} {n S : Nat} (hn : n ≤ 32) (hr : ∀ j, j < n → rk j < 6) (h14 : qa_A a14 sy S) (h7 : ∀ i, i < S → sy i < 7) (hok : qr_ok sy rk S) (hc : qr_c sy S = n)
    (H : ∀ a15', qa_A a15' rk n → post (nI n) (f1, f2, f3, f4, f5, a1, a2, a3, a4, a5, a6, a7, a8, a9, a10, a11, a12, a13, a14, a15')) : wpX_undoRuns post (f1, f2, f3, f4, f5, a1, a2, a3, a4, a5, a6, a7, a8, a9, a10, a11, a12, a13, a14, a15) (nI S) := by
  unfold wpX_undoRuns
  dsimp only
  have hSn := qr_ic sy S
  refine pk_loop (fun m k s => wX_undoRuns_7 post (nI S) f1 f2 f3 f4 f5 m (nI (qr_c sy k)) (nI (qr_w sy k)) (nI k) a1 a2 a3 a4 a5 a6 a7 a8 a9 a10 a11 a12 a13 a14 s) (fun k s => qa_A s rk (qr_c sy k)) S 0 a15 (by omega) (fun j hj => absurd hj (Nat.not_lt_zero j)) ?_ ?_
  · intro m s h
    rw [hc] at h
    refine pk_le S S (fun _ => ?_) (fun z => absurd z (by omega))
    rw [hc]
    exact H s h
  · intro m k s hk h hW
    have e : a14 (nI k).toNatClampNeg = nI (sy k) := by rw [nI_clamp (by omega)]; exact h14 k hk
    have s7 := h7 k hk
    have c1 : qr_c sy (k + 1) ≤ n := by
      have := qr_mono sy (k + 1) (S - (k + 1))
      rw [show k + 1 + (S - (k + 1)) = S by omega] at this
      omega
    have c2 := qr_inc sy k
    have w64 := qr_w64 (sy := sy) k (by omega)
    refine pk_le S k (fun z => absurd z (by omega)) (fun _ => ⟨pk_in k 32 (by omega), nm_r e (pk_le (sy k) 1 (fun g => ?_) (fun g => ?_))⟩)
    · obtain ⟨l1, l2⟩ := qr_lo g
      refine nm_r (e' := nI (qr_w sy k * (sy k + 1))) (by rw [nI_1, pk_mul]) ?_
      refine bk_58 (by omega) h ((hok k hk).2 g) (fun a15' h' => ?_)
      rw [← l1, ← l2]
      rw [← l1] at h'
      exact hW a15' h'
    · obtain ⟨l1, l2⟩ := qr_hi g
      have hr' := (hok k hk).1 g
      refine ⟨pk_in (qr_c sy k) 32 (by omega), nm_e (nm_r (nI_1 (qr_c sy k)) (nm_r (nI_1 k) ?_))⟩
      have w := hW (upd s (qr_c sy k) (nI (sy k - 1))) (by rw [l1]; exact qa_fill h (by rw [hr']))
      rw [l1, l2] at w
      rw [nI_clamp (by omega)]
      have e2 : (nI (sy k) - 1).toInt8.toInt32 = nI (sy k - 1) := by
        show (nI (sy k) - nI 1).toInt8.toInt32 = _
        rw [pk_sub (by omega), qa_b _ (by omega)]
      rw [e2]
      exact w
end
section
/-! plain law of the code: sums, merging, canonical numbers -/
def qh_sum (f : Nat → Nat) : Nat → Nat
  | 0 => 0
  | k + 1 => qh_sum f k + f k
theorem qh_congr {f g : Nat → Nat} : ∀ n, (∀ x, x < n → f x = g x) → qh_sum f n = qh_sum g n
  | 0, _ => rfl
  | n + 1, h => by
    show qh_sum f n + f n = qh_sum g n + g n
    rw [qh_congr n (fun x hx => h x (by omega)), h n (by omega)]
theorem qh_mono {f g : Nat → Nat} : ∀ n, (∀ x, x < n → f x ≤ g x) → qh_sum f n ≤ qh_sum g n
  | 0, _ => Nat.le_refl _
  | n + 1, h => by
    have a := qh_mono n (fun x hx => h x (by omega))
    have b := h n (by omega)
    show qh_sum f n + f n ≤ qh_sum g n + g n
    omega
theorem qh_mono1 {f g : Nat → Nat} {s d : Nat} : ∀ n, s < n → (∀ x, x < n → f x ≤ g x) → f s + d ≤ g s → qh_sum f n + d ≤ qh_sum g n
  | 0, hs, _, _ => absurd hs (by omega)
  | n + 1, hs, h, hd => by
    show qh_sum f n + f n + d ≤ qh_sum g n + g n
    by_cases e : s = n
    · have a := qh_mono (f := f) (g := g) n (fun x hx => h x (by omega))
      rw [e] at hd
      omega
    · have a := qh_mono1 n (by omega) (fun x hx => h x (by omega)) hd
      have b := h n (by omega)
      omega
theorem qh_plus (f g : Nat → Nat) : ∀ n, qh_sum (fun x => f x + g x) n = qh_sum f n + qh_sum g n
  | 0 => rfl
  | n + 1 => by
    have a := qh_plus f g n
    show qh_sum (fun x => f x + g x) n + (f n + g n) = qh_sum f n + f n + (qh_sum g n + g n)
    omega
theorem qh_times (c : Nat) (f : Nat → Nat) : ∀ n, qh_sum (fun x => c * f x) n = c * qh_sum f n
  | 0 => rfl
  | n + 1 => by
    show qh_sum (fun x => c * f x) n + c * f n = c * (qh_sum f n + f n)
    rw [qh_times c f n, Nat.mul_add]
theorem qh_one {f : Nat → Nat} {s : Nat} : ∀ n, s < n → f s ≤ qh_sum f n
  | 0, h => absurd h (by omega)
  | n + 1, h => by
    show f s ≤ qh_sum f n + f n
    by_cases e : s = n
    · rw [e]; omega
    · have := qh_one (f := f) (s := s) n (by omega)
      omega
theorem qh_two {f : Nat → Nat} {s u : Nat} : ∀ n, s < u → u < n → f s + f u ≤ qh_sum f n
  | 0, _, h => absurd h (by omega)
  | n + 1, hs, h => by
    show f s + f u ≤ qh_sum f n + f n
    by_cases e : u = n
    · rw [e]
      have := qh_one (f := f) (s := s) n (by omega)
      omega
    · have := qh_two (f := f) n hs (show u < n by omega)
      omega
theorem qh_up {f : Nat → Nat} {k v : Nat} : ∀ n, k < n → qh_sum (qa_u f k v) n + f k = qh_sum f n + v
  | 0, h => absurd h (by omega)
  | n + 1, h => by
    show qh_sum (qa_u f k v) n + qa_u f k v n + f k = qh_sum f n + f n + v
    by_cases e : k = n
    · have a : qh_sum (qa_u f k v) n = qh_sum f n := qh_congr n (fun x hx => qa_un (by omega))
      rw [a, e, qa_us]
      omega
    · have a := qh_up (f := f) (k := k) (v := v) n (by omega)
      rw [qa_un (show n ≠ k by omega)]
      omega
theorem qh_le1 {f : Nat → Nat} : ∀ n, (∀ x, x < n → f x ≤ 1) → qh_sum f n ≤ n
  | 0, _ => Nat.le_refl _
  | n + 1, h => by
    have a := qh_le1 n (fun x hx => h x (by omega))
    have b := h n (by omega)
    show qh_sum f n + f n ≤ n + 1
    omega
theorem qh_zero {f : Nat → Nat} : ∀ n, (∀ x, x < n → f x = 0) → qh_sum f n = 0
  | 0, _ => rfl
  | n + 1, h => by
    show qh_sum f n + f n = 0
    rw [qh_zero n (fun x hx => h x (by omega)), h n (by omega)]

/-! groups: own s is the group of symbol s, or 7 -/
def qh_one7 (own : Nat → Nat) (g x : Nat) : Nat := if own x = g then 1 else 0
def qh_trm (own b : Nat → Nat) (g x : Nat) : Nat := if own x = g then 2 ^ (6 - b x) else 0
def qh_size (own : Nat → Nat) (g : Nat) : Nat := qh_sum (qh_one7 own g) 7
def qh_kr (own b : Nat → Nat) (g : Nat) : Nat := qh_sum (qh_trm own b g) 7
def qh_I (sy : Nat → Nat) (S : Nat) (wt own b : Nat → Nat) : Prop :=
  qh_sum wt 7 ≤ 32 ∧ (∀ s, s < 7 → own s = 7 → b s = 0) ∧ (∀ s, s < 7 → own s ≠ 7 → own s < 7 ∧ wt (own s) ≠ 0) ∧ (∀ g, g < 7 → wt g ≠ 0 → qh_kr own b g = 64) ∧ (∀ s, s < 7 → own s ≠ 7 → b s + 1 ≤ qh_size own (own s)) ∧ (∀ i, i < S → own (sy i) ≠ 7)
def qh_F (sy : Nat → Nat) (S : Nat) (b : Nat → Nat) : Prop :=
  (∀ s, s < 7 → b s ≤ 6) ∧ qh_sum (fun s => if b s = 0 then 0 else 2 ^ (6 - b s)) 7 ≤ 64 ∧ (∀ i, i < S → 0 < b (sy i))
def qh_mo (own : Nat → Nat) (f g : Nat) : Nat → Nat := fun s => if own s = f then g else own s
def qh_mb (own b : Nat → Nat) (f g : Nat) : Nat → Nat := fun s => if own s = f ∨ own s = g then b s + 1 else b s
theorem qh_p64 (k : Nat) : 2 ^ (6 - k) ≤ 64 := by
  have : 2 ^ (6 - k) ≤ 2 ^ 6 := Nat.pow_le_pow_right (by omega) (by omega)
  omega
theorem qh_ppos (k : Nat) : 1 ≤ 2 ^ k := Nat.pow_pos (by omega)
theorem qh_ne {own b : Nat → Nat} {g : Nat} (h : qh_kr own b g = 64) : 1 ≤ qh_size own g := by
  have a : qh_kr own b g ≤ qh_sum (fun x => 64 * qh_one7 own g x) 7 := qh_mono 7 (fun x _ => by
    have := qh_p64 (b x)
    unfold qh_trm qh_one7
    split <;> omega)
  rw [qh_times, h] at a
  unfold qh_size
  omega
theorem qh_sz2 {own : Nat → Nat} {f g : Nat} (hfg : f ≠ g) : qh_size own f + qh_size own g ≤ 7 := by
  unfold qh_size
  rw [← qh_plus]
  refine qh_le1 7 (fun x _ => ?_)
  unfold qh_one7
  split <;> split <;> omega
theorem qh_szmo {own : Nat → Nat} {f g : Nat} (hfg : f ≠ g) : qh_size (qh_mo own f g) g = qh_size own f + qh_size own g := by
  unfold qh_size
  rw [← qh_plus]
  refine qh_congr 7 (fun x _ => ?_)
  unfold qh_one7 qh_mo
  by_cases e : own x = f
  · rw [if_pos e, if_pos rfl, if_pos e, if_neg (by omega)]
  · rw [if_neg e, if_neg e, Nat.zero_add]
theorem qh_szmo' {own : Nat → Nat} {f g k : Nat} (h1 : k ≠ f) (h2 : k ≠ g) : qh_size (qh_mo own f g) k = qh_size own k := by
  refine qh_congr 7 (fun x _ => ?_)
  unfold qh_one7 qh_mo
  by_cases e : own x = f
  · rw [if_pos e, if_neg (by omega), if_neg (by omega)]
  · rw [if_neg e]
theorem qh_merge {sy wt own b : Nat → Nat} {S f g : Nat} (h : qh_I sy S wt own b) (hf : f < 7) (hg : g < 7) (hfg : f ≠ g) (wf : wt f ≠ 0) (wg : wt g ≠ 0) :
    qh_I sy S (qa_u (qa_u wt g (wt g + wt f)) f 0) (qh_mo own f g) (qh_mb own b f g) := by
  obtain ⟨h1, h2, h3, h4, h5, h6⟩ := h
  have kf := h4 f hf wf
  have kg := h4 g hg wg
  have nf := qh_ne kf
  have ng := qh_ne kg
  have s2 := qh_sz2 (own := own) hfg
  have mo7 : ∀ s, qh_mo own f g s = 7 ↔ own s = 7 := by
    intro s
    unfold qh_mo
    by_cases e : own s = f
    · rw [if_pos e]; omega
    · rw [if_neg e]
  have wne : ∀ k, k ≠ f → k ≠ g → qa_u (qa_u wt g (wt g + wt f)) f 0 k = wt k := fun k e1 e2 => by rw [qa_un e1, qa_un e2]
  have wgv : qa_u (qa_u wt g (wt g + wt f)) f 0 g = wt g + wt f := by rw [qa_un (fun e => hfg e.symm), qa_us]
  have wfv : qa_u (qa_u wt g (wt g + wt f)) f 0 f = 0 := qa_us _ _ _
  refine ⟨?_, ?_, ?_, ?_, ?_, fun i hi e => h6 i hi ((mo7 _).mp e)⟩
  · have a := qh_up (f := qa_u wt g (wt g + wt f)) (k := f) (v := 0) 7 hf
    have c := qh_up (f := wt) (k := g) (v := wt g + wt f) 7 hg
    rw [qa_un hfg] at a
    omega
  · intro s hs e
    have e' := (mo7 s).mp e
    unfold qh_mb
    rw [if_neg (by omega)]
    exact h2 s hs e'
  · intro s hs e
    have e' : own s ≠ 7 := fun z => e ((mo7 s).mpr z)
    obtain ⟨c1, c2⟩ := h3 s hs e'
    unfold qh_mo
    by_cases es : own s = f
    · rw [if_pos es, wgv]; exact ⟨hg, by omega⟩
    · rw [if_neg es]
      refine ⟨c1, ?_⟩
      by_cases eg : own s = g
      · rw [eg, wgv]; omega
      · rw [wne _ es eg]; exact c2
  · intro k hk wk
    have kf' : k ≠ f := fun e => by rw [e, wfv] at wk; exact wk rfl
    by_cases e : k = g
    · subst e
      have t2 : qh_sum (fun x => 2 * qh_trm (qh_mo own f k) (qh_mb own b f k) k x) 7 = qh_sum (fun x => qh_trm own b f x + qh_trm own b k x) 7 := by
        refine qh_congr 7 (fun x hx => ?_)
        show 2 * qh_trm (qh_mo own f k) (qh_mb own b f k) k x = qh_trm own b f x + qh_trm own b k x
        have pw : own x ≠ 7 → (own x = f ∨ own x = k) → 2 * 2 ^ (6 - (b x + 1)) = 2 ^ (6 - b x) := by
          intro z y
          have := h5 x hx z
          have : b x + 1 ≤ 6 := by
            rcases y with y | y
            · rw [y] at this; omega
            · rw [y] at this; omega
          rw [show 6 - b x = (6 - (b x + 1)) + 1 by omega, Nat.pow_succ]
          omega
        unfold qh_trm qh_mo qh_mb
        by_cases ef : own x = f
        · rw [if_pos ef, if_pos rfl, if_pos (Or.inl ef), if_pos ef, if_neg (by omega), pw (by omega) (Or.inl ef), Nat.add_zero]
        · rw [if_neg ef, if_neg ef]
          by_cases ek : own x = k
          · rw [if_pos ek, if_pos (Or.inr ek), if_pos ek, pw (by omega) (Or.inr ek)]
            omega
          · rw [if_neg ek, if_neg ek]
      rw [qh_times, qh_plus] at t2
      unfold qh_kr at kf kg ⊢
      omega
    · rw [wne k kf' e] at wk
      rw [← h4 k hk wk]
      refine qh_congr 7 (fun x hx => ?_)
      unfold qh_trm qh_mo qh_mb
      by_cases ef : own x = f
      · rw [if_pos ef, if_neg (by omega), if_neg (by omega)]
      · rw [if_neg ef]
        by_cases ek : own x = k
        · rw [if_pos ek, if_pos ek, if_neg (by omega)]
        · rw [if_neg ek, if_neg ek]
  · intro s hs e
    have e' : own s ≠ 7 := fun z => e ((mo7 s).mpr z)
    have c := h5 s hs e'
    by_cases es : own s = f
    · have e1 : qh_mo own f g s = g := if_pos es
      have e2 : qh_mb own b f g s = b s + 1 := if_pos (Or.inl es)
      rw [e1, e2, qh_szmo hfg]
      rw [es] at c
      omega
    · have e1 : qh_mo own f g s = own s := if_neg es
      rw [e1]
      by_cases eg : own s = g
      · have e2 : qh_mb own b f g s = b s + 1 := if_pos (Or.inr eg)
        rw [e2, eg, qh_szmo hfg]
        rw [eg] at c
        omega
      · have e2 : qh_mb own b f g s = b s := if_neg (by omega)
        rw [e2, qh_szmo' es eg]
        exact c
theorem qh_b6 {sy wt own b : Nat → Nat} {S : Nat} (h : qh_I sy S wt own b) : ∀ s, s < 7 → b s ≤ 6 := by
  obtain ⟨h1, h2, h3, h4, h5, h6⟩ := h
  intro s hs
  by_cases e : own s = 7
  · rw [h2 s hs e]; omega
  · have a := h5 s hs e
    have c : qh_size own (own s) ≤ 7 := qh_le1 7 (fun x _ => by unfold qh_one7; split <;> omega)
    omega
theorem qh_end0 {sy wt own b : Nat → Nat} {S : Nat} (h7 : ∀ i, i < S → sy i < 7) (h : qh_I sy S wt own b) (h0 : ∀ g, g < 7 → wt g = 0) : qh_F sy S b := by
  have hb := qh_b6 h
  obtain ⟨h1, h2, h3, h4, h5, h6⟩ := h
  have o7 : ∀ s, s < 7 → own s = 7 := by
    intro s hs
    by_cases e : own s = 7
    · exact e
    · have := h3 s hs e
      exact absurd (h0 _ this.1) this.2
  refine ⟨hb, ?_, fun i hi => absurd (o7 _ (h7 i hi)) (h6 i hi)⟩
  rw [qh_zero 7 (fun x hx => by rw [if_pos (h2 x hx (o7 x hx))])]
  omega
theorem qh_end1 {sy wt own b : Nat → Nat} {S g u v : Nat} (h7 : ∀ i, i < S → sy i < 7) (h : qh_I sy S wt own b) (hg : g < 7) (wg : wt g ≠ 0) (h0 : ∀ k, k < 7 → k ≠ g → wt k = 0) (huv : u ≠ v) (hu : u < 7) (hv : v < 7) (ou : own u ≠ 7) (ov : own v ≠ 7) : qh_F sy S b := by
  have hb := qh_b6 h
  obtain ⟨h1, h2, h3, h4, h5, h6⟩ := h
  have og : ∀ s, s < 7 → own s ≠ 7 → own s = g := by
    intro s hs e
    have c := h3 s hs e
    by_cases e2 : own s = g
    · exact e2
    · exact absurd (h0 _ c.1 e2) c.2
  have k := h4 g hg wg
  refine ⟨hb, ?_, fun i hi => ?_⟩
  · rw [← k]
    refine qh_mono 7 (fun x hx => ?_)
    unfold qh_trm
    by_cases e : b x = 0
    · rw [if_pos e]; exact Nat.zero_le _
    · rw [if_neg e, if_pos (og x hx (fun z => e (h2 x hx z)))]; exact Nat.le_refl _
  · rcases Nat.eq_zero_or_pos (b (sy i)) with z | z
    · have hs := h7 i hi
      have os := og _ hs (h6 i hi)
      have two : ∀ w, w < 7 → own w = g → w ≠ sy i → False := by
        intro w hw ow hne
        have ts : qh_trm own b g (sy i) = 64 := by unfold qh_trm; rw [if_pos os, z]
        have tw : 1 ≤ qh_trm own b g w := by unfold qh_trm; rw [if_pos ow]; exact qh_ppos _
        unfold qh_kr at k
        rcases Nat.lt_or_ge w (sy i) with y | y
        · have := qh_two (f := qh_trm own b g) 7 y hs
          omega
        · have := qh_two (f := qh_trm own b g) 7 (show sy i < w by omega) hw
          omega
      by_cases e : u = sy i
      · exact (two v hv (og v hv ov) (fun y => huv (by rw [e, y]))).elim
      · exact (two u hu (og u hu ou) e).elim
    · exact z

/-! canonical numbers -/
def qh_con (b : Nat → Nat) (B s x : Nat) : Nat := if 0 < b x ∧ (b x < B ∨ (b x = B ∧ x < s)) then 2 ^ (B - b x) else 0
def qh_K (b : Nat → Nat) (B s : Nat) : Nat := qh_sum (qh_con b B s) 7
theorem qh_K_y {b : Nat → Nat} {B s : Nat} (hs : s < 7) (hB : 0 < B) (h : b s = B) : qh_K b B (s + 1) = qh_K b B s + 1 := by
  have a := qh_up (f := qh_con b B s) (k := s) (v := 1) 7 hs
  have c : qh_con b B s s = 0 := by unfold qh_con; rw [if_neg (by omega)]
  have e : qh_K b B (s + 1) = qh_sum (qa_u (qh_con b B s) s 1) 7 := by
    refine qh_congr 7 (fun x _ => ?_)
    unfold qh_con
    by_cases e : x = s
    · rw [e, qa_us, if_pos (by omega), h, Nat.sub_self]
    · rw [qa_un e]
      by_cases d : 0 < b x ∧ (b x < B ∨ (b x = B ∧ x < s))
      · rw [if_pos d, if_pos (by omega)]
      · rw [if_neg d, if_neg (by omega)]
  unfold qh_K at *
  omega
theorem qh_K_n {b : Nat → Nat} {B s : Nat} (h : b s ≠ B) : qh_K b B (s + 1) = qh_K b B s := by
  refine qh_congr 7 (fun x _ => ?_)
  unfold qh_con
  by_cases e : x = s
  · rw [e]
    by_cases d : 0 < b s ∧ b s < B
    · rw [if_pos (by omega), if_pos (by omega)]
    · rw [if_neg (by omega), if_neg (by omega)]
  · by_cases d : 0 < b x ∧ (b x < B ∨ (b x = B ∧ x < s))
    · rw [if_pos d, if_pos (by omega)]
    · rw [if_neg d, if_neg (by omega)]
theorem qh_K_b (b : Nat → Nat) (B : Nat) : qh_K b (B + 1) 0 = qh_K b B 7 * 2 := by
  rw [Nat.mul_comm]
  unfold qh_K
  rw [← qh_times]
  refine qh_congr 7 (fun x hx => ?_)
  unfold qh_con
  by_cases d : 0 < b x ∧ (b x < B ∨ (b x = B ∧ x < 7))
  · rw [if_pos d, if_pos (by omega), show B + 1 - b x = (B - b x) + 1 by omega, Nat.pow_succ, Nat.mul_comm]
  · rw [if_neg d, if_neg (by omega)]
theorem qh_K_0 (b : Nat → Nat) : qh_K b 0 7 = 0 := qh_zero 7 (fun x hx => by unfold qh_con; rw [if_neg (by omega)])
theorem qh_K_lt {b : Nat → Nat} {s u : Nat} (hs : s < 7) (h0 : 0 < b s) (h : b s < b u ∨ (b s = b u ∧ s < u)) : (qh_K b (b s) s + 1) * 2 ^ (b u - b s) ≤ qh_K b (b u) u := by
  rw [Nat.add_mul, Nat.one_mul, Nat.mul_comm]
  unfold qh_K
  rw [← qh_times]
  refine qh_mono1 (s := s) 7 hs (fun x hx => ?_) ?_
  · show 2 ^ (b u - b s) * qh_con b (b s) s x ≤ qh_con b (b u) u x
    unfold qh_con
    by_cases d : 0 < b x ∧ (b x < b s ∨ (b x = b s ∧ x < s))
    · rw [if_pos d, if_pos (by omega), ← Nat.pow_add, show b u - b s + (b s - b x) = b u - b x by omega]
      exact Nat.le_refl _
    · rw [if_neg d, Nat.mul_zero]; exact Nat.zero_le _
  · show 2 ^ (b u - b s) * qh_con b (b s) s s + 2 ^ (b u - b s) ≤ qh_con b (b u) u s
    unfold qh_con
    rw [if_neg (by omega), if_pos (by omega), Nat.mul_zero, Nat.zero_add]
    exact Nat.le_refl _
theorem qh_K_fit {b : Nat → Nat} {s : Nat} (hs : s < 7) (h0 : 0 < b s) (h6 : b s ≤ 6) (hk : qh_sum (fun s => if b s = 0 then 0 else 2 ^ (6 - b s)) 7 ≤ 64) : qh_K b (b s) s < 2 ^ b s := by
  have a : qh_sum (fun x => 2 ^ (6 - b s) * qh_con b (b s) s x) 7 + 2 ^ (6 - b s) ≤ qh_sum (fun s => if b s = 0 then 0 else 2 ^ (6 - b s)) 7 := by
    refine qh_mono1 (s := s) 7 hs (fun x hx => ?_) ?_
    · show 2 ^ (6 - b s) * qh_con b (b s) s x ≤ if b x = 0 then 0 else 2 ^ (6 - b x)
      unfold qh_con
      by_cases d : 0 < b x ∧ (b x < b s ∨ (b x = b s ∧ x < s))
      · rw [if_pos d, if_neg (by omega), ← Nat.pow_add, show 6 - b s + (b s - b x) = 6 - b x by omega]
        exact Nat.le_refl _
      · rw [if_neg d, Nat.mul_zero]; exact Nat.zero_le _
    · show 2 ^ (6 - b s) * qh_con b (b s) s s + 2 ^ (6 - b s) ≤ if b s = 0 then 0 else 2 ^ (6 - b s)
      unfold qh_con
      rw [if_neg (by omega), if_neg (by omega), Nat.mul_zero, Nat.zero_add]
      exact Nat.le_refl _
  rw [qh_times] at a
  have e : 2 ^ (6 - b s) * 2 ^ b s = 64 := by rw [← Nat.pow_add, show 6 - b s + b s = 6 by omega]
  have c : 2 ^ (6 - b s) * (qh_K b (b s) s + 1) ≤ 2 ^ (6 - b s) * 2 ^ b s := by
    rw [e, Nat.mul_add, Nat.mul_one]
    unfold qh_K
    omega
  exact Nat.le_of_mul_le_mul_left c (qh_ppos _)
theorem qh_free {b : Nat → Nat} {s u : Nat} (hs : s < 7) (hu : u < 7) (h0 : 0 < b s) (hb : b s ≤ b u) (e : qh_K b (b u) u / 2 ^ (b u - b s) = qh_K b (b s) s) : u = s := by
  rcases Nat.lt_trichotomy u s with h | h | h
  · by_cases eb : b s = b u
    · have a := qh_K_lt (b := b) (s := u) (u := s) hu (by omega) (Or.inr ⟨eb.symm, h⟩)
      rw [eb, Nat.sub_self, Nat.pow_zero, Nat.mul_one] at a
      rw [eb, Nat.sub_self, Nat.pow_zero, Nat.div_one] at e
      omega
    · have a := qh_K_lt (b := b) (s := s) (u := u) hs h0 (Or.inl (by omega))
      have c := (Nat.le_div_iff_mul_le (qh_ppos (b u - b s))).mpr a
      omega
  · exact h
  · have a := qh_K_lt (b := b) (s := s) (u := u) hs h0 (by omega)
    have c := (Nat.le_div_iff_mul_le (qh_ppos (b u - b s))).mpr a
    omega
end
section
/-! lightest, numberCodes, findBits -/
theorem qx_s : ∀ n, n < 32 → ((nI n &&& 31).toBitVec.smod 32).toNat = n := by decide +kernel
theorem qx_bit {m s : Nat} (hm : m < 2 ^ 31) (hs : s < 32) : (nI m >>> (nI s &&& 31)) &&& 1 = nI (m / 2 ^ s % 2) := by
  rw [pk_shrN hm (nI s &&& 31) s (qx_s s hs)]
  exact pk_andN (Nat.lt_of_le_of_lt (Nat.div_le_self _ _) (by omega)) 1 (by decide)
theorem qx_or (a b : Nat) : nI a ||| nI b = nI (a ||| b) := by
  apply Int32.toBitVec_inj.1
  show BitVec.ofNat 32 a ||| BitVec.ofNat 32 b = BitVec.ofNat 32 (a ||| b)
  apply BitVec.eq_of_getLsbD_eq
  intro i hi
  simp [hi]
theorem qx_1 : ∀ i, i < 7 → (1 : Int32) <<< (nI i &&& 31) = nI (2 ^ i) := by decide +kernel
theorem qx_m3 : ∀ g, g < 7 → nI g ≠ -3 := by decide +kernel
theorem qx_tb {m s : Nat} : m / 2 ^ s % 2 = 0 ↔ m.testBit s = false := by
  rw [Nat.testBit_eq_decide_div_mod_eq, decide_eq_false_iff_not]
  generalize m / 2 ^ s = z
  omega
theorem bk_light {post : Int32 → Prop} {f1 f2 f3 f4 f5 : Int32} {a1 a2 a3 a4 a5 a6 a7 a8 a9 a10 a11 a12 a14 a15 : Nat → Int32} {a13 : Nat → Int64} {wt : Nat → Nat} {p0 : Int32} (h9 : qa_A a9 wt 7) (hw : ∀ g, g < 7 → wt g < 64)
    (Hn : (∀ g, g < 7 → nI g ≠ p0 → wt g = 0) → post (-3)) (Hs : ∀ g, g < 7 → nI g ≠ p0 → wt g ≠ 0 → post (nI g)) : wpX_lightest post (f1, f2, f3, f4, f5, a1, a2, a3, a4, a5, a6, a7, a8, a9, a10, a11, a12, a13, a14, a15) p0 := by
  unfold wpX_lightest
  dsimp only
  refine pk_loop (fun m i s => wX_lightest_5 post p0 f1 f2 f3 f4 f5 a1 a2 a3 a4 a5 a6 a7 a8 a9 a10 a11 a12 a13 a14 a15 m s (nI i)) (fun i s => (s = -3 ∧ ∀ g, g < i → nI g ≠ p0 → wt g = 0) ∨ ∃ g, g < i ∧ s = nI g ∧ nI g ≠ p0 ∧ wt g ≠ 0) 7 0 (-3) (by omega) (Or.inl ⟨rfl, fun g hg => absurd hg (by omega)⟩) ?_ ?_
  · rintro m s (⟨e, h⟩ | ⟨g, hg, e, h1, h2⟩)
    · subst e; exact pk_le 7 7 (fun _ => Hn h) (fun z => absurd z (by omega))
    · subst e; exact pk_le 7 7 (fun _ => Hs g hg h1 h2) (fun z => absurd z (by omega))
  · intro m i s hi hI hW
    have e9 : a9 (nI i).toNatClampNeg = nI (wt i) := by rw [nI_clamp (by omega)]; exact h9 i hi
    have wi := hw i hi
    have skip : (nI i ≠ p0 → wt i = 0) ∨ (∃ g, g < i ∧ s = nI g ∧ nI g ≠ p0 ∧ wt g ≠ 0) → wX_lightest_5 post p0 f1 f2 f3 f4 f5 a1 a2 a3 a4 a5 a6 a7 a8 a9 a10 a11 a12 a13 a14 a15 m s (nI (i + 1)) := by
      intro h
      refine hW s ?_
      rcases hI with ⟨e, h'⟩ | ⟨g, hg, e, h1, h2⟩
      · rcases h with h | ⟨g, hg, e2, _, _⟩
        · refine Or.inl ⟨e, fun g hg ng => ?_⟩
          by_cases eg : g = i
          · rw [eg] at ng ⊢; exact h ng
          · exact h' g (by omega) ng
        · rw [e] at e2
          exact absurd e2.symm (qx_m3 g (by omega))
      · exact Or.inr ⟨g, by omega, e, h1, h2⟩
    refine pk_le 7 i (fun z => absurd z (by omega)) (fun _ => br_c (fun z => nm_r (nI_1 i) (skip (Or.inl (fun y => absurd z y)))) (fun z => ⟨pk_in i 7 hi, ?_⟩))
    refine pk_eq (wt i) 0 (fun y => nm_r (nI_1 i) (skip (Or.inl (fun _ => y)))) (fun y => ?_) e9 rfl
    have take : wX_lightest_5 post p0 f1 f2 f3 f4 f5 a1 a2 a3 a4 a5 a6 a7 a8 a9 a10 a11 a12 a13 a14 a15 m (nI i) (nI (i + 1)) := hW (nI i) (Or.inr ⟨i, by omega, rfl, z, y⟩)
    rcases hI with ⟨e, h'⟩ | ⟨g, hg, e, h1, h2⟩
    · subst e
      exact br_t (by decide) (nm_r (nI_1 i) take)
    · subst e
      exact br_f (nI_pos (by omega)) ⟨pk_in i 7 hi, pk_in g 7 (by omega), br_c (fun _ => nm_r (nI_1 i) (skip (Or.inr ⟨g, hg, rfl, h1, h2⟩))) (fun _ => nm_r (nI_1 i) take)⟩
/-- what two calls of lightest give -/
def qh_R (wt : Nat → Nat) (x y : Int32) : Prop := (x = -3 ∧ y = -3 ∧ ∀ g, g < 7 → wt g = 0) ∨ ∃ f, f < 7 ∧ x = nI f ∧ wt f ≠ 0 ∧ ((y = -3 ∧ ∀ g, g < 7 → g ≠ f → wt g = 0) ∨ ∃ g, g < 7 ∧ y = nI g ∧ g ≠ f ∧ wt g ≠ 0)
theorem bk_light2 {P : Int32 → Int32 → Prop} {f1 f2 f3 f4 f5 : Int32} {a1 a2 a3 a4 a5 a6 a7 a8 a9 a10 a11 a12 a14 a15 : Nat → Int32} {a13 : Nat → Int64} {wt : Nat → Nat} (h9 : qa_A a9 wt 7) (hw : ∀ g, g < 7 → wt g < 64) (H : ∀ x y, qh_R wt x y → P x y) :
    wpX_lightest (fun r => wpX_lightest (fun r' => P r r') (f1, f2, f3, f4, f5, a1, a2, a3, a4, a5, a6, a7, a8, a9, a10, a11, a12, a13, a14, a15) r) (f1, f2, f3, f4, f5, a1, a2, a3, a4, a5, a6, a7, a8, a9, a10, a11, a12, a13, a14, a15) (-3) := by
  refine bk_light h9 hw (fun h => ?_) (fun f hf _ wf => ?_)
  · have h0 : ∀ g, g < 7 → wt g = 0 := fun g hg => h g hg (qx_m3 g hg)
    exact bk_light h9 hw (fun _ => H _ _ (Or.inl ⟨rfl, rfl, h0⟩)) (fun g hg _ wg => absurd (h0 g hg) wg)
  · refine bk_light h9 hw (fun h => H _ _ (Or.inr ⟨f, hf, rfl, wf, Or.inl ⟨rfl, fun g hg ne => h g hg (fun e => ne ((nI_eq (by omega) (by omega)).mp e))⟩⟩)) (fun g hg ne wg => H _ _ (Or.inr ⟨f, hf, rfl, wf, Or.inr ⟨g, hg, rfl, fun e => ne (by rw [e]), wg⟩⟩))
theorem bk_num16 {post : St1 → Prop} {J : (Int32 → Int32 → (Nat → Int32) → (Nat → Int32) → (Nat → Int32) → (Nat → Int32) → (Nat → Int32) → (Nat → Int32) → (Nat → Int32) → (Nat → Int32) → (Nat → Int32) → (Nat → Int32) → (Nat → Int32) → (Nat → Int32) → (Nat → Int64) → (Nat → Int32) → (Nat → Int32) → Prop)} {f1 f2 f3 f4 f5 : Int32} {a1 a2 a3 a4 a5 a6 a7 a8 a9 a10 a11 a12 a14 a15 : Nat → Int32} {a13 : Nat → Int64} {b : Nat → Nat} {B : Nat} (h11 : qa_A a11 b 7) (hb : ∀ s, s < 7 → b s ≤ 6) (hB0 : 0 < B) (hB : B < 8) (h12 : ∀ x, x < 7 → 0 < b x → b x < B → a12 x = nI (qh_K b (b x) x))
    (H : ∀ a12', (∀ x, x < 7 → 0 < b x → b x < B + 1 → a12' x = nI (qh_K b (b x) x)) → J (nI (qh_K b B 7)) (nI (B + 1)) a1 a2 a3 a4 a5 a6 a7 a8 a9 a10 a11 a12' a13 a14 a15) : ∃ m, wX_numberCodes_16 post J (nI B) f1 f2 f3 f4 f5 m (nI (qh_K b B 0)) 0 a1 a2 a3 a4 a5 a6 a7 a8 a9 a10 a11 a12 a13 a14 a15 := by
  refine pk_loop (fun m s arr => wX_numberCodes_16 post J (nI B) f1 f2 f3 f4 f5 m (nI (qh_K b B s)) (nI s) a1 a2 a3 a4 a5 a6 a7 a8 a9 a10 a11 arr a13 a14 a15) (fun s arr => ∀ x, x < 7 → 0 < b x → (b x < B ∨ (b x = B ∧ x < s)) → arr x = nI (qh_K b (b x) x)) 7 0 a12 (by omega) (fun x hx h0 h => h12 x hx h0 (by omega)) ?_ ?_
  · intro m arr h
    exact pk_le 7 7 (fun _ => nm_r (nI_1 B) (H arr (fun x hx h0 h1 => h x hx h0 (by omega)))) (fun z => absurd z (by omega))
  · intro m s arr hs h hW
    have e11 : a11 (nI s).toNatClampNeg = nI (b s) := by rw [nI_clamp (by omega)]; exact h11 s hs
    have bs := hb s hs
    refine pk_le 7 s (fun z => absurd z (by omega)) (fun _ => ⟨pk_in s 7 hs, ?_⟩)
    refine pk_eq (b s) B (fun z => ⟨pk_in s 7 hs, nm_e (nm_r (nI_1 _) (nm_r (nI_1 s) ?_))⟩) (fun z => nm_r (nI_1 s) ?_) e11 rfl
    · rw [nI_clamp (by omega)]
      have w := hW (upd arr s (nI (qh_K b B s))) (fun x hx h0 h1 => by
        by_cases e : x = s
        · rw [e, pk_us, z]
        · rw [pk_un e]; exact h x hx h0 (by omega))
      rw [qh_K_y hs hB0 z] at w
      exact w
    · have w := hW arr (fun x hx h0 h1 => h x hx h0 (by
        by_cases e : x = s
        · rw [e] at h1 ⊢; omega
        · omega))
      rw [qh_K_n z] at w
      exact w
theorem bk_num {post : St1 → Prop} {f1 f2 f3 f4 f5 : Int32} {a1 a2 a3 a4 a5 a6 a7 a8 a9 a10 a11 a12 a14 a15 : Nat → Int32} {a13 : Nat → Int64} {b : Nat → Nat} (h11 : qa_A a11 b 7) (hb : ∀ s, s < 7 → b s ≤ 6)
    (H : ∀ a12', (∀ x, x < 7 → 0 < b x → a12' x = nI (qh_K b (b x) x)) → post (f1, f2, f3, f4, f5, a1, a2, a3, a4, a5, a6, a7, a8, a9, a10, a11, a12', a13, a14, a15)) : wpX_numberCodes post (f1, f2, f3, f4, f5, a1, a2, a3, a4, a5, a6, a7, a8, a9, a10, a11, a12, a13, a14, a15) := by
  unfold wpX_numberCodes
  dsimp only
  obtain ⟨m, hm⟩ := pk_loop (fun m j s => wX_numberCodes_4 post f1 f2 f3 f4 f5 m (nI (qh_K b j 7)) (nI (j + 1)) a1 a2 a3 a4 a5 a6 a7 a8 a9 a10 a11 s a13 a14 a15) (fun j s => ∀ x, x < 7 → 0 < b x → b x < j + 1 → s x = nI (qh_K b (b x) x)) 7 0 a12 (by omega) (fun x _ h0 h => absurd h (by omega))
    (fun m s h => pk_le 8 8 (fun _ => H s (fun x hx h0 => h x hx h0 (by have := hb x hx; omega))) (fun z => absurd z (by omega)))
    (fun m j s hj h hW => pk_le 8 (j + 1) (fun z => absurd z (by omega)) (fun _ => nm_r (e' := nI (qh_K b (j + 1) 0)) (by rw [qh_K_b]; exact pk_mul _ 2) (bk_num16 h11 hb (by omega) (by omega) h (fun a12' h' => hW a12' h'))))
  refine ⟨m, ?_⟩
  have hm' : wX_numberCodes_4 post f1 f2 f3 f4 f5 m (nI (qh_K b 0 7)) (nI 1) a1 a2 a3 a4 a5 a6 a7 a8 a9 a10 a11 a12 a13 a14 a15 := hm
  rw [qh_K_0] at hm'
  exact hm'
/-- group masks go with own -/
def qh_G (wt gm own : Nat → Nat) : Prop := ∀ g, g < 7 → gm g < 128 ∧ (wt g ≠ 0 → ∀ s, s < 7 → ((gm g).testBit s = true ↔ own s = g))
theorem bk_143 {post : St1 → Prop} {J : (Int32 → Int32 → (Nat → Int32) → (Nat → Int32) → (Nat → Int32) → (Nat → Int32) → (Nat → Int32) → (Nat → Int32) → (Nat → Int32) → (Nat → Int32) → (Nat → Int32) → (Nat → Int32) → (Nat → Int32) → (Nat → Int32) → (Nat → Int64) → (Nat → Int32) → (Nat → Int32) → Prop)} {f1 f2 f3 f4 f5 : Int32} {a1 a2 a3 a4 a5 a6 a7 a8 a9 a10 a11 a12 a14 a15 : Nat → Int32} {a13 : Nat → Int64} {wt b : Nat → Nat} {g mk : Nat} (hg : g < 7) (h9 : qa_A a9 wt 7) (hw : ∀ g, g < 7 → wt g < 64) (h10 : a10 g = nI mk) (hm : mk < 128) (h11 : qa_A a11 b 7) (hb : ∀ s, s < 7 → b s ≤ 6)
    (H : ∀ a11' x y, qa_A a11' (fun s => if mk.testBit s = true then b s + 1 else b s) 7 → qh_R wt x y → J x y a1 a2 a3 a4 a5 a6 a7 a8 a9 a10 a11' a12 a13 a14 a15) : ∃ m, wX_findBits_143 post J (nI g) f1 f2 f3 f4 f5 m 0 a1 a2 a3 a4 a5 a6 a7 a8 a9 a10 a11 a12 a13 a14 a15 := by
  refine pk_loop (fun m i s => wX_findBits_143 post J (nI g) f1 f2 f3 f4 f5 m (nI i) a1 a2 a3 a4 a5 a6 a7 a8 a9 a10 s a12 a13 a14 a15) (fun i s => qa_A s (fun x => if x < i ∧ mk.testBit x = true then b x + 1 else b x) 7) 7 0 a11 (by omega) (qa_congr h11 (fun x _ => by rw [if_neg (by omega)])) ?_ ?_
  · intro m s h
    refine pk_le 7 7 (fun _ => bk_light2 h9 hw (fun x y r => H s x y (qa_congr h (fun j hj => ?_)) r)) (fun z => absurd z (by omega))
    by_cases e : mk.testBit j = true
    · rw [if_pos ⟨hj, e⟩, if_pos e]
    · rw [if_neg (fun z => e z.2), if_neg e]
  · intro m i s hi h hW
    have e10 : (a10 (nI g).toNatClampNeg >>> (nI i &&& 31)) &&& 1 = nI (mk / 2 ^ i % 2) := by rw [nI_clamp (by omega), h10]; exact qx_bit (by omega) (by omega)
    have bi := hb i hi
    refine pk_le 7 i (fun z => absurd z (by omega)) (fun _ => ⟨pk_in g 7 hg, pk_eq (mk / 2 ^ i % 2) 0 (fun z => nm_r (nI_1 i) (hW s ?_)) (fun z => ⟨pk_in i 7 hi, pk_in i 7 hi, nm_e (nm_r (nI_1 i) (hW _ ?_))⟩) e10 rfl⟩)
    · rw [qx_tb] at z
      refine qa_congr h (fun j hj => ?_)
      by_cases e : j = i
      · rw [e, z, if_neg (by omega), if_neg (fun y => absurd y.2 (by decide))]
      · by_cases d : j < i ∧ mk.testBit j = true
        · rw [if_pos d, if_pos ⟨by omega, d.2⟩]
        · rw [if_neg d, if_neg (fun y => d ⟨by omega, y.2⟩)]
    · have z' : mk.testBit i = true := by
        cases hc : mk.testBit i
        · exact absurd (qx_tb.mpr hc) z
        · rfl
      have e11 : s (nI i).toNatClampNeg = nI (b i) := by
        rw [nI_clamp (by omega), h i hi]
        show nI (if i < i ∧ mk.testBit i = true then b i + 1 else b i) = nI (b i)
        rw [if_neg (by omega)]
      rw [e11, nI_1, qa_b _ (by omega), nI_clamp (by omega)]
      refine qa_congr (qa_up h) (fun j hj => ?_)
      by_cases e : j = i
      · rw [e, qa_us, if_pos ⟨by omega, z'⟩]
      · rw [qa_un e]
        by_cases d : j < i ∧ mk.testBit j = true
        · rw [if_pos d, if_pos ⟨by omega, d.2⟩]
        · rw [if_neg d, if_neg (fun y => d ⟨by omega, y.2⟩)]
theorem qh_w64 {wt : Nat → Nat} (h : qh_sum wt 7 ≤ 32) : ∀ g, g < 7 → wt g < 64 := fun g hg => by
  have := qh_one (f := wt) (s := g) 7 hg
  omega
def qh_nz (a : Nat → Int32) (x : Nat) : Nat := if a x = 0 then 0 else 1
theorem bk_96 {post : St1 → Prop} {f1 f2 f3 f4 f5 : Int32} {a1 a2 a3 a4 a5 a6 a7 a8 a9 a10 a11 a12 a14 a15 : Nat → Int32} {a13 : Nat → Int64} {sy wt own b gm : Nat → Nat} {S u v : Nat} {x y : Int32} (h7 : ∀ i, i < S → sy i < 7) (h9 : qa_A a9 wt 7) (h10 : qa_A a10 gm 7) (hG : qh_G wt gm own) (h11 : qa_A a11 b 7) (hI : qh_I sy S wt own b) (hR : qh_R wt x y)
    (hT : (∀ g, g < 7 → wt g = 0) ∨ (u ≠ v ∧ u < 7 ∧ v < 7 ∧ own u ≠ 7 ∧ own v ≠ 7))
    (H : ∀ a9' a10' a11' a12' b', qa_A a11' b' 7 → qh_F sy S b' → (∀ x, x < 7 → 0 < b' x → a12' x = nI (qh_K b' (b' x) x)) → post (f1, f2, f3, f4, f5, a1, a2, a3, a4, a5, a6, a7, a8, a9', a10', a11', a12', a13, a14, a15)) : ∃ m, wX_findBits_96 post f1 f2 f3 f4 f5 m x y a1 a2 a3 a4 a5 a6 a7 a8 a9 a10 a11 a12 a13 a14 a15 := by
  refine loop_m (fun m (s : Int32 × Int32 × (Nat → Int32) × (Nat → Int32) × (Nat → Int32)) => wX_findBits_96 post f1 f2 f3 f4 f5 m s.1 s.2.1 a1 a2 a3 a4 a5 a6 a7 a8 s.2.2.1 s.2.2.2.1 s.2.2.2.2 a12 a13 a14 a15)
    (fun s => ∃ wt own b gm, qa_A s.2.2.1 wt 7 ∧ qa_A s.2.2.2.1 gm 7 ∧ qh_G wt gm own ∧ qa_A s.2.2.2.2 b 7 ∧ qh_I sy S wt own b ∧ qh_R wt s.1 s.2.1 ∧ ((∀ g, g < 7 → wt g = 0) ∨ (u ≠ v ∧ u < 7 ∧ v < 7 ∧ own u ≠ 7 ∧ own v ≠ 7)))
    (fun s => qh_sum (qh_nz s.2.2.1) 7) ?_ (x, y, a9, a10, a11) ⟨wt, own, b, gm, h9, h10, hG, h11, hI, hR, hT⟩
  rintro m ⟨x, y, b9, b10, b11⟩ ⟨wt, own, b, gm, h9, h10, hG, h11, hI, hR, hT⟩ hW
  dsimp only at h9 h10 h11 hR hW
  show wX_findBits_96 post f1 f2 f3 f4 f5 (m + 1) x y a1 a2 a3 a4 a5 a6 a7 a8 b9 b10 b11 a12 a13 a14 a15
  have fin : qh_F sy S b → wX_findBits_195 post f1 f2 f3 f4 f5 a1 a2 a3 a4 a5 a6 a7 a8 b9 b10 b11 a12 a13 a14 a15 := by
    intro hF
    unfold wX_findBits_195
    exact bk_num h11 hF.1 (fun a12' h => H b9 b10 b11 a12' b h11 hF h)
  rcases hR with ⟨ex, ey, h0⟩ | ⟨f, hf, ex, wf, ⟨ey, h0⟩ | ⟨g, hg, ey, hgf, wg⟩⟩
  · subst ex
    exact br_t (by decide) (fin (qh_end0 h7 hI h0))
  · subst ex ey
    refine br_f (nI_pos (by omega)) (br_t (by decide) (fin ?_))
    rcases hT with hT | ⟨t1, t2, t3, t4, t5⟩
    · exact absurd (hT f hf) wf
    · exact qh_end1 h7 hI hf wf h0 t1 t2 t3 t4 t5
  · subst ex ey
    have hI' := qh_merge hI hf hg (fun e => hgf e.symm) wf wg
    have hs32 := hI.1
    have w1 := qh_w64 hs32 f hf
    have w2 := qh_w64 hs32 g hg
    have e9g : b9 (nI g).toNatClampNeg = nI (wt g) := by rw [nI_clamp (by omega)]; exact h9 g hg
    have e9f : b9 (nI f).toNatClampNeg = nI (wt f) := by rw [nI_clamp (by omega)]; exact h9 f hf
    have e10g : b10 (nI g).toNatClampNeg = nI (gm g) := by rw [nI_clamp (by omega)]; exact h10 g hg
    have e10f : b10 (nI f).toNatClampNeg = nI (gm f) := by rw [nI_clamp (by omega)]; exact h10 f hf
    have hb := qh_b6 hI
    refine br_f (nI_pos (by omega)) (br_f (nI_pos (by omega)) ⟨pk_in g 7 hg, pk_in f 7 hf, pk_in g 7 hg, nm_e ⟨pk_in g 7 hg, pk_in f 7 hf, pk_in g 7 hg, nm_e ⟨pk_in f 7 hf, nm_e ?_⟩⟩⟩)
    rw [e9g, e9f, e10g, e10f, nI_add, qx_or, nI_clamp (show g < 2 ^ 31 by omega), nI_clamp (show f < 2 ^ 31 by omega)]
    have n9 : qa_A (upd (upd b9 g (nI (wt g + wt f))) f 0) (qa_u (qa_u wt g (wt g + wt f)) f 0) 7 := qa_up (v := 0) (qa_up h9)
    have n10 : qa_A (upd b10 g (nI (gm g ||| gm f))) (qa_u gm g (gm g ||| gm f)) 7 := qa_up h10
    have hor : gm g ||| gm f < 128 := Nat.or_lt_two_pow (n := 7) (hG g hg).1 (hG f hf).1
    have tor : ∀ s, s < 7 → ((gm g ||| gm f).testBit s = true ↔ own s = f ∨ own s = g) := by
      intro s hs
      rw [Nat.testBit_or, Bool.or_eq_true, (hG g hg).2 wg s hs, (hG f hf).2 wf s hs]
      exact Or.comm
    refine bk_143 (wt := qa_u (qa_u wt g (wt g + wt f)) f 0) (b := b) (mk := gm g ||| gm f) hg n9 (qh_w64 hI'.1) (by rw [pk_us]) hor h11 hb (fun a11' x y q1 q2 => hW (x, y, _, _, a11') ⟨_, qh_mo own f g, qh_mb own b f g, _, n9, n10, ?_, qa_congr q1 (fun s hs => ?_), hI', q2, ?_⟩ ?_)
    · intro k hk
      by_cases e : k = g
      · rw [e, qa_us]
        refine ⟨hor, fun _ s hs => ?_⟩
        rw [tor s hs]
        unfold qh_mo
        by_cases ef : own s = f
        · rw [if_pos ef]; exact ⟨fun _ => rfl, fun _ => Or.inl ef⟩
        · rw [if_neg ef]; exact ⟨fun z => z.resolve_left ef, fun z => Or.inr z⟩
      · rw [qa_un e]
        refine ⟨(hG k hk).1, fun wk s hs => ?_⟩
        have kf : k ≠ f := fun z => wk (by rw [z, qa_us])
        rw [qa_un kf, qa_un e] at wk
        rw [(hG k hk).2 wk s hs]
        unfold qh_mo
        by_cases ef : own s = f
        · rw [if_pos ef]
          exact ⟨fun z => absurd (z.symm.trans ef) kf, fun z => absurd z.symm e⟩
        · rw [if_neg ef]
    · show (if (gm g ||| gm f).testBit s = true then b s + 1 else b s) = qh_mb own b f g s
      unfold qh_mb
      by_cases d : own s = f ∨ own s = g
      · rw [if_pos d, if_pos ((tor s hs).mpr d)]
      · rw [if_neg d, if_neg (fun z => d ((tor s hs).mp z))]
    · rcases hT with hT | ⟨t1, t2, t3, t4, t5⟩
      · exact absurd (hT f hf) wf
      · have mo7 : ∀ s, own s ≠ 7 → qh_mo own f g s ≠ 7 := by
          intro s hs
          unfold qh_mo
          by_cases ef : own s = f
          · rw [if_pos ef]; omega
          · rw [if_neg ef]; exact hs
        exact Or.inr ⟨t1, t2, t3, mo7 u t4, mo7 v t5⟩
    · have := qh_mono1 (f := qh_nz (upd (upd b9 g (nI (wt g + wt f))) f 0)) (g := qh_nz b9) (s := f) (d := 1) 7 hf (fun x hx => ?_) ?_
      · exact this
      · unfold qh_nz
        by_cases e1 : x = f
        · rw [e1, pk_us, if_pos rfl]; exact Nat.zero_le _
        · rw [pk_un e1]
          by_cases e2 : x = g
          · rw [e2, pk_us, h9 g hg, if_neg (nI_ne0 (by omega) (by omega)), if_neg (nI_ne0 (by omega) (by omega))]
            exact Nat.le_refl _
          · rw [pk_un e2]; exact Nat.le_refl _
      · unfold qh_nz
        rw [pk_us, if_pos rfl, h9 f hf, if_neg (nI_ne0 (by omega) (by omega))]
        exact Nat.le_refl _
/-- at first every symbol that is used is a group -/
def qh_o0 (wt : Nat → Nat) : Nat → Nat := fun s => if wt s = 0 then 7 else s
theorem qh_o0g {wt : Nat → Nat} {g x : Nat} (hg : g < 7) (wg : wt g ≠ 0) : qh_o0 wt x = g ↔ x = g := by
  unfold qh_o0
  by_cases e : wt x = 0
  · rw [if_pos e]
    exact ⟨fun z => absurd z (by omega), fun z => absurd (z ▸ e) wg⟩
  · rw [if_neg e]
theorem qh_I0 {sy wt : Nat → Nat} {S : Nat} (h1 : qh_sum wt 7 ≤ 32) (h2 : ∀ i, i < S → wt (sy i) ≠ 0) (h7 : ∀ i, i < S → sy i < 7) : qh_I sy S wt (qh_o0 wt) (fun _ => 0) := by
  refine ⟨h1, fun _ _ _ => rfl, fun s hs e => ?_, fun g hg wg => ?_, fun s hs e => ?_, fun i hi => ?_⟩
  · unfold qh_o0 at e ⊢
    by_cases z : wt s = 0
    · rw [if_pos z] at e; exact absurd rfl e
    · rw [if_neg z]; exact ⟨hs, z⟩
  · have a := qh_up (f := fun _ => 0) (k := g) (v := 64) 7 hg
    have e : qh_kr (qh_o0 wt) (fun _ => 0) g = qh_sum (qa_u (fun _ => 0) g 64) 7 := by
      refine qh_congr 7 (fun x _ => ?_)
      unfold qh_trm
      by_cases e : x = g
      · rw [if_pos ((qh_o0g hg wg).mpr e), e, qa_us]; rfl
      · rw [if_neg (fun z => e ((qh_o0g hg wg).mp z)), qa_un e]
    rw [e]
    have z : qh_sum (fun _ => 0) 7 = 0 := rfl
    rw [z] at a
    exact a
  · have one : qh_one7 (qh_o0 wt) (qh_o0 wt s) s = 1 := if_pos rfl
    have := qh_one (f := qh_one7 (qh_o0 wt) (qh_o0 wt s)) (s := s) 7 hs
    rw [one] at this
    exact this
  · unfold qh_o0
    rw [if_neg (h2 i hi)]
    have := h7 i hi
    omega
theorem bk_39 {post : St1 → Prop} {f1 f2 f3 f5 : Int32} {a1 a2 a3 a4 a5 a6 a7 a8 a9 a10 a11 a12 a14 a15 : Nat → Int32} {a13 : Nat → Int64} {sy : Nat → Nat} {S : Nat} (hS : S ≤ 32) (hs7 : ∀ i, i < S → sy i < 7) (h7 : qa_A a7 sy S) (h9 : qa_A a9 (fun _ => 0) 7) (h10 : qa_A a10 (fun g => 2 ^ g) 7) (h11 : qa_A a11 (fun _ => 0) 7)
    (H : ∀ a9' a10' a11' a12' b', qa_A a11' b' 7 → qh_F sy S b' → (∀ x, x < 7 → 0 < b' x → a12' x = nI (qh_K b' (b' x) x)) → post (f1, f2, f3, (nI S), f5, a1, a2, a3, a4, a5, a6, a7, a8, a9', a10', a11', a12', a13, a14, a15)) : ∃ m, wX_findBits_39 post f1 f2 f3 (nI S) f5 m 0 a1 a2 a3 a4 a5 a6 a7 a8 a9 a10 a11 a12 a13 a14 a15 := by
  refine pk_loop (fun m k s => wX_findBits_39 post f1 f2 f3 (nI S) f5 m (nI k) a1 a2 a3 a4 a5 a6 a7 a8 s a10 a11 a12 a13 a14 a15) (fun k s => ∃ wt, qa_A s wt 7 ∧ qh_sum wt 7 = k ∧ ∀ i, i < k → wt (sy i) ≠ 0) S 0 a9 (by omega) ⟨fun _ => 0, h9, rfl, fun i hi => absurd hi (by omega)⟩ ?_ ?_
  · rintro m s ⟨wt, g1, g2, g3⟩
    have hI := qh_I0 (S := S) (by omega) g3 hs7
    have hG : qh_G wt (fun g => 2 ^ g) (qh_o0 wt) := by
      intro g hg
      refine ⟨?_, fun wg s hs => ?_⟩
      · have : 2 ^ g ≤ 2 ^ 6 := Nat.pow_le_pow_right (by omega) (by omega)
        show 2 ^ g < 128
        omega
      · rw [qh_o0g hg wg]
        show (2 ^ g).testBit s = true ↔ s = g
        rw [Nat.testBit_two_pow, decide_eq_true_iff]
        exact eq_comm
    refine pk_le S S (fun _ => bk_light2 (P := fun r_3 r_4 => (r_3 < 0 → ∃ m, wX_findBits_96 post f1 f2 f3 (nI S) f5 m r_3 r_4 a1 a2 a3 a4 a5 a6 a7 a8 s a10 a11 a12 a13 a14 a15) ∧ (¬ r_3 < 0 → ((0 ≤ r_4 → ∃ m, wX_findBits_96 post f1 f2 f3 (nI S) f5 m r_3 r_4 a1 a2 a3 a4 a5 a6 a7 a8 s a10 a11 a12 a13 a14 a15) ∧ (¬ 0 ≤ r_4 → (vp_in r_3 7 ∧ ∀ a11_81 : Nat → Int32, a11_81 = upd a11 r_3.toNatClampNeg 1 → ∃ m, wX_findBits_96 post f1 f2 f3 (nI S) f5 m r_3 r_4 a1 a2 a3 a4 a5 a6 a7 a8 s a10 a11_81 a12 a13 a14 a15))))) g1 (qh_w64 (by omega)) (fun x y hR => ?_)) (fun z => absurd z (by omega))
    rcases hR with ⟨ex, ey, h0⟩ | ⟨f, hf, ex, wf, ⟨ey, h0⟩ | ⟨g, hg, ey, hgf, wg⟩⟩
    · subst ex
      exact br_t (by decide) (bk_96 (u := 0) (v := 0) hs7 g1 h10 hG h11 hI (Or.inl ⟨rfl, ey, h0⟩) (Or.inl h0) H)
    · subst ex ey
      refine br_f (nI_pos (by omega)) (br_f (by decide) ⟨pk_in f 7 hf, nm_e ⟨1, ?_⟩⟩)
      rw [nI_clamp (by omega)]
      have n11 : qa_A (upd a11 f 1) (qa_u (fun _ => 0) f 1) 7 := qa_up (v := 1) h11
      have sf : ∀ i, i < S → sy i = f := by
        intro i hi
        by_cases e : sy i = f
        · exact e
        · exact absurd (h0 _ (hs7 i hi) e) (g3 i hi)
      have hF : qh_F sy S (qa_u (fun _ => 0) f 1) := by
        refine ⟨fun s hs => ?_, ?_, fun i hi => ?_⟩
        · by_cases e : s = f
          · rw [e, qa_us]; omega
          · rw [qa_un e]; omega
        · have a := qh_up (f := fun _ => 0) (k := f) (v := 32) 7 hf
          have z : qh_sum (fun _ => 0) 7 = 0 := rfl
          have e : qh_sum (fun s => if qa_u (fun _ => 0) f 1 s = 0 then 0 else 2 ^ (6 - qa_u (fun _ => 0) f 1 s)) 7 = qh_sum (qa_u (fun _ => 0) f 32) 7 := by
            refine qh_congr 7 (fun x _ => ?_)
            by_cases e : x = f
            · rw [e, qa_us, qa_us]; rfl
            · rw [qa_un e, qa_un e]; rfl
          rw [e]
          omega
        · rw [sf i hi, qa_us]; omega
      refine br_f (nI_pos (by omega)) (br_t (by decide) ?_)
      unfold wX_findBits_195
      exact bk_num n11 hF.1 (fun a12' h => H s a10 _ a12' _ n11 hF h)
    · subst ex ey
      refine br_f (nI_pos (by omega)) (br_t (nI_pos' (by omega)) (bk_96 (u := f) (v := g) hs7 g1 h10 hG h11 hI (Or.inr ⟨f, hf, rfl, wf, Or.inr ⟨g, hg, rfl, hgf, wg⟩⟩) (Or.inr ⟨fun e => hgf e.symm, hf, hg, ?_, ?_⟩) H))
      · rw [(qh_o0g hf wf).mpr rfl]; omega
      · rw [(qh_o0g hg wg).mpr rfl]; omega
  · rintro m k s hk ⟨wt, g1, g2, g3⟩ hW
    have e7 : a7 (nI k).toNatClampNeg = nI (sy k) := by rw [nI_clamp (by omega)]; exact h7 k hk
    have s7 := hs7 k hk
    have e9 : s (nI (sy k)).toNatClampNeg = nI (wt (sy k)) := by rw [nI_clamp (by omega)]; exact g1 _ s7
    refine pk_le S k (fun z => absurd z (by omega)) (fun _ => ⟨pk_in k 32 (by omega), ?_⟩)
    rw [e7]
    refine ⟨pk_in (sy k) 7 s7, pk_in (sy k) 7 s7, nm_e (nm_r (nI_1 k) ?_)⟩
    rw [e9, nI_1, nI_clamp (by omega)]
    refine hW _ ⟨_, qa_up g1, ?_, fun i hi => ?_⟩
    · have a := qh_up (f := wt) (k := sy k) (v := wt (sy k) + 1) 7 s7
      omega
    · by_cases e : sy i = sy k
      · rw [e, qa_us]; omega
      · rw [qa_un e]
        by_cases ei : i = k
        · rw [ei] at e; exact absurd rfl e
        · exact g3 i (by omega)
theorem bk_find {post : St1 → Prop} {f1 f2 f3 f5 : Int32} {a1 a2 a3 a4 a5 a6 a7 a8 a9 a10 a11 a12 a14 a15 : Nat → Int32} {a13 : Nat → Int64} {sy : Nat → Nat} {S : Nat} (hS : S ≤ 32) (hs7 : ∀ i, i < S → sy i < 7) (h7 : qa_A a7 sy S)
    (H : ∀ a9' a10' a11' a12' b', qa_A a11' b' 7 → qh_F sy S b' → (∀ x, x < 7 → 0 < b' x → a12' x = nI (qh_K b' (b' x) x)) → post (f1, f2, f3, (nI S), f5, a1, a2, a3, a4, a5, a6, a7, a8, a9', a10', a11', a12', a13, a14, a15)) : wpX_findBits post (f1, f2, f3, (nI S), f5, a1, a2, a3, a4, a5, a6, a7, a8, a9, a10, a11, a12, a13, a14, a15) := by
  unfold wpX_findBits
  dsimp only
  refine pk_loop (fun m i (s : (Nat → Int32) × (Nat → Int32) × (Nat → Int32)) => wX_findBits_2 post f1 f2 f3 (nI S) f5 m (nI i) a1 a2 a3 a4 a5 a6 a7 a8 s.1 s.2.1 s.2.2 a12 a13 a14 a15) (fun i s => qa_A s.1 (fun _ => 0) i ∧ qa_A s.2.1 (fun g => 2 ^ g) i ∧ qa_A s.2.2 (fun _ => 0) i) 7 0 (a9, a10, a11) (by omega) ⟨fun j hj => absurd hj (by omega), fun j hj => absurd hj (by omega), fun j hj => absurd hj (by omega)⟩ ?_ ?_
  · intro m s ⟨g1, g2, g3⟩
    exact pk_le 7 7 (fun _ => bk_39 hS hs7 h7 g1 g2 g3 H) (fun z => absurd z (by omega))
  · intro m i s hi ⟨g1, g2, g3⟩ hW
    refine pk_le 7 i (fun z => absurd z (by omega)) (fun _ => ⟨pk_in i 7 hi, nm_e ⟨pk_in i 7 hi, nm_e ⟨pk_in i 7 hi, nm_e (nm_r (nI_1 i) (hW (_, _, _) ⟨?_, ?_, ?_⟩))⟩⟩⟩)
    · show qa_A (upd s.1 (nI i).toNatClampNeg 0) _ _
      rw [nI_clamp (by omega)]
      exact qa_fill g1 rfl
    · show qa_A (upd s.2.1 (nI i).toNatClampNeg _) _ _
      rw [nI_clamp (by omega)]
      exact qa_fill g2 (qx_1 i hi)
    · show qa_A (upd s.2.2 (nI i).toNatClampNeg 0) _ _
      rw [nI_clamp (by omega)]
      exact qa_fill g3 rfl
end
section
/-! the kit's family 'lN n to 2^64' (laws/BITS.to-paste), names begun anew with qw_ : a starting text -/
theorem qw_tb (n : Nat) : (lN n).toBitVec = BitVec.ofNat 64 n := rfl
theorem qw_inj {a b : Int64} (h : a.toBitVec = b.toBitVec) : a = b := Int64.toBitVec_inj.mp h
theorem qw_tn {n : Nat} (h : n < 2 ^ 64) : (lN n).toBitVec.toNat = n := by rw [qw_tb, BitVec.toNat_ofNat, Nat.mod_eq_of_lt h]
theorem qw_of (x : Int64) : ∃ n, n < 2 ^ 64 ∧ x = lN n := ⟨x.toBitVec.toNat, x.toBitVec.isLt, qw_inj (by rw [qw_tb]; simp)⟩
theorem qw_of32 (x : Int32) : ∃ n, n < 2 ^ 32 ∧ x = nI n := ⟨x.toBitVec.toNat, x.toBitVec.isLt, Int32.toBitVec_inj.mp (by show _ = BitVec.ofNat 32 _; simp)⟩
theorem qw_c : ∀ k, k < 64 → ((nI k).toInt64 &&& 63) = lN k := by decide +kernel
theorem qw_cu : ∀ k, k < 64 → ((nI k).toInt64.toUInt64 &&& Int64.toUInt64 63) = UInt64.ofNat k := by decide +kernel
theorem qw_sm : ∀ k, k < 64 → (BitVec.ofNat 64 k).smod 64 = BitVec.ofNat 64 k := by decide +kernel
theorem qw_pw {a b : Nat} (h : a ≤ b) : 2 ^ b = 2 ^ a * 2 ^ (b - a) := by rw [← Nat.pow_add]; congr 1; omega
theorem qw_lt2 {a b : Nat} (h : a < b) : 2 ^ a < 2 ^ b := Nat.pow_lt_pow_right (by decide) h
theorem qw_mod (n : Nat) : lN n = lN (n % 2 ^ 64) := qw_inj (by rw [qw_tb, qw_tb]; apply BitVec.eq_of_toNat_eq; rw [BitVec.toNat_ofNat, BitVec.toNat_ofNat, Nat.mod_mod])
theorem qw_shr {n k : Nat} (hn : n < 2 ^ 64) (hk : k < 64) : ((lN n).toUInt64 >>> ((nI k).toInt64.toUInt64 &&& Int64.toUInt64 63)).toInt64 = lN (n / 2 ^ k) := by
  rw [qw_cu k hk]
  apply qw_inj
  apply BitVec.eq_of_toNat_eq
  show ((lN n).toUInt64 >>> UInt64.ofNat k).toNat = (BitVec.ofNat 64 _).toNat
  have h1 : (UInt64.ofNat k).toNat = k := by
    show (BitVec.ofNat 64 k).toNat = k
    rw [BitVec.toNat_ofNat, Nat.mod_eq_of_lt (by omega)]
  have h2 : (lN n).toUInt64.toNat = n := qw_tn hn
  rw [UInt64.toNat_shiftRight, h1, h2, Nat.mod_eq_of_lt hk, Nat.shiftRight_eq_div_pow, BitVec.toNat_ofNat, Nat.mod_eq_of_lt (Nat.lt_of_le_of_lt (Nat.div_le_self _ _) hn)]
theorem qw_shl (n : Nat) {k : Nat} (hk : k < 64) : lN n <<< ((nI k).toInt64 &&& 63) = lN (n * 2 ^ k) := by
  rw [qw_c k hk]
  apply qw_inj
  rw [Int64.toBitVec_shiftLeft, qw_tb, qw_tb, qw_tb, qw_sm k hk]
  apply BitVec.eq_of_toNat_eq
  rw [BitVec.shiftLeft_eq', BitVec.toNat_shiftLeft, BitVec.toNat_ofNat, BitVec.toNat_ofNat, BitVec.toNat_ofNat, Nat.mod_eq_of_lt (show k < 2 ^ 64 by omega), Nat.shiftLeft_eq, Nat.mul_mod, Nat.mod_mod, ← Nat.mul_mod]
theorem qw_and {a b : Nat} (ha : a < 2 ^ 64) (hb : b < 2 ^ 64) : lN a &&& lN b = lN (a &&& b) := by
  apply qw_inj
  rw [Int64.toBitVec_and, qw_tb, qw_tb, qw_tb]
  apply BitVec.eq_of_toNat_eq
  rw [BitVec.toNat_and, BitVec.toNat_ofNat, BitVec.toNat_ofNat, BitVec.toNat_ofNat, Nat.mod_eq_of_lt ha, Nat.mod_eq_of_lt hb, Nat.mod_eq_of_lt (Nat.and_lt_two_pow _ hb)]
theorem qw_or {a b : Nat} (ha : a < 2 ^ 64) (hb : b < 2 ^ 64) : lN a ||| lN b = lN (a ||| b) := by
  apply qw_inj
  rw [Int64.toBitVec_or, qw_tb, qw_tb, qw_tb]
  apply BitVec.eq_of_toNat_eq
  rw [BitVec.toNat_or, BitVec.toNat_ofNat, BitVec.toNat_ofNat, BitVec.toNat_ofNat, Nat.mod_eq_of_lt ha, Nat.mod_eq_of_lt hb, Nat.mod_eq_of_lt (Nat.or_lt_two_pow ha hb)]
theorem qw_mask {n k : Nat} (hn : n < 2 ^ 64) (hk : k < 64) : lN n &&& lN (2 ^ k - 1) = lN (n % 2 ^ k) := by
  rw [qw_and hn (by have := qw_lt2 hk; omega), Nat.and_two_pow_sub_one_eq_mod]
theorem qw_a1 {n : Nat} (hn : n < 2 ^ 64) : lN n &&& 1 = lN (n % 2) := qw_mask (k := 1) hn (by decide)
theorem qw_bit {n k : Nat} (hn : n < 2 ^ 64) (hk : k < 64) : ((lN n).toUInt64 >>> ((nI k).toInt64.toUInt64 &&& Int64.toUInt64 63)).toInt64 &&& 1 = lN (n / 2 ^ k % 2) := by
  rw [qw_shr hn hk, qw_a1 (Nat.lt_of_le_of_lt (Nat.div_le_self _ _) hn)]

/-! writeBits, symbolWith, readSymbols -/
/-- where symbol k begins -/
def qb_p (b sy : Nat → Nat) (k : Nat) : Nat := qh_sum (fun i => b (sy i)) k
theorem qb_p1 (b sy : Nat → Nat) (k : Nat) : qb_p b sy (k + 1) = qb_p b sy k + b (sy k) := rfl
theorem qb_p6 {b sy : Nat → Nat} : ∀ k, (∀ i, i < k → b (sy i) ≤ 6) → qb_p b sy k ≤ 6 * k
  | 0, _ => Nat.le_refl _
  | k + 1, h => by
    have a := qb_p6 k (fun i hi => h i (by omega))
    have c := h k (by omega)
    rw [qb_p1]
    omega
theorem qb_pk {b sy : Nat → Nat} : ∀ k, (∀ i, i < k → 0 < b (sy i)) → k ≤ qb_p b sy k
  | 0, _ => Nat.le_refl _
  | k + 1, h => by
    have a := qb_pk k (fun i hi => h i (by omega))
    have c := h k (by omega)
    rw [qb_p1]
    omega
theorem qb_pm (b sy : Nat → Nat) (k : Nat) : ∀ j, qb_p b sy k ≤ qb_p b sy (k + j)
  | 0 => Nat.le_refl _
  | j + 1 => by
    have a := qb_pm b sy k j
    show qb_p b sy k ≤ qb_p b sy (k + j + 1)
    rw [qb_p1]
    omega
def qb_bit (sw : Nat → Nat) (x : Nat) : Bool := (sw (x / 64)).testBit (x % 64)
def qb_L (a : Nat → Int64) (sw : Nat → Nat) : Prop := ∀ w, w < 4 → a w = lN (sw w) ∧ sw w < 2 ^ 64
theorem qb_set (sw : Nat → Nat) (z x : Nat) : qb_bit (qa_u sw (z / 64) (sw (z / 64) ||| 2 ^ (z % 64))) x = (qb_bit sw x || decide (x = z)) := by
  unfold qb_bit
  by_cases e : x / 64 = z / 64
  · rw [e, qa_us, Nat.testBit_or, Nat.testBit_two_pow]
    congr 1
    apply decide_eq_decide.mpr
    omega
  · rw [qa_un e, decide_eq_false (by omega), Bool.or_false]
theorem qb_setL {a : Nat → Int64} {sw : Nat → Nat} {w k : Nat} (h : qb_L a sw) (hw : w < 4) (hk : k < 64) : qb_L (vp_updL a w (lN (sw w) ||| ((1 : Int64) <<< ((nI k).toInt64 &&& 63)))) (qa_u sw w (sw w ||| 2 ^ k)) := by
  have p : 2 ^ k < 2 ^ 64 := qw_lt2 hk
  have e : (1 : Int64) <<< ((nI k).toInt64 &&& 63) = lN (2 ^ k) := by
    show lN 1 <<< ((nI k).toInt64 &&& 63) = _
    rw [qw_shl 1 hk, Nat.one_mul]
  intro v hv
  by_cases ev : v = w
  · rw [ev, pk_uLs, qa_us, e, qw_or (h w hw).2 p]
    exact ⟨rfl, Nat.or_lt_two_pow (h w hw).2 p⟩
  · rw [pk_uLn ev, qa_un ev]; exact h v hv
/-- the first k symbols are written, and c bits of the next -/
def qb_W (b cd sy sw : Nat → Nat) (k c : Nat) : Prop :=
  (∀ i j, i < k → j < b (sy i) → qb_bit sw (qb_p b sy i + j) = (cd (sy i)).testBit (b (sy i) - 1 - j)) ∧ (∀ j, j < c → qb_bit sw (qb_p b sy k + j) = (cd (sy k)).testBit (b (sy k) - 1 - j)) ∧ (∀ x, qb_p b sy k + c ≤ x → x < 256 → qb_bit sw x = false)
theorem qb_W0 {b cd sy sw : Nat → Nat} {k c : Nat} (h : qb_W b cd sy sw k c) (hx : qb_p b sy k + c < 256) (hb : (cd (sy k)).testBit (b (sy k) - 1 - c) = false) : qb_W b cd sy sw k (c + 1) := by
  obtain ⟨h1, h2, h3⟩ := h
  refine ⟨h1, fun j hj => ?_, fun x hx => h3 x (by omega)⟩
  by_cases e : j = c
  · rw [e, hb]; exact h3 _ (Nat.le_refl _) hx
  · exact h2 j (by omega)
theorem qb_W1 {b cd sy sw : Nat → Nat} {k c : Nat} (h : qb_W b cd sy sw k c) (hb : (cd (sy k)).testBit (b (sy k) - 1 - c) = true) : qb_W b cd sy (qa_u sw ((qb_p b sy k + c) / 64) (sw ((qb_p b sy k + c) / 64) ||| 2 ^ ((qb_p b sy k + c) % 64))) k (c + 1) := by
  obtain ⟨h1, h2, h3⟩ := h
  refine ⟨fun i j hi hj => ?_, fun j hj => ?_, fun x hx hx2 => ?_⟩
  · have m := qb_pm b sy (i + 1) (k - (i + 1))
    rw [show i + 1 + (k - (i + 1)) = k by omega, qb_p1] at m
    rw [qb_set, decide_eq_false (by omega), Bool.or_false]
    exact h1 i j hi hj
  · rw [qb_set]
    by_cases e : j = c
    · rw [e, hb, decide_eq_true rfl, Bool.or_true]
    · rw [decide_eq_false (by omega), Bool.or_false]; exact h2 j (by omega)
  · rw [qb_set, decide_eq_false (by omega), Bool.or_false]; exact h3 x (by omega) hx2
theorem qb_Wn {b cd sy sw : Nat → Nat} {k : Nat} (h : qb_W b cd sy sw k (b (sy k))) : qb_W b cd sy sw (k + 1) 0 := by
  obtain ⟨h1, h2, h3⟩ := h
  refine ⟨fun i j hi hj => ?_, fun j hj => absurd hj (by omega), fun x hx => h3 x (by rw [qb_p1] at hx; omega)⟩
  by_cases e : i = k
  · rw [e] at hj ⊢; exact h2 j hj
  · exact h1 i j (by omega) hj
theorem qx_sub1 (x : Int32) : x + (-1) = x - 1 := by rw [Int32.sub_eq_add_neg]
theorem qx_shr6 {x : Nat} (h : x < 2 ^ 31) : nI x >>> ((6 : Int32) &&& 31) = nI (x / 64) := pk_shrN h _ 6 (by decide)
theorem qx_and63 {x : Nat} (h : x < 2 ^ 31) : nI x &&& 63 = nI (x % 64) := pk_andN (by omega) 6 (by decide)
theorem bk_w51 {post : St1 → Prop} {J : (Int32 → Int32 → (Nat → Int32) → (Nat → Int32) → (Nat → Int32) → (Nat → Int32) → (Nat → Int32) → (Nat → Int32) → (Nat → Int32) → (Nat → Int32) → (Nat → Int32) → (Nat → Int32) → (Nat → Int32) → (Nat → Int32) → (Nat → Int64) → (Nat → Int32) → (Nat → Int32) → Prop)} {f1 f2 f3 f4 : Int32} {a1 a2 a3 a4 a5 a6 a7 a8 a9 a10 a11 a12 a14 a15 : Nat → Int32} {a13 : Nat → Int64} {b cd sy sw : Nat → Nat} {k s : Nat} (hk : k < 32) (hs : s < 7) (es : sy k = s) (h12 : a12 s = nI (cd s)) (hcd : cd s < 2 ^ 31) (hb : b s ≤ 6) (hp : qb_p b sy k + b s < 256) (hL : qb_L a13 sw) (hW0 : qb_W b cd sy sw k 0)
    (H : ∀ a13' sw', qb_L a13' sw' → qb_W b cd sy sw' (k + 1) 0 → J (nI (k + 1)) (nI (qb_p b sy (k + 1))) a1 a2 a3 a4 a5 a6 a7 a8 a9 a10 a11 a12 a13' a14 a15) : ∃ m, wX_writeBits_51 post J (nI k) (nI s) f1 f2 f3 f4 m (nI (b s) - 1) (nI (qb_p b sy k)) a1 a2 a3 a4 a5 a6 a7 a8 a9 a10 a11 a12 a13 a14 a15 := by
  refine ⟨b s + 1, ?_⟩
  have key := pk_loopD (fun m j st => wX_writeBits_51 post J (nI k) (nI s) f1 f2 f3 f4 m (nI j - 1) (nI (qb_p b sy k + (b s - j))) a1 a2 a3 a4 a5 a6 a7 a8 a9 a10 a11 a12 st a14 a15)
    (fun j st => j ≤ b s ∧ ∃ sw, qb_L st sw ∧ qb_W b cd sy sw k (b s - j)) ?_ ?_ (b s) a13 ⟨Nat.le_refl _, sw, hL, by rw [Nat.sub_self]; exact hW0⟩
  · rw [Nat.sub_self] at key
    exact key
  · rintro m st ⟨_, sw', g1, g2⟩
    refine br_t (by rw [nI_0]; decide) (nm_r (nI_1 k) ?_)
    rw [Nat.sub_zero] at g2 ⊢
    rw [← es] at g2 ⊢
    exact H st sw' g1 (qb_Wn g2)
  · rintro m j st ⟨hj, sw', g1, g2⟩ hW
    show wX_writeBits_51 post J (nI k) (nI s) f1 f2 f3 f4 (m + 1) (nI (j + 1) - 1) (nI (qb_p b sy k + (b s - (j + 1)))) a1 a2 a3 a4 a5 a6 a7 a8 a9 a10 a11 a12 st a14 a15
    rw [nI_pred]
    have e12 : (a12 (nI s).toNatClampNeg >>> (nI j &&& 31)) &&& 1 = nI (cd s / 2 ^ j % 2) := by rw [nI_clamp (by omega), h12]; exact qx_bit hcd (by omega)
    have hx : qb_p b sy k + (b s - (j + 1)) < 256 := by omega
    have ec : b s - j = (b s - (j + 1)) + 1 := by omega
    have eb : b (sy k) - 1 - (b s - (j + 1)) = j := by rw [es]; omega
    have ep : qb_p b sy k + (b s - (j + 1)) + 1 = qb_p b sy k + (b s - j) := by omega
    have nx : ∀ st' sw2, qb_L st' sw2 → qb_W b cd sy sw2 k (b s - (j + 1) + 1) → wX_writeBits_92 post J (wX_writeBits_51 post J (nI k) (nI s) f1 f2 f3 f4 m) (nI k) (nI s) (nI j) f1 f2 f3 f4 (nI (qb_p b sy k + (b s - (j + 1)))) a1 a2 a3 a4 a5 a6 a7 a8 a9 a10 a11 a12 st' a14 a15 := by
      intro st' sw2 q1 q2
      unfold wX_writeBits_92
      refine nm_r (nI_1 _) (nm_r (qx_sub1 _) ?_)
      rw [ep]
      exact hW st' ⟨by omega, sw2, q1, by rw [ec]; exact q2⟩
    refine br_f (nI_pos (by omega)) ⟨pk_in s 7 hs, pk_eq (cd s / 2 ^ j % 2) 0 (fun z => nx st sw' g1 (qb_W0 g2 hx ?_)) (fun z => ?_) e12 rfl⟩
    · rw [eb, es]; exact qx_tb.mp z
    · have z' : (cd s).testBit j = true := by
        cases hc : (cd s).testBit j
        · exact absurd (qx_tb.mpr hc) z
        · rfl
      have hd : (qb_p b sy k + (b s - (j + 1))) / 64 < 4 := by omega
      rw [qx_shr6 (by omega), qx_and63 (by omega), nI_clamp (show (qb_p b sy k + (b s - (j + 1))) / 64 < 2 ^ 31 by omega), (g1 _ hd).1]
      refine ⟨pk_in _ 4 hd, pk_in _ 4 hd, nm_e (nx _ _ (qb_setL g1 hd (Nat.mod_lt _ (by omega))) (qb_W1 g2 ?_))⟩
      rw [eb, es]; exact z'
theorem bk_write {post : St1 → Prop} {f1 f2 f3 f5 : Int32} {a1 a2 a3 a4 a5 a6 a7 a8 a9 a10 a11 a12 a14 a15 : Nat → Int32} {a13 : Nat → Int64} {b cd sy : Nat → Nat} {S : Nat} (hS : S ≤ 32) (h7 : qa_A a7 sy S) (hs7 : ∀ i, i < S → sy i < 7) (h11 : qa_A a11 b 7) (hb : ∀ s, s < 7 → b s ≤ 6) (h12 : ∀ i, i < S → a12 (sy i) = nI (cd (sy i)) ∧ cd (sy i) < 2 ^ 31)
    (H : ∀ a13' sw, qb_L a13' sw → qb_W b cd sy sw S 0 → post (f1, f2, f3, (nI S), (nI (qb_p b sy S)), a1, a2, a3, a4, a5, a6, a7, a8, a9, a10, a11, a12, a13', a14, a15)) : wpX_writeBits post (f1, f2, f3, (nI S), f5, a1, a2, a3, a4, a5, a6, a7, a8, a9, a10, a11, a12, a13, a14, a15) := by
  unfold wpX_writeBits
  dsimp only
  refine pk_loop (fun m i s => wX_writeBits_7 post f1 f2 f3 (nI S) 0 m (nI i) a1 a2 a3 a4 a5 a6 a7 a8 a9 a10 a11 a12 s a14 a15) (fun i s => ∀ w, w < i → s w = lN 0) 4 0 a13 (by omega) (fun j hj => absurd hj (by omega)) ?_ ?_
  · intro m s h
    refine pk_le 4 4 (fun _ => ?_) (fun z => absurd z (by omega))
    refine pk_loop (fun m k s => wX_writeBits_27 post f1 f2 f3 (nI S) m (nI k) (nI (qb_p b sy k)) a1 a2 a3 a4 a5 a6 a7 a8 a9 a10 a11 a12 s a14 a15) (fun k s => ∃ sw, qb_L s sw ∧ qb_W b cd sy sw k 0) S 0 s (by omega) ⟨fun _ => 0, fun w hw => ⟨h w hw, Nat.pow_pos (show 0 < 2 by omega)⟩, fun i j hi => absurd hi (by omega), fun j hj => absurd hj (by omega), fun x _ _ => Nat.zero_testBit _⟩ ?_ ?_
    · rintro m s ⟨sw, q1, q2⟩
      exact pk_le S S (fun _ => H s sw q1 q2) (fun z => absurd z (by omega))
    · rintro m k s hk ⟨sw, q1, q2⟩ hW
      have e7 : a7 (nI k).toNatClampNeg = nI (sy k) := by rw [nI_clamp (by omega)]; exact h7 k hk
      have s7 := hs7 k hk
      have bs := hb _ s7
      have e11 : a11 (nI (sy k)).toNatClampNeg - 1 = nI (b (sy k)) - 1 := by rw [nI_clamp (by omega), h11 _ s7]
      have pk6 := qb_p6 (b := b) (sy := sy) k (fun i hi => hb _ (hs7 i (by omega)))
      exact pk_le S k (fun z => absurd z (by omega)) (fun _ => ⟨pk_in k 32 (by omega), nm_r e7 ⟨pk_in (sy k) 7 s7, nm_r e11 (bk_w51 (by omega) s7 rfl (h12 k hk).1 (h12 k hk).2 bs (by omega) q1 q2 (fun a13' sw' r1 r2 => hW a13' ⟨sw', r1, r2⟩))⟩⟩)
  · intro m i s hi h hW
    refine pk_le 4 i (fun z => absurd z (by omega)) (fun _ => ⟨pk_in i 4 hi, nm_e (nm_r (nI_1 i) (hW _ (fun w hw => ?_)))⟩)
    rw [nI_clamp (by omega)]
    by_cases e : w = i
    · rw [e, pk_uLs]; rfl
    · rw [pk_uLn e]; exact h w (by omega)
theorem bk_with {post : Int32 → Prop} {f1 f2 f3 f4 f5 : Int32} {a1 a2 a3 a4 a5 a6 a7 a8 a9 a10 a11 a12 a14 a15 : Nat → Int32} {a13 : Nat → Int64} {b cd : Nat → Nat} {B C : Nat} (h11 : qa_A a11 b 7) (hb : ∀ s, s < 7 → b s ≤ 6) (h12 : ∀ s, s < 7 → 0 < b s → a12 s = nI (cd s) ∧ cd s < 2 ^ 31) (hB0 : 0 < B) (hB : B < 2 ^ 31) (hC : C < 2 ^ 31)
    (Hn : (∀ s, s < 7 → b s = B → cd s ≠ C) → post (-3)) (Hs : ∀ s, s < 7 → b s = B → cd s = C → post (nI s)) : wpX_symbolWith post (f1, f2, f3, f4, f5, a1, a2, a3, a4, a5, a6, a7, a8, a9, a10, a11, a12, a13, a14, a15) (nI B) (nI C) := by
  unfold wpX_symbolWith
  dsimp only
  refine pk_loop (σ := Unit) (fun m i _ => wX_symbolWith_2 post (nI B) (nI C) f1 f2 f3 f4 f5 a1 a2 a3 a4 a5 a6 a7 a8 a9 a10 a11 a12 a13 a14 a15 m (nI i)) (fun i _ => ∀ s, s < i → b s = B → cd s ≠ C) 7 0 () (by omega) (fun s hs => absurd hs (by omega)) ?_ ?_
  · intro m _ h
    exact pk_le 7 7 (fun _ => Hn h) (fun z => absurd z (by omega))
  · intro m i _ hi h hW
    have e11 : a11 (nI i).toNatClampNeg = nI (b i) := by rw [nI_clamp (by omega)]; exact h11 i hi
    have bi := hb i hi
    refine pk_le 7 i (fun z => absurd z (by omega)) (fun _ => ⟨pk_in i 7 hi, pk_eq (b i) B (fun z => ⟨pk_in i 7 hi, ?_⟩) (fun z => nm_r (nI_1 i) (hW () (fun s hs e => ?_))) e11 rfl⟩)
    · obtain ⟨c1, c2⟩ := h12 i hi (by omega)
      have e12 : a12 (nI i).toNatClampNeg = nI (cd i) := by rw [nI_clamp (by omega)]; exact c1
      refine pk_eq (cd i) C (fun y => Hs i hi z y) (fun y => nm_r (nI_1 i) (hW () (fun s hs e => ?_))) e12 rfl
      by_cases es : s = i
      · rw [es]; exact y
      · exact h s (by omega) e
    · by_cases es : s = i
      · rw [es] at e; exact absurd e z
      · exact h s (by omega) e
theorem qb_half (m e : Nat) : m / 2 ^ e = 2 * (m / 2 ^ (e + 1)) + m / 2 ^ e % 2 := by
  rw [Nat.pow_succ, ← Nat.div_div_eq_div_mul]
  omega
theorem qb_tn {m e : Nat} : m / 2 ^ e % 2 = (m.testBit e).toNat := (Nat.toNat_testBit m e).symm
theorem bk_read {post : Int32 → St1 → Prop} {f1 f2 f3 f4 : Int32} {a1 a2 a3 a4 a5 a6 a7 a8 a9 a10 a11 a12 a14 a15 : Nat → Int32} {a13 : Nat → Int64} {b cd sy sw : Nat → Nat} {S : Nat} (hS : S ≤ 32) (hs7 : ∀ i, i < S → sy i < 7) (h11 : qa_A a11 b 7) (hb : ∀ s, s < 7 → b s ≤ 6) (hb0 : ∀ i, i < S → 0 < b (sy i)) (h12 : ∀ s, s < 7 → 0 < b s → a12 s = nI (cd s) ∧ cd s < 2 ^ b s)
    (hfree : ∀ s u, s < 7 → u < 7 → 0 < b s → b s ≤ b u → cd u / 2 ^ (b u - b s) = cd s → u = s) (hL : qb_L a13 sw) (hW0 : qb_W b cd sy sw S 0)
    (H : ∀ a14', qa_A a14' sy S → post (nI S) (f1, f2, f3, f4, (nI (qb_p b sy S)), a1, a2, a3, a4, a5, a6, a7, a8, a9, a10, a11, a12, a13, a14', a15)) : wpX_readSymbols post (f1, f2, f3, f4, (nI (qb_p b sy S)), a1, a2, a3, a4, a5, a6, a7, a8, a9, a10, a11, a12, a13, a14, a15) := by
  unfold wpX_readSymbols
  dsimp only
  have p6 := qb_p6 (b := b) (sy := sy) S (fun i hi => hb _ (hs7 i hi))
  have h12' : ∀ s, s < 7 → 0 < b s → a12 s = nI (cd s) ∧ cd s < 2 ^ 31 := by
    intro s hs h0
    obtain ⟨q1, q2⟩ := h12 s hs h0
    have : 2 ^ b s ≤ 2 ^ 6 := Nat.pow_le_pow_right (by omega) (hb s hs)
    exact ⟨q1, by omega⟩
  have hc0 : ∀ k, k < S → cd (sy k) / 2 ^ (b (sy k) - 0) = 0 := fun k hk => Nat.div_eq_of_lt (h12 _ (hs7 k hk) (hb0 k hk)).2
  refine pk_loop (fun m x (s : Int32 × Int32 × Int32 × (Nat → Int32)) => wX_readSymbols_9 post f1 f2 f3 f4 (nI (qb_p b sy S)) m s.1 s.2.1 s.2.2.1 (nI x) a1 a2 a3 a4 a5 a6 a7 a8 a9 a10 a11 a12 a13 s.2.2.2 a15)
    (fun x s => ∃ k c, x = qb_p b sy k + c ∧ ((k < S ∧ c < b (sy k) ∧ s.2.2.1 = nI (cd (sy k) / 2 ^ (b (sy k) - c))) ∨ (k = S ∧ c = 0)) ∧ s.1 = nI k ∧ s.2.1 = nI c ∧ qa_A s.2.2.2 sy k) (qb_p b sy S) 0 (nI 0, nI 0, nI 0, a14) (by omega) ⟨0, 0, rfl, ?_, rfl, rfl, fun j hj => absurd hj (by omega)⟩ ?_ ?_
  · rcases Nat.eq_zero_or_pos S with z | z
    · exact Or.inr ⟨z.symm, rfl⟩
    · exact Or.inl ⟨z, hb0 0 z, by rw [hc0 0 z]⟩
  · rintro m ⟨x1, x2, x3, s⟩ ⟨k, c, ex, hk, e1, e2, h14⟩
    dsimp only at hk e1 e2 h14
    rcases hk with ⟨k1, k2, _⟩ | ⟨k1, k2⟩
    · have := qb_pm b sy (k + 1) (S - (k + 1))
      rw [show k + 1 + (S - (k + 1)) = S by omega, qb_p1] at this
      omega
    · subst k1 e1
      exact pk_le _ _ (fun _ => H s h14) (fun z => absurd z (Nat.lt_irrefl _))
  · rintro m x ⟨x1, x2, x3, s⟩ hx ⟨k, c, ex, hk, e1, e2, h14⟩ hW
    dsimp only at hk e1 e2 h14 hW
    show wX_readSymbols_9 post f1 f2 f3 f4 (nI (qb_p b sy S)) (m + 1) x1 x2 x3 (nI x) a1 a2 a3 a4 a5 a6 a7 a8 a9 a10 a11 a12 a13 s a15
    rcases hk with ⟨k1, k2, e3⟩ | ⟨k1, k2⟩
    · subst e1 e2 e3
      have hkS : k + 1 ≤ S := k1
      have s7 := hs7 k k1
      have bk0 := hb0 k k1
      have bk6 := hb _ s7
      have hcd := (h12 _ s7 bk0).2
      have hcd' := (h12' _ s7 bk0).2
      have hx4 : x / 64 < 4 := by omega
      obtain ⟨l1, l2⟩ := hL _ hx4
      have bit : (((a13 (x / 64)).toUInt64 >>> ((nI (x % 64)).toInt64.toUInt64 &&& Int64.toUInt64 63)).toInt64 &&& 1).toInt32 = nI (cd (sy k) / 2 ^ (b (sy k) - (c + 1)) % 2) := by
        rw [l1, qw_bit l2 (Nat.mod_lt _ (by omega)), lN_i, qb_tn, qb_tn]
        have hbit := hW0.1 k c k1 k2
        rw [← ex] at hbit
        unfold qb_bit at hbit
        rw [hbit, show b (sy k) - 1 - c = b (sy k) - (c + 1) by omega]
      have code : 2 * nI (cd (sy k) / 2 ^ (b (sy k) - c)) + nI (cd (sy k) / 2 ^ (b (sy k) - (c + 1)) % 2) = nI (cd (sy k) / 2 ^ (b (sy k) - (c + 1))) := by
        show nI 2 * nI _ + _ = _
        rw [pk_mul, nI_add]
        have := qb_half (cd (sy k)) (b (sy k) - (c + 1))
        rw [show b (sy k) - (c + 1) + 1 = b (sy k) - c by omega] at this
        rw [← this]
      have hlt : cd (sy k) / 2 ^ (b (sy k) - (c + 1)) < 2 ^ 31 := Nat.lt_of_le_of_lt (Nat.div_le_self _ _) hcd'
      refine pk_le (qb_p b sy S) x (fun z => absurd z (by omega)) (fun _ => ⟨by rw [qx_shr6 (by omega)]; exact pk_in _ 4 hx4, nm_r (e' := nI (cd (sy k) / 2 ^ (b (sy k) - (c + 1)))) ?_ (nm_r (nI_1 c) ?_)⟩)
      · rw [qx_shr6 (by omega), qx_and63 (by omega), nI_clamp (by omega), bit, code]
      · refine bk_with h11 hb h12' (by omega) (by omega) hlt (fun z => ?_) (fun u hu eb ec => ?_)
        · have c1 : c + 1 < b (sy k) := by
            rcases Nat.lt_or_ge (c + 1) (b (sy k)) with y | y
            · exact y
            · refine absurd ?_ (z (sy k) s7 (by omega))
              rw [show b (sy k) - (c + 1) = 0 by omega, Nat.pow_zero, Nat.div_one]
          exact br_f (by decide) (nm_r (nI_1 x) (hW (nI k, nI (c + 1), nI (cd (sy k) / 2 ^ (b (sy k) - (c + 1))), s) ⟨k, c + 1, by omega, Or.inl ⟨k1, c1, rfl⟩, rfl, rfl, h14⟩))
        · have eu := hfree u (sy k) hu s7 (by omega) (by omega) (by rw [eb]; exact ec.symm)
          subst eu
          refine br_t (nI_pos' (by omega)) ⟨pk_in k 32 (by omega), nm_e (nm_r (nI_1 k) (nm_r (nI_1 x) (hW (nI (k + 1), nI 0, nI 0, _) ⟨k + 1, 0, by rw [qb_p1]; omega, ?_, rfl, rfl, ?_⟩)))⟩
          · rcases Nat.lt_or_ge (k + 1) S with y | y
            · exact Or.inl ⟨y, hb0 _ y, by rw [hc0 _ y]⟩
            · exact Or.inr ⟨by omega, rfl⟩
          · rw [nI_clamp (by omega), qa_b _ (by omega)]
            exact qa_fill h14 rfl
    · rw [k1, k2] at ex
      omega
end
section
/-! code, column, symbols, cost, decoded -/
def qh_cd (b : Nat → Nat) (s : Nat) : Nat := qh_K b (b s) s
/-- what code() leaves -/
def bk_C (t : Nat → Nat) (n : Nat) (f3 f4 f5 : Int32) (a5 a11 a12 : Nat → Int32) (a13 : Nat → Int64) : Prop :=
  ∃ (o : Nat → Nat) (mk : Nat) (rk sy : Nat → Nat) (S : Nat) (b sw : Nat → Nat),
    (f3 = nI mk ∧ f4 = nI S ∧ f5 = nI (qb_p b sy S)) ∧ ((0 < n → mk < n ∧ o mk = 0) ∧ qp_P o n ∧ qs_S (qv_V t n 64) o n) ∧ qa_A a5 (fun k => t (qu_pd n (o k))) n ∧ (∀ k, k < n → rk k < 6 ∧ qm_row rk k (rk k) = t (qu_pd n (o k)))
    ∧ (S ≤ 32 ∧ (∀ i, i < S → sy i < 7) ∧ qr_ok sy rk S ∧ qr_c sy S = n) ∧ (qa_A a11 b 7 ∧ qh_F sy S b ∧ (∀ x, x < 7 → 0 < b x → a12 x = nI (qh_cd b x))) ∧ qb_L a13 sw ∧ qb_W b (qh_cd b) sy sw S 0
/-- a coded state of the text t of n letters -/
def bk_K (t : Nat → Nat) (n : Nat) (f1 f2 f3 f4 f5 : Int32) (a1 a5 a11 a12 : Nat → Int32) (a13 : Nat → Int64) : Prop :=
  f1 = nI n ∧ f2 = 1 ∧ qa_A a1 t n ∧ bk_C t n f3 f4 f5 a5 a11 a12 a13
/-- any state of the text t of n letters -/
def bk_O (t : Nat → Nat) (n : Nat) (f1 f2 f3 f4 f5 : Int32) (a1 a5 a11 a12 : Nat → Int32) (a13 : Nat → Int64) : Prop :=
  f1 = nI n ∧ qa_A a1 t n ∧ (f2 = 0 ∨ (f2 = 1 ∧ bk_C t n f3 f4 f5 a5 a11 a12 a13))
theorem qh_cd64 {sy b : Nat → Nat} {S : Nat} (h : qh_F sy S b) {s : Nat} (hs : s < 7) (h0 : 0 < b s) : qh_cd b s < 2 ^ b s := qh_K_fit hs h0 (h.1 s hs) h.2.1
theorem bk_code24 {post : St1 → Prop} {f4 f5 : Int32} {a1 a2 a3 a4 a5 a6 a7 a8 a9 a10 a11 a12 a14 a15 : Nat → Int32} {a13 : Nat → Int64} {t o : Nat → Nat} {n : Nat} (hn : n ≤ 32) (ht : ∀ j, j < n → t j < 6) (h1 : qa_A a1 t n) (h2 : qa_A a2 o n) (hP : qp_P o n) (hS : qs_S (qv_V t n 64) o n)
    (H : ∀ (f1' f2' f3' f4' f5' : Int32) (a1' a2' a3' a4' a5' a6' a7' a8' a9' a10' a11' a12' a14' a15' : Nat → Int32) (a13' : Nat → Int64), bk_K t n f1' f2' f3' f4' f5' a1' a5' a11' a12' a13' → post (f1', f2', f3', f4', f5', a1', a2', a3', a4', a5', a6', a7', a8', a9', a10', a11', a12', a13', a14', a15')) : ∃ m, wX_code_24 post (nI n) 1 f4 f5 m 0 0 a1 a2 a3 a4 a5 a6 a7 a8 a9 a10 a11 a12 a13 a14 a15 := by
  refine pk_loop (fun m k (s : Int32 × (Nat → Int32)) => wX_code_24 post (nI n) 1 f4 f5 m (nI k) s.1 a1 a2 a3 a4 s.2 a6 a7 a8 a9 a10 a11 a12 a13 a14 a15) (fun k s => ∃ mk, s.1 = nI mk ∧ (∀ j, j < k → o j = 0 → mk = j) ∧ qa_A s.2 (fun k => t (qu_pd n (o k))) k) n 0 (nI 0, a5) (by omega) ⟨0, rfl, fun j hj => absurd hj (by omega), fun j hj => absurd hj (by omega)⟩ ?_ ?_
  · rintro m ⟨x, s⟩ ⟨mk, e, hm, h5⟩
    dsimp only at e h5
    subst e
    have hmk : 0 < n → mk < n ∧ o mk = 0 := by
      intro h0
      obtain ⟨j, hj, ej⟩ := qp_surj n o hP 0 h0
      have := hm j hj ej
      subst this
      exact ⟨hj, ej⟩
    have cl6 : ∀ k, k < n → t (qu_pd n (o k)) < 6 := fun k hk => ht _ (qu_pd_lt (hP.1 k hk))
    refine pk_le n n (fun _ => ?_) (fun z => absurd z (by omega))
    refine bk_rank hn cl6 h5 (fun a6' a8' rk r1 r2 => ?_)
    refine bk_shorten hn r1 (fun j hj => (r2 j hj).1) (fun S sy a7' s1 s2 s3 s4 s5 => ?_)
    refine bk_find s1 s3 s2 (fun a9' a10' a11' a12' b b1 b2 b3 => ?_)
    have lt31 : ∀ i, i < S → qh_cd b (sy i) < 2 ^ 31 := fun i hi => by
      have a := qh_cd64 b2 (s3 i hi) (b2.2.2 i hi)
      have c : 2 ^ b (sy i) ≤ 2 ^ 6 := Nat.pow_le_pow_right (by omega) (b2.1 _ (s3 i hi))
      omega
    refine bk_write (cd := qh_cd b) s1 s2 s3 b1 b2.1 (fun i hi => ⟨b3 _ (s3 i hi) (b2.2.2 i hi), lt31 i hi⟩) (fun a13' sw w1 w2 => ?_)
    exact H _ _ _ _ _ _ _ _ _ _ _ _ _ _ _ _ _ _ _ _ ⟨rfl, rfl, h1, o, mk, rk, sy, S, b, sw, ⟨rfl, rfl, rfl⟩, ⟨hmk, hP, hS⟩, h5, r2, ⟨s1, s3, s4, s5⟩, ⟨b1, b2, b3⟩, w1, w2⟩
  · rintro m k ⟨x, s⟩ hk ⟨mk, e, hm, h5⟩ hW
    dsimp only at e h5 hW
    subst e
    show wX_code_24 post (nI n) 1 f4 f5 (m + 1) (nI k) (nI mk) a1 a2 a3 a4 s a6 a7 a8 a9 a10 a11 a12 a13 a14 a15
    have e2 : a2 (nI k).toNatClampNeg = nI (o k) := by rw [nI_clamp (by omega)]; exact h2 k hk
    have ok := hP.1 k hk
    have pdl := qu_pd_lt ok
    have t6 := ht _ pdl
    have core : ∀ mk', (∀ j, j < k + 1 → o j = 0 → mk' = j) → wX_code_48 post (wX_code_24 post (nI n) 1 f4 f5 m) (nI k) (nI (o k)) (nI n) 1 (nI mk') f4 f5 a1 a2 a3 a4 s a6 a7 a8 a9 a10 a11 a12 a13 a14 a15 := by
      intro mk' hm'
      unfold wX_code_48
      refine pk_eq (o k) 0 (fun z => ?_) (fun z => ?_)
      · have e1 : a1 (nI n - 1).toNatClampNeg = nI (t (qu_pd n (o k))) := by
          rw [show (nI n - 1 : Int32) = nI n - nI 1 from rfl, pk_sub (by omega), nI_clamp (by omega), h1 _ (by omega)]
          unfold qu_pd
          rw [if_pos z]
        refine ⟨?_, pk_in k 32 (by omega), nm_e (nm_r (nI_1 k) (hW (nI mk', _) ⟨mk', rfl, hm', ?_⟩))⟩
        · rw [show (nI n - 1 : Int32) = nI n - nI 1 from rfl, pk_sub (by omega)]
          exact pk_in (n - 1) 32 (by omega)
        · rw [e1, qa_nb (by omega), nI_clamp (by omega)]
          exact qa_fill h5 rfl
      · have e1 : a1 (nI (o k) - 1).toNatClampNeg = nI (t (qu_pd n (o k))) := by
          rw [show (nI (o k) - 1 : Int32) = nI (o k) - nI 1 from rfl, pk_sub (by omega), nI_clamp (by omega), h1 _ (by omega)]
          unfold qu_pd
          rw [if_neg z]
        refine ⟨?_, pk_in k 32 (by omega), nm_e (nm_r (nI_1 k) (hW (nI mk', _) ⟨mk', rfl, hm', ?_⟩))⟩
        · rw [show (nI (o k) - 1 : Int32) = nI (o k) - nI 1 from rfl, pk_sub (by omega)]
          exact pk_in (o k - 1) 32 (by omega)
        · rw [e1, qa_nb (by omega), nI_clamp (by omega)]
          exact qa_fill h5 rfl
    refine pk_le n k (fun z => absurd z (by omega)) (fun _ => ⟨pk_in k 32 (by omega), nm_r e2 (pk_eq (o k) 0 (fun z => core k (fun j hj e => ?_)) (fun z => core mk (fun j hj e => ?_)))⟩)
    · exact hP.2 k j hk (by omega) (by rw [z, e])
    · by_cases ej : j = k
      · rw [ej] at e; exact absurd e z
      · exact hm j (by omega) e
theorem bk_code {post : St1 → Prop} {f1 f2 f3 f4 f5 : Int32} {a1 a2 a3 a4 a5 a6 a7 a8 a9 a10 a11 a12 a14 a15 : Nat → Int32} {a13 : Nat → Int64} {t : Nat → Nat} {n : Nat} (hn : n ≤ 32) (ht : ∀ j, j < n → t j < 6) (hO : bk_O t n f1 f2 f3 f4 f5 a1 a5 a11 a12 a13)
    (H0 : f2 = 0 → ∀ (f1' f2' f3' f4' f5' : Int32) (a1' a2' a3' a4' a5' a6' a7' a8' a9' a10' a11' a12' a14' a15' : Nat → Int32) (a13' : Nat → Int64), bk_K t n f1' f2' f3' f4' f5' a1' a5' a11' a12' a13' → post (f1', f2', f3', f4', f5', a1', a2', a3', a4', a5', a6', a7', a8', a9', a10', a11', a12', a13', a14', a15')) (H1 : bk_K t n f1 f2 f3 f4 f5 a1 a5 a11 a12 a13 → post (f1, f2, f3, f4, f5, a1, a2, a3, a4, a5, a6, a7, a8, a9, a10, a11, a12, a13, a14, a15)) : wpX_code post (f1, f2, f3, f4, f5, a1, a2, a3, a4, a5, a6, a7, a8, a9, a10, a11, a12, a13, a14, a15) := by
  unfold wpX_code
  dsimp only
  obtain ⟨e1, h1, hf⟩ := hO
  subst e1
  rcases hf with e2 | ⟨e2, hC⟩
  · subst e2
    exact br_t rfl (bk_sortRot hn ht h1 (fun a2' a3' a4' o g1 g2 g3 => bk_code24 hn ht h1 g1 g2 g3 (H0 rfl)))
  · subst e2
    exact br_f (by decide) (H1 ⟨rfl, rfl, h1, hC⟩)
theorem bk_K_O {t : Nat → Nat} {n : Nat} {f1 f2 f3 f4 f5 : Int32} {a1 a2 a3 a4 a5 a6 a7 a8 a9 a10 a11 a12 a14 a15 : Nat → Int32} {a13 : Nat → Int64} (h : bk_K t n f1 f2 f3 f4 f5 a1 a5 a11 a12 a13) : bk_O t n f1 f2 f3 f4 f5 a1 a5 a11 a12 a13 := ⟨h.1, h.2.2.1, Or.inr ⟨h.2.1, h.2.2.2⟩⟩
theorem bk_codeK {post : St1 → Prop} {f1 f2 f3 f4 f5 : Int32} {a1 a2 a3 a4 a5 a6 a7 a8 a9 a10 a11 a12 a14 a15 : Nat → Int32} {a13 : Nat → Int64} {t : Nat → Nat} {n : Nat} (hK : bk_K t n f1 f2 f3 f4 f5 a1 a5 a11 a12 a13) (H : post (f1, f2, f3, f4, f5, a1, a2, a3, a4, a5, a6, a7, a8, a9, a10, a11, a12, a13, a14, a15)) : wpX_code post (f1, f2, f3, f4, f5, a1, a2, a3, a4, a5, a6, a7, a8, a9, a10, a11, a12, a13, a14, a15) := by
  unfold wpX_code
  dsimp only
  have e := hK.2.1
  subst e
  exact br_f (by decide) H
/-- decoded of a coded state, at a place of the text -/
theorem bk_decK {post : Int32 → St1 → Prop} {f1 f2 f3 f4 f5 : Int32} {a1 a2 a3 a4 a5 a6 a7 a8 a9 a10 a11 a12 a14 a15 : Nat → Int32} {a13 : Nat → Int64} {t : Nat → Nat} {n i : Nat} (hn : n ≤ 32) (ht : ∀ j, j < n → t j < 6) (hi : i < n) (hK : bk_K t n f1 f2 f3 f4 f5 a1 a5 a11 a12 a13)
    (H : ∀ a4' a8' a14' a15', post (nI (t i)) (f1, f2, f3, f4, f5, a1, a2, a3, a4', a5, a6, a7, a8', a9, a10, a11, a12, a13, a14', a15')) : wpX_decoded post (f1, f2, f3, f4, f5, a1, a2, a3, a4, a5, a6, a7, a8, a9, a10, a11, a12, a13, a14, a15) (nI i) := by
  unfold wpX_decoded
  dsimp only
  have hK0 := hK
  obtain ⟨e1, e2, h1, o, mk, rk, sy, S, b, sw, ⟨q1, q2, q3⟩, ⟨hmk, hP, hS⟩, h5, r2, ⟨s1, s3, s4, s5⟩, ⟨b1, b2, b3⟩, w1, w2⟩ := hK
  subst e1 e2 q1 q2 q3
  have hL6 : ∀ k, k < n → qm_row rk k (rk k) < 6 := fun k hk => by rw [(r2 k hk).2]; exact ht _ (qu_pd_lt (hP.1 k hk))
  have hm := hmk (by omega)
  refine br_f (nI_pos (by omega)) (pk_lt i n (fun _ => ?_) (fun z => absurd z (by omega)))
  refine bk_codeK hK0 ?_
  refine bk_read (cd := qh_cd b) s1 s3 b1 b2.1 b2.2.2 (fun s hs h0 => ⟨b3 s hs h0, qh_cd64 b2 hs h0⟩) (fun s u hs hu h0 hb e => qh_free hs hu h0 hb e) w1 w2 (fun a14' g1 => ?_)
  refine bk_unruns hn (fun j hj => (r2 j hj).1) g1 s3 s4 s5 (fun a15' g2 => ?_)
  refine bk_unrank hn (fun j hj => (r2 j hj).1) g2 (fun a8' a14'' g3 => ?_)
  refine bk_unsort (L := fun k => qm_row rk k (rk k)) (mk := mk) hn hL6 g3 (fun h0 => (hmk h0).1) (fun a4' a14'' a15'' g g4 g5 => ?_)
  have e3 : (fun k => qm_row rk k (rk k)) (g (qu_at g mk i)) = t i := qu_text (L := fun k => qm_row rk k (rk k)) hn ht hP hS (fun k hk => (r2 k hk).2) g4 hm.1 hm.2 hi
  have e : a14'' (nI i).toNatClampNeg = nI (t i) := by
    rw [nI_clamp (by omega), g5 i hi, ← e3]
  have fin : vp_in (nI i) 32 ∧ post (a14'' (nI i).toNatClampNeg) ((nI n), 1, (nI mk), (nI S), (nI (qb_p b sy S)), a1, a2, a3, a4', a5, a6, a7, a8', a9, a10, a11, a12, a13, a14'', a15'') := by
    rw [e]
    exact ⟨vp_in_nI (by omega) (by omega), H _ _ _ _⟩
  exact fin
theorem bk_decN {post : Int32 → St1 → Prop} {f1 f2 f3 f4 f5 : Int32} {a1 a2 a3 a4 a5 a6 a7 a8 a9 a10 a11 a12 a14 a15 : Nat → Int32} {a13 : Nat → Int64} {n i : Nat} (e1 : f1 = nI n) (hn : n ≤ 32) (hi : n ≤ i) (hi2 : i < 2 ^ 31) (H : post (-3) (f1, f2, f3, f4, f5, a1, a2, a3, a4, a5, a6, a7, a8, a9, a10, a11, a12, a13, a14, a15)) : wpX_decoded post (f1, f2, f3, f4, f5, a1, a2, a3, a4, a5, a6, a7, a8, a9, a10, a11, a12, a13, a14, a15) (nI i) := by
  unfold wpX_decoded
  dsimp only
  subst e1
  exact br_f (nI_pos (by omega)) (pk_lt i n (fun z => absurd z (by omega)) (fun _ => H))
end
section
/-! the law's letters in two longs; sums over permutations; type, repeat -/
def ql_get (P s : Nat) : Nat := P / 2 ^ s % 8
theorem ql_tb (P s y : Nat) : (ql_get P s).testBit y = (decide (y < 3) && P.testBit (s + y)) := by
  unfold ql_get
  rw [show (8 : Nat) = 2 ^ 3 from rfl, Nat.testBit_mod_two_pow, Nat.testBit_div_two_pow, Nat.add_comm]
theorem ql_same {P P' s : Nat} (h : ∀ y, y < 3 → P'.testBit (s + y) = P.testBit (s + y)) : ql_get P' s = ql_get P s := by
  apply Nat.eq_of_testBit_eq
  intro y
  rw [ql_tb, ql_tb]
  by_cases e : y < 3
  · rw [h y e]
  · rw [decide_eq_false e, Bool.false_and, Bool.false_and]
theorem ql_hit {P' s l : Nat} (hl : l < 8) (h : ∀ y, y < 3 → P'.testBit (s + y) = l.testBit y) : ql_get P' s = l := by
  apply Nat.eq_of_testBit_eq
  intro y
  rw [ql_tb]
  by_cases e : y < 3
  · rw [h y e, decide_eq_true e, Bool.true_and]
  · rw [decide_eq_false e, Bool.false_and]
    have : 2 ^ 3 ≤ 2 ^ y := Nat.pow_le_pow_right (by omega) (by omega)
    exact (Nat.testBit_lt_two_pow (by omega)).symm
theorem ql_self (x : Int64) : x = lN x.toBitVec.toNat := qw_inj (by rw [qw_tb]; simp)
theorem ql_set {P l s : Nat} (hl : l < 8) (hs : s < 64) :
    ∃ P', P' < 2 ^ 64 ∧ (lN P &&& (((7 : Int64) <<< ((nI s).toInt64 &&& 63)) ^^^ (-1))) ||| ((nI l).toInt64 <<< ((nI s).toInt64 &&& 63)) = lN P' ∧ ∀ x, x < 64 → P'.testBit x = if s ≤ x ∧ x < s + 3 then l.testBit (x - s) else P.testBit x := by
  refine ⟨((lN P &&& (((7 : Int64) <<< ((nI s).toInt64 &&& 63)) ^^^ (-1))) ||| ((nI l).toInt64 <<< ((nI s).toInt64 &&& 63))).toBitVec.toNat, BitVec.isLt _, ql_self _, fun x hx => ?_⟩
  have e7 : (7 : Int64) <<< ((nI s).toInt64 &&& 63) = lN (7 * 2 ^ s) := qw_shl 7 hs
  have ha : (-1 : Int64).toBitVec = BitVec.allOnes 64 := by decide
  rw [BitVec.testBit_toNat, e7, nI_l (by omega), qw_shl l hs, Int64.toBitVec_or, Int64.toBitVec_and, Int64.toBitVec_xor, ha, qw_tb, qw_tb, qw_tb]
  rw [BitVec.getLsbD_or, BitVec.getLsbD_and, BitVec.getLsbD_xor, BitVec.getLsbD_ofNat, BitVec.getLsbD_ofNat, BitVec.getLsbD_ofNat, BitVec.getLsbD_allOnes, ← Nat.shiftLeft_eq, ← Nat.shiftLeft_eq, Nat.testBit_shiftLeft, Nat.testBit_shiftLeft, decide_eq_true hx]
  rw [show (7 : Nat) = 2 ^ 3 - 1 from rfl, Nat.testBit_two_pow_sub_one]
  by_cases c : s ≤ x ∧ x < s + 3
  · rw [if_pos c, decide_eq_true (show x ≥ s from c.1), decide_eq_true (show x - s < 3 by omega)]
    simp
  · rw [if_neg c]
    by_cases d : s ≤ x
    · have : 2 ^ 3 ≤ 2 ^ (x - s) := Nat.pow_le_pow_right (by omega) (by omega)
      rw [decide_eq_false (show ¬ x - s < 3 by omega), Nat.testBit_lt_two_pow (show l < 2 ^ (x - s) by omega)]
      simp
    · rw [decide_eq_false (show ¬ x ≥ s by omega)]
      simp
def ql_g (P Q i : Nat) : Nat := if 16 ≤ i then ql_get Q (3 * (i - 16)) else ql_get P (3 * i)
theorem ql_setP {P l i : Nat} (Q : Nat) (hl : l < 8) (hi : i < 16) :
    ∃ P', P' < 2 ^ 64 ∧ (lN P &&& (((7 : Int64) <<< ((3 * nI i).toInt64 &&& 63)) ^^^ (-1))) ||| ((nI l).toInt64 <<< ((3 * nI i).toInt64 &&& 63)) = lN P' ∧ ∀ j, j < 32 → ql_g P' Q j = if j = i then l else ql_g P Q j := by
  have e : (3 : Int32) * nI i = nI (3 * i) := pk_mul 3 i
  rw [e]
  obtain ⟨P', h1, h2, h3⟩ := ql_set (P := P) (l := l) (s := 3 * i) hl (by omega)
  refine ⟨P', h1, h2, fun j hj => ?_⟩
  unfold ql_g
  by_cases c : 16 ≤ j
  · rw [if_pos c, if_neg (by omega), if_pos c]
  · rw [if_neg c, if_neg c]
    by_cases d : j = i
    · rw [if_pos d, d]
      refine ql_hit hl (fun y hy => ?_)
      rw [h3 _ (by omega), if_pos (by omega), Nat.add_sub_cancel_left]
    · rw [if_neg d]
      refine ql_same (fun y hy => ?_)
      rw [h3 _ (by omega), if_neg (by omega)]
theorem ql_setQ {Q l i : Nat} (P : Nat) (hl : l < 8) (hi : 16 ≤ i) (hi2 : i < 32) :
    ∃ Q', Q' < 2 ^ 64 ∧ (lN Q &&& (((7 : Int64) <<< ((3 * (nI i - 16)).toInt64 &&& 63)) ^^^ (-1))) ||| ((nI l).toInt64 <<< ((3 * (nI i - 16)).toInt64 &&& 63)) = lN Q' ∧ ∀ j, j < 32 → ql_g P Q' j = if j = i then l else ql_g P Q j := by
  have e : (3 : Int32) * (nI i - 16) = nI (3 * (i - 16)) := by
    show nI 3 * (nI i - nI 16) = _
    rw [pk_sub hi, pk_mul]
  rw [e]
  obtain ⟨Q', h1, h2, h3⟩ := ql_set (P := Q) (l := l) (s := 3 * (i - 16)) hl (by omega)
  refine ⟨Q', h1, h2, fun j hj => ?_⟩
  unfold ql_g
  by_cases c : 16 ≤ j
  · rw [if_pos c, if_pos c]
    by_cases d : j = i
    · rw [if_pos d, d]
      refine ql_hit hl (fun y hy => ?_)
      rw [h3 _ (by omega), if_pos (by omega), Nat.add_sub_cancel_left]
    · rw [if_neg d]
      refine ql_same (fun y hy => ?_)
      rw [h3 _ (by omega), if_neg (by omega)]
  · rw [if_neg c, if_neg (by omega), if_neg c]
theorem ql_rd {P k : Nat} (hP : P < 2 ^ 64) (hk : k < 64) : (((lN P).toUInt64 >>> ((nI k).toInt64.toUInt64 &&& Int64.toUInt64 63)).toInt64.toInt32) &&& 7 = nI (ql_get P k) := by
  rw [qw_shr hP hk, lN_i, pk_and _ 3 (by decide)]
  unfold ql_get
  congr 1
  show (BitVec.ofNat 32 (P / 2 ^ k)).toNat % 8 = _
  rw [BitVec.toNat_ofNat]
  omega
theorem bk_letter {post : Int32 → Prop} {P Q i : Nat} (hP : P < 2 ^ 64) (hQ : Q < 2 ^ 64) (hi : i < 32) (H : post (nI (ql_g P Q i))) : wpL_letter post () (lN P) (lN Q) (nI i) := by
  unfold wpL_letter
  unfold ql_g at H
  refine pk_le 16 i (fun z => ?_) (fun z => ?_)
  · rw [if_pos z] at H
    have e : (3 : Int32) * (nI i - 16) = nI (3 * (i - 16)) := by
      show nI 3 * (nI i - nI 16) = _
      rw [pk_sub z, pk_mul]
    rw [e, ql_rd hQ (by omega)]
    exact H
  · rw [if_neg (by omega)] at H
    have e : (3 : Int32) * nI i = nI (3 * i) := pk_mul 3 i
    rw [e, ql_rd hP (by omega)]
    exact H
def ql_R (P Q : Nat) (t : Nat → Nat) (n : Nat) : Prop := P < 2 ^ 64 ∧ Q < 2 ^ 64 ∧ ∀ j, j < n → ql_g P Q j = t j

/-! sums over a permutation -/
theorem qp_drop {f : Nat → Nat} {n : Nat} (h : qp_P f (n + 1)) : qp_P (fun j => if f j = n then f n else f j) n := by
  obtain ⟨h1, h2⟩ := h
  have hv : f n < n + 1 := h1 n (by omega)
  constructor
  · intro j hj
    have a := h1 j (by omega)
    show (if f j = n then f n else f j) < n
    by_cases e : f j = n
    · rw [if_pos e]
      have : f n ≠ n := fun z => absurd (h2 j n (by omega) (by omega) (by rw [e, z])) (by omega)
      omega
    · rw [if_neg e]; omega
  · intro i j hi hj e
    have e' : (if f i = n then f n else f i) = (if f j = n then f n else f j) := e
    by_cases ei : f i = n
    · by_cases ej : f j = n
      · exact h2 i j (by omega) (by omega) (by rw [ei, ej])
      · rw [if_pos ei, if_neg ej] at e'
        exact absurd (h2 n j (by omega) (by omega) e') (by omega)
    · by_cases ej : f j = n
      · rw [if_neg ei, if_pos ej] at e'
        exact absurd (h2 i n (by omega) (by omega) e') (by omega)
      · rw [if_neg ei, if_neg ej] at e'
        exact h2 i j (by omega) (by omega) e'
theorem qp_sum (F : Nat → Nat) : ∀ (n : Nat) (f : Nat → Nat), qp_P f n → qh_sum (fun j => F (f j)) n = qh_sum F n
  | 0, _, _ => rfl
  | n + 1, f, h => by
    have ih := qp_sum F n _ (qp_drop h)
    show qh_sum (fun j => F (f j)) n + F (f n) = qh_sum F n + F n
    by_cases e : f n = n
    · have c : qh_sum (fun j => F (if f j = n then f n else f j)) n = qh_sum (fun j => F (f j)) n := by
        refine qh_congr n (fun x hx => ?_)
        rw [if_neg (fun z => absurd (h.2 x n (by omega) (by omega) (by rw [z, e])) (by omega))]
      rw [← c, ih, e]
    · obtain ⟨j, hj, ej⟩ := qp_surj (n + 1) f h n (by omega)
      have hjn : j < n := by
        by_cases z : j = n
        · rw [z] at ej; exact absurd ej e
        · omega
      have a := qh_up (f := fun j => F (f j)) (k := j) (v := F (f n)) n hjn
      have c : qh_sum (fun j => F (if f j = n then f n else f j)) n = qh_sum (qa_u (fun j => F (f j)) j (F (f n))) n := by
        refine qh_congr n (fun x hx => ?_)
        by_cases z : x = j
        · rw [z, qa_us, if_pos ej]
        · rw [qa_un z, if_neg (fun y => z (h.2 x j (by omega) (by omega) (by rw [y, ej])))]
      rw [← c, ih] at a
      rw [ej] at a
      omega

/-! type, repeat -/
theorem bk_type {post : Int32 → St1 → Prop} {f1 f2 f3 f4 f5 : Int32} {a1 a2 a3 a4 a5 a6 a7 a8 a9 a10 a11 a12 a14 a15 : Nat → Int32} {a13 : Nat → Int64} {t : Nat → Nat} {n l : Nat} (hn : n ≤ 32) (hl : l < 6) (hO : bk_O t n f1 f2 f3 f4 f5 a1 a5 a11 a12 a13)
    (H1 : n < 32 → ∀ a1', bk_O (qa_u t n l) (n + 1) (nI (n + 1)) 0 f3 f4 f5 a1' a5 a11 a12 a13 → post (nI (n + 1)) ((nI (n + 1)), 0, f3, f4, f5, a1', a2, a3, a4, a5, a6, a7, a8, a9, a10, a11, a12, a13, a14, a15)) (H2 : post (-2) (f1, f2, f3, f4, f5, a1, a2, a3, a4, a5, a6, a7, a8, a9, a10, a11, a12, a13, a14, a15)) : wpX_type post (f1, f2, f3, f4, f5, a1, a2, a3, a4, a5, a6, a7, a8, a9, a10, a11, a12, a13, a14, a15) (nI l) := by
  unfold wpX_type
  dsimp only
  obtain ⟨e1, h1, _⟩ := hO
  subst e1
  refine pk_lt n 32 (fun z => br_f (nI_pos (by omega)) (pk_lt l 6 (fun _ => ⟨pk_in n 32 z, nm_e (nm_r (nI_1 n) (H1 z _ ⟨rfl, ?_, Or.inl rfl⟩))⟩) (fun z => absurd z (by omega)))) (fun _ => H2)
  rw [nI_clamp (by omega), qa_b l (by omega)]
  exact qr_fill h1
def ql_rep (t : Nat → Nat) (n c : Nat) : Nat → Nat := fun j => if j < n then t j else t (j - c)
theorem bk_repeat {post : Int32 → St1 → Prop} {f1 f2 f3 f4 f5 : Int32} {a1 a2 a3 a4 a5 a6 a7 a8 a9 a10 a11 a12 a14 a15 : Nat → Int32} {a13 : Nat → Int64} {t : Nat → Nat} {n c : Nat} (hn : n ≤ 32) (ht : ∀ j, j < n → t j < 6) (hc : 1 ≤ c) (hc2 : c ≤ 12) (hO : bk_O t n f1 f2 f3 f4 f5 a1 a5 a11 a12 a13)
    (H1 : c ≤ n → n + c ≤ 32 → ∀ a1', bk_O (ql_rep t n c) (n + c) (nI (n + c)) 0 f3 f4 f5 a1' a5 a11 a12 a13 → post (nI (n + c)) ((nI (n + c)), 0, f3, f4, f5, a1', a2, a3, a4, a5, a6, a7, a8, a9, a10, a11, a12, a13, a14, a15)) (H2 : post (-2) (f1, f2, f3, f4, f5, a1, a2, a3, a4, a5, a6, a7, a8, a9, a10, a11, a12, a13, a14, a15)) (H3 : post (-1) (f1, f2, f3, f4, f5, a1, a2, a3, a4, a5, a6, a7, a8, a9, a10, a11, a12, a13, a14, a15)) : wpX_repeat post (f1, f2, f3, f4, f5, a1, a2, a3, a4, a5, a6, a7, a8, a9, a10, a11, a12, a13, a14, a15) (nI c) := by
  unfold wpX_repeat
  dsimp only
  obtain ⟨e1, h1, _⟩ := hO
  subst e1
  refine pk_lt c 1 (fun z => absurd z (by omega)) (fun _ => pk_le c n (fun z => pk_le (n + c) 32 (fun y => nm_r (pk_sub z) ?_) (fun _ => H2) (nI_add n c)) (fun _ => H3))
  refine pk_loop (fun m k s => wX_repeat_38 post (nI c) (nI (n - c)) (nI n) f2 f3 f4 f5 m (nI k) s a2 a3 a4 a5 a6 a7 a8 a9 a10 a11 a12 a13 a14 a15) (fun k s => qa_A s (ql_rep t n c) (n + k)) c 0 a1 (by omega) (qa_congr h1 (fun j hj => (if_pos hj).symm)) ?_ ?_
  · intro m s h
    exact pk_le c c (fun _ => nm_r (nI_add n c) (H1 z y s ⟨rfl, h, Or.inl rfl⟩)) (fun z => absurd z (by omega))
  · intro m k s hk h hW
    have ea : nI (n - c) + nI k = nI (n - c + k) := nI_add _ _
    have eb : nI n + nI k = nI (n + k) := nI_add _ _
    have tv : ql_rep t n c (n - c + k) = t (n - c + k) := if_pos (by omega)
    have tw : ql_rep t n c (n + k) = t (n - c + k) := by
      unfold ql_rep
      rw [if_neg (by omega), show n + k - c = n - c + k by omega]
    have t6 := ht (n - c + k) (by omega)
    refine pk_le c k (fun z => absurd z (by omega)) (fun _ => ⟨pk_in (n - c + k) 32 (by omega) ea, pk_in (n + k) 32 (by omega) eb, nm_e (nm_r (nI_1 k) (hW _ ?_))⟩)
    rw [ea, eb, nI_clamp (by omega), nI_clamp (by omega), h _ (by omega), tv, qa_nb (by omega)]
    exact qa_fill h (by rw [tw])
end
section
/-! holds, law -/
theorem bk_symO {post : Int32 → St1 → Prop} {f1 f2 f3 f4 f5 : Int32} {a1 a2 a3 a4 a5 a6 a7 a8 a9 a10 a11 a12 a14 a15 : Nat → Int32} {a13 : Nat → Int64} {t : Nat → Nat} {n : Nat} (hn : n ≤ 32) (ht : ∀ j, j < n → t j < 6) (hO : bk_O t n f1 f2 f3 f4 f5 a1 a5 a11 a12 a13)
    (H : ∀ (f1' f2' f3' f4' f5' : Int32) (a1' a2' a3' a4' a5' a6' a7' a8' a9' a10' a11' a12' a14' a15' : Nat → Int32) (a13' : Nat → Int64), bk_K t n f1' f2' f3' f4' f5' a1' a5' a11' a12' a13' → post f4' (f1', f2', f3', f4', f5', a1', a2', a3', a4', a5', a6', a7', a8', a9', a10', a11', a12', a13', a14', a15')) : wpX_symbols post (f1, f2, f3, f4, f5, a1, a2, a3, a4, a5, a6, a7, a8, a9, a10, a11, a12, a13, a14, a15) := by
  unfold wpX_symbols
  dsimp only
  exact bk_code hn ht hO (fun _ f1' f2' f3' f4' f5' a1' a2' a3' a4' a5' a6' a7' a8' a9' a10' a11' a12' a14' a15' a13' hK => H f1' f2' f3' f4' f5' a1' a2' a3' a4' a5' a6' a7' a8' a9' a10' a11' a12' a14' a15' a13' hK) (fun hK => H f1 f2 f3 f4 f5 a1 a2 a3 a4 a5 a6 a7 a8 a9 a10 a11 a12 a14 a15 a13 hK)
theorem bk_costK {post : Int32 → St1 → Prop} {f1 f2 f3 f4 f5 : Int32} {a1 a2 a3 a4 a5 a6 a7 a8 a9 a10 a11 a12 a14 a15 : Nat → Int32} {a13 : Nat → Int64} {t : Nat → Nat} {n : Nat} (hK : bk_K t n f1 f2 f3 f4 f5 a1 a5 a11 a12 a13) (H : post f5 (f1, f2, f3, f4, f5, a1, a2, a3, a4, a5, a6, a7, a8, a9, a10, a11, a12, a13, a14, a15)) : wpX_cost post (f1, f2, f3, f4, f5, a1, a2, a3, a4, a5, a6, a7, a8, a9, a10, a11, a12, a13, a14, a15) := by
  unfold wpX_cost
  dsimp only
  exact bk_codeK hK H
theorem bk_colN {post : Int32 → St1 → Prop} {f1 f2 f3 f4 f5 : Int32} {a1 a2 a3 a4 a5 a6 a7 a8 a9 a10 a11 a12 a14 a15 : Nat → Int32} {a13 : Nat → Int64} {t : Nat → Nat} {n : Nat} (hn : n ≤ 32) (hK : bk_K t n f1 f2 f3 f4 f5 a1 a5 a11 a12 a13) (H : post (-3) (f1, f2, f3, f4, f5, a1, a2, a3, a4, a5, a6, a7, a8, a9, a10, a11, a12, a13, a14, a15)) : wpX_column post (f1, f2, f3, f4, f5, a1, a2, a3, a4, a5, a6, a7, a8, a9, a10, a11, a12, a13, a14, a15) (nI n) := by
  unfold wpX_column
  dsimp only
  refine bk_codeK hK ?_
  have e1 := hK.1
  subst e1
  exact br_f (nI_pos (by omega)) (pk_lt n n (fun z => absurd z (by omega)) (fun _ => H))
theorem bk_K5 {t : Nat → Nat} {n i : Nat} {f1 f2 f3 f4 f5 : Int32} {a1 a5 a11 a12 : Nat → Int32} {a13 : Nat → Int64} (ht : ∀ j, j < n → t j < 6) (hi : i < n) (hK : bk_K t n f1 f2 f3 f4 f5 a1 a5 a11 a12 a13) : ∃ v, v < 6 ∧ a5 i = nI v := by
  obtain ⟨_, _, _, o, mk, rk, sy, S, b, sw, _, ⟨_, hP, _⟩, h5, _⟩ := hK
  exact ⟨t (qu_pd n (o i)), ht _ (qu_pd_lt (hP.1 i hi)), h5 i hi⟩
theorem bk_colS {post : Int32 → St1 → Prop} {f1 f2 f3 f4 f5 : Int32} {a1 a2 a3 a4 a5 a6 a7 a8 a9 a10 a11 a12 a14 a15 : Nat → Int32} {a13 : Nat → Int64} {t : Nat → Nat} {n i : Nat} (hn : n ≤ 32) (ht : ∀ j, j < n → t j < 6) (hi : i < n) (hO : bk_O t n f1 f2 f3 f4 f5 a1 a5 a11 a12 a13)
    (H : ∀ (f1' f2' f3' f4' f5' : Int32) (a1' a2' a3' a4' a5' a6' a7' a8' a9' a10' a11' a12' a14' a15' : Nat → Int32) (a13' : Nat → Int64) (v : Nat), bk_K t n f1' f2' f3' f4' f5' a1' a5' a11' a12' a13' → (a5' = a5 ∨ f2 = 0) → v < 6 → a5' i = nI v → post (nI v) (f1', f2', f3', f4', f5', a1', a2', a3', a4', a5', a6', a7', a8', a9', a10', a11', a12', a13', a14', a15')) : wpX_column post (f1, f2, f3, f4, f5, a1, a2, a3, a4, a5, a6, a7, a8, a9, a10, a11, a12, a13, a14, a15) (nI i) := by
  unfold wpX_column
  dsimp only
  refine bk_code hn ht hO (fun e f1' f2' f3' f4' f5' a1' a2' a3' a4' a5' a6' a7' a8' a9' a10' a11' a12' a14' a15' a13' hK => ?_) (fun hK => ?_)
  · obtain ⟨v, hv, ev⟩ := bk_K5 ht hi hK
    have h := H f1' f2' f3' f4' f5' a1' a2' a3' a4' a5' a6' a7' a8' a9' a10' a11' a12' a14' a15' a13' v hK (Or.inr e) hv ev
    have e1 := hK.1
    subst e1
    have fin : vp_in (nI i) 32 ∧ post (a5' (nI i).toNatClampNeg) ((nI n), f2', f3', f4', f5', a1', a2', a3', a4', a5', a6', a7', a8', a9', a10', a11', a12', a13', a14', a15') := by
      rw [nI_clamp (by omega), ev]
      exact ⟨vp_in_nI (by omega) (by omega), h⟩
    exact br_f (nI_pos (by omega)) (pk_lt i n (fun _ => fin) (fun z => absurd z (by omega)))
  · obtain ⟨v, hv, ev⟩ := bk_K5 ht hi hK
    have h := H f1 f2 f3 f4 f5 a1 a2 a3 a4 a5 a6 a7 a8 a9 a10 a11 a12 a14 a15 a13 v hK (Or.inl rfl) hv ev
    have e1 := hK.1
    subst e1
    have fin : vp_in (nI i) 32 ∧ post (a5 (nI i).toNatClampNeg) ((nI n), f2, f3, f4, f5, a1, a2, a3, a4, a5, a6, a7, a8, a9, a10, a11, a12, a13, a14, a15) := by
      rw [nI_clamp (by omega), ev]
      exact ⟨vp_in_nI (by omega) (by omega), h⟩
    exact br_f (nI_pos (by omega)) (pk_lt i n (fun _ => fin) (fun z => absurd z (by omega)))
theorem ql_sums {t : Nat → Nat} {n : Nat} {f1 f2 f3 f4 f5 : Int32} {a1 a5 a11 a12 : Nat → Int32} {a13 : Nat → Int64} (ht : ∀ j, j < n → t j < 6) (hK : bk_K t n f1 f2 f3 f4 f5 a1 a5 a11 a12 a13) :
    qh_sum (fun k => 2 ^ (6 * t k)) n = qh_sum (fun k => 2 ^ (6 * (a5 k).toNatClampNeg)) n := by
  obtain ⟨_, _, _, o, mk, rk, sy, S, b, sw, _, ⟨_, hP, _⟩, h5, _⟩ := hK
  rw [← qp_sum (fun k => 2 ^ (6 * t k)) n (fun k => qu_pd n (o k)) (qp_comp (f := qu_pd n) (qu_pdP n) hP)]
  refine qh_congr n (fun k hk => ?_)
  have e : (a5 k).toNatClampNeg = t (qu_pd n (o k)) := by
    have := ht _ (qu_pd_lt (hP.1 k hk))
    rw [h5 k hk]
    show (nI (t (qu_pd n (o k)))).toNatClampNeg = _
    exact nI_clamp (by omega)
  rw [e]
theorem ql_acc {v : Nat} (hv : v < 6) (A : Nat) : lN A + ((1 : Int64) <<< ((6 * nI v).toInt64 &&& 63)) = lN (A + 2 ^ (6 * v)) := by
  have e : (6 : Int32) * nI v = nI (6 * v) := pk_mul 6 v
  have e2 : (1 : Int64) <<< ((nI (6 * v)).toInt64 &&& 63) = lN (1 * 2 ^ (6 * v)) := qw_shl 1 (by omega)
  rw [e, e2, Nat.one_mul, lN_add]
theorem bk_cost {t : Nat → Nat} {n : Nat} {f1 f2 f3 f4 f5 : Int32} {a1 a5 a11 a12 : Nat → Int32} {a13 : Nat → Int64} (hK : bk_K t n f1 f2 f3 f4 f5 a1 a5 a11 a12 a13) : ¬ f5 < f4 ∧ ¬ 6 * f4 < f5 := by
  obtain ⟨_, _, _, o, mk, rk, sy, S, b, sw, ⟨_, e4, e5⟩, _, _, _, ⟨s1, s3, _⟩, ⟨_, b2, _⟩, _⟩ := hK
  have p6 := qb_p6 (b := b) (sy := sy) S (fun i hi => b2.1 _ (s3 i hi))
  have pk := qb_pk (b := b) (sy := sy) S b2.2.2
  have e6 : (6 : Int32) * nI S = nI (6 * S) := pk_mul 6 S
  rw [e4, e5, e6]
  exact ⟨nI_nlt pk (by omega), nI_nlt p6 (by omega)⟩
theorem qh_sum0 (f : Nat → Nat) : qh_sum f 0 = 0 := rfl
theorem qh_sum1 (f : Nat → Nat) (i : Nat) : qh_sum f (i + 1) = qh_sum f i + f i := rfl
theorem bk_h9 {post : Int32 → St1 → Prop} {t : Nat → Nat} {n P Q : Nat} (hn : n ≤ 32) (ht : ∀ j, j < n → t j < 6) (hR : ql_R P Q t n) (H : ∀ (f1' f2' f3' f4' f5' : Int32) (a1' a2' a3' a4' a5' a6' a7' a8' a9' a10' a11' a12' a14' a15' : Nat → Int32) (a13' : Nat → Int64), bk_K t n f1' f2' f3' f4' f5' a1' a5' a11' a12' a13' → post 1 (f1', f2', f3', f4', f5', a1', a2', a3', a4', a5', a6', a7', a8', a9', a10', a11', a12', a13', a14', a15')) :
    ∀ (m i : Nat) (f1 f2 f3 f4 f5 : Int32) (a1 a2 a3 a4 a5 a6 a7 a8 a9 a10 a11 a12 a14 a15 : Nat → Int32) (a13 : Nat → Int64), i ≤ n → n - i < m → (bk_K t n f1 f2 f3 f4 f5 a1 a5 a11 a12 a13 ∨ (i = 0 ∧ bk_O t n f1 f2 f3 f4 f5 a1 a5 a11 a12 a13)) → wL_holds_9 post (lN P) (lN Q) (nI n) m (lN (qh_sum (fun k => 2 ^ (6 * t k)) i)) (lN (qh_sum (fun k => 2 ^ (6 * (a5 k).toNatClampNeg)) i)) (nI i) f1 f2 f3 f4 f5 a1 a2 a3 a4 a5 a6 a7 a8 a9 a10 a11 a12 a13 a14 a15 := by
  intro m
  induction m with
  | zero => intro i f1 f2 f3 f4 f5 a1 a2 a3 a4 a5 a6 a7 a8 a9 a10 a11 a12 a14 a15 a13 _ h _; exact absurd h (by omega)
  | succ m ih =>
    intro i f1 f2 f3 f4 f5 a1 a2 a3 a4 a5 a6 a7 a8 a9 a10 a11 a12 a14 a15 a13 hi hm hI
    have hO : bk_O t n f1 f2 f3 f4 f5 a1 a5 a11 a12 a13 := by
      rcases hI with h | h
      · exact ⟨h.1, h.2.2.1, Or.inr ⟨h.2.1, h.2.2.2⟩⟩
      · exact h.2
    refine pk_le n i (fun z => ?_) (fun z => ?_)
    · have ein : i = n := by omega
      have E : lN (qh_sum (fun k => 2 ^ (6 * t k)) i) = lN (qh_sum (fun k => 2 ^ (6 * (a5 k).toNatClampNeg)) i) := by
        rcases hI with h | h
        · rw [ein, ql_sums ht h]
        · rw [h.1, qh_sum0, qh_sum0]
      refine bk_symO hn ht hO (fun f1' f2' f3' f4' f5' a1' a2' a3' a4' a5' a6' a7' a8' a9' a10' a11' a12' a14' a15' a13' hK => ?_)
      refine bk_costK hK ?_
      refine br_t E ?_
      refine bk_decN hK.1 hn (Nat.le_refl _) (by omega) ?_
      refine br_t rfl ?_
      refine bk_colN hn hK ?_
      refine br_t rfl ?_
      exact br_f (bk_cost hK).1 (br_f (bk_cost hK).2 (H f1' f2' f3' f4' f5' a1' a2' a3' a4' a5' a6' a7' a8' a9' a10' a11' a12' a14' a15' a13' hK))
    · refine bk_letter hR.1 hR.2.1 (by omega) ?_
      rw [hR.2.2 i z]
      refine bk_colS hn ht z hO (fun f1' f2' f3' f4' f5' a1' a2' a3' a4' a5' a6' a7' a8' a9' a10' a11' a12' a14' a15' a13' v hK h5 hv ev => ?_)
      have ti := ht i z
      have hsum : qh_sum (fun k => 2 ^ (6 * (a5 k).toNatClampNeg)) i = qh_sum (fun k => 2 ^ (6 * (a5' k).toNatClampNeg)) i := by
        rcases h5 with h5 | h5
        · rw [h5]
        · rcases hI with h | h
          · exact absurd (h.2.1.symm.trans h5) (by decide)
          · rw [h.1, qh_sum0, qh_sum0]
      refine bk_decK hn ht z hK (fun b4 b8 b14 b15 => ?_)
      refine br_t rfl (br_f (nI_pos (by omega)) (br_t (nI_le (b := 5) (by omega) (by omega)) ?_))
      refine nm_r (e' := lN (qh_sum (fun k => 2 ^ (6 * t k)) (i + 1))) (by rw [ql_acc ti, qh_sum1]) (nm_r (e' := lN (qh_sum (fun k => 2 ^ (6 * (a5' k).toNatClampNeg)) (i + 1))) ?_ (nm_r (nI_1 i) ?_))
      · rw [hsum, ql_acc hv]
        have e : (a5' i).toNatClampNeg = v := by rw [ev]; exact nI_clamp (by omega)
        rw [qh_sum1, e]
      · exact ih (i + 1) _ _ _ _ _ _ _ _ _ _ _ _ _ _ _ _ _ _ _ _ (by omega) (by omega) (Or.inl hK)
theorem bk_holds {post : Int32 → St1 → Prop} {f1 f2 f3 f4 f5 : Int32} {a1 a2 a3 a4 a5 a6 a7 a8 a9 a10 a11 a12 a14 a15 : Nat → Int32} {a13 : Nat → Int64} {t : Nat → Nat} {n P Q : Nat} (hn : n ≤ 32) (ht : ∀ j, j < n → t j < 6) (hR : ql_R P Q t n) (hO : bk_O t n f1 f2 f3 f4 f5 a1 a5 a11 a12 a13) (H : ∀ (f1' f2' f3' f4' f5' : Int32) (a1' a2' a3' a4' a5' a6' a7' a8' a9' a10' a11' a12' a14' a15' : Nat → Int32) (a13' : Nat → Int64), bk_K t n f1' f2' f3' f4' f5' a1' a5' a11' a12' a13' → post 1 (f1', f2', f3', f4', f5', a1', a2', a3', a4', a5', a6', a7', a8', a9', a10', a11', a12', a13', a14', a15')) : wpL_holds post (f1, f2, f3, f4, f5, a1, a2, a3, a4, a5, a6, a7, a8, a9, a10, a11, a12, a13, a14, a15) (lN P) (lN Q) (nI n) := by
  unfold wpL_holds
  dsimp only
  exact ⟨n + 1, bk_h9 hn ht hR H (n + 1) 0 f1 f2 f3 f4 f5 a1 a2 a3 a4 a5 a6 a7 a8 a9 a10 a11 a12 a14 a15 a13 (by omega) (by omega) (Or.inr ⟨rfl, hO⟩)⟩
theorem bk_310 {post : Int32 → Prop} {L : Nat} {xs : Nat → Int32} {J : (Int64 → Int64 → Int32 → Int32 → Int32 → Int32 → Int32 → Int32 → Int32 → (Nat → Int32) → (Nat → Int32) → (Nat → Int32) → (Nat → Int32) → (Nat → Int32) → (Nat → Int32) → (Nat → Int32) → (Nat → Int32) → (Nat → Int32) → (Nat → Int32) → (Nat → Int32) → (Nat → Int32) → (Nat → Int64) → (Nat → Int32) → (Nat → Int32) → Prop)} {f1 f2 f3 f4 f5 : Int32} {a1 a2 a3 a4 a5 a6 a7 a8 a9 a10 a11 a12 a14 a15 : Nat → Int32} {a13 : Nat → Int64} {t : Nat → Nat} {n P Q i kc ks : Nat} (hn : n ≤ 32) (ht : ∀ j, j < n → t j < 6) (hR : ql_R P Q t n) (hO : bk_O t n f1 f2 f3 f4 f5 a1 a5 a11 a12 a13)
    (H : ∀ (f1' f2' f3' f4' f5' : Int32) (a1' a2' a3' a4' a5' a6' a7' a8' a9' a10' a11' a12' a14' a15' : Nat → Int32) (a13' : Nat → Int64), bk_O t n f1' f2' f3' f4' f5' a1' a5' a11' a12' a13' → J (lN P) (lN Q) (nI n) (nI (i + 2)) f1' f2' f3' f4' f5' a1' a2' a3' a4' a5' a6' a7' a8' a9' a10' a11' a12' a13' a14' a15') : wL_law_310 post L xs J (lN P) (lN Q) (nI n) (nI i) kc ks f1 f2 f3 f4 f5 a1 a2 a3 a4 a5 a6 a7 a8 a9 a10 a11 a12 a13 a14 a15 := by
  unfold wL_law_310
  exact bk_holds hn ht hR hO (fun f1' f2' f3' f4' f5' a1' a2' a3' a4' a5' a6' a7' a8' a9' a10' a11' a12' a14' a15' a13' hK => br_f (by decide) (nm_r (nI_add i 2) (H f1' f2' f3' f4' f5' a1' a2' a3' a4' a5' a6' a7' a8' a9' a10' a11' a12' a14' a15' a13' ⟨hK.1, hK.2.2.1, Or.inr ⟨hK.2.1, hK.2.2.2⟩⟩)))
theorem bk_97 {post : Int32 → Prop} {L : Nat} {xs : Nat → Int32} {J : (Int64 → Int64 → Int32 → Int32 → Int32 → Int32 → Int32 → Int32 → Int32 → (Nat → Int32) → (Nat → Int32) → (Nat → Int32) → (Nat → Int32) → (Nat → Int32) → (Nat → Int32) → (Nat → Int32) → (Nat → Int32) → (Nat → Int32) → (Nat → Int32) → (Nat → Int32) → (Nat → Int32) → (Nat → Int64) → (Nat → Int32) → (Nat → Int32) → Prop)} {f1 f2 f3 f4 f5 : Int32} {a1 a2 a3 a4 a5 a6 a7 a8 a9 a10 a11 a12 a14 a15 : Nat → Int32} {a13 : Nat → Int64} {t : Nat → Nat} {n P Q c kc ks : Nat} {x7 : Int32} (ht : ∀ j, j < n → t j < 6) (hc : c ≤ n) (hc2 : n + c ≤ 32) (hR : ql_R P Q t n)
    (H : ∀ P Q, ql_R P Q (ql_rep t n c) (n + c) → wL_law_310 post L xs J (lN P) (lN Q) (nI (n + c)) x7 kc ks f1 f2 f3 f4 f5 a1 a2 a3 a4 a5 a6 a7 a8 a9 a10 a11 a12 a13 a14 a15) : ∃ m, wL_law_97 post L xs J (nI n) x7 (nI c) kc ks f1 f2 f3 f4 f5 a1 a2 a3 a4 a5 a6 a7 a8 a9 a10 a11 a12 a13 a14 a15 m (lN P) (lN Q) 0 := by
  refine pk_loop (fun m j (s : Int64 × Int64) => wL_law_97 post L xs J (nI n) x7 (nI c) kc ks f1 f2 f3 f4 f5 a1 a2 a3 a4 a5 a6 a7 a8 a9 a10 a11 a12 a13 a14 a15 m s.1 s.2 (nI j)) (fun j s => ∃ P Q, s.1 = lN P ∧ s.2 = lN Q ∧ ql_R P Q (ql_rep t n c) (n + j)) c 0 (lN P, lN Q) (by omega) ⟨P, Q, rfl, rfl, hR.1, hR.2.1, fun j hj => by rw [hR.2.2 j hj]; exact (if_pos hj).symm⟩ ?_ ?_
  · rintro m ⟨x, y⟩ ⟨P, Q, e1, e2, h⟩
    dsimp only at e1 e2
    subst e1 e2
    refine pk_le c c (fun _ => nm_r (nI_add n c) ?_) (fun z => absurd z (by omega))
    unfold wL_law_214
    exact H P Q h
  · rintro m j ⟨x, y⟩ hj ⟨P, Q, e1, e2, h⟩ hW
    dsimp only at e1 e2 hW
    subst e1 e2
    show wL_law_97 post L xs J (nI n) x7 (nI c) kc ks f1 f2 f3 f4 f5 a1 a2 a3 a4 a5 a6 a7 a8 a9 a10 a11 a12 a13 a14 a15 (m + 1) (lN P) (lN Q) (nI j)
    have e0 : nI n + nI j = nI (n + j) := nI_add n j
    have e3 : nI (n + j) - nI c = nI (n + j - c) := pk_sub (by omega)
    have lv : ql_g P Q (n + j - c) = t (n + j - c) := by
      rw [h.2.2 _ (by omega)]
      exact if_pos (by omega)
    have tv : ql_rep t n c (n + j) = t (n + j - c) := if_neg (by omega)
    have t6 := ht (n + j - c) (by omega)
    refine pk_le c j (fun z => absurd z (by omega)) (fun _ => ?_)
    rw [e0, e3]
    refine bk_letter h.1 h.2.1 (by omega) ?_
    rw [lv]
    refine pk_le 16 (n + j) (fun z => ?_) (fun z => ?_)
    · obtain ⟨Q', q1, q2, q3⟩ := ql_setQ (Q := Q) (l := t (n + j - c)) (i := n + j) P (by omega) z (by omega)
      refine nm_r q2 (nm_r (nI_1 j) (hW (lN P, lN Q') ⟨P, Q', rfl, rfl, h.1, q1, fun k hk => ?_⟩))
      rw [q3 k (by omega)]
      by_cases e : k = n + j
      · rw [if_pos e, e, tv]
      · rw [if_neg e]; exact h.2.2 k (by omega)
    · obtain ⟨P', q1, q2, q3⟩ := ql_setP (P := P) (l := t (n + j - c)) (i := n + j) Q (by omega) z
      refine nm_r q2 (nm_r (nI_1 j) (hW (lN P', lN Q) ⟨P', Q, rfl, rfl, q1, h.2.1, fun k hk => ?_⟩))
      rw [q3 k (by omega)]
      by_cases e : k = n + j
      · rw [if_pos e, e, tv]
      · rw [if_neg e]; exact h.2.2 k (by omega)
theorem ql_rep6 {t : Nat → Nat} {n c : Nat} (ht : ∀ j, j < n → t j < 6) (hc : c ≤ n) (h1 : 1 ≤ c) : ∀ j, j < n + c → ql_rep t n c j < 6 := by
  intro j hj
  unfold ql_rep
  by_cases e : j < n
  · rw [if_pos e]; exact ht j e
  · rw [if_neg e]; exact ht _ (by omega)
theorem ql_u6 {t : Nat → Nat} {n l : Nat} (ht : ∀ j, j < n → t j < 6) (hl : l < 6) : ∀ j, j < n + 1 → qa_u t n l j < 6 := by
  intro j hj
  by_cases e : j = n
  · rw [e, qa_us]; exact hl
  · rw [qa_un e]; exact ht j (by omega)
theorem ql_m1 : ∀ v, v < 64 → ¬ (-1 : Int32) = nI v := by decide +kernel
theorem ql_m2 : ∀ v, v < 64 → ¬ (-2 : Int32) = nI v := by decide +kernel
theorem bk_19 {post : Int32 → Prop} (hp : post 1) {xs : Nat → Int32} {L kc ks : Nat} (hL : L ≤ 260) :
    ∀ (m i n P Q : Nat) (t : Nat → Nat) (f1 f2 f3 f4 f5 : Int32) (a1 a2 a3 a4 a5 a6 a7 a8 a9 a10 a11 a12 a14 a15 : Nat → Int32) (a13 : Nat → Int64), i ≤ L + 1 → L + 2 ≤ i + 2 * m → n ≤ 32 → (∀ j, j < n → t j < 6) → ql_R P Q t n → bk_O t n f1 f2 f3 f4 f5 a1 a5 a11 a12 a13 → wL_law_19 post L xs kc ks m (lN P) (lN Q) (nI n) (nI i) f1 f2 f3 f4 f5 a1 a2 a3 a4 a5 a6 a7 a8 a9 a10 a11 a12 a13 a14 a15 := by
  intro m
  induction m with
  | zero => intro i n P Q t f1 f2 f3 f4 f5 a1 a2 a3 a4 a5 a6 a7 a8 a9 a10 a11 a12 a14 a15 a13 h1 h2 _ _ _ _; exact absurd h2 (by omega)
  | succ m ih =>
    intro i n P Q t f1 f2 f3 f4 f5 a1 a2 a3 a4 a5 a6 a7 a8 a9 a10 a11 a12 a14 a15 a13 h1 h2 hn ht hR hO
    have fin : ∀ (n P Q : Nat) (t : Nat → Nat) (f1' f2' f3' f4' f5' : Int32) (a1' a2' a3' a4' a5' a6' a7' a8' a9' a10' a11' a12' a14' a15' : Nat → Int32) (a13' : Nat → Int64), i + 2 ≤ L + 1 → n ≤ 32 → (∀ j, j < n → t j < 6) → ql_R P Q t n → bk_O t n f1' f2' f3' f4' f5' a1' a5' a11' a12' a13' → wL_law_310 post L xs (wL_law_19 post L xs kc ks m) (lN P) (lN Q) (nI n) (nI i) kc ks f1' f2' f3' f4' f5' a1' a2' a3' a4' a5' a6' a7' a8' a9' a10' a11' a12' a13' a14' a15' :=
      fun n P Q t f1' f2' f3' f4' f5' a1' a2' a3' a4' a5' a6' a7' a8' a9' a10' a11' a12' a14' a15' a13' g1 g2 g3 g4 g5 => bk_310 g2 g3 g4 g5 (fun f1 f2 f3 f4 f5 a1 a2 a3 a4 a5 a6 a7 a8 a9 a10 a11 a12 a14 a15 a13 g6 => ih (i + 2) n P Q t f1 f2 f3 f4 f5 a1 a2 a3 a4 a5 a6 a7 a8 a9 a10 a11 a12 a14 a15 a13 g1 (by omega) g2 g3 g4 g6)
    have cnd : ((Int32.ofNat L) - 2) < nI i ↔ L < i + 2 := by
      have a : ((nI L) - nI 2).toInt = (L : Int) - 2 := pk_sub_toInt (by omega) (by omega)
      have b : (nI i).toInt = (i : Int) := nI_toInt (by omega)
      show nI L - nI 2 < nI i ↔ _
      rw [Int32.lt_iff_toInt_lt, a, b]
      omega
    refine ek_if cnd (fun _ => hp) (fun z => ?_)
    have e1 : nI i + 1 = nI (i + 1) := nI_1 i
    refine ⟨pk_in (i + 1) L (by omega) e1, nm_e ⟨pk_in i L (by omega), br_c (fun _ => ?_) (fun _ => ⟨pk_in i L (by omega), br_c (fun _ => ⟨by decide, ?_⟩) (fun _ => ⟨by decide, ?_⟩)⟩)⟩⟩
    · unfold wpX_clear
      dsimp only
      exact fin 0 P Q t _ _ _ _ _ _ _ _ _ _ _ _ _ _ _ _ _ _ _ _ (by omega) (by omega) (fun j hj => absurd hj (by omega)) ⟨hR.1, hR.2.1, fun j hj => absurd hj (by omega)⟩ ⟨rfl, fun j hj => absurd hj (by omega), Or.inl rfl⟩
    · obtain ⟨k, hk, ek⟩ := pk_andE (xs (nI i + 1).toNatClampNeg) (m := 255) 8 (by decide)
      have e9 : 1 + ((xs (nI i + 1).toNatClampNeg &&& 255) - (xs (nI i + 1).toNatClampNeg &&& 255) / 12 * 12) = nI (1 + k % 12) := by
        rw [ek]
        show nI 1 + (nI k - nI k / nI 12 * nI 12) = _
        rw [pk_rem (by omega) (by omega) (by omega), nI_add]
      refine nm_r e9 ?_
      refine bk_repeat hn ht (by omega) (by omega) hO (fun c1 c2 a1' hO' => ?_) ?_ ?_
      · refine br_t (nI_add _ _).symm ?_
        exact bk_97 ht c1 c2 hR (fun P Q hR' => fin _ P Q _ _ _ _ _ _ _ _ _ _ _ _ _ _ _ _ _ _ _ _ _ (by omega) c2 (ql_rep6 ht c1 (by omega)) hR' hO')
      · refine br_f (by rw [nI_add]; exact ql_m2 _ (by omega)) ?_
        unfold wL_law_214
        exact fin n P Q t _ _ _ _ _ _ _ _ _ _ _ _ _ _ _ _ _ _ _ _ (by omega) hn ht hR hO
      · refine br_f (by rw [nI_add]; exact ql_m1 _ (by omega)) ?_
        unfold wL_law_214
        exact fin n P Q t _ _ _ _ _ _ _ _ _ _ _ _ _ _ _ _ _ _ _ _ (by omega) hn ht hR hO
    · obtain ⟨k, hk, ek⟩ := pk_andE (xs (nI i + 1).toNatClampNeg) (m := 255) 8 (by decide)
      have e9 : (xs (nI i + 1).toNatClampNeg &&& 255) - (xs (nI i + 1).toNatClampNeg &&& 255) / 6 * 6 = nI (k % 6) := by
        rw [ek]
        show nI k - nI k / nI 6 * nI 6 = _
        rw [pk_rem (by omega) (by omega) (by omega)]
      have l6 : k % 6 < 6 := Nat.mod_lt _ (by omega)
      refine nm_r e9 ?_
      refine bk_type hn l6 hO (fun c1 a1' hO' => ?_) ?_
      · refine br_t (nI_1 n).symm ?_
        refine pk_le 16 n (fun y => ?_) (fun y => ?_)
        · obtain ⟨Q', q1, q2, q3⟩ := ql_setQ (Q := Q) (l := k % 6) (i := n) P (by omega) y c1
          refine nm_r q2 ?_
          unfold wL_law_307
          refine nm_r (nI_1 n) (fin (n + 1) P Q' (qa_u t n (k % 6)) _ _ _ _ _ _ _ _ _ _ _ _ _ _ _ _ _ _ _ _ (by omega) (by omega) (ql_u6 ht l6) ⟨hR.1, q1, fun j hj => ?_⟩ hO')
          rw [q3 j (by omega)]
          by_cases e : j = n
          · rw [if_pos e, e, qa_us]
          · rw [if_neg e, qa_un e]; exact hR.2.2 j (by omega)
        · obtain ⟨P', q1, q2, q3⟩ := ql_setP (P := P) (l := k % 6) (i := n) Q (by omega) y
          refine nm_r q2 ?_
          unfold wL_law_307
          refine nm_r (nI_1 n) (fin (n + 1) P' Q (qa_u t n (k % 6)) _ _ _ _ _ _ _ _ _ _ _ _ _ _ _ _ _ _ _ _ (by omega) (by omega) (ql_u6 ht l6) ⟨q1, hR.2.1, fun j hj => ?_⟩ hO')
          rw [q3 j (by omega)]
          by_cases e : j = n
          · rw [if_pos e, e, qa_us]
          · rw [if_neg e, qa_un e]; exact hR.2.2 j (by omega)
      · refine br_f (by rw [nI_1]; exact ql_m2 _ (by omega)) ?_
        exact fin n P Q t _ _ _ _ _ _ _ _ _ _ _ _ _ _ _ _ _ _ _ _ (by omega) hn ht hR hO
end
section
theorem i_vc (xs : Nat → Int32) (L : Nat) (hL : L ≤ 260) : wpL_law (fun r => r = 1) L xs := by
  unfold wpL_law
  refine ⟨15, 326, by omega, by omega, ?_⟩
  unfold wpX_init
  dsimp only
  refine ⟨by omega, by omega, by omega, by omega, by omega, by omega, by omega, by omega, by omega, by omega, by omega, by omega, by omega, by omega, by omega, by omega, by omega, by omega, by omega, by omega, by omega, by omega, by omega, by omega, by omega, by omega, by omega, by omega, by omega, by omega, ?_⟩
  exact ⟨L + 2, bk_19 (post := fun r => r = 1) (xs := xs) (kc := 1 + 15) (ks := 20 + 326) rfl hL (L + 2) 0 0 0 0 (fun _ => 0) _ _ _ _ _ _ _ _ _ _ _ _ _ _ _ _ _ _ _ _ (by omega) (by omega) (by omega) (fun j hj => absurd hj (by omega)) ⟨by omega, by omega, fun j hj => absurd hj (by omega)⟩ ⟨rfl, fun j hj => absurd hj (by omega), Or.inl rfl⟩⟩
end
