section
/-! numbers: the code e of a marker is the marker + 5 -/
def gs_v (e : Nat) : Int32 := nI e - 5
/-- a marker's size -/
def gs_n (e : Nat) : Nat := bif Nat.blt e 5 then 5 - e else e - 5
/-- the two ends of a marker, in the order of the line -/
def gs_f (e : Nat) : Nat := bif Nat.ble e 5 then 2 * gs_n e else 2 * gs_n e - 1
def gs_s (e : Nat) : Nat := bif Nat.ble e 5 then 2 * gs_n e - 1 else 2 * gs_n e
/-- last and before: 0 stands for -1 -/
def gs_o (t : Nat) : Int32 := nI t - 1
theorem gs_neg : ∀ e, e < 11 → (-(gs_v e)).toInt8.toInt32 = gs_v (10 - e) := by decide +kernel
theorem gs_t1 : ∀ e, e < 11 → (0 ≤ gs_v e ↔ 5 ≤ e) := by decide +kernel
theorem gs_t2 : ∀ e, e < 11 → 5 ≤ e → gs_v e = nI (gs_n e) := by decide +kernel
theorem gs_t3 : ∀ e, e < 11 → ¬ 5 ≤ e → -gs_v e = nI (gs_n e) := by decide +kernel
theorem gs_t4 : ∀ e, e < 11 → (gs_v e ≤ 0 ↔ e ≤ 5) := by decide +kernel
theorem gs_t5 : ∀ e, e < 11 → e ≠ 5 → e ≤ 5 → (2 * nI (gs_n e)).toInt8.toInt32 = nI (gs_f e) ∧ (2 * nI (gs_n e) - 1).toInt8.toInt32 = nI (gs_s e) := by decide +kernel
theorem gs_t6 : ∀ e, e < 11 → e ≠ 5 → ¬ e ≤ 5 → (2 * nI (gs_n e) - 1).toInt8.toInt32 = nI (gs_f e) ∧ (2 * nI (gs_n e)).toInt8.toInt32 = nI (gs_s e) := by decide +kernel
theorem gs_b : ∀ t, t < 128 → (nI t).toInt8.toInt32 = nI t := by decide +kernel
theorem gs_2 (p : Nat) : 2 * nI p = nI (2 * p) := pk_mul 2 p
theorem gs_21 (p : Nat) : 2 * nI p + 1 = nI (2 * p + 1) := by rw [gs_2, nI_1]
theorem gs_22 (p : Nat) : 2 * nI p + 2 = nI (2 * p + 2) := by
  rw [gs_2]
  exact nI_add (2 * p) 2
theorem gs_x : ∀ i, i < 12 → nI i ^^^ 1 = nI (i ^^^ 1) ∧ i ^^^ 1 < 12 := by decide +kernel
theorem gs_sm : ∀ n, n < 32 → ((nI n &&& 31).toBitVec.smod 32).toNat = n := by decide +kernel
theorem gs_and (a b : Nat) : nI a &&& nI b = nI (a &&& b) := by
  apply Int32.toBitVec_inj.1
  show BitVec.ofNat 32 a &&& BitVec.ofNat 32 b = BitVec.ofNat 32 (a &&& b)
  apply BitVec.eq_of_getLsbD_eq
  intro i hi
  simp [hi]
theorem gs_or (a b : Nat) : nI a ||| nI b = nI (a ||| b) := by
  apply Int32.toBitVec_inj.1
  show BitVec.ofNat 32 a ||| BitVec.ofNat 32 b = BitVec.ofNat 32 (a ||| b)
  apply BitVec.eq_of_getLsbD_eq
  intro i hi
  simp [hi]
/-- one bit of a mask -/
def gs_bit (s i : Nat) : Nat := s / 2 ^ i % 2
theorem gs_shr {s i : Nat} (hs : s < 2 ^ 31) (hi : i < 32) : (nI s >>> (nI i &&& 31)) &&& 1 = nI (gs_bit s i) := by
  rw [pk_shrN hs _ i (gs_sm i hi)]
  rw [pk_andN (Nat.lt_of_le_of_lt (Nat.div_le_self _ _) (by omega)) 1 (by decide)]
  rfl
theorem gs_bit2 (s i : Nat) : gs_bit s i < 2 := Nat.mod_lt _ (by decide)
theorem gs_br {s i : Nat} {A B : Prop} (hs : s < 2 ^ 31) (hi : i < 32) (f : gs_bit s i = 0 → A) (g : gs_bit s i ≠ 0 → B) : (((nI s >>> (nI i &&& 31)) &&& 1) = 0 → A) ∧ (¬ ((nI s >>> (nI i &&& 31)) &&& 1) = 0 → B) := by
  rw [gs_shr hs hi]
  have h2 := gs_bit2 s i
  exact pk_eq (gs_bit s i) 0 f g
theorem gs_shl {i : Nat} (hi : i < 31) : (1 : Int32) <<< (nI i &&& 31) = nI (2 ^ i) := by
  have h : 2 ^ i < 2 ^ 31 := Nat.pow_lt_pow_right (by decide) hi
  have t : nI 1 <<< (nI i &&& 31) = nI (1 * 2 ^ i) := pk_shlN _ i (gs_sm i (by omega)) (by omega)
  rw [Nat.one_mul] at t
  exact t
theorem gs_nand : ∀ m, m < 64 → ∀ t, t < 64 → nI m &&& (nI t ^^^ (-1)) = nI (m &&& (63 ^^^ t)) := by decide +kernel
theorem gs_half : ∀ e, e < 12 → nI e >>> ((1 : Int32) &&& 31) = nI (e / 2) := by decide +kernel
theorem gs_o1 (t : Nat) : gs_o (t + 1) = nI t := nI_pred t
/-- a store into a function of naturals that an array matches -/
theorem gs_st {a : Nat → Int32} {f : Nat → Nat} {n : Nat} {k k' : Nat} {x : Int32} {y : Nat} (hk : k' = k) (hx : x = nI y) (h : ∀ j, j < n → a j = nI (f j)) : ∀ j, j < n → upd a k' x j = nI (if j = k then y else f j) := by
  intro j hj
  subst hk hx
  by_cases e : j = k'
  · rw [e, pk_us, if_pos rfl]
  · rw [pk_un e, if_neg e]
    exact h j hj
/-- a prefix that grows by one place -/
theorem gs_gr {a : Nat → Int32} {f : Nat → Nat} {k k' : Nat} {x : Int32} (hk : k' = k) (hx : x = nI (f k)) (h : ∀ j, j < k → a j = nI (f j)) : ∀ j, j < k + 1 → upd a k' x j = nI (f j) := by
  intro j hj
  subst hk
  by_cases e : j = k'
  · rw [e, pk_us, hx]
  · rw [pk_un e]
    exact h j (by omega)
end
section
/-! small arrays of numbers below 16 as one number: place j is c / 16 ^ j % 16 -/
def gs_g (c j : Nat) : Nat := Nat.mod (Nat.div c (Nat.pow 16 j)) 16
def gs_mk (f : Nat → Nat) : Nat → Nat
  | 0 => 0
  | n + 1 => gs_mk f n + 16 ^ n * f n
theorem gs_g16 (c j : Nat) : gs_g c j < 16 := Nat.mod_lt _ (by decide)
theorem gs_g_def (c j : Nat) : gs_g c j = c / 16 ^ j % 16 := rfl
theorem gs_mk_lt {f : Nat → Nat} {n : Nat} (h : ∀ j, j < n → f j < 16) : gs_mk f n < 16 ^ n := by
  induction n with
  | zero => exact Nat.one_pos
  | succ n ih =>
    have h1 := ih (fun j hj => h j (by omega))
    have h2 := h n (by omega)
    have h3 : 16 ^ n * f n ≤ 16 ^ n * 15 := Nat.mul_le_mul_left _ (by omega)
    show gs_mk f n + 16 ^ n * f n < 16 ^ (n + 1)
    rw [Nat.pow_succ]
    omega
theorem gs_mk_g {f : Nat → Nat} {n : Nat} (h : ∀ j, j < n → f j < 16) : ∀ j, j < n → gs_g (gs_mk f n) j = f j := by
  induction n with
  | zero => intro j hj; omega
  | succ n ih =>
    intro j hj
    have hl := gs_mk_lt (f := f) (n := n) (fun j hj => h j (by omega))
    have hn := h n (by omega)
    rw [gs_g_def]
    show (gs_mk f n + 16 ^ n * f n) / 16 ^ j % 16 = f j
    by_cases e : j = n
    · subst e
      rw [Nat.add_mul_div_left _ _ (Nat.pow_pos (by decide)), Nat.div_eq_of_lt hl, Nat.zero_add, Nat.mod_eq_of_lt hn]
    · obtain ⟨d, rfl⟩ : ∃ d, n = j + (d + 1) := ⟨n - j - 1, by omega⟩
      rw [Nat.pow_add, Nat.mul_assoc, Nat.add_mul_div_left _ _ (Nat.pow_pos (by decide)), Nat.pow_succ, Nat.mul_assoc, Nat.mul_left_comm, Nat.add_mul_mod_self_left]
      exact ih (fun j hj => h j (by omega)) j (by omega)
/-- an array that matches a number, on its first n places -/
def gs_N (a : Nat → Int32) (c n : Nat) : Prop := ∀ j, j < n → a j = nI (gs_g c j)
/-- the row that matches a number -/
def gs_R (a : Nat → Int32) (r : Nat) : Prop := ∀ j, j < 5 → a j = gs_v (gs_g r j)
def gs_B (r : Nat) : Prop := ∀ j, j < 5 → gs_g r j < 11
/-! evaluation at once -/
def gs_fN {α : Type} (x : Nat) (f : Nat → α) : α := match x with
  | 0 => f 0
  | n + 1 => f (n + 1)
theorem gs_fN_eq {α : Type} (x : Nat) (f : Nat → α) : gs_fN x f = f x := by cases x <;> rfl
def gs_all (f : Nat → Bool) : Nat → Bool
  | 0 => true
  | n + 1 => f n && gs_all f n
theorem gs_all_at {f : Nat → Bool} {n : Nat} (h : gs_all f n = true) : ∀ j, j < n → f j = true := by
  induction n with
  | zero => intro j hj; omega
  | succ n ih =>
    intro j hj
    have h' : (f n && gs_all f n) = true := h
    rw [Bool.and_eq_true] at h'
    by_cases e : j = n
    · rw [e]; exact h'.1
    · exact ih h'.2 j (by omega)
/-! rows -/
def gs_tn (i j r : Nat) : Nat := gs_mk (fun x => bif (Nat.ble i x && Nat.ble x j) then 10 - gs_g r (i + j - x) else gs_g r x) 5
def gs_fl (x r : Nat) : Nat := gs_mk (fun p => bif Nat.beq (gs_bit x p) 0 then gs_g r p else 10 - gs_g r p) 5
def gs_id : Nat := gs_mk (fun p => p + 6) 5
/-! the line of ends -/
def gs_Ef (r j : Nat) : Nat := bif Nat.beq j 0 then 0 else bif Nat.beq j 11 then 11 else bif Nat.beq (j % 2) 1 then gs_f (gs_g r (j / 2)) else gs_s (gs_g r (j / 2 - 1))
def gs_E (r : Nat) : Nat := gs_mk (gs_Ef r) 12
def gs_Pm (E : Nat) : Nat → Nat
  | 0 => 0
  | n + 1 => gs_Pm E n + 16 ^ (gs_g E n) * n
def gs_P (E : Nat) : Nat := gs_Pm E 12
def gs_lof (P k : Nat) : Nat := bif Nat.ble (gs_g P (2 * k + 1)) (gs_g P (2 * k)) then gs_g P (2 * k + 1) else gs_g P (2 * k)
def gs_hif (P k : Nat) : Nat := bif Nat.ble (gs_g P (2 * k + 1)) (gs_g P (2 * k)) then gs_g P (2 * k) else gs_g P (2 * k + 1)
def gs_lo (P : Nat) : Nat := gs_mk (gs_lof P) 6
def gs_hi (P : Nat) : Nat := gs_mk (gs_hif P) 6
/-- a row that measure takes -/
def gs_okE (E P : Nat) : Bool := gs_all (fun j => Nat.blt (gs_g E j) 12 && (Nat.blt (gs_g P j) 12 && (Nat.beq (gs_g P (gs_g E j)) j && Nat.beq (gs_g E (gs_g P j)) j))) 12
def gs_okR (r : Nat) : Bool := gs_all (fun j => Nat.blt (gs_g r j) 11 && !(Nat.beq (gs_g r j) 5)) 5
def gs_ok (r : Nat) : Bool := gs_okR r && gs_fN (gs_E r) (fun E => gs_fN (gs_P E) (fun P => gs_okE E P))
/-! rings -/
def gs_rI (E P : Nat) : Nat → Nat → Nat → Nat
  | 0, s, _ => s
  | m + 1, s, i => bif Nat.beq (gs_bit s i) 0 then gs_rI E P m (s ||| (2 ^ i ||| 2 ^ (i ^^^ 1))) (gs_g P (gs_g E (i ^^^ 1) ^^^ 1)) else s
def gs_rO (E P : Nat) : Nat → Nat → Nat → Nat → Nat
  | 0, _, _, c => c
  | m + 1, i, s, c => gs_rO E P m (i + 1) (gs_rI E P 6 s i) (bif Nat.beq (gs_bit s i) 0 then c + 1 else c)
/-! groups -/
def gs_cr (lo hi k l : Nat) : Bool := (Nat.blt (gs_g lo k) (gs_g lo l) && (Nat.blt (gs_g lo l) (gs_g hi k) && Nat.blt (gs_g hi k) (gs_g hi l))) || (Nat.blt (gs_g lo l) (gs_g lo k) && (Nat.blt (gs_g lo k) (gs_g hi l) && Nat.blt (gs_g hi l) (gs_g hi k)))
def gs_put (c k l : Nat) : Nat := gs_mk (fun j => bif Nat.beq j k then gs_g c l else gs_g c j) 6
def gs_sl (lo hi k l c : Nat) : Nat := bif (gs_cr lo hi k l && Nat.blt (gs_g c l) (gs_g c k)) then gs_put c k l else c
def gs_gl (lo hi k : Nat) : Nat → Nat → Nat → Nat
  | 0, _, c => c
  | m + 1, l, c => gs_gl lo hi k m (l + 1) (gs_sl lo hi k l c)
def gs_gk (lo hi : Nat) : Nat → Nat → Nat → Nat
  | 0, _, c => c
  | m + 1, k, c => gs_gk lo hi m (k + 1) (gs_gl lo hi k 6 0 c)
def gs_gr6 (lo hi : Nat) : Nat → Nat → Nat
  | 0, c => c
  | m + 1, c => gs_gr6 lo hi m (gs_gk lo hi 6 0 c)
def gs_c0 : Nat := gs_mk (fun j => j) 6
/-! stubborn groups -/
def gs_sg (lo hi c : Nat) : Nat → Nat → Nat → Nat → Nat
  | 0, _, mo, tu => mo &&& (65535 ^^^ tu)
  | m + 1, k, mo, tu => gs_sg lo hi c m (k + 1) (mo ||| (bif Nat.beq (gs_g c k) k then 0 else 2 ^ gs_g c k)) (tu ||| (bif Nat.beq ((gs_g lo k + gs_g hi k) % 2) 0 then 2 ^ gs_g c k else 0))
/-! groups that stand apart -/
def gs_gg (E c i : Nat) : Nat := gs_g c (gs_g E i / 2)
def gs_a1 (E c G : Nat) : Nat → Nat → Nat → Nat
  | 0, _, L => L
  | m + 1, i, L => gs_a1 E c G m (i + 1) (bif Nat.beq (gs_bit G (gs_gg E c i)) 0 then L else gs_gg E c i + 1)
def gs_a2 (E c G : Nat) : Nat → Nat → Nat → Nat → Nat → Nat
  | 0, _, _, tw, _ => tw
  | m + 1, i, on, tw, be => bif Nat.beq (gs_bit G (gs_gg E c i)) 0 then gs_a2 E c G m (i + 1) on tw be else bif Nat.beq (gs_gg E c i + 1) be then gs_a2 E c G m (i + 1) on tw (gs_gg E c i + 1) else gs_a2 E c G m (i + 1) (on ||| 2 ^ gs_gg E c i) (tw ||| (on &&& 2 ^ gs_gg E c i)) (gs_gg E c i + 1)
def gs_a3 (A : Nat) : Nat → Nat → Nat → Nat
  | 0, _, n => n
  | m + 1, x, n => gs_a3 A m (x + 1) (n + gs_bit A x)
def gs_tw (E c G L : Nat) : Nat := bif Nat.beq L 0 then 0 else gs_a2 E c G 12 0 0 0 L
def gs_ap (E c G : Nat) : Nat := gs_fN (gs_a1 E c G 12 0 0) (fun L => gs_a3 (G &&& (65535 ^^^ gs_tw E c G L)) 6 0 0)
/-- what measure answers -/
def gs_M (r : Nat) : Int32 := gs_fN (gs_E r) (fun E => gs_fN (gs_P E) (fun P => gs_fN (gs_lo P) (fun lo => gs_fN (gs_hi P) (fun hi => gs_fN (gs_gr6 lo hi 6 gs_c0) (fun c => gs_fN (gs_sg lo hi c 6 0 0 0) (fun G => 6 - nI (gs_rO E P 12 0 0 0) + nI (gs_ap E c G)))))))
/-! breaks -/
def gs_bA (r p : Nat) : Nat := bif Nat.beq p 5 then 11 else gs_g r p
def gs_bB (r p : Nat) : Nat := bif Nat.beq p 0 then 5 else gs_g r (p - 1)
def gs_bk (r : Nat) : Nat → Nat → Nat → Nat
  | 0, _, c => c
  | m + 1, p, c => gs_bk r m (p + 1) (bif Nat.beq (gs_bA r p) (gs_bB r p + 1) then c else c + 1)
/-! turns that are counted, the first that is good -/
def gs_cj (q : Nat → Nat → Bool) (i : Nat) : Nat → Nat → Nat → Nat
  | 0, _, c => c
  | m + 1, j, c => gs_cj q i m (j + 1) (bif q i j then c + 1 else c)
def gs_ci (q : Nat → Nat → Bool) : Nat → Nat → Nat → Nat
  | 0, _, c => c
  | m + 1, i, c => gs_ci q m (i + 1) (gs_cj q i (5 - i) i c)
def gs_fj (q : Nat → Nat → Bool) (i : Nat) : Nat → Nat → Nat
  | 0, _ => 99
  | m + 1, j => bif q i j then 8 * i + j else gs_fj q i m (j + 1)
def gs_fi (q : Nat → Nat → Bool) : Nat → Nat → Nat
  | 0, _ => 99
  | m + 1, i => bif Nat.beq (gs_fj q i (5 - i) i) 99 then gs_fi q m (i + 1) else gs_fj q i (5 - i) i
end
section
/-! the row's methods -/
theorem gs_id_g : ∀ p, p < 5 → gs_g gs_id p = p + 6 := by decide +kernel
theorem gs_id_B : gs_B gs_id := by
  intro j hj
  rw [gs_id_g j hj]
  omega
theorem gs_tn_g {i j r : Nat} (hb : gs_B r) (hij : i ≤ j) (hj : j < 5) : ∀ x, x < 5 → gs_g (gs_tn i j r) x = if i ≤ x ∧ x ≤ j then 10 - gs_g r (i + j - x) else gs_g r x := by
  intro x hx
  have e : gs_g (gs_tn i j r) x = bif (Nat.ble i x && Nat.ble x j) then 10 - gs_g r (i + j - x) else gs_g r x := by
    refine gs_mk_g (f := fun x => bif (Nat.ble i x && Nat.ble x j) then 10 - gs_g r (i + j - x) else gs_g r x) (fun y hy => ?_) x hx
    cases (Nat.ble i y && Nat.ble y j) with
    | true => exact Nat.lt_of_le_of_lt (Nat.sub_le _ _) (by decide)
    | false => exact gs_g16 r y
  rw [e]
  by_cases h1 : i ≤ x
  · by_cases h2 : x ≤ j
    · rw [if_pos ⟨h1, h2⟩, Nat.ble_eq_true_of_le h1, Nat.ble_eq_true_of_le h2]
      rfl
    · rw [if_neg (fun z => h2 z.2), show Nat.ble x j = false from Bool.eq_false_iff.mpr (fun z => h2 (Nat.le_of_ble_eq_true z)), Bool.and_false]
      rfl
  · rw [if_neg (fun z => h1 z.1), show Nat.ble i x = false from Bool.eq_false_iff.mpr (fun z => h1 (Nat.le_of_ble_eq_true z)), Bool.false_and]
    rfl
theorem gs_tn_B {i j r : Nat} (hb : gs_B r) (hij : i ≤ j) (hj : j < 5) : gs_B (gs_tn i j r) := by
  intro x hx
  rw [gs_tn_g hb hij hj x hx]
  by_cases h : i ≤ x ∧ x ≤ j
  · rw [if_pos h]; omega
  · rw [if_neg h]; exact hb x hx
/-- a piece turned twice -/
theorem gs_tn_tn {a : Nat → Int32} {i j r : Nat} (hb : gs_B r) (hij : i ≤ j) (hj : j < 5) (h : gs_R a (gs_tn i j (gs_tn i j r))) : gs_R a r := by
  intro x hx
  rw [h x hx, gs_tn_g (gs_tn_B hb hij hj) hij hj x hx]
  by_cases h : i ≤ x ∧ x ≤ j
  · rw [if_pos h, gs_tn_g hb hij hj _ (by omega), if_pos (by omega), show i + j - (i + j - x) = x by omega]
    have := hb x hx
    rw [show 10 - (10 - gs_g r x) = gs_g r x by omega]
  · rw [if_neg h, gs_tn_g hb hij hj x hx, if_neg h]
theorem gs_m1 : ∀ q, q < 6 → ∀ l, l < 6 → q ≤ l → nI q + (-1) < nI l := by decide +kernel
theorem gs_tp {post : St2 → Prop} {a2 a3 a4 a5 a6 : Nat → Int32} : ∀ (m l q : Nat) (a1 : Nat → Int32) (R : Nat → Nat), q ≤ l + 2 * m → q < 6 → l < 6 → (∀ j, j < 5 → a1 j = gs_v (R j)) → (∀ j, j < 5 → R j < 11) → (∀ b, (∀ x, x < 5 → b x = gs_v (if l ≤ x ∧ x < q then 10 - R (l + q - 1 - x) else R x)) → post (b, a2, a3, a4, a5, a6)) → wX_turnPiece_5 post (m + 1) (nI l) (nI q + (-1)) a1 a2 a3 a4 a5 a6 := by
  intro m
  induction m with
  | zero =>
    intro l q a1 R hq q6 l6 hR hb H
    refine br_t (gs_m1 q q6 l l6 (by omega)) (H a1 (fun x hx => ?_))
    rw [if_neg (by omega)]
    exact hR x hx
  | succ m ih =>
    intro l q a1 R hq q6 l6 hR hb H
    by_cases hl : q ≤ l
    · refine br_t (gs_m1 q q6 l l6 hl) (H a1 (fun x hx => ?_))
      rw [if_neg (by omega)]
      exact hR x hx
    · obtain ⟨t, rfl⟩ : ∃ t, q = t + 1 := ⟨q - 1, by omega⟩
      rw [pk_m1]
      refine pk_lt t l (fun z => absurd z (by omega)) (fun _ => ⟨pk_in l 5 (by omega), nm_e ⟨pk_in t 5 (by omega), pk_in l 5 (by omega), nm_e ⟨pk_in t 5 (by omega), nm_e (nm_r (nI_1 l) (nm_e ?_))⟩⟩⟩)
      rw [nI_clamp (show l < 2 ^ 31 by omega), nI_clamp (show t < 2 ^ 31 by omega)]
      refine ih (l + 1) t _ (fun x => if x = t then 10 - R l else if x = l then 10 - R t else R x) (by omega) (by omega) (by omega) (fun j hj => ?_) (fun j hj => ?_) (fun b hb' => H b (fun x hx => ?_))
      · by_cases e : j = t
        · rw [e, pk_us, if_pos rfl, hR l (by omega), gs_neg _ (hb l (by omega))]
        · rw [pk_un e, if_neg e]
          by_cases e' : j = l
          · rw [e', pk_us, if_pos rfl, hR t (by omega), gs_neg _ (hb t (by omega))]
          · rw [pk_un e', if_neg e']
            exact hR j hj
      · by_cases e : j = t
        · rw [if_pos e]; omega
        · rw [if_neg e]
          by_cases e' : j = l
          · rw [if_pos e']; omega
          · rw [if_neg e']
            exact hb j hj
      · rw [hb' x hx]
        refine congrArg gs_v ?_
        by_cases e : x = t
        · rw [if_neg (by omega), if_pos e, if_pos (by omega), show l + (t + 1) - 1 - x = l by omega]
        · by_cases e' : x = l
          · rw [if_neg (by omega), if_neg e, if_pos e', if_pos (by omega), show l + (t + 1) - 1 - x = t by omega]
          · by_cases e2 : l < x ∧ x < t
            · rw [if_pos (by omega), if_neg (by omega), if_neg (by omega), if_pos (by omega), show l + 1 + t - 1 - x = l + (t + 1) - 1 - x by omega]
            · rw [if_neg (by omega), if_neg e, if_neg e', if_neg (by omega)]
theorem gs_turnPiece {post : St2 → Prop} {a1 a2 a3 a4 a5 a6 : Nat → Int32} {r i j : Nat} (hij : i ≤ j) (hj : j < 5) (hR : gs_R a1 r) (hb : gs_B r) (H : ∀ b, gs_R b (gs_tn i j r) → post (b, a2, a3, a4, a5, a6)) : wpX_turnPiece post (a1, a2, a3, a4, a5, a6) (nI i) (nI j) := by
  have t := gs_tp (post := post) (a2 := a2) (a3 := a3) (a4 := a4) (a5 := a5) (a6 := a6) 5 i (j + 1) a1 (gs_g r) (by omega) (by omega) (by omega) hR hb (fun b hb' => H b (fun x hx => by
    rw [hb' x hx, gs_tn_g hb hij hj x hx]
    refine congrArg gs_v ?_
    by_cases e : i ≤ x ∧ x ≤ j
    · rw [if_pos (by omega), if_pos e, show i + (j + 1) - 1 - x = i + j - x by omega]
    · rw [if_neg (by omega), if_neg e]))
  rw [pk_m1] at t
  exact ⟨5 + 1, t⟩
theorem gs_isPiece {post : Int32 → Prop} {i j : Nat} (hij : i ≤ j) (hj : j < 5) (h : post 1) : wpX_isPiece post () (nI i) (nI j) :=
  br_f (nI_pos (by omega)) (br_f (nI_nlt hij (by omega)) (br_f (nI_ge (b := 5) hj (by omega)) h))
theorem gs_noPiece {post : Int32 → Prop} {p0 p1 : Int32} (hn : p0 < 0 ∨ p1 < p0 ∨ 4 < p1) (h : post 0) : wpX_isPiece post () p0 p1 := by
  refine br_c (fun _ => h) (fun z => br_c (fun _ => h) (fun z2 => br_c (fun _ => h) (fun z3 => ?_)))
  rcases hn with g | g | g
  · exact absurd g z
  · exact absurd g z2
  · refine absurd ?_ z3
    rw [Int32.le_iff_toInt_le]
    rw [Int32.lt_iff_toInt_lt] at g
    have e4 : (4 : Int32).toInt = 4 := by decide
    have e5 : (5 : Int32).toInt = 5 := by decide
    omega
theorem gs_size {post : Int32 → Prop} {e : Nat} (he : e < 11) (h : post (nI (gs_n e))) : wpX_size post () (gs_v e) := by
  by_cases z : 5 ≤ e
  · refine br_t ((gs_t1 e he).mpr z) ?_
    rw [gs_t2 e he z]
    exact h
  · refine br_f (fun g => z ((gs_t1 e he).mp g)) ?_
    rw [gs_t3 e he z]
    exact h
/-! flipAll -/
theorem gs_fl_g {x r : Nat} : ∀ p, p < 5 → gs_g (gs_fl x r) p = if gs_bit x p = 0 then gs_g r p else 10 - gs_g r p := by
  intro p hp
  have e : gs_g (gs_fl x r) p = bif Nat.beq (gs_bit x p) 0 then gs_g r p else 10 - gs_g r p := by
    refine gs_mk_g (f := fun p => bif Nat.beq (gs_bit x p) 0 then gs_g r p else 10 - gs_g r p) (fun y hy => ?_) p hp
    cases Nat.beq (gs_bit x y) 0 with
    | true => exact gs_g16 r y
    | false => exact Nat.lt_of_le_of_lt (Nat.sub_le _ _) (by decide)
  rw [e]
  by_cases h : gs_bit x p = 0
  · rw [h, if_pos rfl]
    rfl
  · rw [if_neg h, show Nat.beq (gs_bit x p) 0 = false from Bool.eq_false_iff.mpr (fun z => h (Nat.eq_of_beq_eq_true z))]
    rfl
theorem gs_fl_B {x r : Nat} (hb : gs_B r) : gs_B (gs_fl x r) := by
  intro p hp
  rw [gs_fl_g p hp]
  by_cases h : gs_bit x p = 0
  · rw [if_pos h]; exact hb p hp
  · rw [if_neg h]; omega
theorem gs_fl_fl {a : Nat → Int32} {x r : Nat} (hb : gs_B r) (h : gs_R a (gs_fl x (gs_fl x r))) : gs_R a r := by
  intro p hp
  rw [h p hp, gs_fl_g p hp, gs_fl_g p hp]
  by_cases h : gs_bit x p = 0
  · rw [if_pos h, if_pos h]
  · rw [if_neg h, if_neg h]
    have := hb p hp
    rw [show 10 - (10 - gs_g r p) = gs_g r p by omega]
theorem gs_fa {post : St2 → Prop} {a2 a3 a4 a5 a6 : Nat → Int32} {x : Nat} (hx : x < 32) : ∀ (m p : Nat) (a1 : Nat → Int32) (R : Nat → Nat), p + m = 5 → (∀ j, j < 5 → a1 j = gs_v (R j)) → (∀ j, j < 5 → R j < 11) → (∀ b, (∀ y, y < 5 → b y = gs_v (if p ≤ y ∧ gs_bit x y ≠ 0 then 10 - R y else R y)) → post (b, a2, a3, a4, a5, a6)) → wX_flipAll_2 post (nI x) (m + 1) (nI p) a1 a2 a3 a4 a5 a6 := by
  intro m
  induction m with
  | zero =>
    intro p a1 R hp hR hb H
    refine pk_le 5 p (fun _ => H a1 (fun y hy => ?_)) (fun z => absurd z (by omega))
    rw [if_neg (by omega)]
    exact hR y hy
  | succ m ih =>
    intro p a1 R hp hR hb H
    refine pk_le 5 p (fun z => absurd z (by omega)) (fun _ => gs_br (by omega) (by omega) (fun h0 => nm_r (nI_1 p) ?_) (fun h1 => ⟨pk_in p 5 (by omega), pk_in p 5 (by omega), nm_e (nm_r (nI_1 p) ?_)⟩))
    · refine ih (p + 1) a1 R (by omega) hR hb (fun b hb' => H b (fun y hy => ?_))
      rw [hb' y hy]
      refine congrArg gs_v ?_
      by_cases e : y = p
      · rw [if_neg (by omega), if_neg (by rw [e]; exact fun z => z.2 h0)]
      · by_cases e2 : gs_bit x y = 0
        · rw [if_neg (fun z => z.2 e2), if_neg (fun z => z.2 e2)]
        · by_cases e3 : p ≤ y
          · rw [if_pos ⟨by omega, e2⟩, if_pos ⟨e3, e2⟩]
          · rw [if_neg (by omega), if_neg (by omega)]
    · rw [nI_clamp (show p < 2 ^ 31 by omega)]
      refine ih (p + 1) _ (fun y => if y = p then 10 - R p else R y) (by omega) (fun j hj => ?_) (fun j hj => ?_) (fun b hb' => H b (fun y hy => ?_))
      · by_cases e : j = p
        · rw [e, pk_us, if_pos rfl, hR p (by omega), gs_neg _ (hb p (by omega))]
        · rw [pk_un e, if_neg e]
          exact hR j hj
      · by_cases e : j = p
        · rw [if_pos e]; omega
        · rw [if_neg e]; exact hb j hj
      · rw [hb' y hy]
        refine congrArg gs_v ?_
        by_cases e : y = p
        · rw [if_neg (by omega), if_pos e, if_pos (by rw [e]; exact ⟨Nat.le_refl p, h1⟩), e]
        · rw [if_neg e]
          by_cases e2 : gs_bit x y = 0
          · rw [if_neg (fun z => z.2 e2), if_neg (fun z => z.2 e2)]
          · by_cases e3 : p ≤ y
            · rw [if_pos ⟨by omega, e2⟩, if_pos ⟨e3, e2⟩]
            · rw [if_neg (by omega), if_neg (by omega)]
theorem gs_flipAll {post : St2 → Prop} {a1 a2 a3 a4 a5 a6 : Nat → Int32} {r x : Nat} (hx : x < 32) (hR : gs_R a1 r) (hb : gs_B r) (H : ∀ b, gs_R b (gs_fl x r) → post (b, a2, a3, a4, a5, a6)) : wpX_flipAll post (a1, a2, a3, a4, a5, a6) (nI x) :=
  ⟨5 + 1, gs_fa hx 5 0 a1 (gs_g r) (by omega) hR hb (fun b hb' => H b (fun y hy => by
    rw [hb' y hy, gs_fl_g y hy]
    refine congrArg gs_v ?_
    by_cases e : gs_bit x y = 0
    · rw [if_neg (fun z => z.2 e), if_pos e]
    · rw [if_pos ⟨Nat.zero_le y, e⟩, if_neg e]))⟩
/-! breaks -/
theorem gs_bt : ∀ a, a < 12 → ∀ b, b < 12 → (gs_v a = gs_v b + 1 ↔ a = b + 1) := by decide +kernel
theorem gs_bA5 (r : Nat) : gs_v (gs_bA r 5) = 6 := (by decide : gs_v 11 = 6)
theorem gs_bB0 (r : Nat) : gs_v (gs_bB r 0) = 0 := (by decide : gs_v 5 = 0)
theorem gs_bA_lt {r p : Nat} (hb : gs_B r) (hp : p < 6) : gs_bA r p < 12 := by
  unfold gs_bA
  cases h : Nat.beq p 5 with
  | true => exact (by decide : 11 < 12)
  | false =>
    have h' : p ≠ 5 := Nat.ne_of_beq_eq_false h
    have := hb p (by omega)
    show gs_g r p < 12
    omega
theorem gs_bB_lt {r p : Nat} (hb : gs_B r) (hp : p < 6) : gs_bB r p < 12 := by
  unfold gs_bB
  cases h : Nat.beq p 0 with
  | true => exact (by decide : 5 < 12)
  | false =>
    have h' : p ≠ 0 := Nat.ne_of_beq_eq_false h
    have := hb (p - 1) (by omega)
    show gs_g r (p - 1) < 12
    omega
theorem gs_b42 {post : Int32 → Prop} {J : Int32 → Int32 → Prop} {a1 a2 a3 a4 a5 a6 : Nat → Int32} {r c p : Nat} (hb : gs_B r) (hp : p < 6) (h : J (nI (bif Nat.beq (gs_bA r p) (gs_bB r p + 1) then c else c + 1)) (nI (p + 1))) : wX_breaks_42 post J (nI c) (nI p) (gs_v (gs_bB r p)) (gs_v (gs_bA r p)) a1 a2 a3 a4 a5 a6 := by
  refine ek_if (gs_bt _ (gs_bA_lt hb hp) _ (gs_bB_lt hb hp)) (fun e => nm_r (e' := nI c) ?_ (nm_r (nI_1 p) ?_)) (fun e => nm_r (nI_1 c) (nm_r (nI_1 p) ?_))
  · exact Int32.add_zero _
  · rw [e, Nat.beq_refl] at h
    exact h
  · rw [show Nat.beq (gs_bA r p) (gs_bB r p + 1) = false from Bool.eq_false_iff.mpr (fun z => e (Nat.eq_of_beq_eq_true z))] at h
    exact h
theorem gs_b25 {post : Int32 → Prop} {J : Int32 → Int32 → Prop} {a1 a2 a3 a4 a5 a6 : Nat → Int32} {r c p : Nat} (hR : gs_R a1 r) (hb : gs_B r) (hp : p < 6) (h : J (nI (bif Nat.beq (gs_bA r p) (gs_bB r p + 1) then c else c + 1)) (nI (p + 1))) : wX_breaks_25 post J (nI c) (nI p) (gs_v (gs_bB r p)) a1 a2 a3 a4 a5 a6 := by
  refine pk_eq p 5 (fun e => ?_) (fun e => ⟨pk_in p 5 (by omega), ?_⟩)
  · have t := gs_b42 (post := post) (J := J) (a1 := a1) (a2 := a2) (a3 := a3) (a4 := a4) (a5 := a5) (a6 := a6) (c := c) hb hp h
    subst e
    rw [gs_bA5] at t
    exact t
  · have t := gs_b42 (post := post) (J := J) (a1 := a1) (a2 := a2) (a3 := a3) (a4 := a4) (a5 := a5) (a6 := a6) (c := c) hb hp h
    rw [nI_clamp (show p < 2 ^ 31 by omega), hR p (by omega)]
    have e' : gs_bA r p = gs_g r p := by
      unfold gs_bA
      rw [show Nat.beq p 5 = false from Bool.eq_false_iff.mpr (fun z => e (Nat.eq_of_beq_eq_true z))]
      rfl
    rw [e'] at t
    exact t
theorem gs_bk4 {post : Int32 → Prop} {a1 a2 a3 a4 a5 a6 : Nat → Int32} {r : Nat} (hR : gs_R a1 r) (hb : gs_B r) : ∀ m p c, p + m = 6 → post (nI (gs_bk r m p c)) → wX_breaks_4 post a1 a2 a3 a4 a5 a6 (m + 1) (nI c) (nI p) := by
  intro m
  induction m with
  | zero =>
    intro p c hp h
    exact pk_lt 5 p (fun _ => h) (fun z => absurd z (by omega))
  | succ m ih =>
    intro p c hp h
    have t := gs_b25 (post := post) (J := wX_breaks_4 post a1 a2 a3 a4 a5 a6 (m + 1)) (a2 := a2) (a3 := a3) (a4 := a4) (a5 := a5) (a6 := a6) (c := c) hR hb (show p < 6 by omega) (ih (p + 1) _ (by omega) h)
    refine pk_lt 5 p (fun z => absurd z (by omega)) (fun _ => pk_eq p 0 (fun e => ?_) (fun e => ⟨?_, ?_⟩))
    · subst e
      rw [gs_bB0] at t
      exact t
    · exact pk_in (p - 1) 5 (by omega) (pk_sub (a := p) (b := 1) (by omega))
    · rw [show nI p - 1 = nI (p - 1) from pk_sub (a := p) (b := 1) (by omega), nI_clamp (show p - 1 < 2 ^ 31 by omega), hR (p - 1) (by omega)]
      have e' : gs_bB r p = gs_g r (p - 1) := by
        unfold gs_bB
        rw [show Nat.beq p 0 = false from Bool.eq_false_iff.mpr (fun z => e (Nat.eq_of_beq_eq_true z))]
        rfl
      rw [e'] at t
      exact t
theorem gs_breaks {post : Int32 → Prop} {a1 a2 a3 a4 a5 a6 : Nat → Int32} {r : Nat} (hR : gs_R a1 r) (hb : gs_B r) (h : post (nI (gs_bk r 6 0 0))) : wpX_breaks post (a1, a2, a3, a4, a5, a6) :=
  ⟨6 + 1, gs_bk4 hR hb 6 0 0 (by omega) h⟩
/-! the maker -/
theorem gs_in5 : ∀ p, p < 5 → (nI p + 1).toInt8.toInt32 = gs_v (p + 6) := by decide +kernel
theorem gs_in53 {post : St2 → Prop} {mc ms kc ks : Nat} {a2 a3 a4 a5 a6 : Nat → Int32} (H : ∀ b, gs_R b gs_id → post (b, a2, a3, a4, a5, a6)) : ∀ m p a1, p + m = 5 → (∀ j, j < p → a1 j = gs_v (j + 6)) → wX_init_53 post mc ms kc ks (m + 1) (nI p) a1 a2 a3 a4 a5 a6 := by
  intro m
  induction m with
  | zero =>
    intro p a1 hp hj
    refine pk_le 5 p (fun _ => H a1 (fun j h5 => ?_)) (fun z => absurd z (by omega))
    rw [gs_id_g j h5]
    exact hj j (by omega)
  | succ m ih =>
    intro p a1 hp hj
    refine pk_le 5 p (fun z => absurd z (by omega)) (fun _ => ⟨pk_in p 5 (by omega), nm_e (nm_r (nI_1 p) (ih (p + 1) _ (by omega) (fun j h => ?_)))⟩)
    rw [nI_clamp (show p < 2 ^ 31 by omega)]
    by_cases e : j = p
    · rw [e, pk_us, gs_in5 p (by omega)]
    · rw [pk_un e]
      exact hj j (by omega)
theorem gs_init {post : St2 → Prop} (H : ∀ b, gs_R b gs_id → post (b, fun _ => 0, fun _ => 0, fun _ => 0, fun _ => 0, fun _ => 0)) : wpX_init post 6 47 () :=
  ⟨by omega, by omega, by omega, by omega, by omega, by omega, by omega, by omega, by omega, by omega, by omega, by omega, 5 + 1, gs_in53 H 5 0 _ (by omega) (fun j h => absurd h (by omega))⟩
/-! the answers at a place -/
theorem gs_at {post : Int32 → Prop} {a1 a2 a3 a4 a5 a6 : Nat → Int32} {p : Nat} (hp : p < 5) (h : post (a1 p)) : wpX_at post (a1, a2, a3, a4, a5, a6) (nI p) := by
  refine br_f (nI_pos (by omega)) (br_f (nI_ge (b := 5) hp (by omega)) (br_f (by decide) ⟨pk_in p 5 hp, ?_⟩))
  rw [nI_clamp (show p < 2 ^ 31 by omega)]
  exact h
theorem gs_noAt {post : Int32 → Prop} {a1 a2 a3 a4 a5 a6 : Nat → Int32} {p : Int32} (hp : p < 0 ∨ 4 < p) (h : post 0) : wpX_at post (a1, a2, a3, a4, a5, a6) p := by
  refine br_c (fun _ => br_t rfl h) (fun z => br_c (fun _ => br_t rfl h) (fun z3 => ?_))
  rcases hp with g | g
  · exact absurd g z
  · refine absurd ?_ z3
    rw [Int32.le_iff_toInt_le]
    rw [Int32.lt_iff_toInt_lt] at g
    have e4 : (4 : Int32).toInt = 4 := by decide
    have e5 : (5 : Int32).toInt = 5 := by decide
    omega
end
section
/-! lineUp -/
theorem gs_cT {c : Bool} (h : c = true) (x y : Nat) : (bif c then x else y) = x := by rw [h]; rfl
theorem gs_cF {c : Bool} (h : c = false) (x y : Nat) : (bif c then x else y) = y := by rw [h]; rfl
theorem gs_bleF {a b : Nat} (h : ¬ a ≤ b) : Nat.ble a b = false := Bool.eq_false_iff.mpr (fun z => h (Nat.le_of_ble_eq_true z))
theorem gs_beqF {a b : Nat} (h : ¬ a = b) : Nat.beq a b = false := Bool.eq_false_iff.mpr (fun z => h (Nat.eq_of_beq_eq_true z))
theorem gs_beqT {a b : Nat} (h : a = b) : Nat.beq a b = true := by rw [h]; exact Nat.beq_refl b
theorem gs_l60 {post : St2 → Prop} {J : Int32 → (Nat → Int32) → (Nat → Int32) → (Nat → Int32) → (Nat → Int32) → (Nat → Int32) → (Nat → Int32) → Prop} {a1 a2 a3 a4 a5 a6 : Nat → Int32} {p e : Nat} {z0 : Int32} (hp : p < 5) (h1 : a1 p = gs_v e) (he : e < 11) (h5 : e ≠ 5) (hz : z0.toInt8.toInt32 = nI (gs_f e))
    (H : J (nI (p + 1)) a1 (upd (upd a2 (2 * p + 1) (nI (gs_f e))) (2 * p + 2) (nI (gs_s e))) a3 a4 a5 a6) : wX_lineUp_60 post J (nI p) (2 * nI (gs_n e)) z0 (2 * nI p + 1) a1 a2 a3 a4 a5 a6 := by
  unfold wX_lineUp_60
  rw [gs_21, gs_22, nI_clamp (show p < 2 ^ 31 by omega), nI_clamp (show 2 * p + 1 < 2 ^ 31 by omega), nI_clamp (show 2 * p + 2 < 2 ^ 31 by omega), hz, h1]
  refine ⟨pk_in (2 * p + 1) 12 (by omega), nm_e ⟨pk_in p 5 hp, ek_if (gs_t4 e he) (fun g => ⟨pk_in (2 * p + 2) 12 (by omega), nm_e (nm_r (nI_1 p) ?_)⟩) (fun g => ⟨pk_in (2 * p + 2) 12 (by omega), nm_e (nm_r (nI_1 p) ?_)⟩)⟩⟩
  · rw [(gs_t5 e he h5 g).2]
    exact H
  · rw [(gs_t6 e he h5 g).2]
    exact H
theorem gs_l18 {post : St2 → Prop} {R E : Nat → Nat} {a1 a3 a4 a5 a6 : Nat → Int32} (hR : ∀ p, p < 5 → a1 p = gs_v (R p)) (hv : ∀ p, p < 5 → R p < 11 ∧ R p ≠ 5) (h1 : ∀ p, p < 5 → E (2 * p + 1) = gs_f (R p)) (h2 : ∀ p, p < 5 → E (2 * p + 2) = gs_s (R p))
    (H : ∀ b, (∀ j, j < 12 → b j = nI (E j)) → ∃ n, wX_lineUp_97 post n 0 a1 b a3 a4 a5 a6) : ∀ m p a2, p + m = 5 → (∀ j, j < 2 * p + 1 → a2 j = nI (E j)) → a2 11 = nI (E 11) → wX_lineUp_18 post (m + 1) (nI p) a1 a2 a3 a4 a5 a6 := by
  intro m
  induction m with
  | zero =>
    intro p a2 hp hj h11
    refine pk_le 5 p (fun _ => H a2 (fun j h12 => ?_)) (fun z => absurd z (by omega))
    by_cases e : j = 11
    · rw [e]; exact h11
    · exact hj j (by omega)
  | succ m ih =>
    intro p a2 hp hj h11
    obtain ⟨v1, v2⟩ := hv p (by omega)
    have J : wX_lineUp_18 post (m + 1) (nI (p + 1)) a1 (upd (upd a2 (2 * p + 1) (nI (gs_f (R p)))) (2 * p + 2) (nI (gs_s (R p)))) a3 a4 a5 a6 := by
      refine ih (p + 1) _ (by omega) (fun j h => ?_) ?_
      · by_cases e : j = 2 * p + 2
        · rw [e, pk_us, h2 p (by omega)]
        · rw [pk_un e]
          by_cases e' : j = 2 * p + 1
          · rw [e', pk_us, h1 p (by omega)]
          · rw [pk_un e']
            exact hj j (by omega)
      · rw [pk_un (by omega), pk_un (by omega)]
        exact h11
    refine pk_le 5 p (fun z => absurd z (by omega)) (fun _ => ⟨pk_in p 5 (by omega), ?_⟩)
    rw [nI_clamp (show p < 2 ^ 31 by omega), hR p (by omega)]
    refine gs_size v1 (nm_e ⟨pk_in p 5 (by omega), ek_if (gs_t4 _ v1) (fun g => ?_) (fun g => ?_)⟩)
    · exact gs_l60 (by omega) (hR p (by omega)) v1 v2 (gs_t5 _ v1 v2 g).1 J
    · exact gs_l60 (by omega) (hR p (by omega)) v1 v2 (gs_t6 _ v1 v2 g).1 J
theorem gs_l97 {post : St2 → Prop} {E P : Nat → Nat} {a1 a2 a4 a5 a6 : Nat → Int32} (h2 : ∀ j, j < 12 → a2 j = nI (E j)) (hE : ∀ j, j < 12 → E j < 12) (hP : ∀ j, j < 12 → P j < 12) (hPE : ∀ j, j < 12 → P (E j) = j) (hEP : ∀ j, j < 12 → E (P j) = j)
    (H : ∀ b, (∀ j, j < 12 → b j = nI (P j)) → ∃ n, wX_lineUp_124 post n 0 a1 a2 b a4 a5 a6) : ∀ m i a3, i + m = 12 → (∀ j, j < i → a3 (E j) = nI j) → wX_lineUp_97 post (m + 1) (nI i) a1 a2 a3 a4 a5 a6 := by
  intro m
  induction m with
  | zero =>
    intro i a3 hi hj
    refine pk_le 12 i (fun _ => H a3 (fun j h12 => ?_)) (fun z => absurd z (by omega))
    have t := hj (P j) (by have := hP j h12; omega)
    rw [hEP j h12] at t
    exact t
  | succ m ih =>
    intro i a3 hi hj
    refine pk_le 12 i (fun z => absurd z (by omega)) (fun _ => ⟨pk_in i 12 (by omega), ?_⟩)
    have hi12 : i < 12 := by omega
    have hEi := hE i hi12
    rw [nI_clamp (show i < 2 ^ 31 by omega), h2 i hi12, nI_clamp (show E i < 2 ^ 31 by omega)]
    refine ⟨pk_in (E i) 12 hEi, nm_e (nm_r (nI_1 i) (ih (i + 1) _ (by omega) (fun j h => ?_)))⟩
    by_cases e : j = i
    · rw [e, pk_us, gs_b i (by omega)]
    · have ne : E j ≠ E i := by
        intro z
        apply e
        rw [← hPE j (by omega), ← hPE i hi12, z]
      rw [pk_un ne]
      exact hj j (by omega)
theorem gs_l182 {post : St2 → Prop} {J : Int32 → (Nat → Int32) → (Nat → Int32) → (Nat → Int32) → (Nat → Int32) → (Nat → Int32) → (Nat → Int32) → Prop} {a1 a2 a3 a4 a5 a6 : Nat → Int32} {k y : Nat} (hk : k < 6) (hy : y < 16) (H : J (nI (k + 1)) a1 a2 a3 a4 (upd a5 k (nI y)) (upd a6 k (nI k))) : wX_lineUp_182 post J (nI k) (nI y) (nI k) a1 a2 a3 a4 a5 a6 := by
  unfold wX_lineUp_182
  rw [nI_clamp (show k < 2 ^ 31 by omega), gs_b k (by omega), gs_b y (by omega)]
  exact ⟨pk_in k 6 hk, nm_e ⟨pk_in k 6 hk, nm_e (nm_r (nI_1 k) H)⟩⟩
theorem gs_l165 {post : St2 → Prop} {J : Int32 → (Nat → Int32) → (Nat → Int32) → (Nat → Int32) → (Nat → Int32) → (Nat → Int32) → (Nat → Int32) → Prop} {a1 a2 a3 a4 a5 a6 : Nat → Int32} {k x2 x3 z : Nat} (hk : k < 6) (h2 : x2 < 16) (h3 : x3 < 16) (hz : z < 16) (H : J (nI (k + 1)) a1 a2 a3 (upd a4 k (nI z)) (upd a5 k (nI (bif Nat.ble x3 x2 then x2 else x3))) (upd a6 k (nI k))) : wX_lineUp_165 post J (nI k) (nI x2) (nI x3) (nI z) (nI k) a1 a2 a3 a4 a5 a6 := by
  unfold wX_lineUp_165
  rw [nI_clamp (show k < 2 ^ 31 by omega), gs_b z (by omega)]
  refine ⟨pk_in k 6 hk, nm_e (pk_le x3 x2 (fun g => gs_l182 hk h2 ?_) (fun g => gs_l182 hk h3 ?_))⟩
  · rw [gs_cT (Nat.ble_eq_true_of_le g)] at H
    exact H
  · rw [gs_cF (gs_bleF (by omega))] at H
    exact H
theorem gs_l124 {post : St2 → Prop} {P : Nat} {a1 a2 a3 : Nat → Int32} (h3 : gs_N a3 P 12)
    (H : ∀ b4 b5 b6, (∀ j, j < 6 → b4 j = nI (gs_lof P j)) → (∀ j, j < 6 → b5 j = nI (gs_hif P j)) → (∀ j, j < 6 → b6 j = nI j) → post (a1, a2, a3, b4, b5, b6)) : ∀ m k a4 a5 a6, k + m = 6 → (∀ j, j < k → a4 j = nI (gs_lof P j)) → (∀ j, j < k → a5 j = nI (gs_hif P j)) → (∀ j, j < k → a6 j = nI j) → wX_lineUp_124 post (m + 1) (nI k) a1 a2 a3 a4 a5 a6 := by
  intro m
  induction m with
  | zero =>
    intro k a4 a5 a6 hk q4 q5 q6
    obtain rfl : k = 6 := by omega
    exact pk_le 6 6 (fun _ => H a4 a5 a6 q4 q5 q6) (fun z => absurd z (by omega))
  | succ m ih =>
    intro k a4 a5 a6 hk q4 q5 q6
    have hk6 : k < 6 := by omega
    have J : wX_lineUp_124 post (m + 1) (nI (k + 1)) a1 a2 a3 (upd a4 k (nI (gs_lof P k))) (upd a5 k (nI (gs_hif P k))) (upd a6 k (nI k)) :=
      ih (k + 1) _ _ _ (by omega) (gs_gr rfl rfl q4) (gs_gr rfl rfl q5) (gs_gr (f := fun j => j) rfl rfl q6)
    refine pk_le 6 k (fun z => absurd z (by omega)) (fun _ => ?_)
    rw [gs_21, gs_2, nI_clamp (show 2 * k + 1 < 2 ^ 31 by omega), nI_clamp (show 2 * k < 2 ^ 31 by omega), h3 (2 * k) (by omega), h3 (2 * k + 1) (by omega)]
    have b1 := gs_g16 P (2 * k)
    have b2 := gs_g16 P (2 * k + 1)
    refine ⟨pk_in (2 * k) 12 (by omega), nm_e ⟨pk_in (2 * k + 1) 12 (by omega), nm_e (pk_le (gs_g P (2 * k + 1)) (gs_g P (2 * k)) (fun g => gs_l165 hk6 b1 b2 b2 ?_) (fun g => gs_l165 hk6 b1 b2 b1 ?_))⟩⟩
    · unfold gs_lof at J
      rw [gs_cT (Nat.ble_eq_true_of_le g) (gs_g P (2 * k + 1)) (gs_g P (2 * k))] at J
      exact J
    · unfold gs_lof at J
      rw [gs_cF (gs_bleF (by omega)) (gs_g P (2 * k + 1)) (gs_g P (2 * k))] at J
      exact J
theorem gs_lof16 (P k : Nat) : gs_lof P k < 16 := by
  unfold gs_lof
  cases Nat.ble (gs_g P (2 * k + 1)) (gs_g P (2 * k)) with
  | true => exact gs_g16 P _
  | false => exact gs_g16 P _
theorem gs_hif16 (P k : Nat) : gs_hif P k < 16 := by
  unfold gs_hif
  cases Nat.ble (gs_g P (2 * k + 1)) (gs_g P (2 * k)) with
  | true => exact gs_g16 P _
  | false => exact gs_g16 P _
theorem gs_fs16 : ∀ e, e < 11 → gs_f e < 16 ∧ gs_s e < 16 := by decide +kernel
theorem gs_Ef16 {r : Nat} (hb : gs_B r) : ∀ j, j < 12 → gs_Ef r j < 16 := by
  intro j hj
  unfold gs_Ef
  cases h0 : Nat.beq j 0 with
  | true => exact (by decide : 0 < 16)
  | false =>
    cases h1 : Nat.beq j 11 with
    | true => exact (by decide : 11 < 16)
    | false =>
      have n0 : j ≠ 0 := Nat.ne_of_beq_eq_false h0
      have n1 : j ≠ 11 := Nat.ne_of_beq_eq_false h1
      cases h2 : Nat.beq (j % 2) 1 with
      | true => 
        have n2 : j % 2 = 1 := Nat.eq_of_beq_eq_true h2
        exact (gs_fs16 _ (hb _ (by omega))).1
      | false =>
        have n2 : j % 2 ≠ 1 := Nat.ne_of_beq_eq_false h2
        exact (gs_fs16 _ (hb _ (by omega))).2
theorem gs_E_g {r : Nat} (hb : gs_B r) : ∀ j, j < 12 → gs_g (gs_E r) j = gs_Ef r j := gs_mk_g (gs_Ef16 hb)
theorem gs_Ef1 (r : Nat) : ∀ p, p < 5 → gs_Ef r (2 * p + 1) = gs_f (gs_g r p) := by
  intro p hp
  match p, hp with
  | 0, _ => rfl
  | 1, _ => rfl
  | 2, _ => rfl
  | 3, _ => rfl
  | 4, _ => rfl
theorem gs_Ef2 (r : Nat) : ∀ p, p < 5 → gs_Ef r (2 * p + 2) = gs_s (gs_g r p) := by
  intro p hp
  match p, hp with
  | 0, _ => rfl
  | 1, _ => rfl
  | 2, _ => rfl
  | 3, _ => rfl
  | 4, _ => rfl
/-- what a good row gives -/
theorem gs_ok_B {r : Nat} (h : gs_ok r = true) : (∀ p, p < 5 → gs_g r p < 11 ∧ gs_g r p ≠ 5) ∧ ∀ j, j < 12 → gs_g (gs_E r) j < 12 ∧ gs_g (gs_P (gs_E r)) j < 12 ∧ gs_g (gs_P (gs_E r)) (gs_g (gs_E r) j) = j ∧ gs_g (gs_E r) (gs_g (gs_P (gs_E r)) j) = j := by
  unfold gs_ok at h
  rw [gs_fN_eq, gs_fN_eq, Bool.and_eq_true] at h
  refine ⟨fun p hp => ?_, fun j hj => ?_⟩
  · have t := gs_all_at h.1 p hp
    rw [Bool.and_eq_true] at t
    refine ⟨Nat.le_of_ble_eq_true t.1, fun z => ?_⟩
    rw [z] at t
    exact absurd t.2 (by decide)
  · have t := gs_all_at h.2 j hj
    rw [Bool.and_eq_true, Bool.and_eq_true, Bool.and_eq_true] at t
    exact ⟨Nat.le_of_ble_eq_true t.1, Nat.le_of_ble_eq_true t.2.1, Nat.eq_of_beq_eq_true t.2.2.1, Nat.eq_of_beq_eq_true t.2.2.2⟩
theorem gs_c0_g : ∀ j, j < 6 → gs_g gs_c0 j = j := by decide +kernel
theorem gs_lineUp {post : St2 → Prop} {a1 a2 a3 a4 a5 a6 : Nat → Int32} {r : Nat} (hR : gs_R a1 r) (hk : gs_ok r = true)
    (H : ∀ b2 b3 b4 b5 b6, gs_N b2 (gs_E r) 12 → gs_N b3 (gs_P (gs_E r)) 12 → gs_N b4 (gs_lo (gs_P (gs_E r))) 6 → gs_N b5 (gs_hi (gs_P (gs_E r))) 6 → gs_N b6 gs_c0 6 → post (a1, b2, b3, b4, b5, b6)) : wpX_lineUp post (a1, a2, a3, a4, a5, a6) := by
  obtain ⟨k1, k2⟩ := gs_ok_B hk
  have hb : gs_B r := fun p hp => (k1 p hp).1
  have e0 : gs_g (gs_E r) 0 = 0 := gs_E_g hb 0 (by omega)
  have e11 : gs_g (gs_E r) 11 = 11 := gs_E_g hb 11 (by omega)
  refine nm_e (nm_e ⟨5 + 1, gs_l18 (E := gs_g (gs_E r)) hR k1 (fun p hp => ?_) (fun p hp => ?_) (fun b2 h2 => ⟨12 + 1, gs_l97 h2 (fun j hj => (k2 j hj).1) (P := gs_g (gs_P (gs_E r))) (fun j hj => (k2 j hj).2.1) (fun j hj => (k2 j hj).2.2.1) (fun j hj => (k2 j hj).2.2.2) (fun b3 h3 => ⟨6 + 1, gs_l124 h3 (fun b4 b5 b6 h4 h5 h6 => ?_) 6 0 _ _ _ (by omega) (fun j z => absurd z (by omega)) (fun j z => absurd z (by omega)) (fun j z => absurd z (by omega))⟩) 12 0 _ (by omega) (fun j z => absurd z (by omega))⟩) 5 0 _ (by omega) (fun j hj => ?_) ?_⟩)
  · rw [gs_E_g hb _ (by omega), gs_Ef1 r p hp]
  · rw [gs_E_g hb _ (by omega), gs_Ef2 r p hp]
  · refine H b2 b3 b4 b5 b6 h2 h3 (fun j hj => ?_) (fun j hj => ?_) (fun j hj => ?_)
    · rw [h4 j hj]
      exact congrArg nI (gs_mk_g (fun j _ => gs_lof16 _ j) j hj).symm
    · rw [h5 j hj]
      exact congrArg nI (gs_mk_g (fun j _ => gs_hif16 _ j) j hj).symm
    · rw [h6 j hj, gs_c0_g j hj]
  · obtain rfl : j = 0 := by omega
    rw [pk_un (by decide), pk_us, e0]
    rfl
  · rw [pk_us, e11]
    rfl
end
section
/-! rings -/
theorem gs_or12 {a b n : Nat} (ha : a < 2 ^ n) (hb : b < 2 ^ n) : a ||| b < 2 ^ n := Nat.or_lt_two_pow ha hb
theorem gs_pw {i n : Nat} (h : i < n) : 2 ^ i < 2 ^ n := Nat.pow_lt_pow_right (by decide) h
theorem gs_rI_lt {E P : Nat} (hP : ∀ j, j < 12 → gs_g P j < 12) (hE : ∀ j, j < 12 → gs_g E j < 12) : ∀ m s i, s < 2 ^ 12 → i < 12 → gs_rI E P m s i < 2 ^ 12 := by
  intro m
  induction m with
  | zero => intro s i hs hi; exact hs
  | succ m ih =>
    intro s i hs hi
    show (bif Nat.beq (gs_bit s i) 0 then gs_rI E P m (s ||| (2 ^ i ||| 2 ^ (i ^^^ 1))) (gs_g P (gs_g E (i ^^^ 1) ^^^ 1)) else s) < 2 ^ 12
    cases Nat.beq (gs_bit s i) 0 with
    | false => exact hs
    | true => exact ih _ _ (gs_or12 hs (gs_or12 (gs_pw hi) (gs_pw (gs_x i hi).2))) (hP _ (gs_x _ (hE _ (gs_x i hi).2)).2)
theorem gs_r34 {post : Int32 → Prop} {J : Int32 → Int32 → Int32 → Prop} {x2 x3 : Int32} {a1 a2 a3 a4 a5 a6 : Nat → Int32} {E P : Nat} (h2 : gs_N a2 E 12) (h3 : gs_N a3 P 12) (hP : ∀ j, j < 12 → gs_g P j < 12) (hE : ∀ j, j < 12 → gs_g E j < 12) : ∀ m s i k, k + m = 6 → s < 2 ^ 12 → i < 12 → J (nI (gs_rI E P m s i)) x2 (x3 + 1) → wX_rings_34 post J x2 x3 a1 a2 a3 a4 a5 a6 (m + 1) (nI s) (nI i) (nI k) := by
  intro m
  induction m with
  | zero =>
    intro s i k hk hs hi H
    exact pk_le 6 k (fun _ => nm_e H) (fun z => absurd z (by omega))
  | succ m ih =>
    intro s i k hk hs hi H
    have H' : J (nI (bif Nat.beq (gs_bit s i) 0 then gs_rI E P m (s ||| (2 ^ i ||| 2 ^ (i ^^^ 1))) (gs_g P (gs_g E (i ^^^ 1) ^^^ 1)) else s)) x2 (x3 + 1) := H
    obtain ⟨x1, x12⟩ := gs_x i hi
    have y1 := hE _ x12
    obtain ⟨z1, z12⟩ := gs_x _ y1
    refine pk_le 6 k (fun z => absurd z (by omega)) (fun _ => gs_br (by omega) (by omega) (fun g => nm_r x1 (nm_r (e' := nI (s ||| (2 ^ i ||| 2 ^ (i ^^^ 1)))) ?_ ⟨pk_in _ 12 x12, ?_⟩)) (fun g => nm_e ?_))
    · rw [gs_shl (by omega), gs_shl (by omega), gs_or, gs_or]
    · rw [nI_clamp (show i ^^^ 1 < 2 ^ 31 by omega), h2 _ x12, z1, nI_clamp (show gs_g E (i ^^^ 1) ^^^ 1 < 2 ^ 31 by omega), h3 _ z12]
      refine ⟨pk_in _ 12 z12, nm_e (nm_r (nI_1 k) (ih _ _ (k + 1) (by omega) (gs_or12 hs (gs_or12 (gs_pw hi) (gs_pw x12))) (hP _ z12) ?_))⟩
      rw [gs_beqT g] at H'
      exact H'
    · rw [gs_beqF g] at H'
      exact H'
theorem gs_r6 {post : Int32 → Prop} {a1 a2 a3 a4 a5 a6 : Nat → Int32} {E P : Nat} (h2 : gs_N a2 E 12) (h3 : gs_N a3 P 12) (hP : ∀ j, j < 12 → gs_g P j < 12) (hE : ∀ j, j < 12 → gs_g E j < 12) : ∀ m i s c, i + m = 12 → s < 2 ^ 12 → post (nI (gs_rO E P m i s c)) → wX_rings_6 post a1 a2 a3 a4 a5 a6 (m + 1) (nI s) (nI c) (nI i) := by
  intro m
  induction m with
  | zero =>
    intro i s c hi hs H
    exact pk_le 12 i (fun _ => H) (fun z => absurd z (by omega))
  | succ m ih =>
    intro i s c hi hs H
    have hi12 : i < 12 := by omega
    have T := ih (i + 1) (gs_rI E P 6 s i) (bif Nat.beq (gs_bit s i) 0 then c + 1 else c) (by omega) (gs_rI_lt hP hE 6 s i hs hi12) H
    refine pk_le 12 i (fun z => absurd z (by omega)) (fun _ => gs_br (by omega) (by omega) (fun g => nm_r (nI_1 c) ⟨6 + 1, gs_r34 h2 h3 hP hE 6 s i 0 (by omega) hs hi12 ?_⟩) (fun g => nm_r (Int32.add_zero _) ⟨6 + 1, gs_r34 h2 h3 hP hE 6 s i 0 (by omega) hs hi12 ?_⟩))
    · rw [gs_beqT g] at T
      rw [nI_1]
      exact T
    · rw [gs_beqF g] at T
      rw [nI_1]
      exact T
theorem gs_rings {post : Int32 → Prop} {a1 a2 a3 a4 a5 a6 : Nat → Int32} {E P : Nat} (h2 : gs_N a2 E 12) (h3 : gs_N a3 P 12) (hP : ∀ j, j < 12 → gs_g P j < 12) (hE : ∀ j, j < 12 → gs_g E j < 12) (H : post (nI (gs_rO E P 12 0 0 0))) : wpX_rings post (a1, a2, a3, a4, a5, a6) :=
  ⟨12 + 1, gs_r6 h2 h3 hP hE 12 0 0 0 (by omega) (by decide) H⟩
end
section
/-! cross, groupLinks -/
theorem gs_bltT {a b : Nat} (h : a < b) : Nat.blt a b = true := Nat.ble_eq_true_of_le h
theorem gs_bltF {a b : Nat} (h : b ≤ a) : Nat.blt a b = false := gs_bleF (by omega)
def gs_i1 (b : Bool) : Int32 := bif b then 1 else 0
theorem gs_c50 {post : Int32 → Prop} {a1 a2 a3 a4 a5 a6 : Nat → Int32} {lo hi k l : Nat} (h4 : gs_N a4 lo 6) (h5 : gs_N a5 hi 6) (hk : k < 6) (hl : l < 6) (h : post (gs_i1 (Nat.blt (gs_g lo l) (gs_g lo k) && (Nat.blt (gs_g lo k) (gs_g hi l) && Nat.blt (gs_g hi l) (gs_g hi k))))) : wX_cross_50 post (nI k) (nI l) 0 a1 a2 a3 a4 a5 a6 := by
  unfold wX_cross_50
  rw [nI_clamp (show k < 2 ^ 31 by omega), nI_clamp (show l < 2 ^ 31 by omega), h4 k hk, h4 l hl, h5 k hk, h5 l hl]
  have b1 := gs_g16 lo k
  have b2 := gs_g16 lo l
  have b3 := gs_g16 hi k
  have b4 := gs_g16 hi l
  refine br_t rfl ⟨pk_in l 6 hl, pk_in k 6 hk, pk_le (gs_g lo k) (gs_g lo l) (fun g => ?_) (fun g => ⟨pk_in k 6 hk, pk_in l 6 hl, pk_le (gs_g hi l) (gs_g lo k) (fun g2 => ?_) (fun g2 => ⟨pk_in l 6 hl, pk_in k 6 hk, pk_le (gs_g hi k) (gs_g hi l) (fun g3 => ?_) (fun g3 => ?_)⟩)⟩)⟩
  · rw [gs_bltF g] at h
    exact h
  · rw [gs_bltT g, gs_bltF g2] at h
    exact h
  · rw [gs_bltT g, gs_bltT g2, gs_bltF g3] at h
    exact h
  · rw [gs_bltT g, gs_bltT g2, gs_bltT g3] at h
    exact h
theorem gs_cross {post : Int32 → Prop} {a1 a2 a3 a4 a5 a6 : Nat → Int32} {lo hi k l : Nat} (h4 : gs_N a4 lo 6) (h5 : gs_N a5 hi 6) (hk : k < 6) (hl : l < 6) (h : post (gs_i1 (gs_cr lo hi k l))) : wpX_cross post (a1, a2, a3, a4, a5, a6) (nI k) (nI l) := by
  unfold gs_cr at h
  have b1 := gs_g16 lo k
  have b2 := gs_g16 lo l
  have b3 := gs_g16 hi k
  have b4 := gs_g16 hi l
  have F : (Nat.blt (gs_g lo k) (gs_g lo l) && (Nat.blt (gs_g lo l) (gs_g hi k) && Nat.blt (gs_g hi k) (gs_g hi l))) = false → wX_cross_49 post (nI k) (nI l) a1 a2 a3 a4 a5 a6 := by
    intro e
    rw [e, Bool.false_or] at h
    exact gs_c50 h4 h5 hk hl h
  show vp_in (nI k) 6 ∧ _
  refine ⟨pk_in k 6 hk, pk_in l 6 hl, ?_⟩
  rw [nI_clamp (show k < 2 ^ 31 by omega), nI_clamp (show l < 2 ^ 31 by omega), h4 k hk, h4 l hl, h5 k hk, h5 l hl]
  refine pk_le (gs_g lo l) (gs_g lo k) (fun g => F ?_) (fun g => ⟨pk_in l 6 hl, pk_in k 6 hk, pk_le (gs_g hi k) (gs_g lo l) (fun g2 => F ?_) (fun g2 => ⟨pk_in k 6 hk, pk_in l 6 hl, pk_le (gs_g hi l) (gs_g hi k) (fun g3 => F ?_) (fun g3 => br_f (by decide) ?_)⟩)⟩)
  · rw [gs_bltF g]; rfl
  · rw [gs_bltT g, gs_bltF g2]; rfl
  · rw [gs_bltT g, gs_bltT g2, gs_bltF g3]; rfl
  · rw [gs_bltT g, gs_bltT g2, gs_bltT g3] at h
    exact h
theorem gs_put_N {a : Nat → Int32} {c k l : Nat} (h : gs_N a c 6) : gs_N (upd a k (nI (gs_g c l))) (gs_put c k l) 6 := by
  intro j hj
  have e : gs_g (gs_put c k l) j = bif Nat.beq j k then gs_g c l else gs_g c j := by
    refine gs_mk_g (f := fun j => bif Nat.beq j k then gs_g c l else gs_g c j) (fun y hy => ?_) j hj
    cases Nat.beq y k with
    | true => exact gs_g16 c l
    | false => exact gs_g16 c y
  rw [e]
  by_cases z : j = k
  · rw [z, pk_us, gs_beqT rfl]
    rfl
  · rw [pk_un z, gs_beqF z]
    exact h j hj
theorem gs_g18 {post : St2 → Prop} {J2 J10 : Int32 → (Nat → Int32) → (Nat → Int32) → (Nat → Int32) → (Nat → Int32) → (Nat → Int32) → (Nat → Int32) → Prop} {x1 : Int32} {a1 a2 a3 a4 a5 : Nat → Int32} {lo hi k : Nat} (h4 : gs_N a4 lo 6) (h5 : gs_N a5 hi 6) (hk : k < 6) : ∀ m l c a6, l + m = 6 → gs_N a6 c 6 → (∀ b, gs_N b (gs_gl lo hi k m l c) 6 → J10 (nI (k + 1)) a1 a2 a3 a4 a5 b) → wX_groupLinks_18 post J2 J10 x1 (nI k) (m + 1) (nI l) a1 a2 a3 a4 a5 a6 := by
  intro m
  induction m with
  | zero =>
    intro l c a6 hl h6 H
    exact pk_le 6 l (fun _ => nm_r (nI_1 k) (H a6 h6)) (fun z => absurd z (by omega))
  | succ m ih =>
    intro l c a6 hl h6 H
    have hl6 : l < 6 := by omega
    have H' : ∀ b, gs_N b (gs_gl lo hi k m (l + 1) (gs_sl lo hi k l c)) 6 → J10 (nI (k + 1)) a1 a2 a3 a4 a5 b := H
    have g1 := gs_g16 c k
    have g2 := gs_g16 c l
    refine pk_le 6 l (fun z => absurd z (by omega)) (fun _ => gs_cross h4 h5 hk hl6 ?_)
    rw [nI_clamp (show k < 2 ^ 31 by omega), nI_clamp (show l < 2 ^ 31 by omega), h6 k hk, h6 l hl6, vp_nar_byte, gs_b _ (show gs_g c l < 128 by omega)]
    unfold gs_sl at H'
    cases hc : gs_cr lo hi k l with
    | false =>
      rw [hc] at H'
      exact br_t rfl (nm_r (nI_1 l) (ih (l + 1) c a6 (by omega) h6 H'))
    | true =>
      rw [hc] at H'
      refine br_f (by decide) ⟨pk_in l 6 hl6, pk_in k 6 hk, pk_le (gs_g c k) (gs_g c l) (fun g => nm_r (nI_1 l) (ih (l + 1) c a6 (by omega) h6 ?_)) (fun g => ⟨pk_in l 6 hl6, pk_in k 6 hk, nm_e (nm_r (nI_1 l) (ih (l + 1) (gs_put c k l) _ (by omega) (gs_put_N h6) ?_))⟩)⟩
      · rw [gs_bltF g] at H'
        exact H'
      · rw [gs_bltT g] at H'
        exact H'
theorem gs_g10 {post : St2 → Prop} {J2 : Int32 → (Nat → Int32) → (Nat → Int32) → (Nat → Int32) → (Nat → Int32) → (Nat → Int32) → (Nat → Int32) → Prop} {t : Nat} {a1 a2 a3 a4 a5 : Nat → Int32} {lo hi : Nat} (h4 : gs_N a4 lo 6) (h5 : gs_N a5 hi 6) : ∀ m k c a6, k + m = 6 → gs_N a6 c 6 → (∀ b, gs_N b (gs_gk lo hi m k c) 6 → J2 (nI (t + 1)) a1 a2 a3 a4 a5 b) → wX_groupLinks_10 post J2 (nI t) (m + 1) (nI k) a1 a2 a3 a4 a5 a6 := by
  intro m
  induction m with
  | zero =>
    intro k c a6 hk h6 H
    exact pk_le 6 k (fun _ => nm_r (nI_1 t) (H a6 h6)) (fun z => absurd z (by omega))
  | succ m ih =>
    intro k c a6 hk h6 H
    exact pk_le 6 k (fun z => absurd z (by omega)) (fun _ => ⟨6 + 1, gs_g18 h4 h5 (by omega) 6 0 c a6 (by omega) h6 (fun b hb => ih (k + 1) _ b (by omega) hb H)⟩)
theorem gs_g2 {post : St2 → Prop} {a1 a2 a3 a4 a5 : Nat → Int32} {lo hi : Nat} (h4 : gs_N a4 lo 6) (h5 : gs_N a5 hi 6) : ∀ m t c a6, t + m = 6 → gs_N a6 c 6 → (∀ b, gs_N b (gs_gr6 lo hi m c) 6 → post (a1, a2, a3, a4, a5, b)) → wX_groupLinks_2 post (m + 1) (nI t) a1 a2 a3 a4 a5 a6 := by
  intro m
  induction m with
  | zero =>
    intro t c a6 ht h6 H
    exact pk_le 6 t (fun _ => H a6 h6) (fun z => absurd z (by omega))
  | succ m ih =>
    intro t c a6 ht h6 H
    exact pk_le 6 t (fun z => absurd z (by omega)) (fun _ => ⟨6 + 1, gs_g10 h4 h5 6 0 c a6 (by omega) h6 (fun b hb => ih (t + 1) _ b (by omega) hb H)⟩)
theorem gs_groupLinks {post : St2 → Prop} {a1 a2 a3 a4 a5 a6 : Nat → Int32} {lo hi c : Nat} (h4 : gs_N a4 lo 6) (h5 : gs_N a5 hi 6) (h6 : gs_N a6 c 6) (H : ∀ b, gs_N b (gs_gr6 lo hi 6 c) 6 → post (a1, a2, a3, a4, a5, b)) : wpX_groupLinks post (a1, a2, a3, a4, a5, a6) :=
  ⟨6 + 1, gs_g2 h4 h5 6 0 c a6 (by omega) h6 H⟩
end
section
/-! stubbornGroups, standingApart -/
theorem gs_tb16 : ∀ i, i < 16 → Nat.testBit 65535 i = true := by decide +kernel
theorem gs_nand16 {m : Nat} (t : Nat) (hm : m < 2 ^ 16) : nI m &&& (nI t ^^^ (-1)) = nI (m &&& (65535 ^^^ t)) := by
  apply Int32.toBitVec_inj.1
  show BitVec.ofNat 32 m &&& (BitVec.ofNat 32 t ^^^ BitVec.allOnes 32) = BitVec.ofNat 32 (m &&& (65535 ^^^ t))
  apply BitVec.eq_of_getLsbD_eq
  intro i hi
  rw [BitVec.getLsbD_and, BitVec.getLsbD_xor, BitVec.getLsbD_ofNat, BitVec.getLsbD_ofNat, BitVec.getLsbD_ofNat, BitVec.getLsbD_allOnes, Nat.testBit_and, Nat.testBit_xor]
  rcases Nat.lt_or_ge i 16 with h | h
  · rw [gs_tb16 i h]
    cases m.testBit i <;> cases t.testBit i <;> simp [hi]
  · rw [Nat.testBit_lt_two_pow (Nat.lt_of_lt_of_le hm (Nat.pow_le_pow_right (by decide) h))]
    simp
theorem gs_par {a b : Nat} {A B : Prop} (ha : a < 16) (hb : b < 16) (f : (a + b) % 2 = 0 → A) (g : (a + b) % 2 ≠ 0 → B) : (((nI a + nI b) &&& 1) = 0 → A) ∧ (¬ ((nI a + nI b) &&& 1) = 0 → B) := by
  have e : (nI a + nI b) &&& 1 = nI ((a + b) % 2) := by
    rw [nI_add, pk_andN (show a + b < 2 ^ 32 by omega) 1 (by decide)]
  rw [e]
  exact pk_eq ((a + b) % 2) 0 f g
theorem gs_s35 {post : Int32 → Prop} {J : Int32 → Int32 → Int32 → Prop} {a1 a2 a3 a4 a5 a6 : Nat → Int32} {lo hi c k mo tu z : Nat} (h4 : gs_N a4 lo 6) (h5 : gs_N a5 hi 6) (h6 : gs_N a6 c 6) (hk : k < 6) (H : J (nI (mo ||| z)) (nI (tu ||| (bif Nat.beq ((gs_g lo k + gs_g hi k) % 2) 0 then 2 ^ gs_g c k else 0))) (nI (k + 1))) : wX_stubbornGroups_35 post J (nI tu) (nI k) (nI z) (nI mo) a1 a2 a3 a4 a5 a6 := by
  unfold wX_stubbornGroups_35
  have g16 := gs_g16 c k
  rw [nI_clamp (show k < 2 ^ 31 by omega), h4 k hk, h5 k hk, h6 k hk]
  refine nm_r (gs_or mo z) ⟨pk_in k 6 hk, pk_in k 6 hk, gs_par (gs_g16 _ _) (gs_g16 _ _) (fun g => ⟨pk_in k 6 hk, nm_r (e' := nI (tu ||| 2 ^ gs_g c k)) ?_ (nm_r (nI_1 k) ?_)⟩) (fun g => nm_r (gs_or tu 0) (nm_r (nI_1 k) ?_))⟩
  · rw [gs_shl (by omega), gs_or]
  · rw [gs_beqT g] at H
    exact H
  · rw [gs_beqF g] at H
    exact H
theorem gs_s6 {post : Int32 → Prop} {a1 a2 a3 a4 a5 a6 : Nat → Int32} {lo hi c : Nat} (h4 : gs_N a4 lo 6) (h5 : gs_N a5 hi 6) (h6 : gs_N a6 c 6) : ∀ m k mo tu, k + m = 6 → mo < 2 ^ 16 → (gs_sg lo hi c m k mo tu < 2 ^ 16 → post (nI (gs_sg lo hi c m k mo tu))) → wX_stubbornGroups_6 post a1 a2 a3 a4 a5 a6 (m + 1) (nI mo) (nI tu) (nI k) := by
  intro m
  induction m with
  | zero =>
    intro k mo tu hk hm H
    refine pk_le 6 k (fun _ => ?_) (fun z => absurd z (by omega))
    rw [gs_nand16 tu hm]
    exact H (Nat.lt_of_le_of_lt Nat.and_le_left hm)
  | succ m ih =>
    intro k mo tu hk hm H
    have hk6 : k < 6 := by omega
    have g16 := gs_g16 c k
    have T := ih (k + 1) (mo ||| (bif Nat.beq (gs_g c k) k then 0 else 2 ^ gs_g c k)) (tu ||| (bif Nat.beq ((gs_g lo k + gs_g hi k) % 2) 0 then 2 ^ gs_g c k else 0)) (by omega) (gs_or12 hm (by
      cases Nat.beq (gs_g c k) k with
      | true => exact (by decide : 0 < 2 ^ 16)
      | false => exact gs_pw g16)) H
    refine pk_le 6 k (fun z => absurd z (by omega)) (fun _ => ⟨pk_in k 6 hk6, ?_⟩)
    rw [nI_clamp (show k < 2 ^ 31 by omega), h6 k hk6]
    refine pk_eq (gs_g c k) k (fun g => ?_) (fun g => ⟨pk_in k 6 hk6, ?_⟩)
    · rw [gs_beqT g] at T
      exact gs_s35 (z := 0) h4 h5 h6 hk6 T
    · rw [gs_beqF g] at T
      rw [gs_shl (by omega)]
      exact gs_s35 (z := 2 ^ gs_g c k) h4 h5 h6 hk6 T
theorem gs_stubborn {post : Int32 → Prop} {a1 a2 a3 a4 a5 a6 : Nat → Int32} {lo hi c : Nat} (h4 : gs_N a4 lo 6) (h5 : gs_N a5 hi 6) (h6 : gs_N a6 c 6) (H : gs_sg lo hi c 6 0 0 0 < 2 ^ 16 → post (nI (gs_sg lo hi c 6 0 0 0))) : wpX_stubbornGroups post (a1, a2, a3, a4, a5, a6) :=
  ⟨6 + 1, gs_s6 h4 h5 h6 6 0 0 0 (by omega) (by decide) H⟩
theorem gs_p143 {post : Int32 → Prop} {a1 a2 a3 a4 a5 a6 : Nat → Int32} {A : Nat} (hA : A < 2 ^ 16) : ∀ m x n, x + m = 6 → post (nI (gs_a3 A m x n)) → wX_standingApart_143 post (nI A) a1 a2 a3 a4 a5 a6 (m + 1) (nI n) (nI x) := by
  intro m
  induction m with
  | zero =>
    intro x n hx H
    exact pk_le 6 x (fun _ => H) (fun z => absurd z (by omega))
  | succ m ih =>
    intro x n hx H
    refine pk_le 6 x (fun z => absurd z (by omega)) (fun _ => nm_r (e' := nI (n + gs_bit A x)) ?_ (nm_r (nI_1 x) (ih (x + 1) _ (by omega) H)))
    rw [gs_shr (by omega) (by omega), nI_add]
theorem gs_p129 {post : Int32 → Prop} {a1 a2 a3 a4 a5 a6 : Nat → Int32} {G tw : Nat} (hG : G < 2 ^ 16) (H : post (nI (gs_a3 (G &&& (65535 ^^^ tw)) 6 0 0))) : wX_standingApart_129 post (nI G) (nI tw) a1 a2 a3 a4 a5 a6 :=
  nm_r (gs_nand16 tw hG) ⟨6 + 1, gs_p143 (Nat.lt_of_le_of_lt Nat.and_le_left hG) 6 0 0 (by omega) H⟩
theorem gs_gg16 (E c i : Nat) : gs_gg E c i < 16 := gs_g16 _ _
theorem gs_p58 {post : Int32 → Prop} {a1 a2 a3 a4 a5 a6 : Nat → Int32} {E c G L : Nat} (h2 : gs_N a2 E 12) (h6 : gs_N a6 c 6) (hE : ∀ j, j < 12 → gs_g E j < 12) (hG : G < 2 ^ 16) (hL : L < 17) : ∀ m i on tw be, i + m = 12 → be < 17 → post (nI (gs_a3 (G &&& (65535 ^^^ (gs_a2 E c G m i on tw (be + 1)))) 6 0 0)) → wX_standingApart_58 post (nI G) (nI L) a1 a2 a3 a4 a5 a6 (m + 1) (nI on) (nI tw) (nI be) (nI i) := by
  intro m
  induction m with
  | zero =>
    intro i on tw be hi hbe H
    exact pk_le 12 i (fun _ => gs_p129 hG H) (fun z => absurd z (by omega))
  | succ m ih =>
    intro i on tw be hi hbe H
    have hi12 : i < 12 := by omega
    have hEi := hE i hi12
    have gb := gs_gg16 E c i
    have H' : post (nI (gs_a3 (G &&& (65535 ^^^ (bif Nat.beq (gs_bit G (gs_gg E c i)) 0 then gs_a2 E c G m (i + 1) on tw (be + 1) else bif Nat.beq (gs_gg E c i + 1) (be + 1) then gs_a2 E c G m (i + 1) on tw (gs_gg E c i + 1) else gs_a2 E c G m (i + 1) (on ||| 2 ^ gs_gg E c i) (tw ||| (on &&& 2 ^ gs_gg E c i)) (gs_gg E c i + 1)))) 6 0 0)) := H
    refine pk_le 12 i (fun z => absurd z (by omega)) (fun _ => br_f (nI_pos (by omega)) ⟨pk_in i 12 hi12, ?_⟩)
    rw [nI_clamp (show i < 2 ^ 31 by omega), h2 i hi12, gs_half _ hEi, nI_clamp (show gs_g E i / 2 < 2 ^ 31 by omega), h6 _ (show gs_g E i / 2 < 6 by omega)]
    refine ⟨pk_in (gs_g E i / 2) 6 (by omega), nm_r (e' := nI (gs_gg E c i)) rfl (gs_br (by omega) (by omega) (fun g => nm_r (nI_1 i) (ih (i + 1) on tw be (by omega) hbe ?_)) (fun g => pk_eq (gs_gg E c i) be (fun g2 => nm_r (nI_1 i) (ih (i + 1) on tw (gs_gg E c i) (by omega) (by omega) ?_)) (fun g2 => nm_r (e' := nI (tw ||| (on &&& 2 ^ gs_gg E c i))) ?_ (nm_r (e' := nI (on ||| 2 ^ gs_gg E c i)) ?_ (nm_r (nI_1 i) (ih (i + 1) _ _ (gs_gg E c i) (by omega) (by omega) ?_))))))⟩
    · rw [gs_beqT g] at H'
      exact H'
    · rw [gs_beqF g, gs_beqT (show gs_gg E c i + 1 = be + 1 by omega)] at H'
      exact H'
    · rw [gs_shl (by omega), gs_and, gs_or]
    · rw [gs_shl (by omega), gs_or]
    · rw [gs_beqF g, gs_beqF (show ¬ gs_gg E c i + 1 = be + 1 by omega)] at H'
      exact H'
theorem gs_p4 {post : Int32 → Prop} {a1 a2 a3 a4 a5 a6 : Nat → Int32} {E c G : Nat} (h2 : gs_N a2 E 12) (h6 : gs_N a6 c 6) (hE : ∀ j, j < 12 → gs_g E j < 12) (hG : G < 2 ^ 16) : ∀ m i L, i + m = 12 → L < 17 → post (nI (gs_a3 (G &&& (65535 ^^^ gs_tw E c G (gs_a1 E c G m i L))) 6 0 0)) → wX_standingApart_4 post (nI G) a1 a2 a3 a4 a5 a6 (m + 1) (gs_o L) (nI i) := by
  intro m
  induction m with
  | zero =>
    intro i L hi hL H
    refine pk_le 12 i (fun _ => ?_) (fun z => absurd z (by omega))
    have H' : post (nI (gs_a3 (G &&& (65535 ^^^ gs_tw E c G L)) 6 0 0)) := H
    match L, hL, H' with
    | 0, _, H' => exact ⟨0 + 1, br_f (by decide) (br_t (by decide) (gs_p129 (tw := 0) hG H'))⟩
    | t + 1, hL, H' =>
      rw [gs_o1]
      exact ⟨12 + 1, gs_p58 h2 h6 hE hG (by omega) 12 0 0 0 t (by omega) (by omega) H'⟩
  | succ m ih =>
    intro i L hi hL H
    have hi12 : i < 12 := by omega
    have hEi := hE i hi12
    have gb := gs_gg16 E c i
    have T : wX_standingApart_4 post (nI G) a1 a2 a3 a4 a5 a6 (m + 1) (gs_o (bif Nat.beq (gs_bit G (gs_gg E c i)) 0 then L else gs_gg E c i + 1)) (nI (i + 1)) := by
      refine ih (i + 1) _ (by omega) ?_ H
      cases Nat.beq (gs_bit G (gs_gg E c i)) 0 with
      | true => exact hL
      | false => exact Nat.succ_lt_succ gb
    refine pk_le 12 i (fun z => absurd z (by omega)) (fun _ => ⟨pk_in i 12 hi12, ?_⟩)
    rw [nI_clamp (show i < 2 ^ 31 by omega), h2 i hi12, gs_half _ hEi, nI_clamp (show gs_g E i / 2 < 2 ^ 31 by omega), h6 _ (show gs_g E i / 2 < 6 by omega)]
    refine ⟨pk_in (gs_g E i / 2) 6 (by omega), nm_r (e' := nI (gs_gg E c i)) rfl (gs_br (by omega) (by omega) (fun g => nm_r (nI_1 i) ?_) (fun g => nm_r (nI_1 i) ?_))⟩
    · rw [gs_beqT g] at T
      exact T
    · rw [gs_beqF g] at T
      have T' : wX_standingApart_4 post (nI G) a1 a2 a3 a4 a5 a6 (m + 1) (gs_o (gs_gg E c i + 1)) (nI (i + 1)) := T
      rw [gs_o1] at T'
      exact T'
theorem gs_apart {post : Int32 → Prop} {a1 a2 a3 a4 a5 a6 : Nat → Int32} {E c G : Nat} (h2 : gs_N a2 E 12) (h6 : gs_N a6 c 6) (hE : ∀ j, j < 12 → gs_g E j < 12) (hG : G < 2 ^ 16) (H : post (nI (gs_ap E c G))) : wpX_standingApart post (a1, a2, a3, a4, a5, a6) (nI G) := by
  unfold gs_ap at H
  rw [gs_fN_eq] at H
  exact ⟨12 + 1, gs_p4 h2 h6 hE hG 12 0 0 (by omega) (by omega) H⟩
/-! measure -/
theorem gs_M_eq (r : Nat) : gs_M r = 6 - nI (gs_rO (gs_E r) (gs_P (gs_E r)) 12 0 0 0) + nI (gs_ap (gs_E r) (gs_gr6 (gs_lo (gs_P (gs_E r))) (gs_hi (gs_P (gs_E r))) 6 gs_c0) (gs_sg (gs_lo (gs_P (gs_E r))) (gs_hi (gs_P (gs_E r))) (gs_gr6 (gs_lo (gs_P (gs_E r))) (gs_hi (gs_P (gs_E r))) 6 gs_c0) 6 0 0 0)) := by
  unfold gs_M
  rw [gs_fN_eq, gs_fN_eq, gs_fN_eq, gs_fN_eq, gs_fN_eq, gs_fN_eq]
theorem gs_measure {post : Int32 → St2 → Prop} {a1 a2 a3 a4 a5 a6 : Nat → Int32} {r : Nat} (hk : gs_ok r = true) (hR : gs_R a1 r) (H : ∀ b2 b3 b4 b5 b6, post (gs_M r) (a1, b2, b3, b4, b5, b6)) : wpX_measure post (a1, a2, a3, a4, a5, a6) := by
  obtain ⟨_, k2⟩ := gs_ok_B hk
  have hE : ∀ j, j < 12 → gs_g (gs_E r) j < 12 := fun j hj => (k2 j hj).1
  have hP : ∀ j, j < 12 → gs_g (gs_P (gs_E r)) j < 12 := fun j hj => (k2 j hj).2.1
  refine gs_lineUp hR hk (fun b2 b3 b4 b5 b6 h2 h3 h4 h5 h6 => gs_rings h2 h3 hP hE (gs_groupLinks h4 h5 h6 (fun c6 g6 => gs_stubborn h4 h5 g6 (fun hG => gs_apart h2 g6 hE hG ?_))))
  have t := H b2 b3 b4 b5 c6
  rw [gs_M_eq] at t
  exact t
end
section
/-! the answers over turned rows -/
theorem gs_dA {post : Int32 → St2 → Prop} {a1 a2 a3 a4 a5 a6 : Nat → Int32} {r i j : Nat} (hij : i ≤ j) (hj : j < 5) (hR : gs_R a1 r) (hb : gs_B r) (hk : gs_ok (gs_tn i j r) = true) (H : ∀ b1 b2 b3 b4 b5 b6, gs_R b1 r → post (gs_M (gs_tn i j r)) (b1, b2, b3, b4, b5, b6)) : wpX_distanceAfter post (a1, a2, a3, a4, a5, a6) (nI i) (nI j) := by
  unfold wpX_distanceAfter
  exact gs_isPiece hij hj (br_f (by decide) (gs_turnPiece hij hj hR hb (fun b1 h1 => gs_measure hk h1 (fun b2 b3 b4 b5 b6 => gs_turnPiece hij hj h1 (gs_tn_B hb hij hj) (fun c1 g1 => H c1 b2 b3 b4 b5 b6 (gs_tn_tn hb hij hj g1))))))
theorem gs_c20 {post : Int32 → St2 → Prop} {J : Int32 → Int32 → (Nat → Int32) → (Nat → Int32) → (Nat → Int32) → (Nat → Int32) → (Nat → Int32) → (Nat → Int32) → Prop} {x1 x2 : Int32} {r i : Nat} {q : Nat → Nat → Bool} (hb : gs_B r) (hq : ∀ j, i ≤ j → j < 5 → gs_ok (gs_tn i j r) = true ∧ (gs_M (gs_tn i j r) - x2 = x1 ↔ q i j = true)) : ∀ m j c a1 a2 a3 a4 a5 a6, j + m = 5 → i ≤ j → gs_R a1 r → (∀ b1 b2 b3 b4 b5 b6, gs_R b1 r → J (nI (gs_cj q i m j c)) (nI (i + 1)) b1 b2 b3 b4 b5 b6) → wX_countTurns_20 post J x1 x2 (nI i) (m + 1) (nI c) (nI j) a1 a2 a3 a4 a5 a6 := by
  intro m
  induction m with
  | zero =>
    intro j c a1 a2 a3 a4 a5 a6 hj hij hR H
    exact pk_le 5 j (fun _ => nm_r (nI_1 i) (H a1 a2 a3 a4 a5 a6 hR)) (fun z => absurd z (by omega))
  | succ m ih =>
    intro j c a1 a2 a3 a4 a5 a6 hj hij hR H
    have H' : ∀ b1 b2 b3 b4 b5 b6, gs_R b1 r → J (nI (gs_cj q i m (j + 1) (bif q i j then c + 1 else c))) (nI (i + 1)) b1 b2 b3 b4 b5 b6 := H
    obtain ⟨k1, k2⟩ := hq j hij (by omega)
    refine pk_le 5 j (fun z => absurd z (by omega)) (fun _ => gs_dA hij (by omega) hR hb k1 (fun b1 b2 b3 b4 b5 b6 h1 => ek_if k2 (fun g => nm_r (nI_1 c) (nm_r (nI_1 j) (ih (j + 1) (c + 1) b1 b2 b3 b4 b5 b6 (by omega) (by omega) h1 ?_))) (fun g => nm_r (Int32.add_zero _) (nm_r (nI_1 j) (ih (j + 1) c b1 b2 b3 b4 b5 b6 (by omega) (by omega) h1 ?_)))))
    · rw [g] at H'
      exact H'
    · rw [Bool.eq_false_iff.mpr g] at H'
      exact H'
theorem gs_c10 {post : Int32 → St2 → Prop} {x1 x2 : Int32} {r : Nat} {q : Nat → Nat → Bool} (hb : gs_B r) (hq : ∀ i j, i ≤ j → j < 5 → gs_ok (gs_tn i j r) = true ∧ (gs_M (gs_tn i j r) - x2 = x1 ↔ q i j = true)) : ∀ m i c a1 a2 a3 a4 a5 a6, i + m = 5 → gs_R a1 r → (∀ b1 b2 b3 b4 b5 b6, gs_R b1 r → post (nI (gs_ci q m i c)) (b1, b2, b3, b4, b5, b6)) → wX_countTurns_10 post x1 x2 (m + 1) (nI c) (nI i) a1 a2 a3 a4 a5 a6 := by
  intro m
  induction m with
  | zero =>
    intro i c a1 a2 a3 a4 a5 a6 hi hR H
    exact pk_le 5 i (fun _ => H a1 a2 a3 a4 a5 a6 hR) (fun z => absurd z (by omega))
  | succ m ih =>
    intro i c a1 a2 a3 a4 a5 a6 hi hR H
    exact pk_le 5 i (fun z => absurd z (by omega)) (fun _ => ⟨(5 - i) + 1, gs_c20 hb (hq i) (5 - i) i c a1 a2 a3 a4 a5 a6 (by omega) (by omega) hR (fun b1 b2 b3 b4 b5 b6 h1 => ih (i + 1) _ b1 b2 b3 b4 b5 b6 (by omega) h1 H)⟩)
theorem gs_count {post : Int32 → St2 → Prop} {x1 : Int32} {a1 a2 a3 a4 a5 a6 : Nat → Int32} {r : Nat} {q : Nat → Nat → Bool} (hk : gs_ok r = true) (hR : gs_R a1 r) (hb : gs_B r) (hq : ∀ i j, i ≤ j → j < 5 → gs_ok (gs_tn i j r) = true ∧ (gs_M (gs_tn i j r) - gs_M r = x1 ↔ q i j = true)) (H : ∀ b1 b2 b3 b4 b5 b6, gs_R b1 r → post (nI (gs_ci q 5 0 0)) (b1, b2, b3, b4, b5, b6)) : wpX_countTurns post (a1, a2, a3, a4, a5, a6) x1 := by
  unfold wpX_countTurns
  exact gs_measure hk hR (fun b2 b3 b4 b5 b6 => ⟨5 + 1, gs_c10 hb hq 5 0 0 a1 b2 b3 b4 b5 b6 (by omega) hR H⟩)
theorem gs_goodTurns {post : Int32 → St2 → Prop} {a1 a2 a3 a4 a5 a6 : Nat → Int32} {r : Nat} {q : Nat → Nat → Bool} (hk : gs_ok r = true) (hR : gs_R a1 r) (hb : gs_B r) (hq : ∀ i j, i ≤ j → j < 5 → gs_ok (gs_tn i j r) = true ∧ (gs_M (gs_tn i j r) - gs_M r = -1 ↔ q i j = true)) (H : ∀ b1 b2 b3 b4 b5 b6, gs_R b1 r → post (nI (gs_ci q 5 0 0)) (b1, b2, b3, b4, b5, b6)) : wpX_goodTurns post (a1, a2, a3, a4, a5, a6) := by
  unfold wpX_goodTurns
  exact gs_count hk hR hb hq (fun b1 b2 b3 b4 b5 b6 h1 => H b1 b2 b3 b4 b5 b6 h1)
theorem gs_distance {post : Int32 → St2 → Prop} {a1 a2 a3 a4 a5 a6 : Nat → Int32} {r : Nat} (hk : gs_ok r = true) (hR : gs_R a1 r) (H : ∀ b2 b3 b4 b5 b6, post (gs_M r) (a1, b2, b3, b4, b5, b6)) : wpX_distance post (a1, a2, a3, a4, a5, a6) := by
  unfold wpX_distance
  exact gs_measure hk hR (fun b2 b3 b4 b5 b6 => H b2 b3 b4 b5 b6)
/-! the first good turn -/
theorem gs_8 (i j : Nat) : 8 * nI i + nI j = nI (8 * i + j) := by
  rw [show 8 * nI i = nI (8 * i) from pk_mul 8 i, nI_add]
theorem gs_f14 {post : Int32 → St2 → Prop} {J : Int32 → (Nat → Int32) → (Nat → Int32) → (Nat → Int32) → (Nat → Int32) → (Nat → Int32) → (Nat → Int32) → Prop} {x1 : Int32} {r i : Nat} {q : Nat → Nat → Bool} (hb : gs_B r) (hq : ∀ j, i ≤ j → j < 5 → gs_ok (gs_tn i j r) = true ∧ (x1 ≤ gs_M (gs_tn i j r) ↔ q i j = false)) : ∀ m j a1 a2 a3 a4 a5 a6, j + m = 5 → i ≤ j → gs_R a1 r → (gs_fj q i m j = 99 → ∀ b1 b2 b3 b4 b5 b6, gs_R b1 r → J (nI (i + 1)) b1 b2 b3 b4 b5 b6) → (gs_fj q i m j ≠ 99 → ∀ b1 b2 b3 b4 b5 b6, gs_R b1 r → post (nI (gs_fj q i m j)) (b1, b2, b3, b4, b5, b6)) → wX_firstGood_14 post J x1 (nI i) (m + 1) (nI j) a1 a2 a3 a4 a5 a6 := by
  intro m
  induction m with
  | zero =>
    intro j a1 a2 a3 a4 a5 a6 hj hij hR Hn Hs
    exact pk_le 5 j (fun _ => nm_r (nI_1 i) (Hn rfl a1 a2 a3 a4 a5 a6 hR)) (fun z => absurd z (by omega))
  | succ m ih =>
    intro j a1 a2 a3 a4 a5 a6 hj hij hR Hn Hs
    have e : gs_fj q i (m + 1) j = bif q i j then 8 * i + j else gs_fj q i m (j + 1) := rfl
    rw [e] at Hn Hs
    obtain ⟨k1, k2⟩ := hq j hij (by omega)
    refine pk_le 5 j (fun z => absurd z (by omega)) (fun _ => gs_dA hij (by omega) hR hb k1 (fun b1 b2 b3 b4 b5 b6 h1 => ek_if k2 (fun g => nm_r (nI_1 j) (ih (j + 1) b1 b2 b3 b4 b5 b6 (by omega) (by omega) h1 ?_ ?_)) (fun g => ?_)))
    · rw [g] at Hn
      exact Hn
    · rw [g] at Hs
      exact Hs
    · rw [show q i j = true from (Bool.not_eq_false _).mp g] at Hs
      have t := Hs (show 8 * i + j ≠ 99 by omega) b1 b2 b3 b4 b5 b6 h1
      rw [gs_8]
      exact t
theorem gs_f7 {post : Int32 → St2 → Prop} {x1 : Int32} {r : Nat} {q : Nat → Nat → Bool} (hb : gs_B r) (hq : ∀ i j, i ≤ j → j < 5 → gs_ok (gs_tn i j r) = true ∧ (x1 ≤ gs_M (gs_tn i j r) ↔ q i j = false)) : ∀ m i a1 a2 a3 a4 a5 a6, i + m = 5 → gs_R a1 r → (gs_fi q m i = 99 → ∀ b1 b2 b3 b4 b5 b6, gs_R b1 r → post (-1) (b1, b2, b3, b4, b5, b6)) → (gs_fi q m i ≠ 99 → ∀ b1 b2 b3 b4 b5 b6, gs_R b1 r → post (nI (gs_fi q m i)) (b1, b2, b3, b4, b5, b6)) → wX_firstGood_7 post x1 (m + 1) (nI i) a1 a2 a3 a4 a5 a6 := by
  intro m
  induction m with
  | zero =>
    intro i a1 a2 a3 a4 a5 a6 hi hR Hn Hs
    exact pk_le 5 i (fun _ => Hn rfl a1 a2 a3 a4 a5 a6 hR) (fun z => absurd z (by omega))
  | succ m ih =>
    intro i a1 a2 a3 a4 a5 a6 hi hR Hn Hs
    have e : gs_fi q (m + 1) i = bif Nat.beq (gs_fj q i (5 - i) i) 99 then gs_fi q m (i + 1) else gs_fj q i (5 - i) i := rfl
    rw [e] at Hn Hs
    refine pk_le 5 i (fun z => absurd z (by omega)) (fun _ => ⟨(5 - i) + 1, gs_f14 hb (hq i) (5 - i) i a1 a2 a3 a4 a5 a6 (by omega) (by omega) hR (fun g b1 b2 b3 b4 b5 b6 h1 => ih (i + 1) b1 b2 b3 b4 b5 b6 (by omega) h1 ?_ ?_) (fun g => ?_)⟩)
    · rw [gs_beqT g] at Hn
      exact Hn
    · rw [gs_beqT g] at Hs
      exact Hs
    · rw [gs_beqF g] at Hs
      exact Hs g
def gs_fg (q : Nat → Nat → Bool) : Int32 := bif Nat.beq (gs_fi q 5 0) 99 then -1 else nI (gs_fi q 5 0)
theorem gs_firstGood {post : Int32 → St2 → Prop} {a1 a2 a3 a4 a5 a6 : Nat → Int32} {r : Nat} {q : Nat → Nat → Bool} (hk : gs_ok r = true) (hR : gs_R a1 r) (hb : gs_B r) (hq : ∀ i j, i ≤ j → j < 5 → gs_ok (gs_tn i j r) = true ∧ (gs_M r ≤ gs_M (gs_tn i j r) ↔ q i j = false)) (H : ∀ b1 b2 b3 b4 b5 b6, gs_R b1 r → post (gs_fg q) (b1, b2, b3, b4, b5, b6)) : wpX_firstGood post (a1, a2, a3, a4, a5, a6) := by
  unfold gs_fg at H
  unfold wpX_firstGood
  refine gs_measure hk hR (fun b2 b3 b4 b5 b6 => ⟨5 + 1, gs_f7 hb hq 5 0 a1 b2 b3 b4 b5 b6 (by omega) hR (fun g => ?_) (fun g => ?_)⟩)
  · rw [gs_beqT g] at H
    exact H
  · rw [gs_beqF g] at H
    exact H
/-! signs -/
theorem gs_leT {x y z : Int32} (h : x ≤ y) (g : y ≤ z) : x ≤ z := by
  rw [Int32.le_iff_toInt_le] at h g ⊢
  omega
theorem gs_leN {x y : Int32} (h : ¬ x ≤ y) : y ≤ x := by
  rw [Int32.le_iff_toInt_le] at h ⊢
  omega
theorem gs_ltN {x y : Int32} (h : x ≤ y) : ¬ y < x := by
  rw [Int32.le_iff_toInt_le] at h
  rw [Int32.lt_iff_toInt_lt]
  omega
theorem gs_best5 {post : Int32 → St2 → Prop} {r : Nat} (hb : gs_B r) (hk : ∀ x, x < 32 → gs_ok (gs_fl x r) = true) (H : ∀ y b1 b2 b3 b4 b5 b6, gs_R b1 r → y ≤ gs_M (gs_fl 0 r) → post y (b1, b2, b3, b4, b5, b6)) : ∀ m x y a1 a2 a3 a4 a5 a6, x + m = 32 → gs_R a1 r → (1 ≤ x → y ≤ gs_M (gs_fl 0 r)) → wX_bestSigns_5 post (m + 1) y (nI x) a1 a2 a3 a4 a5 a6 := by
  intro m
  induction m with
  | zero =>
    intro x y a1 a2 a3 a4 a5 a6 hx hR hy
    exact pk_le 32 x (fun _ => H y a1 a2 a3 a4 a5 a6 hR (hy (by omega))) (fun z => absurd z (by omega))
  | succ m ih =>
    intro x y a1 a2 a3 a4 a5 a6 hx hR hy
    have hx32 : x < 32 := by omega
    refine pk_le 32 x (fun z => absurd z (by omega)) (fun _ => gs_flipAll hx32 hR hb (fun b1 h1 => gs_measure (hk x hx32) h1 (fun b2 b3 b4 b5 b6 => gs_flipAll hx32 h1 (gs_fl_B hb) (fun c1 g1 => br_c (fun g => nm_r (nI_1 x) (ih (x + 1) y c1 b2 b3 b4 b5 b6 (by omega) (gs_fl_fl hb g1) (fun _ => ?_))) (fun g => nm_r (nI_1 x) (ih (x + 1) _ c1 b2 b3 b4 b5 b6 (by omega) (gs_fl_fl hb g1) (fun _ => ?_)))))))
    · by_cases e : x = 0
      · rw [e] at g
        exact g
      · exact hy (by omega)
    · by_cases e : x = 0
      · rw [e]
        exact Int32.le_refl _
      · exact gs_leT (gs_leN g) (hy (by omega))
theorem gs_bestSigns {post : Int32 → St2 → Prop} {a1 a2 a3 a4 a5 a6 : Nat → Int32} {r : Nat} (hR : gs_R a1 r) (hb : gs_B r) (hk : ∀ x, x < 32 → gs_ok (gs_fl x r) = true) (H : ∀ y b1 b2 b3 b4 b5 b6, gs_R b1 r → y ≤ gs_M (gs_fl 0 r) → post y (b1, b2, b3, b4, b5, b6)) : wpX_bestSigns post (a1, a2, a3, a4, a5, a6) :=
  ⟨32 + 1, gs_best5 hb hk H 32 0 12 a1 a2 a3 a4 a5 a6 (by omega) hR (fun z => absurd z (by omega))⟩
theorem gs_worst4 {post : Int32 → St2 → Prop} {r : Nat} (hb : gs_B r) (hk : ∀ x, x < 32 → gs_ok (gs_fl x r) = true) (H : ∀ y b1 b2 b3 b4 b5 b6, gs_R b1 r → gs_M (gs_fl 0 r) ≤ y → post y (b1, b2, b3, b4, b5, b6)) : ∀ m x y a1 a2 a3 a4 a5 a6, x + m = 32 → gs_R a1 r → (1 ≤ x → gs_M (gs_fl 0 r) ≤ y) → wX_worstSigns_4 post (m + 1) y (nI x) a1 a2 a3 a4 a5 a6 := by
  intro m
  induction m with
  | zero =>
    intro x y a1 a2 a3 a4 a5 a6 hx hR hy
    exact pk_le 32 x (fun _ => H y a1 a2 a3 a4 a5 a6 hR (hy (by omega))) (fun z => absurd z (by omega))
  | succ m ih =>
    intro x y a1 a2 a3 a4 a5 a6 hx hR hy
    have hx32 : x < 32 := by omega
    refine pk_le 32 x (fun z => absurd z (by omega)) (fun _ => gs_flipAll hx32 hR hb (fun b1 h1 => gs_measure (hk x hx32) h1 (fun b2 b3 b4 b5 b6 => gs_flipAll hx32 h1 (gs_fl_B hb) (fun c1 g1 => br_c (fun g => nm_r (nI_1 x) (ih (x + 1) y c1 b2 b3 b4 b5 b6 (by omega) (gs_fl_fl hb g1) (fun _ => ?_))) (fun g => nm_r (nI_1 x) (ih (x + 1) _ c1 b2 b3 b4 b5 b6 (by omega) (gs_fl_fl hb g1) (fun _ => ?_)))))))
    · by_cases e : x = 0
      · rw [e] at g
        exact g
      · exact hy (by omega)
    · by_cases e : x = 0
      · rw [e]
        exact Int32.le_refl _
      · exact gs_leT (hy (by omega)) (gs_leN g)
theorem gs_worstSigns {post : Int32 → St2 → Prop} {a1 a2 a3 a4 a5 a6 : Nat → Int32} {r : Nat} (hR : gs_R a1 r) (hb : gs_B r) (hk : ∀ x, x < 32 → gs_ok (gs_fl x r) = true) (H : ∀ y b1 b2 b3 b4 b5 b6, gs_R b1 r → gs_M (gs_fl 0 r) ≤ y → post y (b1, b2, b3, b4, b5, b6)) : wpX_worstSigns post (a1, a2, a3, a4, a5, a6) :=
  ⟨32 + 1, gs_worst4 hb hk H 32 0 0 a1 a2 a3 a4 a5 a6 (by omega) hR (fun z => absurd z (by omega))⟩
end
section
/-! the sixteen rows that the law meets: the tables, by the kernel -/
def gs_same (a b i j : Nat) : Bool := Nat.beq a i && Nat.beq b j
/-- over all pieces -/
def gs_pcs (f : Nat → Nat → Bool) : Bool := gs_all (fun j => gs_all (fun i => f i j) (j + 1)) 5
theorem gs_pcs_at {f : Nat → Nat → Bool} (h : gs_pcs f = true) {i j : Nat} (hij : i ≤ j) (hj : j < 5) : f i j = true := gs_all_at (gs_all_at h j hj) i (by omega)
theorem gs_tabM : gs_pcs (fun a b => gs_fN (gs_tn a b gs_id) (fun r => gs_ok r && (decide (gs_M r = 1) && (decide (gs_M (gs_fl 0 r) = 1) && gs_pcs (fun i j => gs_fN (gs_tn i j r) (fun s => gs_ok s && (decide (gs_M s - 1 = -1 ↔ gs_same a b i j = true) && decide (1 ≤ gs_M s ↔ gs_same a b i j = false)))))))) = true := by decide +kernel
theorem gs_tabF : gs_pcs (fun a b => gs_fN (gs_tn a b gs_id) (fun r => gs_all (fun x => gs_ok (gs_fl x r)) 32)) = true := by decide +kernel
theorem gs_tab0 : (gs_ok gs_id && (decide (gs_M gs_id = 0) && (decide (gs_M (gs_fl 0 gs_id) = 0) && gs_pcs (fun i j => gs_fN (gs_tn i j gs_id) (fun s => gs_ok s && (decide (gs_M s - 0 = -1 ↔ false = true) && decide (0 ≤ gs_M s ↔ false = false))))))) = true := by decide +kernel
theorem gs_tabF0 : gs_all (fun x => gs_ok (gs_fl x gs_id)) 32 = true := by decide +kernel
theorem gs_tabQ : gs_pcs (fun a b => Nat.beq (gs_ci (gs_same a b) 5 0 0) 1 && (Nat.beq (gs_fi (gs_same a b) 5 0) (8 * a + b) && Nat.beq (gs_bk (gs_tn a b gs_id) 6 0 0) 2)) = true := by decide +kernel
theorem gs_tabQ0 : gs_ci (fun _ _ => false) 5 0 0 = 0 ∧ gs_fg (fun _ _ => false) = -1 ∧ gs_bk gs_id 6 0 0 = 0 := by decide +kernel
/-- all that the law asks of a row: its distance, its good turns -/
def gs_Good (r : Nat) (now : Int32) (q : Nat → Nat → Bool) : Prop := gs_ok r = true ∧ gs_M r = now ∧ gs_M (gs_fl 0 r) = now ∧ (∀ i j, i ≤ j → j < 5 → gs_ok (gs_tn i j r) = true ∧ (gs_M (gs_tn i j r) - now = -1 ↔ q i j = true) ∧ (now ≤ gs_M (gs_tn i j r) ↔ q i j = false)) ∧ ∀ x, x < 32 → gs_ok (gs_fl x r) = true
theorem gs_GP {a b : Nat} (hab : a ≤ b) (hb : b < 5) : gs_Good (gs_tn a b gs_id) 1 (gs_same a b) := by
  have t := gs_pcs_at gs_tabM hab hb
  have t2 := gs_pcs_at gs_tabF hab hb
  rw [gs_fN_eq] at t t2
  rw [Bool.and_eq_true, Bool.and_eq_true, Bool.and_eq_true] at t
  refine ⟨t.1, of_decide_eq_true t.2.1, of_decide_eq_true t.2.2.1, fun i j hij hj => ?_, gs_all_at t2⟩
  have u := gs_pcs_at t.2.2.2 hij hj
  rw [gs_fN_eq, Bool.and_eq_true, Bool.and_eq_true] at u
  exact ⟨u.1, of_decide_eq_true u.2.1, of_decide_eq_true u.2.2⟩
theorem gs_GI : gs_Good gs_id 0 (fun _ _ => false) := by
  have t := gs_tab0
  rw [Bool.and_eq_true, Bool.and_eq_true, Bool.and_eq_true] at t
  refine ⟨t.1, of_decide_eq_true t.2.1, of_decide_eq_true t.2.2.1, fun i j hij hj => ?_, gs_all_at gs_tabF0⟩
  have u := gs_pcs_at t.2.2.2 hij hj
  rw [gs_fN_eq, Bool.and_eq_true, Bool.and_eq_true] at u
  exact ⟨u.1, of_decide_eq_true u.2.1, of_decide_eq_true u.2.2⟩
theorem gs_QP {a b : Nat} (hab : a ≤ b) (hb : b < 5) : nI (gs_ci (gs_same a b) 5 0 0) = 1 ∧ gs_fg (gs_same a b) = nI (8 * a + b) ∧ nI (gs_bk (gs_tn a b gs_id) 6 0 0) = 2 := by
  have t := gs_pcs_at gs_tabQ hab hb
  rw [Bool.and_eq_true, Bool.and_eq_true] at t
  have e1 := Nat.eq_of_beq_eq_true t.1
  have e2 := Nat.eq_of_beq_eq_true t.2.1
  have e3 := Nat.eq_of_beq_eq_true t.2.2
  refine ⟨by rw [e1]; rfl, ?_, by rw [e3]; rfl⟩
  unfold gs_fg
  rw [e2, gs_beqF (show ¬ 8 * a + b = 99 by omega)]
  rfl
end
section
/-! sort -/
theorem gs_g1 {r : Nat} {now : Int32} {q : Nat → Nat → Bool} (h : gs_Good r now q) : gs_B r := fun p hp => ((gs_ok_B h.1).1 p hp).1
theorem gs_fgood {post : Int32 → St2 → Prop} {a1 a2 a3 a4 a5 a6 : Nat → Int32} {r : Nat} {now : Int32} {q : Nat → Nat → Bool} (hG : gs_Good r now q) (hR : gs_R a1 r) (H : ∀ b1 b2 b3 b4 b5 b6, gs_R b1 r → post (gs_fg q) (b1, b2, b3, b4, b5, b6)) : wpX_firstGood post (a1, a2, a3, a4, a5, a6) :=
  gs_firstGood hG.1 hR (gs_g1 hG) (fun i j hij hj => ⟨(hG.2.2.2.1 i j hij hj).1, by rw [hG.2.1]; exact (hG.2.2.2.1 i j hij hj).2.2⟩) H
theorem gs_sortI {post : Int32 → St2 → Prop} {x1 x2 : Int32} (H : ∀ b1 b2 b3 b4 b5 b6, gs_R b1 gs_id → post x2 (b1, b2, b3, b4, b5, b6)) : ∀ m k a1 a2 a3 a4 a5 a6, k + m = 9 → gs_R a1 gs_id → wX_sort_4 post x1 (m + 1) x2 (nI k) a1 a2 a3 a4 a5 a6 := by
  intro m
  induction m with
  | zero =>
    intro k a1 a2 a3 a4 a5 a6 hk hR
    exact br_c (fun _ => H a1 a2 a3 a4 a5 a6 hR) (fun _ => pk_le 9 k (fun _ => H a1 a2 a3 a4 a5 a6 hR) (fun z => absurd z (by omega)))
  | succ m ih =>
    intro k a1 a2 a3 a4 a5 a6 hk hR
    refine br_c (fun _ => H a1 a2 a3 a4 a5 a6 hR) (fun _ => pk_le 9 k (fun z => absurd z (by omega)) (fun _ => gs_fgood gs_GI hR (fun b1 b2 b3 b4 b5 b6 h1 => ?_)))
    rw [gs_tabQ0.2.1]
    exact br_t (by decide) (nm_r (nI_1 k) (ih (k + 1) b1 b2 b3 b4 b5 b6 (by omega) h1))
theorem gs_t83 : ∀ a, a < 5 → ∀ b, b < 5 → nI (8 * a + b) >>> ((3 : Int32) &&& 31) = nI a ∧ nI (8 * a + b) &&& 7 = nI b := by decide +kernel
theorem gs_sort0 {post : Int32 → St2 → Prop} {a1 a2 a3 a4 a5 a6 : Nat → Int32} {n : Int32} (hn : n ≤ 0) (H : post 0 (a1, a2, a3, a4, a5, a6)) : wpX_sort post (a1, a2, a3, a4, a5, a6) n :=
  ⟨0 + 1, br_t hn H⟩
theorem gs_sortId {post : Int32 → St2 → Prop} {a1 a2 a3 a4 a5 a6 : Nat → Int32} {n : Int32} (hR : gs_R a1 gs_id) (H : ∀ b1 b2 b3 b4 b5 b6, gs_R b1 gs_id → post 0 (b1, b2, b3, b4, b5, b6)) : wpX_sort post (a1, a2, a3, a4, a5, a6) n :=
  ⟨9 + 1, gs_sortI H 9 0 a1 a2 a3 a4 a5 a6 (by omega) hR⟩
theorem gs_sortP {post : Int32 → St2 → Prop} {a1 a2 a3 a4 a5 a6 : Nat → Int32} {n : Int32} {a b : Nat} (hab : a ≤ b) (hb : b < 5) (hn : ¬ n ≤ 0) (hR : gs_R a1 (gs_tn a b gs_id)) (H : ∀ b1 b2 b3 b4 b5 b6, gs_R b1 gs_id → post 1 (b1, b2, b3, b4, b5, b6)) : wpX_sort post (a1, a2, a3, a4, a5, a6) n := by
  refine ⟨(8 + 1) + 1, br_f hn (br_f (by decide) (gs_fgood (gs_GP hab hb) hR (fun b1 b2 b3 b4 b5 b6 h1 => ?_)))⟩
  rw [(gs_QP hab hb).2.1, (gs_t83 a (by omega) b hb).1, (gs_t83 a (by omega) b hb).2]
  refine br_f (nI_pos (by omega)) (gs_turnPiece hab hb h1 (gs_tn_B gs_id_B hab hb) (fun c1 g1 => nm_r (e' := 1) (by decide) (nm_r (e' := nI 1) (by decide) ?_)))
  exact gs_sortI H 8 1 c1 b2 b3 b4 b5 b6 (by omega) (gs_tn_tn gs_id_B hab hb g1)
/-! the law, from its end -/
theorem gs_155 {post : Int32 → St0 → Prop} (H : post 1 ()) {mc ms kc ks : Nat} {x2 x3 x7 x8 x9 x10 z0 : Int32} {a1 a2 a3 a4 a5 a6 : Nat → Int32} {r r' : Nat} {q : Nat → Nat → Bool} (hR : gs_R a1 r) (hG : gs_Good r x8 q) (hat : ∀ ψ : Int32 → Prop, ψ x7 → wpX_at ψ (a1, a2, a3, a4, a5, a6) x2) (h9 : nI (gs_bk r 6 0 0) = x9) (hc : nI (gs_ci q 5 0 0) = x8) (hf : gs_fg q = x10)
    (hs : ∀ (ψ : Int32 → St2 → Prop) (b1 b2 b3 b4 b5 b6 : Nat → Int32), gs_R b1 r → (∀ c1 c2 c3 c4 c5 c6, gs_R c1 r' → ψ z0 (c1, c2, c3, c4, c5, c6)) → wpX_sort ψ (b1, b2, b3, b4, b5, b6) x3) (hk' : gs_ok r' = true) (hM' : gs_M r' = x8 - z0) : wL_lawOf_155 post mc ms x2 x3 x7 x8 x9 x10 z0 kc ks a1 a2 a3 a4 a5 a6 := by
  have hB := gs_g1 hG
  obtain ⟨g1, g2, g3, g4, g5⟩ := hG
  unfold wL_lawOf_155
  refine hat _ (br_t rfl (gs_distance g1 hR (fun b2 b3 b4 b5 b6 => br_t g2 (gs_breaks hR hB (br_t h9 (gs_goodTurns g1 hR hB (fun i j hij hj => ⟨(g4 i j hij hj).1, by rw [g2]; exact (g4 i j hij hj).2.1⟩) (fun c1 c2 c3 c4 c5 c6 hc1 => br_t hc (gs_firstGood g1 hc1 hB (fun i j hij hj => ⟨(g4 i j hij hj).1, by rw [g2]; exact (g4 i j hij hj).2.2⟩) (fun d1 d2 d3 d4 d5 d6 hd1 => br_t hf (gs_bestSigns hd1 hB g5 (fun y e1 e2 e3 e4 e5 e6 he1 hy => br_f ?_ (gs_worstSigns he1 hB g5 (fun w f1 f2 f3 f4 f5 f6 hf1 hw => br_f ?_ (hs _ f1 f2 f3 f4 f5 f6 hf1 (fun i1 i2 i3 i4 i5 i6 hi1 => br_t rfl (gs_distance hk' hi1 (fun _ _ _ _ _ => br_t hM' H)))))))))))))))))
  · rw [g3] at hy
    exact gs_ltN hy
  · rw [g3] at hw
    exact gs_ltN hw
/-- not a piece -/
theorem gs_98n {post : Int32 → St0 → Prop} (H : post 1 ()) {mc ms kc ks : Nat} {x0 x1 x2 x3 x7 : Int32} {a1 a2 a3 a4 a5 a6 : Nat → Int32} (hR : gs_R a1 gs_id) (hat : ∀ ψ : Int32 → Prop, ψ x7 → wpX_at ψ (a1, a2, a3, a4, a5, a6) x2) : wL_lawOf_98 post mc ms x0 x1 x2 x3 0 x7 kc ks a1 a2 a3 a4 a5 a6 := by
  have t : wL_lawOf_154 post mc ms x2 x3 x7 0 0 (-1) kc ks a1 a2 a3 a4 a5 a6 := by
    unfold wL_lawOf_154
    exact gs_155 (r := gs_id) (r' := gs_id) H hR gs_GI hat (by rw [gs_tabQ0.2.2]; rfl) (by rw [gs_tabQ0.1]; rfl) gs_tabQ0.2.1 (fun ψ b1 b2 b3 b4 b5 b6 h1 K => gs_sortId h1 K) gs_GI.1 (by rw [gs_GI.2.1]; rfl)
  exact br_t rfl (br_t rfl (br_t rfl (br_t rfl t)))
/-- a piece -/
theorem gs_98p {post : Int32 → St0 → Prop} (H : post 1 ()) {mc ms kc ks : Nat} {x2 x3 x7 : Int32} {a b : Nat} {a1 a2 a3 a4 a5 a6 : Nat → Int32} (hab : a ≤ b) (hb : b < 5) (hR : gs_R a1 (gs_tn a b gs_id)) (hat : ∀ ψ : Int32 → Prop, ψ x7 → wpX_at ψ (a1, a2, a3, a4, a5, a6) x2) : wL_lawOf_98 post mc ms (nI a) (nI b) x2 x3 1 x7 kc ks a1 a2 a3 a4 a5 a6 := by
  obtain ⟨q1, q2, q3⟩ := gs_QP hab hb
  have n1 : ¬ (1 : Int32) = 0 := by decide
  refine br_f n1 (br_f n1 (br_f n1 (br_f n1 (br_c (fun g => ?_) (fun g => ?_)))))
  · unfold wL_lawOf_154
    exact gs_155 (r' := gs_tn a b gs_id) H hR (gs_GP hab hb) hat q3 q1 (by rw [gs_8]; exact q2) (fun ψ b1 b2 b3 b4 b5 b6 h1 K => gs_sort0 g (K b1 b2 b3 b4 b5 b6 h1)) (gs_GP hab hb).1 (by rw [(gs_GP hab hb).2.1]; rfl)
  · exact gs_155 (r' := gs_id) H hR (gs_GP hab hb) hat q3 q1 (by rw [gs_8]; exact q2) (fun ψ b1 b2 b3 b4 b5 b6 h1 K => gs_sortP hab hb g h1 K) gs_GI.1 (by rw [gs_GI.2.1]; rfl)
theorem gs_o4 : ∀ w, w < 5 → gs_v (10 - (w + 6)) = -(nI w + 1) := by decide +kernel
theorem gs_o6 : ∀ w, w < 5 → gs_v (w + 6) = nI w + 1 := by decide +kernel
/-- where a place is asked for -/
theorem gs_pl (x : Int32) : (x < 0 ∨ 4 < x) ∨ ∃ t : Nat, t < 5 ∧ x = nI t := by
  rcases pk_ix x (n := 5) (by omega) with h | h | h
  · exact Or.inl (Or.inl h)
  · refine Or.inl (Or.inr ?_)
    have h' : (5 : Int32) ≤ x := h
    rw [Int32.le_iff_toInt_le] at h'
    rw [Int32.lt_iff_toInt_lt]
    have e4 : (4 : Int32).toInt = 4 := by decide
    have e5 : (5 : Int32).toInt = 5 := by decide
    omega
  · exact Or.inr h
/-- behind the turn: the place's flag, then what is due there -/
theorem gs_tail {post : Int32 → St0 → Prop} {mc ms kc ks : Nat} {x0 x1 x2 x3 x5 : Int32} {a1 a2 a3 a4 a5 a6 : Nat → Int32}
    (h0 : (∀ ψ : Int32 → Prop, ψ 0 → wpX_at ψ (a1, a2, a3, a4, a5, a6) x2) → wL_lawOf_98 post mc ms x0 x1 x2 x3 x5 0 kc ks a1 a2 a3 a4 a5 a6) (h1 : ∀ t, t < 5 → x2 = nI t → wL_lawOf_58 post mc ms x0 x1 (nI t) x3 x5 1 kc ks a1 a2 a3 a4 a5 a6) :
    (x2 < 0 → wL_lawOf_57 post mc ms x0 x1 x2 x3 x5 kc ks a1 a2 a3 a4 a5 a6) ∧ (¬ x2 < 0 → ((4 < x2 → wL_lawOf_57 post mc ms x0 x1 x2 x3 x5 kc ks a1 a2 a3 a4 a5 a6) ∧ (¬ 4 < x2 → wL_lawOf_58 post mc ms x0 x1 x2 x3 x5 1 kc ks a1 a2 a3 a4 a5 a6))) := by
  have F : (x2 < 0 ∨ 4 < x2) → wL_lawOf_57 post mc ms x0 x1 x2 x3 x5 kc ks a1 a2 a3 a4 a5 a6 := fun g => by
    unfold wL_lawOf_57
    exact br_t rfl (h0 (fun ψ k => gs_noAt g k))
  refine br_c (fun g => F (Or.inl g)) (fun g => br_c (fun g2 => F (Or.inr g2)) (fun g2 => ?_))
  rcases gs_pl x2 with h | ⟨t, ht, e⟩
  · exact absurd h (fun z => z.elim g g2)
  · have k := h1 t ht e
    rw [e]
    exact k
theorem gs_28n {post : Int32 → St0 → Prop} (H : post 1 ()) {mc ms kc ks : Nat} {x0 x1 x2 x3 : Int32} {a1 a2 a3 a4 a5 a6 : Nat → Int32} (hn : x0 < 0 ∨ x1 < x0 ∨ 4 < x1) (hR : gs_R a1 gs_id) : wL_lawOf_28 post mc ms x0 x1 x2 x3 0 kc ks a1 a2 a3 a4 a5 a6 := by
  unfold wL_lawOf_28
  unfold wpX_turn
  refine gs_noPiece hn (br_t rfl (br_t rfl (gs_tail (fun hat => gs_98n H hR hat) (fun t ht e => br_f (by decide) (br_t rfl ?_)))))
  unfold wL_lawOf_95
  refine gs_98n H hR (fun ψ k => gs_at ht ?_)
  rw [hR t ht, gs_id_g t ht, gs_o6 t ht]
  exact k
theorem gs_28p {post : Int32 → St0 → Prop} (H : post 1 ()) {mc ms kc ks : Nat} {x2 x3 : Int32} {a b : Nat} {a1 a2 a3 a4 a5 a6 : Nat → Int32} (hab : a ≤ b) (hb : b < 5) (hR : gs_R a1 gs_id) : wL_lawOf_28 post mc ms (nI a) (nI b) x2 x3 1 kc ks a1 a2 a3 a4 a5 a6 := by
  unfold wL_lawOf_28
  unfold wpX_turn
  refine gs_isPiece hab hb (br_f (by decide) (gs_turnPiece hab hb hR gs_id_B (fun b1 h1 => br_t rfl (gs_tail (fun hat => gs_98p H hab hb h1 hat) (fun t ht e => br_f (by decide) (br_f (by decide) ?_))))))
  have out : (t < a ∨ b < t) → wL_lawOf_95 post mc ms (nI a) (nI b) (nI t) x3 1 kc ks b1 a2 a3 a4 a5 a6 := by
    intro g
    unfold wL_lawOf_95
    refine gs_98p H hab hb h1 (fun ψ k => gs_at ht ?_)
    rw [h1 t ht, gs_tn_g gs_id_B hab hb t ht, if_neg (by omega), gs_id_g t ht, gs_o6 t ht]
    exact k
  refine pk_lt t a (fun g => out (Or.inl g)) (fun g => pk_lt b t (fun g2 => out (Or.inr g2)) (fun g2 => gs_98p H hab hb h1 (fun ψ k => gs_at ht ?_)))
  rw [h1 t ht, gs_tn_g gs_id_B hab hb t ht, if_pos (by omega), gs_id_g (a + b - t) (by omega), gs_o4 (a + b - t) (by omega), ← pk_sub (show t ≤ a + b by omega), ← nI_add]
  exact k
theorem gs_lawOf {post : Int32 → St0 → Prop} (H : post 1 ()) (p0 p1 p2 p3 : Int32) : wpL_lawOf post 7 53 () p0 p1 p2 p3 := by
  refine ⟨by omega, by omega, 6, 47, by omega, by omega, gs_init (fun b h => ?_)⟩
  have N : (p0 < 0 ∨ p1 < p0 ∨ 4 < p1) → wL_lawOf_27 post 7 53 p0 p1 p2 p3 (1 + 6) (6 + 47) b (fun _ => 0) (fun _ => 0) (fun _ => 0) (fun _ => 0) (fun _ => 0) := fun g => by
    unfold wL_lawOf_27
    exact gs_28n H g h
  refine br_c (fun g => N (Or.inl g)) (fun g => br_c (fun g2 => N (Or.inr (Or.inl g2))) (fun g2 => br_c (fun g3 => N (Or.inr (Or.inr g3))) (fun g3 => ?_)))
  rcases gs_pl p1 with z | ⟨j, hj, e1⟩
  · rcases z with z | z
    · exfalso
      rw [Int32.lt_iff_toInt_lt] at z g g2
      omega
    · exact absurd z g3
  rcases gs_pl p0 with z | ⟨i, hi, e0⟩
  · rcases z with z | z
    · exact absurd z g
    · exfalso
      rw [Int32.lt_iff_toInt_lt] at z g2 g3
      omega
  subst e0 e1
  have hij : i ≤ j := by
    rcases Nat.lt_or_ge j i with z | z
    · exact absurd (nI_lt z (by omega)) g2
    · exact z
  exact gs_28p H hij hj h
theorem gs_cell {post : Int32 → Prop} {L : Nat} {xs : Nat → Int32} (hL : L ≤ 4) (k : Nat) (hk : k < 4) (h : ∀ y, post y) : wpL_cellAt post L xs () (nI k) :=
  pk_le L k (fun _ => h 0) (fun g => ⟨pk_in k L g, h _⟩)
theorem i_vc (xs : Nat → Int32) (L : Nat) (hL : L ≤ 4) : wpL_law (fun r => r = 1) L xs := by
  unfold wpL_law
  exact gs_cell hL 0 (by omega) (fun y0 => gs_cell hL 1 (by omega) (fun y1 => gs_cell hL 2 (by omega) (fun y2 => gs_cell hL 3 (by omega) (fun y3 => ⟨7, 53, by omega, by omega, gs_lawOf rfl y0 y1 y2 y3⟩))))
end
