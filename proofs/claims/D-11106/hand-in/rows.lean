section
/-! sums over places, bits of small numbers -/
def rb_sum (p : Nat → Bool) (f : Nat → Nat) : Nat → Nat
  | 0 => 0
  | c + 1 => rb_sum p f c + (bif p c then f c else 0)
def rb_sI (p : Nat → Bool) (f : Nat → Int32) : Nat → Int32
  | 0 => 0
  | c + 1 => rb_sI p f c + (bif p c then f c else 0)
def rb_pop (x : Nat) : Nat := rb_sum (fun c => x.testBit c) (fun _ => 1) 6
def rb_lo (x : Nat) : Nat := bif x.testBit 0 then 0 else bif x.testBit 1 then 1 else bif x.testBit 2 then 2 else bif x.testBit 3 then 3 else bif x.testBit 4 then 4 else 5
def rb_F : Nat → Nat
  | 0 => 1
  | n + 1 => rb_F n * (n + 1)
def rb_C : Nat → Nat → Nat
  | _, 0 => 1
  | 0, _ + 1 => 0
  | n + 1, k + 1 => rb_C n k + rb_C n (k + 1)
def rb_D (n : Nat) : Nat := [1, 0, 1, 2, 9, 44, 265].getD n 0
theorem rb_sum_congr {p q : Nat → Bool} {f g : Nat → Nat} {m : Nat} (h : ∀ c, c < m → p c = q c) (hf : ∀ c, c < m → p c = true → f c = g c) : rb_sum p f m = rb_sum q g m := by
  induction m with
  | zero => rfl
  | succ m ih =>
    show rb_sum p f m + _ = rb_sum q g m + _
    rw [ih (fun c hc => h c (by omega)) (fun c hc => hf c (by omega)), h m (by omega)]
    cases hq : q m
    · rfl
    · rw [hf m (by omega) (by rw [h m (by omega), hq])]
theorem rb_sum_none {p : Nat → Bool} {f : Nat → Nat} {m : Nat} (h : ∀ c, c < m → p c = false) : rb_sum p f m = 0 := by
  induction m with
  | zero => rfl
  | succ m ih =>
    show rb_sum p f m + _ = 0
    rw [ih (fun c hc => h c (by omega)), h m (by omega)]
    rfl
theorem rb_sum_one {p q : Nat → Bool} {f : Nat → Nat} {m l : Nat} (hl : l < m) (h1 : p l = true) (h0 : q l = false) (h : ∀ c, c < m → c ≠ l → p c = q c) : rb_sum p f m = f l + rb_sum q f m := by
  induction m with
  | zero => exact absurd hl (by omega)
  | succ m ih =>
    show rb_sum p f m + _ = f l + (rb_sum q f m + _)
    by_cases e : l = m
    · subst e
      rw [rb_sum_congr (p := p) (q := q) (g := f) (fun c hc => h c (by omega) (by omega)) (fun _ _ _ => rfl), h1, h0]
      show rb_sum q f l + f l = f l + (rb_sum q f l + 0)
      omega
    · rw [ih (by omega) (fun c hc => h c (by omega)), h m (by omega) (by omega)]
      omega
theorem rb_sI_congr {p q : Nat → Bool} {f g : Nat → Int32} {m : Nat} (h : ∀ c, c < m → p c = q c) (hf : ∀ c, c < m → p c = true → f c = g c) : rb_sI p f m = rb_sI q g m := by
  induction m with
  | zero => rfl
  | succ m ih =>
    show rb_sI p f m + _ = rb_sI q g m + _
    rw [ih (fun c hc => h c (by omega)) (fun c hc => hf c (by omega)), h m (by omega)]
    cases hq : q m
    · rfl
    · rw [hf m (by omega) (by rw [h m (by omega), hq])]
theorem rb_i0 (x : Int32) : x + 0 = x := Int32.add_zero x
theorem rb_sI_none {p : Nat → Bool} {f : Nat → Int32} {m : Nat} (h : ∀ c, c < m → p c = false) : rb_sI p f m = 0 := by
  induction m with
  | zero => rfl
  | succ m ih =>
    show rb_sI p f m + _ = 0
    rw [ih (fun c hc => h c (by omega)), h m (by omega)]
    rfl
theorem rb_sI_one {p q : Nat → Bool} {f : Nat → Int32} {m l : Nat} (hl : l < m) (h1 : p l = true) (h0 : q l = false) (h : ∀ c, c < m → c ≠ l → p c = q c) : rb_sI p f m = rb_sI q f m + f l := by
  induction m with
  | zero => exact absurd hl (by omega)
  | succ m ih =>
    show rb_sI p f m + _ = (rb_sI q f m + _) + f l
    by_cases e : l = m
    · subst e
      rw [rb_sI_congr (p := p) (q := q) (g := f) (fun c hc => h c (by omega) (by omega)) (fun _ _ _ => rfl), h1, h0]
      show rb_sI q f l + f l = (rb_sI q f l + 0) + f l
      rw [rb_i0]
    · rw [ih (by omega) (fun c hc => h c (by omega)), h m (by omega) (by omega)]
      rw [Int32.add_assoc, Int32.add_comm (f l), ← Int32.add_assoc]
/-! bits -/
theorem rb_and (a b : Nat) : nI a &&& nI b = nI (a &&& b) := by
  apply Int32.toBitVec_inj.1
  show BitVec.ofNat 32 a &&& BitVec.ofNat 32 b = BitVec.ofNat 32 (a &&& b)
  apply BitVec.eq_of_getLsbD_eq
  intro i hi
  simp [hi]
theorem rb_xor (a b : Nat) : nI a ^^^ nI b = nI (a ^^^ b) := by
  apply Int32.toBitVec_inj.1
  show BitVec.ofNat 32 a ^^^ BitVec.ofNat 32 b = BitVec.ofNat 32 (a ^^^ b)
  apply BitVec.eq_of_getLsbD_eq
  intro i hi
  simp [hi]
theorem rb_or (a b : Nat) : nI a ||| nI b = nI (a ||| b) := by
  apply Int32.toBitVec_inj.1
  show BitVec.ofNat 32 a ||| BitVec.ofNat 32 b = BitVec.ofNat 32 (a ||| b)
  apply BitVec.eq_of_getLsbD_eq
  intro i hi
  simp [hi]
theorem rb_bit : ∀ x, x < 64 → ∀ c, c < 6 → (nI x >>> (nI c &&& 31)) &&& 1 = nI (x.testBit c).toNat := by decide +kernel
theorem rb_shr : ∀ x, x < 64 → ∀ c, c < 6 → nI x >>> (nI c &&& 31) = nI (x / 2 ^ c) := by decide +kernel
theorem rb_shl : ∀ c, c < 7 → (1 : Int32) <<< (nI c &&& 31) = nI (2 ^ c) := by decide +kernel
theorem rb_not : ∀ a, a < 64 → ∀ x, x < 64 → nI a &&& (nI x ^^^ (-1)) = nI (a &&& (63 ^^^ x)) := by
  have h : ∀ a, a < 64 → ∀ x, x < 64 → a &&& (x ^^^ 4294967295) = a &&& (63 ^^^ x) := by decide +kernel
  intro a ha x hx
  rw [← h a ha x hx, ← rb_and, ← rb_xor]
  rfl
theorem rb_b1 {x c : Nat} (hx : x < 64) (hc : c < 6) : (nI x >>> (nI c &&& 31)) &&& 1 = 1 ↔ x.testBit c = true := by
  rw [rb_bit x hx c hc]
  cases x.testBit c <;> decide
theorem rb_b0 {x c : Nat} (hx : x < 64) (hc : c < 6) : (nI x >>> (nI c &&& 31)) &&& 1 = 0 ↔ x.testBit c = false := by
  rw [rb_bit x hx c hc]
  cases x.testBit c <;> decide
theorem rb_neg : ∀ x, x < 64 → x ≠ 0 → nI x &&& (-(nI x)) = nI (2 ^ rb_lo x) := by decide +kernel
theorem rb_loF : ∀ x, x < 64 → x ≠ 0 → rb_lo x < 6 ∧ x.testBit (rb_lo x) = true ∧ x ^^^ 2 ^ rb_lo x = x - 2 ^ rb_lo x ∧ x - 2 ^ rb_lo x < x := by decide +kernel
theorem rb_loB : ∀ x, x < 64 → x ≠ 0 → ∀ c, c < 6 → (x - 2 ^ rb_lo x).testBit c = (x.testBit c && c != rb_lo x) := by decide +kernel
theorem rb_p64 : ∀ n, n ≤ 6 → 2 ^ n ≤ 64 := by
  have h : ∀ n, n < 7 → 2 ^ n ≤ 64 := by decide +kernel
  exact fun n hn => h n (by omega)
theorem rb_or64 : ∀ x, x < 64 → ∀ c, c < 6 → x ||| 2 ^ c < 64 := by decide +kernel
theorem rb_orN : ∀ n, n < 7 → ∀ x, x < 64 → ∀ c, c < 6 → x < 2 ^ n → c < n → x ||| 2 ^ c < 2 ^ n := by decide +kernel
theorem rb_bN : ∀ n, n < 7 → ∀ x, x < 64 → ∀ c, c < 6 → x < 2 ^ n → x.testBit c = true → c < n := by decide +kernel
theorem rb_byte : ∀ x, x < 64 → (nI x).toInt8.toInt32 = nI x := by decide +kernel
theorem rb_lowPop : ∀ c, c < 6 → rb_pop (2 ^ c - 1) = c := by decide +kernel
theorem rb_shN : ∀ x, x < 64 → ∀ c, c < 6 → x / 2 ^ c < 64 := by decide +kernel
theorem rb_n1 {i : Nat} (h : i < 2 ^ 32) : nI i &&& 1 = nI (i % 2) := pk_andN h 1 rfl
theorem rb_ix (r s : Nat) : (64 : Int32) * nI r + nI s = nI (64 * r + s) := by
  show nI 64 * nI r + nI s = _
  rw [pk_mul, nI_add]
theorem rb_ix1 (r s : Nat) : (64 : Int32) * (nI r + 1) + nI s = nI (64 * (r + 1) + s) := by
  rw [nI_1, rb_ix]
theorem rb_ix6 (r c : Nat) : (6 : Int32) * nI r + nI c = nI (6 * r + c) := by
  show nI 6 * nI r + nI c = _
  rw [pk_mul, nI_add]
theorem rb_ix7 (r c : Nat) : (7 : Int32) * nI r + nI c = nI (7 * r + c) := by
  show nI 7 * nI r + nI c = _
  rw [pk_mul, nI_add]
theorem rb_x64 (n : Nat) : (64 : Int32) * (nI n + 1) = nI (64 * (n + 1)) := by
  rw [nI_1]
  show nI 64 * nI (n + 1) = _
  rw [pk_mul]
theorem rb_d6 {i : Nat} (h : i < 36) : nI i / 6 = nI (i / 6) := pk_div (d := 6) (by omega) (by omega) (by omega)
theorem rb_m6 {i : Nat} (h : i < 36) : nI i - nI i / 6 * 6 = nI (i % 6) := pk_rem (d := 6) (by omega) (by omega) (by omega)
theorem rb_60 : ¬ (6 : Int32) = 0 := by decide
end
section
/-! the law's own small functions -/
theorem rb_prod {post : Int32 → Prop} {p : Nat} (hp : p ≤ 6) (h : post (nI (rb_F p))) : wpL_product post () (nI p) := by
  have h' : post (nI (rb_F (p - 1 + 1))) := by
    cases p with
    | zero => exact h
    | succ q => exact h
  exact pk_loop (σ := Unit) (fun m i _ => wL_product_4 post (nI p) m (nI (rb_F (i + 1))) (nI (i + 2))) (fun _ _ => True) (p - 1) 0 () (by omega) trivial
    (fun m _ _ => pk_lt p (p - 1 + 2) (fun _ => h') (fun z => absurd z (by omega)))
    (fun m i _ hi _ hw => pk_lt p (i + 2) (fun z => absurd z (by omega)) (fun _ => nm_r (pk_mul _ _) (nm_r (nI_1 (i + 2)) (hw () trivial))))
theorem rb_Fne : ∀ k, k < 7 → ¬ nI (rb_F k) = 0 := by decide +kernel
theorem rb_CF : ∀ n, n < 7 → ∀ k, k < 7 → k ≤ n → nI (rb_F n) / nI (rb_F k) / nI (rb_F (n - k)) = nI (rb_C n k) := by decide +kernel
theorem rb_choose {post : Int32 → Prop} {n k : Nat} (hn : n ≤ 6) (hk : k ≤ n) (h : post (nI (rb_C n k))) : wpL_choose post () (nI n) (nI k) := by
  refine br_f (nI_pos (by omega)) (pk_le k n (fun _ => rb_prod hn (rb_prod (by omega) ⟨rb_Fne k (by omega), ?_⟩)) (fun z => absurd z (by omega)))
  rw [pk_sub hk]
  refine rb_prod (by omega) ⟨rb_Fne (n - k) (by omega), ?_⟩
  rw [rb_CF n (by omega) k (by omega) hk]
  exact h
theorem rb_chooseM {post : Int32 → Prop} {x : Int32} (h : post 0) : wpL_choose post () x (nI 0 - 1) := br_t (by decide) h
/-- the choice of k - 1 of n, 0 where k is 0 -/
def rb_C1 (n k : Nat) : Nat := bif k == 0 then 0 else rb_C n (k - 1)
theorem rb_choose1 {post : Int32 → Prop} {n k : Nat} (hn : n ≤ 6) (hk : k ≤ n + 1) (h : post (nI (rb_C1 n k))) : wpL_choose post () (nI n) (nI k - 1) := by
  cases k with
  | zero => exact rb_chooseM h
  | succ k =>
    rw [nI_pred]
    exact rb_choose hn (by omega) h
theorem rb_apart {post : Int32 → Prop} {p : Nat} (hp : p ≤ 6) (h : post (nI (rb_D p))) : wpL_apart post () (nI p) :=
  pk_eq p 0 (fun e => by subst e; exact h) (fun e0 =>
  pk_eq p 1 (fun e => by subst e; exact h) (fun e1 =>
  pk_eq p 2 (fun e => by subst e; exact h) (fun e2 =>
  pk_eq p 3 (fun e => by subst e; exact h) (fun e3 =>
  pk_eq p 4 (fun e => by subst e; exact h) (fun e4 =>
  pk_eq p 5 (fun e => by subst e; exact h) (fun e5 => by
    have e : p = 6 := by omega
    subst e
    exact h))))))
end
section
/-! the picture of an object, and the constructor -/
def rb_K (n : Nat) (b : Nat → Nat) (wt : Nat → Int32) (a1 a2 a7 a8 : Nat → Int32) : Prop :=
  1 ≤ n ∧ n ≤ 6 ∧ (∀ r, r < n → b r < 2 ^ n ∧ a1 r = nI (b r)) ∧ (∀ j, j < 36 → a2 j = wt j) ∧ (∀ j, j < 7 → a7 j = nI (rb_F j)) ∧ (∀ i j, i < 7 → j ≤ i → a8 (7 * i + j) = nI (rb_C i j))
def rb_P (n : Nat) (b : Nat → Nat) (wt : Nat → Int32) (Q : St2 → Prop) : Prop :=
  ∀ (t : Int32) (a1 a2 a3 a4 a5 a6 a7 a8 a9 a10 a11 : Nat → Int32), rb_K n b wt a1 a2 a7 a8 → Q (nI n, t, a1, a2, a3, a4, a5, a6, a7, a8, a9, a10, a11)
theorem rb_Kc {n : Nat} {b b' : Nat → Nat} {wt wt' : Nat → Int32} {a1 a2 a7 a8 : Nat → Int32} (h : rb_K n b wt a1 a2 a7 a8) (hb : ∀ r, r < n → b r = b' r) (hw : ∀ j, j < 36 → wt j = wt' j) : rb_K n b' wt' a1 a2 a7 a8 :=
  ⟨h.1, h.2.1, fun r hr => by rw [← hb r hr]; exact h.2.2.1 r hr, fun j hj => by rw [← hw j hj]; exact h.2.2.2.1 j hj, h.2.2.2.2⟩
theorem rb_pr1 {i : Nat} (h : 1 ≤ i) : nI i - 1 = nI (i - 1) := pk_sub (b := 1) h
theorem rb_m7 (i : Nat) : (7 : Int32) * nI i = nI (7 * i) := pk_mul 7 i
theorem rb_C0 : ∀ i, i < 7 → ∀ q, q < 7 → i < q → rb_C i q = 0 := by decide +kernel
def rb_Z (i j : Nat) (s : Nat → Int32) : Prop := ∀ p q, p < 7 → q < 7 → s (7 * p + q) = if p < i ∨ (p = i ∧ q < j) then nI (rb_C p q) else 0
theorem rb_Zput {i j : Nat} {s : Nat → Int32} {v : Int32} (hj : j < 7) (h : rb_Z i j s) (hv : v = nI (rb_C i j)) : rb_Z i (j + 1) (upd s (7 * i + j) v) := by
  intro p q hp hq
  by_cases e : 7 * p + q = 7 * i + j
  · have e1 : p = i := by omega
    have e2 : q = j := by omega
    subst e1 e2
    rw [pk_us, if_pos (by omega), hv]
  · rw [pk_un e, h p q hp hq]
    by_cases c : p < i ∨ (p = i ∧ q < j)
    · rw [if_pos c, if_pos (by omega)]
    · rw [if_neg c, if_neg (by omega)]
theorem rb_Zrow {i : Nat} {s : Nat → Int32} (h : rb_Z i (i + 1) s) : rb_Z (i + 1) 0 s := by
  intro p q hp hq
  rw [h p q hp hq]
  by_cases c : p < i ∨ (p = i ∧ q < i + 1)
  · rw [if_pos c, if_pos (by omega)]
  · rw [if_neg c]
    by_cases d : p < i + 1 ∨ (p = i + 1 ∧ q < 0)
    · rw [if_pos d, rb_C0 p hp q hq (by omega), nI_0]
    · rw [if_neg d]
section
variable {post : St2 → Prop} {mc ms kc ks : Nat} {f0 f1 : Int32} {a1 a2 a3 a4 a5 a6 a7 a8 a9 a10 a11 : Nat → Int32}
theorem rb_i197 {J : Int32 → (Nat → Int32) → (Nat → Int32) → (Nat → Int32) → (Nat → Int32) → (Nat → Int32) → (Nat → Int32) → (Nat → Int32) → (Nat → Int32) → (Nat → Int32) → (Nat → Int32) → (Nat → Int32) → Prop} {i : Nat} (hi : i < 7) (h0 : rb_Z i 1 a8)
    (H : ∀ s, rb_Z i (i + 1) s → J (nI (i + 1)) a1 a2 a3 a4 a5 a6 a7 s a9 a10 a11) : ∃ n, wX_init_197 post mc ms J (nI i) kc ks f0 f1 n 1 a1 a2 a3 a4 a5 a6 a7 a8 a9 a10 a11 :=
  pk_loop (fun m j s => wX_init_197 post mc ms J (nI i) kc ks f0 f1 m (nI j) a1 a2 a3 a4 a5 a6 a7 s a9 a10 a11) (fun j s => 1 ≤ j ∧ rb_Z i j s) (i + 1) 1 a8 (by omega) ⟨by omega, h0⟩
    (fun m s h => pk_lt i (i + 1) (fun _ => nm_r (nI_1 i) (H s h.2)) (fun z => absurd z (by omega)))
    (fun m j s hj h hw => pk_lt i j (fun z => absurd z (by omega)) (fun _ => by
      have hj1 := h.1
      have e1 : (7 : Int32) * (nI i - 1) + nI j - 1 = nI (7 * (i - 1) + j - 1) := by rw [rb_pr1 (by omega), rb_ix7, rb_pr1 (by omega)]
      have e2 : (7 : Int32) * (nI i - 1) + nI j = nI (7 * (i - 1) + j) := by rw [rb_pr1 (by omega), rb_ix7]
      refine ⟨pk_in _ 49 (by omega) e1, pk_in _ 49 (by omega) e2, pk_in _ 49 (by omega) (rb_ix7 i j), nm_e (nm_r (nI_1 j) ?_)⟩
      rw [e1, e2, rb_ix7, nI_clamp (by omega), nI_clamp (by omega), nI_clamp (by omega)]
      refine hw _ ⟨by omega, rb_Zput (by omega) h.2 ?_⟩
      have g1 := h.2 (i - 1) (j - 1) (by omega) (by omega)
      have g2 := h.2 (i - 1) j (by omega) (by omega)
      rw [if_pos (by omega)] at g1 g2
      rw [show 7 * (i - 1) + j - 1 = 7 * (i - 1) + (j - 1) by omega, g1, g2, nI_add]
      obtain ⟨i', rfl⟩ : ∃ i', i = i' + 1 := ⟨i - 1, by omega⟩
      obtain ⟨j', rfl⟩ : ∃ j', j = j' + 1 := ⟨j - 1, by omega⟩
      rfl))
theorem rb_i179 (h0 : rb_Z 0 0 a8) (H : ∀ s, rb_Z 7 0 s → post (f0, f1, a1, a2, a3, a4, a5, a6, a7, s, a9, a10, a11)) : ∃ n, wX_init_179 post mc ms kc ks f0 f1 n 0 a1 a2 a3 a4 a5 a6 a7 a8 a9 a10 a11 :=
  pk_loop (fun m i s => wX_init_179 post mc ms kc ks f0 f1 m (nI i) a1 a2 a3 a4 a5 a6 a7 s a9 a10 a11) (fun i s => rb_Z i 0 s) 7 0 a8 (by omega) h0
    (fun m s h => pk_le 7 7 (fun _ => H s h) (fun z => absurd z (by omega)))
    (fun m i s hi h hw => pk_le 7 i (fun z => absurd z (by omega)) (fun _ => by
      refine ⟨pk_in (7 * i) 49 (by omega) (rb_m7 i), nm_e ?_⟩
      rw [rb_m7, nI_clamp (by omega)]
      refine rb_i197 hi (rb_Zput (j := 0) (by omega) h ?_) (fun s' h' => hw s' (rb_Zrow h'))
      cases i <;> rfl))
theorem rb_i149 (h0 : a7 0 = 1) (h8 : rb_Z 0 0 a8) (H : ∀ s7 s8, (∀ j, j < 7 → s7 j = nI (rb_F j)) → rb_Z 7 0 s8 → post (f0, f1, a1, a2, a3, a4, a5, a6, s7, s8, a9, a10, a11)) : ∃ n, wX_init_149 post mc ms kc ks f0 f1 n 1 a1 a2 a3 a4 a5 a6 a7 a8 a9 a10 a11 :=
  pk_loop (fun m i s => wX_init_149 post mc ms kc ks f0 f1 m (nI i) a1 a2 a3 a4 a5 a6 s a8 a9 a10 a11) (fun i s => 1 ≤ i ∧ ∀ j, j < i → s j = nI (rb_F j)) 7 1 a7 (by omega) ⟨by omega, fun j hj => by
      have e : j = 0 := by omega
      subst e
      exact h0⟩
    (fun m s h => pk_le 7 7 (fun _ => rb_i179 h8 (fun s8 h8' => H s s8 h.2 h8')) (fun z => absurd z (by omega)))
    (fun m i s hi h hw => pk_le 7 i (fun z => absurd z (by omega)) (fun _ => by
      have hi1 := h.1
      refine ⟨pk_in (i - 1) 7 (by omega) (rb_pr1 hi1), pk_in i 7 (by omega), nm_e (nm_r (nI_1 i) ?_)⟩
      rw [rb_pr1 hi1, nI_clamp (by omega), nI_clamp (by omega), h.2 (i - 1) (by omega), pk_mul]
      refine hw _ ⟨by omega, fun j hj => ?_⟩
      by_cases e : j = i
      · subst e
        rw [pk_us]
        obtain ⟨i', rfl⟩ : ∃ i', j = i' + 1 := ⟨j - 1, by omega⟩
        rfl
      · rw [pk_un e]
        exact h.2 j (by omega)))
theorem rb_i121 (h7 : a7 = fun _ => 0) (h8 : a8 = fun _ => 0) (H : ∀ s2 s7 s8, (∀ j, j < 36 → s2 j = 1) → (∀ j, j < 7 → s7 j = nI (rb_F j)) → rb_Z 7 0 s8 → post (f0, f1, a1, s2, a3, a4, a5, a6, s7, s8, a9, a10, a11)) : ∃ n, wX_init_121 post mc ms kc ks f0 f1 n 0 a1 a2 a3 a4 a5 a6 a7 a8 a9 a10 a11 :=
  pk_loop (fun m i s => wX_init_121 post mc ms kc ks f0 f1 m (nI i) a1 s a3 a4 a5 a6 a7 a8 a9 a10 a11) (fun i s => ∀ j, j < i → s j = 1) 36 0 a2 (by omega) (fun j hj => absurd hj (by omega))
    (fun m s h => pk_le 36 36 (fun _ => nm_e (rb_i149 pk_us (by
        subst h8
        intro p q _ _
        rw [if_neg (by omega)]) (fun s7 s8 h7 h8 => H s s7 s8 h h7 h8))) (fun z => absurd z (by omega)))
    (fun m i s hi h hw => pk_le 36 i (fun z => absurd z (by omega)) (fun _ => by
      refine ⟨pk_in i 36 (by omega), nm_e (nm_r (nI_1 i) ?_)⟩
      rw [nI_clamp (by omega)]
      refine hw _ (fun j hj => ?_)
      by_cases e : j = i
      · subst e
        rw [pk_us]
      · rw [pk_un e]
        exact h j (by omega)))
end
theorem rb_init {post : St2 → Prop} {mc ms n : Nat} (hmc : 11 ≤ mc) (hms : 1142 ≤ ms) (h1 : 1 ≤ n) (h6 : n ≤ 6) (H : rb_P n (fun _ => 0) (fun _ => 1) post) : wpX_init post mc ms (0, 0) (nI n) := by
  refine ⟨by omega, by omega, by omega, by omega, by omega, by omega, by omega, by omega, by omega, by omega, by omega, by omega, by omega, by omega, by omega, by omega, by omega, by omega, by omega, by omega, by omega, by omega, ?_⟩
  refine pk_le 1 n (fun _ => pk_le n 6 (fun _ => ?_) (fun z => absurd z (by omega))) (fun z => absurd z (by omega))
  refine rb_i121 rfl rfl (fun s2 s7 s8 h2 h7 h8 => H _ _ _ _ _ _ _ _ _ _ _ _ ⟨h1, h6, fun r hr => ⟨Nat.two_pow_pos n, rfl⟩, h2, h7, fun i j hi hj => ?_⟩)
  rw [h8 i j hi (by omega), if_pos (by omega)]
end
section
/-! sizeOf, cells, the checks, the board's own calls -/
theorem rb_lt64 {n x : Nat} (hn : n ≤ 6) (h : x < 2 ^ n) : x < 64 := Nat.lt_of_lt_of_le h (rb_p64 n hn)
def rb_cells (b : Nat → Nat) : Nat → Nat
  | 0 => 0
  | r + 1 => rb_cells b r + rb_pop (b r)
theorem rb_cpl : ∀ n, n < 7 → ∀ x, x < 64 → x < 2 ^ n → ((nI (2 ^ n) - 1) &&& (nI x ^^^ (-1))).toInt8.toInt32 = nI (2 ^ n - 1 - x) := by decide +kernel
theorem rb_setF : ∀ x, x < 64 → ∀ c, c < 6 → x.testBit c = false → nI x &&& nI (2 ^ c) = 0 ∧ (nI x ||| nI (2 ^ c)).toInt8.toInt32 = nI (x + 2 ^ c) := by decide +kernel
theorem rb_setN : ∀ n, n < 7 → ∀ x, x < 64 → ∀ c, c < 6 → (c < n ∧ x < 2 ^ n ∧ x.testBit c = false) → x + 2 ^ c < 2 ^ n := by decide +kernel
theorem rb_fullB : ∀ n, n < 7 → ∀ c, c < 6 → c < n → (2 ^ n - 1).testBit c = true ∧ (nI (2 ^ n - 1) ||| nI (2 ^ c)).toInt8.toInt32 = nI (2 ^ n - 1) := by decide +kernel
section
variable {f0 f1 : Int32} {a1 a2 a3 a4 a5 a6 a7 a8 a9 a10 a11 : Nat → Int32} {n : Nat} {b : Nat → Nat} {wt : Nat → Int32}
theorem rb_size {post : Int32 → Prop} {x : Nat} (hx : x < 64) (h : post (nI (rb_pop x))) : wpX_sizeOf post (f0, f1, a1, a2, a3, a4, a5, a6, a7, a8, a9, a10, a11) (nI x) :=
  pk_loop (σ := Unit) (fun m i _ => wX_sizeOf_4 post (nI x) f0 f1 a1 a2 a3 a4 a5 a6 a7 a8 a9 a10 a11 m (nI (rb_sum (fun c => x.testBit c) (fun _ => 1) i)) (nI i)) (fun _ _ => True) 6 0 () (by omega) trivial
    (fun m _ _ => pk_le 6 6 (fun _ => h) (fun z => absurd z (by omega)))
    (fun m i _ hi _ hw => pk_le 6 i (fun z => absurd z (by omega)) (fun _ => nm_r (by
      rw [rb_bit x hx i hi, nI_add]
      show nI (rb_sum (fun c => x.testBit c) (fun _ => 1) i + (x.testBit i).toNat) = nI (rb_sum (fun c => x.testBit c) (fun _ => 1) i + (bif x.testBit i then 1 else 0))
      cases x.testBit i <;> rfl) (nm_r (nI_1 i) (hw () trivial))))
theorem rb_cellsW {post : Int32 → Prop} (hK : rb_K n b wt a1 a2 a7 a8) (h : post (nI (rb_cells b n))) : wpX_cells post (nI n, f1, a1, a2, a3, a4, a5, a6, a7, a8, a9, a10, a11) :=
  have h6 := hK.2.1
  pk_loop (σ := Unit) (fun m i _ => wX_cells_4 post (nI n) f1 a1 a2 a3 a4 a5 a6 a7 a8 a9 a10 a11 m (nI (rb_cells b i)) (nI i)) (fun _ _ => True) n 0 () (by omega) trivial
    (fun m _ _ => pk_le n n (fun _ => h) (fun z => absurd z (by omega)))
    (fun m i _ hi _ hw => pk_le n i (fun z => absurd z (by omega)) (fun _ => ⟨pk_in i 6 (by omega), by
      rw [nI_clamp (by omega), (hK.2.2.1 i hi).2]
      exact rb_size (rb_lt64 h6 (hK.2.2.1 i hi).1) (nm_r (nI_add _ _) (nm_r (nI_1 i) (hw () trivial)))⟩))
theorem rb_badNum {post : Int32 → Prop} {k : Nat} (hn : n ≤ 6) (hk : k ≤ n) (h : post 0) : wpX_badNumber post (nI n, f1, a1, a2, a3, a4, a5, a6, a7, a8, a9, a10, a11) (nI k) :=
  br_f (nI_pos (by omega)) (pk_le k n (fun _ => h) (fun z => absurd z (by omega)))
theorem rb_badNum1 {post : Int32 → Prop} {k : Nat} (hn : n ≤ 6) (hk : n < k) (hk2 : k ≤ 7) (h : post 1) : wpX_badNumber post (nI n, f1, a1, a2, a3, a4, a5, a6, a7, a8, a9, a10, a11) (nI k) :=
  br_f (nI_pos (by omega)) (pk_le k n (fun z => absurd z (by omega)) (fun _ => h))
theorem rb_badCell {post : Int32 → Prop} {i : Nat} (hn : n ≤ 6) (hi : i < 36) (h0 : i / 6 < n → i % 6 < n → post 0) (h1 : ¬ (i / 6 < n ∧ i % 6 < n) → post 1) : wpX_badCell post (nI n, f1, a1, a2, a3, a4, a5, a6, a7, a8, a9, a10, a11) (nI i) :=
  br_f (nI_pos (by omega)) ⟨rb_60, pk_le n (i / 6) (fun z => h1 (by omega)) (fun z => ⟨rb_60, pk_lt (i % 6) n (fun g => h0 z g) (fun g => h1 (by omega)) (rb_m6 hi)⟩) rfl (rb_d6 hi)⟩
theorem rb_badCell0 {post : Int32 → Prop} {r c : Nat} (hn : n ≤ 6) (hr : r < n) (hc : c < n) (h0 : post 0) : wpX_badCell post (nI n, f1, a1, a2, a3, a4, a5, a6, a7, a8, a9, a10, a11) (nI (6 * r + c)) :=
  rb_badCell hn (by omega) (fun _ _ => h0) (fun z => absurd z (by omega))
theorem rb_set {post : Int32 → St2 → Prop} {c : Nat} (hc : c < n) (hK : rb_K n b wt a1 a2 a7 a8) (h0 : (b c).testBit c = false)
    (H : rb_P n (fun r => if r = c then b c + 2 ^ c else b r) wt (post 0)) : wpX_set post (nI n, f1, a1, a2, a3, a4, a5, a6, a7, a8, a9, a10, a11) (nI (7 * c)) 1 := by
  have h6 := hK.2.1
  have hb := hK.2.2.1 c hc
  have hb64 := rb_lt64 h6 hb.1
  have g := rb_setF (b c) hb64 c (by omega) h0
  unfold wpX_set
  dsimp only
  rw [show 7 * c = 6 * c + c by omega]
  refine rb_badCell0 h6 hc hc (br_t rfl ⟨rb_60, nm_r (show _ = nI c from ?_) ⟨rb_60, nm_r (show _ = nI (2 ^ c) from ?_) ⟨pk_in c 6 (by omega), ?_⟩⟩⟩)
  · rw [rb_d6 (by omega)]
    congr 1
    omega
  · rw [rb_m6 (by omega), show (6 * c + c) % 6 = c by omega, rb_shl c (by omega)]
  · rw [nI_clamp (by omega), hb.2]
    refine br_t g.1 ?_
    unfold wX_set_40
    refine br_f (by decide) ⟨pk_in c 6 (by omega), pk_in c 6 (by omega), nm_e ?_⟩
    rw [nI_clamp (by omega), hb.2, g.2]
    refine H _ _ _ _ _ _ _ _ _ _ _ _ ⟨hK.1, hK.2.1, fun r hr => ?_, hK.2.2.2⟩
    dsimp only
    by_cases e : r = c
    · subst e
      rw [if_pos rfl, pk_us]
      exact ⟨rb_setN n (by omega) (b r) hb64 r (by omega) ⟨hc, hb.1, h0⟩, rfl⟩
    · rw [if_neg e, pk_un e]
      exact hK.2.2.1 r hr
theorem rb_weight {post : Int32 → St2 → Prop} {c : Nat} {w : Int32} (hc : c < n) (hK : rb_K n b wt a1 a2 a7 a8)
    (H : rb_P n b (fun j => if j = 7 * c then w else wt j) (post 0)) : wpX_weight post (nI n, f1, a1, a2, a3, a4, a5, a6, a7, a8, a9, a10, a11) (nI (7 * c)) w := by
  have h6 := hK.2.1
  unfold wpX_weight
  dsimp only
  refine rb_badCell h6 (by omega) (fun _ _ => br_t rfl ⟨pk_in (7 * c) 36 (by omega), nm_e ?_⟩) (fun z => absurd z (by omega))
  rw [nI_clamp (by omega)]
  refine H _ _ _ _ _ _ _ _ _ _ _ _ ⟨hK.1, hK.2.1, hK.2.2.1, fun j hj => ?_, hK.2.2.2.2⟩
  dsimp only
  by_cases e : j = 7 * c
  · subst e
    rw [if_pos rfl, pk_us]
  · rw [if_neg e, pk_un e]
    exact hK.2.2.2.1 j hj
theorem rb_compl {post : Int32 → St2 → Prop} (hK : rb_K n b wt a1 a2 a7 a8)
    (H : rb_P n (fun r => 2 ^ n - 1 - b r) wt (post (nI (rb_cells (fun r => 2 ^ n - 1 - b r) n)))) : wpX_complement post (nI n, f1, a1, a2, a3, a4, a5, a6, a7, a8, a9, a10, a11) :=
  have h6 := hK.2.1
  have h2 : 1 ≤ 2 ^ n := Nat.two_pow_pos n
  pk_loop (fun m i s => wX_complement_2 post (nI n) f1 m (nI i) s a2 a3 a4 a5 a6 a7 a8 a9 a10 a11) (fun i s => ∀ r, r < n → s r = nI (if r < i then 2 ^ n - 1 - b r else b r)) n 0 a1 (by omega) (fun r hr => by
      rw [if_neg (by omega)]
      exact (hK.2.2.1 r hr).2)
    (fun m s h => pk_le n n (fun _ => by
      have hK' : rb_K n (fun r => 2 ^ n - 1 - b r) wt s a2 a7 a8 := ⟨hK.1, hK.2.1, fun r hr => ⟨by dsimp only; omega, by rw [h r hr, if_pos hr]⟩, hK.2.2.2⟩
      exact rb_cellsW hK' (H _ _ _ _ _ _ _ _ _ _ _ _ hK')) (fun z => absurd z (by omega)))
    (fun m i s hi h hw => pk_le n i (fun z => absurd z (by omega)) (fun _ => by
      refine ⟨pk_in i 6 (by omega), pk_in i 6 (by omega), nm_e (nm_r (nI_1 i) ?_)⟩
      rw [nI_clamp (by omega), h i hi, if_neg (by omega), rb_shl n (by omega), rb_cpl n (by omega) (b i) (rb_lt64 h6 (hK.2.2.1 i hi).1) (hK.2.2.1 i hi).1]
      refine hw _ (fun r hr => ?_)
      by_cases e : r = i
      · subst e
        rw [pk_us, if_pos (by omega)]
      · rw [pk_un e, h r hr]
        by_cases c : r < i
        · rw [if_pos c, if_pos (by omega)]
        · rw [if_neg c, if_neg (by omega)]))
theorem rb_keep1 {s : Nat → Int32} {i : Nat} {v : Int32} {N : Nat} {f : Nat → Int32} (h : ∀ j, j < N → s j = f j) (hv : v = f i) : ∀ j, j < N → upd s i v j = f j := by
  intro j hj
  by_cases e : j = i
  · rw [e, pk_us, hv]
  · rw [pk_un e]
    exact h j hj
theorem rb_exch {post : Int32 → St2 → Prop} {r c : Nat} (hr : r < n) (hc : c < n) (hK : rb_K n (fun _ => 2 ^ n - 1) (fun _ => 1) a1 a2 a7 a8)
    (H : rb_P n (fun _ => 2 ^ n - 1) (fun _ => 1) (post 0)) : wpX_exchange post (nI n, f1, a1, a2, a3, a4, a5, a6, a7, a8, a9, a10, a11) (nI r) (nI c) := by
  have h6 := hK.2.1
  have h2 : 1 ≤ 2 ^ n := Nat.two_pow_pos n
  have hb : ∀ j, j < n → a1 j = nI (2 ^ n - 1) := fun j hj => (hK.2.2.1 j hj).2
  have h64 := rb_p64 n h6
  unfold wpX_exchange
  dsimp only
  refine br_f (nI_pos (by omega)) (br_f (nI_ge hr (by omega)) (br_f (nI_pos (by omega)) (br_t (nI_lt hc (by omega)) ⟨pk_in r 6 (by omega), nm_e ⟨pk_in c 6 (by omega), pk_in r 6 (by omega), nm_e ⟨pk_in c 6 (by omega), nm_e ?_⟩⟩⟩)))
  rw [nI_clamp (by omega), nI_clamp (by omega), hb r hr, hb c hc, vp_nar_byte, rb_byte _ (by omega)]
  have hB : ∀ j, j < n → upd (upd a1 r (nI (2 ^ n - 1))) c (nI (2 ^ n - 1)) j = (fun _ => nI (2 ^ n - 1)) j := rb_keep1 (rb_keep1 hb rfl) rfl
  refine pk_loop (fun m i s => wX_exchange_55 post (nI r) (nI c) (nI n) f1 m (nI i) (upd (upd a1 r (nI (2 ^ n - 1))) c (nI (2 ^ n - 1))) s a3 a4 a5 a6 a7 a8 a9 a10 a11) (fun i s => ∀ j, j < 36 → s j = (fun _ => 1) j) n 0 a2 (by omega) (fun j hj => hK.2.2.2.1 j hj) ?_ ?_
  · exact fun m s h => pk_le n n (fun _ => H _ _ _ _ _ _ _ _ _ _ _ _ ⟨hK.1, hK.2.1, fun j hj => ⟨by dsimp only; omega, hB j hj⟩, h, hK.2.2.2.2⟩) (fun z => absurd z (by omega))
  · exact fun m i s hi h hw => pk_le n i (fun z => absurd z (by omega)) (fun _ => by
      refine ⟨pk_in (6 * r + i) 36 (by omega) (rb_ix6 r i), nm_e ⟨pk_in (6 * c + i) 36 (by omega) (rb_ix6 c i), pk_in (6 * r + i) 36 (by omega) (rb_ix6 r i), nm_e ⟨pk_in (6 * c + i) 36 (by omega) (rb_ix6 c i), nm_e (nm_r (nI_1 i) ?_)⟩⟩⟩
      rw [rb_ix6, rb_ix6, nI_clamp (by omega), nI_clamp (by omega)]
      exact hw _ (rb_keep1 (rb_keep1 h (h _ (by omega))) (h _ (by omega))))
theorem rb_turn {post : Int32 → St2 → Prop} (hK : rb_K n (fun _ => 2 ^ n - 1) (fun _ => 1) a1 a2 a7 a8)
    (H : rb_P n (fun _ => 2 ^ n - 1) (fun _ => 1) (post 0)) : wpX_turn post (nI n, f1, a1, a2, a3, a4, a5, a6, a7, a8, a9, a10, a11) := by
  have h6 := hK.2.1
  have h2 : 1 ≤ 2 ^ n := Nat.two_pow_pos n
  have h64 := rb_p64 n h6
  refine pk_loop (σ := (Nat → Int32) × (Nat → Int32)) (fun m i s => wX_turn_2 post (nI n) f1 m (nI i) s.1 s.2 a3 a4 a5 a6 a7 a8 a9 a10 a11) (fun i s => (∀ j, j < n → s.1 j = (fun _ => nI (2 ^ n - 1)) j) ∧ (∀ j, j < 36 → s.2 j = (fun _ => 1) j)) 36 0 (a1, a2) (by omega) ⟨fun j hj => (hK.2.2.1 j hj).2, hK.2.2.2.1⟩ ?_ ?_
  · exact fun m s h => pk_le 36 36 (fun _ => H _ _ _ _ _ _ _ _ _ _ _ _ ⟨hK.1, hK.2.1, fun j hj => ⟨by dsimp only; omega, h.1 j hj⟩, h.2, hK.2.2.2.2⟩) (fun z => absurd z (by omega))
  · intro m i s hi h hw
    refine pk_le 36 i (fun z => absurd z (by omega)) (fun _ => ⟨rb_60, nm_r (rb_d6 hi) ⟨rb_60, nm_r (rb_m6 hi) ?_⟩⟩)
    refine pk_le (i % 6) (i / 6) (fun _ => nm_r (nI_1 i) (hw _ h)) (fun hlt => pk_le n (i % 6) (fun _ => nm_r (nI_1 i) (hw _ h)) (fun hcn => ?_))
    have hr : i / 6 < n := by omega
    refine ⟨pk_in i 36 hi, nm_e ⟨pk_in (6 * (i % 6) + i / 6) 36 (by omega) (rb_ix6 _ _), pk_in i 36 hi, nm_e ⟨pk_in (6 * (i % 6) + i / 6) 36 (by omega) (rb_ix6 _ _), nm_e ⟨pk_in (i / 6) 6 (by omega), ?_⟩⟩⟩⟩
    rw [rb_ix6, nI_clamp (show i / 6 < 2 ^ 31 by omega), nI_clamp (show i < 2 ^ 31 by omega), nI_clamp (show 6 * (i % 6) + i / 6 < 2 ^ 31 by omega)]
    have e1 : s.1 (i / 6) = nI (2 ^ n - 1) := h.1 _ hr
    have e2 : s.1 (i % 6) = nI (2 ^ n - 1) := h.1 _ hcn
    have w2 : ∀ j, j < 36 → upd (upd s.2 i (s.2 (6 * (i % 6) + i / 6))) (6 * (i % 6) + i / 6) (s.2 i) j = (fun _ => 1) j := rb_keep1 (rb_keep1 h.2 (h.2 _ (by omega))) (h.2 _ hi)
    have F1 := rb_fullB n (by omega) (i % 6) (by omega) hcn
    have F2 := rb_fullB n (by omega) (i / 6) (by omega) hr
    refine br_t (by rw [e1]; exact (rb_b1 (by omega) (by omega)).mpr F1.1) ?_
    unfold wX_turn_88
    refine ⟨pk_in (i % 6) 6 (by omega), ?_⟩
    rw [nI_clamp (show i % 6 < 2 ^ 31 by omega)]
    refine br_t (by rw [e2]; exact (rb_b1 (by omega) (by omega)).mpr F2.1) ?_
    unfold wX_turn_109
    refine br_f (by decide) ⟨pk_in (i / 6) 6 (by omega), ?_⟩
    unfold wX_turn_146
    refine ⟨pk_in (i / 6) 6 (by omega), nm_e ?_⟩
    rw [nI_clamp (show i / 6 < 2 ^ 31 by omega), e1, rb_shl (i % 6) (by omega), F1.2]
    refine br_f (by decide) ⟨pk_in (i % 6) 6 (by omega), pk_in (i % 6) 6 (by omega), nm_e (nm_r (nI_1 i) ?_)⟩
    rw [nI_clamp (show i % 6 < 2 ^ 31 by omega)]
    have k1 : ∀ j, j < n → upd s.1 (i / 6) (nI (2 ^ n - 1)) j = (fun _ => nI (2 ^ n - 1)) j := rb_keep1 h.1 rfl
    rw [k1 (i % 6) hcn]
    dsimp only
    rw [rb_shl (i / 6) (by omega), F2.2]
    exact hw (_, _) ⟨rb_keep1 k1 rfl, w2⟩
end
end
section
/-! ways: k rooks in the last d rows, the columns of s taken -/
def rb_R (b : Nat → Nat) (n : Nat) : Nat → Nat → Nat → Nat
  | 0, k, _ => bif k == 0 then 1 else 0
  | _ + 1, 0, _ => 1
  | d + 1, k + 1, s => rb_R b n d (k + 1) s + rb_sum (fun c => (b (n - 1 - d)).testBit c && !s.testBit c) (fun c => rb_R b n d k (s ||| 2 ^ c)) 6
theorem rb_R0 (b : Nat → Nat) (n d s : Nat) : rb_R b n d 0 s = 1 := by cases d <;> rfl
def rb_W (n : Nat) (b : Nat → Nat) (k : Nat) (a : Nat → Int32) : Prop := ∀ r, r ≤ n → ∀ s, s < 2 ^ n → a (64 * r + s) = nI (rb_R b n (n - r) k s)
/-- a row's fuel: the free columns of a row -/
theorem rb_freeB : ∀ x, x < 64 → ∀ s, s < 64 → (x &&& (63 ^^^ s)) < 64 := by decide +kernel
theorem rb_freeC : ∀ x, x < 64 → ∀ s, s < 64 → ∀ c, c < 6 → (x &&& (63 ^^^ s)).testBit c = (x.testBit c && !s.testBit c) := by decide +kernel
section
variable {f0 f1 : Int32} {a1 a2 a3 a4 a5 a6 a7 a8 a9 a10 a11 : Nat → Int32} {n : Nat} {b : Nat → Nat} {wt : Nat → Int32}
theorem rb_cr38 {post : St2 → Prop} {J : Int32 → (Nat → Int32) → (Nat → Int32) → (Nat → Int32) → (Nat → Int32) → (Nat → Int32) → (Nat → Int32) → (Nat → Int32) → (Nat → Int32) → (Nat → Int32) → (Nat → Int32) → (Nat → Int32) → Prop} {r s v x : Nat} {g : Nat → Nat} (hr : r < 6) (hs : s < 64) (hx : x < 64)
    (hg : ∀ c, c < 6 → x.testBit c = true → a3 (64 * (r + 1) + (s ||| 2 ^ c)) = nI (g c))
    (H : J (nI (s + 1)) a1 a2 a3 (upd a4 (64 * r + s) (nI (v + rb_sum (fun c => x.testBit c) g 6))) a5 a6 a7 a8 a9 a10 a11) :
    ∃ m, wX_countRow_38 post J (nI r) (nI s) f0 f1 a1 a2 a3 a4 a5 a6 a7 a8 a9 a10 a11 m (nI v) (nI x) := by
  refine loop_m (σ := Nat × Nat) (fun m q => wX_countRow_38 post J (nI r) (nI s) f0 f1 a1 a2 a3 a4 a5 a6 a7 a8 a9 a10 a11 m (nI q.1) (nI q.2)) (fun q => q.2 < 64 ∧ (∀ c, c < 6 → q.2.testBit c = true → x.testBit c = true) ∧ q.1 + rb_sum (fun c => q.2.testBit c) g 6 = v + rb_sum (fun c => x.testBit c) g 6) (fun q => q.2) ?_ (v, x) ⟨hx, fun _ _ h => h, rfl⟩
  intro m q hq hw
  obtain ⟨u, y⟩ := q
  obtain ⟨hy, hsub, hsum⟩ := hq
  dsimp only at hy hsub hsum hw
  refine pk_eq y 0 (fun e => ⟨pk_in (64 * r + s) 448 (by omega) (rb_ix r s), nm_e (nm_r (nI_1 s) ?_)⟩) (fun e => ?_)
  · rw [rb_ix, nI_clamp (by omega)]
    have e0 : u = v + rb_sum (fun c => x.testBit c) g 6 := by
      rw [← hsum, rb_sum_none (fun c _ => by rw [e]; exact Nat.zero_testBit c)]
      rfl
    rw [e0]
    exact H
  · have L := rb_loF y hy e
    have o64 := rb_or64 s hs (rb_lo y) L.1
    refine nm_r (rb_neg y hy e) (nm_r (show _ = nI (y - 2 ^ rb_lo y) by rw [rb_xor, L.2.2.1]) ?_)
    rw [rb_or, rb_ix1]
    refine ⟨pk_in (64 * (r + 1) + (s ||| 2 ^ rb_lo y)) 448 (by omega), nm_r (show _ = nI (u + g (rb_lo y)) from ?_) (hw (u + g (rb_lo y), y - 2 ^ rb_lo y) ⟨?_, ?_, ?_⟩ L.2.2.2)⟩
    · rw [nI_clamp (by omega), hg _ L.1 (hsub _ L.1 L.2.1), nI_add]
    · exact Nat.lt_trans L.2.2.2 hy
    · intro c hc h
      rw [rb_loB y hy e c hc] at h
      exact hsub c hc (by
        cases hh : y.testBit c
        · rw [hh] at h
          exact absurd h (by simp)
        · rfl)
    · dsimp only
      rw [← hsum, rb_sum_one (p := fun c => y.testBit c) (q := fun c => (y - 2 ^ rb_lo y).testBit c) L.1 L.2.1 (by
        rw [rb_loB y hy e _ L.1]
        simp) (fun c hc hne => by
        rw [rb_loB y hy e c hc]
        simp [hne])]
      omega
theorem rb_countRow {post : St2 → Prop} {r k : Nat} (hK : rb_K n b wt a1 a2 a7 a8) (hr : r < n)
    (h3 : ∀ s, s < 2 ^ n → a3 (64 * (r + 1) + s) = nI (rb_R b n (n - (r + 1)) k s)) (h4 : ∀ s, s < 2 ^ n → a4 (64 * (r + 1) + s) = nI (rb_R b n (n - (r + 1)) (k + 1) s))
    (H : ∀ a4', (∀ j, 64 * (r + 1) ≤ j → a4' j = a4 j) → (∀ s, s < 2 ^ n → a4' (64 * r + s) = nI (rb_R b n (n - r) (k + 1) s)) → post (nI n, f1, a1, a2, a3, a4', a5, a6, a7, a8, a9, a10, a11)) :
    wpX_countRow post (nI n, f1, a1, a2, a3, a4, a5, a6, a7, a8, a9, a10, a11) (nI r) := by
  have h6 := hK.2.1
  have hb := hK.2.2.1 r hr
  have hb64 := rb_lt64 h6 hb.1
  have h64 := rb_p64 n h6
  refine pk_loop (fun m i s => wX_countRow_2 post (nI r) (nI n) f1 m (nI i) a1 a2 a3 s a5 a6 a7 a8 a9 a10 a11) (fun i s => (∀ j, 64 * (r + 1) ≤ j → s j = a4 j) ∧ ∀ t, t < i → s (64 * r + t) = nI (rb_R b n (n - r) (k + 1) t)) (2 ^ n) 0 a4 (by omega) ⟨fun _ _ => rfl, fun t ht => absurd ht (by omega)⟩ ?_ ?_
  · exact fun m s h => pk_le (2 ^ n) (2 ^ n) (fun _ => H s h.1 h.2) (fun z => absurd z (by omega)) (rb_shl n (by omega))
  · intro m i s hi h hw
    refine pk_le (2 ^ n) i (fun z => absurd z (by omega)) (fun _ => ?_) (rb_shl n (by omega))
    rw [rb_ix1]
    refine ⟨pk_in (64 * (r + 1) + i) 448 (by omega), nm_r (show _ = nI (rb_R b n (n - (r + 1)) (k + 1) i) from ?_) ⟨pk_in r 6 (by omega), nm_r (show _ = nI (b r &&& (63 ^^^ i)) from ?_) ?_⟩⟩
    · rw [nI_clamp (by omega), h.1 _ (by omega), h4 i hi]
    · rw [nI_clamp (by omega), hb.2, rb_not _ hb64 _ (by omega)]
    · refine rb_cr38 (g := fun c => rb_R b n (n - (r + 1)) k (i ||| 2 ^ c)) (by omega) (by omega) (rb_freeB _ hb64 _ (by omega)) (fun c hc hbit => ?_) ?_
      · rw [rb_freeC _ hb64 _ (by omega) c hc] at hbit
        have hbc : (b r).testBit c = true := by
          cases hh : (b r).testBit c
          · rw [hh] at hbit
            exact absurd hbit (by simp)
          · rfl
        exact h3 _ (rb_orN n (by omega) i (by omega) c hc hi (rb_bN n (by omega) (b r) hb64 c hc hb.1 hbc))
      · refine hw _ ⟨fun j hj => ?_, fun t ht => ?_⟩
        · rw [pk_un (by omega)]
          exact h.1 j hj
        · by_cases e : t = i
          · subst e
            rw [pk_us, show n - r = (n - (r + 1)) + 1 by omega]
            show _ = nI (rb_R b n (n - (r + 1)) (k + 1) t + rb_sum _ _ 6)
            congr 2
            refine rb_sum_congr (fun c hc => ?_) (fun _ _ _ => rfl)
            rw [show n - 1 - (n - (r + 1)) = r by omega]
            exact rb_freeC _ hb64 _ (by omega) c hc
          · rw [pk_un (by omega)]
            exact h.2 t (by omega)
theorem rb_take {post : St2 → Prop} (h6 : n ≤ 6) (H : ∀ a3', (∀ j, j < 64 * (n + 1) → a3' j = a4 j) → post (nI n, f1, a1, a2, a3', a4, a5, a6, a7, a8, a9, a10, a11)) : wpX_takeNext post (nI n, f1, a1, a2, a3, a4, a5, a6, a7, a8, a9, a10, a11) :=
  pk_loop (fun m i s => wX_takeNext_2 post (nI n) f1 m (nI i) a1 a2 s a4 a5 a6 a7 a8 a9 a10 a11) (fun i s => ∀ j, j < i → s j = a4 j) (64 * (n + 1)) 0 a3 (by omega) (fun j hj => absurd hj (by omega))
    (fun m s h => pk_le (64 * (n + 1)) (64 * (n + 1)) (fun _ => H s h) (fun z => absurd z (by omega)) (rb_x64 n))
    (fun m i s hi h hw => pk_le (64 * (n + 1)) i (fun z => absurd z (by omega)) (fun _ => ⟨pk_in i 448 (by omega), pk_in i 448 (by omega), nm_e (nm_r (nI_1 i) (by
      rw [nI_clamp (by omega)]
      refine hw _ (fun j hj => ?_)
      by_cases e : j = i
      · rw [e, pk_us]
      · rw [pk_un e]
        exact h j (by omega)))⟩) (rb_x64 n))
theorem rb_m1 (x : Int32) : x + (-1) = x - 1 := by grind
theorem rb_fw71 {post : St2 → Prop} {J : Int32 → Int32 → Int32 → (Nat → Int32) → (Nat → Int32) → (Nat → Int32) → (Nat → Int32) → (Nat → Int32) → (Nat → Int32) → (Nat → Int32) → (Nat → Int32) → (Nat → Int32) → (Nat → Int32) → (Nat → Int32) → Prop} {x1 : Int32} {k i : Nat} (hK : rb_K n b wt a1 a2 a7 a8) (h3 : rb_W n b k a3) (h4 : ∀ s, s < 2 ^ n → a4 (64 * n + s) = 0)
    (H : ∀ a3' a4', rb_W n b (k + 1) a3' → J (nI (i + 1)) (nI n) f1 a1 a2 a3' a4' a5 a6 a7 a8 a9 a10 a11) : ∃ m, wX_findWays_71 post J x1 (nI i) m (nI n - 1) (nI n) f1 a1 a2 a3 a4 a5 a6 a7 a8 a9 a10 a11 := by
  have h6 := hK.2.1
  have h64 := rb_p64 n h6
  refine ⟨n + 1, pk_loopD (fun m e s => wX_findWays_71 post J x1 (nI i) m (nI e - 1) (nI n) f1 a1 a2 a3 s a5 a6 a7 a8 a9 a10 a11) (fun e s => e ≤ n ∧ ∀ r, e ≤ r → r ≤ n → ∀ s', s' < 2 ^ n → s (64 * r + s') = nI (rb_R b n (n - r) (k + 1) s')) ?_ ?_ n a4 ⟨Nat.le_refl _, fun r h1 h2 s' hs => ?_⟩⟩
  · intro m s h
    refine br_t (by decide) (rb_take h6 (fun a3' h' => nm_r (nI_1 i) (H a3' s (fun r hr s' hs => ?_))))
    rw [h' _ (by omega), h.2 r (by omega) hr s' hs]
  · intro m e s h hw
    show wX_findWays_71 post J x1 (nI i) (m + 1) (nI (e + 1) - 1) (nI n) f1 a1 a2 a3 s a5 a6 a7 a8 a9 a10 a11
    rw [nI_pred]
    refine br_f (nI_pos (by omega)) (rb_countRow (k := k) hK (by omega) (h3 (e + 1) (by omega)) (h.2 (e + 1) (by omega) (by omega)) (fun a4' g1 g2 => nm_r (rb_m1 _) (hw a4' ⟨by omega, fun r hr1 hr2 s' hs => ?_⟩)))
    by_cases c : r = e
    · subst c
      exact g2 s' hs
    · rw [g1 _ (by omega)]
      exact h.2 r (by omega) hr2 s' hs
  · have e : r = n := by omega
    subst e
    rw [h4 s' hs, Nat.sub_self]
    rfl
theorem rb_fw37 {post : St2 → Prop} {J : Int32 → Int32 → Int32 → (Nat → Int32) → (Nat → Int32) → (Nat → Int32) → (Nat → Int32) → (Nat → Int32) → (Nat → Int32) → (Nat → Int32) → (Nat → Int32) → (Nat → Int32) → (Nat → Int32) → (Nat → Int32) → Prop} {x1 : Int32} {k i : Nat} (hK : rb_K n b wt a1 a2 a7 a8) (h3 : rb_W n b k a3)
    (H : ∀ a3' a4', rb_W n b (k + 1) a3' → J (nI (i + 1)) (nI n) f1 a1 a2 a3' a4' a5 a6 a7 a8 a9 a10 a11) : ∃ m, wX_findWays_37 post J x1 (nI i) (nI n) f1 m 0 a1 a2 a3 a4 a5 a6 a7 a8 a9 a10 a11 := by
  have h6 := hK.2.1
  have h64 := rb_p64 n h6
  exact pk_loop (fun m j s => wX_findWays_37 post J x1 (nI i) (nI n) f1 m (nI j) a1 a2 a3 s a5 a6 a7 a8 a9 a10 a11) (fun j s => ∀ t, t < j → s (64 * n + t) = 0) 64 0 a4 (by omega) (fun t ht => absurd ht (by omega))
    (fun m s h => pk_le 64 64 (fun _ => nm_e (rb_fw71 hK h3 (fun s' hs => h s' (by omega)) H)) (fun z => absurd z (by omega)))
    (fun m j s hj h hw => pk_le 64 j (fun z => absurd z (by omega)) (fun _ => ⟨pk_in (64 * n + j) 448 (by omega) (rb_ix n j), nm_e (nm_r (nI_1 j) (by
      rw [rb_ix, nI_clamp (by omega)]
      refine hw _ (fun t ht => ?_)
      by_cases e : t = j
      · rw [e, pk_us]
      · rw [pk_un (by omega)]
        exact h t (by omega)))⟩))
theorem rb_fw30 {post : St2 → Prop} {k : Nat} (hk : k ≤ 6) (hK : rb_K n b wt a1 a2 a7 a8) (h3 : rb_W n b 0 a3)
    (H : ∀ a3' a4', rb_W n b k a3' → post (nI n, f1, a1, a2, a3', a4', a5, a6, a7, a8, a9, a10, a11)) : ∃ m, wX_findWays_30 post (nI k) m 1 (nI n) f1 a1 a2 a3 a4 a5 a6 a7 a8 a9 a10 a11 :=
  pk_loop (σ := (Nat → Int32) × (Nat → Int32)) (fun m i s => wX_findWays_30 post (nI k) m (nI (i + 1)) (nI n) f1 a1 a2 s.1 s.2 a5 a6 a7 a8 a9 a10 a11) (fun i s => rb_W n b i s.1) k 0 (a3, a4) (by omega) h3
    (fun m s h => pk_lt k (k + 1) (fun _ => H s.1 s.2 h) (fun z => absurd z (by omega)))
    (fun m i s hi h hw => pk_lt k (i + 1) (fun z => absurd z (by omega)) (fun _ => rb_fw37 hK h (fun a3' a4' h' => hw (a3', a4') h')))
theorem rb_fw {post : St2 → Prop} {k : Nat} (hk : k ≤ 6) (hK : rb_K n b wt a1 a2 a7 a8)
    (H : ∀ a3' a4', rb_W n b k a3' → post (nI n, f1, a1, a2, a3', a4', a5, a6, a7, a8, a9, a10, a11)) : wpX_findWays post (nI n, f1, a1, a2, a3, a4, a5, a6, a7, a8, a9, a10, a11) (nI k) :=
  have h6 := hK.2.1
  have h64 := rb_p64 n h6
  pk_loop (fun m i s => wX_findWays_2 post (nI k) (nI n) f1 m (nI i) a1 a2 s a4 a5 a6 a7 a8 a9 a10 a11) (fun i s => ∀ j, j < i → s j = 1) (64 * (n + 1)) 0 a3 (by omega) (fun j hj => absurd hj (by omega))
    (fun m s h => pk_le (64 * (n + 1)) (64 * (n + 1)) (fun _ => rb_fw30 hk hK (fun r hr t ht => by rw [h _ (by omega), rb_R0]; rfl) H) (fun z => absurd z (by omega)) (rb_x64 n))
    (fun m i s hi h hw => pk_le (64 * (n + 1)) i (fun z => absurd z (by omega)) (fun _ => ⟨pk_in i 448 (by omega), nm_e (nm_r (nI_1 i) (by
      rw [nI_clamp (by omega)]
      refine hw _ (fun j hj => ?_)
      by_cases e : j = i
      · rw [e, pk_us]
      · rw [pk_un e]
        exact h j (by omega)))⟩) (rb_x64 n))
theorem rb_countOf {post : Int32 → St2 → Prop} {k : Nat} (hk : k ≤ 6) (hK : rb_K n b wt a1 a2 a7 a8)
    (H : rb_P n b wt (post (nI (rb_R b n n k 0)))) : wpX_countOf post (nI n, f1, a1, a2, a3, a4, a5, a6, a7, a8, a9, a10, a11) (nI k) := by
  unfold wpX_countOf
  dsimp only
  refine rb_fw hk hK (fun a3' a4' h => ?_)
  have e := h 0 (by omega) 0 (Nat.two_pow_pos n)
  dsimp only
  rw [show a3' 0 = nI (rb_R b n n k 0) from e]
  exact H _ _ _ _ _ _ _ _ _ _ _ _ hK
theorem rb_rooks {post : Int32 → St2 → Prop} {k : Nat} (hk : k ≤ n) (hK : rb_K n b wt a1 a2 a7 a8)
    (H : rb_P n b wt (post (nI (rb_R b n n k 0)))) : wpX_rooks post (nI n, f1, a1, a2, a3, a4, a5, a6, a7, a8, a9, a10, a11) (nI k) := by
  have h6 := hK.2.1
  unfold wpX_rooks
  dsimp only
  exact rb_badNum hK.2.1 hk (br_t rfl (rb_countOf (by omega) hK H))
theorem rb_rooksN {post : Int32 → St2 → Prop} (hK : rb_K n b wt a1 a2 a7 a8)
    (H : rb_P n b wt (post (-1))) : wpX_rooks post (nI n, f1, a1, a2, a3, a4, a5, a6, a7, a8, a9, a10, a11) (nI (n + 1)) := by
  have h6 := hK.2.1
  unfold wpX_rooks
  dsimp only
  exact rb_badNum1 hK.2.1 (by omega) (by omega) (br_f (by decide) (H _ _ _ _ _ _ _ _ _ _ _ _ hK))
/-- hits: the first i terms, from j = k on -/
def rb_hs (ρ : Nat → Nat) (n k : Nat) : Nat → Int32
  | 0 => 0
  | i + 1 => bif i % 2 == 0 then rb_hs ρ n k i + nI (ρ (k + i) * rb_F (n - (k + i)) * rb_C (k + i) k) else rb_hs ρ n k i - nI (ρ (k + i) * rb_F (n - (k + i)) * rb_C (k + i) k)
theorem rb_hs_congr {ρ τ : Nat → Nat} {n k : Nat} : ∀ i, k + i ≤ n + 1 → (∀ j, j ≤ n → ρ j = τ j) → rb_hs ρ n k i = rb_hs τ n k i
  | 0, _, _ => rfl
  | i + 1, hi, h => by
    show (bif _ then _ else _) = (bif _ then _ else _)
    rw [rb_hs_congr i (by omega) h, h (k + i) (by omega)]
theorem rb_h14 {post : Int32 → St2 → Prop} {k : Nat} (hk : k ≤ n) (H : rb_P n b wt (post (rb_hs (fun j => rb_R b n n j 0) n k (n + 1 - k)))) :
    ∀ m i, k + i + m = n + 1 → ∀ (f1 : Int32) (a1 a2 a3 a4 a5 a6 a7 a8 a9 a10 a11 : Nat → Int32), rb_K n b wt a1 a2 a7 a8 → wX_hits_14 post (nI k) (m + 1) (rb_hs (fun j => rb_R b n n j 0) n k i) (nI (k + i)) (nI n) f1 a1 a2 a3 a4 a5 a6 a7 a8 a9 a10 a11 := by
  intro m
  induction m with
  | zero =>
    intro i hi f1 a1 a2 a3 a4 a5 a6 a7 a8 a9 a10 a11 hK
    have h6 := hK.2.1
    refine pk_lt n (k + i) (fun _ => ?_) (fun z => absurd z (by omega))
    rw [show i = n + 1 - k by omega]
    exact H _ _ _ _ _ _ _ _ _ _ _ _ hK
  | succ m ih =>
    intro i hi f1 a1 a2 a3 a4 a5 a6 a7 a8 a9 a10 a11 hK
    have h6 := hK.2.1
    refine pk_lt n (k + i) (fun z => absurd z (by omega)) (fun _ => rb_countOf (by omega) hK (fun f1 a1 a2 a3 a4 a5 a6 a7 a8 a9 a10 a11 hK => ?_))
    have s1 : nI n - nI (k + i) = nI (n - (k + i)) := pk_sub (by omega)
    have s2 : nI (k + i) - nI k = nI i := by
      rw [pk_sub (by omega)]
      congr 1
      omega
    refine ⟨pk_in _ 7 (by omega) s1, pk_in _ 49 (by omega) (rb_ix7 (k + i) k), nm_r (show _ = nI (rb_R b n n (k + i) 0 * rb_F (n - (k + i)) * rb_C (k + i) k) from ?_) ?_⟩
    · rw [s1, rb_ix7, nI_clamp (by omega), nI_clamp (by omega), hK.2.2.2.2.1 _ (by omega), hK.2.2.2.2.2 _ _ (by omega) (by omega), pk_mul, pk_mul]
    · rw [s2, rb_n1 (by omega)]
      have g := ih (i + 1) (by omega) f1 a1 a2 a3 a4 a5 a6 a7 a8 a9 a10 a11 hK
      refine pk_eq (i % 2) 0 (fun e => nm_e (nm_r (nI_1 (k + i)) ?_)) (fun e => nm_e (nm_r (nI_1 (k + i)) ?_))
      · have e' : rb_hs (fun j => rb_R b n n j 0) n k (i + 1) = rb_hs (fun j => rb_R b n n j 0) n k i + nI (rb_R b n n (k + i) 0 * rb_F (n - (k + i)) * rb_C (k + i) k) := by
          show (bif i % 2 == 0 then _ else _) = _
          rw [e]
          rfl
        rw [e'] at g
        exact g
      · have e' : rb_hs (fun j => rb_R b n n j 0) n k (i + 1) = rb_hs (fun j => rb_R b n n j 0) n k i - nI (rb_R b n n (k + i) 0 * rb_F (n - (k + i)) * rb_C (k + i) k) := by
          show (bif i % 2 == 0 then _ else _) = _
          rw [show i % 2 = 1 by omega]
          rfl
        rw [e'] at g
        exact g
theorem rb_hits {post : Int32 → St2 → Prop} {k : Nat} (hk : k ≤ n) (hK : rb_K n b wt a1 a2 a7 a8)
    (H : rb_P n b wt (post (rb_hs (fun j => rb_R b n n j 0) n k (n + 1 - k)))) : wpX_hits post (nI n, f1, a1, a2, a3, a4, a5, a6, a7, a8, a9, a10, a11) (nI k) := by
  unfold wpX_hits
  dsimp only
  exact rb_badNum hK.2.1 hk (br_t rfl ⟨_, rb_h14 hk H (n + 1 - k) 0 (by omega) _ _ _ _ _ _ _ _ _ _ _ _ hK⟩)
/-! through a cell -/
def rb_off (b : Nat → Nat) (r c : Nat) : Nat → Nat := fun j => if j = r then b r - 2 ^ c else b j
def rb_thr (b : Nat → Nat) (n r c k : Nat) : Int32 := bif (b r).testBit c && k != 0 then nI (rb_R b n n k 0) - nI (rb_R (rb_off b r c) n n k 0) else 0
end
theorem rb_offF : ∀ x, x < 64 → ∀ c, c < 6 → x.testBit c = true → (¬ nI x &&& nI (2 ^ c) = 0) ∧ (nI x &&& (nI (2 ^ c) ^^^ (-1))).toInt8.toInt32 = nI (x - 2 ^ c) ∧ (nI (x - 2 ^ c) ||| nI (2 ^ c)).toInt8.toInt32 = nI x := by decide +kernel
theorem rb_off0 : ∀ x, x < 64 → ∀ c, c < 6 → x.testBit c = false → nI x &&& nI (2 ^ c) = 0 := by decide +kernel
section
variable {f0 f1 : Int32} {a1 a2 a3 a4 a5 a6 a7 a8 a9 a10 a11 : Nat → Int32} {n : Nat} {b : Nat → Nat} {wt : Nat → Int32}
theorem rb_cth {post : Int32 → St2 → Prop} {r c k : Nat} (hr : r < n) (hc : c < n) (hk : k ≤ n) (hK : rb_K n b wt a1 a2 a7 a8)
    (H : rb_P n b wt (post (rb_thr b n r c k))) : wpX_countThrough post (nI n, f1, a1, a2, a3, a4, a5, a6, a7, a8, a9, a10, a11) (nI (6 * r + c)) (nI k) := by
  have h6 := hK.2.1
  have hb := hK.2.2.1 r hr
  have hb64 := rb_lt64 h6 hb.1
  unfold wpX_countThrough
  dsimp only
  refine ⟨rb_60, nm_r (show _ = nI r from ?_) ⟨rb_60, nm_r (show _ = nI (2 ^ c) from ?_) ⟨pk_in r 6 (by omega), ?_⟩⟩⟩
  · rw [rb_d6 (by omega)]
    congr 1
    omega
  · rw [rb_m6 (by omega), show (6 * r + c) % 6 = c by omega, rb_shl c (by omega)]
  rw [nI_clamp (show r < 2 ^ 31 by omega), hb.2]
  cases ht : (b r).testBit c
  · refine br_t (rb_off0 _ hb64 c (by omega) ht) ?_
    have e : rb_thr b n r c k = 0 := by
      unfold rb_thr
      rw [ht]
      rfl
    rw [e] at H
    exact H _ _ _ _ _ _ _ _ _ _ _ _ hK
  · have F := rb_offF _ hb64 c (by omega) ht
    refine br_f F.1 (pk_eq k 0 (fun e0 => ?_) (fun e0 => ?_))
    · have e : rb_thr b n r c k = 0 := by
        unfold rb_thr
        rw [ht, e0]
        rfl
      rw [e] at H
      exact H _ _ _ _ _ _ _ _ _ _ _ _ hK
    · have e : rb_thr b n r c k = nI (rb_R b n n k 0) - nI (rb_R (rb_off b r c) n n k 0) := by
        unfold rb_thr
        rw [ht, show (k != 0) = true from by simp [e0]]
        rfl
      rw [e] at H
      refine rb_countOf (by omega) hK (fun f1 a1 a2 a3 a4 a5 a6 a7 a8 a9 a10 a11 hK => ⟨pk_in r 6 (by omega), pk_in r 6 (by omega), nm_e ?_⟩)
      dsimp only
      rw [(hK.2.2.1 r hr).2, F.2.1]
      have hK' : rb_K n (rb_off b r c) wt (upd a1 r (nI (b r - 2 ^ c))) a2 a7 a8 := by
        refine ⟨hK.1, hK.2.1, fun j hj => ?_, hK.2.2.2⟩
        unfold rb_off
        by_cases ej : j = r
        · subst ej
          rw [if_pos rfl, pk_us]
          exact ⟨Nat.lt_of_le_of_lt (Nat.sub_le _ _) hb.1, rfl⟩
        · rw [if_neg ej, pk_un ej]
          exact hK.2.2.1 j hj
      refine rb_countOf (by omega) hK' (fun f1 a1 a2 a3 a4 a5 a6 a7 a8 a9 a10 a11 hK => ⟨pk_in r 6 (by omega), pk_in r 6 (by omega), nm_e ?_⟩)
      dsimp only
      have er : a1 r = nI (b r - 2 ^ c) := by
        rw [(hK.2.2.1 r hr).2]
        unfold rb_off
        rw [if_pos rfl]
      rw [er, F.2.2]
      refine H _ _ _ _ _ _ _ _ _ _ _ _ ⟨hK.1, hK.2.1, fun j hj => ?_, hK.2.2.2⟩
      by_cases ej : j = r
      · subst ej
        rw [pk_us]
        exact ⟨hb.1, rfl⟩
      · have g := hK.2.2.1 j hj
        unfold rb_off at g
        rw [if_neg ej] at g
        rw [pk_un ej]
        exact g
theorem rb_through {post : Int32 → St2 → Prop} {r c k : Nat} (hr : r < n) (hc : c < n) (hk : k ≤ n) (hK : rb_K n b wt a1 a2 a7 a8)
    (H : rb_P n b wt (post (rb_thr b n r c k))) : wpX_through post (nI n, f1, a1, a2, a3, a4, a5, a6, a7, a8, a9, a10, a11) (nI (6 * r + c)) (nI k) := by
  unfold wpX_through
  dsimp only
  exact rb_badCell0 hK.2.1 hr hc (br_t rfl (rb_badNum hK.2.1 hk (br_t rfl (rb_cth hr hc hk hK H))))
end
end
section
/-! sums of placements, set by set -/
def rb_val (sg : Bool) (σ wt : Nat → Int32) (t c : Nat) : Int32 := bif sg && (rb_pop ((t - 2 ^ c) / 2 ^ c) % 2 == 1) then -(σ (t - 2 ^ c) * wt c) else σ (t - 2 ^ c) * wt c
def rb_row (n m : Nat) (wt : Nat → Int32) (sg mp : Bool) (σ : Nat → Int32) (t : Nat) : Int32 := (bif mp then σ t else 0) + rb_sI (fun c => m.testBit c && t.testBit c) (rb_val sg σ wt t) n
def rb_rowK (n m : Nat) (wt : Nat → Int32) (sg mp : Bool) (σ : Nat → Int32) (K t : Nat) : Int32 := (bif mp then σ t else 0) + rb_sI (fun c => (m.testBit c && t.testBit c) && decide (n * (t - 2 ^ c) + c < K)) (rb_val sg σ wt t) n
theorem rb_dm {n x c : Nat} (h : c < n) : (n * x + c) % n = c ∧ (n * x + c) / n = x :=
  ⟨by rw [Nat.mul_add_mod, Nat.mod_eq_of_lt h], by rw [Nat.mul_add_div (by omega), Nat.div_eq_of_lt h, Nat.add_zero]⟩
theorem rb_tF : ∀ t, t < 64 → ∀ c, c < 6 → t.testBit c = true → 2 ^ c ≤ t ∧ (t - 2 ^ c).testBit c = false := by decide +kernel
theorem rb_sF : ∀ s, s < 64 → ∀ c, c < 6 → s.testBit c = false → s ||| 2 ^ c = s + 2 ^ c ∧ (s + 2 ^ c).testBit c = true ∧ s + 2 ^ c < 64 := by decide +kernel
theorem rb_rowA {n m K : Nat} {wt σ : Nat → Int32} {sg mp : Bool} (hn : n ≤ 6) (hK : K < 64 * n) (hm : m.testBit (K % n) = true) (hs : (K / n).testBit (K % n) = false) :
    rb_rowK n m wt sg mp σ (K + 1) (K / n + 2 ^ (K % n)) = rb_rowK n m wt sg mp σ K (K / n + 2 ^ (K % n)) + rb_val sg σ wt (K / n + 2 ^ (K % n)) (K % n) := by
  have h1 : 0 < n := by omega
  have hc : K % n < n := Nat.mod_lt _ h1
  have hq : K / n < 64 := Nat.div_lt_of_lt_mul (by rw [Nat.mul_comm]; exact hK)
  have F := rb_sF (K / n) hq (K % n) (by omega) hs
  have hd : n * (K / n) + K % n = K := Nat.div_add_mod K n
  unfold rb_rowK
  rw [rb_sI_one (q := fun c => (m.testBit c && (K / n + 2 ^ (K % n)).testBit c) && decide (n * (K / n + 2 ^ (K % n) - 2 ^ c) + c < K)) hc, Int32.add_assoc]
  · rw [hm, F.2.1, Nat.add_sub_cancel, hd]
    simp
  · rw [Nat.add_sub_cancel, hd]
    simp
  · intro c hcn hne
    congr 1
    refine decide_eq_decide.mpr ?_
    have : n * (K / n + 2 ^ (K % n) - 2 ^ c) + c ≠ K := by
      intro e
      have g := (rb_dm (x := K / n + 2 ^ (K % n) - 2 ^ c) hcn).1
      rw [e] at g
      exact hne g.symm
    omega
theorem rb_rowB {n m K t : Nat} {wt σ : Nat → Int32} {sg mp : Bool} (hn : n ≤ 6) (ht : t < 64) (hx : ¬ (m.testBit (K % n) = true ∧ (K / n).testBit (K % n) = false ∧ t = K / n + 2 ^ (K % n))) :
    rb_rowK n m wt sg mp σ (K + 1) t = rb_rowK n m wt sg mp σ K t := by
  unfold rb_rowK
  congr 1
  refine rb_sI_congr (fun c hc => ?_) (fun _ _ _ => rfl)
  by_cases e : n * (t - 2 ^ c) + c = K
  · have g := rb_dm (x := t - 2 ^ c) hc
    rw [e] at g
    cases hb : (m.testBit c && t.testBit c)
    · rfl
    · rw [Bool.and_eq_true] at hb
      have F := rb_tF t ht c (by omega) hb.2
      exact absurd ⟨by rw [g.1]; exact hb.1, by rw [g.1, g.2]; exact F.2, by rw [g.1, g.2]; omega⟩ hx
  · congr 1
    refine decide_eq_decide.mpr ?_
    omega
theorem rb_row0 {n m t : Nat} {wt σ : Nat → Int32} {sg mp : Bool} : rb_rowK n m wt sg mp σ 0 t = (bif mp then σ t else 0) := by
  unfold rb_rowK
  rw [rb_sI_none (fun c _ => by simp), rb_i0]
theorem rb_rowE {n m t : Nat} {wt σ : Nat → Int32} {sg mp : Bool} (ht : t < 64) : rb_rowK n m wt sg mp σ (64 * n) t = rb_row n m wt sg mp σ t := by
  unfold rb_rowK rb_row
  congr 1
  refine rb_sI_congr (fun c hc => ?_) (fun _ _ _ => rfl)
  have h1 : n * (t - 2 ^ c) ≤ n * 63 := Nat.mul_le_mul_left n (Nat.le_trans (Nat.sub_le _ _) (by omega))
  rw [decide_eq_true (by omega), Bool.and_true]
section
variable {f1 : Int32} {a1 a2 a3 a4 a5 a6 a7 a8 a9 a10 a11 : Nat → Int32} {n : Nat} {b : Nat → Nat} {wt σ : Nat → Int32} {sg mp : Bool}
theorem rb_sr195 {post : St2 → Prop} (H : ∀ a5', (∀ t, t < 64 → a5' t = a6 t) → post (nI n, f1, a1, a2, a3, a4, a5', a6, a7, a8, a9, a10, a11)) : ∃ m, wX_sumRow_195 post (nI n) f1 m 0 a1 a2 a3 a4 a5 a6 a7 a8 a9 a10 a11 :=
  pk_loop (fun m i s => wX_sumRow_195 post (nI n) f1 m (nI i) a1 a2 a3 a4 s a6 a7 a8 a9 a10 a11) (fun i s => ∀ j, j < i → s j = a6 j) 64 0 a5 (by omega) (fun j hj => absurd hj (by omega))
    (fun m s h => pk_le 64 64 (fun _ => H s h) (fun z => absurd z (by omega)))
    (fun m i s hi h hw => pk_le 64 i (fun z => absurd z (by omega)) (fun _ => ⟨pk_in i 64 (by omega), pk_in i 64 (by omega), nm_e (nm_r (nI_1 i) (by
      rw [nI_clamp (by omega)]
      refine hw _ (fun j hj => ?_)
      by_cases e : j = i
      · rw [e, pk_us]
      · rw [pk_un e]
        exact h j (by omega)))⟩))
theorem rb_sr41 {post : St2 → Prop} {x2 : Int32} {r : Nat} (hK : rb_K n b wt a1 a2 a7 a8) (hr : r < n) (hx2 : x2 = 0 ↔ sg = false) (h5 : ∀ s, s < 64 → a5 s = σ s) (h6' : ∀ t, t < 64 → a6 t = bif mp then σ t else 0)
    (H : ∀ a6', (∀ t, t < 64 → a6' t = rb_row n (b r) (fun c => wt (6 * r + c)) sg mp σ t) → ∃ m, wX_sumRow_195 post (nI n) f1 m 0 a1 a2 a3 a4 a5 a6' a7 a8 a9 a10 a11) : ∃ m, wX_sumRow_41 post (nI r) x2 (nI n) f1 m 0 a1 a2 a3 a4 a5 a6 a7 a8 a9 a10 a11 := by
  have h6 := hK.2.1
  have h1 := hK.1
  have hb := hK.2.2.1 r hr
  have hb64 := rb_lt64 h6 hb.1
  have ex : (64 : Int32) * nI n = nI (64 * n) := pk_mul 64 n
  refine pk_loop (fun m i s => wX_sumRow_41 post (nI r) x2 (nI n) f1 m (nI i) a1 a2 a3 a4 a5 s a7 a8 a9 a10 a11) (fun i s => ∀ t, t < 64 → s t = rb_rowK n (b r) (fun c => wt (6 * r + c)) sg mp σ i t) (64 * n) 0 a6 (by omega) (fun t ht => by rw [h6' t ht, rb_row0]) ?_ ?_
  · exact fun m s h => pk_le (64 * n) (64 * n) (fun _ => H s (fun t ht => by rw [h t ht, rb_rowE ht])) (fun z => absurd z (by omega)) ex
  · intro m K s hKn h hw
    have hc : K % n < n := Nat.mod_lt _ h1
    have hq : K / n < 64 := Nat.div_lt_of_lt_mul (by rw [Nat.mul_comm]; exact hKn)
    refine pk_le (64 * n) K (fun z => absurd z (by omega)) (fun _ => ⟨nI_ne0 h1 (by omega), nm_r (pk_div (by omega) h1 (by omega)) ⟨nI_ne0 h1 (by omega), nm_r (pk_rem (by omega) h1 (by omega)) ⟨pk_in r 6 (by omega), ?_⟩⟩⟩) ex
    rw [nI_clamp (show r < 2 ^ 31 by omega), hb.2]
    refine ek_if (rb_b1 hb64 (by omega)) (fun hm => ek_if (rb_b0 hq (by omega)) (fun hs => ?_) (fun hs => ?_)) (fun hm => ?_)
    · have F := rb_sF (K / n) hq (K % n) (by omega) hs
      unfold wX_sumRow_101
      refine br_f (by decide) ⟨pk_in (K / n) 64 hq, ?_⟩
      rw [nI_clamp (show K / n < 2 ^ 31 by omega), h5 _ hq]
      by_cases e0 : σ (K / n) = 0
      · refine br_t e0 (nm_r (nI_1 K) (hw s (fun t ht => ?_)))
        rw [h t ht]
        by_cases et : t = K / n + 2 ^ (K % n)
        · subst et
          rw [rb_rowA h6 hKn hm hs]
          have ev : rb_val sg σ (fun c => wt (6 * r + c)) (K / n + 2 ^ (K % n)) (K % n) = 0 := by
            unfold rb_val
            rw [Nat.add_sub_cancel, e0, Int32.zero_mul]
            cases (sg && (rb_pop (K / n / 2 ^ (K % n)) % 2 == 1)) <;> decide
          rw [ev, rb_i0]
        · rw [rb_rowB h6 ht (fun z => et z.2.2)]
      · refine br_f e0 ?_
        rw [rb_shr _ hq _ (by omega), rb_shl _ (by omega), rb_or, F.1]
        have hsh := rb_shN (K / n) hq (K % n) (by omega)
        have fin : ∀ v, v = rb_val sg σ (fun c => wt (6 * r + c)) (K / n + 2 ^ (K % n)) (K % n) → wX_sumRow_41 post (nI r) x2 (nI n) f1 m (nI (K + 1)) a1 a2 a3 a4 a5 (upd s (K / n + 2 ^ (K % n)) (s (K / n + 2 ^ (K % n)) + v)) a7 a8 a9 a10 a11 := by
          intro v hv
          refine hw _ (fun t ht => ?_)
          by_cases et : t = K / n + 2 ^ (K % n)
          · subst et
            rw [pk_us, rb_rowA h6 hKn hm hs, h _ ht, hv]
          · rw [pk_un et, h t ht, rb_rowB h6 ht (fun z => et z.2.2)]
        have ew : a2 (6 * r + K % n) = wt (6 * r + K % n) := hK.2.2.2.1 _ (by omega)
        refine rb_size hsh ⟨pk_in (K / n) 64 hq, pk_in (6 * r + K % n) 36 (by omega) (rb_ix6 _ _), nm_r (show _ = σ (K / n) * wt (6 * r + K % n) by rw [rb_ix6, nI_clamp (by omega), ew]) ⟨pk_in _ 64 F.2.2, ?_⟩⟩
        rw [nI_clamp (show K / n + 2 ^ (K % n) < 2 ^ 31 by omega)]
        refine ek_if hx2 (fun z => ⟨pk_in _ 64 F.2.2, nm_e (nm_r (nI_1 K) (fin _ ?_))⟩) (fun z => ?_)
        · unfold rb_val
          rw [Nat.add_sub_cancel, z]
          rfl
        · have z' : sg = true := by
            cases sg
            · exact absurd rfl z
            · rfl
          rw [rb_n1 (show rb_pop (K / n / 2 ^ (K % n)) < 2 ^ 32 from ?_)]
          · refine pk_eq (rb_pop (K / n / 2 ^ (K % n)) % 2) 1 (fun g => ⟨pk_in _ 64 F.2.2, nm_e (nm_r (nI_1 K) (fin _ ?_))⟩) (fun g => ⟨pk_in _ 64 F.2.2, nm_e (nm_r (nI_1 K) (fin _ ?_))⟩)
            · unfold rb_val
              rw [Nat.add_sub_cancel, z', g]
              rfl
            · unfold rb_val
              rw [Nat.add_sub_cancel, z', show rb_pop (K / n / 2 ^ (K % n)) % 2 = 0 by omega]
              rfl
          · have : ∀ x, x < 64 → rb_pop x < 7 := by decide +kernel
            exact Nat.lt_trans (this _ hsh) (by decide)
    · unfold wX_sumRow_100 wX_sumRow_101
      exact br_t rfl (nm_r (nI_1 K) (hw s (fun t ht => by rw [h t ht, rb_rowB h6 ht (fun z => hs z.2.1)])))
    · unfold wX_sumRow_100 wX_sumRow_101
      exact br_t rfl (nm_r (nI_1 K) (hw s (fun t ht => by rw [h t ht, rb_rowB h6 ht (fun z => hm z.1)])))
theorem rb_sumRow {post : St2 → Prop} {x2 x3 : Int32} {r : Nat} (hK : rb_K n b wt a1 a2 a7 a8) (hr : r < n) (hx2 : x2 = 0 ↔ sg = false) (hx3 : x3 = 0 ↔ mp = false) (h5 : ∀ s, s < 64 → a5 s = σ s)
    (H : ∀ a5' a6', (∀ t, t < 64 → a5' t = rb_row n (b r) (fun c => wt (6 * r + c)) sg mp σ t) → post (nI n, f1, a1, a2, a3, a4, a5', a6', a7, a8, a9, a10, a11)) : wpX_sumRow post (nI n, f1, a1, a2, a3, a4, a5, a6, a7, a8, a9, a10, a11) (nI r) x2 x3 := by
  refine pk_loop (fun m i s => wX_sumRow_3 post (nI r) x2 x3 (nI n) f1 m (nI i) a1 a2 a3 a4 a5 s a7 a8 a9 a10 a11) (fun i s => ∀ t, t < i → s t = bif mp then σ t else 0) 64 0 a6 (by omega) (fun t ht => absurd ht (by omega)) ?_ ?_
  · exact fun m s h => pk_le 64 64 (fun _ => rb_sr41 hK hr hx2 h5 h (fun a6' h' => rb_sr195 (fun a5' h'' => H a5' a6' (fun t ht => by rw [h'' t ht, h' t ht])))) (fun z => absurd z (by omega))
  · intro m i s hi h hw
    have fin : ∀ v, v = (bif mp then σ i else 0) → wX_sumRow_3 post (nI r) x2 x3 (nI n) f1 m (nI (i + 1)) a1 a2 a3 a4 a5 (upd s i v) a7 a8 a9 a10 a11 := by
      intro v hv
      refine hw _ (fun j hj => ?_)
      by_cases e : j = i
      · rw [e, pk_us, hv]
      · rw [pk_un e]
        exact h j (by omega)
    refine pk_le 64 i (fun z => absurd z (by omega)) (fun _ => ek_if hx3 (fun z => ⟨pk_in i 64 (by omega), nm_e (nm_r (nI_1 i) ?_)⟩) (fun z => ⟨pk_in i 64 (by omega), pk_in i 64 (by omega), nm_e (nm_r (nI_1 i) ?_)⟩))
    · rw [nI_clamp (by omega)]
      exact fin _ (by rw [z]; rfl)
    · rw [nI_clamp (by omega)]
      refine fin _ ?_
      rw [h5 i hi]
      cases mp
      · exact absurd rfl z
      · rfl
end
/-- the sums behind r rows -/
def rb_it (n : Nat) (b : Nat → Nat) (wt : Nat → Int32) (sg mp : Bool) : Nat → Nat → Int32
  | 0, s => bif s == 0 then 1 else 0
  | r + 1, s => rb_row n (b r) (fun c => wt (6 * r + c)) sg mp (rb_it n b wt sg mp r) s
section
variable {f1 : Int32} {a1 a2 a3 a4 a5 a6 a7 a8 a9 a10 a11 : Nat → Int32} {n : Nat} {b : Nat → Nat} {wt σ : Nat → Int32} {sg mp : Bool}
theorem rb_clear {post : St2 → Prop} (H : ∀ a5', (∀ t, t < 64 → a5' t = bif t == 0 then 1 else 0) → post (nI n, f1, a1, a2, a3, a4, a5', a6, a7, a8, a9, a10, a11)) : wpX_clearSums post (nI n, f1, a1, a2, a3, a4, a5, a6, a7, a8, a9, a10, a11) :=
  pk_loop (fun m i s => wX_clearSums_2 post (nI n) f1 m (nI i) a1 a2 a3 a4 s a6 a7 a8 a9 a10 a11) (fun i s => ∀ j, j < i → s j = 0) 64 0 a5 (by omega) (fun j hj => absurd hj (by omega))
    (fun m s h => pk_le 64 64 (fun _ => nm_e (H _ (fun t ht => by
      by_cases e : t = 0
      · subst e
        rw [pk_us]
        rfl
      · rw [pk_un e, h t ht, show (t == 0) = false by simp [e]]
        rfl))) (fun z => absurd z (by omega)))
    (fun m i s hi h hw => pk_le 64 i (fun z => absurd z (by omega)) (fun _ => ⟨pk_in i 64 (by omega), nm_e (nm_r (nI_1 i) (by
      rw [nI_clamp (by omega)]
      refine hw _ (fun j hj => ?_)
      by_cases e : j = i
      · rw [e, pk_us]
      · rw [pk_un e]
        exact h j (by omega)))⟩))
theorem rb_s41 {post : Int32 → St2 → Prop} {k : Nat} (hk : k ≤ 6) (h5 : ∀ s, s < 64 → a5 s = σ s) (H : post (rb_sI (fun s => rb_pop s == k) σ 64) (nI n, f1, a1, a2, a3, a4, a5, a6, a7, a8, a9, a10, a11)) :
    ∃ m, wX_sum_41 post (nI k) (nI n) f1 a1 a2 a3 a4 a5 a6 a7 a8 a9 a10 a11 m 0 0 :=
  have hp : ∀ x, x < 64 → rb_pop x < 7 := by decide +kernel
  pk_loop (σ := Unit) (fun m i _ => wX_sum_41 post (nI k) (nI n) f1 a1 a2 a3 a4 a5 a6 a7 a8 a9 a10 a11 m (rb_sI (fun s => rb_pop s == k) σ i) (nI i)) (fun _ _ => True) 64 0 () (by omega) trivial
    (fun m _ _ => pk_le 64 64 (fun _ => H) (fun z => absurd z (by omega)))
    (fun m i _ hi _ hw => pk_le 64 i (fun z => absurd z (by omega)) (fun _ => rb_size hi (pk_eq (rb_pop i) k (fun e => ⟨pk_in i 64 hi, nm_r (by
        rw [nI_clamp (by omega), h5 i hi]
        show _ = rb_sI (fun s => rb_pop s == k) σ i + (bif rb_pop i == k then σ i else 0)
        rw [show (rb_pop i == k) = true by simp [e]]
        rfl) (nm_r (nI_1 i) (hw () trivial))⟩) (fun e => nm_r (nI_1 i) (by
        have g := hw () trivial
        have e' : rb_sI (fun s => rb_pop s == k) σ (i + 1) = rb_sI (fun s => rb_pop s == k) σ i := by
          show rb_sI (fun s => rb_pop s == k) σ i + (bif rb_pop i == k then σ i else 0) = _
          rw [show (rb_pop i == k) = false by simp [e]]
          exact rb_i0 _
        rw [e'] at g
        exact g)) rfl rfl (Nat.lt_trans (hp i hi) (by decide)))))
theorem rb_s16 {post : Int32 → St2 → Prop} {k : Nat} (hk : k ≤ n) (H : rb_P n b wt (post (rb_sI (fun s => rb_pop s == k) (rb_it n b wt false true n) 64))) :
    ∀ m r, r + m = n → ∀ (f1 : Int32) (a1 a2 a3 a4 a5 a6 a7 a8 a9 a10 a11 : Nat → Int32), rb_K n b wt a1 a2 a7 a8 → (∀ t, t < 64 → a5 t = rb_it n b wt false true r t) → wX_sum_16 post (nI k) (m + 1) (nI r) (nI n) f1 a1 a2 a3 a4 a5 a6 a7 a8 a9 a10 a11 := by
  intro m
  induction m with
  | zero =>
    intro r hr f1 a1 a2 a3 a4 a5 a6 a7 a8 a9 a10 a11 hK h5
    have h6 := hK.2.1
    have e : r = n := by omega
    subst e
    exact pk_le r r (fun _ => rb_s41 (by omega) h5 (H _ _ _ _ _ _ _ _ _ _ _ _ hK)) (fun z => absurd z (by omega))
  | succ m ih =>
    intro r hr f1 a1 a2 a3 a4 a5 a6 a7 a8 a9 a10 a11 hK h5
    have h6 := hK.2.1
    exact pk_le n r (fun z => absurd z (by omega)) (fun _ => rb_sumRow (sg := false) (mp := true) hK (by omega) (by decide) (by decide) h5 (fun a5' a6' h' => nm_r (nI_1 r) (ih (r + 1) (by omega) _ _ _ _ _ _ _ _ _ _ _ _ hK h')))
theorem rb_sumM {post : Int32 → St2 → Prop} {k : Nat} (hk : k ≤ n) (hK : rb_K n b wt a1 a2 a7 a8) (H : rb_P n b wt (post (rb_sI (fun s => rb_pop s == k) (rb_it n b wt false true n) 64))) :
    wpX_sum post (nI n, f1, a1, a2, a3, a4, a5, a6, a7, a8, a9, a10, a11) (nI k) := by
  unfold wpX_sum
  dsimp only
  exact rb_badNum hK.2.1 hk (br_t rfl (rb_clear (fun a5' h' => ⟨_, rb_s16 hk H n 0 (by omega) _ _ _ _ _ _ _ _ _ _ _ _ hK h'⟩)))
theorem rb_ss6 {post : Int32 → St2 → Prop} (H : rb_P n b wt (post (rb_it n b wt true false n (2 ^ n - 1)))) :
    ∀ m r, r + m = n → ∀ (f1 : Int32) (a1 a2 a3 a4 a5 a6 a7 a8 a9 a10 a11 : Nat → Int32), rb_K n b wt a1 a2 a7 a8 → (∀ t, t < 64 → a5 t = rb_it n b wt true false r t) → wX_signedSum_6 post (m + 1) (nI r) (nI n) f1 a1 a2 a3 a4 a5 a6 a7 a8 a9 a10 a11 := by
  intro m
  induction m with
  | zero =>
    intro r hr f1 a1 a2 a3 a4 a5 a6 a7 a8 a9 a10 a11 hK h5
    have h6 := hK.2.1
    have e : r = n := by omega
    subst e
    have h2 : 1 ≤ 2 ^ r := Nat.two_pow_pos r
    have h64 := rb_p64 r h6
    have ex : (1 : Int32) <<< (nI r &&& 31) - 1 = nI (2 ^ r - 1) := by rw [rb_shl r (by omega), rb_pr1 h2]
    refine pk_le r r (fun _ => ⟨pk_in (2 ^ r - 1) 64 (by omega) ex, ?_⟩) (fun z => absurd z (by omega))
    rw [ex, nI_clamp (by omega), h5 _ (by omega)]
    exact H _ _ _ _ _ _ _ _ _ _ _ _ hK
  | succ m ih =>
    intro r hr f1 a1 a2 a3 a4 a5 a6 a7 a8 a9 a10 a11 hK h5
    have h6 := hK.2.1
    exact pk_le n r (fun z => absurd z (by omega)) (fun _ => rb_sumRow (sg := true) (mp := false) hK (by omega) (by decide) (by decide) h5 (fun a5' a6' h' => nm_r (nI_1 r) (ih (r + 1) (by omega) _ _ _ _ _ _ _ _ _ _ _ _ hK h')))
theorem rb_signed {post : Int32 → St2 → Prop} (hK : rb_K n b wt a1 a2 a7 a8) (H : rb_P n b wt (post (rb_it n b wt true false n (2 ^ n - 1)))) :
    wpX_signedSum post (nI n, f1, a1, a2, a3, a4, a5, a6, a7, a8, a9, a10, a11) := by
  unfold wpX_signedSum
  dsimp only
  exact rb_clear (fun a5' h' => ⟨_, rb_ss6 H n 0 (by omega) _ _ _ _ _ _ _ _ _ _ _ _ hK h'⟩)
end
end
section
/-! greatest placements: a pure mirror of the search, run by the kernel over three boards -/
def rb_up (f : Nat → Nat) (i v : Nat) : Nat → Nat := fun j => if j = i then v else f j
def rb_mv (pr pc ro : Nat → Nat) : Nat → Nat → Nat
  | 0 => ro
  | d + 1 => rb_up (rb_mv pr pc ro d) (pc d) (pr d)
def rb_enc (v : Nat) : Int32 := if v = 9 then -1 else nI v
def rb_fc (b : Nat → Nat) (n : Nat) (ro : Nat → Nat) : Nat → Nat → Nat → (Nat → Nat) → (Nat → Nat) → Option (Nat → Nat)
  | 0, _, _, _, _ => none
  | f + 1, d, tr, pr, pc =>
    if pr d < n ∧ (b (pr d) &&& (63 ^^^ tr)) ≠ 0 ∧ d < 6 then
      if ro (rb_lo (b (pr d) &&& (63 ^^^ tr))) = 9 then some (rb_mv pr (rb_up pc d (rb_lo (b (pr d) &&& (63 ^^^ tr)))) ro (d + 1))
      else if ro (rb_lo (b (pr d) &&& (63 ^^^ tr))) < n then rb_fc b n ro f (d + 1) (tr ||| 2 ^ rb_lo (b (pr d) &&& (63 ^^^ tr))) (rb_up pr (d + 1) (ro (rb_lo (b (pr d) &&& (63 ^^^ tr))))) (rb_up pc d (rb_lo (b (pr d) &&& (63 ^^^ tr))))
      else none
    else none
def rb_chk1 (b : Nat → Nat) (n : Nat) (T : Nat → Nat → Nat) (r : Nat) : Bool :=
  match rb_fc b n (T r) 8 0 0 (fun _ => r) (fun _ => 0) with
  | some ro => (List.range 6).all (fun c => ro c == T (r + 1) c)
  | none => false
def rb_chk (b : Nat → Nat) (n : Nat) (T : Nat → Nat → Nat) : Bool := (List.range n).all (rb_chk1 b n T)
theorem rb_chkE {b : Nat → Nat} {n : Nat} {T : Nat → Nat → Nat} (h : rb_chk b n T = true) {r : Nat} (hr : r < n) : ∃ ro, rb_fc b n (T r) 8 0 0 (fun _ => r) (fun _ => 0) = some ro ∧ ∀ c, c < 6 → ro c = T (r + 1) c := by
  have g : rb_chk1 b n T r = true := List.all_eq_true.mp h r (List.mem_range.mpr hr)
  unfold rb_chk1 at g
  cases e : rb_fc b n (T r) 8 0 0 (fun _ => r) (fun _ => 0) with
  | none =>
    rw [e] at g
    exact absurd g (by simp)
  | some ro =>
    rw [e] at g
    exact ⟨ro, rfl, fun c hc => by
      have q := List.all_eq_true.mp g c (List.mem_range.mpr hc)
      exact eq_of_beq q⟩
def rb_tI (r c : Nat) : Nat := if c < r then c else 9
def rb_tG (r c : Nat) : Nat := if c < r then r - 1 - c else 9
def rb_tC (r c : Nat) : Nat := ([[9, 9, 9, 9, 9, 9], [9, 0, 9, 9, 9, 9], [1, 0, 9, 9, 9, 9], [2, 0, 1, 9, 9, 9], [3, 2, 0, 1, 9, 9], [4, 3, 1, 2, 0, 9], [5, 4, 3, 1, 2, 0]].getD r []).getD c 9
theorem rb_mI : ∀ n, n < 7 → rb_chk (fun r => 2 ^ r) n rb_tI = true := by decide +kernel
theorem rb_mF : ∀ n, n < 7 → rb_chk (fun _ => 2 ^ n - 1) n rb_tG = true := by decide +kernel
theorem rb_mC : ∀ n, n < 7 → 2 ≤ n → rb_chk (fun r => 2 ^ n - 1 - 2 ^ r) n rb_tC = true := by decide +kernel
section
variable {f1 : Int32} {a1 a2 a3 a4 a5 a6 a7 a8 a9 a10 a11 : Nat → Int32} {n : Nat} {b : Nat → Nat} {wt : Nat → Int32}
theorem rb_move {post : St2 → Prop} {d : Nat} {pr pc ro : Nat → Nat} (hd : d < 7) (h10 : ∀ j, j ≤ d → pr j < 6 ∧ a10 j = nI (pr j)) (h11 : ∀ j, j ≤ d → pc j < 6 ∧ a11 j = nI (pc j)) (h9 : ∀ c, c < 6 → a9 c = rb_enc (ro c))
    (H : ∀ a9', (∀ c, c < 6 → a9' c = rb_enc (rb_mv pr pc ro (d + 1) c)) → post (nI n, f1, a1, a2, a3, a4, a5, a6, a7, a8, a9', a10, a11)) : wpX_movePath post (nI n, f1, a1, a2, a3, a4, a5, a6, a7, a8, a9, a10, a11) (nI d) := by
  refine pk_loop (fun m i s => wX_movePath_2 post (nI d) (nI n) f1 m (nI i) a1 a2 a3 a4 a5 a6 a7 a8 s a10 a11) (fun i s => ∀ c, c < 6 → s c = rb_enc (rb_mv pr pc ro i c)) (d + 1) 0 a9 (by omega) h9 ?_ ?_
  · exact fun m s h => pk_lt d (d + 1) (fun _ => H s h) (fun z => absurd z (by omega))
  · intro m i s hi h hw
    have g10 := h10 i (by omega)
    have g11 := h11 i (by omega)
    have gl := g11.1
    refine pk_lt d i (fun z => absurd z (by omega)) (fun _ => ?_)
    rw [nI_clamp (show i < 2 ^ 31 by omega), g11.2, g10.2, vp_nar_byte, rb_byte _ (by omega)]
    refine ⟨pk_in i 7 (by omega), pk_in i 7 (by omega), pk_in (pc i) 6 g11.1, nm_e (nm_r (nI_1 i) ?_)⟩
    rw [nI_clamp (show pc i < 2 ^ 31 by omega)]
    refine hw _ (fun c hc => ?_)
    show _ = rb_enc (rb_up (rb_mv pr pc ro i) (pc i) (pr i) c)
    unfold rb_up
    by_cases e : c = pc i
    · rw [if_pos e, e, pk_us]
      unfold rb_enc
      rw [if_neg (by omega)]
    · rw [if_neg e, pk_un e]
      exact h c hc
theorem rb_fcW {post : Int32 → St2 → Prop} {ro ro' : Nat → Nat} (hK : rb_K n b wt a1 a2 a7 a8) (h9 : ∀ c, c < 6 → a9 c = rb_enc (ro c))
    (H : ∀ t a9' a10' a11', (∀ c, c < 6 → a9' c = rb_enc (ro' c)) → post 1 (nI n, t, a1, a2, a3, a4, a5, a6, a7, a8, a9', a10', a11')) :
    ∀ f d tr x3 pr pc, ∀ (a10 a11 : Nat → Int32), rb_fc b n ro f d tr pr pc = some ro' → x3 + f ≤ 100 → tr < 64 → (∀ j, j ≤ d → pr j < 6 ∧ a10 j = nI (pr j)) → (∀ j, j < d → pc j < 6 ∧ a11 j = nI (pc j)) →
      wX_findColumn_12 post (nI n) f (nI d) (nI x3) (nI tr) a1 a2 a3 a4 a5 a6 a7 a8 a9 a10 a11 := by
  have h6 := hK.2.1
  intro f
  induction f with
  | zero =>
    intro d tr x3 pr pc a10 a11 h
    exact absurd h (by simp [rb_fc])
  | succ f ih =>
    intro d tr x3 pr pc a10 a11 h hf htr h10 h11
    unfold rb_fc at h
    by_cases c1 : pr d < n ∧ (b (pr d) &&& (63 ^^^ tr)) ≠ 0 ∧ d < 6
    · rw [if_pos c1] at h
      have hb := hK.2.2.1 (pr d) c1.1
      have hb64 := rb_lt64 h6 hb.1
      have hy64 := rb_freeB _ hb64 _ htr
      have g10 := h10 d (by omega)
      have hd6 := c1.2.2
      generalize hy : b (pr d) &&& (63 ^^^ tr) = y at h hy64 c1
      have L := rb_loF y hy64 c1.2.1
      have Llt := L.1
      refine pk_le 100 x3 (fun z => absurd z (by omega)) (fun _ => br_f (nI_pos (by omega)) ⟨pk_in d 7 (by omega), ?_⟩)
      rw [nI_clamp (show d < 2 ^ 31 by omega), g10.2, nI_clamp (show pr d < 2 ^ 31 by omega), hb.2, rb_not _ hb64 _ htr, hy]
      refine ⟨pk_in (pr d) 6 g10.1, nm_e (pk_eq y 0 (fun z => absurd z c1.2.1) (fun _ => nm_r (rb_neg y hy64 c1.2.1) ?_))⟩
      rw [rb_pr1 (Nat.two_pow_pos _)]
      have hlow : 2 ^ rb_lo y - 1 < 64 := by
        have : ∀ l, l < 6 → 2 ^ l - 1 < 64 := by decide +kernel
        exact this _ L.1
      refine rb_size hlow ?_
      rw [rb_lowPop _ L.1, rb_byte _ (by omega), nI_clamp (show rb_lo y < 2 ^ 31 by omega), h9 _ L.1]
      refine nm_r (rb_or _ _) ⟨pk_in d 7 (by omega), nm_e ⟨pk_in (rb_lo y) 6 L.1, ?_⟩⟩
      have h11' : ∀ j, j < d + 1 → rb_up pc d (rb_lo y) j < 6 ∧ upd a11 d (nI (rb_lo y)) j = nI (rb_up pc d (rb_lo y) j) := by
        intro j hj
        unfold rb_up
        by_cases e : j = d
        · rw [if_pos e, e, pk_us]
          exact ⟨L.1, rfl⟩
        · rw [if_neg e, pk_un e]
          exact h11 j (by omega)
      by_cases c2 : ro (rb_lo y) = 9
      · rw [if_pos c2] at h
        rw [show rb_enc (ro (rb_lo y)) = -1 from if_pos c2]
        refine br_f (by decide) (rb_move (pr := pr) (pc := rb_up pc d (rb_lo y)) (ro := ro) (by omega) h10 (fun j hj => h11' j (by omega)) h9 (fun a9' h' => H _ _ _ _ (fun c hc => ?_)))
        rw [h' c hc]
        injection h with h
        rw [h]
      · rw [if_neg c2] at h
        by_cases c3 : ro (rb_lo y) < n
        · rw [if_pos c3] at h
          rw [show rb_enc (ro (rb_lo y)) = nI (ro (rb_lo y)) from if_neg c2]
          refine br_t (nI_pos' (by omega)) (nm_r (nI_1 d) ⟨pk_in (rb_lo y) 6 L.1, pk_in (d + 1) 7 (by omega), nm_e (nm_r (nI_1 x3) ?_)⟩)
          rw [vp_nar_byte, rb_byte _ (by omega), nI_clamp (show d + 1 < 2 ^ 31 by omega)]
          refine ih (d + 1) _ (x3 + 1) _ _ _ _ h (by omega) (rb_or64 tr htr _ L.1) (fun j hj => ?_) h11'
          unfold rb_up
          by_cases e : j = d + 1
          · rw [if_pos e, e, pk_us]
            exact ⟨by omega, rfl⟩
          · rw [if_neg e, pk_un e]
            exact h10 j (by omega)
        · rw [if_neg c3] at h
          exact absurd h (by simp)
    · rw [if_neg c1] at h
      exact absurd h (by simp)
theorem rb_fm25 {post : Int32 → St2 → Prop} {T : Nat → Nat → Nat} (hT : rb_chk b n T = true) (H : rb_P n b wt (post (nI n))) :
    ∀ m r, r + m = n → ∀ (f1 : Int32) (a1 a2 a3 a4 a5 a6 a7 a8 a9 a10 a11 : Nat → Int32), rb_K n b wt a1 a2 a7 a8 → (∀ c, c < 6 → a9 c = rb_enc (T r c)) → wX_findMost_25 post (m + 1) (nI r) (nI r) (nI n) f1 a1 a2 a3 a4 a5 a6 a7 a8 a9 a10 a11 := by
  intro m
  induction m with
  | zero =>
    intro r hr f1 a1 a2 a3 a4 a5 a6 a7 a8 a9 a10 a11 hK h9
    have h6 := hK.2.1
    have e : r = n := by omega
    subst e
    exact pk_le r r (fun _ => H _ _ _ _ _ _ _ _ _ _ _ _ hK) (fun z => absurd z (by omega))
  | succ m ih =>
    intro r hr f1 a1 a2 a3 a4 a5 a6 a7 a8 a9 a10 a11 hK h9
    have h6 := hK.2.1
    refine pk_le n r (fun z => absurd z (by omega)) (fun _ => ?_)
    obtain ⟨ro', e1, e2⟩ := rb_chkE hT (show r < n by omega)
    refine nm_e ⟨8, rb_fcW (ro := T r) (ro' := ro') hK h9 ?_ 8 0 0 0 (fun _ => r) (fun _ => 0) _ _ e1 (by omega) (by omega) (fun j hj => ?_) (fun j hj => absurd hj (by omega))⟩
    · intro t a9' a10' a11' h'
      exact br_f (by decide) (nm_r (nI_1 r) (nm_r (nI_1 r) (ih (r + 1) (by omega) _ _ _ _ _ _ _ _ _ _ _ _ hK (fun c hc => by rw [h' c hc, e2 c hc]))))
    · have ej : j = 0 := by omega
      subst ej
      rw [pk_us, rb_byte _ (by omega)]
      exact ⟨by omega, rfl⟩
theorem rb_most {post : Int32 → St2 → Prop} {T : Nat → Nat → Nat} (hT : rb_chk b n T = true) (h0 : ∀ c, T 0 c = 9 ∨ 6 ≤ c) (hK : rb_K n b wt a1 a2 a7 a8) (H : rb_P n b wt (post (nI n))) :
    wpX_findMost post (nI n, f1, a1, a2, a3, a4, a5, a6, a7, a8, a9, a10, a11) := by
  refine pk_loop (fun m i s => wX_findMost_2 post (nI n) f1 m (nI i) a1 a2 a3 a4 a5 a6 a7 a8 s a10 a11) (fun i s => ∀ j, j < i → s j = -1) 6 0 a9 (by omega) (fun j hj => absurd hj (by omega)) ?_ ?_
  · intro m s h
    refine pk_le 6 6 (fun _ => ⟨_, rb_fm25 hT H n 0 (by omega) _ _ _ _ _ _ _ _ _ _ _ _ hK (fun c hc => ?_)⟩) (fun z => absurd z (by omega))
    rw [h c hc]
    rcases h0 c with e | e
    · rw [e]
      rfl
    · omega
  · intro m i s hi h hw
    refine pk_le 6 i (fun z => absurd z (by omega)) (fun _ => ⟨pk_in i 6 (by omega), nm_e (nm_r (nI_1 i) ?_)⟩)
    rw [nI_clamp (by omega)]
    refine hw _ (fun j hj => ?_)
    by_cases e : j = i
    · rw [e, pk_us]
    · rw [pk_un e]
      exact h j (by omega)
theorem rb_mostM {post : Int32 → St2 → Prop} {T : Nat → Nat → Nat} (hT : rb_chk b n T = true) (h0 : ∀ c, T 0 c = 9 ∨ 6 ≤ c) (hK : rb_K n b wt a1 a2 a7 a8) (H : rb_P n b wt (post (nI n))) :
    wpX_most post (nI n, f1, a1, a2, a3, a4, a5, a6, a7, a8, a9, a10, a11) := by
  unfold wpX_most
  dsimp only
  exact rb_most hT h0 hK H
theorem rb_lines {post : Int32 → St2 → Prop} {T : Nat → Nat → Nat} (hT : rb_chk b n T = true) (h0 : ∀ c, T 0 c = 9 ∨ 6 ≤ c) (hK : rb_K n b wt a1 a2 a7 a8) (H : rb_P n b wt (post (nI n))) :
    wpX_lines post (nI n, f1, a1, a2, a3, a4, a5, a6, a7, a8, a9, a10, a11) := by
  unfold wpX_lines
  dsimp only
  exact rb_most hT h0 hK H
end
/-- needed: the cells that every greatest placement takes -/
def rb_ndp (b : Nat → Nat) (n i : Nat) : Bool := (decide (i / 6 < n) && decide (i % 6 < n)) && decide (rb_thr b n (i / 6) (i % 6) n = nI (rb_R b n n n 0))
def rb_nd (b : Nat → Nat) (n i : Nat) : Nat := rb_sum (rb_ndp b n) (fun _ => 1) i
section
variable {f1 : Int32} {a1 a2 a3 a4 a5 a6 a7 a8 a9 a10 a11 : Nat → Int32} {n : Nat} {b : Nat → Nat} {wt : Nat → Int32}
theorem rb_cthI {post : Int32 → St2 → Prop} {i k : Nat} (hr : i / 6 < n) (hc : i % 6 < n) (hk : k ≤ n) (hK : rb_K n b wt a1 a2 a7 a8)
    (H : rb_P n b wt (post (rb_thr b n (i / 6) (i % 6) k))) : wpX_countThrough post (nI n, f1, a1, a2, a3, a4, a5, a6, a7, a8, a9, a10, a11) (nI i) (nI k) := by
  have g := rb_cth (f1 := f1) (a3 := a3) (a4 := a4) (a5 := a5) (a6 := a6) (a9 := a9) (a10 := a10) (a11 := a11) hr hc hk hK H
  rw [show 6 * (i / 6) + i % 6 = i by omega] at g
  exact g
theorem rb_nd9 {post : Int32 → St2 → Prop} (H : rb_P n b wt (post (nI (rb_nd b n 36)))) :
    ∀ m i, i + m = 36 → ∀ (f1 : Int32) (a1 a2 a3 a4 a5 a6 a7 a8 a9 a10 a11 : Nat → Int32), rb_K n b wt a1 a2 a7 a8 → wX_needed_9 post (nI n) (m + 1) (nI (rb_nd b n i)) (nI i) (nI n) f1 a1 a2 a3 a4 a5 a6 a7 a8 a9 a10 a11 := by
  intro m
  induction m with
  | zero =>
    intro i hi f1 a1 a2 a3 a4 a5 a6 a7 a8 a9 a10 a11 hK
    have e : i = 36 := by omega
    subst e
    exact pk_le 36 36 (fun _ => H _ _ _ _ _ _ _ _ _ _ _ _ hK) (fun z => absurd z (by omega))
  | succ m ih =>
    intro i hi f1 a1 a2 a3 a4 a5 a6 a7 a8 a9 a10 a11 hK
    have h1 := hK.1
    have h6 := hK.2.1
    have no : rb_ndp b n i = false → rb_nd b n (i + 1) = rb_nd b n i := by
      intro e
      show rb_nd b n i + (bif rb_ndp b n i then 1 else 0) = _
      rw [e]
      rfl
    have ye : rb_ndp b n i = true → rb_nd b n (i + 1) = rb_nd b n i + 1 := by
      intro e
      show rb_nd b n i + (bif rb_ndp b n i then 1 else 0) = _
      rw [e]
      rfl
    refine pk_le 36 i (fun z => absurd z (by omega)) (fun _ => rb_badCell h6 (by omega) (fun hr hc => br_t rfl (pk_le n 0 (fun z => absurd z (by omega)) (fun _ => ?_))) (fun z => br_f (by decide) (nm_r (nI_1 i) ?_)))
    · refine rb_cthI hr hc (Nat.le_refl n) hK (fun f1 a1 a2 a3 a4 a5 a6 a7 a8 a9 a10 a11 hK => rb_countOf h6 hK (fun f1 a1 a2 a3 a4 a5 a6 a7 a8 a9 a10 a11 hK => br_c (fun e => nm_r (nI_1 _) (nm_r (nI_1 i) ?_)) (fun e => nm_r (nI_1 i) ?_)))
      · have g := ih (i + 1) (by omega) f1 a1 a2 a3 a4 a5 a6 a7 a8 a9 a10 a11 hK
        rw [ye (by unfold rb_ndp; rw [decide_eq_true hr, decide_eq_true hc, decide_eq_true e]; rfl)] at g
        exact g
      · have g := ih (i + 1) (by omega) f1 a1 a2 a3 a4 a5 a6 a7 a8 a9 a10 a11 hK
        rw [no (by unfold rb_ndp; rw [decide_eq_false e, Bool.and_false])] at g
        exact g
    · have g := ih (i + 1) (by omega) f1 a1 a2 a3 a4 a5 a6 a7 a8 a9 a10 a11 hK
      rw [no (by
        unfold rb_ndp
        by_cases hr : i / 6 < n
        · rw [decide_eq_false (show ¬ i % 6 < n by omega), Bool.and_false, Bool.false_and]
        · rw [decide_eq_false hr, Bool.false_and, Bool.false_and])] at g
      exact g
theorem rb_needed {post : Int32 → St2 → Prop} {T : Nat → Nat → Nat} (hT : rb_chk b n T = true) (h0 : ∀ c, T 0 c = 9 ∨ 6 ≤ c) (hK : rb_K n b wt a1 a2 a7 a8) (H : rb_P n b wt (post (nI (rb_nd b n 36)))) :
    wpX_needed post (nI n, f1, a1, a2, a3, a4, a5, a6, a7, a8, a9, a10, a11) := by
  unfold wpX_needed
  dsimp only
  exact rb_most hT h0 hK (fun f1 a1 a2 a3 a4 a5 a6 a7 a8 a9 a10 a11 hK => ⟨_, rb_nd9 H 36 0 (by omega) _ _ _ _ _ _ _ _ _ _ _ _ hK⟩)
end
end
section
/-! ways on the full board, or the full board without the cell (r0, c0): they go by the number m of free columns, and by whether c0 is free -/
def rb_G (n r0 : Nat) : Nat → Nat → Nat → Bool → Nat
  | 0, k, _, _ => bif k == 0 then 1 else 0
  | _ + 1, 0, _, _ => 1
  | d + 1, k + 1, m, f => rb_G n r0 d (k + 1) m f + (bif f then (m - 1) * rb_G n r0 d k (m - 1) true + (bif n - 1 - d == r0 then 0 else rb_G n r0 d k (m - 1) false) else m * rb_G n r0 d k (m - 1) false)
theorem rb_sumA {p : Nat → Bool} {A : Nat} : ∀ m, rb_sum p (fun _ => A) m = rb_sum p (fun _ => 1) m * A
  | 0 => (Nat.zero_mul A).symm
  | m + 1 => by
    show rb_sum p (fun _ => A) m + (bif p m then A else 0) = (rb_sum p (fun _ => 1) m + (bif p m then 1 else 0)) * A
    rw [rb_sumA m, Nat.add_mul]
    cases p m <;> simp
theorem rb_sumAB {p : Nat → Bool} {c0 A B : Nat} : ∀ m, rb_sum p (fun c => bif c == c0 then A else B) m = rb_sum (fun c => p c && c != c0) (fun _ => 1) m * B + rb_sum (fun c => p c && c == c0) (fun _ => 1) m * A
  | 0 => by
    show 0 = 0 * B + 0 * A
    omega
  | m + 1 => by
    show rb_sum p (fun c => bif c == c0 then A else B) m + (bif p m then (bif m == c0 then A else B) else 0) = (rb_sum (fun c => p c && c != c0) (fun _ => 1) m + (bif p m && m != c0 then 1 else 0)) * B + (rb_sum (fun c => p c && c == c0) (fun _ => 1) m + (bif p m && m == c0 then 1 else 0)) * A
    rw [rb_sumAB m, Nat.add_mul, Nat.add_mul]
    cases p m
    · simp
    · by_cases e : m = c0
      · rw [show (m == c0) = true by simp [e], show (m != c0) = false by simp [e]]
        simp
        omega
      · rw [show (m == c0) = false by simp [e], show (m != c0) = true by simp [e]]
        simp
        omega
theorem rb_cnt1 : ∀ n, n < 7 → ∀ s, s < 64 → ∀ c0, c0 < 6 → (s < 2 ^ n ∧ c0 < n) → rb_sum (fun c => ((2 ^ n - 1).testBit c && !s.testBit c) && c != c0) (fun _ => 1) 6 = (bif !s.testBit c0 then n - rb_pop s - 1 else n - rb_pop s) := by decide +kernel
theorem rb_cnt2 : ∀ n, n < 7 → ∀ s, s < 64 → ∀ c0, c0 < 6 → (s < 2 ^ n ∧ c0 < n) → rb_sum (fun c => ((2 ^ n - 1).testBit c && !s.testBit c) && c == c0) (fun _ => 1) 6 = (bif !s.testBit c0 then 1 else 0) := by decide +kernel
theorem rb_cnt3 : ∀ n, n < 7 → ∀ s, s < 64 → ∀ c0, c0 < 6 → (s < 2 ^ n ∧ c0 < n) → rb_sum (fun c => ((2 ^ n - 1 - 2 ^ c0).testBit c && !s.testBit c) && c != c0) (fun _ => 1) 6 = (bif !s.testBit c0 then n - rb_pop s - 1 else n - rb_pop s) := by decide +kernel
theorem rb_cnt4 : ∀ n, n < 7 → ∀ s, s < 64 → ∀ c0, c0 < 6 → (s < 2 ^ n ∧ c0 < n) → rb_sum (fun c => ((2 ^ n - 1 - 2 ^ c0).testBit c && !s.testBit c) && c == c0) (fun _ => 1) 6 = 0 := by decide +kernel
theorem rb_popS : ∀ s, s < 64 → ∀ c, c < 6 → s.testBit c = false → rb_pop (s ||| 2 ^ c) = rb_pop s + 1 := by decide +kernel
theorem rb_orB : ∀ s, s < 64 → ∀ c, c < 6 → ∀ c0, c0 < 6 → (s ||| 2 ^ c).testBit c0 = (s.testBit c0 || c == c0) := by decide +kernel
theorem rb_fullT : ∀ n, n < 7 → ∀ c, c < 6 → ((2 ^ n - 1).testBit c = true → c < n) ∧ ∀ c0, c0 < 6 → (c0 < n ∧ (2 ^ n - 1 - 2 ^ c0).testBit c = true) → c < n := by decide +kernel
theorem rb_RG {n r0 c0 : Nat} {b : Nat → Nat} (hn : n ≤ 6) (hc0 : c0 < n) (hb : ∀ r, r < n → b r = if r = r0 then 2 ^ n - 1 - 2 ^ c0 else 2 ^ n - 1) :
    ∀ d, d ≤ n → ∀ k s, s < 2 ^ n → rb_R b n d k s = rb_G n r0 d k (n - rb_pop s) (!s.testBit c0) := by
  intro d
  induction d with
  | zero => exact fun _ _ _ _ => rfl
  | succ d ih =>
    intro hd k s hs
    cases k with
    | zero => rfl
    | succ k =>
      have hs64 := rb_lt64 hn hs
      have hbd := hb (n - 1 - d) (by omega)
      show rb_R b n d (k + 1) s + rb_sum (fun c => (b (n - 1 - d)).testBit c && !s.testBit c) (fun c => rb_R b n d k (s ||| 2 ^ c)) 6 = rb_G n r0 d (k + 1) (n - rb_pop s) (!s.testBit c0) + _
      rw [ih (by omega) (k + 1) s hs]
      congr 1
      have hcn : ∀ c, c < 6 → (b (n - 1 - d)).testBit c = true → c < n := by
        intro c hc h
        rw [hbd] at h
        by_cases e : n - 1 - d = r0
        · rw [if_pos e] at h
          exact (rb_fullT n (by omega) c hc).2 c0 (by omega) ⟨hc0, h⟩
        · rw [if_neg e] at h
          exact (rb_fullT n (by omega) c hc).1 h
      have e1 : rb_sum (fun c => (b (n - 1 - d)).testBit c && !s.testBit c) (fun c => rb_R b n d k (s ||| 2 ^ c)) 6 = rb_sum (fun c => (b (n - 1 - d)).testBit c && !s.testBit c) (fun c => bif c == c0 then rb_G n r0 d k (n - rb_pop s - 1) false else rb_G n r0 d k (n - rb_pop s - 1) (!s.testBit c0)) 6 := by
        refine rb_sum_congr (fun _ _ => rfl) (fun c hc h => ?_)
        rw [Bool.and_eq_true] at h
        have hsc : s.testBit c = false := by
          cases hh : s.testBit c
          · rfl
          · rw [hh] at h
            exact absurd h.2 (by decide)
        rw [ih (by omega) k _ (rb_orN n (by omega) s hs64 c hc hs (hcn c hc h.1)), rb_popS s hs64 c hc hsc, rb_orB s hs64 c hc c0 (by omega), Nat.sub_add_eq]
        cases c == c0
        · rw [Bool.or_false]
          rfl
        · rw [Bool.or_true]
          rfl
      rw [e1, rb_sumAB, hbd]
      by_cases e : n - 1 - d = r0
      · rw [if_pos e, rb_cnt3 n (by omega) s hs64 c0 (by omega) ⟨hs, hc0⟩, rb_cnt4 n (by omega) s hs64 c0 (by omega) ⟨hs, hc0⟩, show (n - 1 - d == r0) = true by simp [e]]
        cases s.testBit c0
        · simp
        · simp
      · rw [if_neg e, rb_cnt1 n (by omega) s hs64 c0 (by omega) ⟨hs, hc0⟩, rb_cnt2 n (by omega) s hs64 c0 (by omega) ⟨hs, hc0⟩, show (n - 1 - d == r0) = false by simp [e]]
        cases s.testBit c0
        · simp
        · simp
/-- the full board -/
theorem rb_RF {n : Nat} (hn : n ≤ 6) (h1 : 1 ≤ n) {d k s : Nat} (hd : d ≤ n) (hs : s < 2 ^ n) : rb_R (fun _ => 2 ^ n - 1) n d k s = rb_G n 7 d k (n - rb_pop s) (!s.testBit 0) :=
  rb_RG (c0 := 0) hn (by omega) (fun r hr => by rw [if_neg (by omega)]) d hd k s hs
theorem rb_Gd : ∀ n, n < 7 → ∀ d, d < 7 → rb_G n 7 d d d true = rb_F d ∧ rb_G n 7 d d d false = rb_F d := by decide +kernel
theorem rb_Gk : ∀ n, n < 7 → 1 ≤ n → ∀ k, k < 7 → k ≤ n → rb_G n 7 n k n true = rb_C n k * rb_C n k * rb_F k := by decide +kernel
theorem rb_Gm : ∀ n, n < 7 → ∀ r, r < 7 → r < n → ∀ k, k < 7 → k < n → nI (rb_C n (k + 1) * rb_C n (k + 1) * rb_F (k + 1)) - nI (rb_G n r n (k + 1) n true) = nI (rb_C (n - 1) k * rb_C (n - 1) k * rb_F k) := by decide +kernel
end
section
/-! placements by number, on the full board -/
def rb_bf (b : Nat → Nat) (n row tk q col : Nat) : Nat := rb_sum (fun c => (b row).testBit c && !tk.testBit c) (fun c => rb_R b n (n - 1 - row) (q - 1) (tk ||| 2 ^ c)) col
def rb_cnt (tk c : Nat) : Nat := rb_sum (fun j => !tk.testBit j) (fun _ => 1) c
def rb_find (p : Nat → Bool) : Nat → Nat → Nat
  | 0, c => c
  | f + 1, c => bif p c then c else rb_find p f (c + 1)
def rb_nth (tk q : Nat) : Nat := rb_find (fun c => !tk.testBit c && rb_cnt tk c == q) 6 0
def rb_st (n p : Nat) : Nat → Nat × Nat
  | 0 => (p, 0)
  | y + 1 => ((rb_st n p y).1 % rb_F (n - 1 - y), (rb_st n p y).2 ||| 2 ^ rb_nth (rb_st n p y).2 ((rb_st n p y).1 / rb_F (n - 1 - y)))
def rb_col (n p y : Nat) : Nat := rb_nth (rb_st n p y).2 ((rb_st n p y).1 / rb_F (n - 1 - y))
theorem rb_ntha : ∀ n, n < 7 → ∀ tk, tk < 64 → ∀ q, q < 6 → (tk < 2 ^ n ∧ q + rb_pop tk < n) → rb_nth tk q < n := by decide +kernel
theorem rb_nthb : ∀ n, n < 7 → ∀ tk, tk < 64 → ∀ q, q < 6 → (tk < 2 ^ n ∧ q + rb_pop tk < n) → tk.testBit (rb_nth tk q) = false := by decide +kernel
theorem rb_nthc : ∀ n, n < 7 → ∀ tk, tk < 64 → ∀ q, q < 6 → (tk < 2 ^ n ∧ q + rb_pop tk < n) → rb_cnt tk (rb_nth tk q) = q := by decide +kernel
theorem rb_nth1 : ∀ n, n < 7 → ∀ tk, tk < 64 → ∀ q, q < 6 → (tk < 2 ^ n ∧ q + rb_pop tk < n) → rb_nth tk q < n ∧ tk.testBit (rb_nth tk q) = false ∧ rb_cnt tk (rb_nth tk q) = q :=
  fun n hn tk ht q hq h => ⟨rb_ntha n hn tk ht q hq h, rb_nthb n hn tk ht q hq h, rb_nthc n hn tk ht q hq h⟩
theorem rb_F1 : ∀ d, d < 7 → 1 ≤ rb_F d ∧ rb_F d ≤ 720 := by decide +kernel
theorem rb_cntS (tk c : Nat) : rb_cnt tk (c + 1) = rb_cnt tk c + (bif !tk.testBit c then 1 else 0) := rfl
theorem rb_cntM {tk i c : Nat} (h : i ≤ c) : rb_cnt tk i ≤ rb_cnt tk c := by
  induction c with
  | zero =>
    have e : i = 0 := by omega
    subst e
    exact Nat.le_refl _
  | succ c ih =>
    by_cases e : i = c + 1
    · subst e
      exact Nat.le_refl _
    · rw [rb_cntS]
      exact Nat.le_trans (ih (by omega)) (Nat.le_add_right _ _)
theorem rb_cntL (tk : Nat) : ∀ c, rb_cnt tk c ≤ c
  | 0 => Nat.le_refl 0
  | c + 1 => by
    rw [rb_cntS]
    have := rb_cntL tk c
    cases tk.testBit c <;> simp <;> omega
theorem rb_stI {n p : Nat} (hn : n ≤ 6) (hp : p < rb_F n) : ∀ y, y ≤ n → (rb_st n p y).1 < rb_F (n - y) ∧ (rb_st n p y).2 < 2 ^ n ∧ rb_pop (rb_st n p y).2 = y := by
  intro y
  induction y with
  | zero => exact fun _ => ⟨hp, Nat.two_pow_pos n, (by decide : rb_pop 0 = 0)⟩
  | succ y ih =>
    intro hy
    obtain ⟨h1, h2, h3⟩ := ih (by omega)
    have f1 := rb_F1 (n - 1 - y) (by omega)
    have eF : rb_F (n - y) = rb_F (n - 1 - y) * (n - y) := by
      rw [show n - y = (n - 1 - y) + 1 by omega]
      rfl
    rw [eF] at h1
    have hq : (rb_st n p y).1 / rb_F (n - 1 - y) < n - y := Nat.div_lt_of_lt_mul h1
    have N := rb_nth1 n (by omega) (rb_st n p y).2 (rb_lt64 hn h2) _ (show (rb_st n p y).1 / rb_F (n - 1 - y) < 6 by omega) ⟨h2, by omega⟩
    have nl := N.1
    refine ⟨?_, ?_, ?_⟩
    · show (rb_st n p y).1 % rb_F (n - 1 - y) < _
      rw [show n - (y + 1) = n - 1 - y by omega]
      exact Nat.mod_lt _ (by omega)
    · exact rb_orN n (by omega) _ (rb_lt64 hn h2) _ (by omega) h2 N.1
    · show rb_pop ((rb_st n p y).2 ||| 2 ^ rb_nth (rb_st n p y).2 ((rb_st n p y).1 / rb_F (n - 1 - y))) = _
      rw [rb_popS _ (rb_lt64 hn h2) _ (by omega) N.2.1, h3]
theorem rb_stF {n p y : Nat} (hn : n ≤ 6) (hp : p < rb_F n) (hy : y < n) : rb_col n p y < n ∧ (rb_st n p y).2.testBit (rb_col n p y) = false ∧ rb_cnt (rb_st n p y).2 (rb_col n p y) = (rb_st n p y).1 / rb_F (n - 1 - y) := by
  obtain ⟨h1, h2, h3⟩ := rb_stI hn hp y (by omega)
  have eF : rb_F (n - y) = rb_F (n - 1 - y) * (n - y) := by
    rw [show n - y = (n - 1 - y) + 1 by omega]
    rfl
  rw [eF] at h1
  have hq : (rb_st n p y).1 / rb_F (n - 1 - y) < n - y := Nat.div_lt_of_lt_mul h1
  exact rb_nth1 n (by omega) (rb_st n p y).2 (rb_lt64 hn h2) _ (by omega) ⟨h2, by omega⟩
theorem rb_bfF {n row tk col : Nat} (hn : n ≤ 6) (hrow : row < n) (htk : tk < 2 ^ n) (hpop : rb_pop tk = row) (hcol : col ≤ n) : rb_bf (fun _ => 2 ^ n - 1) n row tk (n - row) col = rb_cnt tk col * rb_F (n - 1 - row) := by
  unfold rb_bf rb_cnt
  rw [← rb_sumA]
  have htk64 := rb_lt64 hn htk
  refine rb_sum_congr (fun c hc => ?_) (fun c hc h => ?_)
  · rw [(rb_fullB n (by omega) c (by omega) (by omega)).1, Bool.true_and]
  · rw [Bool.and_eq_true] at h
    have hsc : tk.testBit c = false := by
      cases hh : tk.testBit c
      · rfl
      · rw [hh] at h
        exact absurd h.2 (by decide)
    rw [rb_RF hn (by omega) (by omega) (rb_orN n (by omega) tk htk64 c (by omega) htk (by omega)), rb_popS tk htk64 c (by omega) hsc, hpop, show n - (row + 1) = n - 1 - row by omega, show n - row - 1 = n - 1 - row by omega]
    have g := rb_Gd n (by omega) (n - 1 - row) (by omega)
    cases (!(tk ||| 2 ^ c).testBit 0)
    · exact g.2
    · exact g.1
section
variable {f1 : Int32} {a1 a2 a3 a4 a5 a6 a7 a8 a9 a10 a11 : Nat → Int32} {n : Nat} {b : Nat → Nat} {wt : Nat → Int32}
theorem rb_before {post : Int32 → St2 → Prop} {row tk q col : Nat} (hK : rb_K n b wt a1 a2 a7 a8) (hrow : row < n) (htk : tk < 2 ^ n) (hq : 1 ≤ q) (hqn : q ≤ n) (hcol : col ≤ n)
    (H : rb_P n b wt (post (nI (rb_bf b n row tk q col)))) : wpX_before post (nI n, f1, a1, a2, a3, a4, a5, a6, a7, a8, a9, a10, a11) (nI row) (nI tk) (nI q) (nI col) := by
  have h6 := hK.2.1
  have h64 := rb_p64 n h6
  have hb := hK.2.2.1 row hrow
  have hb64 := rb_lt64 h6 hb.1
  have htk64 := rb_lt64 h6 htk
  unfold wpX_before
  dsimp only
  refine br_f (nI_ne0 hq (by omega)) ?_
  rw [rb_pr1 hq]
  refine rb_fw (by omega) hK (fun a3' a4' hW => ?_)
  refine pk_loop (σ := Unit) (fun m i _ => wX_before_19 post (nI row) (nI tk) (nI col) (nI n) f1 a1 a2 a3' a4' a5 a6 a7 a8 a9 a10 a11 m (nI (rb_bf b n row tk q i)) (nI i)) (fun _ _ => True) col 0 () (by omega) trivial ?_ ?_
  · exact fun m _ _ => pk_le col col (fun _ => H _ _ _ _ _ _ _ _ _ _ _ _ hK) (fun z => absurd z (by omega))
  · intro m i _ hi _ hw
    have g := hw () trivial
    have eS : rb_bf b n row tk q (i + 1) = rb_bf b n row tk q i + (bif (b row).testBit i && !tk.testBit i then rb_R b n (n - 1 - row) (q - 1) (tk ||| 2 ^ i) else 0) := rfl
    refine pk_le col i (fun z => absurd z (by omega)) (fun _ => ⟨pk_in row 6 (by omega), ?_⟩)
    rw [nI_clamp (show row < 2 ^ 31 by omega), hb.2]
    refine ek_if (rb_b1 hb64 (by omega)) (fun hm => ek_if (rb_b0 htk64 (by omega)) (fun hs => ?_) (fun hs => ?_)) (fun hm => ?_)
    · unfold wX_before_55
      have o := rb_orN n (by omega) tk htk64 i (by omega) htk (by omega)
      rw [rb_shl i (by omega), rb_or, rb_ix1]
      refine br_f (by decide) ⟨pk_in (64 * (row + 1) + (tk ||| 2 ^ i)) 448 (by omega), nm_r (show _ = nI (rb_bf b n row tk q (i + 1)) from ?_) (nm_r (nI_1 i) g)⟩
      rw [nI_clamp (by omega), hW (row + 1) (by omega) _ o, nI_add, eS, hm, hs, show n - (row + 1) = n - 1 - row by omega]
      rfl
    · unfold wX_before_54 wX_before_55
      refine br_t rfl (nm_r (nI_1 i) ?_)
      have hs' : tk.testBit i = true := by
        cases hh : tk.testBit i
        · exact absurd hh hs
        · rfl
      rw [eS, hs', Bool.not_true, Bool.and_false] at g
      exact g
    · unfold wX_before_54 wX_before_55
      refine br_t rfl (nm_r (nI_1 i) ?_)
      have hm' : (b row).testBit i = false := by
        cases hh : (b row).testBit i
        · rfl
        · exact absurd hh hm
      rw [eS, hm', Bool.false_and] at g
      exact g
theorem rb_cIn {post : Int32 → St2 → Prop} {row tk left c : Nat} (hrow : row < n) (htk : tk < 2 ^ n) (hpop : rb_pop tk = row) (hl : left < 2 ^ 30) (hc : c < n) (hcb : tk.testBit c = false) (hcc : rb_cnt tk c = left / rb_F (n - 1 - row))
    (H : rb_P n (fun _ => 2 ^ n - 1) wt (post (nI c))) :
    ∀ m i, i + m = c → ∀ (f1 : Int32) (a1 a2 a3 a4 a5 a6 a7 a8 a9 a10 a11 : Nat → Int32), rb_K n (fun _ => 2 ^ n - 1) wt a1 a2 a7 a8 → wX_columnIn_3 post (nI row) (nI tk) (nI (n - row)) (nI left) (m + 1) (nI i) (nI n) f1 a1 a2 a3 a4 a5 a6 a7 a8 a9 a10 a11 := by
  intro m
  induction m with
  | zero =>
    intro i hi f1 a1 a2 a3 a4 a5 a6 a7 a8 a9 a10 a11 hK
    have h6 := hK.2.1
    have e : i = c := by omega
    subst e
    have f1' := rb_F1 (n - 1 - row) (by omega)
    refine pk_le n i (fun z => absurd z (by omega)) (fun _ => ?_)
    rw [nI_1]
    refine rb_before hK hrow htk (by omega) (by omega) (by omega) (fun f1 a1 a2 a3 a4 a5 a6 a7 a8 a9 a10 a11 hK => ?_)
    rw [rb_bfF h6 hrow htk hpop (by omega), rb_cntS, hcb, hcc]
    have hlt : left < (left / rb_F (n - 1 - row) + (bif !false then 1 else 0)) * rb_F (n - 1 - row) := by
      show left < (left / rb_F (n - 1 - row) + 1) * rb_F (n - 1 - row)
      exact Nat.lt_mul_of_div_lt (Nat.lt_succ_self _) (by omega)
    have hq : left / rb_F (n - 1 - row) ≤ 6 := by
      rw [← hcc]
      exact Nat.le_trans (rb_cntL tk i) (by omega)
    have hb : (left / rb_F (n - 1 - row) + (bif !false then 1 else 0)) * rb_F (n - 1 - row) ≤ 7 * 720 := Nat.mul_le_mul (by show left / rb_F (n - 1 - row) + 1 ≤ 7; omega) f1'.2
    exact pk_lt left _ (fun _ => H _ _ _ _ _ _ _ _ _ _ _ _ hK) (fun z => absurd hlt (by omega)) rfl rfl (by omega) (by omega)
  | succ m ih =>
    intro i hi f1 a1 a2 a3 a4 a5 a6 a7 a8 a9 a10 a11 hK
    have h6 := hK.2.1
    have f1' := rb_F1 (n - 1 - row) (by omega)
    refine pk_le n i (fun z => absurd z (by omega)) (fun _ => ?_)
    rw [nI_1]
    refine rb_before hK hrow htk (by omega) (by omega) (by omega) (fun f1 a1 a2 a3 a4 a5 a6 a7 a8 a9 a10 a11 hK => ?_)
    rw [rb_bfF h6 hrow htk hpop (by omega)]
    have hle : rb_cnt tk (i + 1) * rb_F (n - 1 - row) ≤ left := by
      refine Nat.le_trans (Nat.mul_le_mul_right _ (rb_cntM (c := c) (by omega))) ?_
      rw [hcc]
      exact Nat.div_mul_le_self _ _
    exact pk_lt left _ (fun z => absurd hle (by omega)) (fun _ => nm_e (ih (i + 1) (by omega) _ _ _ _ _ _ _ _ _ _ _ _ hK)) rfl rfl (by omega) (by omega)
theorem rb_c60 {post : Int32 → St2 → Prop} {p r : Nat} (hn : n ≤ 6) (hp : p < rb_F n) (hr : r < n) (H : rb_P n (fun _ => 2 ^ n - 1) wt (post (nI (rb_col n p r)))) :
    ∀ m y, y + m = r + 1 → ∀ (x8 f1 : Int32) (a1 a2 a3 a4 a5 a6 a7 a8 a9 a10 a11 : Nat → Int32), rb_K n (fun _ => 2 ^ n - 1) wt a1 a2 a7 a8 → (y = r + 1 → x8 = nI (rb_col n p r)) →
      wX_column_60 post (nI r) (m + 1) (nI (rb_st n p y).1) (nI (n - y)) (nI (rb_st n p y).2) x8 (nI y) (nI n) f1 a1 a2 a3 a4 a5 a6 a7 a8 a9 a10 a11 := by
  intro m
  induction m with
  | zero =>
    intro y hy x8 f1 a1 a2 a3 a4 a5 a6 a7 a8 a9 a10 a11 hK h8
    refine pk_lt r y (fun _ => ?_) (fun z => absurd z (by omega))
    rw [h8 (by omega)]
    exact H _ _ _ _ _ _ _ _ _ _ _ _ hK
  | succ m ih =>
    intro y hy x8 f1 a1 a2 a3 a4 a5 a6 a7 a8 a9 a10 a11 hK h8
    have I := rb_stI hn hp y (by omega)
    have N := rb_stF hn hp (show y < n by omega)
    have f1' := rb_F1 (n - 1 - y) (by omega)
    have f2' := rb_F1 (n - y) (by omega)
    have I1 := I.1
    have N1 := N.1
    refine pk_lt r y (fun z => absurd z (by omega)) (fun _ => ⟨_, rb_cIn (c := rb_col n p y) (by omega) I.2.1 I.2.2 (by omega) N.1 N.2.1 N.2.2 (fun f1 a1 a2 a3 a4 a5 a6 a7 a8 a9 a10 a11 hK => ?_) (rb_col n p y) 0 (by omega) _ _ _ _ _ _ _ _ _ _ _ _ hK⟩)
    refine rb_before hK (by omega) I.2.1 (by omega) (by omega) (by omega) (fun f1 a1 a2 a3 a4 a5 a6 a7 a8 a9 a10 a11 hK => nm_r (show _ = nI (rb_st n p (y + 1)).1 from ?_) (pk_le n (rb_col n p y) (fun z => absurd z (by omega)) (fun _ => nm_r (show _ = nI (rb_st n p (y + 1)).2 from ?_) (nm_r (show _ = nI (n - (y + 1)) from ?_) (nm_r (nI_1 y) (ih (y + 1) (by omega) _ _ _ _ _ _ _ _ _ _ _ _ _ hK ?_))))))
    · rw [rb_bfF hn (by omega) I.2.1 I.2.2 (by omega), N.2.2, pk_sub (Nat.div_mul_le_self _ _)]
      show _ = nI ((rb_st n p y).1 % rb_F (n - 1 - y))
      congr 1
      have := Nat.div_add_mod (rb_st n p y).1 (rb_F (n - 1 - y))
      rw [Nat.mul_comm] at this
      omega
    · rw [rb_shl _ (by omega), rb_or]
      rfl
    · rw [sb_m1 (by omega)]
      congr 1
    · intro e
      rw [show y = r by omega]
theorem rb_RFn {n : Nat} (hn : n ≤ 6) (h1 : 1 ≤ n) : rb_R (fun _ => 2 ^ n - 1) n n n 0 = rb_F n := by
  rw [rb_RF hn h1 (Nat.le_refl n) (Nat.two_pow_pos n)]
  exact (rb_Gd n (by omega) n (by omega)).1
theorem rb_column {post : Int32 → St2 → Prop} {p r : Nat} (hp : p < rb_F n) (hr : r < n) (hK : rb_K n (fun _ => 2 ^ n - 1) wt a1 a2 a7 a8) (H : rb_P n (fun _ => 2 ^ n - 1) wt (post (nI (rb_col n p r)))) :
    wpX_column post (nI n, f1, a1, a2, a3, a4, a5, a6, a7, a8, a9, a10, a11) (nI n) (nI p) (nI r) := by
  have h6 := hK.2.1
  have f1' := rb_F1 n (by omega)
  unfold wpX_column
  dsimp only
  refine rb_badNum h6 (Nat.le_refl n) (br_t rfl (br_f (nI_pos (by omega)) (br_t (nI_lt hr (by omega)) (rb_countOf h6 hK (fun f1 a1 a2 a3 a4 a5 a6 a7 a8 a9 a10 a11 hK => ?_)))))
  rw [rb_RFn h6 hK.1]
  exact br_f (nI_pos (by omega)) (br_t (nI_lt hp (by omega)) ⟨_, rb_c60 h6 hp hr H (r + 1) 0 (by omega) _ _ _ _ _ _ _ _ _ _ _ _ _ hK (fun z => absurd z (by omega))⟩)
theorem rb_columnN {post : Int32 → St2 → Prop} {r : Nat} (hr : r < n) (hK : rb_K n (fun _ => 2 ^ n - 1) wt a1 a2 a7 a8) (H : rb_P n (fun _ => 2 ^ n - 1) wt (post (-4))) :
    wpX_column post (nI n, f1, a1, a2, a3, a4, a5, a6, a7, a8, a9, a10, a11) (nI n) (nI (rb_F n)) (nI r) := by
  have h6 := hK.2.1
  have f1' := rb_F1 n (by omega)
  unfold wpX_column
  dsimp only
  refine rb_badNum h6 (Nat.le_refl n) (br_t rfl (br_f (nI_pos (by omega)) (br_t (nI_lt hr (by omega)) (rb_countOf h6 hK (fun f1 a1 a2 a3 a4 a5 a6 a7 a8 a9 a10 a11 hK => ?_)))))
  rw [rb_RFn h6 hK.1]
  exact br_f (nI_pos (by omega)) (br_f (nI_nlt (Nat.le_refl _) (by omega)) (H _ _ _ _ _ _ _ _ _ _ _ _ hK))
end
end
section
/-! what the methods answer on the three boards -/
theorem rb_Ic : ∀ n, n < 7 → rb_cells (fun r => 2 ^ r) n = n := by decide +kernel
theorem rb_IR : ∀ n, n < 7 → ∀ k, k < 7 → k ≤ n → rb_R (fun r => 2 ^ r) n n k 0 = rb_C n k := by decide +kernel
theorem rb_Ih : ∀ n, n < 7 → ∀ k, k < 7 → k ≤ n → rb_hs (rb_C n) n k (n + 1 - k) = nI (rb_C n k) * nI (rb_D (n - k)) := by decide +kernel
theorem rb_In : ∀ n, n < 7 → rb_nd (fun r => 2 ^ r) n 36 = n := by decide +kernel
theorem rb_It : ∀ n, n < 7 → ∀ r, r < 7 → r < n → ∀ k, k < 7 → k ≤ n → rb_thr (fun r => 2 ^ r) n r r k = nI (rb_C1 (n - 1) k) := by decide +kernel
/-! the complement -/
def rb_rC (n k : Nat) : Nat := ([[1], [1, 0], [1, 2, 1], [1, 6, 9, 2], [1, 12, 42, 44, 9], [1, 20, 130, 320, 265, 44], [1, 30, 315, 1420, 2715, 1854, 265]].getD n []).getD k 0
theorem rb_Cc : ∀ n, n < 7 → nI (rb_cells (fun r => 2 ^ n - 1 - 2 ^ r) n) = nI n * nI n - nI n := by decide +kernel
theorem rb_CR5 : ∀ n, n < 6 → ∀ k, k < 7 → k ≤ n → rb_R (fun r => 2 ^ n - 1 - 2 ^ r) n n k 0 = rb_rC n k := by decide +kernel
theorem rb_CR6 : ∀ k, k < 7 → rb_R (fun r => 2 ^ 6 - 1 - 2 ^ r) 6 6 k 0 = rb_rC 6 k := by decide +kernel
theorem rb_Cd : ∀ n, n < 7 → rb_rC n n = rb_D n := by decide +kernel
theorem rb_Ch : ∀ n, n < 7 → ∀ k, k < 7 → k ≤ n → rb_hs (rb_rC n) n k (n + 1 - k) = nI (rb_C n (n - k)) * nI (rb_D k) := by decide +kernel
theorem rb_Cs : ∀ n, n < 7 → 1 ≤ n → rb_it n (fun r => 2 ^ n - 1 - 2 ^ r) (fun _ => 1) true false n (2 ^ n - 1) = (bif n % 2 == 1 then nI n - 1 else 1 - nI n) := by decide +kernel
/-! the full board -/
theorem rb_Fc : ∀ n, n < 7 → nI (rb_cells (fun _ => 2 ^ n - 1) n) = nI n * nI n := by decide +kernel
theorem rb_Fs : ∀ n, n < 7 → 1 ≤ n → rb_it n (fun _ => 2 ^ n - 1) (fun _ => 1) true false n (2 ^ n - 1) = (bif n == 1 then 1 else 0) := by decide +kernel
theorem rb_Fu5 : ∀ n, n < 6 → ∀ k, k < 7 → k ≤ n → rb_sI (fun s => rb_pop s == k) (rb_it n (fun _ => 2 ^ n - 1) (fun _ => 1) false true n) 64 = nI (rb_C n k * rb_C n k * rb_F k) := by decide +kernel
theorem rb_Fu6 : ∀ k, k < 7 → rb_sI (fun s => rb_pop s == k) (rb_it 6 (fun _ => 2 ^ 6 - 1) (fun _ => 1) false true 6) 64 = nI (rb_C 6 k * rb_C 6 k * rb_F k) := by decide +kernel
end
section
/-! weights: powers on the identity, ones elsewhere; cells on the full board -/
def rb_pw (w : Int32) : Nat → Int32
  | 0 => 1
  | k + 1 => rb_pw w k * w
theorem rb_sIc {p : Nat → Bool} {A : Int32} : ∀ m, rb_sI p (fun _ => A) m = nI (rb_sum p (fun _ => 1) m) * A
  | 0 => by
    show 0 = nI 0 * A
    rw [nI_0, Int32.zero_mul]
  | m + 1 => by
    show rb_sI p (fun _ => A) m + (bif p m then A else 0) = nI (rb_sum p (fun _ => 1) m + (bif p m then 1 else 0)) * A
    rw [rb_sIc m]
    cases p m
    · show _ + 0 = nI (_ + 0) * A
      rw [rb_i0, Nat.add_zero]
    · show _ + A = nI (_ + 1) * A
      rw [nI_succ, Int32.add_mul, Int32.one_mul]
theorem rb_2B : ∀ r, r < 6 → ∀ c, c < 6 → (2 ^ r).testBit c = (c == r) := by decide +kernel
theorem rb_itI {n r s : Nat} {wt : Nat → Int32} {w : Int32} {sg mp : Bool} (hn : n ≤ 6) (hr : r < n) (hw : wt (7 * r) = w) : rb_it n (fun r => 2 ^ r) wt sg mp (r + 1) s = (bif mp then rb_it n (fun r => 2 ^ r) wt sg mp r s else 0) + (bif s.testBit r then rb_val sg (rb_it n (fun r => 2 ^ r) wt sg mp r) (fun _ => w) s r else 0) := by
  show (bif mp then rb_it n (fun r => 2 ^ r) wt sg mp r s else 0) + rb_sI (fun c => (2 ^ r).testBit c && s.testBit c) (rb_val sg (rb_it n (fun r => 2 ^ r) wt sg mp r) (fun c => wt (6 * r + c)) s) n = _
  congr 1
  cases h : s.testBit r
  · rw [rb_sI_none (fun c hc => ?_)]
    · rfl
    · rw [rb_2B r (by omega) c (by omega)]
      by_cases e : c = r
      · rw [e, h, Bool.and_false]
      · rw [show (c == r) = false by simp [e], Bool.false_and]
  · rw [rb_sI_one (q := fun _ => false) hr (by rw [rb_2B r (by omega) r (by omega), h]; simp) rfl (fun c hc hne => by
      rw [rb_2B r (by omega) c (by omega), show (c == r) = false by simp [hne], Bool.false_and]), rb_sI_none (fun _ _ => rfl), Int32.zero_add]
    show _ = rb_val sg (rb_it n (fun r => 2 ^ r) wt sg mp r) (fun _ => w) s r
    unfold rb_val
    dsimp only
    rw [show 6 * r + r = 7 * r by omega, hw]
theorem rb_popT : ∀ s, s < 64 → ∀ r, r < 6 → s.testBit r = true → rb_pop s = rb_pop (s - 2 ^ r) + 1 ∧ decide (s < 2 ^ r) = false ∧ decide (s < 2 ^ (r + 1)) = decide (s - 2 ^ r < 2 ^ r) ∧ (s == 2 ^ (r + 1) - 1) = (s - 2 ^ r == 2 ^ r - 1) := by decide +kernel
theorem rb_popN : ∀ s, s < 64 → ∀ r, r < 6 → s.testBit r = false → decide (s < 2 ^ (r + 1)) = decide (s < 2 ^ r) ∧ (s == 2 ^ (r + 1) - 1) = false := by decide +kernel
theorem rb_itU {n : Nat} {wt : Nat → Int32} {w : Int32} (hn : n ≤ 6) (hw : ∀ r, r < n → wt (7 * r) = w) : ∀ r, r ≤ n → ∀ s, s < 64 → rb_it n (fun r => 2 ^ r) wt false true r s = bif decide (s < 2 ^ r) then rb_pw w (rb_pop s) else 0 := by
  intro r
  induction r with
  | zero =>
    intro _ s hs
    show (bif s == 0 then 1 else 0) = _
    by_cases e : s = 0
    · subst e
      rfl
    · rw [show (s == 0) = false by simp [e], decide_eq_false (by simp; omega)]
      rfl
  | succ r ih =>
    intro hr s hs
    rw [rb_itI hn (by omega) (hw r (by omega))]
    have i1 := ih (by omega) s hs
    have i2 := ih (by omega) (s - 2 ^ r) (Nat.lt_of_le_of_lt (Nat.sub_le _ _) hs)
    cases h : s.testBit r
    · have F := rb_popN s hs r (by omega) h
      rw [F.1]
      show rb_it n (fun r => 2 ^ r) wt false true r s + 0 = _
      rw [rb_i0, i1]
    · have F := rb_popT s hs r (by omega) h
      rw [F.2.2.1, F.1]
      show rb_it n (fun r => 2 ^ r) wt false true r s + rb_it n (fun r => 2 ^ r) wt false true r (s - 2 ^ r) * w = _
      rw [i1, i2, F.2.1]
      cases decide (s - 2 ^ r < 2 ^ r)
      · show 0 + 0 * w = 0
        rw [Int32.zero_mul, rb_i0]
      · show 0 + rb_pw w (rb_pop (s - 2 ^ r)) * w = rb_pw w (rb_pop (s - 2 ^ r) + 1)
        rw [Int32.zero_add]
        rfl
theorem rb_sgn0 : ∀ r, r < 6 → (rb_pop ((2 ^ r - 1) / 2 ^ r) % 2 == 1) = false := by decide +kernel
theorem rb_itS {n : Nat} {wt : Nat → Int32} {w : Int32} (hn : n ≤ 6) (hw : ∀ r, r < n → wt (7 * r) = w) : ∀ r, r ≤ n → ∀ s, s < 64 → rb_it n (fun r => 2 ^ r) wt true false r s = bif s == 2 ^ r - 1 then rb_pw w r else 0 := by
  intro r
  induction r with
  | zero => exact fun _ s hs => rfl
  | succ r ih =>
    intro hr s hs
    rw [rb_itI hn (by omega) (hw r (by omega))]
    have i2 := ih (by omega) (s - 2 ^ r) (Nat.lt_of_le_of_lt (Nat.sub_le _ _) hs)
    cases h : s.testBit r
    · have F := rb_popN s hs r (by omega) h
      rw [F.2]
      rfl
    · have F := rb_popT s hs r (by omega) h
      rw [F.2.2.2]
      show 0 + rb_val true (rb_it n (fun r => 2 ^ r) wt true false r) (fun _ => w) s r = _
      rw [Int32.zero_add]
      unfold rb_val
      rw [i2]
      by_cases e : s - 2 ^ r = 2 ^ r - 1
      · rw [show (s - 2 ^ r == 2 ^ r - 1) = true by simp [e], e, rb_sgn0 r (by omega)]
        rfl
      · rw [show (s - 2 ^ r == 2 ^ r - 1) = false by simp [e]]
        show (bif _ then -(0 * w) else 0 * w) = 0
        rw [Int32.zero_mul]
        cases (true && rb_pop ((s - 2 ^ r) / 2 ^ r) % 2 == 1) <;> rfl
theorem rb_cntC : ∀ n, n < 7 → ∀ k, k < 7 → k ≤ n → rb_sum (fun s => rb_pop s == k && decide (s < 2 ^ n)) (fun _ => 1) 64 = rb_C n k := by decide +kernel
theorem rb_sIand {p q : Nat → Bool} {f : Nat → Int32} : ∀ m, rb_sI p (fun s => bif q s then f s else 0) m = rb_sI (fun s => p s && q s) f m
  | 0 => rfl
  | m + 1 => by
    show rb_sI p (fun s => bif q s then f s else 0) m + (bif p m then (bif q m then f m else 0) else 0) = rb_sI (fun s => p s && q s) f m + (bif p m && q m then f m else 0)
    rw [rb_sIand m]
    cases p m <;> cases q m <;> rfl
/-- sum on the identity -/
theorem rb_Isum {n k : Nat} {wt : Nat → Int32} {w : Int32} (hn : n ≤ 6) (hk : k ≤ n) (hw : ∀ r, r < n → wt (7 * r) = w) : rb_sI (fun s => rb_pop s == k) (rb_it n (fun r => 2 ^ r) wt false true n) 64 = nI (rb_C n k) * rb_pw w k := by
  rw [← rb_cntC n (by omega) k (by omega) hk, ← rb_sIc, ← rb_sIand]
  refine rb_sI_congr (fun _ _ => rfl) (fun s hs h => ?_)
  rw [rb_itU hn hw n (Nat.le_refl n) s hs, eq_of_beq h]
/-- signedSum on the identity -/
theorem rb_Isgn {n : Nat} {wt : Nat → Int32} {w : Int32} (hn : n ≤ 6) (hw : ∀ r, r < n → wt (7 * r) = w) : rb_it n (fun r => 2 ^ r) wt true false n (2 ^ n - 1) = rb_pw w n := by
  have h64 := rb_p64 n hn
  have h2 : 1 ≤ 2 ^ n := Nat.two_pow_pos n
  rw [rb_itS hn hw n (Nat.le_refl n) _ (by omega), show (2 ^ n - 1 == 2 ^ n - 1) = true by simp]
  rfl
/-- only the weights of the board's cells are used -/
theorem rb_it1 {n : Nat} {b : Nat → Nat} {wt : Nat → Int32} {sg mp : Bool} (hw : ∀ r c, r < n → c < n → (b r).testBit c = true → wt (6 * r + c) = 1) : ∀ r, r ≤ n → ∀ s, rb_it n b wt sg mp r s = rb_it n b (fun _ => 1) sg mp r s := by
  intro r
  induction r with
  | zero => exact fun _ _ => rfl
  | succ r ih =>
    intro hr s
    show (bif mp then rb_it n b wt sg mp r s else 0) + rb_sI (fun c => (b r).testBit c && s.testBit c) (rb_val sg (rb_it n b wt sg mp r) (fun c => wt (6 * r + c)) s) n = (bif mp then rb_it n b (fun _ => 1) sg mp r s else 0) + rb_sI (fun c => (b r).testBit c && s.testBit c) (rb_val sg (rb_it n b (fun _ => 1) sg mp r) (fun c => 1) s) n
    rw [ih (by omega) s]
    congr 1
    refine rb_sI_congr (fun _ _ => rfl) (fun c hc h => ?_)
    rw [Bool.and_eq_true] at h
    unfold rb_val
    dsimp only
    rw [ih (by omega), hw r c (by omega) hc h.1]
theorem rb_CR {n k : Nat} (hn : n ≤ 6) (hk : k ≤ n) : rb_R (fun r => 2 ^ n - 1 - 2 ^ r) n n k 0 = rb_rC n k := by
  by_cases e : n = 6
  · subst e
    exact rb_CR6 k (by omega)
  · exact rb_CR5 n (by omega) k (by omega) hk
theorem rb_Csgn {n : Nat} {wt : Nat → Int32} (hn : n ≤ 6) (h1 : 1 ≤ n) (hw : ∀ j, j < 36 → (∀ c, c < n → j ≠ 7 * c) → wt j = 1) : rb_it n (fun r => 2 ^ n - 1 - 2 ^ r) wt true false n (2 ^ n - 1) = (bif n % 2 == 1 then nI n - 1 else 1 - nI n) := by
  rw [rb_it1 (fun r c hr hc h => hw _ (by omega) (fun c' _ e => ?_)) n (Nat.le_refl n), rb_Cs n (by omega) h1]
  have e' : r = c := by omega
  subst e'
  have F : ∀ n, n < 7 → ∀ r, r < 7 → r < n → (2 ^ n - 1 - 2 ^ r).testBit r = false := by decide +kernel
  rw [F n (by omega) r (by omega) hr] at h
  exact absurd h (by decide)
theorem rb_FR {n k : Nat} (hn : n ≤ 6) (h1 : 1 ≤ n) (hk : k ≤ n) : rb_R (fun _ => 2 ^ n - 1) n n k 0 = rb_C n k * rb_C n k * rb_F k := by
  rw [rb_RF hn h1 (Nat.le_refl n) (Nat.two_pow_pos n)]
  exact rb_Gk n (by omega) h1 k (by omega) hk
theorem rb_Fsum {n k : Nat} (hn : n ≤ 6) (hk : k ≤ n) : rb_sI (fun s => rb_pop s == k) (rb_it n (fun _ => 2 ^ n - 1) (fun _ => 1) false true n) 64 = nI (rb_C n k * rb_C n k * rb_F k) := by
  by_cases e : n = 6
  · subst e
    exact rb_Fu6 k (by omega)
  · exact rb_Fu5 n (by omega) k (by omega) hk
theorem rb_Fhit : ∀ n, n < 7 → 1 ≤ n → rb_hs (fun j => rb_C n j * rb_C n j * rb_F j) n n (n + 1 - n) = nI (rb_F n) := by decide +kernel
theorem rb_Fthr {n r c k : Nat} (hn : n ≤ 6) (hr : r < n) (hc : c < n) (hk : k ≤ n) : rb_thr (fun _ => 2 ^ n - 1) n r c k = nI (rb_C1 (n - 1) k) * nI (rb_C1 (n - 1) k) * nI (rb_F (k - 1)) := by
  unfold rb_thr
  rw [(rb_fullB n (by omega) c (by omega) hc).1, Bool.true_and]
  cases k with
  | zero => rfl
  | succ k =>
    show nI _ - nI _ = nI (rb_C (n - 1) k) * nI (rb_C (n - 1) k) * nI (rb_F k)
    rw [rb_FR hn (by omega) hk, rb_RG (r0 := r) (c0 := c) hn hc (fun j hj => ?_) n (Nat.le_refl n) (k + 1) 0 (Nat.two_pow_pos n), pk_mul, pk_mul]
    · rw [Nat.zero_testBit]
      exact rb_Gm n (by omega) r (by omega) hr k (by omega) (by omega)
    · unfold rb_off
      rfl
theorem rb_FnE : ∀ n, n < 7 → 1 ≤ n → decide (nI (rb_C1 (n - 1) n) * nI (rb_C1 (n - 1) n) * nI (rb_F (n - 1)) = nI (rb_F n)) = (n == 1) := by decide +kernel
theorem rb_FnS : ∀ n, n < 7 → rb_sum (fun i => (decide (i / 6 < n) && decide (i % 6 < n)) && n == 1) (fun _ => 1) 36 = (bif n == 1 then 1 else 0) := by decide +kernel
theorem rb_Fnd {n : Nat} (hn : n ≤ 6) (h1 : 1 ≤ n) : rb_nd (fun _ => 2 ^ n - 1) n 36 = (bif n == 1 then 1 else 0) := by
  unfold rb_nd
  rw [← rb_FnS n (by omega)]
  refine rb_sum_congr (fun i hi => ?_) (fun _ _ _ => rfl)
  unfold rb_ndp
  by_cases hr : i / 6 < n
  · by_cases hc : i % 6 < n
    · rw [rb_Fthr hn hr hc (Nat.le_refl n), rb_RFn hn h1, rb_FnE n (by omega) h1]
    · rw [decide_eq_false hc, Bool.and_false, Bool.false_and, Bool.false_and]
  · rw [decide_eq_false hr, Bool.false_and, Bool.false_and, Bool.false_and]
end
section
/-! the law: its last part, the placements by number -/
section
variable {post : Int32 → St0 → Prop} {mc ms kc ks : Nat} {f1 x4 : Int32} {a1 a2 a3 a4 a5 a6 a7 a8 a9 a10 a11 : Nat → Int32} {n k row col x p : Nat}
theorem rb_645 (H1 : post 1 ()) (hrow : row < n) (hcol : col < n) (hx : x < n) (hp : p < rb_F n) :
    ∀ m y, y + m = x + 1 → ∀ (f1 : Int32) (a1 a2 a3 a4 a5 a6 a7 a8 a9 a10 a11 : Nat → Int32), rb_K n (fun _ => 2 ^ n - 1) (fun _ => 1) a1 a2 a7 a8 →
      wL_lawOf_645 post mc ms (nI n) (nI row) (nI col) (nI (rb_F n)) (nI x) (nI p) kc ks (m + 1) (nI (rb_st n p y).1) (nI (rb_st n p y).2) (nI y) (nI n) f1 a1 a2 a3 a4 a5 a6 a7 a8 a9 a10 a11 := by
  intro m
  induction m with
  | zero =>
    intro y hy f1 a1 a2 a3 a4 a5 a6 a7 a8 a9 a10 a11 hK
    have h6 := hK.2.1
    have h1 := hK.1
    refine pk_lt x y (fun _ => rb_columnN hx hK (fun f1 a1 a2 a3 a4 a5 a6 a7 a8 a9 a10 a11 hK => br_t rfl (rb_exch hrow hcol hK (fun f1 a1 a2 a3 a4 a5 a6 a7 a8 a9 a10 a11 hK => br_t rfl (rb_turn hK (fun f1 a1 a2 a3 a4 a5 a6 a7 a8 a9 a10 a11 hK => br_t rfl (rb_hits (Nat.le_refl n) hK (fun f1 a1 a2 a3 a4 a5 a6 a7 a8 a9 a10 a11 hK => br_t ?_ ?_)))))))) (fun z => absurd z (by omega))
    · rw [rb_hs_congr (τ := fun j => rb_C n j * rb_C n j * rb_F j) (n + 1 - n) (by omega) (fun j hj => rb_FR h6 h1 hj)]
      exact rb_Fhit n (by omega) h1
    · rw [nI_1]
      exact rb_rooksN hK (fun f1 a1 a2 a3 a4 a5 a6 a7 a8 a9 a10 a11 hK => br_t rfl H1)
  | succ m ih =>
    intro y hy f1 a1 a2 a3 a4 a5 a6 a7 a8 a9 a10 a11 hK
    have h6 := hK.2.1
    have h1 := hK.1
    have I := rb_stI h6 hp y (by omega)
    have N := rb_stF h6 hp (show y < n by omega)
    have g1 := rb_F1 (n - 1 - y) (by omega)
    have g2 := rb_F1 (n - y) (by omega)
    have I1 := I.1
    have N1 := N.1
    have tk64 := rb_lt64 h6 I.2.1
    have hq6 : (rb_st n p y).1 / rb_F (n - 1 - y) ≤ 6 := by
      rw [← N.2.2]
      exact Nat.le_trans (rb_cntL _ _) (by omega)
    refine pk_lt x y (fun z => absurd z (by omega)) (fun _ => ?_)
    rw [show nI n - 1 - nI y = nI (n - 1 - y) by rw [rb_pr1 h1, pk_sub (by omega)]]
    refine rb_prod (by omega) ⟨rb_Fne _ (by omega), nm_r (pk_div (by omega) (by omega) (by omega)) ?_⟩
    refine pk_loop (σ := Unit) (fun u i _ => wL_lawOf_674 post mc ms (wL_lawOf_645 post mc ms (nI n) (nI row) (nI col) (nI (rb_F n)) (nI x) (nI p) kc ks (m + 1)) (nI n) (nI row) (nI col) (nI (rb_F n)) (nI x) (nI p) (nI (rb_st n p y).1) (nI (rb_st n p y).2) (nI y) (nI (rb_F (n - 1 - y))) kc ks (nI n) f1 a1 a2 a3 a4 a5 a6 a7 a8 a9 a10 a11 u (nI ((rb_st n p y).1 / rb_F (n - 1 - y) - rb_cnt (rb_st n p y).2 i)) (nI i)) (fun _ _ => True) (rb_col n p y) 0 () (by omega) trivial ?_ ?_
    · intro u _ _
      refine pk_lt 0 _ (fun z => absurd z (by rw [N.2.2]; omega)) (fun _ => br_f ?_ ⟨rb_Fne _ (by omega), nm_r (pk_rem (by omega) (by omega) (by omega)) (nm_r (show _ = nI (rb_st n p (y + 1)).2 from ?_) (rb_column hp (by omega) hK (fun f1 a1 a2 a3 a4 a5 a6 a7 a8 a9 a10 a11 hK => br_t rfl (nm_r (nI_1 y) (ih (y + 1) (by omega) _ _ _ _ _ _ _ _ _ _ _ _ hK)))))⟩) rfl rfl (by omega) (by omega)
      · intro z
        rw [rb_b1 tk64 (by omega)] at z
        rw [N.2.1] at z
        exact absurd z (by decide)
      · rw [rb_shl _ (by omega), rb_or]
        rfl
    · intro u i _ hi _ hw
      have g := hw () trivial
      have S := rb_cntS (rb_st n p y).2 i
      have M := rb_cntM (tk := (rb_st n p y).2) (show i + 1 ≤ rb_col n p y by omega)
      rw [N.2.2] at M
      have key : ((rb_st n p y).2.testBit i = false → 0 < (rb_st n p y).1 / rb_F (n - 1 - y) - rb_cnt (rb_st n p y).2 i) := by
        intro hb
        rw [S, hb] at M
        have : rb_cnt (rb_st n p y).2 i + 1 ≤ (rb_st n p y).1 / rb_F (n - 1 - y) := M
        omega
      have step : wL_lawOf_690 post mc ms (wL_lawOf_645 post mc ms (nI n) (nI row) (nI col) (nI (rb_F n)) (nI x) (nI p) kc ks (m + 1)) (wL_lawOf_674 post mc ms (wL_lawOf_645 post mc ms (nI n) (nI row) (nI col) (nI (rb_F n)) (nI x) (nI p) kc ks (m + 1)) (nI n) (nI row) (nI col) (nI (rb_F n)) (nI x) (nI p) (nI (rb_st n p y).1) (nI (rb_st n p y).2) (nI y) (nI (rb_F (n - 1 - y))) kc ks (nI n) f1 a1 a2 a3 a4 a5 a6 a7 a8 a9 a10 a11 u) (nI n) (nI row) (nI col) (nI (rb_F n)) (nI x) (nI p) (nI (rb_st n p y).1) (nI (rb_st n p y).2) (nI y) (nI (rb_F (n - 1 - y))) (nI ((rb_st n p y).1 / rb_F (n - 1 - y) - rb_cnt (rb_st n p y).2 i)) (nI i) kc ks (nI n) f1 a1 a2 a3 a4 a5 a6 a7 a8 a9 a10 a11 := by
        unfold wL_lawOf_690
        refine ek_if (rb_b0 tk64 (by omega)) (fun hb => nm_r (sb_m1 (key hb)) (nm_r (nI_1 i) ?_)) (fun hb => nm_r (nI_1 i) ?_)
        · rw [S, hb] at g
          rw [show (rb_st n p y).1 / rb_F (n - 1 - y) - rb_cnt (rb_st n p y).2 i - 1 = (rb_st n p y).1 / rb_F (n - 1 - y) - (rb_cnt (rb_st n p y).2 i + 1) by omega]
          exact g
        · have hb' : (rb_st n p y).2.testBit i = true := by
            cases hh : (rb_st n p y).2.testBit i
            · exact absurd hh hb
            · rfl
          rw [S, hb'] at g
          exact g
      refine pk_lt 0 _ (fun _ => step) (fun z => br_t ?_ step) rfl rfl (by omega) (by omega)
      rw [rb_b1 tk64 (by omega)]
      cases hh : (rb_st n p y).2.testBit i
      · exact absurd (key hh) (by omega)
      · rfl
theorem rb_615 {z : Nat} {z1 z2 : Int32} (H1 : post 1 ()) (hrow : row < n) (hcol : col < n) (hx : x < n) (hz : z ≤ 6) (hz2 : z2 = z1 * nI (rb_F z)) (hK : rb_K n (fun _ => 2 ^ n - 1) (fun _ => 1) a1 a2 a7 a8) :
    wL_lawOf_615 post mc ms x4 (nI n) (nI row) (nI col) (nI (rb_F n)) (nI x) (nI z) z1 z2 kc ks (nI n) f1 a1 a2 a3 a4 a5 a6 a7 a8 a9 a10 a11 := by
  have h6 := hK.2.1
  have g1 := rb_F1 n (by omega)
  obtain ⟨j, hj, ej⟩ := pk_andE x4 (m := 1023) 10 rfl
  unfold wL_lawOf_615
  refine rb_prod hz (br_t hz2 ⟨rb_Fne n (by omega), ?_⟩)
  rw [ej, pk_rem (by omega) (by omega) (by omega)]
  exact nm_e ⟨_, rb_645 (p := j % rb_F n) H1 hrow hcol hx (Nat.mod_lt _ (by omega)) (x + 1) 0 (by omega) _ _ _ _ _ _ _ _ _ _ _ _ hK⟩
theorem rb_560 {z0 z1 : Int32} (H1 : post 1 ()) (hrow : row < n) (hcol : col < n) (hx : x < n) (hk : k ≤ n) (hz : z1 = z0) (hK : rb_K n (fun _ => 2 ^ n - 1) (fun _ => 1) a1 a2 a7 a8) :
    wL_lawOf_560 post mc ms x4 (nI n) (nI k) (nI row) (nI col) (nI (rb_F n)) (nI x) z0 z1 kc ks (nI n) f1 a1 a2 a3 a4 a5 a6 a7 a8 a9 a10 a11 := by
  have h6 := hK.2.1
  have h1 := hK.1
  unfold wL_lawOf_560
  refine br_t hz ?_
  rw [rb_ix6, rb_pr1 h1]
  refine rb_through hrow hcol hk hK (fun f1 a1 a2 a3 a4 a5 a6 a7 a8 a9 a10 a11 hK => rb_choose1 (by omega) (by omega) (rb_choose1 (by omega) (by omega) ?_))
  rw [rb_Fthr h6 hrow hcol hk]
  refine pk_le 1 k (fun h => ?_) (fun h => ?_)
  · rw [rb_pr1 h]
    exact rb_615 H1 hrow hcol hx (by omega) rfl hK
  · exact rb_615 (z := 0) H1 hrow hcol hx (by omega) (by rw [show k - 1 = 0 by omega]) hK
theorem rb_T0I : ∀ c, rb_tI 0 c = 9 ∨ 6 ≤ c := fun c => Or.inl (if_neg (by omega))
theorem rb_T0G : ∀ c, rb_tG 0 c = 9 ∨ 6 ≤ c := fun c => Or.inl (if_neg (by omega))
theorem rb_T0C : ∀ c, rb_tC 0 c = 9 ∨ 6 ≤ c := by
  intro c
  by_cases h : c < 6
  · exact Or.inl ((by decide +kernel : ∀ c, c < 6 → rb_tC 0 c = 9) c h)
  · exact Or.inr (by omega)
theorem rb_529 {z0 z1 : Int32} (H1 : post 1 ()) (hrow : row < n) (hcol : col < n) (hx : x < n) (hk : k ≤ n) (hz : z1 = z0) (hK : rb_K n (fun _ => 2 ^ n - 1) (fun _ => 1) a1 a2 a7 a8) :
    wL_lawOf_529 post mc ms x4 (nI n) (nI k) (nI row) (nI col) (nI (rb_F n)) (nI x) z0 z1 kc ks (nI n) f1 a1 a2 a3 a4 a5 a6 a7 a8 a9 a10 a11 := by
  have h6 := hK.2.1
  have h1 := hK.1
  unfold wL_lawOf_529
  refine br_t hz (rb_lines (rb_mF n (by omega)) rb_T0G hK (fun f1 a1 a2 a3 a4 a5 a6 a7 a8 a9 a10 a11 hK => br_t rfl (rb_needed (rb_mF n (by omega)) rb_T0G hK (fun f1 a1 a2 a3 a4 a5 a6 a7 a8 a9 a10 a11 hK => ?_))))
  rw [rb_Fnd h6 h1]
  refine pk_eq n 1 (fun e => rb_560 H1 hrow hcol hx hk ?_ hK) (fun e => rb_560 H1 hrow hcol hx hk ?_ hK)
  · rw [e]
    rfl
  · rw [show (n == 1) = false by simp [e]]
    rfl
end
end
section
/-! the law: the full board, the complement, the identity -/
theorem rb_bD : ∀ n, n < 7 → ∀ r, r < 7 → r < n → (2 ^ n - 1 - 2 ^ r).testBit r = false ∧ 2 ^ n - 1 - 2 ^ r + 2 ^ r = 2 ^ n - 1 ∧ 2 ^ r < 2 ^ n := by decide +kernel
section
variable {post : Int32 → St0 → Prop} {mc ms kc ks : Nat} {f1 x4 w : Int32} {a1 a2 a3 a4 a5 a6 a7 a8 a9 a10 a11 : Nat → Int32} {n k row col x : Nat} {wt : Nat → Int32}
theorem rb_397e (H1 : post 1 ()) (hrow : row < n) (hcol : col < n) (hx : x < n) (hk : k ≤ n) {m : Nat} (hK : rb_K n (fun _ => 2 ^ n - 1) (fun _ => 1) a1 a2 a7 a8) :
    wL_lawOf_397 post mc ms x4 (nI n) (nI k) (nI row) (nI col) (nI (rb_F n)) (nI x) kc ks (m + 1) (nI n) (nI n) f1 a1 a2 a3 a4 a5 a6 a7 a8 a9 a10 a11 := by
  have h6 := hK.2.1
  have h1 := hK.1
  refine pk_le n n (fun _ => rb_cellsW hK (br_t (rb_Fc n (by omega)) (rb_rooks hk hK (fun f1 a1 a2 a3 a4 a5 a6 a7 a8 a9 a10 a11 hK => rb_choose h6 hk (rb_choose h6 hk (rb_prod (by omega) (br_t ?_ (rb_sumM hk hK (fun f1 a1 a2 a3 a4 a5 a6 a7 a8 a9 a10 a11 hK => rb_rooks hk hK (fun f1 a1 a2 a3 a4 a5 a6 a7 a8 a9 a10 a11 hK => br_t ?_ (rb_hits (Nat.le_refl n) hK (fun f1 a1 a2 a3 a4 a5 a6 a7 a8 a9 a10 a11 hK => br_t ?_ (rb_signed hK (fun f1 a1 a2 a3 a4 a5 a6 a7 a8 a9 a10 a11 hK => ?_)))))))))))))) (fun z => absurd z (by omega))
  · rw [rb_FR h6 h1 hk, pk_mul, pk_mul]
  · rw [rb_FR h6 h1 hk, rb_Fsum h6 hk]
  · rw [rb_hs_congr (τ := fun j => rb_C n j * rb_C n j * rb_F j) (n + 1 - n) (by omega) (fun j hj => rb_FR h6 h1 hj)]
    exact rb_Fhit n (by omega) h1
  · rw [rb_Fs n (by omega) h1]
    refine pk_eq n 1 (fun e => rb_529 H1 hrow hcol hx hk ?_ hK) (fun e => rb_529 H1 hrow hcol hx hk ?_ hK)
    · rw [e]
      rfl
    · rw [show (n == 1) = false by simp [e]]
      rfl
theorem rb_397 (H1 : post 1 ()) (hrow : row < n) (hcol : col < n) (hx : x < n) (hk : k ≤ n) :
    ∀ m c, c + m = n → ∀ (wt : Nat → Int32), (∀ j, j < 36 → (∀ c', c ≤ c' → c' < n → j ≠ 7 * c') → wt j = 1) → ∀ (f1 : Int32) (a1 a2 a3 a4 a5 a6 a7 a8 a9 a10 a11 : Nat → Int32), rb_K n (fun r => if r < c then 2 ^ n - 1 else 2 ^ n - 1 - 2 ^ r) wt a1 a2 a7 a8 →
      wL_lawOf_397 post mc ms x4 (nI n) (nI k) (nI row) (nI col) (nI (rb_F n)) (nI x) kc ks (m + 1) (nI c) (nI n) f1 a1 a2 a3 a4 a5 a6 a7 a8 a9 a10 a11 := by
  intro m
  induction m with
  | zero =>
    intro c hc wt hw f1 a1 a2 a3 a4 a5 a6 a7 a8 a9 a10 a11 hK
    have e : c = n := by omega
    subst e
    exact rb_397e H1 hrow hcol hx hk (rb_Kc hK (fun r hr => if_pos hr) (fun j hj => hw j hj (fun c' h1 h2 => absurd h1 (by omega))))
  | succ m ih =>
    intro c hc wt hw f1 a1 a2 a3 a4 a5 a6 a7 a8 a9 a10 a11 hK
    have h6 := hK.2.1
    have F := rb_bD n (by omega) c (by omega) (by omega)
    refine pk_le n c (fun z => absurd z (by omega)) (fun _ => ?_)
    rw [rb_m7]
    refine rb_set (by omega) hK (by rw [if_neg (by omega)]; exact F.1) (fun f1 a1 a2 a3 a4 a5 a6 a7 a8 a9 a10 a11 hK => br_t rfl (rb_weight (by omega) hK (fun f1 a1 a2 a3 a4 a5 a6 a7 a8 a9 a10 a11 hK => br_t rfl (nm_r (nI_1 c) (ih (c + 1) (by omega) (fun j => if j = 7 * c then 1 else wt j) ?_ _ _ _ _ _ _ _ _ _ _ _ _ (rb_Kc hK ?_ (fun _ _ => rfl)))))))
    · intro j hj h
      by_cases e : j = 7 * c
      · rw [if_pos e]
      · rw [if_neg e]
        refine hw j hj (fun c' h1 h2 => ?_)
        by_cases e' : c' = c
        · subst e'
          exact e
        · exact h c' (by omega) h2
    · intro r hr
      by_cases e : r = c
      · rw [if_pos e, if_neg (by omega), if_pos (by omega)]
        exact F.2.1
      · rw [if_neg e]
        by_cases e' : r < c
        · rw [if_pos e', if_pos (by omega)]
        · rw [if_neg e', if_neg (by omega)]
theorem rb_389 {z0 z1 : Int32} (H1 : post 1 ()) (hrow : row < n) (hcol : col < n) (hx : x < n) (hk : k ≤ n) (hz : z1 = z0) (hw : ∀ j, j < 36 → (∀ c', c' < n → j ≠ 7 * c') → wt j = 1) (hK : rb_K n (fun r => 2 ^ n - 1 - 2 ^ r) wt a1 a2 a7 a8) :
    wL_lawOf_389 post mc ms x4 (nI n) (nI k) (nI row) (nI col) (nI (rb_F n)) (nI x) z0 z1 kc ks (nI n) f1 a1 a2 a3 a4 a5 a6 a7 a8 a9 a10 a11 := by
  unfold wL_lawOf_389
  exact br_t hz ⟨_, rb_397 H1 hrow hcol hx hk n 0 (by omega) wt (fun j hj h => hw j hj (fun c' h' => h c' (by omega) h')) _ _ _ _ _ _ _ _ _ _ _ _ (rb_Kc hK (fun r hr => (if_neg (by omega)).symm) (fun _ _ => rfl))⟩
theorem rb_365 (H1 : post 1 ()) (hrow : row < n) (hcol : col < n) (hx : x < n) (hk : k ≤ n) (hw : ∀ j, j < 36 → (∀ c', c' < n → j ≠ 7 * c') → wt j = 1) (hK : rb_K n (fun r => 2 ^ n - 1 - 2 ^ r) wt a1 a2 a7 a8) :
    wL_lawOf_365 post mc ms x4 (nI n) (nI k) (nI row) (nI col) (nI (rb_F n)) (nI x) kc ks (nI n) f1 a1 a2 a3 a4 a5 a6 a7 a8 a9 a10 a11 := by
  have h6 := hK.2.1
  have h1 := hK.1
  unfold wL_lawOf_365
  refine rb_signed hK (fun f1 a1 a2 a3 a4 a5 a6 a7 a8 a9 a10 a11 hK => ?_)
  rw [rb_Csgn h6 h1 (fun j hj h => hw j hj h), rb_n1 (by omega)]
  refine pk_eq (n % 2) 1 (fun e => rb_389 H1 hrow hcol hx hk ?_ hw hK) (fun e => rb_389 H1 hrow hcol hx hk ?_ hw hK)
  · rw [e]
    rfl
  · rw [show n % 2 = 0 by omega]
    rfl
theorem rb_292 (H1 : post 1 ()) (hrow : row < n) (hcol : col < n) (hx : x < n) (hk : k ≤ n) (hw : ∀ j, j < 36 → (∀ c', c' < n → j ≠ 7 * c') → wt j = 1) (hK : rb_K n (fun r => 2 ^ r) wt a1 a2 a7 a8) :
    wL_lawOf_292 post mc ms x4 (nI n) (nI k) (nI row) (nI col) (nI (rb_F n)) (nI x) kc ks (nI n) f1 a1 a2 a3 a4 a5 a6 a7 a8 a9 a10 a11 := by
  have h6 := hK.2.1
  have h1 := hK.1
  unfold wL_lawOf_292
  refine rb_compl hK (fun f1 a1 a2 a3 a4 a5 a6 a7 a8 a9 a10 a11 hK => ?_)
  have hK : rb_K n (fun r => 2 ^ n - 1 - 2 ^ r) wt a1 a2 a7 a8 := hK
  refine br_t (rb_Cc n (by omega)) (rb_rooks (Nat.le_refl n) hK (fun f1 a1 a2 a3 a4 a5 a6 a7 a8 a9 a10 a11 hK => rb_apart h6 (br_t ?_ (rb_hits hk hK (fun f1 a1 a2 a3 a4 a5 a6 a7 a8 a9 a10 a11 hK => ?_)))))
  · rw [rb_CR h6 (Nat.le_refl n), rb_Cd n (by omega)]
  · rw [pk_sub hk]
    refine rb_choose h6 (by omega) (rb_apart (by omega) (br_t ?_ (pk_le n 1 (fun _ => rb_365 H1 hrow hcol hx hk hw hK) (fun h => rb_mostM (rb_mC n (by omega) (by omega)) rb_T0C hK (fun f1 a1 a2 a3 a4 a5 a6 a7 a8 a9 a10 a11 hK => br_t rfl (rb_365 H1 hrow hcol hx hk hw hK))))))
    rw [rb_hs_congr (τ := rb_rC n) (n + 1 - k) (by omega) (fun j hj => rb_CR h6 hj)]
    exact rb_Ch n (by omega) k (by omega) hk
theorem rb_123 (H1 : post 1 ()) (hrow : row < n) (hcol : col < n) (hx : x < n) (hk : k ≤ n) (hd : ∀ r, r < n → wt (7 * r) = w) (hw : ∀ j, j < 36 → (∀ c', c' < n → j ≠ 7 * c') → wt j = 1) (hK : rb_K n (fun r => 2 ^ r) wt a1 a2 a7 a8) :
    ∃ m, wL_lawOf_123 post mc ms w x4 (nI n) (nI k) (nI row) (nI col) (nI (rb_F n)) (nI x) kc ks (nI n) f1 a1 a2 a3 a4 a5 a6 a7 a8 a9 a10 a11 m 1 0 := by
  have h6 := hK.2.1
  have h1 := hK.1
  refine pk_loop (σ := Unit) (fun m i _ => wL_lawOf_123 post mc ms w x4 (nI n) (nI k) (nI row) (nI col) (nI (rb_F n)) (nI x) kc ks (nI n) f1 a1 a2 a3 a4 a5 a6 a7 a8 a9 a10 a11 m (rb_pw w i) (nI i)) (fun _ _ => True) k 0 () (by omega) trivial ?_ ?_
  · intro m _ _
    refine pk_le k k (fun _ => rb_cellsW hK (br_t (by rw [rb_Ic n (by omega)]) (rb_rooks hk hK (fun f1 a1 a2 a3 a4 a5 a6 a7 a8 a9 a10 a11 hK => rb_choose h6 hk (br_t (by rw [rb_IR n (by omega) k (by omega) hk]) (rb_hits hk hK (fun f1 a1 a2 a3 a4 a5 a6 a7 a8 a9 a10 a11 hK => rb_choose h6 hk ?_))))))) (fun z => absurd z (by omega))
    rw [pk_sub hk]
    refine rb_apart (by omega) (br_t ?_ (rb_sumM hk hK (fun f1 a1 a2 a3 a4 a5 a6 a7 a8 a9 a10 a11 hK => rb_choose h6 hk (br_t (rb_Isum h6 hk hd) (rb_mostM (rb_mI n (by omega)) rb_T0I hK (fun f1 a1 a2 a3 a4 a5 a6 a7 a8 a9 a10 a11 hK => br_t rfl (rb_lines (rb_mI n (by omega)) rb_T0I hK (fun f1 a1 a2 a3 a4 a5 a6 a7 a8 a9 a10 a11 hK => br_t rfl (rb_needed (rb_mI n (by omega)) rb_T0I hK (fun f1 a1 a2 a3 a4 a5 a6 a7 a8 a9 a10 a11 hK => br_t (by rw [rb_In n (by omega)]) ?_))))))))))
    · rw [rb_hs_congr (τ := rb_C n) (n + 1 - k) (by omega) (fun j hj => rb_IR n (by omega) j (by omega) hj)]
      exact rb_Ih n (by omega) k (by omega) hk
    · rw [rb_m7, show 7 * row = 6 * row + row by omega, rb_pr1 h1]
      refine rb_through hrow hrow hk hK (fun f1 a1 a2 a3 a4 a5 a6 a7 a8 a9 a10 a11 hK => rb_choose1 (by omega) (by omega) (br_t (rb_It n (by omega) row (by omega) hrow k (by omega) hk) ?_))
      refine pk_eq k n (fun e => rb_signed hK (fun f1 a1 a2 a3 a4 a5 a6 a7 a8 a9 a10 a11 hK => br_t ?_ (rb_292 H1 hrow hcol hx hk hw hK))) (fun e => rb_292 H1 hrow hcol hx hk hw hK)
      rw [rb_Isgn h6 hd, e]
  · intro m i _ hi _ hw'
    exact pk_le k i (fun z => absurd z (by omega)) (fun _ => nm_e (nm_r (nI_1 i) (hw' () trivial)))
theorem rb_74 (H1 : post 1 ()) (hrow : row < n) (hcol : col < n) (hx : x < n) (hk : k ≤ n) :
    ∀ m c, c + m = n → ∀ (wt : Nat → Int32), (∀ r, r < c → wt (7 * r) = w) → (∀ j, j < 36 → (∀ c', c' < n → j ≠ 7 * c') → wt j = 1) → ∀ (f1 : Int32) (a1 a2 a3 a4 a5 a6 a7 a8 a9 a10 a11 : Nat → Int32), rb_K n (fun r => if r < c then 2 ^ r else 0) wt a1 a2 a7 a8 →
      wL_lawOf_74 post mc ms w x4 (nI n) (nI k) (nI row) (nI col) (nI (rb_F n)) (nI x) kc ks (m + 1) (nI c) (nI n) f1 a1 a2 a3 a4 a5 a6 a7 a8 a9 a10 a11 := by
  intro m
  induction m with
  | zero =>
    intro c hc wt hd hw f1 a1 a2 a3 a4 a5 a6 a7 a8 a9 a10 a11 hK
    have h6 := hK.2.1
    have e : c = n := by omega
    subst e
    exact pk_le c c (fun _ => rb_123 H1 hrow hcol hx hk hd hw (rb_Kc hK (fun r hr => if_pos hr) (fun _ _ => rfl))) (fun z => absurd z (by omega))
  | succ m ih =>
    intro c hc wt hd hw f1 a1 a2 a3 a4 a5 a6 a7 a8 a9 a10 a11 hK
    have h6 := hK.2.1
    refine pk_le n c (fun z => absurd z (by omega)) (fun _ => ?_)
    rw [rb_m7]
    refine rb_set (by omega) hK (by rw [if_neg (by omega)]; exact Nat.zero_testBit c) (fun f1 a1 a2 a3 a4 a5 a6 a7 a8 a9 a10 a11 hK => br_t rfl (rb_weight (by omega) hK (fun f1 a1 a2 a3 a4 a5 a6 a7 a8 a9 a10 a11 hK => br_t rfl (nm_r (nI_1 c) (ih (c + 1) (by omega) (fun j => if j = 7 * c then w else wt j) ?_ ?_ _ _ _ _ _ _ _ _ _ _ _ _ (rb_Kc hK ?_ (fun _ _ => rfl)))))))
    · intro r hr
      by_cases e : r = c
      · rw [if_pos (by omega)]
      · rw [if_neg (by omega)]
        exact hd r (by omega)
    · intro j hj h
      rw [if_neg (h c (by omega))]
      exact hw j hj h
    · intro r hr
      by_cases e : r = c
      · rw [if_pos e, if_neg (by omega), if_pos (by omega), e]
        exact Nat.zero_add _
      · rw [if_neg e]
        by_cases e' : r < c
        · rw [if_pos e', if_pos (by omega)]
        · rw [if_neg e', if_neg (by omega)]
end
theorem rb_a127 (v : Int32) : ∃ j, j < 128 ∧ v &&& 127 = nI j := pk_andE v (m := 127) 7 rfl
theorem rb_lawOf {post : Int32 → St0 → Prop} {p0 p1 p2 p3 p4 p5 : Int32} (H1 : post 1 ()) : wpL_lawOf post 12 1155 () p0 p1 p2 p3 p4 p5 := by
  obtain ⟨j0, h0, e0⟩ := rb_a127 p0
  obtain ⟨j1, h1, e1⟩ := rb_a127 p1
  obtain ⟨j2, h2, e2⟩ := rb_a127 p2
  obtain ⟨j3, h3, e3⟩ := rb_a127 (p2 >>> ((7 : Int32) &&& 31))
  obtain ⟨j5, h5, e5⟩ := rb_a127 p5
  unfold wpL_lawOf
  rw [e0, e1, e2, e3, e5]
  have hm : j0 % 6 < 6 := Nat.mod_lt _ (by omega)
  refine ⟨rb_60, nm_r (show _ = nI (1 + j0 % 6) from ?_) ?_⟩
  · show nI 1 + (nI j0 - nI j0 / nI 6 * nI 6) = _
    rw [pk_rem (by omega) (by omega) (by omega), nI_add]
  generalize hn : 1 + j0 % 6 = n
  have n1 : 1 ≤ n := by omega
  have n6 : n ≤ 6 := by omega
  rw [nI_1]
  refine ⟨nI_ne0 (by omega) (by omega), nm_r (pk_rem (by omega) (by omega) (by omega)) ⟨nI_ne0 (by omega) (by omega), nm_r (pk_rem (by omega) (by omega) (by omega)) ⟨nI_ne0 (by omega) (by omega), nm_r (pk_rem (by omega) (by omega) (by omega)) (rb_prod n6 ⟨nI_ne0 (by omega) (by omega), nm_r (pk_rem (by omega) (by omega) (by omega)) ⟨by omega, by omega, 11, 1142, by omega, by omega, rb_init (by omega) (by omega) n1 n6 (fun f1 a1 a2 a3 a4 a5 a6 a7 a8 a9 a10 a11 hK => ⟨n + 1, ?_⟩)⟩⟩)⟩⟩⟩
  exact rb_74 H1 (Nat.mod_lt _ n1) (Nat.mod_lt _ n1) (Nat.mod_lt _ n1) (Nat.le_of_lt_succ (Nat.mod_lt _ (by omega))) n 0 (by omega) (fun _ => 1) (fun r hr => absurd hr (by omega)) (fun _ _ _ => rfl) _ _ _ _ _ _ _ _ _ _ _ _ (rb_Kc hK (fun r hr => (if_neg (by omega)).symm) (fun _ _ => rfl))
theorem rb_cellAt {post : Int32 → Prop} {L : Nat} {xs : Nat → Int32} {i : Nat} (hL : L ≤ 6) (hi : i < 6) (H : ∀ v, post v) : wpL_cellAt post L xs () (nI i) :=
  pk_le L i (fun _ => H 0) (fun z => ⟨pk_in i L z, H _⟩)
end
section
theorem i_vc (xs : Nat → Int32) (L : Nat) (hL : L ≤ 6) : wpL_law (fun r => r = 1) L xs :=
  rb_cellAt (i := 0) hL (by omega) (fun _ => rb_cellAt (i := 1) hL (by omega) (fun _ => rb_cellAt (i := 2) hL (by omega) (fun _ => rb_cellAt (i := 3) hL (by omega) (fun _ => rb_cellAt (i := 4) hL (by omega) (fun _ => rb_cellAt (i := 5) hL (by omega) (fun _ => ⟨12, 1155, by omega, by omega, rb_lawOf rfl⟩))))))
end
