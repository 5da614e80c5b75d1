section
/-! numbers, rows and tables, with no program in sight -/
def ro_f : Nat → Nat
  | 0 => 1
  | n + 1 => (n + 1) * ro_f n
theorem ro_f_pos : ∀ k, 0 < ro_f k
  | 0 => Nat.one_pos
  | k + 1 => Nat.mul_pos (Nat.succ_pos k) (ro_f_pos k)
theorem ro_f_le : ∀ k, k < 6 → ro_f k ≤ 120 := by decide
theorem ro_b8 : ∀ v, v < 128 → (nI v).toInt8.toInt32 = nI v := by decide +kernel
theorem ro_nb {v : Nat} (h : v < 128) : vp_nar .byte (nI v) = nI v := by rw [vp_nar_byte]; exact ro_b8 v h
theorem ro_cnt : ∀ n, n < 32 → ((nI n &&& 31).toBitVec.smod 32).toNat = n := by decide +kernel
theorem ro_shl1 : ∀ m, m < 31 → (1 : Int32) <<< (nI m &&& 31) = nI (2 ^ m) := by decide +kernel
theorem ro_and (a b : Nat) : nI a &&& nI b = nI (a &&& b) := by
  apply Int32.toBitVec_inj.1
  show BitVec.ofNat 32 a &&& BitVec.ofNat 32 b = BitVec.ofNat 32 (a &&& b)
  apply BitVec.eq_of_getLsbD_eq
  intro i hi
  simp [hi]
theorem ro_xor (a b : Nat) : nI a ^^^ nI b = nI (a ^^^ b) := by
  apply Int32.toBitVec_inj.1
  show BitVec.ofNat 32 a ^^^ BitVec.ofNat 32 b = BitVec.ofNat 32 (a ^^^ b)
  apply BitVec.eq_of_getLsbD_eq
  intro i hi
  simp [hi]
theorem ro_or (a b : Nat) : nI a ||| nI b = nI (a ||| b) := by
  apply Int32.toBitVec_inj.1
  show BitVec.ofNat 32 a ||| BitVec.ofNat 32 b = BitVec.ofNat 32 (a ||| b)
  apply BitVec.eq_of_getLsbD_eq
  intro i hi
  simp [hi]
theorem ro_bit {u m : Nat} (hu : u < 2 ^ 31) (hm : m < 32) : ((nI u >>> (nI m &&& 31)) &&& 1) = 1 ↔ u / 2 ^ m % 2 = 1 := by
  have h1 : u / 2 ^ m ≤ u := Nat.div_le_self _ _
  rw [pk_shrN hu _ m (ro_cnt m hm), pk_andN (by omega) 1 (by decide)]
  show nI (u / 2 ^ m % 2) = nI 1 ↔ _
  exact nI_eq (by omega) (by omega)
theorem ro_up {s : Nat → Int32} {x y : Int32} {k v : Nat} (hx : x = nI k) (hy : y = nI v) (hk : k < 2 ^ 31) : upd s x.toNatClampNeg y = upd s k (nI v) := by rw [hx, hy, nI_clamp hk]
theorem ro_or_lt {a b k : Nat} (ha : a < 2 ^ k) (hb : b < 2 ^ k) : a ||| b < 2 ^ k := Nat.or_lt_two_pow ha hb
/-- n numbers from place b on -/
def ro_Row (a : Nat → Int32) (b n : Nat) (p : Nat → Nat) : Prop := ∀ i, i < n → a (b + i) = nI (p i) ∧ 1 ≤ p i ∧ p i ≤ 5
theorem ro_get {a : Nat → Int32} {b n i : Nat} {p : Nat → Nat} {x : Int32} (h : ro_Row a b n p) (hi : i < n) (hx : x = nI (b + i)) (hb : b + i < 2 ^ 31) : a x.toNatClampNeg = nI (p i) := by
  rw [hx, nI_clamp hb]
  exact (h i hi).1
/-! products -/
theorem ro_product {post : Int32 → Prop} {N T x : Int32} {a1 a2 a3 a4 : Nat → Int32} {k : Nat} (hk : k ≤ 5) (hx : x = nI k) (H : post (nI (ro_f k))) : wpX_productOf post (N, T, a1, a2, a3, a4) x := by
  subst hx
  refine pk_loop (σ := Unit) (fun fu i _ => wX_productOf_4 post (nI k) N T a1 a2 a3 a4 fu (nI (ro_f (i - 1))) (nI i)) (fun i _ => 2 ≤ i) (max 2 (k + 1)) 2 () (by omega) (Nat.le_refl 2) ?_ ?_
  · intro fu _ _
    refine pk_lt k (max 2 (k + 1)) (fun _ => ?_) (fun z => absurd z (by omega))
    have e : ro_f (max 2 (k + 1) - 1) = ro_f k := by
      rcases Nat.lt_or_ge k 2 with z | z
      · have : k = 0 ∨ k = 1 := by omega
        rcases this with rfl | rfl <;> rfl
      · rw [show max 2 (k + 1) - 1 = k by omega]
    show post (nI (ro_f (max 2 (k + 1) - 1)))
    rw [e]
    exact H
  · intro fu i _ hi h2 hw
    rcases i with _ | i
    · exact absurd h2 (by omega)
    · exact pk_lt k (i + 1) (fun z => absurd z (by omega)) (fun z => nm_r (by show nI (ro_f i) * nI (i + 1) = nI (ro_f (i + 1)); rw [pk_mul, Nat.mul_comm]; rfl) (nm_r (nI_1 (i + 1)) (hw () (by omega))))
/-! the next free number -/
def ro_nf (n u : Nat) : Nat → Nat → Nat → Nat
  | 0, x, _ => x
  | f + 1, x, l => if n ≤ x then x else if 0 < l ∨ u / 2 ^ x % 2 = 1 then ro_nf n u f (x + 1) (if u / 2 ^ x % 2 = 1 then l else l - 1) else x
theorem ro_nf_ge (n u : Nat) : ∀ f x l, x ≤ ro_nf n u f x l := by
  intro f
  induction f with
  | zero => exact fun x l => Nat.le_refl x
  | succ f ih =>
    intro x l
    unfold ro_nf
    split
    · exact Nat.le_refl x
    · split
      · exact Nat.le_trans (Nat.le_succ x) (ih (x + 1) _)
      · exact Nat.le_refl x
theorem ro_nf_le (n u : Nat) : ∀ f x l, x ≤ n → ro_nf n u f x l ≤ n := by
  intro f
  induction f with
  | zero => exact fun x l h => h
  | succ f ih =>
    intro x l h
    unfold ro_nf
    split
    · exact h
    · split
      · exact ih (x + 1) _ (by omega)
      · exact h
theorem ro_nextFree_lp {post : Int32 → Prop} {T : Int32} {a1 a2 a3 a4 : Nat → Int32} {n u : Nat} (h5 : n ≤ 5) (hu : u < 2 ^ 31) : ∀ f x l, n ≤ x + f → l < 2 ^ 31 → x ≤ 5 → post (nI (ro_nf n u f x l)) → wX_nextFree_5 post (nI u) (nI n) T a1 a2 a3 a4 (f + 1) (nI x) (nI l) := by
  intro f
  induction f with
  | zero => exact fun x l hf hl h6 H => pk_le n x (fun _ => H) (fun z => absurd z (by omega))
  | succ f ih =>
    intro x l hf hl h6 H
    unfold ro_nf at H
    refine pk_le n x (fun z => ?_) (fun z => ?_)
    · rw [if_pos z] at H
      exact H
    · rw [if_neg (by omega)] at H
      have g27 : (0 < l ∨ u / 2 ^ x % 2 = 1) → wX_nextFree_27 post (wX_nextFree_5 post (nI u) (nI n) T a1 a2 a3 a4 (f + 1)) (nI u) (nI x) (nI l) (nI n) T a1 a2 a3 a4 := by
        intro c
        rw [if_pos c] at H
        refine ek_if (ro_bit hu (by omega)) (fun b => nm_r (nI_1 x) ?_) (fun b => ?_)
        · rw [if_pos b] at H
          exact ih (x + 1) l (by omega) hl (by omega) H
        · rw [if_neg b] at H
          refine nm_r (e' := nI (l - 1)) (pk_sub (a := l) (b := 1) (by omega)) (nm_r (nI_1 x) ?_)
          exact ih (x + 1) (l - 1) (by omega) (by omega) (by omega) H
      refine pk_lt 0 l (fun y => g27 (Or.inl y)) (fun y => ?_)
      refine ek_if (ro_bit hu (by omega)) (fun b => g27 (Or.inr b)) (fun b => ?_)
      rw [if_neg (by omega)] at H
      exact H
theorem ro_nextFree {post : Int32 → Prop} {T x y : Int32} {a1 a2 a3 a4 : Nat → Int32} {n u l : Nat} (h5 : n ≤ 5) (hu : u < 2 ^ 31) (hl : l < 2 ^ 31) (hx : x = nI u) (hy : y = nI l) (H : post (nI (ro_nf n u n 1 l))) : wpX_nextFree post (nI n, T, a1, a2, a3, a4) x y := by
  subst hx hy
  exact ⟨n + 1, ro_nextFree_lp h5 hu n 1 l (by omega) hl (by omega) H⟩
/-! the permutation with k before it -/
def ro_ur (n k : Nat) : Nat → Nat × Nat
  | 0 => (k, 0)
  | i + 1 => ((ro_ur n k i).1 % ro_f (n - 1 - i), (ro_ur n k i).2 ||| 2 ^ ro_nf n (ro_ur n k i).2 n 1 ((ro_ur n k i).1 / ro_f (n - 1 - i)))
def ro_ud (n k i : Nat) : Nat := ro_nf n (ro_ur n k i).2 n 1 ((ro_ur n k i).1 / ro_f (n - 1 - i))
theorem ro_ud_in (n k i : Nat) (h1 : 1 ≤ n) : 1 ≤ ro_ud n k i ∧ ro_ud n k i ≤ n := ⟨ro_nf_ge _ _ _ _ _, ro_nf_le _ _ _ _ _ h1⟩
theorem ro_ur_1 (n k : Nat) : ∀ i, (ro_ur n k i).1 ≤ k
  | 0 => Nat.le_refl k
  | i + 1 => Nat.le_trans (Nat.mod_le _ _) (ro_ur_1 n k i)
theorem ro_ur_2 (n k : Nat) (h1 : 1 ≤ n) (h5 : n ≤ 5) : ∀ i, (ro_ur n k i).2 < 2 ^ 6
  | 0 => by show 0 < 2 ^ 6; decide
  | i + 1 => ro_or_lt (ro_ur_2 n k h1 h5 i) (Nat.pow_lt_pow_right (by decide) (by have := ro_ud_in n k i h1; unfold ro_ud at this; omega))
theorem ro_unrank {post : St2 → Prop} {T x : Int32} {a1 a2 a3 a4 : Nat → Int32} {n k : Nat} (h2 : 2 ≤ n) (h5 : n ≤ 5) (hk : k < 2 ^ 31) (hx : x = nI k)
    (H : ∀ b, (∀ j, j < 10 → b j = a1 j) → ro_Row b 10 n (ro_ud n k) → post (nI n, T, b, a2, a3, a4)) : wpX_unrank post (nI n, T, a1, a2, a3, a4) x := by
  subst hx
  refine pk_loop (fun fu i s => wX_unrank_7 post (nI n) T fu (nI (ro_ur n k i).1) (nI (ro_ur n k i).2) (nI i) s a2 a3 a4) (fun i s => (∀ j, j < 10 → s j = a1 j) ∧ ∀ j, j < i → s (10 + j) = nI (ro_ud n k j)) n 0 a1 (by omega) ⟨fun j _ => rfl, fun j hj => absurd hj (by omega)⟩ ?_ ?_
  · intro fu s h
    refine pk_le n n (fun _ => H s h.1 (fun i hi => ⟨h.2 i hi, ?_⟩)) (fun z => absurd z (by omega))
    have := ro_ud_in n k i (by omega)
    omega
  · intro fu i s hi h hw
    have hf := ro_f_pos (n - 1 - i)
    have hfl := ro_f_le (n - 1 - i) (by omega)
    have hl := ro_ur_1 n k i
    have hu := ro_ur_2 n k (by omega) h5 i
    have hd := ro_ud_in n k i (by omega)
    have hq : (ro_ur n k i).1 / ro_f (n - 1 - i) ≤ (ro_ur n k i).1 := Nat.div_le_self _ _
    refine pk_le n i (fun z => absurd z (by omega)) (fun _ => ro_product (k := n - 1 - i) (by omega) ?_ ?_)
    · rw [show nI n - 1 = nI (n - 1) from pk_sub (a := n) (b := 1) (by omega)]
      exact pk_sub (by omega)
    · refine br_f (nI_nle hf (by omega)) ⟨nI_ne0 hf (by omega), nm_r (pk_div (by omega) hf (by omega)) (nm_r (e' := nI ((ro_ur n k i).1 % ro_f (n - 1 - i))) ?_ (ro_nextFree h5 (by omega) (by omega) rfl rfl ?_))⟩
      · rw [← pk_div (by omega) hf (by omega)]
        exact pk_rem (by omega) hf (by omega)
      · refine ⟨pk_in (10 + i) 20 (by omega) (nI_add 10 i), nm_r (ro_up (nI_add 10 i) (ro_b8 _ ?_) (by omega)) (nm_r ?_ (nm_r (nI_1 i) (hw (upd s (10 + i) (nI (ro_ud n k i))) ⟨?_, ?_⟩)))⟩
        · show ro_ud n k i < 128
          omega
        · show nI (ro_ur n k i).2 ||| ((1 : Int32) <<< (nI (ro_ud n k i) &&& 31)) = nI ((ro_ur n k i).2 ||| 2 ^ ro_ud n k i)
          rw [ro_shl1 _ (by omega), ro_or]
        · intro j hj
          rw [pk_un (by omega)]
          exact h.1 j hj
        · intro j hj
          rcases Nat.lt_or_ge j i with z | z
          · rw [pk_un (by omega)]
            exact h.2 j z
          · have : j = i := by omega
            subst this
            rw [pk_us]
/-! inversions -/
def ro_iv (n : Nat) (p : Nat → Nat) : Nat → Nat
  | 0 => 0
  | k + 1 => if k / n < k % n ∧ p (k % n) < p (k / n) then ro_iv n p k + 1 else ro_iv n p k
theorem ro_iv_t {n k : Nat} {p : Nat → Nat} (h : k / n < k % n ∧ p (k % n) < p (k / n)) : ro_iv n p (k + 1) = ro_iv n p k + 1 := if_pos h
theorem ro_iv_n {n k : Nat} {p : Nat → Nat} (h : ¬ (k / n < k % n ∧ p (k % n) < p (k / n))) : ro_iv n p (k + 1) = ro_iv n p k := if_neg h
theorem ro_iv_le (n : Nat) (p : Nat → Nat) : ∀ k, ro_iv n p k ≤ k := by
  intro k
  induction k with
  | zero => exact Nat.le_refl 0
  | succ k ih =>
    by_cases h : k / n < k % n ∧ p (k % n) < p (k / n)
    · rw [ro_iv_t h]; omega
    · rw [ro_iv_n h]; omega
theorem ro_inv {post : Int32 → Prop} {T x : Int32} {a1 a2 a3 a4 : Nat → Int32} {n b : Nat} {p : Nat → Nat} (h2 : 2 ≤ n) (h5 : n ≤ 5) (hb : b ≤ 15) (hx : x = nI b) (hr : ro_Row a1 b n p) (H : post (nI (ro_iv n p (n * n)))) : wpX_inversionsAt post (nI n, T, a1, a2, a3, a4) x := by
  subst hx
  have hnn : n * n ≤ 25 := Nat.mul_le_mul h5 h5
  refine pk_loop (σ := Unit) (fun fu k _ => wX_inversionsAt_4 post (nI b) (nI n) T a1 a2 a3 a4 fu (nI (ro_iv n p k)) (nI k)) (fun _ _ => True) (n * n) 0 () (by omega) trivial ?_ ?_
  · intro fu _ _
    exact pk_le (n * n) (n * n) (fun _ => H) (fun z => absurd z (by omega)) (pk_mul n n)
  · intro fu k _ hk _ hw
    have hd : k / n < n := Nat.div_lt_of_lt_mul hk
    have hm : k % n < n := Nat.mod_lt _ (by omega)
    have hw' : wX_inversionsAt_4 post (nI b) (nI n) T a1 a2 a3 a4 fu (nI (ro_iv n p (k + 1))) (nI (k + 1)) := hw () trivial
    obtain ⟨_, q1, q2⟩ := hr _ hd
    obtain ⟨_, q3, q4⟩ := hr _ hm
    refine pk_le (n * n) k (fun z => absurd z (by omega)) (fun _ => ⟨nI_ne0 (by omega) (by omega), nm_r (pk_div (by omega) (by omega) (by omega)) ⟨nI_ne0 (by omega) (by omega), nm_r (pk_rem (by omega) (by omega) (by omega)) ?_⟩⟩) (pk_mul n n)
    refine pk_le (k % n) (k / n) (fun z => nm_r (nI_1 k) ?_) (fun z => ⟨pk_in (b + k / n) 20 (by omega) (nI_add _ _), pk_in (b + k % n) 20 (by omega) (nI_add _ _), pk_le (p (k / n)) (p (k % n)) (fun y => nm_r (nI_1 k) ?_) (fun y => nm_r (nI_1 _) (nm_r (nI_1 k) ?_)) (ro_get hr hd (nI_add _ _) (by omega)) (ro_get hr hm (nI_add _ _) (by omega))⟩)
    · rw [ro_iv_n (by omega)] at hw'
      exact hw'
    · rw [ro_iv_n (by omega)] at hw'
      exact hw'
    · rw [ro_iv_t ⟨z, y⟩] at hw'
      exact hw'
/-! codes -/
def ro_cd (p : Nat → Nat) : Nat → Nat
  | 0 => 0
  | i + 1 => 10 * ro_cd p i + p i
theorem ro_codeAt {post : Int32 → Prop} {T x : Int32} {a1 a2 a3 a4 : Nat → Int32} {n b : Nat} {p : Nat → Nat} (h5 : n ≤ 5) (hb : b ≤ 15) (hx : x = nI b) (hr : ro_Row a1 b n p) (H : post (nI (ro_cd p n))) : wpX_codeAt post (nI n, T, a1, a2, a3, a4) x := by
  subst hx
  refine pk_loop (σ := Unit) (fun fu k _ => wX_codeAt_4 post (nI b) (nI n) T a1 a2 a3 a4 fu (nI (ro_cd p k)) (nI k)) (fun _ _ => True) n 0 () (by omega) trivial ?_ ?_
  · intro fu _ _
    exact pk_le n n (fun _ => H) (fun z => absurd z (by omega))
  · intro fu k _ hk _ hw
    refine pk_le n k (fun z => absurd z (by omega)) (fun _ => ⟨pk_in (b + k) 20 (by omega) (nI_add _ _), nm_r ?_ (nm_r (nI_1 k) (hw () trivial))⟩)
    rw [ro_get hr hk (nI_add _ _) (by omega)]
    show nI 10 * nI (ro_cd p k) + nI (p k) = nI (10 * ro_cd p k + p k)
    rw [pk_mul, nI_add]
end
section
/-! ranks -/
def ro_lc (p : Nat → Nat) (i : Nat) : Nat → Nat
  | 0 => 0
  | m + 1 => if p (i + 1 + m) < p i then ro_lc p i m + 1 else ro_lc p i m
theorem ro_lc_t {i m : Nat} {p : Nat → Nat} (h : p (i + 1 + m) < p i) : ro_lc p i (m + 1) = ro_lc p i m + 1 := if_pos h
theorem ro_lc_n {i m : Nat} {p : Nat → Nat} (h : ¬ p (i + 1 + m) < p i) : ro_lc p i (m + 1) = ro_lc p i m := if_neg h
theorem ro_lc_le (p : Nat → Nat) (i : Nat) : ∀ m, ro_lc p i m ≤ m := by
  intro m
  induction m with
  | zero => exact Nat.le_refl 0
  | succ m ih =>
    by_cases h : p (i + 1 + m) < p i
    · rw [ro_lc_t h]; omega
    · rw [ro_lc_n h]; omega
def ro_rk (n : Nat) (p : Nat → Nat) : Nat → Nat
  | 0 => 0
  | i + 1 => ro_rk n p i + ro_lc p i (n - 1 - i) * ro_f (n - 1 - i)
theorem ro_rk_lt (p : Nat → Nat) {n : Nat} (h2 : 2 ≤ n) (h5 : n ≤ 5) : ro_rk n p n < ro_f n := by
  have h : n = 2 ∨ n = 3 ∨ n = 4 ∨ n = 5 := by omega
  rcases h with rfl | rfl | rfl | rfl
  · have l0 := ro_lc_le p 0 1
    have l1 := ro_lc_le p 1 0
    show 0 + ro_lc p 0 1 * 1 + ro_lc p 1 0 * 1 < 2
    omega
  · have l0 := ro_lc_le p 0 2
    have l1 := ro_lc_le p 1 1
    have l2 := ro_lc_le p 2 0
    show 0 + ro_lc p 0 2 * 2 + ro_lc p 1 1 * 1 + ro_lc p 2 0 * 1 < 6
    omega
  · have l0 := ro_lc_le p 0 3
    have l1 := ro_lc_le p 1 2
    have l2 := ro_lc_le p 2 1
    have l3 := ro_lc_le p 3 0
    show 0 + ro_lc p 0 3 * 6 + ro_lc p 1 2 * 2 + ro_lc p 2 1 * 1 + ro_lc p 3 0 * 1 < 24
    omega
  · have l0 := ro_lc_le p 0 4
    have l1 := ro_lc_le p 1 3
    have l2 := ro_lc_le p 2 2
    have l3 := ro_lc_le p 3 1
    have l4 := ro_lc_le p 4 0
    show 0 + ro_lc p 0 4 * 24 + ro_lc p 1 3 * 6 + ro_lc p 2 2 * 2 + ro_lc p 3 1 * 1 + ro_lc p 4 0 * 1 < 120
    omega
theorem ro_rankAt {post : Int32 → Prop} {T x : Int32} {a1 a2 a3 a4 : Nat → Int32} {n b : Nat} {p : Nat → Nat} (h2 : 2 ≤ n) (h5 : n ≤ 5) (hb : b ≤ 15) (hx : x = nI b) (hr : ro_Row a1 b n p) (H : post (nI (ro_rk n p n))) : wpX_rankAt post (nI n, T, a1, a2, a3, a4) x := by
  subst hx
  refine pk_loop (σ := Unit) (fun fu i _ => wX_rankAt_4 post (nI b) (nI n) T a1 a2 a3 a4 fu (nI (ro_rk n p i)) (nI i)) (fun _ _ => True) n 0 () (by omega) trivial ?_ ?_
  · intro fu _ _
    exact pk_le n n (fun _ => H) (fun z => absurd z (by omega))
  · intro fu i _ hi _ hw
    refine pk_le n i (fun z => absurd z (by omega)) (fun _ => nm_r (nI_1 i) ?_)
    refine pk_loop (σ := Unit) (fun g m _ => wX_rankAt_20 post (wX_rankAt_4 post (nI b) (nI n) T a1 a2 a3 a4 fu) (nI b) (nI (ro_rk n p i)) (nI i) (nI n) T a1 a2 a3 a4 g (nI (ro_lc p i m)) (nI (i + 1 + m))) (fun _ _ => True) (n - 1 - i) 0 () (by omega) trivial ?_ ?_
    · intro g _ _
      refine pk_le n (i + 1 + (n - 1 - i)) (fun _ => ro_product (k := n - 1 - i) (by omega) ?_ (nm_r (e' := nI (ro_rk n p (i + 1))) ?_ (nm_r (nI_1 i) (hw () trivial)))) (fun z => absurd z (by omega))
      · rw [show nI n - 1 = nI (n - 1) from pk_sub (a := n) (b := 1) (by omega)]
        exact pk_sub (by omega)
      · rw [pk_mul, nI_add]
        rfl
    · intro g m _ hm _ hg
      have hg' : wX_rankAt_20 post (wX_rankAt_4 post (nI b) (nI n) T a1 a2 a3 a4 fu) (nI b) (nI (ro_rk n p i)) (nI i) (nI n) T a1 a2 a3 a4 g (nI (ro_lc p i (m + 1))) (nI (i + 1 + m + 1)) := hg () trivial
      have hj : i + 1 + m < n := by omega
      obtain ⟨_, q1, q2⟩ := hr _ hi
      obtain ⟨_, q3, q4⟩ := hr _ hj
      refine pk_le n (i + 1 + m) (fun z => absurd z (by omega)) (fun _ => ⟨pk_in (b + (i + 1 + m)) 20 (by omega) (nI_add _ _), pk_in (b + i) 20 (by omega) (nI_add _ _), pk_le (p i) (p (i + 1 + m)) (fun y => nm_r (nI_1 _) ?_) (fun y => nm_r (nI_1 _) (nm_r (nI_1 _) ?_)) (ro_get hr hi (nI_add _ _) (by omega)) (ro_get hr hj (nI_add _ _) (by omega))⟩)
      · rw [ro_lc_n (by omega)] at hg'
        exact hg'
      · rw [ro_lc_t y] at hg'
        exact hg'
/-! the pairs -/
def ro_ps (n : Nat) (p : Nat → Nat) : Nat → Nat
  | 0 => 0
  | k + 1 => if k / n < k % n ∧ p (k % n) < p (k / n) then ro_ps n p k ||| 2 ^ (5 * (p (k % n) - 1) + p (k / n) - 1) else ro_ps n p k
theorem ro_ps_t {n k : Nat} {p : Nat → Nat} (h : k / n < k % n ∧ p (k % n) < p (k / n)) : ro_ps n p (k + 1) = ro_ps n p k ||| 2 ^ (5 * (p (k % n) - 1) + p (k / n) - 1) := if_pos h
theorem ro_ps_n {n k : Nat} {p : Nat → Nat} (h : ¬ (k / n < k % n ∧ p (k % n) < p (k / n))) : ro_ps n p (k + 1) = ro_ps n p k := if_neg h
theorem ro_ps_lt {n : Nat} {p : Nat → Nat} (h2 : 2 ≤ n) (hp : ∀ i, i < n → 1 ≤ p i ∧ p i ≤ 5) : ∀ k, k ≤ n * n → ro_ps n p k < 2 ^ 25 := by
  intro k
  induction k with
  | zero => exact fun _ => by show 0 < 2 ^ 25; decide
  | succ k ih =>
    intro hk
    have hd := hp _ (Nat.div_lt_of_lt_mul (show k < n * n by omega))
    have hm := hp _ (Nat.mod_lt k (show n > 0 by omega))
    by_cases h : k / n < k % n ∧ p (k % n) < p (k / n)
    · rw [ro_ps_t h]
      exact ro_or_lt (ih (by omega)) (Nat.pow_lt_pow_right (by decide) (by omega))
    · rw [ro_ps_n h]
      exact ih (by omega)
theorem ro_pairsAt {post : Int32 → Prop} {T x : Int32} {a1 a2 a3 a4 : Nat → Int32} {n b : Nat} {p : Nat → Nat} (h2 : 2 ≤ n) (h5 : n ≤ 5) (hb : b ≤ 15) (hx : x = nI b) (hr : ro_Row a1 b n p) (H : post (nI (ro_ps n p (n * n)))) : wpX_pairsAt post (nI n, T, a1, a2, a3, a4) x := by
  subst hx
  have hnn : n * n ≤ 25 := Nat.mul_le_mul h5 h5
  refine pk_loop (σ := Unit) (fun fu k _ => wX_pairsAt_4 post (nI b) (nI n) T a1 a2 a3 a4 fu (nI (ro_ps n p k)) (nI k)) (fun _ _ => True) (n * n) 0 () (by omega) trivial ?_ ?_
  · intro fu _ _
    exact pk_le (n * n) (n * n) (fun _ => H) (fun z => absurd z (by omega)) (pk_mul n n)
  · intro fu k _ hk _ hw
    have hd : k / n < n := Nat.div_lt_of_lt_mul hk
    have hm : k % n < n := Nat.mod_lt _ (by omega)
    have hw' : wX_pairsAt_4 post (nI b) (nI n) T a1 a2 a3 a4 fu (nI (ro_ps n p (k + 1))) (nI (k + 1)) := hw () trivial
    obtain ⟨_, q1, q2⟩ := hr _ hd
    obtain ⟨_, q3, q4⟩ := hr _ hm
    have g1 : a1 (nI b + nI (k / n)).toNatClampNeg = nI (p (k / n)) := ro_get hr hd (nI_add _ _) (by omega)
    have g2 : a1 (nI b + nI (k % n)).toNatClampNeg = nI (p (k % n)) := ro_get hr hm (nI_add _ _) (by omega)
    refine pk_le (n * n) k (fun z => absurd z (by omega)) (fun _ => ⟨nI_ne0 (by omega) (by omega), nm_r (pk_div (by omega) (by omega) (by omega)) ⟨nI_ne0 (by omega) (by omega), nm_r (pk_rem (by omega) (by omega) (by omega)) ?_⟩⟩) (pk_mul n n)
    refine pk_le (k % n) (k / n) (fun z => nm_r (nI_1 k) ?_) (fun z => ⟨pk_in (b + k / n) 20 (by omega) (nI_add _ _), pk_in (b + k % n) 20 (by omega) (nI_add _ _), pk_le (p (k / n)) (p (k % n)) (fun y => nm_r (nI_1 k) ?_) (fun y => ⟨pk_in (b + k % n) 20 (by omega) (nI_add _ _), pk_in (b + k / n) 20 (by omega) (nI_add _ _), nm_r (e' := nI (ro_ps n p k ||| 2 ^ (5 * (p (k % n) - 1) + p (k / n) - 1))) ?_ (nm_r (nI_1 k) ?_)⟩) g1 g2⟩)
    · rw [ro_ps_n (by omega)] at hw'
      exact hw'
    · rw [ro_ps_n (by omega)] at hw'
      exact hw'
    · rw [g1, g2, show nI (p (k % n)) - 1 = nI (p (k % n) - 1) from pk_sub (b := 1) (by omega)]
      rw [show (5 : Int32) * nI (p (k % n) - 1) = nI (5 * (p (k % n) - 1)) from pk_mul 5 _, nI_add]
      rw [show nI (5 * (p (k % n) - 1) + p (k / n)) - 1 = nI (5 * (p (k % n) - 1) + p (k / n) - 1) from pk_sub (b := 1) (by omega)]
      rw [ro_shl1 _ (by omega), ro_or]
    · rw [ro_ps_t ⟨z, y⟩] at hw'
      exact hw'
/-! fewer great numbers in the first places -/
def ro_bi (b : Bool) : Int32 := cond b 1 0
def ro_ge (p : Nat → Nat) (v : Nat) : Nat → Nat
  | 0 => 0
  | i + 1 => if p i < v then ro_ge p v i else ro_ge p v i + 1
theorem ro_ge_t {i v : Nat} {p : Nat → Nat} (h : p i < v) : ro_ge p v (i + 1) = ro_ge p v i := if_pos h
theorem ro_ge_n {i v : Nat} {p : Nat → Nat} (h : ¬ p i < v) : ro_ge p v (i + 1) = ro_ge p v i + 1 := if_neg h
theorem ro_ge_le (p : Nat → Nat) (v : Nat) : ∀ i, ro_ge p v i ≤ i := by
  intro i
  induction i with
  | zero => exact Nat.le_refl 0
  | succ i ih =>
    by_cases h : p i < v
    · rw [ro_ge_t h]; omega
    · rw [ro_ge_n h]; omega
def ro_lr (p q : Nat → Nat) (v : Nat) : Nat → Bool
  | 0 => true
  | i + 1 => ro_lr p q v i && decide (ro_ge p v (i + 1) ≤ ro_ge q v (i + 1))
def ro_lp (n : Nat) (p q : Nat → Nat) : Nat → Bool
  | 0 => true
  | v + 1 => ro_lp n p q v && ro_lr p q (v + 1) n
theorem ro_lp_mono (n : Nat) (p q : Nat → Nat) {v : Nat} (h : ro_lp n p q v = false) : ∀ d, ro_lp n p q (v + d) = false
  | 0 => h
  | d + 1 => by show (ro_lp n p q (v + d) && _) = false; rw [ro_lp_mono n p q h d]; rfl
theorem ro_s1 (a b : Nat) : nI a - nI b + 1 = nI (a + 1) - nI b := by rw [nI_succ]; grind
theorem ro_s2 (a b : Nat) : nI a - nI b - 1 = nI a - nI (b + 1) := by rw [nI_succ]; grind
theorem ro_sl {a b : Nat} (ha : a < 2 ^ 30) (hb : b < 2 ^ 30) : nI a - nI b < 0 ↔ a < b := by
  constructor
  · intro h
    rcases Nat.lt_or_ge a b with z | z
    · exact z
    · rw [pk_sub z] at h
      exact absurd h (nI_pos (by omega))
  · exact fun h => pk_sneg hb h
theorem ro_less81 {post : Int32 → Prop} {J5 : Int32 → Int32 → Prop} {J24 : Int32 → Int32 → Int32 → Prop} {x1 x2 x4 N T z0 : Int32} {a1 a2 a3 a4 : Nat → Int32} {B : Bool} {i c d : Nat} (hc : c ≤ 5) (hd : d ≤ 5) (hz : z0 = nI c - nI d)
    (H : J24 (ro_bi (B && decide (d ≤ c))) (nI c - nI d) (nI (i + 1))) : wX_lessPlaces_81 post J5 J24 x1 x2 (ro_bi B) x4 (nI i) z0 N T a1 a2 a3 a4 := by
  subst hz
  cases B
  · exact br_t rfl (nm_r (nI_1 i) H)
  · refine br_f (by decide) (ek_if (ro_sl (by omega) (by omega)) (fun y => nm_r (nI_1 i) ?_) (fun y => nm_r (nI_1 i) ?_))
    · rw [decide_eq_false (show ¬ d ≤ c by omega)] at H
      exact H
    · rw [decide_eq_true (show d ≤ c by omega)] at H
      exact H
theorem ro_less {post : Int32 → Prop} {T x y : Int32} {a1 a2 a3 a4 : Nat → Int32} {n b c : Nat} {p q : Nat → Nat} (h2 : 2 ≤ n) (h5 : n ≤ 5) (hb : b ≤ 15) (hc : c ≤ 15) (hx : x = nI b) (hy : y = nI c) (hr : ro_Row a1 b n p) (hq : ro_Row a1 c n q) (H : post (ro_bi (ro_lp n p q n))) : wpX_lessPlaces post (nI n, T, a1, a2, a3, a4) x y := by
  subst hx hy
  refine pk_loop (σ := Unit) (fun fu v _ => wX_lessPlaces_5 post (nI b) (nI c) (nI n) T a1 a2 a3 a4 fu (ro_bi (ro_lp n p q v)) (nI (v + 1))) (fun _ _ => True) n 0 () (by omega) trivial ?_ ?_
  · intro fu _ _
    refine pk_lt n (n + 1) (fun _ => ⟨?_, H⟩) (fun z => absurd z (by omega))
    cases ro_lp n p q n <;> rfl
  · intro fu v _ hv _ hw
    refine pk_lt n (v + 1) (fun z => absurd z (by omega)) (fun _ => ?_)
    have hw' : wX_lessPlaces_5 post (nI b) (nI c) (nI n) T a1 a2 a3 a4 fu (ro_bi (ro_lp n p q v && ro_lr p q (v + 1) n)) (nI (v + 1 + 1)) := hw () trivial
    cases hB : ro_lp n p q v with
    | false =>
      have e := ro_lp_mono n p q hB (n - v)
      rw [show v + (n - v) = n by omega] at e
      rw [e] at H
      exact br_t rfl ⟨rfl, H⟩
    | true =>
      rw [hB] at hw'
      refine br_f (by decide) ?_
      have K : ∃ g, wX_lessPlaces_24 post (wX_lessPlaces_5 post (nI b) (nI c) (nI n) T a1 a2 a3 a4 fu) (nI b) (nI c) (nI (v + 1)) (nI n) T a1 a2 a3 a4 g (ro_bi true) (nI 0 - nI 0) 0 := by
        refine pk_loop (σ := Unit) (fun g i _ => wX_lessPlaces_24 post (wX_lessPlaces_5 post (nI b) (nI c) (nI n) T a1 a2 a3 a4 fu) (nI b) (nI c) (nI (v + 1)) (nI n) T a1 a2 a3 a4 g (ro_bi (ro_lr p q (v + 1) i)) (nI (ro_ge q (v + 1) i) - nI (ro_ge p (v + 1) i)) (nI i)) (fun _ _ => True) n 0 () (by omega) trivial ?_ ?_
        · intro g _ _
          exact pk_le n n (fun _ => nm_r (nI_1 _) hw') (fun z => absurd z (by omega))
        · intro g i _ hi _ hg
          have hg' : wX_lessPlaces_24 post (wX_lessPlaces_5 post (nI b) (nI c) (nI n) T a1 a2 a3 a4 fu) (nI b) (nI c) (nI (v + 1)) (nI n) T a1 a2 a3 a4 g (ro_bi (ro_lr p q (v + 1) i && decide (ro_ge p (v + 1) (i + 1) ≤ ro_ge q (v + 1) (i + 1)))) (nI (ro_ge q (v + 1) (i + 1)) - nI (ro_ge p (v + 1) (i + 1))) (nI (i + 1)) := hg () trivial
          obtain ⟨_, q1, q2⟩ := hr _ hi
          obtain ⟨_, q3, q4⟩ := hq _ hi
          have l1 := ro_ge_le p (v + 1) (i + 1)
          have l2 := ro_ge_le q (v + 1) (i + 1)
          refine pk_le n i (fun z => absurd z (by omega)) (fun _ => ⟨pk_in (c + i) 20 (by omega) (nI_add _ _), pk_lt (q i) (v + 1) (fun y => ⟨pk_in (b + i) 20 (by omega) (nI_add _ _), pk_lt (p i) (v + 1) (fun y2 => ?_) (fun y2 => ?_) (ro_get hr hi (nI_add _ _) (by omega))⟩) (fun y => ⟨pk_in (b + i) 20 (by omega) (nI_add _ _), pk_lt (p i) (v + 1) (fun y2 => ?_) (fun y2 => ?_) (ro_get hr hi (nI_add _ _) (by omega))⟩) (ro_get hq hi (nI_add _ _) (by omega))⟩)
          · refine ro_less81 (by omega) (by omega) ?_ hg'
            rw [ro_ge_t y, ro_ge_t y2]
          · refine ro_less81 (by omega) (by omega) ?_ hg'
            rw [ro_ge_t y, ro_ge_n (by omega), ro_s2]
          · refine ro_less81 (by omega) (by omega) ?_ hg'
            rw [ro_ge_n (by omega), ro_ge_t y2, ro_s1]
          · refine ro_less81 (by omega) (by omega) ?_ hg'
            rw [ro_ge_n (p := q) (by omega), ro_ge_n (p := p) (by omega), ro_s1, ro_s2]
      rw [show nI 0 - nI 0 = (0 : Int32) by decide] at K
      exact K
/-! below -/
def ro_bl (n o : Nat) (p q : Nat → Nat) : Bool := if o = 0 then ro_lp n p q n else decide (ro_ps n p (n * n) &&& (ro_ps n q (n * n) ^^^ 4294967295) = 0)
theorem ro_rowp {a : Nat → Int32} {b n : Nat} {p : Nat → Nat} (h : ro_Row a b n p) : ∀ i, i < n → 1 ≤ p i ∧ p i ≤ 5 := fun i hi => (h i hi).2
theorem ro_not (a b : Nat) : nI a &&& (nI b ^^^ (-1)) = nI (a &&& (b ^^^ 4294967295)) := by
  rw [show (-1 : Int32) = nI 4294967295 by decide, ro_xor, ro_and]
theorem ro_isBelow {post : Int32 → Prop} {T w x y : Int32} {a1 a2 a3 a4 : Nat → Int32} {n o b c : Nat} {p q : Nat → Nat} (h2 : 2 ≤ n) (h5 : n ≤ 5) (ho : o ≤ 1) (hb : b ≤ 15) (hc : c ≤ 15) (hw : w = nI o) (hx : x = nI b) (hy : y = nI c) (hr : ro_Row a1 b n p) (hq : ro_Row a1 c n q) (H : post (ro_bi (ro_bl n o p q))) : wpX_isBelow post (nI n, T, a1, a2, a3, a4) w x y := by
  unfold ro_bl at H
  refine pk_eq o 0 (fun z => ?_) (fun z => ?_) hw
  · rw [if_pos z] at H
    refine ro_less h2 h5 hb hc hx hy hr hq ⟨?_, H⟩
    cases ro_lp n p q n <;> rfl
  · rw [if_neg z] at H
    refine ro_pairsAt h2 h5 hb hx hr (ro_pairsAt h2 h5 hc hy hq ?_)
    have l1 := ro_ps_lt h2 (ro_rowp hr) (n * n) (Nat.le_refl _)
    have l2 : ro_ps n p (n * n) &&& (ro_ps n q (n * n) ^^^ 4294967295) ≤ ro_ps n p (n * n) := Nat.and_le_left
    refine pk_eq (ro_ps n p (n * n) &&& (ro_ps n q (n * n) ^^^ 4294967295)) 0 (fun y => ?_) (fun y => ?_) (ro_not _ _)
    · rw [decide_eq_true y] at H
      exact H
    · rw [decide_eq_false y] at H
      exact H
/-! copies -/
theorem ro_copy {post : St2 → Prop} {T x y : Int32} {a1 a2 a3 a4 : Nat → Int32} {n b c : Nat} {p : Nat → Nat} (h5 : n ≤ 5) (hb : b ≤ 15) (hc : c ≤ 15) (hx : x = nI b) (hy : y = nI c) (hd : b + n ≤ c ∨ c + n ≤ b) (hr : ro_Row a1 b n p)
    (H : ∀ d, (∀ j, (j < c ∨ c + n ≤ j) → d j = a1 j) → ro_Row d c n p → post (nI n, T, d, a2, a3, a4)) : wpX_copy post (nI n, T, a1, a2, a3, a4) x y := by
  subst hx hy
  refine pk_loop (fun fu i s => wX_copy_2 post (nI b) (nI c) (nI n) T fu (nI i) s a2 a3 a4) (fun i s => (∀ j, (j < c ∨ c + n ≤ j) → s j = a1 j) ∧ ∀ j, j < i → s (c + j) = nI (p j)) n 0 a1 (by omega) ⟨fun j _ => rfl, fun j hj => absurd hj (by omega)⟩ ?_ ?_
  · intro fu s h
    exact pk_le n n (fun _ => H s h.1 (fun i hi => ⟨h.2 i hi, (hr i hi).2⟩)) (fun z => absurd z (by omega))
  · intro fu i s hi h hw
    obtain ⟨e, q1, q2⟩ := hr _ hi
    refine pk_le n i (fun z => absurd z (by omega)) (fun _ => ⟨pk_in (b + i) 20 (by omega) (nI_add _ _), pk_in (c + i) 20 (by omega) (nI_add _ _), nm_r (ro_up (v := p i) (nI_add _ _) ?_ (by omega)) (nm_r (nI_1 i) (hw _ ⟨?_, ?_⟩))⟩)
    · rw [nI_add, nI_clamp (by omega), h.1 (b + i) (by omega), e]
      exact ro_nb (by omega)
    · intro j hj
      rw [pk_un (by omega)]
      exact h.1 j hj
    · intro j hj
      rcases Nat.lt_or_ge j i with z | z
      · rw [pk_un (by omega)]
        exact h.2 j z
      · have : j = i := by omega
        subst this
        rw [pk_us]
theorem ro_bring {post : St2 → Prop} {T x y : Int32} {a1 a2 a3 a4 : Nat → Int32} {n k c : Nat} {p : Nat → Nat} (h5 : n ≤ 5) (hk : k < 120) (hc : c ≤ 15) (hx : x = nI k) (hy : y = nI c) (hr : ro_Row a2 (5 * k) n p)
    (H : ∀ d, (∀ j, (j < c ∨ c + n ≤ j) → d j = a1 j) → ro_Row d c n p → post (nI n, T, d, a2, a3, a4)) : wpX_bring post (nI n, T, a1, a2, a3, a4) x y := by
  subst hx hy
  refine pk_loop (fun fu i s => wX_bring_2 post (nI k) (nI c) (nI n) T fu (nI i) s a2 a3 a4) (fun i s => (∀ j, (j < c ∨ c + n ≤ j) → s j = a1 j) ∧ ∀ j, j < i → s (c + j) = nI (p j)) n 0 a1 (by omega) ⟨fun j _ => rfl, fun j hj => absurd hj (by omega)⟩ ?_ ?_
  · intro fu s h
    exact pk_le n n (fun _ => H s h.1 (fun i hi => ⟨h.2 i hi, (hr i hi).2⟩)) (fun z => absurd z (by omega))
  · intro fu i s hi h hw
    obtain ⟨e, q1, q2⟩ := hr _ hi
    have e5 : (5 : Int32) * nI k + nI i = nI (5 * k + i) := by rw [show (5 : Int32) * nI k = nI (5 * k) from pk_mul 5 k, nI_add]
    refine pk_le n i (fun z => absurd z (by omega)) (fun _ => ⟨pk_in (5 * k + i) 600 (by omega) e5, pk_in (c + i) 20 (by omega) (nI_add _ _), nm_r (ro_up (v := p i) (nI_add _ _) ?_ (by omega)) (nm_r (nI_1 i) (hw _ ⟨?_, ?_⟩))⟩)
    · rw [e5, nI_clamp (by omega), e]
      exact ro_nb (by omega)
    · intro j hj
      rw [pk_un (by omega)]
      exact h.1 j hj
    · intro j hj
      rcases Nat.lt_or_ge j i with z | z
      · rw [pk_un (by omega)]
        exact h.2 j z
      · have : j = i := by omega
        subst this
        rw [pk_us]
end
section
/-! the tables, packed -/
def ro_tb : Nat → Nat
  | 2 => 327697
  | 3 => 3135811603881395162480849
  | 4 => 47879224628931607408518034814148660618813761895256992577719610829809084649839459211116813021867161869125841
  | _ => 11663717489895199491496029830017366036225934036649819235790531030589490949786099702414833199981731143605618421345172237263487953351860448357282006057636965165450484369135326308274275833142721209465869921015118055691439508024687604160165071519741390083437188463300106298762756609524964738745971741485128585736292423841582354913692789606483210135411720780822380006248304382780629021239498099619785971478901297255836935679268879867862137685339543827758175777803478168130090959007642504250155016859795277023689761211004341429700058063116488464593
def ro_tl : Nat → Nat
  | 2 => 16
  | 3 => 3285264
  | 4 => 31359853713726341681670922512
  | _ => 2068107430430534330614880040646335660777354399222087138753315182590401001939164314509076741012185033295516191836595399433048213298230127114723600
def ro_pm (n k i : Nat) : Nat := (ro_tb n >>> (3 * (5 * k + i))) % 8
def ro_ln (n k : Nat) : Nat := (ro_tl n >>> (4 * k)) % 16
theorem ro_ln_lt (n k : Nat) : ro_ln n k < 16 := Nat.mod_lt _ (by decide)
theorem ro_pm2 : ∀ k, k < 2 → ∀ i, i < 2 → ro_ud 2 k i = ro_pm 2 k i := by decide +kernel
theorem ro_pm3 : ∀ k, k < 6 → ∀ i, i < 3 → ro_ud 3 k i = ro_pm 3 k i := by decide +kernel
theorem ro_pm4 : ∀ k, k < 24 → ∀ i, i < 4 → ro_ud 4 k i = ro_pm 4 k i := by decide +kernel
theorem ro_pm5 : ∀ k, k < 120 → ∀ i, i < 5 → ro_ud 5 k i = ro_pm 5 k i := by decide +kernel
theorem ro_ln2 : ∀ k, k < 2 → ro_iv 2 (ro_ud 2 k) (2 * 2) = ro_ln 2 k := by decide +kernel
theorem ro_ln3 : ∀ k, k < 6 → ro_iv 3 (ro_ud 3 k) (3 * 3) = ro_ln 3 k := by decide +kernel
theorem ro_ln4 : ∀ k, k < 24 → ro_iv 4 (ro_ud 4 k) (4 * 4) = ro_ln 4 k := by decide +kernel
theorem ro_ln5 : ∀ k, k < 120 → ro_iv 5 (ro_ud 5 k) (5 * 5) = ro_ln 5 k := by decide +kernel
theorem ro_four {n : Nat} (h2 : 2 ≤ n) (h5 : n ≤ 5) : n = 2 ∨ n = 3 ∨ n = 4 ∨ n = 5 := by omega
theorem ro_ud_pm {n : Nat} (h2 : 2 ≤ n) (h5 : n ≤ 5) : ∀ k, k < ro_f n → ∀ i, i < n → ro_ud n k i = ro_pm n k i := by
  rcases ro_four h2 h5 with rfl | rfl | rfl | rfl
  · exact ro_pm2
  · exact ro_pm3
  · exact ro_pm4
  · exact ro_pm5
theorem ro_iv_ln {n : Nat} (h2 : 2 ≤ n) (h5 : n ≤ 5) : ∀ k, k < ro_f n → ro_iv n (ro_ud n k) (n * n) = ro_ln n k := by
  rcases ro_four h2 h5 with rfl | rfl | rfl | rfl
  · exact ro_ln2
  · exact ro_ln3
  · exact ro_ln4
  · exact ro_ln5
def ro_Tab (n : Nat) (a2 a3 : Nat → Int32) : Prop := (∀ k, k < ro_f n → ro_Row a2 (5 * k) n (ro_pm n k)) ∧ (∀ k, k < ro_f n → a3 k = nI (ro_ln n k))
def ro_id (i : Nat) : Nat := i + 1
theorem ro_keep {a d : Nat → Int32} {b n : Nat} {p : Nat → Nat} (h : ro_Row a b n p) (hk : ∀ j, b ≤ j → j < b + n → d j = a j) : ro_Row d b n p := by
  intro i hi
  refine ⟨?_, (h i hi).2⟩
  rw [hk (b + i) (by omega) (by omega)]
  exact (h i hi).1
/-! the making -/
theorem ro_init146 {post : St2 → Prop} {mc ms : Nat} {J : Int32 → Int32 → Int32 → (Nat → Int32) → (Nat → Int32) → (Nat → Int32) → (Nat → Int32) → Prop} {kc ks n k : Nat} {T : Int32} {w s2 s3 s4 : Nat → Int32} (h2 : 2 ≤ n) (h5 : n ≤ 5) (hk : k < ro_f n) (hw : ro_Row w 10 n (ro_ud n k))
    (H : ∀ d2, (∀ j, j < 5 * k → d2 j = s2 j) → ro_Row d2 (5 * k) n (ro_ud n k) → J (nI (k + 1)) (nI n) T w d2 (upd s3 k (nI (ro_iv n (ro_ud n k) (n * n)))) s4) :
    ∃ fu, wX_init_146 post mc ms J (nI k) kc ks (nI n) T fu 0 w s2 s3 s4 := by
  have hf := ro_f_le n (by omega)
  refine pk_loop (fun fu i s => wX_init_146 post mc ms J (nI k) kc ks (nI n) T fu (nI i) w s s3 s4) (fun i s => (∀ j, j < 5 * k → s j = s2 j) ∧ ∀ j, j < i → s (5 * k + j) = nI (ro_ud n k j)) n 0 s2 (by omega) ⟨fun j _ => rfl, fun j hj => absurd hj (by omega)⟩ ?_ ?_
  · intro fu s h
    have hl := ro_iv_le n (ro_ud n k) (n * n)
    have hnn : n * n ≤ 25 := Nat.mul_le_mul h5 h5
    exact pk_le n n (fun _ => ro_inv h2 h5 (by omega) (b := 10) rfl hw ⟨pk_in k 120 (by omega), nm_r (ro_up rfl (ro_b8 _ (by omega)) (by omega)) (nm_r (nI_1 k) (H s h.1 (fun i hi => ⟨h.2 i hi, (hw i hi).2⟩)))⟩) (fun z => absurd z (by omega))
  · intro fu i s hi h hg
    obtain ⟨e, q1, q2⟩ := hw _ hi
    have e5 : (5 : Int32) * nI k + nI i = nI (5 * k + i) := by rw [show (5 : Int32) * nI k = nI (5 * k) from pk_mul 5 k, nI_add]
    refine pk_le n i (fun z => absurd z (by omega)) (fun _ => ⟨pk_in (10 + i) 20 (by omega) (nI_add 10 i), pk_in (5 * k + i) 600 (by omega) e5, nm_r (ro_up (v := ro_ud n k i) e5 ?_ (by omega)) (nm_r (nI_1 i) (hg _ ⟨?_, ?_⟩))⟩)
    · rw [show (10 : Int32) + nI i = nI (10 + i) from nI_add 10 i, nI_clamp (by omega), e]
      exact ro_nb (by omega)
    · intro j hj
      rw [pk_un (by omega)]
      exact h.1 j hj
    · intro j hj
      rcases Nat.lt_or_ge j i with z | z
      · rw [pk_un (by omega)]
        exact h.2 j z
      · have : j = i := by omega
        subst this
        rw [pk_us]
theorem ro_init131 {post : St2 → Prop} {mc ms kc ks n : Nat} {w s2 s3 s4 : Nat → Int32} (h2 : 2 ≤ n) (h5 : n ≤ 5)
    (H : ∀ d1 d2 d3, (∀ j, j < 10 → d1 j = w j) → ro_Tab n d2 d3 → post (nI n, nI (ro_f n), d1, d2, d3, s4)) :
    ∃ fu, wX_init_131 post mc ms kc ks fu 0 (nI n) (nI (ro_f n)) w s2 s3 s4 := by
  have hf := ro_f_le n (by omega)
  refine pk_loop (σ := (Nat → Int32) × (Nat → Int32) × (Nat → Int32)) (fun fu k s => wX_init_131 post mc ms kc ks fu (nI k) (nI n) (nI (ro_f n)) s.1 s.2.1 s.2.2 s4) (fun k s => (∀ j, j < 10 → s.1 j = w j) ∧ (∀ m, m < k → ro_Row s.2.1 (5 * m) n (ro_ud n m)) ∧ ∀ m, m < k → s.2.2 m = nI (ro_iv n (ro_ud n m) (n * n))) (ro_f n) 0 (w, s2, s3) (by omega) ⟨fun j _ => rfl, fun j hj => absurd hj (by omega), fun j hj => absurd hj (by omega)⟩ ?_ ?_
  · intro fu s h
    refine pk_le (ro_f n) (ro_f n) (fun _ => H s.1 s.2.1 s.2.2 h.1 ⟨fun k hk => ?_, fun k hk => ?_⟩) (fun z => absurd z (by omega))
    · intro i hi
      have e := h.2.1 k hk i hi
      rw [ro_ud_pm h2 h5 k hk i hi] at e
      exact e
    · rw [h.2.2 k hk, ro_iv_ln h2 h5 k hk]
  · intro fu k s hk h hw
    refine pk_le (ro_f n) k (fun z => absurd z (by omega)) (fun _ => ro_unrank h2 h5 (by omega) rfl (fun b hb hr => ro_init146 h2 h5 hk hr (fun d2 hd2 hr2 => hw (b, d2, upd s.2.2 k (nI (ro_iv n (ro_ud n k) (n * n)))) ⟨?_, ?_, ?_⟩)))
    · intro j hj
      exact (hb j hj).trans (h.1 j hj)
    · intro m hm
      rcases Nat.lt_or_ge m k with z | z
      · exact ro_keep (h.2.1 m z) (fun j _ hj => hd2 j (by omega))
      · have : m = k := by omega
        subst this
        exact hr2
    · intro m hm
      show upd s.2.2 k (nI (ro_iv n (ro_ud n k) (n * n))) m = _
      rcases Nat.lt_or_ge m k with z | z
      · rw [pk_un (by omega)]
        exact h.2.2 m z
      · have : m = k := by omega
        subst this
        rw [pk_us]
theorem ro_init62 {post : St2 → Prop} {mc ms kc ks n : Nat} {T : Int32} {s1 s2 s3 s4 : Nat → Int32} (h2 : 2 ≤ n) (h5 : n ≤ 5)
    (H : ∀ d1 d2 d3, ro_Row d1 0 n ro_id → ro_Row d1 5 n ro_id → ro_Tab n d2 d3 → post (nI n, nI (ro_f n), d1, d2, d3, s4)) :
    ∃ fu, wX_init_62 post mc ms kc ks (nI n) T fu 0 s1 s2 s3 s4 := by
  refine pk_loop (fun fu i s => wX_init_62 post mc ms kc ks (nI n) T fu (nI i) s s2 s3 s4) (fun i s => (∀ j, j < i → s j = nI (j + 1)) ∧ ∀ j, j < i → s (5 + j) = nI (j + 1)) n 0 s1 (by omega) ⟨fun j hj => absurd hj (by omega), fun j hj => absurd hj (by omega)⟩ ?_ ?_
  · intro fu s h
    refine pk_le n n (fun _ => ?_) (fun z => absurd z (by omega))
    refine pk_loop (σ := Unit) (fun fu i _ => wX_init_105 post mc ms kc ks (nI n) s s2 s3 s4 fu (nI i) (nI (ro_f (i - 1)))) (fun i _ => 2 ≤ i) (n + 1) 2 () (by omega) (Nat.le_refl 2) ?_ ?_
    · intro g _ _
      refine pk_lt n (n + 1) (fun _ => ro_init131 h2 h5 (fun d1 d2 d3 hd ht => H d1 d2 d3 ?_ ?_ ht)) (fun z => absurd z (by omega))
      · intro i hi
        rw [show 0 + i = i by omega, hd i (by omega), h.1 i hi]
        exact ⟨rfl, by show 1 ≤ i + 1; omega, by show i + 1 ≤ 5; omega⟩
      · intro i hi
        rw [hd (5 + i) (by omega), h.2 i hi]
        exact ⟨rfl, by show 1 ≤ i + 1; omega, by show i + 1 ≤ 5; omega⟩
    · intro g i _ hi hi2 hw
      rcases i with _ | i
      · exact absurd hi2 (by omega)
      · exact pk_lt n (i + 1) (fun z => absurd z (by omega)) (fun z => nm_r (by show nI (ro_f i) * nI (i + 1) = nI (ro_f (i + 1)); rw [pk_mul, Nat.mul_comm]; rfl) (nm_r (nI_1 (i + 1)) (hw () (by omega))))
  · intro fu i s hi h hw
    refine pk_le n i (fun z => absurd z (by omega)) (fun _ => ⟨pk_in i 20 (by omega), nm_r (ro_up (v := i + 1) rfl ?_ (by omega)) ⟨pk_in (5 + i) 20 (by omega) (nI_add 5 i), nm_r (ro_up (v := i + 1) (nI_add 5 i) ?_ (by omega)) (nm_r (nI_1 i) (hw _ ⟨?_, ?_⟩))⟩⟩)
    · rw [nI_1]
      exact ro_b8 _ (by omega)
    · rw [nI_1]
      exact ro_b8 _ (by omega)
    · intro j hj
      rw [pk_un (by omega)]
      rcases Nat.lt_or_ge j i with z | z
      · rw [pk_un (by omega)]
        exact h.1 j z
      · have : j = i := by omega
        subst this
        rw [pk_us]
    · intro j hj
      rcases Nat.lt_or_ge j i with z | z
      · rw [pk_un (by omega), pk_un (by omega)]
        exact h.2 j z
      · have : j = i := by omega
        subst this
        rw [pk_us]
/-- what the numbers asked for come to -/
def ro_cl (x : Int32) : Nat := if 2 ≤ x then (if x ≤ 5 then x.toNatClampNeg else 5) else 2
theorem ro_cl_in (x : Int32) : 2 ≤ ro_cl x ∧ ro_cl x ≤ 5 := by
  unfold ro_cl
  split
  · next h =>
    split
    · next h' =>
      obtain ⟨j, hj, rfl⟩ := nI_of2 (x := x) (M := 5) (n := 5) (by decide) (fun z => absurd (Int32.le_trans h (Int32.le_of_lt z)) (by decide)) h'
      rw [nI_clamp (by omega)]
      rw [show (2 : Int32) = nI 2 from rfl, nI_leI (by omega) (by omega)] at h
      omega
    · omega
  · omega
theorem ro_cl_eq {x : Int32} (h : 2 ≤ x) (h' : x ≤ 5) : x = nI (ro_cl x) := by
  unfold ro_cl
  rw [if_pos h, if_pos h']
  obtain ⟨j, hj, rfl⟩ := nI_of2 (x := x) (M := 5) (n := 5) (by decide) (fun z => absurd (Int32.le_trans h (Int32.le_of_lt z)) (by decide)) h'
  rw [nI_clamp (by omega)]
theorem ro_init {post : St2 → Prop} {mc ms : Nat} {x N T : Int32} (hc : 4 ≤ mc) (hs : 860 ≤ ms)
    (H : ∀ d1 d2 d3 d4, ro_Row d1 0 (ro_cl x) ro_id → ro_Row d1 5 (ro_cl x) ro_id → ro_Tab (ro_cl x) d2 d3 → post (nI (ro_cl x), nI (ro_f (ro_cl x)), d1, d2, d3, d4)) : wpX_init post mc ms (N, T) x := by
  obtain ⟨h2, h5⟩ := ro_cl_in x
  have K := fun (T : Int32) => ro_init62 (post := post) (mc := mc) (ms := ms) (kc := 4) (ks := 860) (T := T) (s1 := fun _ => 0) (s2 := fun _ => 0) (s3 := fun _ => 0) (s4 := fun _ => 0) h2 h5 (fun d1 d2 d3 => H d1 d2 d3 _)
  refine ⟨by omega, by omega, by omega, by omega, by omega, by omega, by omega, by omega, br_c (fun h => br_c (fun h' => ?_) (fun h' => ?_)) (fun h => ?_)⟩
  · have e := K T
    rw [← ro_cl_eq h h'] at e
    exact e
  · have e := K T
    rw [show ro_cl x = 5 by unfold ro_cl; rw [if_pos h, if_neg h']] at e
    exact e
  · have e := K T
    rw [show ro_cl x = 2 by unfold ro_cl; rw [if_neg h]] at e
    exact e
end
section
/-! packed counts -/
theorem ro_dadd {B C k v : Nat} (j : Nat) (hB : 1 < B) (h : C / B ^ k % B + v < B) : (C + v * B ^ k) / B ^ j % B = if j = k then C / B ^ k % B + v else C / B ^ j % B := by
  have hp : ∀ m, 0 < B ^ m := fun m => Nat.pow_pos (by omega)
  rcases Nat.lt_trichotomy j k with z | z | z
  · rw [if_neg (by omega)]
    obtain ⟨d, rfl⟩ : ∃ d, k = j + 1 + d := ⟨k - (j + 1), by omega⟩
    have e : v * B ^ (j + 1 + d) = (v * B ^ d * B) * B ^ j := by
      rw [Nat.pow_add, Nat.pow_succ]
      grind
    rw [e, Nat.add_mul_div_right _ _ (hp j), Nat.add_mul_mod_self_right]
  · subst z
    rw [if_pos rfl, Nat.add_mul_div_right _ _ (hp j), ← Nat.mod_add_mod, Nat.mod_eq_of_lt h]
  · rw [if_neg (by omega)]
    obtain ⟨d, rfl⟩ : ∃ d, j = k + 1 + d := ⟨j - (k + 1), by omega⟩
    rw [Nat.pow_add, Nat.pow_succ, ← Nat.div_div_eq_div_mul, ← Nat.div_div_eq_div_mul, Nat.add_mul_div_right _ _ (hp k), ← Nat.div_div_eq_div_mul, ← Nat.div_div_eq_div_mul]
    have e : (C / B ^ k + v) / B = C / B ^ k / B := by
      have e1 : C / B ^ k + v = (C / B ^ k % B + v) + B * (C / B ^ k / B) := by
        have := Nat.div_add_mod (C / B ^ k) B
        omega
      rw [e1, Nat.add_mul_div_left _ _ (by omega), Nat.div_eq_of_lt h, Nat.zero_add]
    rw [e]
theorem ro_dsub {B C : Nat} (k j : Nat) (hB : 1 < B) : (C - C / B ^ k % B * B ^ k) / B ^ j % B = if j = k then 0 else C / B ^ j % B := by
  have hp : 0 < B ^ k := Nat.pow_pos (by omega)
  have hle : C / B ^ k % B * B ^ k ≤ C := Nat.le_trans (Nat.mul_le_mul_right _ (Nat.mod_le _ _)) (Nat.div_mul_le_self _ _)
  have h0 : (C - C / B ^ k % B * B ^ k) / B ^ k % B = 0 := by
    have e1 : (C - C / B ^ k % B * B ^ k) / B ^ k = C / B ^ k - C / B ^ k % B := by
      rw [Nat.mul_comm (C / B ^ k % B)]
      exact Nat.sub_mul_div_of_le _ _ _ (by rw [Nat.mul_comm]; exact hle)
    have e2 : C / B ^ k - C / B ^ k % B = B * (C / B ^ k / B) := by
      have := Nat.div_add_mod (C / B ^ k) B
      omega
    rw [e1, e2, Nat.mul_mod_right]
  by_cases hj : j = k
  · rw [if_pos hj, hj]
    exact h0
  · rw [if_neg hj]
    have hlt : C / B ^ k % B < B := Nat.mod_lt _ (by omega)
    have e := ro_dadd (B := B) (C := C - C / B ^ k % B * B ^ k) (k := k) (v := C / B ^ k % B) j hB (by rw [h0]; omega)
    rw [if_neg hj, Nat.sub_add_cancel hle] at e
    exact e.symm
def ro_gc (C k : Nat) : Nat := C / 4294967296 ^ k % 4294967296
def ro_sc (C k v : Nat) : Nat := C - ro_gc C k * 4294967296 ^ k + v * 4294967296 ^ k
theorem ro_gc_lt (C k : Nat) : ro_gc C k < 4294967296 := Nat.mod_lt _ (by decide)
theorem ro_gc_sc {C k v : Nat} (j : Nat) (hv : v < 4294967296) : ro_gc (ro_sc C k v) j = if j = k then v else ro_gc C j := by
  unfold ro_gc ro_sc ro_gc
  have h0 := ro_dsub (B := 4294967296) (C := C) k k (by decide)
  rw [if_pos rfl] at h0
  rw [ro_dadd j (by decide) (by rw [h0]; omega)]
  by_cases hj : j = k
  · rw [if_pos hj, if_pos hj, h0, Nat.zero_add]
  · rw [if_neg hj, if_neg hj, ro_dsub k j (by decide), if_neg hj]
theorem ro_gc_0 (k : Nat) : ro_gc 0 k = 0 := by
  unfold ro_gc
  rw [Nat.zero_div]
theorem ro_wrap (a : Nat) : nI (a % 4294967296) = nI a := by
  apply Int32.toBitVec_inj.1
  show BitVec.ofNat 32 (a % 2 ^ 32) = BitVec.ofNat 32 a
  apply BitVec.eq_of_toNat_eq
  simp
theorem ro_npos {v : Nat} (hv : v < 4294967296) : nI v ≤ 0 ↔ ¬ (0 < v ∧ v < 2147483648) := by
  rcases Nat.lt_or_ge v 2147483648 with z | z
  · rw [show (0 : Int32) = nI 0 from rfl, nI_leI (by omega) (by omega)]
    omega
  · constructor
    · omega
    · intro _
      obtain ⟨w, rfl⟩ : ∃ w, v = 2147483648 + w := ⟨v - 2147483648, by omega⟩
      rw [Int32.le_iff_toInt_le]
      show (BitVec.ofNat 32 (2147483648 + w)).toInt ≤ 0
      rw [BitVec.toInt_eq_toNat_cond, BitVec.toNat_ofNat, Nat.mod_eq_of_lt (by omega), if_neg (by omega)]
      omega
def ro_Cnt (t : Nat) (s : Nat → Int32) (C : Nat) : Prop := ∀ j, j < t → s j = nI (ro_gc C j)
/-! a value told before it is used -/
def ro_st (x : Nat) (f : Nat → Nat) : Nat := match x with
  | 0 => f 0
  | m + 1 => f (m + 1)
theorem ro_st_eq (x : Nat) (f : Nat → Nat) : ro_st x f = f x := by
  cases x <;> rfl
/-! an exchange of two places -/
def ro_sw (p : Nat → Nat) (i j x : Nat) : Nat := if x = j then p i else if x = i then p j else p x
theorem ro_swap {d : Nat → Int32} {b n i j : Nat} {p : Nat → Nat} (h : ro_Row d b n p) (hi : i < n) (hj : j < n) : ro_Row (upd (upd d (b + i) (nI (p j))) (b + j) (nI (p i))) b n (ro_sw p i j) := by
  intro x hx
  unfold ro_sw
  by_cases e : x = j
  · rw [if_pos e, e, pk_us]
    exact ⟨rfl, (h i hi).2⟩
  · rw [if_neg e, pk_un (by omega)]
    by_cases e2 : x = i
    · rw [if_pos e2, e2, pk_us]
      exact ⟨rfl, (h j hj).2⟩
    · rw [if_neg e2, pk_un (by omega)]
      exact h x hx
/-! one step from a permutation -/
def ro_sp1 (n o k q C : Nat) : Nat :=
  if q / n < q % n ∧ (o = 0 ∨ q % n = q / n + 1) then
    ro_st (ro_rk n (ro_sw (ro_pm n k) (q / n) (q % n)) n) (fun to => if ro_ln n to = ro_ln n k + 1 then ro_sc C to ((ro_gc C to + ro_gc C k) % 4294967296) else C)
  else C
def ro_spR (n o k : Nat) : Nat → Nat → Nat → Nat
  | 0, _, C => C
  | f + 1, q, C => ro_st (ro_sp1 n o k q C) (fun C' => ro_spR n o k f (q + 1) C')
theorem ro_spR_s (n o k f q C : Nat) : ro_spR n o k (f + 1) q C = ro_spR n o k f (q + 1) (ro_sp1 n o k q C) := ro_st_eq _ _
theorem ro_spread51 {post : St2 → Prop} {J : Int32 → Int32 → Int32 → (Nat → Int32) → (Nat → Int32) → (Nat → Int32) → (Nat → Int32) → Prop} {T : Int32} {a2 a3 s1 s4 : Nat → Int32} {n o k q i j C : Nat} (h2 : 2 ≤ n) (h5 : n ≤ 5) (hT : ro_Tab n a2 a3) (hk : k < ro_f n) (hi : i < n) (hj : j < n) (hC : ro_Cnt (ro_f n) s4 C)
    (H : ∀ d1 d4, (∀ m, m < 15 → d1 m = s1 m) → ro_Cnt (ro_f n) d4 (ro_st (ro_rk n (ro_sw (ro_pm n k) i j) n) (fun to => if ro_ln n to = ro_ln n k + 1 then ro_sc C to ((ro_gc C to + ro_gc C k) % 4294967296) else C)) → J (nI (q + 1)) (nI n) T d1 a2 a3 d4) :
    wX_spread_51 post J (nI o) (nI k) (nI q) (nI i) (nI j) (nI n) T s1 a2 a3 s4 := by
  have hf := ro_f_le n (by omega)
  unfold wX_spread_51
  refine ro_bring h5 (by omega) (by omega) rfl (show (15 : Int32) = nI 15 from rfl) (hT.1 k hk) (fun d hd hr => ?_)
  have e1 : d ((15 : Int32) + nI i).toNatClampNeg = nI (ro_pm n k i) := ro_get hr hi (nI_add 15 i) (by omega)
  have e2 : d ((15 : Int32) + nI j).toNatClampNeg = nI (ro_pm n k j) := ro_get hr hj (nI_add 15 j) (by omega)
  obtain ⟨_, q1, q2⟩ := hr i hi
  obtain ⟨_, q3, q4⟩ := hr j hj
  have hto := ro_rk_lt (ro_sw (ro_pm n k) i j) h2 h5
  rw [ro_st_eq] at H
  refine ⟨pk_in (15 + i) 20 (by omega) (nI_add 15 i), nm_r e1 ⟨pk_in (15 + j) 20 (by omega) (nI_add 15 j), pk_in (15 + i) 20 (by omega) (nI_add 15 i), nm_r (ro_up (v := ro_pm n k j) (nI_add 15 i) (by rw [e2]; exact ro_nb (by omega)) (by omega)) ⟨pk_in (15 + j) 20 (by omega) (nI_add 15 j), nm_r (ro_up (v := ro_pm n k i) (nI_add 15 j) (ro_nb (by omega)) (by omega)) ?_⟩⟩⟩
  refine ro_rankAt h2 h5 (by omega) (b := 15) rfl (ro_swap hr hi hj) ⟨vp_in_nI (by omega) (by omega), pk_in k 120 (by omega), ?_⟩
  have l1 := ro_ln_lt n (ro_rk n (ro_sw (ro_pm n k) i j) n)
  have l2 := ro_ln_lt n k
  refine pk_eq (ro_ln n (ro_rk n (ro_sw (ro_pm n k) i j) n)) (ro_ln n k + 1) (fun y => ?_) (fun y => ?_) (by rw [nI_clamp (by omega)]; exact hT.2 _ hto) (by rw [nI_clamp (by omega), hT.2 k hk]; exact nI_1 _)
  · rw [if_pos y] at H
    refine ⟨vp_in_nI (by omega) (by omega), pk_in k 120 (by omega), vp_in_nI (by omega) (by omega), nm_e (nm_r (nI_1 q) (H _ _ ?_ ?_))⟩
    · intro m hm
      rw [pk_un (by omega), pk_un (by omega)]
      exact hd m (by omega)
    · intro m hm
      rw [nI_clamp (by omega), nI_clamp (by omega), ro_gc_sc m (Nat.mod_lt _ (by decide)), hC _ hto, hC k hk, nI_add]
      by_cases e : m = ro_rk n (ro_sw (ro_pm n k) i j) n
      · rw [if_pos e, e, pk_us, ro_wrap]
      · rw [if_neg e, pk_un e]
        exact hC m hm
  · rw [if_neg y] at H
    refine ⟨vp_in_nI (by omega) (by omega), vp_in_nI (by omega) (by omega), nm_e (nm_r (nI_1 q) (H _ _ ?_ ?_))⟩
    · intro m hm
      rw [pk_un (by omega), pk_un (by omega)]
      exact hd m (by omega)
    · intro m hm
      rw [nI_clamp (by omega)]
      by_cases e : m = ro_rk n (ro_sw (ro_pm n k) i j) n
      · rw [e, pk_us]
        exact hC _ hto
      · rw [pk_un e]
        exact hC m hm
theorem ro_spread_lp {post : St2 → Prop} {T : Int32} {a2 a3 : Nat → Int32} {n o k : Nat} (h2 : 2 ≤ n) (h5 : n ≤ 5) (ho : o ≤ 1) (hT : ro_Tab n a2 a3) (hk : k < ro_f n) :
    ∀ f q C s1 s4, q + f = n * n → ro_Cnt (ro_f n) s4 C → (∀ d1 d4, (∀ m, m < 15 → d1 m = s1 m) → ro_Cnt (ro_f n) d4 (ro_spR n o k f q C) → post (nI n, T, d1, a2, a3, d4)) → wX_spread_2 post (nI o) (nI k) (f + 1) (nI q) (nI n) T s1 a2 a3 s4 := by
  have hnn : n * n ≤ 25 := Nat.mul_le_mul h5 h5
  intro f
  induction f with
  | zero => exact fun q C s1 s4 hq hC H => pk_le (n * n) q (fun _ => H s1 s4 (fun m _ => rfl) hC) (fun z => absurd z (by omega)) (pk_mul n n)
  | succ f ih =>
    intro q C s1 s4 hq hC H
    rw [ro_spR_s] at H
    have hd : q / n < n := Nat.div_lt_of_lt_mul (by omega)
    have hm : q % n < n := Nat.mod_lt _ (by omega)
    refine pk_le (n * n) q (fun z => absurd z (by omega)) (fun _ => ⟨nI_ne0 (by omega) (by omega), nm_r (pk_div (by omega) (by omega) (by omega)) ⟨nI_ne0 (by omega) (by omega), nm_r (pk_rem (by omega) (by omega) (by omega)) ?_⟩⟩) (pk_mul n n)
    have skip : ¬ (q / n < q % n ∧ (o = 0 ∨ q % n = q / n + 1)) → wX_spread_2 post (nI o) (nI k) (f + 1) (nI (q + 1)) (nI n) T s1 a2 a3 s4 := by
      intro c
      unfold ro_sp1 at H
      rw [if_neg c] at H
      exact ih (q + 1) C s1 s4 (by omega) hC H
    have go : (q / n < q % n ∧ (o = 0 ∨ q % n = q / n + 1)) → wX_spread_51 post (wX_spread_2 post (nI o) (nI k) (f + 1)) (nI o) (nI k) (nI q) (nI (q / n)) (nI (q % n)) (nI n) T s1 a2 a3 s4 := by
      intro c
      unfold ro_sp1 at H
      rw [if_pos c] at H
      refine ro_spread51 (C := C) h2 h5 hT hk hd hm hC (fun d1 d4 k1 k4 => ih (q + 1) _ d1 d4 (by omega) k4 (fun e1 e4 g1 g4 => H e1 e4 (fun m hm => (g1 m hm).trans (k1 m hm)) g4))
    refine pk_le (q % n) (q / n) (fun z => nm_r (nI_1 q) (skip (by omega))) (fun z => ?_)
    refine pk_eq o 0 (fun y => go ⟨z, Or.inl y⟩) (fun y => ?_)
    exact pk_eq (q % n) (q / n + 1) (fun w => go ⟨z, Or.inr w⟩) (fun w => nm_r (nI_1 q) (skip (by omega))) rfl (nI_1 _)
/-! ways -/
def ro_wy1 (n o q C : Nat) : Nat :=
  if ro_ln n (q % ro_f n) = q / ro_f n ∧ (0 < ro_gc C (q % ro_f n) ∧ ro_gc C (q % ro_f n) < 2147483648) then ro_spR n o (q % ro_f n) (n * n) 0 C else C
def ro_wyR (n o : Nat) : Nat → Nat → Nat → Nat
  | 0, _, C => C
  | f + 1, q, C => ro_st (ro_wy1 n o q C) (fun C' => ro_wyR n o f (q + 1) C')
theorem ro_wyR_s (n o f q C : Nat) : ro_wyR n o (f + 1) q C = ro_wyR n o f (q + 1) (ro_wy1 n o q C) := ro_st_eq _ _
theorem ro_ways_lp {post : Int32 → St2 → Prop} {a2 a3 : Nat → Int32} {n o r : Nat} (h2 : 2 ≤ n) (h5 : n ≤ 5) (ho : o ≤ 1) (hr : r < ro_f n) (hT : ro_Tab n a2 a3) :
    ∀ f q C s1 s4, q + f = 11 * ro_f n → ro_Cnt (ro_f n) s4 C → (∀ d1 d4, (∀ m, m < 15 → d1 m = s1 m) → post (nI (ro_gc (ro_wyR n o f q C) r)) (nI n, nI (ro_f n), d1, a2, a3, d4)) → wX_ways_57 post (nI o) (nI r) (f + 1) (nI q) (nI n) (nI (ro_f n)) s1 a2 a3 s4 := by
  have hf := ro_f_le n (by omega)
  have hf0 := ro_f_pos n
  intro f
  induction f with
  | zero =>
    intro q C s1 s4 hq hC H
    refine pk_le (11 * ro_f n) q (fun _ => ⟨pk_in r 120 (by omega), ?_⟩) (fun z => absurd z (by omega)) (pk_mul 11 _)
    rw [nI_clamp (by omega), hC r hr]
    exact H s1 s4 (fun m _ => rfl)
  | succ f ih =>
    intro q C s1 s4 hq hC H
    rw [ro_wyR_s] at H
    have hm : q % ro_f n < ro_f n := Nat.mod_lt _ hf0
    have hqd : q / ro_f n ≤ q := Nat.div_le_self _ _
    have hl := ro_ln_lt n (q % ro_f n)
    have hg := ro_gc_lt C (q % ro_f n)
    have skip : ¬ (ro_ln n (q % ro_f n) = q / ro_f n ∧ (0 < ro_gc C (q % ro_f n) ∧ ro_gc C (q % ro_f n) < 2147483648)) → wX_ways_57 post (nI o) (nI r) (f + 1) (nI (q + 1)) (nI n) (nI (ro_f n)) s1 a2 a3 s4 := by
      intro c
      unfold ro_wy1 at H
      rw [if_neg c] at H
      exact ih (q + 1) C s1 s4 (by omega) hC H
    refine pk_le (11 * ro_f n) q (fun z => absurd z (by omega)) (fun _ => ⟨nI_ne0 hf0 (by omega), nm_r (pk_rem (by omega) hf0 (by omega)) ⟨pk_in (q % ro_f n) 120 (by omega), nI_ne0 hf0 (by omega), ?_⟩⟩) (pk_mul 11 _)
    rw [nI_clamp (by omega)]
    refine pk_eq (ro_ln n (q % ro_f n)) (q / ro_f n) (fun y => ⟨pk_in (q % ro_f n) 120 (by omega), ?_⟩) (fun y => nm_r (nI_1 q) (skip (fun c => y c.1))) (hT.2 _ hm) (pk_div (by omega) hf0 (by omega))
    rw [hC _ hm]
    refine ek_if (ro_npos hg) (fun w => nm_r (nI_1 q) (skip (fun c => w c.2))) (fun w => ?_)
    have w' : 0 < ro_gc C (q % ro_f n) ∧ ro_gc C (q % ro_f n) < 2147483648 := Decidable.not_not.mp w
    unfold ro_wy1 at H
    rw [if_pos ⟨y, w'⟩] at H
    refine ⟨n * n + 1, ro_spread_lp h2 h5 ho hT hm (n * n) 0 C s1 s4 (by omega) hC (fun d1 d4 k1 k4 => nm_r (nI_1 q) (ih (q + 1) _ d1 d4 (by omega) k4 (fun e1 e4 g1 => H e1 e4 (fun m hm => (g1 m hm).trans (k1 m hm)))))⟩
def ro_wy (n o : Nat) (p q : Nat → Nat) : Nat := ro_gc (ro_wyR n o (11 * ro_f n) 0 (ro_sc 0 (ro_rk n p n) 1)) (ro_rk n q n)
theorem ro_bad0 {post : Int32 → Prop} {N T x : Int32} {a1 a2 a3 a4 : Nat → Int32} {e : Nat} (he : e ≤ 1) (hx : x = nI e) (H : post 0) : wpX_badElement post (N, T, a1, a2, a3, a4) x :=
  pk_lt e 0 (fun z => absurd z (by omega)) (fun _ => pk_le e 1 (fun _ => H) (fun z => absurd z (by omega)) hx) hx
theorem ro_bad1 {post : Int32 → Prop} {N T x : Int32} {a1 a2 a3 a4 : Nat → Int32} (h0 : ¬ x = 0) (h1 : ¬ x = 1) (H : post 1) : wpX_badElement post (N, T, a1, a2, a3, a4) x := by
  refine br_c (fun _ => H) (fun z => br_c (fun y => ?_) (fun _ => H))
  obtain ⟨j, hj, rfl⟩ := nI_of2 (x := x) (M := 1) (n := 1) (by decide) z y
  have : j = 0 ∨ j = 1 := by omega
  rcases this with rfl | rfl
  · exact absurd rfl h0
  · exact absurd rfl h1
theorem ro_ways {post : Int32 → St2 → Prop} {x : Int32} {a1 a2 a3 a4 : Nat → Int32} {n o : Nat} {p q : Nat → Nat} (h2 : 2 ≤ n) (h5 : n ≤ 5) (ho : o ≤ 1) (hx : x = nI o) (hT : ro_Tab n a2 a3) (hp : ro_Row a1 0 n p) (hq : ro_Row a1 5 n q)
    (H : ∀ d1 d4, (∀ m, m < 10 → d1 m = a1 m) → post (nI (ro_wy n o p q)) (nI n, nI (ro_f n), d1, a2, a3, d4)) : wpX_ways post (nI n, nI (ro_f n), a1, a2, a3, a4) x := by
  have hf := ro_f_le n (by omega)
  have hs := ro_rk_lt p h2 h5
  have he := ro_rk_lt q h2 h5
  unfold wpX_ways
  refine ro_bad0 ho hx (br_t rfl ?_)
  subst hx
  refine pk_loop (fun fu k s => wX_ways_14 post (nI o) (nI n) (nI (ro_f n)) fu (nI k) a1 a2 a3 s) (fun k s => ∀ j, j < k → s j = 0) (ro_f n) 0 a4 (by omega) (fun j hj => absurd hj (by omega)) ?_ ?_
  · intro fu s h
    refine pk_le (ro_f n) (ro_f n) (fun _ => ro_rankAt h2 h5 (by omega) (b := 0) rfl hp (ro_rankAt h2 h5 (by omega) (b := 5) rfl hq ⟨vp_in_nI (by omega) (by omega), nm_r (ro_up (v := 1) rfl rfl (by omega)) ?_⟩)) (fun z => absurd z (by omega))
    refine ⟨11 * ro_f n + 1, ro_ways_lp h2 h5 ho he hT (11 * ro_f n) 0 (ro_sc 0 (ro_rk n p n) 1) a1 _ (by omega) ?_ (fun d1 d4 k1 => H d1 d4 (fun m hm => k1 m (by omega)))⟩
    intro j hj
    rw [ro_gc_sc j (by decide)]
    by_cases e : j = ro_rk n p n
    · rw [if_pos e, e, pk_us]
    · rw [if_neg e, pk_un e, ro_gc_0, h j hj]
      rfl
  · intro fu k s hk h hw
    refine pk_le (ro_f n) k (fun z => absurd z (by omega)) (fun _ => ⟨pk_in k 120 (by omega), nm_r (ro_up (v := 0) rfl rfl (by omega)) (nm_r (nI_1 k) (hw _ ?_))⟩)
    intro j hj
    rcases Nat.lt_or_ge j k with z | z
    · rw [pk_un (by omega)]
      exact h j z
    · have : j = k := by omega
      subst this
      rw [pk_us]
      rfl
end
section
def ro_C0 : Nat → Nat
  | 2 => 4294967297
  | 3 => 5846006550004176406815072582838856712752359014401
  | 4 => 60727596172437942125735997428394099869821382812222904820759551696759385300503841391455120178036239252749365216196609768362602613084002534592648884850622723049547683828823447520374873193223587003894197403466626778600591851521
  | _ => 274178647570264147535813198686456188246766617155804661922483479082600988510713681230590641306545421085970122353567419514317890961036133464542012196327605323032838357988238086260057435994892893360091194756670077681743685961372058249726966965171831686364917546207459567197408145859840426640370395869181829899293530353627172285327022793967783870733326006484288404253409103117158335703691245495530188167706415270355327376474206580521701243401973270065183631479840521172996119516173590408496360238035695938420441586312707379144780171352611567738022091534174840119471222809284892880249097021308366382900047475404598414866589760734462241862660639920860710840800538538649443406986020721113457274422935534941121485006352154427769043101309265008835323682785158313785486849272300529774604340941759870349487088340825973888803251800690609219309314778526758338670994214154975123519792425532305270390413940444586768711505047113938981465822856035566603177262990405783282226816756477027590424008816210688437285636061449872285980156966287097478752024933843284876507304065589808355666143300766028077716825028991599043844329532176488461174211661665261769414054510541668353
def ro_C1 : Nat → Nat
  | 2 => 4294967297
  | 3 => 2923003275002088203407536291428651728415181766657
  | 4 => 5783580587855240305993217988883820595116784927962768753096994064180516799885947083958266297744024411538047124176814726892394080766730167206522347592068134278368469144895094256821838296959245248394749720853364960297620602881
  | _ => 1612815573944432972864904442013811859117139132292218665027584235979581328575992390246356242358533899077657258570894731134372531412655261891592070339495935300745844601298928571951352774455011696096388505561812041071819143268900267157150004150235511030620215711918452740307239554685981255690055407311098062344515260082958428684419859773264439973116157356150758877714343712346955676590517581333734842740392243360719580338697925873468810752314242566272530724526338989974968443003277201612096116873371930599886560221336712742986325905391932012484578558194168388269800021911534906434320949253089364724059438688722196175951292589033102099168594084700329684232686181277760567614466221372349656371247813160922294253380001813581743524848310603147586960746197403377149814931584829652824512413703745539957755236674351568579306829384574582955181583965664047125482362966867843771394233201589346650762949240361049057810315278288692591089403756895916283056453922423366331025208018128757780022763431739751693892482152805291221842951980484595948100202573548185617204674945366395483316597710151415074008588552643836639014287081750530045931957999304726122990016114196481
theorem ro_C02 : ro_wyR 2 0 (11 * ro_f 2) 0 (ro_sc 0 0 1) = ro_C0 2 := by decide +kernel
theorem ro_C03 : ro_wyR 3 0 (11 * ro_f 3) 0 (ro_sc 0 0 1) = ro_C0 3 := by decide +kernel
theorem ro_C04 : ro_wyR 4 0 (11 * ro_f 4) 0 (ro_sc 0 0 1) = ro_C0 4 := by decide +kernel
theorem ro_C05 : ro_wyR 5 0 (11 * ro_f 5) 0 (ro_sc 0 0 1) = ro_C0 5 := by decide +kernel
theorem ro_C12 : ro_wyR 2 1 (11 * ro_f 2) 0 (ro_sc 0 0 1) = ro_C1 2 := by decide +kernel
theorem ro_C13 : ro_wyR 3 1 (11 * ro_f 3) 0 (ro_sc 0 0 1) = ro_C1 3 := by decide +kernel
theorem ro_C14 : ro_wyR 4 1 (11 * ro_f 4) 0 (ro_sc 0 0 1) = ro_C1 4 := by decide +kernel
theorem ro_C15 : ro_wyR 5 1 (11 * ro_f 5) 0 (ro_sc 0 0 1) = ro_C1 5 := by decide +kernel
end
section
/-! looking -/
theorem ro_ne {m b i : Nat} (h : m < b) : m ≠ b + i := by omega
theorem ro_5 (e : Nat) : (5 : Int32) * nI e = nI (5 * e) := pk_mul 5 e
theorem ro_code {post : Int32 → Prop} {T x : Int32} {a1 a2 a3 a4 : Nat → Int32} {n e : Nat} {p : Nat → Nat} (h5 : n ≤ 5) (he : e ≤ 1) (hx : x = nI e) (hp : ro_Row a1 (5 * e) n p) (H : post (nI (ro_cd p n))) : wpX_code post (nI n, T, a1, a2, a3, a4) x := by
  unfold wpX_code
  subst hx
  exact ro_bad0 he rfl (br_t rfl (ro_codeAt h5 (by omega) (ro_5 e) hp H))
theorem ro_codeB {post : Int32 → Prop} {N T x : Int32} {a1 a2 a3 a4 : Nat → Int32} (h0 : ¬ x = 0) (h1 : ¬ x = 1) (H : post (-1000)) : wpX_code post (N, T, a1, a2, a3, a4) x := by
  unfold wpX_code
  exact ro_bad1 h0 h1 (br_f (by decide) H)
theorem ro_rank {post : Int32 → Prop} {T x : Int32} {a1 a2 a3 a4 : Nat → Int32} {n e : Nat} {p : Nat → Nat} (h2 : 2 ≤ n) (h5 : n ≤ 5) (he : e ≤ 1) (hx : x = nI e) (hp : ro_Row a1 (5 * e) n p) (H : post (nI (ro_rk n p n))) : wpX_rank post (nI n, T, a1, a2, a3, a4) x := by
  unfold wpX_rank
  subst hx
  exact ro_bad0 he rfl (br_t rfl (ro_rankAt h2 h5 (by omega) (ro_5 e) hp H))
theorem ro_rankB {post : Int32 → Prop} {N T x : Int32} {a1 a2 a3 a4 : Nat → Int32} (h0 : ¬ x = 0) (h1 : ¬ x = 1) (H : post (-1000)) : wpX_rank post (N, T, a1, a2, a3, a4) x := by
  unfold wpX_rank
  exact ro_bad1 h0 h1 (br_f (by decide) H)
theorem ro_inversions {post : Int32 → Prop} {T x : Int32} {a1 a2 a3 a4 : Nat → Int32} {n e : Nat} {p : Nat → Nat} (h2 : 2 ≤ n) (h5 : n ≤ 5) (he : e ≤ 1) (hx : x = nI e) (hp : ro_Row a1 (5 * e) n p) (H : post (nI (ro_iv n p (n * n)))) : wpX_inversions post (nI n, T, a1, a2, a3, a4) x := by
  unfold wpX_inversions
  subst hx
  exact ro_bad0 he rfl (br_t rfl (ro_inv h2 h5 (by omega) (ro_5 e) hp H))
theorem ro_inversionsB {post : Int32 → Prop} {N T x : Int32} {a1 a2 a3 a4 : Nat → Int32} (h0 : ¬ x = 0) (h1 : ¬ x = 1) (H : post (-1000)) : wpX_inversions post (N, T, a1, a2, a3, a4) x := by
  unfold wpX_inversions
  exact ro_bad1 h0 h1 (br_f (by decide) H)
theorem ro_permutation {post : Int32 → St2 → Prop} {x : Int32} {a1 a2 a3 a4 : Nat → Int32} {n k : Nat} (h2 : 2 ≤ n) (h5 : n ≤ 5) (hk : k < ro_f n) (hx : x = nI k)
    (H : ∀ d, (∀ m, m < 10 → d m = a1 m) → post (nI (ro_cd (ro_ud n k) n)) (nI n, nI (ro_f n), d, a2, a3, a4)) : wpX_permutation post (nI n, nI (ro_f n), a1, a2, a3, a4) x := by
  have hf := ro_f_le n (by omega)
  unfold wpX_permutation
  exact pk_lt k 0 (fun z => absurd z (by omega)) (fun _ => pk_lt k (ro_f n) (fun _ => ro_unrank h2 h5 (by omega) hx (fun b hb hr => ro_codeAt h5 (b := 10) (by omega) rfl hr (H b hb))) (fun z => absurd z (by omega)) hx) hx
theorem ro_permutationB {post : Int32 → St2 → Prop} {x : Int32} {a1 a2 a3 a4 : Nat → Int32} {n : Nat} (hx : x < 0 ∨ ¬ x < nI (ro_f n)) (H : post (-1001) (nI n, nI (ro_f n), a1, a2, a3, a4)) : wpX_permutation post (nI n, nI (ro_f n), a1, a2, a3, a4) x := by
  unfold wpX_permutation
  refine br_c (fun _ => H) (fun z => br_c (fun y => ?_) (fun _ => H))
  rcases hx with h | h
  · exact absurd h z
  · exact absurd y h
theorem ro_below {post : Int32 → Prop} {T x : Int32} {a1 a2 a3 a4 : Nat → Int32} {n o : Nat} {p q : Nat → Nat} (h2 : 2 ≤ n) (h5 : n ≤ 5) (ho : o ≤ 1) (hx : x = nI o) (hp : ro_Row a1 0 n p) (hq : ro_Row a1 5 n q) (H : post (ro_bi (ro_bl n o p q))) : wpX_below post (nI n, T, a1, a2, a3, a4) x := by
  unfold wpX_below
  refine ro_bad0 ho hx (br_t rfl (ro_isBelow (b := 0) (c := 5) h2 h5 ho (by omega) (by omega) hx rfl rfl hp hq ?_))
  cases hB : ro_bl n o p q
  · rw [hB] at H
    exact br_t rfl H
  · rw [hB] at H
    exact br_f (by decide) H
theorem ro_belowB {post : Int32 → Prop} {N T x : Int32} {a1 a2 a3 a4 : Nat → Int32} (h0 : ¬ x = 0) (h1 : ¬ x = 1) (H : post (-1000)) : wpX_below post (N, T, a1, a2, a3, a4) x := by
  unfold wpX_below
  exact ro_bad1 h0 h1 (br_f (by decide) H)
theorem ro_waysB {post : Int32 → St2 → Prop} {N T x : Int32} {a1 a2 a3 a4 : Nat → Int32} (h0 : ¬ x = 0) (h1 : ¬ x = 1) (H : post (-1000) (N, T, a1, a2, a3, a4)) : wpX_ways post (N, T, a1, a2, a3, a4) x := by
  unfold wpX_ways
  exact ro_bad1 h0 h1 (br_f (by decide) H)
/-! intervals -/
theorem ro_inI {post : Int32 → St2 → Prop} {T x y : Int32} {a1 a2 a3 a4 : Nat → Int32} {n o k : Nat} {p q : Nat → Nat} (h2 : 2 ≤ n) (h5 : n ≤ 5) (ho : o ≤ 1) (hx : x = nI o) (hk : k < ro_f n) (hy : y = nI k) (hT : ro_Tab n a2 a3) (hp : ro_Row a1 0 n p) (hq : ro_Row a1 5 n q)
    (H : ∀ d, (∀ m, m < 10 → d m = a1 m) → post (ro_bi (ro_bl n o p (ro_pm n k) && ro_bl n o (ro_pm n k) q)) (nI n, T, d, a2, a3, a4)) : wpX_inInterval post (nI n, T, a1, a2, a3, a4) x y := by
  have hf := ro_f_le n (by omega)
  unfold wpX_inInterval
  refine ro_bring (c := 10) h5 (by omega) (by omega) hy rfl (hT.1 k hk) (fun d hd hr => ?_)
  have hp' : ro_Row d 0 n p := ro_keep hp (fun j _ hj => hd j (by omega))
  have hq' : ro_Row d 5 n q := ro_keep hq (fun j _ hj => hd j (by omega))
  have H' := H d (fun m hm => hd m (by omega))
  refine ro_isBelow (b := 0) (c := 10) h2 h5 ho (by omega) (by omega) hx rfl rfl hp' hr ?_
  cases hB : ro_bl n o p (ro_pm n k)
  · rw [hB] at H'
    exact br_t rfl H'
  · rw [hB] at H'
    refine br_f (by decide) (ro_isBelow (b := 10) (c := 5) h2 h5 ho (by omega) (by omega) hx rfl rfl hr hq' ?_)
    cases hB2 : ro_bl n o (ro_pm n k) q
    · rw [hB2] at H'
      exact br_t rfl H'
    · rw [hB2] at H'
      exact br_f (by decide) H'
def ro_it (n o : Nat) (p q : Nat → Nat) : Nat → Nat
  | 0 => 0
  | k + 1 => if (ro_bl n o p (ro_pm n k) && ro_bl n o (ro_pm n k) q) = true then ro_it n o p q k + 1 else ro_it n o p q k
theorem ro_interval {post : Int32 → St2 → Prop} {x : Int32} {a1 a2 a3 a4 : Nat → Int32} {n o : Nat} {p q : Nat → Nat} (h2 : 2 ≤ n) (h5 : n ≤ 5) (ho : o ≤ 1) (hx : x = nI o) (hT : ro_Tab n a2 a3) (hp : ro_Row a1 0 n p) (hq : ro_Row a1 5 n q)
    (H : ∀ d, (∀ m, m < 10 → d m = a1 m) → post (nI (ro_it n o p q (ro_f n))) (nI n, nI (ro_f n), d, a2, a3, a4)) : wpX_interval post (nI n, nI (ro_f n), a1, a2, a3, a4) x := by
  have hf := ro_f_le n (by omega)
  unfold wpX_interval
  refine ro_bad0 ho hx (br_t rfl ?_)
  subst hx
  refine pk_loop (fun fu k s => wX_interval_16 post (nI o) fu (nI (ro_it n o p q k)) (nI k) (nI n) (nI (ro_f n)) s a2 a3 a4) (fun k s => ∀ m, m < 10 → s m = a1 m) (ro_f n) 0 a1 (by omega) (fun m _ => rfl) ?_ ?_
  · intro fu s h
    exact pk_le (ro_f n) (ro_f n) (fun _ => H s h) (fun z => absurd z (by omega))
  · intro fu k s hk h hw
    have hp' : ro_Row s 0 n p := ro_keep hp (fun j _ hj => h j (by omega))
    have hq' : ro_Row s 5 n q := ro_keep hq (fun j _ hj => h j (by omega))
    refine pk_le (ro_f n) k (fun z => absurd z (by omega)) (fun _ => ro_inI h2 h5 ho rfl hk rfl hT hp' hq' (fun d hd => ?_))
    have hw' : wX_interval_16 post (nI o) fu (nI (if (ro_bl n o p (ro_pm n k) && ro_bl n o (ro_pm n k) q) = true then ro_it n o p q k + 1 else ro_it n o p q k)) (nI (k + 1)) (nI n) (nI (ro_f n)) d a2 a3 a4 := hw d (fun m hm => (hd m hm).trans (h m hm))
    cases hB : (ro_bl n o p (ro_pm n k) && ro_bl n o (ro_pm n k) q)
    · rw [hB, if_neg (by decide)] at hw'
      exact br_t rfl (nm_r (nI_1 k) hw')
    · rw [hB, if_pos rfl] at hw'
      exact br_f (by decide) (nm_r (nI_1 _) (nm_r (nI_1 k) hw'))
theorem ro_intervalB {post : Int32 → St2 → Prop} {N T x : Int32} {a1 a2 a3 a4 : Nat → Int32} (h0 : ¬ x = 0) (h1 : ¬ x = 1) (H : post (-1000) (N, T, a1, a2, a3, a4)) : wpX_interval post (N, T, a1, a2, a3, a4) x := by
  unfold wpX_interval
  exact ro_bad1 h0 h1 (br_f (by decide) H)
/-! steps -/
def ro_stp (n o : Nat) (p : Nat → Nat) : Nat → Nat
  | 0 => 0
  | k + 1 => if (k / n < k % n ∧ (o = 0 ∨ k % n = k / n + 1)) ∧ ro_iv n (ro_sw p (k / n) (k % n)) (n * n) = ro_iv n p (n * n) + 1 then ro_stp n o p k + 1 else ro_stp n o p k
theorem ro_steps {post : Int32 → St2 → Prop} {T x y : Int32} {a1 a2 a3 a4 : Nat → Int32} {n e o : Nat} {p : Nat → Nat} (h2 : 2 ≤ n) (h5 : n ≤ 5) (he : e ≤ 1) (ho : o ≤ 1) (hx : x = nI e) (hy : y = nI o) (hp : ro_Row a1 (5 * e) n p)
    (H : ∀ d, (∀ m, m < 10 → d m = a1 m) → post (nI (ro_stp n o p (n * n))) (nI n, T, d, a2, a3, a4)) : wpX_steps post (nI n, T, a1, a2, a3, a4) x y := by
  have hnn : n * n ≤ 25 := Nat.mul_le_mul h5 h5
  unfold wpX_steps
  refine ro_bad0 he hx (br_t rfl (ro_bad0 ho hy (br_t rfl ?_)))
  subst hx hy
  refine ro_inv h2 h5 (by omega) (ro_5 e) hp ?_
  refine pk_loop (fun fu k s => wX_steps_34 post (nI e) (nI o) (nI (ro_iv n p (n * n))) fu (nI (ro_stp n o p k)) (nI k) (nI n) T s a2 a3 a4) (fun k s => ∀ m, m < 10 → s m = a1 m) (n * n) 0 a1 (by omega) (fun m _ => rfl) ?_ ?_
  · intro fu s h
    exact pk_le (n * n) (n * n) (fun _ => H s h) (fun z => absurd z (by omega)) (pk_mul n n)
  · intro fu k s hk h hw
    have hd : k / n < n := Nat.div_lt_of_lt_mul hk
    have hm : k % n < n := Nat.mod_lt _ (by omega)
    have hps : ro_Row s (5 * e) n p := ro_keep hp (fun j _ hj => h j (by omega))
    have hw' : ∀ d, (∀ m, m < 10 → d m = s m) → wX_steps_34 post (nI e) (nI o) (nI (ro_iv n p (n * n))) fu (nI (if (k / n < k % n ∧ (o = 0 ∨ k % n = k / n + 1)) ∧ ro_iv n (ro_sw p (k / n) (k % n)) (n * n) = ro_iv n p (n * n) + 1 then ro_stp n o p k + 1 else ro_stp n o p k)) (nI (k + 1)) (nI n) T d a2 a3 a4 := fun d hd => hw d (fun m hm => (hd m hm).trans (h m hm))
    refine pk_le (n * n) k (fun z => absurd z (by omega)) (fun _ => ⟨nI_ne0 (by omega) (by omega), nm_r (pk_div (by omega) (by omega) (by omega)) ⟨nI_ne0 (by omega) (by omega), nm_r (pk_rem (by omega) (by omega) (by omega)) ?_⟩⟩) (pk_mul n n)
    have skip : ¬ (k / n < k % n ∧ (o = 0 ∨ k % n = k / n + 1)) → wX_steps_34 post (nI e) (nI o) (nI (ro_iv n p (n * n))) fu (nI (ro_stp n o p k)) (nI (k + 1)) (nI n) T s a2 a3 a4 := by
      intro c
      have t := hw' s (fun m _ => rfl)
      rw [if_neg (fun g => c g.1)] at t
      exact t
    have go : (k / n < k % n ∧ (o = 0 ∨ k % n = k / n + 1)) → wX_steps_86 post (wX_steps_34 post (nI e) (nI o) (nI (ro_iv n p (n * n))) fu) (nI e) (nI o) (nI (ro_iv n p (n * n))) (nI (ro_stp n o p k)) (nI k) (nI (k / n)) (nI (k % n)) (nI n) T s a2 a3 a4 := by
      intro c
      unfold wX_steps_86
      refine ro_copy (c := 15) h5 (by omega) (by omega) (ro_5 e) rfl (by omega) hps (fun d hd1 hr => ?_)
      have e1 : d ((15 : Int32) + nI (k / n)).toNatClampNeg = nI (p (k / n)) := ro_get hr hd (nI_add 15 _) (by omega)
      have e2 : d ((15 : Int32) + nI (k % n)).toNatClampNeg = nI (p (k % n)) := ro_get hr hm (nI_add 15 _) (by omega)
      obtain ⟨_, q1, q2⟩ := hr _ hd
      obtain ⟨_, q3, q4⟩ := hr _ hm
      refine ⟨pk_in (15 + k / n) 20 (by omega) (nI_add 15 _), nm_r e1 ⟨pk_in (15 + k % n) 20 (by omega) (nI_add 15 _), pk_in (15 + k / n) 20 (by omega) (nI_add 15 _), nm_r (ro_up (v := p (k % n)) (nI_add 15 _) (by rw [e2]; exact ro_nb (by omega)) (by omega)) ⟨pk_in (15 + k % n) 20 (by omega) (nI_add 15 _), nm_r (ro_up (v := p (k / n)) (nI_add 15 _) (ro_nb (by omega)) (by omega)) ?_⟩⟩⟩
      have l1 := ro_iv_le n (ro_sw p (k / n) (k % n)) (n * n)
      have l2 := ro_iv_le n p (n * n)
      have t := hw' (upd (upd d (15 + k / n) (nI (p (k % n)))) (15 + k % n) (nI (p (k / n)))) (fun m hm => by rw [pk_un (ro_ne (by omega)), pk_un (ro_ne (by omega))]; exact hd1 m (by omega))
      refine ro_inv (b := 15) h2 h5 (by omega) rfl (ro_swap hr hd hm) (pk_eq (ro_iv n (ro_sw p (k / n) (k % n)) (n * n)) (ro_iv n p (n * n) + 1) (fun y => ?_) (fun y => ?_) rfl (nI_1 _))
      · rw [if_pos ⟨c, y⟩] at t
        exact nm_r (nI_1 _) (nm_r (nI_1 k) t)
      · rw [if_neg (fun g => y g.2)] at t
        exact nm_r (nI_1 k) t
    refine pk_le (k % n) (k / n) (fun z => nm_r (nI_1 k) (skip (by omega))) (fun z => ?_)
    refine pk_eq o 0 (fun y => go ⟨z, Or.inl y⟩) (fun y => ?_)
    exact pk_eq (k % n) (k / n + 1) (fun w => go ⟨z, Or.inr w⟩) (fun w => nm_r (nI_1 k) (skip (by omega))) rfl (nI_1 _)
theorem ro_stepsB {post : Int32 → St2 → Prop} {N T x y : Int32} {a1 a2 a3 a4 : Nat → Int32} (h : (¬ x = 0 ∧ ¬ x = 1) ∨ (¬ y = 0 ∧ ¬ y = 1)) (H : post (-1000) (N, T, a1, a2, a3, a4)) : wpX_steps post (N, T, a1, a2, a3, a4) x y := by
  unfold wpX_steps
  by_cases hx : x = 0 ∨ x = 1
  · have hy : ¬ y = 0 ∧ ¬ y = 1 := by
      rcases h with h | h
      · rcases hx with hx | hx
        · exact absurd hx h.1
        · exact absurd hx h.2
      · exact h
    rcases hx with hx | hx
    · exact ro_bad0 (e := 0) (by omega) hx (br_t rfl (ro_bad1 hy.1 hy.2 (br_f (by decide) H)))
    · exact ro_bad0 (e := 1) (by omega) hx (br_t rfl (ro_bad1 hy.1 hy.2 (br_f (by decide) H)))
  · exact ro_bad1 (fun z => hx (Or.inl z)) (fun z => hx (Or.inr z)) (br_f (by decide) H)
end
section
/-! put -/
def ro_pt (n : Nat) : Nat → Nat → Nat → Bool
  | 0, l, _ => decide (l = 0)
  | i + 1, l, u => decide (1 ≤ l % 10 ∧ l % 10 ≤ n ∧ ¬ u / 2 ^ (l % 10) % 2 = 1) && ro_pt n i (l / 10) (u ||| 2 ^ (l % 10))
theorem ro_pt_t {n i l u : Nat} (h : 1 ≤ l % 10 ∧ l % 10 ≤ n ∧ ¬ u / 2 ^ (l % 10) % 2 = 1) : ro_pt n (i + 1) l u = ro_pt n i (l / 10) (u ||| 2 ^ (l % 10)) := by
  show (decide _ && _) = _
  rw [decide_eq_true h, Bool.true_and]
theorem ro_pt_n {n i l u : Nat} (h : ¬ (1 ≤ l % 10 ∧ l % 10 ≤ n ∧ ¬ u / 2 ^ (l % 10) % 2 = 1)) : ro_pt n (i + 1) l u = false := by
  show (decide _ && _) = _
  rw [decide_eq_false h, Bool.false_and]
theorem ro_pt_lt (n : Nat) : ∀ i l u, ro_pt n i l u = true → l / 10 ^ i = 0 := by
  intro i
  induction i with
  | zero =>
    intro l u h
    have : l = 0 := of_decide_eq_true h
    rw [this]
  | succ i ih =>
    intro l u h
    by_cases c : 1 ≤ l % 10 ∧ l % 10 ≤ n ∧ ¬ u / 2 ^ (l % 10) % 2 = 1
    · rw [ro_pt_t c] at h
      have e := ih _ _ h
      rw [Nat.div_div_eq_div_mul, Nat.mul_comm] at e
      exact e
    · rw [ro_pt_n c] at h
      exact absurd h (by decide)
/-- the number in place j of a code of n numbers -/
def ro_dg (n c j : Nat) : Nat := c / 10 ^ (n - 1 - j) % 10
theorem ro_cd_dg {n c : Nat} (h : c / 10 ^ n = 0) : ∀ i, i ≤ n → ro_cd (ro_dg n c) i = c / 10 ^ (n - i) := by
  intro i
  induction i with
  | zero =>
    intro _
    rw [Nat.sub_zero, h]
    rfl
  | succ i ih =>
    intro hi
    show 10 * ro_cd (ro_dg n c) i + ro_dg n c i = _
    rw [ih (by omega)]
    unfold ro_dg
    rw [show n - 1 - i = n - (i + 1) by omega, show n - i = n - (i + 1) + 1 by omega, Nat.pow_succ, ← Nat.div_div_eq_div_mul]
    omega
theorem ro_put_lp {post : Int32 → St2 → Prop} {T : Int32} {a1 a2 a3 a4 : Nat → Int32} {n e c : Nat} (h2 : 2 ≤ n) (h5 : n ≤ 5) (he : e ≤ 1) (hc : c < 2 ^ 31)
    (Hbad : ro_pt n n c 0 = false → ∀ d, (∀ m, m < 10 → d m = a1 m) → post (-1000) (nI n, T, d, a2, a3, a4))
    (Hok : ro_pt n n c 0 = true → ∀ d, (∀ m, m < 10 → (m < 5 * e ∨ 5 * e + n ≤ m) → d m = a1 m) → ro_Row d (5 * e) n (ro_dg n c) → post 0 (nI n, T, d, a2, a3, a4)) :
    ∀ i u s, i ≤ n → u < 2 ^ 6 → ro_pt n i (c / 10 ^ (n - i)) u = ro_pt n n c 0 → (∀ m, m < 10 → s m = a1 m) → (∀ j, i ≤ j → j < n → s (10 + j) = nI (ro_dg n c j) ∧ 1 ≤ ro_dg n c j ∧ ro_dg n c j ≤ 5) →
      wX_put_29 post (nI e) (nI n) T (i + 1) (nI (c / 10 ^ (n - i))) (nI u) (nI i + (-1)) s a2 a3 a4 := by
  intro i
  induction i with
  | zero =>
    intro u s hi hu hE hs hd
    have hl : c / 10 ^ (n - 0) ≤ c := Nat.div_le_self _ _
    refine br_t (by decide) (pk_le (c / 10 ^ (n - 0)) 0 (fun z => ?_) (fun z => ?_))
    · have ok : ro_pt n n c 0 = true := by
        rw [← hE]
        exact decide_eq_true (Nat.le_zero.mp z)
      refine ro_copy (b := 10) (c := 5 * e) (p := ro_dg n c) h5 (by omega) (by omega) rfl (ro_5 e) (by omega) (fun j hj => hd j (by omega) hj) (fun d k1 k2 => Hok ok d (fun m hm hm2 => (k1 m hm2).trans (hs m hm)) k2)
    · refine Hbad ?_ s hs
      rw [← hE]
      exact decide_eq_false (by omega)
  | succ i ih =>
    intro u s hi hu hE hs hd
    have hl : c / 10 ^ (n - (i + 1)) ≤ c := Nat.div_le_self _ _
    have e10 : c / 10 ^ (n - (i + 1)) / 10 = c / 10 ^ (n - i) := by
      rw [Nat.div_div_eq_div_mul, show n - i = n - (i + 1) + 1 by omega, Nat.pow_succ]
    have eD : ro_dg n c i = c / 10 ^ (n - (i + 1)) % 10 := by
      unfold ro_dg
      rw [show n - 1 - i = n - (i + 1) by omega]
    rw [pk_m1]
    refine br_f (nI_pos (by omega)) ⟨by decide, nm_r (e' := nI (ro_dg n c i)) (by rw [eD]; exact pk_rem (d := 10) (by omega) (by omega) (by omega)) ⟨by decide, nm_r (e' := nI (c / 10 ^ (n - i))) (by rw [← e10]; exact pk_div (d := 10) (by omega) (by omega) (by omega)) ?_⟩⟩
    have lt10 : ro_dg n c i < 10 := Nat.mod_lt _ (by decide)
    refine pk_lt (ro_dg n c i) 1 (fun z => Hbad ?_ s hs) (fun z => pk_lt n (ro_dg n c i) (fun y => Hbad ?_ s hs) (fun y => ek_if (ro_bit (by omega) (by omega)) (fun w => Hbad ?_ s hs) (fun w => nm_r (e' := nI (u ||| 2 ^ ro_dg n c i)) (by rw [ro_shl1 _ (by omega), ro_or]) ⟨pk_in (10 + i) 20 (by omega) (nI_add 10 i), nm_r (ro_up (nI_add 10 i) (ro_b8 _ (by omega)) (by omega)) (nm_e ?_)⟩)))
    · rw [← hE]
      exact ro_pt_n (by omega)
    · rw [← hE]
      exact ro_pt_n (by omega)
    · rw [← hE]
      exact ro_pt_n (fun g => g.2.2 (by rw [← eD]; exact w))
    · refine ih (u ||| 2 ^ ro_dg n c i) _ (by omega) (ro_or_lt hu (Nat.pow_lt_pow_right (by decide) (by omega))) ?_ ?_ ?_
      · rw [← hE, ro_pt_t (by rw [← eD]; exact ⟨by omega, by omega, w⟩), e10, eD]
      · intro m hm
        rw [pk_un (by omega)]
        exact hs m hm
      · intro j hj hjn
        by_cases e : j = i
        · rw [e, pk_us]
          exact ⟨rfl, by omega, by omega⟩
        · rw [pk_un (by omega)]
          exact hd j (by omega) hjn
theorem ro_put {post : Int32 → St2 → Prop} {T x y : Int32} {a1 a2 a3 a4 : Nat → Int32} {n e c : Nat} (h2 : 2 ≤ n) (h5 : n ≤ 5) (he : e ≤ 1) (hc : c < 2 ^ 31) (hx : x = nI e) (hy : y = nI c)
    (Hbad : ro_pt n n c 0 = false → ∀ d, (∀ m, m < 10 → d m = a1 m) → post (-1000) (nI n, T, d, a2, a3, a4))
    (Hok : ro_pt n n c 0 = true → ∀ d, (∀ m, m < 10 → (m < 5 * e ∨ 5 * e + n ≤ m) → d m = a1 m) → ro_Row d (5 * e) n (ro_dg n c) → post 0 (nI n, T, d, a2, a3, a4)) : wpX_put post (nI n, T, a1, a2, a3, a4) x y := by
  unfold wpX_put
  refine ro_bad0 he hx (br_t rfl ?_)
  subst hx hy
  refine br_t (nI_pos' (by omega)) (nm_r (e' := nI n + (-1)) (by grind) ⟨n + 1, ?_⟩)
  have K := ro_put_lp h2 h5 he hc Hbad Hok n 0 a1 (Nat.le_refl n) (by decide) (by rw [Nat.sub_self, Nat.pow_zero, Nat.div_one]) (fun m _ => rfl) (fun j h1 h2 => absurd h1 (by omega))
  rw [Nat.sub_self, Nat.pow_zero, Nat.div_one] at K
  exact K
theorem ro_putB {post : Int32 → St2 → Prop} {N T x y : Int32} {a1 a2 a3 a4 : Nat → Int32} (h : (¬ x = 0 ∧ ¬ x = 1) ∨ ¬ 0 ≤ y) (H : post (-1000) (N, T, a1, a2, a3, a4)) : wpX_put post (N, T, a1, a2, a3, a4) x y := by
  unfold wpX_put
  by_cases hx : x = 0 ∨ x = 1
  · have hy : ¬ 0 ≤ y := by
      rcases h with h | h
      · rcases hx with hx | hx
        · exact absurd hx h.1
        · exact absurd hx h.2
      · exact h
    rcases hx with hx | hx
    · exact ro_bad0 (e := 0) (by omega) hx (br_t rfl (br_f hy H))
    · exact ro_bad0 (e := 1) (by omega) hx (br_t rfl (br_f hy H))
  · exact ro_bad1 (fun z => hx (Or.inl z)) (fun z => hx (Or.inr z)) (br_f (by decide) H)
/-! exchange -/
theorem ro_place0 {post : Int32 → Prop} {T x : Int32} {a1 a2 a3 a4 : Nat → Int32} {n i : Nat} (h5 : n ≤ 5) (hi : i < n) (hx : x = nI i) (H : post 0) : wpX_badPlace post (nI n, T, a1, a2, a3, a4) x :=
  pk_lt i 0 (fun z => absurd z (by omega)) (fun _ => pk_lt i n (fun _ => H) (fun z => absurd z (by omega)) hx) hx
theorem ro_place1 {post : Int32 → Prop} {N T x : Int32} {a1 a2 a3 a4 : Nat → Int32} (hx : x < 0 ∨ ¬ x < N) (H : post 1) : wpX_badPlace post (N, T, a1, a2, a3, a4) x := by
  refine br_c (fun _ => H) (fun z => br_c (fun y => ?_) (fun _ => H))
  rcases hx with h | h
  · exact absurd h z
  · exact absurd y h
theorem ro_exchange {post : Int32 → St2 → Prop} {T x y z : Int32} {a1 a2 a3 a4 : Nat → Int32} {n e i j : Nat} {p : Nat → Nat} (h2 : 2 ≤ n) (h5 : n ≤ 5) (he : e ≤ 1) (hi : i < n) (hj : j < n) (hx : x = nI e) (hy : y = nI i) (hz : z = nI j) (hp : ro_Row a1 (5 * e) n p)
    (H : ∀ d, (∀ m, (m < 5 * e ∨ 5 * e + n ≤ m) → d m = a1 m) → ro_Row d (5 * e) n (ro_sw p i j) → post (nI (ro_iv n (ro_sw p i j) (n * n))) (nI n, T, d, a2, a3, a4)) : wpX_exchange post (nI n, T, a1, a2, a3, a4) x y z := by
  unfold wpX_exchange
  refine ro_bad0 he hx (br_t rfl (ro_place0 h5 hi hy (br_t rfl (ro_place0 h5 hj hz (br_t rfl ?_)))))
  subst hx hy hz
  have f1 : (5 : Int32) * nI e + nI i = nI (5 * e + i) := by rw [ro_5, nI_add]
  have f2 : (5 : Int32) * nI e + nI j = nI (5 * e + j) := by rw [ro_5, nI_add]
  have e1 : a1 ((5 : Int32) * nI e + nI i).toNatClampNeg = nI (p i) := ro_get hp hi f1 (by omega)
  have e2 : a1 ((5 : Int32) * nI e + nI j).toNatClampNeg = nI (p j) := ro_get hp hj f2 (by omega)
  obtain ⟨_, q1, q2⟩ := hp i hi
  obtain ⟨_, q3, q4⟩ := hp j hj
  refine ⟨pk_in (5 * e + i) 20 (by omega) f1, nm_r e1 ⟨pk_in (5 * e + j) 20 (by omega) f2, pk_in (5 * e + i) 20 (by omega) f1, nm_r (ro_up (v := p j) f1 (by rw [e2]; exact ro_nb (by omega)) (by omega)) ⟨pk_in (5 * e + j) 20 (by omega) f2, nm_r (ro_up (v := p i) f2 (ro_nb (by omega)) (by omega)) ?_⟩⟩⟩
  have hr := ro_swap hp hi hj
  exact ro_inv h2 h5 (by omega) (ro_5 e) hr (H _ (fun m hm => by rw [pk_un (by omega), pk_un (by omega)]) hr)
theorem ro_exchangeB {post : Int32 → St2 → Prop} {N T x y z : Int32} {a1 a2 a3 a4 : Nat → Int32} (h : (¬ x = 0 ∧ ¬ x = 1) ∨ (y < 0 ∨ ¬ y < N) ∨ (z < 0 ∨ ¬ z < N)) (H : post (-1000) (N, T, a1, a2, a3, a4)) : wpX_exchange post (N, T, a1, a2, a3, a4) x y z := by
  unfold wpX_exchange
  refine br_c (fun _ => br_f (by decide) H) (fun g1 => br_c (fun g2 => br_t rfl ?_) (fun _ => br_f (by decide) H))
  refine br_c (fun _ => br_f (by decide) H) (fun g3 => br_c (fun g4 => br_t rfl ?_) (fun _ => br_f (by decide) H))
  refine br_c (fun _ => br_f (by decide) H) (fun g5 => br_c (fun g6 => ?_) (fun _ => br_f (by decide) H))
  exfalso
  rcases h with h | h | h
  · obtain ⟨j, hj, rfl⟩ := nI_of2 (x := x) (M := 1) (n := 1) (by decide) g1 g2
    have : j = 0 ∨ j = 1 := by omega
    rcases this with rfl | rfl
    · exact h.1 rfl
    · exact h.2 rfl
  · rcases h with h | h
    · exact g3 h
    · exact h g4
  · rcases h with h | h
    · exact g5 h
    · exact h g6
/-! invert: here of a permutation that is its own inverse -/
theorem ro_invert {post : Int32 → St2 → Prop} {T x : Int32} {a1 a2 a3 a4 : Nat → Int32} {n e : Nat} {p : Nat → Nat} (h2 : 2 ≤ n) (h5 : n ≤ 5) (he : e ≤ 1) (hx : x = nI e) (hp : ro_Row a1 (5 * e) n p) (hv : ∀ i, i < n → 1 ≤ p i ∧ p i ≤ n ∧ p (p i - 1) = i + 1)
    (H : ∀ d, (∀ m, m < 10 → (m < 5 * e ∨ 5 * e + n ≤ m) → d m = a1 m) → ro_Row d (5 * e) n p → post (nI (ro_iv n p (n * n))) (nI n, T, d, a2, a3, a4)) : wpX_invert post (nI n, T, a1, a2, a3, a4) x := by
  unfold wpX_invert
  refine ro_bad0 he hx (br_t rfl ?_)
  subst hx
  refine pk_loop (fun fu i s => wX_invert_14 post (nI e) (nI n) T fu (nI i) s a2 a3 a4) (fun i s => (∀ m, m < 10 → s m = a1 m) ∧ ∀ j, j < i → s (10 + (p j - 1)) = nI (j + 1)) n 0 a1 (by omega) ⟨fun m _ => rfl, fun j hj => absurd hj (by omega)⟩ ?_ ?_
  · intro fu s h
    have hr : ro_Row s 10 n p := by
      intro i hi
      obtain ⟨v1, v2, v3⟩ := hv i hi
      have t := h.2 (p i - 1) (by omega)
      rw [v3, show i + 1 - 1 = i by omega, show p i - 1 + 1 = p i by omega] at t
      exact ⟨t, by omega, by omega⟩
    refine pk_le n n (fun _ => ro_copy (b := 10) (c := 5 * e) h5 (by omega) (by omega) rfl (ro_5 e) (by omega) hr (fun d k1 k2 => ro_inv h2 h5 (by omega) (ro_5 e) k2 (H d (fun m hm hm2 => (k1 m hm2).trans (h.1 m hm)) k2))) (fun z => absurd z (by omega))
  · intro fu i s hi h hw
    obtain ⟨v1, v2, v3⟩ := hv i hi
    have f1 : (5 : Int32) * nI e + nI i = nI (5 * e + i) := by rw [ro_5, nI_add]
    have e1 : s ((5 : Int32) * nI e + nI i).toNatClampNeg = nI (p i) := by
      rw [f1, nI_clamp (by omega), h.1 _ (by omega)]
      exact (hp i hi).1
    have e2 : (10 : Int32) + s ((5 : Int32) * nI e + nI i).toNatClampNeg - 1 = nI (10 + (p i - 1)) := by
      rw [e1, show (10 : Int32) + nI (p i) = nI (10 + p i) from nI_add 10 _, show 10 + (p i - 1) = 10 + p i - 1 by omega]
      exact pk_sub (b := 1) (by omega)
    refine pk_le n i (fun z => absurd z (by omega)) (fun _ => ⟨pk_in (5 * e + i) 20 (by omega) f1, pk_in (10 + (p i - 1)) 20 (by omega) e2, nm_r (ro_up (v := i + 1) e2 (by rw [nI_1]; exact ro_b8 _ (by omega)) (by omega)) (nm_r (nI_1 i) (hw _ ⟨?_, ?_⟩))⟩)
    · intro m hm
      rw [pk_un (by omega)]
      exact h.1 m hm
    · intro j hj
      by_cases ej : j = i
      · rw [ej, pk_us]
      · obtain ⟨w1, w2, w3⟩ := hv j (by omega)
        rw [pk_un ?_]
        · exact h.2 j (by omega)
        · intro c
          have : p j = p i := by omega
          rw [this, v3] at w3
          omega
theorem ro_invertB {post : Int32 → St2 → Prop} {N T x : Int32} {a1 a2 a3 a4 : Nat → Int32} (h0 : ¬ x = 0) (h1 : ¬ x = 1) (H : post (-1000) (N, T, a1, a2, a3, a4)) : wpX_invert post (N, T, a1, a2, a3, a4) x := by
  unfold wpX_invert
  exact ro_bad1 h0 h1 (br_f (by decide) H)
/-! reverse -/
def ro_rv (n : Nat) (p : Nat → Nat) (x : Nat) : Nat := p (n - 1 - x)
theorem ro_reverse {post : Int32 → St2 → Prop} {T x : Int32} {a1 a2 a3 a4 : Nat → Int32} {n e : Nat} {p : Nat → Nat} (h2 : 2 ≤ n) (h5 : n ≤ 5) (he : e ≤ 1) (hx : x = nI e) (hp : ro_Row a1 (5 * e) n p)
    (H : ∀ d, (∀ m, m < 10 → (m < 5 * e ∨ 5 * e + n ≤ m) → d m = a1 m) → ro_Row d (5 * e) n (ro_rv n p) → post (nI (ro_iv n (ro_rv n p) (n * n))) (nI n, T, d, a2, a3, a4)) : wpX_reverse post (nI n, T, a1, a2, a3, a4) x := by
  unfold wpX_reverse
  refine ro_bad0 he hx (br_t rfl ?_)
  subst hx
  refine pk_loop (fun fu i s => wX_reverse_14 post (nI e) (nI n) T fu (nI i) s a2 a3 a4) (fun i s => (∀ m, m < 10 → s m = a1 m) ∧ ∀ j, j < i → s (10 + j) = nI (ro_rv n p j)) n 0 a1 (by omega) ⟨fun m _ => rfl, fun j hj => absurd hj (by omega)⟩ ?_ ?_
  · intro fu s h
    have hr : ro_Row s 10 n (ro_rv n p) := fun i hi => ⟨h.2 i hi, (hp (n - 1 - i) (by omega)).2⟩
    refine pk_le n n (fun _ => ro_copy (b := 10) (c := 5 * e) h5 (by omega) (by omega) rfl (ro_5 e) (by omega) hr (fun d k1 k2 => ro_inv h2 h5 (by omega) (ro_5 e) k2 (H d (fun m hm hm2 => (k1 m hm2).trans (h.1 m hm)) k2))) (fun z => absurd z (by omega))
  · intro fu i s hi h hw
    have f1 : (5 : Int32) * nI e + nI n - 1 - nI i = nI (5 * e + (n - 1 - i)) := by
      rw [ro_5, nI_add, show nI (5 * e + n) - 1 = nI (5 * e + n - 1) from pk_sub (b := 1) (by omega), pk_sub (by omega), show 5 * e + n - 1 - i = 5 * e + (n - 1 - i) by omega]
    obtain ⟨e1, q1, q2⟩ := hp (n - 1 - i) (by omega)
    refine pk_le n i (fun z => absurd z (by omega)) (fun _ => ⟨pk_in (5 * e + (n - 1 - i)) 20 (by omega) f1, pk_in (10 + i) 20 (by omega) (nI_add 10 i), nm_r (ro_up (v := ro_rv n p i) (nI_add 10 i) ?_ (by omega)) (nm_r (nI_1 i) (hw _ ⟨?_, ?_⟩))⟩)
    · rw [f1, nI_clamp (by omega), h.1 _ (by omega), e1]
      exact ro_nb (by omega)
    · intro m hm
      rw [pk_un (by omega)]
      exact h.1 m hm
    · intro j hj
      by_cases ej : j = i
      · rw [ej, pk_us]
      · rw [pk_un (by omega)]
        exact h.2 j (by omega)
theorem ro_reverseB {post : Int32 → St2 → Prop} {N T x : Int32} {a1 a2 a3 a4 : Nat → Int32} (h0 : ¬ x = 0) (h1 : ¬ x = 1) (H : post (-1000) (N, T, a1, a2, a3, a4)) : wpX_reverse post (N, T, a1, a2, a3, a4) x := by
  unfold wpX_reverse
  exact ro_bad1 h0 h1 (br_f (by decide) H)
end
section
/-! every pair -/
def ro_ev (n : Nat) : Nat → Nat
  | 0 => 0
  | k + 1 => if k / 5 < k % 5 ∧ k % 5 < n then ro_ev n k ||| 2 ^ k else ro_ev n k
theorem ro_ev_t {n k : Nat} (h : k / 5 < k % 5 ∧ k % 5 < n) : ro_ev n (k + 1) = ro_ev n k ||| 2 ^ k := if_pos h
theorem ro_ev_n {n k : Nat} (h : ¬ (k / 5 < k % 5 ∧ k % 5 < n)) : ro_ev n (k + 1) = ro_ev n k := if_neg h
theorem ro_ev_lt (n : Nat) : ∀ k, k ≤ 25 → ro_ev n k < 2 ^ 25 := by
  intro k
  induction k with
  | zero => exact fun _ => by show 0 < 2 ^ 25; decide
  | succ k ih =>
    intro hk
    by_cases h : k / 5 < k % 5 ∧ k % 5 < n
    · rw [ro_ev_t h]
      exact ro_or_lt (ih (by omega)) (Nat.pow_lt_pow_right (by decide) (by omega))
    · rw [ro_ev_n h]
      exact ih (by omega)
theorem ro_every {post : Int32 → Prop} {T : Int32} {a1 a2 a3 a4 : Nat → Int32} {n : Nat} (h5 : n ≤ 5) (H : post (nI (ro_ev n 25))) : wpX_everyPair post (nI n, T, a1, a2, a3, a4) := by
  refine pk_loop (σ := Unit) (fun fu k _ => wX_everyPair_4 post (nI n) T a1 a2 a3 a4 fu (nI (ro_ev n k)) (nI k)) (fun _ _ => True) 25 0 () (by omega) trivial ?_ ?_
  · intro fu _ _
    exact pk_le 25 25 (fun _ => H) (fun z => absurd z (by omega))
  · intro fu k _ hk _ hw
    have hw' : wX_everyPair_4 post (nI n) T a1 a2 a3 a4 fu (nI (ro_ev n (k + 1))) (nI (k + 1)) := hw () trivial
    refine pk_le 25 k (fun z => absurd z (by omega)) (fun _ => ⟨by decide, nm_r (pk_div (d := 5) (by omega) (by omega) (by omega)) ⟨by decide, nm_r (pk_rem (d := 5) (by omega) (by omega) (by omega)) ?_⟩⟩)
    refine pk_le (k % 5) (k / 5) (fun z => nm_r (nI_1 k) ?_) (fun z => pk_le n (k % 5) (fun y => nm_r (nI_1 k) ?_) (fun y => nm_r (e' := nI (ro_ev n k ||| 2 ^ k)) (by rw [ro_shl1 _ (by omega), ro_or]) (nm_r (nI_1 k) ?_)))
    · rw [ro_ev_n (by omega)] at hw'
      exact hw'
    · rw [ro_ev_n (by omega)] at hw'
      exact hw'
    · rw [ro_ev_t ⟨z, y⟩] at hw'
      exact hw'
/-! one pair in a set, and the closing of a set -/
theorem ro_has {post : Int32 → Prop} {N T x y z : Int32} {a1 a2 a3 a4 : Nat → Int32} {s a b : Nat} (hs : s < 2 ^ 31) (hm : 5 * a + b < 32) (hx : x = nI s) (hy : y = nI a) (hz : z = nI b) (H : post (ro_bi (decide (s / 2 ^ (5 * a + b) % 2 = 1)))) : wpX_has post (N, T, a1, a2, a3, a4) x y z := by
  subst hx hy hz
  unfold wpX_has
  dsimp only
  rw [ro_5, nI_add]
  refine ek_if (ro_bit hs hm) (fun w => ?_) (fun w => ?_)
  · rw [decide_eq_true w] at H
    exact H
  · rw [decide_eq_false w] at H
    exact H
def ro_c1 (k s : Nat) : Nat := if (k / 25 < k / 5 % 5 ∧ k / 5 % 5 < k % 5) ∧ s / 2 ^ (5 * (k / 25) + k / 5 % 5) % 2 = 1 ∧ s / 2 ^ (5 * (k / 5 % 5) + k % 5) % 2 = 1 then s ||| 2 ^ (5 * (k / 25) + k % 5) else s
theorem ro_c1_lt {k s : Nat} (hk : k < 125) (hs : s < 2 ^ 25) : ro_c1 k s < 2 ^ 25 := by
  unfold ro_c1
  split
  · exact ro_or_lt hs (Nat.pow_lt_pow_right (by decide) (by omega))
  · exact hs
def ro_cR : Nat → Nat → Nat → Nat
  | 0, _, s => s
  | f + 1, k, s => ro_st (ro_c1 k s) (fun s' => ro_cR f (k + 1) s')
theorem ro_cR_s (f k s : Nat) : ro_cR (f + 1) k s = ro_cR f (k + 1) (ro_c1 k s) := ro_st_eq _ _
theorem ro_cR_lt : ∀ f k s, k + f ≤ 125 → s < 2 ^ 25 → ro_cR f k s < 2 ^ 25 := by
  intro f
  induction f with
  | zero => exact fun k s _ h => h
  | succ f ih =>
    intro k s hk h
    rw [ro_cR_s]
    exact ih (k + 1) _ (by omega) (ro_c1_lt (by omega) h)
def ro_cz : Nat → Nat → Nat
  | 0, s => s
  | r + 1, s => ro_st (ro_cR 125 0 s) (fun s' => ro_cz r s')
theorem ro_cz_s (r s : Nat) : ro_cz (r + 1) s = ro_cz r (ro_cR 125 0 s) := ro_st_eq _ _
theorem ro_cz_lt : ∀ r s, s < 2 ^ 25 → ro_cz r s < 2 ^ 25 := by
  intro r
  induction r with
  | zero => exact fun s h => h
  | succ r ih =>
    intro s h
    rw [ro_cz_s]
    exact ih _ (ro_cR_lt 125 0 s (by omega) h)
theorem ro_close12 {post : Int32 → Prop} {J : Int32 → Int32 → Prop} {N T : Int32} {a1 a2 a3 a4 : Nat → Int32} {r : Nat} : ∀ f k s, k + f = 125 → s < 2 ^ 25 → J (nI (ro_cR f k s)) (nI (r + 1)) → wX_close_12 post J (nI r) N T a1 a2 a3 a4 (f + 1) (nI s) (nI k) := by
  intro f
  induction f with
  | zero => exact fun k s hk hs H => pk_le 125 k (fun _ => nm_r (nI_1 r) H) (fun z => absurd z (by omega))
  | succ f ih =>
    intro k s hk hs H
    rw [ro_cR_s] at H
    have eb : nI k / 5 - nI k / 5 / 5 * 5 = nI (k / 5 % 5) := by
      rw [show nI k / 5 = nI (k / 5) from pk_div (d := 5) (by omega) (by omega) (by omega)]
      exact pk_rem (d := 5) (by omega) (by omega) (by omega)
    have skip : ¬ ((k / 25 < k / 5 % 5 ∧ k / 5 % 5 < k % 5) ∧ s / 2 ^ (5 * (k / 25) + k / 5 % 5) % 2 = 1 ∧ s / 2 ^ (5 * (k / 5 % 5) + k % 5) % 2 = 1) → wX_close_12 post J (nI r) N T a1 a2 a3 a4 (f + 1) (nI s) (nI (k + 1)) := by
      intro c
      unfold ro_c1 at H
      rw [if_neg c] at H
      exact ih (k + 1) s (by omega) hs H
    refine pk_le 125 k (fun z => absurd z (by omega)) (fun _ => ⟨by decide, nm_r (pk_div (d := 25) (by omega) (by omega) (by omega)) ⟨by decide, by decide, nm_r eb ⟨by decide, nm_r (pk_rem (d := 5) (by omega) (by omega) (by omega)) ?_⟩⟩⟩)
    refine pk_le (k / 5 % 5) (k / 25) (fun z => nm_r (nI_1 k) (skip (fun c => absurd c.1.1 (by omega)))) (fun z => ?_)
    refine pk_le (k % 5) (k / 5 % 5) (fun y => nm_r (nI_1 k) (skip (fun c => absurd c.1.2 (by omega)))) (fun y => ?_)
    refine ro_has (by omega) (by omega) rfl rfl rfl ?_
    by_cases w : s / 2 ^ (5 * (k / 25) + k / 5 % 5) % 2 = 1
    · rw [decide_eq_true w]
      refine br_f (by decide) (ro_has (by omega) (by omega) rfl rfl rfl ?_)
      by_cases v : s / 2 ^ (5 * (k / 5 % 5) + k % 5) % 2 = 1
      · rw [decide_eq_true v]
        have hl := ro_c1_lt (k := k) (by omega) hs
        unfold ro_c1 at H hl
        rw [if_pos ⟨⟨z, y⟩, w, v⟩] at H hl
        refine br_f (by decide) (nm_r (e' := nI (s ||| 2 ^ (5 * (k / 25) + k % 5))) (by rw [ro_5, nI_add, ro_shl1 _ (by omega), ro_or]) (nm_r (nI_1 k) (ih (k + 1) _ (by omega) hl H)))
      · rw [decide_eq_false v]
        exact br_t rfl (nm_r (nI_1 k) (skip (fun c => v c.2.2)))
    · rw [decide_eq_false w]
      exact br_t rfl (nm_r (nI_1 k) (skip (fun c => w c.2.1)))
theorem ro_close4 {post : Int32 → Prop} {N T : Int32} {a1 a2 a3 a4 : Nat → Int32} : ∀ f r s, r + f = 5 → s < 2 ^ 25 → post (nI (ro_cz f s)) → wX_close_4 post N T a1 a2 a3 a4 (f + 1) (nI s) (nI r) := by
  intro f
  induction f with
  | zero => exact fun r s hr hs H => pk_le 5 r (fun _ => H) (fun z => absurd z (by omega))
  | succ f ih =>
    intro r s hr hs H
    rw [ro_cz_s] at H
    exact pk_le 5 r (fun z => absurd z (by omega)) (fun _ => ⟨126, ro_close12 125 0 s rfl hs (ih (r + 1) _ (by omega) (ro_cR_lt 125 0 s (by omega) hs) H)⟩)
theorem ro_close {post : Int32 → Prop} {N T x : Int32} {a1 a2 a3 a4 : Nat → Int32} {s : Nat} (hs : s < 2 ^ 25) (hx : x = nI s) (H : post (nI (ro_cz 5 s))) : wpX_close post (N, T, a1, a2, a3, a4) x := by
  subst hx
  exact ⟨6, ro_close4 5 0 s rfl hs H⟩
/-! the permutation of a set of pairs -/
def ro_ah (s v q : Nat) : Bool := if q < v then !(decide (s / 2 ^ (5 * q + v) % 2 = 1)) else (decide (v < q) && decide (s / 2 ^ (5 * v + q) % 2 = 1))
def ro_bf (s v : Nat) : Nat → Nat
  | 0 => 0
  | q + 1 => if ro_ah s v q = true then ro_bf s v q + 1 else ro_bf s v q
theorem ro_bf_s (s v q : Nat) : ro_bf s v (q + 1) = if ro_ah s v q = true then ro_bf s v q + 1 else ro_bf s v q := rfl
def ro_bd (n s : Nat) (p : Nat → Nat) : Nat → Nat → Nat
  | 0, x => p x
  | v + 1, x => if x = ro_bf s v n then v + 1 else ro_bd n s p v x
theorem ro_b71 {post : St2 → Prop} {J2 : Int32 → (Nat → Int32) → (Nat → Int32) → (Nat → Int32) → (Nat → Int32) → Prop} {J15 : Int32 → Int32 → Prop} {x1 x2 N T z : Int32} {a1 a2 a3 a4 : Nat → Int32} {c q : Nat} (b : Bool) (hz : z = ro_bi b) (H : J15 (nI (if b = true then c + 1 else c)) (nI (q + 1))) : wX_build_71 post J2 J15 x1 x2 (nI c) (nI q) z N T a1 a2 a3 a4 := by
  subst hz
  cases b
  · exact br_t rfl (nm_r (nI_1 q) H)
  · exact br_f (by decide) (nm_r (nI_1 c) (nm_r (nI_1 q) H))
theorem ro_build {post : St2 → Prop} {T x : Int32} {a1 a2 a3 a4 : Nat → Int32} {n s : Nat} {p : Nat → Nat} (h5 : n ≤ 5) (hs : s < 2 ^ 25) (hx : x = nI s) (hp : ro_Row a1 0 n p) (hb : ∀ v, v < n → ro_bf s v n < n)
    (H : ∀ d, (∀ m, n ≤ m → d m = a1 m) → ro_Row d 0 n (ro_bd n s p n) → post (nI n, T, d, a2, a3, a4)) : wpX_build post (nI n, T, a1, a2, a3, a4) x := by
  subst hx
  refine pk_loop (fun fu v w => wX_build_2 post (nI s) (nI n) T fu (nI v) w a2 a3 a4) (fun v w => (∀ m, n ≤ m → w m = a1 m) ∧ ro_Row w 0 n (ro_bd n s p v)) n 0 a1 (by omega) ⟨fun m _ => rfl, hp⟩ ?_ ?_
  · intro fu w h
    exact pk_le n n (fun _ => H w h.1 h.2) (fun z => absurd z (by omega))
  · intro fu v w hv h hw
    refine pk_le n v (fun z => absurd z (by omega)) (fun _ => ?_)
    have hbv := hb v hv
    refine pk_loop (σ := Unit) (fun g q _ => wX_build_15 post (wX_build_2 post (nI s) (nI n) T fu) (nI s) (nI v) (nI n) T w a2 a3 a4 g (nI (ro_bf s v q)) (nI q)) (fun _ _ => True) n 0 () (by omega) trivial ?_ ?_
    · intro g _ _
      refine pk_le n n (fun _ => ⟨vp_in_nI (by omega) (by omega), nm_r (ro_up (v := v + 1) rfl (by rw [nI_1]; exact ro_b8 _ (by omega)) (by omega)) (nm_r (nI_1 v) (hw _ ⟨?_, ?_⟩))⟩) (fun z => absurd z (by omega))
      · intro m hm
        rw [pk_un (by omega)]
        exact h.1 m hm
      · intro i hi
        show upd w (ro_bf s v n) (nI (v + 1)) (0 + i) = nI (if i = ro_bf s v n then v + 1 else ro_bd n s p v i) ∧ 1 ≤ (if i = ro_bf s v n then v + 1 else ro_bd n s p v i) ∧ (if i = ro_bf s v n then v + 1 else ro_bd n s p v i) ≤ 5
        by_cases e : i = ro_bf s v n
        · rw [if_pos e, Nat.zero_add, e, pk_us]
          exact ⟨rfl, by omega, by omega⟩
        · rw [if_neg e, pk_un (by omega)]
          exact h.2 i hi
    · intro g q _ hq _ hg
      have hg' : wX_build_15 post (wX_build_2 post (nI s) (nI n) T fu) (nI s) (nI v) (nI n) T w a2 a3 a4 g (nI (if ro_ah s v q = true then ro_bf s v q + 1 else ro_bf s v q)) (nI (q + 1)) := hg () trivial
      have hah : ro_ah s v q = if q < v then !(decide (s / 2 ^ (5 * q + v) % 2 = 1)) else (decide (v < q) && decide (s / 2 ^ (5 * v + q) % 2 = 1)) := rfl
      refine pk_le n q (fun z => absurd z (by omega)) (fun _ => pk_le v q (fun z => pk_le q v (fun y => ?_) (fun y => ?_)) (fun z => ?_))
      · refine ro_b71 (ro_ah s v q) ?_ hg'
        rw [hah, if_neg (by omega), decide_eq_false (show ¬ v < q by omega)]
        rfl
      · refine ro_has (by omega) (by omega) rfl rfl rfl ?_
        rw [if_neg (by omega), decide_eq_true y, Bool.true_and] at hah
        cases hB : decide (s / 2 ^ (5 * v + q) % 2 = 1)
        · rw [hB] at hah
          exact br_t rfl (ro_b71 (ro_ah s v q) (by rw [hah]; rfl) hg')
        · rw [hB] at hah
          exact br_f (by decide) (ro_b71 (ro_ah s v q) (by rw [hah]; rfl) hg')
      · refine ro_has (by omega) (by omega) rfl rfl rfl ?_
        rw [if_pos z] at hah
        cases hB : decide (s / 2 ^ (5 * q + v) % 2 = 1)
        · rw [hB] at hah
          exact br_t rfl (ro_b71 (ro_ah s v q) (by rw [hah]; rfl) hg')
        · rw [hB] at hah
          exact br_f (by decide) (ro_b71 (ro_ah s v q) (by rw [hah]; rfl) hg')
/-! meet and join -/
def ro_mt (n : Nat) (p q : Nat → Nat) : Nat := ro_ev n 25 &&& (ro_cz 5 ((ro_ev n 25 &&& (ro_ps n p (n * n) ^^^ 4294967295)) ||| (ro_ev n 25 &&& (ro_ps n q (n * n) ^^^ 4294967295))) ^^^ 4294967295)
def ro_jn (n : Nat) (p q : Nat → Nat) : Nat := ro_cz 5 (ro_ps n p (n * n) ||| ro_ps n q (n * n))
theorem ro_and_lt {a b : Nat} (h : a < 2 ^ 25) : a &&& b < 2 ^ 25 := Nat.lt_of_le_of_lt Nat.and_le_left h
theorem ro_meet {post : Int32 → St2 → Prop} {T : Int32} {a1 a2 a3 a4 : Nat → Int32} {n : Nat} {p q : Nat → Nat} (h2 : 2 ≤ n) (h5 : n ≤ 5) (hp : ro_Row a1 0 n p) (hq : ro_Row a1 5 n q) (hb : ∀ v, v < n → ro_bf (ro_mt n p q) v n < n)
    (H : ∀ d, (∀ m, n ≤ m → d m = a1 m) → ro_Row d 0 n (ro_bd n (ro_mt n p q) p n) → post (nI (ro_iv n (ro_bd n (ro_mt n p q) p n) (n * n))) (nI n, T, d, a2, a3, a4)) : wpX_meet post (nI n, T, a1, a2, a3, a4) := by
  have he := ro_ev_lt n 25 (by omega)
  unfold wpX_meet
  refine ro_every h5 (ro_pairsAt (b := 0) h2 h5 (by omega) rfl hp (nm_r (ro_not _ _) (ro_pairsAt (b := 5) h2 h5 (by omega) rfl hq (nm_r (ro_not _ _) (ro_close (ro_or_lt (ro_and_lt he) (ro_and_lt he)) (ro_or _ _) (ro_build h5 (ro_and_lt he) (ro_not _ _) hp hb ?_))))))
  exact fun d k1 k2 => ro_inv (b := 0) h2 h5 (by omega) rfl k2 (H d k1 k2)
theorem ro_join {post : Int32 → St2 → Prop} {T : Int32} {a1 a2 a3 a4 : Nat → Int32} {n : Nat} {p q : Nat → Nat} (h2 : 2 ≤ n) (h5 : n ≤ 5) (hp : ro_Row a1 0 n p) (hq : ro_Row a1 5 n q) (hb : ∀ v, v < n → ro_bf (ro_jn n p q) v n < n)
    (H : ∀ d, (∀ m, n ≤ m → d m = a1 m) → ro_Row d 0 n (ro_bd n (ro_jn n p q) p n) → post (nI (ro_iv n (ro_bd n (ro_jn n p q) p n) (n * n))) (nI n, T, d, a2, a3, a4)) : wpX_join post (nI n, T, a1, a2, a3, a4) := by
  have l1 := ro_ps_lt h2 (ro_rowp hp) (n * n) (Nat.le_refl _)
  have l2 := ro_ps_lt h2 (ro_rowp hq) (n * n) (Nat.le_refl _)
  unfold wpX_join
  refine ro_pairsAt (b := 0) h2 h5 (by omega) rfl hp (ro_pairsAt (b := 5) h2 h5 (by omega) rfl hq (ro_close (ro_or_lt l1 l2) (ro_or _ _) (ro_build h5 (ro_cz_lt 5 _ (ro_or_lt l1 l2)) rfl hp hb ?_)))
  exact fun d k1 k2 => ro_inv (b := 0) h2 h5 (by omega) rfl k2 (H d k1 k2)
end
section
/-! signs by pieces: both rows alike, or one the other turned round -/
theorem ro_turnSame {post : Int32 → Prop} {T x : Int32} {a1 a2 a3 a4 : Nat → Int32} {n i : Nat} {p : Nat → Nat} (h2 : 2 ≤ n) (h5 : n ≤ 5) (hi : i < n) (hx : x = nI i) (hp : ro_Row a1 0 n p) (hq : ro_Row a1 5 n p) (H : post (nI (i + 1))) : wpX_turnedFrom post (nI n, T, a1, a2, a3, a4) x := by
  subst hx
  have e1 : a1 (nI i).toNatClampNeg = nI (p i) := by
    rw [nI_clamp (by omega)]
    have t := (hp i hi).1
    rw [Nat.zero_add] at t
    exact t
  have e2 : a1 ((5 : Int32) + nI i).toNatClampNeg = nI (p i) := ro_get hq hi (nI_add 5 i) (by omega)
  have f3 : (5 : Int32) + nI i + nI i - nI i = nI (5 + i) := by
    rw [show (5 : Int32) + nI i = nI (5 + i) from nI_add 5 i, nI_add, pk_sub (by omega), show 5 + i + i - i = 5 + i by omega]
  have e3 : a1 ((5 : Int32) + nI i + nI i - nI i).toNatClampNeg = nI (p i) := ro_get hq hi f3 (by omega)
  have K : ∃ fu, wX_turnedFrom_37 post (nI i) (nI i) (nI n) T a1 a2 a3 a4 fu (nI i) := by
    refine ⟨2, pk_lt i i (fun z => absurd z (by omega)) (fun _ => ⟨pk_in i 20 (by omega), pk_in (5 + i) 20 (by omega) f3, br_t (e1.trans e3.symm) (br_t rfl ?_)⟩)⟩
    refine br_f (by decide) (nm_r (nI_1 i) (pk_lt i (i + 1) (fun _ => ?_) (fun z => absurd z (by omega))))
    rw [nI_1]
    exact H
  have en : nI n - 1 = nI (n - 1) := pk_sub (b := 1) (by omega)
  exact ⟨1, pk_le (n - 1) i (fun _ => K) (fun z => ⟨pk_in i 20 (by omega), pk_in (5 + i) 20 (by omega) (nI_add 5 i), br_t (e1.trans e2.symm) K⟩) en⟩
theorem ro_piecesSame {post : Int32 → Prop} {T : Int32} {a1 a2 a3 a4 : Nat → Int32} {n : Nat} {p : Nat → Nat} (h2 : 2 ≤ n) (h5 : n ≤ 5) (hp : ro_Row a1 0 n p) (hq : ro_Row a1 5 n p) (H : post 1) : wpX_signByPieces post (nI n, T, a1, a2, a3, a4) := by
  refine pk_loop (σ := Unit) (fun fu i _ => wX_signByPieces_6 post (nI n) T a1 a2 a3 a4 fu 1 (nI i) (nI i)) (fun _ _ => True) n 0 () (by omega) trivial ?_ ?_
  · intro fu _ _
    exact pk_le n n (fun _ => H) (fun z => absurd z (by omega))
  · intro fu i _ hi _ hw
    refine pk_le n i (fun z => absurd z (by omega)) (fun _ => pk_le n i (fun z => absurd z (by omega)) (fun _ => ro_turnSame h2 h5 hi rfl hp hq ?_))
    refine pk_eq (i + 1) i (fun z => absurd z (by omega)) (fun _ => br_f ?_ (nm_r (nI_1 i) (hw () trivial)))
    rw [pk_sub (by omega), show i + 1 - i = 1 by omega]
    decide
def ro_mo (n i : Nat) : Nat := n - i
theorem ro_turnRev {post : Int32 → Prop} {T : Int32} {a1 a2 a3 a4 : Nat → Int32} {n : Nat} (h2 : 2 ≤ n) (h5 : n ≤ 5) (hp : ro_Row a1 0 n ro_id) (hq : ro_Row a1 5 n (ro_mo n)) (H : post (nI n)) : wpX_turnedFrom post (nI n, T, a1, a2, a3, a4) 0 := by
  have en : nI n - 1 = nI (n - 1) := pk_sub (b := 1) (by omega)
  have ep : ∀ j, j < n → a1 (nI j).toNatClampNeg = nI (j + 1) := by
    intro j hj
    rw [nI_clamp (by omega)]
    have t := (hp j hj).1
    rw [Nat.zero_add] at t
    exact t
  have f5 : (5 : Int32) + 0 = nI (5 + 0) := nI_add 5 0
  have e5 : a1 ((5 : Int32) + 0).toNatClampNeg = nI n := ro_get (i := 0) hq (by omega) f5 (by omega)
  have K : ∃ fu, wX_turnedFrom_37 post 0 (nI (n - 1)) (nI n) T a1 a2 a3 a4 fu 0 := by
    refine pk_loop (σ := Unit) (fun fu k _ => wX_turnedFrom_37 post 0 (nI (n - 1)) (nI n) T a1 a2 a3 a4 fu (nI k)) (fun _ _ => True) n 0 () (by omega) trivial ?_ ?_
    · intro fu _ _
      refine pk_lt (n - 1) n (fun _ => ?_) (fun z => absurd z (by omega))
      rw [nI_1, show n - 1 + 1 = n by omega]
      exact H
    · intro fu k _ hk _ hw
      have f3 : (5 : Int32) + 0 + nI (n - 1) - nI k = nI (5 + (n - 1 - k)) := by
        rw [f5, nI_add, pk_sub (by omega), show 5 + 0 + (n - 1) - k = 5 + (n - 1 - k) by omega]
      have e3 : a1 ((5 : Int32) + 0 + nI (n - 1) - nI k).toNatClampNeg = nI (k + 1) := by
        have t := ro_get (i := n - 1 - k) hq (by omega) f3 (by omega)
        rw [show ro_mo n (n - 1 - k) = k + 1 by unfold ro_mo; omega] at t
        exact t
      have g85 : wX_turnedFrom_85 post (wX_turnedFrom_37 post 0 (nI (n - 1)) (nI n) T a1 a2 a3 a4 fu) 0 (nI (n - 1)) (nI k) (nI n) T a1 a2 a3 a4 := br_f (by decide) (nm_r (nI_1 k) (hw () trivial))
      refine pk_lt (n - 1) k (fun z => absurd z (by omega)) (fun _ => ⟨pk_in k 20 (by omega), pk_in (5 + (n - 1 - k)) 20 (by omega) f3, br_t ((ep k hk).trans e3.symm) (pk_eq k 0 (fun _ => g85) (fun z => ?_))⟩)
      have em : nI k - 1 = nI (k - 1) := pk_sub (b := 1) (by omega)
      refine ⟨pk_in (k - 1) 20 (by omega) em, pk_in k 20 (by omega), pk_le (k + 1) k (fun y => absurd y (by omega)) (fun _ => g85) (ep k hk) ?_⟩
      rw [em, ep (k - 1) (by omega), show k - 1 + 1 = k by omega]
  refine pk_loop (σ := Unit) (fun fu j _ => wX_turnedFrom_2 post 0 (nI n) T a1 a2 a3 a4 fu (nI j)) (fun _ _ => True) (n - 1) 0 () (by omega) trivial ?_ ?_
  · intro fu _ _
    exact pk_le (n - 1) (n - 1) (fun _ => K) (fun z => absurd z (by omega)) en
  · intro fu j _ hj _ hw
    refine pk_le (n - 1) j (fun z => absurd z (by omega)) (fun _ => ⟨pk_in j 20 (by omega), pk_in 5 20 (by omega) f5, pk_eq (j + 1) n (fun z => absurd z (by omega)) (fun _ => nm_r (nI_1 j) (hw () trivial)) (ep j (by omega)) e5⟩) en
theorem ro_piecesRev {post : Int32 → Prop} {T : Int32} {a1 a2 a3 a4 : Nat → Int32} {n : Nat} (h2 : 2 ≤ n) (h5 : n ≤ 5) (hp : ro_Row a1 0 n ro_id) (hq : ro_Row a1 5 n (ro_mo n)) (H : post (if n % 2 = 0 then -1 else 1)) : wpX_signByPieces post (nI n, T, a1, a2, a3, a4) := by
  refine ⟨2, pk_le n 0 (fun z => absurd z (by omega)) (fun _ => pk_le n 0 (fun z => absurd z (by omega)) (fun _ => ro_turnRev h2 h5 hp hq ?_))⟩
  refine pk_eq n 0 (fun z => absurd z (by omega)) (fun _ => ?_)
  have ex : (nI n - 0) &&& 1 = nI (n % 2) := by
    rw [show nI n - 0 = nI n from pk_sub (b := 0) (by omega)]
    exact pk_andN (by omega) 1 (by decide)
  rw [ex]
  have fin : ∀ s : Int32, post s → wX_signByPieces_6 post (nI n) T a1 a2 a3 a4 1 s (nI n) (nI 1) := fun s hs => pk_le n 1 (fun z => absurd z (by omega)) (fun _ => pk_le n n (fun _ => hs) (fun z => absurd z (by omega)))
  refine pk_eq (n % 2) 0 (fun z => ?_) (fun z => ?_)
  · rw [if_pos z] at H
    exact nm_e (nm_r (nI_1 0) (fin _ H))
  · rw [if_neg z] at H
    exact nm_r (nI_1 0) (fin _ H)
theorem ro_sign1Same {post : Int32 → Prop} {T x : Int32} {a1 a2 a3 a4 : Nat → Int32} {n : Nat} {p : Nat → Nat} (h2 : 2 ≤ n) (h5 : n ≤ 5) (hx : x = 1) (hp : ro_Row a1 0 n p) (hq : ro_Row a1 5 n p) (H : post 1) : wpX_sign post (nI n, T, a1, a2, a3, a4) x := by
  subst hx
  unfold wpX_sign
  exact ro_bad0 (e := 1) (by omega) rfl (br_t rfl (br_t rfl (ro_piecesSame h2 h5 hp hq H)))
theorem ro_sign1Rev {post : Int32 → Prop} {T x : Int32} {a1 a2 a3 a4 : Nat → Int32} {n : Nat} (h2 : 2 ≤ n) (h5 : n ≤ 5) (hx : x = 1) (hp : ro_Row a1 0 n ro_id) (hq : ro_Row a1 5 n (ro_mo n)) (H : post (if n % 2 = 0 then -1 else 1)) : wpX_sign post (nI n, T, a1, a2, a3, a4) x := by
  subst hx
  unfold wpX_sign
  exact ro_bad0 (e := 1) (by omega) rfl (br_t rfl (br_t rfl (ro_piecesRev h2 h5 hp hq H)))
theorem ro_sign0 {post : Int32 → Prop} {T x : Int32} {a1 a2 a3 a4 : Nat → Int32} {n : Nat} {p q : Nat → Nat} (h2 : 2 ≤ n) (h5 : n ≤ 5) (hx : x = 0) (hp : ro_Row a1 0 n p) (hq : ro_Row a1 5 n q) (hl : ro_lp n p q n = true) (hi : ro_iv n p (n * n) ≤ ro_iv n q (n * n))
    (H : post (if (ro_iv n q (n * n) - ro_iv n p (n * n)) % 2 = 0 then 1 else -1)) : wpX_sign post (nI n, T, a1, a2, a3, a4) x := by
  subst hx
  have l1 := ro_iv_le n q (n * n)
  have hnn : n * n ≤ 25 := Nat.mul_le_mul h5 h5
  unfold wpX_sign
  refine ro_bad0 (e := 0) (by omega) rfl (br_t rfl (br_f (by decide) (ro_less (b := 0) (c := 5) h2 h5 (by omega) (by omega) rfl rfl hp hq (ro_inv (b := 5) h2 h5 (by omega) rfl hq (ro_inv (b := 0) h2 h5 (by omega) rfl hp (nm_r (pk_sub hi) ?_))))))
  rw [hl]
  refine br_f (by decide) ?_
  rw [show nI (ro_iv n q (n * n) - ro_iv n p (n * n)) &&& 1 = nI ((ro_iv n q (n * n) - ro_iv n p (n * n)) % 2) from pk_andN (by omega) 1 (by decide)]
  refine pk_eq ((ro_iv n q (n * n) - ro_iv n p (n * n)) % 2) 0 (fun z => ?_) (fun z => ?_)
  · rw [if_pos z] at H
    exact H
  · rw [if_neg z] at H
    exact H
theorem ro_signB {post : Int32 → Prop} {N T x : Int32} {a1 a2 a3 a4 : Nat → Int32} (h0 : ¬ x = 0) (h1 : ¬ x = 1) (H : post (-1000)) : wpX_sign post (N, T, a1, a2, a3, a4) x := by
  unfold wpX_sign
  exact ro_bad1 h0 h1 (br_f (by decide) H)
end
section
/-! what the law asks, as numbers: all by reckoning -/
def ro_ls : Nat → Nat
  | 2 => 12
  | 3 => 123
  | 4 => 1234
  | _ => 12345
def ro_ms : Nat → Nat
  | 2 => 21
  | 3 => 321
  | 4 => 4321
  | _ => 54321
def ro_wd : Nat → Nat
  | 2 => 1
  | 3 => 2
  | 4 => 16
  | _ => 768
def ro_tp (n : Nat) : Nat := n * (n - 1) / 2
def ro_gp (i j : Nat) : Nat := if j ≤ i then i - j else j - i
def ro_du (i j : Nat) : Nat := if i = j then 0 else 2 * ro_gp i j - 1
theorem ro_ls_lt : ∀ n, n < 6 → 2 ≤ n → 10 * ro_ls n < 2 ^ 31 := by decide
theorem ro_ms_lt : ∀ n, n < 6 → 2 ≤ n → ro_ms n < 2 ^ 31 := by decide
theorem ro_tp_lt : ∀ n, n < 6 → 2 ≤ n → ro_tp n ≤ 10 := by decide
theorem ro_wd_lt : ∀ n, n < 6 → 2 ≤ n → ro_wd n ≤ 768 := by decide
theorem ro_F1 : ∀ n, n < 6 → 2 ≤ n → ro_cd ro_id n = ro_ls n ∧ ro_rk n ro_id n = 0 ∧ ro_iv n ro_id (n * n) = 0 := by decide +kernel
theorem ro_F2 : ∀ n, n < 6 → 2 ≤ n → ro_cd (ro_ud n 0) n = ro_ls n ∧ ro_cd (ro_ud n (ro_f n - 1)) n = ro_ms n := by decide +kernel
theorem ro_F3 : ∀ n, n < 6 → 2 ≤ n → ∀ o, o < 2 → ro_bl n o ro_id ro_id = true := by decide +kernel
theorem ro_F3i : ∀ n, n < 6 → 2 ≤ n → ∀ o, o < 2 → ro_it n o ro_id ro_id (ro_f n) = 1 := by decide +kernel
theorem ro_F4 : ∀ n, n < 6 → 2 ≤ n → ∀ o, o < 2 → ro_stp n o ro_id (n * n) = n - 1 := by decide +kernel
theorem ro_F5 : ∀ n, n < 6 → 2 ≤ n → ro_pt n n (ro_ms n) 0 = true ∧ ∀ i, i < n → ro_dg n (ro_ms n) i = ro_mo n i := by decide +kernel
theorem ro_F5l : ∀ n, n < 6 → 2 ≤ n → ro_pt n n (ro_ls n) 0 = true ∧ ∀ i, i < n → ro_dg n (ro_ls n) i = ro_id i := by decide +kernel
theorem ro_F6 : ∀ n, n < 6 → 2 ≤ n → ro_iv n (ro_mo n) (n * n) = ro_tp n ∧ ro_rk n (ro_mo n) n = ro_f n - 1 ∧ ro_cd (ro_mo n) n = ro_ms n := by decide +kernel
theorem ro_F6b : ∀ n, n < 6 → 2 ≤ n → ∀ o, o < 2 → ro_bl n o ro_id (ro_mo n) = true := by decide +kernel
theorem ro_F6i : ∀ n, n < 6 → 2 ≤ n → ∀ o, o < 2 → ro_it n o ro_id (ro_mo n) (ro_f n) = ro_f n := by decide +kernel
theorem ro_F6s : ∀ n, n < 6 → 2 ≤ n → ∀ o, o < 2 → ro_stp n o (ro_mo n) (n * n) = 0 := by decide +kernel
theorem ro_F7m : ∀ n, n < 6 → 2 ≤ n → ro_mt n ro_id (ro_mo n) = 0 := by decide +kernel
theorem ro_F7j : ∀ n, n < 6 → 2 ≤ n → ro_jn n ro_id (ro_mo n) = ro_ev n 25 := by decide +kernel
theorem ro_F7a : ∀ n, n < 6 → 2 ≤ n → (∀ v, v < n → ro_bf 0 v n < n) ∧ (∀ i, i < n → ro_bd n 0 ro_id n i = ro_id i) ∧ ro_iv n (ro_bd n 0 ro_id n) (n * n) = 0 := by decide +kernel
theorem ro_F7b : ∀ n, n < 6 → 2 ≤ n → (∀ v, v < n → ro_bf (ro_ev n 25) v n < n) ∧ (∀ i, i < n → ro_bd n (ro_ev n 25) ro_id n i = ro_mo n i) ∧ ro_iv n (ro_bd n (ro_ev n 25) ro_id n) (n * n) = ro_tp n := by decide +kernel
theorem ro_F8a : ∀ n, n < 6 → 2 ≤ n → ∀ i, i < n → ∀ j, j < n → ro_iv n (ro_sw ro_id i j) (n * n) = ro_du i j := by decide +kernel
theorem ro_F8b : ∀ n, n < 6 → 2 ≤ n → ∀ i, i < n → ∀ j, j < n → ro_iv n (ro_sw (ro_sw ro_id i j) i j) (n * n) = 0 := by decide +kernel
theorem ro_F8c : ∀ n, n < 6 → 2 ≤ n → ∀ i, i < n → ∀ j, j < n → ∀ x, x < n → ro_sw (ro_sw ro_id i j) i j x = ro_id x := by decide +kernel
theorem ro_F9x : ∀ n, n < 6 → 2 ≤ n → ∀ i, i < n → ∀ j, j < n → ∀ x, x < n → 1 ≤ ro_sw ro_id i j x := by decide +kernel
theorem ro_F9y : ∀ n, n < 6 → 2 ≤ n → ∀ i, i < n → ∀ j, j < n → ∀ x, x < n → ro_sw ro_id i j x ≤ n := by decide +kernel
theorem ro_F9z : ∀ n, n < 6 → 2 ≤ n → ∀ i, i < n → ∀ j, j < n → ∀ x, x < n → ro_sw ro_id i j (ro_sw ro_id i j x - 1) = x + 1 := by decide +kernel
theorem ro_F9a (n : Nat) (h : n < 6) (h2 : 2 ≤ n) (i : Nat) (hi : i < n) (j : Nat) (hj : j < n) : ∀ x, x < n → 1 ≤ ro_sw ro_id i j x ∧ ro_sw ro_id i j x ≤ n ∧ ro_sw ro_id i j (ro_sw ro_id i j x - 1) = x + 1 :=
  fun x hx => ⟨ro_F9x n h h2 i hi j hj x hx, ro_F9y n h h2 i hi j hj x hx, ro_F9z n h h2 i hi j hj x hx⟩
theorem ro_F9b : ∀ n, n < 6 → 2 ≤ n → ∀ i, i < n → ∀ j, j < n → ro_du i j ≤ ro_tp n := by decide +kernel
theorem ro_F9c : ∀ n, n < 6 → 2 ≤ n → ∀ i, i < n → ∀ j, j < n → ro_iv n (ro_rv n (ro_sw ro_id i j)) (n * n) = ro_tp n - ro_du i j := by decide +kernel
theorem ro_F9d : ∀ n, n < 6 → 2 ≤ n → ∀ i, i < n → ∀ j, j < n → ro_iv n (ro_rv n (ro_rv n (ro_sw ro_id i j))) (n * n) = ro_du i j := by decide +kernel
theorem ro_F9e : ∀ n, n < 6 → 2 ≤ n → ∀ i, i < n → ∀ j, j < n → ∀ x, x < n → ro_rv n (ro_rv n (ro_sw ro_id i j)) x = ro_sw ro_id i j x := by decide +kernel
theorem ro_F10 : ∀ n, n < 6 → 2 ≤ n → ∀ i, i < n → ∀ j, j < n → ∀ o, o < 2 → ro_bl n o ro_id (ro_sw ro_id i j) = true := by decide +kernel
theorem ro_F10a : ∀ n, n < 6 → 2 ≤ n → ∀ i, i < n → ∀ j, j < n → ro_gc (ro_C1 n) (ro_rk n (ro_sw ro_id i j) n) ≤ ro_gc (ro_C0 n) (ro_rk n (ro_sw ro_id i j) n) := by decide +kernel
theorem ro_F10b : ∀ n, n < 6 → 2 ≤ n → ∀ i, i < n → ∀ j, j < n → ro_gc (ro_C0 n) (ro_rk n (ro_sw ro_id i j) n) < 2147483648 := by decide +kernel
theorem ro_F10c : ∀ n, n < 6 → 2 ≤ n → ∀ i, i < n → ∀ j, j < n → ro_gp i j < 2 → ro_gc (ro_C1 n) (ro_rk n (ro_sw ro_id i j) n) = 1 := by decide +kernel
theorem ro_F10d : ∀ n, n < 6 → 2 ≤ n → ∀ i, i < n → ∀ j, j < n → ro_gp i j = 2 → ro_gc (ro_C1 n) (ro_rk n (ro_sw ro_id i j) n) = 2 := by decide +kernel
theorem ro_F11 : ∀ n, n < 6 → 2 ≤ n → ro_pt n n (ro_ls n + 1) 0 = false ∧ ro_pt n n (10 * ro_ls n) 0 = false ∧ ro_pt n n 0 0 = false := by decide +kernel
theorem ro_F12 : ∀ n, n < 6 → 2 ≤ n → ro_gc (ro_C0 n) 0 = 1 ∧ ro_gc (ro_C1 n) 0 = 1 ∧ ro_gc (ro_C1 n) (ro_f n - 1) = ro_wd n := by decide +kernel
theorem ro_wy0 {n : Nat} (h2 : 2 ≤ n) (h5 : n ≤ 5) (q : Nat → Nat) : ro_wy n 0 ro_id q = ro_gc (ro_C0 n) (ro_rk n q n) := by
  unfold ro_wy
  rw [(ro_F1 n (by omega) h2).2.1]
  rcases ro_four h2 h5 with rfl | rfl | rfl | rfl
  · rw [ro_C02]
  · rw [ro_C03]
  · rw [ro_C04]
  · rw [ro_C05]
theorem ro_wy1' {n : Nat} (h2 : 2 ≤ n) (h5 : n ≤ 5) (q : Nat → Nat) : ro_wy n 1 ro_id q = ro_gc (ro_C1 n) (ro_rk n q n) := by
  unfold ro_wy
  rw [(ro_F1 n (by omega) h2).2.1]
  rcases ro_four h2 h5 with rfl | rfl | rfl | rfl
  · rw [ro_C12]
  · rw [ro_C13]
  · rw [ro_C14]
  · rw [ro_C15]
theorem ro_wyII {n : Nat} (h2 : 2 ≤ n) (h5 : n ≤ 5) {o : Nat} (ho : o ≤ 1) : ro_wy n o ro_id ro_id = 1 := by
  have : o = 0 ∨ o = 1 := by omega
  rcases this with rfl | rfl
  · rw [ro_wy0 h2 h5, (ro_F1 n (by omega) h2).2.1, (ro_F12 n (by omega) h2).1]
  · rw [ro_wy1' h2 h5, (ro_F1 n (by omega) h2).2.1, (ro_F12 n (by omega) h2).2.1]
theorem ro_wyIM {n : Nat} (h2 : 2 ≤ n) (h5 : n ≤ 5) : ro_wy n 1 ro_id (ro_mo n) = ro_wd n := by
  rw [ro_wy1' h2 h5, (ro_F6 n (by omega) h2).2.1, (ro_F12 n (by omega) h2).2.2]
theorem ro_cong {a : Nat → Int32} {b n : Nat} {p q : Nat → Nat} (h : ro_Row a b n p) (e : ∀ i, i < n → p i = q i) : ro_Row a b n q := by
  intro i hi
  rw [← e i hi]
  exact h i hi
theorem ro_keep10 {a d : Nat → Int32} {b n : Nat} {p : Nat → Nat} (h : ro_Row a b n p) (hb : b + n ≤ 10) (hk : ∀ m, m < 10 → d m = a m) : ro_Row d b n p := ro_keep h (fun j _ hj => hk j (by omega))
end
section
/-! the law from its end -/
theorem ro_putF {P : Int32 → St2 → Prop} {T x y : Int32} {a1 a2 a3 a4 : Nat → Int32} {n c : Nat} (h2 : 2 ≤ n) (h5 : n ≤ 5) (hc : c < 2 ^ 31) (hy : y = nI c) (hF : ro_pt n n c 0 = false) (H : ∀ d, (∀ m, m < 10 → d m = a1 m) → P (-1000) (nI n, T, d, a2, a3, a4)) : wpX_put P (nI n, T, a1, a2, a3, a4) x y := by
  by_cases h0 : x = 0
  · exact ro_put (e := 0) h2 h5 (by omega) hc h0 hy (fun _ => H) (fun t => absurd (hF.symm.trans t) (by decide))
  · by_cases h1 : x = 1
    · exact ro_put (e := 1) h2 h5 (by omega) hc h1 hy (fun _ => H) (fun t => absurd (hF.symm.trans t) (by decide))
    · exact ro_putB (Or.inl ⟨h0, h1⟩) (H a1 (fun _ _ => rfl))
theorem ro_putL {P : Int32 → St2 → Prop} {T x : Int32} {a1 a2 a3 a4 : Nat → Int32} {n e : Nat} (h2 : 2 ≤ n) (h5 : n ≤ 5) (he : e ≤ 1) (hx : x = nI e) (H : ∀ d, (∀ m, m < 10 → (m < 5 * e ∨ 5 * e + n ≤ m) → d m = a1 m) → ro_Row d (5 * e) n ro_id → P 0 (nI n, T, d, a2, a3, a4)) : wpX_put P (nI n, T, a1, a2, a3, a4) x (nI (ro_ls n)) := by
  obtain ⟨f1, f2⟩ := ro_F5l n (by omega) h2
  have l := ro_ls_lt n (by omega) h2
  exact ro_put h2 h5 he (by omega) hx rfl (fun t => absurd (f1.symm.trans t) (by decide)) (fun _ d k r => H d k (ro_cong r f2))
theorem ro_putM {P : Int32 → St2 → Prop} {T x : Int32} {a1 a2 a3 a4 : Nat → Int32} {n e : Nat} (h2 : 2 ≤ n) (h5 : n ≤ 5) (he : e ≤ 1) (hx : x = nI e) (H : ∀ d, (∀ m, m < 10 → (m < 5 * e ∨ 5 * e + n ≤ m) → d m = a1 m) → ro_Row d (5 * e) n (ro_mo n) → P 0 (nI n, T, d, a2, a3, a4)) : wpX_put P (nI n, T, a1, a2, a3, a4) x (nI (ro_ms n)) := by
  obtain ⟨f1, f2⟩ := ro_F5 n (by omega) h2
  have l := ro_ms_lt n (by omega) h2
  exact ro_put h2 h5 he (by omega) hx rfl (fun t => absurd (f1.symm.trans t) (by decide)) (fun _ d k r => H d k (ro_cong r f2))
theorem ro_L1099 {post : Int32 → St0 → Prop} {mc ms kc ks n : Nat} {x1 T : Int32} {a1 a2 a3 a4 : Nat → Int32} (h2 : 2 ≤ n) (h5 : n ≤ 5) (H : post 1 ()) : wL_lawOf_1099 post mc ms x1 (nI n) (nI (ro_ls n)) (-1000) kc ks (nI n) T a1 a2 a3 a4 := by
  have l := ro_ls_lt n (by omega) h2
  obtain ⟨f1, f2, f3⟩ := ro_F11 n (by omega) h2
  unfold wL_lawOf_1099
  refine ro_putF (c := 10 * ro_ls n) h2 h5 l (pk_mul 10 _) f2 (fun d _ => br_t rfl ?_)
  refine ro_putB (Or.inl ⟨by decide, by decide⟩) (br_t rfl ?_)
  refine ro_putF (c := 0) h2 h5 (by decide) rfl f3 (fun d _ => br_t rfl ?_)
  refine ro_stepsB (Or.inr ⟨by decide, by decide⟩) (br_t rfl ?_)
  refine ro_stepsB (Or.inl ⟨by decide, by decide⟩) (br_t rfl ?_)
  exact ro_exchangeB (Or.inr (Or.inl (Or.inr (nI_nlt (Nat.le_refl n) (by omega))))) (br_t rfl (ro_invertB (by decide) (by decide) (br_t rfl H)))
theorem ro_L1080 {post : Int32 → St0 → Prop} {mc ms kc ks n : Nat} {x1 T : Int32} {a1 a2 a3 a4 : Nat → Int32} (h2 : 2 ≤ n) (h5 : n ≤ 5) (H : post 1 ()) : wL_lawOf_1080 post mc ms x1 (nI n) (nI (ro_ls n)) (-1000) kc ks (nI n) T a1 a2 a3 a4 := by
  have l := ro_ls_lt n (by omega) h2
  obtain ⟨f1, f2, f3⟩ := ro_F11 n (by omega) h2
  unfold wL_lawOf_1080
  exact ro_putF (c := ro_ls n + 1) h2 h5 (by omega) (nI_1 _) f1 (fun d _ => br_f (by decide) (ro_L1099 h2 h5 H))
theorem ro_L1039 {post : Int32 → St0 → Prop} {mc ms kc ks n : Nat} {x1 x2 x14 T : Int32} {a1 a2 a3 a4 : Nat → Int32} (h2 : 2 ≤ n) (h5 : n ≤ 5) (h14 : x1 = 0 ∨ x1 = 1 → ¬ x14 = 0) (H : post 1 ()) : wL_lawOf_1039 post mc ms x1 x2 (nI n) (nI (ro_ls n)) (-1000) x14 kc ks (nI n) T a1 a2 a3 a4 := by
  have bad : ∀ b1 : Nat → Int32, wL_lawOf_1060 post mc ms x1 x2 (nI n) (nI (ro_ls n)) (-1000) x14 (-1000) kc ks (nI n) T b1 a2 a3 a4 := fun b1 => br_f (by decide) (ro_L1080 h2 h5 H)
  have go : ∀ e, e ≤ 1 → x1 = nI e → ¬ x14 = 0 → wL_lawOf_1039 post mc ms x1 x2 (nI n) (nI (ro_ls n)) (-1000) x14 kc ks (nI n) T a1 a2 a3 a4 := by
    intro e he hx h
    unfold wL_lawOf_1039
    by_cases hn : x2 < 0
    · exact ro_putB (Or.inr (Int32.not_le.mpr hn)) (br_f (by decide) (br_t rfl (bad a1)))
    · obtain ⟨c, hc, hx2⟩ := nI_of hn
      refine ro_put h2 h5 he hc hx hx2 (fun _ d _ => br_f (by decide) (br_t rfl (bad d))) (fun t d _ r => br_t rfl (br_t rfl (ro_code h5 he hx r (br_t ?_ (br_f h (ro_L1080 h2 h5 H))))))
      rw [ro_cd_dg (ro_pt_lt n n c 0 t) n (Nat.le_refl n), Nat.sub_self, Nat.pow_zero, Nat.div_one, hx2]
  by_cases h0 : x1 = 0
  · exact go 0 (by omega) h0 (h14 (Or.inl h0))
  · by_cases h1 : x1 = 1
    · exact go 1 (by omega) h1 (h14 (Or.inr h1))
    · unfold wL_lawOf_1039
      exact ro_putB (Or.inl ⟨h0, h1⟩) (br_f (by decide) (br_t rfl (bad a1)))
theorem ro_other {a d : Nat → Int32} {e n : Nat} {p : Nat → Nat} (he : e ≤ 1) (h5 : n ≤ 5) (h : ro_Row a (5 * (1 - e)) n p) (k : ∀ m, m < 10 → (m < 5 * e ∨ 5 * e + n ≤ m) → d m = a m) : ro_Row d (5 * (1 - e)) n p := ro_keep h (fun j h1 h2 => k j (by omega) (by omega))
theorem ro_L1019 {post : Int32 → St0 → Prop} {mc ms kc ks n i j : Nat} {x2 x14 z0 z1 : Int32} {a1 a2 a3 a4 : Nat → Int32} (h2 : 2 ≤ n) (h5 : n ≤ 5) (hT : ro_Tab n a2 a3) (hi : i < n) (hj : j < n) (h14 : ¬ x14 = 0) (hz : z1 = z0) (hp : ro_Row a1 0 n ro_id) (hq : ro_Row a1 5 n (ro_sw ro_id i j)) (H : post 1 ()) : wL_lawOf_1019 post mc ms (nI 1) x2 (nI n) (nI (ro_ls n)) (-1000) x14 z0 z1 kc ks (nI n) (nI (ro_f n)) a1 a2 a3 a4 := by
  refine br_t hz (ro_ways (o := 0) h2 h5 (by omega) rfl hT hp hq (fun d1 d4 k => ro_ways (o := 1) h2 h5 (by omega) rfl hT (ro_keep10 hp (by omega) k) (ro_keep10 hq (by omega) k) (fun e1 e4 k' => br_t ?_ (ro_L1039 h2 h5 (fun _ => h14) H))))
  rw [ro_wy0 h2 h5, ro_wy1' h2 h5]
  exact nI_le (ro_F10a n (by omega) h2 i hi j hj) (ro_F10b n (by omega) h2 i hi j hj)
theorem ro_L939 {post : Int32 → St0 → Prop} {mc ms kc ks n e i j : Nat} {x1 x2 x14 x18 x19 z0 z1 : Int32} {a1 a2 a3 a4 : Nat → Int32} (h2 : 2 ≤ n) (h5 : n ≤ 5) (hT : ro_Tab n a2 a3) (he : e ≤ 1) (hx : x1 = nI e) (hi : i < n) (hj : j < n) (h14 : ¬ x14 = 0) (h18 : x18 = 0 ∨ (¬ x18 = 0 ∧ x19 = nI (ro_gp i j))) (hz : z1 = z0) (hp : ro_Row a1 (5 * e) n (ro_sw ro_id i j)) (H : post 1 ()) : wL_lawOf_939 post mc ms x1 x2 (nI n) (nI (ro_ls n)) (-1000) x14 x18 x19 z0 z1 kc ks (nI n) (nI (ro_f n)) a1 a2 a3 a4 := by
  rcases h18 with h18 | ⟨h18, h19⟩
  · exact br_t hz (br_t h18 (ro_L1039 h2 h5 (fun _ => h14) H))
  · subst hx h19
    have hcase : e = 0 ∨ e = 1 := by omega
    rcases hcase with rfl | rfl
    · exact br_t hz (br_f h18 (ro_putL (e := 1) h2 h5 (by omega) (by decide) (fun d k r => br_t rfl (br_f (by decide) (ro_L1039 h2 h5 (fun _ => h14) H)))))
    · refine br_t hz (br_f h18 (ro_putL (e := 0) h2 h5 (by omega) (by decide) (fun d k r => br_t rfl (br_t rfl ?_))))
      have hq : ro_Row d 5 n (ro_sw ro_id i j) := ro_keep hp (fun m h1 h2 => k m (by omega) (by omega))
      have hgp : ro_gp i j < 5 := by unfold ro_gp; split <;> omega
      refine ro_below (o := 0) h2 h5 (by omega) rfl r hq ?_
      rw [ro_F10 n (by omega) h2 i hi j hj 0 (by omega)]
      refine br_t rfl (ro_below (o := 1) h2 h5 (by omega) rfl r hq ?_)
      rw [ro_F10 n (by omega) h2 i hi j hj 1 (by omega)]
      refine br_t rfl (ro_ways (o := 1) h2 h5 (by omega) rfl hT r hq (fun d1 d4 k1 => ?_))
      have r1 : ro_Row d1 0 n ro_id := ro_keep10 r (by omega) k1
      have q1 : ro_Row d1 5 n (ro_sw ro_id i j) := ro_keep10 hq (by omega) k1
      rw [ro_wy1' h2 h5]
      refine pk_le 2 (ro_gp i j) (fun z => pk_eq (ro_gp i j) 2 (fun y => ro_L1019 h2 h5 hT hi hj h14 ?_ r1 q1 H) (fun y => ro_ways (o := 1) h2 h5 (by omega) rfl hT r1 q1 (fun e1 e4 k2 => ro_L1019 h2 h5 hT hi hj h14 ?_ (ro_keep10 r1 (by omega) k2) (ro_keep10 q1 (by omega) k2) H))) (fun z => ro_L1019 h2 h5 hT hi hj h14 ?_ r1 q1 H)
      · rw [ro_F10d n (by omega) h2 i hi j hj y]
        rfl
      · rw [ro_wy1' h2 h5]
      · rw [ro_F10c n (by omega) h2 i hi j hj z]
        rfl
theorem ro_L918 {post : Int32 → St0 → Prop} {mc ms kc ks n e i j : Nat} {x1 x2 x14 x18 x19 z0 z1 : Int32} {a1 a2 a3 a4 : Nat → Int32} (h2 : 2 ≤ n) (h5 : n ≤ 5) (hT : ro_Tab n a2 a3) (he : e ≤ 1) (hx : x1 = nI e) (hi : i < n) (hj : j < n) (h14 : ¬ x14 = 0) (h18 : x18 = 0 ∨ (¬ x18 = 0 ∧ x19 = nI (ro_gp i j))) (hz : z1 = z0) (hp : ro_Row a1 (5 * e) n (ro_rv n (ro_sw ro_id i j))) (H : post 1 ()) : wL_lawOf_918 post mc ms x1 x2 (nI n) (nI (ro_ls n)) (-1000) x14 x18 x19 (nI (ro_du i j)) z0 z1 kc ks (nI n) (nI (ro_f n)) a1 a2 a3 a4 := by
  refine br_t hz (ro_reverse h2 h5 he hx hp (fun d _ r => br_f h14 (ro_L939 h2 h5 hT he hx hi hj h14 h18 ?_ (ro_cong r (ro_F9e n (by omega) h2 i hi j hj)) H)))
  rw [ro_F9d n (by omega) h2 i hi j hj]
theorem ro_L873 {post : Int32 → St0 → Prop} {mc ms kc ks n e i j : Nat} {x1 x2 x14 x18 x19 z0 z1 : Int32} {a1 a2 a3 a4 : Nat → Int32} (h2 : 2 ≤ n) (h5 : n ≤ 5) (hT : ro_Tab n a2 a3) (he : e ≤ 1) (hx : x1 = nI e) (hi : i < n) (hj : j < n) (h14 : ¬ x14 = 0) (h18 : x18 = 0 ∨ (¬ x18 = 0 ∧ x19 = nI (ro_gp i j))) (hz : z1 = z0) (hp : ro_Row a1 (5 * e) n (ro_sw ro_id i j)) (H : post 1 ()) : wL_lawOf_873 post mc ms x1 x2 (nI n) (nI (ro_tp n)) (nI (ro_ls n)) (-1000) x14 x18 x19 (nI (ro_du i j)) z0 z1 kc ks (nI n) (nI (ro_f n)) a1 a2 a3 a4 := by
  refine br_t hz (ro_invert h2 h5 he hx hp (ro_F9a n (by omega) h2 i hi j hj) (fun d _ r => br_f h14 (br_t ?_ (ro_reverse h2 h5 he hx r (fun d' _ r' => br_f h14 (ro_L918 h2 h5 hT he hx hi hj h14 h18 ?_ r' H))))))
  · rw [ro_F8a n (by omega) h2 i hi j hj]
  · rw [ro_F9c n (by omega) h2 i hi j hj, pk_sub (ro_F9b n (by omega) h2 i hi j hj)]
theorem ro_L873B {post : Int32 → St0 → Prop} {mc ms kc ks n : Nat} {x1 x2 x14 x18 x19 x20 z0 z1 T : Int32} {a1 a2 a3 a4 : Nat → Int32} (h2 : 2 ≤ n) (h5 : n ≤ 5) (h0 : ¬ x1 = 0) (h1 : ¬ x1 = 1) (h14 : x14 = 0) (h18 : x18 = 0) (hz : z1 = z0) (H : post 1 ()) : wL_lawOf_873 post mc ms x1 x2 (nI n) (nI (ro_tp n)) (nI (ro_ls n)) (-1000) x14 x18 x19 x20 z0 z1 kc ks (nI n) T a1 a2 a3 a4 :=
  br_t hz (ro_invertB h0 h1 (br_t h14 (br_t rfl (ro_reverseB h0 h1 (br_t h14 (br_t rfl (ro_reverseB h0 h1 (br_t h14 (br_t rfl (br_t h18 (ro_L1039 h2 h5 (fun t => t.elim (fun g => absurd g h0) (fun g => absurd g h1)) H)))))))))))
/-- the three ways that an element and two places can be given -/
def ro_Sit (n : Nat) (x1 x3 x4 x14 x18 x19 x20 : Int32) : Prop :=
  (∃ e i j, e ≤ 1 ∧ i < n ∧ j < n ∧ x1 = nI e ∧ x3 = nI i ∧ x4 = nI j ∧ ¬ x14 = 0 ∧ ¬ x18 = 0 ∧ x19 = nI (ro_gp i j) ∧ x20 = nI (ro_du i j))
  ∨ (∃ e, e ≤ 1 ∧ x1 = nI e ∧ ((x3 < 0 ∨ ¬ x3 < nI n) ∨ (x4 < 0 ∨ ¬ x4 < nI n)) ∧ ¬ x14 = 0 ∧ x18 = 0 ∧ x20 = 0)
  ∨ (¬ x1 = 0 ∧ ¬ x1 = 1 ∧ x14 = 0 ∧ x18 = 0)
theorem ro_both {d : Nat → Int32} {e n : Nat} {p : Nat → Nat} (he : e ≤ 1) (h0 : ro_Row d 0 n p) (h1 : ro_Row d 5 n p) : ro_Row d (5 * e) n p := by
  have : e = 0 ∨ e = 1 := by omega
  rcases this with rfl | rfl
  · exact h0
  · exact h1
theorem ro_sw00 (x : Nat) : ro_id x = ro_sw ro_id 0 0 x := by
  unfold ro_sw
  split
  · next h => rw [h]
  · rfl
theorem ro_L825 {post : Int32 → St0 → Prop} {mc ms kc ks n : Nat} {x1 x2 x3 x4 x14 x18 x19 x20 z0 z1 : Int32} {a1 a2 a3 a4 : Nat → Int32} (h2 : 2 ≤ n) (h5 : n ≤ 5) (hT : ro_Tab n a2 a3) (hS : ro_Sit n x1 x3 x4 x14 x18 x19 x20) (hz : z1 = z0) (hp : ro_Row a1 0 n ro_id) (H : post 1 ()) : wL_lawOf_825 post mc ms x1 x2 x3 x4 (nI n) (nI (ro_tp n)) (nI (ro_ls n)) (-1000) x14 x18 x19 x20 z0 z1 kc ks (nI n) (nI (ro_f n)) a1 a2 a3 a4 := by
  refine br_t hz (ro_code (e := 0) h5 (by omega) rfl hp (br_t ?_ (ro_putL (e := 1) h2 h5 (by omega) rfl (fun d k r => br_t rfl ?_))))
  · rw [(ro_F1 n (by omega) h2).1]
  · have r0 : ro_Row d 0 n ro_id := ro_keep hp (fun m h1 h2 => k m (by omega) (by omega))
    rcases hS with ⟨e, i, j, he, hi, hj, hx1, hx3, hx4, h14, h18, h19, h20⟩ | ⟨e, he, hx1, hb, h14, h18, h20⟩ | ⟨h0, h1, h14, h18⟩
    · subst h20
      refine ro_exchange h2 h5 he hi hj hx1 hx3 hx4 (ro_both he r0 r) (fun d' _ r' => br_f h18 (ro_L873 h2 h5 hT he hx1 hi hj h14 (Or.inr ⟨h18, h19⟩) ?_ r' H))
      rw [ro_F8a n (by omega) h2 i hi j hj]
    · subst h20
      exact ro_exchangeB (Or.inr hb) (br_t h18 (ro_L873 (i := 0) (j := 0) h2 h5 hT he hx1 (by omega) (by omega) h14 (Or.inl h18) rfl (ro_cong (ro_both he r0 r) (fun x _ => ro_sw00 x)) H))
    · exact ro_exchangeB (Or.inl ⟨h0, h1⟩) (br_t h18 (ro_L873B h2 h5 h0 h1 h14 h18 rfl H))
end
section
/-! the law's middle: two places, one element -/
theorem ro_L797g {post : Int32 → St0 → Prop} {mc ms kc ks n i j : Nat} {x1 x2 x3 x4 x14 x16 x17 x18 x19 x20 z0 z1 : Int32} {a1 a2 a3 a4 : Nat → Int32} (h2 : 2 ≤ n) (h5 : n ≤ 5) (hT : ro_Tab n a2 a3) (hS : ro_Sit n x1 x3 x4 x14 x18 x19 x20) (hi : i < n) (hj : j < n) (hx3 : x3 = nI i) (hx4 : x4 = nI j) (h16 : ¬ x16 = 0) (h17 : ¬ x17 = 0) (hz : z1 = z0) (hp : ro_Row a1 0 n (ro_sw ro_id i j)) (H : post 1 ()) : wL_lawOf_797 post mc ms x1 x2 x3 x4 (nI n) (nI (ro_tp n)) (nI (ro_ls n)) (-1000) x14 x16 x17 x18 x19 x20 z0 z1 kc ks (nI n) (nI (ro_f n)) a1 a2 a3 a4 := by
  refine br_t hz (ro_exchange (e := 0) h2 h5 (by omega) hi hj rfl hx3 hx4 hp (fun d _ r => br_f h16 (br_f h17 (ro_L825 h2 h5 hT hS ?_ (ro_cong r (ro_F8c n (by omega) h2 i hi j hj)) H))))
  rw [ro_F8b n (by omega) h2 i hi j hj]
  rfl
theorem ro_L797b {post : Int32 → St0 → Prop} {mc ms kc ks n : Nat} {x1 x2 x3 x4 x14 x16 x17 x18 x19 x20 z0 z1 : Int32} {a1 a2 a3 a4 : Nat → Int32} (h2 : 2 ≤ n) (h5 : n ≤ 5) (hT : ro_Tab n a2 a3) (hS : ro_Sit n x1 x3 x4 x14 x18 x19 x20) (hb : (x3 < 0 ∨ ¬ x3 < nI n) ∨ (x4 < 0 ∨ ¬ x4 < nI n)) (hc : x16 = 0 ∨ x17 = 0) (hz : z1 = z0) (hp : ro_Row a1 0 n ro_id) (H : post 1 ()) : wL_lawOf_797 post mc ms x1 x2 x3 x4 (nI n) (nI (ro_tp n)) (nI (ro_ls n)) (-1000) x14 x16 x17 x18 x19 x20 z0 z1 kc ks (nI n) (nI (ro_f n)) a1 a2 a3 a4 := by
  have K : wL_lawOf_823 post mc ms x1 x2 x3 x4 (nI n) (nI (ro_tp n)) (nI (ro_ls n)) (-1000) x14 x18 x19 x20 (-1000) kc ks (nI n) (nI (ro_f n)) a1 a2 a3 a4 := ro_L825 h2 h5 hT hS rfl hp H
  exact br_t hz (ro_exchangeB (Or.inr hb) (br_c (fun _ => K) (fun h => br_c (fun _ => K) (fun h' => absurd hc (fun t => t.elim h h')))))
theorem ro_L755g {post : Int32 → St0 → Prop} {mc ms kc ks n i j : Nat} {x1 x2 x3 x4 x14 x16 x17 x18 x19 x20 : Int32} {a1 a2 a3 a4 : Nat → Int32} (h2 : 2 ≤ n) (h5 : n ≤ 5) (hT : ro_Tab n a2 a3) (hS : ro_Sit n x1 x3 x4 x14 x18 x19 x20) (hi : i < n) (hj : j < n) (hx3 : x3 = nI i) (hx4 : x4 = nI j) (h16 : ¬ x16 = 0) (h17 : ¬ x17 = 0) (h19 : x19 = nI (ro_gp i j)) (hp : ro_Row a1 0 n ro_id) (H : post 1 ()) : wL_lawOf_755 post mc ms x1 x2 x3 x4 (nI n) (nI (ro_tp n)) (nI (ro_ls n)) (-1000) x14 x16 x17 x18 x19 x20 kc ks (nI n) (nI (ro_f n)) a1 a2 a3 a4 := by
  refine ro_exchange (e := 0) h2 h5 (by omega) hi hj rfl hx3 hx4 hp (fun d _ r => br_f h16 (br_f h17 (pk_eq i j (fun z => ro_L797g h2 h5 hT hS hi hj hx3 hx4 h16 h17 ?_ r H) (fun z => ro_L797g h2 h5 hT hS hi hj hx3 hx4 h16 h17 ?_ r H) hx3 hx4)))
  · rw [ro_F8a n (by omega) h2 i hi j hj]
    unfold ro_du
    rw [if_pos z]
    rfl
  · rw [ro_F8a n (by omega) h2 i hi j hj, h19]
    unfold ro_du
    rw [if_neg z, show (2 : Int32) * nI (ro_gp i j) = nI (2 * ro_gp i j) from pk_mul 2 _]
    have : 1 ≤ ro_gp i j := by unfold ro_gp; split <;> omega
    exact (pk_sub (b := 1) (by omega)).symm
theorem ro_L755b {post : Int32 → St0 → Prop} {mc ms kc ks n : Nat} {x1 x2 x3 x4 x14 x16 x17 x18 x19 x20 : Int32} {a1 a2 a3 a4 : Nat → Int32} (h2 : 2 ≤ n) (h5 : n ≤ 5) (hT : ro_Tab n a2 a3) (hS : ro_Sit n x1 x3 x4 x14 x18 x19 x20) (hb : (x3 < 0 ∨ ¬ x3 < nI n) ∨ (x4 < 0 ∨ ¬ x4 < nI n)) (hc : x16 = 0 ∨ x17 = 0) (hp : ro_Row a1 0 n ro_id) (H : post 1 ()) : wL_lawOf_755 post mc ms x1 x2 x3 x4 (nI n) (nI (ro_tp n)) (nI (ro_ls n)) (-1000) x14 x16 x17 x18 x19 x20 kc ks (nI n) (nI (ro_f n)) a1 a2 a3 a4 := by
  have K : wL_lawOf_795 post mc ms x1 x2 x3 x4 (nI n) (nI (ro_tp n)) (nI (ro_ls n)) (-1000) x14 x16 x17 x18 x19 x20 (-1000) kc ks (nI n) (nI (ro_f n)) a1 a2 a3 a4 := ro_L797b h2 h5 hT hS hb hc rfl hp H
  exact ro_exchangeB (Or.inr hb) (br_c (fun _ => K) (fun h => br_c (fun _ => K) (fun h' => absurd hc (fun t => t.elim h h'))))
/-- an element, and its mark -/
def ro_E (x w : Int32) : Prop := (∃ e, e ≤ 1 ∧ x = nI e ∧ ¬ w = 0) ∨ (¬ x = 0 ∧ ¬ x = 1 ∧ w = 0)
/-- a place, and its mark -/
def ro_I (n : Nat) (x w : Int32) : Prop := (∃ i, i < n ∧ x = nI i ∧ ¬ w = 0) ∨ ((x < 0 ∨ ¬ x < nI n) ∧ w = 0)
theorem ro_L732g {post : Int32 → St0 → Prop} {mc ms kc ks n i j : Nat} {x1 x2 x3 x4 x14 x16 x17 x18 x19 : Int32} {a1 a2 a3 a4 : Nat → Int32} (h2 : 2 ≤ n) (h5 : n ≤ 5) (hT : ro_Tab n a2 a3) (hE : ro_E x1 x14) (hi : i < n) (hj : j < n) (hx3 : x3 = nI i) (hx4 : x4 = nI j) (h16 : ¬ x16 = 0) (h17 : ¬ x17 = 0) (h18 : (¬ x18 = 0 ∧ ¬ x14 = 0) ∨ (x18 = 0 ∧ x14 = 0)) (h19 : x19 = nI (ro_gp i j)) (hp : ro_Row a1 0 n ro_id) (H : post 1 ()) : wL_lawOf_732 post mc ms x1 x2 x3 x4 (nI n) (nI (ro_tp n)) (nI (ro_ls n)) (-1000) x14 x16 x17 x18 x19 kc ks (nI n) (nI (ro_f n)) a1 a2 a3 a4 := by
  rcases h18 with ⟨h18, h14⟩ | ⟨h18, h14⟩
  · obtain ⟨e, he, hx1, _⟩ : ∃ e, e ≤ 1 ∧ x1 = nI e ∧ ¬ x14 = 0 := by
      rcases hE with h | h
      · exact h
      · exact absurd h.2.2 h14
    refine br_f h18 (pk_eq i j (fun z => ro_L755g h2 h5 hT (Or.inl ⟨e, i, j, he, hi, hj, hx1, hx3, hx4, h14, h18, h19, ?_⟩) hi hj hx3 hx4 h16 h17 h19 hp H) (fun z => ro_L755g h2 h5 hT (Or.inl ⟨e, i, j, he, hi, hj, hx1, hx3, hx4, h14, h18, h19, ?_⟩) hi hj hx3 hx4 h16 h17 h19 hp H) hx3 hx4)
    · unfold ro_du
      rw [if_pos z]
      rfl
    · unfold ro_du
      have : 1 ≤ ro_gp i j := by unfold ro_gp; split <;> omega
      rw [if_neg z, h19, show (2 : Int32) * nI (ro_gp i j) = nI (2 * ro_gp i j) from pk_mul 2 _]
      exact pk_sub (b := 1) (by omega)
  · have hx : ¬ x1 = 0 ∧ ¬ x1 = 1 ∧ x14 = 0 := by
      rcases hE with ⟨e, _, _, h⟩ | h
      · exact absurd h14 h
      · exact h
    exact br_t h18 (ro_L755g h2 h5 hT (Or.inr (Or.inr ⟨hx.1, hx.2.1, h14, h18⟩)) hi hj hx3 hx4 h16 h17 h19 hp H)
theorem ro_L732b {post : Int32 → St0 → Prop} {mc ms kc ks n : Nat} {x1 x2 x3 x4 x14 x16 x17 x18 x19 : Int32} {a1 a2 a3 a4 : Nat → Int32} (h2 : 2 ≤ n) (h5 : n ≤ 5) (hT : ro_Tab n a2 a3) (hE : ro_E x1 x14) (hb : (x3 < 0 ∨ ¬ x3 < nI n) ∨ (x4 < 0 ∨ ¬ x4 < nI n)) (hc : x16 = 0 ∨ x17 = 0) (h18 : x18 = 0) (hp : ro_Row a1 0 n ro_id) (H : post 1 ()) : wL_lawOf_732 post mc ms x1 x2 x3 x4 (nI n) (nI (ro_tp n)) (nI (ro_ls n)) (-1000) x14 x16 x17 x18 x19 kc ks (nI n) (nI (ro_f n)) a1 a2 a3 a4 := by
  have hS : ro_Sit n x1 x3 x4 x14 x18 x19 0 := by
    rcases hE with ⟨e, he, hx1, h14⟩ | ⟨g0, g1, h14⟩
    · exact Or.inr (Or.inl ⟨e, he, hx1, hb, h14, h18, rfl⟩)
    · exact Or.inr (Or.inr ⟨g0, g1, h14, h18⟩)
  exact br_t h18 (ro_L755b h2 h5 hT hS hb hc hp H)
theorem ro_L713 {post : Int32 → St0 → Prop} {mc ms kc ks n : Nat} {x1 x2 x3 x4 x14 x16 x17 x18 : Int32} {a1 a2 a3 a4 : Nat → Int32} (h2 : 2 ≤ n) (h5 : n ≤ 5) (hT : ro_Tab n a2 a3) (hE : ro_E x1 x14) (hI : ro_I n x3 x16) (hJ : ro_I n x4 x17) (h18 : (¬ x18 = 0 ∧ ¬ x14 = 0 ∧ ¬ x16 = 0 ∧ ¬ x17 = 0) ∨ (x18 = 0 ∧ (x14 = 0 ∨ x16 = 0 ∨ x17 = 0))) (hp : ro_Row a1 0 n ro_id) (H : post 1 ()) : wL_lawOf_713 post mc ms x1 x2 x3 x4 (nI n) (nI (ro_tp n)) (nI (ro_ls n)) (-1000) x14 x16 x17 x18 kc ks (nI n) (nI (ro_f n)) a1 a2 a3 a4 := by
  have bad : ((x3 < 0 ∨ ¬ x3 < nI n) ∨ (x4 < 0 ∨ ¬ x4 < nI n)) → (x16 = 0 ∨ x17 = 0) → wL_lawOf_713 post mc ms x1 x2 x3 x4 (nI n) (nI (ro_tp n)) (nI (ro_ls n)) (-1000) x14 x16 x17 x18 kc ks (nI n) (nI (ro_f n)) a1 a2 a3 a4 := by
    intro hb hc
    have e18 : x18 = 0 := by
      rcases h18 with h | h
      · exact absurd hc (fun t => t.elim h.2.2.1 h.2.2.2)
      · exact h.1
    exact br_c (fun _ => ro_L732b h2 h5 hT hE hb hc e18 hp H) (fun _ => ro_L732b h2 h5 hT hE hb hc e18 hp H)
  rcases hI with ⟨i, hi, hx3, h16⟩ | ⟨hb, h16⟩
  · rcases hJ with ⟨j, hj, hx4, h17⟩ | ⟨hb, h17⟩
    · have h18' : (¬ x18 = 0 ∧ ¬ x14 = 0) ∨ (x18 = 0 ∧ x14 = 0) := by
        rcases h18 with h | h
        · exact Or.inl ⟨h.1, h.2.1⟩
        · refine Or.inr ⟨h.1, ?_⟩
          rcases h.2 with t | t | t
          · exact t
          · exact absurd t h16
          · exact absurd t h17
      refine pk_le j i (fun z => ro_L732g h2 h5 hT hE hi hj hx3 hx4 h16 h17 h18' ?_ hp H) (fun z => ro_L732g h2 h5 hT hE hi hj hx3 hx4 h16 h17 h18' ?_ hp H) hx4 hx3
      · unfold ro_gp
        rw [if_pos z, hx3, hx4, pk_sub z]
      · unfold ro_gp
        rw [if_neg (by omega), hx3, hx4, pk_sub (by omega)]
    · exact bad (Or.inr hb) (Or.inr h17)
  · exact bad (Or.inl hb) (Or.inl h16)
theorem ro_L648 {post : Int32 → St0 → Prop} {mc ms kc ks n : Nat} {x1 x2 x3 x4 x14 x16 x17 z0 z1 : Int32} {a1 a2 a3 a4 : Nat → Int32} (h2 : 2 ≤ n) (h5 : n ≤ 5) (hT : ro_Tab n a2 a3) (hE : ro_E x1 x14) (hI : ro_I n x3 x16) (hJ : ro_I n x4 x17) (hz : z1 = z0) (hp : ro_Row a1 0 n ro_id) (hq : ro_Row a1 5 n (ro_mo n)) (H : post 1 ()) : wL_lawOf_648 post mc ms x1 x2 x3 x4 (nI n) (nI (ro_tp n)) (nI (ro_ls n)) (nI (ro_ms n)) (-1000) x14 x16 x17 z0 z1 kc ks (nI n) (nI (ro_f n)) a1 a2 a3 a4 := by
  have eM := ro_F7m n (by omega) h2
  have eJ := ro_F7j n (by omega) h2
  obtain ⟨f1, f2, f3⟩ := ro_F7a n (by omega) h2
  obtain ⟨g1, g2, g3⟩ := ro_F7b n (by omega) h2
  refine br_t hz (ro_meet h2 h5 hp hq (by rw [eM]; exact f1) (fun d k r => ?_))
  rw [eM] at r ⊢
  rw [f3]
  refine br_t rfl ?_
  have hq' : ro_Row d 5 n (ro_mo n) := ro_keep hq (fun m h1 h2 => k m (by omega))
  refine ro_join h2 h5 (ro_cong r f2) hq' (by rw [eJ]; exact g1) (fun d' k' r' => ?_)
  rw [eJ] at r' ⊢
  rw [g3]
  refine br_t rfl (ro_code (e := 0) h5 (by omega) rfl (ro_cong r' g2) (br_t ?_ (ro_putL (e := 0) h2 h5 (by omega) rfl (fun d2 k2 r2 => br_t rfl ?_))))
  · rw [(ro_F6 n (by omega) h2).2.2]
  · have K : (x14 = 0 ∨ x16 = 0 ∨ x17 = 0) → wL_lawOf_712 post mc ms x1 x2 x3 x4 (nI n) (nI (ro_tp n)) (nI (ro_ls n)) (-1000) x14 x16 x17 kc ks (nI n) (nI (ro_f n)) d2 a2 a3 a4 := fun h => ro_L713 h2 h5 hT hE hI hJ (Or.inr ⟨rfl, h⟩) r2 H
    exact br_c (fun h => K (Or.inl h)) (fun h => br_c (fun h' => K (Or.inr (Or.inl h'))) (fun h' => br_c (fun h'' => K (Or.inr (Or.inr h''))) (fun h'' => ro_L713 h2 h5 hT hE hI hJ (Or.inl ⟨by decide, h, h', h''⟩) r2 H)))
theorem ro_odd {n : Nat} (h : n < 2 ^ 31) : nI n &&& 1 = nI (n % 2) := pk_andN (by omega) 1 (by decide)
theorem ro_L626 {post : Int32 → St0 → Prop} {mc ms kc ks n : Nat} {x1 x2 x3 x4 x14 x16 x17 z0 z1 : Int32} {a1 a2 a3 a4 : Nat → Int32} (h2 : 2 ≤ n) (h5 : n ≤ 5) (hT : ro_Tab n a2 a3) (hE : ro_E x1 x14) (hI : ro_I n x3 x16) (hJ : ro_I n x4 x17) (hz : z1 = z0) (hp : ro_Row a1 0 n ro_id) (hq : ro_Row a1 5 n (ro_mo n)) (H : post 1 ()) : wL_lawOf_626 post mc ms x1 x2 x3 x4 (nI n) (nI (ro_tp n)) (nI (ro_ls n)) (nI (ro_ms n)) (-1000) x14 x16 x17 z0 z1 kc ks (nI n) (nI (ro_f n)) a1 a2 a3 a4 := by
  refine br_t hz (ro_sign1Rev h2 h5 rfl hp hq (pk_eq (n % 2) 1 (fun z => ?_) (fun z => ?_) (ro_odd (by omega))))
  · rw [if_neg (by omega)]
    exact ro_L648 h2 h5 hT hE hI hJ rfl hp hq H
  · rw [if_pos (by omega)]
    exact ro_L648 h2 h5 hT hE hI hJ rfl hp hq H
end
section
/-! the law's head -/
theorem ro_L493 {post : Int32 → St0 → Prop} {mc ms kc ks n : Nat} {x1 x2 x3 x4 x14 x16 x17 z0 z1 : Int32} {a1 a2 a3 a4 : Nat → Int32} (h2 : 2 ≤ n) (h5 : n ≤ 5) (hT : ro_Tab n a2 a3) (hE : ro_E x1 x14) (hI : ro_I n x3 x16) (hJ : ro_I n x4 x17) (hz : z1 = z0) (hp : ro_Row a1 0 n ro_id) (H : post 1 ()) : wL_lawOf_493 post mc ms x1 x2 x3 x4 (nI n) (nI (ro_f n)) (nI (ro_tp n)) (nI (ro_ls n)) (nI (ro_ms n)) (nI (ro_wd n)) (-1000) x14 x16 x17 z0 z1 kc ks (nI n) (nI (ro_f n)) a1 a2 a3 a4 := by
  have hf0 := ro_f_pos n
  have htp := ro_tp_lt n (by omega) h2
  obtain ⟨f1, f2, f3⟩ := ro_F6 n (by omega) h2
  refine br_t hz (ro_putM (e := 1) h2 h5 (by omega) rfl (fun d k q1 => br_t rfl ?_))
  have p1 : ro_Row d 0 n ro_id := ro_keep hp (fun m g1 g2 => k m (by omega) (by omega))
  refine ro_inversions (e := 1) h2 h5 (by omega) rfl q1 (br_t (by rw [f1]) ?_)
  refine ro_rank (e := 1) h2 h5 (by omega) rfl q1 (br_t (by rw [f2]; exact (pk_sub (b := 1) (by omega)).symm) ?_)
  refine ro_below (o := 0) h2 h5 (by omega) rfl p1 q1 ?_
  rw [ro_F6b n (by omega) h2 0 (by omega)]
  refine br_t rfl (ro_below (o := 1) h2 h5 (by omega) rfl p1 q1 ?_)
  rw [ro_F6b n (by omega) h2 1 (by omega)]
  refine br_t rfl (ro_interval (o := 0) h2 h5 (by omega) rfl hT p1 q1 (fun d2 k2 => br_t (by rw [ro_F6i n (by omega) h2 0 (by omega)]) ?_))
  have p2 : ro_Row d2 0 n ro_id := ro_keep10 p1 (by omega) k2
  have q2 : ro_Row d2 5 n (ro_mo n) := ro_keep10 q1 (by omega) k2
  refine ro_interval (o := 1) h2 h5 (by omega) rfl hT p2 q2 (fun d3 k3 => br_t (by rw [ro_F6i n (by omega) h2 1 (by omega)]) ?_)
  have p3 : ro_Row d3 0 n ro_id := ro_keep10 p2 (by omega) k3
  have q3 : ro_Row d3 5 n (ro_mo n) := ro_keep10 q2 (by omega) k3
  refine ro_ways (o := 1) h2 h5 (by omega) rfl hT p3 q3 (fun d4 c4 k4 => br_t (by rw [ro_wyIM h2 h5]) ?_)
  have p4 : ro_Row d4 0 n ro_id := ro_keep10 p3 (by omega) k4
  have q4 : ro_Row d4 5 n (ro_mo n) := ro_keep10 q3 (by omega) k4
  refine ro_steps (e := 1) (o := 0) h2 h5 (by omega) (by omega) rfl rfl q4 (fun d5 k5 => br_t (by rw [ro_F6s n (by omega) h2 0 (by omega)]; rfl) ?_)
  have p5 : ro_Row d5 0 n ro_id := ro_keep10 p4 (by omega) k5
  have q5 : ro_Row d5 5 n (ro_mo n) := ro_keep10 q4 (by omega) k5
  refine ro_steps (e := 1) (o := 1) h2 h5 (by omega) (by omega) rfl rfl q5 (fun d6 k6 => br_t (by rw [ro_F6s n (by omega) h2 1 (by omega)]; rfl) ?_)
  have p6 : ro_Row d6 0 n ro_id := ro_keep10 p5 (by omega) k6
  have q6 : ro_Row d6 5 n (ro_mo n) := ro_keep10 q5 (by omega) k6
  have e0 := (ro_F1 n (by omega) h2).2.2
  refine ro_sign0 h2 h5 rfl p6 q6 (ro_F6b n (by omega) h2 0 (by omega)) (by rw [e0]; exact Nat.zero_le _) ?_
  rw [e0, f1, Nat.sub_zero]
  refine pk_eq (ro_tp n % 2) 0 (fun z => ?_) (fun z => ?_) (ro_odd (by omega))
  · rw [if_pos z]
    exact ro_L626 h2 h5 hT hE hI hJ rfl p6 q6 H
  · rw [if_neg z]
    exact ro_L626 h2 h5 hT hE hI hJ rfl p6 q6 H
theorem ro_L463 {post : Int32 → St0 → Prop} {mc ms kc ks n : Nat} {x1 x2 x3 x4 x5 x14 x15 x16 x17 z0 z1 : Int32} {a1 a2 a3 a4 : Nat → Int32} (h2 : 2 ≤ n) (h5 : n ≤ 5) (hT : ro_Tab n a2 a3) (hE : ro_E x1 x14) (hO : ro_E x5 x15) (hI : ro_I n x3 x16) (hJ : ro_I n x4 x17) (hz : z1 = z0) (hp : ro_Row a1 0 n ro_id) (hq : ro_Row a1 5 n ro_id) (H : post 1 ()) : wL_lawOf_463 post mc ms x1 x2 x3 x4 x5 (nI n) (nI (ro_f n)) (nI (ro_tp n)) (nI (ro_ls n)) (nI (ro_ms n)) (nI (ro_wd n)) (-1000) x14 x15 x16 x17 z0 z1 kc ks (nI n) (nI (ro_f n)) a1 a2 a3 a4 := by
  have K : wL_lawOf_491 post mc ms x1 x2 x3 x4 (nI n) (nI (ro_f n)) (nI (ro_tp n)) (nI (ro_ls n)) (nI (ro_ms n)) (nI (ro_wd n)) (-1000) x14 x16 x17 (-1000) kc ks (nI n) (nI (ro_f n)) a1 a2 a3 a4 := ro_L493 h2 h5 hT hE hI hJ rfl hp H
  rcases hE with ⟨e, he, hx1, h14⟩ | ⟨g0, g1, h14⟩
  · rcases hO with ⟨o, ho, hx5, h15⟩ | ⟨g0, g1, h15⟩
    · refine br_t hz (ro_steps h2 h5 he ho hx1 hx5 (ro_both he hp hq) (fun d k => br_f h14 (br_f h15 (ro_L493 h2 h5 hT (Or.inl ⟨e, he, hx1, h14⟩) hI hJ ?_ (ro_keep10 hp (by omega) k) H))))
      rw [ro_F4 n (by omega) h2 o (by omega)]
      exact (pk_sub (b := 1) (by omega)).symm
    · exact br_t hz (ro_stepsB (Or.inr ⟨g0, g1⟩) (br_f h14 (br_t h15 K)))
  · exact br_t hz (ro_stepsB (Or.inl ⟨g0, g1⟩) (br_t h14 K))
theorem ro_L440 {post : Int32 → St0 → Prop} {mc ms kc ks n : Nat} {x1 x2 x3 x4 x5 x14 x15 x16 x17 z0 z1 : Int32} {a1 a2 a3 a4 : Nat → Int32} (h2 : 2 ≤ n) (h5 : n ≤ 5) (hT : ro_Tab n a2 a3) (hE : ro_E x1 x14) (hO : ro_E x5 x15) (hI : ro_I n x3 x16) (hJ : ro_I n x4 x17) (hz : z1 = z0) (hp : ro_Row a1 0 n ro_id) (hq : ro_Row a1 5 n ro_id) (H : post 1 ()) : wL_lawOf_440 post mc ms x1 x2 x3 x4 x5 (nI n) (nI (ro_f n)) (nI (ro_tp n)) (nI (ro_ls n)) (nI (ro_ms n)) (nI (ro_wd n)) (-1000) x14 x15 x16 x17 z0 z1 kc ks (nI n) (nI (ro_f n)) a1 a2 a3 a4 := by
  have hO' := hO
  rcases hO' with ⟨o, ho, hx5, h15⟩ | ⟨g0, g1, h15⟩
  · have hcase : o = 0 ∨ o = 1 := by omega
    rcases hcase with rfl | rfl
    · refine br_t hz (ro_sign0 h2 h5 hx5 hp hq (ro_F3 n (by omega) h2 0 (by omega)) (Nat.le_refl _) ?_)
      rw [Nat.sub_self, if_pos rfl]
      exact br_f h15 (ro_L463 h2 h5 hT hE hO hI hJ rfl hp hq H)
    · exact br_t hz (ro_sign1Same h2 h5 hx5 hp hq (br_f h15 (ro_L463 h2 h5 hT hE hO hI hJ rfl hp hq H)))
  · exact br_t hz (ro_signB g0 g1 (br_t h15 (ro_L463 h2 h5 hT hE hO hI hJ rfl hp hq H)))
theorem ro_L419 {post : Int32 → St0 → Prop} {mc ms kc ks n : Nat} {x1 x2 x3 x4 x5 x14 x15 x16 x17 z0 z1 : Int32} {a1 a2 a3 a4 : Nat → Int32} (h2 : 2 ≤ n) (h5 : n ≤ 5) (hT : ro_Tab n a2 a3) (hE : ro_E x1 x14) (hO : ro_E x5 x15) (hI : ro_I n x3 x16) (hJ : ro_I n x4 x17) (hz : z1 = z0) (hp : ro_Row a1 0 n ro_id) (hq : ro_Row a1 5 n ro_id) (H : post 1 ()) : wL_lawOf_419 post mc ms x1 x2 x3 x4 x5 (nI n) (nI (ro_f n)) (nI (ro_tp n)) (nI (ro_ls n)) (nI (ro_ms n)) (nI (ro_wd n)) (-1000) x14 x15 x16 x17 z0 z1 kc ks (nI n) (nI (ro_f n)) a1 a2 a3 a4 := by
  have hO' := hO
  rcases hO' with ⟨o, ho, hx5, h15⟩ | ⟨g0, g1, h15⟩
  · refine br_t hz (ro_ways h2 h5 ho hx5 hT hp hq (fun d c k => br_f h15 (ro_L440 h2 h5 hT hE hO hI hJ ?_ (ro_keep10 hp (by omega) k) (ro_keep10 hq (by omega) k) H)))
    rw [ro_wyII h2 h5 ho]
    rfl
  · exact br_t hz (ro_waysB g0 g1 (br_t h15 (ro_L440 h2 h5 hT hE hO hI hJ rfl hp hq H)))
theorem ro_L398 {post : Int32 → St0 → Prop} {mc ms kc ks n : Nat} {x1 x2 x3 x4 x5 x14 x15 x16 x17 z0 z1 : Int32} {a1 a2 a3 a4 : Nat → Int32} (h2 : 2 ≤ n) (h5 : n ≤ 5) (hT : ro_Tab n a2 a3) (hE : ro_E x1 x14) (hO : ro_E x5 x15) (hI : ro_I n x3 x16) (hJ : ro_I n x4 x17) (hz : z1 = z0) (hp : ro_Row a1 0 n ro_id) (hq : ro_Row a1 5 n ro_id) (H : post 1 ()) : wL_lawOf_398 post mc ms x1 x2 x3 x4 x5 (nI n) (nI (ro_f n)) (nI (ro_tp n)) (nI (ro_ls n)) (nI (ro_ms n)) (nI (ro_wd n)) (-1000) x14 x15 x16 x17 z0 z1 kc ks (nI n) (nI (ro_f n)) a1 a2 a3 a4 := by
  have hO' := hO
  rcases hO' with ⟨o, ho, hx5, h15⟩ | ⟨g0, g1, h15⟩
  · refine br_t hz (ro_interval h2 h5 ho hx5 hT hp hq (fun d k => br_f h15 (ro_L419 h2 h5 hT hE hO hI hJ ?_ (ro_keep10 hp (by omega) k) (ro_keep10 hq (by omega) k) H)))
    rw [ro_F3i n (by omega) h2 o (by omega)]
    rfl
  · exact br_t hz (ro_intervalB g0 g1 (br_t h15 (ro_L419 h2 h5 hT hE hO hI hJ rfl hp hq H)))
theorem ro_L325 {post : Int32 → St0 → Prop} {mc ms kc ks n : Nat} {x1 x2 x3 x4 x5 x14 x15 x16 x17 z0 z1 : Int32} {a1 a2 a3 a4 : Nat → Int32} (h2 : 2 ≤ n) (h5 : n ≤ 5) (hT : ro_Tab n a2 a3) (hE : ro_E x1 x14) (hO : ro_E x5 x15) (hI : ro_I n x3 x16) (hJ : ro_I n x4 x17) (hz : z1 = z0) (hp : ro_Row a1 0 n ro_id) (hq : ro_Row a1 5 n ro_id) (H : post 1 ()) : wL_lawOf_325 post mc ms x1 x2 x3 x4 x5 (nI n) (nI (ro_f n)) (nI (ro_tp n)) (nI (ro_ls n)) (nI (ro_ms n)) (nI (ro_wd n)) (-1000) x14 x15 x16 x17 z0 z1 kc ks (nI n) (nI (ro_f n)) a1 a2 a3 a4 := by
  have hf0 := ro_f_pos n
  have hf := ro_f_le n (by omega)
  obtain ⟨f1, f2⟩ := ro_F2 n (by omega) h2
  refine br_t hz (ro_permutation (k := 0) h2 h5 hf0 rfl (fun d k => br_t (by rw [f1]) ?_))
  refine ro_permutation (k := ro_f n - 1) h2 h5 (by omega) (pk_sub (b := 1) (by omega)) (fun d' k' => br_t (by rw [f2]) ?_)
  have p2 : ro_Row d' 0 n ro_id := ro_keep10 (ro_keep10 hp (by omega) k) (by omega) k'
  have q2 : ro_Row d' 5 n ro_id := ro_keep10 (ro_keep10 hq (by omega) k) (by omega) k'
  refine ro_permutationB (Or.inr (nI_nlt (Nat.le_refl _) (by omega))) (br_t rfl (ro_permutationB (Or.inl (by decide)) (br_t rfl ?_)))
  have hO' := hO
  rcases hO' with ⟨o, ho, hx5, h15⟩ | ⟨g0, g1, h15⟩
  · refine ro_below h2 h5 ho hx5 p2 q2 (br_f h15 (ro_L398 h2 h5 hT hE hO hI hJ ?_ p2 q2 H))
    rw [ro_F3 n (by omega) h2 o (by omega)]
    rfl
  · exact ro_belowB g0 g1 (br_t h15 (ro_L398 h2 h5 hT hE hO hI hJ rfl p2 q2 H))
theorem ro_L265 {post : Int32 → St0 → Prop} {mc ms kc ks n : Nat} {x1 x2 x3 x4 x5 x14 x15 x16 x17 : Int32} {a1 a2 a3 a4 : Nat → Int32} (h2 : 2 ≤ n) (h5 : n ≤ 5) (hT : ro_Tab n a2 a3) (hE : ro_E x1 x14) (hO : ro_E x5 x15) (hI : ro_I n x3 x16) (hJ : ro_I n x4 x17) (hp : ro_Row a1 0 n ro_id) (hq : ro_Row a1 5 n ro_id) (H : post 1 ()) : wL_lawOf_265 post mc ms x1 x2 x3 x4 x5 (nI n) (nI (ro_f n)) (nI (ro_tp n)) (nI (ro_ls n)) (nI (ro_ms n)) (nI (ro_wd n)) (-1000) x14 x15 x16 x17 kc ks (nI n) (nI (ro_f n)) a1 a2 a3 a4 := by
  obtain ⟨f1, f2, f3⟩ := ro_F1 n (by omega) h2
  have hE' := hE
  rcases hE' with ⟨e, he, hx1, h14⟩ | ⟨g0, g1, h14⟩
  · have r := ro_both he hp hq
    refine ro_code h5 he hx1 r (br_f h14 (br_t (by rw [f1]) (ro_rank h2 h5 he hx1 r (br_f h14 (br_t (by rw [f2]; rfl) (ro_inversions h2 h5 he hx1 r (br_f h14 (ro_L325 h2 h5 hT hE hO hI hJ ?_ hp hq H))))))))
    rw [f3]
    rfl
  · exact ro_codeB g0 g1 (br_t h14 (br_t rfl (ro_rankB g0 g1 (br_t h14 (br_t rfl (ro_inversionsB g0 g1 (br_t h14 (ro_L325 h2 h5 hT hE hO hI hJ rfl hp hq H))))))))
theorem ro_ix {n : Nat} {x : Int32} (h5 : n ≤ 5) (h : ¬ x < 0) (h' : ¬ nI n ≤ x) : ro_I n x 1 := by
  obtain ⟨j, hj, rfl⟩ := nI_of h
  refine Or.inl ⟨j, ?_, rfl, by decide⟩
  rcases Nat.lt_or_ge j n with z | z
  · exact z
  · exact absurd (nI_le z hj) h'
theorem ro_L229 {post : Int32 → St0 → Prop} {mc ms kc ks n : Nat} {x1 x2 x3 x4 x5 x14 x15 : Int32} {a1 a2 a3 a4 : Nat → Int32} (h2 : 2 ≤ n) (h5 : n ≤ 5) (hT : ro_Tab n a2 a3) (hE : ro_E x1 x14) (hO : ro_E x5 x15) (hp : ro_Row a1 0 n ro_id) (hq : ro_Row a1 5 n ro_id) (H : post 1 ()) : wL_lawOf_229 post mc ms x1 x2 x3 x4 x5 (nI n) (nI (ro_f n)) (nI (ro_tp n)) (nI (ro_ls n)) (nI (ro_ms n)) (nI (ro_wd n)) (-1000) x14 x15 kc ks (nI n) (nI (ro_f n)) a1 a2 a3 a4 := by
  have K : ∀ x16, ro_I n x3 x16 → wL_lawOf_246 post mc ms x1 x2 x3 x4 x5 (nI n) (nI (ro_f n)) (nI (ro_tp n)) (nI (ro_ls n)) (nI (ro_ms n)) (nI (ro_wd n)) (-1000) x14 x15 x16 kc ks (nI n) (nI (ro_f n)) a1 a2 a3 a4 := by
    intro x16 hI
    exact br_c (fun h => ro_L265 h2 h5 hT hE hO hI (Or.inr ⟨Or.inl h, rfl⟩) hp hq H) (fun h => br_c (fun h' => ro_L265 h2 h5 hT hE hO hI (Or.inr ⟨Or.inr (Int32.not_lt.mpr h'), rfl⟩) hp hq H) (fun h' => ro_L265 h2 h5 hT hE hO hI (ro_ix h5 h h') hp hq H))
  exact br_c (fun h => K 0 (Or.inr ⟨Or.inl h, rfl⟩)) (fun h => br_c (fun h' => K 0 (Or.inr ⟨Or.inr (Int32.not_lt.mpr h'), rfl⟩)) (fun h' => K 1 (ro_ix h5 h h')))
theorem ro_L190 {post : Int32 → St0 → Prop} {mc ms kc ks n : Nat} {x1 x2 x3 x4 x5 : Int32} {a1 a2 a3 a4 : Nat → Int32} (h2 : 2 ≤ n) (h5 : n ≤ 5) (hT : ro_Tab n a2 a3) (hp : ro_Row a1 0 n ro_id) (hq : ro_Row a1 5 n ro_id) (H : post 1 ()) : wL_lawOf_190 post mc ms x1 x2 x3 x4 x5 (nI n) (nI (ro_f n)) (nI (ro_tp n)) (nI (ro_ls n)) (nI (ro_ms n)) (nI (ro_wd n)) kc ks (nI n) (nI (ro_f n)) a1 a2 a3 a4 := by
  have K : ∀ x14, ro_E x1 x14 → wL_lawOf_211 post mc ms x1 x2 x3 x4 x5 (nI n) (nI (ro_f n)) (nI (ro_tp n)) (nI (ro_ls n)) (nI (ro_ms n)) (nI (ro_wd n)) (-1000) x14 kc ks (nI n) (nI (ro_f n)) a1 a2 a3 a4 := by
    intro x14 hE
    exact br_c (fun h => ro_L229 h2 h5 hT hE (Or.inl ⟨0, by omega, h, by decide⟩) hp hq H) (fun h => br_c (fun h' => ro_L229 h2 h5 hT hE (Or.inl ⟨1, by omega, h', by decide⟩) hp hq H) (fun h' => ro_L229 h2 h5 hT hE (Or.inr ⟨h, h', rfl⟩) hp hq H))
  exact br_c (fun h => K 1 (Or.inl ⟨0, by omega, h, by decide⟩)) (fun h => br_c (fun h' => K 1 (Or.inl ⟨1, by omega, h', by decide⟩)) (fun h' => K 0 (Or.inr ⟨h, h', rfl⟩)))
end
section
/-! what is owed -/
theorem ro_L29 {post : Int32 → St0 → Prop} {mc ms kc ks n : Nat} {x1 x2 x3 x4 x5 z : Int32} {a1 a2 a3 a4 : Nat → Int32} (h2 : 2 ≤ n) (h5 : n ≤ 5) (hz : z = nI n) (hT : ro_Tab n a2 a3) (hp : ro_Row a1 0 n ro_id) (hq : ro_Row a1 5 n ro_id) (H : post 1 ()) : wL_lawOf_29 post mc ms x1 x2 x3 x4 x5 z kc ks (nI n) (nI (ro_f n)) a1 a2 a3 a4 := by
  subst hz
  have K := fun (x : Int32) => ro_L190 (mc := mc) (ms := ms) (kc := kc) (ks := ks) (x1 := x1) (x2 := x2) (x3 := x3) (x4 := x4) (x5 := x5) (a4 := a4) h2 h5 hT hp hq H
  rcases ro_four h2 h5 with rfl | rfl | rfl | rfl
  · exact br_t rfl ⟨by decide, nm_r (e' := nI (ro_tp 2)) (by decide) (br_t rfl (br_t rfl (br_t rfl (K 0))))⟩
  · exact br_f (by decide) (br_t rfl ⟨by decide, nm_r (e' := nI (ro_tp 3)) (by decide) (br_f (by decide) (br_t rfl (br_f (by decide) (br_t rfl (br_f (by decide) (br_t rfl (K 0)))))))⟩)
  · exact br_f (by decide) (br_f (by decide) (br_t rfl ⟨by decide, nm_r (e' := nI (ro_tp 4)) (by decide) (br_f (by decide) (br_f (by decide) (br_t rfl (br_f (by decide) (br_f (by decide) (br_t rfl (br_f (by decide) (br_f (by decide) (br_t rfl (K 0))))))))))⟩))
  · exact br_f (by decide) (br_f (by decide) (br_f (by decide) ⟨by decide, nm_r (e' := nI (ro_tp 5)) (by decide) (br_f (by decide) (br_f (by decide) (br_f (by decide) (br_f (by decide) (br_f (by decide) (br_f (by decide) (br_f (by decide) (br_f (by decide) (br_f (by decide) (K 0))))))))))⟩))
theorem ro_lawOf {post : Int32 → St0 → Prop} {x0 x1 x2 x3 x4 x5 : Int32} (H : post 1 ()) : wpL_lawOf post 5 866 () x0 x1 x2 x3 x4 x5 := by
  obtain ⟨h2, h5⟩ := ro_cl_in x0
  refine ⟨by omega, by omega, 4, 860, by omega, by omega, ro_init (by omega) (by omega) (fun d1 d2 d3 d4 hp hq hT => ?_)⟩
  refine br_c (fun h => br_c (fun h' => ro_L29 h2 h5 (ro_cl_eq h h') hT hp hq H) (fun h' => ro_L29 h2 h5 ?_ hT hp hq H)) (fun h => ro_L29 h2 h5 ?_ hT hp hq H)
  · rw [show ro_cl x0 = 5 by unfold ro_cl; rw [if_pos h, if_neg h']]
    rfl
  · rw [show ro_cl x0 = 2 by unfold ro_cl; rw [if_neg h]]
    rfl
theorem ro_cell {post : Int32 → Prop} {L : Nat} {xs : Nat → Int32} {x : Int32} (k : Nat) (hL : L ≤ 6) (hk : k < 6) (hx : x = nI k) (H : ∀ v, post v) : wpL_cellAt post L xs () x :=
  pk_le L k (fun _ => H 0) (fun z => ⟨pk_in k L z hx, H _⟩) rfl hx
theorem i_vc (xs : Nat → Int32) (L : Nat) (hL : L ≤ 6) : wpL_law (fun r => r = 1) L xs :=
  ro_cell 0 hL (by omega) rfl (fun _ => ro_cell 1 hL (by omega) rfl (fun _ => ro_cell 2 hL (by omega) rfl (fun _ => ro_cell 3 hL (by omega) rfl (fun _ => ro_cell 4 hL (by omega) rfl (fun _ => ro_cell 5 hL (by omega) rfl (fun _ => ⟨5, 866, by omega, by omega, ro_lawOf rfl⟩))))))
end
