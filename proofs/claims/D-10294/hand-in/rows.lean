section
/-! sets of roads as naturals: sums by xor and by cost; no program here -/
/-- the xor of f over the members of S below e -/
def tj_xs (f : Nat → Nat) (S : Nat) : Nat → Nat
  | 0 => 0
  | e + 1 => if S.testBit e = true then tj_xs f S e ^^^ f e else tj_xs f S e
/-- the sum of c over the members of S below e -/
def tj_cc (c : Nat → Int) (S : Nat) : Nat → Int
  | 0 => 0
  | e + 1 => if S.testBit e = true then tj_cc c S e + c e else tj_cc c S e
/-- a road's two ends -/
def tj_ed (P Q : Nat → Nat) (e : Nat) : Nat := 2 ^ P e ^^^ 2 ^ Q e
theorem tj_nf {b : Bool} (h : ¬ b = true) : b = false := by
  cases b
  · rfl
  · exact absurd rfl h
theorem tj_xs_s {f : Nat → Nat} {S e : Nat} (h : S.testBit e = true) : tj_xs f S (e + 1) = tj_xs f S e ^^^ f e := if_pos h
theorem tj_xs_n {f : Nat → Nat} {S e : Nat} (h : ¬ S.testBit e = true) : tj_xs f S (e + 1) = tj_xs f S e := if_neg h
theorem tj_cc_s {c : Nat → Int} {S e : Nat} (h : S.testBit e = true) : tj_cc c S (e + 1) = tj_cc c S e + c e := if_pos h
theorem tj_cc_n {c : Nat → Int} {S e : Nat} (h : ¬ S.testBit e = true) : tj_cc c S (e + 1) = tj_cc c S e := if_neg h
theorem tj_xs_bit (f : Nat → Nat) (S e i : Nat) : (tj_xs f S (e + 1)).testBit i = ((tj_xs f S e).testBit i ^^ (S.testBit e && (f e).testBit i)) := by
  by_cases h : S.testBit e = true
  · rw [tj_xs_s h, Nat.testBit_xor, h, Bool.true_and]
  · rw [tj_xs_n h, tj_nf h, Bool.false_and, Bool.xor_false]
theorem tj_xs_xor (f : Nat → Nat) (A B e : Nat) : tj_xs f (A ^^^ B) e = tj_xs f A e ^^^ tj_xs f B e := by
  apply Nat.eq_of_testBit_eq
  intro i
  rw [Nat.testBit_xor]
  induction e with
  | zero => show (0 : Nat).testBit i = ((0 : Nat).testBit i ^^ (0 : Nat).testBit i); rw [Nat.zero_testBit]; rfl
  | succ e ih =>
    rw [tj_xs_bit, tj_xs_bit, tj_xs_bit, ih, Nat.testBit_xor]
    generalize (tj_xs f A e).testBit i = a
    generalize (tj_xs f B e).testBit i = b
    generalize A.testBit e = p
    generalize B.testBit e = q
    generalize (f e).testBit i = r
    cases a <;> cases b <;> cases p <;> cases q <;> cases r <;> rfl
theorem tj_xs_two (f : Nat → Nat) (k e : Nat) : tj_xs f (2 ^ k) e = if k < e then f k else 0 := by
  induction e with
  | zero => rw [if_neg (by omega)]; rfl
  | succ e ih =>
    by_cases h : k = e
    · subst h
      rw [tj_xs_s Nat.testBit_two_pow_self, ih, if_neg (by omega), if_pos (by omega), Nat.zero_xor]
    · rw [tj_xs_n (by rw [Nat.testBit_two_pow_of_ne h]; decide), ih]
      by_cases h2 : k < e
      · rw [if_pos h2, if_pos (by omega)]
      · rw [if_neg h2, if_neg (by omega)]
theorem tj_xs_lt {f : Nat → Nat} {S n : Nat} : ∀ {e : Nat}, (∀ j, j < e → f j < 2 ^ n) → tj_xs f S e < 2 ^ n := by
  intro e
  induction e with
  | zero => intro _; exact Nat.two_pow_pos n
  | succ e ih =>
    intro h
    have h1 := ih (fun j hj => h j (by omega))
    by_cases hb : S.testBit e = true
    · rw [tj_xs_s hb]; exact Nat.xor_lt_two_pow h1 (h e (by omega))
    · rw [tj_xs_n hb]; exact h1
theorem tj_ed_lt {P Q : Nat → Nat} {e n : Nat} (hp : P e < n) (hq : Q e < n) : tj_ed P Q e < 2 ^ n :=
  Nat.xor_lt_two_pow (Nat.pow_lt_pow_right (by omega) hp) (Nat.pow_lt_pow_right (by omega) hq)
theorem tj_cc_nn {c : Nat → Int} {S : Nat} : ∀ {e : Nat}, (∀ j, j < e → 0 ≤ c j) → 0 ≤ tj_cc c S e := by
  intro e
  induction e with
  | zero => intro _; exact Int.le_refl 0
  | succ e ih =>
    intro h
    have h1 := ih (fun j hj => h j (by omega))
    have h2 := h e (by omega)
    by_cases hb : S.testBit e = true
    · rw [tj_cc_s hb]; omega
    · rw [tj_cc_n hb]; exact h1
theorem tj_cc_ub {c : Nat → Int} {S : Nat} {B : Int} (hB : 0 ≤ B) : ∀ {e : Nat}, (∀ j, j < e → c j ≤ B) → tj_cc c S e ≤ e * B := by
  intro e
  induction e with
  | zero => intro _; show (0 : Int) ≤ _; simp
  | succ e ih =>
    intro h
    have h1 := ih (fun j hj => h j (by omega))
    have h2 := h e (by omega)
    have h3 : ((e + 1 : Nat) : Int) * B = e * B + B := by rw [Int.natCast_add, Int.add_mul]; simp
    rw [h3]
    by_cases hb : S.testBit e = true
    · rw [tj_cc_s hb]; omega
    · rw [tj_cc_n hb]; omega
theorem tj_cc_lb {c : Nat → Int} {S : Nat} {B : Int} (hB : 0 ≤ B) : ∀ {e : Nat}, (∀ j, j < e → - B ≤ c j) → - (e * B) ≤ tj_cc c S e := by
  intro e
  induction e with
  | zero => intro _; show _ ≤ (0 : Int); simp
  | succ e ih =>
    intro h
    have h1 := ih (fun j hj => h j (by omega))
    have h2 := h e (by omega)
    have h3 : ((e + 1 : Nat) : Int) * B = e * B + B := by rw [Int.natCast_add, Int.add_mul]; simp
    rw [h3]
    by_cases hb : S.testBit e = true
    · rw [tj_cc_s hb]; omega
    · rw [tj_cc_n hb]; omega
theorem tj_cc_ext {c c' : Nat → Int} {S : Nat} : ∀ {e : Nat}, (∀ j, j < e → c j = c' j) → tj_cc c S e = tj_cc c' S e := by
  intro e
  induction e with
  | zero => intro _; rfl
  | succ e ih =>
    intro h
    have h1 := ih (fun j hj => h j (by omega))
    have h2 := h e (by omega)
    by_cases hb : S.testBit e = true
    · rw [tj_cc_s hb, tj_cc_s hb, h1, h2]
    · rw [tj_cc_n hb, tj_cc_n hb, h1]
theorem tj_xs_ext {f f' : Nat → Nat} {S : Nat} : ∀ {e : Nat}, (∀ j, j < e → f j = f' j) → tj_xs f S e = tj_xs f' S e := by
  intro e
  induction e with
  | zero => intro _; rfl
  | succ e ih =>
    intro h
    have h1 := ih (fun j hj => h j (by omega))
    have h2 := h e (by omega)
    by_cases hb : S.testBit e = true
    · rw [tj_xs_s hb, tj_xs_s hb, h1, h2]
    · rw [tj_xs_n hb, tj_xs_n hb, h1]
theorem tj_cc_xor {c : Nat → Int} {A B : Nat} : ∀ {e : Nat}, (∀ j, j < e → 0 ≤ c j) → tj_cc c (A ^^^ B) e ≤ tj_cc c A e + tj_cc c B e := by
  intro e
  induction e with
  | zero => intro _; exact Int.le_refl 0
  | succ e ih =>
    intro h
    have h1 := ih (fun j hj => h j (by omega))
    have h2 := h e (by omega)
    have hx : (A ^^^ B).testBit e = (A.testBit e ^^ B.testBit e) := Nat.testBit_xor A B e
    by_cases ha : A.testBit e = true
    · by_cases hb : B.testBit e = true
      · rw [ha, hb] at hx
        rw [tj_cc_s ha, tj_cc_s hb, tj_cc_n (by rw [hx]; decide)]; omega
      · rw [ha, tj_nf hb] at hx
        rw [tj_cc_s ha, tj_cc_n hb, tj_cc_s (by rw [hx]; decide)]; omega
    · by_cases hb : B.testBit e = true
      · rw [tj_nf ha, hb] at hx
        rw [tj_cc_n ha, tj_cc_s hb, tj_cc_s (by rw [hx]; decide)]; omega
      · rw [tj_nf ha, tj_nf hb] at hx
        rw [tj_cc_n ha, tj_cc_n hb, tj_cc_n (by rw [hx]; decide)]; omega
theorem tj_cc_two (c : Nat → Int) (k e : Nat) : tj_cc c (2 ^ k) e = if k < e then c k else 0 := by
  induction e with
  | zero => rw [if_neg (by omega)]; rfl
  | succ e ih =>
    by_cases h : k = e
    · subst h
      rw [tj_cc_s Nat.testBit_two_pow_self, ih, if_neg (by omega), if_pos (by omega), Int.zero_add]
    · rw [tj_cc_n (by rw [Nat.testBit_two_pow_of_ne h]; decide), ih]
      by_cases h2 : k < e
      · rw [if_pos h2, if_pos (by omega)]
      · rw [if_neg h2, if_neg (by omega)]
theorem tj_cc_del (c : Nat → Int) {J k : Nat} (hk : J.testBit k = true) (e : Nat) : tj_cc c (J ^^^ 2 ^ k) e = tj_cc c J e - if k < e then c k else 0 := by
  induction e with
  | zero => rw [if_neg (by omega)]; rfl
  | succ e ih =>
    have hx : (J ^^^ 2 ^ k).testBit e = (J.testBit e ^^ (2 ^ k).testBit e) := Nat.testBit_xor _ _ e
    by_cases h : k = e
    · subst h
      rw [Nat.testBit_two_pow_self, hk] at hx
      rw [tj_cc_n (by rw [hx]; decide), tj_cc_s hk, ih, if_neg (by omega), if_pos (by omega)]
      omega
    · rw [Nat.testBit_two_pow_of_ne h, Bool.xor_false] at hx
      have h3 : (if k < e + 1 then c k else 0) = (if k < e then c k else 0) := by
        by_cases h2 : k < e
        · rw [if_pos h2, if_pos (by omega)]
        · rw [if_neg h2, if_neg (by omega)]
      rw [h3]
      by_cases hb : J.testBit e = true
      · rw [tj_cc_s hb, tj_cc_s (by rw [hx]; exact hb), ih]; omega
      · rw [tj_cc_n hb, tj_cc_n (by rw [hx]; exact hb), ih]
theorem tj_low {P Q : Nat → Nat} {J t : Nat} : ∀ {m : Nat}, (tj_xs (tj_ed P Q) J m).testBit t = true → ∃ e, e < m ∧ J.testBit e = true ∧ ((P e = t ∧ Q e ≠ t) ∨ (Q e = t ∧ P e ≠ t)) := by
  intro m
  induction m with
  | zero => intro h; exact absurd ((Nat.zero_testBit t).symm.trans h) (by decide)
  | succ m ih =>
    intro h
    by_cases hp : (tj_xs (tj_ed P Q) J m).testBit t = true
    · obtain ⟨e, e1, e2⟩ := ih hp
      exact ⟨e, by omega, e2⟩
    · rw [tj_xs_bit, tj_nf hp, Bool.false_xor, Bool.and_eq_true] at h
      have h2 := h.2
      unfold tj_ed at h2
      rw [Nat.testBit_xor, Nat.testBit_two_pow, Nat.testBit_two_pow] at h2
      refine ⟨m, by omega, h.1, ?_⟩
      by_cases a : P m = t
      · by_cases b : Q m = t
        · rw [decide_eq_true a, decide_eq_true b] at h2
          exact absurd h2 (by decide)
        · exact Or.inl ⟨a, b⟩
      · by_cases b : Q m = t
        · exact Or.inr ⟨b, a⟩
        · rw [decide_eq_false a, decide_eq_false b] at h2
          exact absurd h2 (by decide)
theorem tj_x5 (o a b p : Nat) : ((o ^^^ (a ^^^ b)) ^^^ b) ^^^ p = (o ^^^ a) ^^^ p := by
  apply Nat.eq_of_testBit_eq
  intro i
  simp only [Nat.testBit_xor]
  generalize o.testBit i = o
  generalize a.testBit i = a
  generalize b.testBit i = b
  generalize p.testBit i = p
  cases o <;> cases a <;> cases b <;> cases p <;> rfl
/-- from a place t with an odd number of ends in J a way leads to another such place p; the rest R of J has both struck out -/
theorem tj_path {P Q : Nat → Nat} {c : Nat → Int} {d : Nat → Nat → Int} {M n : Nat}
    (hP : ∀ e, e < M → P e < n ∧ Q e < n)
    (he : ∀ e, e < M → d (P e) (Q e) ≤ c e ∧ d (Q e) (P e) ≤ c e)
    (ht : ∀ i v j, i < n → v < n → j < n → d i j ≤ d i v + d v j) :
    ∀ (k : Nat) (J t : Nat), tj_cc (fun _ => 1) J M ≤ (k : Int) → (tj_xs (tj_ed P Q) J M).testBit t = true →
      ∃ p R, p ≠ t ∧ (tj_xs (tj_ed P Q) J M).testBit p = true ∧ tj_xs (tj_ed P Q) R M = (tj_xs (tj_ed P Q) J M ^^^ 2 ^ t) ^^^ 2 ^ p ∧ d t p + tj_cc c R M ≤ tj_cc c J M := by
  intro k
  induction k with
  | zero =>
    intro J t hk hb
    obtain ⟨e, e1, e2, e3⟩ := tj_low hb
    have h1 := tj_cc_del (fun _ => 1) e2 M
    rw [if_pos e1] at h1
    have h2 : 0 ≤ tj_cc (fun _ => 1) (J ^^^ 2 ^ e) M := tj_cc_nn (fun _ _ => by decide)
    omega
  | succ k ih =>
    intro J t hk hb
    obtain ⟨e, e1, e2, e3⟩ := tj_low hb
    have h1 := tj_cc_del (fun _ => 1) e2 M
    rw [if_pos e1] at h1
    have hv : ∃ v, v ≠ t ∧ v < n ∧ t < n ∧ d t v ≤ c e ∧ tj_ed P Q e = 2 ^ t ^^^ 2 ^ v := by
      have g1 := hP e e1
      have g2 := he e e1
      rcases e3 with ⟨a, b⟩ | ⟨a, b⟩
      · rw [a] at g1 g2
        exact ⟨Q e, b, g1.2, g1.1, g2.1, by unfold tj_ed; rw [a]⟩
      · rw [a] at g1 g2
        exact ⟨P e, b, g1.1, g1.2, g2.2, by unfold tj_ed; rw [a, Nat.xor_comm]⟩
    obtain ⟨v, v1, v2, v3, v4, v5⟩ := hv
    have x1 : tj_xs (tj_ed P Q) (J ^^^ 2 ^ e) M = tj_xs (tj_ed P Q) J M ^^^ (2 ^ t ^^^ 2 ^ v) := by rw [tj_xs_xor, tj_xs_two, if_pos e1, v5]
    have c1 := tj_cc_del c e2 M
    rw [if_pos e1] at c1
    by_cases hvb : (tj_xs (tj_ed P Q) J M).testBit v = true
    · exact ⟨v, J ^^^ 2 ^ e, v1, hvb, by rw [x1, Nat.xor_assoc], by omega⟩
    · have b1 : (tj_xs (tj_ed P Q) (J ^^^ 2 ^ e) M).testBit v = true := by
        rw [x1, Nat.testBit_xor, Nat.testBit_xor, Nat.testBit_two_pow_of_ne (Ne.symm v1), Nat.testBit_two_pow_self, tj_nf hvb]
        decide
      obtain ⟨p, R, p1, p2, p3, p4⟩ := ih (J ^^^ 2 ^ e) v (by omega) b1
      obtain ⟨e', f1, f2, f3⟩ := tj_low p2
      have pn : p < n := by
        have g1 := hP e' f1
        rcases f3 with ⟨a, b⟩ | ⟨a, b⟩
        · rw [← a]; exact g1.1
        · rw [← a]; exact g1.2
      have p5 : p ≠ t := by
        intro q
        rw [x1, q, Nat.testBit_xor, Nat.testBit_xor, hb, Nat.testBit_two_pow_of_ne v1, Nat.testBit_two_pow_self] at p2
        exact absurd p2 (by decide)
      have p6 : (tj_xs (tj_ed P Q) J M).testBit p = true := by
        rw [x1, Nat.testBit_xor, Nat.testBit_xor, Nat.testBit_two_pow_of_ne (Ne.symm p5), Nat.testBit_two_pow_of_ne (Ne.symm p1)] at p2
        simpa using p2
      have p7 := ht t v p v3 v2 pn
      exact ⟨p, R, p5, p6, by rw [p3, x1, tj_x5], by omega⟩
theorem tj_top (w : Nat) : ∀ T, T ≠ 0 → T < 2 ^ w → ∃ top, top < w ∧ T.testBit top = true ∧ ∀ j, top < j → T.testBit j = false := by
  induction w with
  | zero => intro T h0 h; exact absurd h (by have : 2 ^ 0 = 1 := rfl; omega)
  | succ w ih =>
    intro T h0 h
    have hb : ∀ j, w < j → T.testBit j = false := fun j hj => Nat.testBit_lt_two_pow (Nat.lt_of_lt_of_le h (Nat.pow_le_pow_right (by omega) (by omega)))
    by_cases hw : T.testBit w = true
    · exact ⟨w, by omega, hw, hb⟩
    · have h2 : T < 2 ^ w := by
        apply Nat.lt_pow_two_of_testBit
        intro i hi
        by_cases e : i = w
        · rw [e]; exact tj_nf hw
        · exact hb i (by omega)
      obtain ⟨top, t1, t2, t3⟩ := ih T h0 h2
      exact ⟨top, by omega, t2, t3⟩
/-- pairing the greatest member with each other one: the sums are at most any join's cost -/
theorem tj_dp {P Q : Nat → Nat} {c : Nat → Int} {d : Nat → Nat → Int} {M n : Nat}
    (hP : ∀ e, e < M → P e < n ∧ Q e < n)
    (he : ∀ e, e < M → d (P e) (Q e) ≤ c e ∧ d (Q e) (P e) ≤ c e)
    (ht : ∀ i v j, i < n → v < n → j < n → d i j ≤ d i v + d v j)
    (hd : ∀ i j, i < n → j < n → 0 ≤ d i j)
    (hc : ∀ e, e < M → 0 ≤ c e)
    {G : Nat} {s : Nat → Int} {F : Int} (h0 : s 0 ≤ 0)
    (hs : ∀ T top p, (∀ i, T.testBit i = true → G.testBit i = true) → T.testBit top = true → T.testBit p = true → p < top → (∀ j, top < j → T.testBit j = false) → d top p < F → s ((T ^^^ 2 ^ top) ^^^ 2 ^ p) < F → s T ≤ s ((T ^^^ 2 ^ top) ^^^ 2 ^ p) + d top p) :
    ∀ (k T : Nat), tj_cc (fun _ => 1) T n ≤ (k : Int) → (∀ i, T.testBit i = true → G.testBit i = true) → ∀ J, tj_xs (tj_ed P Q) J M = T → tj_cc c J M < F → s T ≤ tj_cc c J M := by
  intro k
  induction k with
  | zero =>
    intro T hk hT J hJ hF
    have hn : 0 ≤ tj_cc c J M := tj_cc_nn hc
    by_cases t0 : T = 0
    · rw [t0]; omega
    · have hlt : T < 2 ^ n := by rw [← hJ]; exact tj_xs_lt (fun j hj => tj_ed_lt (hP j hj).1 (hP j hj).2)
      obtain ⟨top, t1, t2, t3⟩ := tj_top n T t0 hlt
      have h1 := tj_cc_del (fun _ => 1) t2 n
      rw [if_pos t1] at h1
      have h2 : 0 ≤ tj_cc (fun _ => 1) (T ^^^ 2 ^ top) n := tj_cc_nn (fun _ _ => by decide)
      omega
  | succ k ih =>
    intro T hk hT J hJ hF
    have hn : 0 ≤ tj_cc c J M := tj_cc_nn hc
    by_cases t0 : T = 0
    · rw [t0]; omega
    · have hlt : T < 2 ^ n := by rw [← hJ]; exact tj_xs_lt (fun j hj => tj_ed_lt (hP j hj).1 (hP j hj).2)
      obtain ⟨top, t1, t2, t3⟩ := tj_top n T t0 hlt
      have h1 := tj_cc_del (fun _ => 1) t2 n
      rw [if_pos t1] at h1
      obtain ⟨kj, hkj⟩ : ∃ kj : Nat, tj_cc (fun _ => 1) J M ≤ (kj : Int) := ⟨(tj_cc (fun _ => 1) J M).toNat, by omega⟩
      obtain ⟨p, R, p1, p2, p3, p4⟩ := tj_path hP he ht kj J top hkj (by rw [hJ]; exact t2)
      rw [hJ] at p2 p3
      have pt : p < top := by
        rcases Nat.lt_or_ge top p with z | z
        · rw [t3 p z] at p2; exact absurd p2 (by decide)
        · omega
      have hR : 0 ≤ tj_cc c R M := tj_cc_nn hc
      have hdp := hd top p t1 (by omega)
      have b1 : (T ^^^ 2 ^ top).testBit p = true := by
        rw [Nat.testBit_xor, p2, Nat.testBit_two_pow_of_ne (Ne.symm p1)]; decide
      have h3 := tj_cc_del (fun _ => 1) b1 n
      rw [if_pos (by omega)] at h3
      have hs1 : ∀ i, ((T ^^^ 2 ^ top) ^^^ 2 ^ p).testBit i = true → G.testBit i = true := by
        intro i hi
        apply hT
        by_cases e1 : i = top
        · rw [e1]; exact t2
        · by_cases e2 : i = p
          · rw [e2]; exact p2
          · rw [Nat.testBit_xor, Nat.testBit_xor, Nat.testBit_two_pow_of_ne (Ne.symm e1), Nat.testBit_two_pow_of_ne (Ne.symm e2)] at hi
            simpa using hi
      have h4 := ih ((T ^^^ 2 ^ top) ^^^ 2 ^ p) (by omega) hs1 R p3 (by omega)
      have h5 := hs T top p hT t2 p2 pt t3 (by omega) (by omega)
      omega
/-- a cost without its sign -/
def tj_ab (c : Nat → Int) (e : Nat) : Int := if c e < 0 then - c e else c e
theorem tj_ab_nn (c : Nat → Int) (e : Nat) : 0 ≤ tj_ab c e := by
  unfold tj_ab
  split <;> omega
theorem tj_neg {c : Nat → Int} {J N : Nat} : ∀ {e : Nat}, (∀ j, j < e → N.testBit j = decide (c j < 0)) → tj_cc (tj_ab c) (J ^^^ N) e = tj_cc c J e - tj_cc c N e := by
  intro e
  induction e with
  | zero => intro _; rfl
  | succ e ih =>
    intro h
    have h1 := ih (fun j hj => h j (by omega))
    have h2 := h e (by omega)
    have hx : (J ^^^ N).testBit e = (J.testBit e ^^ N.testBit e) := Nat.testBit_xor J N e
    by_cases hn : c e < 0
    · rw [decide_eq_true hn] at h2
      have ha : tj_ab c e = - c e := if_pos hn
      by_cases hb : J.testBit e = true
      · rw [h2, hb] at hx
        rw [tj_cc_s hb, tj_cc_s h2, tj_cc_n (by rw [hx]; decide), h1]; omega
      · rw [h2, tj_nf hb] at hx
        rw [tj_cc_n hb, tj_cc_s h2, tj_cc_s (by rw [hx]; decide), h1, ha]; omega
    · rw [decide_eq_false hn] at h2
      have ha : tj_ab c e = c e := if_neg hn
      have h3 : ¬ N.testBit e = true := by rw [h2]; decide
      by_cases hb : J.testBit e = true
      · rw [h2, hb] at hx
        rw [tj_cc_s hb, tj_cc_n h3, tj_cc_s (by rw [hx]; decide), h1, ha]; omega
      · rw [h2, tj_nf hb] at hx
        rw [tj_cc_n hb, tj_cc_n h3, tj_cc_n (by rw [hx]; decide), h1]
theorem tj_xxx (a b : Nat) : (a ^^^ b) ^^^ b = a := by rw [Nat.xor_assoc, Nat.xor_self, Nat.xor_zero]
/-- what the cheapest join by unsigned costs gives for the signed ones -/
theorem tj_best {f : Nat → Nat} {c : Nat → Int} {M N T X : Nat} {b : Int} (hN : ∀ j, j < M → N.testBit j = decide (c j < 0))
    (hX : tj_xs f X M = T ^^^ tj_xs f N M) (hb : tj_cc (tj_ab c) X M ≤ b)
    (hm : ∀ J, tj_xs f J M = T ^^^ tj_xs f N M → b ≤ tj_cc (tj_ab c) J M) :
    tj_xs f (X ^^^ N) M = T ∧ ∀ J, tj_xs f J M = T → tj_cc c (X ^^^ N) M ≤ tj_cc c J M := by
  refine ⟨by rw [tj_xs_xor, hX, tj_xxx], fun J hJ => ?_⟩
  have h1 := hm (J ^^^ N) (by rw [tj_xs_xor, hJ])
  have h2 := tj_neg (J := J) hN
  have h3 := tj_neg (J := X ^^^ N) hN
  rw [tj_xxx] at h3
  omega
end
section
/-! labels of joined places, counted and held against xor sums; shortest ways; no program here -/
def tj_ct (b : Nat → Bool) : Nat → Nat
  | 0 => 0
  | m + 1 => tj_ct b m + (if b m = true then 1 else 0)
theorem tj_ct_mono {b b' : Nat → Bool} : ∀ {m : Nat}, (∀ a, a < m → b a = true → b' a = true) → tj_ct b m ≤ tj_ct b' m := by
  intro m
  induction m with
  | zero => intro _; exact Nat.le_refl 0
  | succ m ih =>
    intro h
    have h1 := ih (fun a ha => h a (by omega))
    have h2 := h m (by omega)
    show tj_ct b m + (if b m = true then 1 else 0) ≤ tj_ct b' m + (if b' m = true then 1 else 0)
    by_cases hb : b m = true
    · rw [if_pos hb, if_pos (h2 hb)]; omega
    · rw [if_neg hb]; omega
theorem tj_ct_one {b b' : Nat → Bool} {x : Nat} : ∀ {m : Nat}, (∀ a, a < m → a ≠ x → b a = true → b' a = true) → tj_ct b m ≤ tj_ct b' m + 1 := by
  intro m
  induction m with
  | zero => intro _; exact Nat.zero_le _
  | succ m ih =>
    intro h
    show tj_ct b m + (if b m = true then 1 else 0) ≤ tj_ct b' m + (if b' m = true then 1 else 0) + 1
    by_cases hx : m = x
    · have h1 : tj_ct b m ≤ tj_ct b' m := tj_ct_mono (fun a ha => h a (by omega) (by omega))
      split <;> omega
    · have h1 := ih (fun a ha => h a (by omega))
      have h2 := h m (by omega) hx
      by_cases hb : b m = true
      · rw [if_pos hb, if_pos (h2 hb)]; omega
      · rw [if_neg hb]; omega
theorem tj_ct_all {b : Nat → Bool} : ∀ {m : Nat}, (∀ a, a < m → b a = true) → tj_ct b m = m := by
  intro m
  induction m with
  | zero => intro _; rfl
  | succ m ih =>
    intro h
    show tj_ct b m + (if b m = true then 1 else 0) = m + 1
    rw [ih (fun a ha => h a (by omega)), if_pos (h m (by omega))]
theorem tj_ct_none {b : Nat → Bool} : ∀ {m : Nat}, (∀ a, a < m → b a = false) → tj_ct b m = 0 := by
  intro m
  induction m with
  | zero => intro _; rfl
  | succ m ih =>
    intro h
    show tj_ct b m + (if b m = true then 1 else 0) = 0
    rw [ih (fun a ha => h a (by omega)), if_neg (by rw [h m (by omega)]; decide)]
/-- a is a label below m -/
def tj_lab (f : Nat → Nat) : Nat → Nat → Bool
  | 0, _ => false
  | m + 1, a => tj_lab f m a || decide (f m = a)
/-- how many places below m are the first of their label -/
def tj_cf (f : Nat → Nat) : Nat → Nat
  | 0 => 0
  | m + 1 => tj_cf f m + (if tj_lab f m (f m) = true then 0 else 1)
theorem tj_cf_le (f : Nat → Nat) (m : Nat) : tj_cf f m ≤ m := by
  induction m with
  | zero => exact Nat.le_refl 0
  | succ m ih =>
    show tj_cf f m + (if tj_lab f m (f m) = true then 0 else 1) ≤ m + 1
    split <;> omega
theorem tj_lab_s (f : Nat → Nat) (m a : Nat) : tj_lab f (m + 1) a = true ↔ tj_lab f m a = true ∨ f m = a := by
  show (tj_lab f m a || decide (f m = a)) = true ↔ _
  rw [Bool.or_eq_true, decide_eq_true_iff]
theorem tj_lab_cf (f : Nat → Nat) (N m : Nat) : tj_ct (tj_lab f m) N ≤ tj_cf f m := by
  induction m with
  | zero =>
    have h0 : tj_ct (tj_lab f 0) N = 0 := tj_ct_none (fun a _ => rfl)
    omega
  | succ m ih =>
    show _ ≤ tj_cf f m + (if tj_lab f m (f m) = true then 0 else 1)
    by_cases h : tj_lab f m (f m) = true
    · rw [if_pos h]
      have h1 : tj_ct (tj_lab f (m + 1)) N ≤ tj_ct (tj_lab f m) N := by
        refine tj_ct_mono (fun a _ ha => ?_)
        rcases (tj_lab_s f m a).mp ha with z | z
        · exact z
        · rw [← z]; exact h
      omega
    · rw [if_neg h]
      have h1 : tj_ct (tj_lab f (m + 1)) N ≤ tj_ct (tj_lab f m) N + 1 := by
        refine tj_ct_one (x := f m) (fun a _ hx ha => ?_)
        rcases (tj_lab_s f m a).mp ha with z | z
        · exact z
        · exact absurd z.symm hx
      omega
theorem tj_lab_in {f : Nat → Nat} {a : Nat} : ∀ {m : Nat}, a < m → tj_lab f m (f a) = true := by
  intro m
  induction m with
  | zero => intro h; exact absurd h (by omega)
  | succ m ih =>
    intro h
    rw [tj_lab_s]
    by_cases e : a = m
    · exact Or.inr (by rw [e])
    · exact Or.inl (ih (by omega))
/-- how many places are their own label -/
def tj_fx (f : Nat → Nat) (n : Nat) : Nat := tj_ct (fun a => decide (f a = a)) n
theorem tj_fx_cf (f : Nat → Nat) (n : Nat) : tj_fx f n ≤ tj_cf f n := by
  refine Nat.le_trans (tj_ct_mono (fun a ha hb => ?_)) (tj_lab_cf f n n)
  have h : f a = a := of_decide_eq_true hb
  have h2 := tj_lab_in (f := f) ha
  rw [h] at h2
  exact h2
theorem tj_fx_id {f : Nat → Nat} {n : Nat} (h : ∀ p, p < n → f p = p) : tj_fx f n = n := tj_ct_all (fun a ha => decide_eq_true (h a ha))
theorem tj_fx_merge {f f' : Nat → Nat} {a b n : Nat} (h : ∀ p, p < n → f' p = if f p = b then a else f p) : tj_fx f n ≤ tj_fx f' n + 1 := by
  refine tj_ct_one (x := b) (fun p hp hb hf => ?_)
  have e : f p = p := of_decide_eq_true hf
  have e2 := h p hp
  rw [e, if_neg hb] at e2
  exact decide_eq_true e2
/-! joined places -/
def tj_con (f : Nat → Nat) (M a b : Nat) : Prop := ∃ J, tj_xs f J M = 2 ^ a ^^^ 2 ^ b
theorem tj_xs_0 (f : Nat → Nat) (M : Nat) : tj_xs f 0 M = 0 := by
  induction M with
  | zero => rfl
  | succ M ih => rw [tj_xs_n (by rw [Nat.zero_testBit]; decide), ih]
theorem tj_cc_0 (c : Nat → Int) (M : Nat) : tj_cc c 0 M = 0 := by
  induction M with
  | zero => rfl
  | succ M ih => rw [tj_cc_n (by rw [Nat.zero_testBit]; decide), ih]
theorem tj_con_r (f : Nat → Nat) (M a : Nat) : tj_con f M a a := ⟨0, by rw [tj_xs_0, Nat.xor_self]⟩
theorem tj_con_s {f : Nat → Nat} {M a b : Nat} (h : tj_con f M a b) : tj_con f M b a := by
  obtain ⟨J, hJ⟩ := h
  exact ⟨J, by rw [hJ, Nat.xor_comm]⟩
theorem tj_x3 (a b c : Nat) : (a ^^^ b) ^^^ (b ^^^ c) = a ^^^ c := by
  rw [Nat.xor_assoc, ← Nat.xor_assoc b b c, Nat.xor_self, Nat.zero_xor]
theorem tj_con_t {f : Nat → Nat} {M a b c : Nat} (h : tj_con f M a b) (h' : tj_con f M b c) : tj_con f M a c := by
  obtain ⟨J, hJ⟩ := h
  obtain ⟨K, hK⟩ := h'
  exact ⟨J ^^^ K, by rw [tj_xs_xor, hJ, hK, tj_x3]⟩
theorem tj_con_e {P Q : Nat → Nat} {M e : Nat} (h : e < M) : tj_con (tj_ed P Q) M (P e) (Q e) := ⟨2 ^ e, by rw [tj_xs_two, if_pos h]; rfl⟩
/-- labels over the first k roads: joined places bear one label, a label is joined with its bearers, few are lost -/
def tj_lbl (n M k : Nat) (P Q f : Nat → Nat) : Prop := (∀ p, p < n → f p < n ∧ tj_con (tj_ed P Q) M p (f p)) ∧ (∀ e, e < k → f (P e) = f (Q e)) ∧ n ≤ tj_fx f n + k
theorem tj_lbl_0 {n M : Nat} {P Q f : Nat → Nat} (h : ∀ p, p < n → f p = p) : tj_lbl n M 0 P Q f := by
  refine ⟨fun p hp => ?_, fun e he => absurd he (by omega), by rw [tj_fx_id h]; omega⟩
  rw [h p hp]
  exact ⟨hp, tj_con_r _ _ _⟩
theorem tj_lbl_s {n M k : Nat} {P Q f f' : Nat → Nat} (hk : k < M) (hP : ∀ e, e < M → P e < n ∧ Q e < n) (h : tj_lbl n M k P Q f) (hf : ∀ p, p < n → f' p = if f p = f (Q k) then f (P k) else f p) : tj_lbl n M (k + 1) P Q f' := by
  obtain ⟨h1, h2, h3⟩ := h
  have hk' := hP k hk
  refine ⟨fun p hp => ?_, fun e he => ?_, ?_⟩
  · rw [hf p hp]
    by_cases c : f p = f (Q k)
    · rw [if_pos c]
      have g := (h1 p hp).2
      rw [c] at g
      exact ⟨(h1 _ hk'.1).1, tj_con_t g (tj_con_t (tj_con_s (h1 _ hk'.2).2) (tj_con_t (tj_con_s (tj_con_e hk)) (h1 _ hk'.1).2))⟩
    · rw [if_neg c]
      exact h1 p hp
  · rw [hf _ (hP e (by omega)).1, hf _ (hP e (by omega)).2]
    by_cases c : e = k
    · subst c
      rw [if_pos (rfl : f (Q e) = f (Q e))]
      by_cases g : f (P e) = f (Q e)
      · rw [if_pos g]
      · rw [if_neg g]
    · rw [h2 e (by omega)]
  · have := tj_fx_merge hf
    omega
/-- the places of T, by their labels -/
def tj_ph (f : Nat → Nat) (T n : Nat) : Nat := tj_xs (fun p => 2 ^ f p) T n
theorem tj_xs_id {T n : Nat} (hT : T < 2 ^ n) : tj_xs (fun p => 2 ^ p) T n = T := by
  have h : ∀ m i, (tj_xs (fun p => 2 ^ p) T m).testBit i = (decide (i < m) && T.testBit i) := by
    intro m i
    induction m with
    | zero => show (0 : Nat).testBit i = _; rw [Nat.zero_testBit, decide_eq_false (by omega), Bool.false_and]
    | succ m ih =>
      rw [tj_xs_bit, ih]
      show ((decide (i < m) && T.testBit i) ^^ (T.testBit m && (2 ^ m).testBit i)) = _
      by_cases e : m = i
      · subst e
        rw [Nat.testBit_two_pow_self, decide_eq_false (by omega), decide_eq_true (by omega), Bool.false_and, Bool.false_xor, Bool.and_true, Bool.true_and]
      · rw [Nat.testBit_two_pow_of_ne e, Bool.and_false, Bool.xor_false]
        by_cases g : i < m
        · rw [decide_eq_true g, decide_eq_true (by omega)]
        · rw [decide_eq_false g, decide_eq_false (by omega)]
  apply Nat.eq_of_testBit_eq
  intro i
  rw [h n i]
  by_cases g : i < n
  · rw [decide_eq_true g, Bool.true_and]
  · rw [decide_eq_false g, Bool.false_and, Nat.testBit_lt_two_pow (Nat.lt_of_lt_of_le hT (Nat.pow_le_pow_right (by omega) (by omega)))]
theorem tj_xs_mix (g h : Nat → Nat) (T m : Nat) : tj_xs (fun p => g p ^^^ h p) T m = tj_xs g T m ^^^ tj_xs h T m := by
  apply Nat.eq_of_testBit_eq
  intro i
  rw [Nat.testBit_xor]
  induction m with
  | zero => show (0 : Nat).testBit i = ((0 : Nat).testBit i ^^ (0 : Nat).testBit i); rw [Nat.zero_testBit]; rfl
  | succ m ih =>
    rw [tj_xs_bit, tj_xs_bit, tj_xs_bit, ih, Nat.testBit_xor]
    generalize (tj_xs g T m).testBit i = a
    generalize (tj_xs h T m).testBit i = b
    generalize T.testBit m = p
    generalize (g m).testBit i = q
    generalize (h m).testBit i = r
    cases a <;> cases b <;> cases p <;> cases q <;> cases r <;> rfl
theorem tj_poss {n M : Nat} {P Q f : Nat → Nat} {T : Nat} (h : ∀ p, p < n → f p < n ∧ tj_con (tj_ed P Q) M p (f p)) (hT : T < 2 ^ n) (hz : ∀ a, a < n → (tj_ph f T n).testBit a = false) : ∃ J, tj_xs (tj_ed P Q) J M = T := by
  have st : ∀ m, m ≤ n → ∃ J, tj_xs (tj_ed P Q) J M = tj_xs (fun p => 2 ^ p ^^^ 2 ^ f p) T m := by
    intro m
    induction m with
    | zero => intro _; exact ⟨0, tj_xs_0 _ _⟩
    | succ m ih =>
      intro hm
      obtain ⟨J, hJ⟩ := ih (by omega)
      by_cases hb : T.testBit m = true
      · obtain ⟨K, hK⟩ := (h m (by omega)).2
        exact ⟨J ^^^ K, by rw [tj_xs_s hb, tj_xs_xor, hJ, hK]⟩
      · exact ⟨J, by rw [tj_xs_n hb, hJ]⟩
  obtain ⟨J, hJ⟩ := st n (Nat.le_refl n)
  have h0 : tj_ph f T n = 0 := by
    apply Nat.eq_of_testBit_eq
    intro i
    rw [Nat.zero_testBit]
    by_cases g : i < n
    · exact hz i g
    · have hl : tj_ph f T n < 2 ^ n := tj_xs_lt (fun j hj => Nat.pow_lt_pow_right (by omega) (h j hj).1)
      exact Nat.testBit_lt_two_pow (Nat.lt_of_lt_of_le hl (Nat.pow_le_pow_right (by omega) (by omega)))
  refine ⟨J, ?_⟩
  rw [hJ, tj_xs_mix, tj_xs_id hT]
  show T ^^^ tj_ph f T n = T
  rw [h0, Nat.xor_zero]
theorem tj_ph_xor (f : Nat → Nat) (A B n : Nat) : tj_ph f (A ^^^ B) n = tj_ph f A n ^^^ tj_ph f B n := tj_xs_xor _ _ _ _
theorem tj_ph_two (f : Nat → Nat) {p n : Nat} (h : p < n) : tj_ph f (2 ^ p) n = 2 ^ f p := by
  unfold tj_ph
  rw [tj_xs_two, if_pos h]
theorem tj_imposs {n M : Nat} {P Q f : Nat → Nat} {J : Nat} (hP : ∀ e, e < M → P e < n ∧ Q e < n) (h : ∀ e, e < M → f (P e) = f (Q e)) : tj_ph f (tj_xs (tj_ed P Q) J M) n = 0 := by
  induction M with
  | zero => exact tj_xs_0 _ _
  | succ M ih =>
    have h1 := ih (fun e he => hP e (by omega)) (fun e he => h e (by omega))
    by_cases hb : J.testBit M = true
    · rw [tj_xs_s hb, tj_ph_xor, h1]
      unfold tj_ed
      rw [tj_ph_xor, tj_ph_two f (hP M (by omega)).1, tj_ph_two f (hP M (by omega)).2, h M (by omega), Nat.xor_self]
      rfl
    · rw [tj_xs_n hb]
      exact h1
/-! shortest ways: one round -/
def tj_fw (D : Nat → Int) (o k : Nat) : Int := if D (7 * (k / 7) + o) + D (7 * o + k % 7) < D k then D (7 * (k / 7) + o) + D (7 * o + k % 7) else D k
theorem tj_fw_ij (D : Nat → Int) (o i : Nat) {j : Nat} (hj : j < 7) : tj_fw D o (7 * i + j) = if D (7 * i + o) + D (7 * o + j) < D (7 * i + j) then D (7 * i + o) + D (7 * o + j) else D (7 * i + j) := by
  unfold tj_fw
  rw [show (7 * i + j) / 7 = i by omega, show (7 * i + j) % 7 = j by omega]
theorem tj_fw_le (D : Nat → Int) (o k : Nat) : tj_fw D o k ≤ D k := by
  unfold tj_fw
  split <;> omega
theorem tj_fw_col {D : Nat → Int} {o i : Nat} (ho : o < 7) (h0 : 0 ≤ D (7 * o + o)) : tj_fw D o (7 * i + o) = D (7 * i + o) := by
  rw [tj_fw_ij D o i ho, if_neg (by omega)]
theorem tj_fw_row {D : Nat → Int} {o j : Nat} (hj : j < 7) (h0 : 0 ≤ D (7 * o + o)) : tj_fw D o (7 * o + j) = D (7 * o + j) := by
  rw [tj_fw_ij D o o hj, if_neg (by omega)]
theorem tj_fw_tri {D : Nat → Int} {o : Nat} (ho : o < 7) (h0 : ∀ k, k < 49 → 0 ≤ D k) (ht : ∀ i j x, i < 7 → j < 7 → x < o → D (7 * i + j) ≤ D (7 * i + x) + D (7 * x + j)) :
    ∀ i j x, i < 7 → j < 7 → x < o + 1 → tj_fw D o (7 * i + j) ≤ tj_fw D o (7 * i + x) + tj_fw D o (7 * x + j) := by
  intro i j x hi hj hx
  have hoo := h0 (7 * o + o) (by omega)
  by_cases e : x = o
  · subst e
    rw [tj_fw_col ho hoo, tj_fw_row hj hoo, tj_fw_ij D x i hj]
    split <;> omega
  · have a1 := ht i j x hi hj (by omega)
    have a2 := ht o j x ho hj (by omega)
    have a3 := ht i o x hi ho (by omega)
    have a4 := h0 (7 * o + x) (by omega)
    have a5 := h0 (7 * x + o) (by omega)
    rw [tj_fw_ij D o i hj, tj_fw_ij D o i (show x < 7 by omega), tj_fw_ij D o x hj]
    generalize D (7 * i + j) = ij at *
    generalize D (7 * i + x) = ix at *
    generalize D (7 * x + j) = xj at *
    generalize D (7 * o + j) = oj at *
    generalize D (7 * o + x) = ox at *
    generalize D (7 * i + o) = io at *
    generalize D (7 * x + o) = xo at *
    split <;> split <;> split <;> omega
end
section
/-! Int32 and naturals: bits, sums (nI under xor and and: turned from kit/laws/BITS.to-paste) -/
theorem tj_nx (a b : Nat) : nI a ^^^ nI b = nI (a ^^^ b) := by
  apply Int32.toBitVec_inj.1
  show BitVec.ofNat 32 a ^^^ BitVec.ofNat 32 b = BitVec.ofNat 32 (a ^^^ b)
  apply BitVec.eq_of_getLsbD_eq
  intro i hi
  simp [hi]
theorem tj_na (a b : Nat) : nI a &&& nI b = nI (a &&& b) := by
  apply Int32.toBitVec_inj.1
  show BitVec.ofNat 32 a &&& BitVec.ofNat 32 b = BitVec.ofNat 32 (a &&& b)
  apply BitVec.eq_of_getLsbD_eq
  intro i hi
  simp [hi]
theorem tj_no (a b : Nat) : nI a ||| nI b = nI (a ||| b) := by
  apply Int32.toBitVec_inj.1
  show BitVec.ofNat 32 a ||| BitVec.ofNat 32 b = BitVec.ofNat 32 (a ||| b)
  apply BitVec.eq_of_getLsbD_eq
  intro i hi
  simp [hi]
theorem tj_sl : ∀ n, n < 32 → ((nI n &&& 31).toBitVec.smod 32).toNat = n := by decide +kernel
theorem tj_one : ∀ k, k < 31 → (1 : Int32) <<< (nI k &&& 31) = nI (2 ^ k) := by decide +kernel
theorem tj_sh {s e : Nat} (hs : s < 2 ^ 31) (he : e < 32) : (nI s >>> (nI e &&& 31)) &&& 1 = nI (s.testBit e).toNat := by
  rw [pk_shrN hs _ e (tj_sl e he), Nat.toNat_testBit]
  exact pk_andN (Nat.lt_of_le_of_lt (Nat.div_le_self _ _) (by omega)) 1 (by decide)
theorem tj_bl (b : Bool) : b.toNat < 2 := by cases b <;> decide
theorem tj_b1 {s e : Nat} (hs : s < 2 ^ 31) (he : e < 32) : (nI s >>> (nI e &&& 31)) &&& 1 = 1 ↔ s.testBit e = true := by
  rw [tj_sh hs he]
  cases s.testBit e <;> decide
theorem tj_b0 {s e : Nat} (hs : s < 2 ^ 31) (he : e < 32) : (nI s >>> (nI e &&& 31)) &&& 1 = 0 ↔ ¬ s.testBit e = true := by
  rw [tj_sh hs he]
  cases s.testBit e <;> decide
theorem tj_bx (a b : Bool) : nI a.toNat ^^^ nI b.toNat = nI (a ^^ b).toNat := by cases a <;> cases b <;> decide
/-- a branch by size, on the numbers -/
theorem tj_le {x y : Int32} {A B : Prop} (f : x.toInt ≤ y.toInt → A) (g : y.toInt < x.toInt → B) : (x ≤ y → A) ∧ (¬ x ≤ y → B) := by
  rw [Int32.le_iff_toInt_le]
  exact ⟨f, fun z => g (by omega)⟩
theorem tj_lt {x y : Int32} {A B : Prop} (f : x.toInt < y.toInt → A) (g : y.toInt ≤ x.toInt → B) : (x < y → A) ∧ (¬ x < y → B) := by
  rw [Int32.lt_iff_toInt_lt]
  exact ⟨f, fun z => g (by omega)⟩
theorem tj_add {x y : Int32} (h1 : -2147483648 ≤ x.toInt + y.toInt) (h2 : x.toInt + y.toInt < 2147483648) : (x + y).toInt = x.toInt + y.toInt := by
  rw [Int32.toInt_add, Int.bmod_def]
  omega
theorem tj_sub {x y : Int32} (h1 : -2147483648 ≤ x.toInt - y.toInt) (h2 : x.toInt - y.toInt < 2147483648) : (x - y).toInt = x.toInt - y.toInt := by
  rw [Int32.toInt_sub, Int.bmod_def]
  omega
theorem tj_ng {x : Int32} (h1 : -2147483648 ≤ - x.toInt) (h2 : - x.toInt < 2147483648) : (-x).toInt = - x.toInt := by
  rw [Int32.toInt_neg, Int.bmod_def]
  omega
theorem tj_k (n : Int32) (x : Int32) (k : Int) (hn : n.toInt = k) (h1 : -2147483648 ≤ k * x.toInt) (h2 : k * x.toInt < 2147483648) : (n * x).toInt = k * x.toInt := by
  rw [Int32.toInt_mul, hn, Int.bmod_def]
  omega
theorem tj_i {n : Nat} (h : n < 2147483648) : (nI n).toInt = (n : Int) := nI_toInt h
theorem tj_far : (268435456 : Int32).toInt = 268435456 := by decide
theorem tj_z0 : (0 : Int32).toInt = 0 := by decide
/-- a store seen from its place -/
theorem tj_u {f : Nat → Int32} {k : Nat} {x : Int32} {j : Nat} : upd f k x j = if j = k then x else f j := rfl
end
section
/-! the walks of findParts, isPossible, countParts -/
/-- the picture of the graph: n places, M roads, their ends -/
def tj_gr (n M : Nat) (P Q : Nat → Nat) (a1 a2 : Nat → Int32) : Prop := 2 ≤ n ∧ n ≤ 7 ∧ M ≤ 12 ∧ (∀ e, e < M → a1 e = nI (P e) ∧ a2 e = nI (Q e)) ∧ ∀ e, e < M → P e < n ∧ Q e < n
theorem tj_fill {F s : Nat → Int32} {i : Nat} {x : Int32} (h : ∀ p, p < i → s p = F p) (hx : x = F i) : ∀ p, p < i + 1 → upd s i x p = F p := by
  intro p hp
  by_cases e : p = i
  · rw [e, pk_us, hx]
  · rw [pk_un e]
    exact h p (by omega)
theorem tj_keep {F s : Nat → Int32} {i : Nat} {x : Int32} (h : ∀ p, i ≤ p → s p = F p) : ∀ p, i + 1 ≤ p → upd s i x p = F p := by
  intro p hp
  rw [pk_un (by omega)]
  exact h p (by omega)
theorem tj_p2 {n T : Nat} (hn : n ≤ 7) (hT : T < 2 ^ n) : T < 128 := Nat.lt_of_lt_of_le hT (Nat.pow_le_pow_right (by omega) hn)
theorem tj_p60 {post : St2 → Prop} {J : Int32 → (Nat → Int32) → (Nat → Int32) → (Nat → Int32) → (Nat → Int32) → (Nat → Int32) → (Nat → Int32) → (Nat → Int32) → (Nat → Int32) → (Nat → Int32) → Prop} {x1 x2 x3 f1 f2 : Int32} {a1 a2 a3 a4 a5 a6 a7 a8 a9 : Nat → Int32} {n : Nat} (hn : n ≤ 7)
    (H : ∀ g : Nat → Int32, (∀ p, p < n → g p = if a9 p = x3 then x2 else a9 p) → J (x1 + 1) a1 a2 a3 a4 a5 a6 a7 a8 g) :
    ∃ fu, wX_findParts_60 post J x1 x2 x3 (nI n) f1 f2 fu 0 a1 a2 a3 a4 a5 a6 a7 a8 a9 := by
  refine pk_loop (fun k i s => wX_findParts_60 post J x1 x2 x3 (nI n) f1 f2 k (nI i) a1 a2 a3 a4 a5 a6 a7 a8 s) (fun i s => (∀ p, p < i → s p = if a9 p = x3 then x2 else a9 p) ∧ ∀ p, i ≤ p → s p = a9 p) n 0 a9 (by omega) ⟨fun p hp => absurd hp (by omega), fun p _ => rfl⟩ ?_ ?_
  · intro k s h
    exact pk_le n n (fun _ => nm_e (H s h.1)) (fun z => absurd z (by omega))
  · intro k i s hi h hw
    refine pk_le n i (fun z => absurd z (by omega)) (fun _ => ⟨pk_in i 7 (by omega), ?_⟩)
    rw [nI_clamp (show i < 2 ^ 31 by omega), h.2 i (Nat.le_refl i)]
    refine br_c (fun c => ⟨pk_in i 7 (by omega), nm_e (nm_r (nI_1 i) (hw _ ⟨tj_fill (F := fun p => if a9 p = x3 then x2 else a9 p) h.1 ?_, tj_keep h.2⟩))⟩) (fun c => ⟨pk_in i 7 (by omega), pk_in i 7 (by omega), nm_e (nm_r (nI_1 i) (hw _ ⟨tj_fill (F := fun p => if a9 p = x3 then x2 else a9 p) h.1 ?_, tj_keep h.2⟩))⟩)
    · show x2 = if a9 i = x3 then x2 else a9 i
      rw [if_pos c]
    · show a9 i = if a9 i = x3 then x2 else a9 i
      rw [if_neg c]
theorem tj_p25 {post : St2 → Prop} {f2 : Int32} {a1 a2 a3 a4 a5 a6 a7 a8 a9 : Nat → Int32} {n M : Nat} {P Q f : Nat → Nat} (hG : tj_gr n M P Q a1 a2) (hl : tj_lbl n M 0 P Q f) (hg : ∀ p, p < n → a9 p = nI (f p))
    (H : ∀ (g : Nat → Int32) (f : Nat → Nat), tj_lbl n M M P Q f → (∀ p, p < n → g p = nI (f p)) → post (nI n, nI M, f2, a1, a2, a3, a4, a5, a6, a7, a8, g)) :
    ∃ fu, wX_findParts_25 post (nI n) (nI M) f2 fu 0 a1 a2 a3 a4 a5 a6 a7 a8 a9 := by
  obtain ⟨h2, hn, hM, hE, hP⟩ := hG
  refine pk_loop (fun k i s => wX_findParts_25 post (nI n) (nI M) f2 k (nI i) a1 a2 a3 a4 a5 a6 a7 a8 s) (fun i s => ∃ f : Nat → Nat, tj_lbl n M i P Q f ∧ ∀ p, p < n → s p = nI (f p)) M 0 a9 (by omega) ⟨f, hl, hg⟩ ?_ ?_
  · intro k s h
    obtain ⟨f, l, hs⟩ := h
    exact pk_le M M (fun _ => H s f l hs) (fun z => absurd z (by omega))
  · intro k i s hi h hw
    obtain ⟨f, l, hs⟩ := h
    have ge := hE i hi
    have gp := hP i hi
    have l1 := l.1
    refine pk_le M i (fun z => absurd z (by omega)) (fun _ => ⟨pk_in i 12 (by omega), ?_⟩)
    rw [nI_clamp (show i < 2 ^ 31 by omega), ge.1, ge.2, nI_clamp (show P i < 2 ^ 31 by omega), nI_clamp (show Q i < 2 ^ 31 by omega)]
    refine ⟨pk_in (P i) 7 (by omega), nm_e ⟨pk_in i 12 (by omega), pk_in (Q i) 7 (by omega), nm_e (tj_p60 hn (fun g hg => ?_))⟩⟩
    rw [nI_1]
    refine hw g ⟨fun p => if f p = f (Q i) then f (P i) else f p, tj_lbl_s hi hP l (fun p _ => rfl), fun p hp => ?_⟩
    rw [hg p hp, hs p hp, hs _ gp.1, hs _ gp.2]
    have b1 := (l1 p hp).1
    have b2 := (l1 _ gp.2).1
    show _ = nI (if f p = f (Q i) then f (P i) else f p)
    by_cases c : f p = f (Q i)
    · rw [if_pos (by rw [c]), if_pos c]
    · rw [if_neg (fun z => c ((nI_eq (by omega) (by omega)).mp z)), if_neg c]
theorem tj_findParts {post : St2 → Prop} {f2 : Int32} {a1 a2 a3 a4 a5 a6 a7 a8 a9 : Nat → Int32} {n M : Nat} {P Q : Nat → Nat} (hG : tj_gr n M P Q a1 a2)
    (H : ∀ (g : Nat → Int32) (f : Nat → Nat), tj_lbl n M M P Q f → (∀ p, p < n → g p = nI (f p)) → post (nI n, nI M, f2, a1, a2, a3, a4, a5, a6, a7, a8, g)) :
    wpX_findParts post (nI n, nI M, f2, a1, a2, a3, a4, a5, a6, a7, a8, a9) := by
  have hn : n ≤ 7 := hG.2.1
  unfold wpX_findParts
  dsimp only
  refine pk_loop (fun k i s => wX_findParts_2 post (nI n) (nI M) f2 k (nI i) a1 a2 a3 a4 a5 a6 a7 a8 s) (fun i s => ∀ p, p < i → s p = nI p) n 0 a9 (by omega) (fun p hp => absurd hp (by omega)) ?_ ?_
  · intro k s h
    exact pk_le n n (fun _ => tj_p25 (f := fun p => p) hG (tj_lbl_0 (fun p _ => rfl)) h H) (fun z => absurd z (by omega))
  · intro k i s hi h hw
    refine pk_le n i (fun z => absurd z (by omega)) (fun _ => ⟨pk_in i 7 (by omega), ?_⟩)
    rw [nI_clamp (show i < 2 ^ 31 by omega)]
    exact nm_e (nm_r (nI_1 i) (hw _ (tj_fill (F := fun p => nI p) h rfl)))
theorem tj_ph_s (f : Nat → Nat) (T i a : Nat) : (tj_ph f T (i + 1)).testBit a = ((tj_ph f T i).testBit a ^^ (T.testBit i && decide (f i = a))) := by
  unfold tj_ph
  rw [tj_xs_bit, Nat.testBit_two_pow]
theorem tj_q19 {post : Int32 → St2 → Prop} {J : Int32 → Prop} {f1 f2 : Int32} {a1 a2 a3 a4 a5 a6 a7 a8 a9 : Nat → Int32} {n T a : Nat} {f : Nat → Nat} (hn : n ≤ 7) (hT : T < 2 ^ 31) (ha : a < n) (hf : ∀ p, p < n → a9 p = nI (f p) ∧ f p < n)
    (H0 : (tj_ph f T n).testBit a = true → post 0 (nI n, f1, f2, a1, a2, a3, a4, a5, a6, a7, a8, a9))
    (H1 : (tj_ph f T n).testBit a = false → J (nI (a + 1))) :
    ∃ fu, wX_isPossible_19 post J (nI T) (nI a) (nI n) f1 f2 a1 a2 a3 a4 a5 a6 a7 a8 a9 fu 0 0 := by
  have z : nI ((tj_ph f T 0).testBit a).toNat = 0 := by
    show nI ((0 : Nat).testBit a).toNat = 0
    rw [Nat.zero_testBit]
    rfl
  have h : ∃ k, wX_isPossible_19 post J (nI T) (nI a) (nI n) f1 f2 a1 a2 a3 a4 a5 a6 a7 a8 a9 k (nI ((tj_ph f T 0).testBit a).toNat) (nI 0) := by
    refine pk_loop (σ := Unit) (fun k i _ => wX_isPossible_19 post J (nI T) (nI a) (nI n) f1 f2 a1 a2 a3 a4 a5 a6 a7 a8 a9 k (nI ((tj_ph f T i).testBit a).toNat) (nI i)) (fun _ _ => True) n 0 () (by omega) trivial ?_ ?_
    · intro k _ _
      refine pk_le n n (fun _ => ?_) (fun z => absurd z (by omega))
      cases hb : (tj_ph f T n).testBit a
      · exact br_f (by decide) (nm_r (nI_1 a) (H1 hb))
      · exact br_t rfl (H0 hb)
    · intro k i _ hi _ hw
      have h1 := hf i hi
      refine pk_le n i (fun z => absurd z (by omega)) (fun _ => ⟨pk_in i 7 (by omega), ?_⟩)
      rw [nI_clamp (show i < 2 ^ 31 by omega), h1.1]
      refine pk_eq (f i) a (fun c => ?_) (fun c => ?_)
      · refine nm_r (e' := nI ((tj_ph f T (i + 1)).testBit a).toNat) ?_ (nm_r (nI_1 i) (hw () trivial))
        rw [tj_sh hT (by omega), tj_bx, tj_ph_s, decide_eq_true c, Bool.and_true]
      · refine nm_r (e' := nI ((tj_ph f T (i + 1)).testBit a).toNat) ?_ (nm_r (nI_1 i) (hw () trivial))
        rw [tj_ph_s, decide_eq_false c, Bool.and_false, Bool.xor_false]
        show nI _ ^^^ nI 0 = _
        rw [tj_nx, Nat.xor_zero]
  rw [z] at h
  exact h
theorem tj_q6 {post : Int32 → St2 → Prop} {f1 f2 : Int32} {a1 a2 a3 a4 a5 a6 a7 a8 a9 : Nat → Int32} {n T : Nat} {f : Nat → Nat} (hn : n ≤ 7) (hT : T < 2 ^ 31) (hf : ∀ p, p < n → a9 p = nI (f p) ∧ f p < n)
    (H0 : (∃ a, (tj_ph f T n).testBit a = true) → post 0 (nI n, f1, f2, a1, a2, a3, a4, a5, a6, a7, a8, a9))
    (H1 : (∀ a, a < n → (tj_ph f T n).testBit a = false) → post 1 (nI n, f1, f2, a1, a2, a3, a4, a5, a6, a7, a8, a9)) :
    ∃ fu, wX_isPossible_6 post (nI T) (nI n) f1 f2 a1 a2 a3 a4 a5 a6 a7 a8 a9 fu 0 := by
  refine pk_loop (σ := Unit) (fun k i _ => wX_isPossible_6 post (nI T) (nI n) f1 f2 a1 a2 a3 a4 a5 a6 a7 a8 a9 k (nI i)) (fun i _ => ∀ a, a < i → (tj_ph f T n).testBit a = false) n 0 () (by omega) (fun p hp => absurd hp (by omega)) ?_ ?_
  · intro k _ h
    exact pk_le n n (fun _ => H1 h) (fun z => absurd z (by omega))
  · intro k i _ hi h hw
    exact pk_le n i (fun z => absurd z (by omega)) (fun _ => tj_q19 hn hT hi hf (fun b => H0 ⟨i, b⟩) (fun b => hw () (lt_s h b)))
theorem tj_isPossible {post : Int32 → St2 → Prop} {f2 : Int32} {a1 a2 a3 a4 a5 a6 a7 a8 a9 : Nat → Int32} {n M T : Nat} {P Q : Nat → Nat} (hG : tj_gr n M P Q a1 a2) (hT : T < 2 ^ n)
    (H0 : (¬ ∃ J, tj_xs (tj_ed P Q) J M = T) → ∀ g, post 0 (nI n, nI M, f2, a1, a2, a3, a4, a5, a6, a7, a8, g))
    (H1 : (∃ J, tj_xs (tj_ed P Q) J M = T) → ∀ g, post 1 (nI n, nI M, f2, a1, a2, a3, a4, a5, a6, a7, a8, g)) :
    wpX_isPossible post (nI n, nI M, f2, a1, a2, a3, a4, a5, a6, a7, a8, a9) (nI T) := by
  have hn : n ≤ 7 := hG.2.1
  have hT7 := tj_p2 hn hT
  unfold wpX_isPossible
  dsimp only
  refine tj_findParts hG (fun g f l hg => ?_)
  dsimp only
  refine tj_q6 hn (by omega) (fun p hp => ⟨hg p hp, (l.1 p hp).1⟩) (fun h => H0 (fun hJ => ?_) g) (fun h => H1 (tj_poss l.1 hT h) g)
  obtain ⟨a, ha⟩ := h
  obtain ⟨J, hJ⟩ := hJ
  rw [← hJ, tj_imposs hG.2.2.2.2 l.2.1, Nat.zero_testBit] at ha
  exact absurd ha (by decide)
theorem tj_c21 {post : Int32 → St2 → Prop} {J : Int32 → Int32 → Prop} {f0 f1 f2 : Int32} {a1 a2 a3 a4 a5 a6 a7 a8 a9 : Nat → Int32} {n p : Nat} {f : Nat → Nat} (hn : n ≤ 7) (hp : p < n) (hf : ∀ p, p < n → a9 p = nI (f p) ∧ f p < n)
    (H : J (nI (tj_cf f (p + 1))) (nI (p + 1))) :
    ∃ fu, wX_countParts_21 post J (nI (tj_cf f p)) (nI p) f0 f1 f2 a1 a2 a3 a4 a5 a6 a7 a8 a9 fu 1 0 := by
  refine pk_loop (σ := Unit) (fun k i _ => wX_countParts_21 post J (nI (tj_cf f p)) (nI p) f0 f1 f2 a1 a2 a3 a4 a5 a6 a7 a8 a9 k (nI (!(tj_lab f i (f p))).toNat) (nI i)) (fun _ _ => True) p 0 () (by omega) trivial ?_ ?_
  · intro k _ _
    refine pk_le p p (fun _ => ?_) (fun z => absurd z (by omega))
    have e : tj_cf f (p + 1) = tj_cf f p + (if tj_lab f p (f p) = true then 0 else 1) := rfl
    cases hb : tj_lab f p (f p)
    · rw [hb, if_neg (by decide)] at e
      exact br_f (by decide) (nm_r (by rw [nI_1, e]) (nm_r (nI_1 p) H))
    · rw [hb, if_pos rfl] at e
      exact br_t rfl (nm_r (e' := nI (tj_cf f (p + 1))) (by rw [e]; show nI _ + nI 0 = _; rw [nI_add]) (nm_r (nI_1 p) H))
  · intro k i _ hi _ hw
    have h1 := hf i (by omega)
    have h2 := hf p hp
    have e : tj_lab f (i + 1) (f p) = (tj_lab f i (f p) || decide (f i = f p)) := rfl
    refine pk_le p i (fun z => absurd z (by omega)) (fun _ => ?_)
    have w := hw () trivial
    cases hb : tj_lab f i (f p)
    · rw [hb, Bool.false_or] at e
      refine br_f (by decide) ⟨pk_in i 7 (by omega), pk_in p 7 (by omega), ?_⟩
      rw [nI_clamp (show i < 2 ^ 31 by omega), nI_clamp (show p < 2 ^ 31 by omega), h1.1, h2.1]
      refine pk_eq (f i) (f p) (fun c => nm_r (nI_1 i) ?_) (fun c => nm_r (nI_1 i) ?_)
      · rw [decide_eq_true c] at e
        rw [e] at w
        exact w
      · rw [decide_eq_false c] at e
        rw [e] at w
        exact w
    · rw [hb, Bool.true_or] at e
      refine br_t rfl (nm_r (nI_1 i) ?_)
      rw [e] at w
      exact w
theorem tj_countParts {post : Int32 → St2 → Prop} {f2 : Int32} {a1 a2 a3 a4 a5 a6 a7 a8 a9 : Nat → Int32} {n M : Nat} {P Q : Nat → Nat} (hG : tj_gr n M P Q a1 a2)
    (H : ∀ (g : Nat → Int32) (k : Nat), n ≤ k + M → k ≤ n → post (nI k) (nI n, nI M, f2, a1, a2, a3, a4, a5, a6, a7, a8, g)) :
    wpX_countParts post (nI n, nI M, f2, a1, a2, a3, a4, a5, a6, a7, a8, a9) := by
  have hn : n ≤ 7 := hG.2.1
  unfold wpX_countParts
  dsimp only
  refine tj_findParts hG (fun g f l hg => ?_)
  dsimp only
  refine pk_loop (σ := Unit) (fun k i _ => wX_countParts_8 post (nI n) (nI M) f2 a1 a2 a3 a4 a5 a6 a7 a8 g k (nI (tj_cf f i)) (nI i)) (fun _ _ => True) n 0 () (by omega) trivial ?_ ?_
  · intro k _ _
    have h1 := tj_fx_cf f n
    have h2 := tj_cf_le f n
    have h3 := l.2.2
    exact pk_le n n (fun _ => H g _ (by omega) h2) (fun z => absurd z (by omega))
  · intro k i _ hi _ hw
    exact pk_le n i (fun z => absurd z (by omega)) (fun _ => tj_c21 hn hi (fun p hp => ⟨hg p hp, (l.1 p hp).1⟩) (hw () trivial))
end
section
/-! the walks of takeCosts, take, findWays -/
theorem tj_cost {x : Int32} {t : Nat} (h1 : -9 ≤ x.toInt) (h2 : x.toInt ≤ 20) (ht : t ≤ 2048) : (4096 * x + nI t).toInt = 4096 * x.toInt + (t : Int) := by
  have k1 : (4096 * x).toInt = 4096 * x.toInt := tj_k 4096 x 4096 (by decide) (by omega) (by omega)
  have k2 : (nI t).toInt = (t : Int) := tj_i (by omega)
  rw [tj_add (by rw [k1, k2]; omega) (by rw [k1, k2]; omega), k1, k2]
/-- a road's cost: its weight and its number -/
def tj_c (w : Nat → Int) (e : Nat) : Int := 4096 * w e + ((2 ^ e : Nat) : Int)
theorem tj_pw {e : Nat} (h : e < 12) : 2 ^ e ≤ 2048 := (Nat.pow_le_pow_right (by omega) (show e ≤ 11 by omega) : 2 ^ e ≤ 2 ^ 11)
theorem tj_takeCosts {post : St2 → Prop} {f0 f2 : Int32} {a1 a2 a3 a4 a5 a6 a7 a8 a9 : Nat → Int32} {M : Nat} (hM : M ≤ 12) (hw : ∀ e, e < M → -9 ≤ (a3 e).toInt ∧ (a3 e).toInt ≤ 20)
    (H : ∀ g : Nat → Int32, (∀ e, e < M → (g e).toInt = tj_c (fun e => (a3 e).toInt) e) → post (f0, nI M, f2, a1, a2, a3, g, a5, a6, a7, a8, a9)) :
    wpX_takeCosts post (f0, nI M, f2, a1, a2, a3, a4, a5, a6, a7, a8, a9) := by
  unfold wpX_takeCosts
  dsimp only
  refine pk_loop (fun k i s => wX_takeCosts_2 post f0 (nI M) f2 k (nI i) a1 a2 a3 s a5 a6 a7 a8 a9) (fun i s => ∀ e, e < i → (s e).toInt = tj_c (fun e => (a3 e).toInt) e) M 0 a4 (by omega) (fun p hp => absurd hp (by omega)) ?_ ?_
  · intro k s h
    exact pk_le M M (fun _ => H s h) (fun z => absurd z (by omega))
  · intro k i s hi h hw'
    refine pk_le M i (fun z => absurd z (by omega)) (fun _ => ⟨pk_in i 12 (by omega), pk_in i 12 (by omega), ?_⟩)
    rw [nI_clamp (show i < 2 ^ 31 by omega), tj_one i (by omega)]
    refine nm_e (nm_r (nI_1 i) (hw' _ (fun e he => ?_)))
    by_cases c : e = i
    · rw [c, pk_us]
      exact tj_cost (hw i hi).1 (hw i hi).2 (tj_pw (by omega))
    · rw [pk_un c]
      exact h e (by omega)
theorem tj_take {post : St2 → Prop} {f0 f1 f2 : Int32} {a1 a2 a3 a4 a5 a6 a7 a8 a9 : Nat → Int32} {k : Nat} {x y : Int32} (hk : k < 49)
    (H1 : (a5 k).toInt ≤ x.toInt → post (f0, f1, f2, a1, a2, a3, a4, a5, a6, a7, a8, a9))
    (H2 : x.toInt < (a5 k).toInt → post (f0, f1, f2, a1, a2, a3, a4, upd a5 k x, upd a6 k y, a7, a8, a9)) :
    wpX_take post (f0, f1, f2, a1, a2, a3, a4, a5, a6, a7, a8, a9) (nI k) x y := by
  unfold wpX_take
  dsimp only
  refine ⟨pk_in k 49 hk, ?_⟩
  rw [nI_clamp (show k < 2 ^ 31 by omega)]
  exact tj_le H1 (fun z => ⟨pk_in k 49 hk, nm_e ⟨pk_in k 49 hk, nm_e (H2 z)⟩⟩)
/-- a cell: a length x, and where it is no FAR a set of roads y whose odd places are T and whose cost is at most x -/
def tj_fv (P Q : Nat → Nat) (M : Nat) (c : Nat → Int) (T : Nat) (x y : Int32) : Prop := 0 ≤ x.toInt ∧ x.toInt ≤ 268435456 ∧ ∃ v, v < 2 ^ M ∧ y = nI v ∧ (x.toInt < 268435456 → tj_xs (tj_ed P Q) v M = T ∧ tj_cc (tj_ab c) v M ≤ x.toInt)
def tj_t (k : Nat) : Nat := 2 ^ (k / 7) ^^^ 2 ^ (k % 7)
theorem tj_t_ij (i : Nat) {j : Nat} (hj : j < 7) : tj_t (7 * i + j) = 2 ^ i ^^^ 2 ^ j := by
  unfold tj_t
  rw [show (7 * i + j) / 7 = i by omega, show (7 * i + j) % 7 = j by omega]
theorem tj_fv_far {P Q : Nat → Nat} {M : Nat} {c : Nat → Int} {T : Nat} : tj_fv P Q M c T 268435456 0 :=
  ⟨by decide, by decide, 0, Nat.two_pow_pos M, rfl, fun z => absurd z (by rw [tj_far]; omega)⟩
theorem tj_fv_0 {P Q : Nat → Nat} {M : Nat} {c : Nat → Int} {T : Nat} (hT : T = 0) : tj_fv P Q M c T 0 0 :=
  ⟨by decide, by decide, 0, Nat.two_pow_pos M, rfl, fun _ => ⟨by rw [tj_xs_0, hT], by rw [tj_cc_0]; decide⟩⟩
theorem tj_fv_add {P Q : Nat → Nat} {M : Nat} {c : Nat → Int} {T1 T2 : Nat} {x1 x2 y1 y2 : Int32} (h1 : tj_fv P Q M c T1 x1 y1) (h2 : tj_fv P Q M c T2 x2 y2) (hl : x1.toInt + x2.toInt < 268435456) : tj_fv P Q M c (T1 ^^^ T2) (x1 + x2) (y1 ^^^ y2) := by
  obtain ⟨p1, q1, v1, r1, s1, t1⟩ := h1
  obtain ⟨p2, q2, v2, r2, s2, t2⟩ := h2
  have e : (x1 + x2).toInt = x1.toInt + x2.toInt := tj_add (by omega) (by omega)
  have g1 := t1 (by omega)
  have g2 := t2 (by omega)
  have g3 : tj_cc (tj_ab c) (v1 ^^^ v2) M ≤ tj_cc (tj_ab c) v1 M + tj_cc (tj_ab c) v2 M := tj_cc_xor (fun j _ => tj_ab_nn c j)
  refine ⟨by omega, by omega, v1 ^^^ v2, Nat.xor_lt_two_pow r1 r2, by rw [s1, s2, tj_nx], fun _ => ⟨by rw [tj_xs_xor, g1.1, g2.1], by omega⟩⟩
/-- all cells of far and via -/
def tj_fc (P Q : Nat → Nat) (M : Nat) (c : Nat → Int) (g h : Nat → Int32) : Prop := ∀ k, k < 49 → tj_fv P Q M c (tj_t k) (g k) (h k)
theorem tj_fc_upd {P Q : Nat → Nat} {M : Nat} {c : Nat → Int} {g h : Nat → Int32} {k : Nat} {x y : Int32} (hc : tj_fc P Q M c g h) (hx : tj_fv P Q M c (tj_t k) x y) : tj_fc P Q M c (upd g k x) (upd h k y) := by
  intro j hj
  by_cases e : j = k
  · rw [e, pk_us, pk_us]; exact hx
  · rw [pk_un e, pk_un e]; exact hc j hj
theorem tj_takeE {post : St2 → Prop} {f0 f1 f2 : Int32} {a1 a2 a3 a4 a5 a6 a7 a8 a9 : Nat → Int32} {k : Nat} {x y : Int32} {P Q : Nat → Nat} {M : Nat} {c : Nat → Int} (hk : k < 49) (hc : tj_fc P Q M c a5 a6) (hx : tj_fv P Q M c (tj_t k) x y)
    (H : ∀ g h, tj_fc P Q M c g h → (∀ j, (g j).toInt ≤ (a5 j).toInt) → (g k).toInt ≤ x.toInt → post (f0, f1, f2, a1, a2, a3, a4, g, h, a7, a8, a9)) :
    wpX_take post (f0, f1, f2, a1, a2, a3, a4, a5, a6, a7, a8, a9) (nI k) x y := by
  refine tj_take hk (fun z => H a5 a6 hc (fun j => Int.le_refl _) z) (fun z => H _ _ (tj_fc_upd hc hx) (fun j => ?_) ?_)
  · by_cases e : j = k
    · rw [e, pk_us]; omega
    · rw [pk_un e]; exact Int.le_refl _
  · rw [pk_us]; exact Int.le_refl _
theorem tj_w30 {post : St2 → Prop} {J : Int32 → (Nat → Int32) → (Nat → Int32) → (Nat → Int32) → (Nat → Int32) → (Nat → Int32) → (Nat → Int32) → (Nat → Int32) → (Nat → Int32) → (Nat → Int32) → Prop} {z f0 f1 f2 : Int32} {a1 a2 a3 a4 a5 a6 a7 a8 a9 : Nat → Int32} {k : Nat} (hk : k < 49)
    (H : J (nI (k + 1)) a1 a2 a3 a4 (upd a5 k z) (upd a6 k 0) a7 a8 a9) :
    wX_findWays_30 post J (nI k) z (nI k) f0 f1 f2 a1 a2 a3 a4 a5 a6 a7 a8 a9 := by
  unfold wX_findWays_30
  rw [nI_clamp (show k < 2 ^ 31 by omega)]
  exact ⟨pk_in k 49 hk, nm_e ⟨pk_in k 49 hk, nm_e (nm_r (nI_1 k) H)⟩⟩
/-- the lengths of the first k roads are met -/
def tj_eb (P Q : Nat → Nat) (c : Nat → Int) (k : Nat) (g : Nat → Int32) : Prop := ∀ e, e < k → (g (7 * P e + Q e)).toInt ≤ tj_ab c e ∧ (g (7 * Q e + P e)).toInt ≤ tj_ab c e
theorem tj_w79 {post : St2 → Prop} {J : Int32 → Int32 → Int32 → Int32 → (Nat → Int32) → (Nat → Int32) → (Nat → Int32) → (Nat → Int32) → (Nat → Int32) → (Nat → Int32) → (Nat → Int32) → (Nat → Int32) → (Nat → Int32) → Prop} {z f0 f1 f2 : Int32} {a1 a2 a3 a4 a5 a6 a7 a8 a9 : Nat → Int32} {n M : Nat} {P Q : Nat → Nat} {c : Nat → Int} {e : Nat} (hG : tj_gr n M P Q a1 a2) (he : e < M) (hz : z.toInt = tj_ab c e) (hz2 : tj_ab c e ≤ 268435456) (hc : tj_fc P Q M c a5 a6) (hb : tj_eb P Q c e a5)
    (H : ∀ g h, tj_fc P Q M c g h → tj_eb P Q c (e + 1) g → J (nI (e + 1)) f0 f1 f2 a1 a2 a3 a4 g h a7 a8 a9) :
    wX_findWays_79 post J (nI e) z f0 f1 f2 a1 a2 a3 a4 a5 a6 a7 a8 a9 := by
  obtain ⟨h2, hn, hM, hE, hP⟩ := hG
  have ge := hE e he
  have gp := hP e he
  have nn := tj_ab_nn c e
  have pw : 2 ^ e < 2 ^ M := Nat.pow_lt_pow_right (by omega) he
  have x1 : (7 * nI (P e)) + nI (Q e) = nI (7 * P e + Q e) := by
    show nI 7 * nI (P e) + nI (Q e) = _
    rw [pk_mul, nI_add]
  have x2 : (7 * nI (Q e)) + nI (P e) = nI (7 * Q e + P e) := by
    show nI 7 * nI (Q e) + nI (P e) = _
    rw [pk_mul, nI_add]
  have c1 : tj_cc (tj_ab c) (2 ^ e) M = tj_ab c e := by rw [tj_cc_two, if_pos he]
  have c2 : tj_xs (tj_ed P Q) (2 ^ e) M = 2 ^ P e ^^^ 2 ^ Q e := by rw [tj_xs_two, if_pos he]; rfl
  unfold wX_findWays_79
  rw [nI_clamp (show e < 2 ^ 31 by omega), ge.1, ge.2, tj_one e (by omega), x1]
  refine ⟨pk_in e 12 (by omega), pk_in e 12 (by omega), tj_takeE (by omega) hc ⟨by omega, by omega, 2 ^ e, pw, rfl, fun _ => ⟨by rw [c2, tj_t_ij _ (by omega)], by omega⟩⟩ (fun g h hc' hm hx => ?_)⟩
  dsimp only
  rw [ge.1, ge.2, x2]
  refine ⟨pk_in e 12 (by omega), pk_in e 12 (by omega), tj_takeE (by omega) hc' ⟨by omega, by omega, 2 ^ e, pw, rfl, fun _ => ⟨by rw [c2, tj_t_ij _ (by omega), Nat.xor_comm], by omega⟩⟩ (fun g' h' hc'' hm' hx' => ?_)⟩
  dsimp only
  refine nm_r (nI_1 e) (H g' h' hc'' (fun j hj => ?_))
  by_cases q : j = e
  · subst q
    have m1 := hm' (7 * P j + Q j)
    exact ⟨by omega, by omega⟩
  · have b := hb j (by omega)
    have m1 := hm' (7 * P j + Q j)
    have m2 := hm' (7 * Q j + P j)
    have m3 := hm (7 * P j + Q j)
    have m4 := hm (7 * Q j + P j)
    exact ⟨by omega, by omega⟩
theorem tj_w146 {post : St2 → Prop} {J : Int32 → Int32 → Int32 → Int32 → (Nat → Int32) → (Nat → Int32) → (Nat → Int32) → (Nat → Int32) → (Nat → Int32) → (Nat → Int32) → (Nat → Int32) → (Nat → Int32) → (Nat → Int32) → Prop} {f0 f1 f2 : Int32} {a1 a2 a3 a4 a5 a6 a7 a8 a9 : Nat → Int32} {M : Nat} {P Q : Nat → Nat} {c : Nat → Int} {o : Nat} (ho : o < 7) (hc : tj_fc P Q M c a5 a6)
    (H : ∀ g h, tj_fc P Q M c g h → (∀ k, k < 49 → (g k).toInt = tj_fw (fun k => (a5 k).toInt) o k) → J (nI (o + 1)) f0 f1 f2 a1 a2 a3 a4 g h a7 a8 a9) :
    ∃ fu, wX_findWays_146 post J (nI o) fu 0 f0 f1 f2 a1 a2 a3 a4 a5 a6 a7 a8 a9 := by
  have hoo : 0 ≤ (fun k => (a5 k).toInt) (7 * o + o) := (hc (7 * o + o) (by omega)).1
  refine pk_loop (fun k i s => wX_findWays_146 post J (nI o) k (nI i) f0 f1 f2 a1 a2 a3 a4 s.1 s.2 a7 a8 a9) (fun i s => tj_fc P Q M c s.1 s.2 ∧ (∀ k, k < i → (s.1 k).toInt = tj_fw (fun k => (a5 k).toInt) o k) ∧ ∀ k, i ≤ k → s.1 k = a5 k) 49 0 (a5, a6) (by omega) ⟨hc, fun k hk => absurd hk (by omega), fun k _ => rfl⟩ ?_ ?_
  · intro k s h
    exact pk_le 49 49 (fun _ => nm_r (nI_1 o) (H s.1 s.2 h.1 h.2.1)) (fun z => absurd z (by omega))
  · intro k i s hi h hw
    obtain ⟨g, h'⟩ := s
    obtain ⟨k1, k2, k3⟩ := h
    dsimp only at k1 k2 k3 hw ⊢
    have v1 : (g (7 * (i / 7) + o)).toInt = (a5 (7 * (i / 7) + o)).toInt := by
      rcases Nat.lt_or_ge (7 * (i / 7) + o) i with z | z
      · rw [k2 _ z]
        exact tj_fw_col (D := fun k => (a5 k).toInt) ho hoo
      · rw [k3 _ z]
    have v2 : (g (7 * o + i % 7)).toInt = (a5 (7 * o + i % 7)).toInt := by
      rcases Nat.lt_or_ge (7 * o + i % 7) i with z | z
      · rw [k2 _ z]
        exact tj_fw_row (D := fun k => (a5 k).toInt) (by omega) hoo
      · rw [k3 _ z]
    have q1 := k1 (7 * (i / 7) + o) (by omega)
    have q2 := k1 (7 * o + i % 7) (by omega)
    have q3 := k1 i hi
    have v3 : (g i).toInt = (a5 i).toInt := by rw [k3 i (Nat.le_refl i)]
    have sm : (g (7 * (i / 7) + o) + g (7 * o + i % 7)).toInt = (g (7 * (i / 7) + o)).toInt + (g (7 * o + i % 7)).toInt := by
      have := q1.1
      have := q1.2.1
      have := q2.1
      have := q2.2.1
      exact tj_add (by omega) (by omega)
    have d1 : nI i / 7 = nI (i / 7) := pk_div (d := 7) (by omega) (by omega) (by omega)
    have d2 : nI i - nI i / 7 * 7 = nI (i % 7) := pk_rem (d := 7) (by omega) (by omega) (by omega)
    have e1 : 7 * (nI i / 7) + nI o = nI (7 * (i / 7) + o) := by
      rw [d1]
      show nI 7 * nI (i / 7) + nI o = _
      rw [pk_mul, nI_add]
    have e2 : 7 * nI o + (nI i - nI i / 7 * 7) = nI (7 * o + i % 7) := by
      rw [d2]
      show nI 7 * nI o + nI (i % 7) = _
      rw [pk_mul, nI_add]
    refine pk_le 49 i (fun z => absurd z (by omega)) (fun _ => ⟨by decide, nm_r e1 ⟨by decide, nm_r e2 ⟨pk_in (7 * (i / 7) + o) 49 (by omega), pk_in (7 * o + i % 7) 49 (by omega), pk_in (7 * (i / 7) + o) 49 (by omega), pk_in (7 * o + i % 7) 49 (by omega), ?_⟩⟩⟩)
    rw [nI_clamp (show 7 * (i / 7) + o < 2 ^ 31 by omega), nI_clamp (show 7 * o + i % 7 < 2 ^ 31 by omega)]
    refine tj_take hi (fun z => ?_) (fun z => ?_)
    · dsimp only
      refine nm_r (nI_1 i) (hw (g, h') ⟨k1, fun j hj => ?_, fun j hj => k3 j (by omega)⟩)
      dsimp only
      by_cases q : j = i
      · subst q
        unfold tj_fw
        dsimp only
        rw [if_neg (by omega), v3]
      · exact k2 j (by omega)
    · dsimp only
      refine nm_r (nI_1 i) (hw (upd g i (g (7 * (i / 7) + o) + g (7 * o + i % 7)), upd h' i (h' (7 * (i / 7) + o) ^^^ h' (7 * o + i % 7))) ⟨tj_fc_upd k1 ?_, fun j hj => ?_, tj_keep k3⟩)
      · have t : tj_t i = tj_t (7 * (i / 7) + o) ^^^ tj_t (7 * o + i % 7) := by
          rw [tj_t_ij _ ho, tj_t_ij _ (by omega), tj_x3]
          rfl
        rw [t]
        have := q3.2.1
        exact tj_fv_add q1 q2 (by omega)
      · dsimp only
        by_cases q : j = i
        · subst q
          rw [pk_us, sm]
          unfold tj_fw
          dsimp only
          rw [if_pos (by omega), v1, v2]
        · rw [pk_un q]
          exact k2 j (by omega)
/-- ways over the first o places are met -/
def tj_tri (o : Nat) (g : Nat → Int32) : Prop := ∀ i j x, i < 7 → j < 7 → x < o → (g (7 * i + j)).toInt ≤ (g (7 * i + x)).toInt + (g (7 * x + j)).toInt
theorem tj_w136 {post : St2 → Prop} {f1 f2 : Int32} {a1 a2 a3 a4 a5 a6 a7 a8 a9 : Nat → Int32} {n M : Nat} {P Q : Nat → Nat} {c : Nat → Int} (hn : n ≤ 7) (hP : ∀ e, e < M → P e < n ∧ Q e < n) (hc : tj_fc P Q M c a5 a6) (hb : tj_eb P Q c M a5)
    (H : ∀ g h, tj_fc P Q M c g h → tj_eb P Q c M g → tj_tri n g → post (nI n, f1, f2, a1, a2, a3, a4, g, h, a7, a8, a9)) :
    ∃ fu, wX_findWays_136 post fu 0 (nI n) f1 f2 a1 a2 a3 a4 a5 a6 a7 a8 a9 := by
  refine pk_loop (fun k i s => wX_findWays_136 post k (nI i) (nI n) f1 f2 a1 a2 a3 a4 s.1 s.2 a7 a8 a9) (fun i s => tj_fc P Q M c s.1 s.2 ∧ tj_eb P Q c M s.1 ∧ tj_tri i s.1) n 0 (a5, a6) (by omega) ⟨hc, hb, fun i j x _ _ hx => absurd hx (by omega)⟩ ?_ ?_
  · intro k s h
    exact pk_le n n (fun _ => H s.1 s.2 h.1 h.2.1 h.2.2) (fun z => absurd z (by omega))
  · intro k i s hi h hw
    refine pk_le n i (fun z => absurd z (by omega)) (fun _ => tj_w146 (by omega) h.1 (fun g h' k1 k2 => hw (g, h') ⟨k1, fun e he => ?_, fun p q x hp hq hx => ?_⟩))
    · have b := h.2.1 e he
      have gp := hP e he
      have m1 := tj_fw_le (fun k => (s.1 k).toInt) i (7 * P e + Q e)
      have m2 := tj_fw_le (fun k => (s.1 k).toInt) i (7 * Q e + P e)
      dsimp only at m1 m2 ⊢
      rw [k2 _ (by omega), k2 _ (by omega)]
      exact ⟨by omega, by omega⟩
    · dsimp only
      rw [k2 _ (by omega), k2 _ (by omega), k2 _ (by omega)]
      exact tj_fw_tri (D := fun k => (s.1 k).toInt) (by omega) (fun k hk => (h.1 k hk).1) h.2.2 p q x hp hq hx
/-- costs within bounds -/
def tj_cb (M : Nat) (c : Nat → Int) (a4 : Nat → Int32) : Prop := ∀ e, e < M → (a4 e).toInt = c e ∧ -4300000 ≤ c e ∧ c e ≤ 4300000
theorem tj_ab_ub {c : Nat → Int} {e : Nat} (h1 : -4300000 ≤ c e) (h2 : c e ≤ 4300000) : tj_ab c e ≤ 4300000 := by
  unfold tj_ab
  split <;> omega
theorem tj_w46 {post : St2 → Prop} {f2 : Int32} {a1 a2 a3 a4 a5 a6 a7 a8 a9 : Nat → Int32} {n M : Nat} {P Q : Nat → Nat} {c : Nat → Int} (hG : tj_gr n M P Q a1 a2) (hC : tj_cb M c a4) (hc : tj_fc P Q M c a5 a6)
    (H : ∀ g h, tj_fc P Q M c g h → tj_eb P Q c M g → tj_tri n g → post (nI n, nI M, f2, a1, a2, a3, a4, g, h, a7, a8, a9)) :
    ∃ fu, wX_findWays_46 post fu 0 (nI n) (nI M) f2 a1 a2 a3 a4 a5 a6 a7 a8 a9 := by
  have hM : M ≤ 12 := hG.2.2.1
  refine pk_loop (fun k i s => wX_findWays_46 post k (nI i) (nI n) (nI M) f2 a1 a2 a3 a4 s.1 s.2 a7 a8 a9) (fun i s => tj_fc P Q M c s.1 s.2 ∧ tj_eb P Q c i s.1) M 0 (a5, a6) (by omega) ⟨hc, fun e he => absurd he (by omega)⟩ ?_ ?_
  · intro k s h
    exact pk_le M M (fun _ => tj_w136 hG.2.1 hG.2.2.2.2 h.1 h.2 H) (fun z => absurd z (by omega))
  · intro k i s hi h hw
    have hc' := hC i hi
    have ub := tj_ab_ub hc'.2.1 hc'.2.2
    refine pk_le M i (fun z => absurd z (by omega)) (fun _ => ⟨pk_in i 12 (by omega), ?_⟩)
    rw [nI_clamp (show i < 2 ^ 31 by omega)]
    refine tj_le (fun z => ⟨pk_in i 12 (by omega), tj_w79 hG hi ?_ (by omega) h.1 h.2 (fun g h' k1 k2 => hw (g, h') ⟨k1, k2⟩)⟩) (fun z => ⟨pk_in i 12 (by omega), tj_w79 hG hi ?_ (by omega) h.1 h.2 (fun g h' k1 k2 => hw (g, h') ⟨k1, k2⟩)⟩)
    · rw [tj_z0] at z
      unfold tj_ab
      rw [hc'.1] at z ⊢
      rw [if_neg (by omega)]
    · rw [tj_z0] at z
      rw [tj_ng (by omega) (by omega)]
      unfold tj_ab
      rw [hc'.1] at z ⊢
      rw [if_pos (by omega)]
theorem tj_findWays {post : St2 → Prop} {f2 : Int32} {a1 a2 a3 a4 a5 a6 a7 a8 a9 : Nat → Int32} {n M : Nat} {P Q : Nat → Nat} {c : Nat → Int} (hG : tj_gr n M P Q a1 a2) (hC : tj_cb M c a4)
    (H : ∀ g h, tj_fc P Q M c g h → tj_eb P Q c M g → tj_tri n g → post (nI n, nI M, f2, a1, a2, a3, a4, g, h, a7, a8, a9)) :
    wpX_findWays post (nI n, nI M, f2, a1, a2, a3, a4, a5, a6, a7, a8, a9) := by
  unfold wpX_findWays
  dsimp only
  refine pk_loop (fun k i s => wX_findWays_2 post (nI n) (nI M) f2 k (nI i) a1 a2 a3 a4 s.1 s.2 a7 a8 a9) (fun i s => ∀ k, k < i → tj_fv P Q M c (tj_t k) (s.1 k) (s.2 k)) 49 0 (a5, a6) (by omega) (fun k hk => absurd hk (by omega)) ?_ ?_
  · intro k s h
    exact pk_le 49 49 (fun _ => tj_w46 hG hC h H) (fun z => absurd z (by omega))
  · intro k i s hi h hw
    have st : ∀ x : Int32, tj_fv P Q M c (tj_t i) x 0 → ∀ j, j < i + 1 → tj_fv P Q M c (tj_t j) (upd s.1 i x j) (upd s.2 i 0 j) := by
      intro x hx j hj
      by_cases e : j = i
      · rw [e, pk_us, pk_us]; exact hx
      · rw [pk_un e, pk_un e]; exact h j (by omega)
    refine pk_le 49 i (fun z => absurd z (by omega)) (fun _ => ⟨by decide, by decide, pk_eq (i / 7) (i % 7) (fun c => tj_w30 hi (hw (upd s.1 i 0, upd s.2 i 0) (st _ (tj_fv_0 ?_)))) (fun c => tj_w30 hi (hw (upd s.1 i 268435456, upd s.2 i 0) (st _ tj_fv_far))) (pk_div (d := 7) (by omega) (by omega) (by omega)) (pk_rem (d := 7) (by omega) (by omega) (by omega))⟩)
    unfold tj_t
    rw [c, Nat.xor_self]
end
section
/-! the walks of oddOf, weightOf, pair, pairUp -/
theorem tj_oddOf {post : Int32 → Prop} {f0 f2 : Int32} {a1 a2 a3 a4 a5 a6 a7 a8 a9 : Nat → Int32} {n M S : Nat} {P Q : Nat → Nat} (hG : tj_gr n M P Q a1 a2) (hS : S < 2 ^ 31)
    (H : post (nI (tj_xs (tj_ed P Q) S M))) :
    wpX_oddOf post (f0, nI M, f2, a1, a2, a3, a4, a5, a6, a7, a8, a9) (nI S) := by
  obtain ⟨h2, hn, hM, hE, hP⟩ := hG
  unfold wpX_oddOf
  dsimp only
  refine pk_loop (σ := Unit) (fun k i _ => wX_oddOf_4 post (nI S) f0 (nI M) f2 a1 a2 a3 a4 a5 a6 a7 a8 a9 k (nI (tj_xs (tj_ed P Q) S i)) (nI i)) (fun _ _ => True) M 0 () (by omega) trivial ?_ ?_
  · intro k _ _
    exact pk_le M M (fun _ => H) (fun z => absurd z (by omega))
  · intro k i _ hi _ hw
    have ge := hE i hi
    have gp := hP i hi
    refine pk_le M i (fun z => absurd z (by omega)) (fun _ => ek_if (tj_b1 hS (by omega)) (fun b => ⟨pk_in i 12 (by omega), pk_in i 12 (by omega), ?_⟩) (fun b => nm_r (nI_1 i) ?_))
    · refine nm_r (e' := nI (tj_xs (tj_ed P Q) S (i + 1))) ?_ (nm_r (nI_1 i) (hw () trivial))
      rw [nI_clamp (show i < 2 ^ 31 by omega), ge.1, ge.2, tj_one (P i) (by omega), tj_one (Q i) (by omega), tj_nx, tj_nx, tj_xs_s b, Nat.xor_assoc]
      rfl
    · have w := hw () trivial
      rw [tj_xs_n b] at w
      exact w
theorem tj_weightOf {post : Int32 → Prop} {f0 f2 : Int32} {a1 a2 a3 a4 a5 a6 a7 a8 a9 : Nat → Int32} {M S : Nat} (hM : M ≤ 12) (hw : ∀ e, e < M → -9 ≤ (a3 e).toInt ∧ (a3 e).toInt ≤ 20) (hS : S < 2 ^ 31)
    (H : ∀ r : Int32, r.toInt = tj_cc (fun e => (a3 e).toInt) S M → post r) :
    wpX_weightOf post (f0, nI M, f2, a1, a2, a3, a4, a5, a6, a7, a8, a9) (nI S) := by
  unfold wpX_weightOf
  dsimp only
  refine pk_loop (fun k i (s : Int32) => wX_weightOf_4 post (nI S) f0 (nI M) f2 a1 a2 a3 a4 a5 a6 a7 a8 a9 k s (nI i)) (fun i s => s.toInt = tj_cc (fun e => (a3 e).toInt) S i) M 0 0 (by omega) rfl ?_ ?_
  · intro k s h
    exact pk_le M M (fun _ => H s h) (fun z => absurd z (by omega))
  · intro k i s hi h hw'
    have u1 : tj_cc (fun e => (a3 e).toInt) S i ≤ i * 20 := tj_cc_ub (by omega) (fun j hj => (hw j (by omega)).2)
    have u2 : - (i * 20 : Int) ≤ tj_cc (fun e => (a3 e).toInt) S i := tj_cc_lb (by omega) (fun j hj => by have := (hw j (by omega)).1; omega)
    have u3 := hw i hi
    refine pk_le M i (fun z => absurd z (by omega)) (fun _ => ek_if (tj_b1 hS (by omega)) (fun b => ⟨pk_in i 12 (by omega), nm_e (nm_r (nI_1 i) (hw' _ ?_))⟩) (fun b => nm_e (nm_r (nI_1 i) (hw' _ ?_))))
    · rw [nI_clamp (show i < 2 ^ 31 by omega), tj_cc_s b, tj_add (by omega) (by omega), h]
    · rw [tj_cc_n b, tj_add (by rw [tj_z0]; omega) (by rw [tj_z0]; omega), tj_z0, h]
      omega
theorem tj_rest : ∀ T, T < 128 → ∀ top, top < 7 → ∀ p, p < top → T.testBit top = true → T.testBit p = true → (nI T &&& (((1 : Int32) <<< (nI top &&& 31)) ^^^ (-1))) &&& (((1 : Int32) <<< (nI p &&& 31)) ^^^ (-1)) = nI ((T ^^^ 2 ^ top) ^^^ 2 ^ p) := by decide +kernel
theorem tj_less : ∀ T, T < 128 → ∀ top, top < 7 → ∀ p, p < top → T.testBit top = true → T.testBit p = true → (T ^^^ 2 ^ top) ^^^ 2 ^ p < T := by decide +kernel
theorem tj_subm : ∀ T, T < 128 → ∀ G, G < 128 → ((nI T &&& (nI G ^^^ (-1))) = 0 ↔ T &&& G = T) := by decide +kernel
theorem tj_pair {post : St2 → Prop} {f0 f1 f2 : Int32} {a1 a2 a3 a4 a5 a6 a7 a8 a9 : Nat → Int32} {T top p : Nat} (hT : T < 128) (ht : top < 7) (hp : p < top) (bt : T.testBit top = true) (bp : T.testBit p = true)
    (h5 : 0 ≤ (a5 (7 * top + p)).toInt) (h7 : 0 ≤ (a7 ((T ^^^ 2 ^ top) ^^^ 2 ^ p)).toInt)
    (H1 : ((a5 (7 * top + p)).toInt < 268435456 → (a7 ((T ^^^ 2 ^ top) ^^^ 2 ^ p)).toInt < 268435456 → (a7 T).toInt ≤ (a7 ((T ^^^ 2 ^ top) ^^^ 2 ^ p)).toInt + (a5 (7 * top + p)).toInt) → post (f0, f1, f2, a1, a2, a3, a4, a5, a6, a7, a8, a9))
    (H2 : (a5 (7 * top + p)).toInt < 268435456 → (a7 ((T ^^^ 2 ^ top) ^^^ 2 ^ p)).toInt < 268435456 → (a7 ((T ^^^ 2 ^ top) ^^^ 2 ^ p)).toInt + (a5 (7 * top + p)).toInt < (a7 T).toInt → post (f0, f1, f2, a1, a2, a3, a4, a5, a6, upd a7 T (a7 ((T ^^^ 2 ^ top) ^^^ 2 ^ p) + a5 (7 * top + p)), upd a8 T (a8 ((T ^^^ 2 ^ top) ^^^ 2 ^ p) ^^^ a6 (7 * top + p)), a9)) :
    wpX_pair post (f0, f1, f2, a1, a2, a3, a4, a5, a6, a7, a8, a9) (nI T) (nI top) (nI p) := by
  have hr := tj_less T hT top ht p hp bt bp
  have er := tj_rest T hT top ht p hp bt bp
  generalize (T ^^^ 2 ^ top) ^^^ 2 ^ p = R at *
  unfold wpX_pair
  dsimp only
  refine nm_r er (nm_r (e' := nI (7 * top + p)) ?_ ⟨pk_in (7 * top + p) 49 (by omega), ?_⟩)
  · show nI 7 * nI top + nI p = _
    rw [pk_mul, nI_add]
  · rw [nI_clamp (show 7 * top + p < 2 ^ 31 by omega), nI_clamp (show R < 2 ^ 31 by omega), nI_clamp (show T < 2 ^ 31 by omega)]
    have i5 := pk_in (x := nI (7 * top + p)) (7 * top + p) 49 (by omega)
    have iR := pk_in (x := nI R) R 128 (by omega)
    have iT := pk_in (x := nI T) T 128 (by omega)
    refine tj_le (fun z => H1 (fun y _ => absurd y (by rw [tj_far] at z; omega))) (fun z => ⟨iR, tj_le (fun y => H1 (fun _ w => absurd w (by rw [tj_far] at y; omega))) (fun y => ⟨iR, i5, iT, tj_le (fun x => H1 (fun v w => ?_)) (fun x => ⟨iR, i5, iT, nm_e ⟨iR, i5, iT, nm_e (H2 ?_ ?_ ?_)⟩⟩)⟩)⟩)
    · rw [tj_add (by omega) (by omega)] at x
      exact x
    · rw [tj_far] at z; exact z
    · rw [tj_far] at y; exact y
    · rw [tj_far] at z y
      rw [tj_add (by omega) (by omega)] at x
      exact x
theorem tj_x6 (T a b : Nat) : ((T ^^^ a) ^^^ b) ^^^ (a ^^^ b) = T := by
  apply Nat.eq_of_testBit_eq
  intro i
  simp only [Nat.testBit_xor]
  generalize T.testBit i = t
  generalize a.testBit i = a
  generalize b.testBit i = b
  cases t <;> cases a <;> cases b <;> rfl
theorem tj_u64 {post : St2 → Prop} {J : Int32 → Int32 → Int32 → Int32 → (Nat → Int32) → (Nat → Int32) → (Nat → Int32) → (Nat → Int32) → (Nat → Int32) → (Nat → Int32) → (Nat → Int32) → (Nat → Int32) → (Nat → Int32) → Prop} {x1 f0 f1 f2 : Int32} {a1 a2 a3 a4 a5 a6 a7 a8 a9 : Nat → Int32} {M : Nat} {P Q : Nat → Nat} {c : Nat → Int} {T top : Nat} (hT : T < 128) (ht : top < 7) (bt : T.testBit top = true) (hc : tj_fc P Q M c a5 a6)
    (hr : ∀ p, p < top → T.testBit p = true → tj_fv P Q M c ((T ^^^ 2 ^ top) ^^^ 2 ^ p) (a7 ((T ^^^ 2 ^ top) ^^^ 2 ^ p)) (a8 ((T ^^^ 2 ^ top) ^^^ 2 ^ p)))
    (h0 : tj_fv P Q M c T (a7 T) (a8 T))
    (H : ∀ g h : Nat → Int32, (∀ U, U ≠ T → g U = a7 U ∧ h U = a8 U) → tj_fv P Q M c T (g T) (h T) → (∀ p, p < top → T.testBit p = true → (a5 (7 * top + p)).toInt < 268435456 → (a7 ((T ^^^ 2 ^ top) ^^^ 2 ^ p)).toInt < 268435456 → (g T).toInt ≤ (a7 ((T ^^^ 2 ^ top) ^^^ 2 ^ p)).toInt + (a5 (7 * top + p)).toInt) → J (nI (T + 1)) f0 f1 f2 a1 a2 a3 a4 a5 a6 g h a9) :
    ∃ fu, wX_pairUp_64 post J x1 (nI T) (nI top) fu 0 f0 f1 f2 a1 a2 a3 a4 a5 a6 a7 a8 a9 := by
  refine pk_loop (fun k i s => wX_pairUp_64 post J x1 (nI T) (nI top) k (nI i) f0 f1 f2 a1 a2 a3 a4 a5 a6 s.1 s.2 a9) (fun i s => (∀ U, U ≠ T → s.1 U = a7 U ∧ s.2 U = a8 U) ∧ tj_fv P Q M c T (s.1 T) (s.2 T) ∧ (∀ p, p < i → T.testBit p = true → (a5 (7 * top + p)).toInt < 268435456 → (a7 ((T ^^^ 2 ^ top) ^^^ 2 ^ p)).toInt < 268435456 → (s.1 T).toInt ≤ (a7 ((T ^^^ 2 ^ top) ^^^ 2 ^ p)).toInt + (a5 (7 * top + p)).toInt)) top 0 (a7, a8) (by omega) ⟨fun _ _ => ⟨rfl, rfl⟩, h0, fun p hp => absurd hp (by omega)⟩ ?_ ?_
  · intro k s h
    exact pk_le top top (fun _ => nm_r (nI_1 T) (H s.1 s.2 h.1 h.2.1 h.2.2)) (fun z => absurd z (by omega))
  · intro k i s hi h hw
    obtain ⟨g, h'⟩ := s
    obtain ⟨k1, k2, k3⟩ := h
    dsimp only at k1 k2 k3 hw ⊢
    refine pk_le top i (fun z => absurd z (by omega)) (fun _ => ek_if (tj_b1 (by omega) (by omega)) (fun b => ?_) (fun b => nm_r (nI_1 i) (hw (g, h') ⟨k1, k2, fun p hp bp => ?_⟩)))
    · have lr := tj_less T hT top ht i hi bt b
      have cr := hr i hi b
      have ck := hc (7 * top + i) (by omega)
      have er := k1 ((T ^^^ 2 ^ top) ^^^ 2 ^ i) (by omega)
      have tk : tj_t (7 * top + i) = 2 ^ top ^^^ 2 ^ i := tj_t_ij top (by omega)
      have ex := tj_x6 T (2 ^ top) (2 ^ i)
      refine tj_pair hT ht hi bt b ck.1 (by rw [er.1]; exact cr.1) (fun z => ?_) (fun z1 z2 z3 => ?_)
      · dsimp only
        refine nm_r (nI_1 i) (hw (g, h') ⟨k1, k2, fun p hp bp => ?_⟩)
        by_cases q : p = i
        · subst q
          rw [er.1] at z
          exact z
        · exact k3 p (by omega) bp
      · dsimp only
        rw [er.1] at z2 z3
        rw [er.1, er.2]
        have f1 := k2.2.1
        have ad : (a7 ((T ^^^ 2 ^ top) ^^^ 2 ^ i) + a5 (7 * top + i)).toInt = (a7 ((T ^^^ 2 ^ top) ^^^ 2 ^ i)).toInt + (a5 (7 * top + i)).toInt := by
          have := cr.1
          have := ck.1
          exact tj_add (by omega) (by omega)
        refine nm_r (nI_1 i) (hw (upd g T (a7 ((T ^^^ 2 ^ top) ^^^ 2 ^ i) + a5 (7 * top + i)), upd h' T (a8 ((T ^^^ 2 ^ top) ^^^ 2 ^ i) ^^^ a6 (7 * top + i))) ⟨fun U hU => ?_, ?_, fun p hp bp => ?_⟩)
        · dsimp only
          rw [pk_un hU, pk_un hU]
          exact k1 U hU
        · dsimp only
          rw [pk_us, pk_us]
          have t := tj_fv_add cr ck (by omega)
          rw [tk, ex] at t
          exact t
        · dsimp only
          rw [pk_us, ad]
          by_cases q : p = i
          · subst q
            intro _ _
            exact Int.le_refl _
          · intro y1 y2
            have := k3 p (by omega) bp y1 y2
            omega
    · by_cases q : p = i
      · subst q
        exact absurd bp b
      · exact k3 p (by omega) bp
theorem tj_u47 {post : St2 → Prop} {J : Int32 → Int32 → Int32 → Int32 → (Nat → Int32) → (Nat → Int32) → (Nat → Int32) → (Nat → Int32) → (Nat → Int32) → (Nat → Int32) → (Nat → Int32) → (Nat → Int32) → (Nat → Int32) → Prop} {x1 f0 f1 f2 : Int32} {a1 a2 a3 a4 a5 a6 a7 a8 a9 : Nat → Int32} {T top : Nat} (hT : T < 128) (ht : top < 7) (bt : T.testBit top = true) (hm : ∀ j, top < j → T.testBit j = false)
    (H : ∃ fu, wX_pairUp_64 post J x1 (nI T) (nI top) fu 0 f0 f1 f2 a1 a2 a3 a4 a5 a6 a7 a8 a9) :
    ∃ fu, wX_pairUp_47 post J x1 (nI T) f0 f1 f2 a1 a2 a3 a4 a5 a6 a7 a8 a9 fu 6 := by
  refine loop_m (σ := Nat) (fun k t => wX_pairUp_47 post J x1 (nI T) f0 f1 f2 a1 a2 a3 a4 a5 a6 a7 a8 a9 k (nI t)) (fun t => top ≤ t ∧ t ≤ 6) (fun t => t - top) ?_ 6 ⟨by omega, by omega⟩
  intro k t h hw
  refine ek_if (tj_b0 (by omega) (by omega)) (fun b => ?_) (fun b => ?_)
  · have hne : t ≠ top := by
      intro e
      rw [e] at b
      exact b bt
    exact nm_r (sb_m1 (by omega)) (hw (t - 1) ⟨by omega, by omega⟩ (by omega))
  · have e : t = top := by
      rcases Nat.lt_or_ge top t with z | z
      · exact absurd (fun y => absurd ((hm t z).symm.trans y) (by decide)) b
      · omega
    rw [e]
    exact H
/-- the sums of all parts of G below i are done -/
def tj_sd (P Q : Nat → Nat) (M : Nat) (c : Nat → Int) (a5 : Nat → Int32) (G i : Nat) (g h : Nat → Int32) : Prop :=
  g 0 = 0 ∧ ∀ U, U < i → U &&& G = U → tj_fv P Q M c U (g U) (h U) ∧ ∀ top p, U.testBit top = true → U.testBit p = true → p < top → (∀ j, top < j → U.testBit j = false) → (a5 (7 * top + p)).toInt < 268435456 → (g ((U ^^^ 2 ^ top) ^^^ 2 ^ p)).toInt < 268435456 → (g U).toInt ≤ (g ((U ^^^ 2 ^ top) ^^^ 2 ^ p)).toInt + (a5 (7 * top + p)).toInt
theorem tj_sub_bit {U G : Nat} (h : U &&& G = U) {i : Nat} (b : U.testBit i = true) : G.testBit i = true := by
  rw [← h, Nat.testBit_and, Bool.and_eq_true] at b
  exact b.2
theorem tj_sub_of {U G : Nat} (h : ∀ i, U.testBit i = true → G.testBit i = true) : U &&& G = U := by
  apply Nat.eq_of_testBit_eq
  intro i
  rw [Nat.testBit_and]
  by_cases b : U.testBit i = true
  · rw [b, h i b]; rfl
  · rw [tj_nf b, Bool.false_and]
theorem tj_top_lt {T top : Nat} (hT : T < 128) (b : T.testBit top = true) : top < 7 := by
  rcases Nat.lt_or_ge top 7 with z | z
  · exact z
  · rw [Nat.testBit_lt_two_pow (Nat.lt_of_lt_of_le (show T < 2 ^ 7 from hT) (Nat.pow_le_pow_right (by omega) z))] at b
    exact absurd b (by decide)
theorem tj_rest_sub {T G top p : Nat} (h : T &&& G = T) (bt : T.testBit top = true) (bp : T.testBit p = true) : ((T ^^^ 2 ^ top) ^^^ 2 ^ p) &&& G = (T ^^^ 2 ^ top) ^^^ 2 ^ p := by
  refine tj_sub_of (fun i hi => tj_sub_bit h ?_)
  by_cases e1 : i = top
  · rw [e1]; exact bt
  · by_cases e2 : i = p
    · rw [e2]; exact bp
    · rw [Nat.testBit_xor, Nat.testBit_xor, Nat.testBit_two_pow_of_ne (Ne.symm e1), Nat.testBit_two_pow_of_ne (Ne.symm e2)] at hi
      simpa using hi
theorem tj_top_eq {T t1 t2 : Nat} (b1 : T.testBit t1 = true) (m1 : ∀ j, t1 < j → T.testBit j = false) (b2 : T.testBit t2 = true) (m2 : ∀ j, t2 < j → T.testBit j = false) : t1 = t2 := by
  rcases Nat.lt_or_ge t1 t2 with z | z
  · rw [m1 t2 z] at b2; exact absurd b2 (by decide)
  · rcases Nat.lt_or_ge t2 t1 with y | y
    · rw [m2 t1 y] at b1; exact absurd b1 (by decide)
    · omega
/-- the sums below i are kept where only the place i changes -/
theorem tj_sd_keep {P Q : Nat → Nat} {M : Nat} {c : Nat → Int} {a5 : Nat → Int32} {G i : Nat} {g h g' h' : Nat → Int32} (hi : i < 128) (h0 : 0 < i) (hs : tj_sd P Q M c a5 G i g h) (hk : ∀ U, U ≠ i → g' U = g U ∧ h' U = h U) : tj_sd P Q M c a5 G i g' h' := by
  refine ⟨by rw [(hk 0 (by omega)).1]; exact hs.1, fun U hU hG => ?_⟩
  obtain ⟨s1, s2⟩ := hs.2 U hU hG
  refine ⟨by rw [(hk U (by omega)).1, (hk U (by omega)).2]; exact s1, fun top p bt bp hp hm => ?_⟩
  have l := tj_less U (by omega) top (tj_top_lt (by omega) bt) p hp bt bp
  rw [(hk U (by omega)).1, (hk _ (by omega)).1]
  exact s2 top p bt bp hp hm
theorem tj_pairUp {post : St2 → Prop} {f0 f1 f2 : Int32} {a1 a2 a3 a4 a5 a6 a7 a8 a9 : Nat → Int32} {M : Nat} {P Q : Nat → Nat} {c : Nat → Int} {G : Nat} (hG : G < 128) (hc : tj_fc P Q M c a5 a6)
    (H : ∀ g h : Nat → Int32, tj_sd P Q M c a5 G (G + 1) g h → post (f0, f1, f2, a1, a2, a3, a4, a5, a6, g, h, a9)) :
    wpX_pairUp post (f0, f1, f2, a1, a2, a3, a4, a5, a6, a7, a8, a9) (nI G) := by
  unfold wpX_pairUp
  dsimp only
  refine nm_e (nm_e ?_)
  refine pk_loop (fun k i s => wX_pairUp_16 post (nI G) k (nI i) f0 f1 f2 a1 a2 a3 a4 a5 a6 s.1 s.2 a9) (fun i s => 0 < i ∧ tj_sd P Q M c a5 G i s.1 s.2) (G + 1) 1 (upd a7 0 0, upd a8 0 0) (by omega) ?_ ?_ ?_
  · refine ⟨by omega, (pk_us : upd a7 0 0 0 = 0), fun U hU _ => ?_⟩
    have e : U = 0 := by omega
    subst e
    refine ⟨?_, fun top p b => ?_⟩
    · dsimp only
      rw [pk_us, pk_us]
      exact tj_fv_0 rfl
    · rw [Nat.zero_testBit] at b
      exact absurd b (by decide)
  · intro k s h
    exact pk_lt G (G + 1) (fun _ => H s.1 s.2 h.2) (fun z => absurd z (by omega))
  · intro k i s hi h hw
    obtain ⟨g, h'⟩ := s
    obtain ⟨h0, hs⟩ := h
    dsimp only at hs hw ⊢
    refine pk_lt G i (fun z => absurd z (by omega)) (fun _ => ⟨pk_in i 128 (by omega), ?_⟩)
    rw [nI_clamp (show i < 2 ^ 31 by omega)]
    refine nm_e ⟨pk_in i 128 (by omega), nm_e ?_⟩
    have hs' : tj_sd P Q M c a5 G i (upd g i 268435456) (upd h' i 0) := tj_sd_keep (by omega) h0 hs (fun U hU => ⟨pk_un hU, pk_un hU⟩)
    refine ek_if (tj_subm i (by omega) G hG) (fun z => ?_) (fun z => nm_r (nI_1 i) (hw (upd g i 268435456, upd h' i 0) ⟨by omega, hs'.1, fun U hU hUG => ?_⟩))
    · obtain ⟨top, t1, t2, t3⟩ := tj_top 7 i (by omega) (by omega)
      have ln : ∀ p, p < top → i.testBit p = true → (i ^^^ 2 ^ top) ^^^ 2 ^ p < i := fun p hp bp => tj_less i (by omega) top t1 p hp t2 bp
      refine tj_u47 (by omega) t1 t2 t3 (tj_u64 (by omega) t1 t2 hc (fun p hp bp => (hs'.2 _ (ln p hp bp) (tj_rest_sub z t2 bp)).1) ?_ (fun g2 h2 q1 q2 q3 => hw (g2, h2) ⟨by omega, ?_⟩))
      · rw [pk_us, pk_us]
        exact tj_fv_far
      · have hs2 := tj_sd_keep (by omega) h0 hs' q1
        refine ⟨hs2.1, fun U hU hUG => ?_⟩
        by_cases e : U = i
        · subst e
          refine ⟨q2, fun top' p bt bp hp hm => ?_⟩
          have e2 := tj_top_eq bt hm t2 t3
          subst e2
          have l := ln p hp bp
          dsimp only
          rw [(q1 _ (by omega)).1]
          exact q3 p hp bp
        · exact hs2.2 U (by omega) hUG
    · by_cases e : U = i
      · subst e
        exact absurd hUG z
      · exact hs'.2 U (by omega) hUG
end
section
/-! the walk of solve: the cheapest join -/
/-- S is a cheapest set of roads whose odd places are T -/
def tj_mn (P Q : Nat → Nat) (M : Nat) (c : Nat → Int) (T S : Nat) : Prop := S < 2 ^ M ∧ tj_xs (tj_ed P Q) S M = T ∧ ∀ J, tj_xs (tj_ed P Q) J M = T → tj_cc c S M ≤ tj_cc c J M
theorem tj_fin {n M T N : Nat} {P Q : Nat → Nat} {c : Nat → Int} {g5 g6 g7 g8 : Nat → Int32} (hn : n ≤ 7) (hM : M ≤ 12) (hP : ∀ e, e < M → P e < n ∧ Q e < n) (hC : ∀ e, e < M → -4300000 ≤ c e ∧ c e ≤ 4300000) (hT : T < 2 ^ n) (hN : N < 2 ^ M) (hNb : ∀ j, j < M → N.testBit j = decide (c j < 0))
    (k1 : tj_fc P Q M c g5 g6) (k2 : tj_eb P Q c M g5) (k3 : tj_tri n g5) (sd : tj_sd P Q M c g5 (T ^^^ tj_xs (tj_ed P Q) N M) ((T ^^^ tj_xs (tj_ed P Q) N M) + 1) g7 g8) (hJ : ∃ J, tj_xs (tj_ed P Q) J M = T) :
    ∃ S, g8 (T ^^^ tj_xs (tj_ed P Q) N M) ^^^ nI N = nI S ∧ tj_mn P Q M c T S := by
  obtain ⟨s0, s1⟩ := sd
  obtain ⟨⟨c1, c2, X, x1, x2, x3⟩, _⟩ := s1 (T ^^^ tj_xs (tj_ed P Q) N M) (by omega) (Nat.and_self _)
  have ub : ∀ J, tj_cc (tj_ab c) J M ≤ M * 4300000 := fun J => tj_cc_ub (by omega) (fun j hj => tj_ab_ub (hC j hj).1 (hC j hj).2)
  have mn : ∀ J, tj_xs (tj_ed P Q) J M = T ^^^ tj_xs (tj_ed P Q) N M → (g7 (T ^^^ tj_xs (tj_ed P Q) N M)).toInt ≤ tj_cc (tj_ab c) J M := by
    intro J hJ
    have u := ub J
    obtain ⟨kk, hk⟩ : ∃ k : Nat, tj_cc (fun _ => 1) (T ^^^ tj_xs (tj_ed P Q) N M) n ≤ (k : Int) := ⟨(tj_cc (fun _ => 1) (T ^^^ tj_xs (tj_ed P Q) N M) n).toNat, by omega⟩
    refine tj_dp (d := fun i j => (g5 (7 * i + j)).toInt) (c := tj_ab c) hP k2 (fun i v j hi hv hj => k3 i j v (by omega) (by omega) hv) (fun i j hi hj => (k1 (7 * i + j) (by omega)).1) (fun e _ => tj_ab_nn c e) (G := T ^^^ tj_xs (tj_ed P Q) N M) (s := fun U => (g7 U).toInt) (F := 268435456) ?_ ?_ kk _ hk (fun i b => b) J hJ (by omega)
    · rw [s0]
      decide
    · intro U top p hU bt bp hp hm
      have e := tj_sub_of hU
      have l : U ≤ T ^^^ tj_xs (tj_ed P Q) N M := by rw [← e]; exact Nat.and_le_right
      exact (s1 U (by omega) e).2 top p bt bp hp hm
  obtain ⟨J0, hJ0⟩ := hJ
  have m0 := mn (J0 ^^^ N) (by rw [tj_xs_xor, hJ0])
  have u0 := ub (J0 ^^^ N)
  have x4 := x3 (by omega)
  obtain ⟨r1, r2⟩ := tj_best hNb x4.1 x4.2 mn
  exact ⟨X ^^^ N, by rw [x2, tj_nx], Nat.xor_lt_two_pow x1 hN, r1, r2⟩
theorem tj_p31 {M S : Nat} (hM : M ≤ 12) (h : S < 2 ^ M) : S < 4096 := Nat.lt_of_lt_of_le h ((Nat.pow_le_pow_right (by omega) hM : 2 ^ M ≤ 2 ^ 12))
theorem tj_s14 {post : Int32 → St2 → Prop} {f2 : Int32} {a1 a2 a3 a4 a5 a6 a7 a8 a9 : Nat → Int32} {n M T : Nat} {P Q : Nat → Nat} {c : Nat → Int} (hG : tj_gr n M P Q a1 a2) (hC : tj_cb M c a4) (hT : T < 2 ^ n) (hJ : ∃ J, tj_xs (tj_ed P Q) J M = T)
    (H1 : ∀ S, tj_mn P Q M c T S → ∀ g5 g6 g7 g8 g9 : Nat → Int32, post (nI S) (nI n, nI M, f2, a1, a2, a3, a4, g5, g6, g7, g8, g9)) :
    ∃ fu, wX_solve_14 post (nI T) (nI n) (nI M) f2 a1 a2 a3 a4 a5 a6 a7 a8 a9 fu 0 0 := by
  have hn : n ≤ 7 := hG.2.1
  have hM : M ≤ 12 := hG.2.2.1
  have hP := hG.2.2.2.2
  refine pk_loop (fun k i (v : Nat) => wX_solve_14 post (nI T) (nI n) (nI M) f2 a1 a2 a3 a4 a5 a6 a7 a8 a9 k (nI v) (nI i)) (fun i v => v < 2 ^ i ∧ ∀ j, j < i → v.testBit j = decide (c j < 0)) M 0 0 (by omega) ⟨by decide, fun j hj => absurd hj (by omega)⟩ ?_ ?_
  · intro k v h
    have v12 := tj_p31 hM h.1
    refine pk_le M M (fun _ => tj_findWays hG hC (fun g h' k1 k2 k3 => ?_)) (fun z => absurd z (by omega))
    dsimp only
    refine tj_oddOf hG (by omega) ?_
    refine nm_r (tj_nx _ _) ?_
    have hGn : T ^^^ tj_xs (tj_ed P Q) v M < 2 ^ n := Nat.xor_lt_two_pow hT (tj_xs_lt (fun j hj => tj_ed_lt (hP j hj).1 (hP j hj).2))
    have hG7 := tj_p2 hn hGn
    refine tj_pairUp hG7 k1 (fun g7 g8 sd => ?_)
    dsimp only
    refine ⟨pk_in _ 128 hG7, ?_⟩
    rw [nI_clamp (by omega)]
    obtain ⟨S, e, hS⟩ := tj_fin hn hM hP (fun e he => (hC e he).2) hT h.1 h.2 k1 k2 k3 sd hJ
    rw [e]
    exact H1 S hS _ _ _ _ _
  · intro k i v hi h hw
    have hc := hC i hi
    have pl : 2 ^ i < 2 ^ (i + 1) := Nat.pow_lt_pow_right (by omega) (by omega)
    have vi : v.testBit i = false := Nat.testBit_lt_two_pow h.1
    refine pk_le M i (fun z => absurd z (by omega)) (fun _ => ⟨pk_in i 12 (by omega), ?_⟩)
    rw [nI_clamp (show i < 2 ^ 31 by omega)]
    refine tj_le (fun z => nm_r (e' := nI v) ?_ (nm_r (nI_1 i) (hw v ⟨by omega, fun j hj => ?_⟩))) (fun z => nm_r (e' := nI (v ||| 2 ^ i)) ?_ (nm_r (nI_1 i) (hw _ ⟨Nat.or_lt_two_pow (by omega) pl, fun j hj => ?_⟩)))
    · show nI v ||| nI 0 = _
      rw [tj_no, Nat.or_zero]
    · rw [tj_z0, hc.1] at z
      by_cases q : j = i
      · rw [q, vi, decide_eq_false (by omega)]
      · exact h.2 j (by omega)
    · rw [tj_one i (by omega), tj_no]
    · rw [tj_z0, hc.1] at z
      rw [Nat.testBit_or]
      by_cases q : j = i
      · rw [q, Nat.testBit_two_pow_self, Bool.or_true, decide_eq_true (by omega)]
      · rw [Nat.testBit_two_pow_of_ne (Ne.symm q), Bool.or_false]
        exact h.2 j (by omega)
theorem tj_solve {post : Int32 → St2 → Prop} {f2 : Int32} {a1 a2 a3 a4 a5 a6 a7 a8 a9 : Nat → Int32} {n M T : Nat} {P Q : Nat → Nat} {c : Nat → Int} (hG : tj_gr n M P Q a1 a2) (hC : tj_cb M c a4) (hT : T < 2 ^ n)
    (H0 : (¬ ∃ J, tj_xs (tj_ed P Q) J M = T) → ∀ g5 g6 g7 g8 g9 : Nat → Int32, post (-1) (nI n, nI M, f2, a1, a2, a3, a4, g5, g6, g7, g8, g9))
    (H1 : ∀ S, tj_mn P Q M c T S → ∀ g5 g6 g7 g8 g9 : Nat → Int32, post (nI S) (nI n, nI M, f2, a1, a2, a3, a4, g5, g6, g7, g8, g9)) :
    wpX_solve post (nI n, nI M, f2, a1, a2, a3, a4, a5, a6, a7, a8, a9) (nI T) := by
  unfold wpX_solve
  dsimp only
  refine tj_isPossible hG hT (fun hJ g => ?_) (fun hJ g => ?_)
  · exact br_t rfl (H0 hJ _ _ _ _ _)
  · exact br_f (by decide) (tj_s14 hG hC hT hJ H1)
end
section
/-! what the methods answer -/
theorem tj_cc_c (w : Nat → Int) (S m : Nat) : ∃ z : Nat, z < 2 ^ m ∧ tj_cc (tj_c w) S m = 4096 * tj_cc w S m + (z : Int) := by
  induction m with
  | zero => exact ⟨0, by decide, rfl⟩
  | succ m ih =>
    obtain ⟨z, z1, z2⟩ := ih
    have e : tj_c w m = 4096 * w m + ((2 ^ m : Nat) : Int) := rfl
    have e2 : 2 ^ (m + 1) = 2 * 2 ^ m := by rw [Nat.pow_succ]; omega
    rw [e2]
    generalize 2 ^ m = t at *
    by_cases b : S.testBit m = true
    · exact ⟨z + t, by omega, by rw [tj_cc_s b, tj_cc_s b, z2, e]; omega⟩
    · exact ⟨z, by omega, by rw [tj_cc_n b, tj_cc_n b, z2]⟩
theorem tj_cle {w : Nat → Int} {M S S' : Nat} (hM : M ≤ 12) (h : tj_cc (tj_c w) S M ≤ tj_cc (tj_c w) S' M) : tj_cc w S M ≤ tj_cc w S' M := by
  obtain ⟨z, z1, z2⟩ := tj_cc_c w S M
  obtain ⟨y, y1, y2⟩ := tj_cc_c w S' M
  have y3 := tj_p31 hM y1
  omega
theorem tj_c_b {w : Nat → Int} {e : Nat} (he : e < 12) (h1 : -9 ≤ w e) (h2 : w e ≤ 20) : -36864 ≤ tj_c w e ∧ tj_c w e ≤ 83968 := by
  have p := tj_pw he
  unfold tj_c
  generalize 2 ^ e = t at *
  omega
/-- a cost changed at one road -/
def tj_ca (c : Nat → Int) (e : Nat) (x : Int) (j : Nat) : Int := if j = e then c j + x else c j
theorem tj_cc_at (c : Nat → Int) (e : Nat) (x : Int) (S m : Nat) : tj_cc (tj_ca c e x) S m = tj_cc c S m + (if e < m ∧ S.testBit e = true then x else 0) := by
  induction m with
  | zero => rw [if_neg (by omega)]; rfl
  | succ m ih =>
    by_cases q : e = m
    · subst q
      have e1 : tj_ca c e x e = c e + x := if_pos rfl
      rw [if_neg (by omega)] at ih
      by_cases b : S.testBit e = true
      · rw [tj_cc_s b, tj_cc_s b, ih, e1, if_pos ⟨by omega, b⟩]; omega
      · rw [tj_cc_n b, tj_cc_n b, ih, if_neg (fun z => b z.2)]
    · have e1 : tj_ca c e x m = c m := if_neg (fun z => q z.symm)
      have e2 : (if e < m + 1 ∧ S.testBit e = true then x else 0) = (if e < m ∧ S.testBit e = true then x else 0) := by
        by_cases z : e < m ∧ S.testBit e = true
        · rw [if_pos z, if_pos ⟨by omega, z.2⟩]
        · rw [if_neg z, if_neg (fun y => z ⟨by omega, y.2⟩)]
      rw [e2]
      by_cases b : S.testBit m = true
      · rw [tj_cc_s b, tj_cc_s b, ih, e1]; omega
      · rw [tj_cc_n b, tj_cc_n b, ih]
theorem tj_mn_w {P Q : Nat → Nat} {M W S S' : Nat} {w : Nat → Int} (hM : M ≤ 12) (h : tj_mn P Q M (tj_c w) W S) (h' : tj_mn P Q M (tj_c w) W S') : tj_cc w S M = tj_cc w S' M := by
  have a := tj_cle hM (h.2.2 S' h'.2.1)
  have b := tj_cle hM (h'.2.2 S h.2.1)
  omega
theorem tj_min2 {P Q : Nat → Nat} {M W S S1 S2 e : Nat} {w : Nat → Int} (hM : M ≤ 12) (he : e < M) (hw : ∀ e, e < M → -9 ≤ w e ∧ w e ≤ 20) (h0 : tj_mn P Q M (tj_c w) W S) (h1 : tj_mn P Q M (tj_ca (tj_c w) e (-4194304)) W S1) (h2 : tj_mn P Q M (tj_ca (tj_c w) e 4194304) W S2) :
    (S.testBit e = true → S1.testBit e = true ∧ tj_cc w S1 M = tj_cc w S M) ∧ (¬ S.testBit e = true → ¬ S2.testBit e = true ∧ tj_cc w S2 M = tj_cc w S M) ∧ tj_cc w S M ≤ tj_cc w S1 M ∧ tj_cc w S M ≤ tj_cc w S2 M := by
  have a1 := h0.2.2 S1 h1.2.1
  have a2 := h0.2.2 S2 h2.2.1
  have w1 := tj_cle hM a1
  have w2 := tj_cle hM a2
  have b1 := h1.2.2 S h0.2.1
  have b2 := h2.2.2 S h0.2.1
  rw [tj_cc_at, tj_cc_at] at b1 b2
  have ub : ∀ J, tj_cc (tj_c w) J M ≤ M * 83968 := fun J => tj_cc_ub (by omega) (fun j hj => (tj_c_b (by omega) (hw j hj).1 (hw j hj).2).2)
  have lb : ∀ J, - (M * 36864 : Int) ≤ tj_cc (tj_c w) J M := fun J => tj_cc_lb (by omega) (fun j hj => (tj_c_b (by omega) (hw j hj).1 (hw j hj).2).1)
  have u0 := ub S
  have l1 := lb S1
  have u2 := ub S
  have l2 := lb S2
  refine ⟨fun b => ?_, fun b => ?_, w1, w2⟩
  · rw [if_pos (show e < M ∧ S.testBit e = true from ⟨he, b⟩)] at b1
    by_cases q : S1.testBit e = true
    · rw [if_pos (show e < M ∧ S1.testBit e = true from ⟨he, q⟩)] at b1
      have w3 : tj_cc w S1 M ≤ tj_cc w S M := tj_cle hM (by omega)
      exact ⟨q, by omega⟩
    · rw [if_neg (fun z => q z.2)] at b1
      omega
  · rw [if_neg (show ¬ (e < M ∧ S.testBit e = true) from fun z => b z.2)] at b2
    by_cases q : S2.testBit e = true
    · rw [if_pos (show e < M ∧ S2.testBit e = true from ⟨he, q⟩)] at b2
      omega
    · rw [if_neg (fun z => q z.2)] at b2
      have w3 : tj_cc w S2 M ≤ tj_cc w S M := tj_cle hM (by omega)
      exact ⟨q, by omega⟩
/-- the picture of a state: the graph, the wanted places, the weights -/
def tj_st (n M W : Nat) (P Q : Nat → Nat) (a1 a2 a3 : Nat → Int32) : Prop := tj_gr n M P Q a1 a2 ∧ W < 2 ^ n ∧ ∀ e, e < M → -9 ≤ (a3 e).toInt ∧ (a3 e).toInt ≤ 20
def tj_w (a3 : Nat → Int32) (e : Nat) : Int := (a3 e).toInt
theorem tj_joins {post : Int32 → St2 → Prop} {a1 a2 a3 a4 a5 a6 a7 a8 a9 : Nat → Int32} {n M W : Nat} {P Q : Nat → Nat} (hS : tj_st n M W P Q a1 a2 a3)
    (H0 : (¬ ∃ J, tj_xs (tj_ed P Q) J M = W) → ∀ g, post 0 (nI n, nI M, nI W, a1, a2, a3, a4, a5, a6, a7, a8, g))
    (H1 : (∃ J, tj_xs (tj_ed P Q) J M = W) → ∀ z, z < 13 → ∀ g, post (nI (2 ^ z)) (nI n, nI M, nI W, a1, a2, a3, a4, a5, a6, a7, a8, g)) :
    wpX_joins post (nI n, nI M, nI W, a1, a2, a3, a4, a5, a6, a7, a8, a9) := by
  obtain ⟨hG, hW, hw⟩ := hS
  have hn : n ≤ 7 := hG.2.1
  have hM : M ≤ 12 := hG.2.2.1
  unfold wpX_joins
  dsimp only
  refine tj_isPossible hG hW (fun h g => br_t rfl (H0 h g)) (fun h g => br_f (by decide) (tj_countParts hG (fun g' k k1 k2 => ?_)))
  dsimp only
  have e : (nI M - nI n) + nI k = nI (M + k - n) := by
    rw [Int32.sub_eq_add_neg, Int32.add_assoc, Int32.add_comm (-nI n), ← Int32.add_assoc, ← Int32.sub_eq_add_neg, nI_add, pk_sub (by omega)]
  rw [e, tj_one _ (by omega)]
  exact H1 h _ (by omega) _
theorem tj_possible {post : Int32 → St2 → Prop} {a1 a2 a3 a4 a5 a6 a7 a8 a9 : Nat → Int32} {n M W : Nat} {P Q : Nat → Nat} (hS : tj_st n M W P Q a1 a2 a3)
    (H0 : (¬ ∃ J, tj_xs (tj_ed P Q) J M = W) → ∀ g, post 0 (nI n, nI M, nI W, a1, a2, a3, a4, a5, a6, a7, a8, g))
    (H1 : (∃ J, tj_xs (tj_ed P Q) J M = W) → ∀ g, post 1 (nI n, nI M, nI W, a1, a2, a3, a4, a5, a6, a7, a8, g)) :
    wpX_possible post (nI n, nI M, nI W, a1, a2, a3, a4, a5, a6, a7, a8, a9) := by
  obtain ⟨hG, hW, hw⟩ := hS
  unfold wpX_possible
  dsimp only
  exact tj_isPossible hG hW (fun h g => br_t rfl (H0 h g)) (fun h g => br_f (by decide) (H1 h g))
theorem tj_cb_0 {M : Nat} {w : Nat → Int} {g : Nat → Int32} (hM : M ≤ 12) (hw : ∀ e, e < M → -9 ≤ w e ∧ w e ≤ 20) (hg : ∀ e, e < M → (g e).toInt = tj_c w e) : tj_cb M (tj_c w) g := by
  intro e he
  have b := tj_c_b (show e < 12 by omega) (hw e he).1 (hw e he).2
  exact ⟨hg e he, by omega, by omega⟩
theorem tj_cb_a {M e : Nat} {w : Nat → Int} {g : Nat → Int32} {x : Int} {y : Int32} (hM : M ≤ 12) (hw : ∀ e, e < M → -9 ≤ w e ∧ w e ≤ 20) (hg : ∀ e, e < M → (g e).toInt = tj_c w e) (h1 : -4194304 ≤ x) (h2 : x ≤ 4194304) (hy : y.toInt = tj_c w e + x) : tj_cb M (tj_ca (tj_c w) e x) (upd g e y) := by
  intro j hj
  have b := tj_c_b (show j < 12 by omega) (hw j hj).1 (hw j hj).2
  by_cases q : j = e
  · subst q
    have e1 : tj_ca (tj_c w) j x j = tj_c w j + x := if_pos rfl
    rw [pk_us, e1, hy]
    exact ⟨rfl, by omega, by omega⟩
  · have e1 : tj_ca (tj_c w) e x j = tj_c w j := if_neg q
    rw [pk_un q, e1]
    exact ⟨hg j hj, by omega, by omega⟩
theorem tj_bestSet {post : Int32 → St2 → Prop} {a1 a2 a3 a4 a5 a6 a7 a8 a9 : Nat → Int32} {n M W : Nat} {P Q : Nat → Nat} (hS : tj_st n M W P Q a1 a2 a3)
    (H0 : (¬ ∃ J, tj_xs (tj_ed P Q) J M = W) → ∀ g4 g5 g6 g7 g8 g9 : Nat → Int32, post (-1) (nI n, nI M, nI W, a1, a2, a3, g4, g5, g6, g7, g8, g9))
    (H1 : ∀ S, tj_mn P Q M (tj_c (tj_w a3)) W S → ∀ g4 g5 g6 g7 g8 g9 : Nat → Int32, post (nI S) (nI n, nI M, nI W, a1, a2, a3, g4, g5, g6, g7, g8, g9)) :
    wpX_bestSet post (nI n, nI M, nI W, a1, a2, a3, a4, a5, a6, a7, a8, a9) := by
  obtain ⟨hG, hW, hw⟩ := hS
  have hM : M ≤ 12 := hG.2.2.1
  unfold wpX_bestSet
  dsimp only
  refine tj_takeCosts hM hw (fun g hg => ?_)
  dsimp only
  exact tj_solve hG (tj_cb_0 (w := tj_w a3) hM hw hg) hW (fun h g5 g6 g7 g8 g9 => H0 h _ _ _ _ _ _) (fun S hS g5 g6 g7 g8 g9 => H1 S hS _ _ _ _ _ _)
theorem tj_best' {post : Int32 → St2 → Prop} {a1 a2 a3 a4 a5 a6 a7 a8 a9 : Nat → Int32} {n M W : Nat} {P Q : Nat → Nat} (hS : tj_st n M W P Q a1 a2 a3)
    (H0 : (¬ ∃ J, tj_xs (tj_ed P Q) J M = W) → ∀ g4 g5 g6 g7 g8 g9 : Nat → Int32, post (-1000) (nI n, nI M, nI W, a1, a2, a3, g4, g5, g6, g7, g8, g9))
    (H1 : ∀ S r, tj_mn P Q M (tj_c (tj_w a3)) W S → r.toInt = tj_cc (tj_w a3) S M → ∀ g4 g5 g6 g7 g8 g9 : Nat → Int32, post r (nI n, nI M, nI W, a1, a2, a3, g4, g5, g6, g7, g8, g9)) :
    wpX_best post (nI n, nI M, nI W, a1, a2, a3, a4, a5, a6, a7, a8, a9) := by
  obtain ⟨hG, hW, hw⟩ := hS
  have hM : M ≤ 12 := hG.2.2.1
  unfold wpX_best
  dsimp only
  refine tj_takeCosts hM hw (fun g hg => ?_)
  dsimp only
  refine tj_solve hG (tj_cb_0 (w := tj_w a3) hM hw hg) hW (fun h g5 g6 g7 g8 g9 => br_f (by decide) (H0 h _ _ _ _ _ _)) (fun S hS g5 g6 g7 g8 g9 => ?_)
  have s12 := tj_p31 hM hS.1
  exact br_t (nI_pos' (by omega)) (tj_weightOf hM hw (by omega) (fun r hr => H1 S r hS hr _ _ _ _ _ _))
theorem tj_isJoin {post : Int32 → Prop} {a1 a2 a3 a4 a5 a6 a7 a8 a9 : Nat → Int32} {n M W S : Nat} {P Q : Nat → Nat} (hG : tj_gr n M P Q a1 a2) (hS : S < 2 ^ M) (hT : tj_xs (tj_ed P Q) S M = W) (H : post 1) :
    wpX_isJoin post (nI n, nI M, nI W, a1, a2, a3, a4, a5, a6, a7, a8, a9) (nI S) := by
  have hM : M ≤ 12 := hG.2.2.1
  have s12 := tj_p31 hM hS
  have m12 : 2 ^ M ≤ 2 ^ 12 := Nat.pow_le_pow_right (by omega) hM
  unfold wpX_isJoin
  dsimp only
  refine br_f (nI_pos (by omega)) ?_
  rw [tj_one M (by omega)]
  refine br_t (nI_lt hS (by omega)) (tj_oddOf hG (by omega) ?_)
  rw [hT]
  exact br_t rfl H
theorem tj_isPlace {post : Int32 → Prop} {f1 f2 : Int32} {a1 a2 a3 a4 a5 a6 a7 a8 a9 : Nat → Int32} {n q : Nat} (hn : n ≤ 7) (hq : q < n) (H : post 1) :
    wpX_isPlace post (nI n, f1, f2, a1, a2, a3, a4, a5, a6, a7, a8, a9) (nI q) := by
  unfold wpX_isPlace
  dsimp only
  exact br_f (nI_pos (by omega)) (br_f (nI_ge hq (by omega)) H)
theorem tj_isRoad {post : Int32 → Prop} {f0 f2 : Int32} {a1 a2 a3 a4 a5 a6 a7 a8 a9 : Nat → Int32} {M q : Nat} (hM : M ≤ 12) (hq : q < M) (H : post 1) :
    wpX_isRoad post (f0, nI M, f2, a1, a2, a3, a4, a5, a6, a7, a8, a9) (nI q) := by
  unfold wpX_isRoad
  dsimp only
  exact br_f (nI_pos (by omega)) (br_f (nI_ge hq (by omega)) H)
theorem tj_between {post : Int32 → St2 → Prop} {a1 a2 a3 a4 a5 a6 a7 a8 a9 : Nat → Int32} {n M W q : Nat} {P Q : Nat → Nat} (hS : tj_st n M W P Q a1 a2 a3) (hq : q < n)
    (H : ∀ r, r.toInt ≤ 0 → ∀ g4 g5 g6 g7 g8 g9 : Nat → Int32, post r (nI n, nI M, nI W, a1, a2, a3, g4, g5, g6, g7, g8, g9)) :
    wpX_between post (nI n, nI M, nI W, a1, a2, a3, a4, a5, a6, a7, a8, a9) (nI q) (nI q) := by
  obtain ⟨hG, hW, hw⟩ := hS
  have hn : n ≤ 7 := hG.2.1
  have hM : M ≤ 12 := hG.2.2.1
  unfold wpX_between
  dsimp only
  refine tj_isPlace hn hq (br_f (by decide) (tj_isPlace hn hq (br_f (by decide) (tj_takeCosts hM hw (fun g hg => ?_)))))
  dsimp only
  rw [tj_one q (by omega), tj_nx, Nat.xor_self]
  refine tj_solve hG (tj_cb_0 (w := tj_w a3) hM hw hg) (Nat.two_pow_pos n) (fun h g5 g6 g7 g8 g9 => br_f (by decide) (H _ (by decide) _ _ _ _ _ _)) (fun S hS g5 g6 g7 g8 g9 => ?_)
  have s12 := tj_p31 hM hS.1
  refine br_t (nI_pos' (by omega)) (tj_weightOf hM hw (by omega) (fun r hr => H r ?_ _ _ _ _ _ _))
  have m := tj_cle hM (hS.2.2 0 (tj_xs_0 _ _))
  rw [tj_cc_0] at m
  rw [hr]
  exact m
/-- an answer: the weight of S, or -1000 -/
def tj_an (w : Nat → Int) (M S : Nat) (b : Bool) (r : Int32) : Prop := (b = true ∧ r.toInt = tj_cc w S M) ∨ (b = false ∧ r = -1000)
theorem tj_bestWith {post : Int32 → St2 → Prop} {a1 a2 a3 a4 a5 a6 a7 a8 a9 : Nat → Int32} {n M W e : Nat} {P Q : Nat → Nat} (hS : tj_st n M W P Q a1 a2 a3) (he : e < M) (hJ : ∃ J, tj_xs (tj_ed P Q) J M = W)
    (H : ∀ S r, tj_mn P Q M (tj_ca (tj_c (tj_w a3)) e (-4194304)) W S → tj_an (tj_w a3) M S (S.testBit e) r → ∀ g4 g5 g6 g7 g8 g9 : Nat → Int32, post r (nI n, nI M, nI W, a1, a2, a3, g4, g5, g6, g7, g8, g9)) :
    wpX_bestWith post (nI n, nI M, nI W, a1, a2, a3, a4, a5, a6, a7, a8, a9) (nI e) := by
  obtain ⟨hG, hW, hw⟩ := hS
  have hM : M ≤ 12 := hG.2.2.1
  unfold wpX_bestWith
  dsimp only
  refine tj_isRoad hM he (br_f (by decide) (tj_takeCosts hM hw (fun g hg => ⟨pk_in e 12 (by omega), pk_in e 12 (by omega), nm_e ?_⟩)))
  rw [nI_clamp (show e < 2 ^ 31 by omega)]
  have b := tj_c_b (w := tj_w a3) (show e < 12 by omega) (hw e he).1 (hw e he).2
  have ge : (g e).toInt = tj_c (tj_w a3) e := hg e he
  have k : (4194304 : Int32).toInt = 4194304 := by decide
  have y : (g e - 4194304).toInt = tj_c (tj_w a3) e + (-4194304) := by
    rw [tj_sub (by rw [ge, k]; omega) (by rw [ge, k]; omega), ge, k]
    omega
  refine tj_solve hG (tj_cb_a (w := tj_w a3) hM hw hg (by decide) (by decide) y) hW (fun h _ _ _ _ _ => absurd hJ h) (fun S hS g5 g6 g7 g8 g9 => ?_)
  have s12 := tj_p31 hM hS.1
  refine br_f (nI_pos (by omega)) (ek_if (tj_b0 (by omega) (by omega)) (fun b => H S _ hS (Or.inr ⟨tj_nf b, rfl⟩) _ _ _ _ _ _) (fun b => tj_weightOf hM hw (by omega) (fun r hr => H S r hS (Or.inl ⟨?_, hr⟩) _ _ _ _ _ _)))
  exact Decidable.of_not_not b
theorem tj_bestWithout {post : Int32 → St2 → Prop} {a1 a2 a3 a4 a5 a6 a7 a8 a9 : Nat → Int32} {n M W e : Nat} {P Q : Nat → Nat} (hS : tj_st n M W P Q a1 a2 a3) (he : e < M) (hJ : ∃ J, tj_xs (tj_ed P Q) J M = W)
    (H : ∀ S r, tj_mn P Q M (tj_ca (tj_c (tj_w a3)) e 4194304) W S → tj_an (tj_w a3) M S (!S.testBit e) r → ∀ g4 g5 g6 g7 g8 g9 : Nat → Int32, post r (nI n, nI M, nI W, a1, a2, a3, g4, g5, g6, g7, g8, g9)) :
    wpX_bestWithout post (nI n, nI M, nI W, a1, a2, a3, a4, a5, a6, a7, a8, a9) (nI e) := by
  obtain ⟨hG, hW, hw⟩ := hS
  have hM : M ≤ 12 := hG.2.2.1
  unfold wpX_bestWithout
  dsimp only
  refine tj_isRoad hM he (br_f (by decide) (tj_takeCosts hM hw (fun g hg => ⟨pk_in e 12 (by omega), pk_in e 12 (by omega), nm_e ?_⟩)))
  rw [nI_clamp (show e < 2 ^ 31 by omega)]
  have b := tj_c_b (w := tj_w a3) (show e < 12 by omega) (hw e he).1 (hw e he).2
  have ge : (g e).toInt = tj_c (tj_w a3) e := hg e he
  have k : (4194304 : Int32).toInt = 4194304 := by decide
  have y : (g e + 4194304).toInt = tj_c (tj_w a3) e + 4194304 := by
    rw [tj_add (by rw [ge, k]; omega) (by rw [ge, k]; omega), ge, k]
  refine tj_solve hG (tj_cb_a (w := tj_w a3) hM hw hg (by decide) (by decide) y) hW (fun h _ _ _ _ _ => absurd hJ h) (fun S hS g5 g6 g7 g8 g9 => ?_)
  have s12 := tj_p31 hM hS.1
  refine br_f (nI_pos (by omega)) (ek_if (tj_b1 (by omega) (by omega)) (fun b => H S _ hS (Or.inr ⟨by rw [b]; rfl, rfl⟩) _ _ _ _ _ _) (fun b => tj_weightOf hM hw (by omega) (fun r hr => H S r hS (Or.inl ⟨by rw [tj_nf b]; rfl, hr⟩) _ _ _ _ _ _)))
end
section
/-! the law's check after every turn -/
/-- the law's own record of a weight -/
def tj_sh1 (lo hi : Int64) (x : Int32) (e : Nat) : Prop := (¬ 6 ≤ e → ((lo >>> ((6 * nI e).toInt64 &&& 63)).toInt32 &&& 63) - 16 = x) ∧ (6 ≤ e → ((hi >>> ((6 * nI e - 36).toInt64 &&& 63)).toInt32 &&& 63) - 16 = x)
def tj_shd (M : Nat) (lo hi : Int64) (a3 : Nat → Int32) : Prop := ∀ e, e < M → tj_sh1 lo hi (a3 e) e
theorem tj_h242 {post : Int32 → St2 → Prop} {a1 a2 a3 a4 a5 a6 a7 a8 a9 : Nat → Int32} {n M W rd : Nat} {P Q : Nat → Nat} (hS : tj_st n M W P Q a1 a2 a3) (hr : rd < 16)
    (H : ∀ g4 g5 g6 g7 g8 g9 : Nat → Int32, post 1 (nI n, nI M, nI W, a1, a2, a3, g4, g5, g6, g7, g8, g9)) :
    wL_holds_242 post (nI n) (nI rd) (nI n) (nI M) (nI W) a1 a2 a3 a4 a5 a6 a7 a8 a9 := by
  have h2 : 2 ≤ n := hS.1.1
  have hn : n ≤ 7 := hS.1.2.1
  unfold wL_holds_242
  rw [pk_rem (show rd < 2 ^ 31 by omega) (by omega) (by omega)]
  refine ⟨nI_ne0 (by omega) (by omega), nI_ne0 (by omega) (by omega), tj_between hS (Nat.mod_lt _ (by omega)) (fun r hr g4 g5 g6 g7 g8 g9 => ?_)⟩
  exact br_f (by rw [Int32.lt_iff_toInt_lt, tj_z0]; omega) (H _ _ _ _ _ _)
theorem tj_common {post : Int32 → Prop} {w : Nat → Int} {M S : Nat} {b : Bool} {r : Int32} (hl : -240 ≤ tj_cc w S M) (h : tj_an w M S b r)
    (H : ∀ x : Int32, ((b = true ∧ x.toInt = tj_cc w S M) ∨ (b = false ∧ x.toInt = 9999)) → post x) : wpL_common post () r := by
  have k : (-1000 : Int32).toInt = -1000 := by decide
  unfold wpL_common
  rcases h with ⟨h1, h2⟩ | ⟨h1, h2⟩
  · refine br_f (fun z => ?_) (H r (Or.inl ⟨h1, h2⟩))
    rw [z, k] at h2
    omega
  · exact br_t h2 (H _ (Or.inr ⟨h1, by decide⟩))
theorem tj_mulb (b : Bool) (x : Int32) : nI b.toNat * x = if b = true then x else 0 := by
  cases b
  · show (0 : Int32) * x = 0
    exact Int32.zero_mul
  · show (1 : Int32) * x = x
    exact Int32.one_mul x
theorem tj_h113 {post : Int32 → St2 → Prop} {a1 a2 a3 a4 a5 a6 a7 a8 a9 : Nat → Int32} {n M W rd S : Nat} {P Q : Nat → Nat} {lo hi : Int64} {r : Int32} (hS : tj_st n M W P Q a1 a2 a3) (hd : tj_shd M lo hi a3) (hr : rd < 16) (hm : tj_mn P Q M (tj_c (tj_w a3)) W S) (hv : r.toInt = tj_cc (tj_w a3) S M)
    (H : ∀ g4 g5 g6 g7 g8 g9 : Nat → Int32, post 1 (nI n, nI M, nI W, a1, a2, a3, g4, g5, g6, g7, g8, g9)) :
    ∃ fu, wL_holds_113 post (nI n) (nI rd) lo hi (nI S) r (nI M) (nI n) (nI M) (nI W) a1 a2 a3 a4 a5 a6 a7 a8 a9 fu 0 0 := by
  have hM : M ≤ 12 := hS.1.2.2.1
  have hw : ∀ e, e < M → -9 ≤ tj_w a3 e ∧ tj_w a3 e ≤ 20 := hS.2.2
  have s12 := tj_p31 hM hm.1
  have hJ : ∃ J, tj_xs (tj_ed P Q) J M = W := ⟨S, hm.2.1⟩
  have ub : ∀ J i, i ≤ M → tj_cc (tj_w a3) J i ≤ i * 20 := fun J i hi => tj_cc_ub (by omega) (fun j hj => (hw j (by omega)).2)
  have lb : ∀ J i, i ≤ M → - (i * 20 : Int) ≤ tj_cc (tj_w a3) J i := fun J i hi => tj_cc_lb (by omega) (fun j hj => by have := (hw j (by omega)).1; omega)
  refine pk_loop (fun k i (s : Int32) => wL_holds_113 post (nI n) (nI rd) lo hi (nI S) r (nI M) (nI n) (nI M) (nI W) a1 a2 a3 a4 a5 a6 a7 a8 a9 k s (nI i)) (fun i s => s.toInt = tj_cc (tj_w a3) S i) M 0 0 (by omega) rfl ?_ ?_
  · intro k s h
    refine pk_le M M (fun _ => br_t (Int32.toInt_inj.mp (h.trans hv.symm)) (pk_le M rd (fun _ => tj_h242 hS hr H) (fun he => tj_bestWith hS he hJ (fun S1 r1 m1 an1 g4 g5 g6 g7 g8 g9 => ?_)))) (fun z => absurd z (by omega))
    refine tj_bestWithout hS he hJ (fun S2 r2 m2 an2 g4' g5' g6' g7' g8' g9' => ?_)
    have l1 := lb S1 M (Nat.le_refl M)
    have l2 := lb S2 M (Nat.le_refl M)
    have u0 := ub S M (Nat.le_refl M)
    obtain ⟨A, B, C, D⟩ := tj_min2 hM he hw hm m1 m2
    refine tj_common (by omega) an1 (fun x hx => tj_common (by omega) an2 (fun y hy => ?_))
    have key : (x.toInt = r.toInt ∧ r.toInt ≤ y.toInt) ∨ (y.toInt = r.toInt ∧ r.toInt ≤ x.toInt) := by
      rw [hv]
      have x0 : tj_cc (tj_w a3) S M ≤ x.toInt := by
        rcases hx with z | z
        · omega
        · omega
      have y0 : tj_cc (tj_w a3) S M ≤ y.toInt := by
        rcases hy with z | z
        · omega
        · omega
      by_cases b : S.testBit rd = true
      · have A' := A b
        rcases hx with z | z
        · exact Or.inl ⟨by omega, y0⟩
        · exact absurd (A'.1.symm.trans z.1) (by decide)
      · have B' := B b
        rcases hy with z | z
        · exact Or.inr ⟨by omega, x0⟩
        · rw [tj_nf B'.1] at z
          exact absurd z.1 (by decide)
    refine tj_le (fun z => br_t (Int32.toInt_inj.mp ?_) (tj_h242 hS hr H)) (fun z => br_t (Int32.toInt_inj.mp ?_) (tj_h242 hS hr H))
    · omega
    · omega
  · intro k i s hi' h hw'
    have u := ub S i (by omega)
    have l := lb S i (by omega)
    have w := hw i hi'
    have st : (s + ((nI S >>> (nI i &&& 31)) &&& 1) * a3 i).toInt = tj_cc (tj_w a3) S (i + 1) := by
      rw [tj_sh (by omega) (by omega), tj_mulb]
      have e1 : (a3 i).toInt = tj_w a3 i := rfl
      by_cases b : S.testBit i = true
      · rw [if_pos b, tj_cc_s b, tj_add (by omega) (by omega), h, e1]
      · rw [if_neg b, tj_cc_n b, tj_add (by rw [tj_z0]; omega) (by rw [tj_z0]; omega), tj_z0, h]
        omega
    exact pk_le M i (fun z => absurd z (by omega)) (fun _ => pk_le 6 i (fun z => nm_r ((hd i hi').2 z) (nm_e (nm_r (nI_1 i) (hw' _ st)))) (fun z => nm_r ((hd i hi').1 (by omega)) (nm_e (nm_r (nI_1 i) (hw' _ st)))))
theorem tj_pow1 : ∀ z, z < 13 → (nI (2 ^ z) &&& (nI (2 ^ z) - 1)) = 0 ∧ ¬ nI (2 ^ z) = 0 ∧ ¬ nI (2 ^ z) < 0 := by decide +kernel
theorem tj_holds {post : Int32 → St2 → Prop} {a1 a2 a3 a4 a5 a6 a7 a8 a9 : Nat → Int32} {n M W rd : Nat} {P Q : Nat → Nat} {lo hi : Int64} (hS : tj_st n M W P Q a1 a2 a3) (hd : tj_shd M lo hi a3) (hr : rd < 16)
    (H : ∀ g4 g5 g6 g7 g8 g9 : Nat → Int32, post 1 (nI n, nI M, nI W, a1, a2, a3, g4, g5, g6, g7, g8, g9)) :
    wpL_holds post (nI n, nI M, nI W, a1, a2, a3, a4, a5, a6, a7, a8, a9) (nI n) (nI rd) lo hi := by
  have hM : M ≤ 12 := hS.1.2.2.1
  unfold wpL_holds
  dsimp only
  by_cases hJ : ∃ J, tj_xs (tj_ed P Q) J M = W
  · refine tj_joins hS (fun h => absurd hJ h) (fun _ z hz g => ?_)
    refine tj_possible hS (fun h => absurd hJ h) (fun _ g' => ?_)
    refine tj_bestSet hS (fun h => absurd hJ h) (fun S hm g4 g5 g6 g7 g8 g9 => ?_)
    refine tj_best' hS (fun h => absurd hJ h) (fun S' r hm' hv g4' g5' g6' g7' g8' g9' => ?_)
    have z3 := tj_pow1 z hz
    refine br_f z3.2.1 (br_f (by decide) ?_)
    unfold wL_holds_44
    exact br_t rfl (br_f z3.2.2 (br_t z3.1 (br_f (by decide) (tj_isJoin hS.1 hm.1 hm.2.1 (br_t rfl (tj_h113 hS hd hr hm (hv.trans (tj_mn_w hM hm' hm)) H))))))
  · refine tj_joins hS (fun _ g => ?_) (fun h => absurd h hJ)
    refine tj_possible hS (fun _ g' => ?_) (fun h => absurd h hJ)
    refine tj_bestSet hS (fun _ g4 g5 g6 g7 g8 g9 => ?_) (fun S hm => absurd ⟨S, hm.2.1⟩ hJ)
    refine tj_best' hS (fun _ g4' g5' g6' g7' g8' g9' => ?_) (fun S r hm => absurd ⟨S, hm.2.1⟩ hJ)
    refine br_t rfl (br_t rfl ?_)
    unfold wL_holds_44
    exact br_t rfl (br_f (by decide) (br_t (by decide) (br_t rfl (br_t rfl (br_t rfl (H _ _ _ _ _ _))))))
end
section
/-! the law's two longs: six bits a weight -/
def tj_get (x : Int64) (s : Nat) : Int32 := (x >>> ((nI s).toInt64 &&& 63)).toInt32 &&& 63
def tj_put (x : Int64) (s : Nat) (v : Int32) : Int64 := (x &&& (((63 : Int64) <<< ((nI s).toInt64 &&& 63)) ^^^ (-1))) ||| (v.toInt64 <<< ((nI s).toInt64 &&& 63))
theorem tj_s64 : ∀ s, s < 64 → (((nI s).toInt64 &&& 63).toBitVec.smod 64).toNat = s := by decide +kernel
theorem tj_g63 : ∀ i, i < 32 → (63 : Int32).toBitVec.getLsbD i = decide (i < 6) := by decide +kernel
theorem tj_l63 : ∀ i, i < 64 → (63 : Int64).toBitVec.getLsbD i = decide (i < 6) := by decide +kernel
theorem tj_lm1 : ∀ i, i < 64 → (-1 : Int64).toBitVec.getLsbD i = true := by decide +kernel
theorem tj_va : ∀ a, a < 64 → ∀ i, i < 64 → (nI a).toInt64.toBitVec.getLsbD i = a.testBit i := by decide +kernel
theorem tj_get_bit (x : Int64) {s i : Nat} (hs : s ≤ 58) (hi : i < 32) : (tj_get x s).toBitVec.getLsbD i = (decide (i < 6) && x.toBitVec.getLsbD (s + i)) := by
  unfold tj_get
  rw [Int32.toBitVec_and, BitVec.getLsbD_and, tj_g63 i hi, Int64.toBitVec_toInt32, BitVec.getLsbD_signExtend, if_pos (by omega), decide_eq_true hi, Bool.true_and, Int64.toBitVec_shiftRight]
  show ((x.toBitVec.sshiftRight (((nI s).toInt64 &&& 63).toBitVec.smod 64).toNat).getLsbD i && decide (i < 6)) = _
  rw [tj_s64 s (by omega), BitVec.getLsbD_sshiftRight]
  by_cases h : i < 6
  · rw [decide_eq_true h, if_pos (by omega), decide_eq_false (by omega)]
    simp
  · rw [decide_eq_false h]
    simp
theorem tj_put_bit (x : Int64) {s j a : Nat} (hs : s ≤ 58) (hj : j < 64) (ha : a < 64) : (tj_put x s (nI a)).toBitVec.getLsbD j = if s ≤ j ∧ j < s + 6 then a.testBit (j - s) else x.toBitVec.getLsbD j := by
  unfold tj_put
  rw [Int64.toBitVec_or, BitVec.getLsbD_or, Int64.toBitVec_and, BitVec.getLsbD_and, Int64.toBitVec_xor, BitVec.getLsbD_xor, tj_lm1 j hj, Int64.toBitVec_shiftLeft, Int64.toBitVec_shiftLeft]
  show ((x.toBitVec.getLsbD j && (((63 : Int64).toBitVec <<< (((nI s).toInt64 &&& 63).toBitVec.smod 64).toNat).getLsbD j ^^ true)) || ((nI a).toInt64.toBitVec <<< (((nI s).toInt64 &&& 63).toBitVec.smod 64).toNat).getLsbD j) = _
  rw [tj_s64 s (by omega), BitVec.getLsbD_shiftLeft, BitVec.getLsbD_shiftLeft, tj_l63 (j - s) (by omega), tj_va a ha (j - s) (by omega), decide_eq_true hj]
  by_cases h : s ≤ j ∧ j < s + 6
  · rw [if_pos h, decide_eq_false (by omega), decide_eq_true (by omega)]
    simp
  · rw [if_neg h]
    by_cases h2 : j < s
    · rw [decide_eq_true h2]
      simp
    · rw [decide_eq_false h2, decide_eq_false (by omega), Nat.testBit_lt_two_pow (Nat.lt_of_lt_of_le (show a < 2 ^ 6 from ha) (Nat.pow_le_pow_right (by omega) (by omega)))]
      simp
theorem tj_get_put (x : Int64) {s a : Nat} (hs : s ≤ 58) (ha : a < 64) : tj_get (tj_put x s (nI a)) s = nI a := by
  apply Int32.toBitVec_inj.mp
  apply BitVec.eq_of_getLsbD_eq
  intro i hi
  have e : (nI a).toBitVec.getLsbD i = a.testBit i := by
    show (BitVec.ofNat 32 a).getLsbD i = _
    rw [BitVec.getLsbD_ofNat, decide_eq_true hi, Bool.true_and]
  rw [tj_get_bit _ hs hi, e]
  by_cases h : i < 6
  · rw [decide_eq_true h, Bool.true_and, tj_put_bit x hs (by omega) ha, if_pos (by omega), show s + i - s = i by omega]
  · rw [decide_eq_false h, Bool.false_and, Nat.testBit_lt_two_pow (Nat.lt_of_lt_of_le (show a < 2 ^ 6 from ha) (Nat.pow_le_pow_right (by omega) (by omega)))]
theorem tj_get_other (x : Int64) {s t a : Nat} (hs : s ≤ 58) (ht : t ≤ 58) (ha : a < 64) (h : t + 6 ≤ s ∨ s + 6 ≤ t) : tj_get (tj_put x s (nI a)) t = tj_get x t := by
  apply Int32.toBitVec_inj.mp
  apply BitVec.eq_of_getLsbD_eq
  intro i hi
  rw [tj_get_bit _ ht hi, tj_get_bit _ ht hi]
  by_cases h6 : i < 6
  · rw [tj_put_bit x hs (by omega) ha, if_neg (by omega)]
  · rw [decide_eq_false h6, Bool.false_and, Bool.false_and]
theorem tj_6 (e : Nat) : 6 * nI e = nI (6 * e) := by
  show nI 6 * nI e = _
  rw [pk_mul]
theorem tj_66 {e : Nat} (h : 6 ≤ e) : 6 * nI e - 36 = nI (6 * e - 36) := by
  rw [tj_6]
  show nI (6 * e) - nI 36 = _
  rw [pk_sub (by omega)]
theorem tj_sh1_of {lo hi : Int64} {x : Int32} {e : Nat} : tj_sh1 lo hi x e ↔ ((¬ 6 ≤ e → tj_get lo (6 * e) - 16 = x) ∧ (6 ≤ e → tj_get hi (6 * e - 36) - 16 = x)) := by
  unfold tj_sh1 tj_get
  rw [tj_6]
  constructor
  · intro h
    refine ⟨h.1, fun z => ?_⟩
    have h2 := h.2 z
    rw [← tj_6, tj_66 z] at h2
    exact h2
  · intro h
    refine ⟨h.1, fun z => ?_⟩
    rw [← tj_6, tj_66 z]
    exact h.2 z
theorem tj_wd : ∀ b, b < 30 → ¬ nI b - 9 < -9 ∧ nI b - 9 ≤ 20 ∧ nI b - 9 + 16 = nI (b + 7) ∧ nI (b + 7) - 16 = nI b - 9 ∧ -9 ≤ (nI b - 9).toInt ∧ (nI b - 9).toInt ≤ 20 := by decide +kernel
theorem tj_putE1 (x : Int64) (e : Nat) {b : Nat} (hb : b < 30) : (x &&& (((63 : Int64) <<< ((6 * nI e).toInt64 &&& 63)) ^^^ (-1))) ||| (((nI b - 9 + 16).toInt64) <<< ((6 * nI e).toInt64 &&& 63)) = tj_put x (6 * e) (nI (b + 7)) := by
  rw [tj_6, (tj_wd b hb).2.2.1]
  rfl
theorem tj_putE2 (x : Int64) {e : Nat} (h : 6 ≤ e) {b : Nat} (hb : b < 30) : (x &&& (((63 : Int64) <<< ((6 * nI e - 36).toInt64 &&& 63)) ^^^ (-1))) ||| (((nI b - 9 + 16).toInt64) <<< ((6 * nI e - 36).toInt64 &&& 63)) = tj_put x (6 * e - 36) (nI (b + 7)) := by
  rw [tj_66 h, (tj_wd b hb).2.2.1]
  rfl
theorem tj_shd_lo {M e b : Nat} {lo hi : Int64} {a3 : Nat → Int32} (hM : M ≤ 12) (he : ¬ 6 ≤ e) (hb : b < 30) (h : ∀ j, j < M → j ≠ e → tj_sh1 lo hi (a3 j) j) : tj_shd M (tj_put lo (6 * e) (nI (b + 7))) hi (upd a3 e (nI b - 9)) := by
  intro j hj
  rw [tj_sh1_of]
  by_cases q : j = e
  · subst q
    refine ⟨fun _ => ?_, fun z => absurd z he⟩
    rw [pk_us, tj_get_put _ (by omega) (by omega), (tj_wd b hb).2.2.2.1]
  · have g := tj_sh1_of.mp (h j hj q)
    rw [pk_un q]
    refine ⟨fun z => ?_, g.2⟩
    rw [tj_get_other _ (by omega) (by omega) (by omega) (by omega)]
    exact g.1 z
theorem tj_shd_hi {M e b : Nat} {lo hi : Int64} {a3 : Nat → Int32} (hM : M ≤ 12) (he : 6 ≤ e) (he2 : e < 12) (hb : b < 30) (h : ∀ j, j < M → j ≠ e → tj_sh1 lo hi (a3 j) j) : tj_shd M lo (tj_put hi (6 * e - 36) (nI (b + 7))) (upd a3 e (nI b - 9)) := by
  intro j hj
  rw [tj_sh1_of]
  by_cases q : j = e
  · subst q
    refine ⟨fun z => absurd he z, fun _ => ?_⟩
    rw [pk_us, tj_get_put _ (by omega) (by omega), (tj_wd b hb).2.2.2.1]
  · have g := tj_sh1_of.mp (h j hj q)
    rw [pk_un q]
    refine ⟨g.1, fun z => ?_⟩
    rw [tj_get_other _ (by omega) (by omega) (by omega) (by omega)]
    exact g.2 z
end
section
/-! the law's turns, and the law -/
theorem tj_road {post : Int32 → St2 → Prop} {a1 a2 a3 a4 a5 a6 a7 a8 a9 : Nat → Int32} {n M W p q b : Nat} {P Q : Nat → Nat} (hS : tj_st n M W P Q a1 a2 a3) (hp : p < n) (hq : q < n) (hb : b < 30)
    (H0 : post (-3) (nI n, nI M, nI W, a1, a2, a3, a4, a5, a6, a7, a8, a9))
    (H1 : M < 12 → tj_st n (M + 1) W (fun e => if e = M then p else P e) (fun e => if e = M then q else Q e) (upd a1 M (nI p)) (upd a2 M (nI q)) (upd a3 M (nI b - 9)) → post (nI M) (nI n, nI (M + 1), nI W, upd a1 M (nI p), upd a2 M (nI q), upd a3 M (nI b - 9), a4, a5, a6, a7, a8, a9)) :
    wpX_road post (nI n, nI M, nI W, a1, a2, a3, a4, a5, a6, a7, a8, a9) (nI p) (nI q) (nI b - 9) := by
  obtain ⟨⟨h2, hn, hM, hE, hP⟩, hW, hw⟩ := hS
  have hb' := tj_wd b hb
  unfold wpX_road
  dsimp only
  refine tj_isPlace hn hp (br_f (by decide) (tj_isPlace hn hq (br_f (by decide) (br_f hb'.1 (br_t hb'.2.1 (pk_eq M 12 (fun _ => H0) (fun z => ?_)))))))
  have i12 := pk_in (x := nI M) M 12 (by omega)
  refine ⟨i12, nm_r (by rw [nI_clamp (show M < 2 ^ 31 by omega)]) ⟨i12, nm_r (by rw [nI_clamp (show M < 2 ^ 31 by omega)]) ⟨i12, nm_r (by rw [nI_clamp (show M < 2 ^ 31 by omega)]) (nm_r (nI_1 M) ?_)⟩⟩⟩
  rw [nI_pred]
  refine H1 (by omega) ⟨⟨h2, hn, by omega, fun e he => ?_, fun e he => ?_⟩, hW, fun e he => ?_⟩
  · dsimp only
    by_cases c : e = M
    · rw [c, pk_us, pk_us, if_pos rfl, if_pos rfl]
      exact ⟨rfl, rfl⟩
    · rw [pk_un c, pk_un c, if_neg c, if_neg c]
      exact hE e (by omega)
  · dsimp only
    by_cases c : e = M
    · rw [if_pos c, if_pos c]
      exact ⟨hp, hq⟩
    · rw [if_neg c, if_neg c]
      exact hP e (by omega)
  · by_cases c : e = M
    · rw [c, pk_us]
      exact hb'.2.2.2.2
    · rw [pk_un c]
      exact hw e (by omega)
theorem tj_weigh {post : Int32 → St2 → Prop} {a1 a2 a3 a4 a5 a6 a7 a8 a9 : Nat → Int32} {n M W e b : Nat} {P Q : Nat → Nat} (hS : tj_st n M W P Q a1 a2 a3) (he : e < M) (hb : b < 30)
    (H : tj_st n M W P Q a1 a2 (upd a3 e (nI b - 9)) → post (a3 e) (nI n, nI M, nI W, a1, a2, upd a3 e (nI b - 9), a4, a5, a6, a7, a8, a9)) :
    wpX_weigh post (nI n, nI M, nI W, a1, a2, a3, a4, a5, a6, a7, a8, a9) (nI e) (nI b - 9) := by
  have hM : M ≤ 12 := hS.1.2.2.1
  have hb' := tj_wd b hb
  have i12 := pk_in (x := nI e) e 12 (by omega)
  unfold wpX_weigh
  dsimp only
  rw [nI_clamp (show e < 2 ^ 31 by omega)]
  refine tj_isRoad hM he (br_f (by decide) (br_f hb'.1 (br_t hb'.2.1 ⟨i12, nm_e ⟨i12, nm_e (H ⟨hS.1, hS.2.1, fun j hj => ?_⟩)⟩⟩)))
  by_cases c : j = e
  · rw [c, pk_us]
    exact hb'.2.2.2.2
  · rw [pk_un c]
    exact hS.2.2 j hj
theorem tj_turn {post : Int32 → St2 → Prop} {a1 a2 a3 a4 a5 a6 a7 a8 a9 : Nat → Int32} {n M W q : Nat} {P Q : Nat → Nat} (hS : tj_st n M W P Q a1 a2 a3) (hq : q < n)
    (H : ∀ r W', tj_st n M W' P Q a1 a2 a3 → post r (nI n, nI M, nI W', a1, a2, a3, a4, a5, a6, a7, a8, a9)) :
    wpX_turn post (nI n, nI M, nI W, a1, a2, a3, a4, a5, a6, a7, a8, a9) (nI q) := by
  have hn : n ≤ 7 := hS.1.2.1
  unfold wpX_turn
  dsimp only
  refine tj_isPlace hn hq (br_f (by decide) (nm_r (e' := nI (W ^^^ 2 ^ q)) ?_ (H _ _ ⟨hS.1, Nat.xor_lt_two_pow hS.2.1 (Nat.pow_lt_pow_right (by omega) hq), hS.2.2⟩)))
  rw [tj_one q (by omega), tj_nx]
theorem tj_m1 : ∀ n, n < 8 → (((1 : Int32) <<< (nI n &&& 31)) - 1).toBitVec.toNat = 2 ^ n - 1 := by decide +kernel
theorem tj_want {post : Int32 → St2 → Prop} {a1 a2 a3 a4 a5 a6 a7 a8 a9 : Nat → Int32} {n M W T : Nat} {P Q : Nat → Nat} (hS : tj_st n M W P Q a1 a2 a3) (hT : T < 2 ^ n)
    (H : ∀ r W', tj_st n M W' P Q a1 a2 a3 → post r (nI n, nI M, nI W', a1, a2, a3, a4, a5, a6, a7, a8, a9)) :
    wpX_want post (nI n, nI M, nI W, a1, a2, a3, a4, a5, a6, a7, a8, a9) (nI T) := by
  have hn : n ≤ 7 := hS.1.2.1
  have t7 := tj_p2 hn hT
  have n7 : 2 ^ n ≤ 2 ^ 7 := Nat.pow_le_pow_right (by omega) hn
  unfold wpX_want
  dsimp only
  rw [tj_one n (by omega)]
  exact br_f (nI_pos (by omega)) (br_t (nI_lt hT (by omega)) (H _ _ ⟨hS.1, hT, hS.2.2⟩))
/-- what the law's loop takes -/
def tj_HJ (n k : Nat) (J : Int64 → Int64 → Int32 → Int32 → Int32 → Int32 → (Nat → Int32) → (Nat → Int32) → (Nat → Int32) → (Nat → Int32) → (Nat → Int32) → (Nat → Int32) → (Nat → Int32) → (Nat → Int32) → (Nat → Int32) → Prop) : Prop :=
  ∀ (lo hi : Int64) (M W : Nat) (P Q : Nat → Nat) (a1 a2 a3 a4 a5 a6 a7 a8 a9 : Nat → Int32), tj_st n M W P Q a1 a2 a3 → tj_shd M lo hi a3 → J lo hi (nI (k + 2)) (nI n) (nI M) (nI W) a1 a2 a3 a4 a5 a6 a7 a8 a9
theorem tj_l366 {post : Int32 → Prop} {L : Nat} {xs : Nat → Int32} {J : Int64 → Int64 → Int32 → Int32 → Int32 → Int32 → (Nat → Int32) → (Nat → Int32) → (Nat → Int32) → (Nat → Int32) → (Nat → Int32) → (Nat → Int32) → (Nat → Int32) → (Nat → Int32) → (Nat → Int32) → Prop} {lo hi : Int64} {x9 : Int32} {kc ks : Nat} {a1 a2 a3 a4 a5 a6 a7 a8 a9 : Nat → Int32} {n M W k : Nat} {P Q : Nat → Nat} (hJ : tj_HJ n k J) (hS : tj_st n M W P Q a1 a2 a3) (hd : tj_shd M lo hi a3) :
    wL_law_366 post L xs J (nI n) lo hi (nI k) x9 kc ks (nI n) (nI M) (nI W) a1 a2 a3 a4 a5 a6 a7 a8 a9 := by
  unfold wL_law_366
  obtain ⟨rd, r1, r2⟩ := pk_andE (x9 >>> ((5 : Int32) &&& 31)) (m := 15) 4 (by decide)
  rw [r2]
  refine tj_holds hS hd r1 (fun g4 g5 g6 g7 g8 g9 => ?_)
  exact br_f (by decide) (nm_r (nI_add k 2) (hJ _ _ _ _ _ _ _ _ _ _ _ _ _ _ _ hS hd))
theorem tj_l102 {post : Int32 → Prop} {L : Nat} {xs : Nat → Int32} {J : Int64 → Int64 → Int32 → Int32 → Int32 → Int32 → (Nat → Int32) → (Nat → Int32) → (Nat → Int32) → (Nat → Int32) → (Nat → Int32) → (Nat → Int32) → (Nat → Int32) → (Nat → Int32) → (Nat → Int32) → Prop} {lo hi : Int64} {x8 x9 x10 z0 : Int32} {kc ks : Nat} {a1 a2 a3 a4 a5 a6 a7 a8 a9 : Nat → Int32} {n M W k b : Nat} {P Q : Nat → Nat} (hJ : tj_HJ n k J) (hS : tj_st n M W P Q a1 a2 a3) (hd : tj_shd M lo hi a3) (hb : b < 30) (hz : 0 < M → ∃ e, e < M ∧ z0 = nI e) :
    wL_law_102 post L xs J (nI n) lo hi (nI k) x8 x9 x10 (nI b - 9) (nI M) z0 kc ks (nI n) (nI M) (nI W) a1 a2 a3 a4 a5 a6 a7 a8 a9 := by
  have h2 : 2 ≤ n := hS.1.1
  have hn : n ≤ 7 := hS.1.2.1
  have hM : M ≤ 12 := hS.1.2.2.1
  have n0 : ¬ nI n = 0 := nI_ne0 (by omega) (by omega)
  unfold wL_law_102
  refine br_c (fun _ => br_c (fun _ => br_c (fun _ => pk_le M 0 (fun z => tj_l366 hJ hS hd) (fun z => ?_)) (fun _ => ⟨n0, ?_⟩)) (fun _ => ?_)) (fun _ => ⟨n0, n0, ?_⟩)
  · obtain ⟨e, he, ez⟩ := hz z
    subst ez
    refine tj_weigh hS he hb (fun hS' => ?_)
    have k9 : (-9 : Int32).toInt = -9 := by decide
    refine br_t (by rw [Int32.le_iff_toInt_le, k9]; exact (hS.2.2 e he).1) (pk_le 6 e (fun z => nm_r (tj_putE2 hi z hb) (tj_l366 hJ hS' (tj_shd_hi hM z (by omega) hb (fun j hj _ => hd j hj)))) (fun z => nm_r (tj_putE1 lo e hb) (tj_l366 hJ hS' (tj_shd_lo hM (by omega) hb (fun j hj _ => hd j hj)))))
  · obtain ⟨j, j1, j2⟩ := pk_andE x9 (m := 7) 3 (by decide)
    rw [j2, pk_rem (by omega) (by omega) (by omega)]
    exact tj_turn hS (Nat.mod_lt _ (by omega)) (fun r W' hS' => tj_l366 hJ hS' hd)
  · obtain ⟨T, t1, t2⟩ := pk_andE x9 n (tj_m1 n (by omega))
    rw [t2]
    exact tj_want hS t1 (fun r W' hS' => tj_l366 hJ hS' hd)
  · obtain ⟨p, p1, p2⟩ := pk_andE (x8 >>> ((4 : Int32) &&& 31)) (m := 7) 3 (by decide)
    obtain ⟨q, q1, q2⟩ := pk_andE (x8 >>> ((7 : Int32) &&& 31)) (m := 7) 3 (by decide)
    rw [p2, q2, pk_rem (a := p) (by omega) (by omega) (by omega), pk_rem (a := q) (by omega) (by omega) (by omega)]
    refine tj_road hS (Nat.mod_lt _ (by omega)) (Nat.mod_lt _ (by omega)) hb ?_ (fun hlt hS' => ?_)
    · exact br_t (by decide) (br_t (by decide) (tj_l366 hJ hS hd))
    · have hd' : ∀ j, j < M + 1 → j ≠ M → tj_sh1 lo hi (a3 j) j := fun j hj hne => hd j (by omega)
      exact br_f (nI_pos (by omega)) (pk_le 6 M (fun z => br_f (nI_ge (a := 5) (b := M) (by omega) (by omega)) (nm_r (tj_putE2 hi z hb) (tj_l366 hJ hS' (tj_shd_hi (by omega) z hlt hb hd')))) (fun z => nm_r (tj_putE1 lo M hb) (br_t (nI_le (b := 5) (by omega) (by omega)) (tj_l366 hJ hS' (tj_shd_lo (by omega) (by omega) hb hd')))))
theorem tj_cell {post : Int32 → Prop} {L : Nat} {xs : Nat → Int32} {x : Int32} {k : Nat} (hx : x = nI k) (hk : k < 2 ^ 31) (hL : L < 2 ^ 31) (H : ∀ r, post r) : wpL_cell post L xs () x := by
  subst hx
  unfold wpL_cell
  exact pk_le L k (fun _ => H _) (fun z => ⟨pk_in k L z, H _⟩)
theorem tj_loop {L : Nat} {xs : Nat → Int32} {n kc ks : Nat} (hL : L ≤ 260) : ∀ fu k, L - k < fu → k ≤ L + 1 → ∀ (lo hi : Int64) (M W : Nat) (P Q : Nat → Nat) (a1 a2 a3 a4 a5 a6 a7 a8 a9 : Nat → Int32), tj_st n M W P Q a1 a2 a3 → tj_shd M lo hi a3 → wL_law_31 (fun r => r = 1) L xs (nI n) kc ks fu lo hi (nI k) (nI n) (nI M) (nI W) a1 a2 a3 a4 a5 a6 a7 a8 a9 := by
  intro fu
  induction fu with
  | zero => intro k h; exact absurd h (by omega)
  | succ fu ih =>
    intro k hf hk lo hi M W P Q a1 a2 a3 a4 a5 a6 a7 a8 a9 hS hd
    have hM : M ≤ 12 := hS.1.2.2.1
    refine pk_le L k (fun _ => rfl) (fun z => tj_cell rfl (by omega) (by omega) (fun c => tj_cell (nI_1 k) (by omega) (by omega) (fun d => ?_)))
    have hJ : tj_HJ n k (wL_law_31 (fun r => r = 1) L xs (nI n) kc ks fu) := fun lo hi M W P Q a1 a2 a3 a4 a5 a6 a7 a8 a9 hS hd => ih (k + 2) (by omega) (by omega) lo hi M W P Q a1 a2 a3 a4 a5 a6 a7 a8 a9 hS hd
    obtain ⟨j, j1, j2⟩ := pk_andE d (m := 31) 5 (by decide)
    obtain ⟨i, i1, i2⟩ := pk_andE (c >>> ((4 : Int32) &&& 31)) (m := 15) 4 (by decide)
    have e30 : nI j - nI j / 30 * 30 = nI (j % 30) := pk_rem (d := 30) (by omega) (by omega) (by omega)
    refine nm_e ⟨by decide, nm_r (e' := nI (j % 30) - 9) (by rw [j2, e30]) ?_⟩
    refine pk_le (x := 1) (y := nI M) 1 M (fun h => ⟨nI_ne0 (by omega) (by omega), tj_l102 hJ hS hd (Nat.mod_lt _ (by omega)) (fun _ => ⟨i % M, Nat.mod_lt _ (by omega), ?_⟩)⟩) (fun h => tj_l102 hJ hS hd (Nat.mod_lt _ (by omega)) (fun h0 => absurd h0 (by omega)))
    rw [i2, pk_rem (by omega) (by omega) (by omega)]
theorem i_vc (xs : Nat → Int32) (L : Nat) (hL : L ≤ 260) : wpL_law (fun r => r = 1) L xs := by
  unfold wpL_law
  refine tj_cell (k := 0) rfl (by omega) (by omega) (fun r => ⟨by decide, ?_⟩)
  obtain ⟨j, j1, j2⟩ := pk_andE r (m := 2147483647) 31 (by decide)
  have e6 : nI j - nI j / 6 * 6 = nI (j % 6) := pk_rem (d := 6) (by omega) (by omega) (by omega)
  refine nm_r (e' := nI (2 + j % 6)) (by rw [j2, e6]; exact nI_add 2 _) ?_
  have hn : 2 + j % 6 ≤ 7 := by omega
  have h2 : 2 ≤ 2 + j % 6 := by omega
  generalize 2 + j % 6 = n at *
  refine ⟨9, 409, by omega, by omega, ?_⟩
  unfold wpX_init
  refine ⟨by omega, by omega, by omega, by omega, by omega, by omega, by omega, by omega, by omega, by omega, by omega, by omega, by omega, by omega, by omega, by omega, by omega, by omega, ?_⟩
  refine pk_le 2 n (fun _ => pk_le n 7 (fun _ => ⟨L + 1, ?_⟩) (fun z => absurd z (by omega))) (fun z => absurd z (by omega))
  exact tj_loop hL (L + 1) 1 (by omega) (by omega) 0 0 0 0 (fun _ => 0) (fun _ => 0) _ _ _ _ _ _ _ _ _ ⟨⟨h2, hn, by omega, fun e he => absurd he (by omega), fun e he => absurd he (by omega)⟩, Nat.two_pow_pos n, fun e he => absurd he (by omega)⟩ (fun e he => absurd he (by omega))
end
