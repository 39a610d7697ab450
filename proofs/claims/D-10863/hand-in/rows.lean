section
/-- the xor of the g over the pairs (f, g) of the list, for those whose bit f of c is set: every coding loop of the class is one of these -/
def sm_lin : List (Nat × Nat) → Nat → Nat
  | [], _ => 0
  | x :: l, c => (if c.testBit x.1 = true then x.2 else 0) ^^^ sm_lin l c
theorem sm_lin_c (x : Nat × Nat) (l : List (Nat × Nat)) (c : Nat) : sm_lin (x :: l) c = (if c.testBit x.1 = true then x.2 else 0) ^^^ sm_lin l c := rfl
theorem sm_if (a b : Bool) (g : Nat) : (if (a ^^ b) = true then g else 0) = (if a = true then g else 0) ^^^ (if b = true then g else 0) := by
  cases a <;> cases b <;> simp
theorem sm_x4 (a b c d : Nat) : (a ^^^ b) ^^^ (c ^^^ d) = (a ^^^ c) ^^^ (b ^^^ d) := by
  ac_rfl
theorem sm_lin_xor (l : List (Nat × Nat)) (c d : Nat) : sm_lin l (c ^^^ d) = sm_lin l c ^^^ sm_lin l d := by
  induction l with
  | nil => simp [sm_lin]
  | cons x l ih =>
    rw [sm_lin_c, sm_lin_c, sm_lin_c, Nat.testBit_xor, ih, sm_if, sm_x4]
theorem sm_lin_0 (l : List (Nat × Nat)) : sm_lin l 0 = 0 := by
  induction l with
  | nil => rfl
  | cons x l ih => simp [sm_lin, ih]
theorem sm_lin_lin (m l : List (Nat × Nat)) (c : Nat) : sm_lin m (sm_lin l c) = sm_lin (l.map (fun x => (x.1, sm_lin m x.2))) c := by
  induction l with
  | nil => simp [sm_lin, sm_lin_0]
  | cons x l ih =>
    show sm_lin m ((if c.testBit x.1 = true then x.2 else 0) ^^^ sm_lin l c) = (if c.testBit x.1 = true then sm_lin m x.2 else 0) ^^^ sm_lin (l.map (fun x => (x.1, sm_lin m x.2))) c
    rw [sm_lin_xor, ih]
    by_cases h : c.testBit x.1 = true
    · rw [if_pos h, if_pos h]
    · rw [if_neg h, if_neg h, sm_lin_0]
theorem sm_lin_lt (l : List (Nat × Nat)) (n c : Nat) (h : ∀ x, x ∈ l → x.2 < 2 ^ n) : sm_lin l c < 2 ^ n := by
  induction l with
  | nil => exact Nat.two_pow_pos n
  | cons x l ih =>
    have h1 : x.2 < 2 ^ n := h x (List.mem_cons_self)
    have h2 : sm_lin l c < 2 ^ n := ih (fun y hy => h y (List.mem_cons_of_mem _ hy))
    rw [sm_lin_c]
    refine Nat.xor_lt_two_pow ?_ h2
    by_cases hb : c.testBit x.1 = true
    · rw [if_pos hb]; exact h1
    · rw [if_neg hb]; exact Nat.two_pow_pos n
theorem sm_lin_tb (l : List (Nat × Nat)) (i c : Nat) (h : ∀ x, x ∈ l → x.2.testBit i = false) : (sm_lin l c).testBit i = false := by
  induction l with
  | nil => simp [sm_lin]
  | cons x l ih =>
    have h1 : x.2.testBit i = false := h x (List.mem_cons_self)
    have h2 : (sm_lin l c).testBit i = false := ih (fun y hy => h y (List.mem_cons_of_mem _ hy))
    rw [sm_lin_c, Nat.testBit_xor, h2]
    by_cases hb : c.testBit x.1 = true
    · rw [if_pos hb, h1]; rfl
    · rw [if_neg hb, Nat.zero_testBit]; rfl
theorem sm_lin_z (l : List (Nat × Nat)) (c : Nat) (h : ∀ x, x ∈ l → x.2 = 0) : sm_lin l c = 0 := by
  induction l with
  | nil => rfl
  | cons x l ih =>
    have h1 : x.2 = 0 := h x (List.mem_cons_self)
    have h2 : sm_lin l c = 0 := ih (fun y hy => h y (List.mem_cons_of_mem _ hy))
    rw [sm_lin_c, h2, h1]
    simp
/-- checksOf: k places from p on -/
def sm_ckl : Nat → Nat → List (Nat × Nat)
  | 0, _ => []
  | k + 1, p => (p, p) :: sm_ckl k (p + 1)
/-- the parity of onesOf -/
def sm_pal : Nat → Nat → List (Nat × Nat)
  | 0, _ => []
  | k + 1, p => (p, 1) :: sm_pal k (p + 1)
/-- encode's first loop -/
def sm_spl : Nat → Nat → Nat → List (Nat × Nat)
  | 0, _, _ => []
  | k + 1, p, j => if p &&& (p - 1) = 0 then sm_spl k (p + 1) j else (j, 2 ^ p) :: sm_spl k (p + 1) (j + 1)
/-- encode's second loop: k powers from 2 ^ j on -/
def sm_pwl : Nat → Nat → List (Nat × Nat)
  | 0, _ => []
  | k + 1, j => (j, 2 ^ 2 ^ j) :: sm_pwl k (j + 1)
/-- decode's loop -/
def sm_del : Nat → Nat → Nat → List (Nat × Nat)
  | 0, _, _ => []
  | k + 1, p, j => if p &&& (p - 1) = 0 then sm_del k (p + 1) j else (p, 2 ^ j) :: sm_del k (p + 1) (j + 1)
/-- nothing is changed -/
def sm_idl : Nat → Nat → List (Nat × Nat)
  | 0, _ => []
  | k + 1, j => (j, 2 ^ j) :: sm_idl k (j + 1)
theorem sm_id_tb (k : Nat) : ∀ (j c i : Nat), (sm_lin (sm_idl k j) c).testBit i = (decide (j ≤ i ∧ i < j + k) && c.testBit i) := by
  induction k with
  | zero =>
    intro j c i
    rw [decide_eq_false (by omega)]
    simp [sm_idl, sm_lin]
  | succ k ih =>
    intro j c i
    show ((if c.testBit j = true then 2 ^ j else 0) ^^^ sm_lin (sm_idl k (j + 1)) c).testBit i = _
    rw [Nat.testBit_xor, ih]
    by_cases e : i = j
    · subst e
      rw [decide_eq_false (show ¬ (i + 1 ≤ i ∧ i < i + 1 + k) by omega), decide_eq_true (show i ≤ i ∧ i < i + (k + 1) by omega)]
      cases h : c.testBit i <;> simp [Nat.testBit_two_pow_self]
    · have h1 : (if c.testBit j = true then 2 ^ j else 0).testBit i = false := by
        by_cases h : c.testBit j = true
        · rw [if_pos h, Nat.testBit_two_pow_of_ne (fun z => e z.symm)]
        · rw [if_neg h, Nat.zero_testBit]
      rw [h1, Bool.false_xor, show decide (j + 1 ≤ i ∧ i < j + 1 + k) = decide (j ≤ i ∧ i < j + (k + 1)) from decide_eq_decide.mpr (by omega)]
theorem sm_id (k c : Nat) (h : c < 2 ^ k) : sm_lin (sm_idl k 0) c = c := by
  apply Nat.eq_of_testBit_eq
  intro i
  rw [sm_id_tb]
  by_cases hi : i < k
  · rw [decide_eq_true (by omega), Bool.true_and]
  · rw [decide_eq_false (by omega), Bool.false_and, Nat.testBit_lt_two_pow (Nat.lt_of_lt_of_le h (Nat.pow_le_pow_right (by omega) (by omega)))]
theorem sm_cancel (a b : Nat) : (a ^^^ b) ^^^ b = a := by
  rw [Nat.xor_assoc, Nat.xor_self, Nat.xor_zero]
/-- or is xor where no bit meets -/
theorem sm_or (a b : Nat) (h : ∀ i, b.testBit i = true → a.testBit i = false) : a ||| b = a ^^^ b := by
  apply Nat.eq_of_testBit_eq
  intro i
  rw [Nat.testBit_or, Nat.testBit_xor]
  have t := h i
  revert t
  cases a.testBit i <;> cases b.testBit i <;> simp
theorem sm_or2 (a p : Nat) (b : Bool) (h : a.testBit p = false) : a ||| (if b = true then 2 ^ p else 0) = a ^^^ (if b = true then 2 ^ p else 0) := by
  apply sm_or
  intro i hi
  by_cases hb : b = true
  · rw [if_pos hb, Nat.testBit_two_pow] at hi
    rw [← of_decide_eq_true hi]; exact h
  · rw [if_neg hb, Nat.zero_testBit] at hi
    exact absurd hi (by decide)
/-- the code words of steps: 22 places -/
def sm_d (v : Nat) : Nat := sm_lin (sm_spl 19 3 0) v
def sm_c (v : Nat) : Nat := sm_d v ^^^ sm_lin (sm_pwl 5 0) (sm_lin (sm_ckl 21 1) (sm_d v))
def sm_e (v : Nat) : Nat := sm_c v ^^^ sm_lin (sm_pal 22 0) (sm_c v)
theorem sm_e_par (v : Nat) : sm_lin (sm_pal 22 0) (sm_e v) = 0 := by
  unfold sm_e
  rw [sm_lin_xor, sm_lin_lin, show (sm_pal 22 0).map (fun x => (x.1, sm_lin (sm_pal 22 0) x.2)) = sm_pal 22 0 from by decide +kernel, Nat.xor_self]
theorem sm_ck32 (c : Nat) : sm_lin (sm_ckl 21 1) c < 2 ^ 5 := sm_lin_lt _ 5 c (by decide +kernel)
theorem sm_e_ck (v : Nat) : sm_lin (sm_ckl 21 1) (sm_e v) = 0 := by
  unfold sm_e
  rw [sm_lin_xor, sm_lin_lin _ (sm_pal 22 0), sm_lin_z ((sm_pal 22 0).map (fun x => (x.1, sm_lin (sm_ckl 21 1) x.2))) _ (by decide +kernel), Nat.xor_zero]
  unfold sm_c
  rw [sm_lin_xor, sm_lin_lin _ (sm_pwl 5 0), show (sm_pwl 5 0).map (fun x => (x.1, sm_lin (sm_ckl 21 1) x.2)) = sm_idl 5 0 from by decide +kernel, sm_id 5 _ (sm_ck32 _), Nat.xor_self]
theorem sm_e_de (v : Nat) (h : v < 2 ^ 16) : sm_lin (sm_del 19 3 0) (sm_e v) = v := by
  unfold sm_e
  rw [sm_lin_xor, sm_lin_lin _ (sm_pal 22 0), sm_lin_z ((sm_pal 22 0).map (fun x => (x.1, sm_lin (sm_del 19 3 0) x.2))) _ (by decide +kernel), Nat.xor_zero]
  unfold sm_c
  rw [sm_lin_xor, sm_lin_lin _ (sm_pwl 5 0), sm_lin_z ((sm_pwl 5 0).map (fun x => (x.1, sm_lin (sm_del 19 3 0) x.2))) _ (by decide +kernel), Nat.xor_zero]
  unfold sm_d
  rw [sm_lin_lin, show (sm_spl 19 3 0).map (fun x => (x.1, sm_lin (sm_del 19 3 0) x.2)) = sm_idl 16 0 from by decide +kernel, sm_id 16 v h]
theorem sm_d_lt (v : Nat) : sm_d v < 2 ^ 22 := sm_lin_lt _ 22 v (by decide +kernel)
theorem sm_c_lt (v : Nat) : sm_c v < 2 ^ 22 := Nat.xor_lt_two_pow (sm_d_lt v) (sm_lin_lt _ 22 _ (by decide +kernel))
theorem sm_e_lt (v : Nat) : sm_e v < 2 ^ 22 := Nat.xor_lt_two_pow (sm_c_lt v) (sm_lin_lt _ 22 _ (by decide +kernel))
theorem sm_d_tb (v i : Nat) (h : i = 0 ∨ i = 1 ∨ i = 2 ∨ i = 4 ∨ i = 8 ∨ i = 16) : (sm_d v).testBit i = false := by
  rcases h with h | h | h | h | h | h <;> subst h <;> exact sm_lin_tb _ _ v (by decide +kernel)
theorem sm_c_tb (v : Nat) : (sm_c v).testBit 0 = false := by
  unfold sm_c
  rw [Nat.testBit_xor, sm_d_tb v 0 (Or.inl rfl), sm_lin_tb (sm_pwl 5 0) 0 _ (by decide +kernel)]
  rfl
/-- correct: 22 places -/
def sm_cor (P c : Nat) : Nat := if sm_lin (sm_pal P 0) c = 0 then c else c ^^^ 2 ^ sm_lin (sm_ckl (P - 1) 1) c
theorem sm_cor_e (v : Nat) : sm_cor 22 (sm_e v) = sm_e v := if_pos (sm_e_par v)
theorem sm_bit_par : ∀ b, b < 22 → sm_lin (sm_pal 22 0) (2 ^ b) = 1 := by decide +kernel
theorem sm_bit_ck : ∀ b, b < 22 → sm_lin (sm_ckl 21 1) (2 ^ b) = b := by decide +kernel
theorem sm_cor_hit (v b : Nat) (hb : b < 22) : sm_cor 22 (sm_e v ^^^ 2 ^ b) = sm_e v := by
  unfold sm_cor
  rw [show 22 - 1 = 21 from rfl, sm_lin_xor, sm_lin_xor, sm_e_par, sm_e_ck, sm_bit_par b hb, sm_bit_ck b hb, Nat.zero_xor, Nat.zero_xor, if_neg (by decide), sm_cancel]
theorem sm_cor_0 (P : Nat) : sm_cor P 0 = 0 := if_pos (sm_lin_0 _)
theorem sm_e_0 : sm_e 0 = 0 := by decide +kernel
end
section
/-! the methods over code words: what each loop answers, as a row of sm_lin -/
theorem sm_s_l : ∀ n, n < 32 → ((nI n &&& 31).toBitVec.smod 32).toNat = n := by decide +kernel
theorem sm_and (a b : Nat) : nI a &&& nI b = nI (a &&& b) := by
  apply Int32.toBitVec_inj.1
  show BitVec.ofNat 32 a &&& BitVec.ofNat 32 b = BitVec.ofNat 32 (a &&& b)
  apply BitVec.eq_of_getLsbD_eq
  intro i hi
  simp [hi]
theorem sm_xor (a b : Nat) : nI a ^^^ nI b = nI (a ^^^ b) := by
  apply Int32.toBitVec_inj.1
  show BitVec.ofNat 32 a ^^^ BitVec.ofNat 32 b = BitVec.ofNat 32 (a ^^^ b)
  apply BitVec.eq_of_getLsbD_eq
  intro i hi
  simp [hi]
theorem sm_nor (a b : Nat) : nI a ||| nI b = nI (a ||| b) := by
  apply Int32.toBitVec_inj.1
  show BitVec.ofNat 32 a ||| BitVec.ofNat 32 b = BitVec.ofNat 32 (a ||| b)
  apply BitVec.eq_of_getLsbD_eq
  intro i hi
  simp [hi]
theorem sm_m2 (a : Nat) : nI a &&& 1 = nI (a % 2) := by
  show nI a &&& nI 1 = _
  rw [sm_and, Nat.and_one_is_mod]
theorem sm_bit {c p : Nat} (hc : c < 2 ^ 31) (hp : p < 32) : (nI c >>> (nI p &&& 31)) &&& 1 = nI (if c.testBit p = true then 1 else 0) := by
  rw [pk_shrN hc _ p (sm_s_l p hp), sm_m2, Nat.testBit_eq_decide_div_mod_eq]
  rcases Nat.mod_two_eq_zero_or_one (c / 2 ^ p) with h | h
  · rw [h]; rfl
  · rw [h]; rfl
theorem sm_ck_loop {post : Int32 → Prop} {c P : Nat} (hc : c < 2 ^ 31) (hP : P < 32) : ∀ (k p s : Nat), p + k = P → post (nI (s ^^^ sm_lin (sm_ckl k p) c)) → wX_checksOf_4 post (nI c) (nI P) (k + 1) (nI s) (nI p) := by
  intro k
  induction k with
  | zero =>
    intro p s hp h
    refine pk_le P p (fun _ => ?_) (fun z => absurd z (by omega))
    have e : s ^^^ sm_lin (sm_ckl 0 p) c = s := Nat.xor_zero s
    rw [e] at h
    exact h
  | succ k ih =>
    intro p s hp h
    refine pk_le P p (fun z => absurd z (by omega)) (fun _ => ?_)
    have hb := sm_bit hc (show p < 32 by omega)
    by_cases t : c.testBit p = true
    · have e : s ^^^ sm_lin (sm_ckl (k + 1) p) c = (s ^^^ p) ^^^ sm_lin (sm_ckl k (p + 1)) c := by
        show s ^^^ ((if c.testBit p = true then p else 0) ^^^ sm_lin (sm_ckl k (p + 1)) c) = _
        rw [if_pos t, Nat.xor_assoc]
      rw [e] at h
      rw [if_pos t] at hb
      exact br_f (fun z => absurd (hb.symm.trans z) (by decide)) (nm_r (sm_xor s p) (nm_r (nI_1 p) (ih (p + 1) (s ^^^ p) (by omega) h)))
    · have e : s ^^^ sm_lin (sm_ckl (k + 1) p) c = s ^^^ sm_lin (sm_ckl k (p + 1)) c := by
        show s ^^^ ((if c.testBit p = true then p else 0) ^^^ sm_lin (sm_ckl k (p + 1)) c) = _
        rw [if_neg t, Nat.zero_xor]
      rw [e] at h
      rw [if_neg t] at hb
      exact br_t hb (nm_r (Int32.xor_zero (a := nI s)) (nm_r (nI_1 p) (ih (p + 1) s (by omega) h)))
theorem sm_checks {post : Int32 → Prop} {c P : Nat} (hc : c < 2 ^ 31) (hP : P < 32) (h1 : 1 ≤ P) (h : post (nI (sm_lin (sm_ckl (P - 1) 1) c))) : wpX_checksOf post () (nI c) (nI P) := by
  have e : 0 ^^^ sm_lin (sm_ckl (P - 1) 1) c = sm_lin (sm_ckl (P - 1) 1) c := Nat.zero_xor _
  exact ⟨P - 1 + 1, sm_ck_loop hc hP (P - 1) 1 0 (by omega) (by rw [e]; exact h)⟩
/-- onesOf's count -/
def sm_cnt : Nat → Nat → Nat → Nat
  | 0, _, _ => 0
  | k + 1, p, c => (if c.testBit p = true then 1 else 0) + sm_cnt k (p + 1) c
theorem sm_cnt_par (c : Nat) : ∀ (k p : Nat), sm_cnt k p c % 2 = sm_lin (sm_pal k p) c := by
  intro k
  induction k with
  | zero => intro p; rfl
  | succ k ih =>
    intro p
    show ((if c.testBit p = true then 1 else 0) + sm_cnt k (p + 1) c) % 2 = (if c.testBit p = true then 1 else 0) ^^^ sm_lin (sm_pal k (p + 1)) c
    rw [← ih]
    generalize sm_cnt k (p + 1) c = x
    by_cases t : c.testBit p = true
    · rw [if_pos t]
      rcases Nat.mod_two_eq_zero_or_one x with h | h
      · rw [h, show (1 + x) % 2 = 1 by omega]; rfl
      · rw [h, show (1 + x) % 2 = 0 by omega]; rfl
    · rw [if_neg t, Nat.zero_xor, Nat.zero_add]
theorem sm_on_loop {post : Int32 → Prop} {c P : Nat} (hc : c < 2 ^ 31) (hP : P < 32) : ∀ (k p s : Nat), p + k = P → post (nI (s + sm_cnt k p c)) → wX_onesOf_4 post (nI c) (nI P) (k + 1) (nI s) (nI p) := by
  intro k
  induction k with
  | zero =>
    intro p s hp h
    exact pk_le P p (fun _ => h) (fun z => absurd z (by omega))
  | succ k ih =>
    intro p s hp h
    refine pk_le P p (fun z => absurd z (by omega)) (fun _ => ?_)
    have hb := sm_bit hc (show p < 32 by omega)
    have e : s + sm_cnt (k + 1) p c = (s + (if c.testBit p = true then 1 else 0)) + sm_cnt k (p + 1) c := (Nat.add_assoc _ _ _).symm
    rw [e] at h
    exact nm_r (by rw [hb]; exact nI_add _ _) (nm_r (nI_1 p) (ih (p + 1) _ (by omega) h))
theorem sm_ones {post : Int32 → Prop} {c P : Nat} (hc : c < 2 ^ 31) (hP : P < 32) (h : post (nI (sm_cnt P 0 c))) : wpX_onesOf post () (nI c) (nI P) := by
  have e : 0 + sm_cnt P 0 c = sm_cnt P 0 c := Nat.zero_add _
  exact ⟨P + 1, sm_on_loop hc hP P 0 0 (by omega) (by rw [e]; exact h)⟩
theorem sm_one_shl {x : Nat} (hx : x < 32) : (1 : Int32) <<< (nI x &&& 31) = nI (2 ^ x) := by
  have h : nI 1 <<< (nI x &&& 31) = nI (1 * 2 ^ x) := pk_shlN _ x (sm_s_l x hx) (by rw [Nat.one_mul]; exact Nat.pow_lt_pow_right (by omega) hx)
  rw [Nat.one_mul] at h
  exact h
theorem sm_correct {post : Int32 → Prop} {c P : Nat} (hc : c < 2 ^ 31) (hP : P < 32) (h1 : 1 ≤ P) (hk : sm_lin (sm_ckl (P - 1) 1) c < 32) (h : post (nI (sm_cor P c))) : wpX_correct post () (nI c) (nI P) := by
  refine sm_ones hc hP (sm_checks hc hP h1 ?_)
  have e : nI (sm_cnt P 0 c) &&& 1 = nI (sm_lin (sm_pal P 0) c) := by rw [sm_m2, sm_cnt_par]
  have hl : sm_lin (sm_pal P 0) c < 2 := by rw [← sm_cnt_par]; exact Nat.mod_lt _ (by omega)
  unfold sm_cor at h
  by_cases z : sm_lin (sm_pal P 0) c = 0
  · rw [if_pos z] at h
    rw [z] at e
    exact br_t e h
  · rw [if_neg z] at h
    refine br_f (fun t => ?_) ?_
    · exact nI_ne0 (by omega) (by omega) (e.symm.trans t)
    · rw [sm_one_shl hk, sm_xor]
      exact h
/-- one bit put above a value -/
theorem sm_put {d v j p : Nat} (hv : v < 2 ^ 31) (hj : j < 32) (hp : p < 31) (hd : d < 2 ^ p) : nI d ||| (((nI v >>> (nI j &&& 31)) &&& 1) <<< (nI p &&& 31)) = nI (d ^^^ (if v.testBit j = true then 2 ^ p else 0)) := by
  rw [sm_bit hv hj]
  have hh : 2 ^ p < 2 ^ 32 := Nat.pow_lt_pow_right (by omega) (by omega)
  have ht : d.testBit p = false := Nat.testBit_lt_two_pow hd
  rw [← sm_or2 d p _ ht, ← sm_nor]
  by_cases t : v.testBit j = true
  · rw [if_pos t, if_pos t, pk_shlN _ p (sm_s_l p (by omega)) (by rw [Nat.one_mul]; exact hh), Nat.one_mul]
  · rw [if_neg t, if_neg t, pk_shlN _ p (sm_s_l p (by omega)) (by rw [Nat.zero_mul]; decide), Nat.zero_mul]
theorem sm_put_lt {d p : Nat} (b : Bool) (hd : d < 2 ^ p) : d ^^^ (if b = true then 2 ^ p else 0) < 2 ^ (p + 1) := by
  have h : 2 ^ p < 2 ^ (p + 1) := Nat.pow_lt_pow_right (by omega) (by omega)
  refine Nat.xor_lt_two_pow (Nat.lt_trans hd h) ?_
  cases b
  · exact Nat.two_pow_pos _
  · exact h
theorem sm_isp {p : Nat} (h1 : 1 ≤ p) : nI p &&& (nI p - 1) = nI (p &&& (p - 1)) := by
  have h : nI p - nI 1 = nI (p - 1) := pk_sub h1
  rw [← sm_and, ← h]
  rfl
theorem sm_sp_loop {post : Int32 → Prop} {v P : Nat} (hv : v < 2 ^ 31) (hP : P < 31) : ∀ (k p j d : Nat), 1 ≤ p → p + k = P → j ≤ p → d < 2 ^ p → wpX_checksOf (fun r_2 => ∃ fu51 : Nat, wX_encode_51 post (nI P) r_2 fu51 (nI (d ^^^ sm_lin (sm_spl k p j) v)) 1) () (nI (d ^^^ sm_lin (sm_spl k p j) v)) (nI P) → wX_encode_7 post (nI v) (nI P) (k + 1) (nI d) (nI j) (nI p) := by
  intro k
  induction k with
  | zero =>
    intro p j d h1 hp hj hd h
    refine pk_le P p (fun _ => ?_) (fun z => absurd z (by omega))
    have e : d ^^^ sm_lin (sm_spl 0 p j) v = d := Nat.xor_zero d
    rw [e] at h
    exact h
  | succ k ih =>
    intro p j d h1 hp hj hd h
    refine pk_le P p (fun z => absurd z (by omega)) (fun _ => ?_)
    have hi := sm_isp h1
    have hlt : p &&& (p - 1) < 2 ^ 31 := Nat.lt_of_le_of_lt Nat.and_le_left (by omega)
    by_cases q : p &&& (p - 1) = 0
    · have e : sm_spl (k + 1) p j = sm_spl k (p + 1) j := if_pos q
      rw [e] at h
      rw [q] at hi
      exact br_t hi (br_f (by decide) (nm_r (nI_1 p) (ih (p + 1) j d (by omega) (by omega) (by omega) (Nat.lt_trans hd (Nat.pow_lt_pow_right (by omega) (by omega))) h)))
    · have e : sm_spl (k + 1) p j = (j, 2 ^ p) :: sm_spl k (p + 1) (j + 1) := if_neg q
      rw [e, sm_lin_c, ← Nat.xor_assoc] at h
      exact br_f (fun z => nI_ne0 (Nat.pos_of_ne_zero q) hlt (hi.symm.trans z)) (br_t rfl (nm_r (sm_put hv (by omega) (by omega) hd) (nm_r (nI_1 j) (nm_r (nI_1 p) (ih (p + 1) (j + 1) _ (by omega) (by omega) (by omega) (sm_put_lt _ hd) h)))))
theorem sm_and_tp (x j : Nat) : x &&& 2 ^ j = if x.testBit j = true then 2 ^ j else 0 := by
  apply Nat.eq_of_testBit_eq
  intro i
  rw [Nat.testBit_and]
  by_cases e : j = i
  · subst e
    by_cases t : x.testBit j = true
    · rw [if_pos t, t, Bool.true_and]
    · rw [if_neg t, Nat.zero_testBit]
      cases h : x.testBit j
      · rfl
      · exact absurd h t
  · rw [Nat.testBit_two_pow_of_ne e, Bool.and_false]
    by_cases t : x.testBit j = true
    · rw [if_pos t, Nat.testBit_two_pow_of_ne e]
    · rw [if_neg t, Nat.zero_testBit]
theorem sm_pw_loop {post : Int32 → Prop} {x P : Nat} (hx : x < 2 ^ 31) (hP : P < 32) : ∀ (k j c : Nat), (∀ i, i < j + k → 2 ^ i < P) → P ≤ 2 ^ (j + k) → 2 ^ (j + k) < 2 ^ 31 → (∀ i, j ≤ i → i < j + k → c.testBit (2 ^ i) = false) → wpX_onesOf (fun r_4 => post (nI (c ^^^ sm_lin (sm_pwl k j) x) ||| (r_4 &&& 1))) () (nI (c ^^^ sm_lin (sm_pwl k j) x)) (nI P) → wX_encode_51 post (nI P) (nI x) (k + 1) (nI c) (nI (2 ^ j)) := by
  intro k
  induction k with
  | zero =>
    intro j c h1 h2 h3 ht h
    have e : c ^^^ sm_lin (sm_pwl 0 j) x = c := Nat.xor_zero c
    rw [e] at h
    exact pk_le P (2 ^ j) (fun _ => h) (fun z => absurd z (Nat.not_lt.mpr h2)) rfl rfl (by omega) h3
  | succ k ih =>
    intro j c h1 h2 h3 ht h
    have hj : 2 ^ j < P := h1 j (by omega)
    have e0 : sm_lin (sm_pwl (k + 1) j) x = (if x.testBit j = true then 2 ^ 2 ^ j else 0) ^^^ sm_lin (sm_pwl k (j + 1)) x := rfl
    have ea : j + 1 + k = j + (k + 1) := by omega
    have e2 : nI (2 ^ j) * 2 = nI (2 ^ (j + 1)) := by
      rw [Nat.pow_succ]; exact pk_mul (2 ^ j) 2
    rw [e0, ← Nat.xor_assoc] at h
    refine pk_le P (2 ^ j) (fun z => absurd z (Nat.not_le.mpr hj)) (fun _ => ?_) rfl rfl (by omega) (by omega)
    have hx2 : nI x &&& nI (2 ^ j) = nI (if x.testBit j = true then 2 ^ j else 0) := by rw [sm_and, sm_and_tp]
    by_cases t : x.testBit j = true
    · rw [if_pos t] at h hx2
      have hc := ht j (by omega) (by omega)
      have eo : c ||| 2 ^ 2 ^ j = c ^^^ 2 ^ 2 ^ j := sm_or2 c (2 ^ j) true hc
      have es : nI c ||| ((1 : Int32) <<< (nI (2 ^ j) &&& 31)) = nI (c ^^^ 2 ^ 2 ^ j) := by
        rw [sm_one_shl (by omega), sm_nor, eo]
      refine br_f (fun z => nI_ne0 (Nat.two_pow_pos j) (by omega) (hx2.symm.trans z)) (nm_r es (nm_r e2 (ih (j + 1) _ (fun i hi => h1 i (by omega)) (by rw [ea]; exact h2) (by rw [ea]; exact h3) (fun i hi hi2 => ?_) h)))
      rw [Nat.testBit_xor, ht i (by omega) (by omega), Nat.testBit_two_pow_of_ne (Nat.ne_of_lt (Nat.pow_lt_pow_right (by omega) (by omega)))]
      rfl
    · rw [if_neg t] at h hx2
      rw [Nat.xor_zero] at h
      exact br_t hx2 (nm_r (Int32.or_zero (a := nI c)) (nm_r e2 (ih (j + 1) c (fun i hi => h1 i (by omega)) (by rw [ea]; exact h2) (by rw [ea]; exact h3) (fun i hi hi2 => ht i (by omega) (by omega)) h)))
theorem sm_or1 {c y : Nat} (hy : y < 2) (hc : c.testBit 0 = false) : c ||| y = c ^^^ y := by
  rcases (show y = 0 ∨ y = 1 by omega) with e | e
  · subst e; exact sm_or2 c 0 false hc
  · subst e; exact sm_or2 c 0 true hc
theorem sm_enc22 {post : Int32 → Prop} {v : Nat} (hv : v < 2 ^ 31) (h : post (nI (sm_e v))) : wpX_encode post () (nI v) 22 := by
  have ed : 0 ^^^ sm_lin (sm_spl 19 3 0) v = sm_d v := Nat.zero_xor _
  have hd : sm_d v < 2 ^ 31 := Nat.lt_trans (sm_d_lt v) (by decide)
  have hc : sm_c v < 2 ^ 31 := Nat.lt_trans (sm_c_lt v) (by decide)
  have hk : sm_lin (sm_ckl 21 1) (sm_d v) < 2 ^ 31 := Nat.lt_trans (sm_ck32 _) (by decide)
  refine ⟨20, sm_sp_loop (P := 22) hv (by omega) 19 3 0 0 (by omega) (by omega) (by omega) (by decide) ?_⟩
  rw [ed]
  refine sm_checks (P := 22) hd (by omega) (by omega) ⟨6, sm_pw_loop (P := 22) hk (by omega) 5 0 (sm_d v) (by decide) (by decide) (by decide) (fun i _ hi => ?_) ?_⟩
  · refine sm_d_tb v _ ?_
    rcases (show i = 0 ∨ i = 1 ∨ i = 2 ∨ i = 3 ∨ i = 4 by omega) with e | e | e | e | e <;> subst e <;> decide
  · show wpX_onesOf (fun r_4 => post (nI (sm_c v) ||| (r_4 &&& 1))) () (nI (sm_c v)) (nI 22)
    refine sm_ones hc (by omega) ?_
    rw [sm_m2, sm_nor, sm_or1 (Nat.mod_lt _ (by omega)) (sm_c_tb v), sm_cnt_par]
    exact h
theorem sm_enc13 {post : Int32 → Prop} (h : post 0) : wpX_encode post () (nI 0) 13 := by
  have h0 : (0 : Nat) < 2 ^ 31 := by decide
  refine ⟨11, sm_sp_loop (P := 13) h0 (by omega) 10 3 0 0 (by omega) (by omega) (by omega) (by decide) ?_⟩
  rw [sm_lin_0, Nat.xor_zero]
  refine sm_checks (P := 13) h0 (by omega) (by omega) ?_
  rw [sm_lin_0]
  refine ⟨5, sm_pw_loop (P := 13) h0 (by omega) 4 0 0 (by decide) (by decide) (by decide) (fun i _ hi => Nat.zero_testBit _) ?_⟩
  rw [sm_lin_0, Nat.xor_zero]
  refine sm_ones h0 (by omega) ?_
  rw [sm_m2, sm_nor, sm_cnt_par, sm_lin_0]
  exact h
theorem sm_de_loop {post : Int32 → Prop} {c P : Nat} (hc : c < 2 ^ 31) (hP : P < 31) : ∀ (k p j d : Nat), 1 ≤ p → p + k = P → j ≤ p → d < 2 ^ j → post (nI (d ^^^ sm_lin (sm_del k p j) c)) → wX_decode_7 post (nI c) (nI P) (k + 1) (nI d) (nI j) (nI p) := by
  intro k
  induction k with
  | zero =>
    intro p j d h1 hp hj hd h
    refine pk_le P p (fun _ => ?_) (fun z => absurd z (by omega))
    have e : d ^^^ sm_lin (sm_del 0 p j) c = d := Nat.xor_zero d
    rw [e] at h
    exact h
  | succ k ih =>
    intro p j d h1 hp hj hd h
    refine pk_le P p (fun z => absurd z (by omega)) (fun _ => ?_)
    have hi := sm_isp h1
    have hlt : p &&& (p - 1) < 2 ^ 31 := Nat.lt_of_le_of_lt Nat.and_le_left (by omega)
    by_cases q : p &&& (p - 1) = 0
    · have e : sm_del (k + 1) p j = sm_del k (p + 1) j := if_pos q
      rw [e] at h
      rw [q] at hi
      exact br_t hi (br_f (by decide) (nm_r (nI_1 p) (ih (p + 1) j d (by omega) (by omega) (by omega) hd h)))
    · have e : sm_del (k + 1) p j = (p, 2 ^ j) :: sm_del k (p + 1) (j + 1) := if_neg q
      rw [e, sm_lin_c, ← Nat.xor_assoc] at h
      exact br_f (fun z => nI_ne0 (Nat.pos_of_ne_zero q) hlt (hi.symm.trans z)) (br_t rfl (nm_r (sm_put hc (by omega) (by omega) hd) (nm_r (nI_1 j) (nm_r (nI_1 p) (ih (p + 1) (j + 1) _ (by omega) (by omega) (by omega) (sm_put_lt _ hd) h)))))
theorem sm_decode {post : Int32 → Prop} {c P : Nat} (hc : c < 2 ^ 31) (hP : P < 31) (h3 : 3 ≤ P) (h : post (nI (sm_lin (sm_del (P - 3) 3 0) c))) : wpX_decode post () (nI c) (nI P) := by
  have e : 0 ^^^ sm_lin (sm_del (P - 3) 3 0) c = sm_lin (sm_del (P - 3) 3 0) c := Nat.zero_xor _
  exact ⟨P - 3 + 1, sm_de_loop hc hP (P - 3) 3 0 0 (by omega) (by omega) (by omega) (by decide) (by rw [e]; exact h)⟩
end
section
/-! the methods over the state -/
def sm_z : Nat → Int32 := fun _ => 0
theorem sm_z_at (j : Nat) : sm_z j = 0 := rfl
theorem sm_upd_id (f : Nat → Int32) (k : Nat) (x : Int32) (h : f k = x) : upd f k x = f := by
  funext j
  by_cases e : j = k
  · rw [e, pk_us, h]
  · rw [pk_un e]
theorem sm_upd_z (k : Nat) : upd sm_z k 0 = sm_z := sm_upd_id _ _ _ rfl
theorem sm_upd_2 (f : Nat → Int32) (k : Nat) (x y : Int32) : upd (upd f k x) k y = upd f k y := by
  funext j
  by_cases e : j = k
  · rw [e, pk_us, pk_us]
  · rw [pk_un e, pk_un e, pk_un e]
theorem sm_vote3 (v : Int32) : ((v &&& v) ||| (v &&& v)) ||| (v &&& v) = v := by
  rw [Int32.and_self, Int32.or_self, Int32.or_self]
theorem sm_vt {post : Int32 → Prop} {x y z v : Int32} (hx : x = v) (hy : y = v) (hz : z = v) (h : post v) : wpX_vote post () x y z := by
  rw [hx, hy, hz]
  show post _
  rw [sm_vote3]
  exact h
theorem sm_vp {post : Int32 → Prop} {pH wH sD st oC : Int32} {a1 a2 a3 a4 a5 a6 a7 a8 : Nat → Int32} {v : Int32} (h0 : a2 0 = v) (h1 : a2 1 = v) (h2 : a2 2 = v) (h : post v) : wpX_votePlace post (pH, wH, sD, st, oC, a1, a2, a3, a4, a5, a6, a7, a8) := sm_vt (post := fun r => post r) h0 h1 h2 h
/-- three equal copies written -/
def sm_p3 (a : Nat → Int32) (v : Int32) : Nat → Int32 := upd (upd (upd a 0 v) 1 v) 2 v
theorem sm_p3_0 (a : Nat → Int32) (v : Int32) : sm_p3 a v 0 = v := by
  unfold sm_p3; rw [pk_un (by decide), pk_un (by decide), pk_us]
theorem sm_p3_1 (a : Nat → Int32) (v : Int32) : sm_p3 a v 1 = v := by
  unfold sm_p3; rw [pk_un (by decide), pk_us]
theorem sm_p3_2 (a : Nat → Int32) (v : Int32) : sm_p3 a v 2 = v := by
  unfold sm_p3; rw [pk_us]
theorem sm_p3_id {a : Nat → Int32} {v : Int32} (h0 : a 0 = v) (h1 : a 1 = v) (h2 : a 2 = v) : sm_p3 a v = a := by
  unfold sm_p3; rw [sm_upd_id a 0 v h0, sm_upd_id a 1 v h1, sm_upd_id a 2 v h2]
theorem sm_wp {post : St2 → Prop} {pH wH sD st oC : Int32} {a1 a2 a3 a4 a5 a6 a7 a8 : Nat → Int32} {v : Int32} (h : post (pH, wH, sD, st, oC, a1, sm_p3 a2 v, a3, a4, a5, a6, a7, a8)) : wpX_writePlace post (pH, wH, sD, st, oC, a1, a2, a3, a4, a5, a6, a7, a8) v :=
  ⟨4, pk_le 3 0 (fun z => absurd z (by omega)) (fun _ => ⟨pk_in 0 3 (by omega), nm_r (show upd a2 (0 : Int32).toNatClampNeg v = upd a2 0 v from rfl) (nm_r (show (0 : Int32) + 1 = 1 from rfl)
    (pk_le 3 1 (fun z => absurd z (by omega)) (fun _ => ⟨pk_in 1 3 (by omega), nm_r (show upd (upd a2 0 v) (1 : Int32).toNatClampNeg v = upd (upd a2 0 v) 1 v from rfl) (nm_r (show (1 : Int32) + 1 = 2 from rfl)
    (pk_le 3 2 (fun z => absurd z (by omega)) (fun _ => ⟨pk_in 2 3 (by omega), nm_r (show upd (upd (upd a2 0 v) 1 v) (2 : Int32).toNatClampNeg v = sm_p3 a2 v from rfl) (nm_r (show (2 : Int32) + 1 = 3 from rfl)
    (pk_le 3 3 (fun _ => h) (fun z => absurd z (by omega))))⟩)))⟩)))⟩)⟩
theorem sm_r0 (r : Nat) : nI r * 3 = nI (r * 3) := pk_mul r 3
theorem sm_ri (r c : Nat) : nI r * 3 + nI c = nI (r * 3 + c) := by
  rw [sm_r0]; exact nI_add _ _
theorem sm_vr {post : Int32 → Prop} {pH wH sD st oC : Int32} {a1 a2 a3 a4 a5 a6 a7 a8 : Nat → Int32} {r : Nat} {v : Int32} (hr : r < 4) (h0 : a1 (r * 3) = v) (h1 : a1 (r * 3 + 1) = v) (h2 : a1 (r * 3 + 2) = v) (h : post v) : wpX_voteRegister post (pH, wH, sD, st, oC, a1, a2, a3, a4, a5, a6, a7, a8) (nI r) := by
  have e0 := sm_r0 r
  have e1 : nI r * 3 + 1 = nI (r * 3 + 1) := sm_ri r 1
  have e2 : nI r * 3 + 2 = nI (r * 3 + 2) := sm_ri r 2
  refine ⟨pk_in (r * 3) 12 (by omega) e0, pk_in (r * 3 + 1) 12 (by omega) e1, pk_in (r * 3 + 2) 12 (by omega) e2, sm_vt (post := fun r => post r) (v := v) ?_ ?_ ?_ h⟩
  · rw [pk_cl (r * 3) e0]; exact h0
  · rw [pk_cl (r * 3 + 1) e1]; exact h1
  · rw [pk_cl (r * 3 + 2) e2]; exact h2
/-- a register written -/
def sm_w3 (a : Nat → Int32) (r : Nat) (v : Int32) : Nat → Int32 := upd (upd (upd a (r * 3) v) (r * 3 + 1) v) (r * 3 + 2) v
theorem sm_ui {r c : Nat} {v : Int32} (hr : r < 4) (hc : c < 3) (f : Nat → Int32) : upd f (nI r * 3 + nI c).toNatClampNeg v = upd f (r * 3 + c) v := by
  rw [pk_cl (r * 3 + c) (sm_ri r c)]
theorem sm_wr {post : St2 → Prop} {pH wH sD st oC : Int32} {a1 a2 a3 a4 a5 a6 a7 a8 : Nat → Int32} {r : Nat} {v : Int32} (hr : r < 4) (h : post (pH, wH, sD, st, oC, sm_w3 a1 r v, a2, a3, a4, a5, a6, a7, a8)) : wpX_writeRegister post (pH, wH, sD, st, oC, a1, a2, a3, a4, a5, a6, a7, a8) (nI r) v :=
  ⟨4, pk_le 3 0 (fun z => absurd z (by omega)) (fun _ => ⟨pk_in (r * 3 + 0) 12 (by omega) (sm_ri r 0), nm_r (sm_ui (c := 0) hr (by omega) a1) (nm_r (show (0 : Int32) + 1 = nI 1 from rfl)
    (pk_le 3 1 (fun z => absurd z (by omega)) (fun _ => ⟨pk_in (r * 3 + 1) 12 (by omega) (sm_ri r 1), nm_r (sm_ui (c := 1) hr (by omega) _) (nm_r (show nI 1 + 1 = nI 2 from rfl)
    (pk_le 3 2 (fun z => absurd z (by omega)) (fun _ => ⟨pk_in (r * 3 + 2) 12 (by omega) (sm_ri r 2), nm_r (sm_ui (c := 2) hr (by omega) _) (nm_r (show nI 2 + 1 = nI 3 from rfl)
    (pk_le 3 3 (fun _ => h) (fun z => absurd z (by omega))))⟩)))⟩)))⟩)⟩
/-- the copies of each register are equal -/
def sm_ok (a : Nat → Int32) : Prop := ∀ r, r < 4 → a (r * 3 + 1) = a (r * 3) ∧ a (r * 3 + 2) = a (r * 3)
theorem sm_ok_z : sm_ok sm_z := fun _ _ => ⟨rfl, rfl⟩
theorem sm_w3_at {a : Nat → Int32} {r : Nat} {v : Int32} {j : Nat} : sm_w3 a r v j = if j = r * 3 ∨ j = r * 3 + 1 ∨ j = r * 3 + 2 then v else a j := by
  unfold sm_w3
  by_cases e2 : j = r * 3 + 2
  · rw [e2, pk_us, if_pos (by omega)]
  · rw [pk_un e2]
    by_cases e1 : j = r * 3 + 1
    · rw [e1, pk_us, if_pos (by omega)]
    · rw [pk_un e1]
      by_cases e0 : j = r * 3
      · rw [e0, pk_us, if_pos (by omega)]
      · rw [pk_un e0, if_neg (by omega)]
theorem sm_w3_id {a : Nat → Int32} {r : Nat} (hr : r < 4) (ok : sm_ok a) : sm_w3 a r (a (r * 3)) = a := by
  funext j
  rw [sm_w3_at]
  by_cases e : j = r * 3 ∨ j = r * 3 + 1 ∨ j = r * 3 + 2
  · rw [if_pos e]
    rcases e with e | e | e
    · rw [e]
    · rw [e, (ok r hr).1]
    · rw [e, (ok r hr).2]
  · rw [if_neg e]
theorem sm_w3_z {r : Nat} (hr : r < 4) : sm_w3 sm_z r 0 = sm_z := sm_w3_id hr sm_ok_z
theorem sm_ok_w3 {r : Nat} (v : Int32) : sm_ok (sm_w3 sm_z r v) := by
  intro q hq
  rw [sm_w3_at, sm_w3_at, sm_w3_at]
  by_cases e : q = r
  · rw [if_pos (by omega), if_pos (by omega), if_pos (by omega)]; exact ⟨rfl, rfl⟩
  · rw [if_neg (by omega), if_neg (by omega), if_neg (by omega)]; exact ⟨rfl, rfl⟩
theorem sm_va_loop {post : St2 → Prop} {pH wH sD st oC : Int32} {a1 a2 a4 a5 a6 a7 a8 : Nat → Int32} {v : Int32} (ok : sm_ok a1) (h0 : a2 0 = v) (h1 : a2 1 = v) (h2 : a2 2 = v) (h : post (0, wH, sD, st, oC, a1, a2, sm_z, a4, a5, a6, a7, a8)) : ∀ (k i : Nat), i + k = 4 → wX_voteAll_2 post (k + 1) (nI i) pH wH sD st oC a1 a2 sm_z a4 a5 a6 a7 a8 := by
  intro k
  induction k with
  | zero =>
    intro i hi
    refine pk_le 4 i (fun _ => sm_vp h0 h1 h2 (sm_wp ?_)) (fun z => absurd z (by omega))
    rw [sm_p3_id h0 h1 h2]
    exact h
  | succ k ih =>
    intro i hi
    refine pk_le 4 i (fun z => absurd z (by omega)) (fun _ => sm_vr (show i < 4 by omega) rfl (ok i (by omega)).1 (ok i (by omega)).2 (sm_wr (show i < 4 by omega) ?_))
    rw [sm_w3_id (by omega) ok]
    exact ⟨pk_in i 4 (by omega), nm_r (sm_upd_z _) (nm_r (nI_1 i) (ih (i + 1) (by omega)))⟩
theorem sm_va {post : St2 → Prop} {pH wH sD st oC : Int32} {a1 a2 a4 a5 a6 a7 a8 : Nat → Int32} {v : Int32} (ok : sm_ok a1) (h0 : a2 0 = v) (h1 : a2 1 = v) (h2 : a2 2 = v) (h : post (0, wH, sD, st, oC, a1, a2, sm_z, a4, a5, a6, a7, a8)) : wpX_voteAll post (pH, wH, sD, st, oC, a1, a2, sm_z, a4, a5, a6, a7, a8) :=
  ⟨5, sm_va_loop ok h0 h1 h2 h 4 0 (by omega)⟩
/-- the places of a word -/
def sm_P (w : Nat) : Nat := if 32 ≤ w then 13 else 22
theorem sm_P_lt (w : Nat) : sm_P w < 31 ∧ 3 ≤ sm_P w := by
  unfold sm_P
  by_cases h : 32 ≤ w
  · rw [if_pos h]; omega
  · rw [if_neg h]; omega
theorem sm_P_ck (w c : Nat) : sm_lin (sm_ckl (sm_P w - 1) 1) c < 32 := by
  unfold sm_P
  by_cases h : 32 ≤ w
  · rw [if_pos h]; exact sm_lin_lt _ 5 c (by decide +kernel)
  · rw [if_neg h]; exact sm_lin_lt _ 5 c (by decide +kernel)
theorem sm_places {post : Int32 → Prop} {w : Nat} (hw : w < 48) (h : post (nI (sm_P w))) : wpX_placesOf post () (nI w) := by
  unfold sm_P at h
  refine pk_le 32 w (fun z => ?_) (fun z => ?_)
  · rw [if_pos z] at h; exact h
  · rw [if_neg (by omega)] at h; exact h
theorem sm_rep {post : St2 → Prop} {pH wH sD st oC : Int32} {a1 a2 a3 a4 a5 a6 a7 a8 : Nat → Int32} {w c : Nat} (hw : w < 48) (hc : c < 2 ^ 31) (h5 : a5 w = nI c) (h : post (pH, wH, sD, st, oC, a1, a2, a3, a4, upd a5 w (nI (sm_cor (sm_P w) c)), upd a6 w 0, a7, a8)) : wpX_repair post (pH, wH, sD, st, oC, a1, a2, a3, a4, a5, a6, a7, a8) (nI w) := by
  have hP := sm_P_lt w
  have ec : (nI w).toNatClampNeg = w := nI_clamp (by omega)
  unfold wpX_repair
  refine sm_places hw ?_
  refine ⟨pk_in w 48 hw, ?_⟩
  rw [ec, h5]
  exact sm_correct hc (by omega) (by omega) (sm_P_ck w c) ⟨pk_in w 48 hw, nm_e ⟨pk_in w 48 hw, nm_e h⟩⟩
theorem sm_rd {post : Int32 → Prop} {pH wH sD st oC : Int32} {a1 a2 a3 a4 a5 a6 a7 a8 : Nat → Int32} {w c : Nat} (hw : w < 48) (hc : c < 2 ^ 31) (hc' : sm_cor (sm_P w) c < 2 ^ 31) (h5 : a5 w = nI c) (h : post (nI (sm_lin (sm_del (sm_P w - 3) 3 0) (sm_cor (sm_P w) c)))) : wpX_readWord post (pH, wH, sD, st, oC, a1, a2, a3, a4, a5, a6, a7, a8) (nI w) := by
  have hP := sm_P_lt w
  have ec : (nI w).toNatClampNeg = w := nI_clamp (by omega)
  unfold wpX_readWord
  refine sm_places hw ?_
  refine ⟨pk_in w 48 hw, ?_⟩
  rw [ec, h5]
  exact sm_correct hc (by omega) (by omega) (sm_P_ck w c) (sm_decode hc' (by omega) (by omega) h)
theorem sm_rar {post : Int32 → St2 → Prop} {pH wH sD st oC : Int32} {a1 a2 a3 a4 a5 a6 a7 a8 : Nat → Int32} {w c c' : Nat} (hw : w < 48) (hc : c < 2 ^ 31) (hc' : c' < 2 ^ 31) (h5 : a5 w = nI c) (e1 : sm_cor (sm_P w) c = c') (e2 : sm_cor (sm_P w) c' = c') (h : post (nI (sm_lin (sm_del (sm_P w - 3) 3 0) c')) (pH, wH, sD, st, oC, a1, a2, a3, a4, upd a5 w (nI c'), upd a6 w 0, a7, a8)) : wpX_readAndRepair post (pH, wH, sD, st, oC, a1, a2, a3, a4, a5, a6, a7, a8) (nI w) := by
  unfold wpX_readAndRepair
  refine sm_rep hw hc h5 ?_
  rw [e1]
  refine sm_rd hw hc' (by rw [e2]; exact hc') pk_us ?_
  rw [e2]
  exact h
theorem sm_ww0 {post : St2 → Prop} {pH wH sD st oC : Int32} {a1 a2 a3 a4 a5 a6 a7 a8 : Nat → Int32} {w : Nat} (hw : w < 48) (h : post (pH, wH, sD, st, oC, a1, a2, a3, a4, upd a5 w 0, upd a6 w 0, a7, a8)) : wpX_writeWord post (pH, wH, sD, st, oC, a1, a2, a3, a4, a5, a6, a7, a8) (nI w) 0 := by
  have ec : (nI w).toNatClampNeg = w := nI_clamp (by omega)
  have t : vp_in (nI w) 48 ∧ ∀ a5_4 : Nat → Int32, a5_4 = upd a5 (nI w).toNatClampNeg 0 → (vp_in (nI w) 48 ∧ ∀ a6_6 : Nat → Int32, a6_6 = upd a6 (nI w).toNatClampNeg 0 → (post (pH, wH, sD, st, oC, a1, a2, a3, a4, a5_4, a6_6, a7, a8))) := by
    rw [ec]
    exact ⟨pk_in w 48 hw, nm_e ⟨pk_in w 48 hw, nm_e h⟩⟩
  refine pk_le 32 w (fun z => sm_enc13 t) (fun z => sm_enc22 (by decide) ?_)
  rw [sm_e_0]
  exact t
theorem sm_ww22 {post : St2 → Prop} {pH wH sD st oC : Int32} {a1 a2 a3 a4 a5 a6 a7 a8 : Nat → Int32} {w v : Nat} (hw : w < 32) (hv : v < 2 ^ 31) (h : post (pH, wH, sD, st, oC, a1, a2, a3, a4, upd a5 w (nI (sm_e v)), upd a6 w 0, a7, a8)) : wpX_writeWord post (pH, wH, sD, st, oC, a1, a2, a3, a4, a5, a6, a7, a8) (nI w) (nI v) := by
  have ec : (nI w).toNatClampNeg = w := nI_clamp (by omega)
  refine pk_le 32 w (fun z => absurd z (by omega)) (fun z => sm_enc22 hv ?_)
  rw [ec]
  exact ⟨pk_in w 48 (by omega), nm_e ⟨pk_in w 48 (by omega), nm_e h⟩⟩
theorem sm_pu (f : Nat → Int32) (k : Nat) (v : Int32) : upd f k (v ^^^ sm_z k) = upd f k v := by
  rw [sm_z_at, Int32.xor_zero]
theorem sm_pt {post : Int32 → St2 → Prop} {pH wH sD st oC : Int32} {a1 a2 a3 a5 a6 a7 a8 : Nat → Int32} {v : Int32} (h : ∀ b : Nat → Int32, post v (pH, wH, sD, st, oC, a1, a2, a3, sm_z, a5, a6, a7, b)) : wpX_passThrice post (pH, wH, sD, st, oC, a1, a2, a3, sm_z, a5, a6, a7, a8) v :=
  ⟨4, pk_le 3 0 (fun z => absurd z (by omega)) (fun _ => ⟨pk_in 0 3 (by omega), pk_in 0 3 (by omega), nm_r (sm_pu a8 0 v) (nm_r (show (0 : Int32) + 1 = 1 from rfl)
    (pk_le 3 1 (fun z => absurd z (by omega)) (fun _ => ⟨pk_in 1 3 (by omega), pk_in 1 3 (by omega), nm_r (sm_pu (upd a8 0 v) 1 v) (nm_r (show (1 : Int32) + 1 = 2 from rfl)
    (pk_le 3 2 (fun z => absurd z (by omega)) (fun _ => ⟨pk_in 2 3 (by omega), pk_in 2 3 (by omega), nm_r (sm_pu (upd (upd a8 0 v) 1 v) 2 v) (nm_r (show (2 : Int32) + 1 = 3 from rfl)
    (pk_le 3 3 (fun _ => sm_vt (sm_p3_0 a8 v) (sm_p3_1 a8 v) (sm_p3_2 a8 v) (h _)) (fun z => absurd z (by omega))))⟩)))⟩)))⟩)⟩
theorem sm_pt2 {post : Int32 → St2 → Prop} {pH wH sD st oC : Int32} {a1 a2 a3 a5 a6 a7 a8 : Nat → Int32} {v : Int32} (h : ∀ b : Nat → Int32, post v (pH, wH, sD, st, oC, a1, a2, a3, sm_z, a5, a6, a7, b)) : wpX_passThrice_2 post (pH, wH, sD, st, oC, a1, a2, a3, sm_z, a5, a6, a7, a8) v :=
  ⟨4, pk_le 3 0 (fun z => absurd z (by omega)) (fun _ => ⟨pk_in 0 3 (by omega), pk_in 0 3 (by omega), nm_r (sm_pu a8 0 v) (nm_r (show (0 : Int32) + 1 = 1 from rfl)
    (pk_le 3 1 (fun z => absurd z (by omega)) (fun _ => ⟨pk_in 1 3 (by omega), pk_in 1 3 (by omega), nm_r (sm_pu (upd a8 0 v) 1 v) (nm_r (show (1 : Int32) + 1 = 2 from rfl)
    (pk_le 3 2 (fun z => absurd z (by omega)) (fun _ => ⟨pk_in 2 3 (by omega), pk_in 2 3 (by omega), nm_r (sm_pu (upd (upd a8 0 v) 1 v) 2 v) (nm_r (show (2 : Int32) + 1 = 3 from rfl)
    (pk_le 3 3 (fun _ => sm_vt (sm_p3_0 a8 v) (sm_p3_1 a8 v) (sm_p3_2 a8 v) (h _)) (fun z => absurd z (by omega))))⟩)))⟩)))⟩)⟩
/-- one working of three -/
theorem sm_wt_one {Q : Int32 → Prop} {a1 : Nat → Int32} {op n x A C : Int32} {r s c : Nat} (hr : r < 4) (hs : s < 4) (hc : c < 3) (ok : sm_ok a1) (hA : a1 (r * 3) = A) (hC : a1 (s * 3) = C) (hw : ∀ q : Int32 → Prop, q x → wpX_workOut q () op A C n) (h : Q x) : vp_in (nI r * 3 + nI c) 12 ∧ (vp_in (nI s * 3 + nI c) 12 ∧ wpX_workOut Q () op (a1 (nI r * 3 + nI c).toNatClampNeg) (a1 (nI s * 3 + nI c).toNatClampNeg) n) := by
  refine ⟨pk_in (r * 3 + c) 12 (by omega) (sm_ri r c), pk_in (s * 3 + c) 12 (by omega) (sm_ri s c), ?_⟩
  rw [pk_cl (r * 3 + c) (sm_ri r c), pk_cl (s * 3 + c) (sm_ri s c)]
  have e1 : a1 (r * 3 + c) = A := by
    rcases (show c = 0 ∨ c = 1 ∨ c = 2 by omega) with e | e | e <;> subst e
    · exact hA
    · rw [(ok r hr).1, hA]
    · rw [(ok r hr).2, hA]
  have e2 : a1 (s * 3 + c) = C := by
    rcases (show c = 0 ∨ c = 1 ∨ c = 2 by omega) with e | e | e <;> subst e
    · exact hC
    · rw [(ok s hs).1, hC]
    · rw [(ok s hs).2, hC]
  rw [e1, e2]
  exact hw Q h
theorem sm_wt {post : Int32 → St2 → Prop} {pH wH sD st oC : Int32} {a1 a2 a3 a5 a6 a7 a8 : Nat → Int32} {op n x A C : Int32} {r s : Nat} (hr : r < 4) (hs : s < 4) (ok : sm_ok a1) (hA : a1 (r * 3) = A) (hC : a1 (s * 3) = C) (hw : ∀ q : Int32 → Prop, q x → wpX_workOut q () op A C n) (h : ∀ b : Nat → Int32, post x (pH, wH, sD, st, oC, a1, a2, a3, sm_z, a5, a6, a7, b)) : wpX_workThrice post (pH, wH, sD, st, oC, a1, a2, a3, sm_z, a5, a6, a7, a8) op (nI r) (nI s) n :=
  ⟨4, pk_le 3 0 (fun z => absurd z (by omega)) (fun _ => sm_wt_one (c := 0) hr hs (by omega) ok hA hC hw ⟨pk_in 0 3 (by omega), pk_in 0 3 (by omega), nm_r (sm_pu a8 0 x) (nm_r (show (0 : Int32) + 1 = nI 1 from rfl)
    (pk_le 3 1 (fun z => absurd z (by omega)) (fun _ => sm_wt_one (c := 1) hr hs (by omega) ok hA hC hw ⟨pk_in 1 3 (by omega), pk_in 1 3 (by omega), nm_r (sm_pu (upd a8 0 x) 1 x) (nm_r (show nI 1 + 1 = nI 2 from rfl)
    (pk_le 3 2 (fun z => absurd z (by omega)) (fun _ => sm_wt_one (c := 2) hr hs (by omega) ok hA hC hw ⟨pk_in 2 3 (by omega), pk_in 2 3 (by omega), nm_r (sm_pu (upd (upd a8 0 x) 1 x) 2 x) (nm_r (show nI 2 + 1 = nI 3 from rfl)
    (pk_le 3 3 (fun _ => sm_vt (sm_p3_0 a8 x) (sm_p3_1 a8 x) (sm_p3_2 a8 x) (h _)) (fun z => absurd z (by omega))))⟩)))⟩)))⟩)⟩
/-- addBits, as it is written -/
def sm_add (x0 x1 : Int32) : Nat → Int32 → Int32 → Int32 → Int32
  | 0, x3, _, _ => x3
  | k + 1, x3, x4, x5 => sm_add x0 x1 k (x3 ||| (((((x0 >>> (x5 &&& 31)) &&& 1) ^^^ ((x1 >>> (x5 &&& 31)) &&& 1)) ^^^ x4) <<< (x5 &&& 31))) (((((x0 >>> (x5 &&& 31)) &&& 1) &&& ((x1 >>> (x5 &&& 31)) &&& 1)) ||| (((x0 >>> (x5 &&& 31)) &&& 1) &&& x4)) ||| (((x1 >>> (x5 &&& 31)) &&& 1) &&& x4)) (x5 + 1)
theorem sm_ab_loop {post : Int32 → Prop} {x0 x1 : Int32} : ∀ (k i : Nat) (x3 x4 : Int32), i + k = 8 → post (sm_add x0 x1 k x3 x4 (nI i)) → wX_addBits_8 post x0 x1 (k + 1) x3 x4 (nI i) := by
  intro k
  induction k with
  | zero =>
    intro i x3 x4 hi h
    exact pk_le 8 i (fun _ => h) (fun z => absurd z (by omega))
  | succ k ih =>
    intro i x3 x4 hi h
    unfold sm_add at h
    rw [nI_1] at h
    exact pk_le 8 i (fun z => absurd z (by omega)) (fun _ => nm_e (nm_e (nm_e (nm_r (nI_1 i) (ih (i + 1) _ _ (by omega) h)))))
theorem sm_ab {post : Int32 → Prop} {x0 x1 x2 x : Int32} (e : sm_add x0 x1 8 0 x2 (nI 0) = x) (h : post x) : wpX_addBits post () x0 x1 x2 :=
  ⟨9, sm_ab_loop 8 0 0 x2 (by omega) (by rw [e]; exact h)⟩
theorem sm_ab4 : sm_add 0 0 8 0 0 (nI 0) = 0 := by decide +kernel
theorem sm_ab5 : sm_add 0 (0 ^^^ 255) 8 0 1 (nI 0) = 0 := by decide +kernel
/-- workOut: what SET and JUMP answer, and what the others answer over zeros -/
theorem sm_wo1 {A C n : Int32} (q : Int32 → Prop) (h : q n) : wpX_workOut q () (nI 1) A C n := br_f (by decide) (br_f (by decide) (br_t rfl h))
theorem sm_wo9 {A C : Int32} {n : Nat} (hn : n < 256) (q : Int32 → Prop) (h : q (nI (n % 32))) : wpX_workOut q () (nI 9) A C (nI n) := by
  have e : nI n &&& 31 = nI (n % 32) := pk_andN (by omega) 5 (by decide)
  refine br_f (by decide) (br_f (by decide) (br_f (by decide) (br_f (by decide) (br_f (by decide) (br_f (by decide) (br_f (by decide) (br_f (by decide) (br_f (by decide) (br_f (by decide) (br_t rfl ?_))))))))))
  rw [e]
  exact h
theorem sm_wo4 {n : Int32} (q : Int32 → Prop) (h : q 0) : wpX_workOut q () (nI 4) 0 0 n :=
  br_f (by decide) (br_f (by decide) (br_f (by decide) (br_f (by decide) (br_f (by decide) (br_t rfl (sm_ab sm_ab4 h))))))
theorem sm_wo5 {n : Int32} (q : Int32 → Prop) (h : q 0) : wpX_workOut q () (nI 5) 0 0 n :=
  br_f (by decide) (br_f (by decide) (br_f (by decide) (br_f (by decide) (br_f (by decide) (br_f (by decide) (br_t rfl (sm_ab sm_ab5 h)))))))
theorem sm_wo6 {n : Int32} (q : Int32 → Prop) (h : q 0) : wpX_workOut q () (nI 6) 0 0 n :=
  br_f (by decide) (br_f (by decide) (br_f (by decide) (br_f (by decide) (br_f (by decide) (br_f (by decide) (br_f (by decide) (br_t rfl h)))))))
theorem sm_wo7 {n : Int32} (q : Int32 → Prop) (h : q 0) : wpX_workOut q () (nI 7) 0 0 n :=
  br_f (by decide) (br_f (by decide) (br_f (by decide) (br_f (by decide) (br_f (by decide) (br_f (by decide) (br_f (by decide) (br_f (by decide) (br_t rfl h))))))))
theorem sm_wo8 {n : Int32} (q : Int32 → Prop) (h : q 0) : wpX_workOut q () (nI 8) 0 0 n :=
  br_f (by decide) (br_f (by decide) (br_f (by decide) (br_f (by decide) (br_f (by decide) (br_f (by decide) (br_f (by decide) (br_f (by decide) (br_f (by decide) (br_t rfl h)))))))))
theorem sm_wo48 {n : Int32} {op : Nat} (h4 : 4 ≤ op) (h8 : op ≤ 8) (q : Int32 → Prop) (h : q 0) : wpX_workOut q () (nI op) 0 0 n := by
  rcases (show op = 4 ∨ op = 5 ∨ op = 6 ∨ op = 7 ∨ op = 8 by omega) with e | e | e | e | e <;> subst e
  · exact sm_wo4 q h
  · exact sm_wo5 q h
  · exact sm_wo6 q h
  · exact sm_wo7 q h
  · exact sm_wo8 q h
end
section
/-! one step -/
theorem sm_rem48 {k : Nat} (hk : k < 2 ^ 31) : nI k - nI k / 48 * 48 = nI (k % 48) := pk_rem hk (show 0 < 48 by omega) (show 48 < 2 ^ 31 by omega)
theorem sm_119 {post : St2 → Prop} {st oC : Int32} {k on e : Nat} {a1 a2 a7 a8 : Nat → Int32} (hk : k < 48) (he : e < 2 ^ 31) (hee : sm_cor 22 e = e)
    (h : ∀ b : Nat → Int32, b 0 = nI on → b 1 = nI on → b 2 = nI on → post (0, 0, nI ((k + 1) % 48), st, oC, a1, b, sm_z, sm_z, upd sm_z 0 (nI e), sm_z, a7, a8)) :
    wX_step_119 post (nI on) 0 0 (nI k) st oC a1 a2 sm_z sm_z (upd sm_z 0 (nI e)) sm_z a7 a8 := by
  have er : nI k - nI k / 48 * 48 = nI k := by
    rw [sm_rem48 (by omega), Nat.mod_eq_of_lt hk]
  have es : (nI k + 1) - (nI k + 1) / 48 * 48 = nI ((k + 1) % 48) := by
    rw [nI_1]
    exact sm_rem48 (by omega)
  have hb := h (sm_p3 a2 (nI on)) (sm_p3_0 _ _) (sm_p3_1 _ _) (sm_p3_2 _ _)
  unfold wX_step_119
  refine sm_wp ?_
  refine ⟨4, pk_le 3 0 (fun z => absurd z (by omega)) (fun _ => ⟨pk_in 0 3 (by omega), nm_r (sm_upd_z _) (nm_r (show (0 : Int32) + 1 = 1 from rfl)
    (pk_le 3 1 (fun z => absurd z (by omega)) (fun _ => ⟨pk_in 1 3 (by omega), nm_r (sm_upd_z _) (nm_r (show (1 : Int32) + 1 = 2 from rfl)
    (pk_le 3 2 (fun z => absurd z (by omega)) (fun _ => ⟨pk_in 2 3 (by omega), nm_r (sm_upd_z _) (nm_r (show (2 : Int32) + 1 = 3 from rfl)
    (pk_le 3 3 (fun _ => ⟨by decide, ?_⟩) (fun z => absurd z (by omega))))⟩)))⟩)))⟩)⟩
  rw [er]
  by_cases k0 : k = 0
  · subst k0
    refine sm_rep (c := e) (by omega) he pk_us ?_
    rw [show sm_P 0 = 22 from rfl, hee, sm_upd_2, sm_upd_z]
    exact ⟨by decide, nm_r es hb⟩
  · have h5 : upd sm_z 0 (nI e) k = nI 0 := by
      rw [pk_un k0]; rfl
    refine sm_rep (c := 0) hk (by decide) h5 ?_
    rw [sm_cor_0, sm_upd_id _ k (nI 0) h5, sm_upd_z]
    exact ⟨by decide, nm_r es hb⟩
theorem sm_84 {q : Int32 → St2 → Prop} {pH wH sD st oC : Int32} {a2 a3 a7 a8 : Nat → Int32} {r cell : Nat} {on E : Int32} (hr : r < 4) (hl : cell < 16) (h : ∀ b : Nat → Int32, q on (pH, wH, sD, st, oC, sm_z, a2, a3, sm_z, upd sm_z 0 E, sm_z, a7, b)) : wX_stepWithCells_84 q (nI r) on (nI cell) pH wH sD st oC sm_z a2 a3 sm_z (upd sm_z 0 E) sm_z a7 a8 := by
  have ew : (32 : Int32) + nI cell = nI (32 + cell) := nI_add 32 cell
  have h5 : upd sm_z 0 E (32 + cell) = nI 0 := by
    rw [pk_un (by omega)]; rfl
  have e3 : sm_w3 sm_z r (nI 0) = sm_z := sm_w3_z hr
  unfold wX_stepWithCells_84
  rw [ew]
  refine sm_rar (c := 0) (c' := 0) (by omega) (by decide) (by decide) h5 (sm_cor_0 _) (sm_cor_0 _) ?_
  rw [sm_lin_0, sm_upd_id _ (32 + cell) (nI 0) h5, sm_upd_z]
  refine sm_pt (fun b => sm_wr hr ?_)
  rw [e3]
  exact h b
theorem sm_45 {q : Int32 → St2 → Prop} {pH wH sD st oC : Int32} {a2 a3 a7 a8 : Nat → Int32} {op r n s cell : Nat} {on E : Int32} (hop : op = 1 ∨ op = 2 ∨ op = 3 ∨ op = 12 ∨ op = 13) (hr : r < 4) (hs : s < 4) (hl : cell < 16)
    (h1 : op = 1 → ∀ b : Nat → Int32, q on (pH, wH, sD, st, oC, sm_w3 sm_z r (nI n), a2, a3, sm_z, upd sm_z 0 E, sm_z, a7, b))
    (h0 : op ≠ 1 → ∀ b : Nat → Int32, q on (pH, wH, sD, st, oC, sm_z, a2, a3, sm_z, upd sm_z 0 E, sm_z, a7, b)) :
    wX_stepWithCells_45 q (nI op) (nI r) (nI n) on (nI s) (nI cell) pH wH sD st oC sm_z a2 a3 sm_z (upd sm_z 0 E) sm_z a7 a8 := by
  have ew : (32 : Int32) + nI cell = nI (32 + cell) := nI_add 32 cell
  have h5 : upd sm_z 0 E (32 + cell) = 0 := by
    rw [pk_un (by omega)]; rfl
  refine pk_eq op 1 (fun z => ?_) (fun z => pk_eq op 2 (fun _ => sm_84 hr hl (h0 z)) (fun z2 => pk_eq op 12 (fun _ => sm_84 hr hl (h0 z)) (fun z3 => ?_)))
  · exact sm_wt hr hs sm_ok_z rfl rfl (sm_wo1) (fun b => sm_wr hr (h1 z b))
  · refine sm_vr hr rfl rfl rfl (sm_pt (fun b => ?_))
    rw [ew]
    refine sm_ww0 (w := 32 + cell) (by omega) ?_
    rw [sm_upd_id _ (32 + cell) 0 h5, sm_upd_z]
    exact h0 z b
theorem sm_swc {q : Int32 → St2 → Prop} {pH wH sD st oC : Int32} {a2 a3 a7 a8 : Nat → Int32} {op r n : Nat} {at' on E : Int32} (hop : op = 1 ∨ op = 2 ∨ op = 3 ∨ op = 12 ∨ op = 13) (hr : r < 4) (hn : n < 256)
    (h1 : op = 1 → ∀ b : Nat → Int32, q on (pH, wH, sD, st, oC, sm_w3 sm_z r (nI n), a2, a3, sm_z, upd sm_z 0 E, sm_z, a7, b))
    (h0 : op ≠ 1 → ∀ b : Nat → Int32, q on (pH, wH, sD, st, oC, sm_z, a2, a3, sm_z, upd sm_z 0 E, sm_z, a7, b)) :
    wpX_stepWithCells q (pH, wH, sD, st, oC, sm_z, a2, a3, sm_z, upd sm_z 0 E, sm_z, a7, a8) (nI op) (nI r) (nI n) at' on := by
  have e3 : nI n &&& 3 = nI (n % 4) := pk_andN (by omega) 2 (by decide)
  have e15 : nI n &&& 15 = nI (n % 16) := pk_andN (by omega) 4 (by decide)
  have h4 : n % 4 < 4 := Nat.mod_lt _ (by omega)
  have h16 : n % 16 < 16 := Nat.mod_lt _ (by omega)
  refine br_f (nI_ne0 (by omega) (by omega)) (nm_r e3 (pk_eq op 12 (fun z => ?_) (fun z => pk_eq op 13 (fun z => ?_) (fun z2 => ?_))))
  · unfold wX_stepWithCells_29
    refine sm_vr (v := 0) h4 rfl rfl rfl ?_
    rw [show (0 : Int32) &&& 15 = nI 0 by decide]
    exact sm_45 hop hr h4 (by omega) h1 h0
  · unfold wX_stepWithCells_29
    refine sm_vr (v := 0) h4 rfl rfl rfl ?_
    rw [show (0 : Int32) &&& 15 = nI 0 by decide]
    exact sm_45 hop hr h4 (by omega) h1 h0
  · rw [e15]
    exact sm_45 hop hr h4 h16 h1 h0
theorem sm_son {q : Int32 → St2 → Prop} {pH wH sD st : Int32} {a2 a3 a5 a6 a7 a8 : Nat → Int32} {op r n : Nat} {at' on : Int32} (h9 : 9 ≤ op) (h11 : op ≤ 11) (hr : r < 4) (hn : n < 256)
    (hJ : op = 9 ∨ op = 10 → ∀ b : Nat → Int32, q (nI (n % 32)) (pH, wH, sD, st, 0, sm_z, a2, a3, sm_z, a5, a6, a7, b))
    (hO : op = 11 → ∀ b c : Nat → Int32, q on (pH, wH, sD, st, 1, sm_z, a2, a3, sm_z, a5, a6, c, b)) :
    wpX_stepOn q (pH, wH, sD, st, 0, sm_z, a2, a3, sm_z, a5, a6, a7, a8) (nI op) (nI r) (nI n) at' on := by
  have e31 : nI n &&& 31 = nI (n % 32) := pk_andN (by omega) 5 (by decide)
  have e32 : nI (n % 32) &&& 31 = nI (n % 32) := by
    have t : nI (n % 32) &&& 31 = nI (n % 32 % 32) := pk_andN (by omega) 5 (by decide)
    rw [Nat.mod_mod] at t
    exact t
  rcases (show op = 9 ∨ op = 10 ∨ op = 11 by omega) with e | e | e <;> subst e
  · refine br_t rfl (sm_wt hr hr sm_ok_z rfl rfl (sm_wo9 hn) (fun b => ?_))
    rw [e32]
    exact hJ (Or.inl rfl) b
  · refine br_f (by decide) (sm_vr hr rfl rfl rfl (br_t rfl (br_t rfl ?_)))
    rw [e31]
    refine sm_pt (fun b => ?_)
    rw [e32]
    exact hJ (Or.inr rfl) b
  · refine br_f (by decide) (sm_vr hr rfl rfl rfl (br_f (by decide) (br_t (by decide) ?_)))
    exact sm_pt2 (fun b => ⟨pk_in 0 16 (by omega), nm_e (nm_r (show (0 : Int32) + 1 = 1 from rfl) (hO rfl b _))⟩)
theorem sm_step_stop {post : St2 → Prop} {st oC : Int32} {k P c c' e v : Nat} {a1 a2 a5 a6 a7 a8 : Nat → Int32} (hk : k < 48) (hP : P < 32) (h0 : a2 0 = nI P) (h1 : a2 1 = nI P) (h2 : a2 2 = nI P) (ok : sm_ok a1)
    (hc : c < 2 ^ 31) (hc' : c' < 2 ^ 31) (h5 : a5 P = nI c) (e1 : sm_cor 22 c = c') (e2 : sm_cor 22 c' = c') (hd : sm_lin (sm_del 19 3 0) c' = v) (hv : v < 2 ^ 31) (hv0 : v % 16 = 0)
    (h5' : upd a5 P (nI c') = upd sm_z 0 (nI e)) (h6 : upd a6 P 0 = sm_z) (he : e < 2 ^ 31) (hee : sm_cor 22 e = e)
    (h : ∀ b : Nat → Int32, b 0 = nI P → b 1 = nI P → b 2 = nI P → post (0, 0, nI ((k + 1) % 48), 1, oC, a1, b, sm_z, sm_z, upd sm_z 0 (nI e), sm_z, a7, a8)) :
    wpX_step post (0, 0, nI k, st, oC, a1, a2, sm_z, sm_z, a5, a6, a7, a8) := by
  have eP : sm_P P = 22 := if_neg (by omega)
  have f1 : nI v &&& 15 = nI 0 := by
    have t : nI v &&& 15 = nI (v % 16) := pk_andN (by omega) 4 (by decide)
    rw [hv0] at t
    exact t
  unfold wpX_step
  refine sm_va ok h0 h1 h2 (sm_vp h0 h1 h2 (sm_rar (by omega) hc hc' h5 (by rw [eP]; exact e1) (by rw [eP]; exact e2) ?_))
  rw [eP, h5', h6, show 22 - 3 = 19 from rfl, hd]
  exact nm_r f1 (nm_e (nm_e (nm_e (pk_le 0 3 (fun _ => br_t rfl (sm_119 hk he hee h)) (fun z => absurd z (by omega))))))
theorem sm_step_go {post : St2 → Prop} {k c e op r n : Nat} {a2 a5 a6 a7 a8 : Nat → Int32} (hk : k < 48) (h0 : a2 0 = nI 0) (h1 : a2 1 = nI 0) (h2 : a2 2 = nI 0)
    (hc : c < 2 ^ 31) (he : e < 2 ^ 31) (h5 : a5 0 = nI c) (e1 : sm_cor 22 c = e) (hee : sm_cor 22 e = e) (hop1 : 1 ≤ op) (hop : op ≤ 13) (hr : r < 4) (hn : n < 256) (hd : sm_lin (sm_del 19 3 0) e = op + 16 * r + 64 * n)
    (h5' : upd a5 0 (nI e) = upd sm_z 0 (nI e)) (h6 : upd a6 0 0 = sm_z)
    (hS : op = 1 → ∀ b a8 : Nat → Int32, b 0 = nI 1 → b 1 = nI 1 → b 2 = nI 1 → post (0, 0, nI ((k + 1) % 48), 0, 0, sm_w3 sm_z r (nI n), b, sm_z, sm_z, upd sm_z 0 (nI e), sm_z, a7, a8))
    (hJ : op = 9 ∨ op = 10 → ∀ b a8 : Nat → Int32, b 0 = nI (n % 32) → b 1 = nI (n % 32) → b 2 = nI (n % 32) → post (0, 0, nI ((k + 1) % 48), 0, 0, sm_z, b, sm_z, sm_z, upd sm_z 0 (nI e), sm_z, a7, a8))
    (hO : op ≠ 1 → op ≠ 9 → op ≠ 10 → ∀ (oC : Int32) (b a7 a8 : Nat → Int32), b 0 = nI 1 → b 1 = nI 1 → b 2 = nI 1 → post (0, 0, nI ((k + 1) % 48), 0, oC, sm_z, b, sm_z, sm_z, upd sm_z 0 (nI e), sm_z, a7, a8)) :
    wpX_step post (0, 0, nI k, 0, 0, sm_z, a2, sm_z, sm_z, a5, a6, a7, a8) := by
  have f1 : nI (op + 16 * r + 64 * n) &&& 15 = nI op := by
    have t : nI (op + 16 * r + 64 * n) &&& 15 = nI ((op + 16 * r + 64 * n) % 16) := pk_andN (by omega) 4 (by decide)
    rw [show (op + 16 * r + 64 * n) % 16 = op by omega] at t
    exact t
  have f2 : (nI (op + 16 * r + 64 * n) >>> ((4 : Int32) &&& 31)) &&& 3 = nI r := by
    rw [pk_shrN (by omega) _ 4 (by decide)]
    have t : nI ((op + 16 * r + 64 * n) / 2 ^ 4) &&& 3 = nI ((op + 16 * r + 64 * n) / 2 ^ 4 % 4) := pk_andN (by omega) 2 (by decide)
    rw [show (op + 16 * r + 64 * n) / 2 ^ 4 % 4 = r by omega] at t
    exact t
  have f3 : (nI (op + 16 * r + 64 * n) >>> ((6 : Int32) &&& 31)) &&& 255 = nI n := by
    rw [pk_shrN (by omega) _ 6 (by decide)]
    have t : nI ((op + 16 * r + 64 * n) / 2 ^ 6) &&& 255 = nI ((op + 16 * r + 64 * n) / 2 ^ 6 % 256) := pk_andN (by omega) 8 (by decide)
    rw [show (op + 16 * r + 64 * n) / 2 ^ 6 % 256 = n by omega] at t
    exact t
  have f4 : (nI 0 + 1) &&& 31 = nI 1 := by decide
  have g3 : nI n &&& 3 = nI (n % 4) := pk_andN (by omega) 2 (by decide)
  have h4 : n % 4 < 4 := Nat.mod_lt _ (by omega)
  have ez : sm_w3 sm_z r 0 = sm_z := sm_w3_z hr
  unfold wpX_step
  refine sm_va sm_ok_z h0 h1 h2 (sm_vp h0 h1 h2 (sm_rar (w := 0) (by omega) hc he h5 e1 hee ?_))
  rw [show sm_P 0 = 22 from rfl, h5', h6, show 22 - 3 = 19 from rfl, hd]
  refine nm_r f1 (nm_r f2 (nm_r f3 (nm_r f4 (pk_le op 3 (fun z => ?_) (fun z => pk_lt op 12 (fun z2 => pk_lt 8 op (fun z3 => ?_) (fun z3 => ?_)) (fun z2 => ?_))))))
  · unfold wX_step_56
    exact sm_swc (by omega) hr hn (fun z b => sm_119 hk he hee (fun b2 => hS z b2 b)) (fun z b => sm_119 hk he hee (fun b2 => hO z (by omega) (by omega) 0 b2 a7 b))
  · exact sm_son (by omega) (by omega) hr hn (fun z b => sm_119 hk he hee (fun b2 => hJ z b2 b)) (fun z b c => sm_119 hk he hee (fun b2 => hO (by omega) (by omega) (by omega) 1 b2 c b))
  · rw [g3]
    refine sm_wt hr h4 sm_ok_z rfl rfl (sm_wo48 (by omega) (by omega)) (fun b => sm_wr hr ?_)
    rw [ez]
    exact sm_119 hk he hee (fun b2 => hO (by omega) (by omega) (by omega) 0 b2 a7 b)
  · unfold wX_step_56
    exact sm_swc (by omega) hr hn (fun z b => sm_119 hk he hee (fun b2 => hS z b2 b)) (fun z b => sm_119 hk he hee (fun b2 => hO z (by omega) (by omega) 0 b2 a7 b))
end
section
/-! new, set, hitProgram, run, spoiled, register, place -/
theorem sm_init_loop {post : St2 → Prop} (h : post (0, 0, 0, 0, 0, sm_z, sm_z, sm_z, sm_z, sm_z, sm_z, sm_z, sm_z)) : ∀ (k i : Nat), i + k = 48 → wX_init_66 post 8 137 8 137 (k + 1) (nI i) 0 0 0 0 0 sm_z sm_z sm_z sm_z sm_z sm_z sm_z sm_z := by
  intro k
  induction k with
  | zero =>
    intro i hi
    exact pk_le 48 i (fun _ => h) (fun z => absurd z (by omega))
  | succ k ih =>
    intro i hi
    refine pk_le 48 i (fun z => absurd z (by omega)) (fun z => sm_ww0 (w := i) (by omega) ?_)
    rw [sm_upd_z]
    exact nm_r (nI_1 i) (ih (i + 1) (by omega))
theorem sm_init {post : St2 → Prop} (h : post (0, 0, 0, 0, 0, sm_z, sm_z, sm_z, sm_z, sm_z, sm_z, sm_z, sm_z)) : wpX_init post 8 137 (0, 0, 0, 0, 0) :=
  ⟨by decide, by decide, by decide, by decide, by decide, by decide, by decide, by decide, by decide, by decide, by decide, by decide, by decide, by decide, by decide, by decide, 49, sm_init_loop h 48 0 (by omega)⟩
theorem sm_word {op r n : Nat} (ho : op < 16) (hr : r < 4) (hn : n < 256) : (nI op ||| (nI r <<< ((4 : Int32) &&& 31))) ||| (nI n <<< ((6 : Int32) &&& 31)) = nI (op + 16 * r + 64 * n) := by
  have t1 : op ||| r * 2 ^ 4 = op + 16 * r := by
    rw [Nat.mul_comm r, Nat.or_comm, ← Nat.two_pow_add_eq_or_of_lt (show op < 2 ^ 4 by omega) r]
    omega
  have t2 : (op + 16 * r) ||| n * 2 ^ 6 = op + 16 * r + 64 * n := by
    rw [Nat.mul_comm n, Nat.or_comm, ← Nat.two_pow_add_eq_or_of_lt (show op + 16 * r < 2 ^ 6 by omega) n]
    omega
  rw [pk_shlN _ 4 (by decide) (by omega), pk_shlN _ 6 (by decide) (by omega), sm_nor, sm_nor, t1, t2]
theorem sm_set_g {post : Int32 → St2 → Prop} {op r n : Nat} (ho : op ≤ 13) (hr : r < 4) (hn : n < 256) (h : post 1 (0, 0, 0, 0, 0, sm_z, sm_z, sm_z, sm_z, upd sm_z 0 (nI (sm_e (op + 16 * r + 64 * n))), sm_z, sm_z, sm_z)) : wpX_set post (0, 0, 0, 0, 0, sm_z, sm_z, sm_z, sm_z, sm_z, sm_z, sm_z, sm_z) 0 (nI op) (nI r) (nI n) := by
  refine br_f (by decide) (br_f (by decide) (pk_lt op 0 (fun z => absurd z (by omega)) (fun _ => pk_lt 13 op (fun z => absurd z (by omega)) (fun _ => pk_lt r 0 (fun z => absurd z (by omega)) (fun _ => pk_le 4 r (fun z => absurd z (by omega)) (fun _ => br_f (by decide) (pk_lt n 0 (fun z => absurd z (by omega)) (fun _ => pk_le n 255 (fun _ => ?_) (fun z => absurd z (by omega))))))))))
  rw [sm_word (by omega) hr hn]
  refine sm_ww22 (w := 0) (by omega) (by omega) ?_
  rw [sm_upd_z]
  exact h
theorem sm_set_b {post : Int32 → St2 → Prop} {p0 p1 p2 : Int32} (nb : ¬ (¬ p0 < 0 ∧ ¬ 13 < p0 ∧ ¬ p1 < 0 ∧ ¬ 4 ≤ p1 ∧ ¬ p2 < 0 ∧ p2 ≤ 255)) (h' : post 0 (0, 0, 0, 0, 0, sm_z, sm_z, sm_z, sm_z, upd sm_z 0 (nI (sm_e (0 + 16 * 0 + 64 * 0))), sm_z, sm_z, sm_z)) : wpX_set post (0, 0, 0, 0, 0, sm_z, sm_z, sm_z, sm_z, sm_z, sm_z, sm_z, sm_z) 0 p0 p1 p2 := by
  have e : upd sm_z 0 (nI (sm_e (0 + 16 * 0 + 64 * 0))) = sm_z := by
    rw [show 0 + 16 * 0 + 64 * 0 = 0 from rfl, sm_e_0]
    exact sm_upd_z 0
  have h : post 0 (0, 0, 0, 0, 0, sm_z, sm_z, sm_z, sm_z, sm_z, sm_z, sm_z, sm_z) := by
    rw [e] at h'
    exact h'
  exact br_f (by decide) (br_f (by decide) (br_c (fun _ => h) (fun a => br_c (fun _ => h) (fun b => br_c (fun _ => br_t rfl h) (fun c => br_c (fun _ => br_t rfl h) (fun d => br_f (by decide) (br_c (fun _ => h) (fun e => br_c (fun f => absurd ⟨a, b, c, d, e, f⟩ nb) (fun _ => h)))))))))
theorem sm_hit {post : Int32 → St2 → Prop} {p3 : Int32} {v : Nat}
    (h1 : ∀ b, b < 22 → p3 = nI b → post 1 (0, 0, 0, 0, 0, sm_z, sm_z, sm_z, sm_z, upd sm_z 0 (nI (sm_e v ^^^ 2 ^ b)), upd sm_z 0 1, sm_z, sm_z))
    (h0' : p3 < 0 ∨ ¬ p3 < 22 → post 0 (0, 0, 0, 0, 0, sm_z, sm_z, sm_z, sm_z, upd sm_z 0 (nI (sm_e v)), upd sm_z 0 0, sm_z, sm_z)) :
    wpX_hitProgram post (0, 0, 0, 0, 0, sm_z, sm_z, sm_z, sm_z, upd sm_z 0 (nI (sm_e v)), sm_z, sm_z, sm_z) 0 p3 := by
  have h0 : p3 < 0 ∨ ¬ p3 < 22 → post 0 (0, 0, 0, 0, 0, sm_z, sm_z, sm_z, sm_z, upd sm_z 0 (nI (sm_e v)), sm_z, sm_z, sm_z) := by
    intro z
    have t := h0' z
    rw [sm_upd_z] at t
    exact t
  refine br_f (by decide) (br_f (by decide) (br_c (fun a => h0 (Or.inl a)) (fun a => br_c (fun b => ?_) (fun b => h0 (Or.inr b)))))
  obtain ⟨j, hj, e⟩ := nI_of a
  subst e
  have hj2 : j < 22 := (nI_ltI hj (by omega)).mp (show nI j < nI 22 from b)
  have e5 : upd (upd sm_z 0 (nI (sm_e v))) (0 : Int32).toNatClampNeg (upd sm_z 0 (nI (sm_e v)) (0 : Int32).toNatClampNeg ^^^ ((1 : Int32) <<< (nI j &&& 31))) = upd sm_z 0 (nI (sm_e v ^^^ 2 ^ j)) := by
    rw [sm_one_shl (by omega)]
    show upd (upd sm_z 0 (nI (sm_e v))) 0 (upd sm_z 0 (nI (sm_e v)) 0 ^^^ nI (2 ^ j)) = _
    rw [pk_us, sm_xor, sm_upd_2]
  exact ⟨pk_in 0 48 (by omega), br_t rfl ⟨pk_in 0 48 (by omega), pk_in 0 48 (by omega), nm_r e5 ⟨pk_in 0 48 (by omega), nm_e ⟨rfl, h1 j hj2 rfl⟩⟩⟩⟩
theorem sm_run_end {post : Int32 → St2 → Prop} {pH wH sD oC : Int32} {a1 a2 a3 a4 a5 a6 a7 a8 : Nat → Int32} {t i f : Nat} {x2 : Int32} (ht : t < 2 ^ 31) (hi : i < 2 ^ 31) (h : post x2 (pH, wH, sD, 1, oC, a1, a2, a3, a4, a5, a6, a7, a8)) : wX_run_16 post (nI t) (f + 1) x2 (nI i) pH wH sD 1 oC a1 a2 a3 a4 a5 a6 a7 a8 :=
  pk_le t i (fun _ => h) (fun _ => br_f (by decide) h)
theorem sm_run_2nd {post : Int32 → St2 → Prop} {oC : Int32} {t k P e : Nat} {a1 a2 a7 a8 : Nat → Int32} (ht : t ≤ 100) (ht1 : 1 ≤ t) (hk : k < 48) (hP0 : 0 < P) (hP : P < 32) (h0 : a2 0 = nI P) (h1 : a2 1 = nI P) (h2 : a2 2 = nI P) (ok : sm_ok a1) (he : e < 2 ^ 31) (hee : sm_cor 22 e = e)
    (h : ∀ (sD st : Int32) (b : Nat → Int32), b 0 = nI P → b 1 = nI P → b 2 = nI P → post (nI (min t 2)) (0, 0, sD, st, oC, a1, b, sm_z, sm_z, upd sm_z 0 (nI e), sm_z, a7, a8)) :
    wX_run_16 post (nI t) 2 (nI 1) (nI 1) 0 0 (nI k) 0 oC a1 a2 sm_z sm_z (upd sm_z 0 (nI e)) sm_z a7 a8 := by
  have h5 : upd sm_z 0 (nI e) P = nI 0 := by
    rw [pk_un (by omega)]; rfl
  refine pk_le t 1 (fun z => ?_) (fun z => br_t rfl (sm_step_stop (c := 0) (c' := 0) (v := 0) hk hP h0 h1 h2 ok (by decide) (by decide) h5 (sm_cor_0 _) (sm_cor_0 _) (sm_lin_0 _) (by decide) (by decide) (sm_upd_id _ _ _ h5) (sm_upd_z _) he hee (fun b b0 b1 b2 => ?_)))
  · have hh := h (nI k) 0 a2 h0 h1 h2
    rw [show min t 2 = 1 by omega] at hh
    exact hh
  · have hh := h (nI ((k + 1) % 48)) 1 b b0 b1 b2
    rw [show min t 2 = 2 by omega] at hh
    exact nm_r (nI_1 1) (nm_r (nI_1 1) (sm_run_end (by omega) (by omega) hh))
theorem sm_circle {post : Int32 → St2 → Prop} {t e op r n : Nat} {a7 : Nat → Int32} (ht : t ≤ 100) (he : e < 2 ^ 31) (hee : sm_cor 22 e = e) (hop : op = 9 ∨ op = 10) (hr : r < 4) (hn : n < 256) (hn0 : n % 32 = 0) (hd : sm_lin (sm_del 19 3 0) e = op + 16 * r + 64 * n)
    (h : ∀ (sD : Int32) (b a8 : Nat → Int32), b 0 = nI 0 → b 1 = nI 0 → b 2 = nI 0 → post (nI t) (0, 0, sD, 0, 0, sm_z, b, sm_z, sm_z, upd sm_z 0 (nI e), sm_z, a7, a8)) :
    ∀ (j i k : Nat) (a2 a8 : Nat → Int32), i + j = t → k < 48 → a2 0 = nI 0 → a2 1 = nI 0 → a2 2 = nI 0 → wX_run_16 post (nI t) (j + 1) (nI i) (nI i) 0 0 (nI k) 0 0 sm_z a2 sm_z sm_z (upd sm_z 0 (nI e)) sm_z a7 a8 := by
  intro j
  induction j with
  | zero =>
    intro i k a2 a8 hi hk h0 h1 h2
    have hh := h (nI k) a2 a8 h0 h1 h2
    refine pk_le t i (fun _ => ?_) (fun z => absurd z (by omega))
    rw [show i = t by omega]
    exact hh
  | succ j ih =>
    intro i k a2 a8 hi hk h0 h1 h2
    refine pk_le t i (fun z => absurd z (by omega)) (fun _ => br_t rfl (sm_step_go (c := e) hk h0 h1 h2 he he pk_us hee hee (by omega) (by omega) hr hn hd (sm_upd_2 _ _ _ _) (sm_upd_z _) (fun z => absurd z (by omega)) (fun _ b b8 b0 b1 b2 => ?_) (fun z z2 z3 => absurd hop (by omega))))
    rw [hn0] at b0 b1 b2
    exact nm_r (nI_1 i) (nm_r (nI_1 i) (ih (i + 1) ((k + 1) % 48) b b8 (by omega) (Nat.mod_lt _ (by omega)) b0 b1 b2))
/-- what a run of t steps leaves: the answer D, register r's content R for its copies a1, the place P, the spoiled mark s of word 0 (s0 before) -/
def sm_ran (op r n : Nat) (p4 : Int32) (s0 : Int32) (D : Int32) (a1 : Nat → Int32) (P : Nat) (s : Int32) : Prop :=
  ((p4 < 0 ∨ 100 < p4) ∧ D = -1 ∧ a1 = sm_z ∧ P = 0 ∧ s = s0) ∨
  (p4 = nI 0 ∧ D = nI 0 ∧ a1 = sm_z ∧ P = 0 ∧ s = s0) ∨
  (∃ t : Nat, p4 = nI t ∧ 1 ≤ t ∧ t ≤ 100 ∧ s = 0 ∧
    ((op = 0 ∧ D = nI 1 ∧ a1 = sm_z ∧ P = 0) ∨
     ((op = 9 ∨ op = 10) ∧ n % 32 = 0 ∧ D = nI t ∧ a1 = sm_z ∧ P = 0) ∨
     ((op = 9 ∨ op = 10) ∧ n % 32 ≠ 0 ∧ D = nI (min t 2) ∧ a1 = sm_z ∧ P = n % 32) ∨
     (op = 1 ∧ D = nI (min t 2) ∧ a1 = sm_w3 sm_z r (nI n) ∧ P = 1) ∨
     (op ≠ 0 ∧ op ≠ 1 ∧ op ≠ 9 ∧ op ≠ 10 ∧ D = nI (min t 2) ∧ a1 = sm_z ∧ P = 1)))
theorem sm_run {post : Int32 → St2 → Prop} {p4 s0 : Int32} {c op r n : Nat} (ho : op ≤ 13) (hr : r < 4) (hn : n < 256) (hc : c < 2 ^ 31) (hcc : sm_cor 22 c = sm_e (op + 16 * r + 64 * n))
    (h : ∀ (D s : Int32) (P : Nat) (sD st oC : Int32) (a1 a2 a5 a7 a8 : Nat → Int32), a2 0 = nI P → a2 1 = nI P → a2 2 = nI P → sm_ok a1 → sm_ran op r n p4 s0 D a1 P s → post D (0, 0, sD, st, oC, a1, a2, sm_z, sm_z, a5, upd sm_z 0 s, a7, a8)) :
    wpX_run post (0, 0, 0, 0, 0, sm_z, sm_z, sm_z, sm_z, upd sm_z 0 (nI c), upd sm_z 0 s0, sm_z, sm_z) p4 := by
  have hV : op + 16 * r + 64 * n < 2 ^ 16 := by omega
  have hee := sm_cor_e (op + 16 * r + 64 * n)
  have hd := sm_e_de _ hV
  have he : sm_e (op + 16 * r + 64 * n) < 2 ^ 31 := Nat.lt_trans (sm_e_lt _) (by decide)
  have hu : upd (upd sm_z 0 (nI c)) 0 (nI (sm_e (op + 16 * r + 64 * n))) = upd sm_z 0 (nI (sm_e (op + 16 * r + 64 * n))) := sm_upd_2 _ _ _ _
  have hs : upd (upd sm_z 0 s0) 0 0 = sm_z := by
    rw [sm_upd_2, sm_upd_z]
  have hz0 : upd sm_z 0 0 = sm_z := sm_upd_z 0
  have H' : ∀ (D : Int32) (P : Nat) (sD st oC : Int32) (a1 a2 a7 a8 : Nat → Int32), a2 0 = nI P → a2 1 = nI P → a2 2 = nI P → sm_ok a1 → sm_ran op r n p4 s0 D a1 P 0 → post D (0, 0, sD, st, oC, a1, a2, sm_z, sm_z, upd sm_z 0 (nI (sm_e (op + 16 * r + 64 * n))), sm_z, a7, a8) := by
    intro D P sD st oC a1 a2 a7 a8 b0 b1 b2 ok hr
    have hh := h D 0 P sD st oC a1 a2 (upd sm_z 0 (nI (sm_e (op + 16 * r + 64 * n)))) a7 a8 b0 b1 b2 ok hr
    rw [hz0] at hh
    exact hh
  refine br_c (fun a => h (-1) s0 0 0 0 0 sm_z sm_z _ sm_z sm_z rfl rfl rfl sm_ok_z (Or.inl ⟨Or.inl a, rfl, rfl, rfl, rfl⟩)) (fun a => br_c (fun b => ?_) (fun b => h (-1) s0 0 0 0 0 sm_z sm_z _ sm_z sm_z rfl rfl rfl sm_ok_z (Or.inl ⟨Or.inr ?_, rfl, rfl, rfl, rfl⟩)))
  · obtain ⟨t, ht, e⟩ := nI_of a
    subst e
    have ht2 : t ≤ 100 := (nI_leI ht (by omega)).mp (show nI t ≤ nI 100 from b)
    rcases Nat.eq_zero_or_pos t with t0 | t1
    · subst t0
      exact ⟨1, pk_le 0 0 (fun _ => h 0 s0 0 0 0 0 sm_z sm_z _ sm_z sm_z rfl rfl rfl sm_ok_z (Or.inr (Or.inl ⟨rfl, rfl, rfl, rfl, rfl⟩))) (fun z => absurd z (by omega))⟩
    · have R3 : ∀ {X : Prop}, X → nI t = nI t ∧ 1 ≤ t ∧ t ≤ 100 ∧ (0 : Int32) = 0 ∧ X := fun x => ⟨rfl, t1, ht2, rfl, x⟩
      by_cases o0 : op = 0
      · exact ⟨2, pk_le t 0 (fun z => absurd z (by omega)) (fun _ => br_t rfl (sm_step_stop (k := 0) (P := 0) (by omega) (by omega) rfl rfl rfl sm_ok_z hc he pk_us hcc hee hd (by omega) (by omega) hu hs he hee (fun b b0 b1 b2 => nm_r (show (0 : Int32) + 1 = nI 1 from rfl) (nm_r (show (0 : Int32) + 1 = nI 1 from rfl) (sm_run_end (by omega) (by omega) (H' (nI 1) 0 _ 1 0 sm_z b sm_z sm_z b0 b1 b2 sm_ok_z (Or.inr (Or.inr ⟨t, R3 (Or.inl ⟨o0, rfl, rfl, rfl⟩)⟩))))))))⟩
      · by_cases cr : (op = 9 ∨ op = 10) ∧ n % 32 = 0
        · obtain ⟨t', et⟩ : ∃ t', t = t' + 1 := ⟨t - 1, by omega⟩
          refine ⟨t' + 2, pk_le t 0 (fun z => absurd z (by omega)) (fun _ => br_t rfl (sm_step_go (k := 0) (by omega) rfl rfl rfl hc he pk_us hcc hee (by omega) ho hr hn hd hu hs (fun z => absurd z (by omega)) (fun _ b b8 b0 b1 b2 => ?_) (fun z z2 z3 => absurd cr.1 (by omega))))⟩
          rw [cr.2] at b0 b1 b2
          refine nm_r (show (0 : Int32) + 1 = nI 1 from rfl) (nm_r (show (0 : Int32) + 1 = nI 1 from rfl) (sm_circle ht2 he hee cr.1 hr hn cr.2 hd (fun sD b a8 b0 b1 b2 => ?_) t' 1 ((0 + 1) % 48) b b8 (by omega) (by omega) b0 b1 b2))
          exact H' (nI t) 0 sD 0 0 sm_z b sm_z a8 b0 b1 b2 sm_ok_z (Or.inr (Or.inr ⟨t, R3 (Or.inr (Or.inl ⟨cr.1, cr.2, rfl, rfl, rfl⟩))⟩))
        · refine ⟨3, pk_le t 0 (fun z => absurd z (by omega)) (fun _ => br_t rfl (sm_step_go (k := 0) (by omega) rfl rfl rfl hc he pk_us hcc hee (by omega) ho hr hn hd hu hs (fun z b b8 b0 b1 b2 => ?_) (fun z b b8 b0 b1 b2 => ?_) (fun z z2 z3 oC b b7 b8 b0 b1 b2 => ?_)))⟩
          · exact nm_r (show (0 : Int32) + 1 = nI 1 from rfl) (nm_r (show (0 : Int32) + 1 = nI 1 from rfl) (sm_run_2nd (k := (0 + 1) % 48) ht2 t1 (by omega) (by omega) (by omega) b0 b1 b2 (sm_ok_w3 _) he hee (fun sD st b b0 b1 b2 => H' _ 1 sD st 0 _ b _ _ b0 b1 b2 (sm_ok_w3 _) (Or.inr (Or.inr ⟨t, R3 (Or.inr (Or.inr (Or.inr (Or.inl ⟨z, rfl, rfl, rfl⟩))))⟩)))))
          · exact nm_r (show (0 : Int32) + 1 = nI 1 from rfl) (nm_r (show (0 : Int32) + 1 = nI 1 from rfl) (sm_run_2nd (k := (0 + 1) % 48) ht2 t1 (by omega) (by omega) (by omega) b0 b1 b2 sm_ok_z he hee (fun sD st b b0 b1 b2 => H' _ (n % 32) sD st 0 _ b _ _ b0 b1 b2 sm_ok_z (Or.inr (Or.inr ⟨t, R3 (Or.inr (Or.inr (Or.inl ⟨z, fun q => cr ⟨z, q⟩, rfl, rfl, rfl⟩)))⟩)))))
          · exact nm_r (show (0 : Int32) + 1 = nI 1 from rfl) (nm_r (show (0 : Int32) + 1 = nI 1 from rfl) (sm_run_2nd (k := (0 + 1) % 48) ht2 t1 (by omega) (by omega) (by omega) b0 b1 b2 sm_ok_z he hee (fun sD st b b0 b1 b2 => H' _ 1 sD st oC _ b _ _ b0 b1 b2 sm_ok_z (Or.inr (Or.inr ⟨t, R3 (Or.inr (Or.inr (Or.inr (Or.inr ⟨o0, z, z2, z3, rfl, rfl, rfl⟩))))⟩)))))
  · obtain ⟨t, ht, e⟩ := nI_of a
    subst e
    refine nI_lt (a := 100) (Nat.lt_of_not_le (fun z => b ?_)) ht
    exact nI_le (b := 100) z (by decide)
theorem sm_spo_loop {post : Int32 → Prop} {pH wH sD st oC : Int32} {a1 a2 a3 a4 a5 a6 a7 a8 : Nat → Int32} (x : Int32) (h : post x) : ∀ (k i : Nat), i + k = 48 → (∀ j, i ≤ j → a6 j = 0) → wX_spoiled_4 post pH wH sD st oC a1 a2 a3 a4 a5 a6 a7 a8 (k + 1) x (nI i) := by
  intro k
  induction k with
  | zero =>
    intro i hi hz
    exact pk_le 48 i (fun _ => h) (fun z => absurd z (by omega))
  | succ k ih =>
    intro i hi hz
    refine pk_le 48 i (fun z => absurd z (by omega)) (fun z => ⟨pk_in i 48 z, br_t ?_ (nm_r (show x + 0 = x from Int32.add_zero x) (nm_r (nI_1 i) (ih (i + 1) (by omega) (fun j hj => hz j (by omega)))))⟩)
    rw [nI_clamp (by omega)]
    exact hz i (Nat.le_refl i)
theorem sm_spo {post : Int32 → Prop} {pH wH sD st oC : Int32} {a1 a2 a3 a4 a5 a7 a8 : Nat → Int32} {s : Int32} (hs : s = 0 ∨ s = 1) (h : post s) : wpX_spoiled post (pH, wH, sD, st, oC, a1, a2, a3, a4, a5, upd sm_z 0 s, a7, a8) := by
  have hz : ∀ j, 1 ≤ j → upd sm_z 0 s j = 0 := fun j hj => by
    rw [pk_un (by omega)]; rfl
  rcases hs with e | e <;> subst e
  · exact ⟨49, sm_spo_loop 0 h 48 0 (by omega) (fun j _ => by rw [sm_upd_z]; rfl)⟩
  · exact ⟨49, pk_le 48 0 (fun z => absurd z (by omega)) (fun z => ⟨pk_in 0 48 (by omega), br_f (by decide) (nm_r (show (0 : Int32) + 1 = 1 from rfl) (nm_r (show (0 : Int32) + 1 = nI 1 from rfl) (sm_spo_loop 1 h 47 1 (by omega) hz)))⟩)⟩
theorem sm_reg {post : Int32 → Prop} {pH wH sD st oC : Int32} {a1 a2 a3 a4 a5 a6 a7 a8 : Nat → Int32} {p1 : Int32} (ok : sm_ok a1) (hb : p1 < 0 ∨ 4 ≤ p1 → post (-1)) (hg : ∀ q, q < 4 → p1 = nI q → post (a1 (q * 3))) : wpX_register post (pH, wH, sD, st, oC, a1, a2, a3, a4, a5, a6, a7, a8) p1 := by
  refine br_c (fun a => br_t rfl (hb (Or.inl a))) (fun a => br_c (fun b => br_t rfl (hb (Or.inr b))) (fun b => br_f (by decide) ?_))
  obtain ⟨q, hq, e⟩ := nI_of a
  subst e
  have q4 : q < 4 := Nat.lt_of_not_le (fun z => b (nI_le z hq))
  exact sm_vr q4 rfl (ok q q4).1 (ok q q4).2 (hg q q4 rfl)
end
section
/-! the law's own checks -/
theorem sm_279 {post : Int32 → St0 → Prop} {mc ms kc ks : Nat} {x1 x2 g h x8 x9 x10 x11 F I D A R : Int32} (hp : post 1 ())
    (h8 : x8 = if I = 0 then -1 else D) (h9 : x1 < 0 ∨ ¬ x1 ≤ 3 → x9 = -1) (h9' : ¬ x1 < 0 → x1 ≤ 3 → x9 = if R = 0 then 0 else if F = 1 then x2 else 0) (h10 : x10 = if I = 0 then 0 else A) (h11 : x11 = if h = 0 then 0 else if R = 0 then 1 else 0) :
    wL_lawOf_279 post mc ms x1 x2 g h x8 x9 x10 x11 g h F I D A R kc ks := by
  have k377 : x11 = 0 → wL_lawOf_377 post mc ms x11 kc ks := fun e => br_t e hp
  have k378 : x11 = 1 → wL_lawOf_378 post mc ms 1 x11 kc ks := fun e => br_t e hp
  have k358 : ∀ z0, x10 = z0 → wL_lawOf_358 post mc ms x11 h R z0 x10 kc ks := fun z0 e => br_t e (br_c (fun eh => k377 (by rw [h11, if_pos eh])) (fun eh => br_c (fun er => k378 (by rw [h11, if_neg eh, if_pos er])) (fun er => k377 (by rw [h11, if_neg eh, if_neg er]))))
  have k342 : ∀ z0, x9 = z0 → wL_lawOf_342 post mc ms x10 x11 h I A R z0 x9 kc ks := fun z0 e => br_t e (br_c (fun ei => k358 0 (by rw [h10, if_pos ei])) (fun ei => k358 A (by rw [h10, if_neg ei])))
  have k308 : ∀ z0, x8 = z0 → wL_lawOf_308 post mc ms x1 x2 x9 x10 x11 h F I A R z0 x8 kc ks := fun z0 e => br_t e (br_c (fun a => k342 (-1) (h9 (Or.inl a))) (fun a => br_c (fun b => br_c (fun er => k342 0 (by rw [h9' a b, if_pos er])) (fun er => br_c (fun ef => k342 x2 (by rw [h9' a b, if_neg er, if_pos ef])) (fun ef => k342 0 (by rw [h9' a b, if_neg er, if_neg ef])))) (fun b => k342 (-1) (h9 (Or.inr b)))))
  exact br_t rfl (br_t rfl (br_c (fun ei => k308 (-1) (by rw [h8, if_pos ei])) (fun ei => k308 D (by rw [h8, if_neg ei]))))
/-- no steps are run -/
theorem sm_tA {post : Int32 → St0 → Prop} {mc ms kc ks : Nat} {x1 x2 x4 g h x8 x9 x10 x11 F : Int32} (hx : x4 < 0 ∨ 100 < x4) (K : ∀ D A : Int32, wL_lawOf_279 post mc ms x1 x2 g h x8 x9 x10 x11 g h F 0 D A 0 kc ks) :
    wL_lawOf_124 post mc ms x1 x2 x4 g h x8 x9 x10 x11 g h F kc ks := by
  have k262 : ∀ D A : Int32, wL_lawOf_262 post mc ms x1 x2 x4 g h x8 x9 x10 x11 g h F 0 D A kc ks := fun D A => br_t rfl (K D A)
  have k238 : ∀ T C D : Int32, wL_lawOf_238 post mc ms x1 x2 x4 g h x8 x9 x10 x11 g h F 0 T C D kc ks := fun T C D => br_c (fun _ => k262 D 0) (fun _ => br_c (fun _ => k262 D 0) (fun _ => br_c (fun _ => k262 D T) (fun _ => k262 D 0)))
  have k196 : ∀ T C : Int32, wL_lawOf_196 post mc ms x1 x2 x4 g h x8 x9 x10 x11 g h F 0 T C kc ks := fun T C => br_c (fun _ => br_c (fun _ => k238 _ _ _) (fun _ => k238 _ _ _)) (fun _ => br_c (fun _ => br_c (fun _ => k238 _ _ _) (fun _ => k238 _ _ _)) (fun _ => k238 _ _ _))
  have k179 : ∀ G T : Int32, wL_lawOf_179 post mc ms x1 x2 x4 g h x8 x9 x10 x11 g h F G 0 T kc ks := fun G T => br_c (fun _ => k196 T 0) (fun _ => br_c (fun _ => k196 T 1) (fun _ => k196 T 0))
  have k164 : ∀ G : Int32, wL_lawOf_164 post mc ms x1 x2 x4 g h x8 x9 x10 x11 g h F G 0 kc ks := fun G => br_c (fun _ => k179 G 1) (fun _ => ⟨by decide, k179 G _⟩)
  have k145 : ∀ G : Int32, wL_lawOf_145 post mc ms x1 x2 x4 g h x8 x9 x10 x11 g h F G kc ks := fun G => br_c (fun _ => k164 G) (fun a => br_c (fun _ => k164 G) (fun b => absurd hx (fun z => z.elim a b)))
  exact br_c (fun _ => k145 1) (fun _ => br_c (fun _ => k145 1) (fun _ => k145 0))
/-- the first step doesn't go elsewhere -/
theorem sm_tN {post : Int32 → St0 → Prop} {mc ms kc ks : Nat} {x1 x2 x4 g h x8 x9 x10 x11 F : Int32} (a : ¬ x4 < 0) (b : ¬ 100 < x4) (f9 : ¬ F = 9) (f10 : ¬ F = 10) (K : wL_lawOf_196 post mc ms x1 x2 x4 g h x8 x9 x10 x11 g h F 1 1 0 kc ks) :
    wL_lawOf_124 post mc ms x1 x2 x4 g h x8 x9 x10 x11 g h F kc ks :=
  br_f f9 (br_f f10 (br_f a (br_f b (br_t rfl (br_t rfl K)))))
theorem sm_tG {post : Int32 → St0 → Prop} {mc ms kc ks : Nat} {x1 x2 x4 g h x8 x9 x10 x11 F T : Int32} (a : ¬ x4 < 0) (b : ¬ 100 < x4) (f : F = 9 ∨ F = 10) (eT : x2 - x2 / 32 * 32 = T) (K0 : T = 0 → wL_lawOf_196 post mc ms x1 x2 x4 g h x8 x9 x10 x11 g h F 1 T 1 kc ks) (K1 : ¬ T = 0 → wL_lawOf_196 post mc ms x1 x2 x4 g h x8 x9 x10 x11 g h F 1 T 0 kc ks) :
    wL_lawOf_124 post mc ms x1 x2 x4 g h x8 x9 x10 x11 g h F kc ks := by
  have k179 : wL_lawOf_179 post mc ms x1 x2 x4 g h x8 x9 x10 x11 g h F 1 1 T kc ks := br_f (by decide) (br_c (fun z => K0 z) (fun z => K1 z))
  have k164 : wL_lawOf_164 post mc ms x1 x2 x4 g h x8 x9 x10 x11 g h F 1 1 kc ks := by
    refine br_f (by decide) ⟨by decide, ?_⟩
    rw [eT]
    exact k179
  have k145 : wL_lawOf_145 post mc ms x1 x2 x4 g h x8 x9 x10 x11 g h F 1 kc ks := br_f a (br_f b k164)
  exact br_c (fun _ => k145) (fun z => br_c (fun _ => k145) (fun z2 => absurd f (fun q => q.elim z z2)))
/-- at least one step: from the number due on -/
theorem sm_t238 {post : Int32 → St0 → Prop} {mc ms kc ks : Nat} {x1 x2 x4 g h x8 x9 x10 x11 F T C D A : Int32} (p : ¬ x4 < 1) (p0 : ¬ x4 ≤ 0) (hA : (F = 0 ∨ ¬ C = 0) ∧ A = 0 ∨ (¬ F = 0 ∧ C = 0) ∧ A = T) (K : wL_lawOf_279 post mc ms x1 x2 g h x8 x9 x10 x11 g h F 1 D A 1 kc ks) :
    wL_lawOf_238 post mc ms x1 x2 x4 g h x8 x9 x10 x11 g h F 1 T C D kc ks := by
  have k262 : wL_lawOf_262 post mc ms x1 x2 x4 g h x8 x9 x10 x11 g h F 1 D A kc ks := br_f (by decide) (br_f p0 K)
  rcases hA with ⟨z, e⟩ | ⟨⟨z, z2⟩, e⟩ <;> subst e
  · exact br_f p (br_c (fun _ => k262) (fun y => br_f (z.resolve_left y) k262))
  · exact br_f p (br_f z (br_t z2 k262))
/-- no step is due -/
theorem sm_t0 {post : Int32 → St0 → Prop} {mc ms kc ks : Nat} {x1 x2 g h x8 x9 x10 x11 F T C : Int32} (K : wL_lawOf_279 post mc ms x1 x2 g h x8 x9 x10 x11 g h F 1 0 0 0 kc ks) :
    wL_lawOf_196 post mc ms x1 x2 (nI 0) g h x8 x9 x10 x11 g h F 1 T C kc ks := by
  have k262 : wL_lawOf_262 post mc ms x1 x2 (nI 0) g h x8 x9 x10 x11 g h F 1 0 0 kc ks := br_f (by decide) (br_t (by decide) K)
  have k238 : wL_lawOf_238 post mc ms x1 x2 (nI 0) g h x8 x9 x10 x11 g h F 1 T C 0 kc ks := br_t (by decide) k262
  exact br_c (fun _ => br_t (by decide) k238) (fun _ => br_c (fun _ => br_f (by decide) k238) (fun _ => k238))
/-- the law behind its calls: F is the first operation as it was set, s the spoiled mark -/
theorem sm_tail {post : Int32 → St0 → Prop} {mc ms kc ks : Nat} {p1 p2 p4 g h s0 s D got : Int32} {op r n P : Nat} {a1 : Nat → Int32} (hp : post 1 ()) (ho : op ≤ 13) (hn : n < 256) (hr : r < 4)
    (hg : (op = 0 ∧ r = 0 ∧ n = 0) ∨ (p1 = nI r ∧ p2 = nI n))
    (hh : h = 0 ∧ s0 = 0 ∨ h = 1 ∧ s0 = 1) (hran : sm_ran op r n p4 s0 D a1 P s)
    (hb : p1 < 0 ∨ 4 ≤ p1 → got = -1) (hq : ∀ q, q < 4 → p1 = nI q → got = a1 (q * 3)) :
    wL_lawOf_124 post mc ms p1 p2 p4 g h D got (nI P) s g h (nI op) kc ks := by
  have hb' : p1 < 0 ∨ ¬ p1 ≤ 3 → got = -1 := by
    intro z
    by_cases a : p1 < 0
    · exact hb (Or.inl a)
    · obtain ⟨q, hq1, e⟩ := nI_of a
      subst e
      refine hb (Or.inr (nI_le (a := 4) (Nat.lt_of_not_le (fun y => ?_)) hq1))
      exact z.elim a (fun w => w (nI_le (b := 3) y (by decide)))
  have hz : a1 = sm_z → ¬ p1 < 0 → p1 ≤ 3 → got = 0 := by
    intro e a b
    obtain ⟨q, hq', e2⟩ := nI_of a
    subst e2
    have q3 : q ≤ 3 := (nI_leI hq' (by omega)).mp (show nI q ≤ nI 3 from b)
    rw [hq q (by omega) rfl, e]
    rfl
  have if0 : ∀ {x y : Int32}, (if (0 : Int32) = 0 then x else y) = x := if_pos rfl
  have if1 : ∀ {x y : Int32}, (if (1 : Int32) = 0 then x else y) = y := if_neg (by decide)
  rcases hran with ⟨hx, rfl, ha, rfl, rfl⟩ | ⟨rfl, rfl, ha, rfl, rfl⟩ | ⟨t, rfl, t1, t100, rfl, hc⟩
  · refine sm_tA hx (fun D A => sm_279 hp (by rw [if0]) hb' (fun a b => by rw [if0]; exact hz ha a b) (by rw [if0]; rfl) ?_)
    rcases hh with ⟨e1, e2⟩ | ⟨e1, e2⟩ <;> subst e1 <;> subst e2
    · rw [if0]
    · rw [if1, if0]
  · have k279 : ∀ F : Int32, wL_lawOf_279 post mc ms p1 p2 g h (nI 0) got (nI 0) s g h F 1 0 0 0 kc ks := by
      intro F
      refine sm_279 hp (by rw [if1]; rfl) hb' (fun a b => by rw [if0]; exact hz ha a b) (by rw [if1]; rfl) ?_
      rcases hh with ⟨e1, e2⟩ | ⟨e1, e2⟩ <;> subst e1 <;> subst e2
      · rw [if0]
      · rw [if1, if0]
    by_cases f : nI op = 9 ∨ nI op = 10
    · exact sm_tG (by decide) (by decide) f rfl (fun _ => sm_t0 (k279 _)) (fun _ => sm_t0 (k279 _))
    · exact sm_tN (by decide) (by decide) (fun z => f (Or.inl z)) (fun z => f (Or.inr z)) (sm_t0 (k279 _))
  · have a : ¬ nI t < 0 := nI_pos (by omega)
    have b : ¬ 100 < nI t := nI_nlt (b := t) (a := 100) t100 (by omega)
    have p : ¬ nI t < 1 := nI_nlt (a := t) (b := 1) t1 (by omega)
    have p0 : ¬ nI t ≤ 0 := nI_nle (by omega) (by omega)
    have sp : (0 : Int32) = if h = 0 then 0 else if (1 : Int32) = 0 then 1 else 0 := by
      rw [if1]
      by_cases z : h = 0
      · rw [if_pos z]
      · rw [if_neg z]
    have eF : ∀ k, k < 2 ^ 31 → (nI op = nI k ↔ op = k) := fun k hk => nI_eq (by omega) hk
    have e9 : nI op = 9 ↔ op = 9 := eF 9 (by omega)
    have e10 : nI op = 10 ↔ op = 10 := eF 10 (by omega)
    have e0 : nI op = 0 ↔ op = 0 := eF 0 (by omega)
    have e1 : nI op = 1 ↔ op = 1 := eF 1 (by omega)
    have due : ∀ {T : Int32}, op ≠ 0 → wL_lawOf_238 post mc ms p1 p2 (nI t) g h D got (nI P) 0 g h (nI op) 1 T 0 (nI (min t 2)) kc ks → wL_lawOf_196 post mc ms p1 p2 (nI t) g h D got (nI P) 0 g h (nI op) 1 T 0 kc ks := by
      intro T o0 K
      refine br_f (fun z => o0 (e0.mp z)) (br_t rfl (pk_le 2 t (fun z => ?_) (fun z => ?_)))
      · rw [show min t 2 = 2 by omega] at K; exact K
      · rw [show min t 2 = t by omega] at K; exact K
    rcases hc with ⟨o, rfl, ha, rfl⟩ | ⟨o, n0, rfl, ha, rfl⟩ | ⟨o, n0, rfl, ha, rfl⟩ | ⟨o, rfl, ha, rfl⟩ | ⟨o0, o1, o9, o10, rfl, ha, rfl⟩
    · refine sm_tN a b (fun z => absurd (e9.mp z) (by omega)) (fun z => absurd (e10.mp z) (by omega)) (br_t (e0.mpr o) (br_f p0 (sm_t238 p p0 (Or.inl ⟨Or.inl (e0.mpr o), rfl⟩) (sm_279 hp (by rw [if1]; rfl) hb' (fun u v => ?_) (by rw [if1]; rfl) sp))))
      rw [if1, if_neg (fun z => absurd (e1.mp z) (by omega))]
      exact hz ha u v
    · have hg2 : p1 = nI r ∧ p2 = nI n := hg.resolve_left (fun z => absurd z.1 (by omega))
      have eT : p2 - p2 / 32 * 32 = nI 0 := by
        rw [hg2.2, ← n0]
        exact pk_rem (by omega) (show 0 < 32 by omega) (show 32 < 2 ^ 31 by omega)
      refine sm_tG a b (o.elim (fun z => Or.inl (e9.mpr z)) (fun z => Or.inr (e10.mpr z))) eT (fun _ => br_f (fun z => absurd (e0.mp z) (by omega)) (br_f (by decide) (sm_t238 p p0 (Or.inl ⟨Or.inr (by decide), rfl⟩) (sm_279 hp (by rw [if1]) hb' (fun u v => ?_) (by rw [if1]; rfl) sp)))) (fun z => absurd rfl z)
      rw [if1, if_neg (fun z => absurd (e1.mp z) (by omega))]
      exact hz ha u v
    · have hg2 : p1 = nI r ∧ p2 = nI n := hg.resolve_left (fun z => absurd z.1 (by omega))
      have eT : p2 - p2 / 32 * 32 = nI (n % 32) := by
        rw [hg2.2]
        exact pk_rem (by omega) (show 0 < 32 by omega) (show 32 < 2 ^ 31 by omega)
      have nz : ¬ nI (n % 32) = 0 := nI_ne0 (by omega) (by omega)
      refine sm_tG a b (o.elim (fun z => Or.inl (e9.mpr z)) (fun z => Or.inr (e10.mpr z))) eT (fun z => absurd z nz) (fun _ => due (by omega) (sm_t238 p p0 (Or.inr ⟨⟨fun z => absurd (e0.mp z) (by omega), rfl⟩, rfl⟩) (sm_279 hp (by rw [if1]) hb' (fun u v => ?_) (by rw [if1]) sp)))
      rw [if1, if_neg (fun z => absurd (e1.mp z) (by omega))]
      exact hz ha u v
    · have hg2 : p1 = nI r ∧ p2 = nI n := hg.resolve_left (fun z => absurd z.1 (by omega))
      refine sm_tN a b (fun z => absurd (e9.mp z) (by omega)) (fun z => absurd (e10.mp z) (by omega)) (due (by omega) (sm_t238 p p0 (Or.inr ⟨⟨fun z => absurd (e0.mp z) (by omega), rfl⟩, rfl⟩) (sm_279 hp (by rw [if1]) hb' (fun u v => ?_) (by rw [if1]; rfl) sp)))
      rw [if1, if_pos (e1.mpr o), hq r hr hg2.1, ha, hg2.2, sm_w3_at, if_pos (Or.inl rfl)]
    · refine sm_tN a b (fun z => absurd (e9.mp z) o9) (fun z => absurd (e10.mp z) o10) (due o0 (sm_t238 p p0 (Or.inr ⟨⟨fun z => absurd (e0.mp z) o0, rfl⟩, rfl⟩) (sm_279 hp (by rw [if1]) hb' (fun u v => ?_) (by rw [if1]; rfl) sp)))
      rw [if1, if_neg (fun z => absurd (e1.mp z) o1)]
      exact hz ha u v
end
section
/-! the whole -/
theorem sm_pl {post : Int32 → Prop} {pH wH sD st oC : Int32} {a1 a2 a3 a4 a5 a6 a7 a8 : Nat → Int32} {v : Int32} (h0 : a2 0 = v) (h1 : a2 1 = v) (h2 : a2 2 = v) (h : post v) : wpX_place post (pH, wH, sD, st, oC, a1, a2, a3, a4, a5, a6, a7, a8) := sm_vt (post := fun r => post r) h0 h1 h2 h
theorem sm_reg2 {post : Int32 → Prop} {pH wH sD st oC : Int32} {a1 a2 a3 a4 a5 a6 a7 a8 : Nat → Int32} {p1 : Int32} (ok : sm_ok a1) (h : ∀ got : Int32, (p1 < 0 ∨ 4 ≤ p1 → got = -1) → (∀ q, q < 4 → p1 = nI q → got = a1 (q * 3)) → post got) : wpX_register post (pH, wH, sD, st, oC, a1, a2, a3, a4, a5, a6, a7, a8) p1 := by
  have no : ∀ q, q < 4 → p1 = nI q → p1 < 0 ∨ 4 ≤ p1 → False := by
    intro q q4 e z
    subst e
    exact z.elim (nI_pos (by omega)) (nI_ge (b := 4) q4 (by omega))
  refine sm_reg ok (fun z => h (-1) (fun _ => rfl) (fun q q4 e => (no q q4 e z).elim)) (fun q q4 e => h _ (fun z => (no q q4 e z).elim) (fun q' q4' e' => ?_))
  rw [(nI_eq (by omega) (by omega)).mp (e.symm.trans e')]
theorem sm_ran_s {op r n P : Nat} {p4 s0 D s : Int32} {a1 : Nat → Int32} (h : sm_ran op r n p4 s0 D a1 P s) (h0 : s0 = 0 ∨ s0 = 1) : s = 0 ∨ s = 1 := by
  rcases h with ⟨_, _, _, _, e⟩ | ⟨_, _, _, _, e⟩ | ⟨_, _, _, _, e, _⟩
  · rw [e]; exact h0
  · rw [e]; exact h0
  · exact Or.inl e
theorem sm_lawOf {post : Int32 → St0 → Prop} (hp : post 1 ()) (p0 p1 p2 p3 p4 : Int32) : wpL_lawOf post 70 1104 () p0 p1 p2 p3 p4 := by
  refine ⟨by decide, by decide, 8, 137, by decide, by decide, sm_init ?_⟩
  have hbit : ∀ v b : Nat, b < 22 → sm_e v ^^^ 2 ^ b < 2 ^ 31 := fun v b hb => Nat.lt_trans (Nat.xor_lt_two_pow (sm_e_lt v) (Nat.pow_lt_pow_right (by omega) hb)) (by decide)
  have hbit0 : ∀ v : Nat, sm_e v < 2 ^ 31 := fun v => Nat.lt_trans (sm_e_lt v) (by decide)
  have nh : p3 < 0 ∨ ¬ p3 < 22 → ¬ p3 < 0 → ¬ 21 < p3 → False := by
    intro z a b
    obtain ⟨j, hj, e⟩ := nI_of a
    subst e
    refine z.elim a (fun y => y (nI_lt (b := 22) (Nat.lt_of_not_le (fun w => b (nI_lt (a := 21) w hj))) (by omega)))
  by_cases G : ¬ p0 < 0 ∧ ¬ 13 < p0 ∧ ¬ p1 < 0 ∧ ¬ 4 ≤ p1 ∧ ¬ p2 < 0 ∧ p2 ≤ 255
  · obtain ⟨a, b, c, d, e, f⟩ := G
    obtain ⟨op, ho, e0⟩ := nI_of a
    obtain ⟨r, hr, e1⟩ := nI_of c
    obtain ⟨n, hn, e2⟩ := nI_of e
    subst e0 e1 e2
    have ho13 : op ≤ 13 := Nat.le_of_not_lt (fun z => b (nI_lt (a := 13) z ho))
    have hr4 : r < 4 := Nat.lt_of_not_le (fun z => d (nI_le z hr))
    have hn255 : n < 256 := Nat.lt_succ_of_le ((nI_leI hn (by omega)).mp (show nI n ≤ nI 255 from f))
    have d' : ¬ 3 < nI r := nI_nlt (a := 3) (by omega) (by omega)
    have f' : ¬ 255 < nI n := nI_nlt (a := 255) (by omega) (by omega)
    refine sm_set_g ho13 hr4 hn255 (sm_hit (fun j hj ej => ?_) (fun z => ?_))
    · subst ej
      exact sm_run ho13 hr4 hn255 (hbit _ j hj) (sm_cor_hit _ j hj) (fun D s P sD st oC a1 a2 a5 a7 a8 b0 b1 b2 ok hran => sm_reg2 ok (fun got g1 g2 => sm_pl b0 b1 b2 (sm_spo (sm_ran_s hran (Or.inr rfl)) (br_f a (br_f b (br_f c (br_f d' (br_f e (br_f f'
        (br_f (nI_pos (by omega)) (br_f (nI_nlt (a := 21) (by omega) (by omega)) (br_f (by decide) (sm_tail hp ho13 hn255 hr4 (Or.inr ⟨rfl, rfl⟩) (Or.inr ⟨rfl, rfl⟩) hran g1 g2)))))))))))))
    · exact sm_run ho13 hr4 hn255 (hbit0 _) (sm_cor_e _) (fun D s P sD st oC a1 a2 a5 a7 a8 b0 b1 b2 ok hran => sm_reg2 ok (fun got g1 g2 => sm_pl b0 b1 b2 (sm_spo (sm_ran_s hran (Or.inl rfl)) (br_f a (br_f b (br_f c (br_f d' (br_f e (br_f f'
        (br_c (fun _ => br_f (by decide) (sm_tail hp ho13 hn255 hr4 (Or.inr ⟨rfl, rfl⟩) (Or.inl ⟨rfl, rfl⟩) hran g1 g2)) (fun x => br_c (fun _ => br_f (by decide) (sm_tail hp ho13 hn255 hr4 (Or.inr ⟨rfl, rfl⟩) (Or.inl ⟨rfl, rfl⟩) hran g1 g2)) (fun y => (nh z x y).elim))))))))))))
  · have hd : ∀ {X Y : Prop}, X → (p0 < 0 → X) ∧ (¬ p0 < 0 → ((13 < p0 → X) ∧ (¬ 13 < p0 → ((p1 < 0 → X) ∧ (¬ p1 < 0 → ((3 < p1 → X) ∧ (¬ 3 < p1 → ((p2 < 0 → X) ∧ (¬ p2 < 0 → ((255 < p2 → X) ∧ (¬ 255 < p2 → Y))))))))))) := by
      intro X Y x
      refine br_c (fun _ => x) (fun a => br_c (fun _ => x) (fun b => br_c (fun _ => x) (fun c => br_c (fun _ => x) (fun d => br_c (fun _ => x) (fun e => br_c (fun _ => x) (fun f => ?_))))))
      refine absurd ⟨a, b, c, ?_, e, ?_⟩ G
      · intro z
        obtain ⟨r, hr, e1⟩ := nI_of c
        subst e1
        exact d (nI_lt (a := 3) ((nI_leI (a := 4) (by omega) hr).mp z) hr)
      · obtain ⟨n, hn, e2⟩ := nI_of e
        subst e2
        exact nI_le (b := 255) (Nat.le_of_not_lt (fun w => f (nI_lt (a := 255) w hn))) (by omega)
    refine sm_set_b G (sm_hit (fun j hj ej => ?_) (fun z => ?_))
    · subst ej
      exact sm_run (op := 0) (r := 0) (n := 0) (by omega) (by omega) (by omega) (hbit _ j hj) (sm_cor_hit _ j hj) (fun D s P sD st oC a1 a2 a5 a7 a8 b0 b1 b2 ok hran => sm_reg2 ok (fun got g1 g2 => sm_pl b0 b1 b2 (sm_spo (sm_ran_s hran (Or.inr rfl)) (hd
        (br_f (nI_pos (by omega)) (br_f (nI_nlt (a := 21) (by omega) (by omega)) (br_t rfl (sm_tail (op := 0) (r := 0) (n := 0) hp (by omega) (by omega) (by omega) (Or.inl ⟨rfl, rfl, rfl⟩) (Or.inr ⟨rfl, rfl⟩) hran g1 g2))))))))
    · exact sm_run (op := 0) (r := 0) (n := 0) (by omega) (by omega) (by omega) (hbit0 _) (sm_cor_e _) (fun D s P sD st oC a1 a2 a5 a7 a8 b0 b1 b2 ok hran => sm_reg2 ok (fun got g1 g2 => sm_pl b0 b1 b2 (sm_spo (sm_ran_s hran (Or.inl rfl)) (hd
        (br_c (fun _ => br_t rfl (sm_tail (op := 0) (r := 0) (n := 0) hp (by omega) (by omega) (by omega) (Or.inl ⟨rfl, rfl, rfl⟩) (Or.inl ⟨rfl, rfl⟩) hran g1 g2)) (fun x => br_c (fun _ => br_t rfl (sm_tail (op := 0) (r := 0) (n := 0) hp (by omega) (by omega) (by omega) (Or.inl ⟨rfl, rfl, rfl⟩) (Or.inl ⟨rfl, rfl⟩) hran g1 g2)) (fun y => (nh z x y).elim)))))))
theorem sm_cell {post : Int32 → Prop} {L : Nat} {xs : Nat → Int32} (hL : L ≤ 5) (k : Nat) (hk : k < 5) (h : ∀ r : Int32, post r) : wpL_cellAt post L xs () (nI k) :=
  pk_le L k (fun _ => h _) (fun z => ⟨pk_in k L z, h _⟩)
end
section
theorem i_vc (xs : Nat → Int32) (L : Nat) (hL : L ≤ 5) : wpL_law (fun r => r = 1) L xs :=
  sm_cell hL 0 (by omega) (fun r_1 => sm_cell hL 1 (by omega) (fun r_2 => sm_cell hL 2 (by omega) (fun r_3 => sm_cell hL 3 (by omega) (fun r_4 => sm_cell hL 4 (by omega) (fun r_5 =>
    ⟨70, 1104, by decide, by decide, sm_lawOf (post := fun r_6 _ => r_6 = 1) rfl r_1 r_2 r_3 r_4 r_5⟩)))))
end
