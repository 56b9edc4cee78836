section
/-! ===== sums of naturals ===== -/
def qc_sm : Nat → (Nat → Nat) → Nat
  | 0, _ => 0
  | n + 1, f => qc_sm n f + f n
theorem qc_sm_c {f g : Nat → Nat} : ∀ {n : Nat}, (∀ i, i < n → f i = g i) → qc_sm n f = qc_sm n g
  | 0, _ => rfl
  | n + 1, h => by
    show qc_sm n f + f n = qc_sm n g + g n
    rw [qc_sm_c (n := n) (fun i hi => h i (by omega)), h n (by omega)]
theorem qc_sm_0 {f : Nat → Nat} : ∀ {n : Nat}, (∀ i, i < n → f i = 0) → qc_sm n f = 0
  | 0, _ => rfl
  | n + 1, h => by
    show qc_sm n f + f n = 0
    rw [qc_sm_0 (n := n) (fun i hi => h i (by omega)), h n (by omega)]
theorem qc_sm_z {f : Nat → Nat} : ∀ {n : Nat}, qc_sm n f = 0 → ∀ i, i < n → f i = 0
  | 0, _, i, hi => absurd hi (by omega)
  | n + 1, h, i, hi => by
    have h' : qc_sm n f + f n = 0 := h
    by_cases e : i = n
    · subst e; omega
    · exact qc_sm_z (n := n) (by omega) i (by omega)
theorem qc_sm_a {f g : Nat → Nat} : ∀ n, qc_sm n (fun i => f i + g i) = qc_sm n f + qc_sm n g
  | 0 => rfl
  | n + 1 => by
    show qc_sm n (fun i => f i + g i) + (f n + g n) = (qc_sm n f + f n) + (qc_sm n g + g n)
    rw [qc_sm_a n]; omega
theorem qc_sm_u {f g : Nat → Nat} {k : Nat} : ∀ {n : Nat}, k < n → (∀ i, i < n → i ≠ k → g i = f i) → qc_sm n g + f k = qc_sm n f + g k
  | 0, hk, _ => absurd hk (by omega)
  | n + 1, hk, h => by
    show (qc_sm n g + g n) + f k = (qc_sm n f + f n) + g k
    by_cases e : k = n
    · subst e
      rw [qc_sm_c (n := k) (f := g) (g := f) (fun i hi => h i (by omega) (by omega))]; omega
    · have t := qc_sm_u (n := n) (f := f) (g := g) (k := k) (by omega) (fun i hi hk => h i (by omega) hk)
      have t2 := h n (by omega) (by omega)
      omega
theorem qc_sm_b {f : Nat → Nat} {B : Nat} : ∀ {n : Nat}, (∀ i, i < n → f i ≤ B) → qc_sm n f ≤ n * B
  | 0, _ => Nat.zero_le _
  | n + 1, h => by
    show qc_sm n f + f n ≤ (n + 1) * B
    have t := qc_sm_b (n := n) (f := f) (B := B) (fun i hi => h i (by omega))
    have t2 := h n (by omega)
    rw [Nat.succ_mul]
    omega
theorem qc_tri (g : Nat → Nat → Nat) : ∀ n, qc_sm n (fun u => qc_sm n (fun v => g u v)) = qc_sm n (fun v => g v v + qc_sm v (fun u => g u v + g v u))
  | 0 => rfl
  | n + 1 => by
    show qc_sm n (fun u => qc_sm n (fun v => g u v) + g u n) + (qc_sm n (fun v => g n v) + g n n) = qc_sm n (fun v => g v v + qc_sm v (fun u => g u v + g v u)) + (g n n + qc_sm n (fun u => g u n + g n u))
    rw [qc_sm_a (f := fun u => qc_sm n (fun v => g u v)) (g := fun u => g u n) n, qc_sm_a (f := fun u => g u n) (g := fun u => g n u) n, qc_tri g n]
    omega
/-! ===== cuts ===== -/
def qc_t (R : Nat → Nat → Nat) (S : Nat → Bool) (u v : Nat) : Nat := if S u = true ∧ S v = false then R u v else 0
def qc_cut (R : Nat → Nat → Nat) (S : Nat → Bool) : Nat := qc_sm 9 (fun u => qc_sm 9 (fun v => qc_t R S u v))
def qc_u2 (R : Nat → Nat → Nat) (a b x : Nat) : Nat → Nat → Nat := fun u v => if u = a ∧ v = b then x else R u v
theorem qc_u2s {R : Nat → Nat → Nat} {a b x : Nat} : qc_u2 R a b x a b = x := if_pos ⟨rfl, rfl⟩
theorem qc_u2n {R : Nat → Nat → Nat} {a b x u v : Nat} (h : ¬ (u = a ∧ v = b)) : qc_u2 R a b x u v = R u v := if_neg h
theorem qc_cut_u {R : Nat → Nat → Nat} {S : Nat → Bool} {a b x : Nat} (ha : a < 9) (hb : b < 9) : qc_cut (qc_u2 R a b x) S + qc_t R S a b = qc_cut R S + qc_t (qc_u2 R a b x) S a b := by
  have h1 : qc_cut (qc_u2 R a b x) S + qc_sm 9 (fun v => qc_t R S a v) = qc_cut R S + qc_sm 9 (fun v => qc_t (qc_u2 R a b x) S a v) :=
    qc_sm_u (f := fun u => qc_sm 9 (fun v => qc_t R S u v)) (g := fun u => qc_sm 9 (fun v => qc_t (qc_u2 R a b x) S u v)) (k := a) ha (fun u _ hu => qc_sm_c (fun v _ => by
      show qc_t (qc_u2 R a b x) S u v = qc_t R S u v
      unfold qc_t
      rw [qc_u2n (fun z => hu z.1)]))
  have h2 : qc_sm 9 (fun v => qc_t (qc_u2 R a b x) S a v) + qc_t R S a b = qc_sm 9 (fun v => qc_t R S a v) + qc_t (qc_u2 R a b x) S a b :=
    qc_sm_u (f := fun v => qc_t R S a v) (g := fun v => qc_t (qc_u2 R a b x) S a v) (k := b) hb (fun v _ hv => by
      show qc_t (qc_u2 R a b x) S a v = qc_t R S a v
      unfold qc_t
      rw [qc_u2n (fun z => hv z.2)])
  omega
theorem qc_cut0 {R : Nat → Nat → Nat} {S : Nat → Bool} (h : ∀ u v, u < 9 → v < 9 → S u = true → S v = false → R u v = 0) : qc_cut R S = 0 :=
  qc_sm_0 (fun u hu => qc_sm_0 (fun v hv => by
    show qc_t R S u v = 0
    unfold qc_t
    by_cases e : S u = true ∧ S v = false
    · rw [if_pos e]; exact h u v hu hv e.1 e.2
    · rw [if_neg e]))
theorem qc_cutz {R : Nat → Nat → Nat} {S : Nat → Bool} (h : qc_cut R S = 0) {u v : Nat} (hu : u < 9) (hv : v < 9) (h1 : S u = true) (h2 : S v = false) : R u v = 0 := by
  have t : qc_t R S u v = 0 := qc_sm_z (qc_sm_z h u hu) v hv
  unfold qc_t at t
  rwa [if_pos ⟨h1, h2⟩] at t
/-! ===== one edge, one way ===== -/
def qc_st (R : Nat → Nat → Nat) (a b m : Nat) : Nat → Nat → Nat := qc_u2 (qc_u2 R a b (R a b - m)) b a (qc_u2 R a b (R a b - m) b a + m)
theorem qc_st_ab {R : Nat → Nat → Nat} {a b m : Nat} (h : a ≠ b) : qc_st R a b m a b = R a b - m := by
  unfold qc_st
  rw [qc_u2n (fun z => h z.1), qc_u2s]
theorem qc_st_ba {R : Nat → Nat → Nat} {a b m : Nat} (h : a ≠ b) : qc_st R a b m b a = R b a + m := by
  unfold qc_st
  rw [qc_u2s, qc_u2n (fun z => h z.2)]
theorem qc_st_o {R : Nat → Nat → Nat} {a b m u v : Nat} (h1 : ¬ (u = a ∧ v = b)) (h2 : ¬ (u = b ∧ v = a)) : qc_st R a b m u v = R u v := by
  unfold qc_st
  rw [qc_u2n h2, qc_u2n h1]
theorem qc_st_sum {R : Nat → Nat → Nat} {a b m : Nat} (h : a ≠ b) (hm : m ≤ R a b) (u v : Nat) : qc_st R a b m u v + qc_st R a b m v u = R u v + R v u := by
  by_cases e1 : u = a ∧ v = b
  · obtain ⟨e1, e2⟩ := e1
    subst e1 e2
    rw [qc_st_ab h, qc_st_ba h]; omega
  · by_cases e2 : u = b ∧ v = a
    · obtain ⟨e1, e2⟩ := e2
      subst e1 e2
      rw [qc_st_ab h, qc_st_ba h]; omega
    · rw [qc_st_o e1 e2, qc_st_o (fun z => e2 ⟨z.2, z.1⟩) (fun z => e1 ⟨z.2, z.1⟩)]
theorem qc_st_cut {R : Nat → Nat → Nat} {a b m : Nat} (h : a ≠ b) (ha : a < 9) (hb : b < 9) (hm : m ≤ R a b) (S : Nat → Bool) : qc_cut (qc_st R a b m) S + (if S a = true then m else 0) = qc_cut R S + (if S b = true then m else 0) := by
  have h1 := qc_cut_u (R := R) (S := S) (x := R a b - m) ha hb
  have h2 := qc_cut_u (R := qc_u2 R a b (R a b - m)) (S := S) (x := qc_u2 R a b (R a b - m) b a + m) hb ha
  have e1 : qc_u2 R a b (R a b - m) b a = R b a := qc_u2n (fun z => h z.2)
  unfold qc_st
  generalize qc_cut (qc_u2 (qc_u2 R a b (R a b - m)) b a (qc_u2 R a b (R a b - m) b a + m)) S = X at h2 ⊢
  generalize qc_cut (qc_u2 R a b (R a b - m)) S = Y at h1 h2
  unfold qc_t at h1 h2
  rw [qc_u2s] at h1
  rw [qc_u2s, e1] at h2
  cases ea : S a <;> cases eb : S b <;> simp [ea, eb] at h1 h2 ⊢ <;> omega
def qc_ps (R : Nat → Nat → Nat) (p : Nat → Nat) (m : Nat) : Nat → Nat → Nat → Nat
  | 0 => R
  | k + 1 => qc_st (qc_ps R p m k) (p (k + 1)) (p k) m
def qc_way (R : Nat → Nat → Nat) (p : Nat → Nat) (d : Nat) : Prop := d ≤ 8 ∧ p 0 = 8 ∧ p d = 7 ∧ (∀ k, k ≤ d → p k < 9) ∧ (∀ j k, j < k → k ≤ d → p j ≠ p k) ∧ (∀ k, k < d → 0 < R (p (k + 1)) (p k))
theorem qc_ps_k {R : Nat → Nat → Nat} {p : Nat → Nat} {d m : Nat} (hp : ∀ j k, j < k → k ≤ d → p j ≠ p k) : ∀ k j, k ≤ j → j < d → qc_ps R p m k (p (j + 1)) (p j) = R (p (j + 1)) (p j)
  | 0, _, _, _ => rfl
  | k + 1, j, hk, hj => by
    show qc_st (qc_ps R p m k) (p (k + 1)) (p k) m (p (j + 1)) (p j) = _
    rw [qc_st_o (fun z => hp k j (by omega) (by omega) z.2.symm) (fun z => hp k (j + 1) (by omega) (by omega) z.1.symm)]
    exact qc_ps_k hp k j (by omega) hj
theorem qc_ps_cut {R : Nat → Nat → Nat} {p : Nat → Nat} {d m : Nat} (h : qc_way R p d) (hm : ∀ k, k < d → m ≤ R (p (k + 1)) (p k)) (S : Nat → Bool) : ∀ k, k ≤ d → qc_cut (qc_ps R p m k) S + (if S (p k) = true then m else 0) = qc_cut R S + (if S (p 0) = true then m else 0)
  | 0, _ => rfl
  | k + 1, hk => by
    have ih := qc_ps_cut h hm S k (by omega)
    have t := qc_st_cut (R := qc_ps R p m k) (a := p (k + 1)) (b := p k) (m := m) (fun z => h.2.2.2.2.1 k (k + 1) (by omega) hk z.symm) (h.2.2.2.1 _ hk) (h.2.2.2.1 _ (by omega)) (by rw [qc_ps_k h.2.2.2.2.1 k k (by omega) (by omega)]; exact hm k (by omega)) S
    show qc_cut (qc_st (qc_ps R p m k) (p (k + 1)) (p k) m) S + _ = _
    rw [t]
    exact ih
theorem qc_ps_sum {R : Nat → Nat → Nat} {p : Nat → Nat} {d m : Nat} (h : qc_way R p d) (hm : ∀ k, k < d → m ≤ R (p (k + 1)) (p k)) : ∀ k, k ≤ d → ∀ u v, qc_ps R p m k u v + qc_ps R p m k v u = R u v + R v u
  | 0, _, _, _ => rfl
  | k + 1, hk, u, v => by
    have ih := qc_ps_sum h hm k (by omega) u v
    have t := qc_st_sum (R := qc_ps R p m k) (a := p (k + 1)) (b := p k) (m := m) (fun z => h.2.2.2.2.1 k (k + 1) (by omega) hk z.symm) (by rw [qc_ps_k h.2.2.2.2.1 k k (by omega) (by omega)]; exact hm k (by omega)) u v
    show qc_st (qc_ps R p m k) (p (k + 1)) (p k) m u v + qc_st (qc_ps R p m k) (p (k + 1)) (p k) m v u = _
    rw [t]
    exact ih
/-! ===== flows: what is left, cut by cut ===== -/
def qc_val (S : Nat → Bool) : Prop := S 7 = true ∧ S 8 = false
def qc_inv (C R : Nat → Nat → Nat) (F : Nat) : Prop := (∀ S, qc_val S → qc_cut R S + F = qc_cut C S) ∧ (∀ u v, R u v + R v u = C u v + C v u)
theorem qc_inv_0 (C : Nat → Nat → Nat) : qc_inv C C 0 := ⟨fun _ _ => rfl, fun _ _ => rfl⟩
theorem qc_inv_p {C R : Nat → Nat → Nat} {p : Nat → Nat} {F d m : Nat} (h : qc_inv C R F) (hw : qc_way R p d) (hm : ∀ k, k < d → m ≤ R (p (k + 1)) (p k)) : qc_inv C (qc_ps R p m d) (F + m) := by
  refine ⟨fun S hS => ?_, fun u v => ?_⟩
  · have t := qc_ps_cut hw hm S d (Nat.le_refl d)
    rw [hw.2.1, hw.2.2.1, hS.1, hS.2, if_pos rfl, if_neg Bool.false_ne_true] at t
    have t2 := h.1 S hS
    omega
  · rw [qc_ps_sum hw hm d (Nat.le_refl d) u v]
    exact h.2 u v
/-! ===== the capacities, and the cost of a set ===== -/
def qc_C (cap : Nat → Nat → Nat) (src snk : Nat → Nat) (u v : Nat) : Nat := if u < 7 ∧ v < 7 then cap u v else if u = 7 ∧ v < 7 then src v else if u < 7 ∧ v = 8 then snk u else 0
def qc_cost (cap : Nat → Nat → Nat) (src snk : Nat → Nat) (S : Nat → Bool) : Nat := qc_sm 7 (fun v => (if S v = true then snk v else src v) + qc_sm v (fun u => if S u = S v then 0 else cap u v))
theorem qc_cut_cost {cap : Nat → Nat → Nat} {src snk : Nat → Nat} {S : Nat → Bool} (hs : ∀ u v, cap u v = cap v u) (hS : qc_val S) : qc_cut (qc_C cap src snk) S = qc_cost cap src snk S := by
  have e0 : ∀ u, u < 7 → ∀ v, v < 7 → qc_t (qc_C cap src snk) S u v = if S u = true ∧ S v = false then cap u v else 0 := by
    intro u hu v hv
    unfold qc_t qc_C
    rw [if_pos (show u < 7 ∧ v < 7 from ⟨hu, hv⟩)]
  have e1 : ∀ u, u < 7 → qc_sm 9 (fun v => qc_t (qc_C cap src snk) S u v) = qc_sm 7 (fun v => if S u = true ∧ S v = false then cap u v else 0) + (if S u = true then snk u else 0) := by
    intro u hu
    show (qc_sm 7 (fun v => qc_t (qc_C cap src snk) S u v) + qc_t (qc_C cap src snk) S u 7) + qc_t (qc_C cap src snk) S u 8 = _
    rw [qc_sm_c (e0 u hu)]
    have t1 : qc_t (qc_C cap src snk) S u 7 = 0 := by
      unfold qc_t
      rw [if_neg (fun z => by rw [hS.1] at z; exact absurd z.2 (by decide))]
    have t2 : qc_t (qc_C cap src snk) S u 8 = if S u = true then snk u else 0 := by
      unfold qc_t qc_C
      rw [if_neg (show ¬ (u < 7 ∧ 8 < 7) from fun z => by omega), if_neg (show ¬ (u = 7 ∧ 8 < 7) from fun z => by omega), if_pos (show u < 7 ∧ 8 = 8 from ⟨hu, rfl⟩), hS.2]
      by_cases e : S u = true
      · rw [if_pos ⟨e, rfl⟩, if_pos e]
      · rw [if_neg (fun z => e z.1), if_neg e]
    rw [t1, t2, Nat.add_zero]
  have e2 : qc_sm 9 (fun v => qc_t (qc_C cap src snk) S 7 v) = qc_sm 7 (fun v => if S v = true then 0 else src v) := by
    show (qc_sm 7 (fun v => qc_t (qc_C cap src snk) S 7 v) + qc_t (qc_C cap src snk) S 7 7) + qc_t (qc_C cap src snk) S 7 8 = _
    have t1 : qc_t (qc_C cap src snk) S 7 7 = 0 := by
      unfold qc_t
      rw [if_neg (fun z => by rw [hS.1] at z; exact absurd z.2 (by decide))]
    have t2 : qc_t (qc_C cap src snk) S 7 8 = 0 := by
      unfold qc_t qc_C
      simp
    rw [t1, t2, Nat.add_zero]
    refine qc_sm_c (fun v hv => ?_)
    unfold qc_t qc_C
    rw [if_neg (show ¬ (7 < 7 ∧ v < 7) from fun z => by omega), if_pos (show 7 = 7 ∧ v < 7 from ⟨rfl, hv⟩), hS.1]
    cases S v <;> simp
  have e3 : qc_sm 9 (fun v => qc_t (qc_C cap src snk) S 8 v) = 0 := qc_sm_0 (fun v _ => by
    show qc_t (qc_C cap src snk) S 8 v = 0
    unfold qc_t
    rw [if_neg (fun z => by rw [hS.2] at z; exact absurd z.1 (by decide))])
  have e4 : qc_cut (qc_C cap src snk) S = qc_sm 7 (fun u => qc_sm 7 (fun v => if S u = true ∧ S v = false then cap u v else 0) + (if S u = true then snk u else 0)) + qc_sm 7 (fun v => if S v = true then 0 else src v) := by
    show (qc_sm 7 (fun u => qc_sm 9 (fun v => qc_t (qc_C cap src snk) S u v)) + qc_sm 9 (fun v => qc_t (qc_C cap src snk) S 7 v)) + qc_sm 9 (fun v => qc_t (qc_C cap src snk) S 8 v) = _
    rw [qc_sm_c e1, e2, e3, Nat.add_zero]
  rw [e4, qc_sm_a (f := fun u => qc_sm 7 (fun v => if S u = true ∧ S v = false then cap u v else 0)) (g := fun u => if S u = true then snk u else 0) 7, qc_tri (fun u v => if S u = true ∧ S v = false then cap u v else 0) 7, ← qc_sm_a, ← qc_sm_a]
  unfold qc_cost
  refine qc_sm_c (fun v hv => ?_)
  have t : qc_sm v (fun u => (if S u = true ∧ S v = false then cap u v else 0) + (if S v = true ∧ S u = false then cap v u else 0)) = qc_sm v (fun u => if S u = S v then 0 else cap u v) := qc_sm_c (fun u _ => by
    show (if S u = true ∧ S v = false then cap u v else 0) + (if S v = true ∧ S u = false then cap v u else 0) = _
    rw [hs v u]
    cases S u <;> cases S v <;> simp)
  show (((if S v = true ∧ S v = false then cap v v else 0) + qc_sm v (fun u => (if S u = true ∧ S v = false then cap u v else 0) + (if S v = true ∧ S u = false then cap v u else 0))) + (if S v = true then snk v else 0)) + (if S v = true then 0 else src v) = _
  rw [t]
  cases S v <;> simp <;> omega
end
section
/-! ===== naturals as sets of bits, under Int32 ===== -/
theorem qc_s31 : ∀ n, n < 32 → ((nI n &&& 31).toBitVec.smod 32).toNat = n := by decide +kernel
theorem qc_or (a b : Nat) : nI a ||| nI b = nI (a ||| b) := by
  apply Int32.toBitVec_inj.1
  show BitVec.ofNat 32 a ||| BitVec.ofNat 32 b = BitVec.ofNat 32 (a ||| b)
  apply BitVec.eq_of_getLsbD_eq
  intro i hi
  simp [hi]
theorem qc_and (a b : Nat) : nI a &&& nI b = nI (a &&& b) := by
  apply Int32.toBitVec_inj.1
  show BitVec.ofNat 32 a &&& BitVec.ofNat 32 b = BitVec.ofNat 32 (a &&& b)
  apply BitVec.eq_of_getLsbD_eq
  intro i hi
  simp [hi]
theorem qc_one : ∀ j, j < 31 → (1 : Int32) <<< (nI j &&& 31) = nI (2 ^ j) := by decide +kernel
theorem qc_sb {m j : Nat} (hm : m < 2 ^ 31) (hj : j < 32) : (nI m >>> (nI j &&& 31)) &&& 1 = nI (m.testBit j).toNat := by
  have h2 : m / 2 ^ j < 2 ^ 32 := Nat.lt_of_le_of_lt (Nat.div_le_self _ _) (by omega)
  rw [pk_shrN hm (nI j &&& 31) j (qc_s31 j hj), pk_andN h2 1 (by decide), Nat.toNat_testBit, Nat.pow_one]
theorem qc_sb1 {m j : Nat} (hm : m < 2 ^ 31) (hj : j < 32) : ((nI m >>> (nI j &&& 31)) &&& 1 = 1) ↔ m.testBit j = true := by
  rw [qc_sb hm hj]
  cases m.testBit j <;> decide
theorem qc_sb0 {m j : Nat} (hm : m < 2 ^ 31) (hj : j < 32) : ((nI m >>> (nI j &&& 31)) &&& 1 = 0) ↔ m.testBit j = false := by
  rw [qc_sb hm hj]
  cases m.testBit j <;> decide
theorem qc_sbe {m i j : Nat} (hm : m < 2 ^ 31) (hi : i < 32) (hj : j < 32) : ((nI m >>> (nI i &&& 31)) &&& 1 = (nI m >>> (nI j &&& 31)) &&& 1) ↔ m.testBit i = m.testBit j := by
  rw [qc_sb hm hi, qc_sb hm hj]
  cases m.testBit i <;> cases m.testBit j <;> decide
theorem qc_in {post : Int32 → Prop} {m j : Nat} (hm : m < 2 ^ 31) (hj : j < 32) (h1 : m.testBit j = true → post 1) (h0 : m.testBit j = false → post 0) : wpX_in post () (nI m) (nI j) :=
  ek_if (qc_sb1 hm hj) h1 (fun z => h0 (by cases e : m.testBit j <;> simp_all))
theorem qc_tn {b : Bool} (h : ¬ b = true) : b = false := by cases b <;> simp_all
theorem qc_tt {b : Bool} (h : ¬ b = false) : b = true := by cases b <;> simp_all
/-- a set of nodes below k, and one more -/
theorem qc_tbo {m v j : Nat} : (m ||| 2 ^ v).testBit j = (m.testBit j || decide (v = j)) := by
  rw [Nat.testBit_or, Nat.testBit_two_pow]
theorem qc_lt512 {m v : Nat} (hm : m < 512) (hv : v < 9) : m ||| 2 ^ v < 512 :=
  Nat.or_lt_two_pow (n := 9) hm (Nat.pow_lt_pow_right (by decide) hv)
theorem qc_lt128 {m v : Nat} (hm : m < 128) (hv : v < 7) : m ||| 2 ^ v < 128 :=
  Nat.or_lt_two_pow (n := 7) hm (Nat.pow_lt_pow_right (by decide) hv)
theorem qc_hi {m k j : Nat} (hm : m < 2 ^ k) (hj : k ≤ j) : m.testBit j = false :=
  Nat.testBit_lt_two_pow (Nat.lt_of_lt_of_le hm (Nat.pow_le_pow_right (by decide) hj))
theorem qc_ext {k a b : Nat} (ha : a < 2 ^ k) (hb : b < 2 ^ k) (h : ∀ j, j < k → a.testBit j = b.testBit j) : a = b :=
  Nat.eq_of_testBit_eq (fun i => by
    rcases Nat.lt_or_ge i k with z | z
    · exact h i z
    · rw [qc_hi ha z, qc_hi hb z])
/-! ===== places of the tables ===== -/
theorem qc_ix {k a b : Nat} {x y : Int32} (hk : nI k = x) (hy : y = nI b) : nI a * x + y = nI (a * k + b) := by
  rw [← hk, hy, pk_mul, nI_add]
theorem qc_ix9 (a b : Nat) : nI a * 9 + nI b = nI (a * 9 + b) := qc_ix (k := 9) rfl rfl
theorem qc_ix7 (a b : Nat) : nI a * 7 + nI b = nI (a * 7 + b) := qc_ix (k := 7) rfl rfl
/-- what is left: an array of 81 as a table -/
def qc_A (a : Nat → Int32) (R : Nat → Nat → Nat) : Prop := ∀ u v, u < 9 → v < 9 → a (u * 9 + v) = nI (R u v)
theorem qc_A_u {a : Nat → Int32} {R : Nat → Nat → Nat} {p q x i : Nat} {y : Int32} (h : qc_A a R) (hq : q < 9) (hi : i = p * 9 + q) (hy : y = nI x) : qc_A (upd a i y) (qc_u2 R p q x) := by
  intro u v hu hv
  rw [hi, hy]
  by_cases e : u = p ∧ v = q
  · rw [e.1, e.2, pk_us, qc_u2s]
  · rw [pk_un (by omega), qc_u2n e]
    exact h u v hu hv
end
section
/-! ===== pulls ===== -/
def qc_pv (z : Int32) : Nat := z.toInt.toNat
theorem qc_pv0 {z : Int32} (h : z ≤ 0) : nI (qc_pv z) = 0 := by
  have h' : z.toInt ≤ (0 : Int32).toInt := Int32.le_iff_toInt_le.mp h
  have e0 : (0 : Int32).toInt = 0 := by decide
  have e : qc_pv z = 0 := by unfold qc_pv; omega
  rw [e, nI_0]
theorem qc_pvp {z : Int32} (h : ¬ z < 0) : nI (qc_pv z) = z := by
  obtain ⟨j, hj, e⟩ := nI_of h
  rw [e]
  unfold qc_pv
  rw [nI_toInt hj, Int.toNat_natCast]
theorem qc_pva {z : Int32} {post : Int32 → Prop} (h : post (nI (qc_pv z))) : (z ≤ 0 → post 0) ∧ (¬ z ≤ 0 → post z) := by
  refine ⟨fun g => ?_, fun g => ?_⟩
  · rw [qc_pv0 g] at h; exact h
  · rw [qc_pvp (fun k => g (by rw [Int32.le_iff_toInt_le]; rw [Int32.lt_iff_toInt_lt] at k; omega))] at h; exact h
theorem qc_pvb {z : Int32} {post : Int32 → Prop} (h : post (nI (qc_pv z))) : (0 ≤ z → post z) ∧ (¬ 0 ≤ z → post 0) := by
  refine ⟨fun g => ?_, fun g => ?_⟩
  · rw [qc_pvp (fun k => by rw [Int32.le_iff_toInt_le] at g; rw [Int32.lt_iff_toInt_lt] at k; omega)] at h; exact h
  · rw [qc_pv0 (by rw [Int32.le_iff_toInt_le]; rw [Int32.le_iff_toInt_le] at g; omega)] at h; exact h
section
variable {wf fl : Int32} {a1 a2 a3 a4 a5 a6 a7 a8 a9 a10 a11 a12 : Nat → Int32}
theorem qc_sp {post : Int32 → Prop} {v : Nat} {x : Int32} (hv : v < 7) (hp : post (nI (qc_pv (a2 v + a3 v * x)))) : wpX_sourcePull post (wf, fl, a1, a2, a3, a4, a5, a6, a7, a8, a9, a10, a11, a12) (nI v) x :=
  ⟨pk_in v 7 hv, pk_in v 7 hv, nm_r (e' := a2 v + a3 v * x) (by rw [nI_clamp (by omega)]) (qc_pva hp)⟩
theorem qc_kp {post : Int32 → Prop} {v : Nat} {x : Int32} (hv : v < 7) (hp : post (nI (qc_pv (a4 v + a5 v * x)))) : wpX_sinkPull post (wf, fl, a1, a2, a3, a4, a5, a6, a7, a8, a9, a10, a11, a12) (nI v) x :=
  ⟨pk_in v 7 hv, pk_in v 7 hv, nm_r (e' := a4 v + a5 v * x) (by rw [nI_clamp (by omega)]) (qc_pva hp)⟩
/-! ===== load ===== -/
def qc_D (cap : Nat → Nat → Nat) (src snk : Nat → Nat) (u w p q : Nat) : Nat := if (p < u ∨ p = u ∧ q < w) ∧ p < 7 ∧ q < 7 then cap p q else if p = 7 ∧ q < u then src q else if p < u ∧ q = 8 then snk p else 0
theorem qc_D_c {cap : Nat → Nat → Nat} {src snk : Nat → Nat} {u w : Nat} (hu : u < 7) (hw : w < 7) (p q : Nat) : qc_u2 (qc_D cap src snk u w) u w (cap u w) p q = qc_D cap src snk u (w + 1) p q := by
  unfold qc_u2 qc_D
  by_cases e : p = u ∧ q = w
  · rw [if_pos e, if_pos (show (p < u ∨ p = u ∧ q < w + 1) ∧ p < 7 ∧ q < 7 by omega), e.1, e.2]
  · rw [if_neg e]
    have t : ((p < u ∨ p = u ∧ q < w) ∧ p < 7 ∧ q < 7) ↔ ((p < u ∨ p = u ∧ q < w + 1) ∧ p < 7 ∧ q < 7) := by omega
    simp only [t]
theorem qc_D_r {cap : Nat → Nat → Nat} {src snk : Nat → Nat} {u : Nat} (hu : u < 7) (p q : Nat) (hp : p < 9) (hq : q < 9) : qc_u2 (qc_u2 (qc_D cap src snk u 7) 7 u (src u)) u 8 (snk u) p q = qc_D cap src snk (u + 1) 0 p q := by
  unfold qc_u2 qc_D
  by_cases e : p = u ∧ q = 8
  · rw [if_pos e, if_neg (show ¬ ((p < u + 1 ∨ p = u + 1 ∧ q < 0) ∧ p < 7 ∧ q < 7) by omega), if_neg (show ¬ (p = 7 ∧ q < u + 1) by omega), if_pos (show p < u + 1 ∧ q = 8 by omega), e.1]
  · rw [if_neg e]
    by_cases e2 : p = 7 ∧ q = u
    · rw [if_pos e2, if_neg (show ¬ ((p < u + 1 ∨ p = u + 1 ∧ q < 0) ∧ p < 7 ∧ q < 7) by omega), if_pos (show p = 7 ∧ q < u + 1 by omega), e2.2]
    · rw [if_neg e2]
      have t : ((p < u ∨ p = u ∧ q < 7) ∧ p < 7 ∧ q < 7) ↔ ((p < u + 1 ∨ p = u + 1 ∧ q < 0) ∧ p < 7 ∧ q < 7) := by omega
      have t2 : (p = 7 ∧ q < u) ↔ (p = 7 ∧ q < u + 1) := by omega
      have t3 : (p < u ∧ q = 8) ↔ (p < u + 1 ∧ q = 8) := by omega
      simp only [t, t2, t3]
theorem qc_A_c {a : Nat → Int32} {R R' : Nat → Nat → Nat} (h : qc_A a R) (e : ∀ p q, p < 9 → q < 9 → R p q = R' p q) : qc_A a R' := fun u v hu hv => by rw [← e u v hu hv]; exact h u v hu hv
theorem qc_D_0 {cap : Nat → Nat → Nat} {src snk : Nat → Nat} (p q : Nat) : 0 = qc_D cap src snk 0 0 p q := by
  unfold qc_D
  rw [if_neg (by omega), if_neg (by omega), if_neg (by omega)]
theorem qc_D_C {cap : Nat → Nat → Nat} {src snk : Nat → Nat} (p q : Nat) (hp : p < 9) (hq : q < 9) : qc_D cap src snk 7 0 p q = qc_C cap src snk p q := by
  unfold qc_D qc_C
  have t : ((p < 7 ∨ p = 7 ∧ q < 0) ∧ p < 7 ∧ q < 7) ↔ (p < 7 ∧ q < 7) := by omega
  simp only [t]
theorem qc_ld31 {post : St1 → Prop} {J : Int32 → (Nat → Int32) → (Nat → Int32) → (Nat → Int32) → (Nat → Int32) → (Nat → Int32) → (Nat → Int32) → (Nat → Int32) → (Nat → Int32) → (Nat → Int32) → (Nat → Int32) → (Nat → Int32) → (Nat → Int32) → Prop} {cap : Nat → Nat → Nat} {u : Nat} {x : Int32} (hu : u < 7) (hK : ∀ u v, u < 7 → v < 7 → a1 (u * 7 + v) = nI (cap u v))
    (h : qc_A a6 (qc_D cap (fun v => qc_pv (a2 v + a3 v * x)) (fun v => qc_pv (a4 v + a5 v * x)) u 0))
    (H : ∀ s, qc_A s (qc_D cap (fun v => qc_pv (a2 v + a3 v * x)) (fun v => qc_pv (a4 v + a5 v * x)) (u + 1) 0) → J (nI (u + 1)) a1 a2 a3 a4 a5 s a7 a8 a9 a10 a11 a12) :
    ∃ n, wX_load_31 post J x (nI u) wf fl n 0 a1 a2 a3 a4 a5 a6 a7 a8 a9 a10 a11 a12 := by
  refine pk_loop (fun n i s => wX_load_31 post J x (nI u) wf fl n (nI i) a1 a2 a3 a4 a5 s a7 a8 a9 a10 a11 a12) (fun i s => qc_A s (qc_D cap (fun v => qc_pv (a2 v + a3 v * x)) (fun v => qc_pv (a4 v + a5 v * x)) u i)) 7 0 a6 (by omega) h ?_ ?_
  · intro n s h
    refine pk_le 7 7 (fun _ => ?_) (fun z => absurd z (by omega))
    refine qc_sp hu ⟨pk_in (63 + u) 81 (by omega) (nI_add 63 u), nm_e ?_⟩
    refine qc_kp hu ⟨pk_in (u * 9 + 8) 81 (by omega) (qc_ix9 u 8), nm_e (nm_r (nI_1 u) (H _ ?_))⟩
    refine qc_A_c (qc_A_u (p := u) (q := 8) (x := qc_pv (a4 u + a5 u * x)) (qc_A_u (p := 7) (q := u) (x := qc_pv (a2 u + a3 u * x)) h (by omega) (pk_cl (63 + u) (nI_add 63 u)) rfl) (by omega) (pk_cl (u * 9 + 8) (qc_ix9 u 8)) rfl) ?_
    exact fun p q hp hq => qc_D_r (src := fun v => qc_pv (a2 v + a3 v * x)) (snk := fun v => qc_pv (a4 v + a5 v * x)) hu p q hp hq
  · intro n i s hi h hw
    refine pk_le 7 i (fun z => absurd z (by omega)) (fun _ => ⟨pk_in (u * 7 + i) 49 (by omega) (qc_ix7 u i), pk_in (u * 9 + i) 81 (by omega) (qc_ix9 u i), nm_e (nm_r (nI_1 i) (hw _ ?_))⟩)
    refine qc_A_c (qc_A_u (p := u) (q := i) (x := cap u i) h (by omega) (pk_cl (u * 9 + i) (qc_ix9 u i)) ?_) ?_
    · rw [pk_cl (u * 7 + i) (qc_ix7 u i)]
      exact hK u i hu hi
    · exact fun p q hp hq => qc_D_c (src := fun v => qc_pv (a2 v + a3 v * x)) (snk := fun v => qc_pv (a4 v + a5 v * x)) hu hi p q
theorem qc_ld23 {post : St1 → Prop} {cap : Nat → Nat → Nat} {x : Int32} (hK : ∀ u v, u < 7 → v < 7 → a1 (u * 7 + v) = nI (cap u v))
    (h : ∀ i, i < 81 → a6 i = 0)
    (H : ∀ s, qc_A s (qc_C cap (fun v => qc_pv (a2 v + a3 v * x)) (fun v => qc_pv (a4 v + a5 v * x))) → post (wf, fl, a1, a2, a3, a4, a5, s, a7, a8, a9, a10, a11, a12)) :
    ∃ n, wX_load_23 post x wf fl n 0 a1 a2 a3 a4 a5 a6 a7 a8 a9 a10 a11 a12 := by
  refine pk_loop (fun n i s => wX_load_23 post x wf fl n (nI i) a1 a2 a3 a4 a5 s a7 a8 a9 a10 a11 a12) (fun i s => qc_A s (qc_D cap (fun v => qc_pv (a2 v + a3 v * x)) (fun v => qc_pv (a4 v + a5 v * x)) i 0)) 7 0 a6 (by omega) ?_ ?_ ?_
  · intro u v hu hv
    rw [h _ (by omega), ← qc_D_0, nI_0]
  · intro n s h
    exact pk_le 7 7 (fun _ => H s (qc_A_c h (fun p q hp hq => qc_D_C p q hp hq))) (fun z => absurd z (by omega))
  · intro n i s hi h hw
    exact pk_le 7 i (fun z => absurd z (by omega)) (fun _ => qc_ld31 (by omega) hK h hw)
theorem qc_load {post : St1 → Prop} {cap : Nat → Nat → Nat} {x : Int32} (hK : ∀ u v, u < 7 → v < 7 → a1 (u * 7 + v) = nI (cap u v))
    (H : ∀ s, qc_A s (qc_C cap (fun v => qc_pv (a2 v + a3 v * x)) (fun v => qc_pv (a4 v + a5 v * x))) → post (wf, fl, a1, a2, a3, a4, a5, s, a7, a8, a9, a10, a11, a12)) : wpX_load post (wf, fl, a1, a2, a3, a4, a5, a6, a7, a8, a9, a10, a11, a12) x := by
  refine pk_loop (fun n i s => wX_load_2 post x wf fl n (nI i) a1 a2 a3 a4 a5 s a7 a8 a9 a10 a11 a12) (fun i s => ∀ j, j < i → s j = 0) 81 0 a6 (by omega) (fun j hj => absurd hj (by omega)) ?_ ?_
  · intro n s h
    exact pk_le 81 81 (fun _ => qc_ld23 hK h H) (fun z => absurd z (by omega))
  · intro n i s hi h hw
    refine pk_le 81 i (fun z => absurd z (by omega)) (fun _ => ⟨pk_in i 81 (by omega), nm_e (nm_r (nI_1 i) (hw _ (fun j hj => ?_)))⟩)
    rw [nI_clamp (by omega)]
    by_cases e : j = i
    · rw [e, pk_us]
    · rw [pk_un e]; exact h j (by omega)
end
end
section
/-! ===== findWay: the queue's picture ===== -/
def qc_B (R : Nat → Nat → Nat) (a7 a8 : Nat → Int32) (q : Nat → Nat) (vis : Nat → Bool) (e i w : Nat) : Prop :=
  1 ≤ e ∧ e + qc_sm 9 (fun v => if vis v = true then 0 else 1) = 9 ∧ q 0 = 7 ∧
  (∀ j, j < e → q j < 9 ∧ a7 j = nI (q j) ∧ vis (q j) = true) ∧
  (∀ j k, j < k → k < e → q j ≠ q k) ∧
  (∀ v, v < 9 → vis v = true → ∃ j, j < e ∧ q j = v) ∧
  (∀ v, v < 9 → vis v = false → a8 v = -1) ∧
  a8 7 = nI 7 ∧
  (∀ k, 0 < k → k < e → ∃ j, j < k ∧ a8 (q k) = nI (q j) ∧ 0 < R (q j) (q k)) ∧
  (∀ j v, j < i → v < 9 → 0 < R (q j) v → vis v = true) ∧
  (∀ v, v < w → 0 < R (q i) v → vis v = true)
theorem qc_B_0 {R : Nat → Nat → Nat} {a7 a8 : Nat → Int32} (h : ∀ v, v < 9 → a8 v = -1) : qc_B R (upd a7 0 7) (upd a8 7 7) (fun _ => 7) (fun v => decide (v = 7)) 1 0 0 := by
  refine ⟨by omega, by decide, rfl, fun j hj => ?_, fun j k h1 h2 => absurd h1 (by omega), fun v hv h1 => ⟨0, by omega, (of_decide_eq_true h1).symm⟩, fun v hv h1 => ?_, pk_us, fun k h1 h2 => absurd h1 (by omega), fun j v h1 => absurd h1 (by omega), fun v h1 => absurd h1 (by omega)⟩
  · have e : j = 0 := by omega
    subst e
    exact ⟨(by decide : 7 < 9), pk_us, rfl⟩
  · have e : ¬ v = 7 := of_decide_eq_false h1
    rw [pk_un e]
    exact h v hv
theorem qc_B_skip {R : Nat → Nat → Nat} {a7 a8 : Nat → Int32} {q : Nat → Nat} {vis : Nat → Bool} {e i w : Nat} (h : qc_B R a7 a8 q vis e i w) (hw : 0 < R (q i) w → vis w = true) : qc_B R a7 a8 q vis e i (w + 1) := by
  obtain ⟨h1, h2, h3, h4, h5, h6, h7, h8, h9, h10, h11⟩ := h
  refine ⟨h1, h2, h3, h4, h5, h6, h7, h8, h9, h10, fun v hv hr => ?_⟩
  by_cases ev : v = w
  · subst ev; exact hw hr
  · exact h11 v (by omega) hr
theorem qc_B_next {R : Nat → Nat → Nat} {a7 a8 : Nat → Int32} {q : Nat → Nat} {vis : Nat → Bool} {e i : Nat} (h : qc_B R a7 a8 q vis e i 9) : qc_B R a7 a8 q vis e (i + 1) 0 := by
  obtain ⟨h1, h2, h3, h4, h5, h6, h7, h8, h9, h10, h11⟩ := h
  refine ⟨h1, h2, h3, h4, h5, h6, h7, h8, h9, fun j v hj hv hr => ?_, fun v hv => absurd hv (by omega)⟩
  by_cases ej : j = i
  · subst ej; exact h11 v hv hr
  · exact h10 j v (by omega) hv hr
theorem qc_B_lt {R : Nat → Nat → Nat} {a7 a8 : Nat → Int32} {q : Nat → Nat} {vis : Nat → Bool} {e i w : Nat} (h : qc_B R a7 a8 q vis e i w) {v : Nat} (hv : v < 9) (hf : vis v = false) : e < 9 := by
  rcases Nat.lt_or_ge e 9 with z | z
  · exact z
  · have t := h.2.1
    have t2 : (if vis v = true then 0 else 1) = 0 := qc_sm_z (f := fun v => if vis v = true then 0 else 1) (n := 9) (by omega) v hv
    rw [hf] at t2
    exact absurd t2 (by decide)
theorem qc_B_le {R : Nat → Nat → Nat} {a7 a8 : Nat → Int32} {q : Nat → Nat} {vis : Nat → Bool} {e i w : Nat} (h : qc_B R a7 a8 q vis e i w) : e ≤ 9 := by
  have t := h.2.1
  omega
theorem qc_B_add {R : Nat → Nat → Nat} {a7 a8 : Nat → Int32} {q : Nat → Nat} {vis : Nat → Bool} {e i w : Nat} (h : qc_B R a7 a8 q vis e i w) (hi : i < e) (hw : w < 9) (hf : vis w = false) (hr : 0 < R (q i) w) :
    qc_B R (upd a7 e (nI w)) (upd a8 w (nI (q i))) (fun j => if j = e then w else q j) (fun v => decide (v = w) || vis v) (e + 1) i (w + 1) := by
  obtain ⟨h1, h2, h3, h4, h5, h6, h7, h8, h9, h10, h11⟩ := h
  have hq : ∀ j, j < e → q j ≠ w := fun j hj z => by
    have t := (h4 j hj).2.2
    rw [z, hf] at t
    exact absurd t (by decide)
  have w7 : w ≠ 7 := fun z => hq 0 (by omega) (by rw [h3, z])
  refine ⟨by omega, ?_, ?_, fun j hj => ?_, fun j k hj hk => ?_, fun v hv h => ?_, fun v hv h => ?_, ?_, fun k h0 hk => ?_, fun j v hj hv h => ?_, fun v hv h => ?_⟩
  · have t := qc_sm_u (f := fun v => if vis v = true then 0 else 1) (g := fun v => if (decide (v = w) || vis v) = true then 0 else 1) (k := w) (n := 9) hw (fun v _ hv => by
      show (if (decide (v = w) || vis v) = true then 0 else 1) = (if vis v = true then 0 else 1)
      rw [decide_eq_false hv, Bool.false_or])
    have t1 : (if vis w = true then 0 else 1) = 1 := by
      rw [hf]; rfl
    have t2 : (if (decide (w = w) || vis w) = true then 0 else 1) = 0 := by
      rw [decide_eq_true (show w = w from rfl), Bool.true_or]; rfl
    rw [t1, t2] at t
    show e + 1 + qc_sm 9 (fun v => if (decide (v = w) || vis v) = true then 0 else 1) = 9
    omega
  · show (if 0 = e then w else q 0) = 7
    rw [if_neg (by omega)]; exact h3
  · show (if j = e then w else q j) < 9 ∧ upd a7 e (nI w) j = nI (if j = e then w else q j) ∧ (decide ((if j = e then w else q j) = w) || vis (if j = e then w else q j)) = true
    by_cases ej : j = e
    · rw [if_pos ej, ej, pk_us, decide_eq_true rfl, Bool.true_or]
      exact ⟨hw, rfl, rfl⟩
    · have t := h4 j (by omega)
      rw [if_neg ej, pk_un ej, t.2.2, Bool.or_true]
      exact ⟨t.1, t.2.1, rfl⟩
  · show (if j = e then w else q j) ≠ (if k = e then w else q k)
    rw [if_neg (show ¬ j = e by omega)]
    by_cases ek : k = e
    · rw [if_pos ek]; exact hq j (by omega)
    · rw [if_neg ek]; exact h5 j k hj (by omega)
  · show ∃ j, j < e + 1 ∧ (if j = e then w else q j) = v
    by_cases ev : v = w
    · exact ⟨e, by omega, by rw [if_pos rfl, ev]⟩
    · have h' : (decide (v = w) || vis v) = true := h
      rw [decide_eq_false ev, Bool.false_or] at h'
      obtain ⟨j, hj, e2⟩ := h6 v hv h'
      exact ⟨j, by omega, by rw [if_neg (by omega)]; exact e2⟩
  · have h' : (decide (v = w) || vis v) = false := h
    by_cases ev : v = w
    · rw [decide_eq_true ev, Bool.true_or] at h'
      exact absurd h' (by decide)
    · rw [decide_eq_false ev, Bool.false_or] at h'
      rw [pk_un ev]
      exact h7 v hv h'
  · rw [pk_un (fun z => w7 z.symm)]; exact h8
  · show ∃ j, j < k ∧ upd a8 w (nI (q i)) (if k = e then w else q k) = nI (if j = e then w else q j) ∧ 0 < R (if j = e then w else q j) (if k = e then w else q k)
    by_cases ek : k = e
    · refine ⟨i, by omega, ?_⟩
      rw [if_pos ek, if_neg (show ¬ i = e by omega), pk_us]
      exact ⟨rfl, hr⟩
    · obtain ⟨j, hj, e2, e3⟩ := h9 k h0 (by omega)
      refine ⟨j, hj, ?_⟩
      rw [if_neg ek, if_neg (show ¬ j = e by omega), pk_un (hq k (by omega))]
      exact ⟨e2, e3⟩
  · have h' : 0 < R (if j = e then w else q j) v := h
    rw [if_neg (by omega)] at h'
    show (decide (v = w) || vis v) = true
    rw [h10 j v hj hv h', Bool.or_true]
  · have h' : 0 < R (if i = e then w else q i) v := h
    rw [if_neg (by omega)] at h'
    show (decide (v = w) || vis v) = true
    by_cases ev : v = w
    · rw [decide_eq_true ev, Bool.true_or]
    · rw [h11 v (by omega) h', Bool.or_true]
theorem qc_B_pos {R : Nat → Nat → Nat} {a7 a8 : Nat → Int32} {q : Nat → Nat} {vis : Nat → Bool} {e i w : Nat} (h : qc_B R a7 a8 q vis e i w) {v : Nat} (hv : v < 9) (ht : vis v = true) : ∃ c, c < 9 ∧ a8 v = nI c := by
  obtain ⟨h1, h2, h3, h4, h5, h6, h7, h8, h9, h10, h11⟩ := h
  obtain ⟨k, hk, ek⟩ := h6 v hv ht
  by_cases k0 : k = 0
  · rw [k0, h3] at ek
    exact ⟨7, by omega, by rw [← ek]; exact h8⟩
  · obtain ⟨j, hj, e2, e3⟩ := h9 k (by omega) hk
    exact ⟨q j, (h4 j (by omega)).1, by rw [← ek]; exact e2⟩
theorem qc_path {R : Nat → Nat → Nat} {a7 a8 : Nat → Int32} {q : Nat → Nat} {vis : Nat → Bool} {e i w : Nat} (h : qc_B R a7 a8 q vis e i w) : ∀ n k, k < n → k < e → ∃ (p : Nat → Nat) (d : Nat), d ≤ k ∧ p 0 = q k ∧ p d = 7 ∧ (∀ i, i ≤ d → ∃ t, t ≤ k ∧ p i = q t) ∧ (∀ i j, i < j → j ≤ d → p i ≠ p j) ∧ (∀ i, i < d → a8 (p i) = nI (p (i + 1)) ∧ 0 < R (p (i + 1)) (p i))
  | 0, k, hk, _ => absurd hk (by omega)
  | n + 1, k, hk, he => by
    by_cases k0 : k = 0
    · subst k0
      exact ⟨fun _ => 7, 0, by omega, h.2.2.1.symm, rfl, fun i hi => ⟨0, by omega, h.2.2.1.symm⟩, fun i j h1 h2 => absurd h1 (by omega), fun i h1 => absurd h1 (by omega)⟩
    · obtain ⟨j, hj, e2, e3⟩ := h.2.2.2.2.2.2.2.2.1 k (by omega) he
      obtain ⟨p, d, p1, p2, p3, p4, p5, p6⟩ := qc_path h n j (by omega) (by omega)
      refine ⟨fun i => if i = 0 then q k else p (i - 1), d + 1, by omega, rfl, ?_, fun i hi => ?_, fun i l h1 h2 => ?_, fun i hi => ?_⟩
      · show (if d + 1 = 0 then q k else p (d + 1 - 1)) = 7
        rw [if_neg (by omega), Nat.add_sub_cancel]; exact p3
      · show ∃ t, t ≤ k ∧ (if i = 0 then q k else p (i - 1)) = q t
        by_cases i0 : i = 0
        · exact ⟨k, by omega, by rw [if_pos i0]⟩
        · obtain ⟨t, t1, t2⟩ := p4 (i - 1) (by omega)
          exact ⟨t, by omega, by rw [if_neg i0]; exact t2⟩
      · show (if i = 0 then q k else p (i - 1)) ≠ (if l = 0 then q k else p (l - 1))
        rw [if_neg (show ¬ l = 0 by omega)]
        by_cases i0 : i = 0
        · rw [if_pos i0]
          obtain ⟨t, t1, t2⟩ := p4 (l - 1) (by omega)
          rw [t2]
          exact fun z => h.2.2.2.2.1 t k (by omega) he z.symm
        · rw [if_neg i0]
          exact p5 (i - 1) (l - 1) (by omega) (by omega)
      · show a8 (if i = 0 then q k else p (i - 1)) = nI (if i + 1 = 0 then q k else p (i + 1 - 1)) ∧ 0 < R (if i + 1 = 0 then q k else p (i + 1 - 1)) (if i = 0 then q k else p (i - 1))
        rw [if_neg (show ¬ i + 1 = 0 by omega), Nat.add_sub_cancel]
        by_cases i0 : i = 0
        · rw [if_pos i0, i0, p2]
          exact ⟨e2, e3⟩
        · rw [if_neg i0]
          have t := p6 (i - 1) (by omega)
          rw [show i - 1 + 1 = i by omega] at t
          exact t
theorem qc_B_way {R : Nat → Nat → Nat} {a7 a8 : Nat → Int32} {q : Nat → Nat} {vis : Nat → Bool} {e i w : Nat} (h : qc_B R a7 a8 q vis e i w) (h8 : vis 8 = true) : ∃ (p : Nat → Nat) (d : Nat), qc_way R p d ∧ ∀ i, i < d → a8 (p i) = nI (p (i + 1)) := by
  obtain ⟨k, hk, ek⟩ := h.2.2.2.2.2.1 8 (by omega) h8
  obtain ⟨p, d, p1, p2, p3, p4, p5, p6⟩ := qc_path h (k + 1) k (by omega) hk
  have hle := qc_B_le h
  refine ⟨p, d, ⟨by omega, by rw [p2, ek], p3, fun i hi => ?_, p5, fun i hi => (p6 i hi).2⟩, fun i hi => (p6 i hi).1⟩
  obtain ⟨t, t1, t2⟩ := p4 i hi
  rw [t2]
  exact (h.2.2.2.1 t (by omega)).1
theorem qc_B_cut {R : Nat → Nat → Nat} {a7 a8 : Nat → Int32} {q : Nat → Nat} {vis : Nat → Bool} {e i w : Nat} (h : qc_B R a7 a8 q vis e i w) (hi : e ≤ i) (h8 : vis 8 = false) : qc_val vis ∧ qc_cut R vis = 0 := by
  obtain ⟨h1, h2, h3, h4, h5, h6, h7, h8', h9, h10, h11⟩ := h
  refine ⟨⟨?_, h8⟩, qc_cut0 (fun u v hu hv h1 h2 => ?_)⟩
  · have t := (h4 0 (by omega)).2.2
    rwa [h3] at t
  · obtain ⟨j, hj, ej⟩ := h6 u hu h1
    rcases Nat.eq_zero_or_pos (R u v) with z | z
    · exact z
    · have t := h10 j v (by omega) hv (by rw [ej]; exact z)
      rw [h2] at t
      exact absurd t (by decide)
section
variable {wf fl : Int32} {a1 a2 a3 a4 a5 a6 a7 a8 a9 a10 a11 a12 : Nat → Int32}
/-! ===== findWay: the walk ===== -/
theorem qc_fw127 {post : Int32 → St1 → Prop} {R : Nat → Nat → Nat} {q : Nat → Nat} {vis : Nat → Bool} {e i w : Nat} (h : qc_B R a7 a8 q vis e i w) (hx : e ≤ i ∨ vis 8 = true)
    (H1 : ∀ p d, qc_way R p d → (∀ i, i < d → a8 (p i) = nI (p (i + 1))) → post 1 (wf, fl, a1, a2, a3, a4, a5, a6, a7, a8, a9, a10, a11, a12)) (H0 : ∀ S, qc_val S → qc_cut R S = 0 → post 0 (wf, fl, a1, a2, a3, a4, a5, a6, a7, a8, a9, a10, a11, a12)) : wX_findWay_127 post wf fl a1 a2 a3 a4 a5 a6 a7 a8 a9 a10 a11 a12 := by
  by_cases h8 : vis 8 = true
  · obtain ⟨c, hc, ec⟩ := qc_B_pos h (by omega : 8 < 9) h8
    obtain ⟨p, d, hp, hd⟩ := qc_B_way h h8
    refine br_f ?_ (H1 p d hp hd)
    rw [ec]
    exact nI_pos (by omega)
  · have h8 := qc_tn h8
    have t := h.2.2.2.2.2.2.1 8 (by omega) h8
    refine br_t (by rw [t]; decide) ?_
    have t2 := qc_B_cut h (by
      rcases hx with z | z
      · exact z
      · rw [h8] at z; exact absurd z (by decide)) h8
    exact H0 vis t2.1 t2.2
theorem qc_fw59 {post : Int32 → St1 → Prop} {J : Int32 → Int32 → (Nat → Int32) → (Nat → Int32) → (Nat → Int32) → (Nat → Int32) → (Nat → Int32) → (Nat → Int32) → (Nat → Int32) → (Nat → Int32) → (Nat → Int32) → (Nat → Int32) → (Nat → Int32) → (Nat → Int32) → Prop} {R : Nat → Nat → Nat} {q : Nat → Nat} {vis : Nat → Bool} {e i : Nat} (hA : qc_A a6 R) (hR : ∀ u v, R u v < 2 ^ 30) (hi : i < e) (h : qc_B R a7 a8 q vis e i 0)
    (H : ∀ e' a7' a8' q' vis', i < e' → qc_B R a7' a8' q' vis' e' i 9 → J (nI e') (nI (i + 1)) a1 a2 a3 a4 a5 a6 a7' a8' a9 a10 a11 a12) :
    ∃ n, wX_findWay_59 post J (nI i) wf fl n (nI e) 0 a1 a2 a3 a4 a5 a6 a7 a8 a9 a10 a11 a12 := by
  refine pk_loop (σ := Nat × (Nat → Int32) × (Nat → Int32)) (fun n w s => wX_findWay_59 post J (nI i) wf fl n (nI s.1) (nI w) a1 a2 a3 a4 a5 a6 s.2.1 s.2.2 a9 a10 a11 a12) (fun w s => i < s.1 ∧ ∃ q vis, qc_B R s.2.1 s.2.2 q vis s.1 i w) 9 0 (e, a7, a8) (by omega) ⟨hi, q, vis, h⟩ ?_ ?_
  · rintro n ⟨e, b7, b8⟩ ⟨hi, q, vis, h⟩
    exact pk_le 9 9 (fun _ => nm_r (nI_1 i) (H e b7 b8 q vis hi h)) (fun z => absurd z (by omega))
  · rintro n w ⟨e, b7, b8⟩ hw9 ⟨hi, q, vis, h⟩ hw
    have hi : i < e := hi
    have h : qc_B R b7 b8 q vis e i w := h
    have hle := qc_B_le h
    have c1 : (nI w).toNatClampNeg = w := nI_clamp (by omega)
    have c2 : (nI i).toNatClampNeg = i := nI_clamp (by omega)
    have hq := h.2.2.2.1 i hi
    have e7 : b7 (nI i).toNatClampNeg = nI (q i) := by rw [c2]; exact hq.2.1
    have ei : b7 (nI i).toNatClampNeg * 9 + nI w = nI (q i * 9 + w) := by rw [e7]; exact qc_ix9 _ _
    have e6 : a6 (b7 (nI i).toNatClampNeg * 9 + nI w).toNatClampNeg = nI (R (q i) w) := by
      rw [pk_cl (q i * 9 + w) ei (by omega)]
      exact hA _ _ hq.1 hw9
    refine pk_le 9 w (fun z => absurd z (by omega)) (fun _ => ⟨pk_in w 9 hw9, ?_⟩)
    by_cases hv : vis w = true
    · obtain ⟨c, hc, ec⟩ := qc_B_pos h hw9 hv
      refine br_t ?_ (nm_r (nI_1 w) (hw (e, b7, b8) ⟨hi, q, vis, qc_B_skip h (fun _ => hv)⟩))
      show 0 ≤ b8 (nI w).toNatClampNeg
      rw [c1, ec]
      exact nI_pos' (by omega)
    · have hv := qc_tn hv
      have he9 := qc_B_lt h hw9 hv
      refine br_f ?_ ⟨pk_in i 9 (by omega), pk_in (q i * 9 + w) 81 (by omega) ei, ?_⟩
      · show ¬ 0 ≤ b8 (nI w).toNatClampNeg
        rw [c1, h.2.2.2.2.2.2.1 w hw9 hv]
        decide
      · refine pk_le (R (q i) w) 0 (fun z => ?_) (fun z => ?_) e6 rfl (by have := hR (q i) w; omega) (by omega)
        · exact nm_r (nI_1 w) (hw (e, b7, b8) ⟨hi, q, vis, qc_B_skip h (fun z => absurd z (by omega))⟩)
        · refine ⟨pk_in i 9 (by omega), pk_in w 9 hw9, nm_r (e' := upd b8 w (nI (q i))) (by rw [c1]; exact congrArg _ e7) ⟨pk_in e 9 he9, nm_r (e' := upd b7 e (nI w)) (by rw [nI_clamp (by omega)]) (nm_r (nI_1 e) (nm_r (nI_1 w) (hw (e + 1, upd b7 e (nI w), upd b8 w (nI (q i))) ⟨Nat.lt_succ_of_lt hi, _, _, qc_B_add h hi hw9 hv z⟩)))⟩⟩
theorem qc_fw42 {post : Int32 → St1 → Prop} {R : Nat → Nat → Nat} (hA : qc_A a6 R) (hR : ∀ u v, R u v < 2 ^ 30)
    (H1 : ∀ a7' a8' p d, qc_way R p d → (∀ i, i < d → a8' (p i) = nI (p (i + 1))) → post 1 (wf, fl, a1, a2, a3, a4, a5, a6, a7', a8', a9, a10, a11, a12)) (H0 : ∀ a7' a8' S, qc_val S → qc_cut R S = 0 → post 0 (wf, fl, a1, a2, a3, a4, a5, a6, a7', a8', a9, a10, a11, a12)) :
    ∀ (k i e : Nat) (a7 a8 : Nat → Int32) (q : Nat → Nat) (vis : Nat → Bool), i + k = 9 → i ≤ e → qc_B R a7 a8 q vis e i 0 → wX_findWay_42 post wf fl (k + 1) (nI e) (nI i) a1 a2 a3 a4 a5 a6 a7 a8 a9 a10 a11 a12 := by
  intro k
  induction k with
  | zero =>
    intro i e a7 a8 q vis hk hi h
    have hle := qc_B_le h
    exact pk_le e i (fun z => qc_fw127 h (Or.inl z) (H1 a7 a8) (H0 a7 a8)) (fun z => absurd z (by omega))
  | succ k ih =>
    intro i e a7 a8 q vis hk hi h
    have hle := qc_B_le h
    refine pk_le e i (fun z => qc_fw127 h (Or.inl z) (H1 a7 a8) (H0 a7 a8)) (fun z => ?_)
    by_cases h8 : vis 8 = true
    · obtain ⟨c, hc, ec⟩ := qc_B_pos h (by omega : 8 < 9) h8
      exact br_t (by rw [ec]; exact nI_pos' (by omega)) (qc_fw127 h (Or.inr h8) (H1 a7 a8) (H0 a7 a8))
    · refine br_f (by rw [h.2.2.2.2.2.2.1 8 (by omega) (qc_tn h8)]; decide) (qc_fw59 hA hR z h (fun e' a7' a8' q' vis' hi' h' => ?_))
      exact ih (i + 1) e' a7' a8' q' vis' (by omega) (by omega) (qc_B_next h')
theorem qc_fw {post : Int32 → St1 → Prop} {R : Nat → Nat → Nat} (hA : qc_A a6 R) (hR : ∀ u v, R u v < 2 ^ 30)
    (H1 : ∀ a7' a8' p d, qc_way R p d → (∀ i, i < d → a8' (p i) = nI (p (i + 1))) → post 1 (wf, fl, a1, a2, a3, a4, a5, a6, a7', a8', a9, a10, a11, a12)) (H0 : ∀ a7' a8' S, qc_val S → qc_cut R S = 0 → post 0 (wf, fl, a1, a2, a3, a4, a5, a6, a7', a8', a9, a10, a11, a12)) : wpX_findWay post (wf, fl, a1, a2, a3, a4, a5, a6, a7, a8, a9, a10, a11, a12) := by
  refine pk_loop (fun n i s => wX_findWay_2 post wf fl n (nI i) a1 a2 a3 a4 a5 a6 a7 s a9 a10 a11 a12) (fun i s => ∀ j, j < i → s j = -1) 9 0 a8 (by omega) (fun j hj => absurd hj (by omega)) ?_ ?_
  · intro n s h
    refine pk_le 9 9 (fun _ => nm_e (nm_e ⟨9 + 1, ?_⟩)) (fun z => absurd z (by omega))
    exact qc_fw42 hA hR H1 H0 9 0 1 _ _ _ _ (by omega) (by omega) (qc_B_0 h)
  · intro n i s hi h hw
    refine pk_le 9 i (fun z => absurd z (by omega)) (fun _ => ⟨pk_in i 9 (by omega), nm_e (nm_r (nI_1 i) (hw _ (fun j hj => ?_)))⟩)
    rw [nI_clamp (by omega)]
    by_cases e : j = i
    · rw [e, pk_us]
    · rw [pk_un e]; exact h j (by omega)
end
end
section
section
variable {wf fl : Int32} {a1 a2 a3 a4 a5 a6 a7 a8 a9 a10 a11 a12 : Nat → Int32}
/-! ===== narrowest, push ===== -/
theorem qc_nar {post : Int32 → Prop} {R : Nat → Nat → Nat} {p : Nat → Nat} {d : Nat} (hA : qc_A a6 R) (hR : ∀ u v, R u v < 2 ^ 30) (hw : qc_way R p d) (hc : ∀ i, i < d → a8 (p i) = nI (p (i + 1)))
    (H : ∀ m, 0 < m → (∀ k, k < d → m ≤ R (p (k + 1)) (p k)) → post (nI m)) : wpX_narrowest post (wf, fl, a1, a2, a3, a4, a5, a6, a7, a8, a9, a10, a11, a12) := by
  obtain ⟨w1, w2, w3, w4, w5, w6⟩ := hw
  have main : ∃ n, wX_narrowest_8 post wf fl a1 a2 a3 a4 a5 a6 a7 a8 a9 a10 a11 a12 n (nI 200000) (nI (p 0)) (nI 0) := by
    refine pk_loop (fun n i s => wX_narrowest_8 post wf fl a1 a2 a3 a4 a5 a6 a7 a8 a9 a10 a11 a12 n (nI s) (nI (p i)) (nI i)) (fun i s => 0 < s ∧ s ≤ 200000 ∧ ∀ k, k < i → s ≤ R (p (k + 1)) (p k)) d 0 200000 (by omega) ⟨by omega, by omega, fun k hk => absurd hk (by omega)⟩ ?_ ?_
    · rintro n s ⟨h1, h2, h3⟩
      exact pk_le 9 d (fun z => absurd z (by omega)) (fun _ => br_t (by rw [w3]; rfl) (H s h1 h3))
    · rintro n i s hi ⟨h1, h2, h3⟩ hw
      have p1 := w4 i (by omega)
      have p2 := w4 (i + 1) (by omega)
      have c1 : (nI (p i)).toNatClampNeg = p i := nI_clamp (by omega)
      have e8 : a8 (nI (p i)).toNatClampNeg = nI (p (i + 1)) := by rw [c1]; exact hc i hi
      have ei : a8 (nI (p i)).toNatClampNeg * 9 + nI (p i) = nI (p (i + 1) * 9 + p i) := by rw [e8]; exact qc_ix9 _ _
      have e6 : a6 (a8 (nI (p i)).toNatClampNeg * 9 + nI (p i)).toNatClampNeg = nI (R (p (i + 1)) (p i)) := by
        rw [pk_cl (p (i + 1) * 9 + p i) ei (by omega)]
        exact hA _ _ p2 p1
      have hr := hR (p (i + 1)) (p i)
      refine pk_le 9 i (fun z => absurd z (by omega)) (fun _ => pk_eq (p i) 7 (fun z => absurd (w3.trans z.symm).symm (w5 i d hi (by omega))) (fun _ => ⟨pk_in (p i) 9 p1, pk_in (p (i + 1) * 9 + p i) 81 (by omega) ei, nm_r e6 (pk_le s (R (p (i + 1)) (p i)) (fun z => ⟨pk_in (p i) 9 p1, nm_r e8 (nm_r (nI_1 i) (hw s ⟨h1, h2, fun k hk => ?_⟩))⟩) (fun z => ⟨pk_in (p i) 9 p1, nm_r e8 (nm_r (nI_1 i) (hw (R (p (i + 1)) (p i)) ⟨w6 i hi, by omega, fun k hk => ?_⟩))⟩))⟩))
      · by_cases ek : k = i
        · rw [ek]; exact z
        · exact h3 k (by omega)
      · by_cases ek : k = i
        · rw [ek]; exact Nat.le_refl _
        · have := h3 k (by omega)
          omega
  obtain ⟨n, hn⟩ := main
  rw [w2] at hn
  exact ⟨n, hn⟩
theorem qc_pu {post : St1 → Prop} {R : Nat → Nat → Nat} {p : Nat → Nat} {d m : Nat} (hA : qc_A a6 R) (hw : qc_way R p d) (hc : ∀ i, i < d → a8 (p i) = nI (p (i + 1))) (hm : ∀ k, k < d → m ≤ R (p (k + 1)) (p k))
    (H : ∀ s, qc_A s (qc_ps R p m d) → post (wf, fl, a1, a2, a3, a4, a5, s, a7, a8, a9, a10, a11, a12)) : wpX_push post (wf, fl, a1, a2, a3, a4, a5, a6, a7, a8, a9, a10, a11, a12) (nI m) := by
  obtain ⟨w1, w2, w3, w4, w5, w6⟩ := hw
  have main : ∃ n, wX_push_5 post (nI m) wf fl n (nI (p 0)) (nI 0) a1 a2 a3 a4 a5 a6 a7 a8 a9 a10 a11 a12 := by
    refine pk_loop (fun n i s => wX_push_5 post (nI m) wf fl n (nI (p i)) (nI i) a1 a2 a3 a4 a5 s a7 a8 a9 a10 a11 a12) (fun i s => qc_A s (qc_ps R p m i)) d 0 a6 (by omega) hA ?_ ?_
    · intro n s h
      exact pk_le 9 d (fun z => absurd z (by omega)) (fun _ => br_t (by rw [w3]; rfl) (H s h))
    · intro n i s hi h hw
      have p1 := w4 i (by omega)
      have p2 := w4 (i + 1) (by omega)
      have c1 : (nI (p i)).toNatClampNeg = p i := nI_clamp (by omega)
      have e8 : a8 (nI (p i)).toNatClampNeg = nI (p (i + 1)) := by rw [c1]; exact hc i hi
      have ei : a8 (nI (p i)).toNatClampNeg * 9 + nI (p i) = nI (p (i + 1) * 9 + p i) := by rw [e8]; exact qc_ix9 _ _
      have ej : nI (p i) * 9 + a8 (nI (p i)).toNatClampNeg = nI (p i * 9 + p (i + 1)) := by rw [e8]; exact qc_ix9 _ _
      have ci := pk_cl (p (i + 1) * 9 + p i) ei (by omega)
      have cj := pk_cl (p i * 9 + p (i + 1)) ej (by omega)
      have hk : m ≤ qc_ps R p m i (p (i + 1)) (p i) := by rw [qc_ps_k w5 i i (by omega) hi]; exact hm i hi
      refine pk_le 9 i (fun z => absurd z (by omega)) (fun _ => pk_eq (p i) 7 (fun z => absurd (w3.trans z.symm).symm (w5 i d hi (by omega))) (fun _ => ⟨pk_in (p i) 9 p1, pk_in (p (i + 1) * 9 + p i) 81 (by omega) ei, pk_in (p (i + 1) * 9 + p i) 81 (by omega) ei, fun s1 es1 => ?_⟩))
      have h1 : qc_A s1 (qc_u2 (qc_ps R p m i) (p (i + 1)) (p i) (qc_ps R p m i (p (i + 1)) (p i) - m)) := by
        rw [es1]
        refine qc_A_u h p1 ci ?_
        rw [ci, h _ _ p2 p1]
        exact pk_sub hk
      refine ⟨pk_in (p i) 9 p1, pk_in (p i * 9 + p (i + 1)) 81 (by omega) ej, pk_in (p i * 9 + p (i + 1)) 81 (by omega) ej, fun s2 es2 => ?_⟩
      have h2 : qc_A s2 (qc_st (qc_ps R p m i) (p (i + 1)) (p i) m) := by
        rw [es2]
        refine qc_A_u h1 p2 cj ?_
        rw [cj, h1 _ _ p1 p2]
        exact nI_add _ _
      exact ⟨pk_in (p i) 9 p1, nm_r e8 (nm_r (nI_1 i) (hw s2 h2))⟩
  obtain ⟨n, hn⟩ := main
  rw [w2] at hn
  exact ⟨n, hn⟩
/-! ===== grow ===== -/
theorem qc_inv_b {C R : Nat → Nat → Nat} {F : Nat} (h : qc_inv C R F) (hC : ∀ u v, C u v < 2 ^ 28) (u v : Nat) : R u v < 2 ^ 30 := by
  have t := h.2 u v
  have t1 := hC u v
  have t2 := hC v u
  omega
theorem qc_gr12 {post : St1 → Prop} {C : Nat → Nat → Nat} (hC : ∀ u v, C u v < 2 ^ 28) {S0 : Nat → Bool} (hS0 : qc_val S0) (hB : qc_cut C S0 < 1000)
    (H : ∀ a6' a7' a8' R F, qc_A a6' R → qc_inv C R F → (∃ S, qc_val S ∧ qc_cut R S = 0) → post (wf, nI F, a1, a2, a3, a4, a5, a6', a7', a8', a9, a10, a11, a12)) :
    ∀ (k i F : Nat) (a6 a7 a8 : Nat → Int32) (R : Nat → Nat → Nat) (x1 : Int32), i + k = 1000 → i ≤ F → qc_A a6 R → qc_inv C R F → (x1 = 0 ∧ (∃ S, qc_val S ∧ qc_cut R S = 0)) ∨ (x1 = 1 ∧ ∃ p d, qc_way R p d ∧ ∀ i, i < d → a8 (p i) = nI (p (i + 1))) → wX_grow_12 post (k + 1) x1 (nI i) wf (nI F) a1 a2 a3 a4 a5 a6 a7 a8 a9 a10 a11 a12 := by
  intro k
  induction k with
  | zero =>
    intro i F a6 a7 a8 R x1 hk hi hA hI hx
    have t := hI.1 S0 hS0
    omega
  | succ k ih =>
    intro i F a6 a7 a8 R x1 hk hi hA hI hx
    have hR := qc_inv_b hI hC
    refine pk_le 1000 i (fun z => absurd z (by omega)) (fun _ => ?_)
    rcases hx with ⟨hx, hS⟩ | ⟨hx, p, d, hp, hc⟩
    · exact br_t hx (H a6 a7 a8 R F hA hI hS)
    · refine br_f (by rw [hx]; decide) (qc_nar hA hR hp hc (fun m m0 hm => qc_pu hA hp hc hm (fun s hs => ?_)))
      have hI' := qc_inv_p hI hp hm
      refine nm_r (nI_add F m) (qc_fw hs (qc_inv_b hI' hC) (fun b7 b8 p' d' hp' hc' => ?_) (fun b7 b8 S h1 h2 => ?_))
      · exact nm_r (nI_1 i) (ih (i + 1) (F + m) s b7 b8 _ 1 (by omega) (by omega) hs hI' (Or.inr ⟨rfl, p', d', hp', hc'⟩))
      · exact nm_r (nI_1 i) (ih (i + 1) (F + m) s b7 b8 _ 0 (by omega) (by omega) hs hI' (Or.inl ⟨rfl, S, h1, h2⟩))
theorem qc_grow {post : St1 → Prop} {C : Nat → Nat → Nat} (hA : qc_A a6 C) (hC : ∀ u v, C u v < 2 ^ 28) {S0 : Nat → Bool} (hS0 : qc_val S0) (hB : qc_cut C S0 < 1000)
    (H : ∀ a6' a7' a8' R F, qc_A a6' R → qc_inv C R F → (∃ S, qc_val S ∧ qc_cut R S = 0) → post (wf, nI F, a1, a2, a3, a4, a5, a6', a7', a8', a9, a10, a11, a12)) : wpX_grow post (wf, fl, a1, a2, a3, a4, a5, a6, a7, a8, a9, a10, a11, a12) := by
  unfold wpX_grow
  dsimp only
  refine qc_fw hA (qc_inv_b (qc_inv_0 C) hC) (fun b7 b8 p d hp hc => ?_) (fun b7 b8 S h1 h2 => ?_)
  · exact ⟨1000 + 1, qc_gr12 hC hS0 hB H 1000 0 0 a6 b7 b8 C 1 (by omega) (by omega) hA (qc_inv_0 C) (Or.inr ⟨rfl, p, d, hp, hc⟩)⟩
  · exact ⟨1000 + 1, qc_gr12 hC hS0 hB H 1000 0 0 a6 b7 b8 C 0 (by omega) (by omega) hA (qc_inv_0 C) (Or.inl ⟨rfl, S, h1, h2⟩)⟩
end
end
section
/-! ===== closeReach: rows as sets ===== -/
def qc_G (a : Nat → Int32) (f : Nat → Nat → Bool) (k : Nat) : Prop := ∀ u, u < k → ∃ m, m < 512 ∧ a u = nI m ∧ ∀ v, v < 9 → m.testBit v = f u v
theorem qc_G_c {a : Nat → Int32} {f g : Nat → Nat → Bool} {k : Nat} (h : qc_G a f k) (e : ∀ u v, u < k → v < 9 → f u v = g u v) : qc_G a g k := fun u hu => by
  obtain ⟨m, m1, m2, m3⟩ := h u hu
  exact ⟨m, m1, m2, fun v hv => by rw [m3 v hv, e u v hu hv]⟩
def qc_E (R : Nat → Nat → Nat) (u v : Nat) : Bool := decide (u = v) || decide (0 < R u v)
def qc_E1 (R : Nat → Nat → Nat) (u w v : Nat) : Bool := decide (u = v) || (decide (v < w) && decide (0 < R u v))
def qc_W (f : Nat → Nat → Bool) (k u p v : Nat) : Bool := f p v || (decide (p < u) && (f p k && f k v))
def qc_cl (R : Nat → Nat → Nat) (f : Nat → Nat → Bool) (K : Nat) : Prop :=
  (∀ u, u < 9 → f u u = true) ∧ (∀ u v, u < 9 → v < 9 → 0 < R u v → f u v = true) ∧
  (∀ S : Nat → Bool, (∀ u v, u < 9 → v < 9 → S u = true → 0 < R u v → S v = true) → ∀ u v, u < 9 → v < 9 → S u = true → f u v = true → S v = true) ∧
  (∀ k u v, k < K → u < 9 → v < 9 → f u k = true → f k v = true → f u v = true)
theorem qc_cl_0 (R : Nat → Nat → Nat) : qc_cl R (qc_E R) 0 := by
  refine ⟨fun u _ => ?_, fun u v _ _ h => ?_, fun S hS u v hu hv h1 h2 => ?_, fun k u v hk => absurd hk (by omega)⟩
  · unfold qc_E
    rw [decide_eq_true rfl, Bool.true_or]
  · unfold qc_E
    rw [decide_eq_true h, Bool.or_true]
  · unfold qc_E at h2
    by_cases e : u = v
    · rw [← e]; exact h1
    · rw [decide_eq_false e, Bool.false_or] at h2
      exact hS u v hu hv h1 (of_decide_eq_true h2)
theorem qc_W9 {f : Nat → Nat → Bool} {k p v : Nat} (hp : p < 9) : qc_W f k 9 p v = true ↔ f p v = true ∨ (f p k = true ∧ f k v = true) := by
  unfold qc_W
  rw [decide_eq_true hp, Bool.true_and, Bool.or_eq_true, Bool.and_eq_true]
theorem qc_cl_s {R : Nat → Nat → Nat} {f : Nat → Nat → Bool} {K : Nat} (hK : K < 9) (h : qc_cl R f K) : qc_cl R (qc_W f K 9) (K + 1) := by
  obtain ⟨h1, h2, h3, h4⟩ := h
  refine ⟨fun u hu => (qc_W9 hu).mpr (Or.inl (h1 u hu)), fun u v hu hv h => (qc_W9 hu).mpr (Or.inl (h2 u v hu hv h)), fun S hS u v hu hv g1 g2 => ?_, fun k u v hk hu hv g1 g2 => ?_⟩
  · rcases (qc_W9 hu).mp g2 with z | ⟨z1, z2⟩
    · exact h3 S hS u v hu hv g1 z
    · exact h3 S hS K v hK hv (h3 S hS u K hu hK g1 z1) z2
  · refine (qc_W9 hu).mpr ?_
    have hk9 : k < 9 := by omega
    have g1 := (qc_W9 hu).mp g1
    have g2 := (qc_W9 hk9).mp g2
    by_cases ek : k = K
    · subst ek
      have a1 : f u k = true := by
        rcases g1 with z | ⟨z1, z2⟩
        · exact z
        · exact z1
      have a2 : f k v = true := by
        rcases g2 with z | ⟨z1, z2⟩
        · exact z
        · exact z2
      exact Or.inr ⟨a1, a2⟩
    · have hk' : k < K := by omega
      rcases g1 with z | ⟨z1, z2⟩
      · rcases g2 with y | ⟨y1, y2⟩
        · exact Or.inl (h4 k u v hk' hu hv z y)
        · exact Or.inr ⟨h4 k u K hk' hu hK z y1, y2⟩
      · rcases g2 with y | ⟨y1, y2⟩
        · exact Or.inr ⟨z1, h4 k K v hk' hK hv z2 y⟩
        · exact Or.inr ⟨z1, y2⟩
section
variable {wf fl : Int32} {a1 a2 a3 a4 a5 a6 a7 a8 a9 a10 a11 a12 : Nat → Int32}
theorem qc_cr19 {post : St1 → Prop} {J : Int32 → (Nat → Int32) → (Nat → Int32) → (Nat → Int32) → (Nat → Int32) → (Nat → Int32) → (Nat → Int32) → (Nat → Int32) → (Nat → Int32) → (Nat → Int32) → (Nat → Int32) → (Nat → Int32) → (Nat → Int32) → Prop} {R : Nat → Nat → Nat} {u : Nat} (hA : qc_A a6 R) (hR : ∀ u v, R u v < 2 ^ 30) (hu : u < 9) (h : qc_G a9 (qc_E R) u) (hu0 : a9 u = nI (2 ^ u))
    (H : ∀ s, qc_G s (qc_E R) (u + 1) → J (nI (u + 1)) a1 a2 a3 a4 a5 a6 a7 a8 s a10 a11 a12) : ∃ n, wX_closeReach_19 post J (nI u) wf fl n 0 a1 a2 a3 a4 a5 a6 a7 a8 a9 a10 a11 a12 := by
  refine pk_loop (fun n w s => wX_closeReach_19 post J (nI u) wf fl n (nI w) a1 a2 a3 a4 a5 a6 a7 a8 s a10 a11 a12) (fun w s => qc_G s (qc_E R) u ∧ ∃ m, m < 512 ∧ s u = nI m ∧ ∀ v, v < 9 → m.testBit v = qc_E1 R u w v) 9 0 a9 (by omega) ⟨h, 2 ^ u, ?_, hu0, fun v hv => ?_⟩ ?_ ?_
  · exact Nat.pow_lt_pow_right (n := 9) (by decide) hu
  · unfold qc_E1
    rw [Nat.testBit_two_pow, decide_eq_false (Nat.not_lt_zero v), Bool.false_and, Bool.or_false]
  · rintro n s ⟨h1, m, m1, m2, m3⟩
    refine pk_le 9 9 (fun _ => nm_r (nI_1 u) (H s (fun p hp => ?_))) (fun z => absurd z (by omega))
    by_cases ep : p = u
    · subst ep
      refine ⟨m, m1, m2, fun v hv => ?_⟩
      rw [m3 v hv]
      unfold qc_E1 qc_E
      rw [decide_eq_true hv, Bool.true_and]
    · exact h1 p (by omega)
  · rintro n w s hw9 ⟨h1, m, m1, m2, m3⟩ hw
    have c1 : (nI u).toNatClampNeg = u := nI_clamp (by omega)
    have ei : nI u * 9 + nI w = nI (u * 9 + w) := qc_ix9 u w
    have e6 : a6 (nI u * 9 + nI w).toNatClampNeg = nI (R u w) := by
      rw [pk_cl (u * 9 + w) ei (by omega)]
      exact hA u w hu hw9
    have hr := hR u w
    refine pk_le 9 w (fun z => absurd z (by omega)) (fun _ => ⟨pk_in (u * 9 + w) 81 (by omega) ei, pk_le (R u w) 0 (fun z => ?_) (fun z => ?_) e6 rfl (by omega) (by omega)⟩)
    · refine nm_r (nI_1 w) (hw s ⟨h1, m, m1, m2, fun v hv => ?_⟩)
      rw [m3 v hv]
      unfold qc_E1
      by_cases ev : v = w
      · rw [ev, decide_eq_false (show ¬ 0 < R u w by omega), Bool.and_false, Bool.and_false]
      · have t : decide (v < w) = decide (v < w + 1) := decide_eq_decide.mpr (by omega)
        rw [t]
    · refine ⟨pk_in u 9 hu, pk_in u 9 hu, nm_r (e' := upd s u (nI (m ||| 2 ^ w))) ?_ (nm_r (nI_1 w) (hw _ ⟨fun p hp => ?_, m ||| 2 ^ w, qc_lt512 m1 hw9, pk_us, fun v hv => ?_⟩))⟩
      · rw [c1, m2, qc_one w (by omega), qc_or]
      · rw [pk_un (show p ≠ u by omega)]
        exact h1 p hp
      · rw [qc_tbo, m3 v hv]
        unfold qc_E1
        by_cases ev : v = w
        · rw [ev, decide_eq_true (show w = w from rfl), decide_eq_true (show w < w + 1 by omega), decide_eq_true z, Bool.or_true, Bool.and_true, Bool.or_true]
        · have t : decide (v < w) = decide (v < w + 1) := decide_eq_decide.mpr (by omega)
          rw [t, decide_eq_false (show ¬ w = v from fun z => ev z.symm), Bool.or_false]
theorem qc_cr73 {post : St1 → Prop} {J : Int32 → (Nat → Int32) → (Nat → Int32) → (Nat → Int32) → (Nat → Int32) → (Nat → Int32) → (Nat → Int32) → (Nat → Int32) → (Nat → Int32) → (Nat → Int32) → (Nat → Int32) → (Nat → Int32) → (Nat → Int32) → Prop} {f : Nat → Nat → Bool} {k : Nat} (hk : k < 9) (h : qc_G a9 f 9)
    (H : ∀ s, qc_G s (qc_W f k 9) 9 → J (nI (k + 1)) a1 a2 a3 a4 a5 a6 a7 a8 s a10 a11 a12) : ∃ n, wX_closeReach_73 post J (nI k) wf fl n 0 a1 a2 a3 a4 a5 a6 a7 a8 a9 a10 a11 a12 := by
  refine pk_loop (fun n u s => wX_closeReach_73 post J (nI k) wf fl n (nI u) a1 a2 a3 a4 a5 a6 a7 a8 s a10 a11 a12) (fun u s => qc_G s (qc_W f k u) 9) 9 0 a9 (by omega) ?_ ?_ ?_
  · exact qc_G_c h (fun p v _ _ => by unfold qc_W; rw [decide_eq_false (Nat.not_lt_zero p), Bool.false_and, Bool.or_false])
  · intro n s h
    exact pk_le 9 9 (fun _ => nm_r (nI_1 k) (H s h)) (fun z => absurd z (by omega))
  · intro n u s hu h hw
    have c1 : (nI u).toNatClampNeg = u := nI_clamp (by omega)
    have c2 : (nI k).toNatClampNeg = k := nI_clamp (by omega)
    obtain ⟨m, m1, m2, m3⟩ := h u hu
    obtain ⟨l, l1, l2, l3⟩ := h k hk
    have m3' : ∀ v, v < 9 → m.testBit v = f u v := fun v hv => by
      rw [m3 v hv]; unfold qc_W; rw [decide_eq_false (show ¬ u < u by omega), Bool.false_and, Bool.or_false]
    have l3' : ∀ v, v < 9 → l.testBit v = f k v := fun v hv => by
      rw [l3 v hv]; unfold qc_W
      cases f k v <;> simp
    refine pk_le 9 u (fun z => absurd z (by omega)) (fun _ => ⟨pk_in u 9 hu, ?_⟩)
    rw [c1, m2]
    refine qc_in (by omega) (by omega) (fun z => br_f (by decide) ⟨pk_in u 9 hu, pk_in k 9 hk, pk_in u 9 hu, ?_⟩) (fun z => br_t rfl (nm_r (nI_1 u) (hw s (qc_G_c h (fun p v hp hv => ?_)))))
    · refine nm_r (e' := upd s u (nI (m ||| l))) (by rw [c2, l2, qc_or]) (nm_r (nI_1 u) (hw _ (fun p hp => ?_)))
      by_cases ep : p = u
      · subst ep
        refine ⟨m ||| l, Nat.or_lt_two_pow (n := 9) m1 l1, pk_us, fun v hv => ?_⟩
        rw [Nat.testBit_or, m3' v hv, l3' v hv]
        unfold qc_W
        rw [← m3' k hk, z, decide_eq_true (show p < p + 1 by omega), Bool.true_and, Bool.true_and]
      · rw [pk_un ep]
        obtain ⟨r, r1, r2, r3⟩ := h p hp
        refine ⟨r, r1, r2, fun v hv => ?_⟩
        rw [r3 v hv]
        unfold qc_W
        have t : decide (p < u) = decide (p < u + 1) := decide_eq_decide.mpr (by omega)
        rw [t]
    · unfold qc_W
      by_cases ep : p = u
      · rw [ep, ← m3' k hk, z, Bool.false_and, Bool.and_false, Bool.and_false]
      · have t : decide (p < u) = decide (p < u + 1) := decide_eq_decide.mpr (by omega)
        rw [t]
theorem qc_close {post : St1 → Prop} {R : Nat → Nat → Nat} (hA : qc_A a6 R) (hR : ∀ u v, R u v < 2 ^ 30) (H : ∀ s f, qc_G s f 9 → qc_cl R f 9 → post (wf, fl, a1, a2, a3, a4, a5, a6, a7, a8, s, a10, a11, a12)) : wpX_closeReach post (wf, fl, a1, a2, a3, a4, a5, a6, a7, a8, a9, a10, a11, a12) := by
  have two : ∀ s, qc_G s (qc_E R) 9 → ∃ n, wX_closeReach_65 post wf fl n 0 a1 a2 a3 a4 a5 a6 a7 a8 s a10 a11 a12 := fun s hs => by
    refine pk_loop (fun n k s => wX_closeReach_65 post wf fl n (nI k) a1 a2 a3 a4 a5 a6 a7 a8 s a10 a11 a12) (fun k s => ∃ f, qc_G s f 9 ∧ qc_cl R f k) 9 0 s (by omega) ⟨qc_E R, hs, qc_cl_0 R⟩ ?_ ?_
    · rintro n s ⟨f, h1, h2⟩
      exact pk_le 9 9 (fun _ => H s f h1 h2) (fun z => absurd z (by omega))
    · rintro n k s hk ⟨f, h1, h2⟩ hw
      exact pk_le 9 k (fun z => absurd z (by omega)) (fun _ => qc_cr73 hk h1 (fun s' hs' => hw s' ⟨_, hs', qc_cl_s hk h2⟩))
  refine pk_loop (fun n u s => wX_closeReach_2 post wf fl n (nI u) a1 a2 a3 a4 a5 a6 a7 a8 s a10 a11 a12) (fun u s => qc_G s (qc_E R) u) 9 0 a9 (by omega) (fun u hu => absurd hu (by omega)) ?_ ?_
  · intro n s h
    exact pk_le 9 9 (fun _ => two s h) (fun z => absurd z (by omega))
  · intro n u s hu h hw
    refine pk_le 9 u (fun z => absurd z (by omega)) (fun _ => ⟨pk_in u 9 hu, nm_r (e' := upd s u (nI (2 ^ u))) ?_ (qc_cr19 hA hR hu (fun p hp => ?_) pk_us hw)⟩)
    · rw [nI_clamp (by omega), qc_one u (by omega)]
    · rw [pk_un (show p ≠ u by omega)]
      exact h p hp
end
end
section
/-! ===== counting ===== -/
noncomputable def qc_cnt (P : Nat → Prop) : Nat → Nat
  | 0 => 0
  | n + 1 => qc_cnt P n + @ite Nat (P n) (Classical.propDecidable (P n)) 1 0
theorem qc_cnt_t {P : Nat → Prop} {n : Nat} (h : P n) : qc_cnt P (n + 1) = qc_cnt P n + 1 := by
  show qc_cnt P n + @ite Nat (P n) (Classical.propDecidable (P n)) 1 0 = _
  rw [if_pos h]
theorem qc_cnt_f {P : Nat → Prop} {n : Nat} (h : ¬ P n) : qc_cnt P (n + 1) = qc_cnt P n := by
  show qc_cnt P n + @ite Nat (P n) (Classical.propDecidable (P n)) 1 0 = _
  rw [if_neg h, Nat.add_zero]
theorem qc_cnt_c {P Q : Nat → Prop} : ∀ {n : Nat}, (∀ s, s < n → (P s ↔ Q s)) → qc_cnt P n = qc_cnt Q n
  | 0, _ => rfl
  | n + 1, h => by
    have ih := qc_cnt_c (P := P) (Q := Q) (n := n) (fun s hs => h s (by omega))
    by_cases hp : P n
    · rw [qc_cnt_t hp, qc_cnt_t ((h n (by omega)).mp hp), ih]
    · rw [qc_cnt_f hp, qc_cnt_f (fun z => hp ((h n (by omega)).mpr z)), ih]
theorem qc_cnt_0 {P : Nat → Prop} : ∀ {n : Nat}, (∀ s, s < n → ¬ P s) → qc_cnt P n = 0
  | 0, _ => rfl
  | n + 1, h => by rw [qc_cnt_f (h n (by omega)), qc_cnt_0 (n := n) (fun s hs => h s (by omega))]
theorem qc_cnt_1 {P : Nat → Prop} {t : Nat} : ∀ {n : Nat}, t < n → (∀ s, s < n → (P s ↔ s = t)) → qc_cnt P n = 1
  | 0, ht, _ => absurd ht (by omega)
  | n + 1, ht, h => by
    by_cases e : t = n
    · rw [qc_cnt_t ((h n (by omega)).mpr e.symm), qc_cnt_0 (fun s hs z => by have := (h s (by omega)).mp z; omega)]
    · rw [qc_cnt_f (fun z => e ((h n (by omega)).mp z).symm)]
      exact qc_cnt_1 (n := n) (by omega) (fun s hs => h s (by omega))
theorem qc_cnt_2 {P Q Q' : Nat → Prop} : ∀ {n : Nat}, (∀ s, s < n → (P s ↔ Q s ∨ Q' s) ∧ ¬ (Q s ∧ Q' s)) → qc_cnt P n = qc_cnt Q n + qc_cnt Q' n
  | 0, _ => rfl
  | n + 1, h => by
    have ih := qc_cnt_2 (P := P) (Q := Q) (Q' := Q') (n := n) (fun s hs => h s (by omega))
    obtain ⟨h1, h2⟩ := h n (by omega)
    by_cases hq : Q n
    · rw [qc_cnt_t (h1.mpr (Or.inl hq)), qc_cnt_t hq, qc_cnt_f (fun z => h2 ⟨hq, z⟩), ih]; omega
    · by_cases hq' : Q' n
      · rw [qc_cnt_t (h1.mpr (Or.inr hq')), qc_cnt_f hq, qc_cnt_t hq', ih]; omega
      · rw [qc_cnt_f (fun z => (h1.mp z).elim hq hq'), qc_cnt_f hq, qc_cnt_f hq', ih]
theorem qc_cnt_a {P : Nat → Prop} (n : Nat) : ∀ m, qc_cnt P (n + m) = qc_cnt P n + qc_cnt (fun s => P (n + s)) m
  | 0 => rfl
  | m + 1 => by
    have ih := qc_cnt_a (P := P) n m
    by_cases hp : P (n + m)
    · rw [show n + (m + 1) = (n + m) + 1 from rfl, qc_cnt_t hp, qc_cnt_t (P := fun s => P (n + s)) hp, ih]; omega
    · rw [show n + (m + 1) = (n + m) + 1 from rfl, qc_cnt_f hp, qc_cnt_f (P := fun s => P (n + s)) hp, ih]
/-- a property of the four low bits: each pattern stands eight times below 128 -/
theorem qc_cnt_8 {P : Nat → Prop} (h : ∀ s, P (s + 16) ↔ P s) : qc_cnt P 128 = 8 * qc_cnt P 16 := by
  have hk : ∀ k s, P (16 * k + s) ↔ P s := by
    intro k
    induction k with
    | zero => intro s; rw [Nat.mul_zero, Nat.zero_add]
    | succ k ih => intro s; rw [show 16 * (k + 1) + s = (16 * k + s) + 16 by omega, h, ih]
  have step : ∀ k, qc_cnt P (16 * k) = k * qc_cnt P 16 := by
    intro k
    induction k with
    | zero => rw [Nat.zero_mul]; rfl
    | succ k ih =>
      rw [show 16 * (k + 1) = 16 * k + 16 by omega, qc_cnt_a, ih, qc_cnt_c (P := fun s => P (16 * k + s)) (Q := P) (fun s _ => hk k s), Nat.succ_mul]
  exact step 8
/-! ===== closed sets between two sets ===== -/
def qc_btw (f : Nat → Nat → Bool) (T X s : Nat) : Prop := (∀ u v, u < 7 → v < 7 → s.testBit u = true → f u v = true → s.testBit v = true) ∧ (∀ j, j < 7 → T.testBit j = true → s.testBit j = true) ∧ (∀ j, j < 7 → X.testBit j = true → s.testBit j = false)
def qc_gd (f : Nat → Nat → Bool) (T X : Nat) : Prop := T < 128 ∧ X < 128 ∧ (∀ u v, u < 7 → v < 7 → T.testBit u = true → f u v = true → T.testBit v = true) ∧ (∀ u v, u < 7 → v < 7 → X.testBit v = true → f u v = true → X.testBit u = true) ∧ (∀ j, j < 7 → T.testBit j = true → X.testBit j = false)
theorem qc_N1 {f : Nat → Nat → Bool} {T X : Nat} (h : qc_gd f T X) (ha : ∀ j, j < 7 → (T ||| X).testBit j = true) : qc_cnt (qc_btw f T X) 128 = 1 := by
  obtain ⟨h1, h2, h3, h4, h5⟩ := h
  refine qc_cnt_1 (t := T) h1 (fun s hs => ⟨fun g => ?_, fun g => ?_⟩)
  · obtain ⟨g1, g2, g3⟩ := g
    refine qc_ext (k := 7) hs h1 (fun j hj => ?_)
    have t := ha j hj
    rw [Nat.testBit_or, Bool.or_eq_true] at t
    rcases t with z | z
    · rw [z]; exact g2 j hj z
    · rw [g3 j hj z]
      cases e : T.testBit j
      · rfl
      · have := h5 j hj e
        rw [z] at this
        exact absurd this (by decide)
  · rw [g]
    refine ⟨h3, fun _ _ z => z, fun j hj z => ?_⟩
    cases e : T.testBit j
    · rfl
    · have := h5 j hj e
      rw [z] at this
      exact absurd this (by decide)
theorem qc_N2 {f : Nat → Nat → Bool} {T X v m r : Nat} (hv : v < 7) (hf : f v v = true) (hm : ∀ j, j < 7 → m.testBit j = f v j) (hr : ∀ j, j < 7 → r.testBit j = f j v) : qc_cnt (qc_btw f T X) 128 = qc_cnt (qc_btw f (T ||| m) X) 128 + qc_cnt (qc_btw f T (X ||| r)) 128 := by
  refine qc_cnt_2 (fun s hs => ⟨⟨fun g => ?_, fun g => ?_⟩, fun g => ?_⟩)
  · obtain ⟨g1, g2, g3⟩ := g
    cases e : s.testBit v
    · refine Or.inr ⟨g1, g2, fun j hj z => ?_⟩
      rw [Nat.testBit_or, Bool.or_eq_true] at z
      rcases z with z | z
      · exact g3 j hj z
      · rw [hr j hj] at z
        cases e2 : s.testBit j
        · rfl
        · have := g1 j v hj hv e2 z
          rw [e] at this
          exact absurd this (by decide)
    · refine Or.inl ⟨g1, fun j hj z => ?_, g3⟩
      rw [Nat.testBit_or, Bool.or_eq_true] at z
      rcases z with z | z
      · exact g2 j hj z
      · rw [hm j hj] at z
        exact g1 v j hv hj e z
  · rcases g with ⟨g1, g2, g3⟩ | ⟨g1, g2, g3⟩
    · exact ⟨g1, fun j hj z => g2 j hj (by rw [Nat.testBit_or, z, Bool.true_or]), g3⟩
    · exact ⟨g1, g2, fun j hj z => g3 j hj (by rw [Nat.testBit_or, z, Bool.true_or])⟩
  · obtain ⟨⟨g1, g2, g3⟩, ⟨k1, k2, k3⟩⟩ := g
    have t1 := g2 v hv (by rw [Nat.testBit_or, hm v hv, hf, Bool.or_true])
    have t2 := k3 v hv (by rw [Nat.testBit_or, hr v hv, hf, Bool.or_true])
    rw [t1] at t2
    exact absurd t2 (by decide)
theorem qc_gdT {f : Nat → Nat → Bool} {T X v m : Nat} (h : qc_gd f T X) (ht : ∀ k u v, k < 9 → u < 9 → v < 9 → f u k = true → f k v = true → f u v = true) (hv : v < 7) (hx : X.testBit v = false) (hm1 : m < 128) (hm : ∀ j, j < 7 → m.testBit j = f v j) : qc_gd f (T ||| m) X := by
  obtain ⟨h1, h2, h3, h4, h5⟩ := h
  refine ⟨Nat.or_lt_two_pow (n := 7) h1 hm1, h2, fun u w hu hw g1 g2 => ?_, h4, fun j hj g => ?_⟩
  · rw [Nat.testBit_or, Bool.or_eq_true] at g1 ⊢
    rcases g1 with z | z
    · exact Or.inl (h3 u w hu hw z g2)
    · rw [hm u hu] at z
      rw [hm w hw]
      exact Or.inr (ht u v w (by omega) (by omega) (by omega) z g2)
  · rw [Nat.testBit_or, Bool.or_eq_true] at g
    rcases g with z | z
    · exact h5 j hj z
    · rw [hm j hj] at z
      cases e : X.testBit j
      · rfl
      · have := h4 v j hv hj e z
        rw [hx] at this
        exact absurd this (by decide)
theorem qc_gdX {f : Nat → Nat → Bool} {T X v r : Nat} (h : qc_gd f T X) (ht : ∀ k u v, k < 9 → u < 9 → v < 9 → f u k = true → f k v = true → f u v = true) (hv : v < 7) (hx : T.testBit v = false) (hr1 : r < 128) (hr : ∀ j, j < 7 → r.testBit j = f j v) : qc_gd f T (X ||| r) := by
  obtain ⟨h1, h2, h3, h4, h5⟩ := h
  refine ⟨h1, Nat.or_lt_two_pow (n := 7) h2 hr1, h3, fun u w hu hw g1 g2 => ?_, fun j hj g => ?_⟩
  · rw [Nat.testBit_or, Bool.or_eq_true] at g1 ⊢
    rcases g1 with z | z
    · exact Or.inl (h4 u w hu hw z g2)
    · rw [hr w hw] at z
      rw [hr u hu]
      exact Or.inr (ht w u v (by omega) (by omega) (by omega) g2 z)
  · rw [Nat.testBit_or, h5 j hj g, Bool.false_or, hr j hj]
    cases e : f j v
    · rfl
    · have := h3 j v hj hv g e
      rw [hx] at this
      exact absurd this (by decide)
theorem qc_mk (g : Nat → Bool) : ∀ k, ∃ r, r < 2 ^ k ∧ ∀ j, j < k → r.testBit j = g j
  | 0 => ⟨0, by decide, fun j hj => absurd hj (by omega)⟩
  | k + 1 => by
    obtain ⟨r, r1, r2⟩ := qc_mk g k
    have hp : 2 ^ k < 2 ^ (k + 1) := Nat.pow_lt_pow_right (by decide) (by omega)
    cases e : g k
    · refine ⟨r, by omega, fun j hj => ?_⟩
      by_cases ej : j = k
      · rw [ej, e]; exact qc_hi r1 (Nat.le_refl k)
      · exact r2 j (by omega)
    · refine ⟨r ||| 2 ^ k, Nat.or_lt_two_pow (by omega) hp, fun j hj => ?_⟩
      rw [qc_tbo]
      by_cases ej : j = k
      · rw [ej, e, decide_eq_true rfl, Bool.or_true]
      · rw [r2 j (by omega), decide_eq_false (fun z => ej z.symm), Bool.or_false]
theorem qc_first (Y : Nat) : ∀ k, ∃ v, v ≤ k ∧ (∀ j, j < v → Y.testBit j = true) ∧ (v < k → Y.testBit v = false)
  | 0 => ⟨0, by omega, fun j hj => absurd hj (by omega), fun h => absurd h (by omega)⟩
  | k + 1 => by
    obtain ⟨v, v1, v2, v3⟩ := qc_first Y k
    by_cases e : v < k
    · exact ⟨v, by omega, v2, fun _ => v3 e⟩
    · have ev : v = k := by omega
      cases e2 : Y.testBit k
      · exact ⟨v, by omega, v2, fun _ => by rw [ev]; exact e2⟩
      · refine ⟨k + 1, by omega, fun j hj => ?_, fun h => absurd h (by omega)⟩
        by_cases ej : j = k
        · rw [ej]; exact e2
        · exact v2 j (by omega)
theorem qc_a2 {m v : Nat} (hm : m < 512) : nI m &&& nI (2 ^ v) = 0 ↔ m.testBit v = false := by
  have hl : m &&& 2 ^ v < 2 ^ 31 := Nat.lt_of_le_of_lt Nat.and_le_left (by omega)
  rw [qc_and, ← nI_0, nI_eq hl (by omega)]
  constructor
  · intro h
    have t : (m &&& 2 ^ v).testBit v = false := by rw [h, Nat.zero_testBit]
    rw [Nat.testBit_and, Nat.testBit_two_pow, decide_eq_true rfl, Bool.and_true] at t
    exact t
  · intro h
    refine Nat.eq_of_testBit_eq (fun i => ?_)
    rw [Nat.testBit_and, Nat.testBit_two_pow, Nat.zero_testBit]
    by_cases e : v = i
    · rw [← e, h, Bool.false_and]
    · rw [decide_eq_false e, Bool.and_false]
section
variable {wf fl : Int32} {a1 a2 a3 a4 a5 a6 a7 a8 a9 a10 a11 a12 : Nat → Int32}
/-! ===== the walks ===== -/
theorem qc_small {post : Int32 → Prop} {f : Nat → Nat → Bool} (hG : qc_G a9 f 9) (H : ∀ t, t < 128 → (∀ j, j < 7 → t.testBit j = f 7 j) → post (nI t)) : wpX_smallestSide post (wf, fl, a1, a2, a3, a4, a5, a6, a7, a8, a9, a10, a11, a12) := by
  obtain ⟨m, m1, m2, m3⟩ := hG 7 (by omega)
  have t := H (m &&& 127) (Nat.and_lt_two_pow (n := 7) m (by decide)) (fun j hj => by
    rw [Nat.testBit_and, show (127 : Nat) = 2 ^ 7 - 1 from rfl, Nat.testBit_two_pow_sub_one, decide_eq_true hj, Bool.and_true]
    exact m3 j (by omega))
  rw [← qc_and, ← m2] at t
  exact t
theorem qc_great {post : Int32 → Prop} {f : Nat → Nat → Bool} (hG : qc_G a9 f 9) (H : ∀ t, t < 128 → (∀ j, j < 7 → t.testBit j = !(f j 8)) → post (nI t)) : wpX_greatestSide post (wf, fl, a1, a2, a3, a4, a5, a6, a7, a8, a9, a10, a11, a12) := by
  refine pk_loop (fun n i s => wX_greatestSide_4 post wf fl a1 a2 a3 a4 a5 a6 a7 a8 a9 a10 a11 a12 n (nI s) (nI i)) (fun i s => s < 128 ∧ ∀ j, j < 7 → s.testBit j = (decide (j < i) && !(f j 8))) 7 0 0 (by omega) ⟨by omega, fun j hj => by rw [Nat.zero_testBit, decide_eq_false (Nat.not_lt_zero j), Bool.false_and]⟩ ?_ ?_
  · rintro n s ⟨h1, h2⟩
    exact pk_le 7 7 (fun _ => H s h1 (fun j hj => by rw [h2 j hj, decide_eq_true hj, Bool.true_and])) (fun z => absurd z (by omega))
  · rintro n i s hi ⟨h1, h2⟩ hw
    obtain ⟨m, m1, m2, m3⟩ := hG i (by omega)
    have c1 : (nI i).toNatClampNeg = i := nI_clamp (by omega)
    refine pk_le 7 i (fun z => absurd z (by omega)) (fun _ => ⟨pk_in i 9 (by omega), ?_⟩)
    rw [c1, m2]
    refine qc_in (j := 8) (by omega) (by omega) (fun z => br_f (by decide) (nm_r (nI_1 i) (hw s ⟨h1, fun j hj => ?_⟩))) (fun z => br_t rfl (nm_r (e' := nI (s ||| 2 ^ i)) (by rw [qc_one i (by omega), qc_or]) (nm_r (nI_1 i) (hw _ ⟨qc_lt128 h1 hi, fun j hj => ?_⟩))))
    · rw [h2 j hj]
      by_cases ej : j = i
      · rw [ej, ← m3 8 (by omega), z, Bool.not_true, Bool.and_false, Bool.and_false]
      · rw [show decide (j < i) = decide (j < i + 1) from decide_eq_decide.mpr (by omega)]
    · rw [qc_tbo, h2 j hj]
      by_cases ej : j = i
      · rw [ej, ← m3 8 (by omega), z, decide_eq_true (show i = i from rfl), decide_eq_true (show i < i + 1 by omega), Bool.or_true, Bool.not_false, Bool.and_true]
      · rw [show decide (j < i) = decide (j < i + 1) from decide_eq_decide.mpr (by omega), decide_eq_false (show ¬ i = j from fun z => ej z.symm), Bool.or_false]
theorem qc_uns {post : Int32 → Prop} {T X l v : Nat} (hl : l < 9) (h10 : a10 l = nI T) (h11 : a11 l = nI X) (hT : T < 128) (hX : X < 128) (hv : v ≤ 7) (h1 : ∀ j, j < v → (T ||| X).testBit j = true) (h2 : v < 7 → (T ||| X).testBit v = false) (H : post (nI v)) : wpX_unsettled post (wf, fl, a1, a2, a3, a4, a5, a6, a7, a8, a9, a10, a11, a12) (nI l) := by
  have c1 : (nI l).toNatClampNeg = l := nI_clamp (by omega)
  have e : (a10 (nI l).toNatClampNeg ||| a11 (nI l).toNatClampNeg) = nI (T ||| X) := by rw [c1, h10, h11, qc_or]
  have hlt : T ||| X < 128 := Nat.or_lt_two_pow (n := 7) hT hX
  refine pk_loop (σ := Unit) (fun n i _ => wX_unsettled_2 post (nI l) wf fl a1 a2 a3 a4 a5 a6 a7 a8 a9 a10 a11 a12 n (nI i)) (fun _ _ => True) v 0 () (by omega) trivial ?_ ?_
  · intro n _ _
    refine pk_le 7 v (fun _ => H) (fun z => ⟨pk_in l 9 hl, pk_in l 9 hl, ?_⟩)
    rw [e]
    exact qc_in (by omega) (by omega) (fun g => by rw [h2 z] at g; exact absurd g (by decide)) (fun _ => br_t rfl H)
  · intro n i _ hi _ hw
    refine pk_le 7 i (fun z => absurd z (by omega)) (fun z => ⟨pk_in l 9 hl, pk_in l 9 hl, ?_⟩)
    rw [e]
    exact qc_in (by omega) (by omega) (fun _ => br_f (by decide) (nm_r (nI_1 i) (hw () trivial))) (fun g => by rw [h1 i hi] at g; exact absurd g (by decide))
theorem qc_rch {post : Int32 → Prop} {f : Nat → Nat → Bool} {v r : Nat} (hG : qc_G a9 f 9) (hv : v < 9) (hr : r < 128) (hb : ∀ j, j < 7 → r.testBit j = f j v) (H : post (nI r)) : wpX_reaching post (wf, fl, a1, a2, a3, a4, a5, a6, a7, a8, a9, a10, a11, a12) (nI (2 ^ v)) := by
  refine pk_loop (fun n i s => wX_reaching_4 post (nI (2 ^ v)) wf fl a1 a2 a3 a4 a5 a6 a7 a8 a9 a10 a11 a12 n (nI s) (nI i)) (fun i s => s < 128 ∧ ∀ j, j < 7 → s.testBit j = (decide (j < i) && f j v)) 7 0 0 (by omega) ⟨by omega, fun j hj => by rw [Nat.zero_testBit, decide_eq_false (Nat.not_lt_zero j), Bool.false_and]⟩ ?_ ?_
  · rintro n s ⟨h1, h2⟩
    have e : s = r := qc_ext (k := 7) h1 hr (fun j hj => by rw [h2 j hj, decide_eq_true hj, Bool.true_and, hb j hj])
    exact pk_le 7 7 (fun _ => by rw [e]; exact H) (fun z => absurd z (by omega))
  · rintro n i s hi ⟨h1, h2⟩ hw
    obtain ⟨m, m1, m2, m3⟩ := hG i (by omega)
    have c1 : (nI i).toNatClampNeg = i := nI_clamp (by omega)
    refine pk_le 7 i (fun z => absurd z (by omega)) (fun _ => ⟨pk_in i 9 (by omega), ?_⟩)
    rw [c1, m2]
    refine ek_if (qc_a2 m1) (fun z => nm_r (nI_1 i) (hw s ⟨h1, fun j hj => ?_⟩)) (fun z => nm_r (e' := nI (s ||| 2 ^ i)) (by rw [qc_one i (by omega), qc_or]) (nm_r (nI_1 i) (hw _ ⟨qc_lt128 h1 hi, fun j hj => ?_⟩)))
    · rw [h2 j hj]
      by_cases ej : j = i
      · rw [ej, ← m3 v hv, z, Bool.and_false, Bool.and_false]
      · rw [show decide (j < i) = decide (j < i + 1) from decide_eq_decide.mpr (by omega)]
    · have z := qc_tt z
      rw [qc_tbo, h2 j hj]
      by_cases ej : j = i
      · rw [ej, ← m3 v hv, z, decide_eq_true (show i = i from rfl), decide_eq_true (show i < i + 1 by omega), Bool.or_true, Bool.and_true]
      · rw [show decide (j < i) = decide (j < i + 1) from decide_eq_decide.mpr (by omega), decide_eq_false (show ¬ i = j from fun z => ej z.symm), Bool.or_false]
theorem qc_brT {post : St1 → Prop} {l v m T X : Nat} (hl : l < 8) (hv : v < 9) (h9 : a9 v = nI m) (h10 : a10 l = nI T) (h11 : a11 l = nI X) (h12 : a12 l = nI 0)
    (H : post (wf, fl, a1, a2, a3, a4, a5, a6, a7, a8, a9, upd a10 (l + 1) (nI (T ||| (m &&& 127))), upd a11 (l + 1) (nI X), upd (upd a12 l (nI 1)) (l + 1) 0)) : wpX_branch post (wf, fl, a1, a2, a3, a4, a5, a6, a7, a8, a9, a10, a11, a12) (nI l) (nI v) := by
  have c1 : (nI l).toNatClampNeg = l := nI_clamp (by omega)
  have c2 : (nI v).toNatClampNeg = v := nI_clamp (by omega)
  have c3 : (nI l + 1).toNatClampNeg = l + 1 := pk_cl (l + 1) (nI_1 l) (by omega)
  have i1 : vp_in (nI l) 9 := pk_in l 9 (by omega)
  have i3 : vp_in (nI l + 1) 9 := pk_in (l + 1) 9 (by omega) (nI_1 l)
  refine ⟨i1, br_t (by rw [c1]; exact h12) ⟨i1, i1, nm_r (e' := upd a12 l (nI 1)) (by rw [c1, h12]; rfl) (br_f (by decide) ⟨pk_in v 9 hv, br_f (by decide) ⟨i1, ?_⟩⟩)⟩⟩
  refine ⟨i3, nm_r (e' := upd a10 (l + 1) (nI (T ||| (m &&& 127)))) ?_ (br_f (by decide) ⟨i1, i3, nm_r (e' := upd a11 (l + 1) (nI X)) ?_ ⟨i3, nm_r (e' := upd (upd a12 l (nI 1)) (l + 1) 0) ?_ H⟩⟩)⟩
  · rw [c3, c1, c2, h9, h10, ← qc_or, ← qc_and]; rfl
  · rw [c3, c1, h11]
  · rw [c3]
theorem qc_brX {post : St1 → Prop} {f : Nat → Nat → Bool} {l v r T X : Nat} (hl : l < 8) (hv : v < 9) (hG : qc_G a9 f 9) (hr : r < 128) (hb : ∀ j, j < 7 → r.testBit j = f j v) (h10 : a10 l = nI T) (h11 : a11 l = nI X) (h12 : a12 l = nI 1)
    (H : post (wf, fl, a1, a2, a3, a4, a5, a6, a7, a8, a9, upd a10 (l + 1) (nI T), upd a11 (l + 1) (nI (X ||| r)), upd (upd a12 l (nI 2)) (l + 1) 0)) : wpX_branch post (wf, fl, a1, a2, a3, a4, a5, a6, a7, a8, a9, a10, a11, a12) (nI l) (nI v) := by
  have c1 : (nI l).toNatClampNeg = l := nI_clamp (by omega)
  have c3 : (nI l + 1).toNatClampNeg = l + 1 := pk_cl (l + 1) (nI_1 l) (by omega)
  have i1 : vp_in (nI l) 9 := pk_in l 9 (by omega)
  have i3 : vp_in (nI l + 1) 9 := pk_in (l + 1) 9 (by omega) (nI_1 l)
  refine ⟨i1, br_f (by rw [c1, h12]; decide) ⟨i1, i1, nm_r (e' := upd a12 l (nI 2)) (by rw [c1, h12]; rfl) (br_t rfl ?_)⟩⟩
  rw [qc_one v (by omega)]
  refine qc_rch hG hv hr hb (br_t rfl ⟨i1, i3, nm_r (e' := upd a10 (l + 1) (nI T)) ?_ (br_t rfl ⟨i1, i3, nm_r (e' := upd a11 (l + 1) (nI (X ||| r))) ?_ ⟨i3, nm_r (e' := upd (upd a12 l (nI 2)) (l + 1) 0) ?_ H⟩⟩)⟩)
  · rw [c3, c1, h10]
  · rw [c3, c1, h11, qc_or]
  · rw [c3]
end
end
section
section
variable {wf fl : Int32} {a1 a2 a3 a4 a5 a6 a7 a8 a9 a10 a11 a12 : Nat → Int32}
/-! ===== countClosed ===== -/
theorem qc_cc {post : Int32 → St1 → Prop} {f : Nat → Nat → Bool} (hG : qc_G a9 f 9) (hf : ∀ u, u < 9 → f u u = true) (ht : ∀ k u v, k < 9 → u < 9 → v < 9 → f u k = true → f k v = true → f u v = true) :
    ∀ (r l n step T X : Nat) (a10 a11 a12 : Nat → Int32), l + r = 7 → step + 4 * 2 ^ r ≤ 3000 → a10 l = nI T → a11 l = nI X → a12 l = nI 0 → qc_gd f T X → (∀ j, j < l → (T ||| X).testBit j = true) →
    (∀ (b10 b11 b12 : Nat → Int32) (step' : Nat), step' + 3 ≤ step + 4 * 2 ^ r → (∀ j, j < l → b10 j = a10 j ∧ b11 j = a11 j ∧ b12 j = a12 j) → ∃ k, wX_countClosed_38 post k (nI (n + qc_cnt (qc_btw f T X) 128)) (nI l + (-1)) (nI step') wf fl a1 a2 a3 a4 a5 a6 a7 a8 a9 b10 b11 b12) →
    ∃ k, wX_countClosed_38 post k (nI n) (nI l) (nI step) wf fl a1 a2 a3 a4 a5 a6 a7 a8 a9 a10 a11 a12 := by
  intro r
  induction r with
  | zero =>
    intro l n step T X a10 a11 a12 hl hs h10 h11 h12 hg hj H
    have hl7 : l = 7 := by omega
    have hs4 : step + 4 ≤ 3000 := by simpa using hs
    obtain ⟨k, hk⟩ := H a10 a11 a12 (step + 1) (by simp) (fun j _ => ⟨rfl, rfl, rfl⟩)
    rw [qc_N1 hg (fun j hj' => hj j (by omega))] at hk
    refine ⟨k + 1, pk_le 4000 step (fun z => absurd z (by omega)) (fun _ => br_f (nI_pos (by omega)) (qc_uns (v := 7) (by omega) h10 h11 hg.1 hg.2.1 (by omega) (fun j hj' => hj j (by omega)) (fun z => absurd z (by omega)) ?_))⟩
    exact br_t rfl (nm_r (nI_1 n) (nm_e (nm_r (nI_1 step) hk)))
  | succ r ih =>
    intro l n step T X a10 a11 a12 hl hs h10 h11 h12 hg hj H
    have hp : 2 ^ (r + 1) = 2 * 2 ^ r := by rw [Nat.pow_succ]; omega
    have hp1 : 1 ≤ 2 ^ r := Nat.one_le_two_pow
    rw [hp] at hs H
    obtain ⟨v, v1, v2, v3⟩ := qc_first (T ||| X) 7
    by_cases e7 : v = 7
    · subst e7
      obtain ⟨k, hk⟩ := H a10 a11 a12 (step + 1) (by omega) (fun j _ => ⟨rfl, rfl, rfl⟩)
      rw [qc_N1 hg v2] at hk
      refine ⟨k + 1, pk_le 4000 step (fun z => absurd z (by omega)) (fun _ => br_f (nI_pos (by omega)) (qc_uns (v := 7) (by omega) h10 h11 hg.1 hg.2.1 (by omega) v2 (fun z => absurd z (by omega)) ?_))⟩
      exact br_t rfl (nm_r (nI_1 n) (nm_e (nm_r (nI_1 step) hk)))
    · have hv : v < 7 := by omega
      have hv0 := v3 hv
      have hlv : l ≤ v := by
        rcases Nat.lt_or_ge v l with z | z
        · have := hj v z
          rw [hv0] at this
          exact absurd this (by decide)
        · exact z
      have hv0' := hv0
      rw [Nat.testBit_or, Bool.or_eq_false_iff] at hv0'
      obtain ⟨hvT, hvX⟩ := hv0'
      obtain ⟨m, m1, m2, m3⟩ := hG v (by omega)
      obtain ⟨q, q1, q2⟩ := qc_mk (fun j => f j v) 7
      have hm1 : m &&& 127 < 128 := Nat.and_lt_two_pow (n := 7) m (by decide)
      have hm2 : ∀ j, j < 7 → (m &&& 127).testBit j = f v j := fun j hj => by
        rw [Nat.testBit_and, show (127 : Nat) = 2 ^ 7 - 1 from rfl, Nat.testBit_two_pow_sub_one, decide_eq_true hj, Bool.and_true]
        exact m3 j (by omega)
      have hN := qc_N2 (T := T) (X := X) hv (hf v (by omega)) hm2 q2
      have nv : ¬ nI v = 7 := fun z => e7 ((nI_eq (by omega) (by omega)).mp z)
      have c1 : (nI l).toNatClampNeg = l := nI_clamp (by omega)
      -- first child: v is taken
      have first : ∃ k, wX_countClosed_38 post k (nI n) (nI (l + 1)) (nI (step + 1)) wf fl a1 a2 a3 a4 a5 a6 a7 a8 a9 (upd a10 (l + 1) (nI (T ||| (m &&& 127)))) (upd a11 (l + 1) (nI X)) (upd (upd a12 l (nI 1)) (l + 1) 0) := by
        refine ih (l + 1) n (step + 1) (T ||| (m &&& 127)) X _ _ _ (by omega) (by omega) pk_us pk_us pk_us (qc_gdT hg ht hv hvX hm1 hm2) (fun j hj' => ?_) (fun b10 b11 b12 s1 hs1 hb => ?_)
        · by_cases ej : j = v
          · rw [ej, Nat.testBit_or, Nat.testBit_or, hm2 v hv, hf v (by omega), Bool.or_true, Bool.true_or]
          · have := v2 j (by omega)
            rw [Nat.testBit_or, Bool.or_eq_true] at this
            rw [Nat.testBit_or, Nat.testBit_or]
            rcases this with z | z
            · rw [z, Bool.true_or, Bool.true_or]
            · rw [z, Bool.or_true]
        · -- back at l: v is refused
          have b10l : b10 l = nI T := by rw [(hb l (by omega)).1, pk_un (by omega)]; exact h10
          have b11l : b11 l = nI X := by rw [(hb l (by omega)).2.1, pk_un (by omega)]; exact h11
          have b12l : b12 l = nI 1 := by rw [(hb l (by omega)).2.2, pk_un (by omega)]; exact pk_us
          have second : ∃ k, wX_countClosed_38 post k (nI (n + qc_cnt (qc_btw f (T ||| (m &&& 127)) X) 128)) (nI (l + 1)) (nI (s1 + 1)) wf fl a1 a2 a3 a4 a5 a6 a7 a8 a9 (upd b10 (l + 1) (nI T)) (upd b11 (l + 1) (nI (X ||| q))) (upd (upd b12 l (nI 2)) (l + 1) 0) := by
            refine ih (l + 1) _ (s1 + 1) T (X ||| q) _ _ _ (by omega) (by omega) pk_us pk_us pk_us (qc_gdX hg ht hv hvT q1 q2) (fun j hj' => ?_) (fun d10 d11 d12 s2 hs2 hd => ?_)
            · by_cases ej : j = v
              · rw [ej, Nat.testBit_or, Nat.testBit_or, q2 v hv, hf v (by omega), Bool.or_true, Bool.or_true]
              · have := v2 j (by omega)
                rw [Nat.testBit_or, Bool.or_eq_true] at this
                rw [Nat.testBit_or, Nat.testBit_or]
                rcases this with z | z
                · rw [z, Bool.true_or]
                · rw [z, Bool.true_or, Bool.or_true]
            · -- back at l: done with l
              have d10l : d10 l = nI T := by rw [(hd l (by omega)).1, pk_un (by omega)]; exact b10l
              have d11l : d11 l = nI X := by rw [(hd l (by omega)).2.1, pk_un (by omega)]; exact b11l
              have d12l : d12 l = nI 2 := by rw [(hd l (by omega)).2.2, pk_un (by omega)]; exact pk_us
              have hag : ∀ j, j < l → d10 j = a10 j ∧ d11 j = a11 j ∧ d12 j = a12 j := fun j hj' => by
                refine ⟨?_, ?_, ?_⟩
                · rw [(hd j (by omega)).1, pk_un (by omega), (hb j (by omega)).1, pk_un (by omega)]
                · rw [(hd j (by omega)).2.1, pk_un (by omega), (hb j (by omega)).2.1, pk_un (by omega)]
                · rw [(hd j (by omega)).2.2, pk_un (by omega), pk_un (by omega), (hb j (by omega)).2.2, pk_un (by omega), pk_un (by omega)]
              obtain ⟨k, hk⟩ := H d10 d11 d12 (s2 + 1) (by omega) hag
              have eN : n + qc_cnt (qc_btw f (T ||| (m &&& 127)) X) 128 + qc_cnt (qc_btw f T (X ||| q)) 128 = n + qc_cnt (qc_btw f T X) 128 := by omega
              rw [eN]
              have el : nI (l + 1) + (-1) = nI l := pk_m1 l
              rw [el]
              refine ⟨k + 1, pk_le 4000 s2 (fun z => absurd z (by omega)) (fun _ => br_f (nI_pos (by omega)) (qc_uns (v := v) (by omega) d10l d11l hg.1 hg.2.1 v1 v2 v3 ?_))⟩
              exact br_f nv ⟨pk_in l 9 (by omega), br_t (by rw [c1, d12l]; rfl) (nm_e (nm_r (nI_1 s2) hk))⟩
          obtain ⟨k, hk⟩ := second
          have el : nI (l + 1) + (-1) = nI l := pk_m1 l
          rw [el]
          refine ⟨k + 1, pk_le 4000 s1 (fun z => absurd z (by omega)) (fun _ => br_f (nI_pos (by omega)) (qc_uns (v := v) (by omega) b10l b11l hg.1 hg.2.1 v1 v2 v3 ?_))⟩
          refine br_f nv ⟨pk_in l 9 (by omega), br_f (by rw [c1, b12l]; decide) (qc_brX (by omega) (by omega) hG q1 q2 b10l b11l b12l ?_)⟩
          exact nm_r (nI_1 l) (nm_r (nI_1 s1) hk)
      obtain ⟨k, hk⟩ := first
      refine ⟨k + 1, pk_le 4000 step (fun z => absurd z (by omega)) (fun _ => br_f (nI_pos (by omega)) (qc_uns (v := v) (by omega) h10 h11 hg.1 hg.2.1 v1 v2 v3 ?_))⟩
      refine br_f nv ⟨pk_in l 9 (by omega), br_f (by rw [c1, h12]; decide) (qc_brT (by omega) (by omega) m2 h10 h11 h12 ?_)⟩
      exact nm_r (nI_1 l) (nm_r (nI_1 step) hk)
theorem qc_c127 : ∀ g, g < 128 → (127 : Int32) &&& (nI g ^^^ (-1)) = nI (2 ^ 7 - (g + 1)) := by decide +kernel
theorem qc_count {post : Int32 → St1 → Prop} {f : Nat → Nat → Bool} (hG : qc_G a9 f 9) (hf : ∀ u, u < 9 → f u u = true) (ht : ∀ k u v, k < 9 → u < 9 → v < 9 → f u k = true → f k v = true → f u v = true) (h78 : f 7 8 = false)
    (H : ∀ T X b10 b11 b12, T < 128 → X < 128 → (∀ j, j < 7 → T.testBit j = f 7 j) → (∀ j, j < 7 → X.testBit j = f j 8) → post (nI (qc_cnt (qc_btw f T X) 128)) (wf, fl, a1, a2, a3, a4, a5, a6, a7, a8, a9, b10, b11, b12)) : wpX_countClosed post (wf, fl, a1, a2, a3, a4, a5, a6, a7, a8, a9, a10, a11, a12) := by
  unfold wpX_countClosed
  dsimp only
  refine qc_small hG (fun T hT hTb => nm_e (qc_great hG (fun g hg hgb => nm_e (nm_e ?_))))
  have hX : 2 ^ 7 - (g + 1) < 128 := by omega
  have hXb : ∀ j, j < 7 → (2 ^ 7 - (g + 1)).testBit j = f j 8 := fun j hj => by
    rw [Nat.testBit_two_pow_sub_succ hg, decide_eq_true hj, Bool.true_and, hgb j hj, Bool.not_not]
  rw [qc_c127 g hg]
  refine qc_cc hG hf ht 7 0 0 0 T (2 ^ 7 - (g + 1)) _ _ _ (by omega) (by decide) pk_us pk_us pk_us ⟨hT, hX, fun u v hu hv h1 h2 => ?_, fun u v hu hv h1 h2 => ?_, fun j hj h1 => ?_⟩ (fun j hj => absurd hj (by omega)) (fun b10 b11 b12 s hs hb => ?_)
  · rw [hTb u hu] at h1
    rw [hTb v hv]
    exact ht u 7 v (by omega) (by omega) (by omega) h1 h2
  · rw [hXb v hv] at h1
    rw [hXb u hu]
    exact ht v u 8 (by omega) (by omega) (by omega) h2 h1
  · rw [hTb j hj] at h1
    rw [hXb j hj]
    cases e : f j 8
    · rfl
    · have := ht j 7 8 (by omega) (by omega) (by omega) h1 e
      rw [h78] at this
      exact absurd this (by decide)
  · have h128 : (2 : Nat) ^ 7 = 128 := by decide
    rw [h128] at hs
    refine ⟨0 + 1, pk_le 4000 s (fun z => absurd z (by omega)) (fun _ => br_t (by decide) ?_)⟩
    rw [Nat.zero_add]
    exact H T _ b10 b11 b12 hT hX hTb hXb
end
end
section
/-! ===== masks as sets; the cost of a mask ===== -/
def qc_ms (s v : Nat) : Bool := decide (v = 7) || (decide (v < 7) && s.testBit v)
theorem qc_ms_v (s : Nat) : qc_val (qc_ms s) := ⟨rfl, rfl⟩
theorem qc_ms_l {s v : Nat} (hv : v < 7) : qc_ms s v = s.testBit v := by
  unfold qc_ms
  rw [decide_eq_false (show ¬ v = 7 by omega), decide_eq_true hv, Bool.false_or, Bool.true_and]
theorem qc_cost_c {cap : Nat → Nat → Nat} {src snk : Nat → Nat} {S S' : Nat → Bool} (h : ∀ v, v < 7 → S v = S' v) : qc_cost cap src snk S = qc_cost cap src snk S' :=
  qc_sm_c (fun v hv => by
    show (if S v = true then snk v else src v) + qc_sm v (fun u => if S u = S v then 0 else cap u v) = (if S' v = true then snk v else src v) + qc_sm v (fun u => if S' u = S' v then 0 else cap u v)
    rw [h v hv, qc_sm_c (n := v) (f := fun u => if S u = S' v then 0 else cap u v) (g := fun u => if S' u = S' v then 0 else cap u v) (fun u hu => by
      show (if S u = S' v then 0 else cap u v) = (if S' u = S' v then 0 else cap u v)
      rw [h u (by omega)])])
/-- capacities between live nodes alone -/
def qc_cp (cap : Nat → Nat → Nat) : Prop := (∀ u v, cap u v = cap v u) ∧ (∀ u v, 4 ≤ v → cap u v = 0) ∧ (∀ u v, cap u v ≤ 20)
def qc_w (cap : Nat → Nat → Nat) (s u v : Nat) : Nat := if s.testBit u = s.testBit v then 0 else cap u v
def qc_pl (src snk : Nat → Nat) (s v : Nat) : Nat := if s.testBit v = true then snk v else src v
def qc_k4 (cap : Nat → Nat → Nat) (src snk : Nat → Nat) (s : Nat) : Nat := qc_sm 4 (qc_pl src snk s) + qc_w cap s 0 1 + qc_w cap s 0 2 + qc_w cap s 0 3 + qc_w cap s 1 2 + qc_w cap s 1 3 + qc_w cap s 2 3
def qc_k (cap : Nat → Nat → Nat) (src snk : Nat → Nat) (s : Nat) : Nat := qc_cost cap src snk (qc_ms s)
theorem qc_k_4 {cap : Nat → Nat → Nat} {src snk : Nat → Nat} (hc : qc_cp cap) (h1 : ∀ v, 4 ≤ v → v < 7 → src v = 0) (h2 : ∀ v, 4 ≤ v → v < 7 → snk v = 0) (s : Nat) : qc_k cap src snk s = qc_k4 cap src snk s := by
  have e : qc_k cap src snk s = qc_sm 7 (fun v => qc_pl src snk s v + qc_sm v (fun u => qc_w cap s u v)) := qc_sm_c (fun v hv => by
    show (if qc_ms s v = true then snk v else src v) + qc_sm v (fun u => if qc_ms s u = qc_ms s v then 0 else cap u v) = qc_pl src snk s v + qc_sm v (fun u => qc_w cap s u v)
    rw [qc_ms_l hv]
    refine congrArg (_ + ·) (qc_sm_c (fun u hu => ?_))
    show (if qc_ms s u = s.testBit v then 0 else cap u v) = qc_w cap s u v
    rw [qc_ms_l (by omega)]
    rfl)
  have p0 : ∀ v, 4 ≤ v → v < 7 → qc_pl src snk s v + qc_sm v (fun u => qc_w cap s u v) = 0 := fun v h4 h7 => by
    have t : qc_sm v (fun u => qc_w cap s u v) = 0 := qc_sm_0 (fun u _ => by
      show qc_w cap s u v = 0
      unfold qc_w
      rw [hc.2.1 u v h4]
      by_cases z : s.testBit u = s.testBit v
      · rw [if_pos z]
      · rw [if_neg z])
    rw [t]
    unfold qc_pl
    rw [h1 v h4 h7, h2 v h4 h7]
    by_cases z : s.testBit v = true
    · rw [if_pos z]
    · rw [if_neg z]
  have p4 := p0 4 (by omega) (by omega)
  have p5 := p0 5 (by omega) (by omega)
  have p6 := p0 6 (by omega) (by omega)
  have e2 : qc_sm 7 (fun v => qc_pl src snk s v + qc_sm v (fun u => qc_w cap s u v)) = qc_sm 4 (fun v => qc_pl src snk s v + qc_sm v (fun u => qc_w cap s u v)) := by
    show ((qc_sm 4 (fun v => qc_pl src snk s v + qc_sm v (fun u => qc_w cap s u v)) + (qc_pl src snk s 4 + qc_sm 4 (fun u => qc_w cap s u 4))) + (qc_pl src snk s 5 + qc_sm 5 (fun u => qc_w cap s u 5))) + (qc_pl src snk s 6 + qc_sm 6 (fun u => qc_w cap s u 6)) = _
    rw [p4, p5, p6]
    simp only [Nat.add_zero]
  rw [e, e2]
  unfold qc_k4
  show (((0 + (qc_pl src snk s 0 + 0)) + (qc_pl src snk s 1 + (0 + qc_w cap s 0 1))) + (qc_pl src snk s 2 + ((0 + qc_w cap s 0 2) + qc_w cap s 1 2))) + (qc_pl src snk s 3 + (((0 + qc_w cap s 0 3) + qc_w cap s 1 3) + qc_w cap s 2 3)) = ((((0 + qc_pl src snk s 0) + qc_pl src snk s 1) + qc_pl src snk s 2) + qc_pl src snk s 3) + qc_w cap s 0 1 + qc_w cap s 0 2 + qc_w cap s 0 3 + qc_w cap s 1 2 + qc_w cap s 1 3 + qc_w cap s 2 3
  omega
theorem qc_k4_le {cap : Nat → Nat → Nat} {src snk : Nat → Nat} (hc : qc_cp cap) (h1 : ∀ v, v < 7 → src v ≤ 140) (h2 : ∀ v, v < 7 → snk v ≤ 140) (s : Nat) : qc_k4 cap src snk s ≤ 680 := by
  have w : ∀ u v, qc_w cap s u v ≤ 20 := fun u v => by
    unfold qc_w
    by_cases z : s.testBit u = s.testBit v
    · rw [if_pos z]; omega
    · rw [if_neg z]; exact hc.2.2 u v
  have p : qc_sm 4 (qc_pl src snk s) ≤ 4 * 140 := qc_sm_b (fun v hv => by
    unfold qc_pl
    by_cases z : s.testBit v = true
    · rw [if_pos z]; exact h2 v (by omega)
    · rw [if_neg z]; exact h1 v (by omega))
  unfold qc_k4
  have w1 := w 0 1
  have w2 := w 0 2
  have w3 := w 0 3
  have w4 := w 1 2
  have w5 := w 1 3
  have w6 := w 2 3
  omega
theorem qc_k4_c {cap : Nat → Nat → Nat} {src snk : Nat → Nat} {s s' : Nat} (h : ∀ j, j < 4 → s.testBit j = s'.testBit j) : qc_k4 cap src snk s = qc_k4 cap src snk s' := by
  unfold qc_k4 qc_w
  rw [h 0 (by omega), h 1 (by omega), h 2 (by omega), h 3 (by omega), qc_sm_c (f := qc_pl src snk s) (g := qc_pl src snk s') (fun v hv => by unfold qc_pl; rw [h v hv])]
section
variable {wf fl : Int32} {a1 a2 a3 a4 a5 a6 a7 a8 a9 a10 a11 a12 : Nat → Int32}
/-! ===== the component's cost ===== -/
theorem qc_co48 {post : Int32 → Prop} {J : Int32 → Int32 → Prop} {cap : Nat → Nat → Nat} {s v a : Nat} {x x5 : Int32} (hK : ∀ u v, u < 7 → v < 7 → a1 (u * 7 + v) = nI (cap u v)) (hs : s < 128) (hv : v < 7) (hx : (x5 = 1 ∧ s.testBit v = true) ∨ (x5 = 0 ∧ s.testBit v = false))
    (H : J (nI (a + qc_sm v (fun u => if s.testBit u = s.testBit v then 0 else cap u v))) (nI (v + 1))) : ∃ n, wX_costOf_48 post J (nI s) x (nI v) x5 wf fl a1 a2 a3 a4 a5 a6 a7 a8 a9 a10 a11 a12 n (nI a) 0 := by
  refine pk_loop (fun n i b => wX_costOf_48 post J (nI s) x (nI v) x5 wf fl a1 a2 a3 a4 a5 a6 a7 a8 a9 a10 a11 a12 n (nI b) (nI i)) (fun i b => b = a + qc_sm i (fun u => if s.testBit u = s.testBit v then 0 else cap u v)) v 0 a (by omega) rfl ?_ ?_
  · intro n b hb
    rw [← hb] at H
    exact pk_le v v (fun _ => nm_r (nI_1 v) H) (fun z => absurd z (by omega))
  · intro n i b hi hb hw
    have ei : nI i * 7 + nI v = nI (i * 7 + v) := qc_ix7 i v
    have e1 : a1 (nI i * 7 + nI v).toNatClampNeg = nI (cap i v) := by
      rw [pk_cl (i * 7 + v) ei (by omega)]
      exact hK i v (by omega) hv
    have same : s.testBit i = s.testBit v → b = a + qc_sm (i + 1) (fun u => if s.testBit u = s.testBit v then 0 else cap u v) := fun z => by
      show b = a + (qc_sm i (fun u => if s.testBit u = s.testBit v then 0 else cap u v) + (if s.testBit i = s.testBit v then 0 else cap i v))
      rw [if_pos z, hb]; omega
    have diff : ¬ s.testBit i = s.testBit v → b + cap i v = a + qc_sm (i + 1) (fun u => if s.testBit u = s.testBit v then 0 else cap u v) := fun z => by
      show b + cap i v = a + (qc_sm i (fun u => if s.testBit u = s.testBit v then 0 else cap u v) + (if s.testBit i = s.testBit v then 0 else cap i v))
      rw [if_neg z, hb]; omega
    have step : ¬ s.testBit i = s.testBit v → vp_in (nI i * 7 + nI v) 49 ∧ (∀ x3 : Int32, x3 = nI b + a1 (nI i * 7 + nI v).toNatClampNeg → (∀ x6 : Int32, x6 = nI i + 1 → wX_costOf_48 post J (nI s) x (nI v) x5 wf fl a1 a2 a3 a4 a5 a6 a7 a8 a9 a10 a11 a12 n x3 x6)) := fun z =>
      ⟨pk_in (i * 7 + v) 49 (by omega) ei, nm_r (e' := nI (b + cap i v)) (by rw [e1, nI_add]) (nm_r (nI_1 i) (hw _ (diff z)))⟩
    refine pk_le v i (fun z => absurd z (by omega)) (fun _ => qc_in (by omega) (by omega) (fun z => ?_) (fun z => ?_))
    · rcases hx with ⟨h1, h2⟩ | ⟨h1, h2⟩
      · exact br_t h1.symm (nm_r (nI_1 i) (hw b (same (by rw [z, h2]))))
      · exact br_f (by rw [h1]; decide) (step (by rw [z, h2]; decide))
    · rcases hx with ⟨h1, h2⟩ | ⟨h1, h2⟩
      · exact br_f (by rw [h1]; decide) (step (by rw [z, h2]; decide))
      · exact br_t h1.symm (nm_r (nI_1 i) (hw b (same (by rw [z, h2]))))
theorem qc_co {post : Int32 → Prop} {cap : Nat → Nat → Nat} {s : Nat} {x : Int32} (hK : ∀ u v, u < 7 → v < 7 → a1 (u * 7 + v) = nI (cap u v)) (hs : s < 128)
    (H : post (nI (qc_k cap (fun v => qc_pv (a2 v + a3 v * x)) (fun v => qc_pv (a4 v + a5 v * x)) s))) : wpX_costOf post (wf, fl, a1, a2, a3, a4, a5, a6, a7, a8, a9, a10, a11, a12) (nI s) x := by
  have e : qc_k cap (fun v => qc_pv (a2 v + a3 v * x)) (fun v => qc_pv (a4 v + a5 v * x)) s = qc_sm 7 (fun v => (if s.testBit v = true then qc_pv (a4 v + a5 v * x) else qc_pv (a2 v + a3 v * x)) + qc_sm v (fun u => if s.testBit u = s.testBit v then 0 else cap u v)) := qc_sm_c (fun v hv => by
    show (if qc_ms s v = true then qc_pv (a4 v + a5 v * x) else qc_pv (a2 v + a3 v * x)) + qc_sm v (fun u => if qc_ms s u = qc_ms s v then 0 else cap u v) = _
    rw [qc_ms_l hv]
    refine congrArg (_ + ·) (qc_sm_c (fun u hu => ?_))
    show (if qc_ms s u = s.testBit v then 0 else cap u v) = _
    rw [qc_ms_l (by omega)])
  rw [e] at H
  refine pk_loop (fun n i b => wX_costOf_5 post (nI s) x wf fl a1 a2 a3 a4 a5 a6 a7 a8 a9 a10 a11 a12 n (nI b) (nI i)) (fun i b => b = qc_sm i (fun v => (if s.testBit v = true then qc_pv (a4 v + a5 v * x) else qc_pv (a2 v + a3 v * x)) + qc_sm v (fun u => if s.testBit u = s.testBit v then 0 else cap u v))) 7 0 0 (by omega) rfl ?_ ?_
  · intro n b hb
    rw [← hb] at H
    exact pk_le 7 7 (fun _ => H) (fun z => absurd z (by omega))
  · intro n i b hi hb hw
    refine pk_le 7 i (fun z => absurd z (by omega)) (fun _ => qc_in (by omega) (by omega) (fun z => ?_) (fun z => ?_))
    · refine br_f (by decide) (qc_kp hi (nm_r (nI_add b _) (qc_co48 hK hs hi (Or.inl ⟨rfl, z⟩) (hw _ ?_))))
      show _ = qc_sm i _ + ((if s.testBit i = true then qc_pv (a4 i + a5 i * x) else qc_pv (a2 i + a3 i * x)) + qc_sm i (fun u => if s.testBit u = s.testBit i then 0 else cap u i))
      rw [if_pos z, hb]; omega
    · refine br_t rfl (qc_sp hi (nm_r (nI_add b _) (qc_co48 hK hs hi (Or.inr ⟨rfl, z⟩) (hw _ ?_))))
      show _ = qc_sm i _ + ((if s.testBit i = true then qc_pv (a4 i + a5 i * x) else qc_pv (a2 i + a3 i * x)) + qc_sm i (fun u => if s.testBit u = s.testBit i then 0 else cap u i))
      rw [if_neg (show ¬ s.testBit i = true by rw [z]; decide), hb]; omega
theorem qc_bx {post : Int32 → Prop} {x : Nat} (hx : x ≤ 50) (H : post 0) : wpX_badX post () (nI x) := br_f (nI_pos (by omega)) (br_t (nI_le (b := 50) hx (by decide)) H)
theorem qc_cst {post : Int32 → Prop} {cap : Nat → Nat → Nat} {s x : Nat} (hK : ∀ u v, u < 7 → v < 7 → a1 (u * 7 + v) = nI (cap u v)) (hs : s < 128) (hx : x ≤ 50)
    (H : post (nI (qc_k cap (fun v => qc_pv (a2 v + a3 v * nI x)) (fun v => qc_pv (a4 v + a5 v * nI x)) s))) : wpX_cost post (wf, fl, a1, a2, a3, a4, a5, a6, a7, a8, a9, a10, a11, a12) (nI s) (nI x) := by
  unfold wpX_cost
  dsimp only
  exact qc_bx hx (br_t rfl (qc_co hK hs H))
end
end
section
/-! ===== the law's packed ints ===== -/
def qc_bt (x : Int32) (i : Nat) : Bool := x.toBitVec.getLsbD i
theorem qc_bext {x y : Int32} (h : ∀ i, i < 32 → qc_bt x i = qc_bt y i) : x = y := Int32.toBitVec_inj.mp (BitVec.eq_of_getLsbD_eq (fun i hi => h i hi))
theorem qc_bor (x y : Int32) (i : Nat) : qc_bt (x ||| y) i = (qc_bt x i || qc_bt y i) := by unfold qc_bt; rw [Int32.toBitVec_or, BitVec.getLsbD_or]
theorem qc_band (x y : Int32) (i : Nat) : qc_bt (x &&& y) i = (qc_bt x i && qc_bt y i) := by unfold qc_bt; rw [Int32.toBitVec_and, BitVec.getLsbD_and]
theorem qc_bxor (x y : Int32) (i : Nat) : qc_bt (x ^^^ y) i = (qc_bt x i ^^ qc_bt y i) := by unfold qc_bt; rw [Int32.toBitVec_xor, BitVec.getLsbD_xor]
theorem qc_bm1 : ∀ i, i < 32 → qc_bt (-1) i = true := by decide +kernel
theorem qc_b31 : ∀ i, i < 32 → qc_bt 31 i = decide (i < 5) := by decide +kernel
theorem qc_b511 : ∀ i, i < 32 → qc_bt 511 i = decide (i < 9) := by decide +kernel
theorem qc_bn (n : Nat) {i : Nat} (hi : i < 32) : qc_bt (nI n) i = n.testBit i := by
  show (BitVec.ofNat 32 n).getLsbD i = n.testBit i
  rw [BitVec.getLsbD_ofNat, decide_eq_true hi, Bool.true_and]
theorem qc_bshl (n : Nat) (hn : n < 32) (x : Int32) {i : Nat} (hi : i < 32) : qc_bt (x <<< (nI n &&& 31)) i = (decide (n ≤ i) && qc_bt x (i - n)) := by
  unfold qc_bt
  rw [Int32.toBitVec_shiftLeft]
  show (x.toBitVec <<< ((nI n &&& 31).toBitVec.smod 32).toNat).getLsbD i = _
  rw [qc_s31 n hn, BitVec.getLsbD_shiftLeft]
  rcases Nat.lt_or_ge i n with h | h
  · simp [h, Nat.not_le.mpr h]
  · simp [hi, h, Nat.not_lt.mpr h]
theorem qc_bshr (n : Nat) (hn : n < 32) (x : Int32) {i : Nat} (hi : n + i < 32) : qc_bt (x >>> (nI n &&& 31)) i = qc_bt x (n + i) := by
  unfold qc_bt
  rw [Int32.toBitVec_shiftRight]
  show (x.toBitVec.sshiftRight ((nI n &&& 31).toBitVec.smod 32).toNat).getLsbD i = _
  rw [qc_s31 n hn, BitVec.getLsbD_sshiftRight]
  simp [hi, show i < 32 by omega]
def qc_LK (x : Int32) (k : Nat) : Int32 := (x >>> ((5 * nI k) &&& 31)) &&& 31
theorem qc_LK_b {x : Int32} {k i : Nat} (hk : k < 6) (hi : i < 32) : qc_bt (qc_LK x k) i = (decide (i < 5) && qc_bt x (5 * k + i)) := by
  unfold qc_LK
  rw [show (5 : Int32) * nI k = nI (5 * k) from pk_mul 5 k, qc_band, qc_b31 i hi]
  by_cases e : i < 5
  · rw [decide_eq_true e, qc_bshr (5 * k) (by omega) x (by omega), Bool.and_true, Bool.true_and]
  · rw [decide_eq_false e, Bool.and_false, Bool.false_and]
def qc_LS (x : Int32) (k c : Nat) : Int32 := (x &&& (((31 : Int32) <<< ((5 * nI k) &&& 31)) ^^^ (-1))) ||| (nI c <<< ((5 * nI k) &&& 31))
theorem qc_LS_b {x : Int32} {k c i : Nat} (hk : k < 6) (hi : i < 32) : qc_bt (qc_LS x k c) i = ((qc_bt x i && !(decide (5 * k ≤ i) && qc_bt 31 (i - 5 * k))) || (decide (5 * k ≤ i) && qc_bt (nI c) (i - 5 * k))) := by
  unfold qc_LS
  rw [show (5 : Int32) * nI k = nI (5 * k) from pk_mul 5 k, qc_bor, qc_band, qc_bxor, qc_bshl (5 * k) (by omega) 31 hi, qc_bshl (5 * k) (by omega) (nI c) hi, qc_bm1 i hi, Bool.xor_true]
theorem qc_LKs {x : Int32} {k c : Nat} (hk : k < 6) (hc : c < 32) : qc_LK (qc_LS x k c) k = nI c := by
  refine qc_bext (fun i hi => ?_)
  rw [qc_LK_b hk hi, qc_bn c hi]
  by_cases e : i < 5
  · rw [qc_LS_b hk (by omega), decide_eq_true e, decide_eq_true (show 5 * k ≤ 5 * k + i by omega), show 5 * k + i - 5 * k = i by omega, qc_b31 i hi, decide_eq_true e, qc_bn c hi]
    simp
  · rw [decide_eq_false e, Bool.false_and, qc_hi (k := 5) hc (by omega)]
theorem qc_LKn {x : Int32} {k j c : Nat} (hk : k < 6) (hj : j < 6) (hc : c < 32) (h : j ≠ k) : qc_LK (qc_LS x k c) j = qc_LK x j := by
  refine qc_bext (fun i hi => ?_)
  rw [qc_LK_b hj hi, qc_LK_b hj hi]
  by_cases e : i < 5
  · rw [qc_LS_b hk (by omega), decide_eq_true e]
    by_cases e2 : 5 * k ≤ 5 * j + i
    · rw [decide_eq_true e2, qc_b31 _ (by omega), decide_eq_false (show ¬ 5 * j + i - 5 * k < 5 by omega), qc_bn c (by omega), qc_hi (k := 5) hc (show 5 ≤ 5 * j + i - 5 * k by omega)]
      simp
    · rw [decide_eq_false e2]
      simp
  · rw [decide_eq_false e, Bool.false_and, Bool.false_and]
/-! longs -/
def qc_bl (x : Int64) (i : Nat) : Bool := x.toBitVec.getLsbD i
theorem qc_blor (x y : Int64) (i : Nat) : qc_bl (x ||| y) i = (qc_bl x i || qc_bl y i) := by unfold qc_bl; rw [Int64.toBitVec_or, BitVec.getLsbD_or]
theorem qc_bland (x y : Int64) (i : Nat) : qc_bl (x &&& y) i = (qc_bl x i && qc_bl y i) := by unfold qc_bl; rw [Int64.toBitVec_and, BitVec.getLsbD_and]
theorem qc_blxor (x y : Int64) (i : Nat) : qc_bl (x ^^^ y) i = (qc_bl x i ^^ qc_bl y i) := by unfold qc_bl; rw [Int64.toBitVec_xor, BitVec.getLsbD_xor]
theorem qc_blm1 : ∀ i, i < 64 → qc_bl (-1) i = true := by decide +kernel
theorem qc_bl511 : ∀ i, i < 64 → qc_bl 511 i = decide (i < 9) := by decide +kernel
theorem qc_bln (n : Nat) {i : Nat} (hi : i < 64) : qc_bl (lN n) i = n.testBit i := by
  show (BitVec.ofNat 64 n).getLsbD i = n.testBit i
  rw [BitVec.getLsbD_ofNat, decide_eq_true hi, Bool.true_and]
theorem qc_s63 : ∀ n, n < 64 → (((nI n).toInt64 &&& 63).toBitVec.smod 64).toNat = n := by decide +kernel
theorem qc_blshl (n : Nat) (hn : n < 64) (x : Int64) {i : Nat} (hi : i < 64) : qc_bl (x <<< ((nI n).toInt64 &&& 63)) i = (decide (n ≤ i) && qc_bl x (i - n)) := by
  unfold qc_bl
  rw [Int64.toBitVec_shiftLeft]
  show (x.toBitVec <<< (((nI n).toInt64 &&& 63).toBitVec.smod 64).toNat).getLsbD i = _
  rw [qc_s63 n hn, BitVec.getLsbD_shiftLeft]
  rcases Nat.lt_or_ge i n with h | h
  · simp [h, Nat.not_le.mpr h]
  · simp [hi, h, Nat.not_lt.mpr h]
theorem qc_blshr (n : Nat) (hn : n < 64) (x : Int64) {i : Nat} (hi : n + i < 64) : qc_bl (x >>> ((nI n).toInt64 &&& 63)) i = qc_bl x (n + i) := by
  unfold qc_bl
  rw [Int64.toBitVec_shiftRight]
  show (x.toBitVec.sshiftRight (((nI n).toInt64 &&& 63).toBitVec.smod 64).toNat).getLsbD i = _
  rw [qc_s63 n hn, BitVec.getLsbD_sshiftRight]
  simp [hi, show i < 64 by omega]
theorem qc_bti (x : Int64) {i : Nat} (hi : i < 32) : qc_bt x.toInt32 i = qc_bl x i := by
  unfold qc_bt qc_bl
  rw [Int64.toBitVec_toInt32, BitVec.getLsbD_signExtend, if_pos (show i < 64 by omega)]
  simp [hi]
def qc_PL (w : Int64) (v : Nat) : Int32 := ((w >>> ((9 * nI v).toInt64 &&& 63)).toInt32) &&& 511
theorem qc_PL_b {w : Int64} {v i : Nat} (hv : v < 4) (hi : i < 32) : qc_bt (qc_PL w v) i = (decide (i < 9) && qc_bl w (9 * v + i)) := by
  unfold qc_PL
  rw [show (9 : Int32) * nI v = nI (9 * v) from pk_mul 9 v, qc_band, qc_b511 i hi, qc_bti _ hi]
  by_cases e : i < 9
  · rw [decide_eq_true e, qc_blshr (9 * v) (by omega) w (by omega), Bool.and_true, Bool.true_and]
  · rw [decide_eq_false e, Bool.and_false, Bool.false_and]
def qc_PS (w : Int64) (t : Nat) (y : Int32) : Int64 := (w &&& (((511 : Int64) <<< ((9 * nI t).toInt64 &&& 63)) ^^^ (-1))) ||| (y.toInt64 <<< ((9 * nI t).toInt64 &&& 63))
theorem qc_PS_b {w : Int64} {t c i : Nat} (ht : t < 4) (hc : c < 512) (hi : i < 64) : qc_bl (qc_PS w t (nI c)) i = ((qc_bl w i && !(decide (9 * t ≤ i) && qc_bl 511 (i - 9 * t))) || (decide (9 * t ≤ i) && qc_bl (lN c) (i - 9 * t))) := by
  unfold qc_PS
  rw [show (9 : Int32) * nI t = nI (9 * t) from pk_mul 9 t, nI_l (show c < 2 ^ 31 by omega), qc_blor, qc_bland, qc_blxor, qc_blshl (9 * t) (by omega) 511 hi, qc_blshl (9 * t) (by omega) (lN c) hi, qc_blm1 i hi, Bool.xor_true]
theorem qc_PLs {w : Int64} {t c : Nat} (ht : t < 4) (hc : c < 512) : qc_PL (qc_PS w t (nI c)) t = nI c := by
  refine qc_bext (fun i hi => ?_)
  rw [qc_PL_b ht hi, qc_bn c hi]
  by_cases e : i < 9
  · rw [qc_PS_b ht hc (by omega), decide_eq_true e, decide_eq_true (show 9 * t ≤ 9 * t + i by omega), show 9 * t + i - 9 * t = i by omega, qc_bl511 i (by omega), decide_eq_true e, qc_bln c (by omega)]
    simp
  · rw [decide_eq_false e, Bool.false_and, qc_hi (k := 9) hc (by omega)]
theorem qc_PLn {w : Int64} {t v c : Nat} (ht : t < 4) (hv : v < 4) (hc : c < 512) (h : v ≠ t) : qc_PL (qc_PS w t (nI c)) v = qc_PL w v := by
  refine qc_bext (fun i hi => ?_)
  rw [qc_PL_b hv hi, qc_PL_b hv hi]
  by_cases e : i < 9
  · rw [qc_PS_b ht hc (by omega), decide_eq_true e]
    by_cases e2 : 9 * t ≤ 9 * v + i
    · rw [decide_eq_true e2, qc_bl511 _ (by omega), decide_eq_false (show ¬ 9 * v + i - 9 * t < 9 by omega), qc_bln c (by omega), qc_hi (k := 9) hc (show 9 ≤ 9 * v + i - 9 * t by omega)]
      simp
    · rw [decide_eq_false e2]
      simp
  · rw [decide_eq_false e, Bool.false_and, Bool.false_and]
/-! ===== the law's ints against the component's tables ===== -/
def qc_P (w : Int64) (b c : Nat → Int32) : Prop := ∀ v, v < 7 → ∃ a k, a ≤ 40 ∧ k ≤ 4 ∧ b v = nI a ∧ c v = nI k - 2 ∧ (v < 4 → qc_PL w v = nI (a + 64 * k)) ∧ (4 ≤ v → a = 0 ∧ k = 2)
theorem qc_P_s {w : Int64} {b c : Nat → Int32} {t a k : Nat} {y : Int32} (h : qc_P w b c) (ht : t < 4) (ha : a ≤ 40) (hk : k ≤ 4) (hy : y = nI (a + 64 * k)) : qc_P (qc_PS w t y) (upd b t (nI a)) (upd c t (nI k - 2)) := by
  intro v hv
  by_cases e : v = t
  · subst e
    exact ⟨a, k, ha, hk, pk_us, pk_us, fun _ => by rw [hy]; exact qc_PLs ht (by omega), fun z => absurd z (by omega)⟩
  · obtain ⟨a', k', h1, h2, h3, h4, h5, h6⟩ := h v hv
    exact ⟨a', k', h1, h2, by rw [pk_un e]; exact h3, by rw [pk_un e]; exact h4, fun z => by rw [hy, qc_PLn ht z (by omega) e]; exact h5 z, h6⟩
theorem qc_pb0 : ∀ k, k < 5 → ∀ x, x < 51 → -100 ≤ ((nI k - 2) * nI x).toInt ∧ ((nI k - 2) * nI x).toInt ≤ 100 := by decide +kernel
theorem qc_pb {a k x : Nat} (ha : a ≤ 40) (hk : k ≤ 4) (hx : x ≤ 50) : qc_pv (nI a + (nI k - 2) * nI x) ≤ 140 := by
  obtain ⟨h1, h2⟩ := qc_pb0 k (by omega) x (by omega)
  unfold qc_pv
  rw [Int32.toInt_add, nI_toInt (by omega), Int.bmod_eq_of_le (by omega) (by omega)]
  omega
theorem qc_P_le {w : Int64} {b c : Nat → Int32} {x : Nat} (h : qc_P w b c) (hx : x ≤ 50) (v : Nat) (hv : v < 7) : qc_pv (b v + c v * nI x) ≤ 140 := by
  obtain ⟨a, k, h1, h2, h3, h4, h5, h6⟩ := h v hv
  rw [h3, h4]
  exact qc_pb h1 h2 hx
theorem qc_P_0 {w : Int64} {b c : Nat → Int32} {x : Int32} (h : qc_P w b c) (v : Nat) (h4 : 4 ≤ v) (hv : v < 7) : qc_pv (b v + c v * x) = 0 := by
  obtain ⟨a, k, h1, h2, h3, h4', h5, h6⟩ := h v hv
  obtain ⟨ea, ek⟩ := h6 h4
  rw [h3, h4', ea, ek, show nI 2 - 2 = (0 : Int32) from by decide, Int32.zero_mul, nI_0, Int32.add_zero]
  decide
theorem qc_pull {post : Int32 → Prop} {w : Int64} {b c : Nat → Int32} {v : Nat} {x : Int32} (h : qc_P w b c) (hv : v < 4) (H : post (nI (qc_pv (b v + c v * x)))) : wpL_pull post () w (nI v) x := by
  obtain ⟨a, k, h1, h2, h3, h4, h5, h6⟩ := h v (by omega)
  refine nm_r (e' := nI (a + 64 * k)) (h5 hv) (nm_r (e' := b v + c v * x) ?_ (qc_pvb H))
  rw [h3, h4, pk_andN (show a + 64 * k < 2 ^ 32 by omega) 6 (by decide), pk_shrN (show a + 64 * k < 2 ^ 31 by omega) ((6 : Int32) &&& 31) 6 (by decide), show (a + 64 * k) % 2 ^ 6 = a by omega, show (a + 64 * k) / 2 ^ 6 = k by omega]
def qc_nm (u v : Nat) : Nat := if u = 0 then v - 1 else if u = 1 then v + 1 else 5
def qc_Q (x : Int32) (cap : Nat → Nat → Nat) : Prop := ∀ u v, u < v → v < 4 → qc_LK x (qc_nm u v) = nI (cap u v)
/-! ===== the law's cost ===== -/
theorem qc_c70 {post : Int32 → Prop} {J : Int32 → Int32 → Int32 → Prop} {x0 : Int32} {cap : Nat → Nat → Nat} {s n a : Nat} (u v k : Nat) (hs : s < 16) (hu : u < 4) (hv : v < 4) (hl : qc_LK x0 k = nI (cap u v))
    (H : wL_cost_70 post J x0 (nI s) (nI u) n (nI (a + qc_w cap s u v)) (nI (k + 1)) (nI (v + 1))) : wL_cost_70 post J x0 (nI s) (nI u) (n + 1) (nI a) (nI k) (nI v) := by
  refine pk_le 4 v (fun z => absurd z (by omega)) (fun _ => ek_if (qc_sbe (show s < 2 ^ 31 by omega) (show u < 32 by omega) (show v < 32 by omega)) (fun z => ?_) (fun z => ?_))
  · unfold qc_w at H
    rw [if_pos z, Nat.add_zero] at H
    exact nm_r (nI_1 k) (nm_r (nI_1 v) H)
  · unfold qc_w at H
    rw [if_neg z] at H
    exact nm_r (e' := nI (a + cap u v)) (by rw [← nI_add]; exact congrArg _ hl) (nm_r (nI_1 k) (nm_r (nI_1 v) H))
theorem qc_c70x {post : Int32 → Prop} {J : Int32 → Int32 → Int32 → Prop} {x0 : Int32} {s n a u k : Nat} (H : J (nI a) (nI k) (nI (u + 1))) : wL_cost_70 post J x0 (nI s) (nI u) (n + 1) (nI a) (nI k) (nI 4) :=
  pk_le 4 4 (fun _ => nm_r (nI_1 u) H) (fun z => absurd z (by omega))
theorem qc_c58 {post : Int32 → Prop} {x0 : Int32} {s n a k : Nat} (u : Nat) (hu : u < 4) (H : ∃ f, wL_cost_70 post (wL_cost_58 post x0 (nI s) n) x0 (nI s) (nI u) f (nI a) (nI k) (nI (u + 1))) : wL_cost_58 post x0 (nI s) (n + 1) (nI a) (nI k) (nI u) :=
  pk_le 4 u (fun z => absurd z (by omega)) (fun _ => nm_r (nI_1 u) H)
theorem qc_lc {post : Int32 → Prop} {x0 : Int32} {up down : Int64} {cap : Nat → Nat → Nat} {a2 a3 a4 a5 : Nat → Int32} {s : Nat} {x : Int32} (hs : s < 16) (hc : qc_cp cap) (hq : qc_Q x0 cap) (hu : qc_P up a2 a3) (hd : qc_P down a4 a5)
    (H : post (nI (qc_k cap (fun v => qc_pv (a2 v + a3 v * x)) (fun v => qc_pv (a4 v + a5 v * x)) s))) : wpL_cost post () x0 up down (nI s) x := by
  rw [qc_k_4 hc (qc_P_0 hu) (qc_P_0 hd)] at H
  unfold qc_k4 at H
  refine pk_loop (fun n i b => wL_cost_6 post x0 up down (nI s) x n (nI b) (nI i)) (fun i b => b = qc_sm i (qc_pl (fun v => qc_pv (a2 v + a3 v * x)) (fun v => qc_pv (a4 v + a5 v * x)) s)) 4 0 0 (by omega) rfl ?_ ?_
  · intro n b hb
    rw [← hb] at H
    refine pk_le 4 4 (fun _ => ⟨4 + 1, ?_⟩) (fun z => absurd z (by omega))
    refine qc_c58 0 (by omega) ⟨3 + 1, qc_c70 0 1 0 hs (by omega) (by omega) (hq 0 1 (by omega) (by omega)) (qc_c70 0 2 1 hs (by omega) (by omega) (hq 0 2 (by omega) (by omega)) (qc_c70 0 3 2 hs (by omega) (by omega) (hq 0 3 (by omega) (by omega)) (qc_c70x ?_)))⟩
    refine qc_c58 1 (by omega) ⟨2 + 1, qc_c70 1 2 3 hs (by omega) (by omega) (hq 1 2 (by omega) (by omega)) (qc_c70 1 3 4 hs (by omega) (by omega) (hq 1 3 (by omega) (by omega)) (qc_c70x ?_))⟩
    refine qc_c58 2 (by omega) ⟨1 + 1, qc_c70 2 3 5 hs (by omega) (by omega) (hq 2 3 (by omega) (by omega)) (qc_c70x ?_)⟩
    refine qc_c58 3 (by omega) ⟨0 + 1, qc_c70x ?_⟩
    exact pk_le 4 4 (fun _ => H) (fun z => absurd z (by omega))
  · intro n i b hi hb hw
    refine pk_le 4 i (fun z => absurd z (by omega)) (fun _ => ek_if (qc_sb0 (show s < 2 ^ 31 by omega) (show i < 32 by omega)) (fun z => qc_pull hu hi (nm_r (nI_add b _) (nm_r (nI_1 i) (hw _ ?_)))) (fun z => qc_pull hd hi (nm_r (nI_add b _) (nm_r (nI_1 i) (hw _ ?_)))))
    · show _ = qc_sm i _ + (if s.testBit i = true then qc_pv (a4 i + a5 i * x) else qc_pv (a2 i + a3 i * x))
      rw [if_neg (show ¬ s.testBit i = true by rw [z]; decide), hb]
    · show _ = qc_sm i _ + (if s.testBit i = true then qc_pv (a4 i + a5 i * x) else qc_pv (a2 i + a3 i * x))
      rw [if_pos (qc_tt z), hb]
end
section
/-! ===== least cuts: what the answers say of the costs ===== -/
theorem qc_cut_c {R : Nat → Nat → Nat} {S S' : Nat → Bool} (h : ∀ v, v < 9 → S v = S' v) : qc_cut R S = qc_cut R S' :=
  qc_sm_c (fun u hu => qc_sm_c (fun v hv => by
    show qc_t R S u v = qc_t R S' u v
    unfold qc_t
    rw [h u hu, h v hv]))
theorem qc_mask {S : Nat → Bool} (hS : qc_val S) : ∃ s, s < 128 ∧ ∀ v, v < 9 → qc_ms s v = S v := by
  obtain ⟨s, s1, s2⟩ := qc_mk S 7
  refine ⟨s, s1, fun v hv => ?_⟩
  rcases Nat.lt_or_ge v 7 with z | z
  · rw [qc_ms_l z]; exact s2 v z
  · by_cases e : v = 7
    · rw [e, hS.1]; rfl
    · have e8 : v = 8 := by omega
      rw [e8, hS.2]; rfl
theorem qc_ms8 (s : Nat) : ¬ qc_ms s 8 = true := Bool.false_ne_true
def qc_lo (K : Nat → Nat) : Prop := ∀ s s', (∀ j, j < 4 → s.testBit j = s'.testBit j) → K s = K s'
theorem qc_lo_16 {K : Nat → Nat} (h : qc_lo K) (s : Nat) : K (s % 16) = K s := h _ _ (fun j hj => by rw [show (16 : Nat) = 2 ^ 4 from rfl, Nat.testBit_mod_two_pow, decide_eq_true hj, Bool.true_and])
theorem qc_tb16 {s j : Nat} (hj : j < 4) : (s % 16).testBit j = s.testBit j := by rw [show (16 : Nat) = 2 ^ 4 from rfl, Nat.testBit_mod_two_pow, decide_eq_true hj, Bool.true_and]
theorem qc_lo_p {K : Nat → Nat} (h : qc_lo K) (s : Nat) : K (s + 16) = K s := by
  rw [← qc_lo_16 h (s + 16), ← qc_lo_16 h s, Nat.add_mod_right]
section
variable {cap : Nat → Nat → Nat} {src snk : Nat → Nat} {R : Nat → Nat → Nat} {F : Nat} {f : Nat → Nat → Bool}
theorem qc_kF (hs : ∀ u v, cap u v = cap v u) (h : qc_inv (qc_C cap src snk) R F) (s : Nat) : qc_cut R (qc_ms s) + F = qc_k cap src snk s := by
  rw [h.1 _ (qc_ms_v s), qc_cut_cost hs (qc_ms_v s)]; rfl
theorem qc_exF (hs : ∀ u v, cap u v = cap v u) (h : qc_inv (qc_C cap src snk) R F) (hS : ∃ S, qc_val S ∧ qc_cut R S = 0) (hlo : qc_lo (qc_k cap src snk)) : ∃ s, s < 16 ∧ qc_k cap src snk s = F := by
  obtain ⟨S, h1, h2⟩ := hS
  obtain ⟨s, s1, s2⟩ := qc_mask h1
  have t := qc_kF hs h s
  rw [qc_cut_c s2, h2, Nat.zero_add] at t
  exact ⟨s % 16, Nat.mod_lt _ (by decide), by rw [qc_lo_16 hlo, t]⟩
/-- a least cut is closed under what is reached -/
theorem qc_snd (hs : ∀ u v, cap u v = cap v u) (h : qc_inv (qc_C cap src snk) R F) (hcl : qc_cl R f 9) {s : Nat} (hk : qc_k cap src snk s = F) {u v : Nat} (hu : u < 9) (hv : v < 9) (h1 : qc_ms s u = true) (h2 : f u v = true) : qc_ms s v = true := by
  have t := qc_kF hs h s
  have t0 : qc_cut R (qc_ms s) = 0 := by omega
  refine hcl.2.2.1 (qc_ms s) (fun a b ha hb g1 g2 => ?_) u v hu hv h1 h2
  cases e : qc_ms s b
  · have := qc_cutz t0 ha hb g1 e
    omega
  · rfl
/-- a set closed under what is reached is a least cut -/
theorem qc_cls (hs : ∀ u v, cap u v = cap v u) (h : qc_inv (qc_C cap src snk) R F) (hcl : qc_cl R f 9) {s : Nat} (hc : ∀ u v, u < 9 → v < 9 → qc_ms s u = true → f u v = true → qc_ms s v = true) : qc_k cap src snk s = F := by
  have t := qc_kF hs h s
  have t0 : qc_cut R (qc_ms s) = 0 := qc_cut0 (fun u v hu hv h1 h2 => by
    rcases Nat.eq_zero_or_pos (R u v) with z | z
    · exact z
    · have := hc u v hu hv h1 (hcl.2.1 u v hu hv z)
      rw [h2] at this
      exact absurd this (by decide))
  omega
theorem qc_78 (hs : ∀ u v, cap u v = cap v u) (h : qc_inv (qc_C cap src snk) R F) (hcl : qc_cl R f 9) {s : Nat} (hk : qc_k cap src snk s = F) : f 7 8 = false := by
  cases e : f 7 8
  · rfl
  · have := qc_snd hs h hcl hk (by omega : 7 < 9) (by omega : 8 < 9) rfl e
    exact absurd this (qc_ms8 _)
theorem qc_alw (hs : ∀ u v, cap u v = cap v u) (h : qc_inv (qc_C cap src snk) R F) (hS : ∃ S, qc_val S ∧ qc_cut R S = 0) (hlo : qc_lo (qc_k cap src snk)) (hcl : qc_cl R f 9) {t al : Nat} (ht : t < 128) (htb : ∀ j, j < 7 → t.testBit j = f 7 j) (hal : al < 16) (hab : ∀ j, j < 4 → (al.testBit j = true ↔ ∀ s, s < 16 → qc_k cap src snk s = F → s.testBit j = true)) : t = al := by
  obtain ⟨s0, s1, s2⟩ := qc_exF hs h hS hlo
  have h78 := qc_78 hs h hcl s2
  have hin : ∀ s, qc_k cap src snk s = F → ∀ j, j < 7 → f 7 j = true → s.testBit j = true := fun s hk j hj hf => by
    have := qc_snd hs h hcl hk (by omega : 7 < 9) (by omega : j < 9) rfl hf
    rwa [qc_ms_l hj] at this
  have ht4 : ∀ j, 4 ≤ j → t.testBit j = false := fun j hj => by
    rcases Nat.lt_or_ge j 7 with z | z
    · rw [htb j z]
      cases e : f 7 j
      · rfl
      · have := hin s0 s2 j z e
        rw [qc_hi (k := 4) s1 hj] at this
        exact absurd this (by decide)
    · exact qc_hi (k := 7) ht z
  have ht16 : t < 16 := Nat.lt_pow_two_of_testBit (n := 4) t (fun i hi => ht4 i hi)
  have hkt : qc_k cap src snk t = F := by
    refine qc_cls hs h hcl (fun u v hu hv g1 g2 => ?_)
    have b : ∀ w, w < 9 → qc_ms t w = f 7 w := fun w hw => by
      rcases Nat.lt_or_ge w 7 with z | z
      · rw [qc_ms_l z]; exact htb w z
      · by_cases e : w = 7
        · rw [e, hcl.1 7 (by omega)]; rfl
        · have e8 : w = 8 := by omega
          rw [e8, h78]; rfl
    rw [b u hu] at g1
    rw [b v hv]
    exact hcl.2.2.2 u 7 v hu (by omega) hv g1 g2
  refine qc_ext (k := 4) ht16 hal (fun j hj => ?_)
  have hh := hab j hj
  cases e : t.testBit j
  · cases e2 : al.testBit j
    · rfl
    · have := hh.mp e2 t ht16 hkt
      rw [e] at this
      exact absurd this (by decide)
  · rw [htb j (by omega)] at e
    exact (hh.mpr (fun s _ hk => hin s hk j (by omega) e)).symm
theorem qc_112 {j : Nat} (hj : j < 7) : (112 : Nat).testBit j = decide (4 ≤ j) := (by decide : ∀ j, j < 7 → (112 : Nat).testBit j = decide (4 ≤ j)) j hj
theorem qc_evr (hs : ∀ u v, cap u v = cap v u) (h : qc_inv (qc_C cap src snk) R F) (hS : ∃ S, qc_val S ∧ qc_cut R S = 0) (hlo : qc_lo (qc_k cap src snk)) (hcl : qc_cl R f 9) {g so : Nat} (hg : g < 128) (hgb : ∀ j, j < 7 → g.testBit j = !(f j 8)) (hso : so < 16) (hob : ∀ j, j < 4 → (so.testBit j = true ↔ ∃ s, s < 16 ∧ qc_k cap src snk s = F ∧ s.testBit j = true)) : g = so ||| 112 := by
  obtain ⟨s0, s1, s2⟩ := qc_exF hs h hS hlo
  have h78 := qc_78 hs h hcl s2
  have hout : ∀ s, qc_k cap src snk s = F → ∀ j, j < 7 → s.testBit j = true → f j 8 = false := fun s hk j hj hb => by
    cases e : f j 8
    · rfl
    · have := qc_snd hs h hcl hk (by omega : j < 9) (by omega : 8 < 9) (by rw [qc_ms_l hj]; exact hb) e
      exact absurd this (qc_ms8 _)
  have hkg : qc_k cap src snk g = F := by
    refine qc_cls hs h hcl (fun u v hu hv g1 g2 => ?_)
    have b : ∀ w, w < 9 → qc_ms g w = !(f w 8) := fun w hw => by
      rcases Nat.lt_or_ge w 7 with z | z
      · rw [qc_ms_l z]; exact hgb w z
      · by_cases e : w = 7
        · rw [e, h78]; rfl
        · have e8 : w = 8 := by omega
          rw [e8, hcl.1 8 (by omega)]; rfl
    rw [b u hu] at g1
    rw [b v hv]
    cases e : f v 8
    · rfl
    · have := hcl.2.2.2 v u 8 hv hu (by omega) g2 e
      rw [this] at g1
      exact absurd g1 (by decide)
  refine qc_ext (k := 7) hg (Nat.or_lt_two_pow (n := 7) (by omega) (by decide)) (fun j hj => ?_)
  rw [Nat.testBit_or, qc_112 hj]
  rcases Nat.lt_or_ge j 4 with z | z
  · rw [decide_eq_false (show ¬ 4 ≤ j by omega), Bool.or_false]
    have hh := hob j z
    cases e : g.testBit j
    · cases e2 : so.testBit j
      · rfl
      · obtain ⟨s, h1, h2, h3⟩ := hh.mp e2
        have := hout s h2 j hj h3
        rw [hgb j hj, this] at e
        exact absurd e (by decide)
    · exact (hh.mpr ⟨g % 16, Nat.mod_lt _ (by decide), by rw [qc_lo_16 hlo]; exact hkg, by rw [qc_tb16 z]; exact e⟩).symm
  · rw [decide_eq_true z, Bool.or_true, hgb j hj]
    have hk2 : qc_k cap src snk (s0 ||| 112) = F := by
      rw [← s2]
      exact hlo _ _ (fun i hi => by rw [Nat.testBit_or, qc_112 (by omega), decide_eq_false (show ¬ 4 ≤ i by omega), Bool.or_false])
    rw [hout _ hk2 j hj (by rw [Nat.testBit_or, qc_112 hj, decide_eq_true z, Bool.or_true])]
    rfl
theorem qc_tie (hs : ∀ u v, cap u v = cap v u) (h : qc_inv (qc_C cap src snk) R F) (hS : ∃ S, qc_val S ∧ qc_cut R S = 0) (hlo : qc_lo (qc_k cap src snk)) (hcl : qc_cl R f 9) {T X : Nat} (hT : ∀ j, j < 7 → T.testBit j = f 7 j) (hX : ∀ j, j < 7 → X.testBit j = f j 8) : qc_cnt (qc_btw f T X) 128 = 8 * qc_cnt (fun s => qc_k cap src snk s = F) 16 := by
  obtain ⟨s0, s1, s2⟩ := qc_exF hs h hS hlo
  have h78 := qc_78 hs h hcl s2
  rw [← qc_cnt_8 (P := fun s => qc_k cap src snk s = F) (fun s => by
    show qc_k cap src snk (s + 16) = F ↔ qc_k cap src snk s = F
    rw [qc_lo_p hlo])]
  refine qc_cnt_c (fun s hs' => ⟨fun g => ?_, fun g => ?_⟩)
  · obtain ⟨g1, g2, g3⟩ := g
    refine qc_cls hs h hcl (fun u v hu hv k1 k2 => ?_)
    by_cases u8 : u = 8
    · rw [u8] at k1
      exact absurd k1 (qc_ms8 _)
    · by_cases v7 : v = 7
      · rw [v7]; rfl
      · by_cases v8 : v = 8
        · rw [v8] at k2
          by_cases u7 : u = 7
          · rw [u7, h78] at k2
            exact absurd k2 (by decide)
          · have := g3 u (by omega) (by rw [hX u (by omega)]; exact k2)
            rw [qc_ms_l (by omega), this] at k1
            exact absurd k1 (by decide)
        · rw [qc_ms_l (by omega)]
          by_cases u7 : u = 7
          · rw [u7] at k2
            exact g2 v (by omega) (by rw [hT v (by omega)]; exact k2)
          · rw [qc_ms_l (by omega)] at k1
            exact g1 u v (by omega) (by omega) k1 k2
  · have sd : ∀ u v, u < 9 → v < 9 → qc_ms s u = true → f u v = true → qc_ms s v = true := fun u v hu hv k1 k2 => qc_snd hs h hcl g hu hv k1 k2
    refine ⟨fun u v hu hv k1 k2 => ?_, fun j hj k => ?_, fun j hj k => ?_⟩
    · have := sd u v (by omega) (by omega) (by rw [qc_ms_l hu]; exact k1) k2
      rwa [qc_ms_l hv] at this
    · rw [hT j hj] at k
      have := sd 7 j (by omega) (by omega) rfl k
      rwa [qc_ms_l hj] at this
    · rw [hX j hj] at k
      cases e : s.testBit j
      · rfl
      · have := sd j 8 (by omega) (by omega) (by rw [qc_ms_l hj]; exact e) k
        exact absurd this (qc_ms8 _)
end
/-! ===== two nodes pulled apart ===== -/
def qc_H (C : Nat → Nat → Nat) (u v : Nat) : Nat → Nat → Nat := qc_u2 (qc_u2 C 7 u (C 7 u + 100000)) v 8 (qc_u2 C 7 u (C 7 u + 100000) v 8 + 100000)
theorem qc_cutH {C : Nat → Nat → Nat} {u v : Nat} {S : Nat → Bool} (hu : u < 9) (hv : v < 9) (hS : qc_val S) : qc_cut (qc_H C u v) S = qc_cut C S + (if S u = true then 0 else 100000) + (if S v = true then 100000 else 0) := by
  have h1 := qc_cut_u (R := C) (S := S) (x := C 7 u + 100000) (by omega : 7 < 9) hu
  have h2 := qc_cut_u (R := qc_u2 C 7 u (C 7 u + 100000)) (S := S) (x := qc_u2 C 7 u (C 7 u + 100000) v 8 + 100000) hv (by omega : 8 < 9)
  unfold qc_H
  generalize qc_cut (qc_u2 (qc_u2 C 7 u (C 7 u + 100000)) v 8 (qc_u2 C 7 u (C 7 u + 100000) v 8 + 100000)) S = X at h2 ⊢
  generalize qc_cut (qc_u2 C 7 u (C 7 u + 100000)) S = Y at h1 h2
  unfold qc_t at h1 h2
  rw [qc_u2s, hS.1] at h1
  rw [qc_u2s, hS.2] at h2
  generalize qc_u2 C 7 u (C 7 u + 100000) v 8 = Z at h2
  cases ea : S u <;> cases eb : S v <;> simp [ea, eb] at h1 h2 ⊢ <;> omega
theorem qc_apt {cap : Nat → Nat → Nat} {src snk : Nat → Nat} {R : Nat → Nat → Nat} {F u v : Nat} (hs : ∀ u v, cap u v = cap v u) (hlo : qc_lo (qc_k cap src snk)) (hb : ∀ s, qc_k cap src snk s ≤ 680) (hu : u < 4) (hv : v < 4) (huv : u ≠ v) (h : qc_inv (qc_H (qc_C cap src snk) u v) R F) (hS : ∃ S, qc_val S ∧ qc_cut R S = 0) :
    F ≤ 680 ∧ (∀ s, s.testBit u = true → s.testBit v = false → F ≤ qc_k cap src snk s) ∧ ∃ s, s < 16 ∧ s.testBit u = true ∧ s.testBit v = false ∧ qc_k cap src snk s = F := by
  have e : ∀ s, qc_cut R (qc_ms s) + F = qc_k cap src snk s + (if s.testBit u = true then 0 else 100000) + (if s.testBit v = true then 100000 else 0) := fun s => by
    rw [h.1 _ (qc_ms_v s), qc_cutH (by omega) (by omega) (qc_ms_v s), qc_cut_cost hs (qc_ms_v s), qc_ms_l (by omega : u < 7), qc_ms_l (by omega : v < 7)]
    rfl
  have le : ∀ s, s.testBit u = true → s.testBit v = false → F ≤ qc_k cap src snk s := fun s h1 h2 => by
    have t := e s
    rw [h1, h2, if_pos rfl, if_neg Bool.false_ne_true] at t
    omega
  have b := le (2 ^ u) Nat.testBit_two_pow_self (Nat.testBit_two_pow_of_ne huv)
  have b2 := hb (2 ^ u)
  refine ⟨by omega, le, ?_⟩
  obtain ⟨S, h1, h2⟩ := hS
  obtain ⟨s, s1, s2⟩ := qc_mask h1
  have t := e s
  rw [qc_cut_c s2, h2, Nat.zero_add] at t
  have tu : s.testBit u = true := by
    cases z : s.testBit u
    · rw [z, if_neg Bool.false_ne_true] at t
      omega
    · rfl
  have tv : s.testBit v = false := by
    cases z : s.testBit v
    · rfl
    · rw [z, if_pos (show true = true from rfl)] at t
      omega
  rw [tu, tv, if_pos rfl, if_neg Bool.false_ne_true] at t
  exact ⟨s % 16, Nat.mod_lt _ (by decide), by rw [qc_tb16 hu]; exact tu, by rw [qc_tb16 hv]; exact tv, by rw [qc_lo_16 hlo]; omega⟩
theorem qc_C_le {cap : Nat → Nat → Nat} {src snk : Nat → Nat} (hc : qc_cp cap) (h1 : ∀ v, v < 7 → src v ≤ 140) (h2 : ∀ v, v < 7 → snk v ≤ 140) (u v : Nat) : qc_C cap src snk u v ≤ 140 := by
  unfold qc_C
  by_cases e1 : u < 7 ∧ v < 7
  · rw [if_pos e1]
    have := hc.2.2 u v
    omega
  · rw [if_neg e1]
    by_cases e2 : u = 7 ∧ v < 7
    · rw [if_pos e2]; exact h1 v e2.2
    · rw [if_neg e2]
      by_cases e3 : u < 7 ∧ v = 8
      · rw [if_pos e3]; exact h2 u e3.1
      · rw [if_neg e3]; omega
theorem qc_H_le {C : Nat → Nat → Nat} (h : ∀ u v, C u v ≤ 140) (a b u v : Nat) : qc_H C a b u v ≤ 200140 := by
  have q : ∀ u v, qc_u2 C 7 a (C 7 a + 100000) u v ≤ 100140 := fun u v => by
    unfold qc_u2
    by_cases e : u = 7 ∧ v = a
    · rw [if_pos e]
      have := h 7 a
      omega
    · rw [if_neg e]
      have := h u v
      omega
  unfold qc_H
  have t := q b 8
  have t2 := q u v
  generalize qc_u2 C 7 a (C 7 a + 100000) = Q at t t2
  unfold qc_u2
  by_cases e : u = b ∧ v = 8
  · rw [if_pos e]; omega
  · rw [if_neg e]; omega
end
section
/-! ===== the tables against a picture; the questions ===== -/
abbrev qc_src (b c : Nat → Int32) (x : Nat) : Nat → Nat := fun v => qc_pv (b v + c v * nI x)
def qc_env (cap : Nat → Nat → Nat) (up down : Int64) (a1 a2 a3 a4 a5 : Nat → Int32) : Prop := qc_cp cap ∧ (∀ u v, u < 7 → v < 7 → a1 (u * 7 + v) = nI (cap u v)) ∧ qc_P up a2 a3 ∧ qc_P down a4 a5
def qc_slv (cap : Nat → Nat → Nat) (src snk : Nat → Nat) (F : Nat) (a9 : Nat → Int32) : Prop := ∃ R f, qc_inv (qc_C cap src snk) R F ∧ (∃ S, qc_val S ∧ qc_cut R S = 0) ∧ qc_G a9 f 9 ∧ qc_cl R f 9
section
variable {wf fl : Int32} {a1 a2 a3 a4 a5 a6 a7 a8 a9 a10 a11 a12 : Nat → Int32}
variable {cap : Nat → Nat → Nat} {up down : Int64} {x : Nat}
theorem qc_env_b (h : qc_env cap up down a1 a2 a3 a4 a5) (hx : x ≤ 50) (s : Nat) : qc_k cap (qc_src a2 a3 x) (qc_src a4 a5 x) s ≤ 680 := by
  rw [qc_k_4 h.1 (qc_P_0 h.2.2.1) (qc_P_0 h.2.2.2)]
  exact qc_k4_le h.1 (qc_P_le h.2.2.1 hx) (qc_P_le h.2.2.2 hx) s
theorem qc_env_l (h : qc_env cap up down a1 a2 a3 a4 a5) : qc_lo (qc_k cap (qc_src a2 a3 x) (qc_src a4 a5 x)) := fun s s' hb => by
  rw [qc_k_4 h.1 (qc_P_0 h.2.2.1) (qc_P_0 h.2.2.2), qc_k_4 h.1 (qc_P_0 h.2.2.1) (qc_P_0 h.2.2.2)]
  exact qc_k4_c hb
theorem qc_env_C (h : qc_env cap up down a1 a2 a3 a4 a5) (hx : x ≤ 50) (u v : Nat) : qc_C cap (qc_src a2 a3 x) (qc_src a4 a5 x) u v ≤ 140 := qc_C_le h.1 (qc_P_le h.2.2.1 hx) (qc_P_le h.2.2.2 hx) u v
theorem qc_slv_F {F : Nat} (h : qc_env cap up down a1 a2 a3 a4 a5) (hs : qc_slv cap (qc_src a2 a3 x) (qc_src a4 a5 x) F a9) : (∀ s, F ≤ qc_k cap (qc_src a2 a3 x) (qc_src a4 a5 x) s) ∧ ∃ s, s < 16 ∧ qc_k cap (qc_src a2 a3 x) (qc_src a4 a5 x) s = F := by
  obtain ⟨R, f, h1, h2, h3, h4⟩ := hs
  refine ⟨fun s => ?_, qc_exF h.1.1 h1 h2 (qc_env_l h)⟩
  have := qc_kF h.1.1 h1 s
  omega
theorem qc_wk0 {post : St1 → Prop} (h : qc_env cap up down a1 a2 a3 a4 a5) (hx : x ≤ 50) (hw : ¬ wf = nI x)
    (H : ∀ F b6 b7 b8 b9, qc_slv cap (qc_src a2 a3 x) (qc_src a4 a5 x) F b9 → post (nI x, nI F, a1, a2, a3, a4, a5, b6, b7, b8, b9, a10, a11, a12)) : wpX_work post (wf, fl, a1, a2, a3, a4, a5, a6, a7, a8, a9, a10, a11, a12) (nI x) := by
  have hC : ∀ u v, qc_C cap (qc_src a2 a3 x) (qc_src a4 a5 x) u v < 2 ^ 28 := fun u v => by
    have := qc_env_C (x := x) h hx u v
    omega
  have hB : qc_cut (qc_C cap (qc_src a2 a3 x) (qc_src a4 a5 x)) (qc_ms 0) < 1000 := by
    rw [qc_cut_cost h.1.1 (qc_ms_v 0)]
    have : qc_cost cap (qc_src a2 a3 x) (qc_src a4 a5 x) (qc_ms 0) ≤ 680 := qc_env_b h hx 0
    omega
  unfold wpX_work
  dsimp only
  refine br_f hw (qc_load h.2.1 (fun s hs => ?_))
  dsimp only
  refine qc_grow hs hC (qc_ms_v 0) hB (fun b6 b7 b8 R F hA hI hS => ?_)
  refine qc_close hA (qc_inv_b hI hC) (fun b9 f hG hcl => ?_)
  exact H F b6 b7 b8 b9 ⟨R, f, hI, hS, hG, hcl⟩
theorem qc_wk1 {post : St1 → Prop} (H : post (nI x, fl, a1, a2, a3, a4, a5, a6, a7, a8, a9, a10, a11, a12)) : wpX_work post (nI x, fl, a1, a2, a3, a4, a5, a6, a7, a8, a9, a10, a11, a12) (nI x) := by
  unfold wpX_work
  dsimp only
  exact br_t rfl H
theorem qc_least {post : Int32 → St1 → Prop} (h : qc_env cap up down a1 a2 a3 a4 a5) (hx : x ≤ 50) (hw : ¬ wf = nI x)
    (H : ∀ F b6 b7 b8 b9, qc_slv cap (qc_src a2 a3 x) (qc_src a4 a5 x) F b9 → post (nI F) (nI x, nI F, a1, a2, a3, a4, a5, b6, b7, b8, b9, a10, a11, a12)) : wpX_least post (wf, fl, a1, a2, a3, a4, a5, a6, a7, a8, a9, a10, a11, a12) (nI x) := by
  unfold wpX_least
  dsimp only
  exact qc_bx hx (br_t rfl (qc_wk0 h hx hw (fun F b6 b7 b8 b9 hs => H F b6 b7 b8 b9 hs)))
theorem qc_ties {post : Int32 → St1 → Prop} {F : Nat} (h : qc_env cap up down a1 a2 a3 a4 a5) (hx : x ≤ 50) (hs : qc_slv cap (qc_src a2 a3 x) (qc_src a4 a5 x) F a9)
    (H : ∀ b10 b11 b12, post (nI (8 * qc_cnt (fun s => qc_k cap (qc_src a2 a3 x) (qc_src a4 a5 x) s = F) 16)) (nI x, fl, a1, a2, a3, a4, a5, a6, a7, a8, a9, b10, b11, b12)) : wpX_ties post (nI x, fl, a1, a2, a3, a4, a5, a6, a7, a8, a9, a10, a11, a12) (nI x) := by
  obtain ⟨R, f, h1, h2, h3, h4⟩ := hs
  obtain ⟨s0, s1, s2⟩ := qc_exF h.1.1 h1 h2 (qc_env_l h)
  unfold wpX_ties
  dsimp only
  refine qc_bx hx (br_t rfl (qc_wk1 ?_))
  refine qc_count h3 h4.1 h4.2.2.2 (qc_78 h.1.1 h1 h4 s2) (fun T X b10 b11 b12 hT hX hTb hXb => ?_)
  rw [qc_tie h.1.1 h1 h2 (qc_env_l h) h4 hTb hXb]
  exact H b10 b11 b12
theorem qc_always {post : Int32 → St1 → Prop} {F al : Nat} (h : qc_env cap up down a1 a2 a3 a4 a5) (hx : x ≤ 50) (hs : qc_slv cap (qc_src a2 a3 x) (qc_src a4 a5 x) F a9) (hal : al < 16) (hab : ∀ j, j < 4 → (al.testBit j = true ↔ ∀ s, s < 16 → qc_k cap (qc_src a2 a3 x) (qc_src a4 a5 x) s = F → s.testBit j = true))
    (H : post (nI al) (nI x, fl, a1, a2, a3, a4, a5, a6, a7, a8, a9, a10, a11, a12)) : wpX_always post (nI x, fl, a1, a2, a3, a4, a5, a6, a7, a8, a9, a10, a11, a12) (nI x) := by
  obtain ⟨R, f, h1, h2, h3, h4⟩ := hs
  unfold wpX_always
  dsimp only
  refine qc_bx hx (br_t rfl (qc_wk1 ?_))
  refine qc_small h3 (fun t ht htb => ?_)
  rw [qc_alw h.1.1 h1 h2 (qc_env_l h) h4 ht htb hal hab]
  exact H
theorem qc_ever {post : Int32 → St1 → Prop} {F so : Nat} (h : qc_env cap up down a1 a2 a3 a4 a5) (hx : x ≤ 50) (hs : qc_slv cap (qc_src a2 a3 x) (qc_src a4 a5 x) F a9) (hso : so < 16) (hob : ∀ j, j < 4 → (so.testBit j = true ↔ ∃ s, s < 16 ∧ qc_k cap (qc_src a2 a3 x) (qc_src a4 a5 x) s = F ∧ s.testBit j = true))
    (H : post (nI (so ||| 112)) (nI x, fl, a1, a2, a3, a4, a5, a6, a7, a8, a9, a10, a11, a12)) : wpX_ever post (nI x, fl, a1, a2, a3, a4, a5, a6, a7, a8, a9, a10, a11, a12) (nI x) := by
  obtain ⟨R, f, h1, h2, h3, h4⟩ := hs
  unfold wpX_ever
  dsimp only
  refine qc_bx hx (br_t rfl (qc_wk1 ?_))
  refine qc_great h3 (fun t ht htb => ?_)
  rw [qc_evr h.1.1 h1 h2 (qc_env_l h) h4 ht htb hso hob]
  exact H
/-! ===== spare ===== -/
theorem qc_bd {post : Int32 → Prop} {u : Nat} (hu : u < 7) (H : post 0) : wpX_bad post () (nI u) := br_f (nI_pos (by omega)) (br_t (nI_lt (b := 7) hu (by decide)) H)
theorem qc_lap {post : Int32 → St1 → Prop} {u v : Nat} (h : qc_env cap up down a1 a2 a3 a4 a5) (hx : x ≤ 50) (hu : u < 4) (hv : v < 4) (huv : u ≠ v)
    (H : ∀ F b6 b7 b8, F ≤ 680 → (∀ s, s.testBit u = true → s.testBit v = false → F ≤ qc_k cap (qc_src a2 a3 x) (qc_src a4 a5 x) s) → (∃ s, s < 16 ∧ s.testBit u = true ∧ s.testBit v = false ∧ qc_k cap (qc_src a2 a3 x) (qc_src a4 a5 x) s = F) → post (nI F) ((-1), nI F, a1, a2, a3, a4, a5, b6, b7, b8, a9, a10, a11, a12)) : wpX_leastApart post (wf, fl, a1, a2, a3, a4, a5, a6, a7, a8, a9, a10, a11, a12) (nI u) (nI v) (nI x) := by
  have hC : ∀ p q, qc_H (qc_C cap (qc_src a2 a3 x) (qc_src a4 a5 x)) u v p q < 2 ^ 28 := fun p q => by
    have := qc_H_le (qc_env_C (x := x) h hx) u v p q
    omega
  have hB : qc_cut (qc_H (qc_C cap (qc_src a2 a3 x) (qc_src a4 a5 x)) u v) (qc_ms (2 ^ u)) < 1000 := by
    rw [qc_cutH (by omega) (by omega) (qc_ms_v _), qc_cut_cost h.1.1 (qc_ms_v _), qc_ms_l (by omega : u < 7), qc_ms_l (by omega : v < 7), Nat.testBit_two_pow_self, Nat.testBit_two_pow_of_ne huv, if_pos rfl, if_neg Bool.false_ne_true]
    have : qc_cost cap (qc_src a2 a3 x) (qc_src a4 a5 x) (qc_ms (2 ^ u)) ≤ 680 := qc_env_b h hx (2 ^ u)
    omega
  have i1 : vp_in (63 + nI u) 81 := pk_in (63 + u) 81 (by omega) (nI_add 63 u)
  have i2 : vp_in (nI v * 9 + 8) 81 := pk_in (v * 9 + 8) 81 (by omega) (qc_ix9 v 8)
  have c1 : (63 + nI u).toNatClampNeg = 7 * 9 + u := pk_cl (63 + u) (nI_add 63 u) (by omega)
  have c2 : (nI v * 9 + 8).toNatClampNeg = v * 9 + 8 := pk_cl (v * 9 + 8) (qc_ix9 v 8) (by omega)
  unfold wpX_leastApart
  dsimp only
  refine qc_load h.2.1 (fun s hs => ?_)
  dsimp only
  refine ⟨i1, i1, fun s1 e1 => ⟨i2, i2, fun s2 e2 => ?_⟩⟩
  have h1 : qc_A s1 (qc_u2 (qc_C cap (qc_src a2 a3 x) (qc_src a4 a5 x)) 7 u (qc_C cap (qc_src a2 a3 x) (qc_src a4 a5 x) 7 u + 100000)) := by
    rw [e1]
    refine qc_A_u hs (by omega) c1 ?_
    rw [c1, hs 7 u (by omega) (by omega)]
    exact nI_add _ 100000
  have h2 : qc_A s2 (qc_H (qc_C cap (qc_src a2 a3 x) (qc_src a4 a5 x)) u v) := by
    rw [e2]
    refine qc_A_u h1 (by omega) c2 ?_
    rw [c2, h1 v 8 (by omega) (by omega)]
    exact nI_add _ 100000
  refine qc_grow h2 hC (qc_ms_v _) hB (fun b6 b7 b8 R F hA hI hS => ?_)
  obtain ⟨t1, t2, t3⟩ := qc_apt h.1.1 (qc_env_l h) (qc_env_b h hx) hu hv huv hI hS
  exact H F b6 b7 b8 t1 t2 t3
theorem qc_sp68 {post : Int32 → St1 → Prop} {u v F ap : Nat} (h : qc_env cap up down a1 a2 a3 a4 a5) (hu : u < 7) (hv : v < 7) (hF : F ≤ ap) (hap : ap ≤ 680)
    (H : post (nI (if cap u v ≤ ap - F then cap u v else ap - F)) (wf, nI F, a1, a2, a3, a4, a5, a6, a7, a8, a9, a10, a11, a12)) : wX_spare_68 post (nI u) (nI v) (nI ap) wf (nI F) a1 a2 a3 a4 a5 a6 a7 a8 a9 a10 a11 a12 := by
  have hc := h.1.2.2 u v
  refine nm_r (pk_sub hF) ⟨pk_in (u * 7 + v) 49 (by omega) (qc_ix7 u v), nm_r (e' := nI (cap u v)) ?_ (pk_le (cap u v) (ap - F) (fun z => ?_) (fun z => ?_))⟩
  · rw [pk_cl (u * 7 + v) (qc_ix7 u v) (by omega)]
    exact h.2.1 u v hu hv
  · rw [if_pos z] at H; exact H
  · rw [if_neg (by omega)] at H; exact H
theorem qc_spare {post : Int32 → St1 → Prop} {u v F ap : Nat} (h : qc_env cap up down a1 a2 a3 a4 a5) (hx : x ≤ 50) (hu : u < 4) (hv : v < 4) (huv : u ≠ v)
    (hF1 : ∀ s, s < 16 → F ≤ qc_k cap (qc_src a2 a3 x) (qc_src a4 a5 x) s) (hF2 : ∃ s, s < 16 ∧ qc_k cap (qc_src a2 a3 x) (qc_src a4 a5 x) s = F)
    (ha1 : ∀ s, s < 16 → s.testBit u ≠ s.testBit v → ap ≤ qc_k cap (qc_src a2 a3 x) (qc_src a4 a5 x) s) (ha2 : ∃ s, s < 16 ∧ s.testBit u ≠ s.testBit v ∧ qc_k cap (qc_src a2 a3 x) (qc_src a4 a5 x) s = ap)
    (H : ∀ b6 b7 b8 b9, post (nI (if cap u v ≤ ap - F then cap u v else ap - F)) (nI x, nI F, a1, a2, a3, a4, a5, b6, b7, b8, b9, a10, a11, a12)) : wpX_spare post (wf, fl, a1, a2, a3, a4, a5, a6, a7, a8, a9, a10, a11, a12) (nI u) (nI v) (nI x) := by
  have hap : F ≤ ap ∧ ap ≤ 680 := by
    obtain ⟨s, s1, s2, s3⟩ := ha2
    have t1 := hF1 s s1
    have t2 := qc_env_b h hx s
    omega
  unfold wpX_spare
  dsimp only
  refine qc_bd (by omega) (br_t rfl (qc_bd (by omega) (br_t rfl (br_f (fun z => huv ((nI_eq (by omega) (by omega)).mp z)) (qc_bx hx (br_t rfl ?_))))))
  refine qc_lap h hx hu hv huv (fun F1 c6 c7 c8 p1 p2 p3 => ?_)
  dsimp only
  refine qc_lap h hx hv hu (fun z => huv z.symm) (fun F2 d6 d7 d8 q1 q2 q3 => ?_)
  dsimp only
  refine qc_wk0 h hx (fun z => ?_) (fun F' e6 e7 e8 e9 hs => ?_)
  · exact absurd z.symm (by have : ¬ nI x < 0 := nI_pos (by omega)
                            intro z2
                            rw [z2] at this
                            exact this (by decide))
  have eF : F' = F := by
    obtain ⟨g1, s, g2, g3⟩ := qc_slv_F h hs
    obtain ⟨s', k1, k2⟩ := hF2
    have t1 := g1 s'
    have t2 := hF1 s g2
    omega
  subst eF
  dsimp only
  have m1 : ap ≤ F1 := by
    obtain ⟨s, s1, s2, s3, s4⟩ := p3
    have := ha1 s s1 (by rw [s2, s3]; decide)
    omega
  have m2 : ap ≤ F2 := by
    obtain ⟨s, s1, s2, s3, s4⟩ := q3
    have := ha1 s s1 (by rw [s2, s3]; decide)
    omega
  have m3 : F1 ≤ ap ∨ F2 ≤ ap := by
    obtain ⟨s, s1, s2, s3⟩ := ha2
    cases e1 : s.testBit u <;> cases e2 : s.testBit v
    · rw [e1, e2] at s2; exact absurd rfl s2
    · have := q2 s e2 e1
      exact Or.inr (by omega)
    · have := p2 s e1 e2
      exact Or.inl (by omega)
    · rw [e1, e2] at s2; exact absurd rfl s2
  refine pk_le F2 F1 (fun z => ?_) (fun z => ?_)
  · have e : F2 = ap := by omega
    rw [e]
    exact qc_sp68 h (by omega) (by omega) hap.1 hap.2 (H e6 e7 e8 e9)
  · have e : F1 = ap := by omega
    rw [e]
    exact qc_sp68 h (by omega) (by omega) hap.1 hap.2 (H e6 e7 e8 e9)
end
end
section
/-! ===== the changes: link, toSource, toSink, flip ===== -/
section
variable {wf fl : Int32} {a1 a2 a3 a4 a5 a6 a7 a8 a9 a10 a11 a12 : Nat → Int32}
variable {cap : Nat → Nat → Nat} {up down : Int64}
theorem qc_lnk {post : Int32 → St1 → Prop} {u v c : Nat} (hu : u < 7) (hv : v < 7) (huv : v ≠ u) (hc : c ≤ 20) (hK : ∀ u v, u < 7 → v < 7 → a1 (u * 7 + v) = nI (cap u v))
    (H : post (nI (cap v u)) ((-1), fl, upd (upd a1 (v * 7 + u) (nI c)) (u * 7 + v) (nI c), a2, a3, a4, a5, a6, a7, a8, a9, a10, a11, a12)) : wpX_link post (wf, fl, a1, a2, a3, a4, a5, a6, a7, a8, a9, a10, a11, a12) (nI v) (nI u) (nI c) := by
  have c1 : (nI v * 7 + nI u).toNatClampNeg = v * 7 + u := pk_cl (v * 7 + u) (qc_ix7 v u) (by omega)
  have c2 : (nI u * 7 + nI v).toNatClampNeg = u * 7 + v := pk_cl (u * 7 + v) (qc_ix7 u v) (by omega)
  have i1 : vp_in (nI v * 7 + nI u) 49 := pk_in (v * 7 + u) 49 (by omega) (qc_ix7 v u)
  have i2 : vp_in (nI u * 7 + nI v) 49 := pk_in (u * 7 + v) 49 (by omega) (qc_ix7 u v)
  unfold wpX_link
  dsimp only
  refine qc_bd hv (br_t rfl (qc_bd hu (br_t rfl (br_f (fun z => huv ((nI_eq (by omega) (by omega)).mp z)) (br_f (nI_pos (by omega)) (br_t (nI_le (b := 20) hc (by decide)) ?_))))))
  refine ⟨i1, nm_r (e' := nI (cap v u)) (by rw [c1]; exact hK v u hv hu) ⟨i1, nm_r (e' := upd a1 (v * 7 + u) (nI c)) (by rw [c1]) ⟨i2, nm_r (e' := upd (upd a1 (v * 7 + u) (nI c)) (u * 7 + v) (nI c)) (by rw [c2]) H⟩⟩⟩
theorem qc_cp_u {u v c : Nat} (h : qc_cp cap) (hu : u < 4) (hv : v < 4) (hc : c ≤ 20) : qc_cp (qc_u2 (qc_u2 cap v u c) u v c) := by
  refine ⟨fun p q => ?_, fun p q hq => ?_, fun p q => ?_⟩
  · by_cases e1 : p = u ∧ q = v
    · obtain ⟨ep, eq⟩ := e1
      rw [ep, eq, qc_u2s]
      by_cases e2 : v = u
      · rw [e2, qc_u2s]
      · rw [qc_u2n (fun z => e2 z.1), qc_u2s]
    · by_cases e2 : p = v ∧ q = u
      · obtain ⟨ep, eq⟩ := e2
        rw [ep, eq, qc_u2s]
        by_cases e2 : v = u
        · rw [e2, qc_u2s]
        · rw [qc_u2n (fun z => e2 z.1), qc_u2s]
      · rw [qc_u2n e1, qc_u2n e2, qc_u2n (fun z => e2 ⟨z.2, z.1⟩), qc_u2n (fun z => e1 ⟨z.2, z.1⟩)]
        exact h.1 p q
  · rw [qc_u2n (fun z => by omega), qc_u2n (fun z => by omega)]
    exact h.2.1 p q hq
  · unfold qc_u2
    by_cases e1 : p = u ∧ q = v
    · rw [if_pos e1]; exact hc
    · rw [if_neg e1]
      by_cases e2 : p = v ∧ q = u
      · rw [if_pos e2]; exact hc
      · rw [if_neg e2]; exact h.2.2 p q
theorem qc_env_k {u v c : Nat} (h : qc_env cap up down a1 a2 a3 a4 a5) (hu : u < 4) (hv : v < 4) (hc : c ≤ 20) : qc_env (qc_u2 (qc_u2 cap v u c) u v c) up down (upd (upd a1 (v * 7 + u) (nI c)) (u * 7 + v) (nI c)) a2 a3 a4 a5 := by
  refine ⟨qc_cp_u h.1 hu hv hc, fun p q hp hq => ?_, h.2.2.1, h.2.2.2⟩
  by_cases e1 : p = u ∧ q = v
  · rw [e1.1, e1.2, qc_u2s, pk_us]
  · rw [qc_u2n e1, pk_un (by omega)]
    by_cases e2 : p = v ∧ q = u
    · rw [e2.1, e2.2, qc_u2s, pk_us]
    · rw [qc_u2n e2, pk_un (by omega)]
      exact h.2.1 p q hp hq
theorem qc_nmi (u : Nat) (hu : u < 4) (v : Nat) (hv : v < 4) (p : Nat) (hp : p < 4) (q : Nat) (hq : q < 4) (h1 : u < v) (h2 : p < q) (h : qc_nm p q = qc_nm u v) : p = u ∧ q = v := by
  unfold qc_nm at h
  repeat' split at h
  all_goals omega
theorem qc_nml : ∀ u, u < 4 → ∀ v, v < 4 → u < v → qc_nm u v < 6 := by decide +kernel
theorem qc_Q_u {x : Int32} {u v c : Nat} (h : qc_Q x cap) (huv : u < v) (hv : v < 4) (hc : c ≤ 20) : qc_Q (qc_LS x (qc_nm u v) c) (qc_u2 (qc_u2 cap v u c) u v c) := by
  intro p q hpq hq
  by_cases e : p = u ∧ q = v
  · rw [e.1, e.2, qc_u2s]
    exact qc_LKs (qc_nml u (by omega) v hv huv) (by omega)
  · rw [qc_u2n e, qc_u2n (fun z => by omega), qc_LKn (qc_nml u (by omega) v hv huv) (qc_nml p (by omega) q hq hpq) (by omega) (fun z => e (qc_nmi u (by omega) v hv p (by omega) q hq huv hpq z))]
    exact h p q hpq hq
theorem qc_bp0 : ∀ k, k < 5 → ¬ nI k - 2 < -2 ∧ nI k - 2 ≤ 2 := by decide +kernel
theorem qc_bp {post : Int32 → Prop} {a k : Nat} (ha : a ≤ 40) (hk : k ≤ 4) (H : post 0) : wpX_badPull post () (nI a) (nI k - 2) :=
  br_f (nI_pos (by omega)) (br_f (nI_nlt (a := 40) ha (by decide)) (br_f (qc_bp0 k (by omega)).1 (br_t (qc_bp0 k (by omega)).2 H)))
theorem qc_tsrc {post : Int32 → St1 → Prop} {t a k : Nat} (ht : t < 4) (ha : a ≤ 40) (hk : k ≤ 4) (H : post 0 ((-1), fl, a1, upd a2 t (nI a), upd a3 t (nI k - 2), a4, a5, a6, a7, a8, a9, a10, a11, a12)) : wpX_toSource post (wf, fl, a1, a2, a3, a4, a5, a6, a7, a8, a9, a10, a11, a12) (nI t) (nI a) (nI k - 2) := by
  have c1 : (nI t).toNatClampNeg = t := nI_clamp (by omega)
  have i1 : vp_in (nI t) 7 := pk_in t 7 (by omega)
  unfold wpX_toSource
  dsimp only
  exact qc_bd (by omega) (br_t rfl (qc_bp ha hk (br_t rfl ⟨i1, nm_r (e' := upd a2 t (nI a)) (by rw [c1]) ⟨i1, nm_r (e' := upd a3 t (nI k - 2)) (by rw [c1]) H⟩⟩)))
theorem qc_tsnk {post : Int32 → St1 → Prop} {t a k : Nat} (ht : t < 4) (ha : a ≤ 40) (hk : k ≤ 4) (H : post 0 ((-1), fl, a1, a2, a3, upd a4 t (nI a), upd a5 t (nI k - 2), a6, a7, a8, a9, a10, a11, a12)) : wpX_toSink post (wf, fl, a1, a2, a3, a4, a5, a6, a7, a8, a9, a10, a11, a12) (nI t) (nI a) (nI k - 2) := by
  have c1 : (nI t).toNatClampNeg = t := nI_clamp (by omega)
  have i1 : vp_in (nI t) 7 := pk_in t 7 (by omega)
  unfold wpX_toSink
  dsimp only
  exact qc_bd (by omega) (br_t rfl (qc_bp ha hk (br_t rfl ⟨i1, nm_r (e' := upd a4 t (nI a)) (by rw [c1]) ⟨i1, nm_r (e' := upd a5 t (nI k - 2)) (by rw [c1]) H⟩⟩)))
theorem qc_P_c {w : Int64} {b c b' c' : Nat → Int32} (h : qc_P w b c) (hb : ∀ v, v < 7 → b' v = b v) (hc : ∀ v, v < 7 → c' v = c v) : qc_P w b' c' := fun v hv => by
  obtain ⟨a, k, h1, h2, h3, h4, h5⟩ := h v hv
  exact ⟨a, k, h1, h2, by rw [hb v hv]; exact h3, by rw [hc v hv]; exact h4, h5⟩
def qc_sw (p q b c : Nat → Int32) (i : Nat) : Prop := (∀ v, v < i → b v = q v ∧ c v = p v) ∧ (∀ v, i ≤ v → b v = p v ∧ c v = q v)
theorem qc_sw_s {p q b c : Nat → Int32} {i : Nat} (h : qc_sw p q b c i) : qc_sw p q (upd b i (c i)) (upd c i (b i)) (i + 1) := by
  refine ⟨fun v hv => ?_, fun v hv => ?_⟩
  · by_cases e : v = i
    · rw [e, pk_us, pk_us]
      have := h.2 i (by omega)
      exact ⟨this.2, this.1⟩
    · rw [pk_un e, pk_un e]
      exact h.1 v (by omega)
  · rw [pk_un (by omega), pk_un (by omega)]
    exact h.2 v (by omega)
theorem qc_flip {post : St1 → Prop} (H : ∀ b2 b3 b4 b5, qc_sw a2 a4 b2 b4 7 → qc_sw a3 a5 b3 b5 7 → post ((-1), fl, a1, b2, b3, b4, b5, a6, a7, a8, a9, a10, a11, a12)) : wpX_flip post (wf, fl, a1, a2, a3, a4, a5, a6, a7, a8, a9, a10, a11, a12) := by
  refine pk_loop (σ := (Nat → Int32) × (Nat → Int32) × (Nat → Int32) × (Nat → Int32)) (fun n i s => wX_flip_2 post wf fl n (nI i) a1 s.1 s.2.1 s.2.2.1 s.2.2.2 a6 a7 a8 a9 a10 a11 a12) (fun i s => qc_sw a2 a4 s.1 s.2.2.1 i ∧ qc_sw a3 a5 s.2.1 s.2.2.2 i) 7 0 (a2, a3, a4, a5) (by omega) ⟨⟨fun v hv => absurd hv (by omega), fun v _ => ⟨rfl, rfl⟩⟩, ⟨fun v hv => absurd hv (by omega), fun v _ => ⟨rfl, rfl⟩⟩⟩ ?_ ?_
  · rintro n ⟨b2, b3, b4, b5⟩ ⟨h1, h2⟩
    exact pk_le 7 7 (fun _ => H b2 b3 b4 b5 h1 h2) (fun z => absurd z (by omega))
  · rintro n i ⟨b2, b3, b4, b5⟩ hi ⟨h1, h2⟩ hw
    have h1 : qc_sw a2 a4 b2 b4 i := h1
    have h2 : qc_sw a3 a5 b3 b5 i := h2
    have c1 : (nI i).toNatClampNeg = i := nI_clamp (by omega)
    have i1 : vp_in (nI i) 7 := pk_in i 7 hi
    refine pk_le 7 i (fun z => absurd z (by omega)) (fun _ => ⟨i1, nm_r (e' := b2 i) (by rw [c1]) ⟨i1, nm_r (e' := b3 i) (by rw [c1]) ⟨i1, i1, nm_r (e' := upd b2 i (b4 i)) (by rw [c1]) ⟨i1, i1, nm_r (e' := upd b3 i (b5 i)) (by rw [c1]) ⟨i1, nm_r (e' := upd b4 i (b2 i)) (by rw [c1]) ⟨i1, nm_r (e' := upd b5 i (b3 i)) (by rw [c1]) (nm_r (nI_1 i) ?_)⟩⟩⟩⟩⟩⟩)
    exact hw (upd b2 i (b4 i), upd b3 i (b5 i), upd b4 i (b2 i), upd b5 i (b3 i)) ⟨qc_sw_s h1, qc_sw_s h2⟩
theorem qc_env_f {b2 b3 b4 b5 : Nat → Int32} (h : qc_env cap up down a1 a2 a3 a4 a5) (h1 : qc_sw a2 a4 b2 b4 7) (h2 : qc_sw a3 a5 b3 b5 7) : qc_env cap down up a1 b2 b3 b4 b5 :=
  ⟨h.1, h.2.1, qc_P_c h.2.2.2 (fun v hv => (h1.1 v hv).1) (fun v hv => (h2.1 v hv).1), qc_P_c h.2.2.1 (fun v hv => (h1.1 v hv).2) (fun v hv => (h2.1 v hv).2)⟩
end
end
section
/-! ===== one turn of the law, behind its change ===== -/
theorem qc_wl {post : Int32 → Prop} {x0 y : Int32} {k : Nat} (h : qc_LK x0 k = y) (H : post y) : wpL_link post () x0 (nI k) := by
  show post (qc_LK x0 k)
  rw [h]
  exact H
/-- the law's counts over the sets below i -/
def qc_IA (K : Nat → Nat) (F i t al so : Nat) : Prop := t = qc_cnt (fun s => K s = F) i ∧ al < 16 ∧ (∀ j, j < 4 → (al.testBit j = true ↔ ∀ s, s < i → K s = F → s.testBit j = true)) ∧ so < 16 ∧ (∀ j, j < 4 → (so.testBit j = true ↔ ∃ s, s < i ∧ K s = F ∧ s.testBit j = true))
def qc_IB (K : Nat → Nat) (u v i ap : Nat) : Prop := ap ≤ 9999 ∧ (∀ s, s < i → s.testBit u ≠ s.testBit v → ap ≤ K s) ∧ (ap = 9999 ∨ ∃ s, s < i ∧ s.testBit u ≠ s.testBit v ∧ K s = ap)
theorem qc_IA_0 (K : Nat → Nat) (F : Nat) : qc_IA K F 0 0 15 0 := by
  refine ⟨rfl, by omega, fun j hj => ⟨fun _ s hs => absurd hs (by omega), fun _ => (by decide : ∀ j, j < 4 → (15 : Nat).testBit j = true) j hj⟩, by omega, fun j hj => ⟨fun z => ?_, fun z => ?_⟩⟩
  · rw [Nat.zero_testBit] at z
    exact absurd z (by decide)
  · obtain ⟨s, hs, _⟩ := z
    exact absurd hs (by omega)
theorem qc_IA_t {K : Nat → Nat} {F i t al so : Nat} (h : qc_IA K F i t al so) (hi : i < 16) (e : K i = F) : qc_IA K F (i + 1) (t + 1) (al &&& i) (so ||| i) := by
  obtain ⟨h1, h2, h3, h4, h5⟩ := h
  refine ⟨by rw [h1]; exact (qc_cnt_t (P := fun s => K s = F) e).symm, Nat.and_lt_two_pow (n := 4) al hi, fun j hj => ?_, Nat.or_lt_two_pow (n := 4) h4 hi, fun j hj => ?_⟩
  · rw [Nat.testBit_and, Bool.and_eq_true, h3 j hj]
    constructor
    · rintro ⟨g1, g2⟩ s hs hk
      by_cases es : s = i
      · rw [es]; exact g2
      · exact g1 s (by omega) hk
    · intro g
      exact ⟨fun s hs hk => g s (by omega) hk, g i (by omega) e⟩
  · rw [Nat.testBit_or, Bool.or_eq_true, h5 j hj]
    constructor
    · rintro (⟨s, hs, hk, hb⟩ | g)
      · exact ⟨s, by omega, hk, hb⟩
      · exact ⟨i, by omega, e, g⟩
    · rintro ⟨s, hs, hk, hb⟩
      by_cases es : s = i
      · rw [es] at hb; exact Or.inr hb
      · exact Or.inl ⟨s, by omega, hk, hb⟩
theorem qc_IA_f {K : Nat → Nat} {F i t al so : Nat} (h : qc_IA K F i t al so) (e : ¬ K i = F) : qc_IA K F (i + 1) t al so := by
  obtain ⟨h1, h2, h3, h4, h5⟩ := h
  refine ⟨by rw [h1]; exact (qc_cnt_f (P := fun s => K s = F) e).symm, h2, fun j hj => ?_, h4, fun j hj => ?_⟩
  · rw [h3 j hj]
    constructor
    · intro g s hs hk
      by_cases es : s = i
      · rw [es] at hk; exact absurd hk e
      · exact g s (by omega) hk
    · intro g s hs hk
      exact g s (by omega) hk
  · rw [h5 j hj]
    constructor
    · rintro ⟨s, hs, hk, hb⟩
      exact ⟨s, by omega, hk, hb⟩
    · rintro ⟨s, hs, hk, hb⟩
      by_cases es : s = i
      · rw [es] at hk; exact absurd hk e
      · exact ⟨s, by omega, hk, hb⟩
theorem qc_IB_0 (K : Nat → Nat) (u v : Nat) : qc_IB K u v 0 9999 := ⟨by omega, fun s hs => absurd hs (by omega), Or.inl rfl⟩
theorem qc_IB_k {K : Nat → Nat} {u v i ap : Nat} (h : qc_IB K u v i ap) (e : i.testBit u ≠ i.testBit v → ap ≤ K i) : qc_IB K u v (i + 1) ap := by
  obtain ⟨h1, h2, h3⟩ := h
  refine ⟨h1, fun s hs hb => ?_, ?_⟩
  · by_cases es : s = i
    · rw [es] at hb ⊢; exact e hb
    · exact h2 s (by omega) hb
  · rcases h3 with z | ⟨s, hs, hb, hk⟩
    · exact Or.inl z
    · exact Or.inr ⟨s, by omega, hb, hk⟩
theorem qc_IB_n {K : Nat → Nat} {u v i ap : Nat} (h : qc_IB K u v i ap) (e : i.testBit u ≠ i.testBit v) (hk : K i < ap) : qc_IB K u v (i + 1) (K i) := by
  obtain ⟨h1, h2, h3⟩ := h
  refine ⟨by omega, fun s hs hb => ?_, Or.inr ⟨i, by omega, e, rfl⟩⟩
  by_cases es : s = i
  · rw [es]; exact Nat.le_refl _
  · have := h2 s (by omega) hb
    omega
section
variable {wf fl : Int32} {a1 a2 a3 a4 a5 a6 a7 a8 a9 a10 a11 a12 : Nat → Int32}
variable {cap : Nat → Nat → Nat} {x3 x5 : Int64} {x u v : Nat} {post : Int32 → Prop} {L : Nat} {xs : Nat → Int32} {J : Int32 → Int64 → Int64 → Int32 → Int32 → Int32 → (Nat → Int32) → (Nat → Int32) → (Nat → Int32) → (Nat → Int32) → (Nat → Int32) → (Nat → Int32) → (Nat → Int32) → (Nat → Int32) → (Nat → Int32) → (Nat → Int32) → (Nat → Int32) → (Nat → Int32) → Prop} {x2 x7 : Int32} {kc ks : Nat}
theorem qc_n1 : ¬ (-1 : Int32) = nI x ∨ 50 < x := by
  rcases Nat.lt_or_ge 50 x with z | z
  · exact Or.inr z
  · refine Or.inl (fun e => ?_)
    have t : ¬ nI x < 0 := nI_pos (by omega)
    rw [← e] at t
    exact t (by decide)
theorem qc_548 {F ap t al so : Nat} (h : qc_env cap x3 x5 a1 a2 a3 a4 a5) (hx : x ≤ 50) (hu : u < 4) (hv : v < 4) (huv : u ≠ v)
    (hF1 : ∀ s, s < 16 → F ≤ qc_k cap (qc_src a2 a3 x) (qc_src a4 a5 x) s) (hF2 : ∃ s, s < 16 ∧ qc_k cap (qc_src a2 a3 x) (qc_src a4 a5 x) s = F)
    (hA : qc_IA (qc_k cap (qc_src a2 a3 x) (qc_src a4 a5 x)) F 16 t al so)
    (ha1 : ∀ s, s < 16 → s.testBit u ≠ s.testBit v → ap ≤ qc_k cap (qc_src a2 a3 x) (qc_src a4 a5 x) s) (ha2 : ∃ s, s < 16 ∧ s.testBit u ≠ s.testBit v ∧ qc_k cap (qc_src a2 a3 x) (qc_src a4 a5 x) s = ap)
    (H : ∀ w f b6 b7 b8 b9 b10 b11 b12, J x2 x3 x5 (x7 + 2) w f a1 a2 a3 a4 a5 b6 b7 b8 b9 b10 b11 b12) :
    wL_law_548 post L xs J x2 x3 x5 x7 (nI u) (nI v) (nI x) (nI F) (nI t) (nI al) (nI so) (nI (if cap u v ≤ ap - F then cap u v else ap - F)) kc ks (-1) fl a1 a2 a3 a4 a5 a6 a7 a8 a9 a10 a11 a12 := by
  obtain ⟨h1, h2, h3, h4, h5⟩ := hA
  unfold wL_law_548
  refine qc_least h hx (qc_n1.resolve_right (by omega)) (fun F' b6 b7 b8 b9 hs => ?_)
  have eF : F' = F := by
    obtain ⟨g1, s, g2, g3⟩ := qc_slv_F h hs
    obtain ⟨s', k1, k2⟩ := hF2
    have t1 := g1 s'
    have t2 := hF1 s g2
    omega
  subst eF
  dsimp only
  refine br_t rfl (qc_ties h hx hs (fun b10 b11 b12 => ?_))
  dsimp only
  refine br_t (by rw [h1]; exact (pk_mul 8 _).symm) (qc_always h hx hs h2 h3 ?_)
  dsimp only
  refine br_t rfl (qc_ever h hx hs h4 h5 ?_)
  dsimp only
  refine br_t (qc_or so 112).symm (qc_spare h hx hu hv huv hF1 hF2 ha1 ha2 (fun c6 c7 c8 c9 => ?_))
  dsimp only
  exact br_t rfl (nm_e (H _ _ _ _ _ _ _ _ _))
theorem qc_486 {J4 : Int32 → Int32 → Int32 → Int32 → Int32 → Prop} {K : Nat → Nat} {i ap : Nat} {x12 x17 x22 x23 x24 x25 : Int32} (hu : u < 4) (hv : v < 4) (hi : i < 16) (hK : K i ≤ 680) (hB : qc_IB K u v i ap)
    (H : ∀ ap', qc_IB K u v (i + 1) ap' → J4 x23 x24 x25 (nI ap') (nI (i + 1))) : wL_law_486 post L xs J J4 x2 x3 x5 x7 (nI u) (nI v) x12 x17 x22 x23 x24 x25 (nI ap) (nI i) (nI (K i)) kc ks wf fl a1 a2 a3 a4 a5 a6 a7 a8 a9 a10 a11 a12 := by
  have hap := hB.1
  refine ek_if (qc_sbe (show i < 2 ^ 31 by omega) (show u < 32 by omega) (show v < 32 by omega)) (fun z => nm_r (nI_1 i) (H ap (qc_IB_k hB (fun g => absurd z g)))) (fun z => pk_le ap (K i) (fun g => nm_r (nI_1 i) (H ap (qc_IB_k hB (fun _ => g)))) (fun g => nm_r (nI_1 i) (H (K i) (qc_IB_n hB z g))))
theorem qc_413 {F : Nat} (h : qc_env cap x3 x5 a1 a2 a3 a4 a5) (hq : qc_Q x2 cap) (hx : x ≤ 50) (huv : u < v) (hv : v < 4)
    (hF1 : ∀ s, s < 16 → F ≤ qc_k cap (qc_src a2 a3 x) (qc_src a4 a5 x) s) (hF2 : ∃ s, s < 16 ∧ qc_k cap (qc_src a2 a3 x) (qc_src a4 a5 x) s = F)
    (H : ∀ w f b6 b7 b8 b9 b10 b11 b12, J x2 x3 x5 (x7 + 2) w f a1 a2 a3 a4 a5 b6 b7 b8 b9 b10 b11 b12) :
    ∃ n, wL_law_413 post L xs J x2 x3 x5 x7 (nI u) (nI v) (nI (qc_nm u v)) (nI x) (nI F) kc ks (-1) fl a1 a2 a3 a4 a5 a6 a7 a8 a9 a10 a11 a12 n 0 15 0 9999 0 := by
  have hb := qc_env_b (x := x) h hx
  have hF680 : F ≤ 680 := by
    obtain ⟨s, s1, s2⟩ := hF2
    have := hb s
    omega
  refine pk_loop (σ := Nat × Nat × Nat × Nat) (fun n i s => wL_law_413 post L xs J x2 x3 x5 x7 (nI u) (nI v) (nI (qc_nm u v)) (nI x) (nI F) kc ks (-1) fl a1 a2 a3 a4 a5 a6 a7 a8 a9 a10 a11 a12 n (nI s.1) (nI s.2.1) (nI s.2.2.1) (nI s.2.2.2) (nI i)) (fun i s => qc_IA (qc_k cap (qc_src a2 a3 x) (qc_src a4 a5 x)) F i s.1 s.2.1 s.2.2.1 ∧ qc_IB (qc_k cap (qc_src a2 a3 x) (qc_src a4 a5 x)) u v i s.2.2.2) 16 0 (0, 15, 0, 9999) (by omega) ⟨qc_IA_0 _ _, qc_IB_0 _ _ _⟩ ?_ ?_
  · rintro n ⟨t, al, so, ap⟩ ⟨hA, hB⟩
    have hA : qc_IA (qc_k cap (qc_src a2 a3 x) (qc_src a4 a5 x)) F 16 t al so := hA
    have hB : qc_IB (qc_k cap (qc_src a2 a3 x) (qc_src a4 a5 x)) u v 16 ap := hB
    obtain ⟨b1, b2, b3⟩ := hB
    have h2u : 2 ^ u < 16 := Nat.pow_lt_pow_right (n := 4) (by decide) (by omega)
    have hap : ap ≤ 680 := by
      have t1 := b2 (2 ^ u) h2u (by rw [Nat.testBit_two_pow_self, Nat.testBit_two_pow_of_ne (show u ≠ v by omega)]; decide)
      have t2 := hb (2 ^ u)
      omega
    have ha2 : ∃ s, s < 16 ∧ s.testBit u ≠ s.testBit v ∧ qc_k cap (qc_src a2 a3 x) (qc_src a4 a5 x) s = ap := by
      rcases b3 with z | z
      · omega
      · exact z
    have hFa : F ≤ ap := by
      obtain ⟨s, s1, s2, s3⟩ := ha2
      have := hF1 s s1
      omega
    have hl : qc_LK x2 (qc_nm u v) = nI (cap u v) := hq u v huv hv
    have hc := h.1.2.2 u v
    have hend : wL_law_548 post L xs J x2 x3 x5 x7 (nI u) (nI v) (nI x) (nI F) (nI t) (nI al) (nI so) (nI (if cap u v ≤ ap - F then cap u v else ap - F)) kc ks (-1) fl a1 a2 a3 a4 a5 a6 a7 a8 a9 a10 a11 a12 := qc_548 h hx (by omega) hv (by omega) hF1 hF2 hA b2 ha2 H
    refine pk_le 16 16 (fun _ => qc_wl hl (pk_le (cap u v) (ap - F) (fun z => qc_wl hl ?_) (fun z => ?_) rfl (pk_sub hFa))) (fun z => absurd z (by omega))
    · rw [if_pos z] at hend
      exact hend
    · rw [if_neg (by omega)] at hend
      show wL_law_548 post L xs J x2 x3 x5 x7 (nI u) (nI v) (nI x) (nI F) (nI t) (nI al) (nI so) (nI ap - nI F) kc ks (-1) fl a1 a2 a3 a4 a5 a6 a7 a8 a9 a10 a11 a12
      rw [pk_sub hFa]
      exact hend
  · rintro n i ⟨t, al, so, ap⟩ hi ⟨hA, hB⟩ hw
    have hA : qc_IA (qc_k cap (qc_src a2 a3 x) (qc_src a4 a5 x)) F i t al so := hA
    have hB : qc_IB (qc_k cap (qc_src a2 a3 x) (qc_src a4 a5 x)) u v i ap := hB
    have hbi := hb i
    refine pk_le 16 i (fun z => absurd z (by omega)) (fun _ => qc_lc hi h.1 hq h.2.2.1 h.2.2.2 (qc_cst h.2.1 (by omega) hx (br_t rfl ?_)))
    by_cases e : qc_k cap (qc_src a2 a3 x) (qc_src a4 a5 x) i = F
    · have e' : nI (qc_k cap (qc_src a2 a3 x) (qc_src a4 a5 x) i) = nI F := congrArg nI e
      exact br_t e' (nm_r (nI_1 t) (br_t e' (nm_r (qc_and al i) (br_t e' (nm_r (qc_or so i) (qc_486 (by omega) hv hi hbi hB (fun ap' hB' => hw (t + 1, al &&& i, so ||| i, ap') ⟨qc_IA_t hA hi e, hB'⟩)))))))
    · have e' : ¬ nI (qc_k cap (qc_src a2 a3 x) (qc_src a4 a5 x) i) = nI F := fun z => e ((nI_eq (by omega) (by omega)).mp z)
      exact br_f e' (br_f e' (br_f e' (qc_486 (by omega) hv hi hbi hB (fun ap' hB' => hw (t, al, so, ap') ⟨qc_IA_f hA e, hB'⟩))))
theorem qc_343 (h : qc_env cap x3 x5 a1 a2 a3 a4 a5) (hq : qc_Q x2 cap) (hx : x ≤ 50) (huv : u < v) (hv : v < 4)
    (H : ∀ w f b6 b7 b8 b9 b10 b11 b12, J x2 x3 x5 (x7 + 2) w f a1 a2 a3 a4 a5 b6 b7 b8 b9 b10 b11 b12) :
    wL_law_343 post L xs J x2 x3 x5 x7 (nI u) (nI v) (nI (qc_nm u v)) (nI x) kc ks (-1) fl a1 a2 a3 a4 a5 a6 a7 a8 a9 a10 a11 a12 := by
  have hb := qc_env_b (x := x) h hx
  refine qc_lc (s := 0) (by omega) h.1 hq h.2.2.1 h.2.2.2 ?_
  refine pk_loop (fun n i m => wL_law_358 post L xs J x2 x3 x5 x7 (nI u) (nI v) (nI (qc_nm u v)) (nI x) kc ks (-1) fl a1 a2 a3 a4 a5 a6 a7 a8 a9 a10 a11 a12 n (nI m) (nI i)) (fun i m => (∀ s, s < i → m ≤ qc_k cap (qc_src a2 a3 x) (qc_src a4 a5 x) s) ∧ ∃ s, s < i ∧ qc_k cap (qc_src a2 a3 x) (qc_src a4 a5 x) s = m) 16 1 _ (by omega) ⟨fun s hs => ?_, 0, by omega, rfl⟩ ?_ ?_
  · have e : s = 0 := by omega
    rw [e]
    exact Nat.le_refl _
  · rintro n m ⟨h1, h2⟩
    exact pk_le 16 16 (fun _ => qc_413 h hq hx huv hv h1 h2 H) (fun z => absurd z (by omega))
  · rintro n i m hi ⟨h1, h2⟩ hw
    have hbi := hb i
    have hm : m ≤ 680 := by
      obtain ⟨s, s1, s2⟩ := h2
      have := hb s
      omega
    refine pk_le 16 i (fun z => absurd z (by omega)) (fun _ => qc_lc hi h.1 hq h.2.2.1 h.2.2.2 (pk_le m (qc_k cap (qc_src a2 a3 x) (qc_src a4 a5 x) i) (fun z => nm_r (nI_1 i) (hw m ⟨fun s hs => ?_, ?_⟩)) (fun z => nm_r (nI_1 i) (hw (qc_k cap (qc_src a2 a3 x) (qc_src a4 a5 x) i) ⟨fun s hs => ?_, i, by omega, rfl⟩))))
    · by_cases es : s = i
      · rw [es]; exact z
      · exact h1 s (by omega)
    · obtain ⟨s, s1, s2⟩ := h2
      exact ⟨s, by omega, s2⟩
    · by_cases es : s = i
      · rw [es]; exact Nat.le_refl _
      · have := h1 s (by omega)
        omega
end
end
section
/-! ===== the law ===== -/
theorem qc_num {post : Int32 → Prop} {u v : Nat} (hu : u < 3) (hv : 1 ≤ v) (hv4 : v < 4) (H : post (nI (qc_nm u v))) : wpL_number post () (nI u) (nI v) := by
  unfold qc_nm at H
  refine pk_eq u 0 (fun z => ?_) (fun z => pk_eq u 1 (fun y => ?_) (fun y => ?_))
  · rw [if_pos z] at H
    rw [show nI v - 1 = nI (v - 1) from pk_sub (b := 1) hv]
    exact H
  · rw [if_neg z, if_pos y] at H
    rw [nI_1]
    exact H
  · rw [if_neg z, if_neg y] at H
    exact H
theorem qc_rm {w k d : Nat} {S D : Int32} (hw : w < 2 ^ 31) (hs : (S.toBitVec.smod 32).toNat = k) (hD : D = nI d) (h0 : 0 < d) (hd : d < 2 ^ 31) : (nI w >>> S) - (nI w >>> S) / D * D = nI (w / 2 ^ k % d) := by
  rw [pk_shrN hw S k hs, hD]
  exact pk_rem (Nat.lt_of_le_of_lt (Nat.div_le_self _ _) hw) h0 hd
theorem qc_ab : ∀ a, a < 41 → ∀ b, b < 5 → nI a ||| (nI b <<< ((6 : Int32) &&& 31)) = nI (a + 64 * b) := by decide +kernel
section
variable {wf fl : Int32} {a1 a2 a3 a4 a5 a6 a7 a8 a9 a10 a11 a12 : Nat → Int32}
variable {L : Nat} {xs : Nat → Int32} {kc ks : Nat}
theorem qc_59 (hL : L ≤ 260) : ∀ (k j : Nat) (x2 : Int32) (x3 x5 : Int64) (wf fl : Int32) (a1 a2 a3 a4 a5 a6 a7 a8 a9 a10 a11 a12 : Nat → Int32), j + k = 60 → (∃ cap, qc_env cap x3 x5 a1 a2 a3 a4 a5 ∧ qc_Q x2 cap) → wL_law_59 (fun r => r = 1) L xs kc ks (k + 1) x2 x3 x5 (nI (2 * j)) wf fl a1 a2 a3 a4 a5 a6 a7 a8 a9 a10 a11 a12 := by
  intro k
  induction k with
  | zero =>
    intro j x2 x3 x5 wf fl a1 a2 a3 a4 a5 a6 a7 a8 a9 a10 a11 a12 hj hE
    exact br_c (fun _ => rfl) (fun _ => pk_le 120 (2 * j) (fun _ => rfl) (fun z => absurd z (by omega)))
  | succ k ih =>
    intro j x2 x3 x5 wf fl a1 a2 a3 a4 a5 a6 a7 a8 a9 a10 a11 a12 hj hE
    obtain ⟨cap, hE, hQ⟩ := hE
    by_cases hl : L < 2 * j + 2
    · refine br_t ?_ rfl
      show nI L - nI 2 < nI (2 * j)
      rw [Int32.lt_iff_toInt_lt, pk_sub_toInt (by omega) (by omega), nI_toInt (by omega)]
      omega
    · refine br_f ?_ (pk_le 120 (2 * j) (fun z => absurd z (by omega)) (fun _ => ?_))
      · show ¬ nI L - nI 2 < nI (2 * j)
        rw [Int32.lt_iff_toInt_lt, pk_sub_toInt (by omega) (by omega), nI_toInt (by omega)]
        omega
      have c1 : (nI (2 * j)).toNatClampNeg = 2 * j := nI_clamp (by omega)
      have c2 : (nI (2 * j) + 1).toNatClampNeg = 2 * j + 1 := pk_cl (2 * j + 1) (nI_1 _) (by omega)
      obtain ⟨o, ho, eo⟩ := pk_andE (xs (2 * j)) (m := 7) 3 (by decide)
      obtain ⟨w, hw, ew⟩ := pk_andE (xs (2 * j + 1)) (m := 2147483647) 31 (by decide)
      have hu3 : w % 3 < 3 := Nat.mod_lt _ (by omega)
      have hm3 : w / 2 ^ 2 % (3 - w % 3) < 3 - w % 3 := Nat.mod_lt _ (by omega)
      have hc21 : w / 2 ^ 5 % 21 < 21 := Nat.mod_lt _ (by omega)
      have ha41 : w / 2 ^ 5 % 41 < 41 := Nat.mod_lt _ (by omega)
      have hb5 : w / 2 ^ 11 % 5 < 5 := Nat.mod_lt _ (by omega)
      have ht4 : w / 2 ^ 14 % 4 < 4 := Nat.mod_lt _ (by omega)
      have hx51 : w / 2 ^ 16 % 51 < 51 := Nat.mod_lt _ (by omega)
      have ed : (3 : Int32) - nI (w % 3) = nI (3 - w % 3) := pk_sub (a := 3) (by omega)
      have e11 : (nI (w % 3) + 1) + ((nI w >>> ((2 : Int32) &&& 31)) - (nI w >>> ((2 : Int32) &&& 31)) / (3 - nI (w % 3)) * (3 - nI (w % 3))) = nI (w % 3 + 1 + w / 2 ^ 2 % (3 - w % 3)) := by
        rw [qc_rm (k := 2) hw (by decide) ed (by omega) (by omega), nI_1, nI_add]
      generalize hvv : w % 3 + 1 + w / 2 ^ 2 % (3 - w % 3) = v at e11
      generalize hcc : w / 2 ^ 5 % 21 = c at hc21
      generalize haa : w / 2 ^ 5 % 41 = a at ha41
      generalize hbb : w / 2 ^ 11 % 5 = b at hb5
      generalize htt : w / 2 ^ 14 % 4 = t at ht4
      generalize hxx : w / 2 ^ 16 % 51 = x at hx51
      have huv : w % 3 < v := by omega
      have hv4 : v < 4 := by omega
      have eab : nI a ||| (nI b <<< ((6 : Int32) &&& 31)) = nI (a + 64 * b) := qc_ab a ha41 b hb5
      refine ⟨pk_in (2 * j) L (by omega), nm_r (e' := nI o) (by rw [c1]; exact eo) ⟨pk_in (2 * j + 1) L (by omega) (nI_1 _), nm_r (e' := nI w) (by rw [c2]; exact ew) ⟨by decide, nm_r (e' := nI (w % 3)) (pk_rem (d := 3) hw (by omega) (by omega)) ⟨?_, nm_r (e' := nI v) e11 (qc_num hu3 (by omega) hv4 ?_)⟩⟩⟩⟩
      · show ¬ (3 : Int32) - nI (w % 3) = 0
        rw [ed]
        exact nI_ne0 (by omega) (by omega)
      generalize hu' : w % 3 = u at *
      have hN : ∀ (y2 : Int32) (y3 y5 : Int64) (w' f' : Int32) (b1 b2 b3 b4 b5 b6 b7 b8 b9 b10 b11 b12 : Nat → Int32), (∃ cap, qc_env cap y3 y5 b1 b2 b3 b4 b5 ∧ qc_Q y2 cap) → wL_law_59 (fun r => r = 1) L xs kc ks (k + 1) y2 y3 y5 (nI (2 * j) + 2) w' f' b1 b2 b3 b4 b5 b6 b7 b8 b9 b10 b11 b12 := by
        intro y2 y3 y5 w' f' b1 b2 b3 b4 b5 b6 b7 b8 b9 b10 b11 b12 hh
        rw [show nI (2 * j) + 2 = nI (2 * (j + 1)) from nI_add (2 * j) 2]
        exact ih (j + 1) y2 y3 y5 w' f' b1 b2 b3 b4 b5 b6 b7 b8 b9 b10 b11 b12 (by omega) hh
      refine ⟨by decide, nm_r (e' := nI c) (by rw [← hcc]; exact qc_rm (k := 5) (d := 21) hw (by decide) rfl (by omega) (by omega)) ⟨by decide, nm_r (e' := nI a) (by rw [← haa]; exact qc_rm (k := 5) (d := 41) hw (by decide) rfl (by omega) (by omega)) ⟨by decide, nm_r (e' := nI b) (by rw [← hbb]; exact qc_rm (k := 11) (d := 5) hw (by decide) rfl (by omega) (by omega)) ⟨by decide, nm_r (e' := nI t) (by rw [← htt]; exact qc_rm (k := 14) (d := 4) hw (by decide) rfl (by omega) (by omega)) ⟨by decide, nm_r (e' := nI x) (by rw [← hxx]; exact qc_rm (k := 16) (d := 51) hw (by decide) rfl (by omega) (by omega)) (nm_e (nm_e ?_))⟩⟩⟩⟩⟩
      refine pk_lt 3 o (fun _ => pk_lt 5 o (fun _ => pk_eq o 6 (fun _ => ?_) (fun _ => ?_)) (fun _ => ?_)) (fun _ => ?_)
      · -- toSink
        refine qc_tsnk ht4 (by omega) (by omega) ?_
        dsimp only
        refine br_t rfl (nm_e ?_)
        have hE' : qc_env cap x3 (qc_PS x5 t (nI a ||| (nI b <<< ((6 : Int32) &&& 31)))) a1 a2 a3 (upd a4 t (nI a)) (upd a5 t (nI b - 2)) := ⟨hE.1, hE.2.1, hE.2.2.1, qc_P_s hE.2.2.2 ht4 (by omega) (by omega) eab⟩
        exact qc_343 hE' hQ (by omega) huv hv4 (fun w' f' b6 b7 b8 b9 b10 b11 b12 => hN _ _ _ _ _ _ _ _ _ _ _ _ _ _ _ _ _ ⟨cap, hE', hQ⟩)
      · -- flip
        refine qc_flip (fun d2 d3 d4 d5 s1 s2 => ?_)
        dsimp only
        have hE' : qc_env cap x5 x3 a1 d2 d3 d4 d5 := qc_env_f hE s1 s2
        exact qc_343 hE' hQ (by omega) huv hv4 (fun w' f' b6 b7 b8 b9 b10 b11 b12 => hN _ _ _ _ _ _ _ _ _ _ _ _ _ _ _ _ _ ⟨cap, hE', hQ⟩)
      · -- toSource
        refine qc_tsrc ht4 (by omega) (by omega) ?_
        dsimp only
        refine br_t rfl (nm_e ?_)
        have hE' : qc_env cap (qc_PS x3 t (nI a ||| (nI b <<< ((6 : Int32) &&& 31)))) x5 a1 (upd a2 t (nI a)) (upd a3 t (nI b - 2)) a4 a5 := ⟨hE.1, hE.2.1, qc_P_s hE.2.2.1 ht4 (by omega) (by omega) eab, hE.2.2.2⟩
        exact qc_343 hE' hQ (by omega) huv hv4 (fun w' f' b6 b7 b8 b9 b10 b11 b12 => hN _ _ _ _ _ _ _ _ _ _ _ _ _ _ _ _ _ ⟨cap, hE', hQ⟩)
      · -- link
        refine qc_lnk (u := u) (v := v) (c := c) (by omega) (by omega) (by omega) (by omega) hE.2.1 ?_
        dsimp only
        refine qc_wl (hQ u v huv hv4) (br_t (by rw [hE.1.1 v u]) (nm_e ?_))
        have hE' : qc_env (qc_u2 (qc_u2 cap v u c) u v c) x3 x5 (upd (upd a1 (v * 7 + u) (nI c)) (u * 7 + v) (nI c)) a2 a3 a4 a5 := qc_env_k hE (by omega) hv4 (by omega)
        have hQ' : qc_Q (qc_LS x2 (qc_nm u v) c) (qc_u2 (qc_u2 cap v u c) u v c) := qc_Q_u hQ huv hv4 (by omega)
        exact qc_343 hE' hQ' (by omega) huv hv4 (fun w' f' b6 b7 b8 b9 b10 b11 b12 => hN _ _ _ _ _ _ _ _ _ _ _ _ _ _ _ _ _ ⟨_, hE', hQ'⟩)
end
def qc_U : Nat → Int64
  | 0 => 0
  | n + 1 => qc_U n ||| ((128 : Int64) <<< ((9 * nI n).toInt64 &&& 63))
theorem qc_U4 : ∀ v, v < 4 → qc_PL (qc_U 4) v = nI (0 + 64 * 2) := by decide +kernel
theorem qc_PU : qc_P (qc_U 4) (fun _ => 0) (fun _ => 0) := fun v hv => ⟨0, 2, by omega, by omega, rfl, (by decide : (0 : Int32) = nI 2 - 2), fun h => qc_U4 v h, fun _ => ⟨rfl, rfl⟩⟩
theorem qc_Q0 : qc_Q 0 (fun _ _ => 0) := fun u v h1 h2 => by
  have t : ∀ k, k < 6 → qc_LK 0 k = nI 0 := by decide +kernel
  exact t _ (qc_nml u (by omega) v h2 h1)
theorem i_vc (xs : Nat → Int32) (L : Nat) (hL : L ≤ 260) : wpL_law (fun r => r = 1) L xs := by
  refine ⟨12, 212, by omega, by omega, by omega, by omega, by omega, by omega, by omega, by omega, by omega, by omega, by omega, by omega, by omega, by omega, by omega, by omega, by omega, by omega, by omega, by omega, by omega, by omega, by omega, by omega, by omega, by omega, ?_⟩
  refine pk_loop (fun n i s => wL_law_18 (fun r => r = 1) L xs 0 (1 + 12) (14 + 212) (-1) 0 (fun _ => 0) (fun _ => 0) (fun _ => 0) (fun _ => 0) (fun _ => 0) (fun _ => 0) (fun _ => 0) (fun _ => 0) (fun _ => 0) (fun _ => 0) (fun _ => 0) (fun _ => 0) n s s (nI i)) (fun i s => s = qc_U i) 4 0 0 (by omega) rfl ?_ ?_
  · intro n s hs
    refine pk_le 4 4 (fun _ => ⟨60 + 1, ?_⟩) (fun z => absurd z (by omega))
    rw [hs]
    exact qc_59 hL 60 0 0 _ _ _ _ _ _ _ _ _ _ _ _ _ _ _ _ (by omega) ⟨fun _ _ => 0, ⟨⟨fun _ _ => rfl, fun _ _ _ => rfl, fun _ _ => Nat.zero_le _⟩, fun _ _ _ _ => rfl, qc_PU, qc_PU⟩, qc_Q0⟩
  · intro n i s hi hs hw
    refine pk_le 4 i (fun z => absurd z (by omega)) (fun _ => nm_e (nm_e (nm_r (nI_1 i) (hw _ ?_))))
    rw [hs]
    rfl
end
