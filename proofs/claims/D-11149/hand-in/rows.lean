section
/-! bits of an Int32 (the first rows began as rows of laws/BITS.to-paste, renamed) -/
def td_b (x : Int32) (i : Nat) : Bool := x.toBitVec.getLsbD i
theorem td_ext {x y : Int32} (h : ∀ i, i < 32 → td_b x i = td_b y i) : x = y := Int32.toBitVec_inj.mp (BitVec.eq_of_getLsbD_eq (fun i hi => h i hi))
theorem td_or (x y : Int32) (i : Nat) : td_b (x ||| y) i = (td_b x i || td_b y i) := by unfold td_b; rw [Int32.toBitVec_or, BitVec.getLsbD_or]
theorem td_and (x y : Int32) (i : Nat) : td_b (x &&& y) i = (td_b x i && td_b y i) := by unfold td_b; rw [Int32.toBitVec_and, BitVec.getLsbD_and]
theorem td_xor (x y : Int32) (i : Nat) : td_b (x ^^^ y) i = (td_b x i ^^ td_b y i) := by unfold td_b; rw [Int32.toBitVec_xor, BitVec.getLsbD_xor]
theorem td_big {x : Int32} {i : Nat} (h : 32 ≤ i) : td_b x i = false := BitVec.getLsbD_of_ge _ _ h
theorem td_m1 : ∀ i, i < 32 → td_b (-1) i = true := by decide +kernel
theorem td_0 (i : Nat) : td_b 0 i = false := BitVec.getLsbD_zero
theorem td_not {x : Int32} {i : Nat} (hi : i < 32) : td_b (x ^^^ (-1)) i = !td_b x i := by
  rw [td_xor, td_m1 i hi]
  cases td_b x i <;> rfl
theorem td_s1 : (((1 : Int32) &&& 31).toBitVec.smod 32).toNat = 1 := by decide +kernel
theorem td_shl (x : Int32) {i : Nat} (hi : i < 32) : td_b (x <<< ((1 : Int32) &&& 31)) i = (decide (1 ≤ i) && td_b x (i - 1)) := by
  unfold td_b
  rw [Int32.toBitVec_shiftLeft]
  show (x.toBitVec <<< (((1 : Int32) &&& 31).toBitVec.smod 32).toNat).getLsbD i = _
  rw [td_s1, BitVec.getLsbD_shiftLeft]
  rcases Nat.lt_or_ge i 1 with h | h
  · simp [h, Nat.not_le.mpr h]
  · simp [hi, h, Nat.not_lt.mpr h]
theorem td_shr (x : Int32) {i : Nat} (hi : i < 31) : td_b (x >>> ((1 : Int32) &&& 31)) i = td_b x (i + 1) := by
  unfold td_b
  rw [Int32.toBitVec_shiftRight]
  show (x.toBitVec.sshiftRight (((1 : Int32) &&& 31).toBitVec.smod 32).toNat).getLsbD i = _
  rw [td_s1, BitVec.getLsbD_sshiftRight, if_pos (show 1 + i < 32 by omega), decide_eq_false (show ¬ 32 ≤ i by omega), Nat.add_comm 1 i]
  rfl
/-- the lowest bit -/
theorem td_low {x : Int32} {i : Nat} (hi : i < 32) (h : td_b x i = true) (hl : ∀ k, k < i → td_b x k = false) : td_b (x &&& (-x)) i = true := by
  rw [td_and, h]
  show (true && (-x).toBitVec.getLsbD i) = true
  rw [Int32.toBitVec_neg, BitVec.getLsbD_neg]
  have e : x.toBitVec.getLsbD i = true := h
  have n : ¬ ∃ k, k < i ∧ x.toBitVec.getLsbD k = true := by
    rintro ⟨k, hk, t⟩
    have := hl k hk
    unfold td_b at this
    rw [this] at t
    exact absurd t (by decide)
  rw [e, decide_eq_false n]
  simp
theorem td_andnot (x : Int32) : x &&& (x ^^^ (-1)) = 0 := by
  apply td_ext
  intro i hi
  rw [td_and, td_not hi, td_0]
  cases td_b x i <;> rfl
/-! words beside a word -/
def td_near (g : Nat → Int32) (j : Nat) : Int32 := (((g j ||| (g j <<< ((1 : Int32) &&& 31))) ||| (g j >>> ((1 : Int32) &&& 31))) ||| (if j = 0 then 0 else g (j - 1))) ||| (if j < 16 then g (j + 1) else 0)
theorem td_near_in (g : Nat → Int32) (j : Nat) {i : Nat} (h : td_b (g j) i = true) : td_b (td_near g j) i = true := by
  unfold td_near
  rw [td_or, td_or, td_or, td_or, h]
  rfl
theorem td_near_r (g : Nat → Int32) (j : Nat) {i : Nat} (hi : i < 31) (h : td_b (g j) i = true) : td_b (td_near g j) (i + 1) = true := by
  unfold td_near
  rw [td_or, td_or, td_or, td_or, td_shl _ (by omega), Nat.add_sub_cancel, h, decide_eq_true (show 1 ≤ i + 1 by omega)]
  simp
theorem td_near_l (g : Nat → Int32) (j : Nat) {i : Nat} (hi : i < 31) (h : td_b (g j) (i + 1) = true) : td_b (td_near g j) i = true := by
  unfold td_near
  rw [td_or, td_or, td_or, td_or, td_shr _ hi, h]
  simp
theorem td_near_d (g : Nat → Int32) (j : Nat) {i : Nat} (h : td_b (g j) i = true) : td_b (td_near g (j + 1)) i = true := by
  unfold td_near
  rw [if_neg (show ¬ j + 1 = 0 by omega), Nat.add_sub_cancel, td_or, td_or, h]
  simp
theorem td_near_u (g : Nat → Int32) (j : Nat) (hj : j < 16) {i : Nat} (h : td_b (g (j + 1)) i = true) : td_b (td_near g j) i = true := by
  unfold td_near
  rw [if_pos hj, td_or, h]
  simp
/-- what is near comes from a neighbour -/
theorem td_near_e (g : Nat → Int32) (j : Nat) {i : Nat} (hi : i < 31) (h : td_b (td_near g j) i = true) : td_b (g j) i = true ∨ (1 ≤ i ∧ td_b (g j) (i - 1) = true) ∨ td_b (g j) (i + 1) = true ∨ (1 ≤ j ∧ td_b (g (j - 1)) i = true) ∨ (j < 16 ∧ td_b (g (j + 1)) i = true) := by
  unfold td_near at h
  rw [td_or, td_or, td_or, td_or, td_shl _ (by omega), td_shr _ hi] at h
  simp only [Bool.or_eq_true, Bool.and_eq_true, decide_eq_true_eq] at h
  rcases h with (((h | h) | h) | h) | h
  · exact Or.inl h
  · exact Or.inr (Or.inl h)
  · exact Or.inr (Or.inr (Or.inl h))
  · by_cases z : j = 0
    · rw [if_pos z, td_0] at h
      exact absurd h (by decide)
    · rw [if_neg z] at h
      exact Or.inr (Or.inr (Or.inr (Or.inl ⟨by omega, h⟩)))
  · by_cases z : j < 16
    · rw [if_pos z] at h
      exact Or.inr (Or.inr (Or.inr (Or.inr ⟨z, h⟩)))
    · rw [if_neg z, td_0] at h
      exact absurd h (by decide)
/-! sums -/
def td_sum (f : Nat → Nat) : Nat → Nat
  | 0 => 0
  | n + 1 => td_sum f n + f n
theorem td_sum_le {f g : Nat → Nat} (n : Nat) (h : ∀ i, i < n → f i ≤ g i) : td_sum f n ≤ td_sum g n := by
  induction n with
  | zero => exact Nat.le_refl 0
  | succ n ih => exact Nat.add_le_add (ih (fun i hi => h i (by omega))) (h n (by omega))
theorem td_sum_lt {f g : Nat → Nat} (n : Nat) (h : ∀ i, i < n → f i ≤ g i) {k : Nat} (hk : k < n) (hl : f k < g k) : td_sum f n < td_sum g n := by
  induction n with
  | zero => omega
  | succ n ih =>
    by_cases e : k = n
    · subst e
      exact Nat.add_lt_add_of_le_of_lt (td_sum_le k (fun i hi => h i (by omega))) hl
    · exact Nat.add_lt_add_of_lt_of_le (ih (fun i hi => h i (by omega)) (by omega)) (h n (by omega))
theorem td_sum_bd {f : Nat → Nat} {c : Nat} (n : Nat) (h : ∀ i, i < n → f i ≤ c) : td_sum f n ≤ n * c := by
  induction n with
  | zero => exact Nat.zero_le _
  | succ n ih =>
    rw [Nat.succ_mul]
    exact Nat.add_le_add (ih (fun i hi => h i (by omega))) (h n (by omega))
theorem td_sum_cg {f g : Nat → Nat} (n : Nat) (h : ∀ i, i < n → f i = g i) : td_sum f n = td_sum g n := by
  induction n with
  | zero => rfl
  | succ n ih =>
    show td_sum f n + f n = td_sum g n + g n
    rw [ih (fun i hi => h i (by omega)), h n (by omega)]
theorem td_sum_lin (p q : Nat → Nat) (a b n : Nat) : td_sum (fun j => p j * a + q j * b) n = td_sum p n * a + td_sum q n * b := by
  induction n with
  | zero => simp [td_sum]
  | succ n ih =>
    show td_sum (fun j => p j * a + q j * b) n + (p n * a + q n * b) = (td_sum p n + p n) * a + (td_sum q n + q n) * b
    rw [ih, Nat.add_mul, Nat.add_mul]
    omega
def td_pw (x : Int32) : Nat := td_sum (fun i => (td_b x i).toNat) 17
def td_pop (r : Nat → Int32) : Nat := td_sum (fun j => td_pw (r j)) 17
theorem td_tn {a b : Bool} (h : a = true → b = true) : a.toNat ≤ b.toNat := by
  cases a <;> cases b <;> simp_all
theorem td_pw_le {x y : Int32} (h : ∀ i, td_b x i = true → td_b y i = true) : td_pw x ≤ td_pw y := td_sum_le 17 (fun i _ => td_tn (h i))
theorem td_pw_lt {x y : Int32} (h : ∀ i, td_b x i = true → td_b y i = true) (hy : ∀ i, 17 ≤ i → td_b y i = false) (hne : ¬ y = x) : td_pw x < td_pw y := by
  by_cases c : ∃ k, k < 17 ∧ td_b x k = false ∧ td_b y k = true
  · obtain ⟨k, hk, c1, c2⟩ := c
    refine td_sum_lt (f := fun i => (td_b x i).toNat) (g := fun i => (td_b y i).toNat) 17 (fun i _ => td_tn (h i)) hk ?_
    show (td_b x k).toNat < (td_b y k).toNat
    rw [c1, c2]
    decide
  · refine absurd (td_ext (fun i _ => ?_)) hne
    cases e : td_b x i with
    | true => exact h i e
    | false =>
      cases e2 : td_b y i with
      | false => rfl
      | true =>
        rcases Nat.lt_or_ge i 17 with z | z
        · exact absurd ⟨i, z, e, e2⟩ c
        · rw [hy i z] at e2
          exact absurd e2 (by decide)
theorem td_pop_le (r : Nat → Int32) : td_pop r ≤ 289 := by
  refine td_sum_bd (c := 17) 17 (fun j _ => ?_)
  refine td_sum_bd (c := 1) 17 (fun i _ => ?_)
  cases td_b (r j) i <;> decide
theorem td_pop_up {r : Nat → Int32} {j : Nat} {v : Int32} (hj : j < 17) (h : td_pw (r j) < td_pw v) : td_pop r < td_pop (upd r j v) := by
  refine td_sum_lt (f := fun k => td_pw (r k)) (g := fun k => td_pw (upd r j v k)) 17 (fun k _ => ?_) hj ?_
  · show td_pw (r k) ≤ td_pw (upd r j v k)
    by_cases e : k = j
    · rw [e, pk_us]
      omega
    · rw [pk_un e]
      exact Nat.le_refl _
  · show td_pw (r j) < td_pw (upd r j v j)
    rw [pk_us]
    exact h
theorem td_upd_id (r : Nat → Int32) (j : Nat) {v : Int32} (h : v = r j) : upd r j v = r := by
  funext k
  by_cases e : k = j
  · rw [e, pk_us, h]
  · rw [pk_un e]
theorem td_fill {f s : Nat → Int32} {i : Nat} {x : Int32} (h : ∀ j, j < i → s j = f j) (hx : x = f i) : ∀ j, j < i + 1 → upd s i x j = f j := by
  intro j hj
  by_cases e : j = i
  · rw [e, pk_us, hx]
  · rw [pk_un e]
    exact h j (by omega)
/-- along a line -/
theorem td_line {P : Nat → Prop} {lo hi : Nat} (hr : ∀ i, lo ≤ i → i + 1 < hi → P i → P (i + 1)) (hl : ∀ i, lo ≤ i → i + 1 < hi → P (i + 1) → P i) {a : Nat} (ha : lo ≤ a) (ha' : a < hi) (h : P a) : ∀ b, lo ≤ b → b < hi → P b := by
  have up : ∀ k, a + k < hi → P (a + k) := by
    intro k
    induction k with
    | zero => intro _; exact h
    | succ k ih => intro z; exact hr (a + k) (by omega) (by omega) (ih (by omega))
  have dn : ∀ k, lo + k ≤ a → P (a - k) := by
    intro k
    induction k with
    | zero => intro _; exact h
    | succ k ih =>
      intro z
      have t := ih (by omega)
      rw [show a - k = (a - (k + 1)) + 1 by omega] at t
      exact hl (a - (k + 1)) (by omega) (by omega) t
  intro b hb hb'
  rcases Nat.lt_or_ge b a with z | z
  · have t := dn (a - b) (by omega)
    rw [show a - (a - b) = b by omega] at t
    exact t
  · have t := up (b - a) (by omega)
    rw [show a + (b - a) = b by omega] at t
    exact t
end
section
/-! growing over the ground -/
def td_cl (g : Nat → Int32) (C : Nat → Nat → Prop) : Prop := ∀ h : Nat → Int32, (∀ j, j < 17 → ∀ i, td_b (h j) i = true → C j i) → ∀ j, j < 17 → ∀ i, td_b (td_near h j &&& g j) i = true → C j i
def td_ok (g s : Nat → Int32) (C : Nat → Nat → Prop) (r : Nat → Int32) : Prop := (∀ j, j < 17 → ∀ i, td_b (s j) i = true → td_b (r j) i = true) ∧ (∀ j, j < 17 → ∀ i, td_b (r j) i = true → td_b (g j) i = true) ∧ (∀ j, j < 17 → ∀ i, td_b (r j) i = true → C j i)
def td_fx (g r : Nat → Int32) : Prop := ∀ k, k < 17 → td_near r k &&& g k = r k
theorem td_ok_mo {g s : Nat → Int32} {C : Nat → Nat → Prop} {r : Nat → Int32} {j : Nat} (h : td_ok g s C r) (hj : j < 17) : ∀ i, td_b (r j) i = true → td_b (td_near r j &&& g j) i = true := by
  intro i z
  rw [td_and, td_near_in r j z, h.2.1 j hj i z]
  rfl
theorem td_ok_up {g s : Nat → Int32} {C : Nat → Nat → Prop} {r : Nat → Int32} {j : Nat} (hc : td_cl g C) (h : td_ok g s C r) (hj : j < 17) : td_ok g s C (upd r j (td_near r j &&& g j)) := by
  refine ⟨fun k hk i z => ?_, fun k hk i z => ?_, fun k hk i z => ?_⟩
  · by_cases e : k = j
    · subst e
      rw [pk_us]
      exact td_ok_mo h hj i (h.1 k hk i z)
    · rw [pk_un e]
      exact h.1 k hk i z
  · by_cases e : k = j
    · subst e
      rw [pk_us, td_and] at z
      exact (Bool.and_eq_true_iff.mp z).2
    · rw [pk_un e] at z
      exact h.2.1 k hk i z
  · by_cases e : k = j
    · subst e
      rw [pk_us] at z
      exact hc r h.2.2 k hk i z
    · rw [pk_un e] at z
      exact h.2.2 k hk i z
theorem td_80 {post : St2 → Prop} {J4 J19 : Int32 → Int32 → (Nat → Int32) → (Nat → Int32) → (Nat → Int32) → (Nat → Int32) → (Nat → Int32) → (Nat → Int32) → Prop} {x1 x2 z0 z1 : Int32} {i : Nat} {a1 a2 a3 a4 g r : Nat → Int32} (hi : i < 17) (v : Int32) (hv : (z1 ||| z0) &&& g i = v)
    (H0 : x1 = 0 → v = r i → J19 0 (nI (i + 1)) a1 a2 a3 a4 g (upd r i v)) (H1 : ¬ (x1 = 0 ∧ v = r i) → J19 1 (nI (i + 1)) a1 a2 a3 a4 g (upd r i v)) :
    wX_spread_80 post J4 J19 x1 x2 (nI i) (r i) z0 z1 a1 a2 a3 a4 g r := by
  unfold wX_spread_80
  rw [nI_clamp (show i < 2 ^ 31 by omega)]
  refine nm_e ⟨pk_in i 17 hi, pk_in i 17 hi, nm_r (e' := upd r i v) (by rw [hv]) (br_c (fun z => ⟨pk_in i 17 hi, ?_⟩) (fun z => nm_r (nI_1 i) (H1 (fun t => z t.1))))⟩
  rw [pk_us]
  exact br_c (fun e => nm_r (nI_1 i) (H0 z e)) (fun e => nm_r (nI_1 i) (H1 (fun t => e t.2)))
theorem td_61 {post : St2 → Prop} {J4 J19 : Int32 → Int32 → (Nat → Int32) → (Nat → Int32) → (Nat → Int32) → (Nat → Int32) → (Nat → Int32) → (Nat → Int32) → Prop} {x1 x2 z0 z1 : Int32} {i : Nat} {a1 a2 a3 a4 g r : Nat → Int32} (hi : i < 17) (v : Int32) (hv : ((z1 ||| z0) ||| (if i < 16 then r (i + 1) else 0)) &&& g i = v)
    (H0 : x1 = 0 → v = r i → J19 0 (nI (i + 1)) a1 a2 a3 a4 g (upd r i v)) (H1 : ¬ (x1 = 0 ∧ v = r i) → J19 1 (nI (i + 1)) a1 a2 a3 a4 g (upd r i v)) :
    wX_spread_61 post J4 J19 x1 x2 (nI i) (r i) z0 z1 a1 a2 a3 a4 g r := by
  unfold wX_spread_61
  refine pk_le 16 i (fun z => td_80 hi v ?_ H0 H1) (fun z => ⟨pk_in (i + 1) 17 (by omega) (nI_1 i), ?_⟩)
  · rw [if_neg (by omega)] at hv
    exact hv
  · rw [nI_1 i, nI_clamp (show i + 1 < 2 ^ 31 by omega)]
    rw [if_pos z] at hv
    exact td_80 hi v hv H0 H1
def td_rd (g r : Nat → Int32) (j : Nat) (m : Int32) (r' : Nat → Int32) : Prop := (m = 0 ∧ r' = r ∧ ∀ k, k < j → td_near r k &&& g k = r k) ∨ (m = 1 ∧ td_pop r < td_pop r')
theorem td_round {post : St2 → Prop} {J4 : Int32 → Int32 → (Nat → Int32) → (Nat → Int32) → (Nat → Int32) → (Nat → Int32) → (Nat → Int32) → (Nat → Int32) → Prop} {x2 : Int32} {a1 a2 a3 a4 g s r : Nat → Int32} {C : Nat → Nat → Prop} (hg : ∀ j, j < 17 → ∀ i, 17 ≤ i → td_b (g j) i = false) (hc : td_cl g C) (h : td_ok g s C r)
    (H : ∀ m r', td_ok g s C r' → td_rd g r 17 m r' → J4 m (x2 + 1) a1 a2 a3 a4 g r') : ∃ n, wX_spread_19 post J4 x2 n 0 0 a1 a2 a3 a4 g r := by
  refine pk_loop (σ := Int32 × (Nat → Int32)) (fun n i t => wX_spread_19 post J4 x2 n t.1 (nI i) a1 a2 a3 a4 g t.2) (fun i t => td_ok g s C t.2 ∧ td_rd g r i t.1 t.2) 17 0 (0, r) (by omega) ⟨h, Or.inl ⟨rfl, rfl, fun k hk => absurd hk (by omega)⟩⟩ ?_ ?_
  · intro n t ht
    exact pk_le 17 17 (fun _ => nm_e (H _ _ ht.1 ht.2)) (fun z => absurd z (by omega))
  · rintro n i ⟨m, r'⟩ hi ⟨ho, hd⟩ hw
    have ho : td_ok g s C r' := ho
    have hd : td_rd g r i m r' := hd
    show wX_spread_19 post J4 x2 (n + 1) m (nI i) a1 a2 a3 a4 g r'
    have hbig : ∀ k, 17 ≤ k → td_b (td_near r' i &&& g i) k = false := by
      intro k hk
      rw [td_and, hg i hi k hk, Bool.and_false]
    have H0 : m = 0 → td_near r' i &&& g i = r' i → wX_spread_19 post J4 x2 n 0 (nI (i + 1)) a1 a2 a3 a4 g (upd r' i (td_near r' i &&& g i)) := by
      intro hm hv
      have hr : r' = r := by
        rcases hd with ⟨_, e, _⟩ | ⟨e, _⟩
        · exact e
        · rw [e] at hm
          exact absurd hm (by decide)
      have hk : ∀ k, k < i → td_near r k &&& g k = r k := by
        rcases hd with ⟨_, _, e⟩ | ⟨e, _⟩
        · exact e
        · rw [e] at hm
          exact absurd hm (by decide)
      refine hw (0, upd r' i (td_near r' i &&& g i)) ⟨td_ok_up hc ho hi, Or.inl ⟨rfl, ?_, ?_⟩⟩
      · show upd r' i (td_near r' i &&& g i) = r
        rw [td_upd_id r' i hv, hr]
      · intro k hk'
        by_cases e : k = i
        · rw [e]
          rw [hr] at hv
          exact hv
        · exact hk k (by omega)
    have H1 : ¬ (m = 0 ∧ td_near r' i &&& g i = r' i) → wX_spread_19 post J4 x2 n 1 (nI (i + 1)) a1 a2 a3 a4 g (upd r' i (td_near r' i &&& g i)) := by
      intro hn
      refine hw (1, upd r' i (td_near r' i &&& g i)) ⟨td_ok_up hc ho hi, Or.inr ⟨rfl, ?_⟩⟩
      show td_pop r < td_pop (upd r' i (td_near r' i &&& g i))
      by_cases e : td_near r' i &&& g i = r' i
      · rw [td_upd_id r' i e]
        rcases hd with ⟨e0, _, _⟩ | ⟨_, e2⟩
        · exact absurd ⟨e0, e⟩ hn
        · exact e2
      · have t := td_pop_up hi (td_pw_lt (td_ok_mo ho hi) hbig e)
        rcases hd with ⟨_, e2, _⟩ | ⟨_, e2⟩
        · rw [e2] at t
          rw [e2]
          exact t
        · omega
    refine pk_le 17 i (fun z => absurd z (by omega)) (fun _ => ⟨pk_in i 17 hi, nm_r (e' := r' i) (by rw [nI_clamp (by omega)]) (pk_le i 0 (fun z => ?_) (fun z => ⟨pk_in (i - 1) 17 (by omega) (pk_sub (b := 1) (by omega)), ?_⟩))⟩)
    · refine td_61 hi _ ?_ H0 H1
      unfold td_near
      rw [if_pos (show i = 0 by omega)]
    · rw [show nI i - 1 = nI (i - 1) from pk_sub (b := 1) (by omega), nI_clamp (show i - 1 < 2 ^ 31 by omega)]
      refine td_61 hi _ ?_ H0 H1
      unfold td_near
      rw [if_neg (show ¬ i = 0 by omega)]
theorem td_spread {post : St2 → Prop} {a1 a2 a3 a4 g s : Nat → Int32} (C : Nat → Nat → Prop) (hg : ∀ j, j < 17 → ∀ i, 17 ≤ i → td_b (g j) i = false) (hc : td_cl g C) (h : td_ok g s C s)
    (H : ∀ r, td_ok g s C r → td_fx g r → post (a1, a2, a3, a4, g, r)) : wpX_spread post (a1, a2, a3, a4, g, s) := by
  refine pk_loop (σ := Int32 × (Nat → Int32)) (fun n i t => wX_spread_4 post n t.1 (nI i) a1 a2 a3 a4 g t.2) (fun i t => td_ok g s C t.2 ∧ ((t.1 = 0 ∧ td_fx g t.2) ∨ (t.1 = 1 ∧ i ≤ td_pop t.2))) 300 0 (1, s) (by omega) ⟨h, Or.inr ⟨rfl, Nat.zero_le _⟩⟩ ?_ ?_
  · intro n t ht
    refine pk_le 300 300 (fun _ => ?_) (fun z => absurd z (by omega))
    rcases ht.2 with ⟨_, e⟩ | ⟨_, e⟩
    · exact H _ ht.1 e
    · have := td_pop_le t.2
      omega
  · rintro n i ⟨m, r⟩ hi ⟨ho, hd⟩ hw
    have ho : td_ok g s C r := ho
    have hd : (m = 0 ∧ td_fx g r) ∨ (m = 1 ∧ i ≤ td_pop r) := hd
    show wX_spread_4 post (n + 1) m (nI i) a1 a2 a3 a4 g r
    refine pk_le 300 i (fun z => absurd z (by omega)) (fun _ => br_c (fun z => ?_) (fun z => ?_))
    · rcases hd with ⟨_, e⟩ | ⟨e, _⟩
      · exact H r ho e
      · rw [e] at z
        exact absurd z (by decide)
    · refine td_round hg hc ho (fun m' r' ho' hd' => ?_)
      rw [nI_1]
      refine hw (m', r') ⟨ho', ?_⟩
      rcases hd with ⟨e, _⟩ | ⟨_, e⟩
      · exact absurd e z
      · rcases hd' with ⟨e1, e2, e3⟩ | ⟨e1, e2⟩
        · refine Or.inl ⟨e1, ?_⟩
          show td_fx g r'
          rw [e2]
          exact e3
        · refine Or.inr ⟨e1, ?_⟩
          show i + 1 ≤ td_pop r'
          omega
/-! what is come to is taken away -/
theorem td_take {post : St2 → Prop} {a1 a2 a3 a4 g r : Nat → Int32} (H : ∀ g' r', (∀ j, j < 17 → g' j = g j &&& (r j ^^^ (-1))) → (∀ j, j < 17 → r' j = 0) → post (a1, a2, a3, a4, g', r')) : wpX_takeAway post (a1, a2, a3, a4, g, r) := by
  refine pk_loop (σ := (Nat → Int32) × (Nat → Int32)) (fun n i t => wX_takeAway_2 post n (nI i) a1 a2 a3 a4 t.1 t.2) (fun i t => (∀ j, j < i → t.1 j = g j &&& (r j ^^^ (-1))) ∧ (∀ j, j < i → t.2 j = 0) ∧ t.1 i = g i ∧ t.2 i = r i ∧ ∀ j, i ≤ j → t.1 j = g j ∧ t.2 j = r j) 17 0 (g, r) (by omega) ⟨fun j hj => absurd hj (by omega), fun j hj => absurd hj (by omega), rfl, rfl, fun j _ => ⟨rfl, rfl⟩⟩ ?_ ?_
  · intro n t ht
    exact pk_le 17 17 (fun _ => H _ _ ht.1 ht.2.1) (fun z => absurd z (by omega))
  · rintro n i ⟨g', r'⟩ hi ⟨h1, h2, h3, h4, h5⟩ hw
    have h1 : ∀ j, j < i → g' j = g j &&& (r j ^^^ (-1)) := h1
    have h2 : ∀ j, j < i → r' j = 0 := h2
    have h3 : g' i = g i := h3
    have h4 : r' i = r i := h4
    have h5 : ∀ j, i ≤ j → g' j = g j ∧ r' j = r j := h5
    show wX_takeAway_2 post (n + 1) (nI i) a1 a2 a3 a4 g' r'
    refine pk_le 17 i (fun z => absurd z (by omega)) (fun _ => ⟨pk_in i 17 hi, pk_in i 17 hi, pk_in i 17 hi, nm_r (e' := upd g' i (g i &&& (r i ^^^ (-1)))) (by rw [nI_clamp (by omega), h3, h4]) ⟨pk_in i 17 hi, nm_r (e' := upd r' i 0) (by rw [nI_clamp (by omega)]) (nm_r (nI_1 i) (hw (upd g' i (g i &&& (r i ^^^ (-1))), upd r' i 0) ⟨?_, ?_, ?_, ?_, ?_⟩))⟩⟩)
    · exact td_fill (f := fun j => g j &&& (r j ^^^ (-1))) h1 rfl
    · exact td_fill (f := fun _ => 0) h2 rfl
    · show upd g' i _ (i + 1) = g (i + 1)
      rw [pk_un (by omega)]
      exact (h5 (i + 1) (by omega)).1
    · show upd r' i _ (i + 1) = r (i + 1)
      rw [pk_un (by omega)]
      exact (h5 (i + 1) (by omega)).2
    · intro j hj
      show upd g' i _ j = g j ∧ upd r' i _ j = r j
      rw [pk_un (by omega), pk_un (by omega)]
      exact h5 j (by omega)
/-! lines of the ground are come to whole -/
theorem td_hor {g r : Nat → Int32} (hf : td_fx g r) {j : Nat} (hj : j < 17) {lo hi a : Nat} (hh : hi ≤ 17) (hg : ∀ i, lo ≤ i → i < hi → td_b (g j) i = true) (ha : lo ≤ a) (ha' : a < hi) (h : td_b (r j) a = true) : ∀ b, lo ≤ b → b < hi → td_b (r j) b = true := by
  refine td_line (P := fun i => td_b (r j) i = true) (fun i h1 h2 z => ?_) (fun i h1 h2 z => ?_) ha ha' h
  · show td_b (r j) (i + 1) = true
    rw [← hf j hj, td_and, td_near_r r j (by omega) z, hg (i + 1) (by omega) h2]
    rfl
  · show td_b (r j) i = true
    rw [← hf j hj, td_and, td_near_l r j (by omega) z, hg i (by omega) (by omega)]
    rfl
theorem td_ver {g r : Nat → Int32} (hf : td_fx g r) {i : Nat} {lo hi a : Nat} (hh : hi ≤ 17) (hg : ∀ j, lo ≤ j → j < hi → td_b (g j) i = true) (ha : lo ≤ a) (ha' : a < hi) (h : td_b (r a) i = true) : ∀ b, lo ≤ b → b < hi → td_b (r b) i = true := by
  refine td_line (P := fun j => td_b (r j) i = true) (fun j h1 h2 z => ?_) (fun j h1 h2 z => ?_) ha ha' h
  · show td_b (r (j + 1)) i = true
    rw [← hf (j + 1) (by omega), td_and, td_near_d r j z, hg (j + 1) (by omega) h2]
    rfl
  · show td_b (r j) i = true
    rw [← hf j (by omega), td_and, td_near_u r j (by omega) z, hg j (by omega) (by omega)]
    rfl
/-- a block: its places -/
def td_blk (g : Nat → Int32) (i0 i1 j0 j1 : Nat) : Prop := ∀ j, j < 17 → ∀ i, td_b (g j) i = decide (i0 ≤ i ∧ i < i1 ∧ j0 ≤ j ∧ j < j1)
theorem td_blk_all {g r : Nat → Int32} {i0 i1 j0 j1 : Nat} (hb : td_blk g i0 i1 j0 j1) (h1 : i1 ≤ 17) (h2 : j1 ≤ 17) (hs : ∀ j, j < 17 → ∀ i, td_b (r j) i = true → td_b (g j) i = true) (hf : td_fx g r) {a b : Nat} (hb' : b < 17) (h : td_b (r b) a = true) : ∀ j, j < 17 → r j = g j := by
  have e := hs b hb' a h
  rw [hb b hb' a, decide_eq_true_eq] at e
  have row : ∀ i, i0 ≤ i → i < i1 → td_b (r b) i = true := td_hor hf hb' h1 (fun i z1 z2 => by rw [hb b hb' i, decide_eq_true_eq]; omega) e.1 e.2.1 h
  intro j hj
  refine td_ext (fun i _ => ?_)
  cases c : td_b (g j) i with
  | false =>
    cases d : td_b (r j) i with
    | false => rfl
    | true =>
      rw [hs j hj i d] at c
      exact absurd c (by decide)
  | true =>
    rw [hb j hj i, decide_eq_true_eq] at c
    exact td_ver hf h2 (fun k z1 z2 => by rw [hb k (by omega) i, decide_eq_true_eq]; omega) e.2.2.1 e.2.2.2 (row i c.1 c.2.1) j c.2.2.1 c.2.2.2
/-! pieces of the ground -/
theorem td_cp {post : Int32 → St2 → Prop} {a1 a2 a3 a4 g r : Nat → Int32} (H : ∀ r', (∀ j, j < 17 → r' j = 0) → ∃ n, wX_countPieces_25 post n 0 0 a1 a2 a3 a4 g r') : wpX_countPieces post (a1, a2, a3, a4, g, r) := by
  refine pk_loop (fun n i t => wX_countPieces_4 post 0 n (nI i) a1 a2 a3 a4 g t) (fun i t => ∀ j, j < i → t j = 0) 17 0 r (by omega) (fun j hj => absurd hj (by omega)) ?_ ?_
  · intro n t ht
    exact pk_le 17 17 (fun _ => H t ht) (fun z => absurd z (by omega))
  · intro n i t hi ht hw
    exact pk_le 17 i (fun z => absurd z (by omega)) (fun _ => ⟨pk_in i 17 hi, nm_r (e' := upd t i 0) (by rw [nI_clamp (by omega)]) (nm_r (nI_1 i) (hw _ (td_fill (f := fun _ => 0) ht rfl)))⟩)
theorem td_cp0 {post : Int32 → St2 → Prop} {a1 a2 a3 a4 g r : Nat → Int32} (hz : ∀ j, j < 17 → g j = 0) (H : ∀ r', post 0 (a1, a2, a3, a4, g, r')) : wpX_countPieces post (a1, a2, a3, a4, g, r) := by
  refine td_cp (fun r' _ => pk_loop (σ := Unit) (fun n i _ => wX_countPieces_25 post n 0 (nI i) a1 a2 a3 a4 g r') (fun _ _ => True) 17 0 () (by omega) trivial ?_ ?_)
  · intro n _ _
    exact pk_le 17 17 (fun _ => H r') (fun z => absurd z (by omega))
  · intro n i _ hi _ hw
    exact pk_le 17 i (fun z => absurd z (by omega)) (fun _ => ⟨0 + 1, pk_le 17 0 (fun z => absurd z (by omega)) (fun _ => ⟨pk_in i 17 hi, br_t (by rw [nI_clamp (by omega)]; exact hz i hi) (nm_r (nI_1 i) (hw () trivial))⟩)⟩)
theorem td_cp1 {post : Int32 → St2 → Prop} {a1 a2 a3 a4 g r : Nat → Int32} {i0 i1 j0 j1 : Nat} (hb : td_blk g i0 i1 j0 j1) (h0 : i0 < i1) (h1 : i1 ≤ 17) (k0 : j0 < j1) (k1 : j1 ≤ 17) (H : ∀ g' r', post 1 (a1, a2, a3, a4, g', r')) : wpX_countPieces post (a1, a2, a3, a4, g, r) := by
  have h17 : ∀ j, j < 17 → ∀ i, 17 ≤ i → td_b (g j) i = false := by
    intro j hj i hi
    rw [hb j hj i]
    exact decide_eq_false (by omega)
  refine td_cp (fun r0 hr0 => pk_loop (σ := Int32 × (Nat → Int32) × (Nat → Int32)) (fun n i t => wX_countPieces_25 post n t.1 (nI i) a1 a2 a3 a4 t.2.1 t.2.2) (fun i t => (i ≤ j0 ∧ t = (0, g, r0)) ∨ (j0 < i ∧ t.1 = 1 ∧ ∀ j, j < 17 → t.2.1 j = 0)) 17 0 (0, g, r0) (by omega) (Or.inl ⟨Nat.zero_le _, rfl⟩) ?_ ?_)
  · rintro n ⟨c, g', r'⟩ ht
    refine pk_le 17 17 (fun _ => ?_) (fun z => absurd z (by omega))
    rcases ht with ⟨z, _⟩ | ⟨_, e, _⟩
    · omega
    · have e : c = 1 := e
      subst e
      exact H g' r'
  · rintro n i ⟨c, g', r'⟩ hi ht hw
    show wX_countPieces_25 post (n + 1) c (nI i) a1 a2 a3 a4 g' r'
    refine pk_le 17 i (fun z => absurd z (by omega)) (fun _ => ?_)
    rcases ht with ⟨z, e⟩ | ⟨z, e, e2⟩
    · obtain ⟨rfl, rfl, rfl⟩ : c = 0 ∧ g' = g ∧ r' = r0 := by
        injection e with e1 e2
        injection e2 with e2 e3
        exact ⟨e1, e2, e3⟩
      by_cases d : i < j0
      · refine ⟨0 + 1, pk_le 17 0 (fun z => absurd z (by omega)) (fun _ => ⟨pk_in i 17 hi, br_t ?_ (nm_r (nI_1 i) (hw (0, g', r') (Or.inl ⟨by omega, rfl⟩)))⟩)⟩
        rw [nI_clamp (by omega)]
        refine td_ext (fun k _ => ?_)
        rw [hb i hi k, td_0]
        exact decide_eq_false (by omega)
      · have d : i = j0 := by omega
        have hlow : td_b (g' i &&& (-(g' i))) i0 = true := by
          refine td_low (by omega) ?_ ?_
          · rw [hb i hi i0]
            exact decide_eq_true (by omega)
          · intro k hk
            rw [hb i hi k]
            exact decide_eq_false (by omega)
        have hne : ¬ g' i = 0 := by
          intro w
          rw [w, td_and, td_0, Bool.false_and] at hlow
          exact absurd hlow (by decide)
        refine ⟨0 + 1 + 1, pk_le 17 0 (fun z => absurd z (by omega)) (fun _ => ⟨pk_in i 17 hi, br_f (by rw [nI_clamp (by omega)]; exact hne) ⟨pk_in i 17 hi, pk_in i 17 hi, pk_in i 17 hi, nm_r (e' := upd r' i (g' i &&& (-(g' i)))) (by rw [nI_clamp (by omega)]) ?_⟩⟩)⟩
        refine td_spread (fun _ _ => True) h17 (fun _ _ _ _ _ _ => trivial) ⟨fun _ _ _ w => w, fun k hk x w => ?_, fun _ _ _ _ => trivial⟩ (fun r1 ho hf => ?_)
        · by_cases e : k = i
          · subst e
            rw [pk_us, td_and] at w
            exact (Bool.and_eq_true_iff.mp w).1
          · rw [pk_un e, hr0 k hk, td_0] at w
            exact absurd w (by decide)
        · have all := td_blk_all hb h1 k1 ho.2.1 hf hi (ho.1 i hi i0 (by rw [pk_us]; exact hlow))
          refine td_take (fun g2 r2 hg2 hr2 => nm_r (e' := 1) (by rfl) (nm_r (nI_1 0) ?_))
          have hz : ∀ j, j < 17 → g2 j = 0 := by
            intro j hj
            rw [hg2 j hj, all j hj]
            exact td_andnot _
          exact pk_le 17 (0 + 1) (fun z => absurd z (by omega)) (fun _ => ⟨pk_in i 17 hi, br_t (by rw [nI_clamp (by omega)]; exact hz i hi) (nm_r (nI_1 i) (hw (1, g2, r2) (Or.inr ⟨by omega, rfl, hz⟩)))⟩)
    · have e : c = 1 := e
      have e2 : ∀ j, j < 17 → g' j = 0 := e2
      subst e
      exact ⟨0 + 1, pk_le 17 0 (fun z => absurd z (by omega)) (fun _ => ⟨pk_in i 17 hi, br_t (by rw [nI_clamp (by omega)]; exact e2 i hi) (nm_r (nI_1 i) (hw (1, g', r') (Or.inr ⟨by omega, rfl, e2⟩)))⟩)⟩
end
section
/-! small calls at slot 7 -/
theorem td_c7 : (7 : Int32).toNatClampNeg = 7 := by decide +kernel
theorem td_17 : (17 : Int32) * 7 = nI 119 := by decide +kernel
theorem td_119 (j : Nat) : ((17 : Int32) * 7) + nI j = nI (119 + j) := by rw [td_17, nI_add]
theorem td_isSlot {post : Int32 → Prop} (h : post 1) : wpX_isSlot post () 7 := br_f (by decide) (br_f (by decide) h)
theorem td_ar3 {post : Int32 → Prop} {a1 a2 a3 a4 a5 a6 : Nat → Int32} (h3 : a1 7 = 3) (h : post 0) : wpX_areaRefusal post (a1, a2, a3, a4, a5, a6) 7 := by
  unfold wpX_areaRefusal
  dsimp only
  exact td_isSlot (br_f (by decide) ⟨pk_in 7 12 (by omega), br_f (by rw [td_c7, h3]; decide) ⟨pk_in 7 12 (by omega), br_t (by rw [td_c7]; exact h3) h⟩⟩)
theorem td_ar0 {post : Int32 → Prop} {a1 a2 a3 a4 a5 a6 : Nat → Int32} (h0 : a1 7 = 0) (h : post (-2)) : wpX_areaRefusal post (a1, a2, a3, a4, a5, a6) 7 := by
  unfold wpX_areaRefusal
  dsimp only
  exact td_isSlot (br_f (by decide) ⟨pk_in 7 12 (by omega), br_t (by rw [td_c7]; exact h0) h⟩)
/-! ones -/
def td_pcn : Nat → Int32 → Nat
  | 0, _ => 0
  | n + 1, x => if x = 0 then 0 else td_pcn n (x &&& (x - 1)) + 1
def td_pc (x : Int32) : Nat := td_pcn 17 x
theorem td_pcn_le : ∀ n x, td_pcn n x ≤ n := by
  intro n
  induction n with
  | zero => intro x; exact Nat.le_refl 0
  | succ n ih =>
    intro x
    show (if x = 0 then 0 else td_pcn n (x &&& (x - 1)) + 1) ≤ n + 1
    split
    · omega
    · have := ih (x &&& (x - 1))
      omega
theorem td_ones_6 {post : Int32 → Prop} : ∀ (k : Nat) (x : Int32) (c : Nat), k ≤ 17 → post (nI (c + td_pcn k x)) → wX_ones_6 post (k + 1) (nI c) x (nI (17 - k)) := by
  intro k
  induction k with
  | zero => intro x c _ h; exact pk_le 17 17 (fun _ => h) (fun z => absurd z (by omega))
  | succ k ih =>
    intro x c hk h
    have e : td_pcn (k + 1) x = if x = 0 then 0 else td_pcn k (x &&& (x - 1)) + 1 := rfl
    rw [e] at h
    refine pk_le 17 (17 - (k + 1)) (fun z => absurd z (by omega)) (fun _ => br_c (fun z => ?_) (fun z => nm_e (nm_r (nI_1 c) (nm_r (e' := nI (17 - k)) ?_ (ih _ (c + 1) (by omega) ?_)))))
    · rw [if_pos z] at h
      exact h
    · rw [nI_1]
      exact congrArg nI (by omega)
    · rw [if_neg z] at h
      rw [show c + 1 + td_pcn k (x &&& (x - 1)) = c + (td_pcn k (x &&& (x - 1)) + 1) by omega]
      exact h
theorem td_ones {post : Int32 → Prop} {x : Int32} (h : post (nI (td_pc x))) : wpX_ones post () x :=
  ⟨17 + 1, td_ones_6 17 x 0 (by omega) (by rw [Nat.zero_add]; exact h)⟩
/-! count -/
def td_cnt (a : Nat → Int32) : Nat := td_sum (fun j => td_pc (a (119 + j))) 17
theorem td_cnt_le (a : Nat → Int32) : td_cnt a ≤ 289 := td_sum_bd (c := 17) 17 (fun j _ => td_pcn_le 17 _)
theorem td_count {post : Int32 → Prop} {a1 a2 a3 a4 a5 a6 : Nat → Int32} (h : post (nI (td_cnt a2))) : wpX_count post (a1, a2, a3, a4, a5, a6) 7 := by
  refine pk_loop (σ := Unit) (fun n i _ => wX_count_4 post 7 a1 a2 a3 a4 a5 a6 n (nI (td_sum (fun j => td_pc (a2 (119 + j))) i)) (nI i)) (fun _ _ => True) 17 0 () (by omega) trivial ?_ ?_
  · intro n _ _
    exact pk_le 17 17 (fun _ => h) (fun z => absurd z (by omega))
  · intro n i _ hi _ hw
    refine pk_le 17 i (fun z => absurd z (by omega)) (fun _ => ⟨pk_in (119 + i) 204 (by omega) (td_119 i), ?_⟩)
    rw [td_119 i, nI_clamp (show 119 + i < 2 ^ 31 by omega)]
    exact td_ones (nm_r (nI_add _ _) (nm_r (nI_1 i) (hw () trivial)))
/-! rows, insides, rims -/
theorem td_row {post : Int32 → Prop} {a1 a2 a3 a4 a5 a6 : Nat → Int32} {j : Nat} (hj : j < 17) (h : post (a2 (119 + j))) : wpX_row post (a1, a2, a3, a4, a5, a6) 7 (nI j) := by
  refine pk_lt j 0 (fun z => absurd z (by omega)) (fun _ => pk_lt j 17 (fun _ => ⟨pk_in (119 + j) 204 (by omega) (td_119 j), ?_⟩) (fun z => absurd z (by omega)))
  rw [td_119 j, nI_clamp (show 119 + j < 2 ^ 31 by omega)]
  exact h
def td_up (a : Nat → Int32) (j : Nat) : Int32 := if j < 16 then a (119 + (j + 1)) else 0
def td_dn (a : Nat → Int32) (j : Nat) : Int32 := if j = 0 then 0 else a (119 + (j - 1))
theorem td_row_up {post : Int32 → Prop} {a1 a2 a3 a4 a5 a6 : Nat → Int32} {j : Nat} (hj : j < 17) (h : post (td_up a2 j)) : wpX_row post (a1, a2, a3, a4, a5, a6) 7 (nI j + 1) := by
  rw [nI_1]
  unfold td_up at h
  by_cases hz : j < 16
  · rw [if_pos hz] at h
    exact td_row (by omega) h
  · rw [if_neg hz] at h
    exact pk_lt (j + 1) 0 (fun z => absurd z (by omega)) (fun _ => pk_lt (j + 1) 17 (fun z => absurd z (by omega)) (fun _ => h))
theorem td_row_dn {post : Int32 → Prop} {a1 a2 a3 a4 a5 a6 : Nat → Int32} {j : Nat} (hj : j < 17) (h : post (td_dn a2 j)) : wpX_row post (a1, a2, a3, a4, a5, a6) 7 (nI j - 1) := by
  unfold td_dn at h
  by_cases hz : j = 0
  · rw [if_pos hz] at h
    subst hz
    exact br_t (by decide +kernel) h
  · rw [if_neg hz] at h
    rw [show nI j - 1 = nI (j - 1) from pk_sub (b := 1) (by omega)]
    exact td_row (by omega) h
def td_io (s : Int32) : Int32 := s ||| ((s <<< ((1 : Int32) &&& 31)) &&& (s >>> ((1 : Int32) &&& 31)))
def td_ro (s : Int32) : Int32 := (s <<< ((1 : Int32) &&& 31)) ^^^ (s >>> ((1 : Int32) &&& 31))
def td_wh (u d : Int32) : Int32 := (((u <<< ((1 : Int32) &&& 31)) &&& (u >>> ((1 : Int32) &&& 31))) &&& (d <<< ((1 : Int32) &&& 31))) &&& (d >>> ((1 : Int32) &&& 31))
def td_an (u d : Int32) : Int32 := (((u <<< ((1 : Int32) &&& 31)) ||| (u >>> ((1 : Int32) &&& 31))) ||| (d <<< ((1 : Int32) &&& 31))) ||| (d >>> ((1 : Int32) &&& 31))
def td_ie (u d : Int32) : Int32 := (u &&& d) ||| td_wh u d
def td_re (u d : Int32) : Int32 := (u ^^^ d) ||| (td_an u d &&& (td_wh u d ^^^ (-1)))
def td_in (a : Nat → Int32) (j : Nat) : Int32 := if j % 2 = 1 then td_io (a (119 + j)) else td_ie (td_up a j) (td_dn a j)
def td_rm (a : Nat → Int32) (j : Nat) : Int32 := if j % 2 = 1 then td_ro (a (119 + j)) else td_re (td_up a j) (td_dn a j)
theorem td_rem2 {j : Nat} (hj : j < 17) : nI j - nI j / 2 * 2 = nI (j % 2) := pk_rem (d := 2) (by omega) (by omega) (by omega)
theorem td_layArea {post : St2 → Prop} {a1 a2 a3 a4 a5 a6 : Nat → Int32} {j : Nat} (hj : j < 17) (h : post (a1, a2, upd a3 j (td_in a2 j), upd a4 j (td_rm a2 j), a5, a6)) : wpX_layArea post (a1, a2, a3, a4, a5, a6) 7 (nI j) (nI j) := by
  refine ⟨by decide, pk_eq (j % 2) 1 (fun z => ?_) (fun z => ?_) (td_rem2 hj)⟩
  · refine td_row hj (nm_e (nm_e ⟨pk_in j 34 (by omega), nm_r (e' := upd a3 j (td_in a2 j)) ?_ ⟨pk_in j 34 (by omega), nm_r (e' := upd a4 j (td_rm a2 j)) ?_ h⟩⟩))
    · rw [nI_clamp (show j < 2 ^ 31 by omega), td_in, if_pos z]
      rfl
    · rw [nI_clamp (show j < 2 ^ 31 by omega), td_rm, if_pos z]
      rfl
  · refine td_row_up hj (td_row_dn hj (nm_e (nm_e ⟨pk_in j 34 (by omega), nm_r (e' := upd a3 j (td_in a2 j)) ?_ ⟨pk_in j 34 (by omega), nm_r (e' := upd a4 j (td_rm a2 j)) ?_ h⟩⟩)))
    · rw [nI_clamp (show j < 2 ^ 31 by omega), td_in, if_neg z]
      rfl
    · rw [nI_clamp (show j < 2 ^ 31 by omega), td_rm, if_neg z]
      rfl
theorem td_lay {post : St2 → Prop} {a1 a2 a3 a4 a5 a6 : Nat → Int32} (h3 : a1 7 = 3) (H : ∀ b3 b4, (∀ j, j < 17 → b3 j = td_in a2 j) → (∀ j, j < 17 → b4 j = td_rm a2 j) → post (a1, a2, b3, b4, a5, a6)) : wpX_lay post (a1, a2, a3, a4, a5, a6) 7 0 := by
  refine pk_loop (σ := (Nat → Int32) × (Nat → Int32)) (fun n i t => wX_lay_2 post 7 0 n (nI i) a1 a2 t.1 t.2 a5 a6) (fun i t => (∀ j, j < i → t.1 j = td_in a2 j) ∧ (∀ j, j < i → t.2 j = td_rm a2 j)) 17 0 (a3, a4) (by omega) ⟨fun j hj => absurd hj (by omega), fun j hj => absurd hj (by omega)⟩ ?_ ?_
  · intro n t ht
    exact pk_le 17 17 (fun _ => H _ _ ht.1 ht.2) (fun z => absurd z (by omega))
  · rintro n i ⟨b3, b4⟩ hi ⟨h1, h2⟩ hw
    have h1 : ∀ j, j < i → b3 j = td_in a2 j := h1
    have h2 : ∀ j, j < i → b4 j = td_rm a2 j := h2
    show wX_lay_2 post 7 0 (n + 1) (nI i) a1 a2 b3 b4 a5 a6
    refine pk_le 17 i (fun z => absurd z (by omega)) (fun _ => nm_r (e' := nI i) ?_ ⟨pk_in 7 12 (by omega), br_t (by rw [td_c7]; exact h3) (td_layArea hi (nm_r (nI_1 i) (hw (_, _) ⟨td_fill h1 rfl, td_fill h2 rfl⟩)))⟩)
    rw [show (17 : Int32) * 0 = 0 by decide, Int32.zero_add]
/-! rim -/
def td_mk (j : Nat) : Int32 := if j % 2 = 0 then 43690 else 87381
def td_rmc (a : Nat → Int32) : Nat := td_sum (fun j => td_pc (td_rm a j &&& td_mk j)) 17
theorem td_rim {post : Int32 → St2 → Prop} {a1 a2 a3 a4 a5 a6 : Nat → Int32} (h3 : a1 7 = 3) (H : ∀ b3 b4, post (nI (td_rmc a2)) (a1, a2, b3, b4, a5, a6)) : wpX_rim post (a1, a2, a3, a4, a5, a6) 7 := by
  unfold wpX_rim
  dsimp only
  refine td_ar3 h3 (br_t rfl (td_lay h3 (fun b3 b4 hb3 hb4 => ?_)))
  refine pk_loop (σ := Unit) (fun n i _ => wX_rim_23 post a1 a2 b3 b4 a5 a6 n (nI (td_sum (fun j => td_pc (td_rm a2 j &&& td_mk j)) i)) (nI i)) (fun _ _ => True) 17 0 () (by omega) trivial ?_ ?_
  · intro n _ _
    exact pk_le 17 17 (fun _ => H b3 b4) (fun z => absurd z (by omega))
  · intro n i _ hi _ hw
    refine pk_le 17 i (fun z => absurd z (by omega)) (fun _ => ⟨pk_in i 34 (by omega), by decide, pk_eq (i % 2) 0 (fun z => ?_) (fun z => ?_) (td_rem2 hi)⟩)
    · unfold wX_rim_52
      rw [nI_clamp (show i < 2 ^ 31 by omega), hb4 i hi]
      refine td_ones (nm_r (e' := nI (td_sum (fun j => td_pc (td_rm a2 j &&& td_mk j)) (i + 1))) ?_ (nm_r (nI_1 i) (hw () trivial)))
      rw [nI_add]
      show _ = nI (td_sum (fun j => td_pc (td_rm a2 j &&& td_mk j)) i + td_pc (td_rm a2 i &&& td_mk i))
      rw [td_mk, if_pos z]
    · unfold wX_rim_52
      rw [nI_clamp (show i < 2 ^ 31 by omega), hb4 i hi]
      refine td_ones (nm_r (e' := nI (td_sum (fun j => td_pc (td_rm a2 j &&& td_mk j)) (i + 1))) ?_ (nm_r (nI_1 i) (hw () trivial)))
      rw [nI_add]
      show _ = nI (td_sum (fun j => td_pc (td_rm a2 j &&& td_mk j)) i + td_pc (td_rm a2 i &&& td_mk i))
      rw [td_mk, if_neg z]
theorem td_rim0 {post : Int32 → St2 → Prop} {a1 a2 a3 a4 a5 a6 : Nat → Int32} (h0 : a1 7 = 0) (H : post (-2) (a1, a2, a3, a4, a5, a6)) : wpX_rim post (a1, a2, a3, a4, a5, a6) 7 := by
  unfold wpX_rim
  dsimp only
  exact td_ar0 h0 (br_f (by decide) H)
/-! pieces -/
theorem td_pieces {post : Int32 → St2 → Prop} {a1 a2 a3 a4 a5 a6 : Nat → Int32} {i0 i1 j0 j1 : Nat} (h3 : a1 7 = 3) (hb : td_blk (td_in a2) i0 i1 j0 j1) (h0 : i0 < i1) (h1 : i1 ≤ 17) (k0 : j0 < j1) (k1 : j1 ≤ 17) (H : ∀ b3 b4 b5 b6, post 1 (a1, a2, b3, b4, b5, b6)) : wpX_pieces post (a1, a2, a3, a4, a5, a6) 7 := by
  unfold wpX_pieces
  dsimp only
  refine td_isSlot (br_f (by decide) ⟨pk_in 7 12 (by omega), br_f (by rw [td_c7, h3]; decide) (td_lay h3 (fun b3 b4 hb3 hb4 => ?_))⟩)
  refine pk_loop (fun n i t => wX_pieces_29 post 7 n (nI i) a1 a2 b3 b4 t a6) (fun i t => ∀ j, j < i → t j = td_in a2 j) 17 0 a5 (by omega) (fun j hj => absurd hj (by omega)) ?_ ?_
  · intro n t ht
    exact pk_le 17 17 (fun _ => td_cp1 (fun j hj i => by rw [ht j hj]; exact hb j hj i) h0 h1 k0 k1 (fun g' r' => H b3 b4 g' r')) (fun z => absurd z (by omega))
  · intro n i t hi ht hw
    exact pk_le 17 i (fun z => absurd z (by omega)) (fun _ => ⟨pk_in 7 12 (by omega), br_t (by rw [td_c7]; exact h3) ⟨pk_in i 34 (by omega), pk_in i 17 hi, nm_r (e' := upd t i (td_in a2 i)) (by rw [nI_clamp (by omega), hb3 i hi]) (nm_r (nI_1 i) (hw _ (td_fill ht rfl)))⟩⟩)
/-! holes -/
def td_ou (a : Nat → Int32) (j : Nat) : Int32 := 131071 &&& ((td_in a j ||| td_rm a j) ^^^ (-1))
def td_sd (j : Nat) : Int32 := if j = 0 ∨ j = 16 then 131071 else 65537
theorem td_outside {post : Int32 → Prop} {a1 a2 a3 a4 a5 a6 : Nat → Int32} {i : Nat} (hi : i < 17) (h : post (131071 &&& ((a3 i ||| a4 i) ^^^ (-1)))) : wpX_outside post (a1, a2, a3, a4, a5, a6) (nI i) := by
  refine ⟨pk_in i 34 (by omega), pk_in i 34 (by omega), ?_⟩
  rw [nI_clamp (show i < 2 ^ 31 by omega)]
  exact h
theorem td_ou17 : ∀ i, 17 ≤ i → td_b (131071 : Int32) i = false := by
  intro i hi
  rcases Nat.lt_or_ge i 32 with z | z
  · exact (by decide +kernel : ∀ i, i < 32 → 17 ≤ i → td_b (131071 : Int32) i = false) i z hi
  · exact td_big z
theorem td_ou_b (a : Nat → Int32) (j : Nat) {i : Nat} (hi : 17 ≤ i) : td_b (td_ou a j) i = false := by
  unfold td_ou
  rw [td_and, td_ou17 i hi, Bool.false_and]
theorem td_layHoles {post : St2 → Prop} {a1 a2 a3 a4 a5 a6 : Nat → Int32} (C : Nat → Nat → Prop) (h3 : a1 7 = 3) (hc : td_cl (td_ou a2) C) (hs : ∀ j, j < 17 → ∀ i, td_b (td_ou a2 j &&& td_sd j) i = true → C j i)
    (H : ∀ b3 b4 r g' r', td_ok (td_ou a2) (fun j => td_ou a2 j &&& td_sd j) C r → td_fx (td_ou a2) r → (∀ j, j < 17 → g' j = td_ou a2 j &&& (r j ^^^ (-1))) → post (a1, a2, b3, b4, g', r')) : wpX_layHoles post (a1, a2, a3, a4, a5, a6) 7 := by
  unfold wpX_layHoles
  dsimp only
  refine td_lay h3 (fun b3 b4 hb3 hb4 => ?_)
  refine pk_loop (σ := (Nat → Int32) × (Nat → Int32)) (fun n i t => wX_layHoles_8 post n (nI i) a1 a2 b3 b4 t.1 t.2) (fun i t => (∀ j, j < i → t.1 j = td_ou a2 j) ∧ (∀ j, j < i → t.2 j = td_ou a2 j &&& td_sd j)) 17 0 (a5, a6) (by omega) ⟨fun j hj => absurd hj (by omega), fun j hj => absurd hj (by omega)⟩ ?_ ?_
  · rintro n ⟨g, s⟩ ⟨h1, h2⟩
    have h1 : ∀ j, j < 17 → g j = td_ou a2 j := h1
    have h2 : ∀ j, j < 17 → s j = td_ou a2 j &&& td_sd j := h2
    refine pk_le 17 17 (fun _ => td_spread (g := g) (s := s) C ?_ ?_ ?_ (fun r ho hf => td_take (fun g' r' hg' _ => H b3 b4 r g' r' ?_ ?_ ?_))) (fun z => absurd z (by omega))
    · intro j hj i hi
      rw [h1 j hj]
      exact td_ou_b a2 j hi
    · intro h hh j hj i z
      rw [h1 j hj] at z
      exact hc h hh j hj i z
    · refine ⟨fun _ _ _ w => w, fun j hj i w => ?_, fun j hj i w => ?_⟩
      · rw [h2 j hj, td_and] at w
        rw [h1 j hj]
        exact (Bool.and_eq_true_iff.mp w).1
      · rw [h2 j hj] at w
        exact hs j hj i w
    · refine ⟨fun j hj i w => ?_, fun j hj i w => ?_, ho.2.2⟩
      · have t := ho.1 j hj i
        rw [h2 j hj] at t
        exact t w
      · have t := ho.2.1 j hj i w
        rw [h1 j hj] at t
        exact t
    · intro j hj
      have t := hf j hj
      rw [h1 j hj] at t
      exact t
    · intro j hj
      have t := hg' j hj
      rw [h1 j hj] at t
      exact t
  · rintro n i ⟨g, s⟩ hi ⟨h1, h2⟩ hw
    have h1 : ∀ j, j < i → g j = td_ou a2 j := h1
    have h2 : ∀ j, j < i → s j = td_ou a2 j &&& td_sd j := h2
    have go : ∀ v, v = td_ou a2 i &&& td_sd i → wX_layHoles_8 post n (nI (i + 1)) a1 a2 b3 b4 (upd g i (td_ou a2 i)) (upd s i v) := by
      intro v hv
      exact hw (_, _) ⟨td_fill h1 rfl, td_fill (f := fun j => td_ou a2 j &&& td_sd j) h2 hv⟩
    show wX_layHoles_8 post (n + 1) (nI i) a1 a2 b3 b4 g s
    refine pk_le 17 i (fun z => absurd z (by omega)) (fun _ => td_outside hi ⟨pk_in i 17 hi, nm_r (e' := upd g i (td_ou a2 i)) ?_ ⟨pk_in i 17 hi, pk_eq i 0 (fun z => ⟨pk_in i 17 hi, nm_r (e' := upd s i (td_ou a2 i &&& 131071)) ?_ (nm_r (nI_1 i) (go _ ?_))⟩) (fun z => pk_eq i 16 (fun w => ⟨pk_in i 17 hi, nm_r (e' := upd s i (td_ou a2 i &&& 131071)) ?_ (nm_r (nI_1 i) (go _ ?_))⟩) (fun w => ⟨pk_in i 17 hi, nm_r (e' := upd s i (td_ou a2 i &&& 65537)) ?_ (nm_r (nI_1 i) (go _ ?_))⟩))⟩⟩)
    · rw [nI_clamp (show i < 2 ^ 31 by omega), hb3 i hi, hb4 i hi]
      rfl
    · rw [nI_clamp (show i < 2 ^ 31 by omega), pk_us]
    · rw [td_sd, if_pos (Or.inl z)]
    · rw [nI_clamp (show i < 2 ^ 31 by omega), pk_us]
    · rw [td_sd, if_pos (Or.inr w)]
    · rw [nI_clamp (show i < 2 ^ 31 by omega), pk_us]
    · rw [td_sd, if_neg (fun t => t.elim z w)]
theorem td_holes {post : Int32 → St2 → Prop} {a1 a2 a3 a4 a5 a6 : Nat → Int32} (C : Nat → Nat → Prop) (c : Int32) (h3 : a1 7 = 3) (hc : td_cl (td_ou a2) C) (hs : ∀ j, j < 17 → ∀ i, td_b (td_ou a2 j &&& td_sd j) i = true → C j i)
    (K : ∀ r g', td_ok (td_ou a2) (fun j => td_ou a2 j &&& td_sd j) C r → td_fx (td_ou a2) r → (∀ j, j < 17 → g' j = td_ou a2 j &&& (r j ^^^ (-1))) → ∀ (P : Int32 → St2 → Prop) (b3 b4 r' : Nat → Int32), (∀ g2 r2, P c (a1, a2, b3, b4, g2, r2)) → wpX_countPieces P (a1, a2, b3, b4, g', r'))
    (H : ∀ b3 b4 b5 b6, post c (a1, a2, b3, b4, b5, b6)) : wpX_holes post (a1, a2, a3, a4, a5, a6) 7 := by
  unfold wpX_holes
  dsimp only
  exact td_ar3 h3 (br_t rfl (td_layHoles C h3 hc hs (fun b3 b4 r g' r' ho hf hg => K r g' ho hf hg _ b3 b4 r' (fun g2 r2 => H b3 b4 g2 r2))))
theorem td_holes0 {post : Int32 → St2 → Prop} {a1 a2 a3 a4 a5 a6 : Nat → Int32} (h0 : a1 7 = 0) (H : post (-2) (a1, a2, a3, a4, a5, a6)) : wpX_holes post (a1, a2, a3, a4, a5, a6) 7 := by
  unfold wpX_holes
  dsimp only
  exact td_ar0 h0 (br_f (by decide) H)
end
section
/-! rectangles -/
theorem td_div9 {f : Nat} (hf : f < 81) : nI f / 9 = nI (f / 9) := pk_div (d := 9) (by omega) (by omega) (by omega)
theorem td_rem9 {f : Nat} (hf : f < 81) : nI f - nI f / 9 * 9 = nI (f % 9) := pk_rem (d := 9) (by omega) (by omega) (by omega)
theorem td_lesser {post : Int32 → Prop} {a b : Nat} (ha : a < 2 ^ 31) (hb : b < 2 ^ 31) (h : post (nI (min a b))) : wpX_lesser post () (nI a) (nI b) := by
  refine pk_le b a (fun z => ?_) (fun z => ?_)
  · rw [show min a b = b by omega] at h
    exact h
  · rw [show min a b = a by omega] at h
    exact h
theorem td_greater {post : Int32 → Prop} {a b : Nat} (ha : a < 2 ^ 31) (hb : b < 2 ^ 31) (h : post (nI (max a b))) : wpX_greater post () (nI a) (nI b) := by
  refine pk_le a b (fun z => ?_) (fun z => ?_)
  · rw [show max a b = b by omega] at h
    exact h
  · rw [show max a b = a by omega] at h
    exact h
theorem td_low2 {post : Int32 → Prop} {a b : Nat} (ha : a < 2 ^ 31) (hb : b < 2 ^ 31) (h : post (nI (min a b))) : wpL_low post () (nI a) (nI b) := by
  refine pk_le b a (fun z => ?_) (fun z => ?_)
  · rw [show min a b = b by omega] at h
    exact h
  · rw [show min a b = a by omega] at h
    exact h
theorem td_high2 {post : Int32 → Prop} {a b : Nat} (ha : a < 2 ^ 31) (hb : b < 2 ^ 31) (h : post (nI (max a b))) : wpL_high post () (nI a) (nI b) := by
  refine pk_le a b (fun z => ?_) (fun z => ?_)
  · rw [show max a b = b by omega] at h
    exact h
  · rw [show max a b = a by omega] at h
    exact h
theorem td_isVertex {post : Int32 → Prop} {f : Nat} (hf : f < 81) (h : post 1) : wpX_isVertex post () (nI f) :=
  pk_lt f 0 (fun z => absurd z (by omega)) (fun _ => pk_le 81 f (fun z => absurd z (by omega)) (fun _ => h))
theorem td_flat {post : Int32 → Prop} {f t : Nat} (hf : f < 81) (ht : t < 81) (H1 : f / 9 = t / 9 ∨ f % 9 = t % 9 → post 1) (H0 : ¬ f / 9 = t / 9 → ¬ f % 9 = t % 9 → post 0) : wpX_flat post () (nI f) (nI t) :=
  ⟨by decide, by decide, pk_eq (f / 9) (t / 9) (fun z => H1 (Or.inl z)) (fun z => ⟨by decide, by decide, pk_eq (f % 9) (t % 9) (fun w => H1 (Or.inr w)) (fun w => H0 z w) (td_rem9 hf) (td_rem9 ht)⟩) (td_div9 hf) (td_div9 ht)⟩
theorem td_takes0 {post : Int32 → Prop} {a1 a2 a3 a4 a5 a6 : Nat → Int32} (h0 : a1 7 = 0) (h : post 1) : wpX_takes post (a1, a2, a3, a4, a5, a6) 7 3 :=
  ⟨pk_in 7 12 (by omega), br_t (by rw [td_c7]; exact h0) h⟩
/-- the columns of a rectangle -/
def td_W (x0 x1 : Nat) : Int32 := (((1 : Int32) <<< ((nI (2 * x1) + 1) &&& 31)) - ((1 : Int32) <<< (nI (2 * x0) &&& 31))) &&& 43690
theorem td_columns {post : Int32 → Prop} {f t : Nat} (hf : f < 81) (ht : t < 81) (h : post (td_W (min (f / 9) (t / 9)) (max (f / 9) (t / 9)))) : wpX_columns post () (nI f) (nI t) := by
  unfold wpX_columns
  rw [td_div9 hf, td_div9 ht]
  refine ⟨by decide, by decide, td_lesser (by omega) (by omega) ⟨by decide, by decide, td_greater (by omega) (by omega) ?_⟩⟩
  rw [show (2 : Int32) * nI (min (f / 9) (t / 9)) = nI (2 * min (f / 9) (t / 9)) from pk_mul 2 _, show (2 : Int32) * nI (max (f / 9) (t / 9)) = nI (2 * max (f / 9) (t / 9)) from pk_mul 2 _]
  exact pk_le (2 * min (f / 9) (t / 9)) (2 * max (f / 9) (t / 9)) (fun _ => h) (fun z => absurd z (by omega))
/-! rows that a rectangle changes -/
def td_rng (F : Int32 → Int32) (y0 k : Nat) (a b : Nat → Int32) : Prop := ∀ j, j < 17 → b (119 + j) = if j % 2 = 1 ∧ 2 * y0 < j ∧ j < 2 * k then F (a (119 + j)) else a (119 + j)
theorem td_rng_0 (F : Int32 → Int32) (y0 : Nat) (a : Nat → Int32) : td_rng F y0 y0 a a := by
  intro j _
  rw [if_neg (by omega)]
theorem td_rng_s {F : Int32 → Int32} {y0 k : Nat} {a b : Nat → Int32} (h : td_rng F y0 k a b) (h0 : y0 ≤ k) (h8 : k < 8) {v : Int32} (hv : v = F (b (119 + (2 * k + 1)))) : td_rng F y0 (k + 1) a (upd b (119 + (2 * k + 1)) v) := by
  intro j hj
  by_cases e : j = 2 * k + 1
  · subst e
    rw [pk_us, hv, h _ hj, if_neg (by omega), if_pos (by omega)]
  · rw [pk_un (by omega), h j hj]
    by_cases c : j % 2 = 1 ∧ 2 * y0 < j ∧ j < 2 * k
    · rw [if_pos c, if_pos (by omega)]
    · rw [if_neg c, if_neg (by omega)]
theorem td_rect95 {post : Int32 → St2 → Prop} {V : Int32} {a1 a2 a3 a4 a5 a6 : Nat → Int32} {y0 y1 : Nat} (h : y0 ≤ y1) (h8 : y1 ≤ 8) (H : ∀ b2, td_rng (fun x => x ||| V) y0 y1 a2 b2 → post (nI (td_cnt b2)) (a1, b2, a3, a4, a5, a6)) : ∃ n, wX_rectangle_95 post 7 V (nI (2 * y1)) n (nI (2 * y0 + 1)) a1 a2 a3 a4 a5 a6 := by
  refine pk_loop (fun n k t => wX_rectangle_95 post 7 V (nI (2 * y1)) n (nI (2 * k + 1)) a1 t a3 a4 a5 a6) (fun k t => y0 ≤ k ∧ td_rng (fun x => x ||| V) y0 k a2 t) y1 y0 a2 h ⟨Nat.le_refl _, td_rng_0 _ _ _⟩ ?_ ?_
  · intro n t ht
    exact pk_le (2 * y1) (2 * y1 + 1) (fun _ => td_count (H t ht.2)) (fun z => absurd z (by omega))
  · intro n k t hk ht hw
    refine pk_le (2 * y1) (2 * k + 1) (fun z => absurd z (by omega)) (fun _ => ⟨pk_in (119 + (2 * k + 1)) 204 (by omega) (td_119 _), pk_in (119 + (2 * k + 1)) 204 (by omega) (td_119 _), nm_r (e' := upd t (119 + (2 * k + 1)) (t (119 + (2 * k + 1)) ||| V)) ?_ (nm_r (e' := nI (2 * (k + 1) + 1)) ?_ (hw _ ⟨by omega, td_rng_s ht.2 ht.1 (by omega) rfl⟩))⟩)
    · rw [td_119, nI_clamp (by omega)]
    · rw [show 2 * (k + 1) + 1 = 2 * k + 1 + 2 by omega]
      exact nI_add _ 2
theorem td_rect {post : Int32 → St2 → Prop} {a1 a2 a3 a4 a5 a6 : Nat → Int32} {f t : Nat} (hf : f < 81) (ht : t < 81) (h0 : a1 7 = 0) (Hf : f / 9 = t / 9 ∨ f % 9 = t % 9 → post (-5) (a1, a2, a3, a4, a5, a6))
    (H : ¬ f / 9 = t / 9 → ¬ f % 9 = t % 9 → ∀ b2, td_rng (fun x => x ||| td_W (min (f / 9) (t / 9)) (max (f / 9) (t / 9))) (min (f % 9) (t % 9)) (max (f % 9) (t % 9)) a2 b2 → post (nI (td_cnt b2)) (upd a1 7 3, b2, a3, a4, a5, a6)) :
    wpX_rectangle post (a1, a2, a3, a4, a5, a6) 7 (nI f) (nI t) := by
  unfold wpX_rectangle
  dsimp only
  refine td_isSlot (br_f (by decide) (td_takes0 h0 (br_f (by decide) (td_isVertex hf (br_f (by decide) (td_isVertex ht (br_f (by decide) (td_flat hf ht (fun z => br_f (by decide) (Hf z)) (fun z w => br_t rfl ⟨pk_in 7 12 (by omega), nm_r (e' := upd a1 7 3) (by rw [td_c7]) (td_columns hf ht ⟨by decide, by decide, ?_⟩)⟩)))))))))
  rw [td_rem9 hf, td_rem9 ht]
  refine td_greater (by omega) (by omega) (nm_r (e' := nI (2 * max (f % 9) (t % 9))) (pk_mul 2 _) ⟨by decide, by decide, td_lesser (by omega) (by omega) (nm_r (e' := nI (2 * min (f % 9) (t % 9) + 1)) ?_ (td_rect95 (by omega) (by omega) (H z w)))⟩)
  rw [show (2 : Int32) * nI (min (f % 9) (t % 9)) = nI (2 * min (f % 9) (t % 9)) from pk_mul 2 _, nI_1]
theorem td_cut82 {post : Int32 → St2 → Prop} {V : Int32} {a1 a2 a3 a4 a5 a6 : Nat → Int32} {y0 y1 : Nat} (h : y0 ≤ y1) (h8 : y1 ≤ 8) (H0 : ∀ b2, td_rng (fun x => x &&& (V ^^^ (-1))) y0 y1 a2 b2 → td_cnt b2 = 0 → post 0 (upd a1 7 0, b2, a3, a4, a5, a6)) (H1 : ∀ b2, td_rng (fun x => x &&& (V ^^^ (-1))) y0 y1 a2 b2 → ¬ td_cnt b2 = 0 → post (nI (td_cnt b2)) (a1, b2, a3, a4, a5, a6)) : ∃ n, wX_cut_82 post 7 V (nI (2 * y1)) n (nI (2 * y0 + 1)) a1 a2 a3 a4 a5 a6 := by
  refine pk_loop (fun n k t => wX_cut_82 post 7 V (nI (2 * y1)) n (nI (2 * k + 1)) a1 t a3 a4 a5 a6) (fun k t => y0 ≤ k ∧ td_rng (fun x => x &&& (V ^^^ (-1))) y0 k a2 t) y1 y0 a2 h ⟨Nat.le_refl _, td_rng_0 _ _ _⟩ ?_ ?_
  · intro n t ht
    refine pk_le (2 * y1) (2 * y1 + 1) (fun _ => td_count (pk_eq (td_cnt t) 0 (fun z => ⟨pk_in 7 12 (by omega), nm_r (e' := upd a1 7 0) (by rw [td_c7]) ?_⟩) (fun z => H1 t ht.2 z) rfl rfl (Nat.lt_of_le_of_lt (td_cnt_le t) (by omega)))) (fun z => absurd z (by omega))
    rw [z]
    exact H0 t ht.2 z
  · intro n k t hk ht hw
    refine pk_le (2 * y1) (2 * k + 1) (fun z => absurd z (by omega)) (fun _ => ⟨pk_in (119 + (2 * k + 1)) 204 (by omega) (td_119 _), pk_in (119 + (2 * k + 1)) 204 (by omega) (td_119 _), nm_r (e' := upd t (119 + (2 * k + 1)) (t (119 + (2 * k + 1)) &&& (V ^^^ (-1)))) ?_ (nm_r (e' := nI (2 * (k + 1) + 1)) ?_ (hw _ ⟨by omega, td_rng_s ht.2 ht.1 (by omega) rfl⟩))⟩)
    · rw [td_119, nI_clamp (by omega)]
    · rw [show 2 * (k + 1) + 1 = 2 * k + 1 + 2 by omega]
      exact nI_add _ 2
theorem td_cut {post : Int32 → St2 → Prop} {a1 a2 a3 a4 a5 a6 : Nat → Int32} {f t : Nat} (hf : f < 81) (ht : t < 81) (h3 : a1 7 = 3) (Hf : f / 9 = t / 9 ∨ f % 9 = t % 9 → post (-5) (a1, a2, a3, a4, a5, a6))
    (H0 : ¬ f / 9 = t / 9 → ¬ f % 9 = t % 9 → ∀ b2, td_rng (fun x => x &&& (td_W (min (f / 9) (t / 9)) (max (f / 9) (t / 9)) ^^^ (-1))) (min (f % 9) (t % 9)) (max (f % 9) (t % 9)) a2 b2 → td_cnt b2 = 0 → post 0 (upd a1 7 0, b2, a3, a4, a5, a6))
    (H1 : ¬ f / 9 = t / 9 → ¬ f % 9 = t % 9 → ∀ b2, td_rng (fun x => x &&& (td_W (min (f / 9) (t / 9)) (max (f / 9) (t / 9)) ^^^ (-1))) (min (f % 9) (t % 9)) (max (f % 9) (t % 9)) a2 b2 → ¬ td_cnt b2 = 0 → post (nI (td_cnt b2)) (a1, b2, a3, a4, a5, a6)) :
    wpX_cut post (a1, a2, a3, a4, a5, a6) 7 (nI f) (nI t) := by
  unfold wpX_cut
  dsimp only
  refine td_ar3 h3 (br_t rfl (td_isVertex hf (br_f (by decide) (td_isVertex ht (br_f (by decide) (td_flat hf ht (fun z => br_f (by decide) (Hf z)) (fun z w => br_t rfl (td_columns hf ht ⟨by decide, by decide, ?_⟩))))))))
  rw [td_rem9 hf, td_rem9 ht]
  refine td_greater (by omega) (by omega) (nm_r (e' := nI (2 * max (f % 9) (t % 9))) (pk_mul 2 _) ⟨by decide, by decide, td_lesser (by omega) (by omega) (nm_r (e' := nI (2 * min (f % 9) (t % 9) + 1)) ?_ (td_cut82 (by omega) (by omega) (H0 z w) (H1 z w)))⟩)
  rw [show (2 : Int32) * nI (min (f % 9) (t % 9)) = nI (2 * min (f % 9) (t % 9)) from pk_mul 2 _, nI_1]
theorem td_cut0 {post : Int32 → St2 → Prop} {a1 a2 a3 a4 a5 a6 : Nat → Int32} {f t : Int32} (h0 : a1 7 = 0) (H : post (-2) (a1, a2, a3, a4, a5, a6)) : wpX_cut post (a1, a2, a3, a4, a5, a6) 7 f t := by
  unfold wpX_cut
  dsimp only
  exact td_ar0 h0 (br_f (by decide) H)
theorem td_kind {post : Int32 → Prop} {a1 a2 a3 a4 a5 a6 : Nat → Int32} (h : post (a1 7)) : wpX_kind post (a1, a2, a3, a4, a5, a6) 7 := by
  unfold wpX_kind
  dsimp only
  exact td_isSlot (br_f (by decide) ⟨pk_in 7 12 (by omega), by rw [td_c7]; exact h⟩)
theorem td_size {post : Int32 → Prop} {a1 a2 a3 a4 a5 a6 : Nat → Int32} (h : post (nI (td_cnt a2))) : wpX_size post (a1, a2, a3, a4, a5, a6) 7 := by
  unfold wpX_size
  dsimp only
  exact td_isSlot (br_f (by decide) (td_count h))
end
section
/-! the picture: a rectangle, and what is cut out of it -/
theorem td_0or (x : Int32) : 0 ||| x = x := td_ext (fun i _ => by rw [td_or, td_0, Bool.false_or])
theorem td_0and (x : Int32) : 0 &&& x = 0 := td_ext (fun i _ => by rw [td_and, td_0, Bool.false_and])
def td_pic (x0 x1 y0 y1 d0 d1 c0 c1 : Nat) (a : Nat → Int32) : Prop := ∀ j, j < 17 → a (119 + j) = if j % 2 = 1 ∧ 2 * y0 < j ∧ j < 2 * y1 then (if 2 * c0 < j ∧ j < 2 * c1 then td_W x0 x1 &&& (td_W d0 d1 ^^^ (-1)) else td_W x0 x1) else 0
theorem td_pic_rect {x0 x1 y0 y1 : Nat} {a b : Nat → Int32} (ha : ∀ j, j < 17 → a (119 + j) = 0) (h : td_rng (fun x => x ||| td_W x0 x1) y0 y1 a b) : td_pic x0 x1 y0 y1 0 0 0 0 b := by
  intro j hj
  have e := h j hj
  rw [ha j hj] at e
  by_cases c : j % 2 = 1 ∧ 2 * y0 < j ∧ j < 2 * y1
  · rw [if_pos c] at e
    rw [if_pos c, if_neg (show ¬ (2 * 0 < j ∧ j < 2 * 0) by omega), e]
    exact td_0or _
  · rw [if_neg c] at e
    rw [if_neg c, e]
theorem td_pic_cut {x0 x1 y0 y1 d0 d1 c0 c1 : Nat} {a b : Nat → Int32} (ha : td_pic x0 x1 y0 y1 0 0 0 0 a) (h : td_rng (fun x => x &&& (td_W d0 d1 ^^^ (-1))) c0 c1 a b) : td_pic x0 x1 y0 y1 d0 d1 c0 c1 b := by
  intro j hj
  have e := h j hj
  rw [ha j hj, if_neg (show ¬ (2 * 0 < j ∧ j < 2 * 0) by omega)] at e
  by_cases c : j % 2 = 1 ∧ 2 * y0 < j ∧ j < 2 * y1
  · rw [if_pos c] at e
    rw [if_pos c]
    by_cases k : 2 * c0 < j ∧ j < 2 * c1
    · rw [if_pos ⟨c.1, k⟩] at e
      rw [if_pos k]
      exact e
    · rw [if_neg (fun t => k t.2)] at e
      rw [if_neg k]
      exact e
  · rw [if_neg c] at e
    rw [if_neg c]
    by_cases k : j % 2 = 1 ∧ 2 * c0 < j ∧ j < 2 * c1
    · rw [if_pos k] at e
      rw [e]
      exact td_0and _
    · rw [if_neg k] at e
      exact e
def td_cel (x0 x1 y0 y1 d0 d1 c0 c1 i j : Nat) : Prop := i % 2 = 1 ∧ j % 2 = 1 ∧ 2 * x0 < i ∧ i < 2 * x1 ∧ 2 * y0 < j ∧ j < 2 * y1 ∧ ¬ (2 * d0 < i ∧ i < 2 * d1 ∧ 2 * c0 < j ∧ j < 2 * c1)
theorem td_Wb : ∀ x0, x0 < 9 → ∀ x1, x1 < 9 → x0 ≤ x1 → ∀ i, i < 32 → td_b (td_W x0 x1) i = decide (i % 2 = 1 ∧ 2 * x0 < i ∧ i < 2 * x1) := by decide +kernel
theorem td_Wbt {x0 x1 : Nat} (i : Nat) (h0 : x0 ≤ x1) (h1 : x1 ≤ 8) : td_b (td_W x0 x1) i = true ↔ i % 2 = 1 ∧ 2 * x0 < i ∧ i < 2 * x1 := by
  rcases Nat.lt_or_ge i 32 with z | z
  · rw [td_Wb x0 (by omega) x1 (by omega) h0 i z, decide_eq_true_eq]
  · rw [td_big z]
    constructor
    · intro t
      exact absurd t (by decide)
    · intro t
      omega
theorem td_pic_b {x0 x1 y0 y1 d0 d1 c0 c1 : Nat} {a : Nat → Int32} (hp : td_pic x0 x1 y0 y1 d0 d1 c0 c1 a) (hx : x0 ≤ x1) (hx1 : x1 ≤ 8) (hd : d0 ≤ d1) (hd1 : d1 ≤ 8) {j : Nat} (hj : j < 17) (i : Nat) : td_b (a (119 + j)) i = true ↔ td_cel x0 x1 y0 y1 d0 d1 c0 c1 i j := by
  have e1 := td_Wbt i hx hx1
  have e2 := td_Wbt i hd hd1
  unfold td_cel
  rw [hp j hj]
  rcases Nat.lt_or_ge i 32 with z | z
  · by_cases c : j % 2 = 1 ∧ 2 * y0 < j ∧ j < 2 * y1
    · rw [if_pos c]
      by_cases k : 2 * c0 < j ∧ j < 2 * c1
      · have e3 : (!td_b (td_W d0 d1) i) = true ↔ ¬ (i % 2 = 1 ∧ 2 * d0 < i ∧ i < 2 * d1) := by
          rw [← e2]
          cases td_b (td_W d0 d1) i <;> simp
        rw [if_pos k, td_and, td_not z, Bool.and_eq_true_iff, e1, e3]
        constructor
        · rintro ⟨h1, h2⟩
          exact ⟨h1.1, c.1, h1.2.1, h1.2.2, c.2.1, c.2.2, fun t => h2 ⟨h1.1, t.1, t.2.1⟩⟩
        · rintro ⟨h1, h2, h3, h4, h5, h6, h7⟩
          exact ⟨⟨h1, h3, h4⟩, fun t => h7 ⟨t.2.1, t.2.2, k.1, k.2⟩⟩
      · rw [if_neg k, e1]
        constructor
        · rintro h1
          exact ⟨h1.1, c.1, h1.2.1, h1.2.2, c.2.1, c.2.2, fun t => k t.2.2⟩
        · rintro ⟨h1, h2, h3, h4, h5, h6, h7⟩
          exact ⟨h1, h3, h4⟩
    · rw [if_neg c, td_0]
      constructor
      · intro t
        exact absurd t (by decide)
      · rintro ⟨h1, h2, h3, h4, h5, h6, h7⟩
        exact absurd ⟨h2, h5, h6⟩ c
  · rw [td_big z]
    constructor
    · intro t
      exact absurd t (by decide)
    · rintro ⟨h1, h2, h3, h4, h5, h6, h7⟩
      omega
theorem td_up_b {x0 x1 y0 y1 d0 d1 c0 c1 : Nat} {a : Nat → Int32} (hp : td_pic x0 x1 y0 y1 d0 d1 c0 c1 a) (hx : x0 ≤ x1) (hx1 : x1 ≤ 8) (hy1 : y1 ≤ 8) (hd : d0 ≤ d1) (hd1 : d1 ≤ 8) {j : Nat} (hj : j < 17) (i : Nat) : td_b (td_up a j) i = true ↔ td_cel x0 x1 y0 y1 d0 d1 c0 c1 i (j + 1) := by
  unfold td_up
  by_cases z : j < 16
  · rw [if_pos z]
    exact td_pic_b hp hx hx1 hd hd1 (by omega) i
  · rw [if_neg z, td_0]
    constructor
    · intro t
      exact absurd t (by decide)
    · rintro ⟨h1, h2, h3, h4, h5, h6, h7⟩
      omega
theorem td_dn_b {x0 x1 y0 y1 d0 d1 c0 c1 : Nat} {a : Nat → Int32} (hp : td_pic x0 x1 y0 y1 d0 d1 c0 c1 a) (hx : x0 ≤ x1) (hx1 : x1 ≤ 8) (hd : d0 ≤ d1) (hd1 : d1 ≤ 8) {j : Nat} (hj : j < 17) (i : Nat) : td_b (td_dn a j) i = true ↔ (1 ≤ j ∧ td_cel x0 x1 y0 y1 d0 d1 c0 c1 i (j - 1)) := by
  unfold td_dn
  by_cases z : j = 0
  · rw [if_pos z, td_0]
    constructor
    · intro t
      exact absurd t (by decide)
    · intro t
      omega
  · rw [if_neg z, td_pic_b hp hx hx1 hd hd1 (by omega) i]
    exact ⟨fun t => ⟨by omega, t⟩, fun t => t.2⟩
/-! bodies by their bits -/
theorem td_bo (s : Int32) {i : Nat} (hi : i < 31) : td_b (td_io s ||| td_ro s) i = true ↔ td_b s i = true ∨ (1 ≤ i ∧ td_b s (i - 1) = true) ∨ td_b s (i + 1) = true := by
  unfold td_io td_ro
  rw [td_or, td_or, td_and, td_xor, td_shl s (by omega), td_shr s hi]
  have e4 : 1 ≤ i ↔ decide (1 ≤ i) = true := decide_eq_true_iff.symm
  generalize decide (1 ≤ i) = p4 at e4 ⊢
  rw [e4]
  clear e4
  generalize td_b s i = p1
  generalize td_b s (i - 1) = p2
  generalize td_b s (i + 1) = p3
  revert p1 p2 p3 p4
  decide
theorem td_be (u d : Int32) {i : Nat} (hi : i < 31) : td_b (td_ie u d ||| td_re u d) i = true ↔ (td_b u i = true ∨ (1 ≤ i ∧ td_b u (i - 1) = true) ∨ td_b u (i + 1) = true) ∨ (td_b d i = true ∨ (1 ≤ i ∧ td_b d (i - 1) = true) ∨ td_b d (i + 1) = true) := by
  unfold td_ie td_re td_wh td_an
  simp only [td_or, td_and, td_xor, td_m1 i (show i < 32 by omega), td_shl u (show i < 32 by omega), td_shl d (show i < 32 by omega), td_shr u hi, td_shr d hi]
  have e4 : 1 ≤ i ↔ decide (1 ≤ i) = true := decide_eq_true_iff.symm
  generalize decide (1 ≤ i) = p4 at e4 ⊢
  rw [e4]
  clear e4
  generalize td_b u i = p1
  generalize td_b u (i - 1) = p2
  generalize td_b u (i + 1) = p3
  generalize td_b d i = q1
  generalize td_b d (i - 1) = q2
  generalize td_b d (i + 1) = q3
  revert p1 p2 p3 q1 q2 q3 p4
  decide
theorem td_bd {x0 x1 y0 y1 d0 d1 c0 c1 : Nat} {a : Nat → Int32} (hp : td_pic x0 x1 y0 y1 d0 d1 c0 c1 a) (hx : x0 ≤ x1) (hx1 : x1 ≤ 8) (hy1 : y1 ≤ 8) (hd : d0 ≤ d1) (hd1 : d1 ≤ 8) {j : Nat} (hj : j < 17) {i : Nat} (hi : i < 17) :
    td_b (td_in a j ||| td_rm a j) i = true ↔ ∃ c r, c ≤ i + 1 ∧ i ≤ c + 1 ∧ r ≤ j + 1 ∧ j ≤ r + 1 ∧ td_cel x0 x1 y0 y1 d0 d1 c0 c1 c r := by
  have B := fun k => td_pic_b hp hx hx1 hd hd1 hj k
  have U := fun k => td_up_b hp hx hx1 hy1 hd hd1 hj k
  have D := fun k => td_dn_b hp hx hx1 hd hd1 hj k
  unfold td_in td_rm
  by_cases o : j % 2 = 1
  · rw [if_pos o, if_pos o, td_bo _ (by omega), B, B, B]
    constructor
    · rintro (h | h | h)
      · exact ⟨i, j, by omega, by omega, by omega, by omega, h⟩
      · exact ⟨i - 1, j, by omega, by omega, by omega, by omega, h.2⟩
      · exact ⟨i + 1, j, by omega, by omega, by omega, by omega, h⟩
    · rintro ⟨c, r, h1, h2, h3, h4, h5⟩
      have e : r = j := by
        have := h5.2.1
        omega
      subst e
      rcases Nat.lt_trichotomy c i with z | z | z
      · refine Or.inr (Or.inl ⟨by omega, ?_⟩)
        rw [show i - 1 = c by omega]
        exact h5
      · subst z
        exact Or.inl h5
      · refine Or.inr (Or.inr ?_)
        rw [show i + 1 = c by omega]
        exact h5
  · rw [if_neg o, if_neg o, td_be _ _ (by omega), U, U, U, D, D, D]
    constructor
    · rintro ((h | h | h) | (h | h | h))
      · exact ⟨i, j + 1, by omega, by omega, by omega, by omega, h⟩
      · exact ⟨i - 1, j + 1, by omega, by omega, by omega, by omega, h.2⟩
      · exact ⟨i + 1, j + 1, by omega, by omega, by omega, by omega, h⟩
      · exact ⟨i, j - 1, by omega, by omega, by omega, by omega, h.2⟩
      · exact ⟨i - 1, j - 1, by omega, by omega, by omega, by omega, h.2.2⟩
      · exact ⟨i + 1, j - 1, by omega, by omega, by omega, by omega, h.2⟩
    · rintro ⟨c, r, h1, h2, h3, h4, h5⟩
      have ro := h5.2.1
      rcases Nat.lt_or_ge j r with w | w
      · have e : r = j + 1 := by omega
        subst e
        left
        rcases Nat.lt_trichotomy c i with z | z | z
        · refine Or.inr (Or.inl ⟨by omega, ?_⟩)
          rw [show i - 1 = c by omega]
          exact h5
        · subst z
          exact Or.inl h5
        · refine Or.inr (Or.inr ?_)
          rw [show i + 1 = c by omega]
          exact h5
      · have e : j - 1 = r := by omega
        have e1 : 1 ≤ j := by omega
        rw [e]
        right
        rcases Nat.lt_trichotomy c i with z | z | z
        · refine Or.inr (Or.inl ⟨by omega, e1, ?_⟩)
          rw [show i - 1 = c by omega]
          exact h5
        · subst z
          exact Or.inl ⟨e1, h5⟩
        · refine Or.inr (Or.inr ⟨e1, ?_⟩)
          rw [show i + 1 = c by omega]
          exact h5
/-! outside -/
def td_FO (x0 x1 y0 y1 d0 d1 c0 c1 i j : Nat) : Prop := i < 2 * x0 ∨ 2 * x1 < i ∨ j < 2 * y0 ∨ 2 * y1 < j ∨ ((d0 ≤ x0 ∨ 2 * d0 < i) ∧ (x1 ≤ d1 ∨ i < 2 * d1) ∧ (c0 ≤ y0 ∨ 2 * c0 < j) ∧ (y1 ≤ c1 ∨ j < 2 * c1))
theorem td_ex1 {x0 x1 i : Nat} (h : x0 < x1) (h0 : 2 * x0 ≤ i) (h1 : i ≤ 2 * x1) : ∃ c, c ≤ i + 1 ∧ i ≤ c + 1 ∧ c % 2 = 1 ∧ 2 * x0 < c ∧ c < 2 * x1 := by
  by_cases e : i % 2 = 1
  · exact ⟨i, by omega, by omega, e, by omega, by omega⟩
  · by_cases f : i < 2 * x1
    · exact ⟨i + 1, by omega, by omega, by omega, by omega, by omega⟩
    · exact ⟨i - 1, by omega, by omega, by omega, by omega, by omega⟩
theorem td_ex2 {x0 x1 d0 d1 i : Nat} (h : x0 < x1) (h0 : 2 * x0 ≤ i) (h1 : i ≤ 2 * x1) (hk : ¬ ((d0 ≤ x0 ∨ 2 * d0 < i) ∧ (x1 ≤ d1 ∨ i < 2 * d1))) : ∃ c, c ≤ i + 1 ∧ i ≤ c + 1 ∧ c % 2 = 1 ∧ 2 * x0 < c ∧ c < 2 * x1 ∧ ¬ (2 * d0 < c ∧ c < 2 * d1) := by
  by_cases e : i % 2 = 1
  · exact ⟨i, by omega, by omega, e, by omega, by omega, by omega⟩
  · by_cases g : x0 < d0 ∧ i ≤ 2 * d0
    · by_cases f : 2 * x0 < i
      · exact ⟨i - 1, by omega, by omega, by omega, by omega, by omega, by omega⟩
      · exact ⟨i + 1, by omega, by omega, by omega, by omega, by omega, by omega⟩
    · by_cases f : i < 2 * x1
      · exact ⟨i + 1, by omega, by omega, by omega, by omega, by omega, by omega⟩
      · exact ⟨i - 1, by omega, by omega, by omega, by omega, by omega, by omega⟩
theorem td_ex3 {x0 x1 d0 d1 i c : Nat} (h1 : c ≤ i + 1) (h2 : i ≤ c + 1) (h3 : c % 2 = 1) (h4 : 2 * x0 < c) (h5 : c < 2 * x1) (k1 : d0 ≤ x0 ∨ 2 * d0 < i) (k2 : x1 ≤ d1 ∨ i < 2 * d1) : 2 * d0 < c ∧ c < 2 * d1 := by omega
theorem td_FOn {x0 x1 y0 y1 d0 d1 c0 c1 i j : Nat} (hx : x0 < x1) (hy : y0 < y1) : (¬ td_FO x0 x1 y0 y1 d0 d1 c0 c1 i j) ↔ ∃ c r, c ≤ i + 1 ∧ i ≤ c + 1 ∧ r ≤ j + 1 ∧ j ≤ r + 1 ∧ td_cel x0 x1 y0 y1 d0 d1 c0 c1 c r := by
  constructor
  · intro h
    have n1 : ¬ i < 2 * x0 := fun t => h (Or.inl t)
    have n2 : ¬ 2 * x1 < i := fun t => h (Or.inr (Or.inl t))
    have n3 : ¬ j < 2 * y0 := fun t => h (Or.inr (Or.inr (Or.inl t)))
    have n4 : ¬ 2 * y1 < j := fun t => h (Or.inr (Or.inr (Or.inr (Or.inl t))))
    by_cases k : (d0 ≤ x0 ∨ 2 * d0 < i) ∧ (x1 ≤ d1 ∨ i < 2 * d1)
    · have k' : ¬ ((c0 ≤ y0 ∨ 2 * c0 < j) ∧ (y1 ≤ c1 ∨ j < 2 * c1)) := fun t => h (Or.inr (Or.inr (Or.inr (Or.inr ⟨k.1, k.2, t.1, t.2⟩))))
      obtain ⟨r, r1, r2, r3, r4, r5, r6⟩ := td_ex2 hy (by omega) (by omega) k'
      obtain ⟨c, e1, e2, e3, e4, e5⟩ := td_ex1 (i := i) hx (by omega) (by omega)
      exact ⟨c, r, e1, e2, r1, r2, e3, r3, e4, e5, r4, r5, fun t => r6 ⟨t.2.2.1, t.2.2.2⟩⟩
    · obtain ⟨c, e1, e2, e3, e4, e5, e6⟩ := td_ex2 hx (by omega) (by omega) k
      obtain ⟨r, r1, r2, r3, r4, r5⟩ := td_ex1 (i := j) hy (by omega) (by omega)
      exact ⟨c, r, e1, e2, r1, r2, e3, r3, e4, e5, r4, r5, fun t => e6 ⟨t.1, t.2.1⟩⟩
  · rintro ⟨c, r, h1, h2, h3, h4, k1, k2, k3, k4, k5, k6, k7⟩ h
    rcases h with h | h | h | h | ⟨m1, m2, m3, m4⟩
    · omega
    · omega
    · omega
    · omega
    · have e1 := td_ex3 h1 h2 k1 k3 k4 m1 m2
      have e2 := td_ex3 h3 h4 k2 k5 k6 m3 m4
      exact k7 ⟨e1.1, e1.2, e2.1, e2.2⟩
theorem td_all17 : ∀ i, i < 17 → td_b (131071 : Int32) i = true := by decide +kernel
theorem td_ou_i {x0 x1 y0 y1 d0 d1 c0 c1 : Nat} {a : Nat → Int32} (hp : td_pic x0 x1 y0 y1 d0 d1 c0 c1 a) (hx : x0 < x1) (hx1 : x1 ≤ 8) (hy : y0 < y1) (hy1 : y1 ≤ 8) (hd : d0 ≤ d1) (hd1 : d1 ≤ 8) : ∀ j, j < 17 → ∀ i, (td_b (td_ou a j) i = true ↔ i < 17 ∧ td_FO x0 x1 y0 y1 d0 d1 c0 c1 i j) := by
  intro j hj i
  rcases Nat.lt_or_ge i 17 with z | z
  · have e := (td_bd hp (by omega) hx1 hy1 hd hd1 hj z).trans (td_FOn (i := i) (j := j) (d0 := d0) (d1 := d1) (c0 := c0) (c1 := c1) hx hy).symm
    unfold td_ou
    rw [td_and, td_all17 i z, Bool.true_and, td_not (by omega)]
    constructor
    · intro t
      refine ⟨z, Classical.byContradiction (fun n => ?_)⟩
      rw [e.mpr n] at t
      exact absurd t (by decide)
    · rintro ⟨_, t⟩
      cases b : td_b (td_in a j ||| td_rm a j) i with
      | false => rfl
      | true => exact absurd t (e.mp b)
  · rw [td_ou_b a j z]
    constructor
    · intro t
      exact absurd t (by decide)
    · intro t
      omega
theorem td_sd_b : ∀ i, i < 17 → ∀ j, (td_b (td_sd j) i = true ↔ j = 0 ∨ j = 16 ∨ i = 0 ∨ i = 16) := by
  intro i hi j
  unfold td_sd
  by_cases z : j = 0 ∨ j = 16
  · rw [if_pos z, td_all17 i hi]
    exact ⟨fun _ => z.elim Or.inl (fun t => Or.inr (Or.inl t)), fun _ => rfl⟩
  · rw [if_neg z]
    have e := (by decide +kernel : ∀ i, i < 17 → td_b (65537 : Int32) i = decide (i = 0 ∨ i = 16)) i hi
    rw [e, decide_eq_true_eq]
    constructor
    · intro t
      exact Or.inr (Or.inr t)
    · rintro (t | t | t)
      · exact absurd (Or.inl t) z
      · exact absurd (Or.inr t) z
      · exact t
end
section
/-! what is come to from beyond the grid -/
theorem td_fillO {x0 x1 y0 y1 d0 d1 c0 c1 : Nat} {a r : Nat → Int32} {C : Nat → Nat → Prop} (hO : ∀ j, j < 17 → ∀ i, (td_b (td_ou a j) i = true ↔ i < 17 ∧ td_FO x0 x1 y0 y1 d0 d1 c0 c1 i j)) (ho : td_ok (td_ou a) (fun j => td_ou a j &&& td_sd j) C r) (hf : td_fx (td_ou a) r) (hx : x0 < x1) (hx1 : x1 ≤ 8) (hy : y0 < y1) (hy1 : y1 ≤ 8) {i j : Nat} (hi : i < 17) (hj : j < 17)
    (h : td_FO x0 x1 y0 y1 d0 d1 c0 c1 i j) (hq : i < 2 * x0 ∨ 2 * x1 < i ∨ j < 2 * y0 ∨ 2 * y1 < j ∨ d0 ≤ x0 ∨ x1 ≤ d1 ∨ c0 ≤ y0 ∨ y1 ≤ c1) : td_b (r j) i = true := by
  have sd : ∀ i j, i < 17 → j < 17 → td_FO x0 x1 y0 y1 d0 d1 c0 c1 i j → (j = 0 ∨ j = 16 ∨ i = 0 ∨ i = 16) → td_b (r j) i = true := by
    intro i j hi hj h1 h2
    refine ho.1 j hj i ?_
    show td_b (td_ou a j &&& td_sd j) i = true
    rw [td_and, (hO j hj i).mpr ⟨hi, h1⟩, (td_sd_b i hi j).mpr h2]
    rfl
  have left : (∀ k, k ≤ i → td_FO x0 x1 y0 y1 d0 d1 c0 c1 k j) → td_b (r j) i = true := fun t =>
    td_hor hf hj (lo := 0) (hi := i + 1) (a := 0) (by omega) (fun k _ hk => (hO j hj k).mpr ⟨by omega, t k (by omega)⟩) (by omega) (by omega) (sd 0 j (by omega) hj (t 0 (by omega)) (Or.inr (Or.inr (Or.inl rfl)))) i (by omega) (by omega)
  have right : (∀ k, i ≤ k → k < 17 → td_FO x0 x1 y0 y1 d0 d1 c0 c1 k j) → td_b (r j) i = true := fun t =>
    td_hor hf hj (lo := i) (hi := 17) (a := 16) (by omega) (fun k hk hk' => (hO j hj k).mpr ⟨by omega, t k hk hk'⟩) (by omega) (by omega) (sd 16 j (by omega) hj (t 16 (by omega) (by omega)) (Or.inr (Or.inr (Or.inr rfl)))) i (by omega) (by omega)
  have upw : (∀ k, k ≤ j → td_FO x0 x1 y0 y1 d0 d1 c0 c1 i k) → td_b (r j) i = true := fun t =>
    td_ver hf (lo := 0) (hi := j + 1) (a := 0) (by omega) (fun k _ hk => (hO k (by omega) i).mpr ⟨hi, t k (by omega)⟩) (by omega) (by omega) (sd i 0 hi (by omega) (t 0 (by omega)) (Or.inl rfl)) j (by omega) (by omega)
  have dnw : (∀ k, j ≤ k → k < 17 → td_FO x0 x1 y0 y1 d0 d1 c0 c1 i k) → td_b (r j) i = true := fun t =>
    td_ver hf (lo := j) (hi := 17) (a := 16) (by omega) (fun k hk hk' => (hO k hk' i).mpr ⟨hi, t k hk hk'⟩) (by omega) (by omega) (sd i 16 hi (by omega) (t 16 (by omega) (by omega)) (Or.inr (Or.inl rfl))) j (by omega) (by omega)
  by_cases b1 : i < 2 * x0
  · exact left (fun k hk => Or.inl (by omega))
  by_cases b2 : 2 * x1 < i
  · exact right (fun k hk _ => Or.inr (Or.inl (by omega)))
  by_cases b3 : j < 2 * y0
  · exact upw (fun k hk => Or.inr (Or.inr (Or.inl (by omega))))
  by_cases b4 : 2 * y1 < j
  · exact dnw (fun k hk _ => Or.inr (Or.inr (Or.inr (Or.inl (by omega)))))
  have m : (d0 ≤ x0 ∨ 2 * d0 < i) ∧ (x1 ≤ d1 ∨ i < 2 * d1) ∧ (c0 ≤ y0 ∨ 2 * c0 < j) ∧ (y1 ≤ c1 ∨ j < 2 * c1) := by
    rcases h with h | h | h | h | h
    · exact absurd h b1
    · exact absurd h b2
    · exact absurd h b3
    · exact absurd h b4
    · exact h
  obtain ⟨m1, m2, m3, m4⟩ := m
  have q : d0 ≤ x0 ∨ x1 ≤ d1 ∨ c0 ≤ y0 ∨ y1 ≤ c1 := by
    rcases hq with h | h | h | h | h
    · exact absurd h b1
    · exact absurd h b2
    · exact absurd h b3
    · exact absurd h b4
    · exact h
  rcases q with q | q | q | q
  · exact left (fun k hk => Or.inr (Or.inr (Or.inr (Or.inr ⟨Or.inl q, m2.imp id (fun t => by omega), m3, m4⟩))))
  · exact right (fun k hk _ => Or.inr (Or.inr (Or.inr (Or.inr ⟨m1.imp id (fun t => by omega), Or.inl q, m3, m4⟩))))
  · exact upw (fun k hk => Or.inr (Or.inr (Or.inr (Or.inr ⟨m1, m2, Or.inl q, m4.imp id (fun t => by omega)⟩))))
  · exact dnw (fun k hk _ => Or.inr (Or.inr (Or.inr (Or.inr ⟨m1, m2, m3.imp id (fun t => by omega), Or.inl q⟩))))
def td_hl (x0 x1 y0 y1 d0 d1 c0 c1 : Nat) : Prop := x0 < d0 ∧ d0 < d1 ∧ d1 < x1 ∧ y0 < c0 ∧ c0 < c1 ∧ c1 < y1
theorem td_holesN {post : Int32 → St2 → Prop} {a1 a2 a3 a4 a5 a6 : Nat → Int32} {x0 x1 y0 y1 d0 d1 c0 c1 : Nat} (h3 : a1 7 = 3) (hp : td_pic x0 x1 y0 y1 d0 d1 c0 c1 a2) (hx : x0 < x1) (hx1 : x1 ≤ 8) (hy : y0 < y1) (hy1 : y1 ≤ 8) (hd : d0 ≤ d1) (hd1 : d1 ≤ 8) (hc : c0 ≤ c1) (hn : ¬ td_hl x0 x1 y0 y1 d0 d1 c0 c1)
    (H : ∀ b3 b4 b5 b6, post 0 (a1, a2, b3, b4, b5, b6)) : wpX_holes post (a1, a2, a3, a4, a5, a6) 7 := by
  have hO := td_ou_i hp hx hx1 hy hy1 hd hd1
  refine td_holes (fun _ _ => True) 0 h3 (fun _ _ _ _ _ _ => trivial) (fun _ _ _ _ => trivial) (fun r g' ho hf hg P b3 b4 r' HP => td_cp0 (fun j hj => ?_) (fun r2 => HP _ r2)) H
  have e : r j = td_ou a2 j := by
    refine td_ext (fun i _ => ?_)
    cases b : td_b (td_ou a2 j) i with
    | false =>
      cases d : td_b (r j) i with
      | false => rfl
      | true =>
        rw [ho.2.1 j hj i d] at b
        exact absurd b (by decide)
    | true =>
      obtain ⟨hi, hF⟩ := (hO j hj i).mp b
      refine td_fillO hO ho hf hx hx1 hy hy1 hi hj hF ?_
      unfold td_FO at hF
      unfold td_hl at hn
      omega
  rw [hg j hj, e]
  exact td_andnot _
theorem td_cel0 {x0 x1 y0 y1 d0 d1 c0 c1 i j k l : Nat} (hl : td_hl x0 x1 y0 y1 d0 d1 c0 c1) (hF : td_FO x0 x1 y0 y1 d0 d1 c0 c1 k l) (hN : ¬ (2 * d0 < k ∧ k < 2 * d1 ∧ 2 * c0 < l ∧ l < 2 * c1)) (hI : 2 * d0 < i ∧ i < 2 * d1 ∧ 2 * c0 < j ∧ j < 2 * c1) (ha : (k ≤ i + 1 ∧ i ≤ k + 1 ∧ l = j) ∨ (k = i ∧ l ≤ j + 1 ∧ j ≤ l + 1)) : False := by
  obtain ⟨l1, l2, l3, l4, l5, l6⟩ := hl
  rcases hF with h | h | h | h | ⟨m1, m2, m3, m4⟩
  · omega
  · omega
  · omega
  · omega
  · exact hN ⟨by omega, by omega, by omega, by omega⟩
theorem td_holesY {post : Int32 → St2 → Prop} {a1 a2 a3 a4 a5 a6 : Nat → Int32} {x0 x1 y0 y1 d0 d1 c0 c1 : Nat} (h3 : a1 7 = 3) (hp : td_pic x0 x1 y0 y1 d0 d1 c0 c1 a2) (hx : x0 < x1) (hx1 : x1 ≤ 8) (hy : y0 < y1) (hy1 : y1 ≤ 8) (hd : d0 ≤ d1) (hd1 : d1 ≤ 8) (hn : td_hl x0 x1 y0 y1 d0 d1 c0 c1)
    (H : ∀ b3 b4 b5 b6, post 1 (a1, a2, b3, b4, b5, b6)) : wpX_holes post (a1, a2, a3, a4, a5, a6) 7 := by
  have hO := td_ou_i hp hx hx1 hy hy1 hd hd1
  have hn' := hn
  obtain ⟨l1, l2, l3, l4, l5, l6⟩ := hn'
  refine td_holes (fun j i => td_FO x0 x1 y0 y1 d0 d1 c0 c1 i j ∧ ¬ (2 * d0 < i ∧ i < 2 * d1 ∧ 2 * c0 < j ∧ j < 2 * c1)) 1 h3 ?_ ?_ (fun r g' ho hf hg P b3 b4 r' HP => td_cp1 (i0 := 2 * d0 + 1) (i1 := 2 * d1) (j0 := 2 * c0 + 1) (j1 := 2 * c1) ?_ (by omega) (by omega) (by omega) (by omega) HP) H
  · intro h hh j hj i z
    rw [td_and, Bool.and_eq_true_iff] at z
    obtain ⟨hi, hF⟩ := (hO j hj i).mp z.2
    refine ⟨hF, fun hI => ?_⟩
    rcases td_near_e h j (by omega) z.1 with t | t | t | t | t
    · exact (hh j hj i t).2 hI
    · have e := hh j hj (i - 1) t.2
      exact td_cel0 hn e.1 e.2 hI (Or.inl ⟨by omega, by omega, rfl⟩)
    · have e := hh j hj (i + 1) t
      exact td_cel0 hn e.1 e.2 hI (Or.inl ⟨by omega, by omega, rfl⟩)
    · have e := hh (j - 1) (by omega) i t.2
      exact td_cel0 hn e.1 e.2 hI (Or.inr ⟨rfl, by omega, by omega⟩)
    · have e := hh (j + 1) (by omega) i t.2
      exact td_cel0 hn e.1 e.2 hI (Or.inr ⟨rfl, by omega, by omega⟩)
  · intro j hj i z
    rw [td_and, Bool.and_eq_true_iff] at z
    obtain ⟨hi, hF⟩ := (hO j hj i).mp z.1
    refine ⟨hF, fun hI => ?_⟩
    have t := (td_sd_b i hi j).mp z.2
    omega
  · intro j hj i
    rw [hg j hj, td_and]
    rcases Nat.lt_or_ge i 17 with hi | hi
    · rw [td_not (by omega)]
      by_cases hI : 2 * d0 < i ∧ i < 2 * d1 ∧ 2 * c0 < j ∧ j < 2 * c1
      · have o : td_b (td_ou a2 j) i = true := (hO j hj i).mpr ⟨hi, Or.inr (Or.inr (Or.inr (Or.inr ⟨Or.inr hI.1, Or.inr hI.2.1, Or.inr hI.2.2.1, Or.inr hI.2.2.2⟩)))⟩
        have q : td_b (r j) i = false := by
          cases b : td_b (r j) i with
          | false => rfl
          | true => exact absurd hI (ho.2.2 j hj i b).2
        rw [o, q, decide_eq_true (by omega)]
        rfl
      · rw [decide_eq_false (by omega)]
        cases b : td_b (td_ou a2 j) i with
        | false => rfl
        | true =>
          obtain ⟨_, hF⟩ := (hO j hj i).mp b
          have q : td_b (r j) i = true := by
            refine td_fillO hO ho hf hx hx1 hy hy1 hi hj hF ?_
            rcases hF with t | t | t | t | ⟨m1, m2, m3, m4⟩
            · exact Or.inl t
            · exact Or.inr (Or.inl t)
            · exact Or.inr (Or.inr (Or.inl t))
            · exact Or.inr (Or.inr (Or.inr (Or.inl t)))
            · exact absurd ⟨by omega, by omega, by omega, by omega⟩ hI
          rw [q]
          rfl
    · rw [td_ou_b a2 j hi, Bool.false_and, decide_eq_false (by omega)]
/-! the insides of a whole rectangle: a block -/
theorem td_io_b (s : Int32) {i : Nat} (hi : i < 31) : td_b (td_io s) i = true ↔ td_b s i = true ∨ (1 ≤ i ∧ td_b s (i - 1) = true ∧ td_b s (i + 1) = true) := by
  unfold td_io
  rw [td_or, td_and, td_shl s (by omega), td_shr s hi]
  have e4 : 1 ≤ i ↔ decide (1 ≤ i) = true := decide_eq_true_iff.symm
  generalize decide (1 ≤ i) = p4 at e4 ⊢
  rw [e4]
  clear e4
  generalize td_b s i = p1
  generalize td_b s (i - 1) = p2
  generalize td_b s (i + 1) = p3
  revert p1 p2 p3 p4
  decide
theorem td_ie_b (u d : Int32) {i : Nat} (hi : i < 31) : td_b (td_ie u d) i = true ↔ (td_b u i = true ∧ td_b d i = true) ∨ (1 ≤ i ∧ td_b u (i - 1) = true ∧ td_b u (i + 1) = true ∧ td_b d (i - 1) = true ∧ td_b d (i + 1) = true) := by
  unfold td_ie td_wh
  simp only [td_or, td_and, td_shl u (show i < 32 by omega), td_shl d (show i < 32 by omega), td_shr u hi, td_shr d hi]
  have e4 : 1 ≤ i ↔ decide (1 ≤ i) = true := decide_eq_true_iff.symm
  generalize decide (1 ≤ i) = p4 at e4 ⊢
  rw [e4]
  clear e4
  generalize td_b u i = p1
  generalize td_b u (i - 1) = p2
  generalize td_b u (i + 1) = p3
  generalize td_b d i = q1
  generalize td_b d (i - 1) = q2
  generalize td_b d (i + 1) = q3
  revert p1 p2 p3 q1 q2 q3 p4
  decide
theorem td_io_h {s : Int32} (hs : ∀ k, 17 ≤ k → td_b s k = false) {i : Nat} (hi : 31 ≤ i) : td_b (td_io s) i = false := by
  rcases Nat.lt_or_ge i 32 with z | z
  · unfold td_io
    rw [td_or, td_and, td_shl s z, hs i (by omega), hs (i - 1) (by omega)]
    simp
  · exact td_big z
theorem td_ie_h {u d : Int32} (hs : ∀ k, 17 ≤ k → td_b u k = false) {i : Nat} (hi : 31 ≤ i) : td_b (td_ie u d) i = false := by
  rcases Nat.lt_or_ge i 32 with z | z
  · unfold td_ie td_wh
    rw [td_or, td_and, td_and, td_and, td_and, td_shl u z, hs i (by omega), hs (i - 1) (by omega)]
    simp
  · exact td_big z
theorem td_cel_w {x0 x1 y0 y1 i j : Nat} : td_cel x0 x1 y0 y1 0 0 0 0 i j ↔ i % 2 = 1 ∧ j % 2 = 1 ∧ 2 * x0 < i ∧ i < 2 * x1 ∧ 2 * y0 < j ∧ j < 2 * y1 := by
  unfold td_cel
  constructor
  · rintro ⟨h1, h2, h3, h4, h5, h6, _⟩
    exact ⟨h1, h2, h3, h4, h5, h6⟩
  · rintro ⟨h1, h2, h3, h4, h5, h6⟩
    exact ⟨h1, h2, h3, h4, h5, h6, by omega⟩
theorem td_fls {b : Bool} (h : ¬ b = true) : b = false := by cases b <;> simp_all
theorem td_inblk {x0 x1 y0 y1 : Nat} {a : Nat → Int32} (hp : td_pic x0 x1 y0 y1 0 0 0 0 a) (hx : x0 < x1) (hx1 : x1 ≤ 8) (hy1 : y1 ≤ 8) : td_blk (td_in a) (2 * x0 + 1) (2 * x1) (2 * y0 + 1) (2 * y1) := by
  intro j hj i
  have B := fun k => (td_pic_b hp (by omega) hx1 (Nat.le_refl 0) (by omega) hj k).trans td_cel_w
  have U := fun k => (td_up_b hp (by omega) hx1 hy1 (Nat.le_refl 0) (by omega) hj k).trans td_cel_w
  have D := fun k => (td_dn_b hp (by omega) hx1 (Nat.le_refl 0) (by omega) hj k)
  rcases Nat.lt_or_ge i 31 with hi | hi
  · rw [Bool.eq_iff_iff, decide_eq_true_eq]
    unfold td_in
    by_cases o : j % 2 = 1
    · rw [if_pos o, td_io_b _ hi, B, B, B]
      by_cases p : i % 2 = 1
      · constructor
        · rintro (h | h) <;> omega
        · intro h
          exact Or.inl (by omega)
      · constructor
        · rintro (h | h) <;> omega
        · intro h
          exact Or.inr (by omega)
    · rw [if_neg o, td_ie_b _ _ hi, U, U, U, D, D, D, td_cel_w, td_cel_w, td_cel_w]
      by_cases p : i % 2 = 1
      · constructor
        · rintro (h | h) <;> omega
        · intro h
          exact Or.inl (by omega)
      · constructor
        · rintro (h | h) <;> omega
        · intro h
          exact Or.inr (by omega)
  · rw [decide_eq_false (by omega)]
    unfold td_in
    by_cases o : j % 2 = 1
    · rw [if_pos o]
      refine td_io_h (fun k hk => td_fls (fun t => ?_)) hi
      have := (B k).mp t
      omega
    · rw [if_neg o]
      refine td_ie_h (fun k hk => td_fls (fun t => ?_)) hi
      have := (U k).mp t
      omega
/-! numbers -/
def td_tpB (x0 x1 d0 d1 : Nat) : Bool := decide (x0 ≤ x1 → d0 ≤ d1 → td_pc (td_W x0 x1 &&& (td_W d0 d1 ^^^ (-1))) = (x1 - x0) - (min x1 d1 - max x0 d0))
theorem td_tpA : ∀ x0, x0 < 9 → ∀ x1, x1 < 9 → ∀ d0, d0 < 9 → ∀ d1, d1 < 9 → td_tpB x0 x1 d0 d1 = true := by decide +kernel
theorem td_tp (x0 : Nat) (h0 : x0 < 9) (x1 : Nat) (h1 : x1 < 9) (hx : x0 ≤ x1) (d0 : Nat) (k0 : d0 < 9) (d1 : Nat) (k1 : d1 < 9) (hd : d0 ≤ d1) : td_pc (td_W x0 x1 &&& (td_W d0 d1 ^^^ (-1))) = (x1 - x0) - (min x1 d1 - max x0 d0) := of_decide_eq_true (td_tpA x0 h0 x1 h1 d0 k0 d1 k1) hx hd
theorem td_tw : ∀ x0, x0 < 9 → ∀ x1, x1 < 9 → x0 ≤ x1 → td_pc (td_W x0 x1) = x1 - x0 := by decide +kernel
theorem td_tr : ∀ x0, x0 < 9 → ∀ x1, x1 < 9 → x0 < x1 → td_pc (td_ro (td_W x0 x1) &&& 87381) = 2 ∧ td_pc (td_re (td_W x0 x1) (td_W x0 x1) &&& 43690) = 0 ∧ td_pc (td_re (td_W x0 x1) 0 &&& 43690) = x1 - x0 ∧ td_pc (td_re 0 (td_W x0 x1) &&& 43690) = x1 - x0 := by decide +kernel
theorem td_tr0 : td_pc (td_ro 0 &&& 87381) = 0 ∧ td_pc (td_re 0 0 &&& 43690) = 0 ∧ td_pc 0 = 0 := by decide +kernel
def td_p1 (y0 y1 j : Nat) : Nat := if j % 2 = 1 ∧ 2 * y0 < j ∧ j < 2 * y1 then 1 else 0
def td_q1 (y0 y1 j : Nat) : Nat := if j = 2 * y0 ∨ j = 2 * y1 then 1 else 0
def td_p2 (y0 y1 c0 c1 j : Nat) : Nat := if j % 2 = 1 ∧ 2 * y0 < j ∧ j < 2 * y1 ∧ 2 * c0 < j ∧ j < 2 * c1 then 1 else 0
def td_q2 (y0 y1 c0 c1 j : Nat) : Nat := if j % 2 = 1 ∧ 2 * y0 < j ∧ j < 2 * y1 ∧ ¬ (2 * c0 < j ∧ j < 2 * c1) then 1 else 0
theorem td_s1s : ∀ y0, y0 < 9 → ∀ y1, y1 < 9 → y0 < y1 → td_sum (td_p1 y0 y1) 17 = y1 - y0 ∧ td_sum (td_q1 y0 y1) 17 = 2 := by decide +kernel
def td_s2B (y0 y1 c0 c1 : Nat) : Bool := decide (y0 ≤ y1 → c0 ≤ c1 → td_sum (td_p2 y0 y1 c0 c1) 17 = min y1 c1 - max y0 c0 ∧ td_sum (td_q2 y0 y1 c0 c1) 17 + (min y1 c1 - max y0 c0) = y1 - y0)
theorem td_s2A : ∀ y0, y0 < 9 → ∀ y1, y1 < 9 → ∀ c0, c0 < 9 → ∀ c1, c1 < 9 → td_s2B y0 y1 c0 c1 = true := by decide +kernel
theorem td_s2s (y0 : Nat) (h0 : y0 < 9) (y1 : Nat) (h1 : y1 < 9) (hy : y0 ≤ y1) (c0 : Nat) (k0 : c0 < 9) (c1 : Nat) (k1 : c1 < 9) (hc : c0 ≤ c1) : td_sum (td_p2 y0 y1 c0 c1) 17 = min y1 c1 - max y0 c0 ∧ td_sum (td_q2 y0 y1 c0 c1) 17 + (min y1 c1 - max y0 c0) = y1 - y0 := of_decide_eq_true (td_s2A y0 h0 y1 h1 c0 k0 c1 k1) hy hc
theorem td_cnt_pic {x0 x1 y0 y1 d0 d1 c0 c1 : Nat} {a : Nat → Int32} (hp : td_pic x0 x1 y0 y1 d0 d1 c0 c1 a) (hx : x0 ≤ x1) (hx1 : x1 ≤ 8) (hy : y0 ≤ y1) (hy1 : y1 ≤ 8) (hd : d0 ≤ d1) (hd1 : d1 ≤ 8) (hc : c0 ≤ c1) (hc1 : c1 ≤ 8) : td_cnt a + (min x1 d1 - max x0 d0) * (min y1 c1 - max y0 c0) = (x1 - x0) * (y1 - y0) := by
  have w := td_tw x0 (by omega) x1 (by omega) hx
  have v := td_tp x0 (by omega) x1 (by omega) hx d0 (by omega) d1 (by omega) hd
  obtain ⟨s1, s2⟩ := td_s2s y0 (by omega) y1 (by omega) hy c0 (by omega) c1 (by omega) hc
  have e : td_cnt a = td_sum (fun j => td_p2 y0 y1 c0 c1 j * td_pc (td_W x0 x1 &&& (td_W d0 d1 ^^^ (-1))) + td_q2 y0 y1 c0 c1 j * td_pc (td_W x0 x1)) 17 := by
    refine td_sum_cg 17 (fun j hj => ?_)
    show td_pc (a (119 + j)) = td_p2 y0 y1 c0 c1 j * td_pc (td_W x0 x1 &&& (td_W d0 d1 ^^^ (-1))) + td_q2 y0 y1 c0 c1 j * td_pc (td_W x0 x1)
    rw [hp j hj]
    unfold td_p2 td_q2
    by_cases c : j % 2 = 1 ∧ 2 * y0 < j ∧ j < 2 * y1
    · by_cases k : 2 * c0 < j ∧ j < 2 * c1
      · rw [if_pos c, if_pos k, if_pos ⟨c.1, c.2.1, c.2.2, k⟩, if_neg (fun t => t.2.2.2 k), Nat.one_mul, Nat.zero_mul, Nat.add_zero]
      · rw [if_pos c, if_neg k, if_neg (fun t => k t.2.2.2), if_pos ⟨c.1, c.2.1, c.2.2, k⟩, Nat.one_mul, Nat.zero_mul, Nat.zero_add]
    · rw [if_neg c, if_neg (fun t => c ⟨t.1, t.2.1, t.2.2.1⟩), if_neg (fun t => c ⟨t.1, t.2.1, t.2.2.1⟩), Nat.zero_mul, Nat.zero_mul, td_tr0.2.2]
  rw [e, td_sum_lin, s1, w, v]
  generalize hP : min y1 c1 - max y0 c0 = P at *
  generalize hQ : td_sum (td_q2 y0 y1 c0 c1) 17 = Q at *
  have ho : min x1 d1 - max x0 d0 ≤ x1 - x0 := by omega
  generalize min x1 d1 - max x0 d0 = o at *
  generalize x1 - x0 = m at *
  obtain ⟨n, rfl⟩ : ∃ n, m = n + o := ⟨m - o, by omega⟩
  rw [← s2, Nat.add_sub_cancel, Nat.mul_comm P n, Nat.mul_add (n + o) Q P, Nat.add_mul n o P, Nat.mul_comm Q (n + o)]
  omega
theorem td_rmc_pic {x0 x1 y0 y1 : Nat} {a : Nat → Int32} (hp : td_pic x0 x1 y0 y1 0 0 0 0 a) (hx : x0 < x1) (hx1 : x1 ≤ 8) (hy : y0 < y1) (hy1 : y1 ≤ 8) : td_rmc a = (y1 - y0) * 2 + 2 * (x1 - x0) := by
  obtain ⟨t1, t2, t3, t4⟩ := td_tr x0 (by omega) x1 (by omega) hx
  obtain ⟨z1, z2, z3⟩ := td_tr0
  obtain ⟨s1, s2⟩ := td_s1s y0 (by omega) y1 (by omega) hy
  have R : ∀ j, j < 17 → a (119 + j) = if j % 2 = 1 ∧ 2 * y0 < j ∧ j < 2 * y1 then td_W x0 x1 else 0 := by
    intro j hj
    rw [hp j hj, if_neg (show ¬ (2 * 0 < j ∧ j < 2 * 0) by omega)]
  have e : td_rmc a = td_sum (fun j => td_p1 y0 y1 j * 2 + td_q1 y0 y1 j * (x1 - x0)) 17 := by
    refine td_sum_cg 17 (fun j hj => ?_)
    show td_pc (td_rm a j &&& td_mk j) = td_p1 y0 y1 j * 2 + td_q1 y0 y1 j * (x1 - x0)
    unfold td_rm td_mk td_p1 td_q1
    by_cases o : j % 2 = 1
    · rw [if_pos o, if_neg (show ¬ j % 2 = 0 by omega), if_neg (show ¬ (j = 2 * y0 ∨ j = 2 * y1) by omega), R j hj]
      by_cases c : j % 2 = 1 ∧ 2 * y0 < j ∧ j < 2 * y1
      · rw [if_pos c, if_pos c, t1, Nat.zero_mul]
      · rw [if_neg c, if_neg c, z1, Nat.zero_mul, Nat.zero_mul]
    · have eu : td_up a j = if 2 * y0 ≤ j ∧ j < 2 * y1 then td_W x0 x1 else 0 := by
        unfold td_up
        by_cases z : j < 16
        · rw [if_pos z, R (j + 1) (by omega)]
          by_cases c : 2 * y0 ≤ j ∧ j < 2 * y1
          · rw [if_pos c, if_pos (by omega)]
          · rw [if_neg c, if_neg (by omega)]
        · rw [if_neg z, if_neg (by omega)]
      have ed : td_dn a j = if 2 * y0 < j ∧ j ≤ 2 * y1 then td_W x0 x1 else 0 := by
        unfold td_dn
        by_cases z : j = 0
        · rw [if_pos z, if_neg (by omega)]
        · rw [if_neg z, R (j - 1) (by omega)]
          by_cases c : 2 * y0 < j ∧ j ≤ 2 * y1
          · rw [if_pos c, if_pos (by omega)]
          · rw [if_neg c, if_neg (by omega)]
      rw [if_neg o, if_pos (show j % 2 = 0 by omega), if_neg (show ¬ (j % 2 = 1 ∧ 2 * y0 < j ∧ j < 2 * y1) by omega), eu, ed, Nat.zero_mul, Nat.zero_add]
      by_cases c1 : j = 2 * y0
      · rw [if_pos (show 2 * y0 ≤ j ∧ j < 2 * y1 by omega), if_neg (show ¬ (2 * y0 < j ∧ j ≤ 2 * y1) by omega), if_pos (Or.inl c1), t3, Nat.one_mul]
      · by_cases c2 : j = 2 * y1
        · rw [if_neg (show ¬ (2 * y0 ≤ j ∧ j < 2 * y1) by omega), if_pos (show 2 * y0 < j ∧ j ≤ 2 * y1 by omega), if_pos (Or.inr c2), t4, Nat.one_mul]
        · rw [if_neg (show ¬ (j = 2 * y0 ∨ j = 2 * y1) by omega), Nat.zero_mul]
          by_cases c : 2 * y0 < j ∧ j < 2 * y1
          · rw [if_pos (show 2 * y0 ≤ j ∧ j < 2 * y1 by omega), if_pos (show 2 * y0 < j ∧ j ≤ 2 * y1 by omega), t2]
          · rw [if_neg (show ¬ (2 * y0 ≤ j ∧ j < 2 * y1) by omega), if_neg (show ¬ (2 * y0 < j ∧ j ≤ 2 * y1) by omega), z2]
  rw [e, td_sum_lin, s1, s2]
end
section
/-! the law's tail -/
theorem td_512 {post : Int32 → St0 → Prop} {mc ms kc ks : Nat} {x13 x18 x19 z : Int32} {a1 a2 a3 a4 a5 a6 : Nat → Int32} (h : post 1 ()) (hA : x19 = 0 → nI (td_cnt a2) = x13 - x18) (hB : ¬ x19 = 0 → nI (td_cnt a2) = x13) : wL_lawOf_512 post mc ms x13 x18 x19 z z kc ks a1 a2 a3 a4 a5 a6 :=
  br_t rfl (td_size (br_c (fun e => br_t (hA e) h) (fun e => br_t (hB e) h)))
theorem td_428 {post : Int32 → St0 → Prop} {mc ms kc ks : Nat} {x0 x1 y0 y1 sz u0 u1 v0 v1 out : Nat} {z0 z1 : Int32} {a1 a2 a3 a4 a5 a6 : Nat → Int32} (hz : z1 = z0) (b0 : x0 < 100) (b1 : x1 < 100) (b2 : y0 < 100) (b3 : y1 < 100) (b4 : u0 < 100) (b5 : u1 < 100) (b6 : v0 < 100) (b7 : v1 < 100) (b8 : out < 100)
    (Hn : ¬ (0 < out ∧ x0 < u0 ∧ u1 < x1 ∧ y0 < v0 ∧ v1 < y1) → wL_lawOf_476 post mc ms (nI sz) (nI out) 0 0 kc ks a1 a2 a3 a4 a5 a6)
    (Hy : (0 < out ∧ x0 < u0 ∧ u1 < x1 ∧ y0 < v0 ∧ v1 < y1) → wL_lawOf_476 post mc ms (nI sz) (nI out) 0 1 kc ks a1 a2 a3 a4 a5 a6) :
    wL_lawOf_428 post mc ms (nI x0) (nI x1) (nI y0) (nI y1) (nI sz) (nI u0) (nI u1) (nI v0) (nI v1) (nI out) 0 z0 z1 kc ks a1 a2 a3 a4 a5 a6 :=
  br_t hz (br_t rfl (pk_le out 0 (fun w => Hn (fun t => by omega)) (fun w0 => pk_le u0 x0 (fun w => Hn (fun t => by omega)) (fun w1 => pk_le x1 u1 (fun w => Hn (fun t => by omega)) (fun w2 => pk_le v0 y0 (fun w => Hn (fun t => by omega)) (fun w3 => pk_le y1 v1 (fun w => Hn (fun t => by omega)) (fun w4 => Hy ⟨w0, w1, w2, w3, w4⟩)))))))
theorem td_340 {post : Int32 → St0 → Prop} {mc ms kc ks : Nat} {p q x0 x1 y0 y1 u0 u1 v0 v1 sz out : Nat} {a1 a2 a3 a4 a5 a6 : Nat → Int32} (h : post 1 ()) (h3 : a1 7 = 3) (hpic : td_pic x0 x1 y0 y1 0 0 0 0 a2) (hp : p < 81) (hq : q < 81) (hx : x0 < x1) (hx1 : x1 ≤ 8) (hy : y0 < y1) (hy1 : y1 ≤ 8)
    (eu0 : u0 = max x0 (min (p / 9) (q / 9))) (eu1 : u1 = min x1 (max (p / 9) (q / 9))) (ev0 : v0 = max y0 (min (p % 9) (q % 9))) (ev1 : v1 = min y1 (max (p % 9) (q % 9))) (esz : sz = (x1 - x0) * (y1 - y0)) (eo : out = (u1 - u0) * (v1 - v0)) :
    wL_lawOf_340 post mc ms (nI p) (nI q) (nI x0) (nI x1) (nI y0) (nI y1) (nI sz) (nI u0) (nI u1) (nI v0) (nI v1) (nI out) kc ks a1 a2 a3 a4 a5 a6 := by
  have cnt0 : td_cnt a2 = sz := by
    have t := td_cnt_pic hpic (by omega) hx1 (by omega) hy1 (Nat.le_refl 0) (by omega) (Nat.le_refl 0) (by omega)
    rw [show min x1 0 - max x0 0 = 0 by omega, Nat.zero_mul, Nat.add_zero] at t
    rw [esz, t]
  have szb : sz ≤ 8 * 8 := by
    rw [esz]
    exact Nat.mul_le_mul (by omega) (by omega)
  have oub : out ≤ sz := by
    rw [eo, esz]
    exact Nat.mul_le_mul (by omega) (by omega)
  have F : p / 9 = q / 9 ∨ p % 9 = q % 9 → wL_lawOf_368 post mc ms (nI p) (nI q) (nI x0) (nI x1) (nI y0) (nI y1) (nI sz) (nI u0) (nI u1) (nI v0) (nI v1) (nI out) kc ks a1 a2 a3 a4 a5 a6 := by
    intro fl
    unfold wL_lawOf_368 wL_lawOf_373
    refine td_cut hp hq h3 (fun _ => br_f (by decide) ?_) (fun z w => absurd fl (fun t => t.elim z w)) (fun z w => absurd fl (fun t => t.elim z w))
    refine br_t rfl (td_kind (br_f (by decide) (br_t h3 (br_f (by decide) ?_))))
    unfold wL_lawOf_475 wL_lawOf_476
    exact td_holesN h3 hpic hx hx1 hy hy1 (Nat.le_refl 0) (by omega) (Nat.le_refl 0) (fun t => absurd t.2.1 (by omega)) (fun b3 b4 b5 b6 => br_f (by decide) (br_t rfl (td_512 h (fun e => absurd e (by decide)) (fun _ => congrArg nI cnt0))))
  have N : ¬ p / 9 = q / 9 → ¬ p % 9 = q % 9 → wL_lawOf_373 post mc ms (nI p) (nI q) (nI x0) (nI x1) (nI y0) (nI y1) (nI sz) (nI u0) (nI u1) (nI v0) (nI v1) (nI out) 0 kc ks a1 a2 a3 a4 a5 a6 := by
    intro n1 n2
    unfold wL_lawOf_373
    have key : ∀ b2, td_rng (fun x => x &&& (td_W (min (p / 9) (q / 9)) (max (p / 9) (q / 9)) ^^^ (-1))) (min (p % 9) (q % 9)) (max (p % 9) (q % 9)) a2 b2 → td_pic x0 x1 y0 y1 (min (p / 9) (q / 9)) (max (p / 9) (q / 9)) (min (p % 9) (q % 9)) (max (p % 9) (q % 9)) b2 ∧ td_cnt b2 + out = sz := by
      intro b2 hb2
      have pic2 := td_pic_cut hpic hb2
      refine ⟨pic2, ?_⟩
      have t := td_cnt_pic pic2 (by omega) hx1 (by omega) hy1 (by omega) (by omega) (by omega) (by omega)
      rw [← eu0, ← eu1, ← ev0, ← ev1, ← eo, ← esz] at t
      exact t
    refine td_cut hp hq h3 (fun fl => absurd fl (fun t => t.elim n1 n2)) (fun _ _ b2 hb2 hz => br_t rfl ?_) (fun _ _ b2 hb2 hz => br_t rfl ?_)
    · obtain ⟨pic2, cn⟩ := key b2 hb2
      have e : nI out = nI sz := congrArg nI (by omega)
      have s0 : nI sz - nI out = 0 := by
        rw [pk_sub oub, show sz - out = 0 by omega]
        rfl
      have c0 : nI (td_cnt b2) = nI sz - nI out := by
        rw [s0, hz]
        rfl
      have K : ∀ z, wL_lawOf_476 post mc ms (nI sz) (nI out) 0 z kc ks (upd a1 7 0) b2 a3 a4 a5 a6 := by
        intro z
        unfold wL_lawOf_476
        exact td_holes0 pk_us (br_t rfl (br_t e (td_512 h (fun _ => c0) (fun t => absurd rfl t))))
      exact br_t s0.symm (td_kind (br_t rfl (br_t e (td_428 pk_us (by omega) (by omega) (by omega) (by omega) (by omega) (by omega) (by omega) (by omega) (by omega) (fun _ => K 0) (fun _ => K 1)))))
    · obtain ⟨pic2, cn⟩ := key b2 hb2
      have ne : ¬ nI out = nI sz := fun t => hz (by
        have := (nI_eq (by omega) (by omega)).mp t
        omega)
      have c0 : nI (td_cnt b2) = nI sz - nI out := by
        rw [pk_sub oub]
        exact congrArg nI (by omega)
      refine br_t c0 (td_kind (br_t rfl (br_f ne (td_428 h3 (by omega) (by omega) (by omega) (by omega) (by omega) (by omega) (by omega) (by omega) (by omega) (fun hn => ?_) (fun hl => ?_)))))
      · unfold wL_lawOf_476
        refine td_holesN h3 pic2 hx hx1 hy hy1 (by omega) (by omega) (by omega) (fun t => hn ?_) (fun b3 b4 b5 b6 => br_t rfl (br_f ne (br_t rfl (td_512 h (fun _ => c0) (fun t => absurd rfl t)))))
        obtain ⟨t1, t2, t3, t4, t5, t6⟩ := t
        refine ⟨?_, by omega, by omega, by omega, by omega⟩
        rw [eo]
        exact Nat.mul_pos (by omega) (by omega)
      · unfold wL_lawOf_476
        refine td_holesY h3 pic2 hx hx1 hy hy1 (by omega) (by omega) ?_ (fun b3 b4 b5 b6 => br_t rfl (br_f ne (br_f (by decide) (td_512 h (fun _ => c0) (fun t => absurd rfl t)))))
        obtain ⟨t1, t2, t3, t4, t5⟩ := hl
        exact ⟨by omega, by omega, by omega, by omega, by omega, by omega⟩
  exact ⟨by decide, by decide, pk_eq (p / 9) (q / 9) (fun z => F (Or.inl z)) (fun z => ⟨by decide, by decide, pk_eq (p % 9) (q % 9) (fun w => F (Or.inr w)) (fun w => N z w) (td_rem9 hp) (td_rem9 hq)⟩) (td_div9 hp) (td_div9 hq)⟩
theorem td_141 {post : Int32 → St0 → Prop} {mc ms kc ks : Nat} {p q x0 x1 y0 y1 sz : Nat} {a1 a2 a3 a4 a5 a6 : Nat → Int32} (h : post 1 ()) (h3 : a1 7 = 3) (hpic : td_pic x0 x1 y0 y1 0 0 0 0 a2) (hp : p < 81) (hq : q < 81) (hx : x0 < x1) (hx1 : x1 ≤ 8) (hy : y0 < y1) (hy1 : y1 ≤ 8) (esz : sz = (x1 - x0) * (y1 - y0)) :
    wL_lawOf_141 post mc ms (nI p) (nI q) (nI x0) (nI x1) (nI y0) (nI y1) (nI sz) (nI sz) (nI (td_cnt a2)) kc ks a1 a2 a3 a4 a5 a6 := by
  have cnt0 : td_cnt a2 = sz := by
    have t := td_cnt_pic hpic (by omega) hx1 (by omega) hy1 (Nat.le_refl 0) (by omega) (Nat.le_refl 0) (by omega)
    rw [show min x1 0 - max x0 0 = 0 by omega, Nat.zero_mul, Nat.add_zero] at t
    rw [esz, t]
  have szp : 0 < sz := by
    rw [esz]
    exact Nat.mul_pos (by omega) (by omega)
  have szb : sz ≤ 8 * 8 := by
    rw [esz]
    exact Nat.mul_le_mul (by omega) (by omega)
  refine br_t (congrArg nI cnt0) (br_f (nI_ne0 szp (by omega)) (td_rim h3 (fun b3 b4 => br_t ?_ (td_pieces h3 (td_inblk hpic hx hx1 hy1) (by omega) (by omega) (by omega) (by omega) (fun b3 b4 b5 b6 => br_t rfl (td_holesN h3 hpic hx hx1 hy hy1 (Nat.le_refl 0) (by omega) (Nat.le_refl 0) (fun t => absurd t.2.1 (by omega)) (fun b3 b4 b5 b6 => br_t rfl ⟨by decide, by decide, ?_⟩)))))))
  · rw [td_rmc_pic hpic hx hx1 hy hy1, pk_sub (show x0 ≤ x1 by omega), nI_add, pk_sub (show y0 ≤ x1 - x0 + y1 by omega)]
    exact (congrArg nI (show (y1 - y0) * 2 + 2 * (x1 - x0) = 2 * (x1 - x0 + y1 - y0) by omega)).trans (pk_mul 2 _).symm
  · rw [td_rem9 hp, td_rem9 hq, td_div9 hp, td_div9 hq]
    refine td_low2 (by omega) (by omega) (td_high2 (by omega) (by omega) ⟨by decide, by decide, td_high2 (by omega) (by omega) (td_low2 (by omega) (by omega) ⟨by decide, by decide, td_low2 (by omega) (by omega) (td_high2 (by omega) (by omega) ⟨by decide, by decide, td_high2 (by omega) (by omega) (td_low2 (by omega) (by omega) ?_)⟩)⟩)⟩)
    refine pk_le (min x1 (max (p / 9) (q / 9))) (max x0 (min (p / 9) (q / 9))) (fun z => ?_) (fun z => pk_le (min y1 (max (p % 9) (q % 9))) (max y0 (min (p % 9) (q % 9))) (fun w => ?_) (fun w => ?_))
    · exact td_340 (out := 0) h h3 hpic hp hq hx hx1 hy hy1 rfl rfl rfl rfl esz (by rw [Nat.sub_eq_zero_of_le z, Nat.zero_mul])
    · exact td_340 (out := 0) h h3 hpic hp hq hx hx1 hy hy1 rfl rfl rfl rfl esz (by rw [Nat.sub_eq_zero_of_le w, Nat.mul_zero])
    · rw [pk_sub (Nat.le_of_lt z), pk_sub (Nat.le_of_lt w), pk_mul]
      exact td_340 h h3 hpic hp hq hx hx1 hy hy1 rfl rfl rfl rfl esz rfl
theorem td_v81 (x : Int32) : ∃ f, f < 81 ∧ (x &&& 127) - (x &&& 127) / 81 * 81 = nI f := by
  obtain ⟨k, hk, e⟩ := pk_andE x (m := 127) 7 (by decide +kernel)
  rw [e]
  exact ⟨k % 81, Nat.mod_lt _ (by omega), pk_rem (d := 81) (by omega) (by omega) (by omega)⟩
theorem td_lawOf {post : Int32 → St0 → Prop} (p0 p1 p2 p3 : Int32) (h : post 1 ()) : wpL_lawOf post 178 2832 () p0 p1 p2 p3 := by
  obtain ⟨f, hf, ef⟩ := td_v81 p0
  obtain ⟨t, ht, et⟩ := td_v81 p1
  obtain ⟨p, hp, ep⟩ := td_v81 p2
  obtain ⟨q, hq, eq⟩ := td_v81 p3
  refine ⟨by omega, by omega, 6, 318, by omega, by omega, by omega, by omega, by omega, by omega, by omega, by omega, by omega, by omega, by omega, by omega, by omega, by omega, nm_e ⟨by decide, nm_r ef ⟨by decide, nm_r et ⟨by decide, nm_r ep ⟨by decide, nm_r eq ⟨by decide, by decide, ?_⟩⟩⟩⟩⟩⟩
  rw [td_rem9 hf, td_rem9 ht, td_div9 hf, td_div9 ht]
  refine td_low2 (by omega) (by omega) ⟨by decide, by decide, td_high2 (by omega) (by omega) ⟨by decide, by decide, td_low2 (by omega) (by omega) ⟨by decide, by decide, td_high2 (by omega) (by omega) (nm_r (e' := nI ((max (f / 9) (t / 9) - min (f / 9) (t / 9)) * (max (f % 9) (t % 9) - min (f % 9) (t % 9)))) ?_ (td_rect hf ht (by rw [pk_un (by omega)]) (fun z => ?_) (fun z w b2 hb2 => ?_)))⟩⟩⟩
  · rw [pk_sub (by omega), pk_sub (by omega), pk_mul]
  · have e : (max (f / 9) (t / 9) - min (f / 9) (t / 9)) * (max (f % 9) (t % 9) - min (f % 9) (t % 9)) = 0 := by
      rcases z with z | z
      · rw [show max (f / 9) (t / 9) - min (f / 9) (t / 9) = 0 by omega, Nat.zero_mul]
      · rw [show max (f % 9) (t % 9) - min (f % 9) (t % 9) = 0 by omega, Nat.mul_zero]
    rw [e]
    have h0 : upd (fun _ => 0) 0 0 7 = 0 := by rw [pk_un (by omega)]
    exact br_t rfl (br_t rfl (br_t rfl (td_cut0 h0 (br_t rfl (td_rim0 h0 (br_t rfl h))))))
  · have e : 0 < (max (f / 9) (t / 9) - min (f / 9) (t / 9)) * (max (f % 9) (t % 9) - min (f % 9) (t % 9)) := Nat.mul_pos (by omega) (by omega)
    have eb : (max (f / 9) (t / 9) - min (f / 9) (t / 9)) * (max (f % 9) (t % 9) - min (f % 9) (t % 9)) ≤ 8 * 8 := Nat.mul_le_mul (by omega) (by omega)
    exact br_f (nI_ne0 e (by omega)) (td_141 h pk_us (td_pic_rect (fun _ _ => rfl) hb2) hp hq (by omega) (by omega) (by omega) (by omega) rfl)
end
section
theorem i_vc (xs : Nat → Int32) (L : Nat) (hL : L ≤ 4) : wpL_law (fun r => r = 1) L xs := by
  have cell : ∀ (P : Int32 → Prop) (k : Nat), k < 4 → (∀ x, P x) → wpL_cellAt P L xs () (nI k) := fun P k hk hP => pk_le L k (fun _ => hP _) (fun z => ⟨pk_in k L z, hP _⟩)
  exact cell _ 0 (by omega) (fun x0 => cell _ 1 (by omega) (fun x1 => cell _ 2 (by omega) (fun x2 => cell _ 3 (by omega) (fun x3 => ⟨178, 2832, by omega, by omega, td_lawOf x0 x1 x2 x3 rfl⟩))))
end
