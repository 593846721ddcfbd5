section
/-! plain sums below n, double sums over six by six, the cost of a cut -/
def zq_sum (f : Nat → Nat) : Nat → Nat
  | 0 => 0
  | n + 1 => zq_sum f n + f n
theorem zq_sum_s (f : Nat → Nat) (n : Nat) : zq_sum f (n + 1) = zq_sum f n + f n := rfl
theorem zq_sum_congr {f g : Nat → Nat} (n : Nat) : (∀ i, i < n → f i = g i) → zq_sum f n = zq_sum g n := by
  induction n with
  | zero => intro _; rfl
  | succ n ih =>
    intro h
    rw [zq_sum_s, zq_sum_s, ih (fun i hi => h i (by omega)), h n (by omega)]
theorem zq_sum_add (f g : Nat → Nat) (n : Nat) : zq_sum (fun i => f i + g i) n = zq_sum f n + zq_sum g n := by
  induction n with
  | zero => rfl
  | succ n ih =>
    rw [zq_sum_s, zq_sum_s, zq_sum_s, ih]
    omega
theorem zq_sum_zero (n : Nat) : zq_sum (fun _ => 0) n = 0 := by
  induction n with
  | zero => rfl
  | succ n ih => rw [zq_sum_s, ih]
theorem zq_sum_delta (x : Nat → Nat) (u n : Nat) : zq_sum (fun i => if i = u then x i else 0) n = if u < n then x u else 0 := by
  induction n with
  | zero => simp [zq_sum]
  | succ n ih =>
    rw [zq_sum_s, ih]
    by_cases h : n = u
    · subst h
      simp
    · by_cases h2 : u < n
      · simp [h, h2, show u < n + 1 by omega]
      · simp [h, h2, show ¬ u < n + 1 by omega]
theorem zq_sum_le {f g : Nat → Nat} (n : Nat) : (∀ i, i < n → f i ≤ g i) → zq_sum f n ≤ zq_sum g n := by
  induction n with
  | zero => intro _; exact Nat.le_refl _
  | succ n ih =>
    intro h
    have h1 := ih (fun i hi => h i (by omega))
    have h2 := h n (by omega)
    rw [zq_sum_s, zq_sum_s]
    omega
theorem zq_sum_mem {f : Nat → Nat} {n i : Nat} (h : i < n) : f i ≤ zq_sum f n := by
  induction n with
  | zero => omega
  | succ n ih =>
    rw [zq_sum_s]
    by_cases e : i = n
    · subst e
      omega
    · have := ih (by omega)
      omega
theorem zq_sum_bd {f : Nat → Nat} {B : Nat} (n : Nat) : (∀ i, i < n → f i ≤ B) → zq_sum f n ≤ n * B := by
  induction n with
  | zero => intro _; exact Nat.zero_le _
  | succ n ih =>
    intro h
    have h1 := ih (fun i hi => h i (by omega))
    have h2 := h n (by omega)
    rw [zq_sum_s, Nat.succ_mul]
    omega
theorem zq_sum_swap (f : Nat → Nat → Nat) (n m : Nat) : zq_sum (fun a => zq_sum (fun b => f b a) m) n = zq_sum (fun b => zq_sum (fun a => f b a) n) m := by
  induction n with
  | zero => exact (zq_sum_zero m).symm
  | succ n ih =>
    rw [zq_sum_s, ih]
    exact (zq_sum_add (fun b => zq_sum (fun a => f b a) n) (fun b => f b n) m).symm
def zq_s2 (f : Nat → Nat → Nat) : Nat := zq_sum (fun a => zq_sum (fun b => f a b) 6) 6
theorem zq_s2_congr {f g : Nat → Nat → Nat} (h : ∀ a b, a < 6 → b < 6 → f a b = g a b) : zq_s2 f = zq_s2 g :=
  zq_sum_congr 6 (fun a ha => zq_sum_congr 6 (fun b hb => h a b ha hb))
theorem zq_s2_add (f g : Nat → Nat → Nat) : zq_s2 (fun a b => f a b + g a b) = zq_s2 f + zq_s2 g :=
  (zq_sum_congr 6 (fun a _ => zq_sum_add (f a) (g a) 6)).trans (zq_sum_add (fun a => zq_sum (f a) 6) (fun a => zq_sum (g a) 6) 6)
theorem zq_s2_row (g : Nat → Nat) {u : Nat} (hu : u < 6) : zq_s2 (fun a b => if a = u then g b else 0) = zq_sum g 6 := by
  have h : zq_s2 (fun a b => if a = u then g b else 0) = zq_sum (fun a => if a = u then zq_sum g 6 else 0) 6 := by
    refine zq_sum_congr 6 (fun a _ => ?_)
    show zq_sum (fun b => if a = u then g b else 0) 6 = if a = u then zq_sum g 6 else 0
    by_cases e : a = u
    · rw [if_pos e]
      exact zq_sum_congr 6 (fun b _ => if_pos e)
    · rw [if_neg e]
      exact (zq_sum_congr 6 (fun b _ => if_neg e)).trans (zq_sum_zero 6)
  exact h.trans ((zq_sum_delta (fun _ => zq_sum g 6) u 6).trans (if_pos hu))
theorem zq_s2_col (g : Nat → Nat) {u : Nat} (hu : u < 6) : zq_s2 (fun a b => if b = u then g a else 0) = zq_sum g 6 :=
  zq_sum_congr 6 (fun a _ => (zq_sum_delta (fun _ => g a) u 6).trans (if_pos hu))
theorem zq_s2_cell (x : Nat) {u v : Nat} (hu : u < 6) (hv : v < 6) : zq_s2 (fun a b => if a = u ∧ b = v then x else 0) = x := by
  have h : zq_s2 (fun a b => if a = u ∧ b = v then x else 0) = zq_s2 (fun a b => if a = u then (if b = v then x else 0) else 0) :=
    zq_s2_congr (fun a b _ _ => by by_cases e : a = u <;> by_cases e2 : b = v <;> simp [e, e2])
  exact (h.trans (zq_s2_row (fun b => if b = v then x else 0) hu)).trans ((zq_sum_delta (fun _ => x) v 6).trans (if_pos hv))
theorem zq_s2_swap (f : Nat → Nat → Nat) : zq_s2 (fun a b => f b a) = zq_s2 f := zq_sum_swap f 6 6
theorem zq_s2_le {f g : Nat → Nat → Nat} (h : ∀ a b, a < 6 → b < 6 → f a b ≤ g a b) : zq_s2 f ≤ zq_s2 g :=
  zq_sum_le 6 (fun a ha => zq_sum_le 6 (fun b hb => h a b ha hb))
theorem zq_s2_zero : zq_s2 (fun _ _ => 0) = 0 := by decide
/-- what crosses from S to the rest; C by cells a * 6 + b -/
def zq_cut (C : Nat → Nat) (S : Nat → Bool) : Nat := zq_s2 (fun a b => if (S a && !S b) = true then C (a * 6 + b) else 0)
theorem zq_cut_congr {C D : Nat → Nat} {S T : Nat → Bool} (hC : ∀ j, j < 36 → C j = D j) (hS : ∀ a, a < 6 → S a = T a) : zq_cut C S = zq_cut D T :=
  zq_s2_congr (fun a b ha hb => by rw [hS a ha, hS b hb, hC (a * 6 + b) (by omega)])
theorem zq_cut_compl {C : Nat → Nat} (sy : ∀ a b, a < 6 → b < 6 → C (a * 6 + b) = C (b * 6 + a)) (S : Nat → Bool) : zq_cut C (fun a => !S a) = zq_cut C S := by
  refine Eq.trans ?_ (zq_s2_swap (fun a b => if (S a && !S b) = true then C (a * 6 + b) else 0))
  refine zq_s2_congr (fun a b ha hb => ?_)
  show (if (!S a && !!S b) = true then C (a * 6 + b) else 0) = if (S b && !S a) = true then C (b * 6 + a) else 0
  rw [sy a b ha hb]
  cases S a <;> cases S b <;> rfl
theorem zq_cut_zero {R : Nat → Nat} {S : Nat → Bool} (h : ∀ a b, a < 6 → b < 6 → S a = true → S b = false → R (a * 6 + b) = 0) : zq_cut R S = 0 := by
  refine Eq.trans (zq_s2_congr (g := fun _ _ => 0) (fun a b ha hb => ?_)) zq_s2_zero
  by_cases h1 : S a = true
  · cases h2 : S b with
    | true => simp
    | false => simp [h a b ha hb h1 h2]
  · simp [h1]
/-- m pushed along the way from a to x -/
theorem zq_cut_push {R R1 : Nat → Nat} {a x m : Nat} (ha : a < 6) (hx : x < 6) (hax : a ≠ x) (h1 : R1 (a * 6 + x) + m = R (a * 6 + x)) (h2 : R1 (x * 6 + a) = R (x * 6 + a) + m)
    (h3 : ∀ u v, u < 6 → v < 6 → ¬ (u = a ∧ v = x) → ¬ (u = x ∧ v = a) → R1 (u * 6 + v) = R (u * 6 + v)) (S : Nat → Bool) :
    zq_cut R1 S + (if S a = true then m else 0) = zq_cut R S + (if S x = true then m else 0) := by
  have key : zq_s2 (fun u v => (if (S u && !S v) = true then R1 (u * 6 + v) else 0) + (if u = a ∧ v = x then (if (S a && !S x) = true then m else 0) else 0)) = zq_s2 (fun u v => (if (S u && !S v) = true then R (u * 6 + v) else 0) + (if u = x ∧ v = a then (if (S x && !S a) = true then m else 0) else 0)) := by
    refine zq_s2_congr (fun u v hu hv => ?_)
    by_cases e1 : u = a ∧ v = x
    · rw [e1.1, e1.2]
      cases S a <;> cases S x <;> simp [hax] <;> omega
    · by_cases e2 : u = x ∧ v = a
      · rw [e2.1, e2.2, h2]
        cases S a <;> cases S x <;> simp [Ne.symm hax]
      · rw [if_neg e1, if_neg e2, h3 u v hu hv e1 e2]
  rw [zq_s2_add, zq_s2_add, zq_s2_cell _ ha hx, zq_s2_cell _ hx ha] at key
  have k2 : zq_cut R1 S + (if (S a && !S x) = true then m else 0) = zq_cut R S + (if (S x && !S a) = true then m else 0) := key
  revert k2
  generalize zq_cut R1 S = X
  generalize zq_cut R S = Y
  cases S a <;> cases S x <;> simp <;> omega
end
section
/-! adding the most tightly joined: plain part. J by cells, T the places that are there, A those added -/
def zq_w (J : Nat → Nat) (A : Nat → Bool) (u : Nat) : Nat := zq_sum (fun b => if A b = true then J (u * 6 + b) else 0) 6
def zq_ca (J : Nat → Nat) (A S : Nat → Bool) : Nat := zq_s2 (fun a b => if (A a && A b && S a && !S b) = true then J (a * 6 + b) else 0)
def zq_op (J : Nat → Nat) (A S : Nat → Bool) (u : Nat) : Nat := zq_sum (fun b => if (A b && (S b != S u)) = true then J (u * 6 + b) else 0) 6
def zq_sy (J : Nat → Nat) (T : Nat → Bool) : Prop := ∀ a b, a < 6 → b < 6 → T a = true → T b = true → J (a * 6 + b) = J (b * 6 + a)
theorem zq_ca_add {J : Nat → Nat} {A A' T : Nat → Bool} {u : Nat} (hsy : zq_sy J T) (hu : u < 6) (hTu : T u = true) (hAT : ∀ b, b < 6 → A b = true → T b = true) (hAu : A u = false)
    (hA' : ∀ b, b < 6 → A' b = (A b || decide (b = u))) (S : Nat → Bool) : zq_ca J A' S = zq_ca J A S + zq_op J A S u := by
  have key : zq_ca J A' S = zq_s2 (fun a b => (if (A a && A b && S a && !S b) = true then J (a * 6 + b) else 0) + ((if a = u then (if (A b && S u && !S b) = true then J (u * 6 + b) else 0) else 0) + (if b = u then (if (A a && S a && !S u) = true then J (u * 6 + a) else 0) else 0))) := by
    refine zq_s2_congr (fun a b ha hb => ?_)
    rw [hA' a ha, hA' b hb]
    by_cases ea : a = u
    · by_cases eb : b = u
      · rw [ea, eb, hAu]
        cases S u <;> simp
      · rw [ea, hAu]
        simp [eb]
    · by_cases eb : b = u
      · rw [eb, hAu]
        cases hAa : A a with
        | true =>
          rw [hsy a u ha hu (hAT a ha hAa) hTu]
          simp [ea]
        | false => simp [ea]
      · simp [ea, eb]
  rw [key, zq_s2_add, zq_s2_add, zq_s2_row _ hu, zq_s2_col _ hu, ← zq_sum_add]
  refine congrArg (fun z => zq_ca J A S + z) (zq_sum_congr 6 (fun b hb => ?_))
  cases A b <;> cases S b <;> cases S u <;> simp
theorem zq_w_add {J : Nat → Nat} {A A' : Nat → Bool} {v : Nat} (hv : v < 6) (hAv : A v = false) (hA' : ∀ b, b < 6 → A' b = (A b || decide (b = v))) (u : Nat) : zq_w J A' u = zq_w J A u + J (u * 6 + v) := by
  have key : zq_w J A' u = zq_sum (fun b => (if A b = true then J (u * 6 + b) else 0) + (if b = v then J (u * 6 + b) else 0)) 6 := by
    refine zq_sum_congr 6 (fun b hb => ?_)
    rw [hA' b hb]
    by_cases e : b = v
    · rw [e, hAv]
      simp
    · simp [e]
  rw [key, zq_sum_add]
  exact congrArg (fun z => zq_w J A u + z) ((zq_sum_delta (fun b => J (u * 6 + b)) v 6).trans (if_pos hv))
theorem zq_op_add {J : Nat → Nat} {A A' S : Nat → Bool} {v u : Nat} (hv : v < 6) (hAv : A v = false) (hA' : ∀ b, b < 6 → A' b = (A b || decide (b = v))) (hS : S u ≠ S v) : zq_op J A' S u = zq_op J A S u + J (u * 6 + v) := by
  have key : zq_op J A' S u = zq_sum (fun b => (if (A b && (S b != S u)) = true then J (u * 6 + b) else 0) + (if b = v then J (u * 6 + b) else 0)) 6 := by
    refine zq_sum_congr 6 (fun b hb => ?_)
    rw [hA' b hb]
    by_cases e : b = v
    · rw [e, hAv]
      simp [Ne.symm hS]
    · simp [e]
  rw [key, zq_sum_add]
  exact congrArg (fun z => zq_op J A S u + z) ((zq_sum_delta (fun b => J (u * 6 + b)) v 6).trans (if_pos hv))
/-- the invariant of a phase: l was added last -/
def zq_mi (J : Nat → Nat) (T A : Nat → Bool) (l : Nat) : Prop :=
  ∀ (S : Nat → Bool) (u : Nat), u < 6 → T u = true → A u = false → S u ≠ S l → zq_w J A u ≤ zq_ca J A S + zq_op J A S u
theorem zq_mi_0 {J : Nat → Nat} {T A : Nat → Bool} {l : Nat} (hA : ∀ b, b < 6 → A b = false) : zq_mi J T A l := by
  intro S u _ _ _ _
  have h : zq_w J A u = 0 := (zq_sum_congr 6 (fun b hb => by simp [hA b hb])).trans (zq_sum_zero 6)
  omega
theorem zq_mi_step {J : Nat → Nat} {T A A' : Nat → Bool} {l v : Nat} (hsy : zq_sy J T) (hAT : ∀ b, b < 6 → A b = true → T b = true) (hi : zq_mi J T A l) (hv : v < 6) (hTv : T v = true) (hAv : A v = false)
    (hmax : ∀ u, u < 6 → T u = true → A u = false → zq_w J A u ≤ zq_w J A v) (hA' : ∀ b, b < 6 → A' b = (A b || decide (b = v))) : zq_mi J T A' v := by
  intro S u hu hTu hAu hne
  have huA : A u = false := by
    have h := hA' u hu
    rw [hAu] at h
    cases hq : A u with
    | true => rw [hq] at h; simp at h
    | false => rfl
  have hca := zq_ca_add hsy hv hTv hAT hAv hA' S
  have hw := zq_w_add (J := J) hv hAv hA' u
  have ho := zq_op_add (J := J) hv hAv hA' hne
  by_cases hl : S v = S l
  · have h1 := hi S u hu hTu huA (by rw [← hl]; exact hne)
    omega
  · have h1 := hi S v hv hTv hAv hl
    have h2 := hmax u hu hTu huA
    omega
/-- the one added behind l: its tightness is at most what any cut between the two costs -/
theorem zq_mi_fin {J : Nat → Nat} {T A A' : Nat → Bool} {l v : Nat} (hsy : zq_sy J T) (hAT : ∀ b, b < 6 → A b = true → T b = true) (hi : zq_mi J T A l) (hv : v < 6) (hTv : T v = true) (hAv : A v = false)
    (hd : J (v * 6 + v) = 0) (hA' : ∀ b, b < 6 → A' b = (A b || decide (b = v))) : zq_w J A' v = zq_w J A v ∧ ∀ S : Nat → Bool, S l ≠ S v → zq_w J A' v ≤ zq_ca J A' S := by
  have hw := zq_w_add (J := J) hv hAv hA' v
  refine ⟨by omega, fun S hS => ?_⟩
  have hca := zq_ca_add hsy hv hTv hAT hAv hA' S
  have h1 := hi S v hv hTv hAv (Ne.symm hS)
  omega
theorem zq_ca_congr {J : Nat → Nat} {A A' S : Nat → Bool} (h : ∀ b, b < 6 → A b = A' b) : zq_ca J A S = zq_ca J A' S :=
  zq_s2_congr (fun a b ha hb => by rw [h a ha, h b hb])
theorem zq_w_congr {J : Nat → Nat} {A A' : Nat → Bool} (u : Nat) (h : ∀ b, b < 6 → A b = A' b) : zq_w J A u = zq_w J A' u :=
  zq_sum_congr 6 (fun b hb => by rw [h b hb])
theorem zq_ca_one {J : Nat → Nat} {T : Nat → Bool} {t : Nat} (ht : t < 6) (hTt : T t = true) (hd : J (t * 6 + t) = 0) : zq_ca J T (fun x => decide (x = t)) = zq_w J T t := by
  refine Eq.trans (zq_s2_congr (fun a b ha hb => ?_)) (zq_s2_row (fun b => if T b = true then J (t * 6 + b) else 0) ht)
  show (if (T a && T b && decide (a = t) && !decide (b = t)) = true then J (a * 6 + b) else 0) = if a = t then (if T b = true then J (t * 6 + b) else 0) else 0
  by_cases ea : a = t
  · rw [ea]
    by_cases eb : b = t
    · rw [eb]
      simp [hd]
    · simp [eb, hTt]
  · simp [ea]
/-- t put together with s -/
def zq_mg (J : Nat → Nat) (s t : Nat) (j : Nat) : Nat :=
  if j / 6 = s then (if j % 6 = s then 0 else J (s * 6 + j % 6) + J (t * 6 + j % 6)) else if j % 6 = s then J (s * 6 + j / 6) + J (t * 6 + j / 6) else J j
theorem zq_mg_at (J : Nat → Nat) (s t a b : Nat) (hb : b < 6) : zq_mg J s t (a * 6 + b) = if a = s then (if b = s then 0 else J (s * 6 + b) + J (t * 6 + b)) else if b = s then J (s * 6 + a) + J (t * 6 + a) else J (a * 6 + b) := by
  have h1 : (a * 6 + b) / 6 = a := by omega
  have h2 : (a * 6 + b) % 6 = b := by omega
  unfold zq_mg
  rw [h1, h2]
theorem zq_ca_merge {J : Nat → Nat} {T T' : Nat → Bool} {s t : Nat} (hs : s < 6) (ht : t < 6) (hst : s ≠ t) (hTs : T s = true) (hTt : T t = true) (hT' : ∀ b, b < 6 → T' b = (T b && !decide (b = t)))
    (hsy : zq_sy J T) (S : Nat → Bool) : zq_ca (zq_mg J s t) T' S = zq_ca J T (fun x => if x = t then S s else S x) := by
  obtain ⟨F, hF⟩ : ∃ F : Nat → Nat → Nat, ∀ a b, F a b = if (T a && T b && (if a = t then S s else S a) && !(if b = t then S s else S b)) = true then J (a * 6 + b) else 0 := ⟨fun a b => _, fun a b => rfl⟩
  obtain ⟨G, hG⟩ : ∃ G : Nat → Nat → Nat, ∀ a b, G a b = if (T' a && T' b && S a && !S b) = true then zq_mg J s t (a * 6 + b) else 0 := ⟨fun a b => _, fun a b => rfl⟩
  have eF : zq_ca J T (fun x => if x = t then S s else S x) = zq_s2 F := zq_s2_congr (fun a b _ _ => (hF a b).symm)
  have eG : zq_ca (zq_mg J s t) T' S = zq_s2 G := zq_s2_congr (fun a b _ _ => (hG a b).symm)
  have T's : T' s = true := by rw [hT' s hs, hTs]; simp [hst]
  have T't : T' t = false := by rw [hT' t ht]; simp
  have T'o : ∀ a, a < 6 → a ≠ t → T' a = T a := fun a ha h => by rw [hT' a ha]; simp [h]
  have Fss : F s s = 0 := by rw [hF, if_neg hst]; cases S s <;> simp
  have Fst : F s t = 0 := by rw [hF, if_neg hst, if_pos rfl]; cases S s <;> simp
  have Fts : F t s = 0 := by rw [hF, if_pos rfl, if_neg hst]; cases S s <;> simp
  have Ftt : F t t = 0 := by rw [hF, if_pos rfl]; cases S s <;> simp
  have Gt1 : ∀ b, G t b = 0 := fun b => by rw [hG, T't]; simp
  have Gt2 : ∀ a, G a t = 0 := fun a => by rw [hG, T't]; simp
  have Gss : G s s = 0 := by rw [hG]; cases S s <;> simp
  have Gsb : ∀ b, b < 6 → b ≠ s → b ≠ t → G s b = F s b + F t b := fun b hb h1 h2 => by
    rw [hG, hF, hF, if_neg hst, if_pos rfl, if_neg h2, zq_mg_at J s t s b hb, if_pos rfl, if_neg h1, T's, T'o b hb h2, hTs, hTt]
    cases T b <;> cases S s <;> cases S b <;> simp
  have Gas : ∀ a, a < 6 → a ≠ s → a ≠ t → G a s = F a s + F a t := fun a ha h1 h2 => by
    rw [hG, hF, hF, if_neg hst, if_pos rfl, if_neg h2, zq_mg_at J s t a s hs, if_neg h1, if_pos rfl, T's, T'o a ha h2, hTs, hTt]
    cases hq : T a with
    | true =>
      rw [hsy a s ha hs hq hTs, hsy a t ha ht hq hTt]
      cases S s <;> cases S a <;> simp
    | false => simp
  have Gab : ∀ a b, a < 6 → b < 6 → a ≠ s → a ≠ t → b ≠ s → b ≠ t → G a b = F a b := fun a b ha hb h1 h2 h3 h4 => by
    rw [hG, hF, if_neg h2, if_neg h4, zq_mg_at J s t a b hb, if_neg h1, if_neg h3, T'o a ha h2, T'o b hb h4]
  have key : zq_s2 (fun a b => G a b + ((if a = t then F t b else 0) + (if b = t then F a t else 0))) = zq_s2 (fun a b => F a b + ((if a = s then F t b else 0) + (if b = s then F a t else 0))) := by
    refine zq_s2_congr (fun a b ha hb => ?_)
    by_cases a1 : a = t
    · rw [a1, Gt1]
      by_cases b1 : b = t
      · rw [b1]; simp [Ftt, Ne.symm hst]
      · by_cases b2 : b = s
        · rw [b2]; simp [Ftt, Fts, Ne.symm hst, hst]
        · simp [b1, b2, Ne.symm hst]
    · by_cases a2 : a = s
      · rw [a2]
        by_cases b1 : b = t
        · rw [b1, Gt2]; simp [Ftt, Fst, Ne.symm hst, hst]
        · by_cases b2 : b = s
          · rw [b2, Gss]; simp [Fss, Fts, Fst, hst]
          · rw [Gsb b hb b2 b1]; simp [b1, b2, hst]
      · by_cases b1 : b = t
        · rw [b1, Gt2]; simp [a1, a2, Ne.symm hst]
        · by_cases b2 : b = s
          · rw [b2, Gas a ha a2 a1]; simp [a1, a2, hst]
          · rw [Gab a b ha hb a2 a1 b2 b1]; simp [a1, a2, b1, b2]
  rw [zq_s2_add, zq_s2_add, zq_s2_add, zq_s2_add, zq_s2_row _ ht, zq_s2_row _ hs, zq_s2_col _ ht, zq_s2_col _ hs] at key
  have key2 : zq_s2 G + (zq_sum (fun b => F t b) 6 + zq_sum (fun a => F a t) 6) = zq_s2 F + (zq_sum (fun b => F t b) 6 + zq_sum (fun a => F a t) 6) := key
  rw [eF, eG]
  omega
end
section
/-! sets of places as numbers below 64 -/
def zq_del (T t : Nat) : Nat := T &&& (63 ^^^ 2 ^ t)
def zq_card (T : Nat) : Nat := zq_sum (fun b => if T.testBit b = true then 1 else 0) 6
theorem zq_bit : ∀ m, m < 64 → ∀ a, a < 6 → (((nI m >>> (nI a &&& 31)) &&& 1) = 0 ↔ m.testBit a = false) := by decide +kernel
theorem zq_or : ∀ m, m < 64 → ∀ a, a < 6 → nI m ||| ((1 : Int32) <<< (nI a &&& 31)) = nI (m ||| 2 ^ a) ∧ m ||| 2 ^ a < 64 := by decide +kernel
theorem zq_or_tb : ∀ m, m < 64 → ∀ a, a < 6 → ∀ b, b < 6 → (m ||| 2 ^ a).testBit b = (m.testBit b || decide (b = a)) := by decide +kernel
theorem zq_an : ∀ m, m < 64 → ∀ a, a < 6 → nI m &&& (((1 : Int32) <<< (nI a &&& 31)) ^^^ (-1)) = nI (zq_del m a) ∧ zq_del m a < 64 := by decide +kernel
theorem zq_an_tb : ∀ m, m < 64 → ∀ a, a < 6 → ∀ b, b < 6 → (zq_del m a).testBit b = (m.testBit b && !decide (b = a)) := by decide +kernel
theorem zq_sh : ∀ a, a < 6 → (1 : Int32) <<< (nI a &&& 31) = nI (2 ^ a) ∧ 2 ^ a < 64 := by decide +kernel
theorem zq_sh_tb : ∀ a, a < 6 → ∀ b, b < 6 → (2 ^ a : Nat).testBit b = decide (b = a) := by decide +kernel
theorem zq_card_del : ∀ m, m < 64 → ∀ a, a < 6 → m.testBit a = true → zq_card (zq_del m a) + 1 = zq_card m := by decide +kernel
theorem zq_card_or : ∀ m, m < 64 → ∀ a, a < 6 → m.testBit a = false → zq_card (m ||| 2 ^ a) = zq_card m + 1 := by decide +kernel
theorem zq_card_0 : ∀ m, m < 64 → zq_card m = 0 → m = 0 := by decide +kernel
theorem zq_card_1 : ∀ m, m < 64 → ∀ a, a < 6 → ∀ b, b < 6 → (zq_card m = 1 ∧ m.testBit a = true ∧ m.testBit b = true) → a = b := by decide +kernel
theorem zq_card_5 : ∀ m, m < 64 → ∀ a, a < 6 → m.testBit a = false → zq_card m ≤ 5 := by decide +kernel
theorem zq_card_le (m : Nat) : zq_card m ≤ 6 := zq_sum_bd (B := 1) 6 (fun i _ => by split <;> omega)
theorem zq_63 : ∀ b, b < 6 → (63 : Nat).testBit b = true := by decide +kernel
theorem zq_0 (b : Nat) : (0 : Nat).testBit b = false := Nat.zero_testBit b
theorem zq_m1 : ∀ m, m < 64 → ∀ b, b < 6 → m.testBit b = true → 1 ≤ m := by decide +kernel
theorem zq_m63 : ∀ m, m < 64 → ∀ b, b < 6 → m.testBit b = false → m < 63 := by decide +kernel
/-- fewer than are there have been added: one is left -/
theorem zq_card_lt {A T : Nat} (h : zq_card A < zq_card T) : ∃ u, u < 6 ∧ T.testBit u = true ∧ A.testBit u = false := by
  refine Classical.byContradiction (fun hn => ?_)
  have : zq_card T ≤ zq_card A := by
    refine zq_sum_le 6 (fun i hi => ?_)
    cases h1 : T.testBit i with
    | false => simp
    | true =>
      cases h2 : A.testBit i with
      | true => simp
      | false => exact absurd ⟨i, hi, h1, h2⟩ hn
  omega
/-- as many as are there have been added: all -/
theorem zq_card_eq {A T : Nat} (hA : A < 64) (hAT : ∀ b, b < 6 → A.testBit b = true → T.testBit b = true) (h : zq_card A = zq_card T) : ∀ b, b < 6 → A.testBit b = T.testBit b := by
  intro b hb
  cases h1 : A.testBit b with
  | true => exact (hAT b hb h1).symm
  | false =>
    cases h2 : T.testBit b with
    | false => rfl
    | true =>
      exfalso
      have h3 := zq_card_or A hA b hb h1
      have h4 : zq_card (A ||| 2 ^ b) ≤ zq_card T := by
        refine zq_sum_le 6 (fun i hi => ?_)
        rw [zq_or_tb A hA b hb i hi]
        cases h5 : A.testBit i with
        | true => simp [hAT i hi h5]
        | false =>
          by_cases e : i = b
          · rw [e, h2]; simp
          · simp [e]
      omega
/-- a side that has some place and not all -/
def zq_nt (S : Nat → Bool) : Prop := (∃ u, u < 6 ∧ S u = true) ∧ ∃ v, v < 6 ∧ S v = false
/-- the picture ahead of phase p: T there, J between the groups, g each place's group, best the least so far -/
def zq_ph (C : Nat → Nat) (p best T : Nat) (J g : Nat → Nat) : Prop :=
  T < 64 ∧ zq_card T = 6 - p ∧ best ≤ 1048576 ∧ zq_sy J T.testBit ∧ (∀ a, a < 6 → T.testBit a = true → J (a * 6 + a) = 0) ∧
  (∀ a b, a < 6 → b < 6 → T.testBit a = true → T.testBit b = true → J (a * 6 + b) ≤ 30 * 2 ^ p) ∧
  (∀ v, v < 6 → g v < 6 ∧ T.testBit (g v) = true) ∧ (∀ v, v < 6 → T.testBit v = true → g v = v) ∧
  (∀ S : Nat → Bool, zq_cut C (fun v => S (g v)) = zq_ca J T.testBit S) ∧
  (best = 1048576 ∨ ∃ S, zq_nt S ∧ zq_cut C S = best) ∧
  (∀ S, zq_nt S → best ≤ zq_cut C S ∨ ∀ v, v < 6 → S (g v) = S v)
theorem zq_ph_0 {C : Nat → Nat} (sy : ∀ a b, a < 6 → b < 6 → C (a * 6 + b) = C (b * 6 + a)) (dg : ∀ a, a < 6 → C (a * 6 + a) = 0) (bd : ∀ j, j < 36 → C j ≤ 30) : zq_ph C 0 1048576 63 C (fun v => v) := by
  refine ⟨by omega, by decide +kernel, by omega, fun a b ha hb _ _ => sy a b ha hb, fun a ha _ => dg a ha, fun a b ha hb _ _ => ?_, fun v hv => ⟨hv, zq_63 v hv⟩, fun v _ _ => rfl, fun S => ?_, Or.inl rfl, fun S _ => Or.inr (fun v _ => rfl)⟩
  · have := bd (a * 6 + b) (by omega)
    omega
  · refine zq_s2_congr (fun a b ha hb => ?_)
    rw [zq_63 a ha, zq_63 b hb]
    simp
theorem zq_ph_s {C : Nat → Nat} {p best T : Nat} {J g : Nat → Nat} {s t : Nat} (h : zq_ph C p best T J g) (hp : p < 5) (hs : s < 6) (ht : t < 6) (hst : s ≠ t) (hTs : T.testBit s = true) (hTt : T.testBit t = true)
    (hf : ∀ S : Nat → Bool, S s ≠ S t → zq_w J T.testBit t ≤ zq_ca J T.testBit S) {best' : Nat} (hb1 : best' ≤ best) (hb2 : best' ≤ zq_w J T.testBit t) (hb3 : best' = best ∨ best' = zq_w J T.testBit t) :
    zq_ph C (p + 1) best' (zq_del T t) (zq_mg J s t) (fun v => if g v = t then s else g v) := by
  obtain ⟨h1, h2, h3, h4, h5, h6, h7, h8, h9, h10, h11⟩ := h
  have hT' := zq_an_tb T h1 t ht
  have hTT : ∀ a, a < 6 → (zq_del T t).testBit a = true → T.testBit a = true ∧ a ≠ t := by
    intro a ha h
    rw [hT' a ha] at h
    simp at h
    exact h
  refine ⟨(zq_an T h1 t ht).2, ?_, by omega, ?_, ?_, ?_, ?_, ?_, ?_, ?_, ?_⟩
  · have q := zq_card_del T h1 t ht hTt
    clear h10 h11 hb3
    omega
  · intro a b ha hb hTa hTb
    have qa := hTT a ha hTa
    have qb := hTT b hb hTb
    rw [zq_mg_at J s t a b hb, zq_mg_at J s t b a ha]
    by_cases e1 : a = s
    · by_cases e2 : b = s
      · simp [e1, e2]
      · simp [e1, e2]
    · by_cases e2 : b = s
      · simp [e1, e2]
      · simp only [e1, e2, if_false]
        exact h4 a b ha hb qa.1 qb.1
  · intro a ha hTa
    have qa := hTT a ha hTa
    rw [zq_mg_at J s t a a ha]
    by_cases e1 : a = s
    · simp [e1]
    · simp only [e1, if_false]
      exact h5 a ha qa.1
  · intro a b ha hb hTa hTb
    have qa := hTT a ha hTa
    have qb := hTT b hb hTb
    have e2 : 30 * 2 ^ (p + 1) = 30 * 2 ^ p + 30 * 2 ^ p := by rw [Nat.pow_succ]; omega
    rw [zq_mg_at J s t a b hb, e2]
    have b1 := h6 s b hs hb hTs qb.1
    have b2 := h6 t b ht hb hTt qb.1
    have b3 := h6 s a hs ha hTs qa.1
    have b4 := h6 t a ht ha hTt qa.1
    have b5 := h6 a b ha hb qa.1 qb.1
    generalize 30 * 2 ^ p = Z at *
    split
    · split <;> omega
    · split <;> omega
  · intro v hv
    have hg := h7 v hv
    by_cases e : g v = t
    · simp only [e, if_true]
      refine ⟨hs, ?_⟩
      rw [hT' s hs, hTs]
      simp [hst]
    · simp only [e, if_false]
      refine ⟨hg.1, ?_⟩
      rw [hT' (g v) hg.1, hg.2]
      simp [e]
  · intro v hv hTv
    have q := hTT v hv hTv
    have hg := h8 v hv q.1
    simp only [hg, q.2, if_false]
  · intro S
    rw [zq_ca_merge hs ht hst hTs hTt hT' h4 S, ← h9]
    refine zq_cut_congr (fun _ _ => rfl) (fun v _ => ?_)
    show S (if g v = t then s else g v) = if g v = t then S s else S (g v)
    split <;> rfl
  · rcases hb3 with e | e
    · rw [e]
      exact h10
    · refine Or.inr ⟨fun v => decide (g v = t), ⟨⟨t, ht, ?_⟩, ⟨s, hs, ?_⟩⟩, ?_⟩
      · simp [h8 t ht hTt]
      · simp [h8 s hs hTs, hst]
      · rw [e, ← zq_ca_one ht hTt (h5 t ht hTt)]
        exact h9 (fun x => decide (x = t))
  · intro S hS
    rcases h11 S hS with q | q
    · exact Or.inl (by omega)
    · by_cases e : S s = S t
      · refine Or.inr (fun v hv => ?_)
        show S (if g v = t then s else g v) = S v
        by_cases e2 : g v = t
        · rw [if_pos e2, e, ← e2]
          exact q v hv
        · rw [if_neg e2]
          exact q v hv
      · refine Or.inl ?_
        have k1 := hf S e
        have k2 := h9 S
        have k3 : zq_cut C (fun v => S (g v)) = zq_cut C S := zq_cut_congr (fun _ _ => rfl) q
        omega
theorem zq_ph_5 {C : Nat → Nat} {best T : Nat} {J g : Nat → Nat} (h : zq_ph C 5 best T J g) (hc : ∀ S, zq_cut C S < 128) : (∃ S, zq_nt S ∧ zq_cut C S = best) ∧ ∀ S, zq_nt S → best ≤ zq_cut C S := by
  obtain ⟨h1, h2, h3, h4, h5, h6, h7, h8, h9, h10, h11⟩ := h
  have hall : ∀ S, zq_nt S → best ≤ zq_cut C S := by
    intro S hS
    rcases h11 S hS with q | q
    · exact q
    · exfalso
      obtain ⟨⟨u, hu, hSu⟩, ⟨v, hv, hSv⟩⟩ := hS
      have e := zq_card_1 T h1 (g u) (h7 u hu).1 (g v) (h7 v hv).1 ⟨h2, (h7 u hu).2, (h7 v hv).2⟩
      have e1 := q u hu
      have e2 := q v hv
      rw [e, e2, hSu, hSv] at e1
      exact absurd e1 (by decide)
  refine ⟨?_, hall⟩
  rcases h10 with e | e
  · exfalso
    have k := hall (fun x => decide (x = 0)) ⟨⟨0, by omega, rfl⟩, ⟨1, by omega, rfl⟩⟩
    have k2 := hc (fun x => decide (x = 0))
    omega
  · exact e
end
section
/-! the walk: merge, tightest, least -/
theorem zq_in {A B : Prop} {p0 p1 : Int32} (m a : Nat) (hm : m < 64) (ha : a < 6) (f : m.testBit a = false → A) (t : m.testBit a = true → B) (h0 : p0 = nI m := by rfl) (h1 : p1 = nI a := by rfl) :
    wpX_in (fun r => (r = 0 → A) ∧ (¬ r = 0 → B)) () p0 p1 := by
  subst h0 h1
  unfold wpX_in
  refine ⟨fun h => ⟨fun _ => f ((zq_bit m hm a ha).mp h), fun z => absurd rfl z⟩, fun h => ⟨fun z => absurd z (by decide), fun _ => t ?_⟩⟩
  cases hq : m.testBit a with
  | true => rfl
  | false => exact absurd ((zq_bit m hm a ha).mpr hq) h
theorem zq_ix (a b : Nat) : nI a * 6 + nI b = nI (a * 6 + b) := by
  rw [show (6 : Int32) = nI 6 from rfl, pk_mul, nI_add]
theorem zq_ixc {a b : Nat} (ha : a < 6) (hb : b < 6) : (nI a * 6 + nI b).toNatClampNeg = a * 6 + b := by
  rw [zq_ix, nI_clamp (by omega)]
theorem zq_ixin {a b : Nat} (ha : a < 6) (hb : b < 6) : vp_in (nI a * 6 + nI b) 36 := pk_in (a * 6 + b) 36 (by omega) (zq_ix a b)
theorem zq_fill {f s : Nat → Int32} {i k : Nat} {x : Int32} (hk : k = i) (h : ∀ j, j < i → s j = f j) (hx : x = f i) : ∀ j, j < i + 1 → upd s k x j = f j := by
  intro j hj
  rw [hk]
  by_cases e : j = i
  · rw [e, pk_us, hx]
  · rw [pk_un e]
    exact h j (by omega)
/-- merge's loop at c -/
def zq_mgI (a5 : Nat → Int32) (s t c : Nat) (q : Nat → Int32) : Prop :=
  (∀ b, b < 6 → b ≠ s → b ≠ t → q (s * 6 + b) = if b < c then a5 (s * 6 + b) + a5 (t * 6 + b) else a5 (s * 6 + b)) ∧
  (∀ a, a < 6 → a ≠ s → a ≠ t → q (a * 6 + s) = if a < c then a5 (s * 6 + a) + a5 (t * 6 + a) else a5 (a * 6 + s)) ∧
  (∀ a b, a < 6 → b < 6 → a ≠ s → b ≠ s → a ≠ t → b ≠ t → q (a * 6 + b) = a5 (a * 6 + b)) ∧
  (∀ b, b < 6 → b ≠ s → q (t * 6 + b) = a5 (t * 6 + b))
theorem zq_mgI_s {a5 q : Nat → Int32} {s t c : Nat} (hs : s < 6) (ht : t < 6) (hst : s ≠ t) (hc : c < 6) (h : zq_mgI a5 s t c q) :
    zq_mgI a5 s t (c + 1) (upd (upd q (s * 6 + c) (q (s * 6 + c) + q (t * 6 + c))) (c * 6 + s) (upd q (s * 6 + c) (q (s * 6 + c) + q (t * 6 + c)) (s * 6 + c))) := by
  obtain ⟨m1, m2, m3, m4⟩ := h
  rw [pk_us]
  refine ⟨?_, ?_, ?_, ?_⟩
  · intro b hb h1 h2
    rw [pk_un (show s * 6 + b ≠ c * 6 + s by omega)]
    by_cases e : c = b
    · subst e
      rw [pk_us, m1 c hc h1 h2, m4 c hc h1, if_neg (Nat.lt_irrefl c), if_pos (Nat.lt_succ_self c)]
    · rw [pk_un (show s * 6 + b ≠ s * 6 + c by omega), m1 b hb h1 h2]
      by_cases lt : b < c
      · rw [if_pos lt, if_pos (show b < c + 1 by omega)]
      · rw [if_neg lt, if_neg (show ¬ b < c + 1 by omega)]
  · intro a ha h1 h2
    by_cases e : c = a
    · subst e
      rw [pk_us, m1 c hc h1 h2, m4 c hc h1, if_neg (Nat.lt_irrefl c), if_pos (Nat.lt_succ_self c)]
    · rw [pk_un (show a * 6 + s ≠ c * 6 + s by omega), pk_un (show a * 6 + s ≠ s * 6 + c by omega), m2 a ha h1 h2]
      by_cases lt : a < c
      · rw [if_pos lt, if_pos (show a < c + 1 by omega)]
      · rw [if_neg lt, if_neg (show ¬ a < c + 1 by omega)]
  · intro a b ha hb h1 h2 h3 h4
    rw [pk_un (show a * 6 + b ≠ c * 6 + s by omega), pk_un (show a * 6 + b ≠ s * 6 + c by omega), m3 a b ha hb h1 h2 h3 h4]
  · intro b hb h1
    rw [pk_un (show t * 6 + b ≠ c * 6 + s by omega), pk_un (show t * 6 + b ≠ s * 6 + c by omega), m4 b hb h1]
theorem zq_mgI_x {a5 q : Nat → Int32} {s t : Nat} (hs : s < 6) (h : zq_mgI a5 s t 6 q) (a b : Nat) (ha : a < 6) (hb : b < 6) (hat : a ≠ t) (hbt : b ≠ t) :
    upd q (s * 6 + s) 0 (a * 6 + b) = if a = s then (if b = s then 0 else a5 (s * 6 + b) + a5 (t * 6 + b)) else if b = s then a5 (s * 6 + a) + a5 (t * 6 + a) else a5 (a * 6 + b) := by
  obtain ⟨m1, m2, m3, m4⟩ := h
  by_cases ea : a = s
  · by_cases eb : b = s
    · rw [if_pos ea, if_pos eb, ea, eb, pk_us]
    · rw [if_pos ea, if_neg eb, pk_un (by omega), ea, m1 b hb eb hbt, if_pos hb]
  · by_cases eb : b = s
    · rw [if_neg ea, if_pos eb, pk_un (by omega), eb, m2 a ha ea hat, if_pos ha]
    · rw [if_neg ea, if_neg eb, pk_un (by omega), m3 a b ha hb ea eb hat hbt]
theorem zq_merge {post : St2 → Prop} {f : Int32} {a1 a2 a3 a4 a5 a6 a7 a8 : Nat → Int32} {s t : Nat} (hs : s < 6) (ht : t < 6) (hst : s ≠ t)
    (H : ∀ q : Nat → Int32, (∀ a b, a < 6 → b < 6 → a ≠ t → b ≠ t → q (a * 6 + b) = if a = s then (if b = s then 0 else a5 (s * 6 + b) + a5 (t * 6 + b)) else if b = s then a5 (s * 6 + a) + a5 (t * 6 + a) else a5 (a * 6 + b)) → post (f, a1, a2, a3, a4, q, a6, a7, a8)) :
    wpX_merge post (f, a1, a2, a3, a4, a5, a6, a7, a8) (nI s) (nI t) := by
  refine pk_loop (fun n i q => wX_merge_2 post (nI s) (nI t) f n (nI i) a1 a2 a3 a4 q a6 a7 a8) (fun c q => zq_mgI a5 s t c q) 6 0 a5 (by omega) ?_ ?_ ?_
  · exact ⟨fun b _ _ _ => (if_neg (Nat.not_lt_zero b)).symm, fun a _ _ _ => (if_neg (Nat.not_lt_zero a)).symm, fun _ _ _ _ _ _ _ _ => rfl, fun _ _ _ => rfl⟩
  · intro n q hq
    exact pk_le 6 6 (fun _ => ⟨zq_ixin hs hs, nm_r (e' := upd q (s * 6 + s) 0) (by rw [zq_ixc hs hs]) (H _ (fun a b ha hb h1 h2 => zq_mgI_x hs hq a b ha hb h1 h2))⟩) (fun z => absurd z (by omega))
  · intro n c q hc hq hw
    exact pk_le 6 c (fun z => absurd z (by omega)) (fun _ => ⟨zq_ixin hs hc, zq_ixin ht hc, zq_ixin hs hc,
      nm_r (e' := upd q (s * 6 + c) (q (s * 6 + c) + q (t * 6 + c))) (by rw [zq_ixc hs hc, zq_ixc ht hc]) ⟨zq_ixin hs hc, zq_ixin hc hs,
        nm_r (e' := upd (upd q (s * 6 + c) (q (s * 6 + c) + q (t * 6 + c))) (c * 6 + s) (upd q (s * 6 + c) (q (s * 6 + c) + q (t * 6 + c)) (s * 6 + c))) (by rw [zq_ixc hs hc, zq_ixc hc hs]) (nm_r (nI_1 c) (hw _ (zq_mgI_s hs ht hst hc hq)))⟩⟩)
theorem zq_t36 {post : Int32 → St2 → Prop} {J5 : Int32 → Int32 → (Nat → Int32) → (Nat → Int32) → (Nat → Int32) → (Nat → Int32) → (Nat → Int32) → (Nat → Int32) → (Nat → Int32) → (Nat → Int32) → Prop} {x1 x3 f : Int32} {a1 a2 a3 a4 a5 a6 a7 a8 : Nat → Int32} {A a : Nat} {J : Nat → Nat}
    (hA : A < 64) (ha : a < 6) (hJ : ∀ b, b < 6 → A.testBit b = true → a5 (a * 6 + b) = nI (J (a * 6 + b)))
    (H : (x3 < 0 → J5 (nI a) (nI (a + 1)) a1 a2 a3 a4 a5 (upd a6 a (nI (zq_w J A.testBit a))) a7 a8) ∧ (¬ x3 < 0 → vp_in x3 6 ∧ ((nI (zq_w J A.testBit a) ≤ upd a6 a (nI (zq_w J A.testBit a)) x3.toNatClampNeg → J5 x3 (nI (a + 1)) a1 a2 a3 a4 a5 (upd a6 a (nI (zq_w J A.testBit a))) a7 a8) ∧ (¬ nI (zq_w J A.testBit a) ≤ upd a6 a (nI (zq_w J A.testBit a)) x3.toNatClampNeg → J5 (nI a) (nI (a + 1)) a1 a2 a3 a4 a5 (upd a6 a (nI (zq_w J A.testBit a))) a7 a8)))) :
    ∃ n, wX_tightest_36 post J5 x1 (nI A) x3 (nI a) f a1 a2 a3 a4 a5 a6 a7 a8 n 0 0 := by
  refine pk_loop (σ := Unit) (fun n i _ => wX_tightest_36 post J5 x1 (nI A) x3 (nI a) f a1 a2 a3 a4 a5 a6 a7 a8 n (nI (zq_sum (fun b => if A.testBit b = true then J (a * 6 + b) else 0) i)) (nI i)) (fun _ _ => True) 6 0 () (by omega) trivial ?_ ?_
  · intro n _ _
    exact pk_le 6 6 (fun _ => ⟨pk_in a 6 ha, nm_r (e' := upd a6 a (nI (zq_w J A.testBit a))) (by rw [nI_clamp (by omega)]; rfl)
      ⟨fun h => nm_r (nI_1 a) (H.1 h), fun h => ⟨(H.2 h).1, fun h2 => nm_r (nI_1 a) ((H.2 h).2.1 h2), fun h2 => nm_r (nI_1 a) ((H.2 h).2.2 h2)⟩⟩⟩) (fun z => absurd z (by omega))
  · intro n i _ hi _ hw
    refine pk_le 6 i (fun z => absurd z (by omega)) (fun _ => zq_in A i hA hi (fun h => ?_) (fun h => ?_))
    · exact nm_r (e' := nI (zq_sum (fun b => if A.testBit b = true then J (a * 6 + b) else 0) (i + 1))) (by rw [zq_sum_s, if_neg (by rw [h]; decide), ← nI_add]; rfl) (nm_r (nI_1 i) (hw () trivial))
    · exact ⟨zq_ixin ha hi, nm_r (e' := nI (zq_sum (fun b => if A.testBit b = true then J (a * 6 + b) else 0) (i + 1))) (by rw [zq_sum_s, if_pos h, ← nI_add, zq_ixc ha hi, hJ i hi h]) (nm_r (nI_1 i) (hw () trivial))⟩
/-- tightest's loop at c: x3 the best so far, q the tightness kept -/
def zq_tI (w : Nat → Nat) (T A c : Nat) (x3 : Int32) (q : Nat → Int32) : Prop :=
  ((x3 = -1 ∧ ∀ u, u < c → T.testBit u = true → A.testBit u = false → False) ∨ (∃ v, v < c ∧ T.testBit v = true ∧ A.testBit v = false ∧ x3 = nI v ∧ ∀ u, u < c → T.testBit u = true → A.testBit u = false → w u ≤ w v)) ∧
  (∀ u, u < c → T.testBit u = true → A.testBit u = false → q u = nI (w u))
theorem zq_tI_skip {w : Nat → Nat} {T A c : Nat} {x3 : Int32} {q : Nat → Int32} (h : zq_tI w T A c x3 q) (hn : T.testBit c = true → A.testBit c = false → False) : zq_tI w T A (c + 1) x3 q := by
  obtain ⟨h1, h2⟩ := h
  have up : ∀ u, u < c + 1 → T.testBit u = true → A.testBit u = false → u < c := by
    intro u hu hT hA
    rcases Nat.lt_or_ge u c with z | z
    · exact z
    · have e : u = c := by omega
      rw [e] at hT hA
      exact (hn hT hA).elim
  refine ⟨?_, fun u hu hT hA => h2 u (up u hu hT hA) hT hA⟩
  rcases h1 with ⟨e, g⟩ | ⟨v, hv, h3, h4, h5, h6⟩
  · exact Or.inl ⟨e, fun u hu hT hA => g u (up u hu hT hA) hT hA⟩
  · exact Or.inr ⟨v, by omega, h3, h4, h5, fun u hu hT hA => h6 u (up u hu hT hA) hT hA⟩
theorem zq_tightest {post : Int32 → St2 → Prop} {f : Int32} {a1 a2 a3 a4 a5 a6 a7 a8 : Nat → Int32} {T A : Nat} {J : Nat → Nat} (hT : T < 64) (hA : A < 64)
    (hJ : ∀ a b, a < 6 → b < 6 → T.testBit a = true → A.testBit b = true → a5 (a * 6 + b) = nI (J (a * 6 + b))) (hwb : ∀ a, a < 6 → T.testBit a = true → zq_w J A.testBit a < 2 ^ 31)
    (hex : ∃ u, u < 6 ∧ T.testBit u = true ∧ A.testBit u = false)
    (H : ∀ (v : Nat) (q : Nat → Int32), v < 6 → T.testBit v = true → A.testBit v = false → (∀ u, u < 6 → T.testBit u = true → A.testBit u = false → zq_w J A.testBit u ≤ zq_w J A.testBit v) → q v = nI (zq_w J A.testBit v) → post (nI v) (f, a1, a2, a3, a4, a5, q, a7, a8)) :
    wpX_tightest post (f, a1, a2, a3, a4, a5, a6, a7, a8) (nI T) (nI A) := by
  refine pk_loop (σ := Int32 × (Nat → Int32)) (fun n i s => wX_tightest_5 post (nI T) (nI A) f n s.1 (nI i) a1 a2 a3 a4 a5 s.2 a7 a8) (fun i s => zq_tI (zq_w J A.testBit) T A i s.1 s.2) 6 0 (-1, a6) (by omega) ?_ ?_ ?_
  · exact ⟨Or.inl ⟨rfl, fun u hu => absurd hu (Nat.not_lt_zero u)⟩, fun u hu => absurd hu (Nat.not_lt_zero u)⟩
  · intro n s hI
    obtain ⟨x3, q⟩ := s
    obtain ⟨h1, h2⟩ := hI
    refine pk_le 6 6 (fun _ => ?_) (fun z => absurd z (by omega))
    rcases h1 with ⟨e, g⟩ | ⟨v, hv, h3, h4, h5, h6⟩
    · obtain ⟨u, hu, k1, k2⟩ := hex
      exact (g u hu k1 k2).elim
    · have e : x3 = nI v := h5
      subst e
      exact H v q hv h3 h4 h6 (h2 v hv h3 h4)
  · intro n i s hi hI hw
    obtain ⟨x3, q⟩ := s
    refine pk_le 6 i (fun z => absurd z (by omega)) (fun _ => zq_in T i hT hi (fun h => ?_) (fun h => ?_))
    · exact nm_r (nI_1 i) (hw (x3, q) (zq_tI_skip hI (fun z _ => by rw [h] at z; exact absurd z (by decide))))
    · refine zq_in A i hA hi (fun h2 => ?_) (fun h2 => ?_)
      · refine zq_t36 (J := J) hA hi (fun b hb hAb => hJ i b hi hb h hAb) ?_
        have hI1 := hI.1
        have hI2 := hI.2
        have keep : ∀ u, u < i + 1 → T.testBit u = true → A.testBit u = false → upd q i (nI (zq_w J A.testBit i)) u = nI (zq_w J A.testBit u) := by
          intro u hu k1 k2
          by_cases e : u = i
          · rw [e, pk_us]
          · rw [pk_un e]
            exact hI2 u (by omega) k1 k2
        rcases hI1 with ⟨e, g⟩ | ⟨v, hv, h3, h4, h5, h6⟩
        · refine ⟨fun _ => hw (nI i, upd q i (nI (zq_w J A.testBit i))) ⟨Or.inr ⟨i, by omega, h, h2, rfl, ?_⟩, keep⟩, fun z => absurd ?_ z⟩
          · intro u hu k1 k2
            by_cases e2 : u = i
            · rw [e2]
              exact Nat.le_refl _
            · exact (g u (by omega) k1 k2).elim
          · have e' : x3 = -1 := e
            rw [e']
            show (-1 : Int32) < 0
            decide
        · have e' : x3 = nI v := h5
          subst e'
          refine ⟨fun z => absurd z (nI_pos (by omega)), fun _ => ⟨vp_in_nI (by omega) (by omega), ?_⟩⟩
          have e2 : upd q i (nI (zq_w J A.testBit i)) (nI v).toNatClampNeg = nI (zq_w J A.testBit v) := by
            rw [nI_clamp (by omega)]
            exact keep v (by omega) h3 h4
          rw [e2]
          refine pk_le (zq_w J A.testBit i) (zq_w J A.testBit v) (fun z => hw (nI v, upd q i (nI (zq_w J A.testBit i))) ⟨Or.inr ⟨v, by omega, h3, h4, rfl, ?_⟩, keep⟩) (fun z => hw (nI i, upd q i (nI (zq_w J A.testBit i))) ⟨Or.inr ⟨i, by omega, h, h2, rfl, ?_⟩, keep⟩) rfl rfl (hwb i hi h) (hwb v (by omega) h3)
          · intro u hu k1 k2
            by_cases e3 : u = i
            · rw [e3]
              exact z
            · exact h6 u (by omega) k1 k2
          · intro u hu k1 k2
            by_cases e3 : u = i
            · rw [e3]
              exact Nat.le_refl _
            · have := h6 u (by omega) k1 k2
              omega
      · exact nm_r (nI_1 i) (hw (x3, q) (zq_tI_skip hI (fun _ z => by rw [h2] at z; exact absurd z (by decide))))
/-- the inner loop of least at k: x4 added last, x5 before it, x6 all added -/
def zq_lI (J : Nat → Nat) (p T k : Nat) (x4 x5 x6 : Int32) (q : Nat → Int32) : Prop :=
  p ≤ k ∧ ∃ A l : Nat, A < 64 ∧ x6 = nI A ∧ (∀ b, b < 6 → A.testBit b = true → T.testBit b = true) ∧ zq_card A = k - p ∧ zq_mi J T.testBit A.testBit l ∧
    (p < k → x4 = nI l ∧ l < 6 ∧ A.testBit l = true) ∧
    (p + 1 < k → ∃ s, x5 = nI s ∧ s < 6 ∧ T.testBit s = true ∧ s ≠ l ∧ q l = nI (zq_w J A.testBit l) ∧ ∀ S : Nat → Bool, S s ≠ S l → zq_w J A.testBit l ≤ zq_ca J A.testBit S)
theorem zq_w_bd {J : Nat → Nat} {A T : Nat} {p a : Nat} (hp : p < 5) (ha : a < 6) (hTa : T.testBit a = true) (hAT : ∀ b, b < 6 → A.testBit b = true → T.testBit b = true)
    (h6 : ∀ a b, a < 6 → b < 6 → T.testBit a = true → T.testBit b = true → J (a * 6 + b) ≤ 30 * 2 ^ p) : zq_w J A.testBit a < 2 ^ 31 := by
  have h : zq_w J A.testBit a ≤ 6 * (30 * 2 ^ p) := by
    refine zq_sum_bd 6 (fun b hb => ?_)
    by_cases e : A.testBit b = true
    · rw [if_pos e]
      exact h6 a b ha hb hTa (hAT b hb e)
    · rw [if_neg e]
      exact Nat.zero_le _
  have h2 : 2 ^ p ≤ 2 ^ 5 := Nat.pow_le_pow_right (by omega) (by omega)
  omega
theorem zq_phase {post : Int32 → St2 → Prop} {J34 : Int32 → Int32 → Int32 → Int32 → (Nat → Int32) → (Nat → Int32) → (Nat → Int32) → (Nat → Int32) → (Nat → Int32) → (Nat → Int32) → (Nat → Int32) → (Nat → Int32) → Prop}
    {C : Nat → Nat} {p best T : Nat} {J g : Nat → Nat} {f : Int32} {a1 a2 a3 a4 a5 a6 a7 a8 : Nat → Int32} (hph : zq_ph C p best T J g) (hp : p < 5)
    (hJ : ∀ a b, a < 6 → b < 6 → T.testBit a = true → T.testBit b = true → a5 (a * 6 + b) = nI (J (a * 6 + b)))
    (H : ∀ (best' T' : Nat) (J' g' : Nat → Nat) (q q6 : Nat → Int32), zq_ph C (p + 1) best' T' J' g' → (∀ a b, a < 6 → b < 6 → T'.testBit a = true → T'.testBit b = true → q (a * 6 + b) = nI (J' (a * 6 + b))) → J34 (nI best') (nI T') (nI (p + 1)) f a1 a2 a3 a4 q q6 a7 a8) :
    ∃ n, wX_least_51 post J34 (nI best) (nI T) (nI p) n (-1) (-1) 0 (nI p) f a1 a2 a3 a4 a5 a6 a7 a8 := by
  obtain ⟨h1, h2, h3, h4, h5, h6, h7, h8, h9, h10, h11⟩ := hph
  have hph : zq_ph C p best T J g := ⟨h1, h2, h3, h4, h5, h6, h7, h8, h9, h10, h11⟩
  refine pk_loop (σ := Int32 × Int32 × Int32 × (Nat → Int32)) (fun n i s => wX_least_51 post J34 (nI best) (nI T) (nI p) n s.1 s.2.1 s.2.2.1 (nI i) f a1 a2 a3 a4 a5 s.2.2.2 a7 a8) (fun i s => zq_lI J p T i s.1 s.2.1 s.2.2.1 s.2.2.2) 6 p (-1, -1, 0, a6) (by omega) ?_ ?_ ?_
  · exact ⟨Nat.le_refl p, 0, 0, by omega, rfl, fun b _ z => absurd z (by rw [zq_0]; decide), by rw [Nat.sub_self]; decide +kernel, zq_mi_0 (fun b _ => zq_0 b), fun z => absurd z (by omega), fun z => absurd z (by omega)⟩
  · intro n s hI
    obtain ⟨x4, x5, x6, q6⟩ := s
    obtain ⟨_, A, l, hA, e6, hAT, hc, hmi, hl, hs⟩ := hI
    obtain ⟨e4, hl6, hAl⟩ := hl (by omega)
    obtain ⟨s, e5, hs6, hTs, hsl, hq, hfin⟩ := hs (by omega)
    have e4' : x4 = nI l := e4
    have e5' : x5 = nI s := e5
    subst e4' e5'
    have hall := zq_card_eq hA hAT (by omega)
    have ew : zq_w J A.testBit l = zq_w J T.testBit l := zq_w_congr l hall
    have hTl := hAT l hl6 hAl
    have hq' : q6 l = nI (zq_w J T.testBit l) := by
      rw [← ew]
      exact hq
    have hfin' : ∀ S : Nat → Bool, S s ≠ S l → zq_w J T.testBit l ≤ zq_ca J T.testBit S := by
      intro S hS
      have k := hfin S hS
      rw [ew, zq_ca_congr hall] at k
      exact k
    have hwb : zq_w J T.testBit l < 2 ^ 31 := zq_w_bd hp hl6 hTl (fun _ _ z => z) h6
    have hdel := zq_an T h1 l hl6
    have fin : ∀ best', best' ≤ best → best' ≤ zq_w J T.testBit l → (best' = best ∨ best' = zq_w J T.testBit l) → wX_least_108 post J34 (nI T) (nI p) (nI l) (nI s) (nI best') f a1 a2 a3 a4 a5 q6 a7 a8 := by
      intro best' b1 b2 b3
      unfold wX_least_108
      refine zq_merge hs6 hl6 hsl (fun q hq5 => ?_)
      refine nm_r hdel.1 (nm_r (nI_1 p) (H best' (zq_del T l) (zq_mg J s l) _ q q6 (zq_ph_s hph hp hs6 hl6 hsl hTs hTl hfin' b1 b2 b3) ?_))
      intro a b ha hb hTa hTb
      rw [zq_an_tb T h1 l hl6 a ha] at hTa
      rw [zq_an_tb T h1 l hl6 b hb] at hTb
      have ka : T.testBit a = true ∧ a ≠ l := by simpa using hTa
      have kb : T.testBit b = true ∧ b ≠ l := by simpa using hTb
      rw [hq5 a b ha hb ka.2 kb.2, zq_mg_at J s l a b hb]
      by_cases ea : a = s
      · by_cases eb : b = s
        · rw [if_pos ea, if_pos eb, if_pos ea, if_pos eb]
          rfl
        · rw [if_pos ea, if_neg eb, if_pos ea, if_neg eb, hJ s b hs6 hb hTs kb.1, hJ l b hl6 hb hTl kb.1, nI_add]
      · by_cases eb : b = s
        · rw [if_neg ea, if_pos eb, if_neg ea, if_pos eb, hJ s a hs6 ha hTs ka.1, hJ l a hl6 ha hTl ka.1, nI_add]
        · rw [if_neg ea, if_neg eb, if_neg ea, if_neg eb, hJ a b ha hb ka.1 kb.1]
    refine pk_le 6 6 (fun _ => ⟨vp_in_nI hl6 (by omega), ?_⟩) (fun z => absurd z (by omega))
    have ecl : q6 (nI l).toNatClampNeg = nI (zq_w J T.testBit l) := by
      rw [nI_clamp (by omega)]
      exact hq'
    show (nI best ≤ q6 (nI l).toNatClampNeg → _) ∧ (¬ nI best ≤ q6 (nI l).toNatClampNeg → vp_in (nI l) 6 ∧ wX_least_108 post J34 (nI T) (nI p) (nI l) (nI s) (q6 (nI l).toNatClampNeg) f a1 a2 a3 a4 a5 q6 a7 a8)
    rw [ecl]
    exact pk_le best (zq_w J T.testBit l) (fun z => fin best (Nat.le_refl _) z (Or.inl rfl)) (fun z => ⟨vp_in_nI hl6 (by omega), fin (zq_w J T.testBit l) (by omega) (Nat.le_refl _) (Or.inr rfl)⟩) rfl rfl (by omega) hwb
  · intro n k s hk hI hw
    obtain ⟨x4, x5, x6, q6⟩ := s
    obtain ⟨hpk, A, l, hA, e6, hAT, hc, hmi, hl, hs⟩ := hI
    have e6' : x6 = nI A := e6
    subst e6'
    refine pk_le 6 k (fun z => absurd z (by omega)) (fun _ => ?_)
    refine zq_tightest (J := J) h1 hA (fun a b ha hb hTa hAb => hJ a b ha hb hTa (hAT b hb hAb)) (fun a ha hTa => zq_w_bd hp ha hTa hAT h6) (zq_card_lt (by clear h10 h11 hs hl; omega)) ?_
    intro v q hv hTv hAv hmax hqv
    have hA' := zq_or_tb A hA v hv
    have hfin := zq_mi_fin h4 hAT hmi hv hTv hAv (h5 v hv hTv) hA'
    refine nm_r (zq_or A hA v hv).1 (nm_r (nI_1 k) (hw (nI v, x4, nI (A ||| 2 ^ v), q) ⟨by omega, A ||| 2 ^ v, v, (zq_or A hA v hv).2, rfl, ?_, ?_, zq_mi_step h4 hAT hmi hv hTv hAv hmax hA', ?_, ?_⟩))
    · intro b hb hz
      rw [hA' b hb] at hz
      by_cases e : b = v
      · rw [e]
        exact hTv
      · exact hAT b hb (by simpa [e] using hz)
    · have q9 := zq_card_or A hA v hv hAv
      clear h10 h11 hs hl hfin
      omega
    · intro _
      refine ⟨rfl, hv, ?_⟩
      rw [hA' v hv]
      simp
    · intro z
      obtain ⟨e4, hl6, hAl⟩ := hl (by omega)
      refine ⟨l, e4, hl6, hAT l hl6 hAl, ?_, ?_, hfin.2⟩
      · intro e
        rw [e, hAv] at hAl
        exact absurd hAl (by decide)
      · rw [hfin.1]
        exact hqv
/-- the capacities: C by cells -/
def zq_ok (a1 : Nat → Int32) (C : Nat → Nat) : Prop :=
  (∀ j, j < 36 → a1 j = nI (C j)) ∧ (∀ a b, a < 6 → b < 6 → C (a * 6 + b) = C (b * 6 + a)) ∧ (∀ a, a < 6 → C (a * 6 + a) = 0) ∧ (∀ j, j < 36 → C j ≤ 30) ∧ ∀ S, zq_cut C S < 128
/-- L is the least cost of a side -/
def zq_min (C : Nat → Nat) (L : Nat) : Prop := (∃ S, zq_nt S ∧ zq_cut C S = L) ∧ ∀ S, zq_nt S → L ≤ zq_cut C S
theorem zq_least {post : Int32 → St2 → Prop} {C : Nat → Nat} {f : Int32} {a1 a2 a3 a4 a5 a6 a7 a8 : Nat → Int32} (hC : zq_ok a1 C)
    (H : ∀ (L : Nat) (q5 q6 : Nat → Int32), zq_min C L → post (nI L) (f, a1, a2, a3, a4, q5, q6, a7, a8)) : wpX_least post (f, a1, a2, a3, a4, a5, a6, a7, a8) := by
  obtain ⟨c1, c2, c3, c4, c5⟩ := hC
  refine pk_loop (fun n i q => wX_least_2 post f n (nI i) a1 a2 a3 a4 q a6 a7 a8) (fun i q => ∀ j, j < i → q j = a1 j) 36 0 a5 (by omega) (fun j hj => absurd hj (Nat.not_lt_zero j)) ?_ ?_
  · intro n q5 hq
    refine pk_le 36 36 (fun _ => ?_) (fun z => absurd z (by omega))
    refine pk_loop (σ := Int32 × Int32 × (Nat → Int32) × (Nat → Int32)) (fun n i s => wX_least_34 post n s.1 s.2.1 (nI i) f a1 a2 a3 a4 s.2.2.1 s.2.2.2 a7 a8)
      (fun i s => ∃ (best T : Nat) (J g : Nat → Nat), s.1 = nI best ∧ s.2.1 = nI T ∧ zq_ph C i best T J g ∧ ∀ a b, a < 6 → b < 6 → T.testBit a = true → T.testBit b = true → s.2.2.1 (a * 6 + b) = nI (J (a * 6 + b))) 5 0 (1048576, 63, q5, a6) (by omega) ?_ ?_ ?_
    · exact ⟨1048576, 63, C, fun v => v, rfl, rfl, zq_ph_0 c2 c3 c4, fun a b ha hb _ _ => by rw [← c1 (a * 6 + b) (by omega)]; exact hq (a * 6 + b) (by omega)⟩
    · intro n s hI
      obtain ⟨x1, x2, r5, r6⟩ := s
      obtain ⟨best, T, J, g, e1, e2, hph, _⟩ := hI
      have e1' : x1 = nI best := e1
      subst e1'
      exact pk_le 5 5 (fun _ => H best r5 r6 (zq_ph_5 hph c5)) (fun z => absurd z (by omega))
    · intro n p s hp hI hw
      obtain ⟨x1, x2, r5, r6⟩ := s
      obtain ⟨best, T, J, g, e1, e2, hph, hJ⟩ := hI
      have e1' : x1 = nI best := e1
      have e2' : x2 = nI T := e2
      subst e1' e2'
      refine pk_le 5 p (fun z => absurd z (by omega)) (fun _ => ?_)
      exact zq_phase hph hp hJ (fun best' T' J' g' q q6 k1 k2 => hw (nI best', nI T', q, q6) ⟨best', T', J', g', rfl, rfl, k1, k2⟩)
  · intro n i q hi hq hw
    exact pk_le 36 i (fun z => absurd z (by omega)) (fun _ => ⟨pk_in i 36 hi, pk_in i 36 hi, nm_e (nm_r (nI_1 i) (hw _ (zq_fill (nI_clamp (by omega)) hq (by rw [nI_clamp (by omega)]))))⟩)
end
section
/-! the walk: spread, push, flow -/
theorem zq_i8 : ∀ b, b < 8 → (nI b).toInt8.toInt32 = nI b := by decide +kernel
/-- the way back from v over l to a source: no place twice, each link with m room at least -/
def zq_ch (a3 : Nat → Int32) (R : Nat → Nat) (src F m : Nat) : Nat → List Nat → Prop
  | v, [] => v < 6 ∧ F.testBit v = true ∧ src.testBit v = true ∧ a3 v = -1
  | v, w :: l => v < 6 ∧ F.testBit v = true ∧ v ∉ w :: l ∧ a3 v = nI w ∧ m ≤ R (w * 6 + v) ∧ zq_ch a3 R src F m w l
theorem zq_ch_lt {a3 : Nat → Int32} {R : Nat → Nat} {src F m v : Nat} {l : List Nat} (h : zq_ch a3 R src F m v l) : v < 6 ∧ F.testBit v = true := by
  cases l with
  | nil => exact ⟨h.1, h.2.1⟩
  | cons w l => exact ⟨h.1, h.2.1⟩
theorem zq_ch_mem {a3 : Nat → Int32} {R : Nat → Nat} {src F m : Nat} (l : List Nat) : ∀ v, zq_ch a3 R src F m v l → ∀ u, u ∈ v :: l → u < 6 ∧ F.testBit u = true := by
  induction l with
  | nil =>
    intro v h u hu
    have e : u = v := by simpa using hu
    rw [e]
    exact zq_ch_lt h
  | cons w l ih =>
    intro v h u hu
    rcases List.mem_cons.mp hu with e | e
    · rw [e]
      exact zq_ch_lt h
    · exact ih w h.2.2.2.2.2 u e
theorem zq_ch_ext {a3 q3 : Nat → Int32} {R : Nat → Nat} {src F F' m b : Nat} (hb : F.testBit b = false) (h3 : ∀ u, u ≠ b → q3 u = a3 u) (hF : ∀ u, u < 6 → F.testBit u = true → F'.testBit u = true) (l : List Nat) :
    ∀ v, zq_ch a3 R src F m v l → zq_ch q3 R src F' m v l := by
  have ne : ∀ v, F.testBit v = true → v ≠ b := by
    intro v hv e
    rw [e, hb] at hv
    exact absurd hv (by decide)
  induction l with
  | nil =>
    intro v h
    obtain ⟨k1, k2, k3, k4⟩ := h
    exact ⟨k1, hF v k1 k2, k3, by rw [h3 v (ne v k2)]; exact k4⟩
  | cons w l ih =>
    intro v h
    obtain ⟨k1, k2, k3, k4, k5, k6⟩ := h
    exact ⟨k1, hF v k1 k2, k3, by rw [h3 v (ne v k2)]; exact k4, k5, ih w k6⟩
theorem zq_ch_R {a3 : Nat → Int32} {R R1 : Nat → Nat} {src F m z : Nat} (hR : ∀ x y, x < 6 → y < 6 → x ≠ z → y ≠ z → R1 (x * 6 + y) = R (x * 6 + y)) (l : List Nat) :
    ∀ v, zq_ch a3 R src F m v l → z ∉ v :: l → zq_ch a3 R1 src F m v l := by
  induction l with
  | nil =>
    intro v h _
    exact h
  | cons w l ih =>
    intro v h hz
    obtain ⟨k1, k2, k3, k4, k5, k6⟩ := h
    have z1 : v ≠ z := fun e => hz (by rw [e]; exact List.mem_cons_self)
    have z2 : z ∉ w :: l := fun e => hz (List.mem_cons_of_mem v e)
    have z3 : w ≠ z := fun e => z2 (by rw [e]; exact List.mem_cons_self)
    exact ⟨k1, k2, k3, k4, by rw [hR w v (zq_ch_lt k6).1 k1 z3 z1]; exact k5, ih w k6 z2⟩
theorem zq_push5 {post : Int32 → St2 → Prop} {x1 f : Int32} {a1 a2 a3 a4 a5 a6 a7 a8 : Nat → Int32} {R : Nat → Nat} {src F : Nat} (hR : ∀ j, j < 36 → a2 j = nI (R j)) (hRb : ∀ j, j < 36 → R j < 2 ^ 31) (l : List Nat) :
    ∀ (v x : Nat), 1 ≤ x → x < 2 ^ 31 → zq_ch a3 R src F 1 v l → (∀ m, 1 ≤ m → m ≤ x → zq_ch a3 R src F m v l → ∃ n, wX_push_57 post (nI m) f n x1 a1 a2 a3 a4 a5 a6 a7 a8) → ∃ n, wX_push_5 post x1 f a1 a2 a3 a4 a5 a6 a7 a8 n (nI x) (nI v) := by
  induction l with
  | nil =>
    intro v x hx1 hx2 hch H
    obtain ⟨hv, hF, hs, h3⟩ := hch
    have e3 : a3 (nI v).toNatClampNeg = -1 := by
      rw [nI_clamp (by omega)]
      exact h3
    exact ⟨0 + 1, And.intro (pk_in v 6 hv) (br_t (by rw [e3]; decide) (H x hx1 (Nat.le_refl x) ⟨hv, hF, hs, h3⟩))⟩
  | cons w l ih =>
    intro v x hx1 hx2 hch H
    obtain ⟨hv, hF, hnot, h3, hm, ht⟩ := hch
    have hw6 := (zq_ch_lt ht).1
    have e3 : a3 (nI v).toNatClampNeg = nI w := by
      rw [nI_clamp (by omega)]
      exact h3
    have ey : a2 (a3 (nI v).toNatClampNeg * 6 + nI v).toNatClampNeg = nI (R (w * 6 + v)) := by
      rw [e3, zq_ixc hw6 hv]
      exact hR _ (by omega)
    have hvin : vp_in (nI v) 6 := vp_in_nI hv (by omega)
    have hin : vp_in (a3 (nI v).toNatClampNeg * 6 + nI v) 36 := by
      rw [e3]
      exact zq_ixin hw6 hv
    have hneg : ¬ a3 (nI v).toNatClampNeg < 0 := by
      rw [e3]
      exact nI_pos (by omega)
    have hRw := hRb (w * 6 + v) (by omega)
    by_cases c : x ≤ R (w * 6 + v)
    · obtain ⟨n, hn⟩ := ih w x hx1 hx2 ht (fun m m1 m2 m3 => H m m1 m2 ⟨hv, hF, hnot, h3, by omega, m3⟩)
      exact ⟨n + 1, And.intro hvin (br_f hneg ⟨hvin, hin, nm_r ey (br_t (nI_le c hRw) ⟨hvin, nm_r e3 hn⟩)⟩)⟩
    · obtain ⟨n, hn⟩ := ih w (R (w * 6 + v)) hm hRw ht (fun m m1 m2 m3 => H m m1 (by omega) ⟨hv, hF, hnot, h3, m2, m3⟩)
      exact ⟨n + 1, And.intro hvin (br_f hneg ⟨hvin, hin, nm_r ey (br_f (nI_ge (by omega) hx2) ⟨hvin, nm_r e3 hn⟩)⟩)⟩
/-- m moved from cell w * 6 + v to cell v * 6 + w -/
def zq_mv (R : Nat → Nat) (w v m : Nat) : Nat → Nat := fun j => if j = v * 6 + w then R (v * 6 + w) + m else if j = w * 6 + v then R (w * 6 + v) - m else R j
theorem zq_mv_1 {R : Nat → Nat} {w v m : Nat} : zq_mv R w v m (v * 6 + w) = R (v * 6 + w) + m := if_pos rfl
theorem zq_mv_2 {R : Nat → Nat} {w v m : Nat} (h : w ≠ v) (hv : v < 6) (hw : w < 6) : zq_mv R w v m (w * 6 + v) = R (w * 6 + v) - m :=
  (if_neg (by omega)).trans (if_pos rfl)
theorem zq_mv_3 {R : Nat → Nat} {w v m j : Nat} (h1 : j ≠ v * 6 + w) (h2 : j ≠ w * 6 + v) : zq_mv R w v m j = R j :=
  (if_neg h1).trans (if_neg h2)
theorem zq_push57 {post : Int32 → St2 → Prop} {f : Int32} {a1 a3 a4 a5 a6 a7 a8 : Nat → Int32} {src F m : Nat} (l : List Nat) :
    ∀ (v : Nat) (a2 : Nat → Int32) (R : Nat → Nat), (∀ j, j < 36 → a2 j = nI (R j)) → zq_ch a3 R src F m v l →
      (∀ (q : Nat → Int32) (R' : Nat → Nat), (∀ j, j < 36 → q j = nI (R' j)) → (∀ a b, a < 6 → b < 6 → R' (a * 6 + b) + R' (b * 6 + a) = R (a * 6 + b) + R (b * 6 + a)) →
        (∀ S : Nat → Bool, (∀ u, u < 6 → src.testBit u = true → S u = true) → zq_cut R' S + m = zq_cut R S + (if S v = true then m else 0)) → post (nI m) (f, a1, q, a3, a4, a5, a6, a7, a8)) →
      ∃ n, wX_push_57 post (nI m) f n (nI v) a1 a2 a3 a4 a5 a6 a7 a8 := by
  induction l with
  | nil =>
    intro v a2 R hR hch H
    obtain ⟨hv, hF, hs, h3⟩ := hch
    have e3 : a3 (nI v).toNatClampNeg = -1 := by
      rw [nI_clamp (by omega)]
      exact h3
    exact ⟨0 + 1, And.intro (pk_in v 6 hv) (br_t (by rw [e3]; decide) (H a2 R hR (fun _ _ _ _ => rfl) (fun S hS => by rw [if_pos (hS v hv hs)])))⟩
  | cons w l ih =>
    intro v a2 R hR hch H
    obtain ⟨hv, hF, hnot, h3, hm, ht⟩ := hch
    have hw6 := (zq_ch_lt ht).1
    have hwv : w ≠ v := fun e => hnot (by rw [e]; exact List.mem_cons_self)
    have e3 : a3 (nI v).toNatClampNeg = nI w := by
      rw [nI_clamp (by omega)]
      exact h3
    have hvin : vp_in (nI v) 6 := vp_in_nI hv (by omega)
    have hneg : ¬ a3 (nI v).toNatClampNeg < 0 := by
      rw [e3]
      exact nI_pos (by omega)
    have hR1 : ∀ j, j < 36 → upd (upd a2 (w * 6 + v) (nI (R (w * 6 + v) - m))) (v * 6 + w) (nI (R (v * 6 + w) + m)) j = nI (zq_mv R w v m j) := by
      intro j hj
      by_cases c1 : j = v * 6 + w
      · rw [c1, pk_us, zq_mv_1]
      · rw [pk_un c1]
        by_cases c2 : j = w * 6 + v
        · rw [c2, pk_us, zq_mv_2 hwv hv hw6]
        · rw [pk_un c2, zq_mv_3 c1 c2, hR j hj]
    have hcut : ∀ S : Nat → Bool, zq_cut (zq_mv R w v m) S + (if S w = true then m else 0) = zq_cut R S + (if S v = true then m else 0) := by
      intro S
      refine zq_cut_push hw6 hv hwv ?_ zq_mv_1 ?_ S
      · rw [zq_mv_2 hwv hv hw6]
        omega
      · intro u y hu hy n1 n2
        exact zq_mv_3 (by omega) (by omega)
    have hpair : ∀ a b, a < 6 → b < 6 → zq_mv R w v m (a * 6 + b) + zq_mv R w v m (b * 6 + a) = R (a * 6 + b) + R (b * 6 + a) := by
      intro a b ha hb
      by_cases c1 : a = v ∧ b = w
      · rw [c1.1, c1.2, zq_mv_1, zq_mv_2 hwv hv hw6]
        omega
      · by_cases c2 : a = w ∧ b = v
        · rw [c2.1, c2.2, zq_mv_1, zq_mv_2 hwv hv hw6]
          omega
        · rw [zq_mv_3 (by omega) (by omega), zq_mv_3 (by omega) (by omega)]
    obtain ⟨n, hn⟩ := ih w _ (zq_mv R w v m) hR1 (zq_ch_R (z := v) (fun x y hx hy n1 n2 => zq_mv_3 (by omega) (by omega)) l w ht hnot) (fun q R' k1 k2 k3 =>
      H q R' k1 (fun a b ha hb => (k2 a b ha hb).trans (hpair a b ha hb)) (fun S hS => (k3 S hS).trans (hcut S)))
    refine ⟨n + 1, And.intro hvin (br_f hneg ⟨hvin, nm_r e3 ⟨zq_ixin hw6 hv, zq_ixin hw6 hv, nm_r (e' := upd a2 (w * 6 + v) (nI (R (w * 6 + v) - m))) ?_ ⟨zq_ixin hv hw6, zq_ixin hv hw6,
      nm_r (e' := upd (upd a2 (w * 6 + v) (nI (R (w * 6 + v) - m))) (v * 6 + w) (nI (R (v * 6 + w) + m))) ?_ ⟨hvin, nm_r e3 hn⟩⟩⟩⟩)⟩
    · rw [zq_ixc hw6 hv, hR _ (by omega), pk_sub hm]
    · rw [zq_ixc hv hw6, pk_un (by omega), hR _ (by omega), nI_add]
theorem zq_push {post : Int32 → St2 → Prop} {f : Int32} {a1 a2 a3 a4 a5 a6 a7 a8 : Nat → Int32} {R : Nat → Nat} {src F v : Nat} {l : List Nat} (hR : ∀ j, j < 36 → a2 j = nI (R j)) (hRb : ∀ j, j < 36 → R j < 2 ^ 31) (hch : zq_ch a3 R src F 1 v l)
    (H : ∀ (m : Nat) (q : Nat → Int32) (R' : Nat → Nat), 1 ≤ m → (∀ j, j < 36 → q j = nI (R' j)) → (∀ a b, a < 6 → b < 6 → R' (a * 6 + b) + R' (b * 6 + a) = R (a * 6 + b) + R (b * 6 + a)) →
        (∀ S : Nat → Bool, (∀ u, u < 6 → src.testBit u = true → S u = true) → zq_cut R' S + m = zq_cut R S + (if S v = true then m else 0)) → post (nI m) (f, a1, q, a3, a4, a5, a6, a7, a8)) :
    wpX_push post (f, a1, a2, a3, a4, a5, a6, a7, a8) (nI v) :=
  zq_push5 hR hRb l v 1048576 (by omega) (by omega) hch (fun m m1 _ hm => zq_push57 l v a2 R hR hm (fun q R' k1 k2 k3 => H m q R' m1 k1 k2 k3))
/-- S parts the sources from the goal -/
def zq_sp (src goal : Nat) (S : Nat → Bool) : Prop := (∀ u, u < 6 → src.testBit u = true → S u = true) ∧ ∀ u, u < 6 → goal.testBit u = true → S u = false
/-- found so far: F, in line e of them -/
def zq_B (R : Nat → Nat) (src F e : Nat) (a3 a4 : Nat → Int32) : Prop :=
  F < 64 ∧ e = zq_card F ∧ (∀ v, v < 6 → F.testBit v = true → ∃ l, zq_ch a3 R src F 1 v l) ∧ (∀ v, v < 6 → F.testBit v = true → ∃ j, j < e ∧ a4 j = nI v) ∧ ∀ j, j < e → ∃ v, v < 6 ∧ F.testBit v = true ∧ a4 j = nI v
theorem zq_B_add {R : Nat → Nat} {src F e b : Nat} {a3 a4 : Nat → Int32} {y : Int32} (h : zq_B R src F e a3 a4) (hb : b < 6) (hFb : F.testBit b = false) (hn : (y = -1 ∧ src.testBit b = true) ∨ ∃ a, a < 6 ∧ F.testBit a = true ∧ y = nI a ∧ 1 ≤ R (a * 6 + b)) :
    zq_B R src (F ||| 2 ^ b) (e + 1) (upd a3 b y) (upd a4 e (nI b)) := by
  obtain ⟨h1, h2, h3, h4, h5⟩ := h
  have tb := zq_or_tb F h1 b hb
  have tbb : (F ||| 2 ^ b).testBit b = true := by
    rw [tb b hb]
    simp
  have mono : ∀ u, u < 6 → F.testBit u = true → (F ||| 2 ^ b).testBit u = true := by
    intro u hu k
    rw [tb u hu, k]
    rfl
  have back : ∀ u, u < 6 → (F ||| 2 ^ b).testBit u = true → u = b ∨ F.testBit u = true := by
    intro u hu k
    rw [tb u hu] at k
    by_cases e : u = b
    · exact Or.inl e
    · exact Or.inr (by simpa [e] using k)
  have ext : ∀ l v, zq_ch a3 R src F 1 v l → zq_ch (upd a3 b y) R src (F ||| 2 ^ b) 1 v l := fun l v => zq_ch_ext hFb (fun u hu => pk_un hu) mono l v
  refine ⟨(zq_or F h1 b hb).2, ?_, ?_, ?_, ?_⟩
  · rw [zq_card_or F h1 b hb hFb, h2]
  · intro v hv k
    rcases back v hv k with e | e
    · rw [e]
      rcases hn with ⟨n1, n2⟩ | ⟨a, n1, n2, n3, n4⟩
      · exact ⟨[], hb, tbb, n2, by rw [pk_us]; exact n1⟩
      · obtain ⟨l, hl⟩ := h3 a n1 n2
        refine ⟨a :: l, hb, tbb, ?_, by rw [pk_us]; exact n3, n4, ext l a hl⟩
        intro hz
        have := (zq_ch_mem l a hl b hz).2
        rw [hFb] at this
        exact absurd this (by decide)
    · obtain ⟨l, hl⟩ := h3 v hv e
      exact ⟨l, ext l v hl⟩
  · intro v hv k
    rcases back v hv k with e' | e'
    · exact ⟨e, by omega, by rw [pk_us, e']⟩
    · obtain ⟨j, hj, hj2⟩ := h4 v hv e'
      exact ⟨j, by omega, by rw [pk_un (by omega)]; exact hj2⟩
  · intro j hj
    by_cases c : j = e
    · exact ⟨b, hb, tbb, by rw [c, pk_us]⟩
    · obtain ⟨v, hv, k, k2⟩ := h5 j (by omega)
      exact ⟨v, hv, mono v hv k, by rw [pk_un c]; exact k2⟩
/-- what is asked of a spread that has looked from the first k in line -/
def zq_S (R : Nat → Nat) (src goal F e k : Nat) (a3 a4 : Nat → Int32) : Prop :=
  zq_B R src F e a3 a4 ∧ zq_sp src goal F.testBit ∧ ∀ j, j < k → j < e ∧ ∀ v, v < 6 → a4 j = nI v → ∀ y, y < 6 → 1 ≤ R (v * 6 + y) → F.testBit y = true
theorem zq_S_add {R : Nat → Nat} {src goal F e k a b : Nat} {a3 a4 : Nat → Int32} (h : zq_S R src goal F e k a3 a4) (hb : b < 6) (hFb : F.testBit b = false) (ha : a < 6) (hFa : F.testBit a = true) (hR : 1 ≤ R (a * 6 + b)) (hg : goal.testBit b = false) :
    zq_S R src goal (F ||| 2 ^ b) (e + 1) k (upd a3 b (nI a)) (upd a4 e (nI b)) := by
  obtain ⟨h1, ⟨h2, h3⟩, h4⟩ := h
  have tb := zq_or_tb F h1.1 b hb
  refine ⟨zq_B_add h1 hb hFb (Or.inr ⟨a, ha, hFa, rfl, hR⟩), ⟨?_, ?_⟩, ?_⟩
  · intro u hu k
    rw [tb u hu, h2 u hu k]
    rfl
  · intro u hu k
    rw [tb u hu, h3 u hu k]
    by_cases c : u = b
    · rw [c, hg] at k
      exact absurd k (by decide)
    · simp [c]
  · intro j hj
    have q := h4 j hj
    refine ⟨by omega, fun v hv k y hy k2 => ?_⟩
    rw [pk_un (by omega)] at k
    rw [tb y hy, q.2 v hv k y hy k2]
    rfl
theorem zq_spread {post : Int32 → St2 → Prop} {f : Int32} {a1 a2 a3 a4 a5 a6 a7 a8 : Nat → Int32} {R : Nat → Nat} {src goal : Nat} (hs : src < 64) (hg : goal < 64) (hd : zq_sp src goal src.testBit) (hR : ∀ j, j < 36 → a2 j = nI (R j)) (hRb : ∀ j, j < 36 → R j < 2 ^ 31)
    (Hn : ∀ (F : Nat) (q3 q4 : Nat → Int32), F < 64 → zq_sp src goal F.testBit → (∀ v, v < 6 → F.testBit v = true → ∀ y, y < 6 → 1 ≤ R (v * 6 + y) → F.testBit y = true) → post (-1) (nI F, a1, a2, q3, q4, a5, a6, a7, a8))
    (Hp : ∀ (F b : Nat) (l : List Nat) (q3 q4 : Nat → Int32), b < 6 → goal.testBit b = true → zq_ch q3 R src F 1 b l → post (nI b) (nI F, a1, a2, q3, q4, a5, a6, a7, a8)) :
    wpX_spread post (f, a1, a2, a3, a4, a5, a6, a7, a8) (nI src) (nI goal) := by
  have stop : ∀ (F e k : Nat) (q3 q4 : Nat → Int32), zq_S R src goal F e k q3 q4 → e ≤ k → post (-1) (nI F, a1, a2, q3, q4, a5, a6, a7, a8) := by
    intro F e k q3 q4 h hk
    refine Hn F q3 q4 h.1.1 h.2.1 (fun v hv hF y hy h1 => ?_)
    obtain ⟨j, hj, hj2⟩ := h.1.2.2.2.1 v hv hF
    exact (h.2.2 j (by omega)).2 v hv hj2 y hy h1
  have loop : ∀ (F e : Nat) (q3 q4 : Nat → Int32), zq_S R src goal F e 0 q3 q4 → ∃ n, wX_spread_68 post (nI goal) n (nI e) 0 (nI F) a1 a2 q3 q4 a5 a6 a7 a8 := by
    intro F e q3 q4 h0
    refine pk_loop (σ := Int32 × Int32 × (Nat → Int32) × (Nat → Int32)) (fun n k s => wX_spread_68 post (nI goal) n s.1 (nI k) s.2.1 a1 a2 s.2.2.1 s.2.2.2 a5 a6 a7 a8)
      (fun k s => ∃ F e : Nat, s.1 = nI e ∧ s.2.1 = nI F ∧ zq_S R src goal F e k s.2.2.1 s.2.2.2) 6 0 (nI e, nI F, q3, q4) (by omega) ⟨F, e, rfl, rfl, h0⟩ ?_ ?_
    · intro n s hI
      obtain ⟨x3, fs, r3, r4⟩ := s
      obtain ⟨F, e, e1, e2, hS⟩ := hI
      have e1' : x3 = nI e := e1
      have e2' : fs = nI F := e2
      subst e1' e2'
      have he : e ≤ 6 := by
        rw [hS.1.2.1]
        exact zq_card_le F
      exact pk_le e 6 (fun z => stop F e 6 r3 r4 hS z) (fun z => absurd z (by omega))
    · intro n k s hk hI hw
      obtain ⟨x3, fs, r3, r4⟩ := s
      obtain ⟨F, e, e1, e2, hS⟩ := hI
      have e1' : x3 = nI e := e1
      have e2' : fs = nI F := e2
      subst e1' e2'
      have he : e ≤ 6 := by
        rw [hS.1.2.1]
        exact zq_card_le F
      refine pk_le e k (fun z => stop F e k r3 r4 hS z) (fun z => pk_le 6 k (fun z2 => absurd z2 (by omega)) (fun _ => ⟨pk_in k 8 (by omega), ?_⟩))
      obtain ⟨a, ha, hFa, h4a⟩ := hS.1.2.2.2.2 k z
      refine nm_r (e' := nI a) (by rw [nI_clamp (by omega)]; exact h4a) ?_
      refine pk_loop (σ := Int32 × Int32 × (Nat → Int32) × (Nat → Int32)) (fun n' y s => wX_spread_93 post (wX_spread_68 post (nI goal) n) (nI goal) (nI k) (nI a) n' s.1 (nI y) s.2.1 a1 a2 s.2.2.1 s.2.2.2 a5 a6 a7 a8)
        (fun y s => ∃ F e : Nat, s.1 = nI e ∧ s.2.1 = nI F ∧ zq_S R src goal F e k s.2.2.1 s.2.2.2 ∧ k < e ∧ F.testBit a = true ∧ s.2.2.2 k = nI a ∧ ∀ y', y' < y → 1 ≤ R (a * 6 + y') → F.testBit y' = true) 6 0 (nI e, nI F, r3, r4) (by omega) ⟨F, e, rfl, rfl, hS, z, hFa, h4a, fun y' hy' => absurd hy' (Nat.not_lt_zero y')⟩ ?_ ?_
      · intro n' s hI
        obtain ⟨x3, fs, t3, t4⟩ := s
        obtain ⟨F1, e1, k1, k2, hS1, hke, hF1a, h41, hcl⟩ := hI
        have k1' : x3 = nI e1 := k1
        have k2' : fs = nI F1 := k2
        subst k1' k2'
        refine pk_le 6 6 (fun _ => nm_r (nI_1 k) (hw (nI e1, nI F1, t3, t4) ⟨F1, e1, rfl, rfl, hS1.1, hS1.2.1, fun j hj => ?_⟩)) (fun z => absurd z (by omega))
        by_cases c : j = k
        · refine ⟨by omega, fun v hv h4v y hy h1 => ?_⟩
          have h4v' : t4 j = nI v := h4v
          have h41' : t4 k = nI a := h41
          rw [c, h41'] at h4v'
          have ev : a = v := (nI_eq (by omega) (by omega)).mp h4v'
          exact hcl y hy (by rw [ev]; exact h1)
        · exact hS1.2.2 j (by omega)
      · intro n' y s hy hI hw2
        obtain ⟨x3, fs, t3, t4⟩ := s
        obtain ⟨F1, e1, k1, k2, hS1, hke, hF1a, h41, hcl⟩ := hI
        have k1' : x3 = nI e1 := k1
        have k2' : fs = nI F1 := k2
        subst k1' k2'
        have hF64 := hS1.1.1
        refine pk_le 6 y (fun z => absurd z (by omega)) (fun _ => zq_in F1 y hF64 hy (fun hf => ⟨zq_ixin ha hy, ?_⟩) (fun hf => ?_))
        · refine pk_le (R (a * 6 + y)) 0 (fun z0 => ?_) (fun z0 => ?_) (by rw [zq_ixc ha hy]; exact hR _ (by omega)) rfl (hRb _ (by omega)) (by omega)
          · refine nm_r (nI_1 y) (hw2 (nI e1, nI F1, t3, t4) ⟨F1, e1, rfl, rfl, hS1, hke, hF1a, h41, fun y' hy' h1 => ?_⟩)
            by_cases c : y' = y
            · rw [c] at h1
              omega
            · exact hcl y' (by omega) h1
          · have he1 : e1 ≤ 5 := by
              rw [hS1.1.2.1]
              exact zq_card_5 F1 hF64 y hy hf
            refine nm_r (zq_or F1 hF64 y hy).1 ⟨pk_in y 6 hy, nm_r (e' := upd t3 y (nI a)) (by rw [nI_clamp (by omega), zq_i8 a (by omega)]) ⟨pk_in e1 8 (by omega), nm_r (e' := upd t4 e1 (nI y)) (by rw [nI_clamp (by omega), zq_i8 y (by omega)]) (nm_r (nI_1 e1) ?_)⟩⟩
            have tb := zq_or_tb F1 hF64 y hy
            refine zq_in goal y hg hy (fun hgy => ?_) (fun hgy => ?_)
            · have hS2 := zq_S_add hS1 hy hf ha hF1a z0 hgy
              refine nm_r (nI_1 y) (hw2 (nI (e1 + 1), nI (F1 ||| 2 ^ y), upd t3 y (nI a), upd t4 e1 (nI y)) ⟨F1 ||| 2 ^ y, e1 + 1, rfl, rfl, hS2, by omega, ?_, ?_, fun y' hy' h1 => ?_⟩)
              · rw [tb a ha, hF1a]
                rfl
              · show upd t4 e1 (nI y) k = nI a
                rw [pk_un (by omega)]
                exact h41
              · rw [tb y' (by omega)]
                by_cases c : y' = y
                · simp [c]
                · rw [hcl y' (by omega) h1]
                  rfl
            · have hB := zq_B_add hS1.1 hy hf (Or.inr ⟨a, ha, hF1a, rfl, z0⟩)
              obtain ⟨l, hl⟩ := hB.2.2.1 y hy (by rw [tb y hy]; simp)
              exact Hp (F1 ||| 2 ^ y) y l (upd t3 y (nI a)) (upd t4 e1 (nI y)) hy hgy hl
        · refine nm_r (nI_1 y) (hw2 (nI e1, nI F1, t3, t4) ⟨F1, e1, rfl, rfl, hS1, hke, hF1a, h41, fun y' hy' h1 => ?_⟩)
          by_cases c : y' = y
          · rw [c]
            exact hf
          · exact hcl y' (by omega) h1
  refine pk_loop (σ := Int32 × Int32 × (Nat → Int32) × (Nat → Int32)) (fun n c s => wX_spread_10 post (nI src) (nI goal) n s.1 (nI c) s.2.1 a1 a2 s.2.2.1 s.2.2.2 a5 a6 a7 a8)
    (fun c s => ∃ F e : Nat, s.1 = nI e ∧ s.2.1 = nI F ∧ zq_B R src F e s.2.2.1 s.2.2.2 ∧ ∀ v, v < 6 → F.testBit v = (src.testBit v && decide (v < c))) 6 0 (0, 0, a3, a4) (by omega) ?_ ?_ ?_
  · refine ⟨0, 0, rfl, rfl, ⟨by omega, by decide +kernel, fun v _ z => ?_, fun v _ z => ?_, fun j hj => absurd hj (Nat.not_lt_zero j)⟩, fun v _ => ?_⟩
    · rw [zq_0] at z
      exact absurd z (by decide)
    · rw [zq_0] at z
      exact absurd z (by decide)
    · rw [zq_0]
      simp
  · intro n s hI
    obtain ⟨x3, fs, r3, r4⟩ := s
    obtain ⟨F, e, e1, e2, hB, hF⟩ := hI
    have e1' : x3 = nI e := e1
    have e2' : fs = nI F := e2
    subst e1' e2'
    have hF' : ∀ v, v < 6 → F.testBit v = src.testBit v := fun v hv => by rw [hF v hv]; simp [hv]
    refine pk_le 6 6 (fun _ => loop F e r3 r4 ⟨hB, ⟨fun u hu k => ?_, fun u hu k => ?_⟩, fun j hj => absurd hj (Nat.not_lt_zero j)⟩) (fun z => absurd z (by omega))
    · rw [hF' u hu]
      exact k
    · rw [hF' u hu]
      exact hd.2 u hu k
  · intro n c s hc hI hw
    obtain ⟨x3, fs, r3, r4⟩ := s
    obtain ⟨F, e, e1, e2, hB, hF⟩ := hI
    have e1' : x3 = nI e := e1
    have e2' : fs = nI F := e2
    subst e1' e2'
    have hF64 := hB.1
    have hFc : F.testBit c = false := by
      rw [hF c hc]
      simp
    refine pk_le 6 c (fun z => absurd z (by omega)) (fun _ => zq_in src c hs hc (fun h => ?_) (fun h => ?_))
    · refine nm_r (nI_1 c) (hw (nI e, nI F, r3, r4) ⟨F, e, rfl, rfl, hB, fun v hv => ?_⟩)
      rw [hF v hv]
      by_cases k : v = c
      · rw [k, h]
        rfl
      · have k2 : (v < c + 1) = (v < c) := propext ⟨fun _ => by omega, fun _ => by omega⟩
        simp only [k2]
    · have he : e ≤ 5 := by
        rw [hB.2.1]
        exact zq_card_5 F hF64 c hc hFc
      have tb := zq_or_tb F hF64 c hc
      refine nm_r (zq_or F hF64 c hc).1 ⟨pk_in c 6 hc, nm_r (e' := upd r3 c (-1)) (by rw [nI_clamp (by omega)]) ⟨pk_in e 8 (by omega), nm_r (e' := upd r4 e (nI c)) (by rw [nI_clamp (by omega), zq_i8 c (by omega)]) (nm_r (nI_1 e) (nm_r (nI_1 c)
        (hw (nI (e + 1), nI (F ||| 2 ^ c), upd r3 c (-1), upd r4 e (nI c)) ⟨F ||| 2 ^ c, e + 1, rfl, rfl, zq_B_add hB hc hFc (Or.inl ⟨rfl, h⟩), fun v hv => ?_⟩)))⟩⟩
      rw [tb v hv, hF v hv]
      by_cases k : v = c
      · rw [k, h]
        simp
      · have k2 : (v < c + 1) = (v < c) := propext ⟨fun _ => by omega, fun _ => by omega⟩
        simp [k, k2]
/-- v is the least cost of a side that parts the sources from the goal -/
def zq_fl (C : Nat → Nat) (src goal v : Nat) : Prop := (∃ S, zq_sp src goal S ∧ zq_cut C S = v) ∧ ∀ S, zq_sp src goal S → v ≤ zq_cut C S
theorem zq_flow {post : Int32 → St2 → Prop} {C : Nat → Nat} {f : Int32} {a1 a2 a3 a4 a5 a6 a7 a8 : Nat → Int32} {src goal : Nat} (hC : zq_ok a1 C) (hs : src < 64) (hg : goal < 64) (hd : zq_sp src goal src.testBit)
    (H : ∀ (v : Nat) (f' : Int32) (q2 q3 q4 : Nat → Int32), zq_fl C src goal v → post (nI v) (f', a1, q2, q3, q4, a5, a6, a7, a8)) : wpX_flow post (f, a1, a2, a3, a4, a5, a6, a7, a8) (nI src) (nI goal) := by
  obtain ⟨c1, c2, c3, c4, c5⟩ := hC
  refine pk_loop (fun n i q => wX_flow_2 post (nI src) (nI goal) f n (nI i) a1 q a3 a4 a5 a6 a7 a8) (fun i q => ∀ j, j < i → q j = a1 j) 36 0 a2 (by omega) (fun j hj => absurd hj (Nat.not_lt_zero j)) ?_ ?_
  · intro n q2 hq
    refine pk_le 36 36 (fun _ => ?_) (fun z => absurd z (by omega))
    refine pk_loop (σ := Int32 × Int32 × (Nat → Int32) × (Nat → Int32) × (Nat → Int32)) (fun n i s => wX_flow_31 post (nI src) (nI goal) n s.1 (nI i) s.2.1 a1 s.2.2.1 s.2.2.2.1 s.2.2.2.2 a5 a6 a7 a8)
      (fun i s => ∃ (sum : Nat) (R : Nat → Nat), s.1 = nI sum ∧ (∀ j, j < 36 → s.2.2.1 j = nI (R j)) ∧ (∀ a b, a < 6 → b < 6 → R (a * 6 + b) + R (b * 6 + a) = C (a * 6 + b) + C (b * 6 + a)) ∧ (∀ S, zq_sp src goal S → zq_cut R S + sum = zq_cut C S) ∧ i ≤ sum) 128 0 (0, f, q2, a3, a4) (by omega) ?_ ?_ ?_
    · exact ⟨0, C, rfl, fun j hj => (hq j hj).trans (c1 j hj), fun _ _ _ _ => rfl, fun _ _ => rfl, Nat.le_refl 0⟩
    · intro n s hI
      obtain ⟨sum, R, _, _, _, k4, k5⟩ := hI
      have e1 := k4 _ hd
      have e2 := c5 src.testBit
      omega
    · intro n i s hi hI hw
      obtain ⟨x3, fs, r2, r3, r4⟩ := s
      obtain ⟨sum, R, k1, k2, k3, k4, k5⟩ := hI
      have k1' : x3 = nI sum := k1
      subst k1'
      have hRb : ∀ j, j < 36 → R j < 2 ^ 31 := by
        intro j hj
        have e : j / 6 * 6 + j % 6 = j := by omega
        have b1 := k3 (j / 6) (j % 6) (by omega) (by omega)
        have b2 := c4 (j / 6 * 6 + j % 6) (by omega)
        have b3 := c4 (j % 6 * 6 + j / 6) (by omega)
        rw [e] at b1 b2
        omega
      refine pk_le 128 i (fun z => absurd z (by omega)) (fun _ => ?_)
      refine zq_spread hs hg hd k2 hRb (fun F q3 q4 hF hsp hcl => ?_) (fun F b l q3 q4 hb hgb hch => ?_)
      · refine br_f (by decide) (H sum (nI F) r2 q3 q4 ⟨⟨F.testBit, hsp, ?_⟩, fun S hS => ?_⟩)
        · have e0 : zq_cut R F.testBit = 0 := by
            refine zq_cut_zero (fun a b ha hb hFa hFb => ?_)
            rcases Nat.eq_zero_or_pos (R (a * 6 + b)) with e | e
            · exact e
            · have := hcl a ha hFa b hb e
              rw [hFb] at this
              exact absurd this (by decide)
          have e1 := k4 _ hsp
          omega
        · have e1 := k4 S hS
          omega
      · refine br_t (nI_pos' (by omega)) (zq_push k2 hRb hch (fun m q R' m1 g1 g2 g3 => ?_))
        refine nm_r (nI_add sum m) (nm_r (nI_1 i) (hw (nI (sum + m), nI F, q, q3, q4) ⟨sum + m, R', rfl, g1, fun a b ha hb => (g2 a b ha hb).trans (k3 a b ha hb), fun S hS => ?_, by omega⟩))
        have e1 := k4 S hS
        have e2 := g3 S hS.1
        have e3 : S b = false := hS.2 b hb hgb
        rw [e3, if_neg (by decide)] at e2
        omega
  · intro n i q hi hq hw
    exact pk_le 36 i (fun z => absurd z (by omega)) (fun _ => ⟨pk_in i 36 hi, pk_in i 36 hi, nm_e (nm_r (nI_1 i) (hw _ (zq_fill (nI_clamp (by omega)) hq (by rw [nI_clamp (by omega)]))))⟩)
end
section
/-! the walk: cost, leastSide, between, put, set, loss, forced -/
theorem zq_cost {post : Int32 → Prop} {C : Nat → Nat} {f : Int32} {a1 a2 a3 a4 a5 a6 a7 a8 : Nat → Int32} {m : Nat} (hC : ∀ j, j < 36 → a1 j = nI (C j)) (hm1 : 1 ≤ m) (hm2 : m < 63) (H : post (nI (zq_cut C m.testBit))) :
    wpX_cost post (f, a1, a2, a3, a4, a5, a6, a7, a8) (nI m) := by
  obtain ⟨g, hg⟩ : ∃ g : Nat → Nat → Nat, ∀ a b, g a b = if (m.testBit a && !m.testBit b) = true then C (a * 6 + b) else 0 := ⟨fun a b => _, fun a b => rfl⟩
  have eg : zq_cut C m.testBit = zq_sum (fun a => zq_sum (g a) 6) 6 := zq_s2_congr (fun a b _ _ => (hg a b).symm)
  rw [eg] at H
  refine pk_lt m 1 (fun z => absurd z (by omega)) (fun _ => pk_lt m 63 (fun _ => ?_) (fun z => absurd z (by omega)))
  refine pk_loop (σ := Unit) (fun n i _ => wX_cost_17 post (nI m) f a1 a2 a3 a4 a5 a6 a7 a8 n (nI (zq_sum (fun a => zq_sum (g a) 6) i)) (nI i)) (fun _ _ => True) 6 0 () (by omega) trivial ?_ ?_
  · intro n _ _
    exact pk_le 6 6 (fun _ => H) (fun z => absurd z (by omega))
  · intro n a _ ha _ hw
    have hw' : wX_cost_17 post (nI m) f a1 a2 a3 a4 a5 a6 a7 a8 n (nI (zq_sum (fun a => zq_sum (g a) 6) a + zq_sum (g a) 6)) (nI (a + 1)) := hw () trivial
    refine pk_le 6 a (fun z => absurd z (by omega)) (fun _ => ?_)
    generalize zq_sum (fun a => zq_sum (g a) 6) a = s0 at hw'
    have lp : ∃ n', wX_cost_26 post (wX_cost_17 post (nI m) f a1 a2 a3 a4 a5 a6 a7 a8 n) (nI m) (nI a) f a1 a2 a3 a4 a5 a6 a7 a8 n' (nI (s0 + zq_sum (g a) 0)) (nI 0) := by
      refine pk_loop (σ := Unit) (fun n' y _ => wX_cost_26 post (wX_cost_17 post (nI m) f a1 a2 a3 a4 a5 a6 a7 a8 n) (nI m) (nI a) f a1 a2 a3 a4 a5 a6 a7 a8 n' (nI (s0 + zq_sum (g a) y)) (nI y)) (fun _ _ => True) 6 0 () (by omega) trivial ?_ ?_
      · intro n' _ _
        exact pk_le 6 6 (fun _ => nm_r (nI_1 a) hw') (fun z => absurd z (by omega))
      · intro n' y _ hy _ hw2
        have h2 : wX_cost_26 post (wX_cost_17 post (nI m) f a1 a2 a3 a4 a5 a6 a7 a8 n) (nI m) (nI a) f a1 a2 a3 a4 a5 a6 a7 a8 n' (nI (s0 + (zq_sum (g a) y + g a y))) (nI (y + 1)) := hw2 () trivial
        have same : g a y = 0 → nI (s0 + zq_sum (g a) y) + 0 = nI (s0 + (zq_sum (g a) y + g a y)) := by
          intro e
          rw [e]
          exact nI_add (s0 + zq_sum (g a) y) 0
        refine pk_le 6 y (fun z => absurd z (by omega)) (fun _ => zq_in m a (by omega) ha (fun h => nm_r (same (by rw [hg, h]; simp)) (nm_r (nI_1 y) h2)) (fun h => zq_in m y (by omega) hy (fun h3 => ⟨zq_ixin ha hy, nm_r (e' := nI (s0 + (zq_sum (g a) y + g a y))) ?_ (nm_r (nI_1 y) h2)⟩) (fun h3 => nm_r (same (by rw [hg, h, h3]; simp)) (nm_r (nI_1 y) h2))))
        rw [zq_ixc ha hy, hC _ (by omega), nI_add, hg, h, h3, Nat.add_assoc]
        simp
    exact lp
theorem zq_flow' {post : Int32 → St2 → Prop} {C : Nat → Nat} {f p0 p1 : Int32} {a1 a2 a3 a4 a5 a6 a7 a8 : Nat → Int32} (src goal : Nat) (hC : zq_ok a1 C) (hs : src < 64) (hg : goal < 64) (hd : zq_sp src goal src.testBit) (h0 : p0 = nI src) (h1 : p1 = nI goal)
    (H : ∀ (v : Nat) (f' : Int32) (q2 q3 q4 : Nat → Int32), zq_fl C src goal v → post (nI v) (f', a1, q2, q3, q4, a5, a6, a7, a8)) : wpX_flow post (f, a1, a2, a3, a4, a5, a6, a7, a8) p0 p1 := by
  subst h0 h1
  exact zq_flow hC hs hg hd H
/-- leastSide's loop: P inside, Q outside, some cheapest side S keeps to both; places above i are settled -/
def zq_sI (C : Nat → Nat) (L P Q i : Nat) : Prop :=
  P < 64 ∧ Q < 64 ∧ P.testBit 0 = true ∧ (∀ v, v < 6 → i < v → P.testBit v = true ∨ Q.testBit v = true) ∧ (∀ v, v < 6 → 1 ≤ v → v ≤ i → P.testBit v = false) ∧ ∃ S, zq_nt S ∧ zq_cut C S = L ∧ zq_sp P Q S
theorem zq_side {post : Int32 → St2 → Prop} {C : Nat → Nat} {f : Int32} {a1 a2 a3 a4 a5 a6 a7 a8 : Nat → Int32} (hC : zq_ok a1 C)
    (H : ∀ (L m : Nat) (f' : Int32) (q2 q3 q4 q5 q6 : Nat → Int32), zq_min C L → 1 ≤ m → m < 63 → zq_cut C m.testBit = L → post (nI m) (f', a1, q2, q3, q4, q5, q6, a7, a8)) : wpX_leastSide post (f, a1, a2, a3, a4, a5, a6, a7, a8) := by
  refine zq_least hC (fun L q5 q6 hL => ?_)
  have hLb : L < 128 := by
    obtain ⟨⟨S, _, e⟩, _⟩ := hL
    have := hC.2.2.2.2 S
    omega
  refine ⟨6, pk_loopD (σ := Int32 × Int32 × Int32 × (Nat → Int32) × (Nat → Int32) × (Nat → Int32)) (fun n i s => wX_leastSide_12 post (nI L) n s.1 s.2.1 (nI i) s.2.2.1 a1 s.2.2.2.1 s.2.2.2.2.1 s.2.2.2.2.2 q5 q6 a7 a8)
    (fun i s => i ≤ 5 ∧ ∃ P Q : Nat, s.1 = nI P ∧ s.2.1 = nI Q ∧ zq_sI C L P Q i) ?_ ?_ 5 (1, 0, f, a2, a3, a4) ?_⟩
  · intro n s hI
    obtain ⟨x2, x3, fs, r2, r3, r4⟩ := s
    obtain ⟨_, P, Q, e1, e2, hP, hQ, h0, hset, _, S, hnt, hcut, hsp⟩ := hI
    have e1' : x2 = nI P := e1
    subst e1'
    have hPS : ∀ v, v < 6 → P.testBit v = S v := by
      intro v hv
      cases hp : P.testBit v with
      | true => exact (hsp.1 v hv hp).symm
      | false =>
        have hv0 : 0 < v := by
          rcases Nat.eq_zero_or_pos v with z | z
          · rw [z, h0] at hp
            exact absurd hp (by decide)
          · exact z
        rcases hset v hv hv0 with z | z
        · rw [hp] at z
          exact absurd z (by decide)
        · exact (hsp.2 v hv z).symm
    obtain ⟨_, ⟨v, hv, hSv⟩⟩ := hnt
    exact pk_le 0 0 (fun _ => H L P fs r2 r3 r4 q5 q6 hL (zq_m1 P hP 0 (by omega) h0) (zq_m63 P hP v hv (by rw [hPS v hv]; exact hSv)) ((zq_cut_congr (fun _ _ => rfl) hPS).trans hcut)) (fun z => absurd z (by omega))
  · intro n i s hI hw
    obtain ⟨x2, x3, fs, r2, r3, r4⟩ := s
    obtain ⟨hi5, P, Q, e1, e2, hP, hQ, h0, hset, hun, S, hnt, hcut, hsp⟩ := hI
    have e1' : x2 = nI P := e1
    have e2' : x3 = nI Q := e2
    subst e1' e2'
    have ha : i + 1 < 6 := by omega
    have tbQ := zq_or_tb Q hQ (i + 1) ha
    have tbP := zq_or_tb P hP (i + 1) ha
    have hPa : P.testBit (i + 1) = false := hun (i + 1) ha (by omega) (Nat.le_refl _)
    refine pk_le (i + 1) 0 (fun z => absurd z (by omega)) (fun _ => ?_)
    refine zq_flow' P (Q ||| 2 ^ (i + 1)) hC hP (zq_or Q hQ (i + 1) ha).2 ⟨fun _ _ z => z, fun u hu k => ?_⟩ rfl (zq_or Q hQ (i + 1) ha).1 (fun v f' t2 t3 t4 hv => ?_)
    · rw [tbQ u hu] at k
      by_cases c : u = i + 1
      · rw [c]
        exact hPa
      · have k2 : Q.testBit u = true := by simpa [c] using k
        have k3 := hsp.2 u hu k2
        cases hp : P.testBit u with
        | false => rfl
        | true =>
          rw [hsp.1 u hu hp] at k3
          exact absurd k3 (by decide)
    · have hgoal : ∀ T, zq_sp P (Q ||| 2 ^ (i + 1)) T → zq_nt T ∧ zq_sp P Q T := by
        intro T hT
        refine ⟨⟨⟨0, by omega, hT.1 0 (by omega) h0⟩, ⟨i + 1, ha, hT.2 (i + 1) ha (by rw [tbQ _ ha]; simp)⟩⟩, hT.1, fun u hu k => hT.2 u hu (by rw [tbQ u hu, k]; rfl)⟩
      have hvb : v < 128 := by
        obtain ⟨⟨T, _, e⟩, _⟩ := hv
        have := hC.2.2.2.2 T
        omega
      refine pk_eq v L (fun ev => ?_) (fun nv => ?_)
      · refine nm_r (zq_or Q hQ (i + 1) ha).1 (nm_r (pk_m1 i) (hw (nI P, nI (Q ||| 2 ^ (i + 1)), f', t2, t3, t4) ⟨by omega, P, Q ||| 2 ^ (i + 1), rfl, rfl, hP, (zq_or Q hQ (i + 1) ha).2, h0, ?_, fun u hu k1 k2 => hun u hu k1 (by omega), ?_⟩))
        · intro u hu k
          by_cases c : u = i + 1
          · exact Or.inr (by rw [tbQ u hu]; simp [c])
          · rcases hset u hu (by omega) with z | z
            · exact Or.inl z
            · exact Or.inr (by rw [tbQ u hu, z]; rfl)
        · obtain ⟨⟨T, hT, e⟩, _⟩ := hv
          exact ⟨T, (hgoal T hT).1, by omega, hT⟩
      · have hSa : S (i + 1) = true := by
          cases hq : S (i + 1) with
          | true => rfl
          | false =>
            exfalso
            have k1 := hv.2 S ⟨hsp.1, fun u hu k => by
              rw [tbQ u hu] at k
              by_cases c : u = i + 1
              · rw [c]
                exact hq
              · exact hsp.2 u hu (by simpa [c] using k)⟩
            obtain ⟨T, hT, e⟩ := hv.1
            have k2 := hL.2 T (hgoal T hT).1
            omega
        refine nm_r (zq_or P hP (i + 1) ha).1 (nm_r (pk_m1 i) (hw (nI (P ||| 2 ^ (i + 1)), nI Q, f', t2, t3, t4) ⟨by omega, P ||| 2 ^ (i + 1), Q, rfl, rfl, (zq_or P hP (i + 1) ha).2, hQ, by rw [tbP 0 (by omega), h0]; rfl, ?_, ?_, S, hnt, hcut, ?_, hsp.2⟩))
        · intro u hu k
          by_cases c : u = i + 1
          · exact Or.inl (by rw [tbP u hu]; simp [c])
          · rcases hset u hu (by omega) with z | z
            · exact Or.inl (by rw [tbP u hu, z]; rfl)
            · exact Or.inr z
        · intro u hu k1 k2
          rw [tbP u hu, hun u hu k1 (by omega)]
          have c : u ≠ i + 1 := by omega
          simp [c]
        · intro u hu k
          rw [tbP u hu] at k
          by_cases c : u = i + 1
          · rw [c]
            exact hSa
          · exact hsp.1 u hu (by simpa [c] using k)
  · refine ⟨Nat.le_refl 5, 1, 0, rfl, rfl, by omega, by omega, by decide, fun v hv k => absurd k (by omega), (by decide : ∀ v, v < 6 → 1 ≤ v → v ≤ 5 → (1 : Nat).testBit v = false), ?_⟩
    obtain ⟨S, hnt, e⟩ := hL.1
    cases h0 : S 0 with
    | true =>
      refine ⟨S, hnt, e, fun u hu k => ?_, fun u hu k => absurd k (by rw [zq_0]; decide)⟩
      have : u = 0 := (by decide : ∀ u, u < 6 → (1 : Nat).testBit u = true → u = 0) u hu k
      rw [this]
      exact h0
    | false =>
      obtain ⟨⟨u1, hu1, k1⟩, ⟨u2, hu2, k2⟩⟩ := hnt
      refine ⟨fun a => !S a, ⟨⟨u2, hu2, by simp [k2]⟩, ⟨u1, hu1, by simp [k1]⟩⟩, (zq_cut_compl hC.2.1 S).trans e, fun u hu k => ?_, fun u hu k => absurd k (by rw [zq_0]; decide)⟩
      have : u = 0 := (by decide : ∀ u, u < 6 → (1 : Nat).testBit u = true → u = 0) u hu k
      rw [this]
      simp [h0]
theorem zq_place {post : Int32 → Prop} {a : Nat} (ha : a < 6) (h : post 1) : wpX_isPlace post () (nI a) :=
  br_f (nI_pos (by omega)) (br_f (nI_ge (b := 6) ha (by omega)) h)
theorem zq_pair {A B : Prop} {a b : Nat} (ha : a < 6) (hb : b < 6) (hab : a ≠ b) (h : B) : wpX_isPair (fun r => (r = 0 → A) ∧ (¬ r = 0 → B)) () (nI a) (nI b) := by
  unfold wpX_isPair
  exact zq_place ha (br_f (by decide) (zq_place hb (br_f (by decide) (br_f (fun z => hab ((nI_eq (by omega) (by omega)).mp z)) (br_f (by decide) h)))))
theorem zq_between {post : Int32 → St2 → Prop} {C : Nat → Nat} {f : Int32} {a1 a2 a3 a4 a5 a6 a7 a8 : Nat → Int32} {a b : Nat} (hC : zq_ok a1 C) (ha : a < 6) (hb : b < 6) (hab : a ≠ b)
    (H : ∀ (v : Nat) (f' : Int32) (q2 q3 q4 : Nat → Int32), zq_fl C (2 ^ a) (2 ^ b) v → post (nI v) (f', a1, q2, q3, q4, a5, a6, a7, a8)) : wpX_between post (f, a1, a2, a3, a4, a5, a6, a7, a8) (nI a) (nI b) := by
  refine zq_pair ha hb hab (zq_flow' (2 ^ a) (2 ^ b) hC (zq_sh a ha).2 (zq_sh b hb).2 ⟨fun _ _ z => z, fun u hu k => ?_⟩ (zq_sh a ha).1 (zq_sh b hb).1 (fun v f' q2 q3 q4 hv => H v f' q2 q3 q4 hv))
  rw [zq_sh_tb b hb u hu] at k
  rw [zq_sh_tb a ha u hu]
  have e : u = b := by simpa using k
  rw [e]
  simp [Ne.symm hab]
theorem zq_put {post : St2 → Prop} {f x : Int32} {a1 a2 a3 a4 a5 a6 a7 a8 : Nat → Int32} {a b : Nat} (ha : a < 6) (hb : b < 6) (H : post (f, upd (upd a1 (a * 6 + b) x) (b * 6 + a) x, a2, a3, a4, a5, a6, a7, a8)) :
    wpX_put post (f, a1, a2, a3, a4, a5, a6, a7, a8) (nI a) (nI b) x :=
  And.intro (zq_ixin ha hb) (nm_r (e' := upd a1 (a * 6 + b) x) (by rw [zq_ixc ha hb]) ⟨zq_ixin hb ha, nm_r (e' := upd (upd a1 (a * 6 + b) x) (b * 6 + a) x) (by rw [zq_ixc hb ha]) H⟩)
theorem zq_set {post : Int32 → St2 → Prop} {f : Int32} {a1 a2 a3 a4 a5 a6 a7 a8 : Nat → Int32} {a b c : Nat} (ha : a < 6) (hb : b < 6) (hab : a ≠ b) (hc : c ≤ 30) (H : post 1 (f, upd (upd a1 (a * 6 + b) (nI c)) (b * 6 + a) (nI c), a2, a3, a4, a5, a6, a7, a8)) :
    wpX_set post (f, a1, a2, a3, a4, a5, a6, a7, a8) (nI a) (nI b) (nI c) :=
  zq_pair ha hb hab (br_f (nI_pos (by omega)) (br_t (nI_le (b := 30) hc (by omega)) (zq_put ha hb H)))
theorem zq_loss {post : Int32 → St2 → Prop} {C C0 : Nat → Nat} {f : Int32} {a1 a2 a3 a4 a5 a6 a7 a8 : Nat → Int32} {a b : Nat} (hC : zq_ok a1 C) (ha : a < 6) (hb : b < 6) (hab : a ≠ b) (hC0 : zq_ok (upd (upd a1 (a * 6 + b) 0) (b * 6 + a) 0) C0)
    (H : ∀ (L L0 : Nat) (q5 q6 : Nat → Int32), zq_min C L → zq_min C0 L0 → post (nI L - nI L0) (f, upd (upd (upd (upd a1 (a * 6 + b) 0) (b * 6 + a) 0) (a * 6 + b) (a1 (a * 6 + b))) (b * 6 + a) (a1 (a * 6 + b)), a2, a3, a4, q5, q6, a7, a8)) :
    wpX_loss post (f, a1, a2, a3, a4, a5, a6, a7, a8) (nI a) (nI b) := by
  refine zq_pair ha hb hab ⟨zq_ixin ha hb, nm_r (e' := a1 (a * 6 + b)) (by rw [zq_ixc ha hb]) ?_⟩
  refine zq_least hC (fun L q5 q6 hL => ?_)
  refine zq_put ha hb ?_
  refine zq_least hC0 (fun L0 r5 r6 hL0 => ?_)
  exact zq_put ha hb (H L L0 r5 r6 hL hL0)
theorem zq_co : ∀ m, m < 64 → (63 : Int32) &&& (nI m ^^^ (-1)) = nI (63 ^^^ m) ∧ 63 ^^^ m < 64 ∧ nI m &&& nI (63 ^^^ m) = 0 := by decide +kernel
theorem zq_co_tb : ∀ m, m < 64 → ∀ b, b < 6 → (63 ^^^ m).testBit b = !m.testBit b := by decide +kernel
theorem zq_co_lt : ∀ m, m < 64 → 1 ≤ m → m < 63 → 1 ≤ 63 ^^^ m ∧ 63 ^^^ m < 63 := by decide +kernel
theorem zq_self : ∀ m, m < 64 → 1 ≤ m → ¬ nI m &&& nI m = 0 := by decide +kernel
theorem zq_forced {post : Int32 → St2 → Prop} {C : Nat → Nat} {f p1 : Int32} {a1 a2 a3 a4 a5 a6 a7 a8 : Nat → Int32} {m : Nat} (hC : zq_ok a1 C) (hm1 : 1 ≤ m) (hm2 : m < 63) (h1 : p1 = nI (63 ^^^ m))
    (H : ∀ (f' : Int32) (q2 q3 q4 : Nat → Int32), post (nI (zq_cut C m.testBit)) (f', a1, q2, q3, q4, a5, a6, a7, a8)) : wpX_forced post (f, a1, a2, a3, a4, a5, a6, a7, a8) (nI m) p1 := by
  subst h1
  have hm : m < 64 := by omega
  have hq := zq_co_lt m hm hm1 hm2
  have hc := zq_co m hm
  have tb := zq_co_tb m hm
  refine br_f (nI_pos (by omega)) (br_f (nI_nlt (a := 63) (by omega) (by omega)) (br_f (nI_pos (by omega)) (br_f (nI_nlt (a := 63) (by omega) (by omega)) (br_t hc.2.2 (br_f (fun z => ?_) (br_f (fun z => ?_) (br_f (nI_ne0 (by omega) (by omega)) (br_f (nI_ne0 (by omega) (by omega))
    (zq_flow' m (63 ^^^ m) hC hm hc.2.1 ⟨fun _ _ z => z, fun u hu k => ?_⟩ rfl rfl (fun v f' q2 q3 q4 hv => ?_)))))))))) 
  · have := (nI_eq (a := m) (b := 63) (by omega) (by omega)).mp z
    omega
  · have := (nI_eq (a := 63 ^^^ m) (b := 63) (by omega) (by omega)).mp z
    omega
  · rw [tb u hu] at k
    simpa using k
  · obtain ⟨⟨S, hS, e⟩, _⟩ := hv
    have eq : zq_cut C m.testBit = v := by
      rw [← e]
      refine zq_cut_congr (fun _ _ => rfl) (fun u hu => ?_)
      cases h : m.testBit u with
      | true => exact (hS.1 u hu h).symm
      | false => exact (hS.2 u hu (by rw [tb u hu, h]; rfl)).symm
    rw [← eq]
    exact H f' q2 q3 q4
theorem zq_forced_self {post : Int32 → St2 → Prop} {u : St2} {m : Nat} (hm1 : 1 ≤ m) (hm2 : m < 63) (H : post (-1) u) : wpX_forced post u (nI m) (nI m) := by
  obtain ⟨f, a1, a2, a3, a4, a5, a6, a7, a8⟩ := u
  exact br_f (nI_pos (by omega)) (br_f (nI_nlt (a := 63) (by omega) (by omega)) (br_f (nI_pos (by omega)) (br_f (nI_nlt (a := 63) (by omega) (by omega)) (br_f (zq_self m (by omega) hm1) H))))
theorem zq_forced_out {post : Int32 → St2 → Prop} {u : St2} (H : post (-1) u) : wpX_forced post u 0 63 := by
  obtain ⟨f, a1, a2, a3, a4, a5, a6, a7, a8⟩ := u
  exact br_f (by decide) (br_f (by decide) (br_f (by decide) (br_f (by decide) (br_t (by decide) (br_f (by decide) (br_t rfl H))))))
theorem zq_forced_big {post : Int32 → St2 → Prop} {u : St2} (H : post (-1) u) : wpX_forced post u 64 0 := by
  obtain ⟨f, a1, a2, a3, a4, a5, a6, a7, a8⟩ := u
  exact br_f (by decide) (br_t (by decide) H)
theorem zq_pair_22 {A B : Prop} (h : A) : wpX_isPair (fun r => (r = 0 → A) ∧ (¬ r = 0 → B)) () 2 2 := by
  unfold wpX_isPair
  exact zq_place (a := 2) (by omega) (br_f (by decide) (zq_place (a := 2) (by omega) (br_f (by decide) (br_t rfl (br_t rfl h)))))
theorem zq_pair_06 {A B : Prop} (h : A) : wpX_isPair (fun r => (r = 0 → A) ∧ (¬ r = 0 → B)) () 0 6 := by
  unfold wpX_isPair
  refine zq_place (a := 0) (by omega) (br_f (by decide) ?_)
  unfold wpX_isPlace
  exact br_f (by decide) (br_t (by decide) (br_t rfl (br_t rfl h)))
theorem zq_set_22 {post : Int32 → St2 → Prop} {u : St2} (H : post 0 u) : wpX_set post u 2 2 1 := by
  obtain ⟨f, a1, a2, a3, a4, a5, a6, a7, a8⟩ := u
  exact zq_pair_22 H
theorem zq_set_31 {post : Int32 → St2 → Prop} {u : St2} (H : post 0 u) : wpX_set post u 0 1 31 := by
  obtain ⟨f, a1, a2, a3, a4, a5, a6, a7, a8⟩ := u
  exact zq_pair (a := 0) (b := 1) (by omega) (by omega) (by omega) (br_f (by decide) (br_f (by decide) H))
theorem zq_cap_06 {post : Int32 → Prop} {u : St2} (H : post (-1)) : wpX_capacity post u 0 6 := by
  obtain ⟨f, a1, a2, a3, a4, a5, a6, a7, a8⟩ := u
  exact zq_pair_06 H
end
section
/-! the cycle: c k between k and k + 1 -/
def zq_cyc (c : Nat → Nat) (j : Nat) : Nat := if j % 6 = (j / 6 + 1) % 6 then c (j / 6) else if j / 6 = (j % 6 + 1) % 6 then c (j % 6) else 0
theorem zq_cyc_at (c : Nat → Nat) (a b : Nat) (hb : b < 6) : zq_cyc c (a * 6 + b) = if b = (a + 1) % 6 then c a else if a = (b + 1) % 6 then c b else 0 := by
  have h1 : (a * 6 + b) / 6 = a := by omega
  have h2 : (a * 6 + b) % 6 = b := by omega
  unfold zq_cyc
  rw [h1, h2]
theorem zq_cyc_sy (c : Nat → Nat) (a b : Nat) (ha : a < 6) (hb : b < 6) : zq_cyc c (a * 6 + b) = zq_cyc c (b * 6 + a) := by
  rw [zq_cyc_at c a b hb, zq_cyc_at c b a ha]
  by_cases h1 : b = (a + 1) % 6
  · have h2 : ¬ a = (b + 1) % 6 := by omega
    rw [if_pos h1, if_neg h2, if_pos h1]
  · by_cases h2 : a = (b + 1) % 6
    · rw [if_neg h1, if_pos h2, if_pos h2]
    · rw [if_neg h1, if_neg h2, if_neg h2, if_neg h1]
theorem zq_cyc_dg (c : Nat → Nat) (a : Nat) (ha : a < 6) : zq_cyc c (a * 6 + a) = 0 := by
  rw [zq_cyc_at c a a ha, if_neg (by omega), if_neg (by omega)]
theorem zq_cyc_bd {c : Nat → Nat} (h : ∀ k, k < 6 → c k ≤ 16) (j : Nat) (hj : j < 36) : zq_cyc c j ≤ 16 := by
  unfold zq_cyc
  split
  · exact h _ (by omega)
  · split
    · exact h _ (by omega)
    · omega
def zq_cs (c : Nat → Nat) (S : Nat → Bool) : Nat := zq_sum (fun k => if (S k != S ((k + 1) % 6)) = true then c k else 0) 6
theorem zq_cut_cyc (c : Nat → Nat) (S : Nat → Bool) : zq_cut (zq_cyc c) S = zq_cs c S := by
  have key : zq_cut (zq_cyc c) S = zq_s2 (fun a b => (if b = (a + 1) % 6 then (if (S a && !S b) = true then c a else 0) else 0) + (if a = (b + 1) % 6 then (if (S a && !S b) = true then c b else 0) else 0)) := by
    refine zq_s2_congr (fun a b ha hb => ?_)
    rw [zq_cyc_at c a b hb]
    by_cases h1 : b = (a + 1) % 6
    · have h2 : ¬ a = (b + 1) % 6 := by omega
      simp only [if_pos h1, if_neg h2, Nat.add_zero]
    · by_cases h2 : a = (b + 1) % 6
      · simp only [if_neg h1, if_pos h2, Nat.zero_add]
      · simp only [if_neg h1, if_neg h2, Nat.add_zero, ite_self]
  have e1 : zq_s2 (fun a b => if b = (a + 1) % 6 then (if (S a && !S b) = true then c a else 0) else 0) = zq_sum (fun a => if (S a && !S ((a + 1) % 6)) = true then c a else 0) 6 :=
    zq_sum_congr 6 (fun a _ => (zq_sum_delta (fun b => if (S a && !S b) = true then c a else 0) ((a + 1) % 6) 6).trans (if_pos (by omega)))
  have e2 : zq_s2 (fun a b => if a = (b + 1) % 6 then (if (S a && !S b) = true then c b else 0) else 0) = zq_sum (fun b => if (S ((b + 1) % 6) && !S b) = true then c b else 0) 6 :=
    (zq_s2_swap (fun a b => if a = (b + 1) % 6 then (if (S a && !S b) = true then c b else 0) else 0)).symm.trans
      (zq_sum_congr 6 (fun b _ => (zq_sum_delta (fun a => if (S a && !S b) = true then c b else 0) ((b + 1) % 6) 6).trans (if_pos (by omega))))
  rw [key, zq_s2_add, e1, e2, ← zq_sum_add]
  refine zq_sum_congr 6 (fun k _ => ?_)
  generalize (k + 1) % 6 = k'
  cases S k <;> cases S k' <;> simp
theorem zq_cyc_ok {a1 : Nat → Int32} {c : Nat → Nat} (h1 : ∀ j, j < 36 → a1 j = nI (zq_cyc c j)) (hc : ∀ k, k < 6 → c k ≤ 16) : zq_ok a1 (zq_cyc c) := by
  refine ⟨h1, fun a b ha hb => zq_cyc_sy c a b ha hb, fun a ha => zq_cyc_dg c a ha, fun j hj => ?_, fun S => ?_⟩
  · have := zq_cyc_bd hc j hj
    omega
  · rw [zq_cut_cyc]
    have : zq_cs c S ≤ 6 * 16 := by
      refine zq_sum_bd 6 (fun k hk => ?_)
      have := hc k hk
      split <;> omega
    omega
theorem zq_ivt {S : Nat → Bool} (d : Nat) : ∀ u, S u ≠ S (u + d) → ∃ p, u ≤ p ∧ p < u + d ∧ S p ≠ S (p + 1) := by
  induction d with
  | zero =>
    intro u h
    exact absurd rfl h
  | succ d ih =>
    intro u h
    by_cases e : S u = S (u + 1)
    · obtain ⟨p, p1, p2, p3⟩ := ih (u + 1) (by rw [← e, show u + 1 + d = u + (d + 1) by omega]; exact h)
      exact ⟨p, by omega, by omega, p3⟩
    · exact ⟨u, Nat.le_refl u, by omega, e⟩
theorem zq_two {S : Nat → Bool} {u v : Nat} (huv : u < v) (hv : v < 6) (hS : S u ≠ S v) : ∃ p q, u ≤ p ∧ p < v ∧ q < 6 ∧ (q < u ∨ v ≤ q) ∧ S p ≠ S ((p + 1) % 6) ∧ S q ≠ S ((q + 1) % 6) := by
  obtain ⟨p, p1, p2, p3⟩ := zq_ivt (S := S) (v - u) u (by rw [show u + (v - u) = v by omega]; exact hS)
  have hp : S p ≠ S ((p + 1) % 6) := by
    rw [show (p + 1) % 6 = p + 1 by omega]
    exact p3
  by_cases e5 : S 5 = S 0
  · by_cases e1 : S v = S 5
    · obtain ⟨q, q1, q2, q3⟩ := zq_ivt (S := S) u 0 (by rw [Nat.zero_add, ← e5, ← e1]; exact Ne.symm hS)
      exact ⟨p, q, p1, by omega, by omega, Or.inl (by omega), hp, by rw [show (q + 1) % 6 = q + 1 by omega]; exact q3⟩
    · obtain ⟨q, q1, q2, q3⟩ := zq_ivt (S := S) (5 - v) v (by rw [show v + (5 - v) = 5 by omega]; exact e1)
      exact ⟨p, q, p1, by omega, by omega, Or.inr (by omega), hp, by rw [show (q + 1) % 6 = q + 1 by omega]; exact q3⟩
  · exact ⟨p, 5, p1, by omega, by omega, Or.inr (by omega), hp, e5⟩
theorem zq_sum_two {f : Nat → Nat} {n p q : Nat} (hp : p < n) (hq : q < n) (hpq : p ≠ q) : f p + f q ≤ zq_sum f n := by
  have e : zq_sum (fun i => (if i = p then f i else 0) + (if i = q then f i else 0)) n = f p + f q := by
    rw [zq_sum_add, zq_sum_delta, zq_sum_delta, if_pos hp, if_pos hq]
  rw [← e]
  refine zq_sum_le n (fun i _ => ?_)
  by_cases e1 : i = p
  · have e2 : ¬ i = q := by omega
    rw [if_pos e1, if_neg e2]
    exact Nat.le_refl _
  · rw [if_neg e1, Nat.zero_add]
    split
    · exact Nat.le_refl _
    · exact Nat.zero_le _
theorem zq_cs_ge {c : Nat → Nat} {S : Nat → Bool} {p q : Nat} (hp : p < 6) (hq : q < 6) (hpq : p ≠ q) (h1 : S p ≠ S ((p + 1) % 6)) (h2 : S q ≠ S ((q + 1) % 6)) : c p + c q ≤ zq_cs c S := by
  have k := zq_sum_two (f := fun k => if (S k != S ((k + 1) % 6)) = true then c k else 0) hp hq hpq
  have e1 : (S p != S ((p + 1) % 6)) = true := by simpa using h1
  have e2 : (S q != S ((q + 1) % 6)) = true := by simpa using h2
  have k' : (if (S p != S ((p + 1) % 6)) = true then c p else 0) + (if (S q != S ((q + 1) % 6)) = true then c q else 0) ≤ zq_cs c S := k
  rw [if_pos e1, if_pos e2] at k'
  exact k'
theorem zq_arc_d : ∀ p, p < 6 → ∀ q, q < 6 → ∀ k, k < 6 → p < q → (decide (p < k ∧ k ≤ q) != decide (p < (k + 1) % 6 ∧ (k + 1) % 6 ≤ q)) = (decide (k = p) || decide (k = q)) := by decide +kernel
theorem zq_arc (c : Nat → Nat) {p q : Nat} (hpq : p < q) (hq : q < 6) (fl : Bool) : zq_cs c (fun k => decide (p < k ∧ k ≤ q) ^^ fl) = c p + c q := by
  have e : zq_sum (fun i => (if i = p then c i else 0) + (if i = q then c i else 0)) 6 = c p + c q := by
    rw [zq_sum_add, zq_sum_delta, zq_sum_delta, if_pos (by omega), if_pos hq]
  rw [← e]
  refine zq_sum_congr 6 (fun k hk => ?_)
  have d := zq_arc_d p (by omega) q hq k hk hpq
  have d2 : ((decide (p < k ∧ k ≤ q) ^^ fl) != (decide (p < (k + 1) % 6 ∧ (k + 1) % 6 ≤ q) ^^ fl)) = (decide (k = p) || decide (k = q)) := by
    rw [← d]
    generalize decide (p < k ∧ k ≤ q) = x
    generalize decide (p < (k + 1) % 6 ∧ (k + 1) % 6 ≤ q) = y
    cases x <;> cases y <;> cases fl <;> rfl
  show (if ((decide (p < k ∧ k ≤ q) ^^ fl) != (decide (p < (k + 1) % 6 ∧ (k + 1) % 6 ≤ q) ^^ fl)) = true then c k else 0) = _
  rw [d2]
  by_cases e1 : k = p
  · have e2 : ¬ k = q := by omega
    simp [e1, show ¬ p = q by omega]
  · by_cases e2 : k = q
    · simp [e2, show ¬ q = p by omega]
    · simp [e1, e2]
theorem zq_min_u {C : Nat → Nat} {L L' : Nat} (h : zq_min C L) (h' : zq_min C L') : L = L' := by
  obtain ⟨⟨S, s1, s2⟩, s3⟩ := h
  obtain ⟨⟨S', t1, t2⟩, t3⟩ := h'
  have k1 := s3 S' t1
  have k2 := t3 S s1
  omega
theorem zq_cyc_min {c : Nat → Nat} {i j : Nat} (hi : i < 6) (hj : j < 6) (hij : i ≠ j) (h1 : c i ≤ c j) (h2 : ∀ t, t < 6 → t ≠ i → c j ≤ c t) : zq_min (zq_cyc c) (c i + c j) := by
  constructor
  · rcases Nat.lt_or_gt_of_ne hij with z | z
    · refine ⟨fun k => decide (i < k ∧ k ≤ j) ^^ false, ⟨⟨j, hj, ?_⟩, ⟨i, hi, ?_⟩⟩, ?_⟩
      · simp [z]
      · simp
      · rw [zq_cut_cyc, zq_arc c z hj]
    · refine ⟨fun k => decide (j < k ∧ k ≤ i) ^^ false, ⟨⟨i, hi, ?_⟩, ⟨j, hj, ?_⟩⟩, ?_⟩
      · simp [z]
      · simp
      · rw [zq_cut_cyc, zq_arc c z hi, Nat.add_comm]
  · intro S hS
    rw [zq_cut_cyc]
    have two : ∃ p q, p < 6 ∧ q < 6 ∧ p ≠ q ∧ S p ≠ S ((p + 1) % 6) ∧ S q ≠ S ((q + 1) % 6) := by
      obtain ⟨⟨u, hu, k1⟩, ⟨v, hv, k2⟩⟩ := hS
      have hne : u ≠ v := by
        intro e
        rw [e, k2] at k1
        exact absurd k1 (by decide)
      rcases Nat.lt_or_gt_of_ne hne with z | z
      · obtain ⟨p, q, r1, r2, r3, r4, r5, r6⟩ := zq_two (S := S) z hv (by rw [k1, k2]; decide)
        exact ⟨p, q, by omega, r3, by omega, r5, r6⟩
      · obtain ⟨p, q, r1, r2, r3, r4, r5, r6⟩ := zq_two (S := S) z hu (by rw [k1, k2]; decide)
        exact ⟨p, q, by omega, r3, by omega, r5, r6⟩
    obtain ⟨p, q, hp, hq, hpq, r5, r6⟩ := two
    have k := zq_cs_ge (c := c) hp hq hpq r5 r6
    by_cases e : p = i
    · have k2 := h2 q hq (by omega)
      rw [e] at k
      omega
    · have k2 := h2 p hp e
      by_cases e' : q = i
      · rw [e'] at k
        omega
      · have k3 := h2 q hq e'
        omega
theorem zq_arc_sp {P Q a b : Nat} (ha : a < 6) (hb : b < 6) (hx : decide (P < b ∧ b ≤ Q) = !decide (P < a ∧ a ≤ Q)) : zq_sp (2 ^ a) (2 ^ b) (fun k => decide (P < k ∧ k ≤ Q) ^^ !decide (P < a ∧ a ≤ Q)) := by
  constructor
  · intro u hu k
    rw [zq_sh_tb a ha u hu] at k
    have e : u = a := by simpa using k
    rw [e]
    show (decide (P < a ∧ a ≤ Q) ^^ !decide (P < a ∧ a ≤ Q)) = true
    cases decide (P < a ∧ a ≤ Q) <;> rfl
  · intro u hu k
    rw [zq_sh_tb b hb u hu] at k
    have e : u = b := by simpa using k
    rw [e]
    show (decide (P < b ∧ b ≤ Q) ^^ !decide (P < a ∧ a ≤ Q)) = false
    rw [hx]
    cases decide (P < a ∧ a ≤ Q) <;> rfl
theorem zq_cyc_fl {c : Nat → Nat} {low high p q a b v : Nat} (hlh : low < high) (hh : high < 6) (hp1 : low ≤ p) (hp2 : p < high) (hq1 : q < 6) (hq2 : q < low ∨ high ≤ q) (hin : ∀ t, low ≤ t → t < high → c p ≤ c t) (hout : ∀ t, t < 6 → (t < low ∨ high ≤ t) → c q ≤ c t)
    (hab : (a = low ∧ b = high) ∨ (a = high ∧ b = low)) (hv : zq_fl (zq_cyc c) (2 ^ a) (2 ^ b) v) : v = c p + c q := by
  have ha : a < 6 := by omega
  have hb : b < 6 := by omega
  have lower : c p + c q ≤ v := by
    obtain ⟨⟨S, hS, e⟩, _⟩ := hv
    have sa : S a = true := hS.1 a ha (by rw [zq_sh_tb a ha a ha]; simp)
    have sb : S b = false := hS.2 b hb (by rw [zq_sh_tb b hb b hb]; simp)
    have hne : S low ≠ S high := by
      rcases hab with ⟨e1, e2⟩ | ⟨e1, e2⟩
      · rw [← e1, ← e2, sa, sb]
        decide
      · rw [← e1, ← e2, sa, sb]
        decide
    obtain ⟨p', q', r1, r2, r3, r4, r5, r6⟩ := zq_two hlh hh hne
    have k := zq_cs_ge (c := c) (by omega) r3 (by omega) r5 r6
    rw [← zq_cut_cyc, e] at k
    have k1 := hin p' r1 r2
    have k2 := hout q' r3 r4
    omega
  have upper : v ≤ c p + c q := by
    rcases hq2 with z | z
    · have hx : decide (q < b ∧ b ≤ p) = !decide (q < a ∧ a ≤ p) := by
        rcases hab with ⟨e1, e2⟩ | ⟨e1, e2⟩
        · rw [decide_eq_false (show ¬ (q < b ∧ b ≤ p) by omega), decide_eq_true (show q < a ∧ a ≤ p by omega)]
          rfl
        · rw [decide_eq_true (show q < b ∧ b ≤ p by omega), decide_eq_false (show ¬ (q < a ∧ a ≤ p) by omega)]
          rfl
      have k := hv.2 _ (zq_arc_sp ha hb hx)
      rw [zq_cut_cyc, zq_arc c (show q < p by omega) (show p < 6 by omega)] at k
      omega
    · have hx : decide (p < b ∧ b ≤ q) = !decide (p < a ∧ a ≤ q) := by
        rcases hab with ⟨e1, e2⟩ | ⟨e1, e2⟩
        · rw [decide_eq_true (show p < b ∧ b ≤ q by omega), decide_eq_false (show ¬ (p < a ∧ a ≤ q) by omega)]
          rfl
        · rw [decide_eq_false (show ¬ (p < b ∧ b ≤ q) by omega), decide_eq_true (show p < a ∧ a ≤ q by omega)]
          rfl
      have k := hv.2 _ (zq_arc_sp ha hb hx)
      rw [zq_cut_cyc, zq_arc c (show p < q by omega) hq1] at k
      exact k
  omega
theorem zq_cyc_put {a1 : Nat → Int32} {c : Nat → Nat} {k v : Nat} (hk : k < 6) (h : ∀ j, j < 36 → a1 j = nI (zq_cyc c j)) :
    ∀ j, j < 36 → upd (upd a1 (k * 6 + (k + 1) % 6) (nI v)) ((k + 1) % 6 * 6 + k) (nI v) j = nI (zq_cyc (fun t => if t = k then v else c t) j) := by
  intro j hj
  by_cases e1 : j = (k + 1) % 6 * 6 + k
  · rw [e1, pk_us, zq_cyc_at _ _ _ hk, if_neg (by omega), if_pos rfl, if_pos rfl]
  · by_cases e2 : j = k * 6 + (k + 1) % 6
    · rw [pk_un e1, e2, pk_us, zq_cyc_at _ _ _ (by omega), if_pos rfl, if_pos rfl]
    · rw [pk_un e1, pk_un e2, h j hj]
      refine congrArg nI ?_
      unfold zq_cyc
      by_cases c1 : j % 6 = (j / 6 + 1) % 6
      · rw [if_pos c1, if_pos c1]
        exact (if_neg (show ¬ j / 6 = k by omega)).symm
      · by_cases c2 : j / 6 = (j % 6 + 1) % 6
        · rw [if_neg c1, if_neg c1, if_pos c2, if_pos c2]
          exact (if_neg (show ¬ j % 6 = k by omega)).symm
        · rw [if_neg c1, if_neg c1, if_neg c2, if_neg c2]
/-- x is the least of c over the places of D below k, 100 if there is none -/
def zq_ms (c : Nat → Nat) (D : Nat → Prop) (k x : Nat) : Prop := x ≤ 100 ∧ (∀ t, t < k → D t → x ≤ c t) ∧ ((x = 100 ∧ ∀ t, t < k → ¬ D t) ∨ ∃ t, t < k ∧ D t ∧ c t = x)
theorem zq_ms_0 (c : Nat → Nat) (D : Nat → Prop) : zq_ms c D 0 100 := ⟨Nat.le_refl _, fun t ht => absurd ht (Nat.not_lt_zero t), Or.inl ⟨rfl, fun t ht => absurd ht (Nat.not_lt_zero t)⟩⟩
theorem zq_ms_y {c : Nat → Nat} {D : Nat → Prop} {k x : Nat} (h : zq_ms c D k x) (hc : c k ≤ 16) (hD : D k) : zq_ms c D (k + 1) (min x (c k)) := by
  obtain ⟨h0, h1, h2⟩ := h
  refine ⟨by omega, ?_, ?_⟩
  · intro t ht hd
    by_cases e : t = k
    · rw [e]
      omega
    · have := h1 t (by omega) hd
      omega
  · refine Or.inr ?_
    by_cases e : x ≤ c k
    · rcases h2 with ⟨z, _⟩ | ⟨t, t1, t2, t3⟩
      · omega
      · exact ⟨t, by omega, t2, by omega⟩
    · exact ⟨k, by omega, hD, by omega⟩
theorem zq_ms_n {c : Nat → Nat} {D : Nat → Prop} {k x : Nat} (h : zq_ms c D k x) (hD : ¬ D k) : zq_ms c D (k + 1) x := by
  obtain ⟨h0, h1, h2⟩ := h
  have lt : ∀ t, t < k + 1 → D t → t < k := by
    intro t ht hd
    by_cases e : t = k
    · rw [e] at hd
      exact absurd hd hD
    · omega
  refine ⟨h0, fun t ht hd => h1 t (lt t ht hd) hd, ?_⟩
  rcases h2 with ⟨z, g⟩ | ⟨t, t1, t2, t3⟩
  · exact Or.inl ⟨z, fun t ht hd => g t (lt t ht hd) hd⟩
  · exact Or.inr ⟨t, by omega, t2, t3⟩
theorem zq_ms_x {c : Nat → Nat} {D : Nat → Prop} {k x : Nat} (h : zq_ms c D k x) {t0 : Nat} (h0 : t0 < k) (hD : D t0) : ∃ t, t < k ∧ D t ∧ c t = x := by
  rcases h.2.2 with ⟨_, g⟩ | z
  · exact absurd hD (g t0 h0)
  · exact z
/-- the two least of c below k -/
def zq_fs (c : Nat → Nat) (k x y : Nat) : Prop :=
  x ≤ y ∧ y ≤ 100 ∧ ((k = 0 ∧ x = 100 ∧ y = 100) ∨ ∃ i, i < k ∧ c i = x ∧ (∀ t, t < k → t ≠ i → y ≤ c t) ∧ ((k = 1 ∧ y = 100) ∨ ∃ j, j < k ∧ j ≠ i ∧ c j = y))
theorem zq_fs_0 (c : Nat → Nat) : zq_fs c 0 100 100 := ⟨Nat.le_refl _, Nat.le_refl _, Or.inl ⟨rfl, rfl, rfl⟩⟩
theorem zq_fs_lt {c : Nat → Nat} {k x y : Nat} (h : zq_fs c k x y) (hc : c k < x) : zq_fs c (k + 1) (c k) x := by
  obtain ⟨h1, h2, h3⟩ := h
  refine ⟨by omega, by omega, Or.inr ⟨k, by omega, rfl, ?_, ?_⟩⟩
  · intro t ht hne
    rcases h3 with ⟨z, _, _⟩ | ⟨i, i1, i2, i3, _⟩
    · omega
    · by_cases e : t = i
      · rw [e]
        omega
      · have := i3 t (by omega) e
        omega
  · rcases h3 with ⟨z, z2, _⟩ | ⟨i, i1, i2, i3, _⟩
    · exact Or.inl ⟨by omega, z2⟩
    · exact Or.inr ⟨i, by omega, by omega, i2⟩
theorem zq_fs_ge {c : Nat → Nat} {k x y : Nat} (h : zq_fs c k x y) (hc : x ≤ c k) (hb : c k ≤ 16) : zq_fs c (k + 1) x (min y (c k)) := by
  obtain ⟨h1, h2, h3⟩ := h
  rcases h3 with ⟨z, z2, _⟩ | ⟨i, i1, i2, i3, i4⟩
  · omega
  · refine ⟨by omega, by omega, Or.inr ⟨i, by omega, i2, ?_, Or.inr ?_⟩⟩
    · intro t ht hne
      by_cases e : t = k
      · rw [e]
        omega
      · have := i3 t (by omega) hne
        omega
    · by_cases e : y ≤ c k
      · rcases i4 with ⟨_, z⟩ | ⟨j, j1, j2, j3⟩
        · omega
        · exact ⟨j, by omega, j2, by omega⟩
      · exact ⟨k, by omega, by omega, by omega⟩
theorem zq_fs_x {c : Nat → Nat} {x y : Nat} (h : zq_fs c 6 x y) : ∃ i j, i < 6 ∧ j < 6 ∧ i ≠ j ∧ c i = x ∧ c j = y ∧ x ≤ y ∧ ∀ t, t < 6 → t ≠ i → y ≤ c t := by
  obtain ⟨h1, h2, h3⟩ := h
  rcases h3 with ⟨z, _, _⟩ | ⟨i, i1, i2, i3, i4⟩
  · omega
  · rcases i4 with ⟨z, _⟩ | ⟨j, j1, j2, j3⟩
    · omega
    · exact ⟨i, j, i1, j1, Ne.symm j2, i2, j3, h1, i3⟩
/-- the link at l cut: what is left is the least of the others -/
theorem zq_fs_cut {c : Nat → Nat} {x y l : Nat} (h : zq_fs c 6 x y) (hl : l < 6) : zq_min (zq_cyc (fun t => if t = l then 0 else c t)) (if c l = x then y else x) := by
  obtain ⟨i, j, hi, hj, hij, e1, e2, h1, h2⟩ := zq_fs_x h
  have main : ∀ r, r < 6 → r ≠ l → (∀ t, t < 6 → t ≠ l → c r ≤ c t) → zq_min (zq_cyc (fun t => if t = l then 0 else c t)) (c r) := by
    intro r hr hrl hall
    have k := zq_cyc_min (c := fun t => if t = l then 0 else c t) hl hr (Ne.symm hrl) (by simp) (fun t ht hne => by
      show (if r = l then 0 else c r) ≤ if t = l then 0 else c t
      rw [if_neg hrl, if_neg hne]
      exact hall t ht hne)
    have e : (if l = l then 0 else c l) + (if r = l then 0 else c r) = c r := by
      rw [if_pos rfl, if_neg hrl, Nat.zero_add]
    have k' : zq_min (zq_cyc (fun t => if t = l then 0 else c t)) ((if l = l then 0 else c l) + (if r = l then 0 else c r)) := k
    rw [e] at k'
    exact k'
  by_cases e : c l = x
  · rw [if_pos e]
    by_cases el : l = i
    · rw [← e2]
      exact main j hj (by omega) (fun t ht hne => by rw [e2]; exact h2 t ht (by omega))
    · have k := h2 l hl el
      have ey : y = c i := by omega
      rw [ey]
      refine main i hi (Ne.symm el) (fun t ht hne => ?_)
      by_cases et : t = i
      · rw [et]
        exact Nat.le_refl _
      · have := h2 t ht et
        omega
  · rw [if_neg e, ← e1]
    have el : i ≠ l := by
      intro z
      rw [z] at e1
      exact e e1
    refine main i hi el (fun t ht hne => ?_)
    by_cases et : t = i
    · rw [et]
      exact Nat.le_refl _
    · have := h2 t ht et
      omega
end
section
/-! the law's numbers and its loops -/
def zq_c (x0 x1 : Int32) (k : Nat) : Nat := (x0 >>> ((4 * nI k) &&& 31)).toBitVec.toNat % 2 ^ 4 + (x1 >>> (nI k &&& 31)).toBitVec.toNat % 2 ^ 1
theorem zq_c_eq (x0 x1 : Int32) (k : Nat) : ((x0 >>> ((4 * nI k) &&& 31)) &&& 15) + ((x1 >>> (nI k &&& 31)) &&& 1) = nI (zq_c x0 x1 k) := by
  rw [pk_and _ 4 (m := 15) (by decide), pk_and _ 1 (m := 1) (by decide), nI_add]
  rfl
theorem zq_c_le (x0 x1 : Int32) (k : Nat) : zq_c x0 x1 k ≤ 16 := by
  unfold zq_c
  omega
theorem zq_rem6 {k : Nat} (hk : k < 6) : (nI k + 1) - (nI k + 1) / 6 * 6 = nI ((k + 1) % 6) := by
  rw [nI_1]
  exact pk_rem (d := 6) (by omega) (by omega) (by omega)
theorem zq_cyc_congr {c c' : Nat → Nat} (h : ∀ t, t < 6 → c t = c' t) (j : Nat) (hj : j < 36) : zq_cyc c j = zq_cyc c' j := by
  unfold zq_cyc
  rw [h (j / 6) (by omega), h (j % 6) (by omega)]
theorem zq_lmin {post : Int32 → Prop} {a b : Nat} (ha : a < 2 ^ 31) (hb : b < 2 ^ 31) (h : post (nI (min a b))) : wpL_min post () (nI a) (nI b) :=
  pk_le b a (fun z => by rw [Nat.min_eq_right z] at h; exact h) (fun z => by rw [Nat.min_eq_left (Nat.le_of_lt z)] at h; exact h) rfl rfl hb ha
theorem zq_set' {post : Int32 → St2 → Prop} {f p1 : Int32} {a1 a2 a3 a4 a5 a6 a7 a8 : Nat → Int32} {a b : Nat} (c : Nat) (ha : a < 6) (hb : b < 6) (hab : a ≠ b) (hc : c ≤ 30) (h1 : p1 = nI b) (H : post 1 (f, upd (upd a1 (a * 6 + b) (nI c)) (b * 6 + a) (nI c), a2, a3, a4, a5, a6, a7, a8)) :
    wpX_set post (f, a1, a2, a3, a4, a5, a6, a7, a8) (nI a) p1 (nI c) := by
  subst h1
  exact zq_set ha hb hab hc H
theorem zq_loss' {post : Int32 → St2 → Prop} {C C0 : Nat → Nat} {f p1 : Int32} {a1 a2 a3 a4 a5 a6 a7 a8 : Nat → Int32} {a b : Nat} (hC : zq_ok a1 C) (ha : a < 6) (hb : b < 6) (hab : a ≠ b) (h1 : p1 = nI b) (hC0 : zq_ok (upd (upd a1 (a * 6 + b) 0) (b * 6 + a) 0) C0)
    (H : ∀ (L L0 : Nat) (q5 q6 : Nat → Int32), zq_min C L → zq_min C0 L0 → post (nI L - nI L0) (f, upd (upd (upd (upd a1 (a * 6 + b) 0) (b * 6 + a) 0) (a * 6 + b) (a1 (a * 6 + b))) (b * 6 + a) (a1 (a * 6 + b)), a2, a3, a4, q5, q6, a7, a8)) :
    wpX_loss post (f, a1, a2, a3, a4, a5, a6, a7, a8) (nI a) p1 := by
  subst h1
  exact zq_loss hC ha hb hab hC0 H
section
variable {post : Int32 → St0 → Prop} {mc ms kc ks : Nat} {J88 : Int32 → Int32 → Int32 → Int32 → Int32 → Int32 → Int32 → (Nat → Int32) → (Nat → Int32) → (Nat → Int32) → (Nat → Int32) → (Nat → Int32) → (Nat → Int32) → (Nat → Int32) → (Nat → Int32) → Prop} {x0 x1 x5 x6 x7 x8 f : Int32} {a1 a2 a3 a4 a5 a6 a7 a8 : Nat → Int32} {c : Nat → Nat} {ii oo fi se k : Nat}
theorem zq_209 (hf : fi ≤ 100) (hc : c k ≤ 16) (H : J88 1 (nI ii) (nI oo) (nI (min fi (c k))) (nI se) (nI (k + 1)) f a1 a2 a3 a4 a5 a6 a7 a8) :
    wL_lawOf_209 post mc ms J88 x0 x1 x5 x6 x7 x8 1 (nI ii) (nI oo) (nI fi) (nI k) (nI (c k)) 1 (nI se) kc ks f a1 a2 a3 a4 a5 a6 a7 a8 := by
  unfold wL_lawOf_209
  exact zq_lmin (by omega) (by omega) (br_f (by decide) (br_f (by decide) (nm_r (nI_1 k) H)))
theorem zq_188 (h : zq_fs c k fi se) (hc : c k ≤ 16) (H : ∀ fi' se', zq_fs c (k + 1) fi' se' → J88 1 (nI ii) (nI oo) (nI fi') (nI se') (nI (k + 1)) f a1 a2 a3 a4 a5 a6 a7 a8) :
    wL_lawOf_188 post mc ms J88 x0 x1 x5 x6 x7 x8 1 (nI ii) (nI fi) (nI se) (nI k) (nI (c k)) 1 (nI oo) kc ks f a1 a2 a3 a4 a5 a6 a7 a8 := by
  have h1 := h.1
  have h2 := h.2.1
  unfold wL_lawOf_188
  refine pk_le fi (c k) (fun z => zq_lmin (by omega) (by omega) (zq_209 (by omega) hc (H _ _ ?_))) (fun z => zq_209 (by omega) hc (H _ _ ?_)) rfl rfl (by omega) (by omega)
  · rw [Nat.min_eq_left z]
    exact zq_fs_ge h z hc
  · rw [Nat.min_eq_right (Nat.le_of_lt z)]
    exact zq_fs_lt h z
theorem zq_150y (h : zq_fs c k fi se) (hc : c k ≤ 16) (hi : ii ≤ 100) (H : ∀ fi' se', zq_fs c (k + 1) fi' se' → J88 1 (nI (min ii (c k))) (nI oo) (nI fi') (nI se') (nI (k + 1)) f a1 a2 a3 a4 a5 a6 a7 a8) :
    wL_lawOf_150 post mc ms J88 x0 x1 x5 x6 x7 x8 1 (nI ii) (nI oo) (nI fi) (nI se) (nI k) (nI (c k)) 1 1 kc ks f a1 a2 a3 a4 a5 a6 a7 a8 := by
  unfold wL_lawOf_150
  refine br_f (by decide) (zq_lmin (by omega) (by omega) ?_)
  unfold wL_lawOf_169
  exact br_f (by decide) (zq_188 h hc H)
theorem zq_149n (h : zq_fs c k fi se) (hc : c k ≤ 16) (ho : oo ≤ 100) (H : ∀ fi' se', zq_fs c (k + 1) fi' se' → J88 1 (nI ii) (nI (min oo (c k))) (nI fi') (nI se') (nI (k + 1)) f a1 a2 a3 a4 a5 a6 a7 a8) :
    wL_lawOf_149 post mc ms J88 x0 x1 x5 x6 x7 x8 1 (nI ii) (nI oo) (nI fi) (nI se) (nI k) (nI (c k)) 1 kc ks f a1 a2 a3 a4 a5 a6 a7 a8 := by
  unfold wL_lawOf_149 wL_lawOf_150
  refine br_t rfl ?_
  unfold wL_lawOf_169
  exact br_t rfl (zq_lmin (by omega) (by omega) (zq_188 h hc H))
end
section
variable {post : Int32 → St0 → Prop} {mc ms kc ks : Nat} {x0 x1 f : Int32} {a1 a2 a3 a4 a5 a6 a7 a8 : Nat → Int32} {low high fi se : Nat}
theorem zq_525 (hp : post 1 ()) (hl : low < 6) (hok : ∀ j, j < 36 → a1 j = nI (zq_cyc (zq_c x0 x1) j)) {L L0 z : Nat} (hL : L = fi + se) (hL0 : L0 = z) (hz : zq_min (zq_cyc (fun t => if t = low then 0 else zq_c x0 x1 t)) z) :
    wL_lawOf_525 post mc ms (nI low) 1 (nI fi) (nI se) (nI L - nI L0) (nI z) kc ks f a1 a2 a3 a4 a5 a6 a7 a8 := by
  unfold wL_lawOf_525
  refine ⟨by decide, zq_set' 0 hl (show (low + 1) % 6 < 6 by omega) (by omega) (by omega) (zq_rem6 hl) ?_⟩
  have hok0 : zq_ok _ (zq_cyc (fun t => if t = low then 0 else zq_c x0 x1 t)) := zq_cyc_ok (zq_cyc_put (v := 0) hl hok) (fun t _ => by
    have := zq_c_le x0 x1 t
    split <;> omega)
  refine br_f (by decide) (br_f (by decide) (br_t (by rw [hL, hL0, nI_add]) ?_))
  refine zq_least hok0 (fun L1 q5 q6 h1 => ?_)
  refine br_t (by rw [zq_min_u h1 hz]) (zq_set_22 (br_t rfl (zq_set_31 (br_t rfl (zq_cap_06 (br_t rfl hp))))))
theorem zq_493 (hp : post 1 ()) (hl : low < 6) (hok : ∀ j, j < 36 → a1 j = nI (zq_cyc (zq_c x0 x1) j)) (hfs : zq_fs (zq_c x0 x1) 6 fi se) :
    wL_lawOf_493 post mc ms (nI low) (nI fi) (nI se) (nI (zq_c x0 x1 low)) 1 kc ks f a1 a2 a3 a4 a5 a6 a7 a8 := by
  unfold wL_lawOf_493
  have hcl := zq_c_le x0 x1 low
  have hb := hfs.1
  have hb2 := hfs.2.1
  have hok1 : zq_ok a1 (zq_cyc (zq_c x0 x1)) := zq_cyc_ok hok (fun t _ => zq_c_le x0 x1 t)
  have hput := zq_cyc_put (v := 0) hl hok
  have hok0 : zq_ok _ (zq_cyc (fun t => if t = low then 0 else zq_c x0 x1 t)) := zq_cyc_ok hput (fun t _ => by
    have := zq_c_le x0 x1 t
    split <;> omega)
  refine ⟨by decide, zq_loss' hok1 hl (show (low + 1) % 6 < 6 by omega) (by omega) (zq_rem6 hl) hok0 (fun L L0 q5 q6 hL hL0 => ?_)⟩
  have e1 : a1 (low * 6 + (low + 1) % 6) = nI (zq_c x0 x1 low) := by
    rw [hok _ (by omega), zq_cyc_at _ _ _ (by omega), if_pos rfl]
  have hput2 := zq_cyc_put (v := zq_c x0 x1 low) hl hput
  have hback : ∀ j, j < 36 → upd (upd (upd (upd a1 (low * 6 + (low + 1) % 6) 0) ((low + 1) % 6 * 6 + low) 0) (low * 6 + (low + 1) % 6) (a1 (low * 6 + (low + 1) % 6))) ((low + 1) % 6 * 6 + low) (a1 (low * 6 + (low + 1) % 6)) j = nI (zq_cyc (zq_c x0 x1) j) := by
    intro j hj
    rw [e1]
    refine (hput2 j hj).trans (congrArg nI (zq_cyc_congr (fun t _ => ?_) j hj))
    by_cases e : t = low
    · rw [e]
      simp
    · simp [e]
  obtain ⟨i, j, hi, hj, hij, k1, k2, k3, k4⟩ := zq_fs_x hfs
  have hmin : zq_min (zq_cyc (zq_c x0 x1)) (fi + se) := by
    have := zq_cyc_min (c := zq_c x0 x1) hi hj hij (by omega) (fun t ht hne => by rw [k2]; exact k4 t ht hne)
    rw [k1, k2] at this
    exact this
  have hcut := zq_fs_cut hfs hl
  refine pk_eq (zq_c x0 x1 low) fi (fun z => ?_) (fun z => ?_) rfl rfl (by omega) (by omega)
  · rw [if_pos z] at hcut
    exact zq_525 hp hl hback (zq_min_u hL hmin) (zq_min_u hL0 hcut) hcut
  · rw [if_neg z] at hcut
    exact zq_525 hp hl hback (zq_min_u hL hmin) (zq_min_u hL0 hcut) hcut
theorem zq_331 (hp : post 1 ()) (hlh : low < high) (hh : high < 6) (hok : ∀ j, j < 36 → a1 j = nI (zq_cyc (zq_c x0 x1) j)) (hfs : zq_fs (zq_c x0 x1) 6 fi se) :
    ∃ n, wL_lawOf_331 post mc ms x0 x1 (nI low) (nI high) 1 (nI fi) (nI se) kc ks f a1 a2 a3 a4 a5 a6 a7 a8 n 0 0 := by
  have hok1 : zq_ok a1 (zq_cyc (zq_c x0 x1)) := zq_cyc_ok hok (fun t _ => zq_c_le x0 x1 t)
  refine pk_loop (fun n k x16 => wL_lawOf_331 post mc ms x0 x1 (nI low) (nI high) 1 (nI fi) (nI se) kc ks f a1 a2 a3 a4 a5 a6 a7 a8 n x16 (nI k)) (fun k x16 => ∃ m, m < 64 ∧ x16 = nI m ∧ ∀ v, v < 6 → m.testBit v = decide (low < v ∧ v ≤ high ∧ v < k)) 6 0 0 (by omega) ⟨0, by omega, rfl, fun v _ => by rw [zq_0]; simp⟩ ?_ ?_
  · intro n x16 hI
    obtain ⟨m, hm, e, hb⟩ := hI
    subst e
    have hm1 : 1 ≤ m := zq_m1 m hm high hh (by rw [hb high hh]; simp [hlh, hh])
    have hm2 : m < 63 := zq_m63 m hm low (by omega) (by rw [hb low (by omega)]; simp)
    have ecut : zq_cut (zq_cyc (zq_c x0 x1)) m.testBit = zq_c x0 x1 low + zq_c x0 x1 high := by
      rw [← zq_arc (zq_c x0 x1) hlh hh false, ← zq_cut_cyc]
      refine zq_cut_congr (fun _ _ => rfl) (fun v hv => ?_)
      rw [hb v hv]
      simp [hv]
    refine pk_le 6 6 (fun _ => zq_cost hok1.1 hm1 hm2 ?_) (fun z => absurd z (by omega))
    refine nm_r (zq_c_eq x0 x1 low) (nm_r (zq_c_eq x0 x1 high) (br_f (by decide) (br_t (by rw [ecut, nI_add]) ?_)))
    refine zq_forced hok1 hm1 hm2 (zq_co m hm).1 (fun f' q2 q3 q4 => ?_)
    exact br_t rfl (zq_forced_self hm1 hm2 (br_t rfl (zq_forced_out (br_t rfl (zq_forced_big (br_t rfl (zq_493 hp (by omega) hok hfs)))))))
  · intro n k x16 hk hI hw
    obtain ⟨m, hm, e, hb⟩ := hI
    subst e
    have skip : ¬ (low < k ∧ k ≤ high) → ∀ v, v < 6 → m.testBit v = decide (low < v ∧ v ≤ high ∧ v < k + 1) := by
      intro hn v hv
      rw [hb v hv]
      refine decide_eq_decide.mpr ⟨fun z => by omega, fun z => by omega⟩
    refine pk_le 6 k (fun z => absurd z (by omega)) (fun _ => pk_le k low (fun z => nm_r (nI_1 k) (hw _ ⟨m, hm, rfl, skip (by omega)⟩)) (fun z => pk_lt high k (fun z2 => nm_r (nI_1 k) (hw _ ⟨m, hm, rfl, skip (by omega)⟩)) (fun z2 => nm_r (zq_or m hm k hk).1 (nm_r (nI_1 k) (hw _ ⟨m ||| 2 ^ k, (zq_or m hm k hk).2, rfl, fun v hv => ?_⟩)))))
    rw [zq_or_tb m hm k hk v hv, hb v hv]
    by_cases e : v = k
    · subst e
      simp [z, z2]
    · have e2 : (low < v ∧ v ≤ high ∧ v < k + 1) = (low < v ∧ v ≤ high ∧ v < k) := propext ⟨fun q => ⟨q.1, q.2.1, by omega⟩, fun q => ⟨q.1, q.2.1, by omega⟩⟩
      simp [e, e2]
theorem zq_88 {a b : Nat} (hp : post 1 ()) (hlh : low < high) (hh : high < 6) (hab : (a = low ∧ b = high) ∨ (a = high ∧ b = low)) (h0 : ∀ j, j < 36 → a1 j = 0) :
    ∃ n, wL_lawOf_88 post mc ms x0 x1 (nI a) (nI b) (nI low) (nI high) kc ks n 1 100 100 100 100 0 f a1 a2 a3 a4 a5 a6 a7 a8 := by
  have hle := zq_c_le x0 x1
  refine pk_loop (σ := Int32 × Int32 × Int32 × Int32 × (Nat → Int32)) (fun n k s => wL_lawOf_88 post mc ms x0 x1 (nI a) (nI b) (nI low) (nI high) kc ks n 1 s.1 s.2.1 s.2.2.1 s.2.2.2.1 (nI k) f s.2.2.2.2 a2 a3 a4 a5 a6 a7 a8)
    (fun k s => ∃ ii oo fi se : Nat, s.1 = nI ii ∧ s.2.1 = nI oo ∧ s.2.2.1 = nI fi ∧ s.2.2.2.1 = nI se ∧ zq_ms (zq_c x0 x1) (fun t => low ≤ t ∧ t < high) k ii ∧ zq_ms (zq_c x0 x1) (fun t => t < low ∨ high ≤ t) k oo ∧ zq_fs (zq_c x0 x1) k fi se ∧
      ∀ j, j < 36 → s.2.2.2.2 j = nI (zq_cyc (fun t => if t < k then zq_c x0 x1 t else 0) j)) 6 0 (100, 100, 100, 100, a1) (by omega) ?_ ?_ ?_
  · refine ⟨100, 100, 100, 100, rfl, rfl, rfl, rfl, zq_ms_0 _ _, zq_ms_0 _ _, zq_fs_0 _, fun j hj => ?_⟩
    have e : zq_cyc (fun t => if t < 0 then zq_c x0 x1 t else 0) j = 0 := by
      unfold zq_cyc
      simp
    rw [e]
    exact h0 j hj
  · intro n s hI
    obtain ⟨x10, x11, x12, x13, q1⟩ := s
    obtain ⟨ii, oo, fi, se, e1, e2, e3, e4, hin, hout, hfs, hq⟩ := hI
    have e1' : x10 = nI ii := e1
    have e2' : x11 = nI oo := e2
    have e3' : x12 = nI fi := e3
    have e4' : x13 = nI se := e4
    subst e1' e2' e3' e4'
    have hok : ∀ j, j < 36 → q1 j = nI (zq_cyc (zq_c x0 x1) j) := fun j hj => (hq j hj).trans (congrArg nI (zq_cyc_congr (fun t ht => if_pos ht) j hj))
    have hok1 : zq_ok q1 (zq_cyc (zq_c x0 x1)) := zq_cyc_ok hok (fun t _ => zq_c_le x0 x1 t)
    obtain ⟨p, p1, ⟨p2, p3⟩, p4⟩ := zq_ms_x hin (t0 := low) (by omega) ⟨Nat.le_refl _, hlh⟩
    obtain ⟨q, q1', q2, q3⟩ := zq_ms_x hout (t0 := high) hh (Or.inr (Nat.le_refl _))
    have fl : ∀ a b v, ((a = low ∧ b = high) ∨ (a = high ∧ b = low)) → zq_fl (zq_cyc (zq_c x0 x1)) (2 ^ a) (2 ^ b) v → v = ii + oo := by
      intro a b v hab hv
      have k := zq_cyc_fl hlh hh p2 p3 q1' q2 (fun t t1 t2 => by rw [p4]; exact hin.2.1 t (by omega) ⟨t1, t2⟩) (fun t t1 t2 => by rw [q3]; exact hout.2.1 t t1 t2) hab hv
      rw [p4, q3] at k
      exact k
    obtain ⟨i, j, hi, hj, hij, k1, k2, k3, k4⟩ := zq_fs_x hfs
    have hmin : zq_min (zq_cyc (zq_c x0 x1)) (fi + se) := by
      have := zq_cyc_min (c := zq_c x0 x1) hi hj hij (by omega) (fun t ht hne => by rw [k2]; exact k4 t ht hne)
      rw [k1, k2] at this
      exact this
    refine pk_le 6 6 (fun _ => nm_r (nI_add ii oo) ?_) (fun z => absurd z (by omega))
    refine zq_side hok1 (fun L m f1 r2 r3 r4 r5 r6 hL hm1 hm2 hcut => ?_)
    refine br_f (by decide) ?_
    refine zq_between hok1 (by omega) (by omega) (by omega) (fun v f2 s2 s3 s4 hv => ?_)
    refine br_t (by rw [fl a b v hab hv]) ?_
    refine zq_between hok1 (by omega) (by omega) (by omega) (fun v' f3 t2 t3 t4 hv' => ?_)
    refine br_t (by rw [fl b a v' (by omega) hv']) ?_
    refine zq_least hok1 (fun L' u5 u6 hL' => ?_)
    refine br_t (by rw [zq_min_u hL' hmin, nI_add]) ?_
    refine zq_cost hok hm1 hm2 ?_
    refine br_t (by rw [hcut, zq_min_u hL hmin, nI_add]) ?_
    exact zq_331 hp hlh hh hok hfs
  · intro n k s hk hI hw
    obtain ⟨x10, x11, x12, x13, q1⟩ := s
    obtain ⟨ii, oo, fi, se, e1, e2, e3, e4, hin, hout, hfs, hq⟩ := hI
    have e1' : x10 = nI ii := e1
    have e2' : x11 = nI oo := e2
    have e3' : x12 = nI fi := e3
    have e4' : x13 = nI se := e4
    subst e1' e2' e3' e4'
    have hck := zq_c_le x0 x1 k
    have hput := zq_cyc_put (v := zq_c x0 x1 k) hk hq
    have hq' : ∀ j, j < 36 → upd (upd q1 (k * 6 + (k + 1) % 6) (nI (zq_c x0 x1 k))) ((k + 1) % 6 * 6 + k) (nI (zq_c x0 x1 k)) j = nI (zq_cyc (fun t => if t < k + 1 then zq_c x0 x1 t else 0) j) := by
      intro j hj
      refine (hput j hj).trans (congrArg nI (zq_cyc_congr (fun t _ => ?_) j hj))
      by_cases e : t = k
      · rw [e]
        simp
      · have e2 : (t < k + 1) = (t < k) := propext ⟨fun _ => by omega, fun _ => by omega⟩
        simp [e, e2]
    refine pk_le 6 k (fun z => absurd z (by omega)) (fun _ => nm_r (zq_c_eq x0 x1 k) ⟨by decide, ?_⟩)
    refine zq_set' (zq_c x0 x1 k) hk (show (k + 1) % 6 < 6 by omega) (by omega) (by omega) (zq_rem6 hk) ?_
    refine pk_lt k low (fun z => ?_) (fun z => pk_le high k (fun z2 => ?_) (fun z2 => ?_))
    · exact zq_149n hfs hck hout.1 (fun fi' se' h' => hw (nI ii, nI (min oo (zq_c x0 x1 k)), nI fi', nI se', _) ⟨ii, min oo (zq_c x0 x1 k), fi', se', rfl, rfl, rfl, rfl, zq_ms_n hin (by omega), zq_ms_y hout hck (Or.inl z), h', hq'⟩)
    · exact zq_149n hfs hck hout.1 (fun fi' se' h' => hw (nI ii, nI (min oo (zq_c x0 x1 k)), nI fi', nI se', _) ⟨ii, min oo (zq_c x0 x1 k), fi', se', rfl, rfl, rfl, rfl, zq_ms_n hin (by omega), zq_ms_y hout hck (Or.inr z2), h', hq'⟩)
    · exact zq_150y hfs hck hin.1 (fun fi' se' h' => hw (nI (min ii (zq_c x0 x1 k)), nI oo, nI fi', nI se', _) ⟨min ii (zq_c x0 x1 k), oo, fi', se', rfl, rfl, rfl, rfl, zq_ms_y hin hck ⟨z, z2⟩, zq_ms_n hout (by omega), h', hq'⟩)
end
theorem zq_lawOf (post : Int32 → St0 → Prop) (hp : post 1 ()) (p0 p1 p2 p3 : Int32) : wpL_lawOf post 86 1360 () p0 p1 p2 p3 := by
  unfold wpL_lawOf
  refine ⟨by omega, by omega, 85, 1351, by omega, by omega, ?_⟩
  unfold wpX_init
  refine ⟨by omega, by omega, by omega, by omega, by omega, by omega, by omega, by omega, by omega, by omega, by omega, by omega, by omega, by omega, by omega, by omega, ?_⟩
  have r2 : p2 &&& 65535 = nI (p2.toBitVec.toNat % 2 ^ 16) := pk_and p2 16 (by decide)
  have r3 : p3 &&& 65535 = nI (p3.toBitVec.toNat % 2 ^ 16) := pk_and p3 16 (by decide)
  obtain ⟨n2, hn2, ea⟩ : ∃ n2, n2 < 6 ∧ (p2 &&& 65535) - (p2 &&& 65535) / 6 * 6 = nI n2 := by
    rw [r2]
    exact ⟨p2.toBitVec.toNat % 2 ^ 16 % 6, by omega, pk_rem (d := 6) (by omega) (by omega) (by omega)⟩
  obtain ⟨n3, hn3, e5⟩ : ∃ n3, n3 < 5 ∧ (p3 &&& 65535) - (p3 &&& 65535) / 5 * 5 = nI n3 := by
    rw [r3]
    exact ⟨p3.toBitVec.toNat % 2 ^ 16 % 5, by omega, pk_rem (d := 5) (by omega) (by omega) (by omega)⟩
  refine And.intro (by decide) (nm_r ea ⟨by decide, by decide, nm_r (e' := nI ((n2 + 1 + n3) % 6)) ?_ ?_⟩)
  · rw [e5, nI_1, nI_add]
    exact pk_rem (d := 6) (by omega) (by omega) (by omega)
  · generalize hb : (n2 + 1 + n3) % 6 = b
    refine pk_le b n2 (fun z => ?_) (fun z => ?_)
    · unfold wL_lawOf_48
      refine br_t (nI_le z (by omega)) ?_
      unfold wL_lawOf_64
      exact zq_88 hp (by omega) (by omega) (Or.inr ⟨rfl, rfl⟩) (fun _ _ => rfl)
    · unfold wL_lawOf_48
      refine br_f (nI_ge z (by omega)) ?_
      unfold wL_lawOf_64
      exact zq_88 hp (by omega) (by omega) (Or.inl ⟨rfl, rfl⟩) (fun _ _ => rfl)
theorem i_vc (xs : Nat → Int32) (L : Nat) (hL : L ≤ 4) : wpL_law (fun r => r = 1) L xs := by
  have cell : ∀ (post : Int32 → Prop) (k : Nat), k < 4 → (∀ r, post r) → wpL_cellAt post L xs () (nI k) := by
    intro post k hk H
    exact pk_le L k (fun _ => H 0) (fun z => ⟨pk_in k L z, H _⟩)
  unfold wpL_law
  refine cell _ 0 (by omega) (fun r1 => cell _ 1 (by omega) (fun r2 => cell _ 2 (by omega) (fun r3 => cell _ 3 (by omega) (fun r4 => ⟨86, 1360, by omega, by omega, ?_⟩))))
  exact zq_lawOf _ rfl r1 r2 r3 r4
end
