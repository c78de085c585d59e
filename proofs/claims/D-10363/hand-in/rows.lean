section
/-- bit i of an int -/
def gx_b (x : Int32) (i : Nat) : Bool := x.toBitVec.getLsbD i
theorem gx_big {x : Int32} {i : Nat} (h : 32 ≤ i) : gx_b x i = false := BitVec.getLsbD_of_ge _ _ h
theorem gx_lt {x : Int32} {i : Nat} (h : gx_b x i = true) : i < 32 := by
  rcases Nat.lt_or_ge i 32 with z | z
  · exact z
  · rw [gx_big z] at h
    exact absurd h (by decide)
theorem gx_ext {x y : Int32} (h : ∀ i, gx_b x i = gx_b y i) : x = y := Int32.toBitVec_inj.mp (BitVec.eq_of_getLsbD_eq (fun i _ => h i))
theorem gx_or (x y : Int32) (i : Nat) : gx_b (x ||| y) i = (gx_b x i || gx_b y i) := by unfold gx_b; rw [Int32.toBitVec_or, BitVec.getLsbD_or]
theorem gx_and (x y : Int32) (i : Nat) : gx_b (x &&& y) i = (gx_b x i && gx_b y i) := by unfold gx_b; rw [Int32.toBitVec_and, BitVec.getLsbD_and]
theorem gx_xor (x y : Int32) (i : Nat) : gx_b (x ^^^ y) i = (gx_b x i ^^ gx_b y i) := by unfold gx_b; rw [Int32.toBitVec_xor, BitVec.getLsbD_xor]
theorem gx_m1 : ∀ i, i < 32 → gx_b (-1) i = true := by decide +kernel
theorem gx_0 (i : Nat) : gx_b 0 i = false := BitVec.getLsbD_zero
theorem gx_dif (x y : Int32) (i : Nat) : gx_b (x &&& (y ^^^ (-1))) i = (gx_b x i && !gx_b y i) := by
  rw [gx_and, gx_xor]
  rcases Nat.lt_or_ge i 32 with z | z
  · rw [gx_m1 i z, Bool.xor_true]
  · rw [gx_big (x := x) z, Bool.false_and, Bool.false_and]
theorem gx_sl : ∀ n, n < 32 → ((nI n &&& 31).toBitVec.smod 32).toNat = n := by decide +kernel
theorem gx_one : ∀ k, k < 32 → ∀ i, i < 32 → gx_b ((1 : Int32) <<< (nI k &&& 31)) i = decide (i = k) := by decide +kernel
theorem gx_1 {k : Nat} (hk : k < 32) (i : Nat) : gx_b ((1 : Int32) <<< (nI k &&& 31)) i = true ↔ i = k := by
  rcases Nat.lt_or_ge i 32 with z | z
  · rw [gx_one k hk i z, decide_eq_true_iff]
  · rw [gx_big z]
    exact ⟨fun h => absurd h (by decide), fun h => absurd h (by omega)⟩
theorem gx_u : ∀ i, i < 32 → gx_b 1 i = decide (i = 0) := by decide +kernel
theorem gx_a1 (y : Int32) : y &&& 1 = 0 ↔ gx_b y 0 = false := by
  constructor
  · intro h
    have e := gx_and y 1 0
    rw [h, gx_0, gx_u 0 (by decide)] at e
    simpa using e.symm
  · intro h
    apply gx_ext
    intro i
    rw [gx_and, gx_0]
    rcases Nat.lt_or_ge i 32 with z | z
    · rw [gx_u i z]
      by_cases e : i = 0
      · rw [e, h, Bool.false_and]
      · rw [decide_eq_false e, Bool.and_false]
    · rw [gx_big z, Bool.false_and]
theorem gx_shr (x : Int32) {k : Nat} (hk : k < 32) : gx_b (x >>> (nI k &&& 31)) 0 = gx_b x k := by
  unfold gx_b
  rw [Int32.toBitVec_shiftRight]
  show (x.toBitVec.sshiftRight ((nI k &&& 31).toBitVec.smod 32).toNat).getLsbD 0 = _
  rw [gx_sl k hk, BitVec.getLsbD_sshiftRight]
  simp [hk]
theorem gx_tst (x : Int32) {k : Nat} (hk : k < 32) : ((x >>> (nI k &&& 31)) &&& 1) = 0 ↔ gx_b x k = false := by
  rw [gx_a1, gx_shr x hk]
theorem gx_nf {x : Bool} (h : ¬ x = false) : x = true := by cases x <;> first | rfl | exact absurd rfl h
theorem gx_nt {x : Bool} (h : ¬ x = true) : x = false := by cases x <;> first | rfl | exact absurd rfl h
theorem gx_tf {x : Bool} (h : x = true) : ¬ x = false := by rw [h]; decide
theorem gx_ft {x : Bool} (h : x = false) : ¬ x = true := by rw [h]; decide
/-- the test of a bit, as the code writes it -/
theorem gx_br {x y : Int32} {A B : Prop} (k : Nat) (hk : k < 32) (f : gx_b x k = false → A) (g : gx_b x k = true → B) (hy : y = nI k := by rfl) : (((x >>> (y &&& 31)) &&& 1) = 0 → A) ∧ (¬ ((x >>> (y &&& 31)) &&& 1) = 0 → B) := by
  subst hy
  rw [gx_tst x hk]
  exact ⟨f, fun z => g (gx_nf z)⟩
theorem gx_bit (x : Int32) {k : Nat} (hk : k < 32) : ((x >>> (nI k &&& 31)) &&& 1) = nI (if gx_b x k then 1 else 0) := by
  have h : gx_b (x >>> (nI k &&& 31)) 0 = gx_b x k := gx_shr x hk
  generalize x >>> (nI k &&& 31) = y at h ⊢
  apply gx_ext
  intro i
  rw [gx_and]
  rcases Nat.lt_or_ge i 32 with z | z
  · rw [gx_u i z]
    by_cases e : i = 0
    · rw [e, h]
      cases gx_b x k <;> rfl
    · rw [decide_eq_false e, Bool.and_false]
      cases gx_b x k
      · show false = gx_b 0 i
        rw [gx_0]
      · show false = gx_b 1 i
        rw [gx_u i z, decide_eq_false e]
  · rw [gx_big (x := y) z, Bool.false_and, gx_big z]
theorem gx_zero {x : Int32} (h : ∀ i, gx_b x i = false) : x = 0 := gx_ext (fun i => by rw [h i, gx_0])
theorem gx_ne0 {x : Int32} (h : ¬ x = 0) : ∃ i, gx_b x i = true := by
  refine Classical.byContradiction fun z => h (gx_zero fun i => ?_)
  exact gx_nt fun t => z ⟨i, t⟩
theorem gx_nz {x : Int32} {i : Nat} (h : gx_b x i = true) : ¬ x = 0 := by
  intro e
  rw [e, gx_0] at h
  exact absurd h (by decide)
theorem gx_by : ∀ k, k < 128 → (nI k).toInt8.toInt32 = nI k := by decide +kernel
theorem gx_vn {k : Nat} (h : k < 128) : vp_nar .byte (nI k) = nI k := by rw [vp_nar_byte, gx_by k h]
/-! counting -/
def gx_c (p : Nat → Bool) : Nat → Nat
  | 0 => 0
  | n + 1 => gx_c p n + (if p n then 1 else 0)
theorem gx_c_le (p : Nat → Bool) (n : Nat) : gx_c p n ≤ n := by
  induction n with
  | zero => exact Nat.le_refl 0
  | succ n ih =>
    show gx_c p n + (if p n then 1 else 0) ≤ n + 1
    split <;> omega
theorem gx_c_mono {p q : Nat → Bool} {n : Nat} (h : ∀ i, i < n → p i = true → q i = true) : gx_c p n ≤ gx_c q n := by
  induction n with
  | zero => exact Nat.le_refl 0
  | succ n ih =>
    have i1 := ih (fun i hi => h i (by omega))
    have i2 := h n (by omega)
    show gx_c p n + (if p n then 1 else 0) ≤ gx_c q n + (if q n then 1 else 0)
    by_cases e : p n = true
    · rw [if_pos e, if_pos (i2 e)]
      omega
    · rw [if_neg e]
      omega
theorem gx_c_lt {p q : Nat → Bool} {n j : Nat} (h : ∀ i, i < n → p i = true → q i = true) (hj : j < n) (hq : q j = true) (hp : p j = false) : gx_c p n < gx_c q n := by
  induction n with
  | zero => omega
  | succ n ih =>
    show gx_c p n + (if p n then 1 else 0) < gx_c q n + (if q n then 1 else 0)
    by_cases e : j = n
    · have i1 := gx_c_mono (p := p) (q := q) (n := n) (fun i hi => h i (by omega))
      rw [← e, hq, hp]
      rw [← e] at i1
      simp
      omega
    · have i1 := ih (fun i hi => h i (by omega)) (by omega)
      have i2 := h n (by omega)
      by_cases e : p n = true
      · rw [if_pos e, if_pos (i2 e)]
        omega
      · rw [if_neg e]
        omega
theorem gx_c_0 {p : Nat → Bool} {n : Nat} (h : ∀ i, i < n → p i = false) : gx_c p n = 0 := by
  induction n with
  | zero => rfl
  | succ n ih =>
    show gx_c p n + (if p n then 1 else 0) = 0
    rw [ih (fun i hi => h i (by omega)), h n (by omega)]
    rfl
theorem gx_c_pos {p : Nat → Bool} {n j : Nat} (hj : j < n) (hp : p j = true) : 0 < gx_c p n := by
  have := gx_c_lt (p := fun _ => false) (q := p) (n := n) (j := j) (fun _ _ h => absurd h (by decide)) hj hp rfl
  omega
theorem gx_c_two {p : Nat → Bool} {n i j : Nat} (hi : i < n) (hj : j < n) (hp : p i = true) (hq : p j = true) (h : i ≠ j) : 2 ≤ gx_c p n := by
  have a := gx_c_lt (p := fun k => decide (k = i)) (q := p) (n := n) (j := j) (fun k _ h => by rw [of_decide_eq_true h]; exact hp) hj hq (decide_eq_false (fun e => h e.symm))
  have b := gx_c_pos (p := fun k => decide (k = i)) (n := n) (j := i) hi (decide_eq_true rfl)
  omega
theorem gx_c_one {p : Nat → Bool} {n i : Nat} (hi : i < n) (hp : p i = true) (h : ∀ j, j < n → p j = true → j = i) : gx_c p n = 1 := by
  induction n with
  | zero => omega
  | succ n ih =>
    show gx_c p n + (if p n then 1 else 0) = 1
    by_cases e : i = n
    · rw [gx_c_0 (fun j hj => gx_nt (fun t => absurd (h j (by omega) t) (by omega))), ← e, if_pos hp]
    · rw [ih (by omega) (fun j hj => h j (by omega)), if_neg (fun t => e (h n (by omega) t).symm)]
/-- one place fewer -/
theorem gx_c_drop {p q : Nat → Bool} {n j : Nat} (hj : j < n) (hp : p j = true) (hq : q j = false) (h : ∀ i, i < n → i ≠ j → q i = p i) : gx_c p n = gx_c q n + 1 := by
  induction n with
  | zero => omega
  | succ n ih =>
    show gx_c p n + (if p n then 1 else 0) = gx_c q n + (if q n then 1 else 0) + 1
    by_cases e : j = n
    · have z : ∀ m, m ≤ n → gx_c p m = gx_c q m := by
        intro m
        induction m with
        | zero => intro _; rfl
        | succ m im =>
          intro hm
          show gx_c p m + (if p m then 1 else 0) = gx_c q m + (if q m then 1 else 0)
          rw [im (by omega), h m (by omega) (by omega)]
      rw [z n (Nat.le_refl n), ← e, hp, hq]
      simp
    · rw [ih (by omega) (fun i hi => h i (by omega)), h n (by omega) (fun t => e t.symm)]
      omega
end
section
/-- y is reached from x by edges into S -/
def gx_R (E : Nat → Nat → Prop) (S : Nat → Prop) (x y : Nat) : Prop := ∀ P : Nat → Prop, P x → (∀ a b, P a → E a b → S b → P b) → P y
theorem gx_R0 {E : Nat → Nat → Prop} {S : Nat → Prop} {x : Nat} : gx_R E S x x := fun _ h _ => h
theorem gx_Rs {E : Nat → Nat → Prop} {S : Nat → Prop} {x y z : Nat} (h : gx_R E S x y) (e : E y z) (s : S z) : gx_R E S x z := fun P hx hs => hs y z (h P hx hs) e s
theorem gx_Rt {E : Nat → Nat → Prop} {S : Nat → Prop} {x y z : Nat} (h : gx_R E S x y) (k : gx_R E S y z) : gx_R E S x z := fun P hx hs => k P (h P hx hs) hs
theorem gx_Rh {E : Nat → Nat → Prop} {S : Nat → Prop} {x y z : Nat} (e : E x y) (s : S y) (h : gx_R E S y z) : gx_R E S x z := gx_Rt (gx_Rs gx_R0 e s) h
theorem gx_Rm {E F : Nat → Nat → Prop} {S T : Nat → Prop} {x y : Nat} (hS : ∀ a, S a → T a) (hE : ∀ a b, E a b → F a b) (h : gx_R E S x y) : gx_R F T x y := fun P hx hs => h P hx (fun a b pa e s => hs a b pa (hE a b e) (hS b s))
theorem gx_Rin {E : Nat → Nat → Prop} {S : Nat → Prop} {x y : Nat} (h : gx_R E S x y) (s : S x) : S y := h S s (fun _ _ _ _ sb => sb)
theorem gx_Re {E F : Nat → Nat → Prop} {S : Nat → Prop} {x y : Nat} (h : gx_R E S x y) (s : S x) (hE : ∀ a b, S a → S b → E a b → F a b) : gx_R F S x y :=
  (h (fun z => S z ∧ gx_R F S x z) ⟨s, gx_R0⟩ (fun a b pa e sb => ⟨sb, gx_Rs pa.2 (hE a b pa.1 sb e) sb⟩)).2
theorem gx_Rrev {E : Nat → Nat → Prop} {S : Nat → Prop} {x y : Nat} (h : gx_R (fun a b => E b a) S x y) (s : S x) : gx_R E S y x :=
  (h (fun z => S z ∧ gx_R E S z x) ⟨s, gx_R0⟩ (fun _ _ pa e sb => ⟨sb, gx_Rh e pa.1 pa.2⟩)).2
theorem gx_Rfwd {E : Nat → Nat → Prop} {S : Nat → Prop} {x y : Nat} (h : gx_R E S y x) (s : S y) : gx_R (fun a b => E b a) S x y :=
  (h (fun z => S z ∧ gx_R (fun a b => E b a) S z y) ⟨s, gx_R0⟩ (fun _ _ pa e sb => ⟨sb, gx_Rh (E := fun a b => E b a) e pa.1 pa.2⟩)).2
/-- induction from the end of a path -/
theorem gx_Rhi {E : Nat → Nat → Prop} {S : Nat → Prop} {x s : Nat} (h : gx_R E S x s) (sx : S x) (Q : Nat → Prop) (q0 : Q s)
    (qs : ∀ a b, S a → S b → E a b → gx_R E S b s → gx_R E S x a → Q b → Q a) : Q x :=
  (h (fun z => gx_R E S x z ∧ (Q z → gx_R E S z s → Q x)) ⟨gx_R0, fun q _ => q⟩
    (fun a b pa e sb => ⟨gx_Rs pa.1 e sb, fun qb rb => pa.2 (qs a b (gx_Rin pa.1 sx) sb e rb pa.1 qb) (gx_Rh e sb rb)⟩)).2 q0 gx_R0
/-- the vertices that reach s and are reached from it, within S: they do so within themselves -/
theorem gx_scc {E : Nat → Nat → Prop} {S p : Nat → Prop} {s : Nat} (hs : S s) (hp : ∀ x, p x ↔ gx_R E S s x ∧ gx_R E S x s) {x y : Nat} (px : p x) (py : p y) : gx_R E p x y := by
  have sx : S x := gx_Rin ((hp x).mp px).1 hs
  have h1 : gx_R E p x s := by
    refine gx_Rhi ((hp x).mp px).2 sx (fun z => gx_R E p z s) gx_R0 ?_
    intro a b _ sb e rb xa qb
    exact gx_Rh e ((hp b).mpr ⟨gx_Rs (gx_Rt ((hp x).mp px).1 xa) e sb, rb⟩) qb
  have h2 : gx_R E S s y → (gx_R E S s y ∧ (gx_R E S y s → gx_R E p s y)) := by
    intro h
    refine h (fun z => gx_R E S s z ∧ (gx_R E S z s → gx_R E p s z)) ⟨gx_R0, fun _ => gx_R0⟩ ?_
    intro a b pa e sb
    have r : gx_R E S s b := gx_Rs pa.1 e sb
    exact ⟨r, fun rb => gx_Rs (pa.2 (gx_Rh e sb rb)) e ((hp b).mpr ⟨r, rb⟩)⟩
  exact gx_Rt h1 ((h2 ((hp y).mp py).1).2 ((hp y).mp py).2)
/-- reach both ways within S stays within every T that is closed under it -/
theorem gx_mut {E : Nat → Nat → Prop} {S T : Nat → Prop} {x y : Nat} (hT : ∀ z, gx_R E S x z → gx_R E S z x → T z) (h : gx_R E S x y) (k : gx_R E S y x) : gx_R E T x y := by
  have key : gx_R E S x y ∧ (gx_R E S y x → gx_R E T x y) := by
    refine h (fun z => gx_R E S x z ∧ (gx_R E S z x → gx_R E T x z)) ⟨gx_R0, fun _ => gx_R0⟩ ?_
    intro a b pa e sb
    have r : gx_R E S x b := gx_Rs pa.1 e sb
    exact ⟨r, fun rb => gx_Rs (pa.2 (gx_Rh e sb rb)) e (hT b r rb)⟩
  exact key.2 k
/-! the picture: leaders ld, the line L1 ++ L2, W waits between L1 and L2 as if it were one component -/
def gx_J (n : Nat) (E : Nat → Nat → Prop) (ld : Nat → Nat) (L1 L2 : List Nat) (W : Nat → Prop) : Prop :=
  (∀ u, u < n → ¬ W u → ld u ∈ L1 ++ L2) ∧
  (∀ c, c ∈ L1 ++ L2 → c < n ∧ ¬ W c ∧ ld c = c) ∧
  (L1 ++ L2).Pairwise (fun c d => c ≠ d) ∧
  (∀ u v, u < n → v < n → ¬ W u → ¬ W v → ld u = ld v → gx_R E (fun z => z < n ∧ ¬ W z ∧ ld z = ld u) u v) ∧
  (L1 ++ L2).Pairwise (fun c d => ∀ x y, x < n → y < n → ¬ W x → ¬ W y → ld x = d → ld y = c → ¬ E x y) ∧
  (∀ x y, x < n → y < n → E x y → W x → ¬ W y → ld y ∉ L1) ∧
  (∀ x y, x < n → y < n → E x y → ¬ W x → W y → ld x ∉ L2)
/-- nothing waits -/
def gx_M (n : Nat) (E : Nat → Nat → Prop) (ld : Nat → Nat) (L : List Nat) : Prop :=
  (∀ u, u < n → ld u ∈ L) ∧
  (∀ c, c ∈ L → c < n ∧ ld c = c) ∧
  L.Pairwise (fun c d => c ≠ d) ∧
  (∀ u v, u < n → v < n → ld u = ld v → gx_R E (fun z => z < n ∧ ld z = ld u) u v) ∧
  L.Pairwise (fun c d => ∀ x y, x < n → y < n → ld x = d → ld y = c → ¬ E x y)
theorem gx_JM {n : Nat} {E : Nat → Nat → Prop} {ld : Nat → Nat} {L1 L2 : List Nat} {W : Nat → Prop} (J : gx_J n E ld L1 L2 W) (hW : ∀ u, u < n → ¬ W u) : gx_M n E ld (L1 ++ L2) := by
  obtain ⟨j1, j2, j3, j4, j5, _, _⟩ := J
  refine ⟨fun u hu => j1 u hu (hW u hu), fun c hc => ⟨(j2 c hc).1, (j2 c hc).2.2⟩, j3, ?_, ?_⟩
  · intro u v hu hv e
    exact gx_Rm (fun z hz => ⟨hz.1, hz.2.2⟩) (fun _ _ h => h) (j4 u v hu hv (hW u hu) (hW v hv) e)
  · exact j5.imp (fun {a b} h x y hx hy ex ey => h x y hx hy (hW x hx) (hW y hy) ex ey)
theorem gx_ins {R : Nat → Nat → Prop} {L1 L2 : List Nat} {c : Nat} (h : (L1 ++ L2).Pairwise R) (ha : ∀ a, a ∈ L1 → R a c) (hb : ∀ b, b ∈ L2 → R c b) : ((L1 ++ [c]) ++ L2).Pairwise R := by
  have e : (L1 ++ [c]) ++ L2 = L1 ++ c :: L2 := by simp
  rw [e]
  rw [List.pairwise_append] at h ⊢
  refine ⟨h.1, List.pairwise_cons.mpr ⟨hb, h.2.1⟩, fun a ha' b hb' => ?_⟩
  rcases List.mem_cons.mp hb' with e | e
  · rw [e]
    exact ha a ha'
  · exact h.2.2 a ha' b e
theorem gx_mid {L1 L2 : List Nat} {c d : Nat} : d ∈ (L1 ++ [c]) ++ L2 ↔ d = c ∨ d ∈ L1 ++ L2 := by
  simp only [List.mem_append, List.mem_singleton]
  constructor
  · intro h
    rcases h with (h | h) | h
    · exact Or.inr (Or.inl h)
    · exact Or.inl h
    · exact Or.inr (Or.inr h)
  · intro h
    rcases h with h | h | h
    · exact Or.inl (Or.inr h)
    · exact Or.inl (Or.inl h)
    · exact Or.inr h
/-- P, out of what waits, becomes a component led by c -/
theorem gx_Jstep {n : Nat} {E : Nat → Nat → Prop} {ld ld' : Nat → Nat} {L1 L2 : List Nat} {W P : Nat → Prop} {c : Nat}
    (J : gx_J n E ld L1 L2 W) (pc : P c) (hP : ∀ x, P x → W x ∧ x < n)
    (hs : ∀ x y, P x → P y → gx_R E P x y) (ho : ∀ x y, x < n → y < n → E x y → W x → ¬ P x → ¬ P y)
    (h1 : ∀ u, P u → ld' u = c) (h2 : ∀ u, ¬ P u → ld' u = ld u) :
    gx_J n E ld' (L1 ++ [c]) L2 (fun u => W u ∧ ¬ P u) := by
  obtain ⟨j1, j2, j3, j4, j5, j6, j7⟩ := J
  have cL : c ∉ L1 ++ L2 := fun h => (j2 c h).2.1 (hP c pc).1
  have nw : ∀ {x}, ¬ (W x ∧ ¬ P x) → ¬ P x → ¬ W x := fun h p w => h ⟨w, p⟩
  have nc : ∀ {x}, x < n → ¬ (W x ∧ ¬ P x) → ¬ P x → ld' x ∈ L1 ++ L2 := fun {x} hx h p => by
    rw [h2 x p]
    exact j1 x hx (nw h p)
  have np : ∀ {x d}, d ∈ L1 ++ L2 → ld' x = d → ¬ P x := fun {x d} hd e p => by
    rw [h1 x p] at e
    rw [← e] at hd
    exact cL hd
  have yp : ∀ {x}, x < n → ¬ (W x ∧ ¬ P x) → ld' x = c → P x := fun {x} hx h e => by
    refine Classical.byContradiction fun p => ?_
    have t := nc hx h p
    rw [e] at t
    exact cL t
  refine ⟨?_, ?_, ?_, ?_, ?_, ?_, ?_⟩
  · intro u hu hw
    rw [gx_mid]
    by_cases p : P u
    · exact Or.inl (h1 u p)
    · exact Or.inr (nc hu hw p)
  · intro d hd
    rcases gx_mid.mp hd with e | e
    · rw [e]
      exact ⟨(hP c pc).2, fun t => t.2 pc, h1 c pc⟩
    · have q := j2 d e
      exact ⟨q.1, fun t => q.2.1 t.1, by rw [h2 d (fun p => q.2.1 (hP d p).1)]; exact q.2.2⟩
  · refine gx_ins j3 (fun a ha e => cL ?_) (fun b hb e => cL ?_)
    · rw [← e]
      exact List.mem_append_left _ ha
    · rw [e]
      exact List.mem_append_right _ hb
  · intro u v hu hv wu wv e
    by_cases pu : P u
    · have pv : P v := yp hv wv (by rw [← e, h1 u pu])
      exact gx_Rm (fun z pz => ⟨(hP z pz).2, fun t => t.2 pz, by rw [h1 z pz, h1 u pu]⟩) (fun _ _ h => h) (hs u v pu pv)
    · have pv : ¬ P v := fun p => pu (yp hu wu (by rw [e, h1 v p]))
      have t := j4 u v hu hv (nw wu pu) (nw wv pv) (by rw [← h2 u pu, ← h2 v pv]; exact e)
      refine gx_Rm (fun z hz => ⟨hz.1, fun t => hz.2.1 t.1, ?_⟩) (fun _ _ h => h) t
      rw [h2 z (fun p => hz.2.1 (hP z p).1), h2 u pu]
      exact hz.2.2
  · refine gx_ins (List.Pairwise.imp_of_mem ?_ j5) ?_ ?_
    · intro a b ha hb hr x y hx hy wx wy ex ey
      have px := np hb ex
      have py := np ha ey
      exact hr x y hx hy (nw wx px) (nw wy py) (by rw [← h2 x px]; exact ex) (by rw [← h2 y py]; exact ey)
    · intro a ha x y hx hy wx wy ex ey e
      have px := yp hx wx ex
      have py := np (List.mem_append_left _ ha) ey
      refine j6 x y hx hy e (hP x px).1 (nw wy py) ?_
      rw [← h2 y py, ey]
      exact ha
    · intro b hb x y hx hy wx wy ex ey e
      have py := yp hy wy ey
      have px := np (List.mem_append_right _ hb) ex
      refine j7 x y hx hy e (nw wx px) (hP y py).1 ?_
      rw [← h2 x px, ex]
      exact hb
  · intro x y hx hy e wx wy
    have py : ¬ P y := ho x y hx hy e wx.1 wx.2
    have t := j6 x y hx hy e wx.1 (nw wy py)
    intro m
    rcases List.mem_append.mp m with m | m
    · rw [h2 y py] at m
      exact t m
    · have z := nc hy wy py
      rw [List.mem_singleton.mp m] at z
      exact cL z
  · intro x y hx hy e wx wy m
    by_cases px : P x
    · rw [h1 x px] at m
      exact cL (List.mem_append_right _ m)
    · have t := j7 x y hx hy e (nw wx px) wy.1
      rw [h2 x px] at m
      exact t m
end
section
theorem gx_4 {R : Nat → Nat → Prop} {A N F C : List Nat} (a : A.Pairwise R) (b : N.Pairwise R) (c : F.Pairwise R) (d : C.Pairwise R)
    (ab : ∀ x, x ∈ A → ∀ y, y ∈ N → R x y) (ac : ∀ x, x ∈ A → ∀ y, y ∈ F → R x y) (ad : ∀ x, x ∈ A → ∀ y, y ∈ C → R x y)
    (bc : ∀ x, x ∈ N → ∀ y, y ∈ F → R x y) (bd : ∀ x, x ∈ N → ∀ y, y ∈ C → R x y) (cd : ∀ x, x ∈ F → ∀ y, y ∈ C → R x y) :
    ((A ++ N) ++ (F ++ C)).Pairwise R := by
  rw [List.pairwise_append, List.pairwise_append, List.pairwise_append]
  refine ⟨⟨a, b, ab⟩, ⟨c, d, cd⟩, ?_⟩
  intro x hx y hy
  rcases List.mem_append.mp hx with h | h
  · rcases List.mem_append.mp hy with k | k
    · exact ac x h y k
    · exact ad x h y k
  · rcases List.mem_append.mp hy with k | k
    · exact bc x h y k
    · exact bd x h y k
theorem gx_3 {R : Nat → Nat → Prop} {A B C : List Nat} (h : (A ++ B ++ C).Pairwise R) :
    A.Pairwise R ∧ B.Pairwise R ∧ C.Pairwise R ∧ (∀ x, x ∈ A → ∀ y, y ∈ B → R x y) ∧ (∀ x, x ∈ A → ∀ y, y ∈ C → R x y) ∧ (∀ x, x ∈ B → ∀ y, y ∈ C → R x y) := by
  rw [List.pairwise_append, List.pairwise_append] at h
  obtain ⟨⟨a, b, ab⟩, c, abc⟩ := h
  exact ⟨a, b, c, ab, fun x hx y hy => abc x (List.mem_append_left _ hx) y hy, fun x hx y hy => abc x (List.mem_append_right _ hx) y hy⟩
/-- the line is repaired for the new edge u -> v; the components in m wait between its two parts -/
theorem gx_Jrep {n : Nat} {E E' : Nat → Nat → Prop} {ld : Nat → Nat} {A B C : List Nat} {u v : Nat} {f m : Nat → Bool}
    (M : gx_M n E ld (A ++ B ++ C)) (hE : ∀ x y, E' x y → E x y ∨ (x = u ∧ y = v)) (hE2 : ∀ x y, E x y → E' x y)
    (bu : ld u ∈ B) (bv : ld v ∈ B) (fv : f (ld v) = true)
    (fc : ∀ x y, x < n → y < n → ld x ∈ B → f (ld x) = true → E' x y → f (ld y) = true)
    (mB : ∀ c, m c = true → c ∈ B ∧ f c = true)
    (mc : ∀ x y, x < n → y < n → ld x ∈ B → f (ld x) = true → E' x y → m (ld y) = true → m (ld x) = true)
    (uf : f (ld u) = true → m (ld u) = true) :
    gx_J n E' ld (A ++ B.filter (fun c => !f c)) (B.filter (fun c => f c && !m c) ++ C) (fun x => m (ld x) = true) := by
  obtain ⟨m1, m2, m3, m4, m5⟩ := M
  obtain ⟨nA, nB, nC, nAB, nAC, nBC⟩ := gx_3 m3
  obtain ⟨oA, oB, oC, oAB, oAC, oBC⟩ := gx_3 m5
  have inA : ∀ {c}, c ∈ A → c ∈ A ++ B ++ C := fun h => List.mem_append_left _ (List.mem_append_left _ h)
  have inB : ∀ {c}, c ∈ B → c ∈ A ++ B ++ C := fun h => List.mem_append_left _ (List.mem_append_right _ h)
  have inC : ∀ {c}, c ∈ C → c ∈ A ++ B ++ C := fun h => List.mem_append_right _ h
  have N1 : ∀ {c}, c ∈ B.filter (fun c => !f c) → c ∈ B ∧ f c = false := fun {c} h => by
    have := List.mem_filter.mp h
    exact ⟨this.1, by simpa using this.2⟩
  have F1 : ∀ {c}, c ∈ B.filter (fun c => f c && !m c) → c ∈ B ∧ f c = true ∧ m c = false := fun {c} h => by
    have := List.mem_filter.mp h
    exact ⟨this.1, by simpa using this.2⟩
  have N2 : ∀ {c}, c ∈ B → f c = false → c ∈ B.filter (fun c => !f c) := fun {c} h e => List.mem_filter.mpr ⟨h, by simp [e]⟩
  have F2 : ∀ {c}, c ∈ B → f c = true → m c = false → c ∈ B.filter (fun c => f c && !m c) := fun {c} h e e' => List.mem_filter.mpr ⟨h, by simp [e, e']⟩
  have xAB : ∀ {c}, c ∈ A → c ∈ B → False := fun h k => nAB _ h _ k rfl
  have xAC : ∀ {c}, c ∈ A → c ∈ C → False := fun h k => nAC _ h _ k rfl
  have xBC : ∀ {c}, c ∈ B → c ∈ C → False := fun h k => nBC _ h _ k rfl
  have nb : ∀ {c d}, (∀ x y, x < n → y < n → ld x = d → ld y = c → ¬ E x y) → (ld u = d → ld v = c → False) → ∀ x y, x < n → y < n → ¬ m (ld x) = true → ¬ m (ld y) = true → ld x = d → ld y = c → ¬ E' x y := by
    intro c d old nn x y hx hy _ _ ex ey e
    rcases hE x y e with e | ⟨e1, e2⟩
    · exact old x y hx hy ex ey e
    · rw [e1] at ex
      rw [e2] at ey
      exact nn ex ey
  refine ⟨?_, ?_, ?_, ?_, ?_, ?_, ?_⟩
  · intro x hx hm
    have t := m1 x hx
    rcases List.mem_append.mp t with t | t
    · rcases List.mem_append.mp t with t | t
      · exact List.mem_append_left _ (List.mem_append_left _ t)
      · cases hf : f (ld x)
        · exact List.mem_append_left _ (List.mem_append_right _ (N2 t hf))
        · exact List.mem_append_right _ (List.mem_append_left _ (F2 t hf (gx_nt hm)))
    · exact List.mem_append_right _ (List.mem_append_right _ t)
  · intro c hc
    rcases List.mem_append.mp hc with t | t
    · rcases List.mem_append.mp t with t | t
      · have q := m2 c (inA t)
        exact ⟨q.1, fun z => xAB t (by rw [← q.2]; exact (mB _ z).1), q.2⟩
      · have q := m2 c (inB (N1 t).1)
        refine ⟨q.1, fun z => ?_, q.2⟩
        dsimp only at z
        rw [q.2] at z
        exact absurd (mB _ z).2 (by rw [(N1 t).2]; decide)
    · rcases List.mem_append.mp t with t | t
      · have q := m2 c (inB (F1 t).1)
        refine ⟨q.1, fun z => ?_, q.2⟩
        dsimp only at z
        rw [q.2, (F1 t).2.2] at z
        exact absurd z (by decide)
      · have q := m2 c (inC t)
        exact ⟨q.1, fun z => xBC (by rw [← q.2]; exact (mB _ z).1) t, q.2⟩
  · refine gx_4 nA (nB.filter _) (nB.filter _) nC (fun x hx y hy => nAB x hx y (N1 hy).1) (fun x hx y hy => nAB x hx y (F1 hy).1) nAC ?_ (fun x hx y hy => nBC x (N1 hx).1 y hy) (fun x hx y hy => nBC x (F1 hx).1 y hy)
    intro x hx y hy e
    have a := (N1 hx).2
    rw [e, (F1 hy).2.1] at a
    exact absurd a (by decide)
  · intro x y hx hy wx wy e
    refine gx_Rm (fun z hz => ⟨hz.1, ?_, hz.2⟩) hE2 (m4 x y hx hy e)
    show ¬ m (ld z) = true
    rw [hz.2]
    exact wx
  · refine gx_4 (oA.imp_of_mem ?_) ((oB.filter _).imp_of_mem ?_) ((oB.filter _).imp_of_mem ?_) (oC.imp_of_mem ?_) ?_ ?_ ?_ ?_ ?_ ?_
    · intro a b ha hb o
      exact nb o (fun _ ev => xAB ha (by rw [← ev]; exact bv))
    · intro a b ha hb o
      refine nb o (fun _ ev => ?_)
      have t := (N1 ha).2
      rw [← ev, fv] at t
      exact absurd t (by decide)
    · intro a b ha hb o
      refine nb o (fun eu _ => ?_)
      have t := (F1 hb).2
      rw [← eu] at t
      exact absurd (uf t.1) (by rw [t.2]; decide)
    · intro a b ha hb o
      exact nb o (fun eu _ => xBC bu (by rw [eu]; exact hb))
    · intro a ha b hb
      exact nb (oAB a ha b (N1 hb).1) (fun _ ev => xAB ha (by rw [← ev]; exact bv))
    · intro a ha b hb
      exact nb (oAB a ha b (F1 hb).1) (fun _ ev => xAB ha (by rw [← ev]; exact bv))
    · intro a ha b hb
      exact nb (oAC a ha b hb) (fun _ ev => xAB ha (by rw [← ev]; exact bv))
    · intro a ha b hb x y hx hy _ _ ex ey e
      have t := fc x y hx hy (by rw [ex]; exact (F1 hb).1) (by rw [ex]; exact (F1 hb).2.1) e
      rw [ey, (N1 ha).2] at t
      exact absurd t (by decide)
    · intro a ha b hb
      exact nb (oBC a (N1 ha).1 b hb) (fun eu _ => xBC bu (by rw [eu]; exact hb))
    · intro a ha b hb
      exact nb (oBC a (F1 ha).1 b hb) (fun eu _ => xBC bu (by rw [eu]; exact hb))
  · intro x y hx hy e wx wy h
    have t := mB _ wx
    rcases List.mem_append.mp h with h | h
    · rcases hE x y e with e | ⟨e1, e2⟩
      · exact oAB _ h _ t.1 x y hx hy rfl rfl e
      · rw [e2] at h
        exact xAB h bv
    · have t2 := fc x y hx hy t.1 t.2 e
      rw [(N1 h).2] at t2
      exact absurd t2 (by decide)
  · intro x y hx hy e wx wy h
    rcases List.mem_append.mp h with h | h
    · exact wx (mc x y hx hy (F1 h).1 (F1 h).2.1 e wy)
    · rcases hE x y e with e | ⟨e1, e2⟩
      · exact oBC _ (mB _ wy).1 _ h x y hx hy rfl rfl e
      · rw [e1] at h
        exact xBC bu h
/-- what melts is strongly connected within itself -/
theorem gx_melt {n : Nat} {E' : Nat → Nat → Prop} {ld : Nat → Nat} {B : List Nat} {u v : Nat} {f b m : Nat → Bool}
    (hu : u < n) (hv : v < n) (hn : ∀ x y, E' x y → x < n ∧ y < n) (huv : E' u v)
    (sc : ∀ x y, x < n → y < n → ld x = ld y → gx_R E' (fun z => z < n ∧ ld z = ld x) x y)
    (bu : ld u ∈ B) (bv : ld v ∈ B)
    (fu : f (ld u) = true)
    (fc : ∀ x y, x < n → y < n → ld x ∈ B → f (ld x) = true → E' x y → f (ld y) = true)
    (fl : ∀ P : Nat → Prop, P (ld v) → (∀ x y, x < n → y < n → P (ld x) → ld x ∈ B → E' x y → P (ld y)) → ∀ d, f d = true → P d)
    (b0 : b (ld u) = true)
    (bc : ∀ x y, x < n → y < n → ld y ∈ B → b (ld y) = true → E' x y → b (ld x) = true)
    (bl : ∀ P : Nat → Prop, P (ld u) → (∀ x y, x < n → y < n → P (ld y) → ld y ∈ B → E' x y → P (ld x)) → ∀ d, b d = true → P d)
    (f0 : f (ld v) = true)
    (hm : ∀ c, m c = true ↔ f c = true ∧ b c = true ∧ c ∈ B) :
    (m (ld u) = true ∧ m (ld v) = true) ∧ ∀ x y, (x < n ∧ m (ld x) = true) → (y < n ∧ m (ld y) = true) → gx_R E' (fun z => z < n ∧ m (ld z) = true) x y := by
  have bv0 : b (ld v) = true := by
    refine fl (fun d => b d = true ∧ d ∈ B → b (ld v) = true) (fun h => h.1) ?_ (ld u) fu ⟨b0, bu⟩
    intro x y hx hy px bx e q
    exact px ⟨bc x y hx hy q.2 q.1 e, bx⟩
  have mu : m (ld u) = true := (hm _).mpr ⟨fu, b0, bu⟩
  have mv : m (ld v) = true := (hm _).mpr ⟨f0, bv0, bv⟩
  have sc' : ∀ x y, x < n → y < n → m (ld x) = true → ld x = ld y → gx_R E' (fun z => z < n ∧ m (ld z) = true) x y := by
    intro x y hx hy mx e
    exact gx_Rm (fun z hz => ⟨hz.1, by rw [hz.2]; exact mx⟩) (fun _ _ h => h) (sc x y hx hy e)
  have fwd : ∀ d, f d = true → f d = true ∧ (b d = true → d ∈ B → ∀ x, x < n → ld x = d → gx_R E' (fun z => z < n ∧ m (ld z) = true) v x) := by
    refine fl _ ⟨f0, fun _ _ x hx ex => sc' v x hv hx mv ex.symm⟩ ?_
    intro x y hx hy px bx e
    have fy := fc x y hx hy bx px.1 e
    refine ⟨fy, fun hby By z hz ez => ?_⟩
    have bx' := bc x y hx hy By hby e
    have my : m (ld y) = true := (hm _).mpr ⟨fy, hby, By⟩
    exact gx_Rt (gx_Rs (px.2 bx' bx x hx rfl) e ⟨hy, my⟩) (sc' y z hy hz my ez.symm)
  have bwd : ∀ d, b d = true → b d = true ∧ (f d = true → d ∈ B → ∀ x, x < n → ld x = d → gx_R E' (fun z => z < n ∧ m (ld z) = true) x u) := by
    refine bl _ ⟨b0, fun _ _ x hx ex => sc' x u hx hu (by rw [ex]; exact mu) ex⟩ ?_
    intro x y hx hy py By e
    have bx := bc x y hx hy By py.1 e
    refine ⟨bx, fun fx Bx z hz ez => ?_⟩
    have fy := fc x y hx hy Bx fx e
    have my : m (ld y) = true := (hm _).mpr ⟨fy, py.1, By⟩
    have mx : m (ld x) = true := (hm _).mpr ⟨fx, bx, Bx⟩
    exact gx_Rt (sc' z x hz hx (by rw [ez]; exact mx) ez) (gx_Rh e ⟨hy, my⟩ (py.2 fy By y hy rfl))
  refine ⟨⟨mu, mv⟩, ?_⟩
  intro x y hx hy
  have hx' := (hm _).mp hx.2
  have hy' := (hm _).mp hy.2
  exact gx_Rt (gx_Rs ((bwd _ hx'.2.1).2 hx'.1 hx'.2.2 x hx.1 rfl) huv ⟨hv, mv⟩) ((fwd _ hy'.1).2 hy'.2.1 hy'.2.2 y hy.1 rfl)
end
section
theorem gx_Jc {n : Nat} {E : Nat → Nat → Prop} {ld : Nat → Nat} {L1 L2 : List Nat} {W V : Nat → Prop} (J : gx_J n E ld L1 L2 W) (h : ∀ x, x < n → (V x ↔ W x)) : gx_J n E ld L1 L2 V := by
  obtain ⟨j1, j2, j3, j4, j5, j6, j7⟩ := J
  have k : ∀ {x}, x < n → ¬ V x → ¬ W x := fun hx hv w => hv ((h _ hx).mpr w)
  refine ⟨fun u hu hv => j1 u hu (k hu hv), fun c hc => ⟨(j2 c hc).1, fun v => (j2 c hc).2.1 ((h c (j2 c hc).1).mp v), (j2 c hc).2.2⟩, j3, ?_, ?_, ?_, ?_⟩
  · intro u v hu hv wu wv e
    exact gx_Rm (fun z hz => ⟨hz.1, fun t => hz.2.1 ((h z hz.1).mp t), hz.2.2⟩) (fun _ _ h => h) (j4 u v hu hv (k hu wu) (k hv wv) e)
  · exact j5.imp (fun {a b} r x y hx hy wx wy => r x y hx hy (k hx wx) (k hy wy))
  · intro x y hx hy e vx vy
    exact j6 x y hx hy e ((h x hx).mp vx) (k hy vy)
  · intro x y hx hy e vx vy
    exact j7 x y hx hy e (k hx vx) ((h y hy).mp vy)
/-- a component is taken out of the line: its vertices wait -/
theorem gx_Jout {n : Nat} {E E' : Nat → Nat → Prop} {ld : Nat → Nat} {A C : List Nat} {c : Nat} (M : gx_M n E ld (A ++ c :: C))
    (hE : ∀ x y, E' x y → E x y) (hE2 : ∀ x y, E x y → ld x ≠ c → E' x y) : gx_J n E' ld A C (fun x => ld x = c) := by
  obtain ⟨m1, m2, m3, m4, m5⟩ := M
  have inL : ∀ {d}, d ∈ A ++ C → d ∈ A ++ c :: C := fun {d} h => by
    rcases List.mem_append.mp h with h | h
    · exact List.mem_append_left _ h
    · exact List.mem_append_right _ (List.mem_cons_of_mem _ h)
  have e1 : A ++ c :: C = A ++ [c] ++ C := by simp
  rw [e1] at m3 m5
  obtain ⟨nA, nB, nC, nAB, nAC, nBC⟩ := gx_3 m3
  obtain ⟨oA, oB, oC, oAB, oAC, oBC⟩ := gx_3 m5
  have hcc : c ∈ [c] := List.mem_singleton.mpr rfl
  refine ⟨?_, ?_, ?_, ?_, ?_, ?_, ?_⟩
  · intro u hu hw
    rcases List.mem_append.mp (m1 u hu) with h | h
    · exact List.mem_append_left _ h
    · rcases List.mem_cons.mp h with h | h
      · exact absurd h hw
      · exact List.mem_append_right _ h
  · intro d hd
    have q := m2 d (inL hd)
    refine ⟨q.1, fun e => ?_, q.2⟩
    dsimp only at e
    rw [q.2] at e
    rcases List.mem_append.mp hd with h | h
    · exact nAB d h c hcc e
    · exact nBC c hcc d h e.symm
  · rw [List.pairwise_append]
    exact ⟨nA, nC, nAC⟩
  · intro u v hu hv wu wv e
    have r := gx_Re (m4 u v hu hv e) ⟨hu, rfl⟩ (fun a b sa sb eab => hE2 a b eab (by rw [sa.2]; exact wu))
    refine gx_Rm (fun z hz => ⟨hz.1, ?_, hz.2⟩) (fun _ _ h => h) r
    dsimp only
    rw [hz.2]
    exact wu
  · rw [List.pairwise_append]
    have g : ∀ {a b}, (∀ x y, x < n → y < n → ld x = b → ld y = a → ¬ E x y) → ∀ x y, x < n → y < n → ¬ ld x = c → ¬ ld y = c → ld x = b → ld y = a → ¬ E' x y := fun o x y hx hy _ _ ex ey e => o x y hx hy ex ey (hE x y e)
    exact ⟨oA.imp g, oC.imp g, fun a ha b hb => g (oAC a ha b hb)⟩
  · intro x y hx hy e wx wy h
    exact oAB _ h c hcc x y hx hy wx rfl (hE x y e)
  · intro x y hx hy e wx wy h
    exact oBC c hcc _ h x y hx hy rfl wy (hE x y e)
/-- the pieces found so far, q 0 .. q (k - 1), of S; rest is what is left of it -/
def gx_Q (E : Nat → Nat → Prop) (S : Nat → Prop) (rest : Int32) (q : Nat → Int32) (k : Nat) : Prop :=
  (∀ x, gx_b rest x = true → S x) ∧
  (∀ x, S x → gx_b rest x = true ∨ ∃ i, i < k ∧ gx_b (q i) x = true) ∧
  (∀ i x, i < k → gx_b (q i) x = true → S x ∧ gx_b rest x = false) ∧
  (∀ i j x, i < k → j < k → gx_b (q i) x = true → gx_b (q j) x = true → i = j) ∧
  (∀ i, i < k → ∀ x y, gx_b (q i) x = true → gx_b (q i) y = true → gx_R E (fun z => gx_b (q i) z = true) x y) ∧
  (∀ i, i < k → ∃ x, gx_b (q i) x = true) ∧
  (∀ x y, S x → gx_R E S x y → gx_R E S y x → (gx_b rest x = true → gx_b rest y = true) ∧ ∀ i, i < k → gx_b (q i) x = true → gx_b (q i) y = true)
theorem gx_Q0 {E : Nat → Nat → Prop} {S : Nat → Prop} {rest : Int32} {q : Nat → Int32} (h : ∀ x, gx_b rest x = true ↔ S x) : gx_Q E S rest q 0 := by
  refine ⟨fun x hx => (h x).mp hx, fun x hx => Or.inl ((h x).mpr hx), fun i x hi => absurd hi (by omega), fun i j x hi => absurd hi (by omega), fun i hi => absurd hi (by omega), fun i hi => absurd hi (by omega), ?_⟩
  intro x y sx r _
  exact ⟨fun _ => (h y).mpr (gx_Rin r sx), fun i hi => absurd hi (by omega)⟩
theorem gx_Qs {E : Nat → Nat → Prop} {S : Nat → Prop} {rest p : Int32} {q : Nat → Int32} {k s : Nat} (Q : gx_Q E S rest q k) (hs : gx_b rest s = true)
    (hp : ∀ x, gx_b p x = true ↔ gx_R E (fun z => gx_b rest z = true) s x ∧ gx_R E (fun z => gx_b rest z = true) x s) :
    gx_Q E S (rest &&& (p ^^^ (-1))) (upd q k p) (k + 1) := by
  obtain ⟨q1, q2, q3, q4, q5, q6, q7⟩ := Q
  have pr : ∀ {x}, gx_b p x = true → gx_b rest x = true := fun {x} h => gx_Rin (S := fun z => gx_b rest z = true) ((hp x).mp h).1 hs
  have rr : ∀ x, gx_b (rest &&& (p ^^^ (-1))) x = true ↔ gx_b rest x = true ∧ gx_b p x = false := by
    intro x
    rw [gx_dif, Bool.and_eq_true, Bool.not_eq_true']
  have uk : upd q k p k = p := pk_us
  have un : ∀ {i}, i < k → upd q k p i = q i := fun h => pk_un (by omega)
  have cs : ∀ {i}, i < k + 1 → i < k ∨ i = k := fun h => by omega
  refine ⟨fun x hx => q1 x ((rr x).mp hx).1, ?_, ?_, ?_, ?_, ?_, ?_⟩
  · intro x sx
    rcases q2 x sx with h | ⟨i, hi, h⟩
    · cases hx : gx_b p x
      · exact Or.inl ((rr x).mpr ⟨h, hx⟩)
      · exact Or.inr ⟨k, by omega, by rw [uk]; exact hx⟩
    · exact Or.inr ⟨i, by omega, by rw [un hi]; exact h⟩
  · intro i x hi h
    rcases cs hi with z | z
    · rw [un z] at h
      exact ⟨(q3 i x z h).1, gx_nt (fun t => absurd ((rr x).mp t).1 (gx_ft (q3 i x z h).2))⟩
    · rw [z, uk] at h
      exact ⟨q1 x (pr h), gx_nt (fun t => absurd h (gx_ft ((rr x).mp t).2))⟩
  · intro i j x hi hj h h'
    rcases cs hi with z | z <;> rcases cs hj with y | y
    · rw [un z] at h
      rw [un y] at h'
      exact q4 i j x z y h h'
    · rw [un z] at h
      rw [y, uk] at h'
      exact absurd (pr h') (gx_ft (q3 i x z h).2)
    · rw [z, uk] at h
      rw [un y] at h'
      exact absurd (pr h) (gx_ft (q3 j x y h').2)
    · omega
  · intro i hi
    rcases cs hi with z | z
    · rw [un z]
      exact q5 i z
    · rw [z, uk]
      intro x y hx hy
      exact gx_scc (S := fun z => gx_b rest z = true) (p := fun z => gx_b p z = true) hs hp hx hy
  · intro i hi
    rcases cs hi with z | z
    · rw [un z]
      exact q6 i z
    · rw [z, uk]
      exact ⟨s, (hp s).mpr ⟨gx_R0, gx_R0⟩⟩
  · have key : ∀ x y, S x → gx_R E S x y → gx_R E S y x → gx_b p x = true → gx_b p y = true := by
      intro x y sx r r' px
      have rx := pr px
      have sy : S y := gx_Rin r sx
      have h1 : gx_R E (fun z => gx_b rest z = true) x y := gx_mut (fun z a b => (q7 x z sx a b).1 rx) r r'
      have ry : gx_b rest y = true := (q7 x y sx r r').1 rx
      have h2 : gx_R E (fun z => gx_b rest z = true) y x := gx_mut (fun z a b => (q7 y z sy a b).1 ry) r' r
      exact (hp y).mpr ⟨gx_Rt ((hp x).mp px).1 h1, gx_Rt h2 ((hp x).mp px).2⟩
    intro x y sx r r'
    refine ⟨fun h => ?_, fun i hi h => ?_⟩
    · have t := (rr x).mp h
      refine (rr y).mpr ⟨(q7 x y sx r r').1 t.1, gx_nt (fun py => ?_)⟩
      exact absurd (key y x (gx_Rin r sx) r' r py) (gx_ft t.2)
    · rcases cs hi with z | z
      · rw [un z] at h ⊢
        exact (q7 x y sx r r').2 i z h
      · rw [z, uk] at h ⊢
        exact key x y sx r r' h
theorem gx_max {W : Nat → Prop} (g : Nat → Nat) (n : Nat) (hg : ∀ x, g x ≤ n) {x0 : Nat} (h0 : W x0) : ∃ x, W x ∧ ∀ y, W y → g y ≤ g x := by
  obtain ⟨k, ⟨x, wx, ex⟩, hk⟩ := pk_least (fun k => ∃ x, W x ∧ n - g x = k) ⟨_, x0, h0, rfl⟩
  refine ⟨x, wx, fun y wy => ?_⟩
  rcases Nat.lt_or_ge (n - g y) k with z | z
  · exact absurd ⟨y, wy, rfl⟩ (hk _ z)
  · have := hg x
    have := hg y
    omega
/-- among the waiting pieces one has no edge into it from another -/
theorem gx_src {n : Nat} {E : Nat → Nat → Prop} {W : Nat → Prop} {q : Nat → Int32} {k x0 : Nat} (hn : ∀ x, W x → x < n) (h0 : W x0)
    (p1 : ∀ x, W x → ∃ i, i < k ∧ gx_b (q i) x = true)
    (p2 : ∀ i x y, i < k → gx_b (q i) x = true → W x → gx_b (q i) y = true → W y)
    (p3 : ∀ i x y, i < k → W x → gx_R E W x y → gx_R E W y x → gx_b (q i) x = true → gx_b (q i) y = true)
    (p4 : ∀ i, i < k → ∀ x y, gx_b (q i) x = true → gx_b (q i) y = true → gx_R E (fun z => gx_b (q i) z = true) x y) :
    ∃ i, i < k ∧ (∃ x, gx_b (q i) x = true ∧ W x) ∧ ∀ x y, W x → gx_b (q i) x = false → gx_b (q i) y = true → ¬ E x y := by
  classical
  obtain ⟨x, wx, mx⟩ := gx_max (W := W) (fun x => gx_c (fun y => decide (gx_R E W x y)) n) n (fun x => gx_c_le _ n) h0
  obtain ⟨i, hi, hx⟩ := p1 x wx
  refine ⟨i, hi, ⟨x, hx, wx⟩, ?_⟩
  intro z y wz qz qy e
  have wy : W y := p2 i x y hi hx wx qy
  have yx : gx_R E W y x := gx_Rm (fun t qt => p2 i x t hi hx wx qt) (fun _ _ h => h) (p4 i hi y x qy hx)
  have zx : gx_R E W z x := gx_Rh e wy yx
  have xz : gx_R E W x z := by
    refine Classical.byContradiction fun no => ?_
    have l := gx_c_lt (p := fun y => decide (gx_R E W x y)) (q := fun y => decide (gx_R E W z y)) (n := n) (j := z) (fun t _ h => decide_eq_true (gx_Rt zx (of_decide_eq_true h))) (hn z wz) (decide_eq_true gx_R0) (decide_eq_false no)
    have := mx z wz
    omega
  exact absurd (p3 i x z hi wx xz zx hx) (gx_ft qz)
end
section
theorem gx_accF {s x : Int32} {i : Nat} {T : Nat → Nat → Prop} (h : ∀ j, gx_b s j = true ↔ ∃ u, u < i ∧ gx_b x u = true ∧ T u j) (hb : gx_b x i = false) :
    ∀ j, gx_b s j = true ↔ ∃ u, u < i + 1 ∧ gx_b x u = true ∧ T u j := by
  intro j
  rw [h j]
  constructor
  · intro ⟨u, hu, r⟩
    exact ⟨u, by omega, r⟩
  · intro ⟨u, hu, r, t⟩
    refine ⟨u, ?_, r, t⟩
    rcases Nat.lt_or_ge u i with z | z
    · exact z
    · have e : u = i := by omega
      rw [e] at r
      exact absurd r (gx_ft hb)
theorem gx_accT {s x t : Int32} {i : Nat} {T : Nat → Nat → Prop} (h : ∀ j, gx_b s j = true ↔ ∃ u, u < i ∧ gx_b x u = true ∧ T u j) (hb : gx_b x i = true) (ht : ∀ j, gx_b t j = true ↔ T i j) :
    ∀ j, gx_b (s ||| t) j = true ↔ ∃ u, u < i + 1 ∧ gx_b x u = true ∧ T u j := by
  intro j
  rw [gx_or, Bool.or_eq_true, h j, ht j]
  constructor
  · intro z
    rcases z with ⟨u, hu, r⟩ | z
    · exact ⟨u, by omega, r⟩
    · exact ⟨i, by omega, hb, z⟩
  · intro ⟨u, hu, r, t⟩
    rcases Nat.lt_or_ge u i with z | z
    · exact Or.inl ⟨u, z, r, t⟩
    · have e : u = i := by omega
      rw [e] at t
      exact Or.inr t
theorem gx_acc0 {x : Int32} {T : Nat → Nat → Prop} : ∀ j, gx_b 0 j = true ↔ ∃ u, u < 0 ∧ gx_b x u = true ∧ T u j := by
  intro j
  rw [gx_0]
  exact ⟨fun h => absurd h (by decide), fun ⟨u, hu, _⟩ => absurd hu (by omega)⟩
theorem gw_isVertex {post : Int32 → Prop} {n u : Nat} {f1 f2 : Int32} {a1 a2 a3 a4 a5 a6 a7 a8 a9 : Nat → Int32} (hn : n ≤ 16) (hu : u < n) (H : post 1) :
    wpX_isVertex post (nI n, f1, f2, a1, a2, a3, a4, a5, a6, a7, a8, a9) (nI u) :=
  br_f (nI_pos (by omega)) (br_f (nI_ge hu (by omega)) H)
theorem gw_targetsOf {post : Int32 → Prop} {n : Nat} {f1 f2 : Int32} {a1 a2 a3 a4 a5 a6 a7 a8 a9 : Nat → Int32} (hn : n ≤ 16) (x : Int32)
    (H : ∀ r, (∀ j, gx_b r j = true ↔ ∃ u, u < n ∧ gx_b x u = true ∧ gx_b (a1 u) j = true) → post r) :
    wpX_targetsOf post (nI n, f1, f2, a1, a2, a3, a4, a5, a6, a7, a8, a9) x := by
  refine pk_loop (fun m i s => wX_targetsOf_4 post x (nI n) f1 f2 a1 a2 a3 a4 a5 a6 a7 a8 a9 m s (nI i))
    (fun i s => ∀ j, gx_b s j = true ↔ ∃ u, u < i ∧ gx_b x u = true ∧ gx_b (a1 u) j = true) n 0 0 (by omega) gx_acc0 ?_ ?_
  · intro m s h
    exact pk_le n n (fun _ => H s h) (fun z => absurd z (by omega))
  · intro m i s hi h hw
    refine pk_le n i (fun z => absurd z (by omega)) (fun _ => gx_br i (by omega) (fun hb => nm_r (nI_1 i) (hw s (gx_accF h hb))) (fun hb => ⟨pk_in i 16 (by omega), nm_r (e' := s ||| a1 i) (by rw [nI_clamp (by omega)]) (nm_r (nI_1 i) (hw _ (gx_accT h hb (fun j => Iff.rfl))))⟩))
theorem gw_sourcesOf {post : Int32 → Prop} {n : Nat} {f1 f2 : Int32} {a1 a2 a3 a4 a5 a6 a7 a8 a9 : Nat → Int32} (hn : n ≤ 16) (x : Int32)
    (H : ∀ r, (∀ j, gx_b r j = true ↔ ∃ u, u < n ∧ gx_b x u = true ∧ gx_b (a2 u) j = true) → post r) :
    wpX_sourcesOf post (nI n, f1, f2, a1, a2, a3, a4, a5, a6, a7, a8, a9) x := by
  refine pk_loop (fun m i s => wX_sourcesOf_4 post x (nI n) f1 f2 a1 a2 a3 a4 a5 a6 a7 a8 a9 m s (nI i))
    (fun i s => ∀ j, gx_b s j = true ↔ ∃ u, u < i ∧ gx_b x u = true ∧ gx_b (a2 u) j = true) n 0 0 (by omega) gx_acc0 ?_ ?_
  · intro m s h
    exact pk_le n n (fun _ => H s h) (fun z => absurd z (by omega))
  · intro m i s hi h hw
    refine pk_le n i (fun z => absurd z (by omega)) (fun _ => gx_br i (by omega) (fun hb => nm_r (nI_1 i) (hw s (gx_accF h hb))) (fun hb => ⟨pk_in i 16 (by omega), nm_r (e' := s ||| a2 i) (by rw [nI_clamp (by omega)]) (nm_r (nI_1 i) (hw _ (gx_accT h hb (fun j => Iff.rfl))))⟩))
theorem gw_leadersOf {post : Int32 → Prop} {n : Nat} {f1 f2 : Int32} {a1 a2 a3 a4 a5 a6 a7 a8 a9 : Nat → Int32} {ld : Nat → Nat} (hn : n ≤ 16) (x : Int32)
    (h3 : ∀ u, u < n → a3 u = nI (ld u) ∧ ld u < 32)
    (H : ∀ r, (∀ j, gx_b r j = true ↔ ∃ u, u < n ∧ gx_b x u = true ∧ j = ld u) → post r) :
    wpX_leadersOf post (nI n, f1, f2, a1, a2, a3, a4, a5, a6, a7, a8, a9) x := by
  refine pk_loop (fun m i s => wX_leadersOf_4 post x (nI n) f1 f2 a1 a2 a3 a4 a5 a6 a7 a8 a9 m s (nI i))
    (fun i s => ∀ j, gx_b s j = true ↔ ∃ u, u < i ∧ gx_b x u = true ∧ j = ld u) n 0 0 (by omega) gx_acc0 ?_ ?_
  · intro m s h
    exact pk_le n n (fun _ => H s h) (fun z => absurd z (by omega))
  · intro m i s hi h hw
    refine pk_le n i (fun z => absurd z (by omega)) (fun _ => gx_br i (by omega) (fun hb => nm_r (nI_1 i) (hw s (gx_accF h hb))) (fun hb => ⟨pk_in i 16 (by omega), nm_r (e' := s ||| ((1 : Int32) <<< (nI (ld i) &&& 31))) (by rw [nI_clamp (by omega), (h3 i hi).1]) (nm_r (nI_1 i) (hw _ (gx_accT h hb (fun j => gx_1 (h3 i hi).2 j))))⟩))
theorem gw_bitsIn {post : Int32 → Prop} {f0 f1 f2 : Int32} {a1 a2 a3 a4 a5 a6 a7 a8 a9 : Nat → Int32} (x : Int32) (H : post (nI (gx_c (gx_b x) 16))) :
    wpX_bitsIn post (f0, f1, f2, a1, a2, a3, a4, a5, a6, a7, a8, a9) x := by
  refine pk_loop (σ := Unit) (fun m i _ => wX_bitsIn_4 post x f0 f1 f2 a1 a2 a3 a4 a5 a6 a7 a8 a9 m (nI (gx_c (gx_b x) i)) (nI i)) (fun _ _ => True) 16 0 () (by omega) trivial ?_ ?_
  · intro m _ _
    exact pk_le 16 16 (fun _ => H) (fun z => absurd z (by omega))
  · intro m i _ hi _ hw
    refine pk_le 16 i (fun z => absurd z (by omega)) (fun _ => nm_r (e' := nI (gx_c (gx_b x) (i + 1))) ?_ (nm_r (nI_1 i) (hw () trivial)))
    rw [gx_bit x (by omega), nI_add]
    rfl
theorem gw_lowest {post : Int32 → Prop} {f0 f1 f2 : Int32} {a1 a2 a3 a4 a5 a6 a7 a8 a9 : Nat → Int32} (x : Int32) (hx : ∃ j, j < 16 ∧ gx_b x j = true) (H : ∀ c, c < 16 → gx_b x c = true → post (nI c)) :
    wpX_lowest post (f0, f1, f2, a1, a2, a3, a4, a5, a6, a7, a8, a9) x := by
  refine pk_loop (σ := Unit) (fun m i _ => wX_lowest_2 post x f0 f1 f2 a1 a2 a3 a4 a5 a6 a7 a8 a9 m (nI i)) (fun i _ => ∀ j, j < i → gx_b x j = false) 15 0 () (by omega) (fun j hj => absurd hj (by omega)) ?_ ?_
  · intro m _ h
    refine pk_le 15 15 (fun _ => H 15 (by omega) ?_) (fun z => absurd z (by omega))
    obtain ⟨j, hj, hb⟩ := hx
    rcases Nat.lt_or_ge j 15 with z | z
    · exact absurd hb (gx_ft (h j z))
    · have e : j = 15 := by omega
      rw [e] at hb
      exact hb
  · intro m i _ hi h hw
    refine pk_le 15 i (fun z => absurd z (by omega)) (fun _ => gx_br i (by omega) (fun hb => nm_r (nI_1 i) (hw () (fun j hj => ?_))) (fun hb => H i (by omega) hb))
    rcases Nat.lt_or_ge j i with z | z
    · exact h j z
    · have e : j = i := by omega
      rw [e]
      exact hb
theorem gw_append {post : St2 → Prop} {f0 f1 : Int32} {a1 a2 a3 a4 a5 a6 a7 a8 a9 : Nat → Int32} {m c : Nat} (hm : m < 16) (hc : c < 16) (H : post (f0, f1, nI (m + 1), a1, a2, a3, a4, a5, a6, upd a7 m (nI c), a8, a9)) :
    wpX_append post (f0, f1, nI m, a1, a2, a3, a4, a5, a6, a7, a8, a9) (nI c) :=
  ⟨pk_in m 16 hm, nm_r (by rw [nI_clamp (by omega), gx_by c (by omega)]) (nm_r (nI_1 m) H)⟩
theorem gw_claim {post : Int32 → St2 → Prop} {n : Nat} {f1 f2 : Int32} {a1 a2 a3 a4 a5 a6 a7 a8 a9 : Nat → Int32} (hn : n ≤ 16) (x : Int32) (hx : ∃ j, j < 16 ∧ gx_b x j = true)
    (H : ∀ c s, c < 16 → gx_b x c = true → (∀ u, u < n → s u = if gx_b x u = true then nI c else a3 u) → post (nI c) (nI n, f1, f2, a1, a2, s, upd a4 c x, a5, a6, a7, a8, a9)) :
    wpX_claim post (nI n, f1, f2, a1, a2, a3, a4, a5, a6, a7, a8, a9) x := by
  refine gw_lowest x hx (fun c hc hb => ⟨pk_in c 16 hc, nm_r (e' := upd a4 c x) (by rw [nI_clamp (by omega)]) ?_⟩)
  refine pk_loop (fun m i s => wX_claim_15 post x (nI c) (nI n) f1 f2 m (nI i) a1 a2 s (upd a4 c x) a5 a6 a7 a8 a9)
    (fun i s => (∀ u, u < i → s u = if gx_b x u = true then nI c else a3 u) ∧ ∀ u, i ≤ u → s u = a3 u) n 0 a3 (by omega) ⟨fun u hu => absurd hu (by omega), fun _ _ => rfl⟩ ?_ ?_
  · intro m s h
    exact pk_le n n (fun _ => H c s hc hb h.1) (fun z => absurd z (by omega))
  · intro m i s hi h hw
    refine pk_le n i (fun z => absurd z (by omega)) (fun _ => gx_br i (by omega) (fun hb' => nm_r (nI_1 i) (hw s ⟨fun u hu => ?_, fun u hu => h.2 u (by omega)⟩)) (fun hb' => ⟨pk_in i 16 (by omega), nm_r (e' := upd s i (nI c)) (by rw [nI_clamp (by omega), gx_by c (by omega)]) (nm_r (nI_1 i) (hw _ ⟨fun u hu => ?_, fun u hu => ?_⟩))⟩))
    · rcases Nat.lt_or_ge u i with z | z
      · exact h.1 u z
      · have e : u = i := by omega
        rw [e, if_neg (gx_ft hb')]
        exact h.2 i (Nat.le_refl i)
    · rcases Nat.lt_or_ge u i with z | z
      · rw [pk_un (by omega)]
        exact h.1 u z
      · have e : u = i := by omega
        rw [e, pk_us, if_pos hb']
    · rw [pk_un (by omega)]
      exact h.2 u (by omega)
theorem gw_melt {post : Int32 → St2 → Prop} {n : Nat} {f1 f2 : Int32} {a1 a2 a3 a4 a5 a6 a7 a8 a9 : Nat → Int32} (hn : n ≤ 16) (x : Int32) (hx : ∃ c j, c < n ∧ j < 16 ∧ gx_b x c = true ∧ gx_b (a4 c) j = true)
    (H : ∀ al c s t, (∀ j, gx_b al j = true ↔ ∃ c, c < n ∧ gx_b x c = true ∧ gx_b (a4 c) j = true) → (∀ c, c < n → t c = if gx_b x c = true then 0 else a4 c) →
      c < 16 → gx_b al c = true → (∀ u, u < n → s u = if gx_b al u = true then nI c else a3 u) → post (nI c) (nI n, f1, f2, a1, a2, s, upd t c al, a5, a6, a7, a8, a9)) :
    wpX_melt post (nI n, f1, f2, a1, a2, a3, a4, a5, a6, a7, a8, a9) x := by
  refine pk_loop (fun m i (s : Int32 × (Nat → Int32)) => wX_melt_4 post x (nI n) f1 f2 m s.1 (nI i) a1 a2 a3 s.2 a5 a6 a7 a8 a9)
    (fun i s => (∀ j, gx_b s.1 j = true ↔ ∃ c, c < i ∧ gx_b x c = true ∧ gx_b (a4 c) j = true) ∧ (∀ c, c < i → s.2 c = if gx_b x c = true then 0 else a4 c) ∧ ∀ c, i ≤ c → s.2 c = a4 c) n 0 (0, a4) (by omega) ⟨gx_acc0, fun u hu => absurd hu (by omega), fun _ _ => rfl⟩ ?_ ?_
  · intro m s h
    refine pk_le n n (fun _ => gw_claim hn s.1 ?_ (fun c t hc hb ht => H s.1 c t s.2 h.1 h.2.1 hc hb ht)) (fun z => absurd z (by omega))
    obtain ⟨c, j, hc, hj, hb, hb'⟩ := hx
    exact ⟨j, hj, (h.1 j).mpr ⟨c, hc, hb, hb'⟩⟩
  · intro m i s hi h hw
    refine pk_le n i (fun z => absurd z (by omega)) (fun _ => gx_br i (by omega) (fun hb => nm_r (nI_1 i) (hw s ⟨gx_accF h.1 hb, fun c hc => ?_, fun c hc => h.2.2 c (by omega)⟩)) (fun hb => ⟨pk_in i 16 (by omega), nm_r (e' := s.1 ||| a4 i) (by rw [nI_clamp (by omega), h.2.2 i (Nat.le_refl i)]) ⟨pk_in i 16 (by omega), nm_r (e' := upd s.2 i 0) (by rw [nI_clamp (by omega)]) (nm_r (nI_1 i) (hw (s.1 ||| a4 i, upd s.2 i 0) ⟨gx_accT h.1 hb (fun j => Iff.rfl), fun c hc => ?_, fun c hc => ?_⟩))⟩⟩))
    · rcases Nat.lt_or_ge c i with z | z
      · exact h.2.1 c z
      · have e : c = i := by omega
        rw [e, if_neg (gx_ft hb)]
        exact h.2.2 i (Nat.le_refl i)
    · show upd s.2 i 0 c = _
      rcases Nat.lt_or_ge c i with z | z
      · rw [pk_un (by omega)]
        exact h.2.1 c z
      · have e : c = i := by omega
        rw [e, pk_us, if_pos hb]
    · show upd s.2 i 0 c = _
      rw [pk_un (by omega)]
      exact h.2.2 c (by omega)
theorem gw_spreadWithin {post : Int32 → Prop} {n : Nat} {f1 f2 : Int32} {a1 a2 a3 a4 a5 a6 a7 a8 a9 : Nat → Int32} (hn : n ≤ 16) {s0 : Nat} {st : Int32} (wi : Int32) (hs : s0 < n) (est : st = (1 : Int32) <<< (nI s0 &&& 31)) (hw : ∀ j, gx_b wi j = true → j < n)
    (H : ∀ r, (∀ j, gx_b r j = true ↔ gx_R (fun a b => gx_b (a1 a) b = true) (fun z => gx_b wi z = true) s0 j) → post r) :
    wpX_spreadWithin post (nI n, f1, f2, a1, a2, a3, a4, a5, a6, a7, a8, a9) st wi := by
  subst est
  have b1 : ∀ j, gx_b ((1 : Int32) <<< (nI s0 &&& 31)) j = true ↔ j = s0 := fun j => gx_1 (by omega) j
  have fin : ∀ met : Int32, gx_b met s0 = true → (∀ j, gx_b met j = true → gx_R (fun a b => gx_b (a1 a) b = true) (fun z => gx_b wi z = true) s0 j) → (∀ a b, gx_b met a = true → gx_b (a1 a) b = true → gx_b wi b = true → gx_b met b = true) → post met := by
    intro met h1 h2 h3
    refine H met (fun j => ⟨h2 j, fun h => h (fun z => gx_b met z = true) h1 (fun a b pa e w => h3 a b pa e w)⟩)
  refine pk_loop (fun m i (s : Int32 × Int32) => wX_spreadWithin_8 post wi (nI n) f1 f2 a1 a2 a3 a4 a5 a6 a7 a8 a9 m s.1 s.2 (nI i))
    (fun i s => (gx_b s.1 s0 = true ∧ (∀ j, gx_b s.1 j = true → gx_R (fun a b => gx_b (a1 a) b = true) (fun z => gx_b wi z = true) s0 j) ∧ (∀ a b, gx_b s.1 a = true → gx_b s.2 a = false → gx_b (a1 a) b = true → gx_b wi b = true → gx_b s.1 b = true) ∧ (∀ j, gx_b s.2 j = true → gx_b s.1 j = true) ∧ (∀ j, gx_b s.1 j = true → j < n)) ∧ (¬ s.2 = 0 → i + 1 ≤ gx_c (gx_b s.1) n))
    16 0 ((1 : Int32) <<< (nI s0 &&& 31), (1 : Int32) <<< (nI s0 &&& 31)) (by omega) ?_ ?_ ?_
  · refine ⟨⟨(b1 s0).mpr rfl, fun j hj => ?_, fun a b ha hb => absurd ha (gx_ft hb), fun _ h => h, fun j hj => ?_⟩, fun _ => ?_⟩
    · rw [(b1 j).mp hj]
      exact gx_R0
    · rw [(b1 j).mp hj]
      exact hs
    · have := gx_c_pos (p := gx_b ((1 : Int32) <<< (nI s0 &&& 31))) (n := n) (j := s0) hs ((b1 s0).mpr rfl)
      dsimp only
      omega
  · intro m s h
    refine pk_le 16 16 (fun _ => ?_) (fun z => absurd z (by omega))
    obtain ⟨⟨h1, h2, h3, h4, h5⟩, h6⟩ := h
    have z : s.2 = 0 := by
      refine Classical.byContradiction fun z => ?_
      have a := h6 z
      have b := gx_c_le (gx_b s.1) n
      omega
    exact fin s.1 h1 h2 (fun a b ha e w => h3 a b ha (by rw [z, gx_0]) e w)
  · intro m i s hi h hwk
    obtain ⟨⟨h1, h2, h3, h4, h5⟩, h6⟩ := h
    refine pk_le 16 i (fun z => absurd z (by omega)) (fun _ => br_c (fun z => fin s.1 h1 h2 (fun a b ha e w => h3 a b ha (by rw [z, gx_0]) e w)) (fun z => gw_targetsOf hn s.2 (fun r hr => nm_e (nm_e (nm_r (nI_1 i) (hwk (_, _) ?_))))))
    have bw : ∀ j, gx_b (r &&& wi &&& (s.1 ^^^ (-1))) j = true ↔ (∃ u, u < n ∧ gx_b s.2 u = true ∧ gx_b (a1 u) j = true) ∧ gx_b wi j = true ∧ gx_b s.1 j = false := by
      intro j
      rw [gx_dif, gx_and, Bool.and_eq_true, Bool.and_eq_true, Bool.not_eq_true', hr j, and_assoc]
    have bm : ∀ j, gx_b (s.1 ||| (r &&& wi &&& (s.1 ^^^ (-1)))) j = true ↔ gx_b s.1 j = true ∨ gx_b (r &&& wi &&& (s.1 ^^^ (-1))) j = true := by
      intro j
      rw [gx_or, Bool.or_eq_true]
    generalize r &&& wi &&& (s.1 ^^^ (-1)) = w at bw bm ⊢
    refine ⟨⟨(bm s0).mpr (Or.inl h1), ?_, ?_, fun j hj => (bm j).mpr (Or.inr hj), ?_⟩, ?_⟩
    · intro j hj
      rcases (bm j).mp hj with t | t
      · exact h2 j t
      · obtain ⟨⟨u, hu, u2, u3⟩, t2, t3⟩ := (bw j).mp t
        exact gx_Rs (h2 u (h4 u u2)) u3 t2
    · intro a b ha hb e hw'
      refine (bm b).mpr ?_
      rcases (bm a).mp ha with t | t
      · cases hs2 : gx_b s.2 a
        · exact Or.inl (h3 a b t hs2 e hw')
        · cases hb2 : gx_b s.1 b
          · exact Or.inr ((bw b).mpr ⟨⟨a, h5 a t, hs2, e⟩, hw', hb2⟩)
          · exact Or.inl rfl
      · exact absurd t (gx_ft hb)
    · intro j hj
      rcases (bm j).mp hj with t | t
      · exact h5 j t
      · exact hw j ((bw j).mp t).2.1
    · intro hz
      obtain ⟨j, hj⟩ := gx_ne0 hz
      have a := h6 z
      have b := gx_c_lt (p := gx_b s.1) (q := gx_b (s.1 ||| w)) (n := n) (j := j) (fun k _ hk => (bm k).mpr (Or.inl hk)) (hw j ((bw j).mp hj).2.1) ((bm j).mpr (Or.inr hj)) ((bw j).mp hj).2.2
      dsimp only
      omega
theorem gw_gatherWithin {post : Int32 → Prop} {n : Nat} {f1 f2 : Int32} {a1 a2 a3 a4 a5 a6 a7 a8 a9 : Nat → Int32} (hn : n ≤ 16) {s0 : Nat} {st : Int32} (wi : Int32) (hs : s0 < n) (est : st = (1 : Int32) <<< (nI s0 &&& 31)) (hw : ∀ j, gx_b wi j = true → j < n)
    (H : ∀ r, (∀ j, gx_b r j = true ↔ gx_R (fun a b => gx_b (a2 a) b = true) (fun z => gx_b wi z = true) s0 j) → post r) :
    wpX_gatherWithin post (nI n, f1, f2, a1, a2, a3, a4, a5, a6, a7, a8, a9) st wi := by
  subst est
  have b1 : ∀ j, gx_b ((1 : Int32) <<< (nI s0 &&& 31)) j = true ↔ j = s0 := fun j => gx_1 (by omega) j
  have fin : ∀ met : Int32, gx_b met s0 = true → (∀ j, gx_b met j = true → gx_R (fun a b => gx_b (a2 a) b = true) (fun z => gx_b wi z = true) s0 j) → (∀ a b, gx_b met a = true → gx_b (a2 a) b = true → gx_b wi b = true → gx_b met b = true) → post met := by
    intro met h1 h2 h3
    refine H met (fun j => ⟨h2 j, fun h => h (fun z => gx_b met z = true) h1 (fun a b pa e w => h3 a b pa e w)⟩)
  refine pk_loop (fun m i (s : Int32 × Int32) => wX_gatherWithin_8 post wi (nI n) f1 f2 a1 a2 a3 a4 a5 a6 a7 a8 a9 m s.1 s.2 (nI i))
    (fun i s => (gx_b s.1 s0 = true ∧ (∀ j, gx_b s.1 j = true → gx_R (fun a b => gx_b (a2 a) b = true) (fun z => gx_b wi z = true) s0 j) ∧ (∀ a b, gx_b s.1 a = true → gx_b s.2 a = false → gx_b (a2 a) b = true → gx_b wi b = true → gx_b s.1 b = true) ∧ (∀ j, gx_b s.2 j = true → gx_b s.1 j = true) ∧ (∀ j, gx_b s.1 j = true → j < n)) ∧ (¬ s.2 = 0 → i + 1 ≤ gx_c (gx_b s.1) n))
    16 0 ((1 : Int32) <<< (nI s0 &&& 31), (1 : Int32) <<< (nI s0 &&& 31)) (by omega) ?_ ?_ ?_
  · refine ⟨⟨(b1 s0).mpr rfl, fun j hj => ?_, fun a b ha hb => absurd ha (gx_ft hb), fun _ h => h, fun j hj => ?_⟩, fun _ => ?_⟩
    · rw [(b1 j).mp hj]
      exact gx_R0
    · rw [(b1 j).mp hj]
      exact hs
    · have := gx_c_pos (p := gx_b ((1 : Int32) <<< (nI s0 &&& 31))) (n := n) (j := s0) hs ((b1 s0).mpr rfl)
      dsimp only
      omega
  · intro m s h
    refine pk_le 16 16 (fun _ => ?_) (fun z => absurd z (by omega))
    obtain ⟨⟨h1, h2, h3, h4, h5⟩, h6⟩ := h
    have z : s.2 = 0 := by
      refine Classical.byContradiction fun z => ?_
      have a := h6 z
      have b := gx_c_le (gx_b s.1) n
      omega
    exact fin s.1 h1 h2 (fun a b ha e w => h3 a b ha (by rw [z, gx_0]) e w)
  · intro m i s hi h hwk
    obtain ⟨⟨h1, h2, h3, h4, h5⟩, h6⟩ := h
    refine pk_le 16 i (fun z => absurd z (by omega)) (fun _ => br_c (fun z => fin s.1 h1 h2 (fun a b ha e w => h3 a b ha (by rw [z, gx_0]) e w)) (fun z => gw_sourcesOf hn s.2 (fun r hr => nm_e (nm_e (nm_r (nI_1 i) (hwk (_, _) ?_))))))
    have bw : ∀ j, gx_b (r &&& wi &&& (s.1 ^^^ (-1))) j = true ↔ (∃ u, u < n ∧ gx_b s.2 u = true ∧ gx_b (a2 u) j = true) ∧ gx_b wi j = true ∧ gx_b s.1 j = false := by
      intro j
      rw [gx_dif, gx_and, Bool.and_eq_true, Bool.and_eq_true, Bool.not_eq_true', hr j, and_assoc]
    have bm : ∀ j, gx_b (s.1 ||| (r &&& wi &&& (s.1 ^^^ (-1)))) j = true ↔ gx_b s.1 j = true ∨ gx_b (r &&& wi &&& (s.1 ^^^ (-1))) j = true := by
      intro j
      rw [gx_or, Bool.or_eq_true]
    generalize r &&& wi &&& (s.1 ^^^ (-1)) = w at bw bm ⊢
    refine ⟨⟨(bm s0).mpr (Or.inl h1), ?_, ?_, fun j hj => (bm j).mpr (Or.inr hj), ?_⟩, ?_⟩
    · intro j hj
      rcases (bm j).mp hj with t | t
      · exact h2 j t
      · obtain ⟨⟨u, hu, u2, u3⟩, t2, t3⟩ := (bw j).mp t
        exact gx_Rs (h2 u (h4 u u2)) u3 t2
    · intro a b ha hb e hw'
      refine (bm b).mpr ?_
      rcases (bm a).mp ha with t | t
      · cases hs2 : gx_b s.2 a
        · exact Or.inl (h3 a b t hs2 e hw')
        · cases hb2 : gx_b s.1 b
          · exact Or.inr ((bw b).mpr ⟨⟨a, h5 a t, hs2, e⟩, hw', hb2⟩)
          · exact Or.inl rfl
      · exact absurd t (gx_ft hb)
    · intro j hj
      rcases (bm j).mp hj with t | t
      · exact h5 j t
      · exact hw j ((bw j).mp t).2.1
    · intro hz
      obtain ⟨j, hj⟩ := gx_ne0 hz
      have a := h6 z
      have b := gx_c_lt (p := gx_b s.1) (q := gx_b (s.1 ||| w)) (n := n) (j := j) (fun k _ hk => (bm k).mpr (Or.inl hk)) (hw j ((bw j).mp hj).2.1) ((bm j).mpr (Or.inr hj)) ((bw j).mp hj).2.2
      dsimp only
      omega
end
section
/-- the line and the places -/
def gx_P (L : List Nat) (a5 a6 : Nat → Int32) : Prop := ∀ i c, L[i]? = some c → a6 i = nI c ∧ a5 c = nI i
/-- the next line so far -/
def gx_N (a7 : Nat → Int32) (l : List Nat) : Prop := ∀ i c, l[i]? = some c → a7 i = nI c
theorem gx_N0 (a7 : Nat → Int32) : gx_N a7 [] := fun i c h => absurd h (by simp)
theorem gx_Nadd {a7 : Nat → Int32} {l : List Nat} {c : Nat} (h : gx_N a7 l) : gx_N (upd a7 l.length (nI c)) (l ++ [c]) := by
  intro i d hd
  rw [List.getElem?_append] at hd
  by_cases e : i < l.length
  · rw [if_pos e] at hd
    rw [pk_un (by omega)]
    exact h i d hd
  · rw [if_neg e] at hd
    have z : i - l.length = 0 := by
      rcases Nat.eq_zero_or_pos (i - l.length) with t | t
      · exact t
      · rw [List.getElem?_eq_none (by simp; omega)] at hd
        exact absurd hd (by simp)
    rw [z] at hd
    have e2 : i = l.length := by omega
    have e3 : c = d := by simpa using hd
    rw [e2, pk_us, e3]
theorem gx_at {A C : List Nat} {c : Nat} : (A ++ c :: C)[A.length]? = some c := by
  rw [List.getElem?_append_right (Nat.le_refl _), Nat.sub_self]
  rfl
theorem gx_at3 {A B C p s : List Nat} {c : Nat} (hB : B = p ++ c :: s) : (A ++ B ++ C)[A.length + p.length]? = some c := by
  have e : A ++ B ++ C = (A ++ p) ++ c :: (s ++ C) := by rw [hB]; simp
  rw [e, ← List.length_append]
  exact gx_at
theorem gx_len {L : List Nat} {n : Nat} (h : L.Pairwise (fun c d => c ≠ d)) (hn : ∀ c, c ∈ L → c < n) : L.length ≤ n := by
  have h' : L.Nodup := h
  have t := h'.length_le_of_subset (l₂ := List.range n) (fun c hc => List.mem_range.mpr (hn c hc))
  rw [List.length_range] at t
  exact t
theorem gx_m1lt : ∀ {k : Nat}, k < 2 ^ 31 → nI k + (-1) < nI k := by
  intro k hk
  rcases Nat.eq_zero_or_pos k with z | z
  · rw [z]
    decide
  · have e : nI k + (-1) = nI (k - 1) := by
      rw [show k = (k - 1) + 1 by omega]
      exact pk_m1 (k - 1)
    rw [e]
    exact nI_lt (by omega) hk
/-- an append whose argument is known -/
theorem gw_app {post : St2 → Prop} {f0 f1 x : Int32} {a1 a2 a3 a4 a5 a6 a7 a8 a9 : Nat → Int32} {m c : Nat} (hx : x = nI c) (hm : m < 16) (hc : c < 16) (H : post (f0, f1, nI (m + 1), a1, a2, a3, a4, a5, a6, upd a7 m (nI c), a8, a9)) :
    wpX_append post (f0, f1, nI m, a1, a2, a3, a4, a5, a6, a7, a8, a9) x := by
  rw [hx]
  exact gw_append hm hc H
theorem gw_adoptLine {post : St2 → Prop} {f0 f1 : Int32} {a1 a2 a3 a4 a5 a6 a7 a8 a9 : Nat → Int32} {L : List Nat} {k : Nat} (ek : k = L.length) (nd : L.Pairwise (fun c d => c ≠ d)) (lt : ∀ c, c ∈ L → c < 16) (hN : gx_N a7 L)
    (H : ∀ s5 s6, gx_P L s5 s6 → post (f0, nI L.length, nI L.length, a1, a2, a3, a4, s5, s6, a7, a8, a9)) :
    wpX_adoptLine post (f0, f1, nI k, a1, a2, a3, a4, a5, a6, a7, a8, a9) := by
  subst ek
  have hl : L.length ≤ 16 := gx_len nd lt
  refine pk_loop (fun m i (s : (Nat → Int32) × (Nat → Int32)) => wX_adoptLine_10 post f0 (nI L.length) (nI L.length) m (nI i) a1 a2 a3 a4 s.1 s.2 a7 a8 a9)
    (fun i s => ∀ j d, j < i → L[j]? = some d → s.2 j = nI d ∧ s.1 d = nI j) L.length 0 (a5, a6) (by omega) (fun j d hj => absurd hj (by omega)) ?_ ?_
  · intro m s h
    refine pk_le L.length L.length (fun _ => H s.1 s.2 (fun i c hc => h i c ?_ hc)) (fun z => absurd z (by omega))
    exact (List.getElem?_eq_some_iff.mp hc).1
  · intro m i s hi h hw
    obtain ⟨d, hd⟩ : ∃ d, L[i]? = some d := ⟨_, List.getElem?_eq_getElem hi⟩
    have hd16 : d < 16 := lt d (List.mem_of_getElem? hd)
    have h7 : a7 i = nI d := hN i d hd
    refine pk_le L.length i (fun z => absurd z (by omega)) (fun _ => ⟨pk_in i 16 (by omega), pk_in i 16 (by omega), nm_r (e' := upd s.2 i (nI d)) (by rw [nI_clamp (by omega), h7, gx_vn (by omega)]) ⟨pk_in i 16 (by omega), pk_in d 16 hd16 (by rw [nI_clamp (by omega), pk_us]), nm_r (e' := upd s.1 d (nI i)) (by rw [nI_clamp (n := i) (by omega), pk_us, nI_clamp (by omega), gx_by i (by omega)]) (nm_r (nI_1 i) (hw (upd s.1 d (nI i), upd s.2 i (nI d)) ?_))⟩⟩)
    intro j c hj hc
    show upd s.2 i (nI d) j = nI c ∧ upd s.1 d (nI i) c = nI j
    by_cases e : j = i
    · rw [e] at hc ⊢
      have ec : c = d := by
        rw [hd] at hc
        exact (Option.some.inj hc).symm
      rw [ec, pk_us, pk_us]
      exact ⟨rfl, rfl⟩
    · have ne : c ≠ d := by
        intro t
        rw [t] at hc
        exact e ((List.getElem?_inj (List.getElem?_eq_some_iff.mp hc).1 nd).mp (hc.trans hd.symm))
      rw [pk_un e, pk_un ne]
      exact h j c (by omega) hc
theorem gw_leadersBetween {post : Int32 → Prop} {f0 f1 f2 : Int32} {a1 a2 a3 a4 a5 a6 a7 a8 a9 : Nat → Int32} {A B C : List Nat} {h : Nat} (h6 : ∀ i c, (A ++ B ++ C)[i]? = some c → a6 i = nI c ∧ c < 16) (hl : A.length + B.length ≤ 16) (eh : h + 1 = A.length + B.length)
    (H : ∀ r, (∀ d, gx_b r d = true ↔ d ∈ B) → post r) : wpX_leadersBetween post (f0, f1, f2, a1, a2, a3, a4, a5, a6, a7, a8, a9) (nI A.length) (nI h) := by
  have key : ∀ (s p : List Nat) (x : Int32) (j : Nat), B = p ++ s → j = A.length + p.length → (∀ d, gx_b x d = true ↔ d ∈ p) → wX_leadersBetween_5 post (nI h) f0 f1 f2 a1 a2 a3 a4 a5 a6 a7 a8 a9 (s.length + 1) x (nI j) := by
    intro s
    induction s with
    | nil =>
      intro p x j hB hj hx
      rw [List.append_nil] at hB
      have hlen : B.length = p.length := by rw [hB]
      refine pk_lt h j (fun _ => H x (fun d => ?_)) (fun z => absurd z (by omega))
      rw [hB]
      exact hx d
    | cons c s ih =>
      intro p x j hB hj hx
      have hq := h6 _ c (gx_at3 hB)
      rw [← hj] at hq
      have hlen : B.length = p.length + (s.length + 1) := by rw [hB]; simp
      refine pk_lt h j (fun z => absurd z (by omega)) (fun _ => ⟨pk_in j 16 (by omega), nm_r (e' := x ||| ((1 : Int32) <<< (nI c &&& 31))) (by rw [nI_clamp (by omega), hq.1]) (nm_r (nI_1 j) (ih (p ++ [c]) _ (j + 1) (by rw [hB]; simp) (by rw [List.length_append]; simp; omega) (fun d => ?_)))⟩)
      rw [gx_or, Bool.or_eq_true, gx_1 (by omega) d, hx d, List.mem_append, List.mem_singleton]
  exact ⟨B.length + 1, key B [] 0 A.length rfl (by simp) (fun d => by rw [gx_0]; simp)⟩
theorem gw_forwardUpTo {post : Int32 → Prop} {n : Nat} {f1 f2 : Int32} {a1 a2 a3 a4 a5 a6 a7 a8 a9 : Nat → Int32} {ld : Nat → Nat} {A B C : List Nat} {h t : Nat} (hn : n ≤ 16)
    (h3 : ∀ u, u < n → a3 u = nI (ld u) ∧ ld u < n) (h4 : ∀ c, c < n → ∀ j, gx_b (a4 c) j = true ↔ j < n ∧ ld j = c)
    (h6 : ∀ i c, (A ++ B ++ C)[i]? = some c → (a6 i = nI c ∧ a5 c = nI i) ∧ c < n) (hl : A.length + B.length ≤ 16) (eh : h + 1 = A.length + B.length)
    (ht : ∃ B', B = t :: B')
    (ob : B.Pairwise (fun c d => ∀ x y, x < n → y < n → ld x = d → ld y = c → gx_b (a1 x) y = true → c = t))
    (H : ∀ r, gx_b r t = true → (∀ x y, x < n → y < n → ld x ∈ B → gx_b r (ld x) = true → gx_b (a1 x) y = true → gx_b r (ld y) = true) →
      (∀ P : Nat → Prop, P t → (∀ x y, x < n → y < n → P (ld x) → ld x ∈ B → gx_b (a1 x) y = true → P (ld y)) → ∀ d, gx_b r d = true → P d) → post r) :
    wpX_forwardUpTo post (nI n, f1, f2, a1, a2, a3, a4, a5, a6, a7, a8, a9) (nI t) (nI h) := by
  have key : ∀ (s p : List Nat) (r : Int32) (j : Nat), B = p ++ s → j = A.length + p.length → gx_b r t = true → (∀ x y, x < n → y < n → ld x ∈ p → gx_b r (ld x) = true → gx_b (a1 x) y = true → gx_b r (ld y) = true) →
      (∀ P : Nat → Prop, P t → (∀ x y, x < n → y < n → P (ld x) → ld x ∈ B → gx_b (a1 x) y = true → P (ld y)) → ∀ d, gx_b r d = true → P d) →
      wX_forwardUpTo_12 post (nI h) (nI n) f1 f2 a1 a2 a3 a4 a5 a6 a7 a8 a9 (s.length + 1) r (nI j) := by
    intro s
    induction s with
    | nil =>
      intro p r j hB hj r1 r2 r3
      rw [List.append_nil] at hB
      have hlen : B.length = p.length := by rw [hB]
      refine pk_lt h j (fun _ => H r r1 ?_ r3) (fun z => absurd z (by omega))
      rw [hB]
      exact r2
    | cons c s ih =>
      intro p r j hB hj r1 r2 r3
      have hq := h6 _ c (gx_at3 hB)
      rw [← hj] at hq
      have hlen : B.length = p.length + (s.length + 1) := by rw [hB]; simp
      have hcB : c ∈ B := by rw [hB]; simp
      have eB : B = (p ++ [c]) ++ s := by rw [hB]; simp
      have ej : j + 1 = A.length + (p ++ [c]).length := by rw [List.length_append]; simp; omega
      refine pk_lt h j (fun z => absurd z (by omega)) (fun _ => ⟨pk_in j 16 (by omega), nm_r (e' := nI c) (by rw [nI_clamp (by omega), hq.1.1]) (gx_br c (by omega) (fun hb => nm_r (nI_1 j) (ih (p ++ [c]) r (j + 1) eB ej r1 ?_ r3)) (fun hb => ⟨pk_in c 16 (by omega), gw_targetsOf hn _ (fun r10 h10 => gw_leadersOf (ld := ld) hn _ (fun u hu => ⟨(h3 u hu).1, by have := (h3 u hu).2; omega⟩) (fun r11 h11 => nm_e (nm_r (nI_1 j) (ih (p ++ [c]) _ (j + 1) eB ej ?_ ?_ ?_))))⟩))⟩)
      · intro x y hx hy hm hr e
        rcases List.mem_append.mp hm with m | m
        · exact r2 x y hx hy m hr e
        · rw [List.mem_singleton.mp m] at hr
          exact absurd hr (gx_ft hb)
      · rw [gx_or, r1, Bool.true_or]
      · have b11 : ∀ d, gx_b r11 d = true ↔ ∃ x y, x < n ∧ y < n ∧ ld x = c ∧ gx_b (a1 x) y = true ∧ d = ld y := by
          intro d
          rw [h11 d]
          constructor
          · intro ⟨y, hy, k, e⟩
            obtain ⟨x, hx, k1, k2⟩ := (h10 y).mp k
            rw [nI_clamp (by omega)] at k1
            exact ⟨x, y, hx, hy, ((h4 c hq.2 x).mp k1).2, k2, e⟩
          · intro ⟨x, y, hx, hy, k1, k2, e⟩
            refine ⟨y, hy, (h10 y).mpr ⟨x, hx, ?_, k2⟩, e⟩
            rw [nI_clamp (by omega)]
            exact (h4 c hq.2 x).mpr ⟨hx, k1⟩
        intro x y hx hy hm hr e
        rw [gx_or, Bool.or_eq_true] at hr ⊢
        by_cases ec : ld x = c
        · exact Or.inr ((b11 _).mpr ⟨x, y, hx, hy, ec, e, rfl⟩)
        · have hp : ld x ∈ p := by
            rcases List.mem_append.mp hm with m | m
            · exact m
            · exact absurd (List.mem_singleton.mp m) ec
          refine Or.inl (r2 x y hx hy hp ?_ e)
          rcases hr with z | z
          · exact z
          · obtain ⟨x', y', hx', hy', k1, k2, k3⟩ := (b11 _).mp z
            have o : ld x = t := by
              rw [hB, List.pairwise_append] at ob
              exact ob.2.2 (ld x) hp c (by simp) x' y' hx' hy' k1 k3.symm k2
            rw [o]
            exact r1
      · intro P p0 ps d hd
        rw [gx_or, Bool.or_eq_true] at hd
        rcases hd with z | z
        · exact r3 P p0 ps d z
        · obtain ⟨y, hy, k, e⟩ := (h11 d).mp z
          obtain ⟨x, hx, k1, k2⟩ := (h10 y).mp k
          rw [nI_clamp (by omega)] at k1
          have ec := ((h4 c hq.2 x).mp k1).2
          rw [e]
          exact ps x y hx hy (by rw [ec]; exact r3 P p0 ps c hb) (by rw [ec]; exact hcB) k2
  obtain ⟨B', hB'⟩ := ht
  have q0 := h6 _ t (gx_at3 (A := A) (C := C) (p := []) hB')
  have q1 : a5 t = nI A.length := q0.1.2
  have b1 : ∀ d, gx_b ((1 : Int32) <<< (nI t &&& 31)) d = true ↔ d = t := fun d => gx_1 (by omega) d
  refine nm_e ⟨pk_in t 16 (by omega), nm_r (e' := nI A.length) (by rw [nI_clamp (by omega), q1]) ⟨B.length + 1, key B [] _ A.length rfl (by simp) ((b1 t).mpr rfl) (fun x y _ _ m => absurd m (by simp)) ?_⟩⟩
  intro P p0 _ d hd
  rw [(b1 d).mp hd]
  exact p0
theorem gw_backwardDownTo {post : Int32 → Prop} {n : Nat} {f1 f2 : Int32} {a1 a2 a3 a4 a5 a6 a7 a8 a9 : Nat → Int32} {ld : Nat → Nat} {A B C : List Nat} {t : Nat} (hn : n ≤ 16)
    (h2 : ∀ x y, gx_b (a2 y) x = true ↔ gx_b (a1 x) y = true)
    (h3 : ∀ u, u < n → a3 u = nI (ld u) ∧ ld u < n) (h4 : ∀ c, c < n → ∀ j, gx_b (a4 c) j = true ↔ j < n ∧ ld j = c)
    (h6 : ∀ i c, (A ++ B ++ C)[i]? = some c → (a6 i = nI c ∧ a5 c = nI i) ∧ c < n) (hl : A.length + B.length ≤ 16)
    (ht : ∃ B', B = B' ++ [t])
    (ob : B.Pairwise (fun c d => ∀ x y, x < n → y < n → ld x = d → ld y = c → gx_b (a1 x) y = true → d = t))
    (H : ∀ r, gx_b r t = true → (∀ x y, x < n → y < n → ld y ∈ B → gx_b r (ld y) = true → gx_b (a1 x) y = true → gx_b r (ld x) = true) →
      (∀ P : Nat → Prop, P t → (∀ x y, x < n → y < n → P (ld y) → ld y ∈ B → gx_b (a1 x) y = true → P (ld x)) → ∀ d, gx_b r d = true → P d) → post r) :
    wpX_backwardDownTo post (nI n, f1, f2, a1, a2, a3, a4, a5, a6, a7, a8, a9) (nI t) (nI A.length) := by
  have key : ∀ (p s : List Nat) (r : Int32) (j : Nat), B = p.reverse ++ s → j = A.length + p.length → gx_b r t = true → (∀ x y, x < n → y < n → ld y ∈ s → gx_b r (ld y) = true → gx_b (a1 x) y = true → gx_b r (ld x) = true) →
      (∀ P : Nat → Prop, P t → (∀ x y, x < n → y < n → P (ld y) → ld y ∈ B → gx_b (a1 x) y = true → P (ld x)) → ∀ d, gx_b r d = true → P d) →
      wX_backwardDownTo_12 post (nI A.length) (nI n) f1 f2 a1 a2 a3 a4 a5 a6 a7 a8 a9 (p.length + 1) r (nI j + (-1)) := by
    intro p
    induction p with
    | nil =>
      intro s r j hB hj r1 r2 r3
      have hB' : B = s := hB
      refine br_t ?_ (H r r1 ?_ r3)
      · rw [List.length_nil, Nat.add_zero] at hj
        rw [hj]
        exact gx_m1lt (by omega)
      · rw [hB']
        exact r2
    | cons c p ih =>
      intro s r j hB hj r1 r2 r3
      have hB2 : B = p.reverse ++ c :: s := by rw [hB]; simp
      have hq := h6 _ c (gx_at3 hB2)
      rw [List.length_reverse] at hq
      have hlen : B.length = p.length + (s.length + 1) := by rw [hB2]; simp
      obtain ⟨i, hi⟩ : ∃ i, i = A.length + p.length := ⟨_, rfl⟩
      rw [← hi] at hq
      have hcB : c ∈ B := by rw [hB2]; simp
      have ej : nI j + (-1) = nI i := by
        rw [hj, List.length_cons, ← Nat.add_assoc, ← hi]
        exact pk_m1 i
      rw [ej]
      refine pk_lt i A.length (fun z => absurd z (by omega)) (fun _ => ⟨pk_in i 16 (by omega), nm_r (e' := nI c) (by rw [nI_clamp (by omega), hq.1.1]) (gx_br c (by omega) (fun hb => nm_e (ih (c :: s) r i hB2 hi r1 ?_ r3)) (fun hb => ⟨pk_in c 16 (by omega), gw_sourcesOf hn _ (fun r10 h10 => gw_leadersOf (ld := ld) hn _ (fun u hu => ⟨(h3 u hu).1, by have := (h3 u hu).2; omega⟩) (fun r11 h11 => nm_e (nm_e (ih (c :: s) _ i hB2 hi ?_ ?_ ?_))))⟩))⟩)
      · intro x y hx hy hm hr e
        rcases List.mem_cons.mp hm with m | m
        · rw [m] at hr
          exact absurd hr (gx_ft hb)
        · exact r2 x y hx hy m hr e
      · rw [gx_or, r1, Bool.true_or]
      · have b11 : ∀ d, gx_b r11 d = true ↔ ∃ x y, x < n ∧ y < n ∧ ld y = c ∧ gx_b (a1 x) y = true ∧ d = ld x := by
          intro d
          rw [h11 d]
          constructor
          · intro ⟨x, hx, k, e⟩
            obtain ⟨y, hy, k1, k2⟩ := (h10 x).mp k
            rw [nI_clamp (by omega)] at k1
            exact ⟨x, y, hx, hy, ((h4 c hq.2 y).mp k1).2, (h2 x y).mp k2, e⟩
          · intro ⟨x, y, hx, hy, k1, k2, e⟩
            refine ⟨x, hx, (h10 x).mpr ⟨y, hy, ?_, (h2 x y).mpr k2⟩, e⟩
            rw [nI_clamp (by omega)]
            exact (h4 c hq.2 y).mpr ⟨hy, k1⟩
        intro x y hx hy hm hr e
        rw [gx_or, Bool.or_eq_true] at hr ⊢
        by_cases ec : ld y = c
        · exact Or.inr ((b11 _).mpr ⟨x, y, hx, hy, ec, e, rfl⟩)
        · have hp : ld y ∈ s := by
            rcases List.mem_cons.mp hm with m | m
            · exact absurd m ec
            · exact m
          refine Or.inl (r2 x y hx hy hp ?_ e)
          rcases hr with z | z
          · exact z
          · obtain ⟨x', y', hx', hy', k1, k2, k3⟩ := (b11 _).mp z
            have o : ld y = t := by
              rw [hB2, List.pairwise_append] at ob
              exact (List.pairwise_cons.mp ob.2.1).1 (ld y) hp x' y' hx' hy' k3.symm k1 k2
            rw [o]
            exact r1
      · intro P p0 ps d hd
        rw [gx_or, Bool.or_eq_true] at hd
        rcases hd with z | z
        · exact r3 P p0 ps d z
        · obtain ⟨x, hx, k, e⟩ := (h11 d).mp z
          obtain ⟨y, hy, k1, k2⟩ := (h10 x).mp k
          rw [nI_clamp (by omega)] at k1
          have ec := ((h4 c hq.2 y).mp k1).2
          rw [e]
          exact ps x y hx hy (by rw [ec]; exact r3 P p0 ps c hb) (by rw [ec]; exact hcB) ((h2 x y).mp k2)
  obtain ⟨B', hB'⟩ := ht
  have q0 := h6 _ t (gx_at3 (A := A) (C := C) (p := B') (s := []) hB')
  have hlen : B.length = B'.length + 1 := by rw [hB']; simp
  have b1 : ∀ d, gx_b ((1 : Int32) <<< (nI t &&& 31)) d = true ↔ d = t := fun d => gx_1 (by omega) d
  have e0 : nI (A.length + B.length) + (-1) = nI (A.length + B'.length) := by
    rw [hlen, ← Nat.add_assoc]
    exact pk_m1 _
  refine nm_e ⟨pk_in t 16 (by omega), nm_r (e' := nI (A.length + B.length) + (-1)) (by rw [nI_clamp (by omega), q0.1.2, e0]) ⟨B.reverse.length + 1, key B.reverse [] _ _ (by simp) (by rw [List.length_reverse]) ((b1 t).mpr rfl) (fun x y _ _ m => absurd m (by simp)) ?_⟩⟩
  intro P p0 _ d hd
  rw [(b1 d).mp hd]
  exact p0
end
section
/-! the picture over the arrays -/
def gx_A (n : Nat) (a1 a2 : Nat → Int32) : Prop := (∀ x y, gx_b (a1 x) y = true → x < n ∧ y < n ∧ x ≠ y) ∧ (∀ x y, gx_b (a2 y) x = true ↔ gx_b (a1 x) y = true)
def gx_K (n : Nat) (ld : Nat → Nat) (W : Nat → Prop) (a3 a4 : Nat → Int32) : Prop := (∀ u, u < n → ¬ W u → a3 u = nI (ld u)) ∧ (∀ c, c < n → ∀ j, gx_b (a4 c) j = true ↔ j < n ∧ ¬ W j ∧ ld j = c)
def gx_I (n : Nat) (ld : Nat → Nat) (L : List Nat) (a1 a2 a3 a4 a5 a6 : Nat → Int32) : Prop :=
  (2 ≤ n ∧ n ≤ 8) ∧ gx_A n a1 a2 ∧ gx_M n (fun x y => gx_b (a1 x) y = true) ld L ∧ gx_K n ld (fun _ => False) a3 a4 ∧ gx_P L a5 a6
theorem gx_Ke {n : Nat} {ld : Nat → Nat} {W : Nat → Prop} {a3 a4 : Nat → Int32} (K : gx_K n ld W a3 a4) (hW : ∀ u, u < n → ¬ W u) : gx_K n ld (fun _ => False) a3 a4 := by
  refine ⟨fun u hu _ => K.1 u hu (hW u hu), fun c hc j => ?_⟩
  rw [K.2 c hc j]
  exact ⟨fun h => ⟨h.1, fun z => z, h.2.2⟩, fun h => ⟨h.1, hW j h.1, h.2.2⟩⟩
/-- a claim over the arrays -/
theorem gx_Kc {n : Nat} {E : Nat → Nat → Prop} {ld : Nat → Nat} {L1 L2 : List Nat} {W : Nat → Prop} {x : Int32} {c : Nat} {a3 a4 s : Nat → Int32}
    (J : gx_J n E ld L1 L2 W) (K : gx_K n ld W a3 a4) (hx : ∀ u, gx_b x u = true → W u ∧ u < n) (hc : gx_b x c = true)
    (hs : ∀ u, u < n → s u = if gx_b x u = true then nI c else a3 u) :
    gx_K n (fun u => if gx_b x u = true then c else ld u) (fun u => W u ∧ ¬ gx_b x u = true) s (upd a4 c x) := by
  constructor
  · intro u hu hw
    rw [hs u hu]
    show _ = nI (if gx_b x u = true then c else ld u)
    by_cases p : gx_b x u = true
    · rw [if_pos p, if_pos p]
    · rw [if_neg p, if_neg p]
      exact K.1 u hu (fun w => hw ⟨w, p⟩)
  · intro d hd j
    show gx_b (upd a4 c x d) j = true ↔ j < n ∧ ¬ (W j ∧ ¬ gx_b x j = true) ∧ (if gx_b x j = true then c else ld j) = d
    by_cases p : gx_b x j = true
    · rw [if_pos p]
      by_cases e : d = c
      · rw [e, pk_us]
        exact ⟨fun _ => ⟨(hx j p).2, fun t => t.2 p, rfl⟩, fun _ => p⟩
      · rw [pk_un e, K.2 d hd j]
        exact ⟨fun t => absurd (hx j p).1 t.2.1, fun t => absurd t.2.2.symm e⟩
    · rw [if_neg p]
      by_cases e : d = c
      · rw [e, pk_us]
        refine ⟨fun t => absurd t p, fun t => ?_⟩
        have wj : ¬ W j := fun w => t.2.1 ⟨w, p⟩
        have q := J.2.1 (ld j) (J.1 j t.1 wj)
        rw [t.2.2] at q
        exact absurd (hx c hc).1 q.2.1
      · rw [pk_un e, K.2 d hd j]
        exact ⟨fun t => ⟨t.1, fun w => t.2.1 w.1, t.2.2⟩, fun t => ⟨t.1, fun w => t.2.1 ⟨w, p⟩, t.2.2⟩⟩
theorem gx_I3 {n : Nat} {ld : Nat → Nat} {L : List Nat} {E : Nat → Nat → Prop} {a3 a4 : Nat → Int32} (M : gx_M n E ld L) (K : gx_K n ld (fun _ => False) a3 a4) : ∀ u, u < n → a3 u = nI (ld u) ∧ ld u < n :=
  fun u hu => ⟨K.1 u hu (fun z => z), (M.2.1 _ (M.1 u hu)).1⟩
theorem gx_I4 {n : Nat} {ld : Nat → Nat} {a3 a4 : Nat → Int32} (K : gx_K n ld (fun _ => False) a3 a4) : ∀ c, c < n → ∀ j, gx_b (a4 c) j = true ↔ j < n ∧ ld j = c := by
  intro c hc j
  rw [K.2 c hc j]
  exact ⟨fun h => ⟨h.1, h.2.2⟩, fun h => ⟨h.1, fun z => z, h.2⟩⟩
theorem gx_I6 {n : Nat} {ld : Nat → Nat} {L : List Nat} {E : Nat → Nat → Prop} {a5 a6 : Nat → Int32} (M : gx_M n E ld L) (P : gx_P L a5 a6) : ∀ i c, L[i]? = some c → (a6 i = nI c ∧ a5 c = nI i) ∧ c < n :=
  fun i c h => ⟨P i c h, (M.2.1 c (List.mem_of_getElem? h)).1⟩
theorem gx_Il {n : Nat} {ld : Nat → Nat} {L : List Nat} {E : Nat → Nat → Prop} (M : gx_M n E ld L) : L.length ≤ n := gx_len M.2.2.1 (fun c hc => (M.2.1 c hc).1)
/-! the loops of repairLine -/
theorem gx_fp {g : Nat → Bool} {c : Nat} {s : List Nat} (h : g c = true) : (c :: s).filter g = c :: s.filter g := List.filter_cons_of_pos h
theorem gx_fn {g : Nat → Bool} {c : Nat} {s : List Nat} (h : g c = false) : (c :: s).filter g = s.filter g := List.filter_cons_of_neg (by rw [h]; decide)
theorem gw_r221 {post : Int32 → St2 → Prop} {x7 f0 : Int32} {a1 a2 a3 a4 a5 a6 a8 a9 : Nat → Int32} {L Lf : List Nat}
    (h6 : ∀ i c, L[i]? = some c → a6 i = nI c ∧ c < 16) (hl : L.length ≤ 16) (nd : Lf.Pairwise (fun c d => c ≠ d)) (lt : ∀ c, c ∈ Lf → c < 16)
    (H : ∀ s5 s6 s7, gx_P Lf s5 s6 → post x7 (f0, nI Lf.length, nI Lf.length, a1, a2, a3, a4, s5, s6, s7, a8, a9)) :
    ∀ (s p l : List Nat) (a7 : Nat → Int32) (j m : Nat), L = p ++ s → l ++ s = Lf → j = p.length → m = l.length → gx_N a7 l →
      wX_repairLine_221 post x7 (s.length + 1) (nI j) f0 (nI L.length) (nI m) a1 a2 a3 a4 a5 a6 a7 a8 a9 := by
  have hf := gx_len nd lt
  intro s
  induction s with
  | nil =>
    intro p l a7 j m hL hf' hj hm hN
    rw [List.append_nil] at hL hf'
    have hlen : L.length = p.length := by rw [hL]
    refine pk_le L.length j (fun _ => gw_adoptLine (L := Lf) (by rw [← hf']; exact hm) nd lt (by rw [← hf']; exact hN) (fun s5 s6 hP => H s5 s6 a7 hP)) (fun z => absurd z (by omega))
  | cons c s ih =>
    intro p l a7 j m hL hf' hj hm hN
    have hq := h6 p.length c (by rw [hL]; exact gx_at)
    rw [← hj] at hq
    have hlen : L.length = p.length + (s.length + 1) := by rw [hL]; simp
    have hlen2 : Lf.length = l.length + (s.length + 1) := by rw [← hf']; simp
    refine pk_le L.length j (fun z => absurd z (by omega)) (fun _ => ⟨pk_in j 16 (by omega), gw_app (c := c) (by rw [nI_clamp (by omega), hq.1]) (by omega) hq.2 (nm_r (nI_1 j) ?_)⟩)
    exact ih (p ++ [c]) (l ++ [c]) (upd a7 m (nI c)) (j + 1) (m + 1) (by rw [hL]; simp) (by rw [← hf']; simp) (by simp [hj]) (by simp [hm]) (by rw [hm]; exact gx_Nadd hN)
theorem gw_s186 {post : Int32 → St2 → Prop} {x7 f0 : Int32} {a1 a2 a3 a4 a5 a6 a8 a9 : Nat → Int32} {L Lf : List Nat}
    (h6 : ∀ i c, L[i]? = some c → a6 i = nI c ∧ c < 16) (hl : L.length ≤ 16) (nd : Lf.Pairwise (fun c d => c ≠ d)) (lt : ∀ c, c ∈ Lf → c < 16)
    (H : ∀ s5 s6 s7, gx_P Lf s5 s6 → post (x7-1) (f0, nI Lf.length, nI Lf.length, a1, a2, a3, a4, s5, s6, s7, a8, a9)) :
    ∀ (s p l : List Nat) (a7 : Nat → Int32) (j m : Nat), L = p ++ s → l ++ s = Lf → j = p.length → m = l.length → gx_N a7 l →
      wX_split_186 post x7 (s.length + 1) (nI j) f0 (nI L.length) (nI m) a1 a2 a3 a4 a5 a6 a7 a8 a9 := by
  have hf := gx_len nd lt
  intro s
  induction s with
  | nil =>
    intro p l a7 j m hL hf' hj hm hN
    rw [List.append_nil] at hL hf'
    have hlen : L.length = p.length := by rw [hL]
    refine pk_le L.length j (fun _ => gw_adoptLine (L := Lf) (by rw [← hf']; exact hm) nd lt (by rw [← hf']; exact hN) (fun s5 s6 hP => H s5 s6 a7 hP)) (fun z => absurd z (by omega))
  | cons c s ih =>
    intro p l a7 j m hL hf' hj hm hN
    have hq := h6 p.length c (by rw [hL]; exact gx_at)
    rw [← hj] at hq
    have hlen : L.length = p.length + (s.length + 1) := by rw [hL]; simp
    have hlen2 : Lf.length = l.length + (s.length + 1) := by rw [← hf']; simp
    refine pk_le L.length j (fun z => absurd z (by omega)) (fun _ => ⟨pk_in j 16 (by omega), gw_app (c := c) (by rw [nI_clamp (by omega), hq.1]) (by omega) hq.2 (nm_r (nI_1 j) ?_)⟩)
    exact ih (p ++ [c]) (l ++ [c]) (upd a7 m (nI c)) (j + 1) (m + 1) (by rw [hL]; simp) (by rw [← hf']; simp) (by simp [hj]) (by simp [hm]) (by rw [hm]; exact gx_Nadd hN)
theorem gw_r167 {post : Int32 → St2 → Prop} {x5 x6 x7 f0 : Int32} {a1 a2 a3 a4 a5 a6 a8 a9 : Nat → Int32} {A B C Lf : List Nat} {h : Nat}
    (h6 : ∀ i c, (A ++ B ++ C)[i]? = some c → a6 i = nI c ∧ c < 16) (hl : (A ++ B ++ C).length ≤ 16) (eh : h + 1 = A.length + B.length) (nd : Lf.Pairwise (fun c d => c ≠ d)) (lt : ∀ c, c ∈ Lf → c < 16)
    (H : ∀ s5 s6 s7, gx_P Lf s5 s6 → post x7 (f0, nI Lf.length, nI Lf.length, a1, a2, a3, a4, s5, s6, s7, a8, a9)) :
    ∀ (s p l : List Nat) (a7 : Nat → Int32) (j m : Nat), B = p ++ s → l ++ (s.filter (fun c => gx_b x5 c && !gx_b x6 c) ++ C) = Lf → j = A.length + p.length → m = l.length → gx_N a7 l →
      wX_repairLine_167 post (nI h) x5 x6 x7 (s.length + 1) (nI j) f0 (nI (A ++ B ++ C).length) (nI m) a1 a2 a3 a4 a5 a6 a7 a8 a9 := by
  have hf := gx_len nd lt
  have hl' : A.length + B.length ≤ 16 := by
    rw [List.length_append, List.length_append] at hl
    omega
  intro s
  induction s with
  | nil =>
    intro p l a7 j m hB hf' hj hm hN
    rw [List.append_nil] at hB
    have hlen : B.length = p.length := by rw [hB]
    refine pk_lt h j (fun _ => nm_r (nI_1 h) ⟨C.length + 1, gw_r221 h6 hl nd lt H C (A ++ B) l a7 (h + 1) m rfl (by rw [← hf']; simp) (by rw [List.length_append]; exact eh) hm hN⟩) (fun z => absurd z (by omega))
  | cons c s ih =>
    intro p l a7 j m hB hf' hj hm hN
    have hq := h6 _ c (gx_at3 hB)
    rw [← hj] at hq
    have hlen : B.length = p.length + (s.length + 1) := by rw [hB]; simp
    have eB : B = (p ++ [c]) ++ s := by rw [hB]; simp
    have ej : j + 1 = A.length + (p ++ [c]).length := by rw [List.length_append]; simp; omega
    refine pk_lt h j (fun z => absurd z (by omega)) (fun _ => nm_e ⟨pk_in j 16 (by omega), gx_br c (by omega) (fun hb => nm_r (nI_1 j) (ih (p ++ [c]) l a7 (j + 1) m eB ?_ ej hm hN)) (fun hb => ⟨pk_in j 16 (by omega), gw_app (c := c) (by rw [nI_clamp (by omega), hq.1]) ?_ hq.2 (nm_r (nI_1 j) (ih (p ++ [c]) (l ++ [c]) (upd a7 m (nI c)) (j + 1) (m + 1) eB ?_ ej (by simp [hm]) (by rw [hm]; exact gx_Nadd hN)))⟩) (by rw [nI_clamp (by omega), hq.1])⟩)
    · rw [gx_dif] at hb
      rw [← hf', gx_fn (g := fun c => gx_b x5 c && !gx_b x6 c) hb]
    · rw [gx_dif] at hb
      rw [← hf', gx_fp (g := fun c => gx_b x5 c && !gx_b x6 c) hb] at hf
      simp at hf
      omega
    · rw [gx_dif] at hb
      rw [← hf', gx_fp (g := fun c => gx_b x5 c && !gx_b x6 c) hb]
      simp
theorem gw_r93 {post : Int32 → St2 → Prop} {x3 x5 x6 f0 f1 : Int32} {a1 a2 a3 a4 a5 a6 a8 a9 : Nat → Int32} {A B C : List Nat} {h : Nat}
    (h6 : ∀ i c, (A ++ B ++ C)[i]? = some c → a6 i = nI c ∧ c < 16) (hl : A.length + B.length ≤ 16) (eh : h + 1 = A.length + B.length) :
    ∀ (s p l : List Nat) (a7 : Nat → Int32) (j m : Nat), B = p ++ s → j = A.length + p.length → m = l.length → l.length + s.length ≤ 16 → gx_N a7 l →
      (∀ t, gx_N t (l ++ s.filter (fun c => !gx_b x5 c)) → wX_repairLine_93 post x3 (nI h) x5 x6 1 (nI (h + 1)) f0 f1 (nI (l ++ s.filter (fun c => !gx_b x5 c)).length) a1 a2 a3 a4 a5 a6 t a8 a9) →
      wX_repairLine_93 post x3 (nI h) x5 x6 (s.length + 1) (nI j) f0 f1 (nI m) a1 a2 a3 a4 a5 a6 a7 a8 a9 := by
  intro s
  induction s with
  | nil =>
    intro p l a7 j m hB hj hm hb hN H
    rw [List.append_nil] at hB
    have hlen : B.length = p.length := by rw [hB]
    have t := H a7 (by simpa using hN)
    rw [List.filter_nil, List.append_nil, ← hm, show h + 1 = j by omega] at t
    exact t
  | cons c s ih =>
    intro p l a7 j m hB hj hm hb hN H
    have hq := h6 _ c (gx_at3 hB)
    rw [← hj] at hq
    have hlen : B.length = p.length + (s.length + 1) := by rw [hB]; simp
    have eB : B = (p ++ [c]) ++ s := by rw [hB]; simp
    have ej : j + 1 = A.length + (p ++ [c]).length := by rw [List.length_append]; simp; omega
    rw [List.length_cons] at hb
    refine pk_lt h j (fun z => absurd z (by omega)) (fun _ => ⟨pk_in j 16 (by omega), gx_br c (by omega) (fun hb => ⟨pk_in j 16 (by omega), gw_app (c := c) (by rw [nI_clamp (by omega), hq.1]) (by omega) hq.2 (nm_r (nI_1 j) (ih (p ++ [c]) (l ++ [c]) (upd a7 m (nI c)) (j + 1) (m + 1) eB ej (by simp [hm]) (by simp; omega) (by rw [hm]; exact gx_Nadd hN) ?_))⟩) (fun hb => nm_r (nI_1 j) (ih (p ++ [c]) l a7 (j + 1) m eB ej hm (by omega) hN ?_)) (by rw [nI_clamp (by omega), hq.1])⟩)
    · rw [gx_fp (g := fun c => !gx_b x5 c) (by rw [hb]; rfl)] at H
      rw [List.append_assoc]
      exact H
    · rw [gx_fn (g := fun c => !gx_b x5 c) (by rw [hb]; rfl)] at H
      exact H
theorem gw_r67 {post : Int32 → St2 → Prop} {x4 x5 x6 f0 f1 : Int32} {a1 a2 a3 a4 a5 a6 a8 a9 : Nat → Int32} {A B : List Nat}
    (h6 : ∀ i c, (A ++ B)[i]? = some c → a6 i = nI c ∧ c < 16) (hl : A.length ≤ 16) :
    ∀ (s p : List Nat) (a7 : Nat → Int32) (j : Nat), A = p ++ s → j = p.length → gx_N a7 p →
      (∀ t, gx_N t A → wX_repairLine_67 post (nI A.length) x4 x5 x6 1 (nI A.length) f0 f1 (nI A.length) a1 a2 a3 a4 a5 a6 t a8 a9) →
      wX_repairLine_67 post (nI A.length) x4 x5 x6 (s.length + 1) (nI j) f0 f1 (nI j) a1 a2 a3 a4 a5 a6 a7 a8 a9 := by
  intro s
  induction s with
  | nil =>
    intro p a7 j hA hj hN H
    rw [List.append_nil] at hA
    rw [← hA] at hN hj
    rw [hj]
    exact H a7 hN
  | cons c s ih =>
    intro p a7 j hA hj hN H
    have eA : A = (p ++ [c]) ++ s := by rw [hA]; simp
    have hq := h6 p.length c (by rw [hA, List.append_assoc]; exact gx_at)
    rw [← hj] at hq
    have hlen : A.length = p.length + (s.length + 1) := by rw [hA]; simp
    refine pk_le A.length j (fun z => absurd z (by omega)) (fun _ => ⟨pk_in j 16 (by omega), gw_app (c := c) (by rw [nI_clamp (by omega), hq.1]) (by omega) hq.2 (nm_r (nI_1 j) ?_)⟩)
    exact ih (p ++ [c]) (upd a7 j (nI c)) (j + 1) eA (by simp [hj]) (by rw [hj]; exact gx_Nadd hN) H
/-- from the first loop to the end -/
theorem gw_rtail {post : Int32 → St2 → Prop} {n : Nat} {a1 a2 a3 a4 a5 a6 a7 a8 a9 : Nat → Int32} {ld : Nat → Nat} {A B C : List Nat} {h : Nat} {x5 x6 : Int32} (hn : 2 ≤ n ∧ n ≤ 8) (hA : gx_A n a1 a2)
    (mx : ∀ c, c ∈ A ++ B ++ C → c < n ∧ ld c = c) (ml : ∀ u, u < n → ld u ∈ A ++ B ++ C) (hlen : (A ++ B ++ C).length ≤ n)
    (K : gx_K n ld (fun _ => False) a3 a4) (P : gx_P (A ++ B ++ C) a5 a6) (eh : h + 1 = A.length + B.length)
    (J : gx_J n (fun x y => gx_b (a1 x) y = true) ld (A ++ B.filter (fun c => !gx_b x5 c)) (B.filter (fun c => gx_b x5 c && !gx_b x6 c) ++ C) (fun x => gx_b x6 (ld x) = true))
    (mB : ∀ c, gx_b x6 c = true → c ∈ B)
    (sc : ∀ x y, (x < n ∧ gx_b x6 (ld x) = true) → (y < n ∧ gx_b x6 (ld y) = true) → gx_R (fun x y => gx_b (a1 x) y = true) (fun z => z < n ∧ gx_b x6 (ld z) = true) x y)
    (H : ∀ k ld' L' s3 s4 s5 s6 s7, k < 2 ^ 31 → gx_I n ld' L' a1 a2 s3 s4 s5 s6 → post (nI k) (nI n, nI L'.length, nI L'.length, a1, a2, s3, s4, s5, s6, s7, a8, a9)) :
    ∃ fu, wX_repairLine_67 post (nI A.length) (nI h) x5 x6 fu 0 (nI n) (nI (A ++ B ++ C).length) 0 a1 a2 a3 a4 a5 a6 a7 a8 a9 := by
  have h6 : ∀ i c, (A ++ B ++ C)[i]? = some c → a6 i = nI c ∧ c < 16 := fun i c hc => ⟨(P i c hc).1, by have := (mx c (List.mem_of_getElem? hc)).1; omega⟩
  have hl : A.length + B.length + C.length ≤ n := by
    rw [List.length_append, List.length_append] at hlen
    exact hlen
  refine ⟨A.length + 1, gw_r67 (B := B ++ C) (by rw [← List.append_assoc]; exact h6) (by omega) A [] a7 0 rfl rfl (gx_N0 _) (fun t ht => pk_le A.length A.length (fun _ => ⟨B.length + 1, gw_r93 h6 (by omega) eh B [] A t A.length A.length rfl rfl rfl (by omega) ht (fun t2 ht2 => pk_lt h (h + 1) (fun _ => br_c (fun z => ?_) (fun z => ?_)) (fun z => absurd z (by omega)))⟩) (fun z => absurd z (by omega)))⟩
  · have M := gx_JM J (fun u _ => by rw [z, gx_0]; decide)
    refine ⟨B.length + 1, gw_r167 h6 (by omega) eh M.2.2.1 (fun c hc => by have := (M.2.1 c hc).1; omega) (fun s5 s6 s7 hP => H 0 ld _ a3 a4 s5 s6 s7 (by omega) ⟨hn, hA, M, K, hP⟩) B [] _ t2 A.length _ rfl rfl rfl rfl ht2⟩
  · have hal : ∀ al : Int32, (∀ j, gx_b al j = true ↔ ∃ c, c < n ∧ gx_b x6 c = true ∧ gx_b (a4 c) j = true) → ∀ j, gx_b al j = true ↔ j < n ∧ gx_b x6 (ld j) = true := by
      intro al hal j
      rw [hal j]
      constructor
      · intro ⟨c, hc, k1, k2⟩
        have t := (gx_I4 K c hc j).mp k2
        exact ⟨t.1, by rw [t.2]; exact k1⟩
      · intro ⟨hj, k⟩
        have t := (mx _ (ml j hj)).1
        exact ⟨ld j, t, k, (gx_I4 K _ t j).mpr ⟨hj, rfl⟩⟩
    obtain ⟨c0, hc0⟩ := gx_ne0 z
    have hc1 := mx c0 (List.mem_append_left _ (List.mem_append_right _ (mB c0 hc0)))
    have hcnt := gx_c_pos (p := gx_b x6) (n := 16) (j := c0) (by omega) hc0
    have hcle := gx_c_le (gx_b x6) 16
    refine gw_bitsIn x6 (nm_r (e' := nI (gx_c (gx_b x6) 16 - 1)) ?_ (gw_melt (by omega) x6 ⟨c0, c0, hc1.1, by omega, hc0, (gx_I4 K c0 hc1.1 c0).mpr hc1⟩ (fun al c s t hal1 ht1 hc hb hs => ?_)))
    · rw [show gx_c (gx_b x6) 16 = (gx_c (gx_b x6) 16 - 1) + 1 by omega]
      exact nI_pred _
    · have hal2 := hal al hal1
      have cn := (hal2 c).mp hb
      have J2 := gx_Jstep (P := fun u => gx_b al u = true) (c := c) (ld' := fun u => if gx_b al u = true then c else ld u) J hb (fun x px => ⟨((hal2 x).mp px).2, ((hal2 x).mp px).1⟩) (fun x y px py => gx_Rm (fun z hz => (hal2 z).mpr hz) (fun _ _ h => h) (sc x y ((hal2 x).mp px) ((hal2 y).mp py))) (fun x y hx _ _ wx px => absurd ((hal2 x).mpr ⟨hx, wx⟩) px) (fun u pu => if_pos pu) (fun u pu => if_neg pu)
      have nW : ∀ u, u < n → ¬ (gx_b x6 (ld u) = true ∧ ¬ gx_b al u = true) := fun u hu w => w.2 ((hal2 u).mpr ⟨hu, w.1⟩)
      have M := gx_JM J2 nW
      have K1 : gx_K n ld (fun x => gx_b x6 (ld x) = true) a3 t := by
        refine ⟨fun u hu _ => K.1 u hu (fun z => z), fun d hd j => ?_⟩
        show gx_b (t d) j = true ↔ j < n ∧ ¬ gx_b x6 (ld j) = true ∧ ld j = d
        rw [ht1 d hd]
        by_cases e : gx_b x6 d = true
        · rw [if_pos e, gx_0]
          refine ⟨fun z => absurd z (by decide), fun z => ?_⟩
          have z2 := z.2.1
          rw [z.2.2] at z2
          exact absurd e z2
        · rw [if_neg e, gx_I4 K d hd j]
          exact ⟨fun z => ⟨z.1, by rw [z.2]; exact e, z.2⟩, fun z => ⟨z.1, z.2.2⟩⟩
      have K2 := gx_Ke (gx_Kc J K1 (fun u pu => ⟨((hal2 u).mp pu).2, ((hal2 u).mp pu).1⟩) hb hs) nW
      have hle := gx_Il M
      have hlm : (A ++ B.filter (fun c => !gx_b x5 c)).length < 16 := by
        have e : (A ++ B.filter (fun c => !gx_b x5 c) ++ [c] ++ (B.filter (fun c => gx_b x5 c && !gx_b x6 c) ++ C)).length = (A ++ B.filter (fun c => !gx_b x5 c)).length + 1 + (B.filter (fun c => gx_b x5 c && !gx_b x6 c) ++ C).length := by
          rw [List.length_append, List.length_append (bs := [c])]
          rfl
        omega
      refine gw_append hlm hc ⟨B.length + 1, gw_r167 h6 (by omega) eh M.2.2.1 (fun c hc => by have := (M.2.1 c hc).1; omega) (fun s5 s6 s7 hP => H _ _ _ _ _ s5 s6 s7 (by omega) ⟨hn, hA, M, K2, hP⟩) B [] _ _ A.length _ rfl rfl rfl ?_ (gx_Nadd ht2)⟩
      rw [List.length_append (bs := [c])]
      rfl
end
section
theorem gw_repairLine {post : Int32 → St2 → Prop} {n : Nat} {f2 : Int32} {a1 a2 a3 a4 a5 a6 a7 a8 a9 : Nat → Int32} {E : Nat → Nat → Prop} {ld : Nat → Nat} {A B C : List Nat} {u v : Nat} (hn : 2 ≤ n ∧ n ≤ 8) (hA : gx_A n a1 a2)
    (M : gx_M n E ld (A ++ B ++ C)) (hE : ∀ x y, gx_b (a1 x) y = true → E x y ∨ (x = u ∧ y = v)) (hE2 : ∀ x y, E x y → gx_b (a1 x) y = true) (huv : gx_b (a1 u) v = true)
    (K : gx_K n ld (fun _ => False) a3 a4) (P : gx_P (A ++ B ++ C) a5 a6) (B1 : ∃ B', B = ld v :: B') (B2 : ∃ B', B = B' ++ [ld u])
    (H : ∀ k ld' L' s3 s4 s5 s6 s7, k < 2 ^ 31 → gx_I n ld' L' a1 a2 s3 s4 s5 s6 → post (nI k) (nI n, nI L'.length, nI L'.length, a1, a2, s3, s4, s5, s6, s7, a8, a9)) :
    wpX_repairLine post (nI n, nI (A ++ B ++ C).length, f2, a1, a2, a3, a4, a5, a6, a7, a8, a9) (nI (ld u)) (nI (ld v)) := by
  have hu := (hA.1 u v huv).1
  have hv := (hA.1 u v huv).2.1
  have h3 := gx_I3 M K
  have h4 := gx_I4 K
  have h6 := gx_I6 M P
  have hL := gx_Il M
  have hl : A.length + B.length ≤ 8 := by
    rw [List.length_append, List.length_append] at hL
    omega
  have bv : ld v ∈ B := by
    obtain ⟨B', e⟩ := B1
    rw [e]
    simp
  have bu : ld u ∈ B := by
    obtain ⟨B', e⟩ := B2
    rw [e]
    simp
  obtain ⟨h, eh, e5u⟩ : ∃ h, h + 1 = A.length + B.length ∧ a5 (ld u) = nI h := by
    obtain ⟨B', e⟩ := B2
    refine ⟨A.length + B'.length, by rw [e]; simp; omega, ?_⟩
    exact (h6 _ _ (gx_at3 (A := A) (C := C) (p := B') (s := []) e)).1.2
  have e5v : a5 (ld v) = nI A.length := by
    obtain ⟨B', e⟩ := B1
    exact (h6 _ _ (gx_at3 (A := A) (C := C) (p := []) e)).1.2
  have lu := (h3 u hu).2
  have lv := (h3 v hv).2
  have oB := (gx_3 M.2.2.2.2).2.1
  have ob1 : B.Pairwise (fun c d => ∀ x y, x < n → y < n → ld x = d → ld y = c → gx_b (a1 x) y = true → c = ld v) := by
    refine oB.imp (fun {c d} o x y hx hy ex ey e => ?_)
    rcases hE x y e with z | ⟨_, z⟩
    · exact absurd z (o x y hx hy ex ey)
    · rw [← ey, z]
  have ob2 : B.Pairwise (fun c d => ∀ x y, x < n → y < n → ld x = d → ld y = c → gx_b (a1 x) y = true → d = ld u) := by
    refine oB.imp (fun {c d} o x y hx hy ex ey e => ?_)
    rcases hE x y e with z | ⟨z, _⟩
    · exact absurd z (o x y hx hy ex ey)
    · rw [← ex, z]
  refine ⟨pk_in (ld v) 16 (by omega), nm_r (e' := nI A.length) (by rw [nI_clamp (by omega), e5v]) ⟨pk_in (ld u) 16 (by omega), nm_r (e' := nI h) (by rw [nI_clamp (by omega), e5u]) (gw_forwardUpTo (by omega) h3 h4 h6 (by omega) eh B1 ob1 (fun r r1 r2 r3 => gx_br (ld u) (by omega) (fun hb => ?_) (fun hb => gw_backwardDownTo (by omega) hA.2 h3 h4 h6 (by omega) B2 ob2 (fun b b1 b2 b3 => gw_leadersBetween (C := C) (fun i c hc => ⟨(h6 i c hc).1.1, by have := (h6 i c hc).2; omega⟩) (by omega) eh (fun q hq => nm_e ?_)))))⟩⟩
  · refine gw_rtail hn hA M.2.1 M.1 hL K P eh (gx_Jrep M hE hE2 bu bv r1 r2 (fun c hc => ?_) (fun x y _ _ _ _ _ hm => ?_) (fun z => absurd z (gx_ft hb))) (fun c hc => ?_) (fun x y hx => ?_) H
    · exact absurd hc (by rw [gx_0]; decide)
    · exact absurd hm (by rw [gx_0]; decide)
    · exact absurd hc (by rw [gx_0]; decide)
    · exact absurd hx.2 (by rw [gx_0]; decide)
  · have hm : ∀ c, gx_b (r &&& b &&& q) c = true ↔ gx_b r c = true ∧ gx_b b c = true ∧ c ∈ B := by
      intro c
      rw [gx_and, gx_and, Bool.and_eq_true, Bool.and_eq_true, hq c, and_assoc]
    have sc : ∀ x y, x < n → y < n → ld x = ld y → gx_R (fun x y => gx_b (a1 x) y = true) (fun z => z < n ∧ ld z = ld x) x y := fun x y hx hy e => gx_Rm (fun _ h => h) hE2 (M.2.2.2.1 x y hx hy e)
    have mt := gx_melt (E' := fun x y => gx_b (a1 x) y = true) (f := gx_b r) (b := gx_b b) (m := gx_b (r &&& b &&& q)) hu hv (fun x y e => ⟨(hA.1 x y e).1, (hA.1 x y e).2.1⟩) huv sc bu bv hb r2 r3 b1 b2 b3 r1 hm
    refine gw_rtail hn hA M.2.1 M.1 hL K P eh (gx_Jrep M hE hE2 bu bv r1 r2 (fun c hc => ⟨((hm c).mp hc).2.2, ((hm c).mp hc).1⟩) (fun x y hx hy bx fx e my => ?_) (fun _ => mt.1.1)) (fun c hc => ((hm c).mp hc).2.2) mt.2 H
    have t := (hm _).mp my
    exact (hm _).mpr ⟨fx, b2 x y hx hy t.2.2 t.2.1 e, bx⟩
theorem gx_cut1 {L : List Nat} : ∀ {j c : Nat}, L[j]? = some c → ∃ A C, L = A ++ c :: C ∧ A.length = j := by
  induction L with
  | nil =>
    intro j c h
    exact absurd h (by simp)
  | cons a l ih =>
    intro j c h
    cases j with
    | zero =>
      have e : a = c := by simpa using h
      exact ⟨[], l, by rw [e]; rfl, rfl⟩
    | succ j =>
      have h' : l[j]? = some c := by simpa using h
      obtain ⟨A, C, e, e2⟩ := ih h'
      exact ⟨a :: A, C, by rw [e]; rfl, by rw [List.length_cons, e2]⟩
theorem gx_cut2 {L : List Nat} {i j c d : Nat} (hj : L[j]? = some c) (hi : L[i]? = some d) (h : j < i) : ∃ A B C, L = A ++ (c :: (B ++ [d])) ++ C ∧ A.length = j := by
  obtain ⟨A, T, e, eA⟩ := gx_cut1 hj
  have t : T[i - j - 1]? = some d := by
    rw [e, List.getElem?_append_right (by omega), eA] at hi
    rw [show i - j = (i - j - 1) + 1 by omega] at hi
    simpa using hi
  obtain ⟨B, C, e2, _⟩ := gx_cut1 t
  exact ⟨A, B, C, by rw [e, e2]; simp, eA⟩
theorem gx_pos {L : List Nat} {c : Nat} (h : c ∈ L) : ∃ i : Nat, L[i]? = some c := List.mem_iff_getElem?.mp h
theorem gx_nd {L : List Nat} (nd : L.Pairwise (fun c d => c ≠ d)) {i j c : Nat} (hi : L[i]? = some c) (hj : L[j]? = some c) : i = j :=
  (List.getElem?_inj (List.getElem?_eq_some_iff.mp hi).1 nd).mp (hi.trans hj.symm)
/-- a pairwise law by places -/
theorem gx_pw {L : List Nat} {R : Nat → Nat → Prop} : L.Pairwise R ↔ ∀ (i j c d : Nat), L[i]? = some c → L[j]? = some d → i < j → R c d := by
  rw [List.pairwise_iff_getElem]
  constructor
  · intro h i j c d hi hj ij
    obtain ⟨h1, e1⟩ := List.getElem?_eq_some_iff.mp hi
    obtain ⟨h2, e2⟩ := List.getElem?_eq_some_iff.mp hj
    have t := h i j h1 h2 ij
    rw [e1, e2] at t
    exact t
  · intro h i j hi hj ij
    exact h i j _ _ (List.getElem?_eq_getElem hi) (List.getElem?_eq_getElem hj) ij
theorem gx_or1 {a : Nat → Int32} {u v : Nat} (hv : v < 32) (x y : Nat) : gx_b (upd a u (a u ||| ((1 : Int32) <<< (nI v &&& 31))) x) y = true ↔ gx_b (a x) y = true ∨ (x = u ∧ y = v) := by
  by_cases e : x = u
  · rw [e, pk_us, gx_or, Bool.or_eq_true, gx_1 hv y]
    exact ⟨fun h => h.imp id (fun t => ⟨rfl, t⟩), fun h => h.imp id (fun t => t.2)⟩
  · rw [pk_un e]
    exact ⟨Or.inl, fun h => h.elim id (fun t => absurd t.1 e)⟩
theorem gx_off1 {a : Nat → Int32} {u v : Nat} (hv : v < 32) (x y : Nat) : gx_b (upd a u (a u &&& (((1 : Int32) <<< (nI v &&& 31)) ^^^ (-1))) x) y = true ↔ gx_b (a x) y = true ∧ ¬ (x = u ∧ y = v) := by
  by_cases e : x = u
  · rw [e, pk_us, gx_dif, Bool.and_eq_true, Bool.not_eq_true', ← Bool.not_eq_true, gx_1 hv y]
    exact ⟨fun h => ⟨h.1, fun t => h.2 t.2⟩, fun h => ⟨h.1, fun t => h.2 ⟨rfl, t⟩⟩⟩
  · rw [pk_un e]
    exact ⟨fun h => ⟨h, fun t => e t.1⟩, fun h => h.1⟩
theorem gw_addEdge {post : Int32 → St2 → Prop} {n : Nat} {f2 : Int32} {a1 a2 a3 a4 a5 a6 a7 a8 a9 : Nat → Int32} {ld : Nat → Nat} {L : List Nat} {u v : Nat} (I : gx_I n ld L a1 a2 a3 a4 a5 a6) (hu : u < n) (hv : v < n)
    (H0 : ∀ r : Int32, r < 0 → post r (nI n, nI L.length, f2, a1, a2, a3, a4, a5, a6, a7, a8, a9))
    (H1 : ∀ k ld' L' s1 s2 s3 s4 s5 s6 s7 g2, k < 2 ^ 31 → u ≠ v → (∀ x y, gx_b (s1 x) y = true ↔ gx_b (a1 x) y = true ∨ (x = u ∧ y = v)) → gx_I n ld' L' s1 s2 s3 s4 s5 s6 → post (nI k) (nI n, nI L'.length, g2, s1, s2, s3, s4, s5, s6, s7, a8, a9)) :
    wpX_addEdge post (nI n, nI L.length, f2, a1, a2, a3, a4, a5, a6, a7, a8, a9) (nI u) (nI v) := by
  obtain ⟨hn, hA, M, K, P⟩ := I
  have h3 := gx_I3 M K
  have h6 := gx_I6 M P
  have hL := gx_Il M
  obtain ⟨i, hi⟩ := gx_pos (M.1 u hu)
  obtain ⟨j, hj⟩ := gx_pos (M.1 v hv)
  have qi := h6 i _ hi
  have qj := h6 j _ hj
  have il := (List.getElem?_eq_some_iff.mp hi).1
  have jl := (List.getElem?_eq_some_iff.mp hj).1
  unfold wpX_addEdge
  dsimp only
  refine gw_isVertex (by omega) hu (br_f (by decide) (gw_isVertex (by omega) hv (br_f (by decide) (pk_eq u v (fun _ => H0 _ (by decide)) (fun ne => ⟨pk_in u 16 (by omega), gx_br v (by omega) (fun hb => ?_) (fun _ => H0 _ (by decide))⟩)))))
  have S1 : ∀ x y, gx_b (upd a1 u (a1 u ||| ((1 : Int32) <<< (nI v &&& 31))) x) y = true ↔ gx_b (a1 x) y = true ∨ (x = u ∧ y = v) := gx_or1 (by omega)
  have S2 : ∀ y x, gx_b (upd a2 v (a2 v ||| ((1 : Int32) <<< (nI u &&& 31))) y) x = true ↔ gx_b (a2 y) x = true ∨ (y = v ∧ x = u) := gx_or1 (by omega)
  have A' : gx_A n (upd a1 u (a1 u ||| ((1 : Int32) <<< (nI v &&& 31)))) (upd a2 v (a2 v ||| ((1 : Int32) <<< (nI u &&& 31)))) := by
    refine ⟨fun x y h => ?_, fun x y => ?_⟩
    · rcases (S1 x y).mp h with z | ⟨z1, z2⟩
      · exact hA.1 x y z
      · rw [z1, z2]
        exact ⟨hu, hv, ne⟩
    · rw [S1, S2, hA.2 x y]
      exact ⟨fun h => h.imp id (fun t => ⟨t.2, t.1⟩), fun h => h.imp id (fun t => ⟨t.2, t.1⟩)⟩
  refine ⟨pk_in u 16 (by omega), pk_in u 16 (by omega), nm_r (e' := upd a1 u (a1 u ||| ((1 : Int32) <<< (nI v &&& 31)))) (by rw [nI_clamp (by omega)]) ⟨pk_in v 16 (by omega), pk_in v 16 (by omega), nm_r (e' := upd a2 v (a2 v ||| ((1 : Int32) <<< (nI u &&& 31)))) (by rw [nI_clamp (by omega)]) ⟨pk_in u 16 (by omega), nm_r (e' := nI (ld u)) (by rw [nI_clamp (by omega), (h3 u hu).1]) ⟨pk_in v 16 (by omega), nm_r (e' := nI (ld v)) (by rw [nI_clamp (by omega), (h3 v hv).1]) ⟨pk_in (ld u) 16 (by omega), pk_in (ld v) 16 (by omega), pk_lt j i (fun z => ?_) (fun z => ?_) (by rw [nI_clamp (by omega), qj.1.2]) (by rw [nI_clamp (by omega), qi.1.2])⟩⟩⟩⟩⟩
  · generalize upd a1 u (a1 u ||| ((1 : Int32) <<< (nI v &&& 31))) = s1 at S1 A' ⊢
    generalize upd a2 v (a2 v ||| ((1 : Int32) <<< (nI u &&& 31))) = s2 at S2 A' ⊢
    obtain ⟨A, B, C, eL, _⟩ := gx_cut2 hj hi z
    rw [eL] at M P ⊢
    exact gw_repairLine hn A' M (fun x y h => (S1 x y).mp h) (fun x y h => (S1 x y).mpr (Or.inl h)) ((S1 u v).mpr (Or.inr ⟨rfl, rfl⟩)) K P ⟨_, rfl⟩ ⟨ld v :: B, by simp⟩ (fun k ld' L' s3 s4 s5 s6 s7 hk I' => H1 k ld' L' s1 s2 s3 s4 s5 s6 s7 _ hk ne S1 I')
  · generalize upd a1 u (a1 u ||| ((1 : Int32) <<< (nI v &&& 31))) = s1 at S1 A' ⊢
    generalize upd a2 v (a2 v ||| ((1 : Int32) <<< (nI u &&& 31))) = s2 at S2 A' ⊢
    refine H1 0 ld L s1 s2 a3 a4 a5 a6 a7 f2 (by omega) ne S1 ⟨hn, A', ⟨M.1, M.2.1, M.2.2.1, ?_, ?_⟩, K, P⟩
    · intro x y hx hy e
      exact gx_Rm (fun _ h => h) (fun a b h => (S1 a b).mpr (Or.inl h)) (M.2.2.2.1 x y hx hy e)
    · rw [gx_pw]
      intro a b c d ha hb' ab x y hx hy ex ey e
      rcases (S1 x y).mp e with t | ⟨t1, t2⟩
      · exact gx_pw.mp M.2.2.2.2 a b c d ha hb' ab x y hx hy ex ey t
      · rw [← ex, t1] at hb'
        rw [← ey, t2] at ha
        have e1 := gx_nd M.2.2.1 hb' hi
        have e2 := gx_nd M.2.2.1 ha hj
        omega
end
section
theorem gw_sourcePiece {post : Int32 → Prop} {n k : Nat} {f1 f2 : Int32} {a1 a2 a3 a4 a5 a6 a7 a8 a9 : Nat → Int32} {w : Int32} (hn : n ≤ 16) (hk : k ≤ 16) (hq : ∀ p, p < k → ∀ x, gx_b (a9 p) x = true → x < n)
    (good : ∃ p, p < k ∧ (∃ x, gx_b (a9 p) x = true ∧ gx_b w x = true) ∧ ∀ x y, gx_b w x = true → gx_b (a9 p) x = false → gx_b (a9 p) y = true → ¬ gx_b (a2 y) x = true)
    (H : ∀ p, p < k → (∃ x, gx_b (a9 p) x = true ∧ gx_b w x = true) → (∀ x y, gx_b w x = true → gx_b (a9 p) x = false → gx_b (a9 p) y = true → ¬ gx_b (a2 y) x = true) → post (a9 p)) :
    wpX_sourcePiece post (nI n, f1, f2, a1, a2, a3, a4, a5, a6, a7, a8, a9) (nI k) w := by
  refine pk_loop (σ := Unit) (fun m i _ => wX_sourcePiece_2 post (nI k) w (nI n) f1 f2 a1 a2 a3 a4 a5 a6 a7 a8 a9 m (nI i)) (fun i _ => ∃ p, i ≤ p ∧ p < k ∧ (∃ x, gx_b (a9 p) x = true ∧ gx_b w x = true) ∧ ∀ x y, gx_b w x = true → gx_b (a9 p) x = false → gx_b (a9 p) y = true → ¬ gx_b (a2 y) x = true) k 0 () (by omega) ?_ ?_ ?_
  · obtain ⟨p, hp, g⟩ := good
    exact ⟨p, by omega, hp, g⟩
  · intro m _ h
    obtain ⟨p, h1, h2, _⟩ := h
    omega
  · intro m i _ hi h hw
    have nx : (¬ ((∃ x, gx_b (a9 i) x = true ∧ gx_b w x = true) ∧ ∀ x y, gx_b w x = true → gx_b (a9 i) x = false → gx_b (a9 i) y = true → ¬ gx_b (a2 y) x = true)) → ∃ p, i + 1 ≤ p ∧ p < k ∧ (∃ x, gx_b (a9 p) x = true ∧ gx_b w x = true) ∧ ∀ x y, gx_b w x = true → gx_b (a9 p) x = false → gx_b (a9 p) y = true → ¬ gx_b (a2 y) x = true := by
      intro no
      obtain ⟨p, h1, h2, g⟩ := h
      refine ⟨p, ?_, h2, g⟩
      rcases Nat.lt_or_ge i p with z | z
      · exact z
      · have e : p = i := by omega
        rw [e] at g
        exact absurd g no
    refine pk_le k i (fun z => absurd z (by omega)) (fun _ => ⟨pk_in i 16 (by omega), nm_r (e' := a9 i) (by rw [nI_clamp (by omega)]) (br_c (fun z => nm_r (nI_1 i) (hw () (nx ?_))) (fun z => gw_sourcesOf hn (a9 i) (fun r hr => nm_e (br_c (fun y => H i hi ?_ ?_) (fun y => nm_r (nI_1 i) (hw () (nx ?_)))))))⟩)
    · intro g
      obtain ⟨⟨x, g1, g2⟩, _⟩ := g
      have t := gx_and (a9 i) w x
      rw [z, gx_0, g1, g2] at t
      exact absurd t (by decide)
    · obtain ⟨x, hx⟩ := gx_ne0 z
      rw [gx_and, Bool.and_eq_true] at hx
      exact ⟨x, hx⟩
    · intro x y' wx px py e
      have t := gx_dif (r &&& w) (a9 i) x
      rw [y, gx_0, gx_and, (hr x).mpr ⟨y', hq i hi y' py, py, e⟩, wx, px] at t
      exact absurd t (by decide)
    · intro g
      obtain ⟨x, hx⟩ := gx_ne0 y
      rw [gx_dif, gx_and, Bool.and_eq_true, Bool.and_eq_true, Bool.not_eq_true'] at hx
      obtain ⟨y', hy1, hy2, hy3⟩ := (hr x).mp hx.1.1
      exact g.2 x y' hx.1.2 hx.2 hy2 hy3
theorem gw_s105 {post : Int32 → St2 → Prop} {x4 x5 f0 f1 : Int32} {a1 a2 a3 a4 a5 a6 a8 a9 : Nat → Int32} {A B : List Nat}
    (h6 : ∀ i c, (A ++ B)[i]? = some c → a6 i = nI c ∧ c < 16) (hl : A.length ≤ 16) :
    ∀ (s p : List Nat) (a7 : Nat → Int32) (j : Nat), A = p ++ s → j = p.length → gx_N a7 p →
      (∀ t, gx_N t A → wX_split_105 post (nI A.length) x4 x5 1 (nI A.length) f0 f1 (nI A.length) a1 a2 a3 a4 a5 a6 t a8 a9) →
      wX_split_105 post (nI A.length) x4 x5 (s.length + 1) (nI j) f0 f1 (nI j) a1 a2 a3 a4 a5 a6 a7 a8 a9 := by
  intro s
  induction s with
  | nil =>
    intro p a7 j hA hj hN H
    rw [List.append_nil] at hA
    rw [← hA] at hN hj
    rw [hj]
    exact H a7 hN
  | cons c s ih =>
    intro p a7 j hA hj hN H
    have eA : A = (p ++ [c]) ++ s := by rw [hA]; simp
    have hq := h6 p.length c (by rw [hA, List.append_assoc]; exact gx_at)
    rw [← hj] at hq
    have hlen : A.length = p.length + (s.length + 1) := by rw [hA]; simp
    refine pk_le A.length j (fun z => absurd z (by omega)) (fun _ => ⟨pk_in j 16 (by omega), gw_app (c := c) (by rw [nI_clamp (by omega), hq.1]) (by omega) hq.2 (nm_r (nI_1 j) ?_)⟩)
    exact ih (p ++ [c]) (upd a7 j (nI c)) (j + 1) eA (by simp [hj]) (by rw [hj]; exact gx_Nadd hN) H
/-- the loop that takes the pieces in their order -/
theorem gw_s135 {post : Int32 → St2 → Prop} {n k : Nat} {a1 a2 a5 a6 a8 a9 : Nat → Int32} {A C L : List Nat} {S : Nat → Prop} (hn : 2 ≤ n ∧ n ≤ 8) (hA : gx_A n a1 a2) (hS : ∀ x, S x → x < n)
    (h6 : ∀ i c, L[i]? = some c → a6 i = nI c ∧ c < 16) (hl : L.length ≤ 16) (eL : ∃ c, L = (A ++ [c]) ++ C) (hk : 1 ≤ k ∧ k ≤ 8)
    (Q : gx_Q (fun x y => gx_b (a1 x) y = true) S 0 a9 k)
    (H : ∀ k ld' L' s3 s4 s5 s6 s7, k < 2 ^ 31 → gx_I n ld' L' a1 a2 s3 s4 s5 s6 → post (nI k) (nI n, nI L'.length, nI L'.length, a1, a2, s3, s4, s5, s6, s7, a8, a9)) :
    ∀ (r i : Nat) (w : Int32) (ld : Nat → Nat) (ts : List Nat) (a3 a4 a7 : Nat → Int32) (m : Nat), i + r = k → m = (A ++ ts).length →
      gx_J n (fun x y => gx_b (a1 x) y = true) ld (A ++ ts) C (fun x => gx_b w x = true) → gx_K n ld (fun x => gx_b w x = true) a3 a4 → gx_N a7 (A ++ ts) →
      (∀ x, gx_b w x = true → S x) → (∀ i x y, i < k → gx_b (a9 i) x = true → gx_b w x = true → gx_b (a9 i) y = true → gx_b w y = true) →
      gx_c (fun i => decide (¬ (a9 i &&& w) = 0)) k = r →
      wX_split_135 post (nI A.length) (nI k) (r + 1) w (nI i) (nI n) (nI L.length) (nI m) a1 a2 a3 a4 a5 a6 a7 a8 a9 := by
  obtain ⟨q1, q2, q3, q4, q5, q6, q7⟩ := Q
  have cov : ∀ x, S x → ∃ i, i < k ∧ gx_b (a9 i) x = true := by
    intro x sx
    rcases q2 x sx with z | z
    · exact absurd z (by rw [gx_0]; decide)
    · exact z
  obtain ⟨c0, eL⟩ := eL
  intro r
  induction r with
  | zero =>
    intro i w ld ts a3 a4 a7 m hi hm J K hN wS wq cnt
    have w0 : ∀ u, ¬ gx_b w u = true := by
      intro u hu
      obtain ⟨p, hp, pu⟩ := cov u (wS u hu)
      have t := gx_c_pos (p := fun i => decide (¬ (a9 i &&& w) = 0)) (n := k) (j := p) hp (decide_eq_true (gx_nz (i := u) (by rw [gx_and, pu, hu]; rfl)))
      omega
    have M := gx_JM J (fun u _ => w0 u)
    have K' := gx_Ke K (fun u _ => w0 u)
    refine pk_le k i (fun _ => nm_r (nI_1 A.length) ⟨C.length + 1, gw_s186 h6 hl M.2.2.1 (fun c hc => by have := (M.2.1 c hc).1; omega) (fun s5 s6 s7 hP => ?_) C (A ++ [c0]) (A ++ ts) a7 (A.length + 1) m eL rfl (by simp) hm hN⟩) (fun z => absurd z (by omega))
    have e : nI k - 1 = nI (k - 1) := by
      rw [show k = (k - 1) + 1 by omega]
      exact nI_pred _
    show post (nI k - 1) _
    rw [e]
    exact H (k - 1) ld _ a3 a4 s5 s6 s7 (by omega) ⟨hn, hA, M, K', hP⟩
  | succ r ih =>
    intro i w ld ts a3 a4 a7 m hi hm J K hN wS wq cnt
    obtain ⟨x0, hx0⟩ : ∃ x0, gx_b w x0 = true := by
      refine Classical.byContradiction fun no => ?_
      have t := gx_c_0 (p := fun i => decide (¬ (a9 i &&& w) = 0)) (n := k) (fun j _ => decide_eq_false (fun z => z (gx_zero (fun x => by rw [gx_and, gx_nt (fun t => no ⟨x, t⟩), Bool.and_false]))))
      omega
    have good := gx_src (n := n) (E := fun x y => gx_b (a1 x) y = true) (W := fun x => gx_b w x = true) (q := a9) (k := k) (fun x hx => hS x (wS x hx)) hx0 (fun x hx => cov x (wS x hx)) wq
      (fun p x y hp wx r1 r2 px => (q7 x y (wS x wx) (gx_Rm wS (fun _ _ h => h) r1) (gx_Rm wS (fun _ _ h => h) r2)).2 p hp px) q5
    have good2 : ∃ p, p < k ∧ (∃ x, gx_b (a9 p) x = true ∧ gx_b w x = true) ∧ ∀ x y, gx_b w x = true → gx_b (a9 p) x = false → gx_b (a9 p) y = true → ¬ gx_b (a2 y) x = true := by
      obtain ⟨p, hp, g1, g2⟩ := good
      exact ⟨p, hp, g1, fun x y a b c e => g2 x y a b c ((hA.2 x y).mp e)⟩
    refine pk_le k i (fun z => absurd z (by omega)) (fun _ => gw_sourcePiece (by omega) (by omega) (fun p hp x px => hS x (q3 p x hp px).1) good2 (fun p hp g1 g2 => nm_e ?_))
    obtain ⟨xp, hxp, wxp⟩ := g1
    have pw : ∀ x, gx_b (a9 p) x = true → gx_b w x = true := fun x px => wq p xp x hp hxp wxp px
    have pn : ∀ x, gx_b (a9 p) x = true → gx_b w x = true ∧ x < n := fun x px => ⟨pw x px, hS x (q3 p x hp px).1⟩
    have bw : ∀ x, gx_b (w &&& (a9 p ^^^ (-1))) x = true ↔ gx_b w x = true ∧ ¬ gx_b (a9 p) x = true := by
      intro x
      rw [gx_dif, Bool.and_eq_true, Bool.not_eq_true', Bool.not_eq_true]
    have eW : (fun x => gx_b w x = true ∧ ¬ gx_b (a9 p) x = true) = (fun x => gx_b (w &&& (a9 p ^^^ (-1))) x = true) := funext fun x => propext (bw x).symm
    refine gw_claim (by omega) (a9 p) ⟨xp, by have := (pn xp hxp).2; omega, hxp⟩ (fun c s hc hb hs => ?_)
    have J2 := gx_Jstep (P := fun x => gx_b (a9 p) x = true) (c := c) (ld' := fun u => if gx_b (a9 p) u = true then c else ld u) J hb pn (q5 p hp) (fun x y _ _ e wx px py => g2 x y wx (gx_nt px) py ((hA.2 x y).mpr e)) (fun u pu => if_pos pu) (fun u pu => if_neg pu)
    have K2 := gx_Kc J K pn hb hs
    rw [eW] at J2 K2
    rw [List.append_assoc] at J2
    have hle : (A ++ (ts ++ [c])).length ≤ 8 := by
      have t := gx_len J2.2.2.1 (fun c hc => (J2.2.1 c hc).1)
      rw [List.length_append] at t
      omega
    have hlm : (A ++ (ts ++ [c])).length = m + 1 := by
      rw [hm, ← List.append_assoc, List.length_append]
      rfl
    refine gw_append (by omega) hc (nm_r (nI_1 i) (ih (i + 1) _ _ (ts ++ [c]) s _ _ (m + 1) (by omega) hlm.symm J2 K2 ?_ ?_ ?_ ?_))
    · rw [hm, ← List.append_assoc]
      exact gx_Nadd hN
    · intro x hx
      exact wS x ((bw x).mp hx).1
    · intro d x y hd dx wx dy
      have t := (bw x).mp wx
      refine (bw y).mpr ⟨wq d x y hd dx t.1 dy, fun py => ?_⟩
      have e := q4 d p y hd hp dy py
      rw [e] at dx
      exact t.2 dx
    · have t := gx_c_drop (p := fun i => decide (¬ (a9 i &&& w) = 0)) (q := fun i => decide (¬ (a9 i &&& (w &&& (a9 p ^^^ (-1)))) = 0)) (n := k) (j := p) hp (decide_eq_true (gx_nz (i := xp) (by rw [gx_and, hxp, wxp]; rfl))) ?_ ?_
      · omega
      · refine decide_eq_false (fun z => z (gx_zero (fun x => gx_nt (fun h => ?_))))
        rw [gx_and, Bool.and_eq_true] at h
        exact ((bw x).mp h.2).2 h.1
      · intro d hd ne
        have e : a9 d &&& (w &&& (a9 p ^^^ (-1))) = a9 d &&& w := by
          refine gx_ext (fun x => ?_)
          rw [gx_and (a9 d), gx_dif, gx_and (a9 d) w]
          cases hx : gx_b (a9 d) x
          · rfl
          · have z : gx_b (a9 p) x = false := gx_nt (fun z => ne (q4 d p x hd hp hx z))
            rw [z]
            simp
        show decide (¬ (a9 d &&& (w &&& (a9 p ^^^ (-1)))) = 0) = decide (¬ (a9 d &&& w) = 0)
        rw [e]
theorem gw_split {post : Int32 → St2 → Prop} {n : Nat} {f2 : Int32} {a1 a2 a3 a4 a5 a6 a7 a8 a9 : Nat → Int32} {E : Nat → Nat → Prop} {ld : Nat → Nat} {A C : List Nat} {c : Nat} (hn : 2 ≤ n ∧ n ≤ 8) (hA : gx_A n a1 a2)
    (M : gx_M n E ld (A ++ c :: C)) (hE : ∀ x y, gx_b (a1 x) y = true → E x y) (hE2 : ∀ x y, E x y → ld x ≠ c → gx_b (a1 x) y = true)
    (K : gx_K n ld (fun _ => False) a3 a4) (P : gx_P (A ++ c :: C) a5 a6)
    (H : ∀ k ld' L' s3 s4 s5 s6 s7 s9, k < 2 ^ 31 → gx_I n ld' L' a1 a2 s3 s4 s5 s6 → post (nI k) (nI n, nI L'.length, nI L'.length, a1, a2, s3, s4, s5, s6, s7, a8, s9)) :
    wpX_split post (nI n, nI (A ++ c :: C).length, f2, a1, a2, a3, a4, a5, a6, a7, a8, a9) (nI c) := by
  have h6 := gx_I6 M P
  have hL := gx_Il M
  have q0 := h6 _ _ (gx_at (A := A) (C := C) (c := c))
  have lc := M.2.1 c (List.mem_append_right _ (List.mem_cons_self ..))
  have hl : A.length < 8 := by
    rw [List.length_append, List.length_cons] at hL
    omega
  have h4 := gx_I4 K c lc.1
  refine ⟨pk_in c 16 (by omega), nm_r (e' := nI A.length) (by rw [nI_clamp (by omega), q0.1.2]) ⟨pk_in c 16 (by omega), nm_r (e' := a4 c) (by rw [nI_clamp (by omega)]) ?_⟩⟩
  have H82 : ∀ k s, gx_Q (fun x y => gx_b (a1 x) y = true) (fun x => x < n ∧ ld x = c) 0 s k → k ≤ 8 → wX_split_82 post (nI c) (nI A.length) (nI k) (nI n) (nI (A ++ c :: C).length) f2 a1 a2 a3 a4 a5 a6 a7 a8 s := by
    intro k s Q hk
    have k1 : 1 ≤ k := by
      rcases Q.2.1 c lc with z | ⟨i, hi, _⟩
      · exact absurd z (by rw [gx_0]; decide)
      · omega
    have J := gx_Jc (V := fun x => gx_b (a4 c) x = true) (gx_Jout M hE hE2) (fun x hx => by rw [h4 x]; exact ⟨fun h => h.2, fun h => ⟨hx, h⟩⟩)
    have K2 : gx_K n ld (fun x => gx_b (a4 c) x = true) a3 (upd a4 c 0) := by
      refine ⟨fun u hu _ => K.1 u hu (fun z => z), fun d hd j => ?_⟩
      by_cases e : d = c
      · rw [e, pk_us, gx_0]
        exact ⟨fun z => absurd z (by decide), fun z => absurd ((h4 j).mpr ⟨z.1, z.2.2⟩) z.2.1⟩
      · rw [pk_un e, gx_I4 K d hd j]
        exact ⟨fun z => ⟨z.1, fun t => e (by rw [← z.2, ((h4 j).mp t).2]), z.2⟩, fun z => ⟨z.1, z.2.2⟩⟩
    refine ⟨pk_in c 16 (by omega), nm_r (e' := a4 c) (by rw [nI_clamp (by omega)]) ⟨pk_in c 16 (by omega), nm_r (e' := upd a4 c 0) (by rw [nI_clamp (by omega)]) ⟨A.length + 1, gw_s105 (B := c :: C) (fun i d hd => ⟨(h6 i d hd).1.1, by have := (h6 i d hd).2; omega⟩) (by omega) A [] a7 0 rfl rfl (gx_N0 _) (fun t ht => pk_le A.length A.length (fun _ => ⟨k + 1, ?_⟩) (fun z => absurd z (by omega)))⟩⟩⟩
    refine gw_s135 (C := C) (S := fun x => x < n ∧ ld x = c) hn hA (fun x hx => hx.1) (fun i d hd => ⟨(h6 i d hd).1.1, by have := (h6 i d hd).2; omega⟩) (by omega) ⟨c, by simp⟩ ⟨k1, hk⟩ Q (fun k' ld' L' s3 s4 s5 s6 s7 hk' I' => H k' ld' L' s3 s4 s5 s6 s7 s hk' I') k 0 (a4 c) ld [] a3 _ t A.length (by omega) (by simp) (by rw [List.append_nil]; exact J) K2 (by rw [List.append_nil]; exact ht) (fun x hx => (h4 x).mp hx) ?_ ?_
    · intro i x y hi _ _ py
      exact (h4 y).mpr (Q.2.2.1 i y hi py).1
    · have all : ∀ m, m ≤ k → gx_c (fun i => decide (¬ (s i &&& a4 c) = 0)) m = m := by
        intro m
        induction m with
        | zero => intro _; rfl
        | succ m im =>
          intro hm
          show gx_c (fun i => decide (¬ (s i &&& a4 c) = 0)) m + (if decide (¬ (s m &&& a4 c) = 0) = true then 1 else 0) = m + 1
          obtain ⟨x, hx⟩ := Q.2.2.2.2.2.1 m (by omega)
          rw [im (by omega), if_pos (decide_eq_true (gx_nz (i := x) (by rw [gx_and, hx, (h4 x).mpr (Q.2.2.1 m x (by omega) hx).1]; rfl)))]
      exact all k (Nat.le_refl k)
  refine pk_loop (fun m i (s : Int32 × (Nat → Int32)) => wX_split_20 post (nI c) (nI A.length) (nI n) (nI (A ++ c :: C).length) f2 m s.1 (nI i) (nI i) a1 a2 a3 a4 a5 a6 a7 a8 s.2)
    (fun i s => gx_Q (fun x y => gx_b (a1 x) y = true) (fun x => x < n ∧ ld x = c) s.1 s.2 i ∧ i + gx_c (gx_b s.1) n ≤ n) 16 0 (a4 c, a9) (by omega) ⟨gx_Q0 h4, ?_⟩ ?_ ?_
  · have t := gx_c_le (gx_b (a4 c)) n
    dsimp only
    omega
  · intro m s h
    exact absurd h.2 (by omega)
  · intro m i s hi h hw
    obtain ⟨Q, hc⟩ := h
    refine pk_le 16 i (fun z => absurd z (by omega)) (fun _ => br_c (fun z => H82 i s.2 (by rw [← z]; exact Q) (by omega)) (fun z => ?_))
    have rn : ∀ j, gx_b s.1 j = true → j < n := fun j hj => (Q.1 j hj).1
    obtain ⟨y0, hy0⟩ := gx_ne0 z
    refine gw_lowest s.1 ⟨y0, by have := rn y0 hy0; omega, hy0⟩ (fun d hd hb => nm_e (gw_spreadWithin (s0 := d) (by omega) s.1 (rn d hb) rfl rn (fun r1 h1 => gw_gatherWithin (s0 := d) (by omega) s.1 (rn d hb) rfl rn (fun r2 h2 => nm_e ⟨pk_in i 16 (by omega), nm_r (e' := upd s.2 i (r1 &&& r2)) (by rw [nI_clamp (by omega)]) (nm_r (nI_1 i) (nm_e (nm_r (nI_1 i) (hw (_, _) ?_))))⟩))))
    have hp : ∀ x, gx_b (r1 &&& r2) x = true ↔ gx_R (fun x y => gx_b (a1 x) y = true) (fun z => gx_b s.1 z = true) d x ∧ gx_R (fun x y => gx_b (a1 x) y = true) (fun z => gx_b s.1 z = true) x d := by
      intro x
      rw [gx_and, Bool.and_eq_true, h1 x, h2 x]
      constructor
      · intro ⟨k1, k2⟩
        exact ⟨k1, gx_Rrev (gx_Rm (fun _ h => h) (fun a b e => (hA.2 b a).mp e) k2) hb⟩
      · intro ⟨k1, k2⟩
        exact ⟨k1, gx_Rm (fun _ h => h) (fun a b e => (hA.2 b a).mpr e) (gx_Rfwd k2 (gx_Rin (S := fun z => gx_b s.1 z = true) k1 hb))⟩
    refine ⟨gx_Qs Q hb hp, ?_⟩
    have pd : gx_b (r1 &&& r2) d = true := (hp d).mpr ⟨gx_R0, gx_R0⟩
    have t := gx_c_lt (p := gx_b (s.1 &&& ((r1 &&& r2) ^^^ (-1)))) (q := gx_b s.1) (n := n) (j := d) (fun j _ hj => by rw [gx_dif, Bool.and_eq_true] at hj; exact hj.1) (rn d hb) hb (by rw [gx_dif, pd, Bool.not_true, Bool.and_false])
    dsimp only
    omega
theorem gw_removeEdge {post : Int32 → St2 → Prop} {n : Nat} {f2 : Int32} {a1 a2 a3 a4 a5 a6 a7 a8 a9 : Nat → Int32} {ld : Nat → Nat} {L : List Nat} {u v : Nat} (I : gx_I n ld L a1 a2 a3 a4 a5 a6) (hu : u < n) (hv : v < n)
    (H0 : ∀ r : Int32, r < 0 → post r (nI n, nI L.length, f2, a1, a2, a3, a4, a5, a6, a7, a8, a9))
    (H1 : ∀ k ld' L' s1 s2 s3 s4 s5 s6 s7 s9 g2, k < 2 ^ 31 → u ≠ v → (∀ x y, gx_b (s1 x) y = true ↔ gx_b (a1 x) y = true ∧ ¬ (x = u ∧ y = v)) → gx_I n ld' L' s1 s2 s3 s4 s5 s6 → post (nI k) (nI n, nI L'.length, g2, s1, s2, s3, s4, s5, s6, s7, a8, s9)) :
    wpX_removeEdge post (nI n, nI L.length, f2, a1, a2, a3, a4, a5, a6, a7, a8, a9) (nI u) (nI v) := by
  obtain ⟨hn, hA, M, K, P⟩ := I
  have h3 := gx_I3 M K
  have h4 := gx_I4 K
  unfold wpX_removeEdge
  dsimp only
  refine gw_isVertex (by omega) hu (br_f (by decide) (gw_isVertex (by omega) hv (br_f (by decide) (pk_eq u v (fun _ => H0 _ (by decide)) (fun ne => ⟨pk_in u 16 (by omega), gx_br v (by omega) (fun _ => H0 _ (by decide)) (fun hb => ?_)⟩)))))
  have S1 : ∀ x y, gx_b (upd a1 u (a1 u &&& (((1 : Int32) <<< (nI v &&& 31)) ^^^ (-1))) x) y = true ↔ gx_b (a1 x) y = true ∧ ¬ (x = u ∧ y = v) := gx_off1 (by omega)
  have S2 : ∀ y x, gx_b (upd a2 v (a2 v &&& (((1 : Int32) <<< (nI u &&& 31)) ^^^ (-1))) y) x = true ↔ gx_b (a2 y) x = true ∧ ¬ (y = v ∧ x = u) := gx_off1 (by omega)
  have lu := (h3 u hu).2
  have lv := (h3 v hv).2
  refine ⟨pk_in u 16 (by omega), pk_in u 16 (by omega), nm_r (e' := upd a1 u (a1 u &&& (((1 : Int32) <<< (nI v &&& 31)) ^^^ (-1)))) (by rw [nI_clamp (by omega)]) ⟨pk_in v 16 (by omega), pk_in v 16 (by omega), nm_r (e' := upd a2 v (a2 v &&& (((1 : Int32) <<< (nI u &&& 31)) ^^^ (-1)))) (by rw [nI_clamp (by omega)]) ⟨pk_in u 16 (by omega), nm_r (e' := nI (ld u)) (by rw [nI_clamp (by omega), (h3 u hu).1]) ⟨pk_in v 16 (by omega), ?_⟩⟩⟩⟩
  generalize upd a1 u (a1 u &&& (((1 : Int32) <<< (nI v &&& 31)) ^^^ (-1))) = s1 at S1 ⊢
  generalize upd a2 v (a2 v &&& (((1 : Int32) <<< (nI u &&& 31)) ^^^ (-1))) = s2 at S2 ⊢
  have A' : gx_A n s1 s2 := by
    refine ⟨fun x y h => hA.1 x y ((S1 x y).mp h).1, fun x y => ?_⟩
    rw [S1, S2, hA.2 x y]
    exact ⟨fun h => ⟨h.1, fun t => h.2 ⟨t.2, t.1⟩⟩, fun h => ⟨h.1, fun t => h.2 ⟨t.2, t.1⟩⟩⟩
  have keep : (ld u = ld v → gx_R (fun x y => gx_b (s1 x) y = true) (fun z => z < n ∧ ld z = ld u) u v) → gx_I n ld L s1 s2 a3 a4 a5 a6 := by
    intro back
    refine ⟨hn, A', ⟨M.1, M.2.1, M.2.2.1, ?_, ?_⟩, K, P⟩
    · intro x y hx hy e
      refine (M.2.2.2.1 x y hx hy e (fun z => (z < n ∧ ld z = ld x) ∧ gx_R (fun x y => gx_b (s1 x) y = true) (fun z => z < n ∧ ld z = ld x) x z) ⟨⟨hx, rfl⟩, gx_R0⟩ ?_).2
      intro a b pa eab sb
      refine ⟨sb, ?_⟩
      by_cases q : a = u ∧ b = v
      · have ea := pa.1.2
        have eb := sb.2
        rw [q.1] at ea
        rw [q.2] at eb
        have t := back (by rw [ea, eb])
        rw [ea] at t
        rw [q.2]
        refine gx_Rt pa.2 ?_
        rw [q.1]
        exact t
      · exact gx_Rs pa.2 ((S1 a b).mpr ⟨eab, q⟩) sb
    · exact M.2.2.2.2.imp (fun {c d} o x y hx hy ex ey e => o x y hx hy ex ey ((S1 x y).mp e).1)
  refine pk_eq (ld u) (ld v) (fun e => ⟨pk_in (ld u) 16 (by omega), gw_spreadWithin (s0 := u) (by omega) _ hu rfl ?_ (fun r hr => gx_br v (by omega) (fun _ => ?_) (fun hb2 => ?_))⟩) (fun e => H1 0 ld L s1 s2 a3 a4 a5 a6 a7 a9 f2 (by omega) ne S1 (keep (fun z => absurd z e))) (by rfl) (by rw [nI_clamp (by omega), (h3 v hv).1])
  · intro j hj
    rw [nI_clamp (by omega)] at hj
    exact ((h4 _ lu j).mp hj).1
  · obtain ⟨A, C, eL⟩ := List.append_of_mem (M.1 u hu)
    rw [eL] at M P ⊢
    exact gw_split hn A' M (fun x y h => ((S1 x y).mp h).1) (fun x y h hx => (S1 x y).mpr ⟨h, fun t => hx (by rw [t.1])⟩) K P (fun k ld' L' s3 s4 s5 s6 s7 s9 hk I' => H1 k ld' L' s1 s2 s3 s4 s5 s6 s7 s9 _ hk ne S1 I')
  · refine H1 0 ld L s1 s2 a3 a4 a5 a6 a7 a9 f2 (by omega) ne S1 (keep (fun _ => ?_))
    have t := (hr v).mp hb2
    rw [nI_clamp (by omega)] at t
    exact gx_Rm (fun z hz => (h4 _ lu z).mp hz) (fun _ _ h => h) t
end
section
theorem gw_leader {post : Int32 → Prop} {n : Nat} {f1 f2 : Int32} {a1 a2 a3 a4 a5 a6 a7 a8 a9 : Nat → Int32} {ld : Nat → Nat} {L : List Nat} {u : Nat} (I : gx_I n ld L a1 a2 a3 a4 a5 a6) (hu : u < n) (H : post (nI (ld u))) :
    wpX_leader post (nI n, f1, f2, a1, a2, a3, a4, a5, a6, a7, a8, a9) (nI u) := by
  obtain ⟨hn, hA, M, K, P⟩ := I
  unfold wpX_leader
  dsimp only
  refine gw_isVertex (by omega) hu (br_f (by decide) ⟨pk_in u 16 (by omega), ?_⟩)
  rw [nI_clamp (by omega), (gx_I3 M K u hu).1]
  exact H
theorem gw_componentSize {post : Int32 → Prop} {n : Nat} {f1 f2 : Int32} {a1 a2 a3 a4 a5 a6 a7 a8 a9 : Nat → Int32} {ld : Nat → Nat} {L : List Nat} {u : Nat} (I : gx_I n ld L a1 a2 a3 a4 a5 a6) (hu : u < n)
    (H : ∀ k, k ≤ 16 → (k = 1 ↔ ∀ w, w < n → ld w = ld u → w = u) → post (nI k)) :
    wpX_componentSize post (nI n, f1, f2, a1, a2, a3, a4, a5, a6, a7, a8, a9) (nI u) := by
  obtain ⟨hn, hA, M, K, P⟩ := I
  have h3 := gx_I3 M K u hu
  have h4 := gx_I4 K (ld u) h3.2
  unfold wpX_componentSize
  dsimp only
  refine gw_isVertex (by omega) hu (br_f (by decide) ⟨pk_in u 16 (by omega), nm_r (e' := nI (ld u)) (by rw [nI_clamp (by omega), h3.1]) ⟨pk_in (ld u) 16 (by omega), gw_bitsIn _ ?_⟩⟩)
  rw [nI_clamp (by omega)]
  refine H _ (gx_c_le _ 16) ?_
  have bu : gx_b (a4 (ld u)) u = true := (h4 u).mpr ⟨hu, rfl⟩
  constructor
  · intro e w hw ew
    refine Classical.byContradiction fun ne => ?_
    have t := gx_c_two (p := gx_b (a4 (ld u))) (n := 16) (i := w) (j := u) (by omega) (by omega) ((h4 w).mpr ⟨hw, ew⟩) bu ne
    omega
  · intro h
    exact gx_c_one (by omega) bu (fun j _ hj => h j ((h4 j).mp hj).1 ((h4 j).mp hj).2)
theorem gw_cycle {post : Int32 → Prop} {n : Nat} {f1 f2 : Int32} {a1 a2 a3 a4 a5 a6 a7 a8 a9 : Nat → Int32} {ld : Nat → Nat} {L : List Nat} {u : Nat} (I : gx_I n ld L a1 a2 a3 a4 a5 a6) (hu : u < n)
    (H : ∀ r : Int32, (r = -2 ↔ ∀ w, w < n → ld w = ld u → w = u) → post r) :
    wpX_cycle post (nI n, f1, f2, a1, a2, a3, a4, a5, a6, a7, a8, a9) (nI u) := by
  obtain ⟨hn, hA, M, K, P⟩ := I
  have h3 := gx_I3 M K u hu
  have h4 := gx_I4 K (ld u) h3.2
  unfold wpX_cycle
  dsimp only
  refine gw_isVertex (by omega) hu (br_f (by decide) ⟨pk_in u 16 (by omega), pk_in (ld u) 16 (by omega) (by rw [nI_clamp (by omega), h3.1]), nm_r (e' := a4 (ld u)) (by rw [nI_clamp (by omega), h3.1, nI_clamp (by omega)]) ⟨pk_in u 16 (by omega), nm_r (e' := a1 u &&& a4 (ld u)) (by rw [nI_clamp (by omega)]) ?_⟩⟩)
  have b0 : ∀ j, gx_b (a1 u &&& a4 (ld u)) j = true ↔ gx_b (a1 u) j = true ∧ j < n ∧ ld j = ld u := by
    intro j
    rw [gx_and, Bool.and_eq_true, h4 j]
  by_cases one : ∀ w, w < n → ld w = ld u → w = u
  · refine ⟨1, pk_lt 16 1 (fun z => absurd z (by omega)) (fun _ => br_t ?_ (H _ ⟨fun _ => one, fun _ => rfl⟩))⟩
    refine gx_zero (fun j => gx_nt (fun h => ?_))
    have t := (b0 j).mp h
    have e := one j t.2.1 t.2.2
    rw [e] at t
    exact (hA.1 u u t.1).2.2 rfl
  · have fin : ∀ met : Int32, (∀ j, gx_b (a1 u) j = true → j < n → ld j = ld u → gx_b met j = true) → (∀ a b, gx_b met a = true → gx_b (a1 a) b = true → b < n → ld b = ld u → gx_b met b = true) → gx_b met u = true := by
      intro met m1 m2
      refine Classical.byContradiction fun no => one (fun w hw ew => Classical.byContradiction fun ne => no ?_)
      have r1 := M.2.2.2.1 u w hu hw ew.symm
      have r2 := M.2.2.2.1 w u hw hu ew
      have t : w = u ∨ gx_b met w = true := by
        refine r1 (fun z => z = u ∨ gx_b met z = true) (Or.inl rfl) (fun a b pa e sb => Or.inr ?_)
        rcases pa with z | z
        · rw [z] at e
          exact m1 b e sb.1 sb.2
        · exact m2 a b z e sb.1 sb.2
      refine r2 (fun z => gx_b met z = true) (t.resolve_left ne) (fun a b pa e sb => m2 a b pa e sb.1 (by rw [sb.2, ew]))
    refine pk_loop (fun m i (s : Int32 × Int32) => wX_cycle_37 post (nI u) (a4 (ld u)) (nI n) f1 f2 a1 a2 a3 a4 a5 a6 a7 a8 a9 m s.1 s.2 (nI i))
      (fun i s => ((∀ j, gx_b (a1 u) j = true → j < n → ld j = ld u → gx_b s.2 j = true) ∧ (∀ a b, gx_b s.2 a = true → gx_b s.1 a = false → gx_b (a1 a) b = true → b < n → ld b = ld u → gx_b s.2 b = true) ∧ (∀ j, gx_b s.1 j = true → gx_b s.2 j = true) ∧ (∀ j, gx_b s.2 j = true → j < n) ∧ (gx_b s.2 u = true → gx_b s.1 u = true)) ∧ (¬ s.1 = 0 → i ≤ gx_c (gx_b s.2) n))
      17 1 (a1 u &&& a4 (ld u), a1 u &&& a4 (ld u)) (by omega) ?_ ?_ ?_
    · refine ⟨⟨fun j h1 h2 h3 => (b0 j).mpr ⟨h1, h2, h3⟩, fun a b ha hb => absurd ha (gx_ft hb), fun _ h => h, fun j hj => ((b0 j).mp hj).2.1, fun h => h⟩, fun z => ?_⟩
      obtain ⟨j, hj⟩ := gx_ne0 z
      exact gx_c_pos ((b0 j).mp hj).2.1 hj
    · intro m s h
      exfalso
      obtain ⟨⟨i1, i2, i3, i4, i5⟩, i6⟩ := h
      by_cases z : s.1 = 0
      · have t := i5 (fin s.2 i1 (fun a b ha => i2 a b ha (by rw [z, gx_0])))
        rw [z, gx_0] at t
        exact absurd t (by decide)
      · have a := i6 z
        have b := gx_c_le (gx_b s.2) n
        omega
    · intro m i s hi h hw
      obtain ⟨⟨i1, i2, i3, i4, i5⟩, i6⟩ := h
      have nz : ¬ s.1 = 0 := by
        intro z
        have t := i5 (fin s.2 i1 (fun a b ha => i2 a b ha (by rw [z, gx_0])))
        rw [z, gx_0] at t
        exact absurd t (by decide)
      have ci := i6 nz
      have cn := gx_c_le (gx_b s.2) n
      refine pk_lt 16 i (fun z => absurd z (by omega)) (fun _ => br_f nz (gx_br u (by omega) (fun hb => gw_targetsOf (by omega) s.1 (fun r hr => nm_e (nm_e (nm_r (nI_1 i) (hw (_, _) ?_))))) (fun _ => H _ ⟨fun e => ?_, fun e => absurd e one⟩)))
      · have bw : ∀ j, gx_b (r &&& a4 (ld u) &&& (s.2 ^^^ (-1))) j = true ↔ (∃ x, x < n ∧ gx_b s.1 x = true ∧ gx_b (a1 x) j = true) ∧ (j < n ∧ ld j = ld u) ∧ gx_b s.2 j = false := by
          intro j
          rw [gx_dif, gx_and, Bool.and_eq_true, Bool.and_eq_true, Bool.not_eq_true', hr j, h4 j, and_assoc]
        have bm : ∀ j, gx_b (s.2 ||| (r &&& a4 (ld u) &&& (s.2 ^^^ (-1)))) j = true ↔ gx_b s.2 j = true ∨ gx_b (r &&& a4 (ld u) &&& (s.2 ^^^ (-1))) j = true := by
          intro j
          rw [gx_or, Bool.or_eq_true]
        generalize r &&& a4 (ld u) &&& (s.2 ^^^ (-1)) = w at bw bm ⊢
        refine ⟨⟨fun j h1 h2 h3 => (bm j).mpr (Or.inl (i1 j h1 h2 h3)), ?_, fun j hj => (bm j).mpr (Or.inr hj), ?_, ?_⟩, ?_⟩
        · intro a b ha hna e hb1 hb2
          refine (bm b).mpr ?_
          rcases (bm a).mp ha with t | t
          · cases hs2 : gx_b s.1 a
            · exact Or.inl (i2 a b t hs2 e hb1 hb2)
            · cases hb3 : gx_b s.2 b
              · exact Or.inr ((bw b).mpr ⟨⟨a, i4 a t, hs2, e⟩, ⟨hb1, hb2⟩, hb3⟩)
              · exact Or.inl rfl
          · exact absurd t (gx_ft hna)
        · intro j hj
          rcases (bm j).mp hj with t | t
          · exact i4 j t
          · exact ((bw j).mp t).2.1.1
        · intro h
          rcases (bm u).mp h with t | t
          · exact absurd t (gx_ft hb)
          · exact t
        · intro hz
          obtain ⟨j, hj⟩ := gx_ne0 hz
          have b := gx_c_lt (p := gx_b s.2) (q := gx_b (s.2 ||| w)) (n := n) (j := j) (fun k _ hk => (bm k).mpr (Or.inl hk)) ((bw j).mp hj).2.1.1 ((bm j).mpr (Or.inr hj)) ((bw j).mp hj).2.2
          dsimp only
          omega
      · exfalso
        have t : ¬ nI i < 0 := nI_pos (by omega)
        rw [e] at t
        exact t (by decide)
theorem gx_cut3 {L : List Nat} {i j c d : Nat} (hi : L[i]? = some c) (hj : L[j]? = some d) (h : i ≤ j) : ∃ A B C, L = A ++ B ++ C ∧ A.length = i ∧ j + 1 = A.length + B.length ∧ ∃ B', B = c :: B' := by
  obtain ⟨A, T, e, eA⟩ := gx_cut1 hi
  have jl := (List.getElem?_eq_some_iff.mp hj).1
  have hT : j - i ≤ T.length := by
    rw [e, List.length_append, List.length_cons] at jl
    omega
  refine ⟨A, c :: T.take (j - i), T.drop (j - i), ?_, eA, ?_, _, rfl⟩
  · rw [e, List.append_assoc, List.cons_append, List.take_append_drop]
  · rw [List.length_cons, List.length_take, Nat.min_eq_left hT]
    omega
theorem gw_reaches {post : Int32 → Prop} {n : Nat} {f1 f2 : Int32} {a1 a2 a3 a4 a5 a6 a7 a8 a9 : Nat → Int32} {ld : Nat → Nat} {L : List Nat} {u v i j : Nat} (I : gx_I n ld L a1 a2 a3 a4 a5 a6) (hu : u < n) (hv : v < n)
    (hi : L[i]? = some (ld u)) (hj : L[j]? = some (ld v)) (H : ∀ r : Int32, (ld u = ld v → ¬ r = 0) → (¬ r = 0 → i ≤ j) → post r) :
    wpX_reaches post (nI n, f1, f2, a1, a2, a3, a4, a5, a6, a7, a8, a9) (nI u) (nI v) := by
  obtain ⟨hn, hA, M, K, P⟩ := I
  have h3 := gx_I3 M K
  have h4 := gx_I4 K
  have h6 := gx_I6 M P
  have hL := gx_Il M
  have lu := h3 u hu
  have lv := h3 v hv
  have il := (List.getElem?_eq_some_iff.mp hi).1
  have jl := (List.getElem?_eq_some_iff.mp hj).1
  unfold wpX_reaches
  dsimp only
  refine gw_isVertex (by omega) hu (br_f (by decide) (gw_isVertex (by omega) hv (br_f (by decide) ⟨pk_in u 16 (by omega), nm_r (e' := nI (ld u)) (by rw [nI_clamp (by omega), lu.1]) ⟨pk_in v 16 (by omega), nm_r (e' := nI (ld v)) (by rw [nI_clamp (by omega), lv.1]) ⟨pk_in (ld u) 16 (by omega), pk_in (ld v) 16 (by omega), pk_le i j (fun z => ⟨pk_in (ld v) 16 (by omega), ?_⟩) (fun z => H 0 (fun e => ?_) (fun t => absurd rfl t)) (by rw [nI_clamp (by omega), (h6 i _ hi).1.2]) (by rw [nI_clamp (by omega), (h6 j _ hj).1.2])⟩⟩⟩)))
  · rw [nI_clamp (by omega), (h6 j _ hj).1.2]
    obtain ⟨A, B, C, eL, eA, eB, eB'⟩ := gx_cut3 hi hj z
    rw [eL] at h6
    have oB := (gx_3 (by rw [← eL]; exact M.2.2.2.2) : _).2.1
    refine gw_forwardUpTo (by omega) h3 h4 h6 (by omega) eB eB' (oB.imp (fun {c d} o x y hx hy ex ey e => absurd e (o x y hx hy ex ey))) (fun r r1 _ _ => gx_br (ld v) (by omega) (fun hb => H 0 (fun e => ?_) (fun t => absurd rfl t)) (fun _ => H 1 (fun _ => by decide) (fun _ => z)))
    rw [← e] at hb
    exact absurd r1 (gx_ft hb)
  · rw [← e] at hj
    have t := gx_nd M.2.2.1 hi hj
    omega
end
section
def gx_hf (p : Nat → Bool) (v : Nat → Nat) : Nat → Nat
  | 0 => 0
  | w + 1 => if p w = true ∧ gx_hf p v w ≤ v w then v w + 1 else gx_hf p v w
theorem gx_hf_le {p : Nat → Bool} {v : Nat → Nat} {n b : Nat} (h : ∀ w, w < n → p w = true → v w < b) : ∀ m, m ≤ n → gx_hf p v m ≤ b := by
  intro m
  induction m with
  | zero => intro _; exact Nat.zero_le b
  | succ m ih =>
    intro hm
    show (if p m = true ∧ gx_hf p v m ≤ v m then v m + 1 else gx_hf p v m) ≤ b
    split
    · next z => exact h m (by omega) z.1
    · exact ih (by omega)
theorem gx_hf_gt {p : Nat → Bool} {v : Nat → Nat} {w : Nat} (hp : p w = true) : ∀ n, w < n → v w < gx_hf p v n := by
  intro n
  induction n with
  | zero => intro h; omega
  | succ n ih =>
    intro h
    show v w < (if p n = true ∧ gx_hf p v n ≤ v n then v n + 1 else gx_hf p v n)
    by_cases e : w = n
    · rw [← e]
      split
      · omega
      · next z =>
        have t : ¬ gx_hf p v w ≤ v w := fun t => z ⟨hp, t⟩
        omega
    · have t := ih (by omega)
      split
      · next z => omega
      · exact t
/-- the sources of component c that lie outside it -/
noncomputable def gx_bf (n : Nat) (a1 : Nat → Int32) (ld : Nat → Nat) (c w : Nat) : Bool := @decide (ld w ≠ c ∧ ∃ y, y < n ∧ ld y = c ∧ gx_b (a1 w) y = true) (Classical.propDecidable _)
theorem gx_bf_iff {n : Nat} {a1 : Nat → Int32} {ld : Nat → Nat} {c w : Nat} : gx_bf n a1 ld c w = true ↔ ld w ≠ c ∧ ∃ y, y < n ∧ ld y = c ∧ gx_b (a1 w) y = true := by
  unfold gx_bf
  exact @decide_eq_true_iff _ (Classical.propDecidable _)
noncomputable def gx_st (n : Nat) (a1 : Nat → Int32) (ld : Nat → Nat) (g : Nat → Nat) (c : Nat) : Nat → Nat := fun d => if d = c then gx_hf (gx_bf n a1 ld c) (fun w => g (ld w)) n else g d
/-- the heights after the components of a part of the line -/
noncomputable def gx_H (n : Nat) (a1 : Nat → Int32) (ld : Nat → Nat) (L : List Nat) : Nat → Nat := L.foldl (gx_st n a1 ld) (fun _ => 0)
theorem gx_Ha {n : Nat} {a1 : Nat → Int32} {ld : Nat → Nat} {p : List Nat} {c : Nat} : gx_H n a1 ld (p ++ [c]) c = gx_hf (gx_bf n a1 ld c) (fun w => gx_H n a1 ld p (ld w)) n := by
  unfold gx_H
  rw [List.foldl_append]
  show gx_st n a1 ld (p.foldl (gx_st n a1 ld) (fun _ => 0)) c c = _
  unfold gx_st
  rw [if_pos rfl]
theorem gx_Hb {n : Nat} {a1 : Nat → Int32} {ld : Nat → Nat} {p : List Nat} {c d : Nat} (h : d ≠ c) : gx_H n a1 ld (p ++ [c]) d = gx_H n a1 ld p d := by
  unfold gx_H
  rw [List.foldl_append]
  show gx_st n a1 ld (p.foldl (gx_st n a1 ld) (fun _ => 0)) c d = _
  unfold gx_st
  rw [if_neg h]
/-- an outer source of the next component lies in the part before it -/
theorem gx_bef {n : Nat} {a1 : Nat → Int32} {ld : Nat → Nat} {L p s : List Nat} {c w : Nat} (M : gx_M n (fun x y => gx_b (a1 x) y = true) ld L) (eL : L = p ++ c :: s) (hw : w < n) (h : gx_bf n a1 ld c w = true) : ld w ∈ p := by
  obtain ⟨ne, y, hy, ey, e⟩ := gx_bf_iff.mp h
  have t := M.1 w hw
  have o := M.2.2.2.2
  rw [eL] at t o
  rcases List.mem_append.mp t with t | t
  · exact t
  · rcases List.mem_cons.mp t with t | t
    · exact absurd t ne
    · rw [List.pairwise_append] at o
      exact absurd e ((List.pairwise_cons.mp o.2.1).1 (ld w) t w y hw hy rfl ey)
theorem gx_Hbd {n : Nat} {a1 : Nat → Int32} {ld : Nat → Nat} {L : List Nat} (M : gx_M n (fun x y => gx_b (a1 x) y = true) ld L) : ∀ (q s : List Nat), L = q.reverse ++ s → ∀ d, d ∈ q → gx_H n a1 ld q.reverse d < q.length := by
  intro q
  induction q with
  | nil => intro s _ d hd; exact absurd hd (by simp)
  | cons c q ih =>
    intro s eL d hd
    have eL2 : L = q.reverse ++ c :: s := by rw [eL]; simp
    rw [List.reverse_cons, List.length_cons]
    by_cases e : d = c
    · rw [e, gx_Ha]
      have t := gx_hf_le (p := gx_bf n a1 ld c) (v := fun w => gx_H n a1 ld q.reverse (ld w)) (n := n) (b := q.length) (fun w hw hp => ih (c :: s) eL2 (ld w) (List.mem_reverse.mp (gx_bef M eL2 hw hp))) n (Nat.le_refl n)
      omega
    · rw [gx_Hb e]
      have t := ih (c :: s) eL2 d ((List.mem_cons.mp hd).resolve_left e)
      omega
theorem gx_Hmono {n : Nat} {a1 : Nat → Int32} {ld : Nat → Nat} {L : List Nat} (M : gx_M n (fun x y => gx_b (a1 x) y = true) ld L) {x y : Nat} (hx : x < n) (hy : y < n) (e : gx_b (a1 x) y = true) (ne : ld x ≠ ld y) :
    ∀ (q s : List Nat), L = q.reverse ++ s → ld y ∈ q → gx_H n a1 ld q.reverse (ld x) < gx_H n a1 ld q.reverse (ld y) := by
  intro q
  induction q with
  | nil => intro s _ hd; exact absurd hd (by simp)
  | cons c q ih =>
    intro s eL hd
    have eL2 : L = q.reverse ++ c :: s := by rw [eL]; simp
    rw [List.reverse_cons]
    by_cases ey : ld y = c
    · have nx : ld x ≠ c := by rw [← ey]; exact ne
      rw [gx_Hb nx, ey, gx_Ha]
      exact gx_hf_gt (p := gx_bf n a1 ld c) (v := fun w => gx_H n a1 ld q.reverse (ld w)) (gx_bf_iff.mpr ⟨nx, y, hy, ey, e⟩) n hx
    · have yq : ld y ∈ q := (List.mem_cons.mp hd).resolve_left ey
      have nx : ld x ≠ c := by
        intro ex
        have o := M.2.2.2.2
        rw [eL2, List.pairwise_append] at o
        exact o.2.2 (ld y) (List.mem_reverse.mpr yq) c (List.mem_cons_self ..) x y hx hy ex rfl e
      rw [gx_Hb nx, gx_Hb ey]
      exact ih (c :: s) eL2 yq
theorem gx_Hlt {n : Nat} {a1 : Nat → Int32} {ld : Nat → Nat} {L : List Nat} (M : gx_M n (fun x y => gx_b (a1 x) y = true) ld L) {x y : Nat} (hx : x < n) (hy : y < n) (e : gx_b (a1 x) y = true) (ne : ld x ≠ ld y) :
    gx_H n a1 ld L (ld x) < gx_H n a1 ld L (ld y) ∧ gx_H n a1 ld L (ld y) < n := by
  have t := gx_Hmono M hx hy e ne L.reverse [] (by simp) (List.mem_reverse.mpr (M.1 y hy))
  have b := gx_Hbd M L.reverse [] (by simp) (ld y) (List.mem_reverse.mpr (M.1 y hy))
  rw [List.reverse_reverse] at t b
  rw [List.length_reverse] at b
  have := gx_Il M
  exact ⟨t, by omega⟩
theorem gw_h54 {post : Int32 → St2 → Prop} {J12 : Int32 → (Nat → Int32) → (Nat → Int32) → (Nat → Int32) → (Nat → Int32) → (Nat → Int32) → (Nat → Int32) → (Nat → Int32) → (Nat → Int32) → (Nat → Int32) → Prop} {x1 x4 f1 f2 : Int32} {n c j : Nat} {a1 a2 a3 a4 a5 a6 a7 a8 a9 : Nat → Int32} {ld : Nat → Nat} {p : Nat → Bool} {v : Nat → Nat}
    (hn : n ≤ 16) (hc : c < 16) (h3 : ∀ u, u < n → a3 u = nI (ld u) ∧ ld u < n) (hx : ∀ w, w < n → gx_b x4 w = p w) (hv : ∀ w, w < n → p w = true → a8 (ld w) = nI (v w) ∧ v w < 100)
    (H : J12 (nI (j + 1)) a1 a2 a3 a4 a5 a6 a7 (upd a8 c (nI (gx_hf p v n))) a9) :
    ∃ fu, wX_height_54 post J12 x1 (nI j) (nI c) x4 (nI n) f1 f2 a1 a2 a3 a4 a5 a6 a7 a8 a9 fu 0 0 := by
  have bd := gx_hf_le (p := p) (v := v) (n := n) (b := 100) (fun w hw hp => (hv w hw hp).2)
  refine pk_loop (σ := Unit) (fun m w _ => wX_height_54 post J12 x1 (nI j) (nI c) x4 (nI n) f1 f2 a1 a2 a3 a4 a5 a6 a7 a8 a9 m (nI (gx_hf p v w)) (nI w)) (fun _ _ => True) n 0 () (by omega) trivial ?_ ?_
  · intro m _ _
    have b := bd n (Nat.le_refl n)
    exact pk_le n n (fun _ => ⟨pk_in c 16 hc, nm_r (e' := upd a8 c (nI (gx_hf p v n))) (by rw [nI_clamp (by omega), gx_by _ (by omega)]) (nm_r (nI_1 j) H)⟩) (fun z => absurd z (by omega))
  · intro m w _ hw _ hk
    have b := bd w (by omega)
    have hk' : wX_height_54 post J12 x1 (nI j) (nI c) x4 (nI n) f1 f2 a1 a2 a3 a4 a5 a6 a7 a8 a9 m (nI (if p w = true ∧ gx_hf p v w ≤ v w then v w + 1 else gx_hf p v w)) (nI (w + 1)) := hk () trivial
    have q3 := h3 w hw
    refine pk_le n w (fun z => absurd z (by omega)) (fun _ => gx_br w (by omega) (fun hb => nm_r (nI_1 w) ?_) (fun hb => ?_))
    · rw [hx w hw] at hb
      rw [if_neg (fun t => absurd t.1 (gx_ft hb))] at hk'
      exact hk'
    · rw [hx w hw] at hb
      have q8 := hv w hw hb
      have i3 : vp_in (a3 (nI w).toNatClampNeg) 16 := pk_in (ld w) 16 (by omega) (by rw [nI_clamp (by omega), q3.1])
      have e8 : a8 (a3 (nI w).toNatClampNeg).toNatClampNeg = nI (v w) := by rw [nI_clamp (n := w) (by omega), q3.1, nI_clamp (by omega), q8.1]
      refine ⟨pk_in w 16 (by omega), i3, pk_lt (v w) (gx_hf p v w) (fun z => nm_r (nI_1 w) ?_) (fun z => ⟨pk_in w 16 (by omega), i3, nm_r (e' := nI (v w + 1)) (by rw [e8, nI_1]) (nm_r (nI_1 w) ?_)⟩) e8⟩
      · rw [if_neg (fun t => absurd t.2 (by omega))] at hk'
        exact hk'
      · rw [if_pos ⟨hb, z⟩] at hk'
        exact hk'
theorem gw_height {post : Int32 → St2 → Prop} {n : Nat} {f2 : Int32} {a1 a2 a3 a4 a5 a6 a7 a8 a9 : Nat → Int32} {ld : Nat → Nat} {L : List Nat} {u : Nat} (I : gx_I n ld L a1 a2 a3 a4 a5 a6) (hu : u < n)
    (H : ∀ s8, post (nI (gx_H n a1 ld L (ld u))) (nI n, nI L.length, f2, a1, a2, a3, a4, a5, a6, a7, s8, a9)) :
    wpX_height post (nI n, nI L.length, f2, a1, a2, a3, a4, a5, a6, a7, a8, a9) (nI u) := by
  obtain ⟨hn, hA, M, K, P⟩ := I
  have h3 := gx_I3 M K
  have h4 := gx_I4 K
  have h6 := gx_I6 M P
  have hL := gx_Il M
  have lu := h3 u hu
  have key : ∀ (s p : List Nat) (a8 : Nat → Int32) (j : Nat), L = p ++ s → j = p.length → (∀ d, d ∈ p → a8 d = nI (gx_H n a1 ld p d)) →
      wX_height_12 post (nI u) (nI n) (nI L.length) f2 (s.length + 1) (nI j) a1 a2 a3 a4 a5 a6 a7 a8 a9 := by
    intro s
    induction s with
    | nil =>
      intro p a8 j eL hj h8
      rw [List.append_nil] at eL
      rw [← eL] at h8 hj
      refine pk_le L.length j (fun _ => ⟨pk_in u 16 (by omega), pk_in (ld u) 16 (by omega) (by rw [nI_clamp (by omega), lu.1]), ?_⟩) (fun z => absurd z (by omega))
      rw [nI_clamp (n := u) (by omega), lu.1, nI_clamp (by omega), h8 _ (M.1 u hu)]
      exact H a8
    | cons c s ih =>
      intro p a8 j eL hj h8
      have q := h6 p.length c (by rw [eL]; exact gx_at)
      rw [← hj] at q
      have hlen : L.length = p.length + (s.length + 1) := by rw [eL]; simp
      have eL2 : L = (p ++ [c]) ++ s := by rw [eL]; simp
      have bdp : ∀ d, d ∈ p → gx_H n a1 ld p d < p.length := by
        intro d hd
        have t := gx_Hbd M p.reverse (c :: s) (by rw [List.reverse_reverse]; exact eL) d (List.mem_reverse.mpr hd)
        rw [List.reverse_reverse, List.length_reverse] at t
        exact t
      refine pk_le L.length j (fun z => absurd z (by omega)) (fun _ => ⟨pk_in j 16 (by omega), nm_r (e' := nI c) (by rw [nI_clamp (by omega), q.1.1]) ⟨pk_in c 16 (by omega), gw_sourcesOf (by omega) _ (fun r hr => ⟨pk_in c 16 (by omega), nm_e (gw_h54 (c := c) (ld := ld) (p := gx_bf n a1 ld c) (v := fun w => gx_H n a1 ld p (ld w)) (by omega) (by omega) h3 ?_ ?_ (ih (p ++ [c]) _ (j + 1) eL2 (by simp [hj]) ?_))⟩)⟩⟩)
      · intro w hw
        rw [nI_clamp (by omega)] at hr ⊢
        have t : gx_b (r &&& (a4 c ^^^ (-1))) w = true ↔ gx_bf n a1 ld c w = true := by
          rw [gx_bf_iff, gx_dif, Bool.and_eq_true, Bool.not_eq_true', hr w, ← Bool.not_eq_true, h4 c q.2 w]
          constructor
          · intro ⟨⟨y, hy, k1, k2⟩, k3⟩
            exact ⟨fun e => k3 ⟨hw, e⟩, y, hy, ((h4 c q.2 y).mp k1).2, (hA.2 w y).mp k2⟩
          · intro ⟨k3, y, hy, k1, k2⟩
            exact ⟨⟨y, hy, (h4 c q.2 y).mpr ⟨hy, k1⟩, (hA.2 w y).mpr k2⟩, fun z => k3 z.2⟩
        exact Bool.eq_iff_iff.mpr t
      · intro w hw hp
        have t := gx_bef M eL hw hp
        have b := bdp _ t
        refine ⟨h8 _ t, ?_⟩
        omega
      · intro d hd
        by_cases e : d = c
        · rw [e, pk_us, gx_Ha]
        · rw [pk_un e, gx_Hb e]
          refine h8 d ?_
          rcases List.mem_append.mp hd with z | z
          · exact z
          · exact absurd (List.mem_singleton.mp z) e
  unfold wpX_height
  dsimp only
  refine gw_isVertex (by omega) hu (br_f (by decide) ⟨L.length + 1, key L [] a8 0 rfl rfl (fun d hd => absurd hd (by simp))⟩)
end
section
/-! the edges as a long -/
def gx_q (x : Int64) (i : Nat) : Bool := x.toBitVec.getLsbD i
theorem gx_q_or (x y : Int64) (i : Nat) : gx_q (x ||| y) i = (gx_q x i || gx_q y i) := by unfold gx_q; rw [Int64.toBitVec_or, BitVec.getLsbD_or]
theorem gx_q_and (x y : Int64) (i : Nat) : gx_q (x &&& y) i = (gx_q x i && gx_q y i) := by unfold gx_q; rw [Int64.toBitVec_and, BitVec.getLsbD_and]
theorem gx_q_xor (x y : Int64) (i : Nat) : gx_q (x ^^^ y) i = (gx_q x i ^^ gx_q y i) := by unfold gx_q; rw [Int64.toBitVec_xor, BitVec.getLsbD_xor]
theorem gx_q_m1 : ∀ i, i < 64 → gx_q (-1) i = true := by decide +kernel
theorem gx_q_0 (i : Nat) : gx_q 0 i = false := BitVec.getLsbD_zero
theorem gx_q_big {x : Int64} {i : Nat} (h : 64 ≤ i) : gx_q x i = false := BitVec.getLsbD_of_ge _ _ h
theorem gx_q_dif (x y : Int64) {i : Nat} (hi : i < 64) : gx_q (x &&& (y ^^^ (-1))) i = (gx_q x i && !gx_q y i) := by
  rw [gx_q_and, gx_q_xor, gx_q_m1 i hi, Bool.xor_true]
theorem gx_q_sl : ∀ n, n < 64 → (((nI n).toInt64 &&& 63).toBitVec.smod 64).toNat = n := by decide +kernel
theorem gx_q_one : ∀ k, k < 64 → ∀ i, i < 64 → gx_q ((1 : Int64) <<< ((nI k).toInt64 &&& 63)) i = decide (i = k) := by decide +kernel
theorem gx_q_u : ∀ i, i < 64 → gx_q 1 i = decide (i = 0) := by decide +kernel
theorem gx_q_shr (x : Int64) {k : Nat} (hk : k < 64) : gx_q (x >>> ((nI k).toInt64 &&& 63)) 0 = gx_q x k := by
  unfold gx_q
  rw [Int64.toBitVec_shiftRight]
  show (x.toBitVec.sshiftRight (((nI k).toInt64 &&& 63).toBitVec.smod 64).toNat).getLsbD 0 = _
  rw [gx_q_sl k hk, BitVec.getLsbD_sshiftRight]
  simp [hk]
theorem gx_q_tst (x : Int64) {k : Nat} (hk : k < 64) : ((x >>> ((nI k).toInt64 &&& 63)) &&& 1) = 1 ↔ gx_q x k = true := by
  rw [← gx_q_shr x hk]
  generalize x >>> ((nI k).toInt64 &&& 63) = y
  constructor
  · intro h
    have e := gx_q_and y 1 0
    rw [h, gx_q_u 0 (by decide)] at e
    simpa using e.symm
  · intro h
    apply Int64.toBitVec_inj.mp
    apply BitVec.eq_of_getLsbD_eq
    intro i hi
    show gx_q (y &&& 1) i = gx_q 1 i
    rw [gx_q_and, gx_q_u i hi]
    by_cases e : i = 0
    · rw [e, h]
      rfl
    · rw [decide_eq_false e, Bool.and_false]
theorem gx_8 (u v : Nat) : (8 : Int32) * nI u + nI v = nI (8 * u + v) := by
  show nI 8 * nI u + nI v = _
  rw [pk_mul, nI_add]
/-- the long holds the edges -/
def gx_X (a1 : Nat → Int32) (x : Int64) : Prop := ∀ u v, u < 8 → v < 8 → (gx_q x (8 * u + v) = true ↔ gx_b (a1 u) v = true)
theorem gx_Xadd {a1 s1 : Nat → Int32} {x : Int64} {u v : Nat} (hu : u < 8) (hv : v < 8) (X : gx_X a1 x) (h : ∀ x y, gx_b (s1 x) y = true ↔ gx_b (a1 x) y = true ∨ (x = u ∧ y = v)) : gx_X s1 (x ||| ((1 : Int64) <<< (((8 : Int32) * nI u + nI v).toInt64 &&& 63))) := by
  intro a b ha hb
  rw [gx_8, gx_q_or, Bool.or_eq_true, X a b ha hb, h a b, gx_q_one _ (by omega) _ (by omega), decide_eq_true_iff]
  exact ⟨fun z => z.imp id (fun z => by omega), fun z => z.imp id (fun z => by omega)⟩
theorem gx_Xdel {a1 s1 : Nat → Int32} {x : Int64} {u v : Nat} (hu : u < 8) (hv : v < 8) (X : gx_X a1 x) (h : ∀ x y, gx_b (s1 x) y = true ↔ gx_b (a1 x) y = true ∧ ¬ (x = u ∧ y = v)) : gx_X s1 (x &&& (((1 : Int64) <<< (((8 : Int32) * nI u + nI v).toInt64 &&& 63)) ^^^ (-1))) := by
  intro a b ha hb
  rw [gx_8, gx_q_dif _ _ (by omega), Bool.and_eq_true, X a b ha hb, h a b, gx_q_one _ (by omega) _ (by omega), Bool.not_eq_true', decide_eq_false_iff_not]
  exact ⟨fun z => ⟨z.1, fun t => z.2 (by omega)⟩, fun z => ⟨z.1, fun t => z.2 (by omega)⟩⟩
/-! holds -/
theorem gw_h81 {post : Int32 → St2 → Prop} {J3 J48 : Int32 → Int32 → Int32 → Int32 → (Nat → Int32) → (Nat → Int32) → (Nat → Int32) → (Nat → Int32) → (Nat → Int32) → (Nat → Int32) → (Nat → Int32) → (Nat → Int32) → (Nat → Int32) → Prop} {x1 f2 t : Int32} {x2 : Int64} {n u v : Nat} {a1 a2 a3 a4 a5 a6 a7 a8 a9 : Nat → Int32} {ld : Nat → Nat} {L : List Nat}
    (I : gx_I n ld L a1 a2 a3 a4 a5 a6) (X : gx_X a1 x2) (hu : u < n) (hv : v < n) (ht : (ld u = ld v ∧ t = 1) ∨ (ld u ≠ ld v ∧ t = 0)) (H : ∀ s8, J48 (nI (v + 1)) (nI n) (nI L.length) f2 a1 a2 a3 a4 a5 a6 a7 s8 a9) :
    wL_holds_81 post J3 J48 x1 x2 (nI u) (nI v) t (nI n) (nI L.length) f2 a1 a2 a3 a4 a5 a6 a7 a8 a9 := by
  have hn := I.1
  have lu := (gx_I3 I.2.2.1 I.2.2.2.1 u hu).2
  have lv := (gx_I3 I.2.2.1 I.2.2.2.1 v hv).2
  unfold wL_holds_81
  refine gw_leader I hu (gw_leader I hv (pk_eq (ld u) (ld v) (fun e => ?_) (fun e => ?_)))
  · have h1 : t = 1 := by
      rcases ht with z | z
      · exact z.2
      · exact absurd e z.1
    rw [h1]
    refine br_t rfl (br_c (fun _ => br_f (by decide) (br_f (by decide) (nm_r (nI_1 v) (H a8)))) (fun _ => br_t rfl (nm_r (nI_1 v) (H a8))))
  · have h1 : t = 0 := by
      rcases ht with z | z
      · exact absurd z.1 e
      · exact z.2
    rw [h1]
    refine br_t rfl (br_c (fun hq => br_f (by decide) (br_t rfl ?_)) (fun _ => br_t rfl (nm_r (nI_1 v) (H a8))))
    rw [gx_8, gx_q_tst _ (by omega)] at hq
    have ed := (X u v (by omega) (by omega)).mp hq
    have hh := gx_Hlt I.2.2.1 hu hv ed e
    refine gw_height I hu (fun s8 => gw_height I hv (fun s9 => br_t (nI_lt hh.1 (by omega)) (nm_r (nI_1 v) (H s9))))
theorem gw_h48 {post : Int32 → St2 → Prop} {J3 : Int32 → Int32 → Int32 → Int32 → (Nat → Int32) → (Nat → Int32) → (Nat → Int32) → (Nat → Int32) → (Nat → Int32) → (Nat → Int32) → (Nat → Int32) → (Nat → Int32) → (Nat → Int32) → Prop} {f2 : Int32} {x2 : Int64} {n u : Nat} {a1 a2 a3 a4 a5 a6 a7 a8 a9 : Nat → Int32} {ld : Nat → Nat} {L : List Nat}
    (I : gx_I n ld L a1 a2 a3 a4 a5 a6) (X : gx_X a1 x2) (hu : u < n) (H : ∀ s8, J3 (nI (u + 1)) (nI n) (nI L.length) f2 a1 a2 a3 a4 a5 a6 a7 s8 a9) :
    ∃ fu, wL_holds_48 post J3 (nI n) x2 (nI u) fu 0 (nI n) (nI L.length) f2 a1 a2 a3 a4 a5 a6 a7 a8 a9 := by
  have hn := I.1
  have M := I.2.2.1
  refine pk_loop (fun m j s => wL_holds_48 post J3 (nI n) x2 (nI u) m (nI j) (nI n) (nI L.length) f2 a1 a2 a3 a4 a5 a6 a7 s a9) (fun _ _ => True) n 0 a8 (by omega) trivial ?_ ?_
  · intro m s _
    exact pk_le n n (fun _ => nm_r (nI_1 u) (H s)) (fun z => absurd z (by omega))
  · intro m v s hv _ hk
    obtain ⟨i, hi⟩ := gx_pos (M.1 u hu)
    obtain ⟨j, hj⟩ := gx_pos (M.1 v hv)
    refine pk_le n v (fun z => absurd z (by omega)) (fun _ => gw_reaches I hu hv hi hj (fun r c1 c2 => br_c (fun z => ?_) (fun z => gw_reaches I hv hu hj hi (fun r' d1 d2 => br_c (fun z' => ?_) (fun z' => ?_)))))
    · exact gw_h81 I X hu hv (Or.inr ⟨fun e => c1 e z, rfl⟩) (fun s8 => hk s8 trivial)
    · exact gw_h81 I X hu hv (Or.inr ⟨fun e => d1 e.symm z', rfl⟩) (fun s8 => hk s8 trivial)
    · refine gw_h81 I X hu hv (Or.inl ⟨?_, rfl⟩) (fun s8 => hk s8 trivial)
      have a := c2 z
      have b := d2 z'
      have e : i = j := by omega
      rw [e, hj] at hi
      exact (Option.some.inj hi).symm
theorem gw_holds {post : Int32 → St2 → Prop} {f2 : Int32} {x2 : Int64} {n : Nat} {a1 a2 a3 a4 a5 a6 a7 a8 a9 : Nat → Int32} {ld : Nat → Nat} {L : List Nat}
    (I : gx_I n ld L a1 a2 a3 a4 a5 a6) (X : gx_X a1 x2) (H : ∀ s8, post 1 (nI n, nI L.length, f2, a1, a2, a3, a4, a5, a6, a7, s8, a9)) :
    wpL_holds post (nI n, nI L.length, f2, a1, a2, a3, a4, a5, a6, a7, a8, a9) (nI n) x2 := by
  have hn := I.1
  refine pk_loop (fun m i s => wL_holds_3 post (nI n) x2 m (nI i) (nI n) (nI L.length) f2 a1 a2 a3 a4 a5 a6 a7 s a9) (fun _ _ => True) n 0 a8 (by omega) trivial ?_ ?_
  · intro m s _
    exact pk_le n n (fun _ => H s) (fun z => absurd z (by omega))
  · intro m u s hu _ hk
    have key : ∀ t : Int32, ((t = 1 ∧ ∀ w, w < n → ld w = ld u → w = u) ∨ (t = 0 ∧ ¬ ∀ w, w < n → ld w = ld u → w = u)) → wL_holds_25 post (wL_holds_3 post (nI n) x2 m) (nI n) x2 (nI u) t (nI n) (nI L.length) f2 a1 a2 a3 a4 a5 a6 a7 s a9 := by
      intro t ht
      unfold wL_holds_25
      refine gw_componentSize I hu (fun k hk' hk1 => pk_eq k 1 (fun e => ?_) (fun e => ?_))
      · rcases ht with z | z
        · exact br_t z.1 (gw_h48 I X hu (fun s8 => hk s8 trivial))
        · exact absurd (hk1.mp e) z.2
      · rcases ht with z | z
        · exact absurd (hk1.mpr z.2) e
        · exact br_t z.1 (gw_h48 I X hu (fun s8 => hk s8 trivial))
    refine pk_le n u (fun z => absurd z (by omega)) (fun _ => gw_cycle I hu (fun r hr => br_c (fun z => key 1 (Or.inl ⟨rfl, hr.mp z⟩)) (fun z => key 0 (Or.inr ⟨rfl, fun t => z (hr.mpr t)⟩))))
end
section
theorem gw_init {post : St2 → Prop} {n : Nat} (hn : 2 ≤ n ∧ n ≤ 8)
    (H : ∀ s3 s4 s5 s6, gx_I n (fun u => u) (List.range n) (fun _ => 0) (fun _ => 0) s3 s4 s5 s6 → post (nI n, nI (List.range n).length, 0, (fun _ => 0), (fun _ => 0), s3, s4, s5, s6, (fun _ => 0), (fun _ => 0), (fun _ => 0))) :
    wpX_init post 9 144 (0, 0, 0) (nI n) := by
  refine ⟨by omega, by omega, by omega, by omega, by omega, by omega, by omega, by omega, by omega, by omega, by omega, by omega, by omega, by omega, by omega, by omega, by omega, by omega, pk_le 2 n (fun _ => pk_le n 16 (fun _ => ?_) (fun z => absurd z (by omega))) (fun z => absurd z (by omega))⟩
  refine pk_loop (fun m i (s : (Nat → Int32) × (Nat → Int32) × (Nat → Int32) × (Nat → Int32)) => wX_init_103 post 9 144 9 144 (nI n) 0 0 m (nI i) (fun _ => 0) (fun _ => 0) s.1 s.2.1 s.2.2.1 s.2.2.2 (fun _ => 0) (fun _ => 0) (fun _ => 0))
    (fun i s => ∀ u, u < i → s.1 u = nI u ∧ s.2.1 u = (1 : Int32) <<< (nI u &&& 31) ∧ s.2.2.1 u = nI u ∧ s.2.2.2 u = nI u) n 0 ((fun _ => 0), (fun _ => 0), (fun _ => 0), (fun _ => 0)) (by omega) (fun u hu => absurd hu (by omega)) ?_ ?_
  · intro m s h
    refine pk_le n n (fun _ => ?_) (fun z => absurd z (by omega))
    have t := H s.1 s.2.1 s.2.2.1 s.2.2.2 ⟨hn, ⟨fun x y e => ?_, fun x y => by rw [gx_0, gx_0]⟩, ⟨fun u hu => List.mem_range.mpr hu, fun c hc => ⟨List.mem_range.mp hc, rfl⟩, List.nodup_range, ?_, ?_⟩, ⟨fun u hu _ => (h u hu).1, fun c hc j => ?_⟩, ?_⟩
    · rw [List.length_range] at t
      exact t
    · exact absurd e (by rw [gx_0]; decide)
    · intro u v _ _ e
      rw [show v = u from e.symm]
      exact gx_R0
    · refine gx_pw.mpr (fun i j c d _ _ _ x y _ _ _ _ e => ?_)
      have e' : gx_b 0 y = true := e
      exact absurd e' (by rw [gx_0]; decide)
    · rw [(h c hc).2.1, gx_1 (by omega) j]
      exact ⟨fun e => ⟨by rw [e]; exact hc, fun z => z, e⟩, fun e => e.2.2⟩
    · intro i c hc
      obtain ⟨hi, e⟩ := List.getElem?_eq_some_iff.mp hc
      rw [List.getElem_range] at e
      rw [List.length_range] at hi
      rw [← e]
      exact ⟨(h i hi).2.2.2, (h i hi).2.2.1⟩
  · intro m i s hi h hw
    refine pk_le n i (fun z => absurd z (by omega)) (fun _ => ⟨pk_in i 16 (by omega), nm_r (e' := upd s.1 i (nI i)) (by rw [nI_clamp (by omega), gx_by i (by omega)]) ⟨pk_in i 16 (by omega), nm_r (e' := upd s.2.1 i ((1 : Int32) <<< (nI i &&& 31))) (by rw [nI_clamp (by omega)]) ⟨pk_in i 16 (by omega), nm_r (e' := upd s.2.2.1 i (nI i)) (by rw [nI_clamp (by omega), gx_by i (by omega)]) ⟨pk_in i 16 (by omega), nm_r (e' := upd s.2.2.2 i (nI i)) (by rw [nI_clamp (by omega), gx_by i (by omega)]) (nm_r (nI_1 i) (hw (upd s.1 i (nI i), upd s.2.1 i ((1 : Int32) <<< (nI i &&& 31)), upd s.2.2.1 i (nI i), upd s.2.2.2 i (nI i)) (fun u hu => ?_)))⟩⟩⟩⟩)
    show upd s.1 i (nI i) u = nI u ∧ upd s.2.1 i ((1 : Int32) <<< (nI i &&& 31)) u = (1 : Int32) <<< (nI u &&& 31) ∧ upd s.2.2.1 i (nI i) u = nI u ∧ upd s.2.2.2 i (nI i) u = nI u
    by_cases e : u = i
    · rw [e, pk_us, pk_us, pk_us, pk_us]
      exact ⟨rfl, rfl, rfl, rfl⟩
    · rw [pk_un e, pk_un e, pk_un e, pk_un e]
      exact h u (by omega)
theorem gx_mod (x : Int32) {n : Nat} (h0 : 0 < n) (hn : n ≤ 8) : ∃ u, u < n ∧ (x &&& 255) - (x &&& 255) / nI n * nI n = nI u := by
  rw [pk_and x 8 (m := 255) (by decide)]
  have hb : x.toBitVec.toNat % 2 ^ 8 < 2 ^ 8 := Nat.mod_lt _ (by decide)
  exact ⟨_, Nat.mod_lt _ h0, pk_rem (by omega) h0 (by omega)⟩
theorem gx_end {L k : Nat} (hL : L ≤ 260) (hk : k < 2 ^ 30) : (Int32.ofNat L - 3 < nI k) ↔ L < k + 3 := by
  have e : (Int32.ofNat L - 3).toInt = (L : Int) - 3 := pk_sub_toInt (a := L) (b := 3) (by omega) (by omega)
  rw [Int32.lt_iff_toInt_lt, e, nI_toInt (by omega)]
  omega
theorem gw_130 {post : Int32 → Prop} {Ls kc ks : Nat} {xs : Nat → Int32} {J29 : Int64 → Int32 → Int32 → Int32 → Int32 → (Nat → Int32) → (Nat → Int32) → (Nat → Int32) → (Nat → Int32) → (Nat → Int32) → (Nat → Int32) → (Nat → Int32) → (Nat → Int32) → (Nat → Int32) → Prop} {x3 : Int64} {f2 : Int32} {n j : Nat} {a1 a2 a3 a4 a5 a6 a7 a8 a9 : Nat → Int32} {ld : Nat → Nat} {L : List Nat}
    (I : gx_I n ld L a1 a2 a3 a4 a5 a6) (X : gx_X a1 x3) (H : ∀ s8, J29 x3 (nI (j + 3)) (nI n) (nI L.length) f2 a1 a2 a3 a4 a5 a6 a7 s8 a9) :
    wL_law_130 post Ls xs J29 (nI n) x3 (nI j) kc ks (nI n) (nI L.length) f2 a1 a2 a3 a4 a5 a6 a7 a8 a9 := by
  unfold wL_law_130
  exact gw_holds I X (fun s8 => br_f (by decide) (nm_r (nI_add j 3) (H s8)))
theorem gw_29 {post : Int32 → Prop} {Ls kc ks n T : Nat} {xs : Nat → Int32} (hL : Ls ≤ 260) (hT : T = (Ls - 1) / 3) (H : post 1) :
    ∀ (r t : Nat) (x3 : Int64) (f2 : Int32) (a1 a2 a3 a4 a5 a6 a7 a8 a9 : Nat → Int32) (ld : Nat → Nat) (L : List Nat), t + r = T → gx_I n ld L a1 a2 a3 a4 a5 a6 → gx_X a1 x3 →
      wL_law_29 post Ls xs (nI n) kc ks (r + 1) x3 (nI (3 * t + 1)) (nI n) (nI L.length) f2 a1 a2 a3 a4 a5 a6 a7 a8 a9 := by
  intro r
  induction r with
  | zero =>
    intro t x3 f2 a1 a2 a3 a4 a5 a6 a7 a8 a9 ld L ht I X
    refine br_t ((gx_end hL (by omega)).mpr (by omega)) H
  | succ r ih =>
    intro t x3 f2 a1 a2 a3 a4 a5 a6 a7 a8 a9 ld L ht I X
    have hn := I.1
    have hb : 3 * t + 4 ≤ Ls := by omega
    obtain ⟨u, hu, eu⟩ := gx_mod (xs ((nI (3 * t + 1) + 1).toNatClampNeg)) (n := n) (by omega) hn.2
    obtain ⟨v, hv, ev⟩ := gx_mod (xs ((nI (3 * t + 1) + 2).toNatClampNeg)) (n := n) (by omega) hn.2
    have n0 : ¬ nI n = 0 := nI_ne0 (by omega) (by omega)
    refine br_f (fun z => absurd ((gx_end hL (by omega)).mp z) (by omega)) ⟨pk_in (3 * t + 1 + 1) Ls (by omega) (nI_1 _), n0, nm_r eu ⟨pk_in (3 * t + 1 + 2) Ls (by omega) (nI_add _ 2), n0, nm_r ev ⟨pk_in (3 * t + 1) Ls (by omega), br_c (fun _ => ?_) (fun _ => ?_)⟩⟩⟩
    · refine gw_removeEdge I hu hv (fun r hr => br_t hr (gw_130 I X (fun s8 => ih (t + 1) _ _ _ _ _ _ _ _ _ _ _ ld L (by omega) I X))) (fun k ld' L' s1 s2 s3 s4 s5 s6 s7 s9 g2 hk ne hs I' => br_f (nI_pos hk) (nm_e (gw_130 I' (gx_Xdel (by omega) (by omega) X hs) (fun s8 => ih (t + 1) _ _ _ _ _ _ _ _ _ _ _ ld' L' (by omega) I' (gx_Xdel (by omega) (by omega) X hs)))))
    · refine gw_addEdge I hu hv (fun r hr => br_t hr (gw_130 I X (fun s8 => ih (t + 1) _ _ _ _ _ _ _ _ _ _ _ ld L (by omega) I X))) (fun k ld' L' s1 s2 s3 s4 s5 s6 s7 g2 hk ne hs I' => br_f (nI_pos hk) (nm_e (gw_130 I' (gx_Xadd (by omega) (by omega) X hs) (fun s8 => ih (t + 1) _ _ _ _ _ _ _ _ _ _ _ ld' L' (by omega) I' (gx_Xadd (by omega) (by omega) X hs)))))
theorem gw_cell {P : Int32 → Prop} {xs : Nat → Int32} {L : Nat} (hL : L ≤ 260) (H : ∀ r, P r) : wpL_cell P L xs () 0 :=
  pk_le L 0 (fun _ => H 0) (fun h => ⟨pk_in 0 L h, H _⟩)
theorem i_vc (xs : Nat → Int32) (L : Nat) (hL : L ≤ 260) : wpL_law (fun r => r = 1) L xs := by
  have X0 : gx_X (fun _ => 0) 0 := by
    intro u v _ _
    rw [gx_q_0, gx_0]
  unfold wpL_law
  refine gw_cell hL (fun r => ?_)
  obtain ⟨u, hu, eu⟩ := gx_mod r (n := 7) (by omega) (by omega)
  refine ⟨by decide, nm_r (e' := nI (2 + u)) ?_ ⟨9, 144, by omega, by omega, gw_init (by omega) (fun s3 s4 s5 s6 I => ⟨(L - 1) / 3 + 1, gw_29 (post := fun r => r = 1) hL rfl rfl ((L - 1) / 3) 0 0 0 _ _ s3 s4 s5 s6 _ _ _ _ _ (by omega) I X0⟩)⟩⟩
  rw [← nI_add, ← eu]
  rfl
end
