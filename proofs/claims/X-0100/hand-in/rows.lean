section
/-! rows pasted from the kit (starting text) -/
theorem pk_us {f : Nat → Int32} {k : Nat} {x : Int32} : upd f k x k = x := if_pos rfl
theorem pk_un {f : Nat → Int32} {k j : Nat} {x : Int32} (h : j ≠ k) : upd f k x j = f j := if_neg h
theorem pk_sub {a b : Nat} (h : b ≤ a) : nI a - nI b = nI (a - b) := by
  obtain ⟨c, rfl⟩ : ∃ c, a = c + b := ⟨a - b, by omega⟩
  rw [← nI_add, Int32.add_sub_cancel, Nat.add_sub_cancel]
theorem pk_m1 (n : Nat) : nI (n + 1) + (-1) = nI n := by
  rw [← nI_1, Int32.add_assoc, show (1 : Int32) + (-1) = 0 from rfl, Int32.add_zero]
theorem pk_mul (a b : Nat) : nI a * nI b = nI (a * b) := (Int32.ofNat_mul a b).symm
theorem pk_ix (x : Int32) {n : Nat} (hn : n < 2 ^ 31) : x < 0 ∨ nI n ≤ x ∨ ∃ j : Nat, j < n ∧ x = nI j := by
  by_cases h : x < 0
  · exact Or.inl h
  · obtain ⟨j, hj, rfl⟩ := nI_of h
    by_cases h2 : j < n
    · exact Or.inr (Or.inr ⟨j, h2, rfl⟩)
    · exact Or.inr (Or.inl (nI_le (by omega) hj))
theorem pk_le {x y : Int32} {A B : Prop} (a b : Nat) (f : a ≤ b → A) (g : b < a → B) (hx : x = nI a := by rfl) (hy : y = nI b := by rfl) (ha : a < 2 ^ 31 := by omega) (hb : b < 2 ^ 31 := by omega) : (x ≤ y → A) ∧ (¬ x ≤ y → B) := by
  subst hx hy
  rw [nI_leI ha hb]
  exact ⟨f, fun z => g (by omega)⟩
theorem pk_lt {x y : Int32} {A B : Prop} (a b : Nat) (f : a < b → A) (g : b ≤ a → B) (hx : x = nI a := by rfl) (hy : y = nI b := by rfl) (ha : a < 2 ^ 31 := by omega) (hb : b < 2 ^ 31 := by omega) : (x < y → A) ∧ (¬ x < y → B) := by
  subst hx hy
  rw [nI_ltI ha hb]
  exact ⟨f, fun z => g (by omega)⟩
theorem pk_eq {x y : Int32} {A B : Prop} (a b : Nat) (f : a = b → A) (g : a ≠ b → B) (hx : x = nI a := by rfl) (hy : y = nI b := by rfl) (ha : a < 2 ^ 31 := by omega) (hb : b < 2 ^ 31 := by omega) : (x = y → A) ∧ (¬ x = y → B) := by
  subst hx hy
  rw [nI_eq ha hb]
  exact ⟨f, g⟩
theorem pk_in {x : Int32} (n N : Nat) (h : n < N) (hx : x = nI n := by rfl) (hN : N < 2 ^ 31 := by omega) : vp_in x N := by
  subst hx
  exact vp_in_nI h hN
theorem pk_cl {x : Int32} (n : Nat) (hx : x = nI n := by rfl) (h : n < 2 ^ 31 := by omega) : x.toNatClampNeg = n := by
  subst hx
  exact nI_clamp h
def bt (x : Int32) (i : Nat) : Bool := x.toBitVec.getLsbD i
theorem b_ext {x y : Int32} (h : ∀ i, i < 32 → bt x i = bt y i) : x = y := Int32.toBitVec_inj.mp (BitVec.eq_of_getLsbD_eq (fun i hi => h i hi))
theorem b_or (x y : Int32) (i : Nat) : bt (x ||| y) i = (bt x i || bt y i) := by unfold bt; rw [Int32.toBitVec_or, BitVec.getLsbD_or]
theorem b_and (x y : Int32) (i : Nat) : bt (x &&& y) i = (bt x i && bt y i) := by unfold bt; rw [Int32.toBitVec_and, BitVec.getLsbD_and]
theorem b_xor (x y : Int32) (i : Nat) : bt (x ^^^ y) i = (bt x i ^^ bt y i) := by unfold bt; rw [Int32.toBitVec_xor, BitVec.getLsbD_xor]
theorem b_big {x : Int32} {i : Nat} (h : 32 ≤ i) : bt x i = false := BitVec.getLsbD_of_ge _ _ h
theorem b_m1 : ∀ i, i < 32 → bt (-1) i = true := by decide +kernel
theorem b_0 (i : Nat) : bt 0 i = false := BitVec.getLsbD_zero
theorem s_l : ∀ n, n < 32 → ((nI n &&& 31).toBitVec.smod 32).toNat = n := by decide +kernel
theorem b_shl (n : Nat) (hn : n < 32) (x : Int32) {i : Nat} (hi : i < 32) : bt (x <<< (nI n &&& 31)) i = (decide (n ≤ i) && bt x (i - n)) := by
  unfold bt
  rw [Int32.toBitVec_shiftLeft]
  show (x.toBitVec <<< ((nI n &&& 31).toBitVec.smod 32).toNat).getLsbD i = _
  rw [s_l n hn, BitVec.getLsbD_shiftLeft]
  rcases Nat.lt_or_ge i n with h | h
  · simp [h, Nat.not_le.mpr h]
  · simp [hi, h, Nat.not_lt.mpr h]
end
section
/-! bit masks as sets -/
theorem zb_1 (i : Nat) : bt 1 i = decide (i = 0) := by
  rcases Nat.lt_or_ge i 32 with h | h
  · exact (by decide +kernel : ∀ i, i < 32 → bt 1 i = decide (i = 0)) i h
  · rw [b_big h, decide_eq_false (by omega)]
theorem zb_s {y i : Nat} (hy : y < 32) (hi : i < 32) : bt ((1 : Int32) <<< (nI y &&& 31)) i = decide (i = y) := by
  rw [b_shl y hy 1 hi, zb_1]
  by_cases h : i = y
  · subst h; simp
  · by_cases h2 : y ≤ i
    · rw [decide_eq_false (show ¬ i - y = 0 by omega), Bool.and_false, decide_eq_false h]
    · rw [decide_eq_false h2, Bool.false_and, decide_eq_false h]
theorem zb_z (x : Int32) {y : Nat} (hy : y < 32) : (x &&& ((1 : Int32) <<< (nI y &&& 31))) = 0 ↔ bt x y = false := by
  constructor
  · intro h
    have h2 := congrArg (fun z => bt z y) h
    rw [b_and, zb_s hy hy, decide_eq_true rfl, Bool.and_true, b_0] at h2
    exact h2
  · intro h
    apply b_ext
    intro i hi
    rw [b_and, zb_s hy hi, b_0]
    by_cases e : i = y
    · rw [e, h, Bool.false_and]
    · rw [decide_eq_false e, Bool.and_false]
/-- the bits of x below 32 are the numbers of P -/
def zb_k (x : Int32) (P : Nat → Prop) : Prop := ∀ y, y < 32 → (bt x y = true ↔ P y)
theorem zb_t {x : Int32} {P : Nat → Prop} {y : Nat} (h : zb_k x P) (hy : y < 32) : (x &&& ((1 : Int32) <<< (nI y &&& 31))) = 0 ↔ ¬ P y := by
  rw [zb_z x hy, ← h y hy, Bool.not_eq_true]
theorem zb_c {x : Int32} {P Q : Nat → Prop} (h : zb_k x P) (e : ∀ y, y < 32 → (P y ↔ Q y)) : zb_k x Q := fun y hy => (h y hy).trans (e y hy)
theorem zb_0 : zb_k 0 (fun _ => False) := fun y _ => by rw [b_0]; simp
theorem zb_o {x : Int32} {P : Nat → Prop} {y : Nat} (h : zb_k x P) (hy : y < 32) : zb_k (x ||| ((1 : Int32) <<< (nI y &&& 31))) (fun z => P z ∨ z = y) := by
  intro i hi
  rw [b_or, zb_s hy hi, Bool.or_eq_true, h i hi, decide_eq_true_iff]
theorem zb_1s {y : Nat} (hy : y < 32) : zb_k ((1 : Int32) <<< (nI y &&& 31)) (fun z => z = y) := by
  intro i hi
  rw [zb_s hy hi, decide_eq_true_iff]
theorem zb_n {x : Int32} {P : Nat → Prop} {y : Nat} (h : zb_k x P) (hy : y < 32) : zb_k (x &&& (((1 : Int32) <<< (nI y &&& 31)) ^^^ (-1))) (fun z => P z ∧ z ≠ y) := by
  intro i hi
  rw [b_and, b_xor, zb_s hy hi, b_m1 i hi, Bool.and_eq_true, h i hi, Bool.xor_true]
  simp
theorem zb_a {x y : Int32} {P Q : Nat → Prop} (h : zb_k x P) (h2 : zb_k y Q) : zb_k (x &&& y) (fun z => P z ∧ Q z) := by
  intro i hi
  rw [b_and, Bool.and_eq_true, h i hi, h2 i hi]

/-! small numbers -/
theorem zn_m7 {n : Nat} (h : n < 2 ^ 31) : ¬ nI n = -7 := by
  intro e
  have h2 := congrArg Int32.toInt e
  rw [nI_toInt h, show (-7 : Int32).toInt = -7 from by decide] at h2
  omega
theorem zn_m6 {n : Nat} (h : n < 2 ^ 31) : ¬ nI n = -6 := by
  intro e
  have h2 := congrArg Int32.toInt e
  rw [nI_toInt h, show (-6 : Int32).toInt = -6 from by decide] at h2
  omega
theorem zn_12 (x j : Nat) : nI x * 12 + nI j = nI (x * 12 + j) := by
  rw [show (12 : Int32) = nI 12 from rfl, pk_mul, nI_add]
theorem zn_4 (x j : Nat) : nI x * 4 + nI j = nI (x * 4 + j) := by
  rw [show (4 : Int32) = nI 4 from rfl, pk_mul, nI_add]
theorem zn_0le {n : Nat} (h : n < 2 ^ 31) : (0 : Int32) ≤ nI n := nI_pos' h

/-! lists in arrays -/
def zl_A (a : Nat → Int32) (b : Nat) (L : List Nat) : Prop := ∀ i x, L[i]? = some x → a (b + i) = nI x
theorem zl_A_nil {a : Nat → Int32} {b : Nat} : zl_A a b [] := by
  intro i x h
  simp at h
theorem zl_A_cons {a : Nat → Int32} {b x : Nat} {L : List Nat} : zl_A a b (x :: L) ↔ a b = nI x ∧ zl_A a (b + 1) L := by
  constructor
  · intro h
    refine ⟨h 0 x (by simp), fun i y hy => ?_⟩
    rw [show b + 1 + i = b + (i + 1) by omega]
    exact h (i + 1) y (by simpa using hy)
  · intro h i y hy
    cases i with
    | zero =>
      simp at hy
      subst hy
      exact h.1
    | succ i =>
      rw [show b + (i + 1) = b + 1 + i by omega]
      exact h.2 i y (by simpa using hy)
theorem zl_A_app {a : Nat → Int32} {L1 L2 : List Nat} : ∀ {b : Nat}, zl_A a b (L1 ++ L2) ↔ zl_A a b L1 ∧ zl_A a (b + L1.length) L2 := by
  induction L1 with
  | nil => intro b; simp [zl_A_nil]
  | cons x L ih =>
    intro b
    rw [List.cons_append, zl_A_cons, zl_A_cons, ih, List.length_cons, show b + 1 + L.length = b + (L.length + 1) by omega, and_assoc]
theorem zl_A_eq {a a' : Nat → Int32} {b : Nat} {L : List Nat} (h : zl_A a b L) (e : ∀ k, b ≤ k → k < b + L.length → a' k = a k) : zl_A a' b L := by
  intro i x hx
  have hi : i < L.length := (List.getElem?_eq_some_iff.mp hx).1
  rw [e (b + i) (by omega) (by omega)]
  exact h i x hx
theorem zl_A_upd {a : Nat → Int32} {b k : Nat} {v : Int32} {L : List Nat} (h : zl_A a b L) (hk : k < b ∨ b + L.length ≤ k) : zl_A (upd a k v) b L :=
  zl_A_eq h (fun j h1 h2 => pk_un (by omega))
theorem zl_A_push {a : Nat → Int32} {b y : Nat} {L : List Nat} (h : zl_A a b L) : zl_A (upd a (b + L.length) (nI y)) b (L ++ [y]) := by
  rw [zl_A_app, zl_A_cons]
  exact ⟨zl_A_upd h (Or.inr (Nat.le_refl _)), pk_us, zl_A_nil⟩
theorem zl_A_push0 {a : Nat → Int32} {y : Nat} {L : List Nat} (h : zl_A a 0 L) : zl_A (upd a L.length (nI y)) 0 (L ++ [y]) := by
  have := zl_A_push (y := y) h
  rwa [Nat.zero_add] at this
theorem zl_A_get {a : Nat → Int32} {i : Nat} {L : List Nat} (h : zl_A a 0 L) (hi : i < L.length) : a i = nI L[i] := by
  have := h i L[i] (List.getElem?_eq_getElem hi)
  rwa [Nat.zero_add] at this
/-- the list L written from b on -/
def zl_w : (Nat → Int32) → Nat → List Nat → (Nat → Int32)
  | a, _, [] => a
  | a, b, x :: L => zl_w (upd a b (nI x)) (b + 1) L
theorem zl_w_app {L2 : List Nat} : ∀ (L1 : List Nat) (a : Nat → Int32) (b : Nat), zl_w a b (L1 ++ L2) = zl_w (zl_w a b L1) (b + L1.length) L2 := by
  intro L1
  induction L1 with
  | nil => intro a b; rfl
  | cons x L ih =>
    intro a b
    show zl_w (upd a b (nI x)) (b + 1) (L ++ L2) = zl_w (zl_w (upd a b (nI x)) (b + 1) L) (b + (L.length + 1)) L2
    rw [ih, show b + 1 + L.length = b + (L.length + 1) by omega]
theorem zl_w_snoc (L : List Nat) (a : Nat → Int32) (b x : Nat) : upd (zl_w a b L) (b + L.length) (nI x) = zl_w a b (L ++ [x]) := by
  rw [zl_w_app]; rfl
theorem zl_w_out : ∀ (L : List Nat) (a : Nat → Int32) (b k : Nat), (k < b ∨ b + L.length ≤ k) → zl_w a b L k = a k := by
  intro L
  induction L with
  | nil => intro a b k _; rfl
  | cons x L ih =>
    intro a b k h
    rw [List.length_cons] at h
    show zl_w (upd a b (nI x)) (b + 1) L k = a k
    rw [ih _ _ _ (by omega), pk_un (by omega)]
theorem zl_w_A : ∀ (L : List Nat) (a : Nat → Int32) (b : Nat), zl_A (zl_w a b L) b L := by
  intro L
  induction L with
  | nil => intro a b; exact zl_A_nil
  | cons x L ih =>
    intro a b
    rw [zl_A_cons]
    refine ⟨?_, ih _ _⟩
    show zl_w (upd a b (nI x)) (b + 1) L b = nI x
    rw [zl_w_out _ _ _ _ (Or.inl (by omega)), pk_us]
theorem zl_w_AA {a : Nat → Int32} {L1 L2 : List Nat} (h : zl_A a 0 L1) : zl_A (zl_w a L1.length L2) 0 (L1 ++ L2) := by
  rw [zl_A_app, Nat.zero_add]
  exact ⟨zl_A_eq h (fun k _ h2 => zl_w_out _ _ _ _ (Or.inl (by omega))), zl_w_A _ _ _⟩
/-- v stored at every place of L -/
def zl_u (v : Int32) : (Nat → Int32) → List Nat → (Nat → Int32)
  | a, [] => a
  | a, x :: L => zl_u v (upd a x v) L
/-- one more at every place of L -/
def zl_b : (Nat → Int32) → List Nat → (Nat → Int32)
  | a, [] => a
  | a, x :: L => zl_b (upd a x (a x + 1)) L

/-! none or a number: -7 in X, -1 in Y -/
def zo_x : Option Nat → Int32
  | none => -7
  | some n => nI n
def zo_y : Option Nat → Int32
  | none => -1
  | some n => nI n
def zo_X (f : Nat → Option Nat) : Nat → Int32 := fun j => zo_x (f j)
def zo_Y (f : Nat → Option Nat) : Nat → Int32 := fun j => zo_y (f j)
def zo_u (f : Nat → Option Nat) (k : Nat) (v : Option Nat) : Nat → Option Nat := fun j => if j = k then v else f j
theorem zo_us {f : Nat → Option Nat} {k : Nat} {v : Option Nat} : zo_u f k v k = v := if_pos rfl
theorem zo_un {f : Nat → Option Nat} {k j : Nat} {v : Option Nat} (h : j ≠ k) : zo_u f k v j = f j := if_neg h
theorem zo_Xu (f : Nat → Option Nat) (k : Nat) (v : Option Nat) : upd (zo_X f) k (zo_x v) = zo_X (zo_u f k v) := by
  funext j
  unfold upd zo_X zo_u
  split <;> rfl
theorem zo_Yu (f : Nat → Option Nat) (k : Nat) (v : Option Nat) : upd (zo_Y f) k (zo_y v) = zo_Y (zo_u f k v) := by
  funext j
  unfold upd zo_Y zo_u
  split <;> rfl
/-- the numbers in the first n places are below m -/
def zo_lt (m n : Nat) (f : Nat → Option Nat) : Prop := ∀ j, j < n → ∀ y, f j = some y → y < m
theorem zo_lt_u {m n k : Nat} {f : Nat → Option Nat} {v : Option Nat} (h : zo_lt m n f) (hv : ∀ y, v = some y → y < m) : zo_lt m n (zo_u f k v) := by
  intro j hj y e
  by_cases c : j = k
  · rw [c, zo_us] at e; exact hv y e
  · rw [zo_un c] at e; exact h j hj y e
theorem zo_x7 {o : Option Nat} {m : Nat} (hm : m ≤ 12) (h : ∀ y, o = some y → y < m) : zo_x o = -7 ↔ o = none := by
  cases o with
  | none => exact ⟨fun _ => rfl, fun _ => rfl⟩
  | some y =>
    have := h y rfl
    exact ⟨fun e => absurd e (zn_m7 (by omega)), fun e => nomatch e⟩
theorem zo_y0 {o : Option Nat} {m : Nat} (hm : m ≤ 12) (h : ∀ y, o = some y → y < m) : zo_y o < 0 ↔ o = none := by
  cases o with
  | none => exact ⟨fun _ => rfl, fun _ => by decide⟩
  | some y =>
    have := h y rfl
    exact ⟨fun e => absurd e (nI_pos (by omega)), fun e => nomatch e⟩
theorem zo_y0' {o : Option Nat} {m : Nat} (hm : m ≤ 12) (h : ∀ y, o = some y → y < m) : 0 ≤ zo_y o ↔ ¬ o = none := by
  rw [← zo_y0 hm h, Int32.not_lt]
end
section
/-! lists of different numbers below m; breadth-first search -/
def zl_ok (m : Nat) (L : List Nat) : Prop := L.Nodup ∧ ∀ x, x ∈ L → x < m
theorem zl_len {m : Nat} {L : List Nat} (h : zl_ok m L) : L.length ≤ m := by
  have h2 := List.Nodup.length_le_of_subset h.1 (l₂ := List.range m) (fun x hx => List.mem_range.mpr (h.2 x hx))
  rwa [List.length_range] at h2
theorem zl_ok_nil {m : Nat} : zl_ok m [] := ⟨List.nodup_nil, fun x hx => nomatch hx⟩
theorem zl_ok_one {m r : Nat} (h : r < m) : zl_ok m [r] := ⟨by simp, fun x hx => by simp at hx; omega⟩
theorem zl_ok_app {m : Nat} {L K : List Nat} (h : zl_ok m L) (k : zl_ok m K) (d : ∀ x, x ∈ L → x ∉ K) : zl_ok m (L ++ K) := by
  refine ⟨List.nodup_append.mpr ⟨h.1, k.1, fun a ha b hb e => d a ha (e ▸ hb)⟩, fun x hx => ?_⟩
  rcases List.mem_append.mp hx with h1 | h1
  · exact h.2 x h1
  · exact k.2 x h1
theorem zl_push {m y : Nat} {L : List Nat} (h : zl_ok m L) (hy : y ∉ L) (hm : y < m) : zl_ok m (L ++ [y]) :=
  zl_ok_app h (zl_ok_one hm) (fun x hx e => by simp at e; exact hy (e ▸ hx))
theorem zl_lt {m y : Nat} {L : List Nat} (h : zl_ok m L) (hy : y ∉ L) (hm : y < m) : L.length < m := by
  have h2 := zl_len (zl_push h hy hm)
  rw [List.length_append] at h2
  exact h2
theorem zl_ok_cons {m x : Nat} {L : List Nat} (h : zl_ok m (x :: L)) : x < m ∧ x ∉ L ∧ zl_ok m L := by
  have h1 := List.nodup_cons.mp h.1
  exact ⟨h.2 x List.mem_cons_self, h1.1, h1.2, fun y hy => h.2 y (List.mem_cons_of_mem x hy)⟩
theorem zl_ok_filter {m : Nat} {L : List Nat} (p : Nat → Bool) (h : zl_ok m L) : zl_ok m (L.filter p) :=
  ⟨h.1.sublist List.filter_sublist, fun x hx => h.2 x (List.mem_filter.mp hx).1⟩
theorem zl_ok_rev {m : Nat} {L : List Nat} (h : zl_ok m L) : zl_ok m L.reverse :=
  ⟨(List.reverse_perm L).nodup_iff.mpr h.1, fun x hx => h.2 x (List.mem_reverse.mp hx)⟩
def zl_a1 (L : List Nat) (y : Nat) : List Nat := if y ∈ L then L else L ++ [y]
def zl_ad : List Nat → List Nat → List Nat
  | L, [] => L
  | L, y :: ys => zl_ad (zl_a1 L y) ys
theorem zl_a1_in {L : List Nat} {y : Nat} (h : y ∈ L) : zl_a1 L y = L := if_pos h
theorem zl_a1_out {L : List Nat} {y : Nat} (h : y ∉ L) : zl_a1 L y = L ++ [y] := if_neg h
theorem zl_a1_mem {L : List Nat} {x y : Nat} : x ∈ zl_a1 L y ↔ x ∈ L ∨ x = y := by
  by_cases h : y ∈ L
  · rw [zl_a1_in h]
    exact ⟨Or.inl, fun z => z.elim id (fun e => e ▸ h)⟩
  · rw [zl_a1_out h]; simp
theorem zl_a1_ok {m y : Nat} {L : List Nat} (h : zl_ok m L) (hy : y < m) : zl_ok m (zl_a1 L y) := by
  by_cases e : y ∈ L
  · rw [zl_a1_in e]; exact h
  · rw [zl_a1_out e]; exact zl_push h e hy
theorem zl_a1_pre (L : List Nat) (y : Nat) : ∃ E, zl_a1 L y = L ++ E := by
  by_cases e : y ∈ L
  · exact ⟨[], by rw [zl_a1_in e, List.append_nil]⟩
  · exact ⟨[y], zl_a1_out e⟩
theorem zl_ad_mem {x : Nat} : ∀ {ys L : List Nat}, x ∈ zl_ad L ys ↔ x ∈ L ∨ x ∈ ys := by
  intro ys
  induction ys with
  | nil => intro L; simp [zl_ad]
  | cons y ys ih =>
    intro L
    show x ∈ zl_ad (zl_a1 L y) ys ↔ _
    rw [ih, zl_a1_mem, List.mem_cons, or_assoc]
theorem zl_ad_ok {m : Nat} : ∀ {ys L : List Nat}, zl_ok m L → (∀ y, y ∈ ys → y < m) → zl_ok m (zl_ad L ys) := by
  intro ys
  induction ys with
  | nil => intro L h _; exact h
  | cons y ys ih =>
    intro L h hy
    exact ih (zl_a1_ok h (hy y List.mem_cons_self)) (fun z hz => hy z (List.mem_cons_of_mem y hz))
theorem zl_ad_pre : ∀ (ys L : List Nat), ∃ E, zl_ad L ys = L ++ E := by
  intro ys
  induction ys with
  | nil => intro L; exact ⟨[], (List.append_nil L).symm⟩
  | cons y ys ih =>
    intro L
    obtain ⟨E1, h1⟩ := zl_a1_pre L y
    obtain ⟨E2, h2⟩ := ih (zl_a1 L y)
    refine ⟨E1 ++ E2, ?_⟩
    show zl_ad (zl_a1 L y) ys = _
    rw [h2, h1, List.append_assoc]
theorem zl_ad_app {B : List Nat} : ∀ (A L : List Nat), zl_ad L (A ++ B) = zl_ad (zl_ad L A) B := by
  intro A
  induction A with
  | nil => intro L; rfl
  | cons y ys ih => intro L; exact ih (zl_a1 L y)
theorem zl_ad_in {L ys : List Nat} {y : Nat} (h : y ∈ L) : zl_ad L (y :: ys) = zl_ad L ys := by
  show zl_ad (zl_a1 L y) ys = _
  rw [zl_a1_in h]
theorem zl_ad_out {L ys : List Nat} {y : Nat} (h : y ∉ L) : zl_ad L (y :: ys) = zl_ad (L ++ [y]) ys := by
  show zl_ad (zl_a1 L y) ys = _
  rw [zl_a1_out h]
def zl_bf (t : Nat → List Nat) : Nat → Nat → List Nat → List Nat
  | 0, _, L => L
  | f + 1, i, L => match L[i]? with
    | none => L
    | some x => zl_bf t f (i + 1) (zl_ad L (t x))
theorem zl_bf_none {t : Nat → List Nat} {f i : Nat} {L : List Nat} (h : L[i]? = none) : zl_bf t f i L = L := by
  cases f with
  | zero => rfl
  | succ f => rw [zl_bf, h]
theorem zl_bf_some {t : Nat → List Nat} {f i x : Nat} {L : List Nat} (h : L[i]? = some x) : zl_bf t (f + 1) i L = zl_bf t f (i + 1) (zl_ad L (t x)) := by
  rw [zl_bf, h]
section BF
variable {t : Nat → List Nat} {m : Nat}
theorem zl_bf_ok (ht : ∀ x, x < m → ∀ y, y ∈ t x → y < m) : ∀ f i L, zl_ok m L → zl_ok m (zl_bf t f i L) := by
  intro f
  induction f with
  | zero => intro i L h; exact h
  | succ f ih =>
    intro i L h
    cases e : L[i]? with
    | none => rw [zl_bf_none e]; exact h
    | some x =>
      rw [zl_bf_some e]
      exact ih _ _ (zl_ad_ok h (ht x (h.2 x (List.mem_of_getElem? e))))
theorem zl_bf_sub : ∀ f i L x, x ∈ L → x ∈ zl_bf t f i L := by
  intro f
  induction f with
  | zero => intro i L x h; exact h
  | succ f ih =>
    intro i L x h
    cases e : L[i]? with
    | none => rw [zl_bf_none e]; exact h
    | some y =>
      rw [zl_bf_some e]
      exact ih _ _ _ (zl_ad_mem.mpr (Or.inl h))
theorem zl_bf_least {P : Nat → Prop} (hP : ∀ x, P x → ∀ y, y ∈ t x → P y) : ∀ f i L, (∀ x, x ∈ L → P x) → ∀ x, x ∈ zl_bf t f i L → P x := by
  intro f
  induction f with
  | zero => intro i L h; exact h
  | succ f ih =>
    intro i L h
    cases e : L[i]? with
    | none => rw [zl_bf_none e]; exact h
    | some y =>
      rw [zl_bf_some e]
      exact ih _ _ (fun z hz => (zl_ad_mem.mp hz).elim (h z) (hP y (h y (List.mem_of_getElem? e)) z))
theorem zl_bf_closed (ht : ∀ x, x < m → ∀ y, y ∈ t x → y < m) : ∀ f i L, zl_ok m L → m ≤ i + f → (∀ k x, k < i → L[k]? = some x → ∀ y, y ∈ t x → y ∈ L) →
    ∀ x, x ∈ zl_bf t f i L → ∀ y, y ∈ t x → y ∈ zl_bf t f i L := by
  intro f
  induction f with
  | zero =>
    intro i L h hi hc x hx y hy
    have hl := zl_len h
    have hx' : x ∈ L := hx
    obtain ⟨k, hk⟩ := List.getElem?_of_mem hx'
    have := (List.getElem?_eq_some_iff.mp hk).1
    exact hc k x (by omega) hk y hy
  | succ f ih =>
    intro i L h hi hc
    cases e : L[i]? with
    | none =>
      rw [zl_bf_none e]
      intro x hx y hy
      have hl := List.getElem?_eq_none_iff.mp e
      obtain ⟨k, hk⟩ := List.getElem?_of_mem hx
      have := (List.getElem?_eq_some_iff.mp hk).1
      exact hc k x (by omega) hk y hy
    | some z =>
      rw [zl_bf_some e]
      have hi2 := (List.getElem?_eq_some_iff.mp e).1
      refine ih _ _ (zl_ad_ok h (ht z (h.2 z (List.mem_of_getElem? e)))) (by omega) (fun k x hk hx y hy => ?_)
      obtain ⟨E, hE⟩ := zl_ad_pre (t z) L
      rw [hE, List.getElem?_append_left (by omega)] at hx
      by_cases c : k = i
      · rw [c, e] at hx
        injection hx with hx
        exact zl_ad_mem.mpr (Or.inr (hx ▸ hy))
      · exact zl_ad_mem.mpr (Or.inl (hc k x (by omega) hx y hy))
/-- the search list of r -/
def zl_sl (t : Nat → List Nat) (m r : Nat) : List Nat := zl_bf t m 0 [r]
theorem zl_sl_ok (ht : ∀ x, x < m → ∀ y, y ∈ t x → y < m) {r : Nat} (hr : r < m) : zl_ok m (zl_sl t m r) := zl_bf_ok ht _ _ _ (zl_ok_one hr)
theorem zl_sl_self {r : Nat} : r ∈ zl_sl t m r := zl_bf_sub _ _ _ _ (by simp)
theorem zl_sl_closed (ht : ∀ x, x < m → ∀ y, y ∈ t x → y < m) {r : Nat} (hr : r < m) : ∀ x, x ∈ zl_sl t m r → ∀ y, y ∈ t x → y ∈ zl_sl t m r :=
  zl_bf_closed ht _ _ _ (zl_ok_one hr) (by omega) (fun k x hk => absurd hk (Nat.not_lt_zero k))
theorem zl_sl_trans (ht : ∀ x, x < m → ∀ y, y ∈ t x → y < m) {r y z : Nat} (hr : r < m) (hy : y ∈ zl_sl t m r) (hz : z ∈ zl_sl t m y) : z ∈ zl_sl t m r :=
  zl_bf_least (P := fun x => x ∈ zl_sl t m r) (zl_sl_closed ht hr) _ _ _ (fun x hx => by simp at hx; rw [hx]; exact hy) z hz
end BF

/-! Y's rounds of keeping: m sweeps reach the least closed set -/
section SW
variable {t : Nat → List Nat} {m : Nat}
/-- one sweep over x, x + 1, .. (d of them) -/
def zl_sw (t : Nat → List Nat) : Nat → Nat → List Nat → List Nat
  | 0, _, K => K
  | d + 1, x, K => zl_sw t d (x + 1) (if x ∈ K then zl_ad K (t x) else K)
def zl_rd (t : Nat → List Nat) (m : Nat) : Nat → List Nat → List Nat
  | 0, K => K
  | r + 1, K => zl_rd t m r (zl_sw t m 0 K)
theorem zl_sw_pre : ∀ d x K, ∃ E, zl_sw t d x K = K ++ E := by
  intro d
  induction d with
  | zero => intro x K; exact ⟨[], (List.append_nil K).symm⟩
  | succ d ih =>
    intro x K
    show ∃ E, zl_sw t d (x + 1) (if x ∈ K then zl_ad K (t x) else K) = K ++ E
    split
    · obtain ⟨E1, h1⟩ := zl_ad_pre (t x) K
      obtain ⟨E2, h2⟩ := ih (x + 1) (zl_ad K (t x))
      exact ⟨E1 ++ E2, by rw [h2, h1, List.append_assoc]⟩
    · exact ih (x + 1) K
theorem zl_sw_ok (ht : ∀ x, x < m → ∀ y, y ∈ t x → y < m) : ∀ d x K, zl_ok m K → zl_ok m (zl_sw t d x K) := by
  intro d
  induction d with
  | zero => intro x K h; exact h
  | succ d ih =>
    intro x K h
    show zl_ok m (zl_sw t d (x + 1) (if x ∈ K then zl_ad K (t x) else K))
    split
    · next e => exact ih _ _ (zl_ad_ok h (ht x (h.2 x e)))
    · exact ih _ _ h
theorem zl_sw_least {P : Nat → Prop} (hP : ∀ x, P x → ∀ y, y ∈ t x → P y) : ∀ d x K, (∀ z, z ∈ K → P z) → ∀ z, z ∈ zl_sw t d x K → P z := by
  intro d
  induction d with
  | zero => intro x K h; exact h
  | succ d ih =>
    intro x K h
    show ∀ z, z ∈ zl_sw t d (x + 1) (if x ∈ K then zl_ad K (t x) else K) → P z
    split
    · next e => exact ih _ _ (fun z hz => (zl_ad_mem.mp hz).elim (h z) (hP x (h x e) z))
    · exact ih _ _ h
theorem zl_app_len {K E : List Nat} (h : (K ++ E).length = K.length) : E = [] := by
  rw [List.length_append] at h
  exact List.eq_nil_of_length_eq_zero (by omega)
/-- a sweep that adds nothing has found a closed set -/
theorem zl_sw_fix : ∀ d x K, (zl_sw t d x K).length = K.length → ∀ z, x ≤ z → z < x + d → z ∈ K → ∀ y, y ∈ t z → y ∈ K := by
  intro d
  induction d with
  | zero => intro x K _ z h1 h2; omega
  | succ d ih =>
    intro x K hl z h1 h2 hz y hy
    change (zl_sw t d (x + 1) (if x ∈ K then zl_ad K (t x) else K)).length = K.length at hl
    by_cases e : x ∈ K
    · rw [if_pos e] at hl
      obtain ⟨E1, e1⟩ := zl_ad_pre (t x) K
      obtain ⟨E2, e2⟩ := zl_sw_pre (t := t) d (x + 1) (zl_ad K (t x))
      have hE : E1 = [] := by
        rw [e2, e1, List.length_append, List.length_append] at hl
        exact List.eq_nil_of_length_eq_zero (by omega)
      have hK : zl_ad K (t x) = K := by rw [e1, hE, List.append_nil]
      rw [hK] at hl
      by_cases c : z = x
      · subst c
        rw [← hK]
        exact zl_ad_mem.mpr (Or.inr hy)
      · exact ih (x + 1) K hl z (by omega) (by omega) hz y hy
    · rw [if_neg e] at hl
      have c : z ≠ x := fun c => e (c ▸ hz)
      exact ih (x + 1) K hl z (by omega) (by omega) hz y hy
theorem zl_ad_same {K ys : List Nat} (h : ∀ y, y ∈ ys → y ∈ K) : zl_ad K ys = K := by
  induction ys with
  | nil => rfl
  | cons y ys ih =>
    rw [zl_ad_in (h y List.mem_cons_self)]
    exact ih (fun z hz => h z (List.mem_cons_of_mem y hz))
theorem zl_sw_closed {K : List Nat} (hc : ∀ z, z ∈ K → ∀ y, y ∈ t z → y ∈ K) : ∀ d x, zl_sw t d x K = K := by
  intro d
  induction d with
  | zero => intro x; rfl
  | succ d ih =>
    intro x
    show zl_sw t d (x + 1) (if x ∈ K then zl_ad K (t x) else K) = K
    split
    · next e => rw [zl_ad_same (hc x e)]; exact ih _
    · exact ih _
theorem zl_rd_closed {K : List Nat} (hc : ∀ z, z ∈ K → ∀ y, y ∈ t z → y ∈ K) : ∀ r, zl_rd t m r K = K := by
  intro r
  induction r with
  | zero => rfl
  | succ r ih =>
    show zl_rd t m r (zl_sw t m 0 K) = K
    rw [zl_sw_closed hc, ih]
theorem zl_rd_ok (ht : ∀ x, x < m → ∀ y, y ∈ t x → y < m) : ∀ r K, zl_ok m K → zl_ok m (zl_rd t m r K) := by
  intro r
  induction r with
  | zero => intro K h; exact h
  | succ r ih => intro K h; exact ih _ (zl_sw_ok ht _ _ _ h)
theorem zl_rd_sub : ∀ r K x, x ∈ K → x ∈ zl_rd t m r K := by
  intro r
  induction r with
  | zero => intro K x h; exact h
  | succ r ih =>
    intro K x h
    obtain ⟨E, e⟩ := zl_sw_pre (t := t) m 0 K
    exact ih _ _ (by rw [e]; exact List.mem_append_left E h)
theorem zl_rd_least {P : Nat → Prop} (hP : ∀ x, P x → ∀ y, y ∈ t x → P y) : ∀ r K, (∀ z, z ∈ K → P z) → ∀ z, z ∈ zl_rd t m r K → P z := by
  intro r
  induction r with
  | zero => intro K h; exact h
  | succ r ih => intro K h; exact ih _ (zl_sw_least hP _ _ _ h)
/-- after r rounds: closed, or more than r numbers more than at first -/
theorem zl_rd_grow (ht : ∀ x, x < m → ∀ y, y ∈ t x → y < m) : ∀ r K, zl_ok m K → (∀ z, z ∈ zl_rd t m r K → ∀ y, y ∈ t z → y ∈ zl_rd t m r K) ∨ K.length + r ≤ (zl_rd t m r K).length := by
  intro r
  induction r with
  | zero => intro K _; exact Or.inr (Nat.le_refl _)
  | succ r ih =>
    intro K h
    by_cases e : (zl_sw t m 0 K).length = K.length
    · have hc : ∀ z, z ∈ K → ∀ y, y ∈ t z → y ∈ K := fun z hz y hy => zl_sw_fix m 0 K e z (Nat.zero_le z) (by have := h.2 z hz; omega) hz y hy
      rw [zl_rd_closed hc]
      exact Or.inl hc
    · obtain ⟨E, e2⟩ := zl_sw_pre (t := t) m 0 K
      have hl : K.length + 1 ≤ (zl_sw t m 0 K).length := by
        rw [e2, List.length_append] at e ⊢
        omega
      rcases ih (zl_sw t m 0 K) (zl_sw_ok ht _ _ _ h) with h1 | h1
      · exact Or.inl h1
      · refine Or.inr ?_
        show _ ≤ (zl_rd t m r (zl_sw t m 0 K)).length
        omega
theorem zl_rd_cl (ht : ∀ x, x < m → ∀ y, y ∈ t x → y < m) {K : List Nat} (h : zl_ok m K) : ∀ z, z ∈ zl_rd t m m K → ∀ y, y ∈ t z → y ∈ zl_rd t m m K := by
  by_cases e : K = []
  · subst e
    rw [zl_rd_closed (K := []) (fun z hz => absurd hz List.not_mem_nil)]
    exact fun z hz => absurd hz List.not_mem_nil
  · rcases zl_rd_grow ht m K h with h1 | h1
    · exact h1
    · have h2 := zl_len (zl_rd_ok ht m K h)
      have h3 : 0 < K.length := List.length_pos_iff.mpr e
      omega
/-- Y's rounds and X's queue keep the same modules -/
theorem zl_keep (ht : ∀ x, x < m → ∀ y, y ∈ t x → y < m) {K : List Nat} (h : zl_ok m K) (x : Nat) : x ∈ zl_rd t m m K ↔ x ∈ zl_bf t m 0 K := by
  constructor
  · exact zl_rd_least (P := fun x => x ∈ zl_bf t m 0 K) (zl_bf_closed ht m 0 K h (by omega) (fun k x hk => absurd hk (Nat.not_lt_zero k))) _ _ (fun z hz => zl_bf_sub _ _ _ _ hz) x
  · exact zl_bf_least (P := fun x => x ∈ zl_rd t m m K) (zl_rd_cl ht h) _ _ _ (fun z hz => zl_rd_sub _ _ _ hz) x
end SW
end
section
/-! which module is initialised next -/
def zr_r (R : Nat → List Nat) (FL D : List Nat) (x : Nat) : Bool := decide (x ∉ D) && FL.all (fun y => decide (y ∈ D) || (decide (y ∉ R x) || decide (x ∈ R y)))
theorem zr_r_iff {R : Nat → List Nat} {FL D : List Nat} {x : Nat} : zr_r R FL D x = true ↔ x ∉ D ∧ ∀ y, y ∈ FL → y ∉ D → y ∈ R x → x ∈ R y := by
  unfold zr_r
  rw [Bool.and_eq_true, decide_eq_true_iff, List.all_eq_true]
  refine and_congr Iff.rfl ⟨fun h y hy hd hr => ?_, fun h y hy => ?_⟩
  · have h2 := h y hy
    rw [Bool.or_eq_true, Bool.or_eq_true, decide_eq_true_iff, decide_eq_true_iff, decide_eq_true_iff] at h2
    rcases h2 with h2 | h2 | h2
    · exact absurd h2 hd
    · exact absurd hr h2
    · exact h2
  · rw [Bool.or_eq_true, Bool.or_eq_true, decide_eq_true_iff, decide_eq_true_iff, decide_eq_true_iff]
    by_cases h1 : y ∈ D
    · exact Or.inl h1
    · by_cases h2 : y ∈ R x
      · exact Or.inr (Or.inr (h y hy h1 h2))
      · exact Or.inr (Or.inl h2)
def zr_n (R : Nat → List Nat) (FL D : List Nat) : Option Nat := FL.reverse.find? (zr_r R FL D)
def zr_go (R : Nat → List Nat) (FL : List Nat) : Nat → List Nat → List Nat
  | 0, D => D
  | k + 1, D => match zr_n R FL D with
    | none => zr_go R FL k D
    | some x => zr_go R FL k (D ++ [x])
theorem zr_go_s {R : Nat → List Nat} {FL D : List Nat} {k x : Nat} (h : zr_n R FL D = some x) : zr_go R FL (k + 1) D = zr_go R FL k (D ++ [x]) := by
  rw [zr_go, h]
theorem zr_n_in {R : Nat → List Nat} {FL D : List Nat} {x : Nat} (h : zr_n R FL D = some x) : x ∈ FL ∧ x ∉ D :=
  ⟨List.mem_reverse.mp (List.mem_of_find?_eq_some h), (zr_r_iff.mp (List.find?_some h)).1⟩
theorem zr_ex {R : Nat → List Nat} {FL D : List Nat} (hF : FL.Nodup) (hr : ∀ x, x ∈ FL → x ∈ R x) (htr : ∀ x y z, x ∈ FL → y ∈ R x → z ∈ R y → z ∈ R x) :
    ∀ n x, x ∈ FL → x ∉ D → (FL.filter (fun z => decide (z ∉ D) && decide (z ∈ R x))).length ≤ n → ∃ w, w ∈ FL ∧ zr_r R FL D w = true := by
  intro n
  induction n with
  | zero =>
    intro x hx hd hl
    exfalso
    have h0 := List.eq_nil_of_length_eq_zero (Nat.le_zero.mp hl)
    have h1 : x ∈ FL.filter (fun z => decide (z ∉ D) && decide (z ∈ R x)) := by
      rw [List.mem_filter]
      exact ⟨hx, by rw [Bool.and_eq_true, decide_eq_true_iff, decide_eq_true_iff]; exact ⟨hd, hr x hx⟩⟩
    rw [h0] at h1
    exact nomatch h1
  | succ n ih =>
    intro x hx hd hl
    by_cases e : zr_r R FL D x = true
    · exact ⟨x, hx, e⟩
    · have h1 : ¬ ∀ y, y ∈ FL → y ∉ D → y ∈ R x → x ∈ R y := fun h => e (zr_r_iff.mpr ⟨hd, h⟩)
      have h2 : ∃ y, y ∈ FL ∧ y ∉ D ∧ y ∈ R x ∧ x ∉ R y := by
        apply Classical.byContradiction
        intro hn
        exact h1 (fun y a b c => Classical.byContradiction (fun d => hn ⟨y, a, b, c, d⟩))
      obtain ⟨y, hy, hyd, hyx, hxy⟩ := h2
      refine ih y hy hyd ?_
      have h3 : (x :: FL.filter (fun z => decide (z ∉ D) && decide (z ∈ R y))).length ≤ (FL.filter (fun z => decide (z ∉ D) && decide (z ∈ R x))).length := by
        apply List.Nodup.length_le_of_subset
        · rw [List.nodup_cons]
          refine ⟨fun h => ?_, hF.sublist List.filter_sublist⟩
          have h4 := (List.mem_filter.mp h).2
          rw [Bool.and_eq_true, decide_eq_true_iff, decide_eq_true_iff] at h4
          exact hxy h4.2
        · intro z hz
          rw [List.mem_filter, Bool.and_eq_true, decide_eq_true_iff, decide_eq_true_iff]
          rcases List.mem_cons.mp hz with h5 | h5
          · subst h5
            exact ⟨hx, hd, hr z hx⟩
          · rw [List.mem_filter, Bool.and_eq_true, decide_eq_true_iff, decide_eq_true_iff] at h5
            exact ⟨h5.1, h5.2.1, htr x y z hx hyx h5.2.2⟩
      rw [List.length_cons] at h3
      omega
theorem zr_some {R : Nat → List Nat} {FL D : List Nat} (hF : FL.Nodup) (hr : ∀ x, x ∈ FL → x ∈ R x) (htr : ∀ x y z, x ∈ FL → y ∈ R x → z ∈ R y → z ∈ R x)
    (hl : D.length < FL.length) : ∃ x, zr_n R FL D = some x := by
  have h1 : ∃ x, x ∈ FL ∧ x ∉ D := by
    apply Classical.byContradiction
    intro hn
    have h2 := List.Nodup.length_le_of_subset hF (l₂ := D) (fun z hz => Classical.byContradiction (fun d => hn ⟨z, hz, d⟩))
    omega
  obtain ⟨x, hx, hd⟩ := h1
  obtain ⟨w, hw, hp⟩ := zr_ex hF hr htr _ x hx hd (Nat.le_refl _)
  have h3 : (FL.reverse.find? (zr_r R FL D)).isSome := List.find?_isSome.mpr ⟨w, List.mem_reverse.mpr hw, hp⟩
  exact Option.isSome_iff_exists.mp h3
/-- all of them are initialised, each once -/
theorem zr_go_all {R : Nat → List Nat} {FL : List Nat} {m : Nat} (hF : zl_ok m FL) (hr : ∀ x, x ∈ FL → x ∈ R x) (htr : ∀ x y z, x ∈ FL → y ∈ R x → z ∈ R y → z ∈ R x) :
    ∀ k D, zl_ok m D → (∀ x, x ∈ D → x ∈ FL) → D.length + k = FL.length → zl_ok m (zr_go R FL k D) ∧ (∀ x, x ∈ zr_go R FL k D ↔ x ∈ FL) ∧ (zr_go R FL k D).length = FL.length := by
  intro k
  induction k with
  | zero =>
    intro D hD hs hl
    refine ⟨hD, fun x => ⟨hs x, fun hx => ?_⟩, hl⟩
    apply Classical.byContradiction
    intro hn
    have hn' : x ∉ D := hn
    have h2 := List.Nodup.length_le_of_subset (List.nodup_cons.mpr ⟨hn', hD.1⟩) (l₂ := FL) (fun z hz => (List.mem_cons.mp hz).elim (fun e => e ▸ hx) (hs z))
    rw [List.length_cons] at h2
    omega
  | succ k ih =>
    intro D hD hs hl
    obtain ⟨x, hx⟩ := zr_some hF.1 hr htr (D := D) (by omega)
    obtain ⟨h1, h2⟩ := zr_n_in hx
    rw [zr_go_s hx]
    refine ih _ (zl_push hD h2 (hF.2 x h1)) (fun z hz => ?_) (by rw [List.length_append]; show D.length + 1 + k = _; omega)
    rcases List.mem_append.mp hz with h3 | h3
    · exact hs z h3
    · simp at h3; rw [h3]; exact h1

/-! the first of a kind in a list; the scope search -/
def zf_k (kd : Nat → Int32) (s : Nat) (k : Int32) : List Nat → Int32
  | [] => -6
  | y :: ys => if kd (y * 12 + s) = k then nI y else zf_k kd s k ys
theorem zf_res {kd : Nat → Int32} {s : Nat} {k : Int32} : ∀ L : List Nat, zf_k kd s k L = -6 ∨ ∃ y, y ∈ L ∧ zf_k kd s k L = nI y := by
  intro L
  induction L with
  | nil => exact Or.inl rfl
  | cons y ys ih =>
    rw [zf_k]
    split
    · exact Or.inr ⟨y, List.mem_cons_self, rfl⟩
    · rcases ih with h | ⟨z, hz, h⟩
      · exact Or.inl h
      · exact Or.inr ⟨z, List.mem_cons_of_mem y hz, h⟩
theorem zf_app {kd : Nat → Int32} {s : Nat} {k : Int32} {B : List Nat} : ∀ A : List Nat, (∀ x, x ∈ A → x < 12) → zf_k kd s k (A ++ B) = if zf_k kd s k A = -6 then zf_k kd s k B else zf_k kd s k A := by
  intro A
  induction A with
  | nil => intro _; rw [List.nil_append, zf_k, if_pos rfl]
  | cons y ys ih =>
    intro h
    rw [List.cons_append, zf_k, zf_k]
    by_cases e : kd (y * 12 + s) = k
    · have h1 := h y List.mem_cons_self
      rw [if_pos e, if_pos e, if_neg (zn_m6 (by omega))]
    · rw [if_neg e, if_neg e]
      exact ih (fun x hx => h x (List.mem_cons_of_mem y hx))
def zf_c (kd : Nat → Int32) (s : Nat) (L : List Nat) : Int32 := if zf_k kd s 1 L = -6 then zf_k kd s 2 L else zf_k kd s 1 L
theorem zf_c_res {kd : Nat → Int32} {s : Nat} (L : List Nat) : zf_c kd s L = -6 ∨ ∃ y, y ∈ L ∧ zf_c kd s L = nI y := by
  unfold zf_c
  split
  · exact zf_res L
  · exact zf_res L
def zf_s (kd : Nat → Int32) (N : Nat → List Nat) (m : Nat) (GL : List Nat) (x o s : Nat) : Int32 := if kd (x * 12 + s) = 3 then nI x else zf_c kd s (GL ++ zl_sl N m o)
theorem zf_s_res {kd : Nat → Int32} {N : Nat → List Nat} {m : Nat} {GL : List Nat} {x o s : Nat} (hN : ∀ x, x < m → ∀ y, y ∈ N x → y < m) (hG : ∀ x, x ∈ GL → x < m) (hx : x < m) (ho : o < m) :
    zf_s kd N m GL x o s = -6 ∨ ∃ y, y < m ∧ zf_s kd N m GL x o s = nI y := by
  unfold zf_s
  split
  · exact Or.inr ⟨x, hx, rfl⟩
  · rcases zf_c_res (kd := kd) (s := s) (GL ++ zl_sl N m o) with h | ⟨y, hy, h⟩
    · exact Or.inl h
    · refine Or.inr ⟨y, ?_, h⟩
      rcases List.mem_append.mp hy with h2 | h2
      · exact hG y h2
      · exact (zl_sl_ok hN ho).2 y h2

/-! numbers out of options, the first free place -/
def zo_l (f : Nat → Option Nat) : Nat → Nat → List Nat
  | 0, _ => []
  | d + 1, j => match f j with
    | none => zo_l f d (j + 1)
    | some y => y :: zo_l f d (j + 1)
theorem zo_l_n {f : Nat → Option Nat} {d j : Nat} (h : f j = none) : zo_l f (d + 1) j = zo_l f d (j + 1) := by rw [zo_l, h]
theorem zo_l_s {f : Nat → Option Nat} {d j y : Nat} (h : f j = some y) : zo_l f (d + 1) j = y :: zo_l f d (j + 1) := by rw [zo_l, h]
theorem zo_l_mem {f : Nat → Option Nat} : ∀ d j y, y ∈ zo_l f d j → ∃ i, i < j + d ∧ f i = some y := by
  intro d
  induction d with
  | zero => intro j y h; exact nomatch h
  | succ d ih =>
    intro j y h
    cases e : f j with
    | none =>
      rw [zo_l_n e] at h
      obtain ⟨i, hi, h2⟩ := ih _ _ h
      exact ⟨i, by omega, h2⟩
    | some z =>
      rw [zo_l_s e] at h
      rcases List.mem_cons.mp h with h1 | h1
      · exact ⟨j, by omega, by rw [e, h1]⟩
      · obtain ⟨i, hi, h2⟩ := ih _ _ h1
        exact ⟨i, by omega, h2⟩
def zo_f (f : Nat → Option Nat) : Nat → Nat → Option Nat
  | 0, _ => none
  | d + 1, j => match f j with
    | none => some j
    | some _ => zo_f f d (j + 1)
theorem zo_f_n {f : Nat → Option Nat} {d j : Nat} (h : f j = none) : zo_f f (d + 1) j = some j := by rw [zo_f, h]
theorem zo_f_s {f : Nat → Option Nat} {d j y : Nat} (h : f j = some y) : zo_f f (d + 1) j = zo_f f d (j + 1) := by rw [zo_f, h]
theorem zo_f_lt {f : Nat → Option Nat} : ∀ d j y, zo_f f d j = some y → y < j + d ∧ f y = none := by
  intro d
  induction d with
  | zero => intro j y h; exact nomatch h
  | succ d ih =>
    intro j y h
    cases e : f j with
    | none =>
      rw [zo_f_n e] at h
      injection h with h
      subst h
      exact ⟨by omega, e⟩
    | some z =>
      rw [zo_f_s e] at h
      obtain ⟨h1, h2⟩ := ih _ _ h
      exact ⟨by omega, h2⟩
end
section
/-! the descriptions -/
def zz_N (m : Nat) (N : Nat → List Nat) (nc nd : Nat → Int32) : Prop := ∀ x, x < m → nc x = nI (N x).length ∧ zl_A nd (x * 12) (N x) ∧ zl_ok m (x :: N x)
def zz_Z (m p sy : Nat) (Z : Nat → List Nat) (sn ss : Nat → Int32) : Prop := ∀ x, x < m → sn x = nI (Z x).length ∧ zl_A ss (x * 4) (Z x) ∧ (Z x).length ≤ p ∧ ∀ s, s ∈ Z x → s < sy
theorem zz_N_ht {m : Nat} {N : Nat → List Nat} {nc nd : Nat → Int32} (h : zz_N m N nc nd) : ∀ x, x < m → ∀ y, y ∈ N x → y < m := fun x hx => (zl_ok_cons (h x hx).2.2).2.2.2
theorem zz_N_len {m : Nat} {N : Nat → List Nat} {nc nd : Nat → Int32} (h : zz_N m N nc nd) {x : Nat} (hx : x < m) : (N x).length < m := by
  have h2 := zl_len (h x hx).2.2
  rw [List.length_cons] at h2
  omega
abbrev zt_18 : Type := (Nat → Int32) → (Nat → Int32) → (Nat → Int32) → (Nat → Int32) → (Nat → Int32) → (Nat → Int32) → (Nat → Int32) → (Nat → Int32) → (Nat → Int32) → (Nat → Int32) → (Nat → Int32) → (Nat → Int32) → (Nat → Int32) → (Nat → Int32) → (Nat → Int32) → (Nat → Int32) → (Nat → Int32) → (Nat → Int32) → Prop
abbrev zt_16 : Type := (Nat → Int32) → (Nat → Int32) → (Nat → Int32) → (Nat → Int32) → (Nat → Int32) → (Nat → Int32) → (Nat → Int32) → (Nat → Int32) → (Nat → Int32) → (Nat → Int32) → (Nat → Int32) → (Nat → Int32) → (Nat → Int32) → (Nat → Int32) → (Nat → Int32) → (Nat → Int32) → Prop
section XS
variable {mC sC pC hC iL gL bL sL fL wL kM : Int32} {nd nc kd ss sn hM op pt ini fin il gl ba se fr re fo wo : Nat → Int32}
variable {m : Nat} {N : Nat → List Nat}
theorem zx_cell {post : Int32 → Prop} {x j : Nat} (h : post (nI (x * 12 + j))) : wpX_cell post (mC, sC, pC, hC, iL, gL, bL, sL, fL, wL, kM, nd, nc, kd, ss, sn, hM, op, pt, ini, fin, il, gl, ba, se, fr, re, fo, wo) (nI x) (nI j) := by
  show post (nI x * 12 + nI j)
  rw [zn_12]; exact h
theorem zx_sc {post : Int32 → Prop} {x j : Nat} (h : post (nI (x * 4 + j))) : wpX_slotCell post (mC, sC, pC, hC, iL, gL, bL, sL, fL, wL, kM, nd, nc, kd, ss, sn, hM, op, pt, ini, fin, il, gl, ba, se, fr, re, fo, wo) (nI x) (nI j) := by
  show post (nI x * 4 + nI j)
  rw [zn_4]; exact h
theorem zx_isM1 {post : Int32 → Prop} {x : Nat} (hm : m ≤ 12) (hx : x < m) (h : post 1) : wpX_isModule post (nI m, sC, pC, hC, iL, gL, bL, sL, fL, wL, kM, nd, nc, kd, ss, sn, hM, op, pt, ini, fin, il, gl, ba, se, fr, re, fo, wo) (nI x) :=
  br_f (nI_pos (by omega)) (br_f (nI_ge hx (by omega)) h)
theorem zx_isM0 {post : Int32 → Prop} {v : Int32} (hv : v < 0 ∨ nI m ≤ v) (h : post 0) : wpX_isModule post (nI m, sC, pC, hC, iL, gL, bL, sL, fL, wL, kM, nd, nc, kd, ss, sn, hM, op, pt, ini, fin, il, gl, ba, se, fr, re, fo, wo) v := by
  refine br_c (fun _ => h) (fun hn => ?_)
  rcases hv with h1 | h1
  · exact absurd h1 hn
  · exact br_t h1 h
theorem zx_isS1 {post : Int32 → Prop} {x sy : Nat} (hm : sy ≤ 12) (hx : x < sy) (h : post 1) : wpX_isSymbol post (mC, nI sy, pC, hC, iL, gL, bL, sL, fL, wL, kM, nd, nc, kd, ss, sn, hM, op, pt, ini, fin, il, gl, ba, se, fr, re, fo, wo) (nI x) :=
  br_f (nI_pos (by omega)) (br_f (nI_ge hx (by omega)) h)
theorem zx_isS0 {post : Int32 → Prop} {v : Int32} {sy : Nat} (hv : v < 0 ∨ nI sy ≤ v) (h : post 0) : wpX_isSymbol post (mC, nI sy, pC, hC, iL, gL, bL, sL, fL, wL, kM, nd, nc, kd, ss, sn, hM, op, pt, ini, fin, il, gl, ba, se, fr, re, fo, wo) v := by
  refine br_c (fun _ => h) (fun hn => ?_)
  rcases hv with h1 | h1
  · exact absurd h1 hn
  · exact br_t h1 h
theorem zx_isH1 {post : Int32 → Prop} {x hh : Nat} (hm : hh ≤ 8) (hx : x < hh) (h : post 1) : wpX_isHandle post (mC, sC, pC, nI hh, iL, gL, bL, sL, fL, wL, kM, nd, nc, kd, ss, sn, hM, op, pt, ini, fin, il, gl, ba, se, fr, re, fo, wo) (nI x) :=
  br_f (nI_pos (by omega)) (br_f (nI_ge hx (by omega)) h)
theorem zx_isH0 {post : Int32 → Prop} {v : Int32} {hh : Nat} (hv : v < 0 ∨ nI hh ≤ v) (h : post 0) : wpX_isHandle post (mC, sC, pC, nI hh, iL, gL, bL, sL, fL, wL, kM, nd, nc, kd, ss, sn, hM, op, pt, ini, fin, il, gl, ba, se, fr, re, fo, wo) v := by
  refine br_c (fun _ => h) (fun hn => ?_)
  rcases hv with h1 | h1
  · exact absurd h1 hn
  · exact br_t h1 h
theorem zx_isL {post : Int32 → Prop} {x : Nat} {od : Nat → Option Nat} (hm : m ≤ 12) (hx : x < m) (ho : zo_lt m 12 od) (h0 : od x = none → post 0) (h1 : ∀ o, o < m → od x = some o → post 1) :
    wpX_isLoaded post (mC, sC, pC, hC, iL, gL, bL, sL, fL, wL, kM, nd, nc, kd, ss, sn, hM, zo_X od, pt, ini, fin, il, gl, ba, se, fr, re, fo, wo) (nI x) := by
  have c : (nI x).toNatClampNeg = x := nI_clamp (by omega)
  have e : zo_X od (nI x).toNatClampNeg = -7 ↔ od x = none := by rw [c]; exact zo_x7 hm (ho x (by omega))
  refine ⟨vp_in_nI (by omega) (by omega), br_c (fun h => h0 (e.mp h)) (fun h => ?_)⟩
  cases q : od x with
  | none => exact absurd (e.mpr q) h
  | some o => exact h1 o (ho x (by omega) o q) q
theorem zx_isSl1 {post : Int32 → Prop} {x i p sy : Nat} {Z : Nat → List Nat} (hm : m ≤ 12) (hp : p ≤ 4) (W : zz_Z m p sy Z sn ss) (hx : x < m) (hi : i < (Z x).length) (h : post 1) :
    wpX_isSlot post (mC, sC, pC, hC, iL, gL, bL, sL, fL, wL, kM, nd, nc, kd, ss, sn, hM, op, pt, ini, fin, il, gl, ba, se, fr, re, fo, wo) (nI x) (nI i) := by
  have c : (nI x).toNatClampNeg = x := nI_clamp (by omega)
  have h4 := (W x hx).2.2.1
  refine br_f (nI_pos (by omega)) ⟨vp_in_nI (by omega) (by omega), br_f ?_ h⟩
  rw [c, (W x hx).1]
  exact nI_ge hi (by omega)
theorem zx_isSl0 {post : Int32 → Prop} {x p sy : Nat} {v : Int32} {Z : Nat → List Nat} (hm : m ≤ 12) (W : zz_Z m p sy Z sn ss) (hx : x < m) (hv : v < 0 ∨ nI (Z x).length ≤ v) (h : post 0) :
    wpX_isSlot post (mC, sC, pC, hC, iL, gL, bL, sL, fL, wL, kM, nd, nc, kd, ss, sn, hM, op, pt, ini, fin, il, gl, ba, se, fr, re, fo, wo) (nI x) v := by
  have c : (nI x).toNatClampNeg = x := nI_clamp (by omega)
  refine br_c (fun _ => h) (fun hn => ⟨vp_in_nI (by omega) (by omega), ?_⟩)
  rcases hv with h1 | h1
  · exact absurd h1 hn
  · rw [c, (W x hx).1]
    exact br_t h1 h
theorem zx_isK {post : Int32 → Prop} {x : Nat} {P : Nat → Prop} (hx : x < 12) (hk : zb_k kM P) (h0 : ¬ P x → post 0) (h1 : P x → post 1) : wpX_isKept post (mC, sC, pC, hC, iL, gL, bL, sL, fL, wL, kM, nd, nc, kd, ss, sn, hM, op, pt, ini, fin, il, gl, ba, se, fr, re, fo, wo) (nI x) :=
  br_c (fun h => h0 ((zb_t hk (by omega)).mp h)) (fun h => h1 (Classical.byContradiction (fun n => h ((zb_t hk (by omega)).mpr n))))

/-! X: the search list -/
theorem zx_bs45 {post : Int32 → SX → Prop} {J18 : Int32 → Int32 → Int32 → zt_18} {i x : Nat} (hm : m ≤ 12) (hx : x < m) (W : zz_N m N nc nd) :
    ∀ (R L : List Nat) (j : Nat) (mk : Int32) (se : Nat → Int32), j + R.length = (N x).length → zl_A nd (x * 12 + j) R → (∀ y, y ∈ R → y < m) → zl_ok m L → zl_A se 0 L → zb_k mk (fun y => y ∈ L) →
    (∀ mk' se', zl_A se' 0 (zl_ad L R) → zb_k mk' (fun y => y ∈ zl_ad L R) → J18 mk' (nI (i + 1)) (nI (zl_ad L R).length) nd nc kd ss sn hM op pt ini fin il gl ba se' fr re fo wo) →
    (wX_buildSearch_45 post J18 (nI i) (nI x) mC sC pC hC iL gL bL fL wL kM (R.length + 1) mk (nI j) (nI L.length) nd nc kd ss sn hM op pt ini fin il gl ba se fr re fo wo) := by
  have c : (nI x).toNatClampNeg = x := nI_clamp (by omega)
  have v : vp_in (nI x) 12 := vp_in_nI (by omega) (by omega)
  have hn := (W x hx).1
  have hl := zz_N_len W hx
  intro R
  induction R with
  | nil =>
    intro L j mk se hj hA hR hL hS hk K
    rw [List.length_nil, Nat.add_zero] at hj
    rw [wX_buildSearch_45]
    dsimp only
    rw [c, hn]
    exact ⟨v, br_t (nI_le (by omega) (by omega)) (nm_r (nI_1 i) (K mk se hS hk))⟩
  | cons y R ih =>
    intro L j mk se hj hA hR hL hS hk K
    rw [List.length_cons] at hj
    obtain ⟨hA1, hA2⟩ := zl_A_cons.mp hA
    have hy : y < m := hR y List.mem_cons_self
    have hR2 : ∀ z, z ∈ R → z < m := fun z hz => hR z (List.mem_cons_of_mem y hz)
    have c2 : (nI (x * 12 + j)).toNatClampNeg = x * 12 + j := nI_clamp (by omega)
    rw [wX_buildSearch_45]
    dsimp only
    rw [c, hn]
    refine ⟨v, br_f (nI_ge (by omega) (by omega)) (zx_cell ⟨vp_in_nI (by omega) (by omega), nm_r (e' := nI y) (by rw [c2]; exact hA1) ?_⟩)⟩
    by_cases e : y ∈ L
    · rw [zl_ad_in e] at K
      exact br_f (fun h => (zb_t hk (by omega)).mp h e) (nm_r (nI_1 j) (ih L (j + 1) mk se (by omega) hA2 hR2 hL hS hk K))
    · rw [zl_ad_out e] at K
      have hlt := zl_lt hL e hy
      have e3 : (L ++ [y]).length = L.length + 1 := by rw [List.length_append]; rfl
      have h1 := ih (L ++ [y]) (j + 1) (mk ||| ((1 : Int32) <<< (nI y &&& 31))) (upd se L.length (nI y)) (by omega) hA2 hR2 (zl_push hL e hy) (zl_A_push0 hS)
        (zb_c (zb_o hk (by omega)) (fun z _ => by simp)) K
      rw [e3] at h1
      exact br_t ((zb_t hk (by omega)).mpr e) (nm_e ⟨vp_in_nI (by omega) (by omega), nm_r (e' := upd se L.length (nI y)) (by rw [nI_clamp (by omega)]) (nm_r (nI_1 _) (nm_r (nI_1 j) h1))⟩)
theorem zx_bs18 {post : Int32 → SX → Prop} (hm : m ≤ 12) (W : zz_N m N nc nd) :
    ∀ (f i : Nat) (L : List Nat) (mk : Int32) (se : Nat → Int32), i + f = m → zl_ok m L → zl_A se 0 L → zb_k mk (fun y => y ∈ L) →
    (∀ mk' se', zl_A se' 0 (zl_bf N f i L) → zb_k mk' (fun y => y ∈ zl_bf N f i L) → post mk' (nI m, sC, pC, hC, iL, gL, bL, nI (zl_bf N f i L).length, fL, wL, kM, nd, nc, kd, ss, sn, hM, op, pt, ini, fin, il, gl, ba, se', fr, re, fo, wo)) →
    (wX_buildSearch_18 post (nI m) sC pC hC iL gL bL fL wL kM (f + 1) mk (nI i) (nI L.length) nd nc kd ss sn hM op pt ini fin il gl ba se fr re fo wo) := by
  intro f
  induction f with
  | zero =>
    intro i L mk se hi hL hS hk K
    rw [wX_buildSearch_18]
    exact br_t (nI_le (by omega) (by omega)) (K mk se hS hk)
  | succ f ih =>
    intro i L mk se hi hL hS hk K
    have hl := zl_len hL
    rw [wX_buildSearch_18]
    refine br_f (nI_ge (by omega) (by omega)) ?_
    by_cases e : i < L.length
    · have e2 : L[i]? = some L[i] := List.getElem?_eq_getElem e
      have hx : L[i] < m := hL.2 _ (List.getElem_mem e)
      rw [zl_bf_some e2] at K
      refine br_f (nI_ge (by omega) (by omega)) ⟨vp_in_nI (by omega) (by omega), nm_r (e' := nI L[i]) (by rw [nI_clamp (by omega)]; exact zl_A_get hS e) ⟨(N L[i]).length + 1, ?_⟩⟩
      exact zx_bs45 hm hx W (N L[i]) L 0 mk se (by omega) (W _ hx).2.1 (zz_N_ht W _ hx) hL hS hk
        (fun mk' se' hS' hk' => ih (i + 1) _ mk' se' (by omega) (zl_ad_ok hL (zz_N_ht W _ hx)) hS' hk' K)
    · rw [zl_bf_none (List.getElem?_eq_none_iff.mpr (by omega))] at K
      exact br_t (nI_le (by omega) (by omega)) (K mk se hS hk)
theorem zx_bs {post : Int32 → SX → Prop} (hm : m ≤ 12) (W : zz_N m N nc nd) {r : Nat} (hr : r < m)
    (K : ∀ mk' se', zl_A se' 0 (zl_sl N m r) → zb_k mk' (fun y => y ∈ zl_sl N m r) → post mk' (nI m, sC, pC, hC, iL, gL, bL, nI (zl_sl N m r).length, fL, wL, kM, nd, nc, kd, ss, sn, hM, op, pt, ini, fin, il, gl, ba, se', fr, re, fo, wo)) :
    wpX_buildSearch post (nI m, sC, pC, hC, iL, gL, bL, sL, fL, wL, kM, nd, nc, kd, ss, sn, hM, op, pt, ini, fin, il, gl, ba, se, fr, re, fo, wo) (nI r) :=
  nm_e (nm_e ⟨m + 1, zx_bs18 hm W m 0 [r] _ _ (by omega) (zl_ok_one hr) (zl_A_cons.mpr ⟨pk_us, zl_A_nil⟩) (zb_c (zb_1s (by omega)) (fun z _ => by simp)) K⟩)

/-! X: the first of a kind -/
theorem zx_fs2 {post : Int32 → Prop} {s e0 : Nat} {k : Int32} (hs : s < 12) (he : e0 ≤ 12) :
    ∀ (R : List Nat) (j : Nat), j + R.length = e0 → zl_A se j R → (∀ y, y ∈ R → y < 12) → post (zf_k kd s k R) →
    (wX_firstInSearch_2 post (nI s) k mC sC pC hC iL gL bL (nI e0) fL wL kM nd nc kd ss sn hM op pt ini fin il gl ba se fr re fo wo (R.length + 1) (nI j)) := by
  intro R
  induction R with
  | nil =>
    intro j hj hA hR K
    rw [wX_firstInSearch_2]
    rw [List.length_nil] at hj
    exact br_t (nI_le (by omega) (by omega)) K
  | cons y R ih =>
    intro j hj hA hR K
    rw [List.length_cons] at hj
    obtain ⟨hA1, hA2⟩ := zl_A_cons.mp hA
    have hy : y < 12 := hR y List.mem_cons_self
    have c : (nI j).toNatClampNeg = j := nI_clamp (by omega)
    have c2 : (nI (y * 12 + s)).toNatClampNeg = y * 12 + s := nI_clamp (by omega)
    have v : vp_in (nI j) 12 := vp_in_nI (by omega) (by omega)
    rw [wX_firstInSearch_2]
    dsimp only
    rw [c, hA1]
    refine br_f (nI_ge (by omega) (by omega)) ⟨v, zx_cell ⟨vp_in_nI (by omega) (by omega), ?_⟩⟩
    rw [c2]
    rw [zf_k] at K
    by_cases e : kd (y * 12 + s) = k
    · rw [if_pos e] at K
      exact br_t e ⟨v, K⟩
    · rw [if_neg e] at K
      have h1 := ih (j + 1) (by omega) hA2 (fun z hz => hR z (List.mem_cons_of_mem y hz)) K
      exact br_f e (nm_r (nI_1 j) h1)
theorem zx_fs {post : Int32 → Prop} {s : Nat} {k : Int32} {L : List Nat} (hs : s < 12) (hL : zl_ok 12 L) (hA : zl_A se 0 L) (K : post (zf_k kd s k L)) :
    wpX_firstInSearch post (mC, sC, pC, hC, iL, gL, bL, nI L.length, fL, wL, kM, nd, nc, kd, ss, sn, hM, op, pt, ini, fin, il, gl, ba, se, fr, re, fo, wo) (nI s) k := by
  exact ⟨L.length + 1, zx_fs2 hs (zl_len hL) L 0 (by omega) hA hL.2 K⟩
theorem zx_fg2 {post : Int32 → Prop} {s e0 : Nat} {k : Int32} (hs : s < 12) (he : e0 ≤ 12) :
    ∀ (R : List Nat) (j : Nat), j + R.length = e0 → zl_A gl j R → (∀ y, y ∈ R → y < 12) → post (zf_k kd s k R) →
    (wX_firstInGlobal_2 post (nI s) k mC sC pC hC iL (nI e0) bL sL fL wL kM nd nc kd ss sn hM op pt ini fin il gl ba se fr re fo wo (R.length + 1) (nI j)) := by
  intro R
  induction R with
  | nil =>
    intro j hj hA hR K
    rw [wX_firstInGlobal_2]
    rw [List.length_nil] at hj
    exact br_t (nI_le (by omega) (by omega)) K
  | cons y R ih =>
    intro j hj hA hR K
    rw [List.length_cons] at hj
    obtain ⟨hA1, hA2⟩ := zl_A_cons.mp hA
    have hy : y < 12 := hR y List.mem_cons_self
    have c : (nI j).toNatClampNeg = j := nI_clamp (by omega)
    have c2 : (nI (y * 12 + s)).toNatClampNeg = y * 12 + s := nI_clamp (by omega)
    have v : vp_in (nI j) 12 := vp_in_nI (by omega) (by omega)
    rw [wX_firstInGlobal_2]
    dsimp only
    rw [c, hA1]
    refine br_f (nI_ge (by omega) (by omega)) ⟨v, zx_cell ⟨vp_in_nI (by omega) (by omega), ?_⟩⟩
    rw [c2]
    rw [zf_k] at K
    by_cases e : kd (y * 12 + s) = k
    · rw [if_pos e] at K
      exact br_t e ⟨v, K⟩
    · rw [if_neg e] at K
      have h1 := ih (j + 1) (by omega) hA2 (fun z hz => hR z (List.mem_cons_of_mem y hz)) K
      exact br_f e (nm_r (nI_1 j) h1)
theorem zx_fg {post : Int32 → Prop} {s : Nat} {k : Int32} {L : List Nat} (hs : s < 12) (hL : zl_ok 12 L) (hA : zl_A gl 0 L) (K : post (zf_k kd s k L)) :
    wpX_firstInGlobal post (mC, sC, pC, hC, iL, nI L.length, bL, sL, fL, wL, kM, nd, nc, kd, ss, sn, hM, op, pt, ini, fin, il, gl, ba, se, fr, re, fo, wo) (nI s) k := by
  exact ⟨L.length + 1, zx_fg2 hs (zl_len hL) L 0 (by omega) hA hL.2 K⟩
theorem zx_fsc {post : Int32 → Prop} {s : Nat} {k : Int32} {G L : List Nat} (hs : s < 12) (hG : zl_ok 12 G) (hL : zl_ok 12 L) (hA : zl_A gl 0 G) (hB : zl_A se 0 L) (K : post (zf_k kd s k (G ++ L))) :
    wpX_firstInScope post (mC, sC, pC, hC, iL, nI G.length, bL, nI L.length, fL, wL, kM, nd, nc, kd, ss, sn, hM, op, pt, ini, fin, il, gl, ba, se, fr, re, fo, wo) (nI s) k := by
  rw [zf_app G hG.2] at K
  refine zx_fg (post := _) hs hG hA ?_
  by_cases e : zf_k kd s k G = -6
  · rw [if_pos e] at K
    exact br_t e (zx_fs hs hL hB K)
  · rw [if_neg e] at K
    exact br_f e K
theorem zx_ss {post : Int32 → SX → Prop} {x o s : Nat} {G : List Nat} {od : Nat → Option Nat} (hm : m ≤ 12) (W : zz_N m N nc nd) (hx : x < m) (hs : s < 12) (ho : od x = some o) (hom : o < m) (hG : zl_ok m G) (hA : zl_A gl 0 G)
    (K : ∀ sL' se', post (zf_s kd N m G x o s) (nI m, sC, pC, hC, iL, nI G.length, bL, sL', fL, wL, kM, nd, nc, kd, ss, sn, hM, zo_X od, pt, ini, fin, il, gl, ba, se', fr, re, fo, wo)) :
    wpX_scopeSearch post (nI m, sC, pC, hC, iL, nI G.length, bL, sL, fL, wL, kM, nd, nc, kd, ss, sn, hM, zo_X od, pt, ini, fin, il, gl, ba, se, fr, re, fo, wo) (nI x) (nI s) := by
  have c2 : (nI (x * 12 + s)).toNatClampNeg = x * 12 + s := nI_clamp (by omega)
  have c : (nI x).toNatClampNeg = x := nI_clamp (by omega)
  have hop : zo_X od (nI x).toNatClampNeg = nI o := by rw [c]; show zo_x (od x) = _; rw [ho]; rfl
  unfold wpX_scopeSearch
  refine zx_cell ⟨vp_in_nI (by omega) (by omega), ?_⟩
  rw [c2, hop]
  unfold zf_s at K
  by_cases e : kd (x * 12 + s) = 3
  · rw [if_pos e] at K
    exact br_t e (K _ _)
  · rw [if_neg e] at K
    refine br_f e ⟨vp_in_nI (by omega) (by omega), zx_bs hm W hom (fun mk' se' hS hk => ?_)⟩
    have hG2 : zl_ok 12 G := ⟨hG.1, fun z hz => by have := hG.2 z hz; omega⟩
    have hL := zl_sl_ok (zz_N_ht W) hom
    have hL2 : zl_ok 12 (zl_sl N m o) := ⟨hL.1, fun z hz => by have := hL.2 z hz; omega⟩
    refine zx_fsc hs hG2 hL2 hA hS ?_
    unfold zf_c at K
    by_cases e2 : zf_k kd s 1 (G ++ zl_sl N m o) = -6
    · rw [if_pos e2] at K
      exact br_t e2 (zx_fsc hs hG2 hL2 hA hS (K _ _))
    · rw [if_neg e2] at K
      exact br_f e2 (K _ _)
end XS
end
section
/-! the rank -/
def zr_k (d : Int32) (x : Nat) : List Nat → Nat → Int32
  | [], _ => d
  | y :: ys, j => if y = x then nI j else zr_k d x ys (j + 1)
theorem zr_k_out {d : Int32} {x : Nat} : ∀ (L : List Nat) (j : Nat), x ∉ L → zr_k d x L j = d := by
  intro L
  induction L with
  | nil => intro j _; rfl
  | cons y ys ih =>
    intro j h
    rw [zr_k, if_neg (fun e : y = x => h (e ▸ List.mem_cons_self))]
    exact ih _ (fun e => h (List.mem_cons_of_mem y e))
theorem zr_k_in {d d' : Int32} {x : Nat} : ∀ (L : List Nat) (j : Nat), x ∈ L → zr_k d x L j = zr_k d' x L j ∧ ∃ i, i < j + L.length ∧ zr_k d x L j = nI i := by
  intro L
  induction L with
  | nil => intro j h; exact nomatch h
  | cons y ys ih =>
    intro j h
    rw [zr_k, zr_k, List.length_cons]
    by_cases e : y = x
    · rw [if_pos e, if_pos e]
      exact ⟨rfl, j, by omega, rfl⟩
    · rw [if_neg e, if_neg e]
      obtain ⟨h1, i, hi, h2⟩ := ih (j + 1) ((List.mem_cons.mp h).elim (fun z => absurd z.symm e) id)
      exact ⟨h1, i, by omega, h2⟩
section YS
variable {mC sC pC hC iL gL bL qL fL : Int32} {nd nc kd ss sn hM op pt il gl ba ini fin sq fr ke : Nat → Int32}
variable {m : Nat} {N : Nat → List Nat}
theorem zy_bM0 {post : Int32 → Prop} {x : Nat} (hm : m ≤ 12) (hx : x < m) (h : post 0) : wpY_badModule post (nI m, sC, pC, hC, iL, gL, bL, qL, fL, nd, nc, kd, ss, sn, hM, op, pt, il, gl, ba, ini, fin, sq, fr, ke) (nI x) :=
  br_f (nI_pos (by omega)) (br_t (nI_lt hx (by omega)) h)
theorem zy_bM1 {post : Int32 → Prop} {v : Int32} (hv : v < 0 ∨ nI m ≤ v) (h : post 1) : wpY_badModule post (nI m, sC, pC, hC, iL, gL, bL, qL, fL, nd, nc, kd, ss, sn, hM, op, pt, il, gl, ba, ini, fin, sq, fr, ke) v := by
  refine br_c (fun _ => h) (fun hn => ?_)
  rcases hv with h1 | h1
  · exact absurd h1 hn
  · exact br_f (Int32.not_lt.mpr h1) h
theorem zy_bS0 {post : Int32 → Prop} {x i p sy : Nat} {Z : Nat → List Nat} (hm : m ≤ 12) (hp : p ≤ 4) (W : zz_Z m p sy Z sn ss) (hx : x < m) (hi : i < (Z x).length) (h : post 0) :
    wpY_badSlot post (nI m, sC, pC, hC, iL, gL, bL, qL, fL, nd, nc, kd, ss, sn, hM, op, pt, il, gl, ba, ini, fin, sq, fr, ke) (nI x) (nI i) := by
  have c : (nI x).toNatClampNeg = x := nI_clamp (by omega)
  have h4 := (W x hx).2.2.1
  refine br_f (nI_pos (by omega)) (br_f (nI_ge hx (by omega)) (br_f (nI_pos (by omega)) ⟨vp_in_nI (by omega) (by omega), br_t ?_ h⟩))
  rw [c, (W x hx).1]
  exact nI_lt hi (by omega)
theorem zy_bS1 {post : Int32 → Prop} {x p sy : Nat} {v : Int32} {Z : Nat → List Nat} (hm : m ≤ 12) (W : zz_Z m p sy Z sn ss) (hx : x < m) (hv : v < 0 ∨ nI (Z x).length ≤ v) (h : post 1) :
    wpY_badSlot post (nI m, sC, pC, hC, iL, gL, bL, qL, fL, nd, nc, kd, ss, sn, hM, op, pt, il, gl, ba, ini, fin, sq, fr, ke) (nI x) v := by
  have c : (nI x).toNatClampNeg = x := nI_clamp (by omega)
  refine br_f (nI_pos (by omega)) (br_f (nI_ge hx (by omega)) (br_c (fun _ => h) (fun hn => ⟨vp_in_nI (by omega) (by omega), ?_⟩)))
  rcases hv with h1 | h1
  · exact absurd h1 hn
  · rw [c, (W x hx).1]
    exact br_f (Int32.not_lt.mpr h1) h
theorem zy_bS1' {post : Int32 → Prop} {v w : Int32} (hv : v < 0 ∨ nI m ≤ v) (h : post 1) : wpY_badSlot post (nI m, sC, pC, hC, iL, gL, bL, qL, fL, nd, nc, kd, ss, sn, hM, op, pt, il, gl, ba, ini, fin, sq, fr, ke) v w := by
  refine br_c (fun _ => h) (fun hn => ?_)
  rcases hv with h1 | h1
  · exact absurd h1 hn
  · exact br_t h1 h
theorem zy_rk2 {post : Int32 → Prop} {x e0 : Nat} (hx : x < 12) (he : e0 ≤ 12) :
    ∀ (R : List Nat) (j : Nat), j + R.length = e0 → zl_A il j R → (∀ y, y ∈ R → y < 12) → post (zr_k (-3) x R j) →
    (wY_rank_2 post (nI x) mC sC pC hC (nI e0) gL bL qL fL nd nc kd ss sn hM op pt il gl ba ini fin sq fr ke (R.length + 1) (nI j)) := by
  intro R
  induction R with
  | nil =>
    intro j hj hA hR K
    rw [List.length_nil] at hj
    rw [wY_rank_2]
    exact br_t (nI_le (by omega) (by omega)) K
  | cons y R ih =>
    intro j hj hA hR K
    rw [List.length_cons] at hj
    obtain ⟨hA1, hA2⟩ := zl_A_cons.mp hA
    have hy : y < 12 := hR y List.mem_cons_self
    have c : (nI j).toNatClampNeg = j := nI_clamp (by omega)
    rw [wY_rank_2]
    dsimp only
    rw [c, hA1]
    rw [zr_k] at K
    refine br_f (nI_ge (by omega) (by omega)) ⟨vp_in_nI (by omega) (by omega), pk_eq y x (fun e => ?_) (fun e => nm_r (nI_1 j) ?_)⟩
    · rw [if_pos e] at K; exact K
    · rw [if_neg e] at K
      exact ih (j + 1) (by omega) hA2 (fun z hz => hR z (List.mem_cons_of_mem y hz)) K
theorem zy_rk {post : Int32 → Prop} {x : Nat} {L : List Nat} (hx : x < 12) (hL : zl_ok 12 L) (hA : zl_A il 0 L) (K : post (zr_k (-3) x L 0)) :
    wpY_rank post (mC, sC, pC, hC, nI L.length, gL, bL, qL, fL, nd, nc, kd, ss, sn, hM, op, pt, il, gl, ba, ini, fin, sq, fr, ke) (nI x) :=
  ⟨L.length + 1, zy_rk2 hx (zl_len hL) L 0 (by omega) hA hL.2 K⟩
theorem zy_rkc {post : Int32 → Prop} {x : Nat} {L : List Nat} (hx : x < 12) (hL : zl_ok 12 L) (hA : zl_A il 0 L) (K1 : x ∈ L → ∀ i, i < 12 → post (nI i)) (K0 : x ∉ L → post (-3)) :
    wpY_rank post (mC, sC, pC, hC, nI L.length, gL, bL, qL, fL, nd, nc, kd, ss, sn, hM, op, pt, il, gl, ba, ini, fin, sq, fr, ke) (nI x) := by
  refine zy_rk hx hL hA ?_
  by_cases e : x ∈ L
  · obtain ⟨_, i, hi, h⟩ := zr_k_in (d := -3) (d' := -3) L 0 e
    have := zl_len hL
    rw [h]
    exact K1 e i (by omega)
  · rw [zr_k_out L 0 e]
    exact K0 e
/-- the rank's sign in front of a branch -/
theorem zy_rkL {A B : Prop} {x : Nat} {L : List Nat} (hx : x < 12) (hL : zl_ok 12 L) (hA : zl_A il 0 L) (K1 : x ∈ L → B) (K0 : x ∉ L → A) :
    wpY_rank (fun r => (r < 0 → A) ∧ (¬ r < 0 → B)) (mC, sC, pC, hC, nI L.length, gL, bL, qL, fL, nd, nc, kd, ss, sn, hM, op, pt, il, gl, ba, ini, fin, sq, fr, ke) (nI x) :=
  zy_rkc hx hL hA (fun h i hi => br_f (nI_pos (by omega)) (K1 h)) (fun h => br_t (by decide) (K0 h))
theorem zy_rkG {A B : Prop} {x : Nat} {L : List Nat} (hx : x < 12) (hL : zl_ok 12 L) (hA : zl_A il 0 L) (K1 : x ∈ L → A) (K0 : x ∉ L → B) :
    wpY_rank (fun r => (0 ≤ r → A) ∧ (¬ 0 ≤ r → B)) (mC, sC, pC, hC, nI L.length, gL, bL, qL, fL, nd, nc, kd, ss, sn, hM, op, pt, il, gl, ba, ini, fin, sq, fr, ke) (nI x) :=
  zy_rkc hx hL hA (fun h i hi => br_t (nI_pos' (by omega)) (K1 h)) (fun h => br_f (by decide) (K0 h))
theorem zy_iG2 {post : Int32 → Prop} {x e0 : Nat} (hx : x < 12) (he : e0 ≤ 12) :
    ∀ (R : List Nat) (j : Nat), j + R.length = e0 → zl_A gl j R → (∀ y, y ∈ R → y < 12) → (x ∈ R → post 1) → (x ∉ R → post 0) →
    (wY_inGlobal_2 post (nI x) mC sC pC hC iL (nI e0) bL qL fL nd nc kd ss sn hM op pt il gl ba ini fin sq fr ke (R.length + 1) (nI j)) := by
  intro R
  induction R with
  | nil =>
    intro j hj hA hR K1 K0
    rw [List.length_nil] at hj
    rw [wY_inGlobal_2]
    exact br_t (nI_le (by omega) (by omega)) (K0 (fun z => nomatch z))
  | cons y R ih =>
    intro j hj hA hR K1 K0
    rw [List.length_cons] at hj
    obtain ⟨hA1, hA2⟩ := zl_A_cons.mp hA
    have hy : y < 12 := hR y List.mem_cons_self
    have c : (nI j).toNatClampNeg = j := nI_clamp (by omega)
    rw [wY_inGlobal_2]
    dsimp only
    rw [c, hA1]
    refine br_f (nI_ge (by omega) (by omega)) ⟨vp_in_nI (by omega) (by omega), pk_eq y x (fun e => K1 (e ▸ List.mem_cons_self)) (fun e => nm_r (nI_1 j) ?_)⟩
    exact ih (j + 1) (by omega) hA2 (fun z hz => hR z (List.mem_cons_of_mem y hz)) (fun h => K1 (List.mem_cons_of_mem y h)) (fun h => K0 (fun z => (List.mem_cons.mp z).elim (fun q => e q.symm) h))
theorem zy_iG {post : Int32 → Prop} {x : Nat} {L : List Nat} (hx : x < 12) (hL : zl_ok 12 L) (hA : zl_A gl 0 L) (K1 : x ∈ L → post 1) (K0 : x ∉ L → post 0) :
    wpY_inGlobal post (mC, sC, pC, hC, iL, nI L.length, bL, qL, fL, nd, nc, kd, ss, sn, hM, op, pt, il, gl, ba, ini, fin, sq, fr, ke) (nI x) :=
  ⟨L.length + 1, zy_iG2 hx (zl_len hL) L 0 (by omega) hA hL.2 K1 K0⟩
theorem zy_iS2 {post : Int32 → Prop} {x e0 : Nat} (hx : x < 12) (he : e0 ≤ 24) :
    ∀ (R : List Nat) (j : Nat), j + R.length = e0 → zl_A sq j R → (∀ y, y ∈ R → y < 12) → (x ∈ R → post 1) → (x ∉ R → post 0) →
    (wY_inSeq_2 post (nI x) mC sC pC hC iL gL bL (nI e0) fL nd nc kd ss sn hM op pt il gl ba ini fin sq fr ke (R.length + 1) (nI j)) := by
  intro R
  induction R with
  | nil =>
    intro j hj hA hR K1 K0
    rw [List.length_nil] at hj
    rw [wY_inSeq_2]
    exact br_t (nI_le (by omega) (by omega)) (K0 (fun z => nomatch z))
  | cons y R ih =>
    intro j hj hA hR K1 K0
    rw [List.length_cons] at hj
    obtain ⟨hA1, hA2⟩ := zl_A_cons.mp hA
    have hy : y < 12 := hR y List.mem_cons_self
    have c : (nI j).toNatClampNeg = j := nI_clamp (by omega)
    rw [wY_inSeq_2]
    dsimp only
    rw [c, hA1]
    refine br_f (nI_ge (by omega) (by omega)) ⟨vp_in_nI (by omega) (by omega), pk_eq y x (fun e => K1 (e ▸ List.mem_cons_self)) (fun e => nm_r (nI_1 j) ?_)⟩
    exact ih (j + 1) (by omega) hA2 (fun z hz => hR z (List.mem_cons_of_mem y hz)) (fun h => K1 (List.mem_cons_of_mem y h)) (fun h => K0 (fun z => (List.mem_cons.mp z).elim (fun q => e q.symm) h))
theorem zy_iS {post : Int32 → Prop} {x b e0 : Nat} {L : List Nat} (he : b + L.length = e0) (hx : x < 12) (hb : b ≤ 12) (hL : zl_ok 12 L) (hA : zl_A sq b L) (K1 : x ∈ L → post 1) (K0 : x ∉ L → post 0) :
    wpY_inSeq post (mC, sC, pC, hC, iL, gL, bL, nI e0, fL, nd, nc, kd, ss, sn, hM, op, pt, il, gl, ba, ini, fin, sq, fr, ke) (nI b) (nI x) :=
  ⟨L.length + 1, zy_iS2 hx (by have := zl_len hL; omega) L b he hA hL.2 K1 K0⟩

/-! Y: the search list, behind G -/
theorem zl_12 {m : Nat} {L : List Nat} (hm : m ≤ 12) (h : zl_ok m L) : zl_ok 12 L := ⟨h.1, fun z hz => by have := h.2 z hz; omega⟩
theorem zy_as49 {post : SY → Prop} {J24 : Int32 → Int32 → zt_16} {i b x : Nat} {G : List Nat} (hm : m ≤ 12) (hx : x < m) (hG : G.length = b) (hb : b ≤ 12) (hi : i < 12) (W : zz_N m N nc nd) :
    ∀ (R L : List Nat) (j : Nat) (sq : Nat → Int32), j + R.length = (N x).length → zl_A nd (x * 12 + j) R → (∀ y, y ∈ R → y < m) → zl_ok m L → zl_A sq 0 (G ++ L) →
    (∀ sq', zl_A sq' 0 (G ++ zl_ad L R) → J24 (nI (b + i + 1)) (nI (b + (zl_ad L R).length)) nd nc kd ss sn hM op pt il gl ba ini fin sq' fr ke) →
    (wY_appendSearch_49 post J24 (nI b) (nI (b + i)) (nI x) mC sC pC hC iL gL bL fL (R.length + 1) (nI j) (nI (b + L.length)) nd nc kd ss sn hM op pt il gl ba ini fin sq fr ke) := by
  have c : (nI x).toNatClampNeg = x := nI_clamp (by omega)
  have v : vp_in (nI x) 12 := vp_in_nI (by omega) (by omega)
  have hn := (W x hx).1
  have hl := zz_N_len W hx
  intro R
  induction R with
  | nil =>
    intro L j sq hj hA hR hL hS K
    rw [List.length_nil, Nat.add_zero] at hj
    rw [wY_appendSearch_49]
    dsimp only
    rw [c, hn]
    exact ⟨v, br_t (nI_le (by omega) (by omega)) (nm_r (nI_1 (b + i)) (K sq hS))⟩
  | cons y R ih =>
    intro L j sq hj hA hR hL hS K
    rw [List.length_cons] at hj
    obtain ⟨hA1, hA2⟩ := zl_A_cons.mp hA
    have hy : y < m := hR y List.mem_cons_self
    have hR2 : ∀ z, z ∈ R → z < m := fun z hz => hR z (List.mem_cons_of_mem y hz)
    have c2 : (nI (x * 12 + j)).toNatClampNeg = x * 12 + j := nI_clamp (by omega)
    have hL2 : zl_A sq b L := by have := (zl_A_app.mp hS).2; rwa [Nat.zero_add, hG] at this
    have hlen := zl_len hL
    rw [wY_appendSearch_49]
    dsimp only
    rw [c, hn, zn_12]
    refine ⟨v, br_f (nI_ge (by omega) (by omega)) ⟨vp_in_nI (by omega) (by omega), nm_r (e' := nI y) (by rw [c2]; exact hA1) (zy_iS rfl (by omega) hb (zl_12 hm hL) hL2 (fun e => ?_) (fun e => ?_))⟩⟩
    · rw [zl_ad_in e] at K
      exact br_f (by decide) (nm_r (nI_1 j) (ih L (j + 1) sq (by omega) hA2 hR2 hL hS K))
    · rw [zl_ad_out e] at K
      have hlt := zl_lt hL e hy
      have e3 : (L ++ [y]).length = L.length + 1 := by rw [List.length_append]; rfl
      have e4 : (G ++ L).length = b + L.length := by rw [List.length_append, hG]
      have hS2 := zl_A_push0 (y := y) hS
      rw [e4, List.append_assoc] at hS2
      have h1 := ih (L ++ [y]) (j + 1) (upd sq (b + L.length) (nI y)) (by omega) hA2 hR2 (zl_push hL e hy) hS2 K
      rw [e3, ← Nat.add_assoc] at h1
      exact br_t rfl (nm_r (nI_1 _) ⟨vp_in_nI (by omega) (by omega), nm_r (e' := upd sq (b + L.length) (nI y)) (by rw [nI_clamp (by omega)]) (nm_r (nI_1 j) h1)⟩)
theorem zy_as24 {post : SY → Prop} {b : Nat} {G : List Nat} (hm : m ≤ 12) (hG : G.length = b) (hb : b ≤ 12) (W : zz_N m N nc nd) :
    ∀ (f i : Nat) (L : List Nat) (sq : Nat → Int32), i + f = m → zl_ok m L → zl_A sq 0 (G ++ L) →
    (∀ sq', zl_A sq' 0 (G ++ zl_bf N f i L) → post (mC, sC, pC, hC, iL, gL, bL, nI (b + (zl_bf N f i L).length), fL, nd, nc, kd, ss, sn, hM, op, pt, il, gl, ba, ini, fin, sq', fr, ke)) →
    (wY_appendSearch_24 post (nI b) mC sC pC hC iL gL bL fL (f + 1) (nI (b + i)) (nI (b + L.length)) nd nc kd ss sn hM op pt il gl ba ini fin sq fr ke) := by
  intro f
  induction f with
  | zero =>
    intro i L sq hi hL hS K
    have hl := zl_len hL
    rw [wY_appendSearch_24]
    exact br_t (nI_le (by omega) (by omega)) (K sq hS)
  | succ f ih =>
    intro i L sq hi hL hS K
    have hl := zl_len hL
    rw [wY_appendSearch_24]
    by_cases e : i < L.length
    · have e2 : L[i]? = some L[i] := List.getElem?_eq_getElem e
      have hx : L[i] < m := hL.2 _ (List.getElem_mem e)
      have hL2 : zl_A sq b L := by have := (zl_A_app.mp hS).2; rwa [Nat.zero_add, hG] at this
      rw [zl_bf_some e2] at K
      refine br_f (nI_ge (by omega) (by omega)) (br_f (nI_ge (b := 24) (by omega) (by decide)) ⟨vp_in_nI (by omega) (by omega), nm_r (e' := nI L[i]) (by rw [nI_clamp (by omega)]; exact hL2 i L[i] e2) ⟨(N L[i]).length + 1, ?_⟩⟩)
      exact zy_as49 hm hx hG hb (by omega) W (N L[i]) L 0 sq (by omega) (W _ hx).2.1 (zz_N_ht W _ hx) hL hS
        (fun sq' hS' => ih (i + 1) _ sq' (by omega) (zl_ad_ok hL (zz_N_ht W _ hx)) hS' K)
    · rw [zl_bf_none (List.getElem?_eq_none_iff.mpr (by omega))] at K
      exact br_t (nI_le (by omega) (by omega)) (K sq hS)
theorem zy_as {post : SY → Prop} {b : Nat} {G : List Nat} (hm : m ≤ 12) (hG : G.length = b) (hb : b ≤ 12) (W : zz_N m N nc nd) {r : Nat} (hr : r < m) (hS : zl_A sq 0 G)
    (K : ∀ sq', zl_A sq' 0 (G ++ zl_sl N m r) → post (mC, sC, pC, hC, iL, gL, bL, nI (b + (zl_sl N m r).length), fL, nd, nc, kd, ss, sn, hM, op, pt, il, gl, ba, ini, fin, sq', fr, ke)) :
    wpY_appendSearch post (mC, sC, pC, hC, iL, gL, bL, nI b, fL, nd, nc, kd, ss, sn, hM, op, pt, il, gl, ba, ini, fin, sq, fr, ke) (nI r) := by
  have hS2 := zl_A_push0 (y := r) hS
  rw [hG] at hS2
  exact nm_r (nI_1 b) ⟨vp_in_nI (by omega) (by omega), nm_r (e' := upd sq b (nI r)) (by rw [nI_clamp (by omega)]) ⟨m + 1, zy_as24 hm hG hb W m 0 [r] _ (by omega) (zl_ok_one hr) hS2 K⟩⟩
theorem zy_as0 {post : SY → Prop} (hm : m ≤ 12) (W : zz_N m N nc nd) {r : Nat} (hr : r < m)
    (K : ∀ sq', zl_A sq' 0 (zl_sl N m r) → post (mC, sC, pC, hC, iL, gL, bL, nI (zl_sl N m r).length, fL, nd, nc, kd, ss, sn, hM, op, pt, il, gl, ba, ini, fin, sq', fr, ke)) :
    wpY_appendSearch post (mC, sC, pC, hC, iL, gL, bL, 0, fL, nd, nc, kd, ss, sn, hM, op, pt, il, gl, ba, ini, fin, sq, fr, ke) (nI r) := by
  refine zy_as (b := 0) (G := []) hm rfl (by omega) W hr zl_A_nil (fun sq' h => ?_)
  rw [Nat.zero_add]
  exact K sq' h
theorem zy_rch {post : Int32 → SY → Prop} {x y : Nat} (hm : m ≤ 12) (W : zz_N m N nc nd) (hx : x < m) (hy : y < m)
    (K1 : y ∈ zl_sl N m x → ∀ q sq', post 1 (mC, sC, pC, hC, iL, gL, bL, q, fL, nd, nc, kd, ss, sn, hM, op, pt, il, gl, ba, ini, fin, sq', fr, ke)) (K0 : y ∉ zl_sl N m x → ∀ q sq', post 0 (mC, sC, pC, hC, iL, gL, bL, q, fL, nd, nc, kd, ss, sn, hM, op, pt, il, gl, ba, ini, fin, sq', fr, ke)) :
    wpY_reaches post (mC, sC, pC, hC, iL, gL, bL, qL, fL, nd, nc, kd, ss, sn, hM, op, pt, il, gl, ba, ini, fin, sq, fr, ke) (nI x) (nI y) := by
  unfold wpY_reaches
  refine zy_as0 hm W hx (fun sq' hS => ?_)
  have hL := zl_sl_ok (zz_N_ht W) hx
  exact zy_iS (b := 0) (Nat.zero_add _) (by omega) (by omega) (zl_12 hm hL) hS (fun e => ⟨rfl, K1 e _ _⟩) (fun e => ⟨rfl, K0 e _ _⟩)
/-! Y: the choice -/
theorem zy_ch45 {post : Int32 → Prop} {s e0 : Nat} (hs : s < 12) (he : e0 ≤ 24) :
    ∀ (R : List Nat) (j : Nat), j + R.length = e0 → zl_A sq j R → (∀ y, y ∈ R → y < 12) → post (zf_k kd s 2 R) →
    (wY_choice_45 post (nI s) mC sC pC hC iL gL bL (nI e0) fL nd nc kd ss sn hM op pt il gl ba ini fin sq fr ke (R.length + 1) (nI j)) := by
  intro R
  induction R with
  | nil =>
    intro j hj hA hR K
    rw [List.length_nil] at hj
    rw [wY_choice_45]
    exact br_t (nI_le (by omega) (by omega)) K
  | cons y R ih =>
    intro j hj hA hR K
    rw [List.length_cons] at hj
    obtain ⟨hA1, hA2⟩ := zl_A_cons.mp hA
    have hy : y < 12 := hR y List.mem_cons_self
    have c : (nI j).toNatClampNeg = j := nI_clamp (by omega)
    have c2 : (nI (y * 12 + s)).toNatClampNeg = y * 12 + s := nI_clamp (by omega)
    have v : vp_in (nI j) 24 := vp_in_nI (by omega) (by omega)
    rw [wY_choice_45]
    dsimp only
    rw [c, hA1, zn_12, c2]
    rw [zf_k] at K
    refine br_f (nI_ge (by omega) (by omega)) ⟨v, vp_in_nI (by omega) (by omega), ?_⟩
    by_cases e : kd (y * 12 + s) = 2
    · rw [if_pos e] at K
      exact br_t e ⟨v, K⟩
    · rw [if_neg e] at K
      exact br_f e (nm_r (nI_1 j) (ih (j + 1) (by omega) hA2 (fun z hz => hR z (List.mem_cons_of_mem y hz)) K))
theorem zy_ch2 {post : Int32 → Prop} {s e0 : Nat} (hs : s < 12) (he : e0 ≤ 24) :
    ∀ (R : List Nat) (j : Nat), j + R.length = e0 → zl_A sq j R → (∀ y, y ∈ R → y < 12) → (∀ n, zf_k kd s 1 R = nI n → n < 12 → post (nI n)) → (zf_k kd s 1 R = -6 → ∃ n45, (wY_choice_45 post (nI s) mC sC pC hC iL gL bL (nI e0) fL nd nc kd ss sn hM op pt il gl ba ini fin sq fr ke n45 0)) →
    (wY_choice_2 post (nI s) mC sC pC hC iL gL bL (nI e0) fL nd nc kd ss sn hM op pt il gl ba ini fin sq fr ke (R.length + 1) (nI j)) := by
  intro R
  induction R with
  | nil =>
    intro j hj hA hR K K2
    rw [List.length_nil] at hj
    rw [wY_choice_2]
    exact br_t (nI_le (by omega) (by omega)) (K2 rfl)
  | cons y R ih =>
    intro j hj hA hR K K2
    rw [List.length_cons] at hj
    obtain ⟨hA1, hA2⟩ := zl_A_cons.mp hA
    have hy : y < 12 := hR y List.mem_cons_self
    have c : (nI j).toNatClampNeg = j := nI_clamp (by omega)
    have c2 : (nI (y * 12 + s)).toNatClampNeg = y * 12 + s := nI_clamp (by omega)
    have v : vp_in (nI j) 24 := vp_in_nI (by omega) (by omega)
    rw [wY_choice_2]
    dsimp only
    rw [c, hA1, zn_12, c2]
    rw [zf_k] at K K2
    refine br_f (nI_ge (by omega) (by omega)) ⟨v, vp_in_nI (by omega) (by omega), ?_⟩
    by_cases e : kd (y * 12 + s) = 1
    · rw [if_pos e] at K
      exact br_t e ⟨v, K y rfl hy⟩
    · rw [if_neg e] at K K2
      exact br_f e (nm_r (nI_1 j) (ih (j + 1) (by omega) hA2 (fun z hz => hR z (List.mem_cons_of_mem y hz)) K K2))
theorem zy_ch {post : Int32 → Prop} {s : Nat} {L : List Nat} (hs : s < 12) (hl : L.length ≤ 24) (hL : ∀ x, x ∈ L → x < 12) (hA : zl_A sq 0 L) (K : post (zf_c kd s L)) :
    wpY_choice post (mC, sC, pC, hC, iL, gL, bL, nI L.length, fL, nd, nc, kd, ss, sn, hM, op, pt, il, gl, ba, ini, fin, sq, fr, ke) (nI s) := by
  refine ⟨L.length + 1, zy_ch2 hs hl L 0 (by omega) hA hL (fun n hn hn12 => ?_) (fun h6 => ⟨L.length + 1, zy_ch45 hs hl L 0 (by omega) hA hL ?_⟩)⟩
  · unfold zf_c at K
    rw [hn, if_neg (zn_m6 (by omega))] at K
    exact K
  · unfold zf_c at K
    rw [if_pos h6] at K
    exact K
theorem zy_ss36 {post : Int32 → SY → Prop} {x o s : Nat} {G : List Nat} {od : Nat → Option Nat} (hm : m ≤ 12) (W : zz_N m N nc nd) (hx : x < m) (hs : s < 12) (ho : od x = some o) (hom : o < m) (hG : zl_ok m G) 
    (K : ∀ qL' sq', post (zf_c kd s (G ++ zl_sl N m o)) (nI m, sC, pC, hC, iL, nI G.length, bL, qL', fL, nd, nc, kd, ss, sn, hM, zo_Y od, pt, il, gl, ba, ini, fin, sq', fr, ke)) :
    ∀ (R A : List Nat) (sq : Nat → Int32), G = A ++ R → zl_A gl A.length R → zl_A sq 0 A →
    (wY_scopeSearch_36 post (nI x) (nI s) (nI m) sC pC hC iL (nI G.length) bL fL (R.length + 1) (nI A.length) (nI A.length) nd nc kd ss sn hM (zo_Y od) pt il gl ba ini fin sq fr ke) := by
  have c : (nI x).toNatClampNeg = x := nI_clamp (by omega)
  have hop : zo_Y od x = nI o := by show zo_y (od x) = _; rw [ho]; rfl
  have hGl := zl_len hG
  intro R
  induction R with
  | nil =>
    intro A sq hA hR hS
    rw [List.append_nil] at hA
    rw [wY_scopeSearch_36]
    dsimp only
    rw [c, hop]
    refine br_t (nI_le (by rw [hA]; omega) (by rw [← hA]; omega)) ⟨vp_in_nI (by omega) (by omega), zy_as hm rfl (by rw [← hA]; omega) W hom hS (fun sq' hS' => ?_)⟩
    have hL := zl_sl_ok (zz_N_ht W) hom
    have hLl := zl_len hL
    have e3 : A.length + (zl_sl N m o).length = (A ++ zl_sl N m o).length := by rw [List.length_append]
    rw [← hA] at hS' ⊢
    rw [← hA] at e3
    rw [e3]
    refine zy_ch hs (by rw [← e3]; omega) (fun z hz => ?_) hS' (K _ _)
    rcases List.mem_append.mp hz with h | h
    · have := hG.2 z h; omega
    · have := hL.2 z h; omega
  | cons y R ih =>
    intro A sq hA hR hS
    obtain ⟨h1, h2⟩ := zl_A_cons.mp hR
    have hl : G.length = A.length + (R.length + 1) := by rw [hA, List.length_append, List.length_cons]
    have c2 : (nI A.length).toNatClampNeg = A.length := nI_clamp (by omega)
    have e3 : (A ++ [y]).length = A.length + 1 := by rw [List.length_append]; rfl
    have h3 := ih (A ++ [y]) (upd sq A.length (nI y)) (by rw [hA]; simp) (by rw [e3]; exact h2) (zl_A_push0 hS)
    rw [e3] at h3
    rw [wY_scopeSearch_36]
    exact br_f (nI_ge (by omega) (by omega)) (nm_r (nI_1 _) ⟨vp_in_nI (by omega) (by omega), vp_in_nI (by omega) (by omega), nm_r (e' := upd sq A.length (nI y)) (by rw [c2, h1]) (nm_r (nI_1 _) h3)⟩)
theorem zy_ss {post : Int32 → SY → Prop} {x o s j : Nat} {G : List Nat} {od : Nat → Option Nat} (hm : m ≤ 12) (W : zz_N m N nc nd) (hx : x < m) (hj : j < 4) (hsj : ss (x * 4 + j) = nI s) (hs : s < 12) (ho : od x = some o) (hom : o < m) (hG : zl_ok m G) (hA : zl_A gl 0 G)
    (K : ∀ qL' sq', post (zf_s kd N m G x o s) (nI m, sC, pC, hC, iL, nI G.length, bL, qL', fL, nd, nc, kd, ss, sn, hM, zo_Y od, pt, il, gl, ba, ini, fin, sq', fr, ke)) :
    wpY_scopeSearch post (nI m, sC, pC, hC, iL, nI G.length, bL, qL, fL, nd, nc, kd, ss, sn, hM, zo_Y od, pt, il, gl, ba, ini, fin, sq, fr, ke) (nI x) (nI j) := by
  have c4 : (nI (x * 4 + j)).toNatClampNeg = x * 4 + j := nI_clamp (by omega)
  have c2 : (nI (x * 12 + s)).toNatClampNeg = x * 12 + s := nI_clamp (by omega)
  unfold wpY_scopeSearch
  dsimp only
  rw [zn_4, c4, hsj]
  refine ⟨vp_in_nI (by omega) (by omega), nm_e ?_⟩
  rw [zn_12, c2]
  unfold zf_s at K
  refine ⟨vp_in_nI (by omega) (by omega), ?_⟩
  by_cases e : kd (x * 12 + s) = 3
  · rw [if_pos e] at K
    exact br_t e (K _ _)
  · rw [if_neg e] at K
    exact br_f e ⟨G.length + 1, zy_ss36 hm W hx hs ho hom hG K G [] sq rfl hA zl_A_nil⟩
end YS
end
section
/-! pure parts of open -/
def zo_U (f : Nat → Option Nat) (L : List Nat) (v : Option Nat) : Nat → Option Nat := fun j => if j ∈ L then v else f j
theorem zo_U_in {f : Nat → Option Nat} {L : List Nat} {v : Option Nat} {j : Nat} (h : j ∈ L) : zo_U f L v j = v := if_pos h
theorem zo_U_out {f : Nat → Option Nat} {L : List Nat} {v : Option Nat} {j : Nat} (h : j ∉ L) : zo_U f L v j = f j := if_neg h
theorem zo_U_nil {f : Nat → Option Nat} {v : Option Nat} : zo_U f [] v = f := by funext j; exact if_neg (fun h => nomatch h)
theorem zo_U_snoc {f : Nat → Option Nat} {L : List Nat} {v : Option Nat} {x : Nat} : zo_u (zo_U f L v) x v = zo_U f (L ++ [x]) v := by
  funext j
  by_cases h : j = x
  · rw [h, zo_us, zo_U_in (by simp)]
  · rw [zo_un h]
    by_cases h2 : j ∈ L
    · rw [zo_U_in h2, zo_U_in (List.mem_append_left _ h2)]
    · rw [zo_U_out h2, zo_U_out (by simp [h, h2])]
theorem zo_lt_U {m n : Nat} {f : Nat → Option Nat} {L : List Nat} {v : Option Nat} (h : zo_lt m n f) (hv : ∀ y, v = some y → y < m) : zo_lt m n (zo_U f L v) := by
  intro j hj y e
  by_cases c : j ∈ L
  · rw [zo_U_in c] at e; exact hv y e
  · rw [zo_U_out c] at e; exact h j hj y e
theorem zl_b_app : ∀ (L K : List Nat) (a : Nat → Int32), zl_b a (L ++ K) = zl_b (zl_b a L) K := by
  intro L
  induction L with
  | nil => intro K a; rfl
  | cons x L ih => intro K a; exact ih K _
theorem zl_b_snoc (L : List Nat) (a : Nat → Int32) (x : Nat) : upd (zl_b a L) x (zl_b a L x + 1) = zl_b a (L ++ [x]) := by
  rw [zl_b_app]; rfl
def zg_e (G L : List Nat) : List Nat := L.filter (fun x => decide (x ∉ G))
def zg_f (od : Nat → Option Nat) (L : List Nat) : List Nat := L.filter (fun x => (od x).isNone)
theorem zl_snoc_len (L : List Nat) (x : Nat) : (L ++ [x]).length = L.length + 1 := by rw [List.length_append]; rfl
theorem zn_m1 (n : Nat) : nI n - 1 = nI n + (-1) := Int32.sub_eq_add_neg (nI n) 1
theorem zn_neg : nI 0 + (-1) < 0 := by decide
section XO
variable {mC sC pC hC iL gL bL sL fL wL kM : Int32} {nd nc kd ss sn hM op pt ini fin il gl ba se fr re fo wo : Nat → Int32}
variable {m : Nat} {N : Nat → List Nat}
theorem zx_fh2 {post : Int32 → Prop} {hh : Nat} {hd : Nat → Option Nat} (hm : m ≤ 12) (h8 : hh ≤ 8) (hl : zo_lt m 8 hd) :
    ∀ d j, j + d = hh → post (zo_x (zo_f hd d j)) → (wX_freeHandle_2 post mC sC pC (nI hh) iL gL bL sL fL wL kM nd nc kd ss sn (zo_X hd) op pt ini fin il gl ba se fr re fo wo (d + 1) (nI j)) := by
  intro d
  induction d with
  | zero =>
    intro j hj K
    rw [wX_freeHandle_2]
    exact br_t (nI_le (by omega) (by omega)) K
  | succ d ih =>
    intro j hj K
    have c : (nI j).toNatClampNeg = j := nI_clamp (by omega)
    have e : zo_X hd j = -7 ↔ hd j = none := zo_x7 hm (hl j (by omega))
    rw [wX_freeHandle_2]
    dsimp only
    rw [c]
    refine br_f (nI_ge (by omega) (by omega)) ⟨vp_in_nI (by omega) (by omega), ?_⟩
    cases q : hd j with
    | none =>
      rw [zo_f_n q] at K
      exact br_t (e.mpr q) K
    | some y =>
      rw [zo_f_s q] at K
      exact br_f (fun z => by rw [e.mp z] at q; exact nomatch q) (nm_r (nI_1 j) (ih (j + 1) (by omega) K))
theorem zx_fh {post : Int32 → Prop} {hh : Nat} {hd : Nat → Option Nat} (hm : m ≤ 12) (h8 : hh ≤ 8) (hl : zo_lt m 8 hd) (K : post (zo_x (zo_f hd hh 0))) :
    wpX_freeHandle post (mC, sC, pC, nI hh, iL, gL, bL, sL, fL, wL, kM, nd, nc, kd, ss, sn, zo_X hd, op, pt, ini, fin, il, gl, ba, se, fr, re, fo, wo) := ⟨hh + 1, zx_fh2 hm h8 hl hh 0 (by omega) K⟩
theorem zx_lf7 {post : SX → Prop} {r e0 : Nat} {od : Nat → Option Nat} (hm : m ≤ 12) (hr : r < m) (he : e0 ≤ 12) (ho : zo_lt m 12 od) :
    ∀ (R : List Nat) (j : Nat) (F : List Nat) (fr : Nat → Int32), j + R.length = e0 → zl_A se j R → zl_ok m R → zl_ok m F → (∀ x, x ∈ R → x ∉ F) → zl_A fr 0 F →
    (∀ fr', zl_A fr' 0 (F ++ zg_f od R) → post (mC, sC, pC, hC, iL, gL, bL, nI e0, nI (F ++ zg_f od R).length, wL, kM, nd, nc, kd, ss, sn, hM, zo_X (zo_U od (F ++ zg_f od R) (some r)), pt, ini, fin, il, gl, ba, se, fr', re, fo, wo)) →
    (wX_loadFresh_7 post (nI r) mC sC pC hC iL gL bL (nI e0) wL kM (R.length + 1) (nI j) (nI F.length) nd nc kd ss sn hM (zo_X (zo_U od F (some r))) pt ini fin il gl ba se fr re fo wo) := by
  intro R
  induction R with
  | nil =>
    intro j F fr hj hA hR hF hd hS K
    rw [List.length_nil] at hj
    rw [show zg_f od [] = [] from rfl, List.append_nil] at K
    rw [wX_loadFresh_7]
    exact br_t (nI_le (by omega) (by omega)) (K fr hS)
  | cons x R ih =>
    intro j F fr hj hA hR hF hd hS K
    rw [List.length_cons] at hj
    obtain ⟨hA1, hA2⟩ := zl_A_cons.mp hA
    obtain ⟨hx, hxR, hR2⟩ := zl_ok_cons hR
    have hxF := hd x List.mem_cons_self
    have c : (nI j).toNatClampNeg = j := nI_clamp (by omega)
    have ev : zo_U od F (some r) x = od x := zo_U_out hxF
    rw [wX_loadFresh_7]
    dsimp only
    rw [c, hA1]
    refine br_f (nI_ge (by omega) (by omega)) ⟨vp_in_nI (by omega) (by omega), nm_e (zx_isL hm hx (zo_lt_U ho (fun y e => by injection e with e; omega)) (fun h => br_t rfl ?_) (fun o _ h => br_f (by decide) (nm_r (nI_1 j) ?_)))⟩
    · rw [ev] at h
      have e2 : zg_f od (x :: R) = x :: zg_f od R := by unfold zg_f; rw [List.filter_cons, h]; rfl
      rw [e2, List.append_cons] at K
      have hlt := zl_lt hF hxF hx
      have h1 := ih (j + 1) (F ++ [x]) (upd fr F.length (nI x)) (by omega) hA2 hR2 (zl_push hF hxF hx) (fun z hz hz2 => (List.mem_append.mp hz2).elim (hd z (List.mem_cons_of_mem x hz)) (fun q => by simp at q; exact hxR (q ▸ hz))) (zl_A_push0 hS) K
      rw [zl_snoc_len] at h1
      exact ⟨vp_in_nI (by omega) (by omega), nm_r (e' := zo_X (zo_U od (F ++ [x]) (some r))) (by rw [nI_clamp (by omega), ← zo_U_snoc, ← zo_Xu]; rfl)
        ⟨vp_in_nI (by omega) (by omega), nm_r (e' := upd fr F.length (nI x)) (by rw [nI_clamp (by omega)]) (nm_r (nI_1 _) (nm_r (nI_1 j) h1))⟩⟩
    · rw [ev] at h
      have e2 : zg_f od (x :: R) = zg_f od R := by unfold zg_f; rw [List.filter_cons, h]; rfl
      rw [e2] at K
      exact ih (j + 1) F fr (by omega) hA2 hR2 hF (fun z hz => hd z (List.mem_cons_of_mem x hz)) hS K
theorem zx_lf {post : SX → Prop} {r : Nat} {L : List Nat} {od : Nat → Option Nat} (hm : m ≤ 12) (hr : r < m) (ho : zo_lt m 12 od) (hL : zl_ok m L) (hA : zl_A se 0 L)
    (K : ∀ fr', zl_A fr' 0 (zg_f od L) → post (mC, sC, pC, hC, iL, gL, bL, nI L.length, nI (zg_f od L).length, wL, kM, nd, nc, kd, ss, sn, hM, zo_X (zo_U od (zg_f od L) (some r)), pt, ini, fin, il, gl, ba, se, fr', re, fo, wo)) :
    wpX_loadFresh post (mC, sC, pC, hC, iL, gL, bL, nI L.length, fL, wL, kM, nd, nc, kd, ss, sn, hM, zo_X od, pt, ini, fin, il, gl, ba, se, fr, re, fo, wo) (nI r) := by
  have hl := zl_len hL
  refine ⟨L.length + 1, ?_⟩
  have e : zo_X od = zo_X (zo_U od [] (some r)) := by rw [zo_U_nil]
  rw [e]
  exact zx_lf7 hm hr (by omega) ho L 0 [] fr (by omega) hA hL zl_ok_nil (fun x _ h => nomatch h) zl_A_nil K
theorem zx_eg31 {post : SX → Prop} {e0 : Nat} {G : List Nat} {mk : Int32} (hm : m ≤ 12) (he : e0 ≤ 12) (hk : zb_k mk (fun y => y ∈ G)) :
    ∀ (R : List Nat) (j : Nat) (E : List Nat), j + R.length = e0 → zl_A se j R → zl_ok m R → zl_ok m (G ++ E) → (∀ x, x ∈ R → x ∉ E) →
    post (mC, sC, pC, hC, iL, nI (G.length + (E ++ zg_e G R).length), bL, nI e0, fL, wL, kM, nd, nc, kd, ss, sn, hM, op, pt, ini, fin, il, zl_w gl G.length (E ++ zg_e G R), ba, se, fr, re, fo, wo) →
    (wX_extendGlobal_31 post mk mC sC pC hC iL bL (nI e0) fL wL kM (R.length + 1) (nI j) (nI (G.length + E.length)) nd nc kd ss sn hM op pt ini fin il (zl_w gl G.length E) ba se fr re fo wo) := by
  intro R
  induction R with
  | nil =>
    intro j E hj hA hR hE hd K
    rw [List.length_nil] at hj
    rw [show zg_e G [] = [] from rfl, List.append_nil] at K
    rw [wX_extendGlobal_31]
    exact br_t (nI_le (by omega) (by omega)) K
  | cons x R ih =>
    intro j E hj hA hR hE hd K
    rw [List.length_cons] at hj
    obtain ⟨hA1, hA2⟩ := zl_A_cons.mp hA
    obtain ⟨hx, hxR, hR2⟩ := zl_ok_cons hR
    have hxE := hd x List.mem_cons_self
    have c : (nI j).toNatClampNeg = j := nI_clamp (by omega)
    rw [wX_extendGlobal_31]
    dsimp only
    rw [c, hA1]
    refine br_f (nI_ge (by omega) (by omega)) ⟨vp_in_nI (by omega) (by omega), nm_e ?_⟩
    by_cases e : x ∈ G
    · have e2 : zg_e G (x :: R) = zg_e G R := by unfold zg_e; rw [List.filter_cons, if_neg (by simp [e])]
      rw [e2] at K
      exact br_f (fun h => (zb_t hk (by omega)).mp h e) (nm_r (nI_1 j) (ih (j + 1) E (by omega) hA2 hR2 hE (fun z hz => hd z (List.mem_cons_of_mem x hz)) K))
    · have e2 : zg_e G (x :: R) = x :: zg_e G R := by unfold zg_e; rw [List.filter_cons, if_pos (by simp [e])]
      rw [e2, List.append_cons] at K
      have hn : x ∉ G ++ E := by simp [e, hxE]
      have hlt := zl_lt hE hn hx
      rw [List.length_append] at hlt
      have hE2 := zl_push hE hn hx
      rw [List.append_assoc] at hE2
      have h1 := ih (j + 1) (E ++ [x]) (by omega) hA2 hR2 hE2 (fun z hz hz2 => (List.mem_append.mp hz2).elim (hd z (List.mem_cons_of_mem x hz)) (fun q => by simp at q; exact hxR (q ▸ hz))) K
      rw [zl_snoc_len, ← Nat.add_assoc, ← zl_w_snoc] at h1
      exact br_t ((zb_t hk (by omega)).mpr e) ⟨vp_in_nI (by omega) (by omega), nm_r (e' := upd (zl_w gl G.length E) (G.length + E.length) (nI x)) (by rw [nI_clamp (by omega)]) (nm_r (nI_1 _) (nm_r (nI_1 j) h1))⟩
theorem zx_eg4 {post : SX → Prop} {G : List Nat} (hm : m ≤ 12) (hG : zl_ok m G)
    (K : ∀ mk, zb_k mk (fun y => y ∈ G) → ∃ n31, (wX_extendGlobal_31 post mk mC sC pC hC iL bL sL fL wL kM n31 0 (nI G.length) nd nc kd ss sn hM op pt ini fin il gl ba se fr re fo wo)) :
    ∀ (R A : List Nat) (mk : Int32), G = A ++ R → zl_A gl A.length R → zb_k mk (fun y => y ∈ A) → (wX_extendGlobal_4 post mC sC pC hC iL (nI G.length) bL sL fL wL kM nd nc kd ss sn hM op pt ini fin il gl ba se fr re fo wo (R.length + 1) mk (nI A.length)) := by
  have hl := zl_len hG
  intro R
  induction R with
  | nil =>
    intro A mk hA _ hk
    rw [List.append_nil] at hA
    rw [wX_extendGlobal_4]
    exact br_t (nI_le (by rw [hA]; omega) (by rw [← hA]; omega)) (K mk (hA ▸ hk))
  | cons y R ih =>
    intro A mk hA hR hk
    obtain ⟨h1, h2⟩ := zl_A_cons.mp hR
    have hlen : G.length = A.length + (R.length + 1) := by rw [hA, List.length_append, List.length_cons]
    have hy : y < m := hG.2 y (by rw [hA]; simp)
    have c : (nI A.length).toNatClampNeg = A.length := nI_clamp (by omega)
    have h3 := ih (A ++ [y]) (mk ||| ((1 : Int32) <<< (nI y &&& 31))) (by rw [hA]; simp) (by rw [zl_snoc_len]; exact h2) (zb_c (zb_o hk (by omega)) (fun z _ => by simp))
    rw [zl_snoc_len] at h3
    rw [wX_extendGlobal_4]
    dsimp only
    rw [c, h1]
    exact br_f (nI_ge (by omega) (by omega)) ⟨vp_in_nI (by omega) (by omega), nm_e (nm_r (nI_1 _) h3)⟩
theorem zx_eg {post : SX → Prop} {G L : List Nat} (hm : m ≤ 12) (hG : zl_ok m G) (hA : zl_A gl 0 G) (hL : zl_ok m L) (hS : zl_A se 0 L)
    (K : post (mC, sC, pC, hC, iL, nI (G.length + (zg_e G L).length), bL, nI L.length, fL, wL, kM, nd, nc, kd, ss, sn, hM, op, pt, ini, fin, il, zl_w gl G.length (zg_e G L), ba, se, fr, re, fo, wo)) :
    wpX_extendGlobal post (mC, sC, pC, hC, iL, nI G.length, bL, nI L.length, fL, wL, kM, nd, nc, kd, ss, sn, hM, op, pt, ini, fin, il, gl, ba, se, fr, re, fo, wo) := by
  have hl := zl_len hL
  refine ⟨G.length + 1, zx_eg4 hm hG (fun mk hk => ⟨L.length + 1, ?_⟩) G [] 0 rfl hA (zb_c zb_0 (fun z _ => by simp))⟩
  exact zx_eg31 (E := []) hm (by omega) hk L 0 (by omega) hS hL (by rw [List.append_nil]; exact hG) (fun x _ h => nomatch h) K
/-! X: which one is ready -/
theorem zx_rd12 {post : Int32 → Prop} {x e0 : Nat} {R : Nat → List Nat} {P : Nat → Prop} {ah : Int32} (he : e0 ≤ 12) (hx : x < 12) (hk : zb_k ah P) :
    ∀ (Q : List Nat) (j : Nat), j + Q.length = e0 → zl_A fr j Q → (∀ y, y ∈ Q → y < 12 ∧ zb_k (re y) (fun z => z ∈ R y)) → ((∀ y, y ∈ Q → P y → x ∈ R y) → post 1) → ((¬ ∀ y, y ∈ Q → P y → x ∈ R y) → post 0) →
    (wX_isReady_12 post (nI x) ah mC sC pC hC iL gL bL sL (nI e0) wL kM nd nc kd ss sn hM op pt ini fin il gl ba se fr re fo wo (Q.length + 1) (nI j)) := by
  intro Q
  induction Q with
  | nil =>
    intro j hj hA hQ K1 K0
    rw [List.length_nil] at hj
    rw [wX_isReady_12]
    exact br_t (nI_le (by omega) (by omega)) (K1 (fun y hy => nomatch hy))
  | cons y Q ih =>
    intro j hj hA hQ K1 K0
    rw [List.length_cons] at hj
    obtain ⟨hA1, hA2⟩ := zl_A_cons.mp hA
    obtain ⟨hy, hky⟩ := hQ y List.mem_cons_self
    have c : (nI j).toNatClampNeg = j := nI_clamp (by omega)
    have c2 : (nI y).toNatClampNeg = y := nI_clamp (by omega)
    have h1 := fun (g : P y → x ∈ R y) => ih (j + 1) (by omega) hA2 (fun z hz => hQ z (List.mem_cons_of_mem y hz))
      (fun h => K1 (fun z hz => (List.mem_cons.mp hz).elim (fun e => e ▸ g) (h z))) (fun h => K0 (fun h2 => h (fun z hz => h2 z (List.mem_cons_of_mem y hz))))
    rw [wX_isReady_12]
    dsimp only
    rw [c, hA1]
    refine br_f (nI_ge (by omega) (by omega)) ⟨vp_in_nI (by omega) (by omega), nm_e ?_⟩
    rw [c2]
    by_cases e : P y
    · refine br_f (fun h => (zb_t hk (by omega)).mp h e) ⟨vp_in_nI (by omega) (by omega), ?_⟩
      by_cases e2 : x ∈ R y
      · exact br_f (fun h => (zb_t hky (by omega)).mp h e2) (nm_r (nI_1 j) (h1 (fun _ => e2)))
      · exact br_t ((zb_t hky (by omega)).mpr e2) (K0 (fun h => e2 (h y List.mem_cons_self e)))
    · exact br_t ((zb_t hk (by omega)).mpr e) (nm_r (nI_1 j) (h1 (fun h => absurd h e)))
theorem zx_rd {post : Int32 → Prop} {x : Nat} {R : Nat → List Nat} {FL D : List Nat} {mk : Int32} (hF : zl_ok 12 FL) (hx : x ∈ FL) (hA : zl_A fr 0 FL) (hR : ∀ y, y ∈ FL → zb_k (re y) (fun z => z ∈ R y)) (hk : zb_k mk (fun y => y ∈ FL ∧ y ∉ D))
    (hxD : x ∉ D) (K1 : zr_r R FL D x = true → post 1) (K0 : ¬ zr_r R FL D x = true → post 0) : wpX_isReady post (mC, sC, pC, hC, iL, gL, bL, sL, nI FL.length, wL, kM, nd, nc, kd, ss, sn, hM, op, pt, ini, fin, il, gl, ba, se, fr, re, fo, wo) (nI x) mk := by
  have hx12 := hF.2 x hx
  have c : (nI x).toNatClampNeg = x := nI_clamp (by omega)
  have e : (∀ y, y ∈ FL → ((y ∈ FL ∧ y ∉ D) ∧ y ∈ R x) → x ∈ R y) ↔ zr_r R FL D x = true := by
    rw [zr_r_iff]
    exact ⟨fun h => ⟨hxD, fun y a b d => h y a ⟨⟨a, b⟩, d⟩⟩, fun h y a b => h.2 y a b.1.2 b.2⟩
  refine ⟨vp_in_nI (by omega) (by omega), nm_r (e' := mk &&& re x) (by rw [c]) ⟨FL.length + 1, ?_⟩⟩
  exact zx_rd12 (zl_len hF) hx12 (zb_a hk (hR x hx)) FL 0 (by omega) hA (fun y hy => ⟨hF.2 y hy, hR y hy⟩) (fun h => K1 (e.mp h)) (fun h => K0 (fun z => h (e.mpr z)))
theorem zx_lr7 {post : Int32 → Prop} {R : Nat → List Nat} {FL D : List Nat} {mk : Int32} (hF : zl_ok 12 FL) (hA : zl_A fr 0 FL) (hR : ∀ y, y ∈ FL → zb_k (re y) (fun z => z ∈ R y)) (hk : zb_k mk (fun y => y ∈ FL ∧ y ∉ D)) :
    ∀ (Q : List Nat) (l : Nat), Q.length = l → l ≤ 12 → zl_A fr 0 Q.reverse → (∀ x, x ∈ Q → x ∈ FL) → post (zo_x (Q.find? (zr_r R FL D))) → (wX_lastReady_7 post mk mC sC pC hC iL gL bL sL (nI FL.length) wL kM nd nc kd ss sn hM op pt ini fin il gl ba se fr re fo wo (l + 1) (nI l + (-1))) := by
  intro Q
  induction Q with
  | nil =>
    intro l e _ _ _ K
    subst e
    rw [wX_lastReady_7]
    exact br_t zn_neg K
  | cons x Q ih =>
    intro l el hl hQ hs K
    subst el
    rw [List.length_cons] at hl
    rw [List.reverse_cons, zl_A_app, zl_A_cons, Nat.zero_add, List.length_reverse] at hQ
    have hx := hs x List.mem_cons_self
    have hx12 := hF.2 x hx
    have c : (nI Q.length).toNatClampNeg = Q.length := nI_clamp (by omega)
    have h1 := ih Q.length rfl (by omega) hQ.1 (fun z hz => hs z (List.mem_cons_of_mem x hz))
    rw [List.length_cons, pk_m1, wX_lastReady_7]
    dsimp only
    rw [c, hQ.2.1]
    refine br_f (nI_pos (by omega)) ⟨vp_in_nI (by omega) (by omega), nm_e ?_⟩
    by_cases e : x ∈ D
    · have e2 : zr_r R FL D x = false := by
        cases q : zr_r R FL D x with
        | false => rfl
        | true => exact absurd e (zr_r_iff.mp q).1
      rw [List.find?_cons, e2] at K
      exact br_t ((zb_t hk (by omega)).mpr (fun h => h.2 e)) (nm_e (h1 K))
    · refine br_f (fun h => (zb_t hk (by omega)).mp h ⟨hx, e⟩) (zx_rd hF hx hA hR hk e (fun h => br_f (by decide) ?_) (fun h => br_t rfl (nm_e (h1 ?_))))
      · rw [List.find?_cons, h] at K
        exact K
      · rw [List.find?_cons, Bool.eq_false_iff.mpr h] at K
        exact K
theorem zx_lr {post : Int32 → Prop} {R : Nat → List Nat} {FL D : List Nat} {mk : Int32} (hF : zl_ok 12 FL) (hA : zl_A fr 0 FL) (hR : ∀ y, y ∈ FL → zb_k (re y) (fun z => z ∈ R y)) (hk : zb_k mk (fun y => y ∈ FL ∧ y ∉ D))
    (K : post (zo_x (zr_n R FL D))) : wpX_lastReady post (mC, sC, pC, hC, iL, gL, bL, sL, nI FL.length, wL, kM, nd, nc, kd, ss, sn, hM, op, pt, ini, fin, il, gl, ba, se, fr, re, fo, wo) mk := by
  have h := zl_len hF
  refine nm_r (e' := nI FL.length + (-1)) (zn_m1 _) ⟨FL.length + 1, ?_⟩
  exact zx_lr7 hF hA hR hk FL.reverse FL.length List.length_reverse h (by rw [List.reverse_reverse]; exact hA) (fun x hx => List.mem_reverse.mp hx) K
theorem zx_in {post : SX → Prop} {a b x : Nat} (ha : a < 12) (hb : b < 12) (hx : x < 12)
    (K : post (mC, sC, pC, hC, nI (a + 1), gL, nI (b + 1), sL, fL, wL, kM, nd, nc, kd, ss, sn, hM, op, pt, upd ini x (ini x + 1), fin, upd il a (nI x), gl, upd ba b (nI x), se, fr, re, fo, wo)) : wpX_initialise post (mC, sC, pC, hC, nI a, gL, nI b, sL, fL, wL, kM, nd, nc, kd, ss, sn, hM, op, pt, ini, fin, il, gl, ba, se, fr, re, fo, wo) (nI x) := by
  have ca : (nI a).toNatClampNeg = a := nI_clamp (by omega)
  have cb : (nI b).toNatClampNeg = b := nI_clamp (by omega)
  have cx : (nI x).toNatClampNeg = x := nI_clamp (by omega)
  have v : vp_in (nI x) 12 := vp_in_nI hx (by omega)
  exact ⟨vp_in_nI ha (by omega), nm_r (e' := upd il a (nI x)) (by rw [ca]) (nm_r (nI_1 a) ⟨v, v, nm_r (e' := upd ini x (ini x + 1)) (by rw [cx]) ⟨vp_in_nI hb (by omega), nm_r (e' := upd ba b (nI x)) (by rw [cb]) (nm_r (nI_1 b) K)⟩⟩)⟩
theorem zx_if49 {post : SX → Prop} {R : Nat → List Nat} {FL IL : List Nat} (hm : m ≤ 12) (hF : zl_ok m FL) (hI : zl_ok m IL) (hd : ∀ x, x ∈ FL → x ∉ IL) (hA : zl_A fr 0 FL) (hR : ∀ y, y ∈ FL → zb_k (re y) (fun z => z ∈ R y))
    (hr : ∀ x, x ∈ FL → x ∈ R x) (htr : ∀ x y z, x ∈ FL → y ∈ R x → z ∈ R y → z ∈ R x) :
    ∀ (k : Nat) (D : List Nat) (mk : Int32), D.length + k = FL.length → zl_ok m D → (∀ x, x ∈ D → x ∈ FL) → zb_k mk (fun y => y ∈ FL ∧ y ∉ D) →
    post (mC, sC, pC, hC, nI (IL.length + (zr_go R FL k D).length), gL, nI (zr_go R FL k D).length, sL, nI FL.length, wL, kM, nd, nc, kd, ss, sn, hM, op, pt, zl_b ini (zr_go R FL k D), fin, zl_w il IL.length (zr_go R FL k D), gl, zl_w ba 0 (zr_go R FL k D), se, fr, re, fo, wo) →
    (wX_initialiseFresh_49 post (k + 1) mk (nI D.length) mC sC pC hC (nI (IL.length + D.length)) gL (nI D.length) sL (nI FL.length) wL kM nd nc kd ss sn hM op pt (zl_b ini D) fin (zl_w il IL.length D) gl (zl_w ba 0 D) se fr re fo wo) := by
  have hl := zl_len hF
  intro k
  induction k with
  | zero =>
    intro D mk hk hD hs hb K
    rw [wX_initialiseFresh_49]
    exact br_t (nI_le (by omega) (by omega)) K
  | succ k ih =>
    intro D mk hk hD hs hb K
    obtain ⟨x, hx⟩ := zr_some hF.1 hr htr (D := D) (by omega)
    obtain ⟨hxF, hxD⟩ := zr_n_in hx
    have hxm := hF.2 x hxF
    rw [zr_go_s hx] at K
    have hID : zl_ok m (IL ++ D) := zl_ok_app hI hD (fun z h1 h2 => hd z (hs z h2) h1)
    have hlt := zl_lt hID (fun h => (List.mem_append.mp h).elim (hd x hxF) hxD) hxm
    rw [List.length_append] at hlt
    rw [wX_initialiseFresh_49]
    refine br_f (nI_ge (by omega) (by omega)) (zx_lr (R := R) (D := D) (zl_12 hm hF) hA hR hb ?_)
    rw [hx]
    refine br_f (zn_m7 (by omega)) (nm_e (zx_in (by omega) (by omega) (by omega) (nm_r (nI_1 _) ?_)))
    have h1 := ih (D ++ [x]) (mk &&& (((1 : Int32) <<< (nI x &&& 31)) ^^^ (-1))) (by rw [zl_snoc_len]; omega) (zl_push hD hxD hxm) (fun z hz => (List.mem_append.mp hz).elim (hs z) (fun q => by simp at q; rw [q]; exact hxF))
      (zb_c (zb_n hb (by omega)) (fun z _ => by simp [and_assoc])) K
    rw [zl_snoc_len, ← zl_w_snoc, ← zl_w_snoc, ← zl_b_snoc, Nat.zero_add, ← Nat.add_assoc] at h1
    exact h1
theorem zx_if4 {post : SX → Prop} {FL : List Nat} (hm : m ≤ 12) (W : zz_N m N nc nd) (hF : zl_ok m FL) (hA : zl_A fr 0 FL) :
    ∀ (Q A : List Nat) (mk sL : Int32) (se re : Nat → Int32), FL = A ++ Q → zb_k mk (fun y => y ∈ A) → (∀ y, y ∈ A → zb_k (re y) (fun z => z ∈ zl_sl N m y)) →
    (∀ mk' sL' se' re', zb_k mk' (fun y => y ∈ FL) → (∀ y, y ∈ FL → zb_k (re' y) (fun z => z ∈ zl_sl N m y)) → ∃ n49, (wX_initialiseFresh_49 post n49 mk' 0 (nI m) sC pC hC iL gL 0 sL' (nI FL.length) wL kM nd nc kd ss sn hM op pt ini fin il gl ba se' fr re' fo wo)) →
    (wX_initialiseFresh_4 post (Q.length + 1) mk (nI A.length) (nI m) sC pC hC iL gL bL sL (nI FL.length) wL kM nd nc kd ss sn hM op pt ini fin il gl ba se fr re fo wo) := by
  have hl := zl_len hF
  intro Q
  induction Q with
  | nil =>
    intro A mk sL se re hQ hk hR K
    rw [List.append_nil] at hQ
    rw [wX_initialiseFresh_4]
    exact br_t (nI_le (by rw [hQ]; omega) (by rw [← hQ]; omega)) (K mk sL se re (hQ ▸ hk) (hQ ▸ hR))
  | cons x Q ih =>
    intro A mk sL se re hQ hk hR K
    have hlen : FL.length = A.length + (Q.length + 1) := by rw [hQ, List.length_append, List.length_cons]
    have hx : x ∈ FL := by rw [hQ]; simp
    have hxm := hF.2 x hx
    have c : (nI A.length).toNatClampNeg = A.length := nI_clamp (by omega)
    have hxA : x ∉ A := by
      have h1 := hF.1
      rw [hQ, List.nodup_append] at h1
      exact fun h => h1.2.2 x h x List.mem_cons_self rfl
    have hg : fr A.length = nI x := by
      have h1 := hA
      rw [hQ, zl_A_app, zl_A_cons, Nat.zero_add] at h1
      exact h1.2.1
    rw [wX_initialiseFresh_4]
    dsimp only
    rw [c, hg]
    refine br_f (nI_ge (by omega) (by omega)) ⟨vp_in_nI (by omega) (by omega), nm_e (zx_bs hm W hxm (fun mk' se' hS hk' => ⟨vp_in_nI (by omega) (by omega), nm_r (e' := upd re x mk') (by rw [nI_clamp (by omega)]) (nm_e (nm_r (nI_1 _) ?_))⟩))⟩
    have h1 := ih (A ++ [x]) (mk ||| ((1 : Int32) <<< (nI x &&& 31))) (nI (zl_sl N m x).length) se' (upd re x mk') (by rw [hQ]; simp) (zb_c (zb_o hk (by omega)) (fun z _ => by simp))
      (fun y hy => by
        by_cases e : y = x
        · rw [e, pk_us]; exact hk'
        · rw [pk_un e]; exact hR y ((List.mem_append.mp hy).elim id (fun q => by simp at q; exact absurd q e))) K
    rw [zl_snoc_len] at h1
    exact h1
theorem zx_if {post : SX → Prop} {FL IL : List Nat} (hm : m ≤ 12) (W : zz_N m N nc nd) (hF : zl_ok m FL) (hI : zl_ok m IL) (hd : ∀ x, x ∈ FL → x ∉ IL) (hA : zl_A fr 0 FL)
    (K : ∀ sL' se' re', post (nI m, sC, pC, hC, nI (IL.length + (zr_go (zl_sl N m) FL FL.length []).length), gL, nI (zr_go (zl_sl N m) FL FL.length []).length, sL', nI FL.length, wL, kM, nd, nc, kd, ss, sn, hM, op, pt, zl_b ini (zr_go (zl_sl N m) FL FL.length []), fin, zl_w il IL.length (zr_go (zl_sl N m) FL FL.length []), gl, zl_w ba 0 (zr_go (zl_sl N m) FL FL.length []), se', fr, re', fo, wo)) :
    wpX_initialiseFresh post (nI m, sC, pC, hC, nI IL.length, gL, bL, sL, nI FL.length, wL, kM, nd, nc, kd, ss, sn, hM, op, pt, ini, fin, il, gl, ba, se, fr, re, fo, wo) := by
  refine ⟨FL.length + 1, zx_if4 hm W hF hA FL [] 0 _ _ _ rfl (zb_c zb_0 (fun z _ => by simp)) (fun y hy => nomatch hy) (fun mk' sL' se' re' hk hR => ⟨FL.length + 1, ?_⟩)⟩
  exact zx_if49 hm hF hI hd hA hR (fun x _ => zl_sl_self) (fun x y z hx h1 h2 => zl_sl_trans (zz_N_ht W) (hF.2 x hx) h1 h2) FL.length [] mk' (by rw [List.length_nil]; omega) zl_ok_nil (fun x h => nomatch h) (zb_c hk (fun z _ => by simp)) (K _ _ _)
end XO
end
section
/-! Y: open -/
def zr_f (p : Nat → Bool) : Option Nat → List Nat → Option Nat
  | acc, [] => acc
  | acc, x :: Q => zr_f p (if p x = true then some x else acc) Q
theorem zr_f_or (p : Nat → Bool) : ∀ (Q : List Nat) (acc : Option Nat), zr_f p acc Q = (Q.reverse.find? p).or acc := by
  intro Q
  induction Q with
  | nil => intro acc; rfl
  | cons x Q ih =>
    intro acc
    rw [zr_f, ih, List.reverse_cons, List.find?_append, Option.or_assoc]
    congr 1
    rw [List.find?_cons]
    cases h : p x with
    | true => rfl
    | false => rfl
theorem zr_f_n {R : Nat → List Nat} {FL D : List Nat} : zr_f (zr_r R FL D) none FL = zr_n R FL D := by
  rw [zr_f_or, Option.or_none]; rfl
def zg_E (sc : Int32) (G L : List Nat) : List Nat := if sc = 1 then zg_e G L else []
section YO
variable {mC sC pC hC iL gL bL qL fL : Int32} {nd nc kd ss sn hM op pt il gl ba ini fin sq fr ke : Nat → Int32}
variable {m : Nat} {N : Nat → List Nat}
theorem zy_op29 {post : Int32 → SY → Prop} {hh : Nat} {x1 x2 : Int32} {hd : Nat → Option Nat} (hm : m ≤ 12) (h8 : hh ≤ 8) (hl : zo_lt m 8 hd)
    (K : (wY_open_29 post x1 x2 mC sC pC (nI hh) iL gL bL qL fL nd nc kd ss sn (zo_Y hd) op pt il gl ba ini fin sq fr ke 1 (zo_y (zo_f hd hh 0)) (nI 0 + (-1)))) :
    ∀ j d, j + d = hh → (wY_open_29 post x1 x2 mC sC pC (nI hh) iL gL bL qL fL nd nc kd ss sn (zo_Y hd) op pt il gl ba ini fin sq fr ke (j + 1) (zo_y (zo_f hd d j)) (nI j + (-1))) := by
  intro j
  induction j with
  | zero =>
    intro d hd2
    rw [Nat.zero_add] at hd2
    subst hd2
    exact K
  | succ j ih =>
    intro d hd2
    have c : (nI j).toNatClampNeg = j := nI_clamp (by omega)
    have e : 0 ≤ zo_Y hd j ↔ ¬ hd j = none := zo_y0' hm (hl j (by omega))
    have h1 := ih (d + 1) (by omega)
    rw [pk_m1, wY_open_29]
    dsimp only
    rw [c]
    refine br_f (nI_pos (by omega)) ⟨vp_in_nI (by omega) (by omega), ?_⟩
    cases q : hd j with
    | none =>
      rw [zo_f_n q] at h1
      exact br_f (fun z => e.mp z q) (nm_e h1)
    | some y =>
      rw [zo_f_s q] at h1
      exact br_t (e.mpr (fun z => by rw [z] at q; exact nomatch q)) (nm_e h1)
theorem zy_op85 {post : Int32 → SY → Prop} {r e0 : Nat} {x2 x3 : Int32} {od : Nat → Option Nat} {G IL : List Nat} (hm : m ≤ 12) (hr : r < m) (he : e0 ≤ 12) (hI : zl_ok m IL) (hAI : zl_A il 0 IL) (hAG : zl_A gl 0 G) (hld : ∀ x, x < m → (od x = none ↔ x ∉ IL)) :
    ∀ (R : List Nat) (j : Nat) (F E : List Nat) (fr : Nat → Int32), j + R.length = e0 → zl_A sq j R → zl_ok m R → zl_ok m F → (∀ x, x ∈ R → x ∉ F) → zl_A fr 0 F → zl_ok m (G ++ E) → (∀ x, x ∈ R → x ∉ E) →
    (∀ fr', zl_A fr' 0 (F ++ zg_f od R) → ∃ n184, (wY_open_184 post x3 n184 0 mC sC pC hC (nI IL.length) (nI (G.length + (E ++ zg_E x2 G R).length)) 0 (nI e0) (nI (F ++ zg_f od R).length) nd nc kd ss sn hM (zo_Y (zo_U od (F ++ zg_f od R) (some r))) pt il (zl_w gl G.length (E ++ zg_E x2 G R)) ba ini fin sq fr' ke)) →
    (wY_open_85 post (nI r) x2 x3 mC sC pC hC (nI IL.length) bL (nI e0) (R.length + 1) (nI j) (nI (G.length + E.length)) (nI F.length) nd nc kd ss sn hM (zo_Y (zo_U od F (some r))) pt il (zl_w gl G.length E) ba ini fin sq fr ke) := by
  intro R
  induction R with
  | nil =>
    intro j F E fr hj hA hR hF hdF hS hE hdE K
    rw [List.length_nil] at hj
    have e1 : zg_E x2 G [] = [] := by unfold zg_E; split <;> rfl
    rw [show zg_f od [] = [] from rfl, e1, List.append_nil, List.append_nil] at K
    rw [wY_open_85]
    exact br_t (nI_le (by omega) (by omega)) (K fr hS)
  | cons x R ih =>
    intro j F E fr hj hA hR hF hdF hS hE hdE K
    rw [List.length_cons] at hj
    obtain ⟨hA1, hA2⟩ := zl_A_cons.mp hA
    obtain ⟨hx, hxR, hR2⟩ := zl_ok_cons hR
    have hxF := hdF x List.mem_cons_self
    have hxE := hdE x List.mem_cons_self
    have c : (nI j).toNatClampNeg = j := nI_clamp (by omega)
    have hdF2 : ∀ z, z ∈ R → z ∉ F := fun z hz => hdF z (List.mem_cons_of_mem x hz)
    have hdE2 : ∀ z, z ∈ R → z ∉ E := fun z hz => hdE z (List.mem_cons_of_mem x hz)
    have hAE : zl_A (zl_w gl G.length E) 0 (G ++ E) := zl_w_AA hAG
    -- the second half, for whatever the first half has made
    have H : ∀ (F' : List Nat) (fr' : Nat → Int32), zl_ok m F' → (∀ z, z ∈ R → z ∉ F') → zl_A fr' 0 F' →
        (∀ fr'', zl_A fr'' 0 (F' ++ zg_f od R) → ∃ n184, (wY_open_184 post x3 n184 0 mC sC pC hC (nI IL.length) (nI (G.length + (E ++ zg_E x2 G (x :: R)).length)) 0 (nI e0) (nI (F' ++ zg_f od R).length) nd nc kd ss sn hM (zo_Y (zo_U od (F' ++ zg_f od R) (some r))) pt il (zl_w gl G.length (E ++ zg_E x2 G (x :: R))) ba ini fin sq fr'' ke)) →
        wY_open_138 post (wY_open_85 post (nI r) x2 x3 mC sC pC hC (nI IL.length) bL (nI e0) (R.length + 1)) (nI r) x2 x3 (nI j) (nI x) mC sC pC hC (nI IL.length) (nI (G.length + E.length)) bL (nI e0) (nI F'.length) nd nc kd ss sn hM (zo_Y (zo_U od F' (some r))) pt il (zl_w gl G.length E) ba ini fin sq fr' ke := by
      intro F' fr' hF' hd' hS' K'
      unfold wY_open_138
      have e0' : (G ++ E).length = G.length + E.length := List.length_append
      by_cases s1 : x2 = 1
      · refine br_t s1 ?_
        rw [← e0']
        refine zy_iG (by omega) (zl_12 hm hE) hAE (fun h => ?_) (fun h => ?_)
        · have hg : x ∈ G := (List.mem_append.mp h).elim id (fun z => absurd z hxE)
          have e2 : zg_E x2 G (x :: R) = zg_E x2 G R := by unfold zg_E; rw [if_pos s1, if_pos s1]; unfold zg_e; rw [List.filter_cons, if_neg (by simp [hg])]
          rw [e2] at K'
          rw [e0']
          exact br_f (by decide) (nm_r (nI_1 j) (ih (j + 1) F' E fr' (by omega) hA2 hR2 hF' hd' hS' hE hdE2 K'))
        · have hg : x ∉ G := fun z => h (List.mem_append_left E z)
          have e2 : zg_E x2 G (x :: R) = x :: zg_E x2 G R := by unfold zg_E; rw [if_pos s1, if_pos s1]; unfold zg_e; rw [List.filter_cons, if_pos (by simp [hg])]
          rw [e2, List.append_cons] at K'
          have hlt := zl_lt hE h hx
          rw [e0'] at hlt ⊢
          have hE2 := zl_push hE h hx
          rw [List.append_assoc] at hE2
          have h1 := ih (j + 1) F' (E ++ [x]) fr' (by omega) hA2 hR2 hF' hd' hS' hE2 (fun z hz hz2 => (List.mem_append.mp hz2).elim (hdE2 z hz) (fun q => by simp at q; exact hxR (q ▸ hz))) K'
          rw [zl_snoc_len, ← Nat.add_assoc, ← zl_w_snoc] at h1
          exact br_t rfl (nm_r (nI_1 _) ⟨vp_in_nI (by omega) (by omega), nm_r (e' := upd (zl_w gl G.length E) (G.length + E.length) (nI x)) (by rw [nI_clamp (by omega)]) (nm_r (nI_1 j) h1)⟩)
      · have e2 : zg_E x2 G (x :: R) = zg_E x2 G R := by unfold zg_E; rw [if_neg s1, if_neg s1]
        rw [e2] at K'
        exact br_f s1 (nm_r (nI_1 j) (ih (j + 1) F' E fr' (by omega) hA2 hR2 hF' hd' hS' hE hdE2 K'))
    rw [wY_open_85]
    dsimp only
    rw [c, hA1]
    refine br_f (nI_ge (by omega) (by omega)) ⟨vp_in_nI (by omega) (by omega), nm_e (zy_rkG (by omega) (zl_12 hm hI) hAI (fun h => ?_) (fun h => ?_))⟩
    · have hno : ¬ od x = none := fun z => (hld x hx).mp z h
      have e2 : zg_f od (x :: R) = zg_f od R := by
        unfold zg_f
        rw [List.filter_cons, if_neg]
        intro z
        exact hno (Option.isNone_iff_eq_none.mp z)
      rw [e2] at K
      exact H F fr hF hdF2 hS K
    · have hno : od x = none := (hld x hx).mpr h
      have e2 : zg_f od (x :: R) = x :: zg_f od R := by unfold zg_f; rw [List.filter_cons, hno]; rfl
      rw [e2, List.append_cons] at K
      have hlt := zl_lt hF hxF hx
      have h1 := H (F ++ [x]) (upd fr F.length (nI x)) (zl_push hF hxF hx) (fun z hz hz2 => (List.mem_append.mp hz2).elim (hdF2 z hz) (fun q => by simp at q; exact hxR (q ▸ hz))) (zl_A_push0 hS) K
      rw [zl_snoc_len] at h1
      exact nm_r (nI_1 _) ⟨vp_in_nI (by omega) (by omega), nm_r (e' := upd fr F.length (nI x)) (by rw [nI_clamp (by omega)]) ⟨vp_in_nI (by omega) (by omega), nm_r (e' := zo_Y (zo_U od (F ++ [x]) (some r))) (by rw [nI_clamp (by omega), ← zo_U_snoc, ← zo_Yu]; rfl) h1⟩⟩
theorem zy_rd12 {post : Int32 → SY → Prop} {x e0 : Nat} {I D : List Nat} (hm : m ≤ 12) (W : zz_N m N nc nd) (he : e0 ≤ 12) (hx : x < m) (hI : zl_ok m I) (hAI : zl_A il 0 I) :
    ∀ (Q : List Nat) (j : Nat) (qL : Int32) (sq : Nat → Int32), j + Q.length = e0 → zl_A fr j Q → (∀ y, y ∈ Q → y < m ∧ (y ∈ I ↔ y ∈ D)) →
    ((∀ y, y ∈ Q → y ∉ D → y ∈ zl_sl N m x → x ∈ zl_sl N m y) → ∀ q sq', post 1 (mC, sC, pC, hC, nI I.length, gL, bL, q, nI e0, nd, nc, kd, ss, sn, hM, op, pt, il, gl, ba, ini, fin, sq', fr, ke)) → ((¬ ∀ y, y ∈ Q → y ∉ D → y ∈ zl_sl N m x → x ∈ zl_sl N m y) → ∀ q sq', post 0 (mC, sC, pC, hC, nI I.length, gL, bL, q, nI e0, nd, nc, kd, ss, sn, hM, op, pt, il, gl, ba, ini, fin, sq', fr, ke)) →
    (wY_ready_12 post (nI x) (Q.length + 1) (nI j) mC sC pC hC (nI I.length) gL bL qL (nI e0) nd nc kd ss sn hM op pt il gl ba ini fin sq fr ke) := by
  intro Q
  induction Q with
  | nil =>
    intro j qL sq hj hA hQ K1 K0
    rw [List.length_nil] at hj
    rw [wY_ready_12]
    exact br_t (nI_le (by omega) (by omega)) (K1 (fun y hy => nomatch hy) _ _)
  | cons y Q ih =>
    intro j qL sq hj hA hQ K1 K0
    rw [List.length_cons] at hj
    obtain ⟨hA1, hA2⟩ := zl_A_cons.mp hA
    obtain ⟨hy, hyI⟩ := hQ y List.mem_cons_self
    have c : (nI j).toNatClampNeg = j := nI_clamp (by omega)
    have h1 := fun (qL : Int32) (sq : Nat → Int32) (g : y ∉ D → y ∈ zl_sl N m x → x ∈ zl_sl N m y) => ih (j + 1) qL sq (by omega) hA2 (fun z hz => hQ z (List.mem_cons_of_mem y hz))
      (fun h => K1 (fun z hz => (List.mem_cons.mp hz).elim (fun e => e ▸ g) (h z))) (fun h => K0 (fun h2 => h (fun z hz => h2 z (List.mem_cons_of_mem y hz))))
    rw [wY_ready_12]
    dsimp only
    rw [c, hA1]
    refine br_f (nI_ge (by omega) (by omega)) ⟨vp_in_nI (by omega) (by omega), nm_e (zy_rkG (by omega) (zl_12 hm hI) hAI (fun h => ?_) (fun h => ?_))⟩
    · exact nm_r (nI_1 j) (h1 _ _ (fun z => absurd (hyI.mp h) z))
    · refine zy_rch hm W hx hy (fun e q1 sq1 => ?_) (fun e q1 sq1 => ?_)
      · refine br_f (by decide) (zy_rch hm W hy hx (fun e2 q2 sq2 => ?_) (fun e2 q2 sq2 => ?_))
        · exact br_f (by decide) (nm_r (nI_1 j) (h1 _ _ (fun _ _ => e2)))
        · exact br_t rfl (K0 (fun h2 => e2 (h2 y List.mem_cons_self (fun z => h (hyI.mpr z)) e)) _ _)
      · exact br_t rfl (nm_r (nI_1 j) (h1 _ _ (fun _ z => absurd z e)))
theorem zy_rd {post : Int32 → SY → Prop} {x : Nat} {I D FL : List Nat} (hm : m ≤ 12) (W : zz_N m N nc nd) (hF : zl_ok m FL) (hx : x ∈ FL) (hA : zl_A fr 0 FL) (hI : zl_ok m I) (hAI : zl_A il 0 I) (hID : ∀ y, y ∈ FL → (y ∈ I ↔ y ∈ D))
    (K1 : zr_r (zl_sl N m) FL D x = true → ∀ q sq', post 1 (mC, sC, pC, hC, nI I.length, gL, bL, q, nI FL.length, nd, nc, kd, ss, sn, hM, op, pt, il, gl, ba, ini, fin, sq', fr, ke)) (K0 : ¬ zr_r (zl_sl N m) FL D x = true → ∀ q sq', post 0 (mC, sC, pC, hC, nI I.length, gL, bL, q, nI FL.length, nd, nc, kd, ss, sn, hM, op, pt, il, gl, ba, ini, fin, sq', fr, ke)) :
    wpY_ready post (mC, sC, pC, hC, nI I.length, gL, bL, qL, nI FL.length, nd, nc, kd, ss, sn, hM, op, pt, il, gl, ba, ini, fin, sq, fr, ke) (nI x) := by
  have hxm := hF.2 x hx
  have hl := zl_len hF
  unfold wpY_ready
  refine zy_rkL (by omega) (zl_12 hm hI) hAI (fun h => ?_) (fun h => ⟨FL.length + 1, ?_⟩)
  · exact K0 (fun z => (zr_r_iff.mp z).1 ((hID x hx).mp h)) _ _
  · have hxD : x ∉ D := fun z => h ((hID x hx).mpr z)
    exact zy_rd12 hm W (by omega) hxm hI hAI FL 0 _ _ (by omega) hA (fun y hy => ⟨hF.2 y hy, hID y hy⟩) (fun h2 => K1 (zr_r_iff.mpr ⟨hxD, h2⟩)) (fun h2 => K0 (fun z => h2 (zr_r_iff.mp z).2))
theorem zy_op199 {post : Int32 → SY → Prop} {J184 : Int32 → Int32 → Int32 → Int32 → Int32 → Int32 → Int32 → Int32 → Int32 → Int32 → zt_16} {x3 x4 : Int32} {e0 a b : Nat} {I D FL : List Nat} (hm : m ≤ 12) (W : zz_N m N nc nd) (hF : zl_ok m FL) (he : e0 = FL.length) (hA : zl_A fr 0 FL) (hI : zl_ok m I) (hAI : zl_A il 0 I) (hID : ∀ y, y ∈ FL → (y ∈ I ↔ y ∈ D)) (ha : a = I.length) (ha12 : a < 12) (hb : b < 12) :
    ∀ (Q A : List Nat) (acc : Option Nat) (qL : Int32) (sq : Nat → Int32), FL = A ++ Q → (∀ y, acc = some y → y < m) → 
    (∀ x, x < m → zr_f (zr_r (zl_sl N m) FL D) acc Q = some x → ∀ q sq', J184 (x4 + 1) mC sC pC hC (nI (a + 1)) gL (nI (b + 1)) q (nI e0) nd nc kd ss sn hM op pt (upd il a (nI x)) gl (upd ba b (nI x)) (upd ini x (ini x + 1)) fin sq' fr ke) →
    (zr_f (zr_r (zl_sl N m) FL D) acc Q = none → ∀ q sq', J184 (x4 + 1) mC sC pC hC (nI a) gL (nI b) q (nI e0) nd nc kd ss sn hM op pt il gl ba ini fin sq' fr ke) →
    (wY_open_199 post J184 x3 x4 (Q.length + 1) (zo_y acc) (nI A.length) mC sC pC hC (nI a) gL (nI b) qL (nI e0) nd nc kd ss sn hM op pt il gl ba ini fin sq fr ke) := by
  have hl := zl_len hF
  intro Q
  induction Q with
  | nil =>
    intro A acc qL sq hQ hac K1 K0
    rw [List.append_nil] at hQ
    rw [wY_open_199]
    refine br_t (nI_le (by rw [he, hQ]; omega) (by rw [← hQ]; omega)) ?_
    cases acc with
    | none => exact br_t (by decide) (nm_e (K0 rfl _ _))
    | some x =>
      have hx := hac x rfl
      have cx : (nI x).toNatClampNeg = x := nI_clamp (by omega)
      have v : vp_in (nI x) 12 := vp_in_nI (by omega) (by omega)
      exact br_f (nI_pos (by omega)) (nm_r (nI_1 a) ⟨vp_in_nI ha12 (by omega), nm_r (e' := upd il a (nI x)) (by rw [nI_clamp (by omega)]; rfl) (nm_r (nI_1 b) ⟨vp_in_nI hb (by omega), nm_r (e' := upd ba b (nI x)) (by rw [nI_clamp (by omega)]; rfl) ⟨v, v, nm_r (e' := upd ini x (ini x + 1)) (by show upd ini (nI x).toNatClampNeg (ini (nI x).toNatClampNeg + 1) = _; rw [cx]) (nm_e (K1 x hx rfl _ _))⟩⟩)⟩)
  | cons x Q ih =>
    intro A acc qL sq hQ hac K1 K0
    have hlen : FL.length = A.length + (Q.length + 1) := by rw [hQ, List.length_append, List.length_cons]
    have hx : x ∈ FL := by rw [hQ]; simp
    have hxm := hF.2 x hx
    have c : (nI A.length).toNatClampNeg = A.length := nI_clamp (by omega)
    have hg : fr A.length = nI x := by
      have h1 := hA
      rw [hQ, zl_A_app, zl_A_cons, Nat.zero_add] at h1
      exact h1.2.1
    rw [zr_f] at K1 K0
    rw [wY_open_199]
    dsimp only
    rw [c, hg]
    refine br_f (nI_ge (by omega) (by omega)) ⟨vp_in_nI (by omega) (by omega), ?_⟩
    subst ha he
    refine zy_rd hm W hF hx hA hI hAI hID (fun h q1 sq1 => ?_) (fun h q1 sq1 => ?_)
    · rw [if_pos h] at K1 K0
      have h1 := ih (A ++ [x]) (some x) q1 sq1 (by rw [hQ]; simp) (fun y e => by injection e with e; omega) K1 K0
      rw [zl_snoc_len] at h1
      exact br_f (by decide) ⟨vp_in_nI (by omega) (by omega), nm_r (e' := nI x) (by exact hg) (nm_r (nI_1 _) h1)⟩
    · rw [if_neg h] at K1 K0
      have h1 := ih (A ++ [x]) acc q1 sq1 (by rw [hQ]; simp) hac K1 K0
      rw [zl_snoc_len] at h1
      exact br_t rfl (nm_r (nI_1 _) h1)
theorem zy_op184 {post : Int32 → SY → Prop} {x3 : Int32} {FL IL : List Nat} (hm : m ≤ 12) (W : zz_N m N nc nd) (hF : zl_ok m FL) (hI : zl_ok m IL) (hd : ∀ x, x ∈ FL → x ∉ IL) (hA : zl_A fr 0 FL) (hAI : zl_A il 0 IL) :
    ∀ (k : Nat) (D : List Nat) (qL : Int32) (sq : Nat → Int32), D.length + k = FL.length → zl_ok m D → (∀ x, x ∈ D → x ∈ FL) →
    (∀ qL' sq', post x3 (mC, sC, pC, hC, nI (IL.length + (zr_go (zl_sl N m) FL k D).length), gL, nI (zr_go (zl_sl N m) FL k D).length, qL', nI FL.length, nd, nc, kd, ss, sn, hM, op, pt, zl_w il IL.length (zr_go (zl_sl N m) FL k D), gl, zl_w ba 0 (zr_go (zl_sl N m) FL k D), zl_b ini (zr_go (zl_sl N m) FL k D), fin, sq', fr, ke)) →
    (wY_open_184 post x3 (k + 1) (nI D.length) mC sC pC hC (nI (IL.length + D.length)) gL (nI D.length) qL (nI FL.length) nd nc kd ss sn hM op pt (zl_w il IL.length D) gl (zl_w ba 0 D) (zl_b ini D) fin sq fr ke) := by
  have hl := zl_len hF
  intro k
  induction k with
  | zero =>
    intro D qL sq hk hD hs K
    rw [wY_open_184]
    exact br_t (nI_le (by omega) (by omega)) (K _ _)
  | succ k ih =>
    intro D qL sq hk hD hs K
    obtain ⟨x, hx⟩ := zr_some hF.1 (R := zl_sl N m) (fun x _ => zl_sl_self) (fun x y z hx h1 h2 => zl_sl_trans (zz_N_ht W) (hF.2 x hx) h1 h2) (D := D) (by omega)
    obtain ⟨hxF, hxD⟩ := zr_n_in hx
    have hxm := hF.2 x hxF
    rw [zr_go_s hx] at K
    have hID : zl_ok m (IL ++ D) := zl_ok_app hI hD (fun z h1 h2 => hd z (hs z h2) h1)
    have hlt := zl_lt hID (fun h => (List.mem_append.mp h).elim (hd x hxF) hxD) hxm
    have hll : (IL ++ D).length = IL.length + D.length := List.length_append
    rw [hll] at hlt
    rw [wY_open_184]
    refine br_f (nI_ge (by omega) (by omega)) ⟨FL.length + 1, ?_⟩
    refine zy_op199 (a := IL.length + D.length) (b := D.length) (D := D) (I := IL ++ D) hm W hF rfl hA hID (zl_w_AA hAI) (fun y hy => by rw [List.mem_append]; exact ⟨fun h => h.elim (fun z => absurd z (hd y hy)) id, Or.inr⟩) hll.symm (by omega) (by omega) FL [] none _ _ rfl (fun y e => nomatch e) (fun y hy e q sq' => ?_) (fun e => ?_)
    · rw [zr_f_n, hx] at e
      injection e with e
      subst e
      have h1 := ih (D ++ [x]) q sq' (by rw [zl_snoc_len]; omega) (zl_push hD hxD hxm) (fun z hz => (List.mem_append.mp hz).elim (hs z) (fun q => by simp at q; rw [q]; exact hxF)) K
      rw [zl_snoc_len, ← zl_w_snoc, ← zl_w_snoc, ← zl_b_snoc, Nat.zero_add, ← Nat.add_assoc, ← nI_1 D.length] at h1
      rw [← nI_1 D.length]
      exact h1
    · rw [zr_f_n, hx] at e
      exact nomatch e
end YO
end
section
/-! pure parts of close -/
/-- the first i patches of x taken away -/
def zp_i (f : Nat → Option Nat) (x i : Nat) : Nat → Option Nat := fun j => if x * 4 ≤ j ∧ j < x * 4 + i then none else f j
def zp_U (f : Nat → Option Nat) (L : List Nat) : Nat → Option Nat := fun j => if j / 4 ∈ L then none else f j
theorem zp_i_0 {f : Nat → Option Nat} {x : Nat} : zp_i f x 0 = f := by funext j; exact if_neg (by omega)
theorem zp_i_s {f : Nat → Option Nat} {x i : Nat} : zo_u (zp_i f x i) (x * 4 + i) none = zp_i f x (i + 1) := by
  funext j
  by_cases h : j = x * 4 + i
  · rw [h, zo_us]; exact (if_pos (by omega)).symm
  · rw [zo_un h]
    unfold zp_i
    by_cases h2 : x * 4 ≤ j ∧ j < x * 4 + i
    · rw [if_pos h2, if_pos (by omega)]
    · rw [if_neg h2, if_neg (by omega)]
theorem zp_U_nil {f : Nat → Option Nat} : zp_U f [] = f := by funext j; exact if_neg (fun h => nomatch h)
theorem zp_U_snoc {f : Nat → Option Nat} {L : List Nat} {x : Nat} : zp_i (zp_U f L) x 4 = zp_U f (L ++ [x]) := by
  funext j
  unfold zp_i
  by_cases h : x * 4 ≤ j ∧ j < x * 4 + 4
  · have e : j / 4 = x := by omega
    rw [if_pos h]
    exact (if_pos (by rw [e]; simp)).symm
  · have e : j / 4 ≠ x := by omega
    rw [if_neg h]
    unfold zp_U
    by_cases h2 : j / 4 ∈ L
    · rw [if_pos h2, if_pos (List.mem_append_left _ h2)]
    · rw [if_neg h2, if_neg (by simp [e, h2])]
def zg_k (K L : List Nat) : List Nat := L.filter (fun x => decide (x ∈ K))
theorem zg_k_in {K L : List Nat} {x : Nat} (h : x ∈ K) : zg_k K (x :: L) = x :: zg_k K L := by unfold zg_k; rw [List.filter_cons, if_pos (by simp [h])]
theorem zg_k_out {K L : List Nat} {x : Nat} (h : x ∉ K) : zg_k K (x :: L) = zg_k K L := by unfold zg_k; rw [List.filter_cons, if_neg (by simp [h])]
theorem zg_e_in {K L : List Nat} {x : Nat} (h : x ∈ K) : zg_e K (x :: L) = zg_e K L := by unfold zg_e; rw [List.filter_cons, if_neg (by simp [h])]
theorem zg_e_out {K L : List Nat} {x : Nat} (h : x ∉ K) : zg_e K (x :: L) = x :: zg_e K L := by unfold zg_e; rw [List.filter_cons, if_pos (by simp [h])]
/-- an opener that is gone: the module itself -/
def za_o (K : List Nat) (od : Nat → Option Nat) (x : Nat) : Option Nat := match od x with
  | none => none
  | some o => if o ∈ K then some o else some x
def za_O (K : List Nat) (od : Nat → Option Nat) (i : Nat) : Nat → Option Nat := fun x => if x < i then za_o K od x else od x
theorem za_O_0 {K : List Nat} {od : Nat → Option Nat} : za_O K od 0 = od := by funext j; exact if_neg (by omega)
theorem za_O_s {K : List Nat} {od : Nat → Option Nat} {i : Nat} {v : Option Nat} (h : za_o K od i = v) : zo_u (za_O K od i) i v = za_O K od (i + 1) := by
  funext j
  by_cases e : j = i
  · rw [e, zo_us]; unfold za_O; rw [if_pos (by omega), h]
  · rw [zo_un e]
    unfold za_O
    by_cases e2 : j < i
    · rw [if_pos e2, if_pos (by omega)]
    · rw [if_neg e2, if_neg (by omega)]
theorem za_O_k {K : List Nat} {od : Nat → Option Nat} {i : Nat} (h : za_o K od i = od i) : za_O K od i = za_O K od (i + 1) := by
  funext j
  unfold za_O
  by_cases e : j = i
  · rw [e, if_neg (by omega), if_pos (by omega), h]
  · by_cases e2 : j < i
    · rw [if_pos e2, if_pos (by omega)]
    · rw [if_neg e2, if_neg (by omega)]
/-- what keeping x keeps -/
def zk_t (N Z : Nat → List Nat) (pd : Nat → Option Nat) (x : Nat) : List Nat := N x ++ zo_l (fun j => pd (x * 4 + j)) (Z x).length 0
theorem zk_ht {m p sy : Nat} {N Z : Nat → List Nat} {pd : Nat → Option Nat} {nc nd sn ss : Nat → Int32} (hm : m ≤ 12) (hp : p ≤ 4) (W : zz_N m N nc nd) (V : zz_Z m p sy Z sn ss) (hl : zo_lt m 48 pd) : ∀ x, x < m → ∀ y, y ∈ zk_t N Z pd x → y < m := by
  intro x hx y hy
  rcases List.mem_append.mp hy with h | h
  · exact zz_N_ht W x hx y h
  · obtain ⟨i, hi, h2⟩ := zo_l_mem _ _ _ h
    have := (V x hx).2.2.1
    exact hl (x * 4 + i) (by omega) y h2
section XC
variable {mC sC pC hC iL gL bL sL fL wL kM : Int32} {nd nc kd ss sn hM op pt ini fin il gl ba se fr re fo wo : Nat → Int32}
variable {m p sy : Nat} {N Z : Nat → List Nat} {pd : Nat → Option Nat}
theorem zx_kp {post : SX → Prop} {L : List Nat} {y : Nat} (hm : m ≤ 12) (hL : zl_ok m L) (hA : zl_A wo 0 L) (hk : zb_k kM (fun y => y ∈ L)) (hy : y < m)
    (K : ∀ mk' wo', zl_A wo' 0 (zl_a1 L y) → zb_k mk' (fun z => z ∈ zl_a1 L y) → post (mC, sC, pC, hC, iL, gL, bL, sL, fL, nI (zl_a1 L y).length, mk', nd, nc, kd, ss, sn, hM, op, pt, ini, fin, il, gl, ba, se, fr, re, fo, wo')) : wpX_keep post (mC, sC, pC, hC, iL, gL, bL, sL, fL, nI L.length, kM, nd, nc, kd, ss, sn, hM, op, pt, ini, fin, il, gl, ba, se, fr, re, fo, wo) (nI y) := by
  unfold wpX_keep
  refine zx_isK (by omega) hk (fun h => br_t rfl ?_) (fun h => br_f (by decide) ?_)
  · have hlt := zl_lt hL h hy
    rw [zl_a1_out h, zl_snoc_len] at K
    exact nm_e ⟨vp_in_nI (by omega) (by omega), nm_r (e' := upd wo L.length (nI y)) (by rw [nI_clamp (by omega)]) (nm_r (nI_1 _) (K _ _ (zl_A_push0 hA) (zb_c (zb_o hk (by omega)) (fun z _ => by simp))))⟩
  · rw [zl_a1_in h] at K
    exact K _ _ hA hk
theorem zx_kt37 {post : SX → Prop} {x : Nat} (hm : m ≤ 12) (hp : p ≤ 4) (hx : x < m) (V : zz_Z m p sy Z sn ss) (hl : zo_lt m 48 pd) :
    ∀ (d j : Nat) (L : List Nat) (kM : Int32) (wo : Nat → Int32), j + d = (Z x).length → zl_ok m L → zl_A wo 0 L → zb_k kM (fun y => y ∈ L) →
    (∀ mk' wo', zl_A wo' 0 (zl_ad L (zo_l (fun j => pd (x * 4 + j)) d j)) → zb_k mk' (fun z => z ∈ zl_ad L (zo_l (fun j => pd (x * 4 + j)) d j)) → post (mC, sC, pC, hC, iL, gL, bL, sL, fL, nI (zl_ad L (zo_l (fun j => pd (x * 4 + j)) d j)).length, mk', nd, nc, kd, ss, sn, hM, op, zo_X pd, ini, fin, il, gl, ba, se, fr, re, fo, wo')) →
    (wX_keepTargets_37 post (nI x) (d + 1) (nI j) mC sC pC hC iL gL bL sL fL (nI L.length) kM nd nc kd ss sn hM op (zo_X pd) ini fin il gl ba se fr re fo wo) := by
  have c : (nI x).toNatClampNeg = x := nI_clamp (by omega)
  have v : vp_in (nI x) 12 := vp_in_nI (by omega) (by omega)
  have hn := (V x hx).1
  have h4 := (V x hx).2.2.1
  intro d
  induction d with
  | zero =>
    intro j L kM wo hj hL hA hk K
    rw [wX_keepTargets_37]
    dsimp only
    rw [c, hn]
    exact ⟨v, br_t (nI_le (by omega) (by omega)) (K _ _ hA hk)⟩
  | succ d ih =>
    intro j L kM wo hj hL hA hk K
    have c2 : (nI (x * 4 + j)).toNatClampNeg = x * 4 + j := nI_clamp (by omega)
    have hb := hl (x * 4 + j) (by omega)
    rw [wX_keepTargets_37]
    dsimp only
    rw [c, hn]
    refine ⟨v, br_f (nI_ge (by omega) (by omega)) (zx_sc ⟨vp_in_nI (by omega) (by omega), nm_r (e' := zo_x (pd (x * 4 + j))) (by rw [c2]; rfl) ?_⟩)⟩
    cases q : pd (x * 4 + j) with
    | none =>
      rw [zo_l_n (f := fun j => pd (x * 4 + j)) q] at K
      exact br_t rfl (nm_r (nI_1 j) (ih (j + 1) L kM wo (by omega) hL hA hk K))
    | some y =>
      have hy := hb y q
      rw [zo_l_s (f := fun j => pd (x * 4 + j)) q] at K
      exact br_f (zn_m7 (by omega)) (zx_kp hm hL hA hk hy (fun mk' wo' hA' hk' => nm_r (nI_1 j) (ih (j + 1) _ mk' wo' (by omega) (zl_a1_ok hL hy) hA' hk' K)))
theorem zx_kt2 {post : SX → Prop} {x : Nat} (hm : m ≤ 12) (hx : x < m) (W : zz_N m N nc nd) :
    ∀ (R : List Nat) (j : Nat) (L : List Nat) (kM : Int32) (wo : Nat → Int32), j + R.length = (N x).length → zl_A nd (x * 12 + j) R → (∀ y, y ∈ R → y < m) → zl_ok m L → zl_A wo 0 L → zb_k kM (fun y => y ∈ L) →
    (∀ mk' wo', zl_A wo' 0 (zl_ad L R) → zb_k mk' (fun z => z ∈ zl_ad L R) → ∃ n37, (wX_keepTargets_37 post (nI x) n37 0 mC sC pC hC iL gL bL sL fL (nI (zl_ad L R).length) mk' nd nc kd ss sn hM op pt ini fin il gl ba se fr re fo wo')) →
    (wX_keepTargets_2 post (nI x) (R.length + 1) (nI j) mC sC pC hC iL gL bL sL fL (nI L.length) kM nd nc kd ss sn hM op pt ini fin il gl ba se fr re fo wo) := by
  have c : (nI x).toNatClampNeg = x := nI_clamp (by omega)
  have v : vp_in (nI x) 12 := vp_in_nI (by omega) (by omega)
  have hn := (W x hx).1
  have hl := zz_N_len W hx
  intro R
  induction R with
  | nil =>
    intro j L kM wo hj hR hm2 hL hA hk K
    rw [List.length_nil] at hj
    rw [wX_keepTargets_2]
    dsimp only
    rw [c, hn]
    exact ⟨v, br_t (nI_le (by omega) (by omega)) (K _ _ hA hk)⟩
  | cons y R ih =>
    intro j L kM wo hj hR hm2 hL hA hk K
    rw [List.length_cons] at hj
    obtain ⟨hA1, hA2⟩ := zl_A_cons.mp hR
    have hy : y < m := hm2 y List.mem_cons_self
    have c2 : (nI (x * 12 + j)).toNatClampNeg = x * 12 + j := nI_clamp (by omega)
    rw [wX_keepTargets_2]
    dsimp only
    rw [c, hn]
    exact ⟨v, br_f (nI_ge (by omega) (by omega)) (zx_cell ⟨vp_in_nI (by omega) (by omega), nm_r (e' := nI y) (by rw [c2]; exact hA1)
      (zx_kp hm hL hA hk hy (fun mk' wo' hA' hk' => nm_r (nI_1 j) (ih (j + 1) _ mk' wo' (by omega) hA2 (fun z hz => hm2 z (List.mem_cons_of_mem y hz)) (zl_a1_ok hL hy) hA' hk' K)))⟩)⟩
theorem zx_kt {post : SX → Prop} {x : Nat} {L : List Nat} (hm : m ≤ 12) (hp : p ≤ 4) (hx : x < m) (W : zz_N m N nc nd) (V : zz_Z m p sy Z sn ss) (hl : zo_lt m 48 pd) (hL : zl_ok m L) (hA : zl_A wo 0 L) (hk : zb_k kM (fun y => y ∈ L))
    (K : ∀ mk' wo', zl_A wo' 0 (zl_ad L (zk_t N Z pd x)) → zb_k mk' (fun z => z ∈ zl_ad L (zk_t N Z pd x)) → post (mC, sC, pC, hC, iL, gL, bL, sL, fL, nI (zl_ad L (zk_t N Z pd x)).length, mk', nd, nc, kd, ss, sn, hM, op, zo_X pd, ini, fin, il, gl, ba, se, fr, re, fo, wo')) :
    wpX_keepTargets post (mC, sC, pC, hC, iL, gL, bL, sL, fL, nI L.length, kM, nd, nc, kd, ss, sn, hM, op, zo_X pd, ini, fin, il, gl, ba, se, fr, re, fo, wo) (nI x) := by
  unfold zk_t at K
  rw [zl_ad_app] at K
  refine ⟨(N x).length + 1, zx_kt2 hm hx W (N x) 0 L kM wo (by omega) (W x hx).2.1 (zz_N_ht W x hx) hL hA hk (fun mk' wo' hA' hk' => ⟨(Z x).length + 1, ?_⟩)⟩
  exact zx_kt37 hm hp hx V hl (Z x).length 0 (zl_ad L (N x)) mk' wo' (by omega) (zl_ad_ok hL (zz_N_ht W x hx)) hA' hk' K
theorem zx_mk49 {post : SX → Prop} (hm : m ≤ 12) (hp : p ≤ 4) (W : zz_N m N nc nd) (V : zz_Z m p sy Z sn ss) (hl : zo_lt m 48 pd) :
    ∀ (f i : Nat) (L : List Nat) (kM : Int32) (wo : Nat → Int32), i + f = m → zl_ok m L → zl_A wo 0 L → zb_k kM (fun y => y ∈ L) →
    (∀ wL' mk' wo', zb_k mk' (fun z => z ∈ zl_bf (zk_t N Z pd) f i L) → post (nI m, sC, pC, hC, iL, gL, bL, sL, fL, wL', mk', nd, nc, kd, ss, sn, hM, op, zo_X pd, ini, fin, il, gl, ba, se, fr, re, fo, wo')) →
    (wX_markKept_49 post (f + 1) (nI i) (nI m) sC pC hC iL gL bL sL fL (nI L.length) kM nd nc kd ss sn hM op (zo_X pd) ini fin il gl ba se fr re fo wo) := by
  have ht := zk_ht hm hp W V hl
  intro f
  induction f with
  | zero =>
    intro i L kM wo hi hL hA hk K
    rw [wX_markKept_49]
    exact br_t (nI_le (by omega) (by omega)) (K _ _ _ hk)
  | succ f ih =>
    intro i L kM wo hi hL hA hk K
    have hll := zl_len hL
    rw [wX_markKept_49]
    refine br_f (nI_ge (by omega) (by omega)) ?_
    by_cases e : i < L.length
    · have e2 : L[i]? = some L[i] := List.getElem?_eq_getElem e
      have hx : L[i] < m := hL.2 _ (List.getElem_mem e)
      rw [zl_bf_some e2] at K
      rw [nI_clamp (show i < 2 ^ 31 by omega), zl_A_get hA e]
      refine br_f (nI_ge (by omega) (by omega)) ⟨vp_in_nI (by omega) (by omega), zx_kt hm hp hx W V hl hL hA hk (fun mk' wo' hA' hk' => nm_r (nI_1 i) ?_)⟩
      exact ih (i + 1) _ mk' wo' (by omega) (zl_ad_ok hL (ht _ hx)) hA' hk' K
    · rw [zl_bf_none (List.getElem?_eq_none_iff.mpr (by omega))] at K
      exact br_t (nI_le (by omega) (by omega)) (K _ _ _ hk)
theorem zx_mk12 {post : SX → Prop} {hh : Nat} {hd : Nat → Option Nat} (hm : m ≤ 12) (h8 : hh ≤ 8) (hl : zo_lt m 8 hd) :
    ∀ (d j : Nat) (L : List Nat) (kM : Int32) (wo : Nat → Int32), j + d = hh → zl_ok m L → zl_A wo 0 L → zb_k kM (fun y => y ∈ L) →
    (∀ mk' wo', zl_A wo' 0 (zl_ad L (zo_l hd d j)) → zb_k mk' (fun z => z ∈ zl_ad L (zo_l hd d j)) → ∃ n49, (wX_markKept_49 post n49 0 mC sC pC (nI hh) iL gL bL sL fL (nI (zl_ad L (zo_l hd d j)).length) mk' nd nc kd ss sn (zo_X hd) op pt ini fin il gl ba se fr re fo wo')) →
    (wX_markKept_12 post (d + 1) (nI j) mC sC pC (nI hh) iL gL bL sL fL (nI L.length) kM nd nc kd ss sn (zo_X hd) op pt ini fin il gl ba se fr re fo wo) := by
  intro d
  induction d with
  | zero =>
    intro j L kM wo hj hL hA hk K
    rw [wX_markKept_12]
    exact br_t (nI_le (by omega) (by omega)) (K _ _ hA hk)
  | succ d ih =>
    intro j L kM wo hj hL hA hk K
    have c : (nI j).toNatClampNeg = j := nI_clamp (by omega)
    have hb := hl j (by omega)
    have e : zo_X hd j = zo_x (hd j) := rfl
    have v : vp_in (nI j) 8 := vp_in_nI (by omega) (by omega)
    rw [wX_markKept_12]
    dsimp only
    rw [c, e]
    refine br_f (nI_ge (by omega) (by omega)) ⟨v, ?_⟩
    cases q : hd j with
    | none =>
      rw [zo_l_n q] at K
      exact br_t rfl (nm_r (nI_1 j) (ih (j + 1) L kM wo (by omega) hL hA hk K))
    | some y =>
      have hy := hb y q
      rw [zo_l_s q] at K
      exact br_f (zn_m7 (by omega)) ⟨v, zx_kp hm hL hA hk hy (fun mk' wo' hA' hk' => nm_r (nI_1 j) (ih (j + 1) _ mk' wo' (by omega) (zl_a1_ok hL hy) hA' hk' K))⟩
/-- what is kept -/
def zk_K (N Z : Nat → List Nat) (pd hd : Nat → Option Nat) (m hh : Nat) : List Nat := zl_bf (zk_t N Z pd) m 0 (zl_ad [] (zo_l hd hh 0))
theorem zk_l0 {hh : Nat} {hd : Nat → Option Nat} (h8 : hh ≤ 8) (hl : zo_lt m 8 hd) : zl_ok m (zl_ad [] (zo_l hd hh 0)) := by
  refine zl_ad_ok zl_ok_nil (fun y hy => ?_)
  obtain ⟨i, hi, h2⟩ := zo_l_mem _ _ _ hy
  exact hl i (by omega) y h2
theorem zx_mk {post : SX → Prop} {hh : Nat} {hd : Nat → Option Nat} (hm : m ≤ 12) (hp : p ≤ 4) (h8 : hh ≤ 8) (W : zz_N m N nc nd) (V : zz_Z m p sy Z sn ss) (hl : zo_lt m 48 pd) (hlh : zo_lt m 8 hd)
    (K : ∀ wL' mk' wo', zb_k mk' (fun z => z ∈ zk_K N Z pd hd m hh) → post (nI m, sC, pC, nI hh, iL, gL, bL, sL, fL, wL', mk', nd, nc, kd, ss, sn, zo_X hd, op, zo_X pd, ini, fin, il, gl, ba, se, fr, re, fo, wo')) :
    wpX_markKept post (nI m, sC, pC, nI hh, iL, gL, bL, sL, fL, wL, kM, nd, nc, kd, ss, sn, zo_X hd, op, zo_X pd, ini, fin, il, gl, ba, se, fr, re, fo, wo) := by
  refine ⟨hh + 1, zx_mk12 hm h8 hlh hh 0 [] 0 wo (by omega) zl_ok_nil zl_A_nil (zb_c zb_0 (fun z _ => by simp)) (fun mk' wo' hA' hk' => ⟨m + 1, ?_⟩)⟩
  exact zx_mk49 hm hp W V hl m 0 _ mk' wo' (by omega) (zk_l0 h8 hlh) hA' hk' K
theorem zx_fu12 {post : SX → Prop} {I K : List Nat} (hI : ∀ x, x ∈ I → x < 12) (hk : zb_k kM (fun z => z ∈ K)) :
    ∀ (Q : List Nat) (l : Nat) (B : List Nat), Q.length = l → l + B.length ≤ 12 → zl_A il 0 Q.reverse → (∀ x, x ∈ Q → x ∈ I) →
    post (mC, sC, pC, hC, iL, gL, nI (B ++ zg_e K Q).length, sL, fL, wL, kM, nd, nc, kd, ss, sn, hM, op, pt, ini, zl_b fin (B ++ zg_e K Q), il, gl, zl_w ba 0 (B ++ zg_e K Q), se, fr, re, fo, wo) →
    (wX_finaliseUnkept_12 post mC sC pC hC iL gL sL fL wL kM (l + 1) (nI l + (-1)) (nI B.length) nd nc kd ss sn hM op pt ini (zl_b fin B) il gl (zl_w ba 0 B) se fr re fo wo) := by
  intro Q
  induction Q with
  | nil =>
    intro l B el _ _ _ P
    subst el
    rw [show zg_e K [] = [] from rfl, List.append_nil] at P
    rw [wX_finaliseUnkept_12]
    exact br_t zn_neg P
  | cons x Q ih =>
    intro l B el hl hQ hs P
    subst el
    rw [List.length_cons] at hl
    rw [List.reverse_cons, zl_A_app, zl_A_cons, Nat.zero_add, List.length_reverse] at hQ
    have hx := hI x (hs x List.mem_cons_self)
    have c : (nI Q.length).toNatClampNeg = Q.length := nI_clamp (by omega)
    have cx : (nI x).toNatClampNeg = x := nI_clamp (by omega)
    have cb : (nI B.length).toNatClampNeg = B.length := nI_clamp (by omega)
    have vx : vp_in (nI x) 12 := vp_in_nI hx (by omega)
    have hs2 : ∀ z, z ∈ Q → z ∈ I := fun z hz => hs z (List.mem_cons_of_mem x hz)
    rw [List.length_cons, pk_m1, wX_finaliseUnkept_12]
    dsimp only
    rw [c, hQ.2.1]
    refine br_f (nI_pos (by omega)) ⟨vp_in_nI (by omega) (by omega), nm_e (zx_isK hx hk (fun h => br_t rfl ?_) (fun h => br_f (by decide) (nm_e ?_)))⟩
    · rw [zg_e_out h, List.append_cons] at P
      have h1 := ih Q.length (B ++ [x]) rfl (by rw [zl_snoc_len]; omega) hQ.1 hs2 P
      rw [zl_snoc_len, ← zl_w_snoc, ← zl_b_snoc, Nat.zero_add] at h1
      exact ⟨vp_in_nI (by omega) (by omega), nm_r (e' := upd (zl_w ba 0 B) B.length (nI x)) (by rw [cb]) (nm_r (nI_1 _) ⟨vx, vx, nm_r (e' := upd (zl_b fin B) x (zl_b fin B x + 1)) (by rw [cx]) (nm_e h1)⟩)⟩
    · rw [zg_e_in h] at P
      exact ih Q.length B rfl (by omega) hQ.1 hs2 P
theorem zx_fu {post : SX → Prop} {I K : List Nat} (hI : zl_ok 12 I) (hA : zl_A il 0 I) (hk : zb_k kM (fun z => z ∈ K))
    (P : post (mC, sC, pC, hC, nI I.length, gL, nI (zg_e K I.reverse).length, sL, fL, wL, kM, nd, nc, kd, ss, sn, hM, op, pt, ini, zl_b fin (zg_e K I.reverse), il, gl, zl_w ba 0 (zg_e K I.reverse), se, fr, re, fo, wo)) : wpX_finaliseUnkept post (mC, sC, pC, hC, nI I.length, gL, bL, sL, fL, wL, kM, nd, nc, kd, ss, sn, hM, op, pt, ini, fin, il, gl, ba, se, fr, re, fo, wo) := by
  have hl := zl_len hI
  refine nm_r (e' := nI I.length + (-1)) (zn_m1 _) ⟨I.length + 1, ?_⟩
  exact zx_fu12 hI.2 hk I.reverse I.length [] List.length_reverse (by rw [List.length_nil]; omega) (by rw [List.reverse_reverse]; exact hA) (fun x hx => List.mem_reverse.mp hx) P
theorem zx_ci4 {post : SX → Prop} {I K : List Nat} (hI : zl_ok 12 I) (hA : zl_A il 0 I) (hk : zb_k kM (fun z => z ∈ K)) :
    ∀ (Q A B : List Nat), I = A ++ Q → B.length ≤ A.length → post (mC, sC, pC, hC, nI (B ++ zg_k K Q).length, gL, bL, sL, fL, wL, kM, nd, nc, kd, ss, sn, hM, op, pt, ini, fin, zl_w il 0 (B ++ zg_k K Q), gl, ba, se, fr, re, fo, wo) →
    (wX_compactInitList_4 post mC sC pC hC (nI I.length) gL bL sL fL wL kM (Q.length + 1) (nI B.length) (nI A.length) nd nc kd ss sn hM op pt ini fin (zl_w il 0 B) gl ba se fr re fo wo) := by
  have hl := zl_len hI
  intro Q
  induction Q with
  | nil =>
    intro A B hQ hB P
    rw [List.append_nil] at hQ
    rw [show zg_k K [] = [] from rfl, List.append_nil] at P
    rw [wX_compactInitList_4]
    exact br_t (nI_le (by rw [hQ]; omega) (by rw [← hQ]; omega)) P
  | cons x Q ih =>
    intro A B hQ hB P
    have hlen : I.length = A.length + (Q.length + 1) := by rw [hQ, List.length_append, List.length_cons]
    have hx : x < 12 := hI.2 x (by rw [hQ]; simp)
    have c : (nI A.length).toNatClampNeg = A.length := nI_clamp (by omega)
    have cb : (nI B.length).toNatClampNeg = B.length := nI_clamp (by omega)
    have hg : zl_w il 0 B A.length = nI x := by
      rw [zl_w_out _ _ _ _ (Or.inr (by omega))]
      have h1 := hA
      rw [hQ, zl_A_app, zl_A_cons, Nat.zero_add] at h1
      exact h1.2.1
    rw [wX_compactInitList_4]
    dsimp only
    rw [c, hg]
    refine br_f (nI_ge (by omega) (by omega)) ⟨vp_in_nI (by omega) (by omega), nm_e (zx_isK hx hk (fun h => br_t rfl ?_) (fun h => br_f (by decide) ?_))⟩
    · rw [zg_k_out h] at P
      have h1 := ih (A ++ [x]) B (by rw [hQ]; simp) (by rw [zl_snoc_len]; omega) P
      rw [zl_snoc_len] at h1
      exact nm_r (nI_1 _) h1
    · rw [zg_k_in h, List.append_cons] at P
      have h1 := ih (A ++ [x]) (B ++ [x]) (by rw [hQ]; simp) (by rw [zl_snoc_len, zl_snoc_len]; omega) P
      rw [zl_snoc_len, zl_snoc_len, ← zl_w_snoc, Nat.zero_add] at h1
      exact ⟨vp_in_nI (by omega) (by omega), nm_r (e' := upd (zl_w il 0 B) B.length (nI x)) (by rw [cb]) (nm_r (nI_1 _) (nm_r (nI_1 _) h1))⟩
theorem zx_ci {post : SX → Prop} {I K : List Nat} (hI : zl_ok 12 I) (hA : zl_A il 0 I) (hk : zb_k kM (fun z => z ∈ K)) (P : post (mC, sC, pC, hC, nI (zg_k K I).length, gL, bL, sL, fL, wL, kM, nd, nc, kd, ss, sn, hM, op, pt, ini, fin, zl_w il 0 (zg_k K I), gl, ba, se, fr, re, fo, wo)) : wpX_compactInitList post (mC, sC, pC, hC, nI I.length, gL, bL, sL, fL, wL, kM, nd, nc, kd, ss, sn, hM, op, pt, ini, fin, il, gl, ba, se, fr, re, fo, wo) :=
  ⟨I.length + 1, zx_ci4 hI hA hk I [] [] rfl (Nat.le_refl _) P⟩
theorem zx_cg4 {post : SX → Prop} {I K : List Nat} (hI : zl_ok 12 I) (hA : zl_A gl 0 I) (hk : zb_k kM (fun z => z ∈ K)) :
    ∀ (Q A B : List Nat), I = A ++ Q → B.length ≤ A.length → post (mC, sC, pC, hC, iL, nI (B ++ zg_k K Q).length, bL, sL, fL, wL, kM, nd, nc, kd, ss, sn, hM, op, pt, ini, fin, il, zl_w gl 0 (B ++ zg_k K Q), ba, se, fr, re, fo, wo) →
    (wX_compactGlobalList_4 post mC sC pC hC iL (nI I.length) bL sL fL wL kM (Q.length + 1) (nI B.length) (nI A.length) nd nc kd ss sn hM op pt ini fin il (zl_w gl 0 B) ba se fr re fo wo) := by
  have hl := zl_len hI
  intro Q
  induction Q with
  | nil =>
    intro A B hQ hB P
    rw [List.append_nil] at hQ
    rw [show zg_k K [] = [] from rfl, List.append_nil] at P
    rw [wX_compactGlobalList_4]
    exact br_t (nI_le (by rw [hQ]; omega) (by rw [← hQ]; omega)) P
  | cons x Q ih =>
    intro A B hQ hB P
    have hlen : I.length = A.length + (Q.length + 1) := by rw [hQ, List.length_append, List.length_cons]
    have hx : x < 12 := hI.2 x (by rw [hQ]; simp)
    have c : (nI A.length).toNatClampNeg = A.length := nI_clamp (by omega)
    have cb : (nI B.length).toNatClampNeg = B.length := nI_clamp (by omega)
    have hg : zl_w gl 0 B A.length = nI x := by
      rw [zl_w_out _ _ _ _ (Or.inr (by omega))]
      have h1 := hA
      rw [hQ, zl_A_app, zl_A_cons, Nat.zero_add] at h1
      exact h1.2.1
    rw [wX_compactGlobalList_4]
    dsimp only
    rw [c, hg]
    refine br_f (nI_ge (by omega) (by omega)) ⟨vp_in_nI (by omega) (by omega), nm_e (zx_isK hx hk (fun h => br_t rfl ?_) (fun h => br_f (by decide) ?_))⟩
    · rw [zg_k_out h] at P
      have h1 := ih (A ++ [x]) B (by rw [hQ]; simp) (by rw [zl_snoc_len]; omega) P
      rw [zl_snoc_len] at h1
      exact nm_r (nI_1 _) h1
    · rw [zg_k_in h, List.append_cons] at P
      have h1 := ih (A ++ [x]) (B ++ [x]) (by rw [hQ]; simp) (by rw [zl_snoc_len, zl_snoc_len]; omega) P
      rw [zl_snoc_len, zl_snoc_len, ← zl_w_snoc, Nat.zero_add] at h1
      exact ⟨vp_in_nI (by omega) (by omega), nm_r (e' := upd (zl_w gl 0 B) B.length (nI x)) (by rw [cb]) (nm_r (nI_1 _) (nm_r (nI_1 _) h1))⟩
theorem zx_cg {post : SX → Prop} {I K : List Nat} (hI : zl_ok 12 I) (hA : zl_A gl 0 I) (hk : zb_k kM (fun z => z ∈ K)) (P : post (mC, sC, pC, hC, iL, nI (zg_k K I).length, bL, sL, fL, wL, kM, nd, nc, kd, ss, sn, hM, op, pt, ini, fin, il, zl_w gl 0 (zg_k K I), ba, se, fr, re, fo, wo)) : wpX_compactGlobalList post (mC, sC, pC, hC, iL, nI I.length, bL, sL, fL, wL, kM, nd, nc, kd, ss, sn, hM, op, pt, ini, fin, il, gl, ba, se, fr, re, fo, wo) :=
  ⟨I.length + 1, zx_cg4 hI hA hk I [] [] rfl (Nat.le_refl _) P⟩
theorem zx_ul10 {post : SX → Prop} {x : Nat} (hx : x < 12) (P : post (mC, sC, pC, hC, iL, gL, bL, sL, fL, wL, kM, nd, nc, kd, ss, sn, hM, op, zo_X (zp_i pd x 4), ini, fin, il, gl, ba, se, fr, re, fo, wo)) :
    ∀ (d i : Nat), i + d = 4 → (wX_unload_10 post (nI x) mC sC pC hC iL gL bL sL fL wL kM (d + 1) (nI i) nd nc kd ss sn hM op (zo_X (zp_i pd x i)) ini fin il gl ba se fr re fo wo) := by
  intro d
  induction d with
  | zero =>
    intro i hi
    rw [Nat.add_zero] at hi
    subst hi
    rw [wX_unload_10]
    exact br_t (by decide) P
  | succ d ih =>
    intro i hi
    have h1 := ih (i + 1) (by omega)
    rw [← zp_i_s, ← zo_Xu] at h1
    rw [wX_unload_10]
    exact br_f (nI_ge (b := 4) (by omega) (by decide)) (zx_sc ⟨vp_in_nI (by omega) (by omega), nm_r (e' := upd (zo_X (zp_i pd x i)) (x * 4 + i) (zo_x none)) (by rw [nI_clamp (by omega)]; rfl) (nm_r (nI_1 i) h1)⟩)
theorem zx_ul {post : SX → Prop} {x : Nat} {od : Nat → Option Nat} (hx : x < 12) (P : post (mC, sC, pC, hC, iL, gL, bL, sL, fL, wL, kM, nd, nc, kd, ss, sn, hM, zo_X (zo_u od x none), zo_X (zp_i pd x 4), ini, fin, il, gl, ba, se, fr, re, fo, wo)) : wpX_unload post (mC, sC, pC, hC, iL, gL, bL, sL, fL, wL, kM, nd, nc, kd, ss, sn, hM, zo_X od, zo_X pd, ini, fin, il, gl, ba, se, fr, re, fo, wo) (nI x) := by
  refine ⟨vp_in_nI hx (by omega), nm_r (e' := zo_X (zo_u od x none)) (by rw [nI_clamp (by omega), ← zo_Xu]; rfl) ⟨5, ?_⟩⟩
  have e : zo_X pd = zo_X (zp_i pd x 0) := by rw [zp_i_0]
  rw [e]
  exact zx_ul10 hx P 4 0 rfl
theorem zx_ao2 {post : SX → Prop} {K : List Nat} {od : Nat → Option Nat} (hm : m ≤ 12) (hl : zo_lt m 12 od) (hk : zb_k kM (fun z => z ∈ K)) (P : post (nI m, sC, pC, hC, iL, gL, bL, sL, fL, wL, kM, nd, nc, kd, ss, sn, hM, zo_X (za_O K od m), pt, ini, fin, il, gl, ba, se, fr, re, fo, wo)) :
    ∀ (d i : Nat), i + d = m → (wX_adoptOrphans_2 post (nI m) sC pC hC iL gL bL sL fL wL kM (d + 1) (nI i) nd nc kd ss sn hM (zo_X (za_O K od i)) pt ini fin il gl ba se fr re fo wo) := by
  intro d
  induction d with
  | zero =>
    intro i hi
    rw [Nat.add_zero] at hi
    subst hi
    rw [wX_adoptOrphans_2]
    exact br_t (nI_le (Nat.le_refl _) (by omega)) P
  | succ d ih =>
    intro i hi
    have h1 := ih (i + 1) (by omega)
    have c : (nI i).toNatClampNeg = i := nI_clamp (by omega)
    have e : zo_X (za_O K od i) i = zo_x (od i) := by show zo_x (za_O K od i i) = _; unfold za_O; rw [if_neg (by omega)]
    have hb := hl i (by omega)
    rw [wX_adoptOrphans_2]
    dsimp only
    rw [c, e]
    refine br_f (nI_ge (by omega) (by omega)) ⟨vp_in_nI (by omega) (by omega), nm_e ?_⟩
    cases q : od i with
    | none =>
      rw [← za_O_k (by unfold za_o; rw [q])] at h1
      exact br_t rfl (nm_r (nI_1 i) h1)
    | some o =>
      have ho := hb o q
      refine br_f (zn_m7 (by omega)) (zx_isK (by omega) hk (fun h => br_t rfl ⟨vp_in_nI (by omega) (by omega), nm_r (e' := upd (zo_X (za_O K od i)) i (zo_x (some i))) rfl (nm_r (nI_1 i) ?_)⟩) (fun h => br_f (by decide) (nm_r (nI_1 i) ?_)))
      · rw [zo_Xu, za_O_s (by unfold za_o; rw [q]; exact if_neg h)]
        exact h1
      · rw [← za_O_k (by unfold za_o; rw [q]; exact if_pos h)] at h1
        exact h1
theorem zx_ao {post : SX → Prop} {K : List Nat} {od : Nat → Option Nat} (hm : m ≤ 12) (hl : zo_lt m 12 od) (hk : zb_k kM (fun z => z ∈ K)) (P : post (nI m, sC, pC, hC, iL, gL, bL, sL, fL, wL, kM, nd, nc, kd, ss, sn, hM, zo_X (za_O K od m), pt, ini, fin, il, gl, ba, se, fr, re, fo, wo)) :
    wpX_adoptOrphans post (nI m, sC, pC, hC, iL, gL, bL, sL, fL, wL, kM, nd, nc, kd, ss, sn, hM, zo_X od, pt, ini, fin, il, gl, ba, se, fr, re, fo, wo) := by
  refine ⟨m + 1, ?_⟩
  have e : zo_X od = zo_X (za_O K od 0) := by rw [za_O_0]
  rw [e]
  exact zx_ao2 hm hl hk P m 0 (by omega)
theorem zx_cl50 {post : Int32 → SX → Prop} {K B : List Nat} {od : Nat → Option Nat} (hm : m ≤ 12) (hl : zo_lt m 12 od) (hk : zb_k kM (fun z => z ∈ K)) (hB : zl_ok m B) (hA : zl_A ba 0 B)
    (P : post (nI B.length) (nI m, sC, pC, hC, iL, gL, nI B.length, sL, fL, wL, kM, nd, nc, kd, ss, sn, hM, zo_X (za_O K (zo_U od B none) m), zo_X (zp_U pd B), ini, fin, il, gl, ba, se, fr, re, fo, wo)) :
    ∀ (Q A : List Nat), B = A ++ Q → (wX_close_50 post (Q.length + 1) (nI A.length) (nI m) sC pC hC iL gL (nI B.length) sL fL wL kM nd nc kd ss sn hM (zo_X (zo_U od A none)) (zo_X (zp_U pd A)) ini fin il gl ba se fr re fo wo) := by
  have hll := zl_len hB
  intro Q
  induction Q with
  | nil =>
    intro A hQ
    rw [List.append_nil] at hQ
    subst hQ
    rw [wX_close_50]
    exact br_t (nI_le (Nat.le_refl _) (by omega)) (zx_ao hm (zo_lt_U hl (fun y e => nomatch e)) hk P)
  | cons x Q ih =>
    intro A hQ
    have hlen : B.length = A.length + (Q.length + 1) := by rw [hQ, List.length_append, List.length_cons]
    have hx : x < m := hB.2 x (by rw [hQ]; simp)
    have c : (nI A.length).toNatClampNeg = A.length := nI_clamp (by omega)
    have hg : ba A.length = nI x := by
      have h1 := hA
      rw [hQ, zl_A_app, zl_A_cons, Nat.zero_add] at h1
      exact h1.2.1
    have h1 := ih (A ++ [x]) (by rw [hQ]; simp)
    rw [zl_snoc_len, ← zo_U_snoc, ← zp_U_snoc] at h1
    rw [wX_close_50]
    dsimp only
    rw [c, hg]
    exact br_f (nI_ge (by omega) (by omega)) ⟨vp_in_nI (by omega) (by omega), zx_ul (by omega) (nm_r (nI_1 _) h1)⟩
end XC
end
section
/-! Y: close -/
/-- the kept flags are those of L -/
def zk_S (m : Nat) (ke : Nat → Int32) (L : List Nat) : Prop := ∀ x, x < m → (ke x = 0 ↔ x ∉ L)
theorem zk_S_1 {m y : Nat} {ke : Nat → Int32} {L : List Nat} (h : zk_S m ke L) : zk_S m (upd ke y (vp_nar .boolean 1)) (zl_a1 L y) := by
  intro x hx
  rw [zl_a1_mem]
  by_cases e : x = y
  · rw [e, pk_us]
    refine ⟨fun z => absurd z ?_, fun z => absurd (Or.inr rfl) z⟩
    show ¬ (1 : Int32) = 0
    decide
  · rw [pk_un e, h x hx]
    exact ⟨fun z w => w.elim z e, fun z w => z (Or.inl w)⟩
theorem zk_S_e {m : Nat} {ke : Nat → Int32} {L K : List Nat} (h : zk_S m ke L) (e : ∀ x, x ∈ L ↔ x ∈ K) : zk_S m ke K := fun x hx => by rw [h x hx, e x]
section YC
variable {mC sC pC hC iL gL bL qL fL : Int32} {nd nc kd ss sn hM op pt il gl ba ini fin sq fr ke : Nat → Int32}
variable {m p sy : Nat} {N Z : Nat → List Nat} {pd : Nat → Option Nat}
theorem zy_cl35 {post : Int32 → SY → Prop} (hm : m ≤ 12) :
    ∀ (d i : Nat) (ke : Nat → Int32), i + d = m → (∀ x, x < i → ke x = 0) → (∀ ke', zk_S m ke' [] → ∃ n58, (wY_close_58 post (nI m) sC pC hC iL gL bL qL fL n58 0 nd nc kd ss sn hM op pt il gl ba ini fin sq fr ke')) →
    (wY_close_35 post (nI m) sC pC hC iL gL bL qL fL (d + 1) (nI i) nd nc kd ss sn hM op pt il gl ba ini fin sq fr ke) := by
  intro d
  induction d with
  | zero =>
    intro i ke hi h0 K
    rw [wY_close_35]
    exact br_t (nI_le (by omega) (by omega)) (K ke (fun x hx => ⟨fun _ => List.not_mem_nil, fun _ => h0 x (by omega)⟩))
  | succ d ih =>
    intro i ke hi h0 K
    rw [wY_close_35]
    refine br_f (nI_ge (by omega) (by omega)) ⟨vp_in_nI (by omega) (by omega), nm_r (e' := upd ke i (vp_nar .boolean 0)) (by rw [nI_clamp (by omega)]) (nm_r (nI_1 i) (ih (i + 1) _ (by omega) (fun x hx => ?_) K))⟩
    by_cases e : x = i
    · rw [e, pk_us]; rfl
    · rw [pk_un e]; exact h0 x (by omega)
theorem zy_cl58 {post : Int32 → SY → Prop} {hh : Nat} {hd : Nat → Option Nat} (hm : m ≤ 12) (h8 : hh ≤ 8) (hl : zo_lt m 8 hd) :
    ∀ (d j : Nat) (L : List Nat) (ke : Nat → Int32), j + d = hh → zk_S m ke L → (∀ ke', zk_S m ke' (zl_ad L (zo_l hd d j)) → ∃ n95, (wY_close_95 post n95 0 mC sC pC (nI hh) iL gL bL qL fL nd nc kd ss sn (zo_Y hd) op pt il gl ba ini fin sq fr ke')) →
    (wY_close_58 post mC sC pC (nI hh) iL gL bL qL fL (d + 1) (nI j) nd nc kd ss sn (zo_Y hd) op pt il gl ba ini fin sq fr ke) := by
  intro d
  induction d with
  | zero =>
    intro j L ke hj hk K
    rw [wY_close_58]
    exact br_t (nI_le (by omega) (by omega)) (K ke hk)
  | succ d ih =>
    intro j L ke hj hk K
    have c : (nI j).toNatClampNeg = j := nI_clamp (by omega)
    have v : vp_in (nI j) 8 := vp_in_nI (by omega) (by omega)
    have e : zo_Y hd j = zo_y (hd j) := rfl
    rw [wY_close_58]
    dsimp only
    rw [c, e]
    refine br_f (nI_ge (by omega) (by omega)) ⟨v, ?_⟩
    cases q : hd j with
    | none =>
      rw [zo_l_n q] at K
      exact br_t (by decide) (nm_r (nI_1 j) (ih (j + 1) L ke (by omega) hk K))
    | some y =>
      have hy := hl j (by omega) y q
      rw [zo_l_s q] at K
      exact br_f (nI_pos (by omega)) ⟨v, vp_in_nI (by omega) (by omega), nm_r (e' := upd ke y (vp_nar .boolean 1)) (by show upd ke (nI y).toNatClampNeg _ = _; rw [nI_clamp (by omega)]) (nm_r (nI_1 j) (ih (j + 1) _ _ (by omega) (zk_S_1 hk) K))⟩
theorem zy_kt37 {post : SY → Prop} {x : Nat} (hm : m ≤ 12) (hp : p ≤ 4) (hx : x < m) (V : zz_Z m p sy Z sn ss) (hl : zo_lt m 48 pd) :
    ∀ (d j : Nat) (L : List Nat) (ke : Nat → Int32), j + d = (Z x).length → zk_S m ke L →
    (∀ ke', zk_S m ke' (zl_ad L (zo_l (fun j => pd (x * 4 + j)) d j)) → post (mC, sC, pC, hC, iL, gL, bL, qL, fL, nd, nc, kd, ss, sn, hM, op, zo_Y pd, il, gl, ba, ini, fin, sq, fr, ke')) →
    (wY_keepTargets_37 post (nI x) mC sC pC hC iL gL bL qL fL (d + 1) (nI j) nd nc kd ss sn hM op (zo_Y pd) il gl ba ini fin sq fr ke) := by
  have c : (nI x).toNatClampNeg = x := nI_clamp (by omega)
  have v : vp_in (nI x) 12 := vp_in_nI (by omega) (by omega)
  have hn := (V x hx).1
  have h4 := (V x hx).2.2.1
  intro d
  induction d with
  | zero =>
    intro j L ke hj hk K
    rw [wY_keepTargets_37]
    dsimp only
    rw [c, hn]
    exact ⟨v, br_t (nI_le (by omega) (by omega)) (K _ hk)⟩
  | succ d ih =>
    intro j L ke hj hk K
    have c2 : (nI (x * 4 + j)).toNatClampNeg = x * 4 + j := nI_clamp (by omega)
    have hb := hl (x * 4 + j) (by omega)
    have e : zo_Y pd (x * 4 + j) = zo_y (pd (x * 4 + j)) := rfl
    have v2 : vp_in (nI (x * 4 + j)) 48 := vp_in_nI (by omega) (by omega)
    rw [wY_keepTargets_37]
    dsimp only
    rw [c, hn, zn_4, c2, e]
    refine ⟨v, br_f (nI_ge (by omega) (by omega)) ⟨v2, ?_⟩⟩
    cases q : pd (x * 4 + j) with
    | none =>
      rw [zo_l_n (f := fun j => pd (x * 4 + j)) q] at K
      exact br_t (by decide) (nm_r (nI_1 j) (ih (j + 1) L ke (by omega) hk K))
    | some y =>
      have hy := hb y q
      rw [zo_l_s (f := fun j => pd (x * 4 + j)) q] at K
      exact br_f (nI_pos (by omega)) ⟨v2, vp_in_nI (by omega) (by omega), nm_r (e' := upd ke y (vp_nar .boolean 1)) (by show upd ke (nI y).toNatClampNeg _ = _; rw [nI_clamp (by omega)]) (nm_r (nI_1 j) (ih (j + 1) _ _ (by omega) (zk_S_1 hk) K))⟩
theorem zy_kt2 {post : SY → Prop} {x : Nat} (hm : m ≤ 12) (hx : x < m) (W : zz_N m N nc nd) :
    ∀ (R : List Nat) (j : Nat) (L : List Nat) (ke : Nat → Int32), j + R.length = (N x).length → zl_A nd (x * 12 + j) R → (∀ y, y ∈ R → y < m) → zk_S m ke L →
    (∀ ke', zk_S m ke' (zl_ad L R) → ∃ n37, (wY_keepTargets_37 post (nI x) mC sC pC hC iL gL bL qL fL n37 0 nd nc kd ss sn hM op pt il gl ba ini fin sq fr ke')) →
    (wY_keepTargets_2 post (nI x) mC sC pC hC iL gL bL qL fL (R.length + 1) (nI j) nd nc kd ss sn hM op pt il gl ba ini fin sq fr ke) := by
  have c : (nI x).toNatClampNeg = x := nI_clamp (by omega)
  have v : vp_in (nI x) 12 := vp_in_nI (by omega) (by omega)
  have hn := (W x hx).1
  have hl := zz_N_len W hx
  intro R
  induction R with
  | nil =>
    intro j L ke hj hR hm2 hk K
    rw [List.length_nil] at hj
    rw [wY_keepTargets_2]
    dsimp only
    rw [c, hn]
    exact ⟨v, br_t (nI_le (by omega) (by omega)) (K _ hk)⟩
  | cons y R ih =>
    intro j L ke hj hR hm2 hk K
    rw [List.length_cons] at hj
    obtain ⟨hA1, hA2⟩ := zl_A_cons.mp hR
    have hy : y < m := hm2 y List.mem_cons_self
    have c2 : (nI (x * 12 + j)).toNatClampNeg = x * 12 + j := nI_clamp (by omega)
    rw [wY_keepTargets_2]
    dsimp only
    rw [c, hn, zn_12, c2, hA1]
    exact ⟨v, br_f (nI_ge (by omega) (by omega)) ⟨vp_in_nI (by omega) (by omega), vp_in_nI (by omega) (by omega), nm_r (e' := upd ke y (vp_nar .boolean 1)) (by rw [nI_clamp (by omega)])
      (nm_r (nI_1 j) (ih (j + 1) _ _ (by omega) hA2 (fun z hz => hm2 z (List.mem_cons_of_mem y hz)) (zk_S_1 hk) K))⟩⟩
theorem zy_kt {post : SY → Prop} {x : Nat} {L : List Nat} (hm : m ≤ 12) (hp : p ≤ 4) (hx : x < m) (W : zz_N m N nc nd) (V : zz_Z m p sy Z sn ss) (hl : zo_lt m 48 pd) (hk : zk_S m ke L)
    (K : ∀ ke', zk_S m ke' (zl_ad L (zk_t N Z pd x)) → post (mC, sC, pC, hC, iL, gL, bL, qL, fL, nd, nc, kd, ss, sn, hM, op, zo_Y pd, il, gl, ba, ini, fin, sq, fr, ke')) :
    wpY_keepTargets post (mC, sC, pC, hC, iL, gL, bL, qL, fL, nd, nc, kd, ss, sn, hM, op, zo_Y pd, il, gl, ba, ini, fin, sq, fr, ke) (nI x) := by
  unfold zk_t at K
  rw [zl_ad_app] at K
  refine ⟨(N x).length + 1, zy_kt2 hm hx W (N x) 0 L ke (by omega) (W x hx).2.1 (zz_N_ht W x hx) hk (fun ke' hk' => ⟨(Z x).length + 1, ?_⟩)⟩
  exact zy_kt37 hm hp hx V hl (Z x).length 0 (zl_ad L (N x)) ke' (by omega) hk' K
theorem zy_cl105 {post : Int32 → SY → Prop} {J95 : Int32 → Int32 → Int32 → Int32 → Int32 → Int32 → Int32 → Int32 → Int32 → Int32 → zt_16} {x2 : Int32} (hm : m ≤ 12) (hp : p ≤ 4) (W : zz_N m N nc nd) (V : zz_Z m p sy Z sn ss) (hl : zo_lt m 48 pd) :
    ∀ (d x : Nat) (L : List Nat) (ke : Nat → Int32), x + d = m → zk_S m ke L → (∀ ke', zk_S m ke' (zl_sw (zk_t N Z pd) d x L) → J95 (x2 + 1) (nI m) sC pC hC iL gL bL qL fL nd nc kd ss sn hM op (zo_Y pd) il gl ba ini fin sq fr ke') →
    (wY_close_105 post J95 x2 (d + 1) (nI x) (nI m) sC pC hC iL gL bL qL fL nd nc kd ss sn hM op (zo_Y pd) il gl ba ini fin sq fr ke) := by
  intro d
  induction d with
  | zero =>
    intro x L ke hx hk K
    rw [wY_close_105]
    exact br_t (nI_le (by omega) (by omega)) (nm_e (K ke hk))
  | succ d ih =>
    intro x L ke hx hk K
    have c : (nI x).toNatClampNeg = x := nI_clamp (by omega)
    have hb := hk x (by omega)
    rw [zl_sw] at K
    rw [wY_close_105]
    dsimp only
    rw [c]
    refine br_f (nI_ge (by omega) (by omega)) ⟨vp_in_nI (by omega) (by omega), ?_⟩
    by_cases e : x ∈ L
    · rw [if_pos e] at K
      exact br_f (fun z => hb.mp z e) (zy_kt hm hp (by omega) W V hl hk (fun ke' hk' => nm_r (nI_1 x) (ih (x + 1) _ ke' (by omega) hk' K)))
    · rw [if_neg e] at K
      exact br_t (hb.mpr e) (nm_r (nI_1 x) (ih (x + 1) _ ke (by omega) hk K))
theorem zy_cl95 {post : Int32 → SY → Prop} (hm : m ≤ 12) (hp : p ≤ 4) (W : zz_N m N nc nd) (V : zz_Z m p sy Z sn ss) (hl : zo_lt m 48 pd) :
    ∀ (r i : Nat) (L : List Nat) (ke : Nat → Int32), i + r = m → zk_S m ke L → (∀ ke', zk_S m ke' (zl_rd (zk_t N Z pd) m r L) → ∃ n151, (wY_close_151 post (nI m) sC pC hC iL gL qL fL n151 (iL - 1) 0 nd nc kd ss sn hM op (zo_Y pd) il gl ba ini fin sq fr ke')) →
    (wY_close_95 post (r + 1) (nI i) (nI m) sC pC hC iL gL bL qL fL nd nc kd ss sn hM op (zo_Y pd) il gl ba ini fin sq fr ke) := by
  intro r
  induction r with
  | zero =>
    intro i L ke hi hk K
    rw [wY_close_95]
    exact br_t (nI_le (by omega) (by omega)) (nm_e (K ke hk))
  | succ r ih =>
    intro i L ke hi hk K
    rw [wY_close_95]
    refine br_f (nI_ge (by omega) (by omega)) ⟨m + 1, zy_cl105 hm hp W V hl m 0 L ke (by omega) hk (fun ke' hk' => ?_)⟩
    rw [nI_1]
    exact ih (i + 1) _ ke' (by omega) hk' K
theorem zy_cl208 {post : Int32 → SY → Prop} {J151 : Int32 → Int32 → zt_16} {x2 : Int32} {x : Nat} (hx : x < 12) (P : J151 (x2 + (-1)) bL nd nc kd ss sn hM op (zo_Y (zp_i pd x 4)) il gl ba ini fin sq fr ke) :
    ∀ (d i : Nat), i + d = 4 → (wY_close_208 post J151 x2 (nI x) mC sC pC hC iL gL bL qL fL (d + 1) (nI i) nd nc kd ss sn hM op (zo_Y (zp_i pd x i)) il gl ba ini fin sq fr ke) := by
  intro d
  induction d with
  | zero =>
    intro i hi
    rw [Nat.add_zero] at hi
    subst hi
    rw [wY_close_208]
    exact br_t (by decide) (nm_e P)
  | succ d ih =>
    intro i hi
    have h1 := ih (i + 1) (by omega)
    rw [← zp_i_s, ← zo_Yu] at h1
    rw [wY_close_208]
    dsimp only
    rw [zn_4]
    exact br_f (nI_ge (b := 4) (by omega) (by decide)) ⟨vp_in_nI (by omega) (by omega), nm_r (e' := upd (zo_Y (zp_i pd x i)) (x * 4 + i) (zo_y none)) (by rw [nI_clamp (by omega)]; rfl) (nm_r (nI_1 i) h1)⟩
theorem zy_cl151 {post : Int32 → SY → Prop} {I K : List Nat} {od : Nat → Option Nat} (hm : m ≤ 12) (hI : ∀ x, x ∈ I → x < m) (hk : zk_S m ke K) :
    ∀ (Q : List Nat) (l : Nat) (B : List Nat), Q.length = l → l + B.length ≤ 12 → zl_A il 0 Q.reverse → (∀ x, x ∈ Q → x ∈ I) →
    (∃ n242, (wY_close_242 post mC sC pC hC iL gL (nI (B ++ zg_e K Q).length) qL fL n242 0 0 nd nc kd ss sn hM (zo_Y (zo_U od (B ++ zg_e K Q) none)) (zo_Y (zp_U pd (B ++ zg_e K Q))) il gl (zl_w ba 0 (B ++ zg_e K Q)) ini (zl_b fin (B ++ zg_e K Q)) sq fr ke)) →
    (wY_close_151 post mC sC pC hC iL gL qL fL (l + 1) (nI l + (-1)) (nI B.length) nd nc kd ss sn hM (zo_Y (zo_U od B none)) (zo_Y (zp_U pd B)) il gl (zl_w ba 0 B) ini (zl_b fin B) sq fr ke) := by
  intro Q
  induction Q with
  | nil =>
    intro l B el _ _ _ P
    subst el
    rw [show zg_e K [] = [] from rfl, List.append_nil] at P
    rw [wY_close_151]
    exact br_t zn_neg P
  | cons x Q ih =>
    intro l B el hl hQ hs P
    subst el
    rw [List.length_cons] at hl
    rw [List.reverse_cons, zl_A_app, zl_A_cons, Nat.zero_add, List.length_reverse] at hQ
    have hx := hI x (hs x List.mem_cons_self)
    have c : (nI Q.length).toNatClampNeg = Q.length := nI_clamp (by omega)
    have cx : (nI x).toNatClampNeg = x := nI_clamp (by omega)
    have cb : (nI B.length).toNatClampNeg = B.length := nI_clamp (by omega)
    have vx : vp_in (nI x) 12 := vp_in_nI (by omega) (by omega)
    have hs2 : ∀ z, z ∈ Q → z ∈ I := fun z hz => hs z (List.mem_cons_of_mem x hz)
    have hb := hk x hx
    rw [List.length_cons, pk_m1, wY_close_151]
    dsimp only
    rw [c, hQ.2.1]
    refine br_f (nI_pos (by omega)) ⟨vp_in_nI (by omega) (by omega), nm_e ⟨vx, ?_⟩⟩
    rw [cx]
    by_cases h : x ∈ K
    · rw [zg_e_in h] at P
      exact br_f (fun z => hb.mp z h) (nm_e (ih Q.length B rfl (by omega) hQ.1 hs2 P))
    · rw [zg_e_out h, List.append_cons] at P
      have h1 := ih Q.length (B ++ [x]) rfl (by rw [zl_snoc_len]; omega) hQ.1 hs2 P
      rw [zl_snoc_len, ← zl_w_snoc, ← zl_b_snoc, Nat.zero_add, ← zo_U_snoc, ← zp_U_snoc, ← zo_Yu] at h1
      refine br_t (hb.mpr h) (nm_r (nI_1 _) ⟨vp_in_nI (by omega) (by omega), nm_r (e' := upd (zl_w ba 0 B) B.length (nI x)) (by rw [cb]) ⟨vx, vx, nm_e ⟨vx, nm_e ⟨5, ?_⟩⟩⟩⟩)
      have e : zo_Y (zp_U pd B) = zo_Y (zp_i (zp_U pd B) x 0) := by rw [zp_i_0]
      rw [e]
      exact zy_cl208 (by omega) h1 4 0 rfl
theorem zy_cl344 {post : Int32 → SY → Prop} {K : List Nat} {od : Nat → Option Nat} (hm : m ≤ 12) (hl : zo_lt m 12 od) (hk : zk_S m ke K) (P : post bL (nI m, sC, pC, hC, iL, gL, bL, qL, fL, nd, nc, kd, ss, sn, hM, zo_Y (za_O K od m), pt, il, gl, ba, ini, fin, sq, fr, ke)) :
    ∀ (d i : Nat), i + d = m → (wY_close_344 post (nI m) sC pC hC iL gL bL qL fL (d + 1) (nI i) nd nc kd ss sn hM (zo_Y (za_O K od i)) pt il gl ba ini fin sq fr ke) := by
  intro d
  induction d with
  | zero =>
    intro i hi
    rw [Nat.add_zero] at hi
    subst hi
    rw [wY_close_344]
    exact br_t (nI_le (Nat.le_refl _) (by omega)) P
  | succ d ih =>
    intro i hi
    have h1 := ih (i + 1) (by omega)
    have c : (nI i).toNatClampNeg = i := nI_clamp (by omega)
    have e : zo_Y (za_O K od i) i = zo_y (od i) := by show zo_y (za_O K od i i) = _; unfold za_O; rw [if_neg (by omega)]
    have hb := hl i (by omega)
    have v : vp_in (nI i) 12 := vp_in_nI (by omega) (by omega)
    rw [wY_close_344]
    dsimp only
    rw [c, e]
    refine br_f (nI_ge (by omega) (by omega)) ⟨v, ?_⟩
    cases q : od i with
    | none =>
      rw [← za_O_k (by unfold za_o; rw [q])] at h1
      exact br_t (by decide) (nm_r (nI_1 i) h1)
    | some o =>
      have ho := hb o q
      have hb2 := hk o ho
      have co : (zo_y (some o)).toNatClampNeg = o := nI_clamp (by omega)
      rw [co]
      refine br_f (nI_pos (by omega)) ⟨v, vp_in_nI (by omega) (by omega), ?_⟩
      by_cases h : o ∈ K
      · rw [← za_O_k (by unfold za_o; rw [q]; exact if_pos h)] at h1
        exact br_f (fun z => hb2.mp z h) (nm_r (nI_1 i) h1)
      · rw [← za_O_s (v := some i) (by unfold za_o; rw [q]; exact if_neg h), ← zo_Yu] at h1
        exact br_t (hb2.mpr h) ⟨v, nm_r (e' := upd (zo_Y (za_O K od i)) i (zo_y (some i))) rfl (nm_r (nI_1 i) h1)⟩
theorem zy_cl294 {post : Int32 → SY → Prop} {I K : List Nat} (hm : m ≤ 12) (hI : zl_ok m I) (hA : zl_A gl 0 I) (hk : zk_S m ke K) :
    ∀ (Q A B : List Nat), I = A ++ Q → B.length ≤ A.length → (∃ n344, (wY_close_344 post mC sC pC hC iL (nI (B ++ zg_k K Q).length) bL qL fL n344 0 nd nc kd ss sn hM op pt il (zl_w gl 0 (B ++ zg_k K Q)) ba ini fin sq fr ke)) →
    (wY_close_294 post mC sC pC hC iL (nI I.length) bL qL fL (Q.length + 1) (nI B.length) (nI A.length) nd nc kd ss sn hM op pt il (zl_w gl 0 B) ba ini fin sq fr ke) := by
  have hl := zl_len hI
  intro Q
  induction Q with
  | nil =>
    intro A B hQ hB P
    rw [List.append_nil] at hQ
    rw [show zg_k K [] = [] from rfl, List.append_nil] at P
    rw [wY_close_294]
    exact br_t (nI_le (by rw [hQ]; omega) (by rw [← hQ]; omega)) P
  | cons x Q ih =>
    intro A B hQ hB P
    have hlen : I.length = A.length + (Q.length + 1) := by rw [hQ, List.length_append, List.length_cons]
    have hx : x < m := hI.2 x (by rw [hQ]; simp)
    have c : (nI A.length).toNatClampNeg = A.length := nI_clamp (by omega)
    have cb : (nI B.length).toNatClampNeg = B.length := nI_clamp (by omega)
    have cx : (nI x).toNatClampNeg = x := nI_clamp (by omega)
    have hg : zl_w gl 0 B A.length = nI x := by
      rw [zl_w_out _ _ _ _ (Or.inr (by omega))]
      have h1 := hA
      rw [hQ, zl_A_app, zl_A_cons, Nat.zero_add] at h1
      exact h1.2.1
    have hb := hk x hx
    have v : vp_in (nI A.length) 12 := vp_in_nI (by omega) (by omega)
    rw [wY_close_294]
    dsimp only
    rw [c, hg, cx]
    refine br_f (nI_ge (by omega) (by omega)) ⟨v, vp_in_nI (by omega) (by omega), ?_⟩
    by_cases h : x ∈ K
    · rw [zg_k_in h, List.append_cons] at P
      have h1 := ih (A ++ [x]) (B ++ [x]) (by rw [hQ]; simp) (by rw [zl_snoc_len, zl_snoc_len]; omega) P
      rw [zl_snoc_len, zl_snoc_len, ← zl_w_snoc, Nat.zero_add] at h1
      exact br_f (fun z => hb.mp z h) (nm_r (nI_1 _) ⟨v, vp_in_nI (by omega) (by omega), nm_r (e' := upd (zl_w gl 0 B) B.length (nI x)) (by rw [cb]) (nm_r (nI_1 _) h1)⟩)
    · rw [zg_k_out h] at P
      have h1 := ih (A ++ [x]) B (by rw [hQ]; simp) (by rw [zl_snoc_len]; omega) P
      rw [zl_snoc_len] at h1
      exact br_t (hb.mpr h) (nm_r (nI_1 _) h1)
theorem zy_cl242 {post : Int32 → SY → Prop} {I K : List Nat} (hm : m ≤ 12) (hI : zl_ok m I) (hA : zl_A il 0 I) (hk : zk_S m ke K) :
    ∀ (Q A B : List Nat), I = A ++ Q → B.length ≤ A.length → (∃ n294, (wY_close_294 post mC sC pC hC (nI (B ++ zg_k K Q).length) gL bL qL fL n294 0 0 nd nc kd ss sn hM op pt (zl_w il 0 (B ++ zg_k K Q)) gl ba ini fin sq fr ke)) →
    (wY_close_242 post mC sC pC hC (nI I.length) gL bL qL fL (Q.length + 1) (nI B.length) (nI A.length) nd nc kd ss sn hM op pt (zl_w il 0 B) gl ba ini fin sq fr ke) := by
  have hl := zl_len hI
  intro Q
  induction Q with
  | nil =>
    intro A B hQ hB P
    rw [List.append_nil] at hQ
    rw [show zg_k K [] = [] from rfl, List.append_nil] at P
    rw [wY_close_242]
    exact br_t (nI_le (by rw [hQ]; omega) (by rw [← hQ]; omega)) P
  | cons x Q ih =>
    intro A B hQ hB P
    have hlen : I.length = A.length + (Q.length + 1) := by rw [hQ, List.length_append, List.length_cons]
    have hx : x < m := hI.2 x (by rw [hQ]; simp)
    have c : (nI A.length).toNatClampNeg = A.length := nI_clamp (by omega)
    have cb : (nI B.length).toNatClampNeg = B.length := nI_clamp (by omega)
    have cx : (nI x).toNatClampNeg = x := nI_clamp (by omega)
    have hg : zl_w il 0 B A.length = nI x := by
      rw [zl_w_out _ _ _ _ (Or.inr (by omega))]
      have h1 := hA
      rw [hQ, zl_A_app, zl_A_cons, Nat.zero_add] at h1
      exact h1.2.1
    have hb := hk x hx
    have v : vp_in (nI A.length) 12 := vp_in_nI (by omega) (by omega)
    rw [wY_close_242]
    dsimp only
    rw [c, hg, cx]
    refine br_f (nI_ge (by omega) (by omega)) ⟨v, vp_in_nI (by omega) (by omega), ?_⟩
    by_cases h : x ∈ K
    · rw [zg_k_in h, List.append_cons] at P
      have h1 := ih (A ++ [x]) (B ++ [x]) (by rw [hQ]; simp) (by rw [zl_snoc_len, zl_snoc_len]; omega) P
      rw [zl_snoc_len, zl_snoc_len, ← zl_w_snoc, Nat.zero_add] at h1
      exact br_f (fun z => hb.mp z h) (nm_r (nI_1 _) ⟨v, vp_in_nI (by omega) (by omega), nm_r (e' := upd (zl_w il 0 B) B.length (nI x)) (by rw [cb]) (nm_r (nI_1 _) h1)⟩)
    · rw [zg_k_out h] at P
      have h1 := ih (A ++ [x]) B (by rw [hQ]; simp) (by rw [zl_snoc_len]; omega) P
      rw [zl_snoc_len] at h1
      exact br_t (hb.mpr h) (nm_r (nI_1 _) h1)
end YC
end
section
/-! open and close, whole -/
section XM
variable {mC sC pC hC iL gL bL sL fL wL kM : Int32} {nd nc kd ss sn hM op pt ini fin il gl ba se fr re fo wo : Nat → Int32}
variable {m p sy hh : Nat} {N Z : Nat → List Nat} {hd od pd : Nat → Option Nat} {IL GL : List Nat}
theorem zx_open60 {post : Int32 → SX → Prop} {x3 : Int32} {F D : List Nat} (hm : m ≤ 12) (W : zz_N m N nc nd) (hF : zl_ok m F) (hI : zl_ok m IL) (hdj : ∀ x, x ∈ F → x ∉ IL) (hA : zl_A fr 0 F) (eD : D = zr_go (zl_sl N m) F F.length [])
    (K : ∀ sL' se' re', post x3 (nI m, sC, pC, hC, nI (IL.length + D.length), gL, nI D.length, sL', nI F.length, wL, kM, nd, nc, kd, ss, sn, hM, op, pt, zl_b ini D, fin, zl_w il IL.length D, gl, zl_w ba 0 D, se', fr, re', fo, wo)) :
    wX_open_60 post x3 (nI m) sC pC hC (nI IL.length) gL bL sL (nI F.length) wL kM nd nc kd ss sn hM op pt ini fin il gl ba se fr re fo wo := by
  subst eD
  unfold wX_open_60
  exact zx_if hm W hF hI hdj hA K
theorem zx_open19 {post : Int32 → SX → Prop} {x : Nat} {sc : Int32} {F E D : List Nat} (hm : m ≤ 12) (h8 : hh ≤ 8) (hx : x < m) (W : zz_N m N nc nd) (hI : zl_ok m IL) (hG : zl_ok m GL) (hAG : zl_A gl 0 GL) (hlh : zo_lt m 8 hd) (hlo : zo_lt m 12 od) (hld : ∀ x, x < m → (od x = none ↔ x ∉ IL))
    (eF : F = zg_f od (zl_sl N m x)) (eE : E = zg_E sc GL (zl_sl N m x)) (eD : D = zr_go (zl_sl N m) F F.length [])
    (K0 : zo_f hd hh 0 = none → post (-4) (nI m, sC, pC, nI hh, nI IL.length, nI GL.length, bL, sL, fL, wL, kM, nd, nc, kd, ss, sn, zo_X hd, zo_X od, pt, ini, fin, il, gl, ba, se, fr, re, fo, wo))
    (K1 : ∀ h, h < hh → zo_f hd hh 0 = some h → ∀ sL' se' re' fr', post (nI h) (nI m, sC, pC, nI hh, nI (IL.length + D.length), nI (GL.length + E.length), nI D.length, sL', nI F.length, wL, kM, nd, nc, kd, ss, sn, zo_X (zo_u hd h (some x)), zo_X (zo_U od F (some x)), pt, zl_b ini D, fin, zl_w il IL.length D, zl_w gl GL.length E, zl_w ba 0 D, se', fr', re', fo, wo)) :
    wX_open_19 post (nI x) sc (nI m) sC pC (nI hh) (nI IL.length) (nI GL.length) bL sL fL wL kM nd nc kd ss sn (zo_X hd) (zo_X od) pt ini fin il gl ba se fr re fo wo := by
  have hS := zl_sl_ok (zz_N_ht W) hx
  unfold wX_open_19
  refine zx_fh hm h8 hlh ?_
  cases q : zo_f hd hh 0 with
  | none => exact br_t rfl (K0 q)
  | some h =>
    obtain ⟨hh1, hh2⟩ := zo_f_lt _ _ _ q
    refine br_f (zn_m7 (by omega)) ⟨vp_in_nI (by omega) (by omega), nm_r (e' := zo_X (zo_u hd h (some x))) (by show upd (zo_X hd) (nI h).toNatClampNeg (nI x) = _; rw [nI_clamp (by omega), ← zo_Xu]; rfl) (zx_bs hm W hx (fun mk' se' hS' hk' => zx_lf hm hx hlo hS hS' (fun fr' hF' => ?_)))⟩
    rw [← eF] at hF' ⊢
    have hF : zl_ok m F := by rw [eF]; exact zl_ok_filter _ hS
    have hdj : ∀ z, z ∈ F → z ∉ IL := by
      intro z hz
      rw [eF] at hz
      have h2 := List.mem_filter.mp hz
      exact (hld z (hS.2 z h2.1)).mp (Option.isNone_iff_eq_none.mp h2.2)
    by_cases s1 : sc = 1
    · rw [zg_E, if_pos s1] at eE
      subst eE
      exact br_t s1 (zx_eg hm hG hAG hS hS' (zx_open60 hm W hF hI hdj hF' eD (fun sL' se' re' => K1 h (by omega) q sL' se' re' fr')))
    · rw [zg_E, if_neg s1] at eE
      subst eE
      exact br_f s1 (zx_open60 hm W hF hI hdj hF' eD (fun sL' se' re' => K1 h (by omega) q sL' se' re' fr'))
theorem zx_close {post : Int32 → SX → Prop} {h : Nat} {K B : List Nat} (hm : m ≤ 12) (hp : p ≤ 4) (h8 : hh ≤ 8) (hh1 : h < hh) (W : zz_N m N nc nd) (V : zz_Z m p sy Z sn ss) (hI : zl_ok m IL) (hAI : zl_A il 0 IL) (hG : zl_ok m GL) (hAG : zl_A gl 0 GL) (hlh : zo_lt m 8 hd) (hlo : zo_lt m 12 od) (hlp : zo_lt m 48 pd)
    (eK : K = zk_K N Z pd (zo_u hd h none) m hh) (eB : B = zg_e K IL.reverse)
    (K0 : hd h = none → post (-8) (nI m, sC, pC, nI hh, nI IL.length, nI GL.length, bL, sL, fL, wL, kM, nd, nc, kd, ss, sn, zo_X hd, zo_X od, zo_X pd, ini, fin, il, gl, ba, se, fr, re, fo, wo))
    (K1 : ¬ hd h = none → ∀ wL' mk' wo', post (nI B.length) (nI m, sC, pC, nI hh, nI (zg_k K IL).length, nI (zg_k K GL).length, nI B.length, sL, fL, wL', mk', nd, nc, kd, ss, sn, zo_X (zo_u hd h none), zo_X (za_O K (zo_U od B none) m), zo_X (zp_U pd B), ini, zl_b fin B, zl_w il 0 (zg_k K IL), zl_w gl 0 (zg_k K GL), zl_w ba 0 B, se, fr, re, fo, wo')) :
    wpX_close post (nI m, sC, pC, nI hh, nI IL.length, nI GL.length, bL, sL, fL, wL, kM, nd, nc, kd, ss, sn, zo_X hd, zo_X od, zo_X pd, ini, fin, il, gl, ba, se, fr, re, fo, wo) (nI h) := by
  have c : (nI h).toNatClampNeg = h := nI_clamp (by omega)
  have v : vp_in (nI h) 8 := vp_in_nI (by omega) (by omega)
  have e : zo_X hd h = zo_x (hd h) := rfl
  have e7 : zo_x (hd h) = -7 ↔ hd h = none := zo_x7 hm (hlh h (by omega))
  have hlh2 : zo_lt m 8 (zo_u hd h none) := zo_lt_u hlh (fun y z => nomatch z)
  unfold wpX_close
  refine zx_isH1 h8 hh1 (br_f (by decide) ⟨v, ?_⟩)
  rw [c, e]
  refine br_c (fun z => K0 (e7.mp z)) (fun z => ⟨v, nm_r (e' := zo_X (zo_u hd h none)) (zo_Xu hd h none) (zx_mk hm hp h8 W V hlp hlh2 (fun wL' mk' wo' hk => ?_))⟩)
  rw [← eK] at hk
  have hB : zl_ok m B := by rw [eB]; exact zl_ok_filter _ (zl_ok_rev hI)
  refine zx_fu (zl_12 hm hI) hAI hk ?_
  rw [← eB]
  refine zx_ci (zl_12 hm hI) hAI hk (zx_cg (zl_12 hm hG) hAG hk ⟨B.length + 1, ?_⟩)
  have h1 := K1 (fun w => z (e7.mpr w)) wL' mk' wo'
  have e2 : zo_X od = zo_X (zo_U od [] none) := by rw [zo_U_nil]
  have e3 : zo_X pd = zo_X (zp_U pd []) := by rw [zp_U_nil]
  rw [e2, e3]
  exact zx_cl50 hm hlo hk hB (zl_w_A _ _ _) h1 B [] rfl
end XM
section YM
variable {mC sC pC hC iL gL bL qL fL : Int32} {nd nc kd ss sn hM op pt il gl ba ini fin sq fr ke : Nat → Int32}
variable {m p sy hh : Nat} {N Z : Nat → List Nat} {hd od pd : Nat → Option Nat} {IL GL : List Nat}
theorem zy_open29 {post : Int32 → SY → Prop} {x : Nat} {sc : Int32} {F E D : List Nat} (hm : m ≤ 12) (h8 : hh ≤ 8) (hx : x < m) (W : zz_N m N nc nd) (hI : zl_ok m IL) (hAI : zl_A il 0 IL) (hG : zl_ok m GL) (hAG : zl_A gl 0 GL) (hlh : zo_lt m 8 hd) (hld : ∀ x, x < m → (od x = none ↔ x ∉ IL))
    (eF : F = zg_f od (zl_sl N m x)) (eE : E = zg_E sc GL (zl_sl N m x)) (eD : D = zr_go (zl_sl N m) F F.length [])
    (K0 : zo_f hd hh 0 = none → post (-4) (nI m, sC, pC, nI hh, nI IL.length, nI GL.length, bL, qL, fL, nd, nc, kd, ss, sn, zo_Y hd, zo_Y od, pt, il, gl, ba, ini, fin, sq, fr, ke))
    (K1 : ∀ h, h < hh → zo_f hd hh 0 = some h → ∀ qL' sq' fr', post (nI h) (nI m, sC, pC, nI hh, nI (IL.length + D.length), nI (GL.length + E.length), nI D.length, qL', nI F.length, nd, nc, kd, ss, sn, zo_Y (zo_u hd h (some x)), zo_Y (zo_U od F (some x)), pt, zl_w il IL.length D, zl_w gl GL.length E, zl_w ba 0 D, zl_b ini D, fin, sq', fr', ke)) :
    ∀ z, z = nI hh - 1 → ∃ n29, (wY_open_29 post (nI x) sc (nI m) sC pC (nI hh) (nI IL.length) (nI GL.length) bL qL fL nd nc kd ss sn (zo_Y hd) (zo_Y od) pt il gl ba ini fin sq fr ke n29 (-1) z) := by
  have hS := zl_sl_ok (zz_N_ht W) hx
  have hl := zl_len hS
  refine nm_r (e' := nI hh + (-1)) (zn_m1 hh) ⟨hh + 1, zy_op29 hm h8 hlh ?_ hh 0 rfl⟩
  rw [wY_open_29]
  refine br_t zn_neg ?_
  cases q : zo_f hd hh 0 with
  | none => exact br_f (by decide) (K0 q)
  | some h =>
    obtain ⟨hh1, hh2⟩ := zo_f_lt _ _ _ q
    refine br_t (nI_pos' (by omega)) ⟨vp_in_nI (by omega) (by omega), nm_r (e' := zo_Y (zo_u hd h (some x))) (by show upd (zo_Y hd) (nI h).toNatClampNeg (nI x) = _; rw [nI_clamp (by omega), ← zo_Yu]; rfl) (zy_as0 hm W hx (fun sq' hS' => ⟨(zl_sl N m x).length + 1, ?_⟩))⟩
    have hF : zl_ok m F := by rw [eF]; exact zl_ok_filter _ hS
    have hdj : ∀ z, z ∈ F → z ∉ IL := by
      intro z hz
      rw [eF] at hz
      have h2 := List.mem_filter.mp hz
      exact (hld z (hS.2 z h2.1)).mp (Option.isNone_iff_eq_none.mp h2.2)
    have e2 : zo_Y od = zo_Y (zo_U od [] (some x)) := by rw [zo_U_nil]
    rw [e2]
    refine zy_op85 hm hx (by omega) hI hAI hAG hld (zl_sl N m x) 0 [] [] _ (by omega) hS' hS zl_ok_nil (fun z _ w => nomatch w) zl_A_nil (by rw [List.append_nil]; exact hG) (fun z _ w => nomatch w) (fun fr' hF' => ?_)
    rw [List.nil_append, List.nil_append, ← eF, ← eE] at *
    subst eD
    exact ⟨F.length + 1, zy_op184 hm W hF hI hdj hF' hAI F.length [] _ _ (by rw [List.length_nil]; omega) zl_ok_nil (fun z w => nomatch w) (fun qL' sq' => K1 h (by omega) q qL' sq' fr')⟩
theorem zy_close {post : Int32 → SY → Prop} {h : Nat} {K B : List Nat} (hm : m ≤ 12) (hp : p ≤ 4) (h8 : hh ≤ 8) (hh1 : h < hh) (W : zz_N m N nc nd) (V : zz_Z m p sy Z sn ss) (hI : zl_ok m IL) (hAI : zl_A il 0 IL) (hG : zl_ok m GL) (hAG : zl_A gl 0 GL) (hlh : zo_lt m 8 hd) (hlo : zo_lt m 12 od) (hlp : zo_lt m 48 pd)
    (eK : K = zk_K N Z pd (zo_u hd h none) m hh) (eB : B = zg_e K IL.reverse)
    (K0 : hd h = none → post (-8) (nI m, sC, pC, nI hh, nI IL.length, nI GL.length, bL, qL, fL, nd, nc, kd, ss, sn, zo_Y hd, zo_Y od, zo_Y pd, il, gl, ba, ini, fin, sq, fr, ke))
    (K1 : ¬ hd h = none → ∀ ke', post (nI B.length) (nI m, sC, pC, nI hh, nI (zg_k K IL).length, nI (zg_k K GL).length, nI B.length, qL, fL, nd, nc, kd, ss, sn, zo_Y (zo_u hd h none), zo_Y (za_O K (zo_U od B none) m), zo_Y (zp_U pd B), zl_w il 0 (zg_k K IL), zl_w gl 0 (zg_k K GL), zl_w ba 0 B, ini, zl_b fin B, sq, fr, ke')) :
    wpY_close post (nI m, sC, pC, nI hh, nI IL.length, nI GL.length, bL, qL, fL, nd, nc, kd, ss, sn, zo_Y hd, zo_Y od, zo_Y pd, il, gl, ba, ini, fin, sq, fr, ke) (nI h) := by
  have c : (nI h).toNatClampNeg = h := nI_clamp (by omega)
  have v : vp_in (nI h) 8 := vp_in_nI (by omega) (by omega)
  have e : zo_Y hd h = zo_y (hd h) := rfl
  have e7 : 0 ≤ zo_y (hd h) ↔ ¬ hd h = none := zo_y0' hm (hlh h (by omega))
  have hlh2 : zo_lt m 8 (zo_u hd h none) := zo_lt_u hlh (fun y z => nomatch z)
  have ht := zk_ht hm hp W V hlp
  have hll := zl_len hI
  unfold wpY_close
  dsimp only
  rw [c, e]
  refine br_f (nI_pos (by omega)) (br_t (nI_lt hh1 (by omega)) ⟨v, br_c (fun z => ⟨v, nm_r (e' := zo_Y (zo_u hd h none)) (zo_Yu hd h none) ⟨m + 1, zy_cl35 hm m 0 _ (by omega) (fun x hx => absurd hx (Nat.not_lt_zero x)) (fun ke1 hk1 => ⟨hh + 1, zy_cl58 hm h8 hlh2 hh 0 [] ke1 (by omega) hk1 (fun ke2 hk2 => ⟨m + 1, zy_cl95 hm hp W V hlp m 0 _ ke2 (by omega) hk2 (fun ke3 hk3 => ⟨IL.length + 1, ?_⟩)⟩)⟩)⟩⟩) (fun z => K0 (Classical.byContradiction (fun w => z (e7.mpr w))))⟩)
  have hk : zk_S m ke3 K := zk_S_e hk3 (fun x => by rw [eK]; exact zl_keep ht (zk_l0 h8 hlh2) x)
  have hB : zl_ok m B := by rw [eB]; exact zl_ok_filter _ (zl_ok_rev hI)
  have e2 : zo_Y od = zo_Y (zo_U od [] none) := by rw [zo_U_nil]
  have e3 : zo_Y pd = zo_Y (zp_U pd []) := by rw [zp_U_nil]
  rw [zn_m1, e2, e3]
  refine zy_cl151 hm hI.2 hk IL.reverse IL.length [] List.length_reverse (by rw [List.length_nil]; omega) (by rw [List.reverse_reverse]; exact hAI) (fun x hx => List.mem_reverse.mp hx) ?_
  rw [List.nil_append, ← eB]
  refine ⟨IL.length + 1, zy_cl242 hm hI hAI hk IL [] [] rfl (Nat.le_refl _) ⟨GL.length + 1, zy_cl294 hm hG hAG hk GL [] [] rfl (Nat.le_refl _) ⟨m + 1, ?_⟩⟩⟩
  have e4 : zo_Y (zo_U od B none) = zo_Y (za_O K (zo_U od B none) 0) := by rw [za_O_0]
  rw [e4]
  exact zy_cl344 hm (zo_lt_U (v := none) hlo (fun y w => nomatch w)) hk (K1 (e7.mp z) ke3) m 0 (by omega)
end YM
end
section
/-! the relation -/
def zi_I (m sy p hh bl : Nat) (N Z : Nat → List Nat) (IL GL : List Nat) (hd od pd : Nat → Option Nat) (nd nc ss sn il gl : Nat → Int32) : Prop :=
  (m ≤ 12 ∧ sy ≤ 12 ∧ p ≤ 4 ∧ hh ≤ 8 ∧ bl ≤ 12) ∧ zz_N m N nc nd ∧ zz_Z m p sy Z sn ss ∧ (zl_ok m IL ∧ zl_A il 0 IL) ∧ (zl_ok m GL ∧ zl_A gl 0 GL) ∧ (zo_lt m 8 hd ∧ zo_lt m 12 od ∧ zo_lt m 48 pd) ∧ ∀ x, x < m → (od x = none ↔ x ∉ IL)
/-- the relation at the head of a turn: the same descriptions, lists and counts; handles, openers and patches as options -/
def i_Rel (k : Nat) (u : SX) (v : SY) : Prop := ∃ (m sy p hh bl : Nat) (N Z : Nat → List Nat) (IL GL : List Nat) (hd od pd : Nat → Option Nat) (nd nc kd ss sn ini fin il gl ba : Nat → Int32) (sL fL wL kM : Int32) (se fr re fo wo : Nat → Int32) (qL fLy : Int32) (sq fry ke : Nat → Int32), u = (nI m, nI sy, nI p, nI hh, nI IL.length, nI GL.length, nI bl, sL, fL, wL, kM, nd, nc, kd, ss, sn, zo_X hd, zo_X od, zo_X pd, ini, fin, il, gl, ba, se, fr, re, fo, wo) ∧ v = (nI m, nI sy, nI p, nI hh, nI IL.length, nI GL.length, nI bl, qL, fLy, nd, nc, kd, ss, sn, zo_Y hd, zo_Y od, zo_Y pd, il, gl, ba, ini, fin, sq, fry, ke) ∧ zi_I m sy p hh bl N Z IL GL hd od pd nd nc ss sn il gl
theorem zi_mk {k : Nat} {m sy p hh bl : Nat} {N Z : Nat → List Nat} {IL GL : List Nat} {hd od pd : Nat → Option Nat} {nd nc kd ss sn ini fin il gl ba : Nat → Int32} {sL fL wL kM : Int32} {se fr re fo wo : Nat → Int32} {qL fLy : Int32} {sq fry ke : Nat → Int32} {iL gL : Int32} (h : zi_I m sy p hh bl N Z IL GL hd od pd nd nc ss sn il gl) (e1 : iL = nI IL.length) (e2 : gL = nI GL.length) : i_Rel k (nI m, nI sy, nI p, nI hh, iL, gL, nI bl, sL, fL, wL, kM, nd, nc, kd, ss, sn, zo_X hd, zo_X od, zo_X pd, ini, fin, il, gl, ba, se, fr, re, fo, wo) (nI m, nI sy, nI p, nI hh, iL, gL, nI bl, qL, fLy, nd, nc, kd, ss, sn, zo_Y hd, zo_Y od, zo_Y pd, il, gl, ba, ini, fin, sq, fry, ke) := by
  subst e1 e2
  exact ⟨m, sy, p, hh, bl, N, Z, IL, GL, hd, od, pd, nd, nc, kd, ss, sn, ini, fin, il, gl, ba, sL, fL, wL, kM, se, fr, re, fo, wo, qL, fLy, sq, fry, ke, rfl, rfl, h⟩
theorem zi_el {k : Nat} {u : SX} {v : SY} {P : SX → SY → Prop} (h : ∀ (m sy p hh bl : Nat) (N Z : Nat → List Nat) (IL GL : List Nat) (hd od pd : Nat → Option Nat) (nd nc kd ss sn ini fin il gl ba : Nat → Int32) (sL fL wL kM : Int32) (se fr re fo wo : Nat → Int32) (qL fLy : Int32) (sq fry ke : Nat → Int32), zi_I m sy p hh bl N Z IL GL hd od pd nd nc ss sn il gl → P (nI m, nI sy, nI p, nI hh, nI IL.length, nI GL.length, nI bl, sL, fL, wL, kM, nd, nc, kd, ss, sn, zo_X hd, zo_X od, zo_X pd, ini, fin, il, gl, ba, se, fr, re, fo, wo) (nI m, nI sy, nI p, nI hh, nI IL.length, nI GL.length, nI bl, qL, fLy, nd, nc, kd, ss, sn, zo_Y hd, zo_Y od, zo_Y pd, il, gl, ba, ini, fin, sq, fry, ke)) (I : i_Rel k u v) : P u v := by
  obtain ⟨m, sy, p, hh, bl, N, Z, IL, GL, hd, od, pd, nd, nc, kd, ss, sn, ini, fin, il, gl, ba, sL, fL, wL, kM, se, fr, re, fo, wo, qL, fLy, sq, fry, ke, hu, hv, hI⟩ := I
  rw [hu, hv]
  exact h m sy p hh bl N Z IL GL hd od pd nd nc kd ss sn ini fin il gl ba sL fL wL kM se fr re fo wo qL fLy sq fry ke hI
theorem i_up {k : Nat} {u : SX} {v : SY} (h : i_Rel k u v) : i_Rel (k + 4) u v := zi_el (P := fun u v => i_Rel (k + 4) u v) (fun _ _ _ _ _ _ _ _ _ _ _ _ _ _ _ _ _ _ _ _ _ _ _ _ _ _ _ _ _ _ _ _ _ _ _ _ hI => zi_mk hI rfl rfl) h
end
section
/-! descriptions: erase, needs, slot -/
def zd_s (f : Nat → List Nat) (x : Nat) (L : List Nat) : Nat → List Nat := fun z => if z = x then L else f z
theorem zd_s_s {f : Nat → List Nat} {x : Nat} {L : List Nat} : zd_s f x L x = L := if_pos rfl
theorem zd_s_n {f : Nat → List Nat} {x z : Nat} {L : List Nat} (h : z ≠ x) : zd_s f x L z = f z := if_neg h
theorem zd_N0 {m x : Nat} {N : Nat → List Nat} {nc nd : Nat → Int32} (h : zz_N m N nc nd) : zz_N m (zd_s N x []) (upd nc x 0) nd := by
  intro z hz
  by_cases e : z = x
  · subst e
    rw [zd_s_s, pk_us]
    exact ⟨rfl, zl_A_nil, zl_ok_one hz⟩
  · rw [zd_s_n e, pk_un e]
    exact h z hz
theorem zd_Z0 {m p sy x : Nat} {Z : Nat → List Nat} {sn ss : Nat → Int32} (h : zz_Z m p sy Z sn ss) : zz_Z m p sy (zd_s Z x []) (upd sn x 0) ss := by
  intro z hz
  by_cases e : z = x
  · subst e
    rw [zd_s_s, pk_us]
    exact ⟨rfl, zl_A_nil, Nat.zero_le _, fun s hs => nomatch hs⟩
  · rw [zd_s_n e, pk_un e]
    exact h z hz
theorem zd_N1 {m x y : Nat} {N : Nat → List Nat} {nc nd : Nat → Int32} (hm : m ≤ 12) (h : zz_N m N nc nd) (hx : x < m) (hy : y < m) (hne : x ≠ y) (hn : y ∉ N x) :
    zz_N m (zd_s N x (N x ++ [y])) (upd nc x (nI ((N x).length + 1))) (upd nd (x * 12 + (N x).length) (nI y)) := by
  have hl := zz_N_len h hx
  intro z hz
  by_cases e : z = x
  · subst e
    rw [zd_s_s, pk_us, zl_snoc_len]
    exact ⟨rfl, zl_A_push (h z hz).2.1, zl_push (h z hz).2.2 (fun w => (List.mem_cons.mp w).elim (fun q => hne q.symm) hn) hy⟩
  · have hlz := zz_N_len h hz
    rw [zd_s_n e, pk_un e]
    exact ⟨(h z hz).1, zl_A_upd (h z hz).2.1 (by omega), (h z hz).2.2⟩
theorem zd_Z1 {m p sy x s : Nat} {Z : Nat → List Nat} {sn ss : Nat → Int32} (hp : p ≤ 4) (h : zz_Z m p sy Z sn ss) (hx : x < m) (hs : s < sy) (hl : (Z x).length < p) :
    zz_Z m p sy (zd_s Z x (Z x ++ [s])) (upd sn x (nI ((Z x).length + 1))) (upd ss (x * 4 + (Z x).length) (nI s)) := by
  intro z hz
  by_cases e : z = x
  · subst e
    rw [zd_s_s, pk_us, zl_snoc_len]
    refine ⟨rfl, zl_A_push (h z hz).2.1, by omega, fun w hw => ?_⟩
    rcases List.mem_append.mp hw with q | q
    · exact (h z hz).2.2.2 w q
    · simp at q; omega
  · have hlz := (h z hz).2.2.1
    rw [zd_s_n e, pk_un e]
    exact ⟨(h z hz).1, zl_A_upd (h z hz).2.1 (by omega), (h z hz).2.2⟩
/-- the first i kinds of x emptied -/
def zd_k (f : Nat → Int32) (x i : Nat) : Nat → Int32 := fun j => if x * 12 ≤ j ∧ j < x * 12 + i then 0 else f j
theorem zd_k_0 {f : Nat → Int32} {x : Nat} : zd_k f x 0 = f := by funext j; exact if_neg (by omega)
theorem zd_k_s {f : Nat → Int32} {x i : Nat} : upd (zd_k f x i) (x * 12 + i) 0 = zd_k f x (i + 1) := by
  funext j
  by_cases h : j = x * 12 + i
  · rw [h, pk_us]; exact (if_pos (by omega)).symm
  · rw [pk_un h]
    unfold zd_k
    by_cases h2 : x * 12 ≤ j ∧ j < x * 12 + i
    · rw [if_pos h2, if_pos (by omega)]
    · rw [if_neg h2, if_neg (by omega)]
section XD
variable {mC sC pC hC iL gL bL sL fL wL kM : Int32} {nd nc kd ss sn hM op pt ini fin il gl ba se fr re fo wo : Nat → Int32}
variable {m p sy hh : Nat} {N Z : Nat → List Nat} {hd od pd : Nat → Option Nat} {IL GL : List Nat}
theorem zx_er37 {post : Int32 → SX → Prop} {x : Nat} (hs : sy ≤ 12) (hx : x < 12) (P : post 0 (mC, nI sy, pC, hC, iL, gL, bL, sL, fL, wL, kM, nd, nc, zd_k kd x sy, ss, sn, hM, op, pt, ini, fin, il, gl, ba, se, fr, re, fo, wo)) :
    ∀ (d i : Nat), i + d = sy → (wX_erase_37 post (nI x) mC (nI sy) pC hC iL gL bL sL fL wL kM (d + 1) (nI i) nd nc (zd_k kd x i) ss sn hM op pt ini fin il gl ba se fr re fo wo) := by
  intro d
  induction d with
  | zero =>
    intro i hi
    rw [Nat.add_zero] at hi
    subst hi
    rw [wX_erase_37]
    exact br_t (nI_le (Nat.le_refl _) (by omega)) P
  | succ d ih =>
    intro i hi
    have h1 := ih (i + 1) (by omega)
    rw [← zd_k_s] at h1
    rw [wX_erase_37]
    exact br_f (nI_ge (by omega) (by omega)) (zx_cell ⟨vp_in_nI (by omega) (by omega), nm_r (e' := upd (zd_k kd x i) (x * 12 + i) 0) (by rw [nI_clamp (by omega)]) (nm_r (nI_1 i) h1)⟩)
theorem zx_er {post : Int32 → SX → Prop} {x : Nat} (hm : m ≤ 12) (hs : sy ≤ 12) (hx : x < m) (hlo : zo_lt m 12 od) (K1 : ¬ od x = none → post (-2) (nI m, nI sy, pC, hC, iL, gL, bL, sL, fL, wL, kM, nd, nc, kd, ss, sn, hM, zo_X od, pt, ini, fin, il, gl, ba, se, fr, re, fo, wo))
    (K0 : od x = none → post 0 (nI m, nI sy, pC, hC, iL, gL, bL, sL, fL, wL, kM, nd, upd nc x 0, zd_k kd x sy, ss, upd sn x 0, hM, zo_X od, pt, ini, fin, il, gl, ba, se, fr, re, fo, wo)) : wpX_erase post (nI m, nI sy, pC, hC, iL, gL, bL, sL, fL, wL, kM, nd, nc, kd, ss, sn, hM, zo_X od, pt, ini, fin, il, gl, ba, se, fr, re, fo, wo) (nI x) := by
  have c : (nI x).toNatClampNeg = x := nI_clamp (by omega)
  have v : vp_in (nI x) 12 := vp_in_nI (by omega) (by omega)
  unfold wpX_erase
  refine zx_isM1 hm hx (br_f (by decide) (zx_isL hm hx hlo (fun h => br_t rfl ⟨v, nm_r (e' := upd nc x 0) (by rw [c]) ⟨v, nm_r (e' := upd sn x 0) (by rw [c]) ⟨sy + 1, ?_⟩⟩⟩) (fun o _ h => br_f (by decide) (K1 (fun z => by rw [z] at h; exact nomatch h)))))
  have h1 := K0 h
  have e : kd = zd_k kd x 0 := zd_k_0.symm
  have h2 := zx_er37 hs (show x < 12 by omega) h1 sy 0 (by omega)
  rw [← e] at h2
  exact h2
theorem zx_ne36 {post : Int32 → SX → Prop} {x y : Nat} (hm : m ≤ 12) (W : zz_N m N nc nd) (hx : x < m) (hy : y < m) (K1 : y ∈ N x → post (-5) (mC, sC, pC, hC, iL, gL, bL, sL, fL, wL, kM, nd, nc, kd, ss, sn, hM, op, pt, ini, fin, il, gl, ba, se, fr, re, fo, wo)) (K0 : y ∉ N x → post 0 (mC, sC, pC, hC, iL, gL, bL, sL, fL, wL, kM, upd nd (x * 12 + (N x).length) (nI y), upd nc x (nI ((N x).length + 1)), kd, ss, sn, hM, op, pt, ini, fin, il, gl, ba, se, fr, re, fo, wo)) :
    ∀ (R A : List Nat), N x = A ++ R → y ∉ A → zl_A nd (x * 12 + A.length) R → (wX_needs_36 post (nI x) (nI y) mC sC pC hC iL gL bL sL fL wL kM nd nc kd ss sn hM op pt ini fin il gl ba se fr re fo wo (R.length + 1) (nI A.length)) := by
  have c : (nI x).toNatClampNeg = x := nI_clamp (by omega)
  have v : vp_in (nI x) 12 := vp_in_nI (by omega) (by omega)
  have hn := (W x hx).1
  have hl := zz_N_len W hx
  intro R
  induction R with
  | nil =>
    intro A hA hyA _
    rw [List.append_nil] at hA
    rw [wX_needs_36]
    dsimp only
    rw [c, hn]
    refine ⟨v, br_t (nI_le (by rw [hA]; omega) (by rw [← hA]; omega)) ⟨v, zx_cell ⟨vp_in_nI (by omega) (by omega), nm_r (e' := upd nd (x * 12 + (N x).length) (nI y)) (by rw [nI_clamp (by omega)]) ⟨v, v, nm_r (e' := upd nc x (nI ((N x).length + 1))) (by rw [nI_1]) (K0 (by rw [hA]; exact hyA))⟩⟩⟩⟩
  | cons z R ih =>
    intro A hA hyA hR
    obtain ⟨h1, h2⟩ := zl_A_cons.mp hR
    have hlen : (N x).length = A.length + (R.length + 1) := by rw [hA, List.length_append, List.length_cons]
    have hz : z < m := zz_N_ht W x hx z (by rw [hA]; simp)
    rw [wX_needs_36]
    dsimp only
    rw [c, hn]
    refine ⟨v, br_f (nI_ge (by omega) (by omega)) (zx_cell ⟨vp_in_nI (by omega) (by omega), ?_⟩)⟩
    rw [nI_clamp (show x * 12 + A.length < 2 ^ 31 by omega), h1]
    refine pk_eq z y (fun e => K1 (by rw [hA, e]; simp)) (fun e => nm_r (nI_1 _) ?_)
    have h3 := ih (A ++ [z]) (by rw [hA]; simp) (fun w => (List.mem_append.mp w).elim hyA (fun q => by simp at q; exact e q.symm)) (by rw [zl_snoc_len, ← Nat.add_assoc]; exact h2)
    rw [zl_snoc_len] at h3
    exact h3
theorem zx_ne {post : Int32 → SX → Prop} {x y : Nat} (hm : m ≤ 12) (W : zz_N m N nc nd) (hx : x < m) (hy : y < m) (hne : x ≠ y) (hlo : zo_lt m 12 od) (KL : ¬ od x = none → post (-2) (nI m, sC, pC, hC, iL, gL, bL, sL, fL, wL, kM, nd, nc, kd, ss, sn, hM, zo_X od, pt, ini, fin, il, gl, ba, se, fr, re, fo, wo))
    (K1 : od x = none → y ∈ N x → post (-5) (nI m, sC, pC, hC, iL, gL, bL, sL, fL, wL, kM, nd, nc, kd, ss, sn, hM, zo_X od, pt, ini, fin, il, gl, ba, se, fr, re, fo, wo)) (K0 : od x = none → y ∉ N x → post 0 (nI m, sC, pC, hC, iL, gL, bL, sL, fL, wL, kM, upd nd (x * 12 + (N x).length) (nI y), upd nc x (nI ((N x).length + 1)), kd, ss, sn, hM, zo_X od, pt, ini, fin, il, gl, ba, se, fr, re, fo, wo)) : wpX_needs post (nI m, sC, pC, hC, iL, gL, bL, sL, fL, wL, kM, nd, nc, kd, ss, sn, hM, zo_X od, pt, ini, fin, il, gl, ba, se, fr, re, fo, wo) (nI x) (nI y) := by
  unfold wpX_needs
  refine zx_isM1 hm hx (br_f (by decide) (zx_isM1 hm hy (br_f (by decide) (br_f (fun e => hne ((nI_eq (by omega) (by omega)).mp e)) (zx_isL hm hx hlo (fun h => br_t rfl ⟨(N x).length + 1, ?_⟩) (fun o _ h => br_f (by decide) (KL (fun z => by rw [z] at h; exact nomatch h))))))))
  exact zx_ne36 hm W hx hy (K1 h) (K0 h) (N x) [] rfl List.not_mem_nil (W x hx).2.1
end XD
section YD
variable {mC sC pC hC iL gL bL qL fL : Int32} {nd nc kd ss sn hM op pt il gl ba ini fin sq fr ke : Nat → Int32}
variable {m p sy hh : Nat} {N Z : Nat → List Nat} {hd od pd : Nat → Option Nat} {IL GL : List Nat}
theorem zy_er37 {post : Int32 → SY → Prop} {x : Nat} (hs : sy ≤ 12) (hx : x < 12) (P : post 0 (mC, nI sy, pC, hC, iL, gL, bL, qL, fL, nd, nc, zd_k kd x sy, ss, sn, hM, op, pt, il, gl, ba, ini, fin, sq, fr, ke)) :
    ∀ (d i : Nat), i + d = sy → (wY_erase_37 post (nI x) mC (nI sy) pC hC iL gL bL qL fL (d + 1) (nI i) nd nc (zd_k kd x i) ss sn hM op pt il gl ba ini fin sq fr ke) := by
  intro d
  induction d with
  | zero =>
    intro i hi
    rw [Nat.add_zero] at hi
    subst hi
    rw [wY_erase_37]
    exact br_t (nI_le (Nat.le_refl _) (by omega)) P
  | succ d ih =>
    intro i hi
    have h1 := ih (i + 1) (by omega)
    rw [← zd_k_s] at h1
    rw [wY_erase_37]
    dsimp only
    rw [zn_12]
    exact br_f (nI_ge (by omega) (by omega)) ⟨vp_in_nI (by omega) (by omega), nm_r (e' := upd (zd_k kd x i) (x * 12 + i) 0) (by rw [nI_clamp (by omega)]) (nm_r (nI_1 i) h1)⟩
theorem zy_er {post : Int32 → SY → Prop} {x : Nat} (hm : m ≤ 12) (hs : sy ≤ 12) (hx : x < m) (hI : zl_ok m IL) (hA : zl_A il 0 IL) (K1 : x ∈ IL → post (-2) (nI m, nI sy, pC, hC, nI IL.length, gL, bL, qL, fL, nd, nc, kd, ss, sn, hM, op, pt, il, gl, ba, ini, fin, sq, fr, ke))
    (K0 : x ∉ IL → post 0 (nI m, nI sy, pC, hC, nI IL.length, gL, bL, qL, fL, nd, upd nc x 0, zd_k kd x sy, ss, upd sn x 0, hM, op, pt, il, gl, ba, ini, fin, sq, fr, ke)) : wpY_erase post (nI m, nI sy, pC, hC, nI IL.length, gL, bL, qL, fL, nd, nc, kd, ss, sn, hM, op, pt, il, gl, ba, ini, fin, sq, fr, ke) (nI x) := by
  have c : (nI x).toNatClampNeg = x := nI_clamp (by omega)
  have v : vp_in (nI x) 12 := vp_in_nI (by omega) (by omega)
  unfold wpY_erase
  refine zy_bM0 hm hx (br_t rfl (zy_rkL (by omega) (zl_12 hm hI) hA K1 (fun h => ⟨v, nm_r (e' := upd nc x 0) (by rw [c]) ⟨v, nm_r (e' := upd sn x 0) (by rw [c]) ⟨sy + 1, ?_⟩⟩⟩)))
  have h1 := K0 h
  have e : kd = zd_k kd x 0 := zd_k_0.symm
  have h2 := zy_er37 hs (show x < 12 by omega) h1 sy 0 (by omega)
  rw [← e] at h2
  exact h2
theorem zy_ne36 {post : Int32 → SY → Prop} {x y : Nat} (hm : m ≤ 12) (W : zz_N m N nc nd) (hx : x < m) (hy : y < m) (K1 : y ∈ N x → post (-5) (mC, sC, pC, hC, iL, gL, bL, qL, fL, nd, nc, kd, ss, sn, hM, op, pt, il, gl, ba, ini, fin, sq, fr, ke)) (K0 : y ∉ N x → post 0 (mC, sC, pC, hC, iL, gL, bL, qL, fL, upd nd (x * 12 + (N x).length) (nI y), upd nc x (nI ((N x).length + 1)), kd, ss, sn, hM, op, pt, il, gl, ba, ini, fin, sq, fr, ke)) :
    ∀ (R A : List Nat), N x = A ++ R → y ∉ A → zl_A nd (x * 12 + A.length) R → (wY_needs_36 post (nI x) (nI y) mC sC pC hC iL gL bL qL fL nd nc kd ss sn hM op pt il gl ba ini fin sq fr ke (R.length + 1) (nI A.length)) := by
  have c : (nI x).toNatClampNeg = x := nI_clamp (by omega)
  have v : vp_in (nI x) 12 := vp_in_nI (by omega) (by omega)
  have hn := (W x hx).1
  have hl := zz_N_len W hx
  intro R
  induction R with
  | nil =>
    intro A hA hyA _
    rw [List.append_nil] at hA
    rw [wY_needs_36]
    dsimp only
    rw [c, hn, zn_12]
    exact ⟨v, br_t (nI_le (by rw [hA]; omega) (by rw [← hA]; omega)) ⟨v, vp_in_nI (by omega) (by omega), nm_r (e' := upd nd (x * 12 + (N x).length) (nI y)) (by rw [nI_clamp (by omega)]) ⟨v, v, nm_r (e' := upd nc x (nI ((N x).length + 1))) (by rw [nI_1]) (K0 (by rw [hA]; exact hyA))⟩⟩⟩
  | cons z R ih =>
    intro A hA hyA hR
    obtain ⟨h1, h2⟩ := zl_A_cons.mp hR
    have hlen : (N x).length = A.length + (R.length + 1) := by rw [hA, List.length_append, List.length_cons]
    have hz : z < m := zz_N_ht W x hx z (by rw [hA]; simp)
    have h3 := ih (A ++ [z]) (by rw [hA]; simp)
    rw [wY_needs_36]
    dsimp only
    rw [c, hn, zn_12, zn_12, nI_clamp (show x * 12 + A.length < 2 ^ 31 by omega), h1]
    refine ⟨v, br_f (nI_ge (by omega) (by omega)) ⟨vp_in_nI (by omega) (by omega), pk_eq z y (fun e => K1 (by rw [hA, e]; simp)) (fun e => nm_r (nI_1 _) ?_)⟩⟩
    have h4 := h3 (fun w => (List.mem_append.mp w).elim hyA (fun q => by simp at q; exact e q.symm)) (by rw [zl_snoc_len, ← Nat.add_assoc]; exact h2)
    rw [zl_snoc_len] at h4
    exact h4
theorem zy_ne {post : Int32 → SY → Prop} {x y : Nat} (hm : m ≤ 12) (W : zz_N m N nc nd) (hx : x < m) (hy : y < m) (hne : x ≠ y) (hI : zl_ok m IL) (hA : zl_A il 0 IL) (KL : x ∈ IL → post (-2) (nI m, sC, pC, hC, nI IL.length, gL, bL, qL, fL, nd, nc, kd, ss, sn, hM, op, pt, il, gl, ba, ini, fin, sq, fr, ke))
    (K1 : x ∉ IL → y ∈ N x → post (-5) (nI m, sC, pC, hC, nI IL.length, gL, bL, qL, fL, nd, nc, kd, ss, sn, hM, op, pt, il, gl, ba, ini, fin, sq, fr, ke)) (K0 : x ∉ IL → y ∉ N x → post 0 (nI m, sC, pC, hC, nI IL.length, gL, bL, qL, fL, upd nd (x * 12 + (N x).length) (nI y), upd nc x (nI ((N x).length + 1)), kd, ss, sn, hM, op, pt, il, gl, ba, ini, fin, sq, fr, ke)) : wpY_needs post (nI m, sC, pC, hC, nI IL.length, gL, bL, qL, fL, nd, nc, kd, ss, sn, hM, op, pt, il, gl, ba, ini, fin, sq, fr, ke) (nI x) (nI y) := by
  unfold wpY_needs
  refine zy_bM0 hm hx (br_t rfl (zy_bM0 hm hy (br_t rfl (br_f (fun e => hne ((nI_eq (by omega) (by omega)).mp e)) (zy_rkL (by omega) (zl_12 hm hI) hA KL (fun h => ⟨(N x).length + 1, ?_⟩))))))
  exact zy_ne36 hm W hx hy (K1 h) (K0 h) (N x) [] rfl List.not_mem_nil (W x hx).2.1
end YD
end
section
/-! bindAll -/
def zq_c (f : Nat → Option Nat) : Nat → Nat → Nat
  | 0, _ => 0
  | d + 1, j => (if f j = none then 1 else 0) + zq_c f d (j + 1)
def zq_p (f : Nat → Option Nat) (T : Nat → Nat) (x i : Nat) : Nat → Option Nat := fun j => if (x * 4 ≤ j ∧ j < x * 4 + i) ∧ f j = none then some (T (j - x * 4)) else f j
theorem zq_p_0 {f : Nat → Option Nat} {T : Nat → Nat} {x : Nat} : zq_p f T x 0 = f := by funext j; exact if_neg (fun h => by omega)
theorem zq_p_n {f : Nat → Option Nat} {T : Nat → Nat} {x i : Nat} (h : f (x * 4 + i) = none) : zo_u (zq_p f T x i) (x * 4 + i) (some (T i)) = zq_p f T x (i + 1) := by
  funext j
  unfold zq_p
  by_cases e : j = x * 4 + i
  · rw [e, zo_us, if_pos ⟨by omega, h⟩, show x * 4 + i - x * 4 = i by omega]
  · rw [zo_un e]
    by_cases e2 : (x * 4 ≤ j ∧ j < x * 4 + i) ∧ f j = none
    · rw [if_pos e2, if_pos ⟨by omega, e2.2⟩]
    · rw [if_neg e2, if_neg (fun w => e2 ⟨by omega, w.2⟩)]
theorem zq_p_s {f : Nat → Option Nat} {T : Nat → Nat} {x i : Nat} (h : ¬ f (x * 4 + i) = none) : zq_p f T x i = zq_p f T x (i + 1) := by
  funext j
  unfold zq_p
  by_cases e : j = x * 4 + i
  · rw [e, if_neg (fun w => h w.2), if_neg (fun w => h w.2)]
  · by_cases e2 : (x * 4 ≤ j ∧ j < x * 4 + i) ∧ f j = none
    · rw [if_pos e2, if_pos ⟨by omega, e2.2⟩]
    · rw [if_neg e2, if_neg (fun w => e2 ⟨by omega, w.2⟩)]
theorem zq_p_at {f : Nat → Option Nat} {T : Nat → Nat} {x i : Nat} : zq_p f T x i (x * 4 + i) = f (x * 4 + i) := if_neg (fun w => by omega)
theorem zq_p_lt {m n x i : Nat} {f : Nat → Option Nat} {T : Nat → Nat} (h : zo_lt m n f) (hT : ∀ j, j < i → f (x * 4 + j) = none → T j < m) : zo_lt m n (zq_p f T x i) := by
  intro j hj y e
  unfold zq_p at e
  by_cases e2 : (x * 4 ≤ j ∧ j < x * 4 + i) ∧ f j = none
  · rw [if_pos e2] at e
    injection e with e
    rw [← e]
    exact hT (j - x * 4) (by omega) (by rw [show x * 4 + (j - x * 4) = j by omega]; exact e2.2)
  · rw [if_neg e2] at e
    exact h j hj y e
theorem zz_Z_at {m p sy : Nat} {Z : Nat → List Nat} {sn ss : Nat → Int32} (V : zz_Z m p sy Z sn ss) {x j : Nat} (hx : x < m) (hj : j < (Z x).length) : ss (x * 4 + j) = nI ((Z x).getD j 0) ∧ (Z x).getD j 0 < sy := by
  have e : (Z x)[j]? = some (Z x)[j] := List.getElem?_eq_getElem hj
  have e2 : (Z x).getD j 0 = (Z x)[j] := by rw [List.getD_eq_getElem?_getD, e]; rfl
  rw [e2]
  exact ⟨(V x hx).2.1 j _ e, (V x hx).2.2.2 _ (List.getElem_mem hj)⟩
section XB
variable {mC sC pC hC iL gL bL sL fL wL kM : Int32} {nd nc kd ss sn hM op pt ini fin il gl ba se fr re fo wo : Nat → Int32}
variable {m p sy hh : Nat} {N Z : Nat → List Nat} {hd od pd : Nat → Option Nat} {IL GL : List Nat}
theorem zx_pf4 {post : Int32 → SX → Prop} {x : Nat} {T : Nat → Nat} (hm : m ≤ 12) (hp : p ≤ 4) (V : zz_Z m p sy Z sn ss) (hx : x < m) (hf : ∀ j, j < (Z x).length → (pd (x * 4 + j) = none → fo j = nI (T j) ∧ T j < m) ∧ (¬ pd (x * 4 + j) = none → fo j = -7)) :
    ∀ (d i c : Nat), i + d = (Z x).length → post (nI (c + zq_c (fun j => pd (x * 4 + j)) d i)) (mC, sC, pC, hC, iL, gL, bL, sL, fL, wL, kM, nd, nc, kd, ss, sn, hM, op, zo_X (zq_p pd T x (Z x).length), ini, fin, il, gl, ba, se, fr, re, fo, wo) →
    (wX_patchFound_4 post (nI x) mC sC pC hC iL gL bL sL fL wL kM (d + 1) (nI c) (nI i) nd nc kd ss sn hM op (zo_X (zq_p pd T x i)) ini fin il gl ba se fr re fo wo) := by
  have c0 : (nI x).toNatClampNeg = x := nI_clamp (by omega)
  have v : vp_in (nI x) 12 := vp_in_nI (by omega) (by omega)
  have hn := (V x hx).1
  have h4 := (V x hx).2.2.1
  intro d
  induction d with
  | zero =>
    intro i c hi P
    rw [Nat.add_zero] at hi
    subst hi
    rw [wX_patchFound_4]
    dsimp only
    rw [c0, hn]
    exact ⟨v, br_t (nI_le (Nat.le_refl _) (by omega)) P⟩
  | succ d ih =>
    intro i c hi P
    have ci : (nI i).toNatClampNeg = i := nI_clamp (by omega)
    have vi : vp_in (nI i) 4 := vp_in_nI (by omega) (by omega)
    obtain ⟨f1, f2⟩ := hf i (by omega)
    rw [wX_patchFound_4]
    dsimp only
    rw [c0, hn, ci]
    refine ⟨v, br_f (nI_ge (by omega) (by omega)) ⟨vi, ?_⟩⟩
    rw [zq_c] at P
    by_cases e : pd (x * 4 + i) = none
    · obtain ⟨f3, f4⟩ := f1 e
      rw [if_pos e, ← Nat.add_assoc] at P
      have h1 := ih (i + 1) (c + 1) (by omega) P
      rw [← zq_p_n e, ← zo_Xu] at h1
      rw [f3]
      exact br_f (zn_m7 (by omega)) (zx_sc ⟨vi, vp_in_nI (by omega) (by omega), nm_r (e' := upd (zo_X (zq_p pd T x i)) (x * 4 + i) (zo_x (some (T i)))) (by rw [nI_clamp (by omega)]; rfl) (nm_r (nI_1 c) (nm_r (nI_1 i) h1))⟩)
    · rw [if_neg e, Nat.zero_add] at P
      have h1 := ih (i + 1) c (by omega) P
      rw [← zq_p_s e] at h1
      exact br_t (f2 e) (nm_r (nI_1 i) h1)
theorem zx_ba23 {post : Int32 → SX → Prop} {x o : Nat} {S : Nat → Int32} (hm : m ≤ 12) (hs : sy ≤ 12) (hp : p ≤ 4) (W : zz_N m N nc nd) (V : zz_Z m p sy Z sn ss) (hx : x < m) (hG : zl_ok m GL) (hA : zl_A gl 0 GL) (hlp : zo_lt m 48 pd) (ho : od x = some o) (hom : o < m)
    (eS : ∀ j, S j = zf_s kd N m GL x o ((Z x).getD j 0))
    (Kb : (∃ j, j < (Z x).length ∧ pd (x * 4 + j) = none ∧ S j = -6) → ∀ sL' se' fo', post (-6) (nI m, sC, pC, hC, iL, nI GL.length, bL, sL', fL, wL, kM, nd, nc, kd, ss, sn, hM, zo_X od, zo_X pd, ini, fin, il, gl, ba, se', fr, re, fo', wo))
    (Kg : (∀ j, j < (Z x).length → pd (x * 4 + j) = none → S j = nI (S j).toNatClampNeg ∧ (S j).toNatClampNeg < m) → ∀ sL' se' fo', post (nI (zq_c (fun j => pd (x * 4 + j)) (Z x).length 0)) (nI m, sC, pC, hC, iL, nI GL.length, bL, sL', fL, wL, kM, nd, nc, kd, ss, sn, hM, zo_X od, zo_X (zq_p pd (fun j => (S j).toNatClampNeg) x (Z x).length), ini, fin, il, gl, ba, se', fr, re, fo', wo)) :
    ∀ (d i : Nat) (sL : Int32) (se fo : Nat → Int32), i + d = (Z x).length → (∀ j, j < i → (pd (x * 4 + j) = none → fo j = S j ∧ S j = nI (S j).toNatClampNeg ∧ (S j).toNatClampNeg < m) ∧ (¬ pd (x * 4 + j) = none → fo j = -7)) →
    (wX_bindAll_23 post (nI x) (d + 1) (nI i) (nI m) sC pC hC iL (nI GL.length) bL sL fL wL kM nd nc kd ss sn hM (zo_X od) (zo_X pd) ini fin il gl ba se fr re fo wo) := by
  have c0 : (nI x).toNatClampNeg = x := nI_clamp (by omega)
  have v : vp_in (nI x) 12 := vp_in_nI (by omega) (by omega)
  have hn := (V x hx).1
  have h4 := (V x hx).2.2.1
  intro d
  induction d with
  | zero =>
    intro i sL se fo hi hf
    rw [Nat.add_zero] at hi
    have h1 := Kg (fun j hj e => ((hf j (by omega)).1 e).2) sL se fo
    have e0 : zo_X pd = zo_X (zq_p pd (fun j => (S j).toNatClampNeg) x 0) := by rw [zq_p_0]
    rw [wX_bindAll_23]
    dsimp only
    rw [c0, hn]
    refine ⟨v, br_t (nI_le (by omega) (by omega)) ?_⟩
    refine ⟨(Z x).length + 1, ?_⟩
    rw [e0]
    exact zx_pf4 (T := fun j => (S j).toNatClampNeg) hm hp V hx (fun j hj => ⟨fun e => ⟨((hf j (by omega)).1 e).1.trans ((hf j (by omega)).1 e).2.1, ((hf j (by omega)).1 e).2.2⟩, (hf j (by omega)).2⟩) (Z x).length 0 0 (by omega) (by rw [Nat.zero_add]; exact h1)
  | succ d ih =>
    intro i sL se fo hi hf
    have ci : (nI i).toNatClampNeg = i := nI_clamp (by omega)
    have vi : vp_in (nI i) 4 := vp_in_nI (by omega) (by omega)
    have v4 : vp_in (nI (x * 4 + i)) 48 := vp_in_nI (by omega) (by omega)
    have c4 : (nI (x * 4 + i)).toNatClampNeg = x * 4 + i := nI_clamp (by omega)
    obtain ⟨hsi, hss⟩ := zz_Z_at V hx (show i < (Z x).length by omega)
    have e7 : zo_X pd (x * 4 + i) = -7 ↔ pd (x * 4 + i) = none := zo_x7 hm (hlp _ (by omega))
    rw [wX_bindAll_23]
    dsimp only
    rw [c0, hn]
    refine ⟨v, br_f (nI_ge (by omega) (by omega)) (zx_sc ⟨vi, nm_r (e' := upd fo i (-7)) (by rw [ci]) ⟨v4, ?_⟩⟩)⟩
    rw [c4, hsi]
    by_cases e : pd (x * 4 + i) = none
    · refine br_t (e7.mpr e) ⟨v4, zx_ss hm W hx (by omega) ho hom hG hA (fun sL' se' => ⟨vi, nm_r (e' := upd (upd fo i (-7)) i (S i)) (by rw [ci, eS]) ?_⟩)⟩
      unfold wX_bindAll_76
      refine ⟨vi, ?_⟩
      rw [ci, pk_us]
      rcases zf_s_res (kd := kd) (s := (Z x).getD i 0) (zz_N_ht W) hG.2 hx hom with h6 | ⟨y, hy, h6⟩
      · rw [← eS] at h6
        exact br_t h6 (Kb ⟨i, by omega, e, h6⟩ _ _ _)
      · rw [← eS] at h6
        have cy : (S i).toNatClampNeg = y := by rw [h6]; exact nI_clamp (by omega)
        refine br_f (by rw [h6]; exact zn_m6 (by omega)) (nm_r (nI_1 i) (ih (i + 1) _ _ _ (by omega) (fun j hj => ?_)))
        by_cases ej : j = i
        · rw [ej, pk_us, cy]
          exact ⟨fun _ => ⟨rfl, h6, hy⟩, fun z => absurd e z⟩
        · rw [pk_un ej, pk_un ej]
          exact hf j (by omega)
    · refine br_f (fun z => e (e7.mp z)) ?_
      unfold wX_bindAll_76
      refine ⟨vi, ?_⟩
      rw [ci, pk_us]
      refine br_f (by decide) (nm_r (nI_1 i) (ih (i + 1) _ _ _ (by omega) (fun j hj => ?_)))
      by_cases ej : j = i
      · rw [ej, pk_us]
        exact ⟨fun z => absurd z e, fun _ => rfl⟩
      · rw [pk_un ej]
        exact hf j (by omega)
end XB
section YB
variable {mC sC pC hC iL gL bL qL fL : Int32} {nd nc kd ss sn hM op pt il gl ba ini fin sq fr ke : Nat → Int32}
variable {m p sy hh : Nat} {N Z : Nat → List Nat} {hd od pd : Nat → Option Nat} {IL GL : List Nat}
theorem zy_ba68 {post : Int32 → SY → Prop} {x o : Nat} {S : Nat → Int32} (hm : m ≤ 12) (hs : sy ≤ 12) (hp : p ≤ 4) (W : zz_N m N nc nd) (V : zz_Z m p sy Z sn ss) (hx : x < m) (hG : zl_ok m GL) (hA : zl_A gl 0 GL) (hlp : zo_lt m 48 pd) (ho : od x = some o) (hom : o < m)
    (eS : ∀ j, S j = zf_s kd N m GL x o ((Z x).getD j 0)) (hS : ∀ j, j < (Z x).length → pd (x * 4 + j) = none → S j = nI (S j).toNatClampNeg ∧ (S j).toNatClampNeg < m) :
    ∀ (d i c : Nat) (qL : Int32) (sq : Nat → Int32), i + d = (Z x).length → (∀ qL' sq', post (nI (c + zq_c (fun j => pd (x * 4 + j)) d i)) (nI m, sC, pC, hC, iL, nI GL.length, bL, qL', fL, nd, nc, kd, ss, sn, hM, zo_Y od, zo_Y (zq_p pd (fun j => (S j).toNatClampNeg) x (Z x).length), il, gl, ba, ini, fin, sq', fr, ke)) →
    (wY_bindAll_68 post (nI x) (d + 1) (nI c) (nI i) (nI m) sC pC hC iL (nI GL.length) bL qL fL nd nc kd ss sn hM (zo_Y od) (zo_Y (zq_p pd (fun j => (S j).toNatClampNeg) x i)) il gl ba ini fin sq fr ke) := by
  have c0 : (nI x).toNatClampNeg = x := nI_clamp (by omega)
  have v : vp_in (nI x) 12 := vp_in_nI (by omega) (by omega)
  have hn := (V x hx).1
  have h4 := (V x hx).2.2.1
  intro d
  induction d with
  | zero =>
    intro i c qL sq hi P
    rw [Nat.add_zero] at hi
    subst hi
    rw [wY_bindAll_68]
    dsimp only
    rw [c0, hn]
    exact ⟨v, br_t (nI_le (Nat.le_refl _) (by omega)) (P _ _)⟩
  | succ d ih =>
    intro i c qL sq hi P
    have v4 : vp_in (nI (x * 4 + i)) 48 := vp_in_nI (by omega) (by omega)
    have c4 : (nI (x * 4 + i)).toNatClampNeg = x * 4 + i := nI_clamp (by omega)
    obtain ⟨hsi, hss⟩ := zz_Z_at V hx (show i < (Z x).length by omega)
    have e0 : 0 ≤ zo_Y (zq_p pd (fun j => (S j).toNatClampNeg) x i) (x * 4 + i) ↔ ¬ pd (x * 4 + i) = none := by
      show 0 ≤ zo_y (zq_p pd (fun j => (S j).toNatClampNeg) x i (x * 4 + i)) ↔ _
      rw [zq_p_at]
      exact zo_y0' hm (hlp _ (by omega))
    rw [zq_c] at P
    rw [wY_bindAll_68]
    dsimp only
    rw [c0, hn, zn_4, c4]
    refine ⟨v, br_f (nI_ge (by omega) (by omega)) ⟨v4, ?_⟩⟩
    by_cases e : pd (x * 4 + i) = none
    · obtain ⟨s1, s2⟩ := hS i (by omega) e
      rw [if_pos e, ← Nat.add_assoc] at P
      refine br_f (fun z => e0.mp z e) (zy_ss hm W hx (by omega) hsi (by omega) ho hom hG hA (fun qL' sq' => ⟨v4, ?_⟩))
      have h1 := ih (i + 1) (c + 1) qL' sq' (by omega) P
      rw [← zq_p_n e, ← zo_Yu] at h1
      exact nm_r (e' := upd (zo_Y (zq_p pd (fun j => (S j).toNatClampNeg) x i)) (x * 4 + i) (zo_y (some (S i).toNatClampNeg))) (by rw [← eS]; show _ = upd _ _ (nI (S i).toNatClampNeg); rw [← s1]) (nm_r (nI_1 c) (nm_r (nI_1 i) h1))
    · rw [if_neg e, Nat.zero_add] at P
      have h1 := ih (i + 1) c qL sq (by omega) P
      rw [← zq_p_s e] at h1
      exact br_t (e0.mpr e) (nm_r (nI_1 i) h1)
theorem zy_ba23 {post : Int32 → SY → Prop} {x o : Nat} {S : Nat → Int32} (hm : m ≤ 12) (hs : sy ≤ 12) (hp : p ≤ 4) (W : zz_N m N nc nd) (V : zz_Z m p sy Z sn ss) (hx : x < m) (hG : zl_ok m GL) (hA : zl_A gl 0 GL) (hlp : zo_lt m 48 pd) (ho : od x = some o) (hom : o < m)
    (eS : ∀ j, S j = zf_s kd N m GL x o ((Z x).getD j 0))
    (Kb : (∃ j, j < (Z x).length ∧ pd (x * 4 + j) = none ∧ S j = -6) → ∀ qL' sq', post (-6) (nI m, sC, pC, hC, iL, nI GL.length, bL, qL', fL, nd, nc, kd, ss, sn, hM, zo_Y od, zo_Y pd, il, gl, ba, ini, fin, sq', fr, ke))
    (Kg : (∀ j, j < (Z x).length → pd (x * 4 + j) = none → S j = nI (S j).toNatClampNeg ∧ (S j).toNatClampNeg < m) → ∀ qL' sq', post (nI (zq_c (fun j => pd (x * 4 + j)) (Z x).length 0)) (nI m, sC, pC, hC, iL, nI GL.length, bL, qL', fL, nd, nc, kd, ss, sn, hM, zo_Y od, zo_Y (zq_p pd (fun j => (S j).toNatClampNeg) x (Z x).length), il, gl, ba, ini, fin, sq', fr, ke)) :
    ∀ (d i : Nat) (qL : Int32) (sq : Nat → Int32), i + d = (Z x).length → (∀ j, j < i → pd (x * 4 + j) = none → S j = nI (S j).toNatClampNeg ∧ (S j).toNatClampNeg < m) →
    (wY_bindAll_23 post (nI x) (d + 1) (nI i) (nI m) sC pC hC iL (nI GL.length) bL qL fL nd nc kd ss sn hM (zo_Y od) (zo_Y pd) il gl ba ini fin sq fr ke) := by
  have c0 : (nI x).toNatClampNeg = x := nI_clamp (by omega)
  have v : vp_in (nI x) 12 := vp_in_nI (by omega) (by omega)
  have hn := (V x hx).1
  have h4 := (V x hx).2.2.1
  intro d
  induction d with
  | zero =>
    intro i qL sq hi hf
    rw [Nat.add_zero] at hi
    subst hi
    have e0 : zo_Y pd = zo_Y (zq_p pd (fun j => (S j).toNatClampNeg) x 0) := by rw [zq_p_0]
    rw [wY_bindAll_23]
    dsimp only
    rw [c0, hn]
    refine ⟨v, br_t (nI_le (Nat.le_refl _) (by omega)) ⟨(Z x).length + 1, ?_⟩⟩
    rw [e0]
    exact zy_ba68 hm hs hp W V hx hG hA hlp ho hom eS hf (Z x).length 0 0 qL sq (by omega) (by rw [Nat.zero_add]; exact Kg hf)
  | succ d ih =>
    intro i qL sq hi hf
    have v4 : vp_in (nI (x * 4 + i)) 48 := vp_in_nI (by omega) (by omega)
    have c4 : (nI (x * 4 + i)).toNatClampNeg = x * 4 + i := nI_clamp (by omega)
    obtain ⟨hsi, hss⟩ := zz_Z_at V hx (show i < (Z x).length by omega)
    have e0 : 0 ≤ zo_Y pd (x * 4 + i) ↔ ¬ pd (x * 4 + i) = none := zo_y0' hm (hlp _ (by omega))
    rw [wY_bindAll_23]
    dsimp only
    rw [c0, hn, zn_4, c4]
    refine ⟨v, br_f (nI_ge (by omega) (by omega)) ⟨v4, ?_⟩⟩
    by_cases e : pd (x * 4 + i) = none
    · refine br_f (fun z => e0.mp z e) (zy_ss hm W hx (by omega) hsi (by omega) ho hom hG hA (fun qL' sq' => ?_))
      rcases zf_s_res (kd := kd) (s := (Z x).getD i 0) (zz_N_ht W) hG.2 hx hom with h6 | ⟨y, hy, h6⟩
      · rw [h6]
        rw [← eS] at h6
        exact br_f (by decide) (Kb ⟨i, by omega, e, h6⟩ _ _)
      · rw [h6]
        rw [← eS] at h6
        have cy : (S i).toNatClampNeg = y := by rw [h6]; exact nI_clamp (by omega)
        refine br_t (nI_pos' (by omega)) (nm_r (nI_1 i) (ih (i + 1) _ _ (by omega) (fun j hj ej => ?_)))
        by_cases ej2 : j = i
        · rw [ej2, cy]
          exact ⟨h6, hy⟩
        · exact hf j (by omega) ej
    · refine br_t (e0.mpr e) (nm_r (nI_1 i) (ih (i + 1) _ _ (by omega) (fun j hj ej => ?_)))
      by_cases ej2 : j = i
      · rw [ej2] at ej; exact absurd ej e
      · exact hf j (by omega) ej
end YB
end
section
/-! open and close keep the relation -/
theorem zl_mem_snd {m : Nat} {sc : Int32} {G L : List Nat} (hL : zl_ok m L) : zl_ok m (zg_E sc G L) ∧ ∀ z, z ∈ G → z ∉ zg_E sc G L := by
  unfold zg_E
  split
  · refine ⟨zl_ok_filter _ hL, fun z hz hz2 => ?_⟩
    have h := (List.mem_filter.mp hz2).2
    rw [decide_eq_true_iff] at h
    exact h hz
  · exact ⟨zl_ok_nil, fun z _ hz => nomatch hz⟩
section KP
variable {m sy p hh bl : Nat} {N Z : Nat → List Nat} {IL GL : List Nat} {hd od pd : Nat → Option Nat} {nd nc ss sn il gl : Nat → Int32}
theorem zi_op {x i : Nat} {sc : Int32} {F E D : List Nat} (h : zi_I m sy p hh bl N Z IL GL hd od pd nd nc ss sn il gl) (hx : x < m)
    (eF : F = zg_f od (zl_sl N m x)) (eE : E = zg_E sc GL (zl_sl N m x)) (eD : D = zr_go (zl_sl N m) F F.length []) :
    zi_I m sy p hh D.length N Z (IL ++ D) (GL ++ E) (zo_u hd i (some x)) (zo_U od F (some x)) pd nd nc ss sn (zl_w il IL.length D) (zl_w gl GL.length E) := by
  obtain ⟨⟨hm, hs, hp, h8, hb⟩, W, V, ⟨hI, hAI⟩, ⟨hG, hAG⟩, ⟨l1, l2, l3⟩, hld⟩ := h
  have hS := zl_sl_ok (zz_N_ht W) hx
  have hF : zl_ok m F := by rw [eF]; exact zl_ok_filter _ hS
  have hdj : ∀ z, z ∈ F → z ∉ IL := by
    intro z hz
    rw [eF] at hz
    have h2 := List.mem_filter.mp hz
    exact (hld z (hS.2 z h2.1)).mp (Option.isNone_iff_eq_none.mp h2.2)
  obtain ⟨d1, d2, d3⟩ := zr_go_all (R := zl_sl N m) hF (fun x _ => zl_sl_self) (fun x y z hx h1 h2 => zl_sl_trans (zz_N_ht W) (hF.2 x hx) h1 h2) F.length [] zl_ok_nil (fun x hx => nomatch hx) (by rw [List.length_nil]; omega)
  rw [← eD] at d1 d2 d3
  obtain ⟨e1, e2⟩ := zl_mem_snd (sc := sc) (G := GL) hS
  rw [← eE] at e1 e2
  have hlen := zl_len d1
  have hv : ∀ y, some x = some y → y < m := fun y e => by injection e with e; omega
  refine ⟨⟨hm, hs, hp, h8, by omega⟩, W, V, ⟨zl_ok_app hI d1 (fun z h1 h2 => hdj z ((d2 z).mp h2) h1), zl_w_AA hAI⟩, ⟨zl_ok_app hG e1 e2, zl_w_AA hAG⟩, ⟨zo_lt_u l1 hv, zo_lt_U l2 hv, l3⟩, fun z hz => ?_⟩
  rw [List.mem_append, d2 z]
  by_cases c : z ∈ F
  · rw [zo_U_in c]
    exact ⟨fun w => (nomatch w), fun w => absurd (Or.inr c) w⟩
  · rw [zo_U_out c, hld z hz]
    exact ⟨fun w q => q.elim w c, fun w q => w (Or.inl q)⟩
theorem zi_cl {i : Nat} {K B : List Nat} (h : zi_I m sy p hh bl N Z IL GL hd od pd nd nc ss sn il gl) (eB : B = zg_e K IL.reverse) :
    zi_I m sy p hh B.length N Z (zg_k K IL) (zg_k K GL) (zo_u hd i none) (za_O K (zo_U od B none) m) (zp_U pd B) nd nc ss sn (zl_w il 0 (zg_k K IL)) (zl_w gl 0 (zg_k K GL)) := by
  obtain ⟨⟨hm, hs, hp, h8, hb⟩, W, V, ⟨hI, hAI⟩, ⟨hG, hAG⟩, ⟨l1, l2, l3⟩, hld⟩ := h
  have hB : zl_ok m B := by rw [eB]; exact zl_ok_filter _ (zl_ok_rev hI)
  have hlen := zl_len hB
  have hBm : ∀ z, z ∈ B ↔ z ∈ IL ∧ z ∉ K := fun z => by
    rw [eB]
    unfold zg_e
    rw [List.mem_filter, List.mem_reverse, decide_eq_true_iff]
  have lU : zo_lt m 12 (zo_U od B none) := zo_lt_U l2 (fun y e => nomatch e)
  have lO : zo_lt m 12 (za_O K (zo_U od B none) m) := by
    intro j hj y e
    unfold za_O at e
    by_cases c : j < m
    · rw [if_pos c] at e
      unfold za_o at e
      cases q : zo_U od B none j with
      | none => rw [q] at e; exact nomatch e
      | some o =>
        rw [q] at e
        have ho := lU j hj o q
        by_cases c2 : o ∈ K
        · have e' : (if o ∈ K then some o else some j) = some y := e
          rw [if_pos c2] at e'
          injection e' with e'
          omega
        · have e' : (if o ∈ K then some o else some j) = some y := e
          rw [if_neg c2] at e'
          injection e' with e'
          omega
    · rw [if_neg c] at e
      exact lU j hj y e
  have lP : zo_lt m 48 (zp_U pd B) := by
    intro j hj y e
    unfold zp_U at e
    by_cases c : j / 4 ∈ B
    · rw [if_pos c] at e; exact nomatch e
    · rw [if_neg c] at e; exact l3 j hj y e
  refine ⟨⟨hm, hs, hp, h8, by omega⟩, W, V, ⟨zl_ok_filter _ hI, zl_w_A _ _ _⟩, ⟨zl_ok_filter _ hG, zl_w_A _ _ _⟩, ⟨zo_lt_u l1 (fun y e => nomatch e), lO, lP⟩, fun z hz => ?_⟩
  have h1 : za_O K (zo_U od B none) m z = none ↔ zo_U od B none z = none := by
    unfold za_O
    rw [if_pos hz]
    unfold za_o
    cases q : zo_U od B none z with
    | none => exact ⟨fun _ => rfl, fun _ => rfl⟩
    | some o =>
      refine ⟨fun e => ?_, fun e => nomatch e⟩
      have e' : (if o ∈ K then some o else some z) = none := e
      by_cases c2 : o ∈ K
      · rw [if_pos c2] at e'; exact nomatch e'
      · rw [if_neg c2] at e'; exact nomatch e'
  rw [h1]
  unfold zg_k
  rw [List.mem_filter, decide_eq_true_iff]
  by_cases c : z ∈ B
  · rw [zo_U_in c]
    exact ⟨fun _ w => ((hBm z).mp c).2 w.2, fun _ => rfl⟩
  · rw [zo_U_out c, hld z hz]
    exact ⟨fun w q => w q.1, fun w q => c ((hBm z).mpr ⟨q, fun k => w ⟨q, k⟩⟩)⟩
end KP

/-! the remaining methods of X -/
section XR
variable {mC sC pC hC iL gL bL sL fL wL kM : Int32} {nd nc kd ss sn hM op pt ini fin il gl ba se fr re fo wo : Nat → Int32}
variable {m p sy hh : Nat} {N Z : Nat → List Nat} {hd od pd : Nat → Option Nat} {IL GL : List Nat}
theorem zx_er0 {post : Int32 → SX → Prop} {v : Int32} (hv : v < 0 ∨ nI m ≤ v) (P : post (-1) (nI m, sC, pC, hC, iL, gL, bL, sL, fL, wL, kM, nd, nc, kd, ss, sn, hM, op, pt, ini, fin, il, gl, ba, se, fr, re, fo, wo)) : wpX_erase post (nI m, sC, pC, hC, iL, gL, bL, sL, fL, wL, kM, nd, nc, kd, ss, sn, hM, op, pt, ini, fin, il, gl, ba, se, fr, re, fo, wo) v := by
  unfold wpX_erase; exact zx_isM0 hv (br_t rfl P)
theorem zx_ne0 {post : Int32 → SX → Prop} {v w : Int32} (hv : v < 0 ∨ nI m ≤ v) (P : post (-1) (nI m, sC, pC, hC, iL, gL, bL, sL, fL, wL, kM, nd, nc, kd, ss, sn, hM, op, pt, ini, fin, il, gl, ba, se, fr, re, fo, wo)) : wpX_needs post (nI m, sC, pC, hC, iL, gL, bL, sL, fL, wL, kM, nd, nc, kd, ss, sn, hM, op, pt, ini, fin, il, gl, ba, se, fr, re, fo, wo) v w := by
  unfold wpX_needs; exact zx_isM0 hv (br_t rfl P)
theorem zx_ne0b {post : Int32 → SX → Prop} {x : Nat} {w : Int32} (hm : m ≤ 12) (hx : x < m) (hv : w < 0 ∨ nI m ≤ w) (P : post (-1) (nI m, sC, pC, hC, iL, gL, bL, sL, fL, wL, kM, nd, nc, kd, ss, sn, hM, op, pt, ini, fin, il, gl, ba, se, fr, re, fo, wo)) : wpX_needs post (nI m, sC, pC, hC, iL, gL, bL, sL, fL, wL, kM, nd, nc, kd, ss, sn, hM, op, pt, ini, fin, il, gl, ba, se, fr, re, fo, wo) (nI x) w := by
  unfold wpX_needs; exact zx_isM1 hm hx (br_f (by decide) (zx_isM0 hv (br_t rfl P)))
theorem zx_ne0c {post : Int32 → SX → Prop} {x : Nat} (hm : m ≤ 12) (hx : x < m) (P : post (-1) (nI m, sC, pC, hC, iL, gL, bL, sL, fL, wL, kM, nd, nc, kd, ss, sn, hM, op, pt, ini, fin, il, gl, ba, se, fr, re, fo, wo)) : wpX_needs post (nI m, sC, pC, hC, iL, gL, bL, sL, fL, wL, kM, nd, nc, kd, ss, sn, hM, op, pt, ini, fin, il, gl, ba, se, fr, re, fo, wo) (nI x) (nI x) := by
  unfold wpX_needs; exact zx_isM1 hm hx (br_f (by decide) (zx_isM1 hm hx (br_f (by decide) (br_t rfl P))))
theorem zx_df0 {post : Int32 → SX → Prop} {v w z : Int32} (hv : v < 0 ∨ nI m ≤ v) (P : post (-1) (nI m, sC, pC, hC, iL, gL, bL, sL, fL, wL, kM, nd, nc, kd, ss, sn, hM, op, pt, ini, fin, il, gl, ba, se, fr, re, fo, wo)) : wpX_define post (nI m, sC, pC, hC, iL, gL, bL, sL, fL, wL, kM, nd, nc, kd, ss, sn, hM, op, pt, ini, fin, il, gl, ba, se, fr, re, fo, wo) v w z := by
  unfold wpX_define; exact zx_isM0 hv (br_t rfl P)
theorem zx_df0b {post : Int32 → SX → Prop} {x : Nat} {w z : Int32} (hm : m ≤ 12) (hx : x < m) (hv : w < 0 ∨ nI sy ≤ w) (P : post (-1) (nI m, nI sy, pC, hC, iL, gL, bL, sL, fL, wL, kM, nd, nc, kd, ss, sn, hM, op, pt, ini, fin, il, gl, ba, se, fr, re, fo, wo)) : wpX_define post (nI m, nI sy, pC, hC, iL, gL, bL, sL, fL, wL, kM, nd, nc, kd, ss, sn, hM, op, pt, ini, fin, il, gl, ba, se, fr, re, fo, wo) (nI x) w z := by
  unfold wpX_define; exact zx_isM1 hm hx (br_f (by decide) (zx_isS0 hv (br_t rfl P)))
theorem zx_df0c {post : Int32 → SX → Prop} {x s : Nat} {z : Int32} (hm : m ≤ 12) (hs : sy ≤ 12) (hx : x < m) (hs1 : s < sy) (hz : z < 0 ∨ ¬ z ≤ 3) (P : post (-1) (nI m, nI sy, pC, hC, iL, gL, bL, sL, fL, wL, kM, nd, nc, kd, ss, sn, hM, op, pt, ini, fin, il, gl, ba, se, fr, re, fo, wo)) : wpX_define post (nI m, nI sy, pC, hC, iL, gL, bL, sL, fL, wL, kM, nd, nc, kd, ss, sn, hM, op, pt, ini, fin, il, gl, ba, se, fr, re, fo, wo) (nI x) (nI s) z := by
  unfold wpX_define
  refine zx_isM1 hm hx (br_f (by decide) (zx_isS1 hs hs1 (br_f (by decide) (br_c (fun _ => P) (fun h => br_f (hz.elim (fun q => absurd q h) id) P)))))
theorem zx_df {post : Int32 → SX → Prop} {x s : Nat} {z : Int32} (hm : m ≤ 12) (hs : sy ≤ 12) (hx : x < m) (hs1 : s < sy) (hz : ¬ z < 0) (hz3 : z ≤ 3) (hlo : zo_lt m 12 od) (K1 : ¬ od x = none → post (-2) (nI m, nI sy, pC, hC, iL, gL, bL, sL, fL, wL, kM, nd, nc, kd, ss, sn, hM, zo_X od, pt, ini, fin, il, gl, ba, se, fr, re, fo, wo)) (K0 : od x = none → post 0 (nI m, nI sy, pC, hC, iL, gL, bL, sL, fL, wL, kM, nd, nc, upd kd (x * 12 + s) z, ss, sn, hM, zo_X od, pt, ini, fin, il, gl, ba, se, fr, re, fo, wo)) :
    wpX_define post (nI m, nI sy, pC, hC, iL, gL, bL, sL, fL, wL, kM, nd, nc, kd, ss, sn, hM, zo_X od, pt, ini, fin, il, gl, ba, se, fr, re, fo, wo) (nI x) (nI s) z := by
  unfold wpX_define
  exact zx_isM1 hm hx (br_f (by decide) (zx_isS1 hs hs1 (br_f (by decide) (br_f hz (br_t hz3 (zx_isL hm hx hlo (fun h => br_t rfl (zx_cell ⟨vp_in_nI (by omega) (by omega), nm_r (e' := upd kd (x * 12 + s) z) (by rw [nI_clamp (by omega)]) (K0 h)⟩)) (fun o _ h => br_f (by decide) (K1 (fun z => by rw [z] at h; exact nomatch h)))))))))
theorem zx_st0 {post : Int32 → SX → Prop} {v w : Int32} (hv : v < 0 ∨ nI m ≤ v) (P : post (-1) (nI m, sC, pC, hC, iL, gL, bL, sL, fL, wL, kM, nd, nc, kd, ss, sn, hM, op, pt, ini, fin, il, gl, ba, se, fr, re, fo, wo)) : wpX_slot post (nI m, sC, pC, hC, iL, gL, bL, sL, fL, wL, kM, nd, nc, kd, ss, sn, hM, op, pt, ini, fin, il, gl, ba, se, fr, re, fo, wo) v w := by
  unfold wpX_slot; exact zx_isM0 hv (br_t rfl P)
theorem zx_st0b {post : Int32 → SX → Prop} {x : Nat} {w : Int32} (hm : m ≤ 12) (hx : x < m) (hv : w < 0 ∨ nI sy ≤ w) (P : post (-1) (nI m, nI sy, pC, hC, iL, gL, bL, sL, fL, wL, kM, nd, nc, kd, ss, sn, hM, op, pt, ini, fin, il, gl, ba, se, fr, re, fo, wo)) : wpX_slot post (nI m, nI sy, pC, hC, iL, gL, bL, sL, fL, wL, kM, nd, nc, kd, ss, sn, hM, op, pt, ini, fin, il, gl, ba, se, fr, re, fo, wo) (nI x) w := by
  unfold wpX_slot; exact zx_isM1 hm hx (br_f (by decide) (zx_isS0 hv (br_t rfl P)))
theorem zx_st {post : Int32 → SX → Prop} {x s : Nat} (hm : m ≤ 12) (hs : sy ≤ 12) (hp : p ≤ 4) (V : zz_Z m p sy Z sn ss) (hx : x < m) (hs1 : s < sy) (hlo : zo_lt m 12 od) (K1 : ¬ od x = none → post (-2) (nI m, nI sy, nI p, hC, iL, gL, bL, sL, fL, wL, kM, nd, nc, kd, ss, sn, hM, zo_X od, pt, ini, fin, il, gl, ba, se, fr, re, fo, wo))
    (Kf : od x = none → ¬ (Z x).length < p → post (-4) (nI m, nI sy, nI p, hC, iL, gL, bL, sL, fL, wL, kM, nd, nc, kd, ss, sn, hM, zo_X od, pt, ini, fin, il, gl, ba, se, fr, re, fo, wo))
    (K0 : od x = none → (Z x).length < p → post (nI (Z x).length) (nI m, nI sy, nI p, hC, iL, gL, bL, sL, fL, wL, kM, nd, nc, kd, upd ss (x * 4 + (Z x).length) (nI s), upd sn x (nI ((Z x).length + 1)), hM, zo_X od, pt, ini, fin, il, gl, ba, se, fr, re, fo, wo)) :
    wpX_slot post (nI m, nI sy, nI p, hC, iL, gL, bL, sL, fL, wL, kM, nd, nc, kd, ss, sn, hM, zo_X od, pt, ini, fin, il, gl, ba, se, fr, re, fo, wo) (nI x) (nI s) := by
  have c : (nI x).toNatClampNeg = x := nI_clamp (by omega)
  have v : vp_in (nI x) 12 := vp_in_nI (by omega) (by omega)
  have h4 := (V x hx).2.2.1
  unfold wpX_slot
  refine zx_isM1 hm hx (br_f (by decide) (zx_isS1 hs hs1 (br_f (by decide) (zx_isL hm hx hlo (fun h => br_t rfl ⟨v, nm_r (e' := nI (Z x).length) (by rw [c]; exact (V x hx).1) ?_⟩) (fun o _ h => br_f (by decide) (K1 (fun z => by rw [z] at h; exact nomatch h)))))))
  by_cases e : (Z x).length < p
  · exact br_t (nI_lt e (by omega)) (zx_sc ⟨vp_in_nI (by omega) (by omega), nm_r (e' := upd ss (x * 4 + (Z x).length) (nI s)) (by rw [nI_clamp (by omega)]) ⟨v, nm_r (e' := upd sn x (nI ((Z x).length + 1))) (by rw [c, nI_1]) (K0 h e)⟩⟩)
  · exact br_f (nI_nlt (by omega) (by omega)) (Kf h e)
theorem zx_op0 {post : Int32 → SX → Prop} {v w : Int32} (hv : v < 0 ∨ nI m ≤ v) (P : post (-1) (nI m, sC, pC, hC, iL, gL, bL, sL, fL, wL, kM, nd, nc, kd, ss, sn, hM, op, pt, ini, fin, il, gl, ba, se, fr, re, fo, wo)) : wpX_open post (nI m, sC, pC, hC, iL, gL, bL, sL, fL, wL, kM, nd, nc, kd, ss, sn, hM, op, pt, ini, fin, il, gl, ba, se, fr, re, fo, wo) v w := by
  unfold wpX_open; exact zx_isM0 hv (br_t rfl P)
theorem zx_op0b {post : Int32 → SX → Prop} {x : Nat} {w : Int32} (hm : m ≤ 12) (hx : x < m) (h0 : ¬ w = 0) (h1 : ¬ w = 1) (P : post (-1) (nI m, sC, pC, hC, iL, gL, bL, sL, fL, wL, kM, nd, nc, kd, ss, sn, hM, op, pt, ini, fin, il, gl, ba, se, fr, re, fo, wo)) : wpX_open post (nI m, sC, pC, hC, iL, gL, bL, sL, fL, wL, kM, nd, nc, kd, ss, sn, hM, op, pt, ini, fin, il, gl, ba, se, fr, re, fo, wo) (nI x) w := by
  unfold wpX_open; exact zx_isM1 hm hx (br_f (by decide) (br_f h0 (br_f h1 P)))
theorem zx_op1 {post : Int32 → SX → Prop} {x : Nat} {w : Int32} (hm : m ≤ 12) (hx : x < m) (hw : w = 0 ∨ w = 1) (P : wX_open_19 post (nI x) w (nI m) sC pC hC iL gL bL sL fL wL kM nd nc kd ss sn hM op pt ini fin il gl ba se fr re fo wo) : wpX_open post (nI m, sC, pC, hC, iL, gL, bL, sL, fL, wL, kM, nd, nc, kd, ss, sn, hM, op, pt, ini, fin, il, gl, ba, se, fr, re, fo, wo) (nI x) w := by
  unfold wpX_open
  refine zx_isM1 hm hx (br_f (by decide) (br_c (fun _ => P) (fun h => ?_)))
  rcases hw with e | e
  · exact absurd e h
  · exact br_t e P
theorem zx_cl0 {post : Int32 → SX → Prop} {v : Int32} (hv : v < 0 ∨ nI hh ≤ v) (P : post (-1) (mC, sC, pC, nI hh, iL, gL, bL, sL, fL, wL, kM, nd, nc, kd, ss, sn, hM, op, pt, ini, fin, il, gl, ba, se, fr, re, fo, wo)) : wpX_close post (mC, sC, pC, nI hh, iL, gL, bL, sL, fL, wL, kM, nd, nc, kd, ss, sn, hM, op, pt, ini, fin, il, gl, ba, se, fr, re, fo, wo) v := by
  unfold wpX_close; exact zx_isH0 hv (br_t rfl P)
theorem zx_ca0 {post : Int32 → SX → Prop} {v w : Int32} (hv : v < 0 ∨ nI m ≤ v) (P : post (-1) (nI m, sC, pC, hC, iL, gL, bL, sL, fL, wL, kM, nd, nc, kd, ss, sn, hM, op, pt, ini, fin, il, gl, ba, se, fr, re, fo, wo)) : wpX_call post (nI m, sC, pC, hC, iL, gL, bL, sL, fL, wL, kM, nd, nc, kd, ss, sn, hM, op, pt, ini, fin, il, gl, ba, se, fr, re, fo, wo) v w := by
  unfold wpX_call; exact zx_isM0 hv (br_t rfl P)
theorem zx_ca0b {post : Int32 → SX → Prop} {x : Nat} {w : Int32} (hm : m ≤ 12) (V : zz_Z m p sy Z sn ss) (hx : x < m) (hv : w < 0 ∨ nI (Z x).length ≤ w) (P : post (-1) (nI m, sC, pC, hC, iL, gL, bL, sL, fL, wL, kM, nd, nc, kd, ss, sn, hM, op, pt, ini, fin, il, gl, ba, se, fr, re, fo, wo)) : wpX_call post (nI m, sC, pC, hC, iL, gL, bL, sL, fL, wL, kM, nd, nc, kd, ss, sn, hM, op, pt, ini, fin, il, gl, ba, se, fr, re, fo, wo) (nI x) w := by
  unfold wpX_call; exact zx_isM1 hm hx (br_f (by decide) (zx_isSl0 hm V hx hv (br_t rfl P)))
theorem zx_ca {post : Int32 → SX → Prop} {x i : Nat} (hm : m ≤ 12) (hs : sy ≤ 12) (hp : p ≤ 4) (W : zz_N m N nc nd) (V : zz_Z m p sy Z sn ss) (hx : x < m) (hi : i < (Z x).length) (hG : zl_ok m GL) (hA : zl_A gl 0 GL) (hlo : zo_lt m 12 od) (hlp : zo_lt m 48 pd)
    (Kn : od x = none → post (-3) (nI m, sC, pC, hC, iL, nI GL.length, bL, sL, fL, wL, kM, nd, nc, kd, ss, sn, hM, zo_X od, zo_X pd, ini, fin, il, gl, ba, se, fr, re, fo, wo))
    (Kp : ¬ od x = none → ∀ y, y < m → pd (x * 4 + i) = some y → post (nI y) (nI m, sC, pC, hC, iL, nI GL.length, bL, sL, fL, wL, kM, nd, nc, kd, ss, sn, hM, zo_X od, zo_X pd, ini, fin, il, gl, ba, se, fr, re, fo, wo))
    (Ku : ∀ o, o < m → od x = some o → pd (x * 4 + i) = none → zf_s kd N m GL x o ((Z x).getD i 0) = -6 → ∀ sL' se', post (-6) (nI m, sC, pC, hC, iL, nI GL.length, bL, sL', fL, wL, kM, nd, nc, kd, ss, sn, hM, zo_X od, zo_X pd, ini, fin, il, gl, ba, se', fr, re, fo, wo))
    (Kf : ∀ o, o < m → od x = some o → pd (x * 4 + i) = none → ∀ y, y < m → zf_s kd N m GL x o ((Z x).getD i 0) = nI y → ∀ sL' se', post (nI y) (nI m, sC, pC, hC, iL, nI GL.length, bL, sL', fL, wL, kM, nd, nc, kd, ss, sn, hM, zo_X od, zo_X (zo_u pd (x * 4 + i) (some y)), ini, fin, il, gl, ba, se', fr, re, fo, wo)) :
    wpX_call post (nI m, sC, pC, hC, iL, nI GL.length, bL, sL, fL, wL, kM, nd, nc, kd, ss, sn, hM, zo_X od, zo_X pd, ini, fin, il, gl, ba, se, fr, re, fo, wo) (nI x) (nI i) := by
  have h4 := (V x hx).2.2.1
  have v4 : vp_in (nI (x * 4 + i)) 48 := vp_in_nI (by omega) (by omega)
  have c4 : (nI (x * 4 + i)).toNatClampNeg = x * 4 + i := nI_clamp (by omega)
  obtain ⟨hsi, hss⟩ := zz_Z_at V hx hi
  have hb := hlp (x * 4 + i) (by omega)
  have e0 : zo_X pd (x * 4 + i) = zo_x (pd (x * 4 + i)) := rfl
  unfold wpX_call
  refine zx_isM1 hm hx (br_f (by decide) (zx_isSl1 hm hp V hx hi (br_f (by decide) (zx_isL hm hx hlo (fun h => br_t rfl (Kn h)) (fun o ho h => br_f (by decide) (zx_sc ⟨v4, ?_⟩))))))
  rw [c4, hsi, e0]
  cases q : pd (x * 4 + i) with
  | some y =>
    have hy := hb y q
    exact br_f (zn_m7 (by omega)) ⟨v4, Kp (fun z => by rw [z] at h; exact nomatch h) y hy q⟩
  | none =>
    refine br_t rfl ⟨v4, zx_ss hm W hx (by omega) h ho hG hA (fun sL' se' => ?_)⟩
    rcases zf_s_res (kd := kd) (s := (Z x).getD i 0) (zz_N_ht W) hG.2 hx ho with h6 | ⟨y, hy, h6⟩
    · rw [h6]
      exact br_t rfl (Ku o ho h q h6 sL' se')
    · rw [h6]
      exact br_f (zn_m6 (by omega)) ⟨v4, nm_r (e' := zo_X (zo_u pd (x * 4 + i) (some y))) (zo_Xu pd (x * 4 + i) (some y)) (Kf o ho h q y hy h6 sL' se')⟩
theorem zx_ba0 {post : Int32 → SX → Prop} {v : Int32} (hv : v < 0 ∨ nI m ≤ v) (P : post (-1) (nI m, sC, pC, hC, iL, gL, bL, sL, fL, wL, kM, nd, nc, kd, ss, sn, hM, op, pt, ini, fin, il, gl, ba, se, fr, re, fo, wo)) : wpX_bindAll post (nI m, sC, pC, hC, iL, gL, bL, sL, fL, wL, kM, nd, nc, kd, ss, sn, hM, op, pt, ini, fin, il, gl, ba, se, fr, re, fo, wo) v := by
  unfold wpX_bindAll; exact zx_isM0 hv (br_t rfl P)
theorem zx_ba {post : Int32 → SX → Prop} {x : Nat} (hm : m ≤ 12) (hx : x < m) (hlo : zo_lt m 12 od) (Kn : od x = none → post (-3) (nI m, sC, pC, hC, iL, gL, bL, sL, fL, wL, kM, nd, nc, kd, ss, sn, hM, zo_X od, pt, ini, fin, il, gl, ba, se, fr, re, fo, wo)) (K : ∀ o, o < m → od x = some o → ∃ n23, (wX_bindAll_23 post (nI x) n23 0 (nI m) sC pC hC iL gL bL sL fL wL kM nd nc kd ss sn hM (zo_X od) pt ini fin il gl ba se fr re fo wo)) :
    wpX_bindAll post (nI m, sC, pC, hC, iL, gL, bL, sL, fL, wL, kM, nd, nc, kd, ss, sn, hM, zo_X od, pt, ini, fin, il, gl, ba, se, fr, re, fo, wo) (nI x) := by
  unfold wpX_bindAll; exact zx_isM1 hm hx (br_f (by decide) (zx_isL hm hx hlo (fun h => br_t rfl (Kn h)) (fun o ho h => br_f (by decide) (K o ho h))))
theorem zx_re0 {post : Int32 → SX → Prop} {v w : Int32} (hv : v < 0 ∨ nI m ≤ v) (P : post (-1) (nI m, sC, pC, hC, iL, gL, bL, sL, fL, wL, kM, nd, nc, kd, ss, sn, hM, op, pt, ini, fin, il, gl, ba, se, fr, re, fo, wo)) : wpX_resolve post (nI m, sC, pC, hC, iL, gL, bL, sL, fL, wL, kM, nd, nc, kd, ss, sn, hM, op, pt, ini, fin, il, gl, ba, se, fr, re, fo, wo) v w := by
  unfold wpX_resolve; exact zx_isM0 hv (br_t rfl P)
theorem zx_re0b {post : Int32 → SX → Prop} {x : Nat} {w : Int32} (hm : m ≤ 12) (V : zz_Z m p sy Z sn ss) (hx : x < m) (hv : w < 0 ∨ nI (Z x).length ≤ w) (P : post (-1) (nI m, sC, pC, hC, iL, gL, bL, sL, fL, wL, kM, nd, nc, kd, ss, sn, hM, op, pt, ini, fin, il, gl, ba, se, fr, re, fo, wo)) : wpX_resolve post (nI m, sC, pC, hC, iL, gL, bL, sL, fL, wL, kM, nd, nc, kd, ss, sn, hM, op, pt, ini, fin, il, gl, ba, se, fr, re, fo, wo) (nI x) w := by
  unfold wpX_resolve; exact zx_isM1 hm hx (br_f (by decide) (zx_isSl0 hm V hx hv (br_t rfl P)))
theorem zx_re {post : Int32 → SX → Prop} {x i : Nat} (hm : m ≤ 12) (hs : sy ≤ 12) (hp : p ≤ 4) (W : zz_N m N nc nd) (V : zz_Z m p sy Z sn ss) (hx : x < m) (hi : i < (Z x).length) (hG : zl_ok m GL) (hA : zl_A gl 0 GL) (hlo : zo_lt m 12 od)
    (Kn : od x = none → post (-3) (nI m, sC, pC, hC, iL, nI GL.length, bL, sL, fL, wL, kM, nd, nc, kd, ss, sn, hM, zo_X od, pt, ini, fin, il, gl, ba, se, fr, re, fo, wo))
    (K : ∀ o, o < m → od x = some o → ∀ sL' se', post (zf_s kd N m GL x o ((Z x).getD i 0)) (nI m, sC, pC, hC, iL, nI GL.length, bL, sL', fL, wL, kM, nd, nc, kd, ss, sn, hM, zo_X od, pt, ini, fin, il, gl, ba, se', fr, re, fo, wo)) :
    wpX_resolve post (nI m, sC, pC, hC, iL, nI GL.length, bL, sL, fL, wL, kM, nd, nc, kd, ss, sn, hM, zo_X od, pt, ini, fin, il, gl, ba, se, fr, re, fo, wo) (nI x) (nI i) := by
  have h4 := (V x hx).2.2.1
  have v4 : vp_in (nI (x * 4 + i)) 48 := vp_in_nI (by omega) (by omega)
  have c4 : (nI (x * 4 + i)).toNatClampNeg = x * 4 + i := nI_clamp (by omega)
  obtain ⟨hsi, hss⟩ := zz_Z_at V hx hi
  unfold wpX_resolve
  exact zx_isM1 hm hx (br_f (by decide) (zx_isSl1 hm hp V hx hi (br_f (by decide) (zx_isL hm hx hlo (fun h => br_t rfl (Kn h)) (fun o ho h => br_f (by decide) (zx_sc ⟨v4, nm_r (e' := nI ((Z x).getD i 0)) (by rw [c4]; exact hsi) (zx_ss hm W hx (by omega) h ho hG hA (fun sL' se' => K o ho h sL' se'))⟩))))))
theorem zx_bo0 {post : Int32 → Prop} {v w : Int32} (hv : v < 0 ∨ nI m ≤ v) (P : post (-1)) : wpX_bound post (nI m, sC, pC, hC, iL, gL, bL, sL, fL, wL, kM, nd, nc, kd, ss, sn, hM, op, pt, ini, fin, il, gl, ba, se, fr, re, fo, wo) v w := by
  unfold wpX_bound; exact zx_isM0 hv (br_t rfl P)
theorem zx_bo0b {post : Int32 → Prop} {x : Nat} {w : Int32} (hm : m ≤ 12) (V : zz_Z m p sy Z sn ss) (hx : x < m) (hv : w < 0 ∨ nI (Z x).length ≤ w) (P : post (-1)) : wpX_bound post (nI m, sC, pC, hC, iL, gL, bL, sL, fL, wL, kM, nd, nc, kd, ss, sn, hM, op, pt, ini, fin, il, gl, ba, se, fr, re, fo, wo) (nI x) w := by
  unfold wpX_bound; exact zx_isM1 hm hx (br_f (by decide) (zx_isSl0 hm V hx hv (br_t rfl P)))
theorem zx_bo {post : Int32 → Prop} {x i : Nat} (hm : m ≤ 12) (hp : p ≤ 4) (V : zz_Z m p sy Z sn ss) (hx : x < m) (hi : i < (Z x).length) (P : post (zo_x (pd (x * 4 + i)))) : wpX_bound post (nI m, sC, pC, hC, iL, gL, bL, sL, fL, wL, kM, nd, nc, kd, ss, sn, hM, op, zo_X pd, ini, fin, il, gl, ba, se, fr, re, fo, wo) (nI x) (nI i) := by
  have h4 := (V x hx).2.2.1
  have c4 : (nI (x * 4 + i)).toNatClampNeg = x * 4 + i := nI_clamp (by omega)
  unfold wpX_bound
  refine zx_isM1 hm hx (br_f (by decide) (zx_isSl1 hm hp V hx hi (br_f (by decide) (zx_sc ⟨vp_in_nI (by omega) (by omega), ?_⟩))))
  rw [c4]
  exact P
theorem zx_lo0 {post : Int32 → SX → Prop} {v w : Int32} (hv : v < 0 ∨ nI hh ≤ v) (P : post (-1) (mC, sC, pC, nI hh, iL, gL, bL, sL, fL, wL, kM, nd, nc, kd, ss, sn, hM, op, pt, ini, fin, il, gl, ba, se, fr, re, fo, wo)) : wpX_lookup post (mC, sC, pC, nI hh, iL, gL, bL, sL, fL, wL, kM, nd, nc, kd, ss, sn, hM, op, pt, ini, fin, il, gl, ba, se, fr, re, fo, wo) v w := by
  unfold wpX_lookup; exact zx_isH0 hv (br_t rfl P)
theorem zx_lo0b {post : Int32 → SX → Prop} {h : Nat} {w : Int32} (h8 : hh ≤ 8) (hh1 : h < hh) (hv : w < 0 ∨ nI sy ≤ w) (P : post (-1) (mC, nI sy, pC, nI hh, iL, gL, bL, sL, fL, wL, kM, nd, nc, kd, ss, sn, hM, op, pt, ini, fin, il, gl, ba, se, fr, re, fo, wo)) : wpX_lookup post (mC, nI sy, pC, nI hh, iL, gL, bL, sL, fL, wL, kM, nd, nc, kd, ss, sn, hM, op, pt, ini, fin, il, gl, ba, se, fr, re, fo, wo) (nI h) w := by
  unfold wpX_lookup; exact zx_isH1 h8 hh1 (br_f (by decide) (zx_isS0 hv (br_t rfl P)))
theorem zx_lo {post : Int32 → SX → Prop} {h s : Nat} (hm : m ≤ 12) (hs : sy ≤ 12) (h8 : hh ≤ 8) (W : zz_N m N nc nd) (hh1 : h < hh) (hs1 : s < sy) (hlh : zo_lt m 8 hd)
    (Kn : hd h = none → post (-8) (nI m, nI sy, pC, nI hh, iL, gL, bL, sL, fL, wL, kM, nd, nc, kd, ss, sn, zo_X hd, op, pt, ini, fin, il, gl, ba, se, fr, re, fo, wo)) (K : ∀ r, r < m → hd h = some r → ∀ sL' se', post (zf_c kd s (zl_sl N m r)) (nI m, nI sy, pC, nI hh, iL, gL, bL, sL', fL, wL, kM, nd, nc, kd, ss, sn, zo_X hd, op, pt, ini, fin, il, gl, ba, se', fr, re, fo, wo)) :
    wpX_lookup post (nI m, nI sy, pC, nI hh, iL, gL, bL, sL, fL, wL, kM, nd, nc, kd, ss, sn, zo_X hd, op, pt, ini, fin, il, gl, ba, se, fr, re, fo, wo) (nI h) (nI s) := by
  have c : (nI h).toNatClampNeg = h := nI_clamp (by omega)
  have v : vp_in (nI h) 8 := vp_in_nI (by omega) (by omega)
  have e0 : zo_X hd h = zo_x (hd h) := rfl
  unfold wpX_lookup
  refine zx_isH1 h8 hh1 (br_f (by decide) (zx_isS1 hs hs1 (br_f (by decide) ⟨v, ?_⟩)))
  rw [c, e0]
  cases q : hd h with
  | none => exact br_t rfl (Kn q)
  | some r =>
    have hr := hlh h (by omega) r q
    refine br_f (zn_m7 (by omega)) ⟨v, zx_bs hm W hr (fun mk' se' hS hk => ?_)⟩
    have hL := zl_12 hm (zl_sl_ok (zz_N_ht W) hr)
    have K1 := K r hr q
    refine zx_fs (by omega) hL hS ?_
    unfold zf_c at K1
    by_cases e2 : zf_k kd s 1 (zl_sl N m r) = -6
    · rw [if_pos e2] at K1
      exact br_t e2 (zx_fs (by omega) hL hS (K1 _ _))
    · rw [if_neg e2] at K1
      exact br_f e2 (K1 _ _)
theorem zx_ha0 {post : Int32 → Prop} {v : Int32} (hv : v < 0 ∨ nI hh ≤ v) (P : post (-1)) : wpX_handleAt post (mC, sC, pC, nI hh, iL, gL, bL, sL, fL, wL, kM, nd, nc, kd, ss, sn, hM, op, pt, ini, fin, il, gl, ba, se, fr, re, fo, wo) v := by
  unfold wpX_handleAt; exact zx_isH0 hv (br_t rfl P)
theorem zx_ha {post : Int32 → Prop} {h : Nat} (h8 : hh ≤ 8) (hh1 : h < hh) (P : post (zo_x (hd h))) : wpX_handleAt post (mC, sC, pC, nI hh, iL, gL, bL, sL, fL, wL, kM, nd, nc, kd, ss, sn, zo_X hd, op, pt, ini, fin, il, gl, ba, se, fr, re, fo, wo) (nI h) := by
  unfold wpX_handleAt
  refine zx_isH1 h8 hh1 (br_f (by decide) ⟨vp_in_nI (by omega) (by omega), ?_⟩)
  rw [nI_clamp (show h < 2 ^ 31 by omega)]
  exact P
theorem zx_rk2 {post : Int32 → Prop} {x e0 : Nat} (hx : x < 12) (he : e0 ≤ 12) :
    ∀ (R : List Nat) (j : Nat), j + R.length = e0 → zl_A il j R → (∀ y, y ∈ R → y < 12) → post (zr_k (-7) x R j) →
    (wX_rankOf_2 post (nI x) mC sC pC hC (nI e0) gL bL sL fL wL kM nd nc kd ss sn hM op pt ini fin il gl ba se fr re fo wo (R.length + 1) (nI j)) := by
  intro R
  induction R with
  | nil =>
    intro j hj hA hR K
    rw [List.length_nil] at hj
    rw [wX_rankOf_2]
    exact br_t (nI_le (by omega) (by omega)) K
  | cons y R ih =>
    intro j hj hA hR K
    rw [List.length_cons] at hj
    obtain ⟨hA1, hA2⟩ := zl_A_cons.mp hA
    have hy : y < 12 := hR y List.mem_cons_self
    have c : (nI j).toNatClampNeg = j := nI_clamp (by omega)
    rw [wX_rankOf_2]
    dsimp only
    rw [c, hA1]
    rw [zr_k] at K
    refine br_f (nI_ge (by omega) (by omega)) ⟨vp_in_nI (by omega) (by omega), pk_eq y x (fun e => ?_) (fun e => nm_r (nI_1 j) ?_)⟩
    · rw [if_pos e] at K; exact K
    · rw [if_neg e] at K
      exact ih (j + 1) (by omega) hA2 (fun z hz => hR z (List.mem_cons_of_mem y hz)) K
theorem zx_rk {post : Int32 → Prop} {x : Nat} {L : List Nat} (hx : x < 12) (hL : zl_ok 12 L) (hA : zl_A il 0 L) (K : post (zr_k (-7) x L 0)) :
    wpX_rankOf post (mC, sC, pC, hC, nI L.length, gL, bL, sL, fL, wL, kM, nd, nc, kd, ss, sn, hM, op, pt, ini, fin, il, gl, ba, se, fr, re, fo, wo) (nI x) :=
  ⟨L.length + 1, zx_rk2 hx (zl_len hL) L 0 (by omega) hA hL.2 K⟩
end XR
end
section
/-! the remaining methods of Y -/
section YR
variable {mC sC pC hC iL gL bL qL fL : Int32} {nd nc kd ss sn hM op pt il gl ba ini fin sq fr ke : Nat → Int32}
variable {m p sy hh : Nat} {N Z : Nat → List Nat} {hd od pd : Nat → Option Nat} {IL GL : List Nat}
theorem zy_er0 {post : Int32 → SY → Prop} {v : Int32} (hv : v < 0 ∨ nI m ≤ v) (P : post (-1) (nI m, sC, pC, hC, iL, gL, bL, qL, fL, nd, nc, kd, ss, sn, hM, op, pt, il, gl, ba, ini, fin, sq, fr, ke)) : wpY_erase post (nI m, sC, pC, hC, iL, gL, bL, qL, fL, nd, nc, kd, ss, sn, hM, op, pt, il, gl, ba, ini, fin, sq, fr, ke) v := by
  unfold wpY_erase; exact zy_bM1 hv (br_f (by decide) P)
theorem zy_ne0 {post : Int32 → SY → Prop} {v w : Int32} (hv : v < 0 ∨ nI m ≤ v) (P : post (-1) (nI m, sC, pC, hC, iL, gL, bL, qL, fL, nd, nc, kd, ss, sn, hM, op, pt, il, gl, ba, ini, fin, sq, fr, ke)) : wpY_needs post (nI m, sC, pC, hC, iL, gL, bL, qL, fL, nd, nc, kd, ss, sn, hM, op, pt, il, gl, ba, ini, fin, sq, fr, ke) v w := by
  unfold wpY_needs; exact zy_bM1 hv (br_f (by decide) P)
theorem zy_ne0b {post : Int32 → SY → Prop} {x : Nat} {w : Int32} (hm : m ≤ 12) (hx : x < m) (hv : w < 0 ∨ nI m ≤ w) (P : post (-1) (nI m, sC, pC, hC, iL, gL, bL, qL, fL, nd, nc, kd, ss, sn, hM, op, pt, il, gl, ba, ini, fin, sq, fr, ke)) : wpY_needs post (nI m, sC, pC, hC, iL, gL, bL, qL, fL, nd, nc, kd, ss, sn, hM, op, pt, il, gl, ba, ini, fin, sq, fr, ke) (nI x) w := by
  unfold wpY_needs; exact zy_bM0 hm hx (br_t rfl (zy_bM1 hv (br_f (by decide) P)))
theorem zy_ne0c {post : Int32 → SY → Prop} {x : Nat} (hm : m ≤ 12) (hx : x < m) (P : post (-1) (nI m, sC, pC, hC, iL, gL, bL, qL, fL, nd, nc, kd, ss, sn, hM, op, pt, il, gl, ba, ini, fin, sq, fr, ke)) : wpY_needs post (nI m, sC, pC, hC, iL, gL, bL, qL, fL, nd, nc, kd, ss, sn, hM, op, pt, il, gl, ba, ini, fin, sq, fr, ke) (nI x) (nI x) := by
  unfold wpY_needs; exact zy_bM0 hm hx (br_t rfl (zy_bM0 hm hx (br_t rfl (br_t rfl P))))
theorem zy_df0 {post : Int32 → SY → Prop} {v w z : Int32} (hv : v < 0 ∨ nI m ≤ v) (P : post (-1) (nI m, sC, pC, hC, iL, gL, bL, qL, fL, nd, nc, kd, ss, sn, hM, op, pt, il, gl, ba, ini, fin, sq, fr, ke)) : wpY_define post (nI m, sC, pC, hC, iL, gL, bL, qL, fL, nd, nc, kd, ss, sn, hM, op, pt, il, gl, ba, ini, fin, sq, fr, ke) v w z := by
  unfold wpY_define; exact zy_bM1 hv (br_f (by decide) P)
theorem zy_df0b {post : Int32 → SY → Prop} {x : Nat} {w z : Int32} (hm : m ≤ 12) (hx : x < m) (hv : w < 0 ∨ nI sy ≤ w) (P : post (-1) (nI m, nI sy, pC, hC, iL, gL, bL, qL, fL, nd, nc, kd, ss, sn, hM, op, pt, il, gl, ba, ini, fin, sq, fr, ke)) : wpY_define post (nI m, nI sy, pC, hC, iL, gL, bL, qL, fL, nd, nc, kd, ss, sn, hM, op, pt, il, gl, ba, ini, fin, sq, fr, ke) (nI x) w z := by
  unfold wpY_define; exact zy_bM0 hm hx (br_t rfl (br_c (fun _ => P) (fun h => br_t (hv.elim (fun q => absurd q h) id) P)))
theorem zy_df0c {post : Int32 → SY → Prop} {x s : Nat} {z : Int32} (hm : m ≤ 12) (hs : sy ≤ 12) (hx : x < m) (hs1 : s < sy) (hz : z < 0 ∨ ¬ z ≤ 3) (P : post (-1) (nI m, nI sy, pC, hC, iL, gL, bL, qL, fL, nd, nc, kd, ss, sn, hM, op, pt, il, gl, ba, ini, fin, sq, fr, ke)) : wpY_define post (nI m, nI sy, pC, hC, iL, gL, bL, qL, fL, nd, nc, kd, ss, sn, hM, op, pt, il, gl, ba, ini, fin, sq, fr, ke) (nI x) (nI s) z := by
  unfold wpY_define
  exact zy_bM0 hm hx (br_t rfl (br_f (nI_pos (by omega)) (br_f (nI_ge hs1 (by omega)) (br_c (fun _ => P) (fun h => br_f (hz.elim (fun q => absurd q h) id) P)))))
theorem zy_df {post : Int32 → SY → Prop} {x s : Nat} {z : Int32} (hm : m ≤ 12) (hs : sy ≤ 12) (hx : x < m) (hs1 : s < sy) (hz : ¬ z < 0) (hz3 : z ≤ 3) (hI : zl_ok m IL) (hA : zl_A il 0 IL) (K1 : x ∈ IL → post (-2) (nI m, nI sy, pC, hC, nI IL.length, gL, bL, qL, fL, nd, nc, kd, ss, sn, hM, op, pt, il, gl, ba, ini, fin, sq, fr, ke)) (K0 : x ∉ IL → post 0 (nI m, nI sy, pC, hC, nI IL.length, gL, bL, qL, fL, nd, nc, upd kd (x * 12 + s) z, ss, sn, hM, op, pt, il, gl, ba, ini, fin, sq, fr, ke)) :
    wpY_define post (nI m, nI sy, pC, hC, nI IL.length, gL, bL, qL, fL, nd, nc, kd, ss, sn, hM, op, pt, il, gl, ba, ini, fin, sq, fr, ke) (nI x) (nI s) z := by
  unfold wpY_define
  dsimp only
  rw [zn_12]
  exact zy_bM0 hm hx (br_t rfl (br_f (nI_pos (by omega)) (br_f (nI_ge hs1 (by omega)) (br_f hz (br_t hz3 (zy_rkL (by omega) (zl_12 hm hI) hA K1 (fun h => ⟨vp_in_nI (by omega) (by omega), nm_r (e' := upd kd (x * 12 + s) z) (by rw [nI_clamp (by omega)]) (K0 h)⟩)))))))
theorem zy_st0 {post : Int32 → SY → Prop} {v w : Int32} (hv : v < 0 ∨ nI m ≤ v) (P : post (-1) (nI m, sC, pC, hC, iL, gL, bL, qL, fL, nd, nc, kd, ss, sn, hM, op, pt, il, gl, ba, ini, fin, sq, fr, ke)) : wpY_slot post (nI m, sC, pC, hC, iL, gL, bL, qL, fL, nd, nc, kd, ss, sn, hM, op, pt, il, gl, ba, ini, fin, sq, fr, ke) v w := by
  unfold wpY_slot; exact zy_bM1 hv (br_f (by decide) P)
theorem zy_st0b {post : Int32 → SY → Prop} {x : Nat} {w : Int32} (hm : m ≤ 12) (hx : x < m) (hv : w < 0 ∨ nI sy ≤ w) (P : post (-1) (nI m, nI sy, pC, hC, iL, gL, bL, qL, fL, nd, nc, kd, ss, sn, hM, op, pt, il, gl, ba, ini, fin, sq, fr, ke)) : wpY_slot post (nI m, nI sy, pC, hC, iL, gL, bL, qL, fL, nd, nc, kd, ss, sn, hM, op, pt, il, gl, ba, ini, fin, sq, fr, ke) (nI x) w := by
  unfold wpY_slot; exact zy_bM0 hm hx (br_t rfl (br_c (fun _ => P) (fun h => br_f (Int32.not_lt.mpr (hv.elim (fun q => absurd q h) id)) P)))
theorem zy_st {post : Int32 → SY → Prop} {x s : Nat} (hm : m ≤ 12) (hs : sy ≤ 12) (hp : p ≤ 4) (V : zz_Z m p sy Z sn ss) (hx : x < m) (hs1 : s < sy) (hI : zl_ok m IL) (hA : zl_A il 0 IL) (K1 : x ∈ IL → post (-2) (nI m, nI sy, nI p, hC, nI IL.length, gL, bL, qL, fL, nd, nc, kd, ss, sn, hM, op, pt, il, gl, ba, ini, fin, sq, fr, ke))
    (Kf : x ∉ IL → ¬ (Z x).length < p → post (-4) (nI m, nI sy, nI p, hC, nI IL.length, gL, bL, qL, fL, nd, nc, kd, ss, sn, hM, op, pt, il, gl, ba, ini, fin, sq, fr, ke))
    (K0 : x ∉ IL → (Z x).length < p → post (nI (Z x).length) (nI m, nI sy, nI p, hC, nI IL.length, gL, bL, qL, fL, nd, nc, kd, upd ss (x * 4 + (Z x).length) (nI s), upd sn x (nI ((Z x).length + 1)), hM, op, pt, il, gl, ba, ini, fin, sq, fr, ke)) :
    wpY_slot post (nI m, nI sy, nI p, hC, nI IL.length, gL, bL, qL, fL, nd, nc, kd, ss, sn, hM, op, pt, il, gl, ba, ini, fin, sq, fr, ke) (nI x) (nI s) := by
  have c : (nI x).toNatClampNeg = x := nI_clamp (by omega)
  have v : vp_in (nI x) 12 := vp_in_nI (by omega) (by omega)
  have h4 := (V x hx).2.2.1
  unfold wpY_slot
  dsimp only
  rw [c, (V x hx).1, zn_4]
  refine zy_bM0 hm hx (br_t rfl (br_f (nI_pos (by omega)) (br_t (nI_lt hs1 (by omega)) (zy_rkL (by omega) (zl_12 hm hI) hA K1 (fun h => ⟨v, ?_⟩)))))
  by_cases e : (Z x).length < p
  · refine br_t (nI_lt e (by omega)) ⟨v, vp_in_nI (by omega) (by omega), nm_r (e' := upd ss (x * 4 + (Z x).length) (nI s)) (by rw [nI_clamp (by omega)]) ⟨v, v, nm_r (e' := upd sn x (nI ((Z x).length + 1))) (by rw [nI_1]) ⟨v, ?_⟩⟩⟩
    rw [pk_us, nI_pred]
    exact K0 h e
  · exact br_f (nI_nlt (by omega) (by omega)) (Kf h e)
theorem zy_op0 {post : Int32 → SY → Prop} {v w : Int32} (hv : v < 0 ∨ nI m ≤ v) (P : post (-1) (nI m, sC, pC, hC, iL, gL, bL, qL, fL, nd, nc, kd, ss, sn, hM, op, pt, il, gl, ba, ini, fin, sq, fr, ke)) : wpY_open post (nI m, sC, pC, hC, iL, gL, bL, qL, fL, nd, nc, kd, ss, sn, hM, op, pt, il, gl, ba, ini, fin, sq, fr, ke) v w := by
  unfold wpY_open; exact zy_bM1 hv (br_f (by decide) P)
theorem zy_op0b {post : Int32 → SY → Prop} {x : Nat} {w : Int32} (hm : m ≤ 12) (hx : x < m) (h0 : ¬ w = 0) (h1 : ¬ w = 1) (P : post (-1) (nI m, sC, pC, hC, iL, gL, bL, qL, fL, nd, nc, kd, ss, sn, hM, op, pt, il, gl, ba, ini, fin, sq, fr, ke)) : wpY_open post (nI m, sC, pC, hC, iL, gL, bL, qL, fL, nd, nc, kd, ss, sn, hM, op, pt, il, gl, ba, ini, fin, sq, fr, ke) (nI x) w := by
  unfold wpY_open; exact zy_bM0 hm hx (br_t rfl (br_f h0 (br_f h1 P)))
theorem zy_op1 {post : Int32 → SY → Prop} {x : Nat} {w : Int32} (hm : m ≤ 12) (hx : x < m) (hw : w = 0 ∨ w = 1) (P : ∀ z, z = hC - 1 → ∃ n29, (wY_open_29 post (nI x) w (nI m) sC pC hC iL gL bL qL fL nd nc kd ss sn hM op pt il gl ba ini fin sq fr ke n29 (-1) z)) : wpY_open post (nI m, sC, pC, hC, iL, gL, bL, qL, fL, nd, nc, kd, ss, sn, hM, op, pt, il, gl, ba, ini, fin, sq, fr, ke) (nI x) w := by
  unfold wpY_open
  refine zy_bM0 hm hx (br_t rfl (br_c (fun _ => P) (fun h => ?_)))
  rcases hw with e | e
  · exact absurd e h
  · exact br_t e P
theorem zy_cl0 {post : Int32 → SY → Prop} {v : Int32} (hv : v < 0 ∨ nI hh ≤ v) (P : post (-1) (mC, sC, pC, nI hh, iL, gL, bL, qL, fL, nd, nc, kd, ss, sn, hM, op, pt, il, gl, ba, ini, fin, sq, fr, ke)) : wpY_close post (mC, sC, pC, nI hh, iL, gL, bL, qL, fL, nd, nc, kd, ss, sn, hM, op, pt, il, gl, ba, ini, fin, sq, fr, ke) v := by
  unfold wpY_close; exact br_c (fun _ => P) (fun h => br_f (Int32.not_lt.mpr (hv.elim (fun q => absurd q h) id)) P)
theorem zy_ca0 {post : Int32 → SY → Prop} {v w : Int32} (hv : v < 0 ∨ nI m ≤ v) (P : post (-1) (nI m, sC, pC, hC, iL, gL, bL, qL, fL, nd, nc, kd, ss, sn, hM, op, pt, il, gl, ba, ini, fin, sq, fr, ke)) : wpY_call post (nI m, sC, pC, hC, iL, gL, bL, qL, fL, nd, nc, kd, ss, sn, hM, op, pt, il, gl, ba, ini, fin, sq, fr, ke) v w := by
  unfold wpY_call; exact zy_bS1' hv (br_f (by decide) P)
theorem zy_ca0b {post : Int32 → SY → Prop} {x : Nat} {w : Int32} (hm : m ≤ 12) (V : zz_Z m p sy Z sn ss) (hx : x < m) (hv : w < 0 ∨ nI (Z x).length ≤ w) (P : post (-1) (nI m, sC, pC, hC, iL, gL, bL, qL, fL, nd, nc, kd, ss, sn, hM, op, pt, il, gl, ba, ini, fin, sq, fr, ke)) : wpY_call post (nI m, sC, pC, hC, iL, gL, bL, qL, fL, nd, nc, kd, ss, sn, hM, op, pt, il, gl, ba, ini, fin, sq, fr, ke) (nI x) w := by
  unfold wpY_call; exact zy_bS1 hm V hx hv (br_f (by decide) P)
theorem zy_ca {post : Int32 → SY → Prop} {x i : Nat} (hm : m ≤ 12) (hs : sy ≤ 12) (hp : p ≤ 4) (W : zz_N m N nc nd) (V : zz_Z m p sy Z sn ss) (hx : x < m) (hi : i < (Z x).length) (hI : zl_ok m IL) (hAI : zl_A il 0 IL) (hG : zl_ok m GL) (hA : zl_A gl 0 GL) (hlo : zo_lt m 12 od) (hlp : zo_lt m 48 pd) (hld : ∀ x, x < m → (od x = none ↔ x ∉ IL))
    (Kn : od x = none → post (-3) (nI m, sC, pC, hC, nI IL.length, nI GL.length, bL, qL, fL, nd, nc, kd, ss, sn, hM, zo_Y od, zo_Y pd, il, gl, ba, ini, fin, sq, fr, ke))
    (Kp : ¬ od x = none → ∀ y, y < m → pd (x * 4 + i) = some y → post (nI y) (nI m, sC, pC, hC, nI IL.length, nI GL.length, bL, qL, fL, nd, nc, kd, ss, sn, hM, zo_Y od, zo_Y pd, il, gl, ba, ini, fin, sq, fr, ke))
    (Ku : ∀ o, o < m → od x = some o → pd (x * 4 + i) = none → zf_s kd N m GL x o ((Z x).getD i 0) = -6 → ∀ qL' sq', post (-6) (nI m, sC, pC, hC, nI IL.length, nI GL.length, bL, qL', fL, nd, nc, kd, ss, sn, hM, zo_Y od, zo_Y pd, il, gl, ba, ini, fin, sq', fr, ke))
    (Kf : ∀ o, o < m → od x = some o → pd (x * 4 + i) = none → ∀ y, y < m → zf_s kd N m GL x o ((Z x).getD i 0) = nI y → ∀ qL' sq', post (nI y) (nI m, sC, pC, hC, nI IL.length, nI GL.length, bL, qL', fL, nd, nc, kd, ss, sn, hM, zo_Y od, zo_Y (zo_u pd (x * 4 + i) (some y)), il, gl, ba, ini, fin, sq', fr, ke)) :
    wpY_call post (nI m, sC, pC, hC, nI IL.length, nI GL.length, bL, qL, fL, nd, nc, kd, ss, sn, hM, zo_Y od, zo_Y pd, il, gl, ba, ini, fin, sq, fr, ke) (nI x) (nI i) := by
  have h4 := (V x hx).2.2.1
  have v4 : vp_in (nI (x * 4 + i)) 48 := vp_in_nI (by omega) (by omega)
  have c4 : (nI (x * 4 + i)).toNatClampNeg = x * 4 + i := nI_clamp (by omega)
  obtain ⟨hsi, hss⟩ := zz_Z_at V hx hi
  have hb := hlp (x * 4 + i) (by omega)
  have e0 : zo_Y pd (x * 4 + i) = zo_y (pd (x * 4 + i)) := rfl
  unfold wpY_call
  dsimp only
  rw [zn_4, c4, e0]
  refine zy_bS0 hm hp V hx hi (br_t rfl (zy_rkG (by omega) (zl_12 hm hI) hAI (fun h => ⟨v4, ?_⟩) (fun h => Kn ((hld x hx).mpr h))))
  have hno : ¬ od x = none := fun z => (hld x hx).mp z h
  cases q : pd (x * 4 + i) with
  | some y =>
    have hy := hb y q
    exact br_f (nI_pos (by omega)) ⟨v4, Kp hno y hy q⟩
  | none =>
    cases qo : od x with
    | none => exact absurd qo hno
    | some o =>
      have ho := hlo x (by omega) o qo
      refine br_t (by decide) (zy_ss hm W hx (by omega) hsi (by omega) qo ho hG hA (fun qL' sq' => ?_))
      rcases zf_s_res (kd := kd) (s := (Z x).getD i 0) (zz_N_ht W) hG.2 hx ho with h6 | ⟨y, hy, h6⟩
      · rw [h6]
        exact br_t (by decide) (Ku o ho qo q h6 qL' sq')
      · rw [h6]
        exact br_f (nI_pos (by omega)) ⟨v4, nm_r (e' := zo_Y (zo_u pd (x * 4 + i) (some y))) (zo_Yu pd (x * 4 + i) (some y)) (Kf o ho qo q y hy h6 qL' sq')⟩
theorem zy_ba0 {post : Int32 → SY → Prop} {v : Int32} (hv : v < 0 ∨ nI m ≤ v) (P : post (-1) (nI m, sC, pC, hC, iL, gL, bL, qL, fL, nd, nc, kd, ss, sn, hM, op, pt, il, gl, ba, ini, fin, sq, fr, ke)) : wpY_bindAll post (nI m, sC, pC, hC, iL, gL, bL, qL, fL, nd, nc, kd, ss, sn, hM, op, pt, il, gl, ba, ini, fin, sq, fr, ke) v := by
  unfold wpY_bindAll; exact zy_bM1 hv (br_f (by decide) P)
theorem zy_ba {post : Int32 → SY → Prop} {x : Nat} (hm : m ≤ 12) (hx : x < m) (hI : zl_ok m IL) (hA : zl_A il 0 IL) (Kn : x ∉ IL → post (-3) (nI m, sC, pC, hC, nI IL.length, gL, bL, qL, fL, nd, nc, kd, ss, sn, hM, op, pt, il, gl, ba, ini, fin, sq, fr, ke)) (K : x ∈ IL → ∃ n23, (wY_bindAll_23 post (nI x) n23 0 (nI m) sC pC hC (nI IL.length) gL bL qL fL nd nc kd ss sn hM op pt il gl ba ini fin sq fr ke)) :
    wpY_bindAll post (nI m, sC, pC, hC, nI IL.length, gL, bL, qL, fL, nd, nc, kd, ss, sn, hM, op, pt, il, gl, ba, ini, fin, sq, fr, ke) (nI x) := by
  unfold wpY_bindAll; exact zy_bM0 hm hx (br_t rfl (zy_rkG (by omega) (zl_12 hm hI) hA K Kn))
theorem zy_re0 {post : Int32 → SY → Prop} {v w : Int32} (hv : v < 0 ∨ nI m ≤ v) (P : post (-1) (nI m, sC, pC, hC, iL, gL, bL, qL, fL, nd, nc, kd, ss, sn, hM, op, pt, il, gl, ba, ini, fin, sq, fr, ke)) : wpY_resolve post (nI m, sC, pC, hC, iL, gL, bL, qL, fL, nd, nc, kd, ss, sn, hM, op, pt, il, gl, ba, ini, fin, sq, fr, ke) v w := by
  unfold wpY_resolve; exact zy_bS1' hv (br_f (by decide) P)
theorem zy_re0b {post : Int32 → SY → Prop} {x : Nat} {w : Int32} (hm : m ≤ 12) (V : zz_Z m p sy Z sn ss) (hx : x < m) (hv : w < 0 ∨ nI (Z x).length ≤ w) (P : post (-1) (nI m, sC, pC, hC, iL, gL, bL, qL, fL, nd, nc, kd, ss, sn, hM, op, pt, il, gl, ba, ini, fin, sq, fr, ke)) : wpY_resolve post (nI m, sC, pC, hC, iL, gL, bL, qL, fL, nd, nc, kd, ss, sn, hM, op, pt, il, gl, ba, ini, fin, sq, fr, ke) (nI x) w := by
  unfold wpY_resolve; exact zy_bS1 hm V hx hv (br_f (by decide) P)
theorem zy_re {post : Int32 → SY → Prop} {x i : Nat} (hm : m ≤ 12) (hs : sy ≤ 12) (hp : p ≤ 4) (W : zz_N m N nc nd) (V : zz_Z m p sy Z sn ss) (hx : x < m) (hi : i < (Z x).length) (hI : zl_ok m IL) (hAI : zl_A il 0 IL) (hG : zl_ok m GL) (hA : zl_A gl 0 GL) (hlo : zo_lt m 12 od) (hld : ∀ x, x < m → (od x = none ↔ x ∉ IL))
    (Kn : od x = none → post (-3) (nI m, sC, pC, hC, nI IL.length, nI GL.length, bL, qL, fL, nd, nc, kd, ss, sn, hM, zo_Y od, pt, il, gl, ba, ini, fin, sq, fr, ke))
    (K : ∀ o, o < m → od x = some o → ∀ qL' sq', post (zf_s kd N m GL x o ((Z x).getD i 0)) (nI m, sC, pC, hC, nI IL.length, nI GL.length, bL, qL', fL, nd, nc, kd, ss, sn, hM, zo_Y od, pt, il, gl, ba, ini, fin, sq', fr, ke)) :
    wpY_resolve post (nI m, sC, pC, hC, nI IL.length, nI GL.length, bL, qL, fL, nd, nc, kd, ss, sn, hM, zo_Y od, pt, il, gl, ba, ini, fin, sq, fr, ke) (nI x) (nI i) := by
  have h4 := (V x hx).2.2.1
  obtain ⟨hsi, hss⟩ := zz_Z_at V hx hi
  unfold wpY_resolve
  refine zy_bS0 hm hp V hx hi (br_t rfl (zy_rkG (by omega) (zl_12 hm hI) hAI (fun h => ?_) (fun h => Kn ((hld x hx).mpr h))))
  cases qo : od x with
  | none => exact absurd h ((hld x hx).mp qo)
  | some o =>
    have ho := hlo x (by omega) o qo
    exact zy_ss hm W hx (by omega) hsi (by omega) qo ho hG hA (fun qL' sq' => K o ho qo qL' sq')
theorem zy_bo0 {post : Int32 → Prop} {v w : Int32} (hv : v < 0 ∨ nI m ≤ v) (P : post (-1)) : wpY_bound post (nI m, sC, pC, hC, iL, gL, bL, qL, fL, nd, nc, kd, ss, sn, hM, op, pt, il, gl, ba, ini, fin, sq, fr, ke) v w := by
  unfold wpY_bound; exact zy_bS1' hv (br_f (by decide) P)
theorem zy_bo0b {post : Int32 → Prop} {x : Nat} {w : Int32} (hm : m ≤ 12) (V : zz_Z m p sy Z sn ss) (hx : x < m) (hv : w < 0 ∨ nI (Z x).length ≤ w) (P : post (-1)) : wpY_bound post (nI m, sC, pC, hC, iL, gL, bL, qL, fL, nd, nc, kd, ss, sn, hM, op, pt, il, gl, ba, ini, fin, sq, fr, ke) (nI x) w := by
  unfold wpY_bound; exact zy_bS1 hm V hx hv (br_f (by decide) P)
theorem zy_bo {post : Int32 → Prop} {x i : Nat} (hm : m ≤ 12) (hp : p ≤ 4) (V : zz_Z m p sy Z sn ss) (hx : x < m) (hi : i < (Z x).length) (hlp : zo_lt m 48 pd) (P : post (zo_x (pd (x * 4 + i)))) : wpY_bound post (nI m, sC, pC, hC, iL, gL, bL, qL, fL, nd, nc, kd, ss, sn, hM, op, zo_Y pd, il, gl, ba, ini, fin, sq, fr, ke) (nI x) (nI i) := by
  have h4 := (V x hx).2.2.1
  have v4 : vp_in (nI (x * 4 + i)) 48 := vp_in_nI (by omega) (by omega)
  have c4 : (nI (x * 4 + i)).toNatClampNeg = x * 4 + i := nI_clamp (by omega)
  have e0 : zo_Y pd (x * 4 + i) = zo_y (pd (x * 4 + i)) := rfl
  have hb := hlp (x * 4 + i) (by omega)
  unfold wpY_bound
  dsimp only
  rw [zn_4, c4, e0]
  refine zy_bS0 hm hp V hx hi (br_t rfl ⟨v4, ?_⟩)
  cases q : pd (x * 4 + i) with
  | none => rw [q] at P; exact br_f (by decide) P
  | some y =>
    have hy := hb y q
    rw [q] at P
    exact br_t (nI_pos' (by omega)) ⟨v4, P⟩
theorem zy_lo0 {post : Int32 → SY → Prop} {v w : Int32} (hv : v < 0 ∨ nI hh ≤ v) (P : post (-1) (mC, sC, pC, nI hh, iL, gL, bL, qL, fL, nd, nc, kd, ss, sn, hM, op, pt, il, gl, ba, ini, fin, sq, fr, ke)) : wpY_lookup post (mC, sC, pC, nI hh, iL, gL, bL, qL, fL, nd, nc, kd, ss, sn, hM, op, pt, il, gl, ba, ini, fin, sq, fr, ke) v w := by
  unfold wpY_lookup; exact br_c (fun _ => P) (fun h => br_t (hv.elim (fun q => absurd q h) id) P)
theorem zy_lo0b {post : Int32 → SY → Prop} {h : Nat} {w : Int32} (h8 : hh ≤ 8) (hh1 : h < hh) (hv : w < 0 ∨ nI sy ≤ w) (P : post (-1) (mC, nI sy, pC, nI hh, iL, gL, bL, qL, fL, nd, nc, kd, ss, sn, hM, op, pt, il, gl, ba, ini, fin, sq, fr, ke)) : wpY_lookup post (mC, nI sy, pC, nI hh, iL, gL, bL, qL, fL, nd, nc, kd, ss, sn, hM, op, pt, il, gl, ba, ini, fin, sq, fr, ke) (nI h) w := by
  unfold wpY_lookup; exact br_f (nI_pos (by omega)) (br_f (nI_ge hh1 (by omega)) (br_c (fun _ => P) (fun z => br_f (Int32.not_lt.mpr (hv.elim (fun q => absurd q z) id)) P)))
theorem zy_lo {post : Int32 → SY → Prop} {h s : Nat} (hm : m ≤ 12) (hs : sy ≤ 12) (h8 : hh ≤ 8) (W : zz_N m N nc nd) (hh1 : h < hh) (hs1 : s < sy) (hlh : zo_lt m 8 hd)
    (Kn : hd h = none → post (-8) (nI m, nI sy, pC, nI hh, iL, gL, bL, qL, fL, nd, nc, kd, ss, sn, zo_Y hd, op, pt, il, gl, ba, ini, fin, sq, fr, ke)) (K : ∀ r, r < m → hd h = some r → ∀ qL' sq', post (zf_c kd s (zl_sl N m r)) (nI m, nI sy, pC, nI hh, iL, gL, bL, qL', fL, nd, nc, kd, ss, sn, zo_Y hd, op, pt, il, gl, ba, ini, fin, sq', fr, ke)) :
    wpY_lookup post (nI m, nI sy, pC, nI hh, iL, gL, bL, qL, fL, nd, nc, kd, ss, sn, zo_Y hd, op, pt, il, gl, ba, ini, fin, sq, fr, ke) (nI h) (nI s) := by
  have c : (nI h).toNatClampNeg = h := nI_clamp (by omega)
  have v : vp_in (nI h) 8 := vp_in_nI (by omega) (by omega)
  have e0 : zo_Y hd h = zo_y (hd h) := rfl
  unfold wpY_lookup
  dsimp only
  rw [c, e0]
  refine br_f (nI_pos (by omega)) (br_f (nI_ge hh1 (by omega)) (br_f (nI_pos (by omega)) (br_t (nI_lt hs1 (by omega)) ⟨v, ?_⟩)))
  cases q : hd h with
  | none => exact br_f (by decide) (Kn q)
  | some r =>
    have hr := hlh h (by omega) r q
    have hL := zl_sl_ok (zz_N_ht W) hr
    have hl := zl_len hL
    exact br_t (nI_pos' (by omega)) ⟨v, zy_as0 hm W hr (fun sq' hS => zy_ch (by omega) (by omega) (zl_12 hm hL).2 hS (K r hr q _ _))⟩
theorem zy_ha0 {post : Int32 → Prop} {v : Int32} (hv : v < 0 ∨ nI hh ≤ v) (P : post (-1)) : wpY_handleAt post (mC, sC, pC, nI hh, iL, gL, bL, qL, fL, nd, nc, kd, ss, sn, hM, op, pt, il, gl, ba, ini, fin, sq, fr, ke) v := by
  unfold wpY_handleAt; exact br_c (fun _ => P) (fun h => br_f (Int32.not_lt.mpr (hv.elim (fun q => absurd q h) id)) P)
theorem zy_ha {post : Int32 → Prop} {h : Nat} (hm : m ≤ 12) (h8 : hh ≤ 8) (hh1 : h < hh) (hlh : zo_lt m 8 hd) (P : post (zo_x (hd h))) : wpY_handleAt post (mC, sC, pC, nI hh, iL, gL, bL, qL, fL, nd, nc, kd, ss, sn, zo_Y hd, op, pt, il, gl, ba, ini, fin, sq, fr, ke) (nI h) := by
  have c : (nI h).toNatClampNeg = h := nI_clamp (by omega)
  have v : vp_in (nI h) 8 := vp_in_nI (by omega) (by omega)
  have e0 : zo_Y hd h = zo_y (hd h) := rfl
  unfold wpY_handleAt
  dsimp only
  rw [c, e0]
  refine br_f (nI_pos (by omega)) (br_t (nI_lt hh1 (by omega)) ⟨v, ?_⟩)
  cases q : hd h with
  | none => rw [q] at P; exact br_f (by decide) P
  | some y =>
    have hy := hlh h (by omega) y q
    rw [q] at P
    exact br_t (nI_pos' (by omega)) ⟨v, P⟩
end YR
end
section
/-! the constructors -/
def zc_c (v : Int32) (lo hi : Nat) : Nat := if nI lo ≤ v then (if v ≤ nI hi then v.toNatClampNeg else hi) else lo
theorem zc_ge {v : Int32} {lo : Nat} (hlo : lo < 2 ^ 31) (h : nI lo ≤ v) : ∃ j, lo ≤ j ∧ j < 2 ^ 31 ∧ v = nI j := by
  have h0 : ¬ v < 0 := by
    rw [Int32.not_lt]
    exact Int32.le_trans (nI_pos' hlo) h
  obtain ⟨j, hj, rfl⟩ := nI_of h0
  exact ⟨j, (nI_leI hlo hj).mp h, hj, rfl⟩
theorem zc_in (v : Int32) {lo hi : Nat} (hl : lo ≤ hi) (hh : hi < 2 ^ 31) : lo ≤ zc_c v lo hi ∧ zc_c v lo hi ≤ hi := by
  unfold zc_c
  by_cases h1 : nI lo ≤ v
  · rw [if_pos h1]
    by_cases h2 : v ≤ nI hi
    · rw [if_pos h2]
      obtain ⟨j, h3, h4, rfl⟩ := zc_ge (by omega) h1
      rw [nI_clamp h4]
      exact ⟨h3, (nI_leI h4 hh).mp h2⟩
    · rw [if_neg h2]; omega
  · rw [if_neg h1]; omega
theorem zc_br {v : Int32} {lo hi : Nat} {A : Int32 → Prop} (hl : lo < 2 ^ 31) (h : A (nI (zc_c v lo hi))) : (nI lo ≤ v → ((v ≤ nI hi → A v) ∧ (¬ v ≤ nI hi → A (nI hi)))) ∧ (¬ nI lo ≤ v → A (nI lo)) := by
  unfold zc_c at h
  by_cases h1 : nI lo ≤ v
  · rw [if_pos h1] at h
    refine br_t h1 ?_
    by_cases h2 : v ≤ nI hi
    · rw [if_pos h2] at h
      obtain ⟨j, h3, h4, rfl⟩ := zc_ge hl h1
      rw [nI_clamp h4] at h
      exact br_t h2 h
    · rw [if_neg h2] at h
      exact br_f h2 h
  · rw [if_neg h1] at h
    exact br_f h1 h
def zc_z : Nat → Option Nat := fun _ => some 0
theorem zc_U0 : (fun _ => 0 : Nat → Int32) = zo_X (zo_U zc_z (List.range 0) none) := by
  rw [List.range_zero, zo_U_nil]; rfl
theorem zc_U0y : (fun _ => 0 : Nat → Int32) = zo_Y (zo_U zc_z (List.range 0) none) := by
  rw [List.range_zero, zo_U_nil]; rfl
theorem zc_P0 : (fun _ => 0 : Nat → Int32) = zo_X (zp_U zc_z (List.range 0)) := by
  rw [List.range_zero, zp_U_nil]; rfl
theorem zc_PU : zo_U zc_z (List.range 48) none = zp_U zc_z (List.range 12) := by
  funext j
  unfold zo_U zp_U
  by_cases h : j < 48
  · rw [if_pos (List.mem_range.mpr h), if_pos (List.mem_range.mpr (by omega))]
  · rw [if_neg (fun w => h (List.mem_range.mp w)), if_neg (fun w => by have := List.mem_range.mp w; omega)]
section XI
variable {mC sC pC hC iL gL bL sL fL wL kM : Int32} {nd nc kd ss sn hM op pt ini fin il gl ba se fr re fo wo : Nat → Int32}
theorem zx_i225 {post : SX → Prop} (P : post (mC, sC, pC, hC, iL, gL, bL, sL, fL, wL, kM, nd, nc, kd, ss, sn, hM, zo_X (zo_U zc_z (List.range 12) none), zo_X (zp_U zc_z (List.range 12)), ini, fin, il, gl, ba, se, fr, re, fo, wo)) :
    ∀ (d i : Nat) (op pt : Nat → Int32), i + d = 12 → op = zo_X (zo_U zc_z (List.range i) none) → pt = zo_X (zp_U zc_z (List.range i)) → (wX_init_225 post (d + 1) (nI i) mC sC pC hC iL gL bL sL fL wL kM nd nc kd ss sn hM op pt ini fin il gl ba se fr re fo wo) := by
  intro d
  induction d with
  | zero =>
    intro i op pt hi e1 e2
    rw [Nat.add_zero] at hi
    subst hi e1 e2
    rw [wX_init_225]
    exact br_t (by decide) P
  | succ d ih =>
    intro i op pt hi e1 e2
    subst e1 e2
    rw [wX_init_225]
    refine br_f (nI_ge (b := 12) (by omega) (by decide)) (zx_ul (by omega) (nm_r (nI_1 i) (ih (i + 1) _ _ (by omega) ?_ ?_)))
    · rw [zo_U_snoc, List.range_succ]
    · rw [zp_U_snoc, List.range_succ]
theorem zx_i200 {post : SX → Prop} (P : ∃ n225, (wX_init_225 post n225 0 mC sC pC hC iL gL bL sL fL wL kM nd nc kd ss sn (zo_X (zo_U zc_z (List.range 8) none)) op pt ini fin il gl ba se fr re fo wo)) :
    ∀ (d i : Nat) (hM : Nat → Int32), i + d = 8 → hM = zo_X (zo_U zc_z (List.range i) none) → (wX_init_200 post mC sC pC hC iL gL bL sL fL wL kM (d + 1) (nI i) nd nc kd ss sn hM op pt ini fin il gl ba se fr re fo wo) := by
  intro d
  induction d with
  | zero =>
    intro i hM hi e1
    rw [Nat.add_zero] at hi
    subst hi e1
    rw [wX_init_200]
    exact br_t (by decide) P
  | succ d ih =>
    intro i hM hi e1
    subst e1
    rw [wX_init_200]
    refine br_f (nI_ge (b := 8) (by omega) (by decide)) ⟨vp_in_nI (by omega) (by omega), nm_e (nm_r (nI_1 i) (ih (i + 1) _ (by omega) ?_))⟩
    rw [nI_clamp (by omega), List.range_succ, ← zo_U_snoc, ← zo_Xu]
    rfl
theorem zx_clamp {post : Int32 → Prop} {v : Int32} {lo hi : Nat} (hl : lo < 2 ^ 31) (h : post (nI (zc_c v lo hi))) : wpX_clamp post (mC, sC, pC, hC, iL, gL, bL, sL, fL, wL, kM, nd, nc, kd, ss, sn, hM, op, pt, ini, fin, il, gl, ba, se, fr, re, fo, wo) v (nI lo) (nI hi) := zc_br hl h
end XI
section YI
variable {mC sC pC hC iL gL bL qL fL : Int32} {nd nc kd ss sn hM op pt il gl ba ini fin sq fr ke : Nat → Int32}
theorem zy_i286 {post : SY → Prop} (P : post (mC, sC, pC, hC, iL, gL, bL, qL, fL, nd, nc, kd, ss, sn, hM, op, zo_Y (zo_U zc_z (List.range 48) none), il, gl, ba, ini, fin, sq, fr, ke)) :
    ∀ (d i : Nat) (pt : Nat → Int32), i + d = 48 → pt = zo_Y (zo_U zc_z (List.range i) none) → (wY_init_286 post mC sC pC hC iL gL bL qL fL (d + 1) (nI i) nd nc kd ss sn hM op pt il gl ba ini fin sq fr ke) := by
  intro d
  induction d with
  | zero =>
    intro i pt hi e1
    rw [Nat.add_zero] at hi
    subst hi e1
    rw [wY_init_286]
    exact br_t (by decide) P
  | succ d ih =>
    intro i pt hi e1
    subst e1
    rw [wY_init_286]
    refine br_f (nI_ge (b := 48) (by omega) (by decide)) ⟨vp_in_nI (by omega) (by omega), nm_e (nm_r (nI_1 i) (ih (i + 1) _ (by omega) ?_))⟩
    rw [nI_clamp (by omega), List.range_succ, ← zo_U_snoc, ← zo_Yu]
    rfl
theorem zy_i262 {post : SY → Prop} (P : ∃ n286, (wY_init_286 post mC sC pC hC iL gL bL qL fL n286 0 nd nc kd ss sn hM (zo_Y (zo_U zc_z (List.range 12) none)) pt il gl ba ini fin sq fr ke)) :
    ∀ (d i : Nat) (op : Nat → Int32), i + d = 12 → op = zo_Y (zo_U zc_z (List.range i) none) → (wY_init_262 post mC sC pC hC iL gL bL qL fL (d + 1) (nI i) nd nc kd ss sn hM op pt il gl ba ini fin sq fr ke) := by
  intro d
  induction d with
  | zero =>
    intro i op hi e1
    rw [Nat.add_zero] at hi
    subst hi e1
    rw [wY_init_262]
    exact br_t (by decide) P
  | succ d ih =>
    intro i op hi e1
    subst e1
    rw [wY_init_262]
    refine br_f (nI_ge (b := 12) (by omega) (by decide)) ⟨vp_in_nI (by omega) (by omega), nm_e (nm_r (nI_1 i) (ih (i + 1) _ (by omega) ?_))⟩
    rw [nI_clamp (by omega), List.range_succ, ← zo_U_snoc, ← zo_Yu]
    rfl
theorem zy_i238 {post : SY → Prop} (P : ∃ n262, (wY_init_262 post mC sC pC hC iL gL bL qL fL n262 0 nd nc kd ss sn (zo_Y (zo_U zc_z (List.range 8) none)) op pt il gl ba ini fin sq fr ke)) :
    ∀ (d i : Nat) (hM : Nat → Int32), i + d = 8 → hM = zo_Y (zo_U zc_z (List.range i) none) → (wY_init_238 post mC sC pC hC iL gL bL qL fL (d + 1) (nI i) nd nc kd ss sn hM op pt il gl ba ini fin sq fr ke) := by
  intro d
  induction d with
  | zero =>
    intro i hM hi e1
    rw [Nat.add_zero] at hi
    subst hi e1
    rw [wY_init_238]
    exact br_t (by decide) P
  | succ d ih =>
    intro i hM hi e1
    subst e1
    rw [wY_init_238]
    refine br_f (nI_ge (b := 8) (by omega) (by decide)) ⟨vp_in_nI (by omega) (by omega), nm_e (nm_r (nI_1 i) (ih (i + 1) _ (by omega) ?_))⟩
    rw [nI_clamp (by omega), List.range_succ, ← zo_U_snoc, ← zo_Yu]
    rfl
end YI
end
section
/-! what is owed -/
theorem i_vc_erase {k : Nat} {u : SX} {v : SY} (I : i_Rel k u v) (hk : k + 4 ≤ 2052) (v1 : Int32) : wpX_erase (fun r u' => wpY_erase (fun r' v' => r' = r ∧ i_Rel (k + 4) u' v') v v1) u v1 := by
  refine zi_el (P := fun u v => wpX_erase (fun r u' => wpY_erase (fun r' v' => r' = r ∧ i_Rel (k + 4) u' v') v v1) u v1) ?_ I
  intro m sy p hh bl N Z IL GL hd od pd nd nc kd ss sn ini fin il gl ba sL fL wL kM se fr re fo wo qL fLy sq fry ke h
  obtain ⟨⟨hm, hs, hp, h8, hb⟩, W, V, ⟨hI, hAI⟩, ⟨hG, hAG⟩, ⟨l1, l2, l3⟩, hld⟩ := h
  have h : zi_I m sy p hh bl N Z IL GL hd od pd nd nc ss sn il gl := ⟨⟨hm, hs, hp, h8, hb⟩, W, V, ⟨hI, hAI⟩, ⟨hG, hAG⟩, ⟨l1, l2, l3⟩, hld⟩
  have nn : ∀ {x : Nat} {o : Nat}, od x = some o → ¬ od x = none := fun a b => by rw [b] at a; exact nomatch a
  rcases pk_ix v1 (show m < 2 ^ 31 by omega) with q | q | ⟨x, hx, rfl⟩
  · exact zx_er0 (Or.inl q) (zy_er0 (Or.inl q) ⟨rfl, zi_mk h rfl rfl⟩)
  · exact zx_er0 (Or.inr q) (zy_er0 (Or.inr q) ⟨rfl, zi_mk h rfl rfl⟩)
  · refine zx_er hm hs hx l2 (fun e => zy_er hm hs hx hI hAI (fun _ => ⟨rfl, zi_mk h rfl rfl⟩) (fun n => absurd ((hld x hx).mpr n) e)) (fun e => zy_er hm hs hx hI hAI (fun n => absurd n ((hld x hx).mp e)) (fun _ => ⟨rfl, ?_⟩))
    exact zi_mk (N := zd_s N x []) (Z := zd_s Z x []) ⟨⟨hm, hs, hp, h8, hb⟩, zd_N0 W, zd_Z0 V, ⟨hI, hAI⟩, ⟨hG, hAG⟩, ⟨l1, l2, l3⟩, hld⟩ rfl rfl

theorem i_vc_needs {k : Nat} {u : SX} {v : SY} (I : i_Rel k u v) (hk : k + 4 ≤ 2052) (v1 : Int32) (v2 : Int32) : wpX_needs (fun r u' => wpY_needs (fun r' v' => r' = r ∧ i_Rel (k + 4) u' v') v v1 v2) u v1 v2 := by
  refine zi_el (P := fun u v => wpX_needs (fun r u' => wpY_needs (fun r' v' => r' = r ∧ i_Rel (k + 4) u' v') v v1 v2) u v1 v2) ?_ I
  intro m sy p hh bl N Z IL GL hd od pd nd nc kd ss sn ini fin il gl ba sL fL wL kM se fr re fo wo qL fLy sq fry ke h
  obtain ⟨⟨hm, hs, hp, h8, hb⟩, W, V, ⟨hI, hAI⟩, ⟨hG, hAG⟩, ⟨l1, l2, l3⟩, hld⟩ := h
  have h : zi_I m sy p hh bl N Z IL GL hd od pd nd nc ss sn il gl := ⟨⟨hm, hs, hp, h8, hb⟩, W, V, ⟨hI, hAI⟩, ⟨hG, hAG⟩, ⟨l1, l2, l3⟩, hld⟩
  have nn : ∀ {x : Nat} {o : Nat}, od x = some o → ¬ od x = none := fun a b => by rw [b] at a; exact nomatch a
  rcases pk_ix v1 (show m < 2 ^ 31 by omega) with q | q | ⟨x, hx, rfl⟩
  · exact zx_ne0 (Or.inl q) (zy_ne0 (Or.inl q) ⟨rfl, zi_mk h rfl rfl⟩)
  · exact zx_ne0 (Or.inr q) (zy_ne0 (Or.inr q) ⟨rfl, zi_mk h rfl rfl⟩)
  rcases pk_ix v2 (show m < 2 ^ 31 by omega) with q | q | ⟨y, hy, rfl⟩
  · exact zx_ne0b hm hx (Or.inl q) (zy_ne0b hm hx (Or.inl q) ⟨rfl, zi_mk h rfl rfl⟩)
  · exact zx_ne0b hm hx (Or.inr q) (zy_ne0b hm hx (Or.inr q) ⟨rfl, zi_mk h rfl rfl⟩)
  by_cases e : x = y
  · subst e
    exact zx_ne0c hm hx (zy_ne0c hm hx ⟨rfl, zi_mk h rfl rfl⟩)
  · refine zx_ne hm W hx hy e l2 (fun z => zy_ne hm W hx hy e hI hAI (fun _ => ⟨rfl, zi_mk h rfl rfl⟩) (fun n _ => absurd ((hld x hx).mpr n) z) (fun n _ => absurd ((hld x hx).mpr n) z))
      (fun z i => zy_ne hm W hx hy e hI hAI (fun n => absurd n ((hld x hx).mp z)) (fun _ _ => ⟨rfl, zi_mk h rfl rfl⟩) (fun _ n => absurd i n))
      (fun z i => zy_ne hm W hx hy e hI hAI (fun n => absurd n ((hld x hx).mp z)) (fun _ n => absurd n i) (fun _ _ => ⟨rfl, ?_⟩))
    exact zi_mk (N := zd_s N x (N x ++ [y])) ⟨⟨hm, hs, hp, h8, hb⟩, zd_N1 hm W hx hy e i, V, ⟨hI, hAI⟩, ⟨hG, hAG⟩, ⟨l1, l2, l3⟩, hld⟩ rfl rfl

theorem i_vc_define {k : Nat} {u : SX} {v : SY} (I : i_Rel k u v) (hk : k + 4 ≤ 2052) (v1 : Int32) (v2 : Int32) (v3 : Int32) : wpX_define (fun r u' => wpY_define (fun r' v' => r' = r ∧ i_Rel (k + 4) u' v') v v1 v2 v3) u v1 v2 v3 := by
  refine zi_el (P := fun u v => wpX_define (fun r u' => wpY_define (fun r' v' => r' = r ∧ i_Rel (k + 4) u' v') v v1 v2 v3) u v1 v2 v3) ?_ I
  intro m sy p hh bl N Z IL GL hd od pd nd nc kd ss sn ini fin il gl ba sL fL wL kM se fr re fo wo qL fLy sq fry ke h
  obtain ⟨⟨hm, hs, hp, h8, hb⟩, W, V, ⟨hI, hAI⟩, ⟨hG, hAG⟩, ⟨l1, l2, l3⟩, hld⟩ := h
  have h : zi_I m sy p hh bl N Z IL GL hd od pd nd nc ss sn il gl := ⟨⟨hm, hs, hp, h8, hb⟩, W, V, ⟨hI, hAI⟩, ⟨hG, hAG⟩, ⟨l1, l2, l3⟩, hld⟩
  have nn : ∀ {x : Nat} {o : Nat}, od x = some o → ¬ od x = none := fun a b => by rw [b] at a; exact nomatch a
  rcases pk_ix v1 (show m < 2 ^ 31 by omega) with q | q | ⟨x, hx, rfl⟩
  · exact zx_df0 (Or.inl q) (zy_df0 (Or.inl q) ⟨rfl, zi_mk h rfl rfl⟩)
  · exact zx_df0 (Or.inr q) (zy_df0 (Or.inr q) ⟨rfl, zi_mk h rfl rfl⟩)
  rcases pk_ix v2 (show sy < 2 ^ 31 by omega) with q | q | ⟨s, hs1, rfl⟩
  · exact zx_df0b hm hx (Or.inl q) (zy_df0b hm hx (Or.inl q) ⟨rfl, zi_mk h rfl rfl⟩)
  · exact zx_df0b hm hx (Or.inr q) (zy_df0b hm hx (Or.inr q) ⟨rfl, zi_mk h rfl rfl⟩)
  by_cases z0 : v3 < 0
  · exact zx_df0c hm hs hx hs1 (Or.inl z0) (zy_df0c hm hs hx hs1 (Or.inl z0) ⟨rfl, zi_mk h rfl rfl⟩)
  by_cases z3 : v3 ≤ 3
  · exact zx_df hm hs hx hs1 z0 z3 l2 (fun e => zy_df hm hs hx hs1 z0 z3 hI hAI (fun _ => ⟨rfl, zi_mk h rfl rfl⟩) (fun n => absurd ((hld x hx).mpr n) e)) (fun e => zy_df hm hs hx hs1 z0 z3 hI hAI (fun n => absurd n ((hld x hx).mp e)) (fun _ => ⟨rfl, zi_mk h rfl rfl⟩))
  · exact zx_df0c hm hs hx hs1 (Or.inr z3) (zy_df0c hm hs hx hs1 (Or.inr z3) ⟨rfl, zi_mk h rfl rfl⟩)

theorem i_vc_slot {k : Nat} {u : SX} {v : SY} (I : i_Rel k u v) (hk : k + 4 ≤ 2052) (v1 : Int32) (v2 : Int32) : wpX_slot (fun r u' => wpY_slot (fun r' v' => r' = r ∧ i_Rel (k + 4) u' v') v v1 v2) u v1 v2 := by
  refine zi_el (P := fun u v => wpX_slot (fun r u' => wpY_slot (fun r' v' => r' = r ∧ i_Rel (k + 4) u' v') v v1 v2) u v1 v2) ?_ I
  intro m sy p hh bl N Z IL GL hd od pd nd nc kd ss sn ini fin il gl ba sL fL wL kM se fr re fo wo qL fLy sq fry ke h
  obtain ⟨⟨hm, hs, hp, h8, hb⟩, W, V, ⟨hI, hAI⟩, ⟨hG, hAG⟩, ⟨l1, l2, l3⟩, hld⟩ := h
  have h : zi_I m sy p hh bl N Z IL GL hd od pd nd nc ss sn il gl := ⟨⟨hm, hs, hp, h8, hb⟩, W, V, ⟨hI, hAI⟩, ⟨hG, hAG⟩, ⟨l1, l2, l3⟩, hld⟩
  have nn : ∀ {x : Nat} {o : Nat}, od x = some o → ¬ od x = none := fun a b => by rw [b] at a; exact nomatch a
  rcases pk_ix v1 (show m < 2 ^ 31 by omega) with q | q | ⟨x, hx, rfl⟩
  · exact zx_st0 (Or.inl q) (zy_st0 (Or.inl q) ⟨rfl, zi_mk h rfl rfl⟩)
  · exact zx_st0 (Or.inr q) (zy_st0 (Or.inr q) ⟨rfl, zi_mk h rfl rfl⟩)
  rcases pk_ix v2 (show sy < 2 ^ 31 by omega) with q | q | ⟨s, hs1, rfl⟩
  · exact zx_st0b hm hx (Or.inl q) (zy_st0b hm hx (Or.inl q) ⟨rfl, zi_mk h rfl rfl⟩)
  · exact zx_st0b hm hx (Or.inr q) (zy_st0b hm hx (Or.inr q) ⟨rfl, zi_mk h rfl rfl⟩)
  refine zx_st hm hs hp V hx hs1 l2 (fun e => zy_st hm hs hp V hx hs1 hI hAI (fun _ => ⟨rfl, zi_mk h rfl rfl⟩) (fun n _ => absurd ((hld x hx).mpr n) e) (fun n _ => absurd ((hld x hx).mpr n) e))
    (fun e i => zy_st hm hs hp V hx hs1 hI hAI (fun n => absurd n ((hld x hx).mp e)) (fun _ _ => ⟨rfl, zi_mk h rfl rfl⟩) (fun _ n => absurd n i))
    (fun e i => zy_st hm hs hp V hx hs1 hI hAI (fun n => absurd n ((hld x hx).mp e)) (fun _ n => absurd i n) (fun _ _ => ⟨rfl, ?_⟩))
  exact zi_mk (Z := zd_s Z x (Z x ++ [s])) ⟨⟨hm, hs, hp, h8, hb⟩, W, zd_Z1 hp V hx hs1 i, ⟨hI, hAI⟩, ⟨hG, hAG⟩, ⟨l1, l2, l3⟩, hld⟩ rfl rfl

theorem i_vc_open {k : Nat} {u : SX} {v : SY} (I : i_Rel k u v) (hk : k + 4 ≤ 2052) (v1 : Int32) (v2 : Int32) : wpX_open (fun r u' => wpY_open (fun r' v' => r' = r ∧ i_Rel (k + 4) u' v') v v1 v2) u v1 v2 := by
  refine zi_el (P := fun u v => wpX_open (fun r u' => wpY_open (fun r' v' => r' = r ∧ i_Rel (k + 4) u' v') v v1 v2) u v1 v2) ?_ I
  intro m sy p hh bl N Z IL GL hd od pd nd nc kd ss sn ini fin il gl ba sL fL wL kM se fr re fo wo qL fLy sq fry ke h
  obtain ⟨⟨hm, hs, hp, h8, hb⟩, W, V, ⟨hI, hAI⟩, ⟨hG, hAG⟩, ⟨l1, l2, l3⟩, hld⟩ := h
  have h : zi_I m sy p hh bl N Z IL GL hd od pd nd nc ss sn il gl := ⟨⟨hm, hs, hp, h8, hb⟩, W, V, ⟨hI, hAI⟩, ⟨hG, hAG⟩, ⟨l1, l2, l3⟩, hld⟩
  have nn : ∀ {x : Nat} {o : Nat}, od x = some o → ¬ od x = none := fun a b => by rw [b] at a; exact nomatch a
  rcases pk_ix v1 (show m < 2 ^ 31 by omega) with q | q | ⟨x, hx, rfl⟩
  · exact zx_op0 (Or.inl q) (zy_op0 (Or.inl q) ⟨rfl, zi_mk h rfl rfl⟩)
  · exact zx_op0 (Or.inr q) (zy_op0 (Or.inr q) ⟨rfl, zi_mk h rfl rfl⟩)
  by_cases w0 : v2 = 0 ∨ v2 = 1
  · refine zx_op1 hm hx w0 (zx_open19 (F := zg_f od (zl_sl N m x)) (E := zg_E v2 GL (zl_sl N m x)) (D := zr_go (zl_sl N m) (zg_f od (zl_sl N m x)) (zg_f od (zl_sl N m x)).length []) hm h8 hx W hI hG hAG l1 l2 hld rfl rfl rfl (fun e => ?_) (fun i hi e sL' se' re' fr' => ?_))
    · exact zy_op1 hm hx w0 (zy_open29 hm h8 hx W hI hAI hG hAG l1 hld rfl rfl rfl (fun _ => ⟨rfl, zi_mk h rfl rfl⟩) (fun i _ e2 => by rw [e] at e2; exact nomatch e2))
    · refine zy_op1 hm hx w0 (zy_open29 hm h8 hx W hI hAI hG hAG l1 hld rfl rfl rfl (fun e2 => by rw [e] at e2; exact nomatch e2) (fun i2 _ e2 qL' sq' fr2 => ?_))
      rw [e] at e2
      injection e2 with e2
      subst e2
      exact ⟨rfl, zi_mk (zi_op h hx rfl rfl rfl) (by rw [List.length_append]) (by rw [List.length_append])⟩
  · exact zx_op0b hm hx (fun e => w0 (Or.inl e)) (fun e => w0 (Or.inr e)) (zy_op0b hm hx (fun e => w0 (Or.inl e)) (fun e => w0 (Or.inr e)) ⟨rfl, zi_mk h rfl rfl⟩)

theorem i_vc_close {k : Nat} {u : SX} {v : SY} (I : i_Rel k u v) (hk : k + 4 ≤ 2052) (v1 : Int32) : wpX_close (fun r u' => wpY_close (fun r' v' => r' = r ∧ i_Rel (k + 4) u' v') v v1) u v1 := by
  refine zi_el (P := fun u v => wpX_close (fun r u' => wpY_close (fun r' v' => r' = r ∧ i_Rel (k + 4) u' v') v v1) u v1) ?_ I
  intro m sy p hh bl N Z IL GL hd od pd nd nc kd ss sn ini fin il gl ba sL fL wL kM se fr re fo wo qL fLy sq fry ke h
  obtain ⟨⟨hm, hs, hp, h8, hb⟩, W, V, ⟨hI, hAI⟩, ⟨hG, hAG⟩, ⟨l1, l2, l3⟩, hld⟩ := h
  have h : zi_I m sy p hh bl N Z IL GL hd od pd nd nc ss sn il gl := ⟨⟨hm, hs, hp, h8, hb⟩, W, V, ⟨hI, hAI⟩, ⟨hG, hAG⟩, ⟨l1, l2, l3⟩, hld⟩
  have nn : ∀ {x : Nat} {o : Nat}, od x = some o → ¬ od x = none := fun a b => by rw [b] at a; exact nomatch a
  rcases pk_ix v1 (show hh < 2 ^ 31 by omega) with q | q | ⟨i, hi, rfl⟩
  · exact zx_cl0 (Or.inl q) (zy_cl0 (Or.inl q) ⟨rfl, zi_mk h rfl rfl⟩)
  · exact zx_cl0 (Or.inr q) (zy_cl0 (Or.inr q) ⟨rfl, zi_mk h rfl rfl⟩)
  refine zx_close (K := zk_K N Z pd (zo_u hd i none) m hh) (B := zg_e (zk_K N Z pd (zo_u hd i none) m hh) IL.reverse) hm hp h8 hi W V hI hAI hG hAG l1 l2 l3 rfl rfl (fun e => ?_) (fun e wL' mk' wo' => ?_)
  · exact zy_close hm hp h8 hi W V hI hAI hG hAG l1 l2 l3 rfl rfl (fun _ => ⟨rfl, zi_mk h rfl rfl⟩) (fun n => absurd e n)
  · exact zy_close hm hp h8 hi W V hI hAI hG hAG l1 l2 l3 rfl rfl (fun n => absurd n e) (fun _ ke' => ⟨rfl, zi_mk (zi_cl h rfl) rfl rfl⟩)

theorem i_vc_call {k : Nat} {u : SX} {v : SY} (I : i_Rel k u v) (hk : k + 4 ≤ 2052) (v1 : Int32) (v2 : Int32) : wpX_call (fun r u' => wpY_call (fun r' v' => r' = r ∧ i_Rel (k + 4) u' v') v v1 v2) u v1 v2 := by
  refine zi_el (P := fun u v => wpX_call (fun r u' => wpY_call (fun r' v' => r' = r ∧ i_Rel (k + 4) u' v') v v1 v2) u v1 v2) ?_ I
  intro m sy p hh bl N Z IL GL hd od pd nd nc kd ss sn ini fin il gl ba sL fL wL kM se fr re fo wo qL fLy sq fry ke h
  obtain ⟨⟨hm, hs, hp, h8, hb⟩, W, V, ⟨hI, hAI⟩, ⟨hG, hAG⟩, ⟨l1, l2, l3⟩, hld⟩ := h
  have h : zi_I m sy p hh bl N Z IL GL hd od pd nd nc ss sn il gl := ⟨⟨hm, hs, hp, h8, hb⟩, W, V, ⟨hI, hAI⟩, ⟨hG, hAG⟩, ⟨l1, l2, l3⟩, hld⟩
  have nn : ∀ {x : Nat} {o : Nat}, od x = some o → ¬ od x = none := fun a b => by rw [b] at a; exact nomatch a
  rcases pk_ix v1 (show m < 2 ^ 31 by omega) with q | q | ⟨x, hx, rfl⟩
  · exact zx_ca0 (Or.inl q) (zy_ca0 (Or.inl q) ⟨rfl, zi_mk h rfl rfl⟩)
  · exact zx_ca0 (Or.inr q) (zy_ca0 (Or.inr q) ⟨rfl, zi_mk h rfl rfl⟩)
  have h4 := (V x hx).2.2.1
  rcases pk_ix v2 (show (Z x).length < 2 ^ 31 by omega) with q | q | ⟨i, hi, rfl⟩
  · exact zx_ca0b hm V hx (Or.inl q) (zy_ca0b hm V hx (Or.inl q) ⟨rfl, zi_mk h rfl rfl⟩)
  · exact zx_ca0b hm V hx (Or.inr q) (zy_ca0b hm V hx (Or.inr q) ⟨rfl, zi_mk h rfl rfl⟩)
  refine zx_ca hm hs hp W V hx hi hG hAG l2 l3 (fun e => ?_) (fun e y hy e2 => ?_) (fun o ho e e2 e3 sL' se' => ?_) (fun o ho e e2 y hy e3 sL' se' => ?_)
  · exact zy_ca hm hs hp W V hx hi hI hAI hG hAG l2 l3 hld (fun _ => ⟨rfl, zi_mk h rfl rfl⟩) (fun n => absurd e n) (fun o _ n => absurd e (nn n)) (fun o _ n => absurd e (nn n))
  · exact zy_ca hm hs hp W V hx hi hI hAI hG hAG l2 l3 hld (fun n => absurd n e) (fun _ y2 _ n => by rw [e2] at n; injection n with n; subst n; exact ⟨rfl, zi_mk h rfl rfl⟩) (fun o _ _ n => by rw [e2] at n; exact nomatch n) (fun o _ _ n => by rw [e2] at n; exact nomatch n)
  · refine zy_ca hm hs hp W V hx hi hI hAI hG hAG l2 l3 hld (fun n => absurd n (nn e)) (fun _ y2 _ n => by rw [e2] at n; exact nomatch n) (fun _ _ _ _ _ _ _ => ⟨rfl, zi_mk h rfl rfl⟩) (fun o2 _ n _ y hy n3 => ?_)
    rw [e] at n
    injection n with n
    subst n
    rw [e3] at n3
    exact absurd n3.symm (zn_m6 (by omega))
  · refine zy_ca hm hs hp W V hx hi hI hAI hG hAG l2 l3 hld (fun n => absurd n (nn e)) (fun _ y2 _ n => by rw [e2] at n; exact nomatch n) (fun o2 _ n _ n3 => ?_) (fun o2 _ n _ y2 hy2 n3 qL' sq' => ?_)
    · rw [e] at n
      injection n with n
      subst n
      rw [e3] at n3
      exact absurd n3 (zn_m6 (by omega))
    · rw [e] at n
      injection n with n
      subst n
      rw [e3] at n3
      have e5 := (nI_eq (by omega) (by omega)).mp n3
      subst e5
      exact ⟨rfl, zi_mk ⟨⟨hm, hs, hp, h8, hb⟩, W, V, ⟨hI, hAI⟩, ⟨hG, hAG⟩, ⟨l1, l2, zo_lt_u l3 (fun z w => by injection w with w; omega)⟩, hld⟩ rfl rfl⟩

theorem i_vc_bindAll {k : Nat} {u : SX} {v : SY} (I : i_Rel k u v) (hk : k + 4 ≤ 2052) (v1 : Int32) : wpX_bindAll (fun r u' => wpY_bindAll (fun r' v' => r' = r ∧ i_Rel (k + 4) u' v') v v1) u v1 := by
  refine zi_el (P := fun u v => wpX_bindAll (fun r u' => wpY_bindAll (fun r' v' => r' = r ∧ i_Rel (k + 4) u' v') v v1) u v1) ?_ I
  intro m sy p hh bl N Z IL GL hd od pd nd nc kd ss sn ini fin il gl ba sL fL wL kM se fr re fo wo qL fLy sq fry ke h
  obtain ⟨⟨hm, hs, hp, h8, hb⟩, W, V, ⟨hI, hAI⟩, ⟨hG, hAG⟩, ⟨l1, l2, l3⟩, hld⟩ := h
  have h : zi_I m sy p hh bl N Z IL GL hd od pd nd nc ss sn il gl := ⟨⟨hm, hs, hp, h8, hb⟩, W, V, ⟨hI, hAI⟩, ⟨hG, hAG⟩, ⟨l1, l2, l3⟩, hld⟩
  have nn : ∀ {x : Nat} {o : Nat}, od x = some o → ¬ od x = none := fun a b => by rw [b] at a; exact nomatch a
  rcases pk_ix v1 (show m < 2 ^ 31 by omega) with q | q | ⟨x, hx, rfl⟩
  · exact zx_ba0 (Or.inl q) (zy_ba0 (Or.inl q) ⟨rfl, zi_mk h rfl rfl⟩)
  · exact zx_ba0 (Or.inr q) (zy_ba0 (Or.inr q) ⟨rfl, zi_mk h rfl rfl⟩)
  have h4 := (V x hx).2.2.1
  refine zx_ba hm hx l2 (fun e => ?_) (fun o ho e => ⟨(Z x).length + 1, ?_⟩)
  · exact zy_ba hm hx hI hAI (fun _ => ⟨rfl, zi_mk h rfl rfl⟩) (fun n => absurd n ((hld x hx).mp e))
  · refine zx_ba23 (S := fun j => zf_s kd N m GL x o ((Z x).getD j 0)) hm hs hp W V hx hG hAG l3 e ho (fun _ => rfl) (fun b sL' se' fo' => ?_) (fun g sL' se' fo' => ?_) (Z x).length 0 _ _ _ (by omega) (fun j hj => absurd hj (Nat.not_lt_zero j))
    · refine zy_ba hm hx hI hAI (fun n => absurd ((hld x hx).mpr n) (nn e)) (fun _ => ⟨(Z x).length + 1, ?_⟩)
      refine zy_ba23 (S := fun j => zf_s kd N m GL x o ((Z x).getD j 0)) hm hs hp W V hx hG hAG l3 e ho (fun _ => rfl) (fun _ qL' sq' => ⟨rfl, zi_mk h rfl rfl⟩) (fun g => ?_) (Z x).length 0 _ _ (by omega) (fun j hj => absurd hj (Nat.not_lt_zero j))
      obtain ⟨j, j1, j2, j3⟩ := b
      obtain ⟨g1, g2⟩ := g j j1 j2
      rw [g1] at j3
      exact absurd j3 (zn_m6 (by omega))
    · refine zy_ba hm hx hI hAI (fun n => absurd ((hld x hx).mpr n) (nn e)) (fun _ => ⟨(Z x).length + 1, ?_⟩)
      refine zy_ba23 (S := fun j => zf_s kd N m GL x o ((Z x).getD j 0)) hm hs hp W V hx hG hAG l3 e ho (fun _ => rfl) (fun b => ?_) (fun _ qL' sq' => ⟨rfl, ?_⟩) (Z x).length 0 _ _ (by omega) (fun j hj => absurd hj (Nat.not_lt_zero j))
      · obtain ⟨j, j1, j2, j3⟩ := b
        obtain ⟨g1, g2⟩ := g j j1 j2
        rw [g1] at j3
        exact absurd j3 (zn_m6 (by omega))
      · exact zi_mk ⟨⟨hm, hs, hp, h8, hb⟩, W, V, ⟨hI, hAI⟩, ⟨hG, hAG⟩, ⟨l1, l2, zq_p_lt l3 (fun j hj hn => (g j hj hn).2)⟩, hld⟩ rfl rfl

theorem i_vc_resolve {k : Nat} {u : SX} {v : SY} (I : i_Rel k u v) (hk : k + 4 ≤ 2052) (v1 : Int32) (v2 : Int32) : wpX_resolve (fun r u' => wpY_resolve (fun r' v' => r' = r ∧ i_Rel (k + 4) u' v') v v1 v2) u v1 v2 := by
  refine zi_el (P := fun u v => wpX_resolve (fun r u' => wpY_resolve (fun r' v' => r' = r ∧ i_Rel (k + 4) u' v') v v1 v2) u v1 v2) ?_ I
  intro m sy p hh bl N Z IL GL hd od pd nd nc kd ss sn ini fin il gl ba sL fL wL kM se fr re fo wo qL fLy sq fry ke h
  obtain ⟨⟨hm, hs, hp, h8, hb⟩, W, V, ⟨hI, hAI⟩, ⟨hG, hAG⟩, ⟨l1, l2, l3⟩, hld⟩ := h
  have h : zi_I m sy p hh bl N Z IL GL hd od pd nd nc ss sn il gl := ⟨⟨hm, hs, hp, h8, hb⟩, W, V, ⟨hI, hAI⟩, ⟨hG, hAG⟩, ⟨l1, l2, l3⟩, hld⟩
  have nn : ∀ {x : Nat} {o : Nat}, od x = some o → ¬ od x = none := fun a b => by rw [b] at a; exact nomatch a
  rcases pk_ix v1 (show m < 2 ^ 31 by omega) with q | q | ⟨x, hx, rfl⟩
  · exact zx_re0 (Or.inl q) (zy_re0 (Or.inl q) ⟨rfl, zi_mk h rfl rfl⟩)
  · exact zx_re0 (Or.inr q) (zy_re0 (Or.inr q) ⟨rfl, zi_mk h rfl rfl⟩)
  have h4 := (V x hx).2.2.1
  rcases pk_ix v2 (show (Z x).length < 2 ^ 31 by omega) with q | q | ⟨i, hi, rfl⟩
  · exact zx_re0b hm V hx (Or.inl q) (zy_re0b hm V hx (Or.inl q) ⟨rfl, zi_mk h rfl rfl⟩)
  · exact zx_re0b hm V hx (Or.inr q) (zy_re0b hm V hx (Or.inr q) ⟨rfl, zi_mk h rfl rfl⟩)
  refine zx_re hm hs hp W V hx hi hG hAG l2 (fun e => ?_) (fun o ho e sL' se' => ?_)
  · exact zy_re hm hs hp W V hx hi hI hAI hG hAG l2 hld (fun _ => ⟨rfl, zi_mk h rfl rfl⟩) (fun o _ n => absurd e (nn n))
  · refine zy_re hm hs hp W V hx hi hI hAI hG hAG l2 hld (fun n => absurd n (nn e)) (fun o2 _ n qL' sq' => ?_)
    rw [e] at n
    injection n with n
    subst n
    exact ⟨rfl, zi_mk h rfl rfl⟩

theorem i_vc_bound {k : Nat} {u : SX} {v : SY} (I : i_Rel k u v) (hk : k + 4 ≤ 2052) (v1 : Int32) (v2 : Int32) : wpX_bound (fun r => wpY_bound (fun r' => r' = r ∧ i_Rel (k + 4) u v) v v1 v2) u v1 v2 := by
  refine zi_el (P := fun u v => wpX_bound (fun r => wpY_bound (fun r' => r' = r ∧ i_Rel (k + 4) u v) v v1 v2) u v1 v2) ?_ I
  intro m sy p hh bl N Z IL GL hd od pd nd nc kd ss sn ini fin il gl ba sL fL wL kM se fr re fo wo qL fLy sq fry ke h
  obtain ⟨⟨hm, hs, hp, h8, hb⟩, W, V, ⟨hI, hAI⟩, ⟨hG, hAG⟩, ⟨l1, l2, l3⟩, hld⟩ := h
  have h : zi_I m sy p hh bl N Z IL GL hd od pd nd nc ss sn il gl := ⟨⟨hm, hs, hp, h8, hb⟩, W, V, ⟨hI, hAI⟩, ⟨hG, hAG⟩, ⟨l1, l2, l3⟩, hld⟩
  have nn : ∀ {x : Nat} {o : Nat}, od x = some o → ¬ od x = none := fun a b => by rw [b] at a; exact nomatch a
  rcases pk_ix v1 (show m < 2 ^ 31 by omega) with q | q | ⟨x, hx, rfl⟩
  · exact zx_bo0 (Or.inl q) (zy_bo0 (Or.inl q) ⟨rfl, zi_mk h rfl rfl⟩)
  · exact zx_bo0 (Or.inr q) (zy_bo0 (Or.inr q) ⟨rfl, zi_mk h rfl rfl⟩)
  have h4 := (V x hx).2.2.1
  rcases pk_ix v2 (show (Z x).length < 2 ^ 31 by omega) with q | q | ⟨i, hi, rfl⟩
  · exact zx_bo0b hm V hx (Or.inl q) (zy_bo0b hm V hx (Or.inl q) ⟨rfl, zi_mk h rfl rfl⟩)
  · exact zx_bo0b hm V hx (Or.inr q) (zy_bo0b hm V hx (Or.inr q) ⟨rfl, zi_mk h rfl rfl⟩)
  exact zx_bo hm hp V hx hi (zy_bo hm hp V hx hi l3 ⟨rfl, zi_mk h rfl rfl⟩)

theorem i_vc_lookup {k : Nat} {u : SX} {v : SY} (I : i_Rel k u v) (hk : k + 4 ≤ 2052) (v1 : Int32) (v2 : Int32) : wpX_lookup (fun r u' => wpY_lookup (fun r' v' => r' = r ∧ i_Rel (k + 4) u' v') v v1 v2) u v1 v2 := by
  refine zi_el (P := fun u v => wpX_lookup (fun r u' => wpY_lookup (fun r' v' => r' = r ∧ i_Rel (k + 4) u' v') v v1 v2) u v1 v2) ?_ I
  intro m sy p hh bl N Z IL GL hd od pd nd nc kd ss sn ini fin il gl ba sL fL wL kM se fr re fo wo qL fLy sq fry ke h
  obtain ⟨⟨hm, hs, hp, h8, hb⟩, W, V, ⟨hI, hAI⟩, ⟨hG, hAG⟩, ⟨l1, l2, l3⟩, hld⟩ := h
  have h : zi_I m sy p hh bl N Z IL GL hd od pd nd nc ss sn il gl := ⟨⟨hm, hs, hp, h8, hb⟩, W, V, ⟨hI, hAI⟩, ⟨hG, hAG⟩, ⟨l1, l2, l3⟩, hld⟩
  have nn : ∀ {x : Nat} {o : Nat}, od x = some o → ¬ od x = none := fun a b => by rw [b] at a; exact nomatch a
  rcases pk_ix v1 (show hh < 2 ^ 31 by omega) with q | q | ⟨i, hi, rfl⟩
  · exact zx_lo0 (Or.inl q) (zy_lo0 (Or.inl q) ⟨rfl, zi_mk h rfl rfl⟩)
  · exact zx_lo0 (Or.inr q) (zy_lo0 (Or.inr q) ⟨rfl, zi_mk h rfl rfl⟩)
  rcases pk_ix v2 (show sy < 2 ^ 31 by omega) with q | q | ⟨s, hs1, rfl⟩
  · exact zx_lo0b h8 hi (Or.inl q) (zy_lo0b h8 hi (Or.inl q) ⟨rfl, zi_mk h rfl rfl⟩)
  · exact zx_lo0b h8 hi (Or.inr q) (zy_lo0b h8 hi (Or.inr q) ⟨rfl, zi_mk h rfl rfl⟩)
  refine zx_lo hm hs h8 W hi hs1 l1 (fun e => ?_) (fun r hr e sL' se' => ?_)
  · exact zy_lo hm hs h8 W hi hs1 l1 (fun _ => ⟨rfl, zi_mk h rfl rfl⟩) (fun o _ n => by rw [e] at n; exact nomatch n)
  · refine zy_lo hm hs h8 W hi hs1 l1 (fun n => by rw [e] at n; exact nomatch n) (fun o2 _ n qL' sq' => ?_)
    rw [e] at n
    injection n with n
    subst n
    exact ⟨rfl, zi_mk h rfl rfl⟩

theorem i_vc_handleAt {k : Nat} {u : SX} {v : SY} (I : i_Rel k u v) (hk : k + 4 ≤ 2052) (v1 : Int32) : wpX_handleAt (fun r => wpY_handleAt (fun r' => r' = r ∧ i_Rel (k + 4) u v) v v1) u v1 := by
  refine zi_el (P := fun u v => wpX_handleAt (fun r => wpY_handleAt (fun r' => r' = r ∧ i_Rel (k + 4) u v) v v1) u v1) ?_ I
  intro m sy p hh bl N Z IL GL hd od pd nd nc kd ss sn ini fin il gl ba sL fL wL kM se fr re fo wo qL fLy sq fry ke h
  obtain ⟨⟨hm, hs, hp, h8, hb⟩, W, V, ⟨hI, hAI⟩, ⟨hG, hAG⟩, ⟨l1, l2, l3⟩, hld⟩ := h
  have h : zi_I m sy p hh bl N Z IL GL hd od pd nd nc ss sn il gl := ⟨⟨hm, hs, hp, h8, hb⟩, W, V, ⟨hI, hAI⟩, ⟨hG, hAG⟩, ⟨l1, l2, l3⟩, hld⟩
  have nn : ∀ {x : Nat} {o : Nat}, od x = some o → ¬ od x = none := fun a b => by rw [b] at a; exact nomatch a
  rcases pk_ix v1 (show hh < 2 ^ 31 by omega) with q | q | ⟨i, hi, rfl⟩
  · exact zx_ha0 (Or.inl q) (zy_ha0 (Or.inl q) ⟨rfl, zi_mk h rfl rfl⟩)
  · exact zx_ha0 (Or.inr q) (zy_ha0 (Or.inr q) ⟨rfl, zi_mk h rfl rfl⟩)
  exact zx_ha h8 hi (zy_ha hm h8 hi l1 ⟨rfl, zi_mk h rfl rfl⟩)

theorem i_vc_globalAt {k : Nat} {u : SX} {v : SY} (I : i_Rel k u v) (hk : k + 4 ≤ 2052) (v1 : Int32) : wpX_globalAt (fun r => wpY_globalAt (fun r' => r' = r ∧ i_Rel (k + 4) u v) v v1) u v1 := by
  refine zi_el (P := fun u v => wpX_globalAt (fun r => wpY_globalAt (fun r' => r' = r ∧ i_Rel (k + 4) u v) v v1) u v1) ?_ I
  intro m sy p hh bl N Z IL GL hd od pd nd nc kd ss sn ini fin il gl ba sL fL wL kM se fr re fo wo qL fLy sq fry ke h
  obtain ⟨⟨hm, hs, hp, h8, hb⟩, W, V, ⟨hI, hAI⟩, ⟨hG, hAG⟩, ⟨l1, l2, l3⟩, hld⟩ := h
  have h : zi_I m sy p hh bl N Z IL GL hd od pd nd nc ss sn il gl := ⟨⟨hm, hs, hp, h8, hb⟩, W, V, ⟨hI, hAI⟩, ⟨hG, hAG⟩, ⟨l1, l2, l3⟩, hld⟩
  have nn : ∀ {x : Nat} {o : Nat}, od x = some o → ¬ od x = none := fun a b => by rw [b] at a; exact nomatch a
  have hl := zl_len hG
  unfold wpX_globalAt wpY_globalAt
  dsimp only
  rcases pk_ix v1 (show GL.length < 2 ^ 31 by omega) with q | q | ⟨i, hi, rfl⟩
  · exact br_t q (br_t q ⟨rfl, zi_mk h rfl rfl⟩)
  · exact br_c (fun n => br_t n ⟨rfl, zi_mk h rfl rfl⟩) (fun n => br_f (Int32.not_lt.mpr q) (br_f n (br_f (Int32.not_lt.mpr q) ⟨rfl, zi_mk h rfl rfl⟩)))
  · have v : vp_in (nI i) 12 := vp_in_nI (by omega) (by omega)
    exact br_f (nI_pos (by omega)) (br_t (nI_lt hi (by omega)) ⟨v, br_f (nI_pos (by omega)) (br_t (nI_lt hi (by omega)) ⟨v, ⟨rfl, zi_mk h rfl rfl⟩⟩)⟩)

theorem i_vc_batchAt {k : Nat} {u : SX} {v : SY} (I : i_Rel k u v) (hk : k + 4 ≤ 2052) (v1 : Int32) : wpX_batchAt (fun r => wpY_batchAt (fun r' => r' = r ∧ i_Rel (k + 4) u v) v v1) u v1 := by
  refine zi_el (P := fun u v => wpX_batchAt (fun r => wpY_batchAt (fun r' => r' = r ∧ i_Rel (k + 4) u v) v v1) u v1) ?_ I
  intro m sy p hh bl N Z IL GL hd od pd nd nc kd ss sn ini fin il gl ba sL fL wL kM se fr re fo wo qL fLy sq fry ke h
  obtain ⟨⟨hm, hs, hp, h8, hb⟩, W, V, ⟨hI, hAI⟩, ⟨hG, hAG⟩, ⟨l1, l2, l3⟩, hld⟩ := h
  have h : zi_I m sy p hh bl N Z IL GL hd od pd nd nc ss sn il gl := ⟨⟨hm, hs, hp, h8, hb⟩, W, V, ⟨hI, hAI⟩, ⟨hG, hAG⟩, ⟨l1, l2, l3⟩, hld⟩
  have nn : ∀ {x : Nat} {o : Nat}, od x = some o → ¬ od x = none := fun a b => by rw [b] at a; exact nomatch a
  have hl := zl_len hG
  unfold wpX_batchAt wpY_batchAt
  dsimp only
  rcases pk_ix v1 (show bl < 2 ^ 31 by omega) with q | q | ⟨i, hi, rfl⟩
  · exact br_t q (br_t q ⟨rfl, zi_mk h rfl rfl⟩)
  · exact br_c (fun n => br_t n ⟨rfl, zi_mk h rfl rfl⟩) (fun n => br_f (Int32.not_lt.mpr q) (br_f n (br_f (Int32.not_lt.mpr q) ⟨rfl, zi_mk h rfl rfl⟩)))
  · have v : vp_in (nI i) 12 := vp_in_nI (by omega) (by omega)
    exact br_f (nI_pos (by omega)) (br_t (nI_lt hi (by omega)) ⟨v, br_f (nI_pos (by omega)) (br_t (nI_lt hi (by omega)) ⟨v, ⟨rfl, zi_mk h rfl rfl⟩⟩)⟩)
end
section
/-! described, info -/
theorem zn_012 {v : Int32} (h0 : ¬ v < 0) (h2 : v ≤ 2) : v = 0 ∨ v = 1 ∨ v = 2 := by
  obtain ⟨j, hj, rfl⟩ := nI_of2 (M := 2) (n := 2) (by decide) h0 h2
  have : j = 0 ∨ j = 1 ∨ j = 2 := by omega
  rcases this with e | e | e
  · subst e; exact Or.inl rfl
  · subst e; exact Or.inr (Or.inl rfl)
  · subst e; exact Or.inr (Or.inr rfl)
theorem zn_0123 {v : Int32} (h0 : ¬ v < 0) (h2 : v ≤ 3) : v = 0 ∨ v = 1 ∨ v = 2 ∨ v = 3 := by
  obtain ⟨j, hj, rfl⟩ := nI_of2 (M := 3) (n := 3) (by decide) h0 h2
  have : j = 0 ∨ j = 1 ∨ j = 2 ∨ j = 3 := by omega
  rcases this with e | e | e | e
  · subst e; exact Or.inl rfl
  · subst e; exact Or.inr (Or.inl rfl)
  · subst e; exact Or.inr (Or.inr (Or.inl rfl))
  · subst e; exact Or.inr (Or.inr (Or.inr rfl))
section XE
variable {mC sC pC hC iL gL bL sL fL wL kM : Int32} {nd nc kd ss sn hM op pt ini fin il gl ba se fr re fo wo : Nat → Int32}
variable {m p sy hh : Nat} {N Z : Nat → List Nat} {hd od pd : Nat → Option Nat} {IL GL : List Nat}
theorem zx_de0 {post : Int32 → Prop} {v w z : Int32} (hv : v < 0 ∨ nI m ≤ v) (P : post (-1)) : wpX_described post (nI m, sC, pC, hC, iL, gL, bL, sL, fL, wL, kM, nd, nc, kd, ss, sn, hM, op, pt, ini, fin, il, gl, ba, se, fr, re, fo, wo) v w z := by
  unfold wpX_described; exact zx_isM0 hv (br_t rfl P)
theorem zx_de0b {post : Int32 → Prop} {x : Nat} {w z : Int32} (hm : m ≤ 12) (hx : x < m) (hw : w < 0 ∨ ¬ w ≤ 2) (P : post (-1)) : wpX_described post (nI m, sC, pC, hC, iL, gL, bL, sL, fL, wL, kM, nd, nc, kd, ss, sn, hM, op, pt, ini, fin, il, gl, ba, se, fr, re, fo, wo) (nI x) w z := by
  unfold wpX_described; exact zx_isM1 hm hx (br_f (by decide) (br_c (fun _ => P) (fun n => br_f (hw.elim (fun q => absurd q n) id) P)))
theorem zx_d49 {post : Int32 → Prop} {x1 x3 : Int32} (P : post (-7)) : wX_described_49 post x1 0 x3 mC sC pC hC iL gL bL sL fL wL kM nd nc kd ss sn hM op pt ini fin il gl ba se fr re fo wo := by
  unfold wX_described_49 wX_described_74
  exact br_f (by decide) (br_f (by decide) P)
theorem zx_deN0 {post : Int32 → Prop} {x : Nat} {z : Int32} (hm : m ≤ 12) (hx : x < m) (W : zz_N m N nc nd) (hv : z < 0 ∨ nI (N x).length ≤ z) (P : post (-7)) : wpX_described post (nI m, sC, pC, hC, iL, gL, bL, sL, fL, wL, kM, nd, nc, kd, ss, sn, hM, op, pt, ini, fin, il, gl, ba, se, fr, re, fo, wo) (nI x) 0 z := by
  have c : (nI x).toNatClampNeg = x := nI_clamp (by omega)
  unfold wpX_described
  refine zx_isM1 hm hx (br_f (by decide) (br_f (by decide) (br_t (by decide) (br_t rfl (br_c (fun _ => zx_d49 P) (fun n => ⟨vp_in_nI (by omega) (by omega), ?_⟩))))))
  rw [c, (W x hx).1]
  exact br_t (hv.elim (fun q => absurd q n) id) (zx_d49 P)
theorem zx_deN1 {post : Int32 → Prop} {x i : Nat} (hm : m ≤ 12) (hx : x < m) (W : zz_N m N nc nd) (hi : i < (N x).length) (P : post (nd (x * 12 + i))) : wpX_described post (nI m, sC, pC, hC, iL, gL, bL, sL, fL, wL, kM, nd, nc, kd, ss, sn, hM, op, pt, ini, fin, il, gl, ba, se, fr, re, fo, wo) (nI x) 0 (nI i) := by
  have c : (nI x).toNatClampNeg = x := nI_clamp (by omega)
  have hl := zz_N_len W hx
  have c2 : (nI (x * 12 + i)).toNatClampNeg = x * 12 + i := nI_clamp (by omega)
  unfold wpX_described
  refine zx_isM1 hm hx (br_f (by decide) (br_f (by decide) (br_t (by decide) (br_t rfl (br_f (nI_pos (by omega)) ⟨vp_in_nI (by omega) (by omega), ?_⟩)))))
  rw [c, (W x hx).1]
  refine br_f (nI_ge hi (by omega)) (zx_cell ⟨vp_in_nI (by omega) (by omega), ?_⟩)
  rw [c2]
  exact P
theorem zx_deE0 {post : Int32 → Prop} {x : Nat} {z : Int32} (hm : m ≤ 12) (hx : x < m) (hv : z < 0 ∨ nI sy ≤ z) (P : post (-7)) : wpX_described post (nI m, nI sy, pC, hC, iL, gL, bL, sL, fL, wL, kM, nd, nc, kd, ss, sn, hM, op, pt, ini, fin, il, gl, ba, se, fr, re, fo, wo) (nI x) 1 z := by
  unfold wpX_described
  refine zx_isM1 hm hx (br_f (by decide) (br_f (by decide) (br_t (by decide) (br_f (by decide) ?_))))
  unfold wX_described_49
  refine br_t rfl (zx_isS0 hv (br_t rfl ?_))
  unfold wX_described_74
  exact br_f (by decide) P
theorem zx_deE1 {post : Int32 → Prop} {x i : Nat} (hm : m ≤ 12) (hs : sy ≤ 12) (hx : x < m) (hi : i < sy) (P : post (kd (x * 12 + i))) : wpX_described post (nI m, nI sy, pC, hC, iL, gL, bL, sL, fL, wL, kM, nd, nc, kd, ss, sn, hM, op, pt, ini, fin, il, gl, ba, se, fr, re, fo, wo) (nI x) 1 (nI i) := by
  have c2 : (nI (x * 12 + i)).toNatClampNeg = x * 12 + i := nI_clamp (by omega)
  unfold wpX_described
  refine zx_isM1 hm hx (br_f (by decide) (br_f (by decide) (br_t (by decide) (br_f (by decide) ?_))))
  unfold wX_described_49
  refine br_t rfl (zx_isS1 hs hi (br_f (by decide) (zx_cell ⟨vp_in_nI (by omega) (by omega), ?_⟩)))
  rw [c2]
  exact P
theorem zx_deS0 {post : Int32 → Prop} {x : Nat} {z : Int32} (hm : m ≤ 12) (hx : x < m) (V : zz_Z m p sy Z sn ss) (hv : z < 0 ∨ nI (Z x).length ≤ z) (P : post (-7)) : wpX_described post (nI m, sC, pC, hC, iL, gL, bL, sL, fL, wL, kM, nd, nc, kd, ss, sn, hM, op, pt, ini, fin, il, gl, ba, se, fr, re, fo, wo) (nI x) 2 z := by
  unfold wpX_described
  refine zx_isM1 hm hx (br_f (by decide) (br_f (by decide) (br_t (by decide) (br_f (by decide) ?_))))
  unfold wX_described_49
  refine br_f (by decide) ?_
  unfold wX_described_74
  exact br_t rfl (zx_isSl0 hm V hx hv (br_t rfl P))
theorem zx_deS1 {post : Int32 → Prop} {x i : Nat} (hm : m ≤ 12) (hp : p ≤ 4) (hx : x < m) (V : zz_Z m p sy Z sn ss) (hi : i < (Z x).length) (P : post (ss (x * 4 + i))) : wpX_described post (nI m, sC, pC, hC, iL, gL, bL, sL, fL, wL, kM, nd, nc, kd, ss, sn, hM, op, pt, ini, fin, il, gl, ba, se, fr, re, fo, wo) (nI x) 2 (nI i) := by
  have h4 := (V x hx).2.2.1
  have c2 : (nI (x * 4 + i)).toNatClampNeg = x * 4 + i := nI_clamp (by omega)
  unfold wpX_described
  refine zx_isM1 hm hx (br_f (by decide) (br_f (by decide) (br_t (by decide) (br_f (by decide) ?_))))
  unfold wX_described_49
  refine br_f (by decide) ?_
  unfold wX_described_74
  refine br_t rfl (zx_isSl1 hm hp V hx hi (br_f (by decide) (zx_sc ⟨vp_in_nI (by omega) (by omega), ?_⟩)))
  rw [c2]
  exact P
theorem zx_fo0 {post : Int32 → Prop} {v w : Int32} (hv : v < 0 ∨ nI m ≤ v) (P : post (-1)) : wpX_info post (nI m, sC, pC, hC, iL, gL, bL, sL, fL, wL, kM, nd, nc, kd, ss, sn, hM, op, pt, ini, fin, il, gl, ba, se, fr, re, fo, wo) v w := by
  unfold wpX_info; exact zx_isM0 hv (br_t rfl P)
theorem zx_fo0b {post : Int32 → Prop} {x : Nat} {w : Int32} (hm : m ≤ 12) (hx : x < m) (hw : w < 0 ∨ ¬ w ≤ 3) (P : post (-1)) : wpX_info post (nI m, sC, pC, hC, iL, gL, bL, sL, fL, wL, kM, nd, nc, kd, ss, sn, hM, op, pt, ini, fin, il, gl, ba, se, fr, re, fo, wo) (nI x) w := by
  unfold wpX_info; exact zx_isM1 hm hx (br_f (by decide) (br_c (fun _ => P) (fun n => br_f (hw.elim (fun q => absurd q n) id) P)))
theorem zx_fo2 {post : Int32 → Prop} {x : Nat} (hm : m ≤ 12) (hx : x < m) (P : post (ini x)) : wpX_info post (nI m, sC, pC, hC, iL, gL, bL, sL, fL, wL, kM, nd, nc, kd, ss, sn, hM, op, pt, ini, fin, il, gl, ba, se, fr, re, fo, wo) (nI x) 2 := by
  unfold wpX_info
  refine zx_isM1 hm hx (br_f (by decide) (br_f (by decide) (br_t (by decide) (br_t rfl ⟨vp_in_nI (by omega) (by omega), ?_⟩))))
  rw [nI_clamp (show x < 2 ^ 31 by omega)]
  exact P
theorem zx_fo3 {post : Int32 → Prop} {x : Nat} (hm : m ≤ 12) (hx : x < m) (P : post (fin x)) : wpX_info post (nI m, sC, pC, hC, iL, gL, bL, sL, fL, wL, kM, nd, nc, kd, ss, sn, hM, op, pt, ini, fin, il, gl, ba, se, fr, re, fo, wo) (nI x) 3 := by
  unfold wpX_info
  refine zx_isM1 hm hx (br_f (by decide) (br_f (by decide) (br_t (by decide) (br_f (by decide) (br_t rfl ⟨vp_in_nI (by omega) (by omega), ?_⟩)))))
  rw [nI_clamp (show x < 2 ^ 31 by omega)]
  exact P
theorem zx_fo01 {post : Int32 → Prop} {x : Nat} {w : Int32} (hm : m ≤ 12) (hx : x < m) (hw : w = 0 ∨ w = 1) (hlo : zo_lt m 12 od) (hI : zl_ok m IL) (hA : zl_A il 0 IL)
    (Kn : od x = none → post (-3)) (K0 : w = 0 → ∀ o, od x = some o → post (nI o)) (K1 : w = 1 → ¬ od x = none → post (zr_k (-7) x IL 0)) : wpX_info post (nI m, sC, pC, hC, nI IL.length, gL, bL, sL, fL, wL, kM, nd, nc, kd, ss, sn, hM, zo_X od, pt, ini, fin, il, gl, ba, se, fr, re, fo, wo) (nI x) w := by
  have c : (nI x).toNatClampNeg = x := nI_clamp (by omega)
  unfold wpX_info
  have e0 : ¬ w < 0 := by rcases hw with e | e <;> rw [e] <;> decide
  have e3 : w ≤ 3 := by rcases hw with e | e <;> rw [e] <;> decide
  have n2 : ¬ w = 2 := by rcases hw with e | e <;> rw [e] <;> decide
  have n3 : ¬ w = 3 := by rcases hw with e | e <;> rw [e] <;> decide
  refine zx_isM1 hm hx (br_f (by decide) (br_f e0 (br_t e3 (br_f n2 (br_f n3 (zx_isL hm hx hlo (fun h => br_t rfl (Kn h)) (fun o ho h => br_f (by decide) ?_)))))))
  refine br_c (fun q => ⟨vp_in_nI (by omega) (by omega), ?_⟩) (fun q => zx_rk (by omega) (zl_12 hm hI) hA (K1 (hw.elim (fun z => absurd z q) id) (fun z => by rw [z] at h; exact nomatch h)))
  have eo : zo_X od (nI x).toNatClampNeg = nI o := by rw [c]; show zo_x (od x) = _; rw [h]; rfl
  rw [eo]
  exact K0 q o h
end XE
section YE
variable {mC sC pC hC iL gL bL qL fL : Int32} {nd nc kd ss sn hM op pt il gl ba ini fin sq fr ke : Nat → Int32}
variable {m p sy hh : Nat} {N Z : Nat → List Nat} {hd od pd : Nat → Option Nat} {IL GL : List Nat}
theorem zy_de0 {post : Int32 → Prop} {v w z : Int32} (hv : v < 0 ∨ nI m ≤ v) (P : post (-1)) : wpY_described post (nI m, sC, pC, hC, iL, gL, bL, qL, fL, nd, nc, kd, ss, sn, hM, op, pt, il, gl, ba, ini, fin, sq, fr, ke) v w z := by
  unfold wpY_described; exact zy_bM1 hv (br_f (by decide) P)
theorem zy_de0b {post : Int32 → Prop} {x : Nat} {w z : Int32} (hm : m ≤ 12) (hx : x < m) (hw : w < 0 ∨ ¬ w ≤ 2) (P : post (-1)) : wpY_described post (nI m, sC, pC, hC, iL, gL, bL, qL, fL, nd, nc, kd, ss, sn, hM, op, pt, il, gl, ba, ini, fin, sq, fr, ke) (nI x) w z := by
  unfold wpY_described; exact zy_bM0 hm hx (br_t rfl (br_c (fun _ => P) (fun n => br_f (hw.elim (fun q => absurd q n) id) P)))
theorem zy_deN0 {post : Int32 → Prop} {x : Nat} {z : Int32} (hm : m ≤ 12) (hx : x < m) (W : zz_N m N nc nd) (hv : z < 0 ∨ nI (N x).length ≤ z) (P : post (-7)) : wpY_described post (nI m, sC, pC, hC, iL, gL, bL, qL, fL, nd, nc, kd, ss, sn, hM, op, pt, il, gl, ba, ini, fin, sq, fr, ke) (nI x) 0 z := by
  have c : (nI x).toNatClampNeg = x := nI_clamp (by omega)
  unfold wpY_described
  dsimp only
  rw [c, (W x hx).1]
  exact zy_bM0 hm hx (br_t rfl (br_f (by decide) (br_t (by decide) (br_c (fun n => br_t rfl ⟨vp_in_nI (by omega) (by omega), br_t (hv.elim (fun q => absurd n (Int32.not_le.mpr q)) id) P⟩) (fun _ => P)))))
theorem zy_deN1 {post : Int32 → Prop} {x i : Nat} (hm : m ≤ 12) (hx : x < m) (W : zz_N m N nc nd) (hi : i < (N x).length) (P : post (nd (x * 12 + i))) : wpY_described post (nI m, sC, pC, hC, iL, gL, bL, qL, fL, nd, nc, kd, ss, sn, hM, op, pt, il, gl, ba, ini, fin, sq, fr, ke) (nI x) 0 (nI i) := by
  have c : (nI x).toNatClampNeg = x := nI_clamp (by omega)
  have hl := zz_N_len W hx
  have c2 : (nI (x * 12 + i)).toNatClampNeg = x * 12 + i := nI_clamp (by omega)
  unfold wpY_described
  dsimp only
  rw [c, (W x hx).1, zn_12, c2]
  exact zy_bM0 hm hx (br_t rfl (br_f (by decide) (br_t (by decide) (br_t (nI_pos' (by omega)) (br_t rfl ⟨vp_in_nI (by omega) (by omega), br_f (nI_ge hi (by omega)) ⟨vp_in_nI (by omega) (by omega), P⟩⟩)))))
theorem zy_deE0 {post : Int32 → Prop} {x : Nat} {z : Int32} (hm : m ≤ 12) (hx : x < m) (hv : z < 0 ∨ nI sy ≤ z) (P : post (-7)) : wpY_described post (nI m, nI sy, pC, hC, iL, gL, bL, qL, fL, nd, nc, kd, ss, sn, hM, op, pt, il, gl, ba, ini, fin, sq, fr, ke) (nI x) 1 z := by
  unfold wpY_described
  exact zy_bM0 hm hx (br_t rfl (br_f (by decide) (br_t (by decide) (br_c (fun n => br_f (by decide) (br_t rfl (br_t (hv.elim (fun q => absurd n (Int32.not_le.mpr q)) id) P))) (fun _ => P)))))
theorem zy_deE1 {post : Int32 → Prop} {x i : Nat} (hm : m ≤ 12) (hs : sy ≤ 12) (hx : x < m) (hi : i < sy) (P : post (kd (x * 12 + i))) : wpY_described post (nI m, nI sy, pC, hC, iL, gL, bL, qL, fL, nd, nc, kd, ss, sn, hM, op, pt, il, gl, ba, ini, fin, sq, fr, ke) (nI x) 1 (nI i) := by
  have c2 : (nI (x * 12 + i)).toNatClampNeg = x * 12 + i := nI_clamp (by omega)
  unfold wpY_described
  dsimp only
  rw [zn_12, c2]
  exact zy_bM0 hm hx (br_t rfl (br_f (by decide) (br_t (by decide) (br_t (nI_pos' (by omega)) (br_f (by decide) (br_t rfl (br_f (nI_ge hi (by omega)) ⟨vp_in_nI (by omega) (by omega), P⟩)))))))
theorem zy_deS0 {post : Int32 → Prop} {x : Nat} {z : Int32} (hm : m ≤ 12) (hx : x < m) (V : zz_Z m p sy Z sn ss) (hv : z < 0 ∨ nI (Z x).length ≤ z) (P : post (-7)) : wpY_described post (nI m, sC, pC, hC, iL, gL, bL, qL, fL, nd, nc, kd, ss, sn, hM, op, pt, il, gl, ba, ini, fin, sq, fr, ke) (nI x) 2 z := by
  have c : (nI x).toNatClampNeg = x := nI_clamp (by omega)
  unfold wpY_described
  dsimp only
  rw [c, (V x hx).1]
  exact zy_bM0 hm hx (br_t rfl (br_f (by decide) (br_t (by decide) (br_c (fun n => br_f (by decide) (br_f (by decide) ⟨vp_in_nI (by omega) (by omega), br_t (hv.elim (fun q => absurd n (Int32.not_le.mpr q)) id) P⟩)) (fun _ => P)))))
theorem zy_deS1 {post : Int32 → Prop} {x i : Nat} (hm : m ≤ 12) (hp : p ≤ 4) (hx : x < m) (V : zz_Z m p sy Z sn ss) (hi : i < (Z x).length) (P : post (ss (x * 4 + i))) : wpY_described post (nI m, sC, pC, hC, iL, gL, bL, qL, fL, nd, nc, kd, ss, sn, hM, op, pt, il, gl, ba, ini, fin, sq, fr, ke) (nI x) 2 (nI i) := by
  have c : (nI x).toNatClampNeg = x := nI_clamp (by omega)
  have h4 := (V x hx).2.2.1
  have c2 : (nI (x * 4 + i)).toNatClampNeg = x * 4 + i := nI_clamp (by omega)
  unfold wpY_described
  dsimp only
  rw [c, (V x hx).1, zn_4, c2]
  exact zy_bM0 hm hx (br_t rfl (br_f (by decide) (br_t (by decide) (br_t (nI_pos' (by omega)) (br_f (by decide) (br_f (by decide) ⟨vp_in_nI (by omega) (by omega), br_f (nI_ge hi (by omega)) ⟨vp_in_nI (by omega) (by omega), P⟩⟩))))))
theorem zy_fo0 {post : Int32 → Prop} {v w : Int32} (hv : v < 0 ∨ nI m ≤ v) (P : post (-1)) : wpY_info post (nI m, sC, pC, hC, iL, gL, bL, qL, fL, nd, nc, kd, ss, sn, hM, op, pt, il, gl, ba, ini, fin, sq, fr, ke) v w := by
  unfold wpY_info; exact zy_bM1 hv (br_f (by decide) P)
theorem zy_fo0b {post : Int32 → Prop} {x : Nat} {w : Int32} (hm : m ≤ 12) (hx : x < m) (hw : w < 0 ∨ ¬ w ≤ 3) (P : post (-1)) : wpY_info post (nI m, sC, pC, hC, iL, gL, bL, qL, fL, nd, nc, kd, ss, sn, hM, op, pt, il, gl, ba, ini, fin, sq, fr, ke) (nI x) w := by
  unfold wpY_info; exact zy_bM0 hm hx (br_t rfl (br_c (fun _ => P) (fun n => br_f (hw.elim (fun q => absurd q n) id) P)))
theorem zy_fo2 {post : Int32 → Prop} {x : Nat} (hm : m ≤ 12) (hx : x < m) (P : post (ini x)) : wpY_info post (nI m, sC, pC, hC, iL, gL, bL, qL, fL, nd, nc, kd, ss, sn, hM, op, pt, il, gl, ba, ini, fin, sq, fr, ke) (nI x) 2 := by
  unfold wpY_info
  refine zy_bM0 hm hx (br_t rfl (br_f (by decide) (br_t (by decide) (br_t rfl ⟨vp_in_nI (by omega) (by omega), ?_⟩))))
  rw [nI_clamp (show x < 2 ^ 31 by omega)]
  exact P
theorem zy_fo3 {post : Int32 → Prop} {x : Nat} (hm : m ≤ 12) (hx : x < m) (P : post (fin x)) : wpY_info post (nI m, sC, pC, hC, iL, gL, bL, qL, fL, nd, nc, kd, ss, sn, hM, op, pt, il, gl, ba, ini, fin, sq, fr, ke) (nI x) 3 := by
  unfold wpY_info
  refine zy_bM0 hm hx (br_t rfl (br_f (by decide) (br_t (by decide) (br_f (by decide) (br_t rfl ⟨vp_in_nI (by omega) (by omega), ?_⟩)))))
  rw [nI_clamp (show x < 2 ^ 31 by omega)]
  exact P
theorem zy_fo62 {post : Int32 → Prop} {x : Nat} (hm : m ≤ 12) (hx : x < m) (hI : zl_ok m IL) (hA : zl_A il 0 IL) (P : post (zr_k (-3) x IL 0)) : wY_info_62 post (nI x) mC sC pC hC (nI IL.length) gL bL qL fL nd nc kd ss sn hM op pt il gl ba ini fin sq fr ke := by
  unfold wY_info_62
  exact zy_rk (by omega) (zl_12 hm hI) hA P
theorem zy_fo01 {post : Int32 → Prop} {x : Nat} {w : Int32} (hm : m ≤ 12) (hx : x < m) (hw : w = 0 ∨ w = 1) (hI : zl_ok m IL) (hA : zl_A il 0 IL) (hld : ∀ x, x < m → (od x = none ↔ x ∉ IL))
    (Kn : od x = none → post (-3)) (K0 : w = 0 → ∀ o, od x = some o → post (nI o)) (K1 : w = 1 → ¬ od x = none → post (zr_k (-3) x IL 0)) : wpY_info post (nI m, sC, pC, hC, nI IL.length, gL, bL, qL, fL, nd, nc, kd, ss, sn, hM, zo_Y od, pt, il, gl, ba, ini, fin, sq, fr, ke) (nI x) w := by
  have c : (nI x).toNatClampNeg = x := nI_clamp (by omega)
  unfold wpY_info
  have e0 : ¬ w < 0 := by rcases hw with e | e <;> rw [e] <;> decide
  have e3 : w ≤ 3 := by rcases hw with e | e <;> rw [e] <;> decide
  have n2 : ¬ w = 2 := by rcases hw with e | e <;> rw [e] <;> decide
  have n3 : ¬ w = 3 := by rcases hw with e | e <;> rw [e] <;> decide
  refine zy_bM0 hm hx (br_t rfl (br_f e0 (br_t e3 (br_f n2 (br_f n3 (br_c (fun q => zy_rkL (by omega) (zl_12 hm hI) hA (fun h => ⟨vp_in_nI (by omega) (by omega), ?_⟩) (fun h => zy_fo62 hm hx hI hA ?_)) (fun q => zy_fo62 hm hx hI hA ?_)))))))
  · cases qo : od x with
    | none => exact absurd h ((hld x hx).mp qo)
    | some o =>
      have eo : zo_Y od (nI x).toNatClampNeg = nI o := by rw [c]; show zo_y (od x) = _; rw [qo]; rfl
      rw [eo]
      exact K0 q o qo
  · rw [zr_k_out IL 0 h]
    exact Kn ((hld x hx).mpr h)
  · by_cases e : od x = none
    · rw [zr_k_out IL 0 ((hld x hx).mp e)]
      exact Kn e
    · exact K1 (hw.elim (fun z => absurd z q) id) e
theorem zy_init {post : SY → Prop} {k0 k1 k2 k3 : Int32} (P : post (nI (zc_c k0 2 12), nI (zc_c k1 1 12), nI (zc_c k2 1 4), nI (zc_c k3 1 8), 0, 0, 0, 0, 0, fun _ => 0, fun _ => 0, fun _ => 0, fun _ => 0, fun _ => 0, zo_Y (zo_U zc_z (List.range 8) none), zo_Y (zo_U zc_z (List.range 12) none), zo_Y (zo_U zc_z (List.range 48) none), fun _ => 0, fun _ => 0, fun _ => 0, fun _ => 0, fun _ => 0, fun _ => 0, fun _ => 0, fun _ => 0)) : wpY_init post k0 k1 k2 k3 := by
  unfold wpY_init
  refine zc_br (lo := 2) (hi := 12) (A := fun z => (wY_init_156 post k1 k2 k3 z 0 0 0 0 0 0 0 0 0 (fun _ => 0) (fun _ => 0) (fun _ => 0) (fun _ => 0) (fun _ => 0) (fun _ => 0) (fun _ => 0) (fun _ => 0) (fun _ => 0) (fun _ => 0) (fun _ => 0) (fun _ => 0) (fun _ => 0) (fun _ => 0) (fun _ => 0) (fun _ => 0))) (by decide) ?_
  unfold wY_init_156
  refine zc_br (lo := 1) (hi := 12) (A := fun z => (wY_init_181 post k2 k3 z (nI (zc_c k0 2 12)) 0 0 0 0 0 0 0 0 (fun _ => 0) (fun _ => 0) (fun _ => 0) (fun _ => 0) (fun _ => 0) (fun _ => 0) (fun _ => 0) (fun _ => 0) (fun _ => 0) (fun _ => 0) (fun _ => 0) (fun _ => 0) (fun _ => 0) (fun _ => 0) (fun _ => 0) (fun _ => 0))) (by decide) ?_
  unfold wY_init_181
  refine zc_br (lo := 1) (hi := 4) (A := fun z => (wY_init_204 post k3 z (nI (zc_c k0 2 12)) (nI (zc_c k1 1 12)) 0 0 0 0 0 0 0 (fun _ => 0) (fun _ => 0) (fun _ => 0) (fun _ => 0) (fun _ => 0) (fun _ => 0) (fun _ => 0) (fun _ => 0) (fun _ => 0) (fun _ => 0) (fun _ => 0) (fun _ => 0) (fun _ => 0) (fun _ => 0) (fun _ => 0) (fun _ => 0))) (by decide) ?_
  unfold wY_init_204
  refine zc_br (lo := 1) (hi := 8) (A := fun z => ∃ n238, (wY_init_238 post (nI (zc_c k0 2 12)) (nI (zc_c k1 1 12)) (nI (zc_c k2 1 4)) z 0 0 0 0 0 n238 0 (fun _ => 0) (fun _ => 0) (fun _ => 0) (fun _ => 0) (fun _ => 0) (fun _ => 0) (fun _ => 0) (fun _ => 0) (fun _ => 0) (fun _ => 0) (fun _ => 0) (fun _ => 0) (fun _ => 0) (fun _ => 0) (fun _ => 0) (fun _ => 0))) (by decide) ?_
  exact ⟨9, zy_i238 ⟨13, zy_i262 ⟨49, zy_i286 P 48 0 _ rfl zc_U0y⟩ 12 0 _ rfl zc_U0y⟩ 8 0 _ rfl zc_U0y⟩
end YE
theorem zx_init {post : SX → Prop} {k0 k1 k2 k3 : Int32} (P : post (nI (zc_c k0 2 12), nI (zc_c k1 1 12), nI (zc_c k2 1 4), nI (zc_c k3 1 8), 0, 0, 0, 0, 0, 0, 0, fun _ => 0, fun _ => 0, fun _ => 0, fun _ => 0, fun _ => 0, zo_X (zo_U zc_z (List.range 8) none), zo_X (zo_U zc_z (List.range 12) none), zo_X (zp_U zc_z (List.range 12)), fun _ => 0, fun _ => 0, fun _ => 0, fun _ => 0, fun _ => 0, fun _ => 0, fun _ => 0, fun _ => 0, fun _ => 0, fun _ => 0)) : wpX_init post k0 k1 k2 k3 := by
  unfold wpX_init
  refine zx_clamp (lo := 2) (hi := 12) (by decide) ?_
  refine zx_clamp (lo := 1) (hi := 12) (by decide) ?_
  refine zx_clamp (lo := 1) (hi := 4) (by decide) ?_
  refine zx_clamp (lo := 1) (hi := 8) (by decide) ?_
  exact ⟨9, zx_i200 ⟨13, zx_i225 P 12 0 _ _ rfl zc_U0 zc_P0⟩ 8 0 _ rfl zc_U0⟩
end
section
/-! what is owed, the rest -/
theorem i_vc_described {k : Nat} {u : SX} {v : SY} (I : i_Rel k u v) (hk : k + 4 ≤ 2052) (v1 : Int32) (v2 : Int32) (v3 : Int32) : wpX_described (fun r => wpY_described (fun r' => r' = r ∧ i_Rel (k + 4) u v) v v1 v2 v3) u v1 v2 v3 := by
  refine zi_el (P := fun u v => wpX_described (fun r => wpY_described (fun r' => r' = r ∧ i_Rel (k + 4) u v) v v1 v2 v3) u v1 v2 v3) ?_ I
  intro m sy p hh bl N Z IL GL hd od pd nd nc kd ss sn ini fin il gl ba sL fL wL kM se fr re fo wo qL fLy sq fry ke h
  obtain ⟨⟨hm, hs, hp, h8, hb⟩, W, V, ⟨hI, hAI⟩, ⟨hG, hAG⟩, ⟨l1, l2, l3⟩, hld⟩ := h
  have h : zi_I m sy p hh bl N Z IL GL hd od pd nd nc ss sn il gl := ⟨⟨hm, hs, hp, h8, hb⟩, W, V, ⟨hI, hAI⟩, ⟨hG, hAG⟩, ⟨l1, l2, l3⟩, hld⟩
  have nn : ∀ {x : Nat} {o : Nat}, od x = some o → ¬ od x = none := fun a b => by rw [b] at a; exact nomatch a
  rcases pk_ix v1 (show m < 2 ^ 31 by omega) with q | q | ⟨x, hx, rfl⟩
  · exact zx_de0 (Or.inl q) (zy_de0 (Or.inl q) ⟨rfl, zi_mk h rfl rfl⟩)
  · exact zx_de0 (Or.inr q) (zy_de0 (Or.inr q) ⟨rfl, zi_mk h rfl rfl⟩)
  by_cases w0 : v2 < 0
  · exact zx_de0b hm hx (Or.inl w0) (zy_de0b hm hx (Or.inl w0) ⟨rfl, zi_mk h rfl rfl⟩)
  by_cases w2 : v2 ≤ 2
  · have h4 := (V x hx).2.2.1
    have hl := zz_N_len W hx
    rcases zn_012 w0 w2 with rfl | rfl | rfl
    · rcases pk_ix v3 (show (N x).length < 2 ^ 31 by omega) with q | q | ⟨i, hi, rfl⟩
      · exact zx_deN0 hm hx W (Or.inl q) (zy_deN0 hm hx W (Or.inl q) ⟨rfl, zi_mk h rfl rfl⟩)
      · exact zx_deN0 hm hx W (Or.inr q) (zy_deN0 hm hx W (Or.inr q) ⟨rfl, zi_mk h rfl rfl⟩)
      · exact zx_deN1 hm hx W hi (zy_deN1 hm hx W hi ⟨rfl, zi_mk h rfl rfl⟩)
    · rcases pk_ix v3 (show sy < 2 ^ 31 by omega) with q | q | ⟨i, hi, rfl⟩
      · exact zx_deE0 hm hx (Or.inl q) (zy_deE0 hm hx (Or.inl q) ⟨rfl, zi_mk h rfl rfl⟩)
      · exact zx_deE0 hm hx (Or.inr q) (zy_deE0 hm hx (Or.inr q) ⟨rfl, zi_mk h rfl rfl⟩)
      · exact zx_deE1 hm hs hx hi (zy_deE1 hm hs hx hi ⟨rfl, zi_mk h rfl rfl⟩)
    · rcases pk_ix v3 (show (Z x).length < 2 ^ 31 by omega) with q | q | ⟨i, hi, rfl⟩
      · exact zx_deS0 hm hx V (Or.inl q) (zy_deS0 hm hx V (Or.inl q) ⟨rfl, zi_mk h rfl rfl⟩)
      · exact zx_deS0 hm hx V (Or.inr q) (zy_deS0 hm hx V (Or.inr q) ⟨rfl, zi_mk h rfl rfl⟩)
      · exact zx_deS1 hm hp hx V hi (zy_deS1 hm hp hx V hi ⟨rfl, zi_mk h rfl rfl⟩)
  · exact zx_de0b hm hx (Or.inr w2) (zy_de0b hm hx (Or.inr w2) ⟨rfl, zi_mk h rfl rfl⟩)

theorem i_vc_info {k : Nat} {u : SX} {v : SY} (I : i_Rel k u v) (hk : k + 4 ≤ 2052) (v1 : Int32) (v2 : Int32) : wpX_info (fun r => wpY_info (fun r' => r' = r ∧ i_Rel (k + 4) u v) v v1 v2) u v1 v2 := by
  refine zi_el (P := fun u v => wpX_info (fun r => wpY_info (fun r' => r' = r ∧ i_Rel (k + 4) u v) v v1 v2) u v1 v2) ?_ I
  intro m sy p hh bl N Z IL GL hd od pd nd nc kd ss sn ini fin il gl ba sL fL wL kM se fr re fo wo qL fLy sq fry ke h
  obtain ⟨⟨hm, hs, hp, h8, hb⟩, W, V, ⟨hI, hAI⟩, ⟨hG, hAG⟩, ⟨l1, l2, l3⟩, hld⟩ := h
  have h : zi_I m sy p hh bl N Z IL GL hd od pd nd nc ss sn il gl := ⟨⟨hm, hs, hp, h8, hb⟩, W, V, ⟨hI, hAI⟩, ⟨hG, hAG⟩, ⟨l1, l2, l3⟩, hld⟩
  have nn : ∀ {x : Nat} {o : Nat}, od x = some o → ¬ od x = none := fun a b => by rw [b] at a; exact nomatch a
  rcases pk_ix v1 (show m < 2 ^ 31 by omega) with q | q | ⟨x, hx, rfl⟩
  · exact zx_fo0 (Or.inl q) (zy_fo0 (Or.inl q) ⟨rfl, zi_mk h rfl rfl⟩)
  · exact zx_fo0 (Or.inr q) (zy_fo0 (Or.inr q) ⟨rfl, zi_mk h rfl rfl⟩)
  by_cases w0 : v2 < 0
  · exact zx_fo0b hm hx (Or.inl w0) (zy_fo0b hm hx (Or.inl w0) ⟨rfl, zi_mk h rfl rfl⟩)
  by_cases w3 : v2 ≤ 3
  · by_cases w01 : v2 = 0 ∨ v2 = 1
    · refine zx_fo01 hm hx w01 l2 hI hAI (fun e => ?_) (fun e o eo => ?_) (fun e no => ?_)
      · exact zy_fo01 hm hx w01 hI hAI hld (fun _ => ⟨rfl, zi_mk h rfl rfl⟩) (fun _ o n => absurd e (nn n)) (fun _ n => absurd e n)
      · refine zy_fo01 hm hx w01 hI hAI hld (fun n => absurd n (nn eo)) (fun _ o2 n => ?_) (fun n => ?_)
        · rw [eo] at n
          injection n with n
          subst n
          exact ⟨rfl, zi_mk h rfl rfl⟩
        · rw [e] at n
          exact absurd n (by decide)
      · refine zy_fo01 hm hx w01 hI hAI hld (fun n => absurd n no) (fun n => ?_) (fun _ _ => ⟨?_, zi_mk h rfl rfl⟩)
        · rw [e] at n
          exact absurd n (by decide)
        · exact (zr_k_in IL 0 (Classical.byContradiction (fun n => no ((hld x hx).mpr n)))).1
    · rcases zn_0123 w0 w3 with e | e | e | e
      · exact absurd (Or.inl e) w01
      · exact absurd (Or.inr e) w01
      · subst e
        exact zx_fo2 hm hx (zy_fo2 hm hx ⟨rfl, zi_mk h rfl rfl⟩)
      · subst e
        exact zx_fo3 hm hx (zy_fo3 hm hx ⟨rfl, zi_mk h rfl rfl⟩)
  · exact zx_fo0b hm hx (Or.inr w3) (zy_fo0b hm hx (Or.inr w3) ⟨rfl, zi_mk h rfl rfl⟩)

theorem i_vc0 (k0 : Int32) (k1 : Int32) (k2 : Int32) (k3 : Int32) : wpX_init (fun u => wpY_init (fun v => i_Rel 4 u v) k0 k1 k2 k3) k0 k1 k2 k3 := by
  refine zx_init (zy_init ?_)
  have b0 := zc_in k0 (lo := 2) (hi := 12) (by omega) (by omega)
  have b1 := zc_in k1 (lo := 1) (hi := 12) (by omega) (by omega)
  have b2 := zc_in k2 (lo := 1) (hi := 4) (by omega) (by omega)
  have b3 := zc_in k3 (lo := 1) (hi := 8) (by omega) (by omega)
  rw [zc_PU]
  refine zi_mk (bl := 0) (N := fun _ => []) (Z := fun _ => []) (IL := []) (GL := []) ⟨⟨by omega, by omega, by omega, by omega, by omega⟩, fun x hx => ⟨rfl, zl_A_nil, zl_ok_one hx⟩, fun x hx => ⟨rfl, zl_A_nil, Nat.zero_le _, fun s hs => nomatch hs⟩, ⟨zl_ok_nil, zl_A_nil⟩, ⟨zl_ok_nil, zl_A_nil⟩, ⟨?_, ?_, ?_⟩, ?_⟩ rfl rfl
  · intro j hj y e
    rw [zo_U_in (List.mem_range.mpr hj)] at e
    exact nomatch e
  · intro j hj y e
    rw [zo_U_in (List.mem_range.mpr hj)] at e
    exact nomatch e
  · intro j hj y e
    rw [← zc_PU, zo_U_in (List.mem_range.mpr hj)] at e
    exact nomatch e
  · intro x hx
    rw [zo_U_in (List.mem_range.mpr (by omega))]
    exact ⟨fun _ => List.not_mem_nil, fun _ => rfl⟩
end
