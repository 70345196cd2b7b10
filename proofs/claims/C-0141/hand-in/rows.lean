section
/-! rows of the kit, pasted (pk_), then numbers of my own (zb_) -/
theorem pk_us {f : Nat → Int32} {k : Nat} {x : Int32} : upd f k x k = x := if_pos rfl
theorem pk_un {f : Nat → Int32} {k j : Nat} {x : Int32} (h : j ≠ k) : upd f k x j = f j := if_neg h
theorem pk_sub {a b : Nat} (h : b ≤ a) : nI a - nI b = nI (a - b) := by
  obtain ⟨c, rfl⟩ : ∃ c, a = c + b := ⟨a - b, by omega⟩
  rw [← nI_add, Int32.add_sub_cancel, Nat.add_sub_cancel]
theorem pk_m1 (n : Nat) : nI (n + 1) + (-1) = nI n := by
  rw [← nI_1, Int32.add_assoc, show (1 : Int32) + (-1) = 0 from rfl, Int32.add_zero]
theorem pk_mul (a b : Nat) : nI a * nI b = nI (a * b) := (Int32.ofNat_mul a b).symm
theorem pk_sub_toInt {a b : Nat} (ha : a < 2 ^ 30) (hb : b < 2 ^ 30) : (nI a - nI b).toInt = (a : Int) - b := by
  rw [Int32.toInt_sub, nI_toInt (by omega), nI_toInt (by omega)]
  exact Int.bmod_eq_of_le (by omega) (by omega)
theorem pk_le {x y : Int32} {A B : Prop} (a b : Nat) (f : a ≤ b → A) (g : b < a → B) (hx : x = nI a := by rfl) (hy : y = nI b := by rfl) (ha : a < 2 ^ 31 := by omega) (hb : b < 2 ^ 31 := by omega) : (x ≤ y → A) ∧ (¬ x ≤ y → B) := by
  subst hx hy
  rw [nI_leI ha hb]
  exact ⟨f, fun z => g (by omega)⟩
theorem pk_lt {x y : Int32} {A B : Prop} (a b : Nat) (f : a < b → A) (g : b ≤ a → B) (hx : x = nI a := by rfl) (hy : y = nI b := by rfl) (ha : a < 2 ^ 31 := by omega) (hb : b < 2 ^ 31 := by omega) : (x < y → A) ∧ (¬ x < y → B) := by
  subst hx hy
  rw [nI_ltI ha hb]
  exact ⟨f, fun z => g (by omega)⟩
theorem pk_eq {x y : Int32} {A B : Prop} (a b : Nat) (f : a = b → A) (g : a ≠ b → B) (hx : x = nI a := by rfl) (hy : y = nI b := by rfl) (ha : a < 2 ^ 31 := by omega) (hb : b < 2 ^ 31 := by omega) : (x = y → A) ∧ (¬ x = y → B) := by
  subst hx hy
  rw [nI_eq ha hb]
  exact ⟨f, g⟩
theorem pk_in {x : Int32} (n N : Nat) (h : n < N) (hx : x = nI n := by rfl) (hN : N < 2 ^ 31 := by omega) : vp_in x N := by
  subst hx
  exact vp_in_nI h hN
theorem pk_cl {x : Int32} (n : Nat) (hx : x = nI n := by rfl) (h : n < 2 ^ 31 := by omega) : x.toNatClampNeg = n := by
  subst hx
  exact nI_clamp h
theorem zb_pm (m : Nat) : nI m + (-1) = nI m - 1 := (Int32.sub_eq_add_neg (a := nI m) (b := 1)).symm
theorem zb_ltm {m p : Nat} (hm : m < 2 ^ 30) (hp : p < 2 ^ 30) : (nI m - 1 < nI p) ↔ m ≤ p := by
  have e : (nI m - 1).toInt = (m : Int) - 1 := pk_sub_toInt (b := 1) hm (by omega)
  rw [Int32.lt_iff_toInt_lt, e, nI_toInt (by omega)]
  omega
theorem zb_lem0 {m : Nat} (hm : m < 2 ^ 30) : (nI m - 1 ≤ 0) ↔ m ≤ 1 := by
  have e : (nI m - 1).toInt = (m : Int) - 1 := pk_sub_toInt (b := 1) hm (by omega)
  rw [Int32.le_iff_toInt_le, e, show (0 : Int32).toInt = 0 from by decide]
  omega
theorem zb_64 {n : Nat} (h : n ≤ 64) : (64 : Int32) - nI n = nI (64 - n) := pk_sub (a := 64) h
theorem zb_a64 (q : Nat) : nI q + 64 = nI (q + 64) := nI_add q 64
theorem zb_ne {a b : Nat} (h : a ≠ b) (ha : a < 2 ^ 31) (hb : b < 2 ^ 31) : ¬ nI a = nI b := fun e => h ((nI_eq ha hb).mp e)
/-- a flag -/
def zb_fl (b : Bool) : Int32 := if b = true then 1 else 0
theorem zb_fl1 : zb_fl true = 1 := rfl
theorem zb_fl0 : zb_fl false = 0 := rfl
theorem zb_10 : ¬ (1 : Int32) = 0 := by decide
end
section
/-! runs as lists of (size, look): pure -/
def ru_tl : List (Nat × Int32) → Nat
  | [] => 0
  | x :: L => x.1 + ru_tl L
def ru_ex : List (Nat × Int32) → Nat → Int32
  | [], _ => 0
  | x :: L, q => if q < x.1 then x.2 else ru_ex L (q - x.1)
def ru_tk : List (Nat × Int32) → Nat → List (Nat × Int32)
  | [], _ => []
  | x :: L, p => if p = 0 then [] else if p < x.1 then [(p, x.2)] else x :: ru_tk L (p - x.1)
def ru_dp : List (Nat × Int32) → Nat → List (Nat × Int32)
  | [], _ => []
  | x :: L, p => if p = 0 then x :: L else if p < x.1 then (x.1 - p, x.2) :: L else ru_dp L (p - x.1)
def ru_jc (x : Nat × Int32) : List (Nat × Int32) → List (Nat × Int32)
  | [] => [x]
  | y :: L => if y.2 = x.2 then (x.1 + y.1, x.2) :: L else x :: y :: L
def ru_ps (L : List (Nat × Int32)) : Prop := ∀ x, x ∈ L → 1 ≤ x.1
def ru_cn : List (Nat × Int32) → Prop
  | [] => True
  | x :: L => (∀ y, L.head? = some y → y.2 ≠ x.2) ∧ ru_cn L
def ru_F (sz lk : Nat → Int32) : Nat → List (Nat × Int32) → Prop
  | _, [] => True
  | o, x :: L => (sz o = nI x.1 ∧ lk o = x.2) ∧ ru_F sz lk (o + 1) L
theorem ru_tl_app (A B : List (Nat × Int32)) : ru_tl (A ++ B) = ru_tl A + ru_tl B := by
  induction A with
  | nil => simp [ru_tl]
  | cons x A ih => simp only [List.cons_append, ru_tl, ih]; omega
theorem ru_ex_lo {x : Nat × Int32} {L : List (Nat × Int32)} {q : Nat} (h : q < x.1) : ru_ex (x :: L) q = x.2 := if_pos h
theorem ru_ex_hi {x : Nat × Int32} {L : List (Nat × Int32)} {q : Nat} (h : ¬ q < x.1) : ru_ex (x :: L) q = ru_ex L (q - x.1) := if_neg h
theorem ru_ex_app (A B : List (Nat × Int32)) (q : Nat) : ru_ex (A ++ B) q = if q < ru_tl A then ru_ex A q else ru_ex B (q - ru_tl A) := by
  induction A generalizing q with
  | nil => simp [ru_tl]
  | cons x A ih =>
    have e : ru_tl (x :: A) = x.1 + ru_tl A := rfl
    rw [List.cons_append, e]
    by_cases h : q < x.1
    · rw [ru_ex_lo h, if_pos (by omega), ru_ex_lo h]
    · rw [ru_ex_hi h, ih]
      by_cases h2 : q - x.1 < ru_tl A
      · rw [if_pos h2, if_pos (by omega), ru_ex_hi h]
      · rw [if_neg h2, if_neg (by omega), Nat.sub_sub]
theorem ru_ps_c {x : Nat × Int32} {L : List (Nat × Int32)} (h : ru_ps (x :: L)) : 1 ≤ x.1 ∧ ru_ps L :=
  ⟨h x List.mem_cons_self, fun y hy => h y (List.mem_cons_of_mem _ hy)⟩
theorem ru_ps_mk {x : Nat × Int32} {L : List (Nat × Int32)} (h : 1 ≤ x.1) (hL : ru_ps L) : ru_ps (x :: L) := by
  intro y hy
  rcases List.mem_cons.mp hy with e | m
  · rw [e]; exact h
  · exact hL y m
theorem ru_ps_nil : ru_ps [] := fun x hx => nomatch hx
theorem ru_ps_app {A B : List (Nat × Int32)} : ru_ps (A ++ B) ↔ ru_ps A ∧ ru_ps B := by
  constructor
  · intro h
    exact ⟨fun x hx => h x (List.mem_append.mpr (Or.inl hx)), fun x hx => h x (List.mem_append.mpr (Or.inr hx))⟩
  · intro h x hx
    rcases List.mem_append.mp hx with a | b
    · exact h.1 x a
    · exact h.2 x b
theorem ru_len {L : List (Nat × Int32)} (h : ru_ps L) : L.length ≤ ru_tl L := by
  induction L with
  | nil => exact Nat.le_refl _
  | cons x L ih =>
    have h1 := ru_ps_c h
    have h2 := ih h1.2
    simp only [List.length_cons, ru_tl]
    omega
theorem ru_tkdp_tl (L : List (Nat × Int32)) (p : Nat) : ru_tl (ru_tk L p) + ru_tl (ru_dp L p) = ru_tl L := by
  induction L generalizing p with
  | nil => rfl
  | cons x L ih =>
    simp only [ru_tk, ru_dp]
    by_cases h0 : p = 0
    · rw [if_pos h0, if_pos h0]; simp [ru_tl]
    · rw [if_neg h0, if_neg h0]
      by_cases h1 : p < x.1
      · rw [if_pos h1, if_pos h1]; simp only [ru_tl]; omega
      · rw [if_neg h1, if_neg h1]; simp only [ru_tl]; have := ih (p - x.1); omega
theorem ru_tk_tl {L : List (Nat × Int32)} {p : Nat} (h : p ≤ ru_tl L) : ru_tl (ru_tk L p) = p := by
  induction L generalizing p with
  | nil => simp only [ru_tl] at h; simp only [ru_tk, ru_tl]; omega
  | cons x L ih =>
    simp only [ru_tl] at h
    simp only [ru_tk]
    by_cases h0 : p = 0
    · rw [if_pos h0, h0]; rfl
    · rw [if_neg h0]
      by_cases h1 : p < x.1
      · rw [if_pos h1]; rfl
      · rw [if_neg h1]; simp only [ru_tl]; have := ih (p := p - x.1) (by omega); omega
theorem ru_tkdp_ex (L : List (Nat × Int32)) (p q : Nat) : ru_ex (ru_tk L p ++ ru_dp L p) q = ru_ex L q := by
  induction L generalizing p q with
  | nil => rfl
  | cons x L ih =>
    simp only [ru_tk, ru_dp]
    by_cases h0 : p = 0
    · rw [if_pos h0, if_pos h0]; rfl
    · rw [if_neg h0, if_neg h0]
      by_cases h1 : p < x.1
      · rw [if_pos h1, if_pos h1]
        simp only [List.cons_append, List.nil_append, ru_ex]
        by_cases h2 : q < p
        · rw [if_pos h2, if_pos (by omega)]
        · rw [if_neg h2]
          by_cases h3 : q < x.1
          · rw [if_pos (by omega), if_pos h3]
          · rw [if_neg (by omega), if_neg h3, show q - p - (x.1 - p) = q - x.1 from by omega]
      · rw [if_neg h1, if_neg h1]
        simp only [List.cons_append, ru_ex, ih]
theorem ru_tk_ps {L : List (Nat × Int32)} (h : ru_ps L) (p : Nat) : ru_ps (ru_tk L p) := by
  induction L generalizing p with
  | nil => exact h
  | cons x L ih =>
    have hc := ru_ps_c h
    simp only [ru_tk]
    by_cases h0 : p = 0
    · rw [if_pos h0]; exact ru_ps_nil
    · rw [if_neg h0]
      by_cases h1 : p < x.1
      · rw [if_pos h1]; exact ru_ps_mk (show 1 ≤ p by omega) ru_ps_nil
      · rw [if_neg h1]; exact ru_ps_mk hc.1 (ih hc.2 _)
theorem ru_dp_ps {L : List (Nat × Int32)} (h : ru_ps L) (p : Nat) : ru_ps (ru_dp L p) := by
  induction L generalizing p with
  | nil => exact h
  | cons x L ih =>
    have hc := ru_ps_c h
    simp only [ru_dp]
    by_cases h0 : p = 0
    · rw [if_pos h0]; exact h
    · rw [if_neg h0]
      by_cases h1 : p < x.1
      · rw [if_pos h1]; exact ru_ps_mk (show 1 ≤ x.1 - p by omega) hc.2
      · rw [if_neg h1]; exact ih hc.2 _
theorem ru_tk_0 (L : List (Nat × Int32)) : ru_tk L 0 = [] := by
  cases L with
  | nil => rfl
  | cons x L => simp only [ru_tk, if_true]
theorem ru_dp_0 (L : List (Nat × Int32)) : ru_dp L 0 = L := by
  cases L with
  | nil => rfl
  | cons x L => simp only [ru_dp, if_true]
theorem ru_tk_app {A : List (Nat × Int32)} (hA : ru_ps A) (B : List (Nat × Int32)) (d : Nat) : ru_tk (A ++ B) (ru_tl A + d) = A ++ ru_tk B d := by
  induction A with
  | nil => simp only [List.nil_append, ru_tl, Nat.zero_add]
  | cons x A ih =>
    have hc := ru_ps_c hA
    simp only [List.cons_append, ru_tk, ru_tl]
    rw [if_neg (by omega), if_neg (by omega), show x.1 + ru_tl A + d - x.1 = ru_tl A + d from by omega, ih hc.2]
theorem ru_dp_app {A : List (Nat × Int32)} (hA : ru_ps A) (B : List (Nat × Int32)) (d : Nat) : ru_dp (A ++ B) (ru_tl A + d) = ru_dp B d := by
  induction A with
  | nil => simp only [List.nil_append, ru_tl, Nat.zero_add]
  | cons x A ih =>
    have hc := ru_ps_c hA
    simp only [List.cons_append, ru_dp, ru_tl]
    rw [if_neg (by omega), if_neg (by omega), show x.1 + ru_tl A + d - x.1 = ru_tl A + d from by omega, ih hc.2]
theorem ru_tk_in {A : List (Nat × Int32)} (B : List (Nat × Int32)) {i : Nat} (h : i ≤ ru_tl A) : ru_tk (A ++ B) i = ru_tk A i := by
  induction A generalizing i with
  | nil =>
    simp only [ru_tl] at h
    obtain rfl : i = 0 := by omega
    exact ru_tk_0 _
  | cons x A ih =>
    simp only [ru_tl] at h
    simp only [List.cons_append, ru_tk]
    by_cases h0 : i = 0
    · rw [if_pos h0, if_pos h0]
    · rw [if_neg h0, if_neg h0]
      by_cases h1 : i < x.1
      · rw [if_pos h1, if_pos h1]
      · rw [if_neg h1, if_neg h1, ih (by omega)]
theorem ru_dp_in {A : List (Nat × Int32)} (B : List (Nat × Int32)) {i : Nat} (h : i ≤ ru_tl A) : ru_dp (A ++ B) i = ru_dp A i ++ B := by
  induction A generalizing i with
  | nil =>
    simp only [ru_tl] at h
    obtain rfl : i = 0 := by omega
    exact ru_dp_0 _
  | cons x A ih =>
    simp only [ru_tl] at h
    simp only [List.cons_append, ru_dp]
    by_cases h0 : i = 0
    · rw [if_pos h0, if_pos h0]; rfl
    · rw [if_neg h0, if_neg h0]
      by_cases h1 : i < x.1
      · rw [if_pos h1, if_pos h1]; rfl
      · rw [if_neg h1, if_neg h1, ih (by omega)]
theorem ru_ex_tk {L : List (Nat × Int32)} {p q : Nat} (hp : p ≤ ru_tl L) (hq : q < p) : ru_ex (ru_tk L p) q = ru_ex L q := by
  have h := ru_tkdp_ex L p q
  rw [ru_ex_app, ru_tk_tl hp, if_pos hq] at h
  exact h
theorem ru_ex_dp {L : List (Nat × Int32)} {p : Nat} (hp : p ≤ ru_tl L) (q : Nat) : ru_ex (ru_dp L p) q = ru_ex L (q + p) := by
  have h := ru_tkdp_ex L p (q + p)
  rw [ru_ex_app, ru_tk_tl hp, if_neg (by omega), Nat.add_sub_cancel] at h
  exact h
theorem ru_dp_tl {L : List (Nat × Int32)} {p : Nat} (h : p ≤ ru_tl L) : ru_tl (ru_dp L p) = ru_tl L - p := by
  have h1 := ru_tkdp_tl L p
  rw [ru_tk_tl h] at h1
  omega
theorem ru_jc_tl (x : Nat × Int32) (C : List (Nat × Int32)) : ru_tl (ru_jc x C) = x.1 + ru_tl C := by
  cases C with
  | nil => rfl
  | cons y L =>
    simp only [ru_jc]
    by_cases h : y.2 = x.2
    · rw [if_pos h]; simp only [ru_tl]; omega
    · rw [if_neg h]; rfl
theorem ru_jc_ex (x : Nat × Int32) (C : List (Nat × Int32)) (q : Nat) : ru_ex (ru_jc x C) q = ru_ex (x :: C) q := by
  cases C with
  | nil => rfl
  | cons y L =>
    simp only [ru_jc]
    by_cases h : y.2 = x.2
    · rw [if_pos h]
      simp only [ru_ex]
      by_cases h1 : q < x.1
      · rw [if_pos h1, if_pos (by omega)]
      · rw [if_neg h1]
        by_cases h2 : q - x.1 < y.1
        · rw [if_pos h2, if_pos (by omega), h]
        · rw [if_neg h2, if_neg (by omega), Nat.sub_sub]
    · rw [if_neg h]
theorem ru_jc_ps {x : Nat × Int32} {C : List (Nat × Int32)} (hx : 1 ≤ x.1) (h : ru_ps C) : ru_ps (ru_jc x C) := by
  cases C with
  | nil => exact ru_ps_mk hx h
  | cons y L =>
    simp only [ru_jc]
    by_cases e : y.2 = x.2
    · rw [if_pos e]; exact ru_ps_mk (show 1 ≤ x.1 + y.1 by omega) (ru_ps_c h).2
    · rw [if_neg e]; exact ru_ps_mk hx h
theorem ru_jc_cn {x : Nat × Int32} {C : List (Nat × Int32)} (h : ru_cn C) : ru_cn (ru_jc x C) := by
  cases C with
  | nil => exact ⟨fun y hy => (nomatch hy), trivial⟩
  | cons y L =>
    simp only [ru_jc]
    by_cases e : y.2 = x.2
    · rw [if_pos e]
      refine ⟨fun z hz => ?_, h.2⟩
      have := h.1 z hz
      rw [e] at this
      exact this
    · rw [if_neg e]
      refine ⟨fun z hz => ?_, h⟩
      simp only [List.head?_cons, Option.some.injEq] at hz
      rw [← hz]
      exact e
theorem ru_fj_tl (A C : List (Nat × Int32)) : ru_tl (A.foldr ru_jc C) = ru_tl A + ru_tl C := by
  induction A with
  | nil => simp [ru_tl]
  | cons x A ih => simp only [List.foldr_cons, ru_jc_tl, ih, ru_tl]; omega
theorem ru_fj_ex (A C : List (Nat × Int32)) (q : Nat) : ru_ex (A.foldr ru_jc C) q = ru_ex (A ++ C) q := by
  induction A generalizing q with
  | nil => rfl
  | cons x A ih => simp only [List.foldr_cons, ru_jc_ex, List.cons_append, ru_ex, ih]
theorem ru_fj_ps {A C : List (Nat × Int32)} (hA : ru_ps A) (hC : ru_ps C) : ru_ps (A.foldr ru_jc C) := by
  induction A with
  | nil => exact hC
  | cons x A ih => exact ru_jc_ps (ru_ps_c hA).1 (ih (ru_ps_c hA).2)
theorem ru_fj_cn {C : List (Nat × Int32)} (A : List (Nat × Int32)) (hC : ru_cn C) : ru_cn (A.foldr ru_jc C) := by
  induction A with
  | nil => exact hC
  | cons x A ih => exact ru_jc_cn ih
theorem ru_F_map {sz lk sz' lk' : Nat → Int32} : ∀ (L : List (Nat × Int32)) (o o' : Nat), ru_F sz lk o L → (∀ i, i < L.length → sz' (o' + i) = sz (o + i) ∧ lk' (o' + i) = lk (o + i)) → ru_F sz' lk' o' L := by
  intro L
  induction L with
  | nil => intro o o' _ _; trivial
  | cons x L ih =>
    intro o o' h e
    have e0 := e 0 (by simp)
    rw [Nat.add_zero, Nat.add_zero] at e0
    refine ⟨⟨e0.1.trans h.1.1, e0.2.trans h.1.2⟩, ih (o + 1) (o' + 1) h.2 fun i hi => ?_⟩
    have e1 := e (i + 1) (by simp only [List.length_cons]; omega)
    rw [show o' + 1 + i = o' + (i + 1) from by omega, show o + 1 + i = o + (i + 1) from by omega]
    exact e1
theorem ru_F_app {sz lk : Nat → Int32} {A B : List (Nat × Int32)} {o : Nat} : ru_F sz lk o (A ++ B) ↔ ru_F sz lk o A ∧ ru_F sz lk (o + A.length) B := by
  induction A generalizing o with
  | nil => exact ⟨fun h => ⟨trivial, h⟩, fun h => h.2⟩
  | cons x A ih =>
    have e : o + (x :: A).length = o + 1 + A.length := by simp only [List.length_cons]; omega
    rw [e]
    exact ⟨fun h => ⟨⟨h.1, (ih.mp h.2).1⟩, (ih.mp h.2).2⟩, fun h => ⟨h.1.1, ih.mpr ⟨h.1.2, h.2⟩⟩⟩
theorem ru_F_a0 {sz lk : Nat → Int32} {A B : List (Nat × Int32)} : ru_F sz lk 0 (A ++ B) ↔ ru_F sz lk 0 A ∧ ru_F sz lk A.length B := by
  have h := ru_F_app (sz := sz) (lk := lk) (A := A) (B := B) (o := 0)
  rw [Nat.zero_add] at h
  exact h
theorem ru_F_at {sz lk : Nat → Int32} {A B : List (Nat × Int32)} {x : Nat × Int32} (h : ru_F sz lk 0 (A ++ x :: B)) : sz A.length = nI x.1 ∧ lk A.length = x.2 := (ru_F_a0.mp h).2.1
def ru_up (r c : Nat) (a : Nat → Int32) : Nat → Int32 := fun i => if r < i ∧ i ≤ c then a (i - 1) else a i
def ru_dn (r c : Nat) (a : Nat → Int32) : Nat → Int32 := fun i => if r ≤ i ∧ i < c then a (i + 1) else a i
theorem ru_up_t {r c i : Nat} {a : Nat → Int32} (h : r < i ∧ i ≤ c) : ru_up r c a i = a (i - 1) := if_pos h
theorem ru_up_f {r c i : Nat} {a : Nat → Int32} (h : ¬ (r < i ∧ i ≤ c)) : ru_up r c a i = a i := if_neg h
theorem ru_dn_t {r c i : Nat} {a : Nat → Int32} (h : r ≤ i ∧ i < c) : ru_dn r c a i = a (i + 1) := if_pos h
theorem ru_dn_f {r c i : Nat} {a : Nat → Int32} (h : ¬ (r ≤ i ∧ i < c)) : ru_dn r c a i = a i := if_neg h
theorem ru_up_0 (c : Nat) (a : Nat → Int32) : ru_up c c a = a := by
  funext i
  exact ru_up_f (by omega)
theorem ru_up_s {r c : Nat} (h : r + 1 ≤ c) (a : Nat → Int32) : upd (ru_up (r + 1) c a) (r + 1) (ru_up (r + 1) c a r) = ru_up r c a := by
  funext i
  by_cases e : i = r + 1
  · subst e
    rw [pk_us, ru_up_f (by omega), ru_up_t (by omega), Nat.add_sub_cancel]
  · rw [pk_un e]
    by_cases e2 : r < i ∧ i ≤ c
    · rw [ru_up_t (by omega), ru_up_t e2]
    · rw [ru_up_f (by omega), ru_up_f e2]
theorem ru_dn_0 (r : Nat) (a : Nat → Int32) : ru_dn r r a = a := by
  funext i
  exact ru_dn_f (by omega)
theorem ru_dn_s {r c : Nat} (h : r ≤ c) (a : Nat → Int32) : upd (ru_dn r c a) c (ru_dn r c a (c + 1)) = ru_dn r (c + 1) a := by
  funext i
  by_cases e : i = c
  · subst e
    rw [pk_us, ru_dn_f (by omega), ru_dn_t (by omega)]
  · rw [pk_un e]
    by_cases e2 : r ≤ i ∧ i < c
    · rw [ru_dn_t e2, ru_dn_t (by omega)]
    · rw [ru_dn_f e2, ru_dn_f (by omega)]
theorem ru_F_ins {sz lk : Nat → Int32} {A B : List (Nat × Int32)} {c : Nat} (x : Nat × Int32) (h : ru_F sz lk 0 (A ++ B)) (hc : c = A.length + B.length) : ru_F (upd (ru_up A.length c sz) A.length (nI x.1)) (upd (ru_up A.length c lk) A.length x.2) 0 (A ++ x :: B) := by
  obtain ⟨hA, hB⟩ := ru_F_a0.mp h
  refine ru_F_a0.mpr ⟨ru_F_map A 0 0 hA fun i hi => ?_, ⟨pk_us, pk_us⟩, ru_F_map B _ _ hB fun i hi => ?_⟩
  · rw [Nat.zero_add, pk_un (by omega), pk_un (by omega), ru_up_f (by omega), ru_up_f (by omega)]
    exact ⟨rfl, rfl⟩
  · rw [pk_un (by omega), pk_un (by omega), ru_up_t (by omega), ru_up_t (by omega), show A.length + 1 + i - 1 = A.length + i from by omega]
    exact ⟨rfl, rfl⟩
theorem ru_F_cut {sz lk : Nat → Int32} {A B : List (Nat × Int32)} {k d c : Nat} {s : Int32} (h : ru_F sz lk 0 (A ++ (k, s) :: B)) (hc : c = A.length + B.length + 1) : ru_F (upd (upd (ru_up A.length c sz) A.length (nI d)) (A.length + 1) (nI (k - d))) (ru_up A.length c lk) 0 (A ++ (d, s) :: (k - d, s) :: B) := by
  obtain ⟨hA, hx, hB⟩ := ru_F_a0.mp h
  refine ru_F_a0.mpr ⟨ru_F_map A 0 0 hA fun i hi => ?_, ⟨?_, ?_⟩, ⟨pk_us, ?_⟩, ru_F_map B _ _ hB fun i hi => ?_⟩
  · rw [Nat.zero_add, pk_un (by omega), pk_un (by omega), ru_up_f (by omega), ru_up_f (by omega)]
    exact ⟨rfl, rfl⟩
  · rw [pk_un (by omega), pk_us]
  · rw [ru_up_f (by omega)]; exact hx.2
  · rw [ru_up_t (by omega), Nat.add_sub_cancel]; exact hx.2
  · rw [pk_un (by omega), pk_un (by omega), ru_up_t (by omega), ru_up_t (by omega), show A.length + 1 + 1 + i - 1 = A.length + 1 + i from by omega]
    exact ⟨rfl, rfl⟩
theorem ru_F_close {sz lk : Nat → Int32} {A B : List (Nat × Int32)} {x : Nat × Int32} {c : Nat} (h : ru_F sz lk 0 (A ++ x :: B)) (hc : c = A.length + B.length) : ru_F (ru_dn A.length c sz) (ru_dn A.length c lk) 0 (A ++ B) := by
  obtain ⟨hA, hx, hB⟩ := ru_F_a0.mp h
  refine ru_F_a0.mpr ⟨ru_F_map A 0 0 hA fun i hi => ?_, ru_F_map B _ _ hB fun i hi => ?_⟩
  · rw [Nat.zero_add, ru_dn_f (by omega), ru_dn_f (by omega)]
    exact ⟨rfl, rfl⟩
  · rw [ru_dn_t (by omega), ru_dn_t (by omega), show A.length + 1 + i = A.length + i + 1 from by omega]
    exact ⟨rfl, rfl⟩
theorem ru_F_set {sz lk : Nat → Int32} {A B : List (Nat × Int32)} {x : Nat × Int32} (k : Nat) (h : ru_F sz lk 0 (A ++ x :: B)) : ru_F (upd sz A.length (nI k)) lk 0 (A ++ (k, x.2) :: B) := by
  obtain ⟨hA, hx, hB⟩ := ru_F_a0.mp h
  refine ru_F_a0.mpr ⟨ru_F_map A 0 0 hA fun i hi => ?_, ⟨pk_us, hx.2⟩, ru_F_map B _ _ hB fun i hi => ?_⟩
  · rw [Nat.zero_add, pk_un (by omega)]
    exact ⟨rfl, rfl⟩
  · rw [pk_un (by omega)]
    exact ⟨rfl, rfl⟩
theorem ru_F_setl {sz lk : Nat → Int32} {A B : List (Nat × Int32)} {x : Nat × Int32} (v : Int32) (h : ru_F sz lk 0 (A ++ x :: B)) : ru_F sz (upd lk A.length v) 0 (A ++ (x.1, v) :: B) := by
  obtain ⟨hA, hx, hB⟩ := ru_F_a0.mp h
  refine ru_F_a0.mpr ⟨ru_F_map A 0 0 hA fun i hi => ?_, ⟨hx.1, pk_us⟩, ru_F_map B _ _ hB fun i hi => ?_⟩
  · rw [Nat.zero_add, pk_un (by omega)]
    exact ⟨rfl, rfl⟩
  · rw [pk_un (by omega)]
    exact ⟨rfl, rfl⟩
theorem ru_F_join {sz lk : Nat → Int32} {A B : List (Nat × Int32)} {x y : Nat × Int32} {c : Nat} (h : ru_F sz lk 0 (A ++ x :: y :: B)) (hc : c = A.length + 1 + B.length) : ru_F (ru_dn (A.length + 1) c (upd sz A.length (nI (x.1 + y.1)))) (ru_dn (A.length + 1) c lk) 0 (A ++ (x.1 + y.1, x.2) :: B) := by
  have h1 := ru_F_set (x.1 + y.1) h
  have e : A ++ (x.1 + y.1, x.2) :: y :: B = (A ++ [(x.1 + y.1, x.2)]) ++ y :: B := by simp
  have e2 : A ++ (x.1 + y.1, x.2) :: B = (A ++ [(x.1 + y.1, x.2)]) ++ B := by simp
  have e3 : (A ++ [(x.1 + y.1, x.2)]).length = A.length + 1 := by simp
  rw [e] at h1
  rw [e2]
  have h2 := ru_F_close (c := c) h1 (by rw [e3]; exact hc)
  rw [e3] at h2
  exact h2
end
section
/-! letters in a buffer with a gap -/
def xt_ix (n g q : Nat) : Nat := if q < g then q else q + (64 - n)
def xt_R (n : Nat) (T : Nat → Int32) (g : Nat) (ce : Nat → Int32) : Prop := g ≤ n ∧ n ≤ 64 ∧ ∀ q, q < n → ce (xt_ix n g q) = T q
def xt_ins (T : Nat → Int32) (p k : Nat) (H : Nat → Int32) : Nat → Int32 := fun q => if q < p then T q else if q < p + k then H (q - p) else T (q - k)
def xt_del (T : Nat → Int32) (i j : Nat) : Nat → Int32 := fun q => if q < i then T q else T (q + (j - i))
theorem xt_ix_t {n g q : Nat} (h : q < g) : xt_ix n g q = q := if_pos h
theorem xt_ix_f {n g q : Nat} (h : ¬ q < g) : xt_ix n g q = q + (64 - n) := if_neg h
theorem xt_ins_1 {T H : Nat → Int32} {p k q : Nat} (h : q < p) : xt_ins T p k H q = T q := if_pos h
theorem xt_ins_2 {T H : Nat → Int32} {p k q : Nat} (h : p ≤ q) (h2 : q < p + k) : xt_ins T p k H q = H (q - p) := by
  unfold xt_ins
  rw [if_neg (by omega), if_pos h2]
theorem xt_ins_3 {T H : Nat → Int32} {p k q : Nat} (h2 : p + k ≤ q) : xt_ins T p k H q = T (q - k) := by
  unfold xt_ins
  rw [if_neg (by omega), if_neg (by omega)]
theorem xt_del_1 {T : Nat → Int32} {i j q : Nat} (h : q < i) : xt_del T i j q = T q := if_pos h
theorem xt_del_2 {T : Nat → Int32} {i j q : Nat} (h : i ≤ q) : xt_del T i j q = T (q + (j - i)) := if_neg (by omega)
theorem xt_ins_0 {T H : Nat → Int32} {p : Nat} (q : Nat) : xt_ins T p 0 H q = T q := by
  by_cases h : q < p
  · exact xt_ins_1 h
  · exact xt_ins_3 (by omega)
/-- one more behind those put in -/
theorem xt_ins_s {T H H' : Nat → Int32} {p m k : Nat} (hH : ∀ x, x < k → H' x = H (m + x)) (q : Nat) : xt_ins (xt_ins T p m H) (p + m) k H' q = xt_ins T p (m + k) H q := by
  by_cases h1 : q < p
  · rw [xt_ins_1 (by omega), xt_ins_1 h1, xt_ins_1 h1]
  · by_cases h2 : q < p + m
    · rw [xt_ins_1 h2, xt_ins_2 (by omega) h2, xt_ins_2 (by omega) (by omega)]
    · by_cases h3 : q < p + m + k
      · rw [xt_ins_2 (by omega) h3, xt_ins_2 (by omega) (by omega), hH _ (by omega), show m + (q - (p + m)) = q - p from by omega]
      · rw [xt_ins_3 (by omega), xt_ins_3 (by omega), xt_ins_3 (by omega), show q - k - m = q - (m + k) from by omega]
/-- the same letter once more ahead of them -/
theorem xt_ins_c {T : Nat → Int32} {p m : Nat} {c : Int32} (q : Nat) : xt_ins (xt_ins T p m (fun _ => c)) p 1 (fun _ => c) q = xt_ins T p (m + 1) (fun _ => c) q := by
  by_cases h1 : q < p
  · rw [xt_ins_1 h1, xt_ins_1 h1, xt_ins_1 h1]
  · by_cases h2 : q < p + 1
    · rw [xt_ins_2 (by omega) h2, xt_ins_2 (by omega) (by omega)]
    · rw [xt_ins_3 (by omega)]
      by_cases h3 : q < p + (m + 1)
      · rw [xt_ins_2 (by omega) (by omega), xt_ins_2 (by omega) h3]
      · rw [xt_ins_3 (by omega), xt_ins_3 (by omega), show q - 1 - m = q - (m + 1) from by omega]
theorem xt_eq {n g : Nat} {T T' ce : Nat → Int32} (h : xt_R n T g ce) (e : ∀ q, q < n → T q = T' q) : xt_R n T' g ce :=
  ⟨h.1, h.2.1, fun q hq => (h.2.2 q hq).trans (e q hq)⟩
theorem xt_dn {n m : Nat} {T ce : Nat → Int32} (h : xt_R n T (m + 1) ce) : xt_R n T m (upd ce (m + (64 - n)) (ce m)) := by
  obtain ⟨a, b, c⟩ := h
  refine ⟨by omega, b, fun q hq => ?_⟩
  have e := c q hq
  by_cases h1 : q < m
  · rw [xt_ix_t (by omega)] at e
    rw [xt_ix_t h1, pk_un (by omega)]
    exact e
  · rw [xt_ix_f h1]
    by_cases h2 : q = m
    · subst h2
      rw [xt_ix_t (by omega)] at e
      rw [pk_us]
      exact e
    · rw [xt_ix_f (by omega)] at e
      rw [pk_un (by omega)]
      exact e
theorem xt_up {n m : Nat} {T ce : Nat → Int32} (h : xt_R n T m ce) (hm : m < n) : xt_R n T (m + 1) (upd ce m (ce (m + (64 - n)))) := by
  obtain ⟨a, b, c⟩ := h
  refine ⟨by omega, b, fun q hq => ?_⟩
  have e := c q hq
  by_cases h1 : q < m
  · rw [xt_ix_t h1] at e
    rw [xt_ix_t (by omega), pk_un (by omega)]
    exact e
  · rw [xt_ix_f h1] at e
    by_cases h2 : q = m
    · subst h2
      rw [xt_ix_t (by omega), pk_us]
      exact e
    · rw [xt_ix_f (by omega), pk_un (by omega)]
      exact e
section
variable {post : SX → Prop} {fn fg fc ff fh fb : Int32} {ce sz lk hl hs : Nat → Int32} {n p g i j : Nat} {T : Nat → Int32}
theorem xt_45 (hp : p ≤ n) (K : ∀ ce, xt_R n T p ce → post (nI n, nI p, fc, ff, fh, fb, ce, sz, lk, hl, hs)) : ∀ (d k : Nat) (ce : Nat → Int32), k + d = p → xt_R n T k ce → wX_moveGap_45 post (nI p) (nI (64 - n)) (nI n) fg fc ff fh fb (d + 1) (nI k) ce sz lk hl hs := by
  intro d
  induction d with
  | zero =>
    intro k ce hk h
    have hn := h.2.1
    obtain rfl : k = p := by omega
    exact br_t (nI_le (Nat.le_refl _) (by omega)) (K ce h)
  | succ d ih =>
    intro k ce hk h
    have hn := h.2.1
    refine br_f (nI_ge (by omega) (by omega)) ⟨?_, ?_, ?_⟩
    · rw [nI_add]; exact vp_in_nI (by omega) (by omega)
    · exact vp_in_nI (by omega) (by omega)
    · refine nm_r (e' := upd ce k (ce (k + (64 - n)))) ?_ (nm_r (nI_1 k) (ih (k + 1) _ (by omega) (xt_up h (by omega))))
      rw [nI_add, nI_clamp (by omega), nI_clamp (by omega)]
theorem xt_15 (hp : p ≤ g) (hg : g ≤ n) (K : ∀ ce, xt_R n T p ce → post (nI n, nI p, fc, ff, fh, fb, ce, sz, lk, hl, hs)) : ∀ (d m : Nat) (ce : Nat → Int32), m = p + d → xt_R n T m ce → wX_moveGap_15 post (nI p) (nI (64 - n)) (nI n) (nI g) fc ff fh fb (d + 1) (nI m - 1) ce sz lk hl hs := by
  intro d
  induction d with
  | zero =>
    intro m ce hm h
    have hn := h.2.1
    have hm2 := h.1
    obtain rfl : m = p := by omega
    exact br_t ((zb_ltm (by omega) (by omega)).mpr (by omega)) ⟨1, br_t (nI_le hp (by omega)) (K ce h)⟩
  | succ d ih =>
    intro m ce hm h
    have hn := h.2.1
    have hm2 := h.1
    obtain rfl : m = (p + d) + 1 := by omega
    rw [nI_pred]
    refine br_f (nI_nlt (by omega) (by omega)) ⟨vp_in_nI (by omega) (by omega), ?_, ?_⟩
    · rw [nI_add]; exact vp_in_nI (by omega) (by omega)
    · refine nm_r (e' := upd ce (p + d + (64 - n)) (ce (p + d))) ?_ (nm_r (zb_pm _) (ih (p + d) _ rfl (xt_dn h)))
      rw [nI_add, nI_clamp (by omega), nI_clamp (by omega)]
theorem xt_mg (h : xt_R n T g ce) (hp : p ≤ n) (K : ∀ ce, xt_R n T p ce → post (nI n, nI p, fc, ff, fh, fb, ce, sz, lk, hl, hs)) : wpX_moveGap post (nI n, nI g, fc, ff, fh, fb, ce, sz, lk, hl, hs) (nI p) := by
  have hn := h.2.1
  have hg := h.1
  refine nm_r (e' := nI (64 - n)) (zb_64 hn) (nm_e ?_)
  by_cases c : p ≤ g
  · exact ⟨g - p + 1, xt_15 c hg K (g - p) g ce (by omega) h⟩
  · exact ⟨1, br_t ((zb_ltm (by omega) (by omega)).mpr (by omega)) ⟨p - g + 1, xt_45 hp K (p - g) g ce (by omega) h⟩⟩
theorem xt_put {c : Int32} (h : xt_R n T g ce) (hp : p ≤ n) (hn : n < 64) (K : ∀ ce, xt_R (n + 1) (xt_ins T p 1 (fun _ => c)) (p + 1) ce → post (nI (n + 1), nI (p + 1), fc, ff, fh, fb, ce, sz, lk, hl, hs)) : wpX_putLetter post (nI n, nI g, fc, ff, fh, fb, ce, sz, lk, hl, hs) (nI p) c := by
  unfold wpX_putLetter
  refine xt_mg h hp fun ce h => ?_
  refine And.intro (vp_in_nI (by omega) (by omega)) ?_
  refine nm_r (e' := upd ce p c) (by rw [nI_clamp (by omega)]) (nm_r (nI_1 p) (nm_r (nI_1 n) (K _ ?_)))
  refine ⟨by omega, by omega, fun q hq => ?_⟩
  have hc := h.2.2
  by_cases h1 : q < p
  · have e := hc q (by omega)
    rw [xt_ix_t h1] at e
    rw [xt_ix_t (by omega), pk_un (by omega), xt_ins_1 h1]
    exact e
  · by_cases h2 : q = p
    · subst h2
      rw [xt_ix_t (by omega), pk_us, xt_ins_2 (by omega) (by omega)]
    · have e := hc (q - 1) (by omega)
      rw [xt_ix_f (by omega)] at e
      rw [xt_ix_f (by omega), pk_un (by omega), xt_ins_3 (by omega), show q + (64 - (n + 1)) = q - 1 + (64 - n) from by omega]
      exact e
theorem xt_drop (h : xt_R n T g ce) (hij : i ≤ j) (hj : j ≤ n) (K : ∀ ce, xt_R (n - (j - i)) (xt_del T i j) i ce → post (nI (n - (j - i)), nI i, fc, ff, fh, fb, ce, sz, lk, hl, hs)) : wpX_dropLetters post (nI n, nI g, fc, ff, fh, fb, ce, sz, lk, hl, hs) (nI i) (nI j) := by
  unfold wpX_dropLetters
  refine xt_mg h hj fun ce h => ?_
  refine nm_r (e' := nI (n - (j - i))) (by rw [pk_sub hij, pk_sub (by omega)]) (K _ ?_)
  have hn := h.2.1
  refine ⟨by omega, by omega, fun q hq => ?_⟩
  have hc := h.2.2
  by_cases h1 : q < i
  · have e := hc q (by omega)
    rw [xt_ix_t (by omega)] at e
    rw [xt_ix_t h1, xt_del_1 h1]
    exact e
  · have e := hc (q + (j - i)) (by omega)
    rw [xt_ix_f (by omega)] at e
    rw [xt_ix_f h1, xt_del_2 (by omega), show q + (64 - (n - (j - i))) = q + (j - i) + (64 - n) from by omega]
    exact e
theorem xt_of {post : Int32 → Prop} {q : Nat} (h : xt_R n T g ce) (hq : q < n) (K : xt_ix n g q < 64 → ce (xt_ix n g q) = T q → post (nI (xt_ix n g q))) : wpX_cellOf post (nI n, nI g, fc, ff, fh, fb, ce, sz, lk, hl, hs) (nI q) := by
  have hn := h.2.1
  have hg := h.1
  have e := h.2.2 q hq
  by_cases c : q < g
  · rw [xt_ix_t c] at K e
    exact br_f (nI_ge c (by omega)) (K (by omega) e)
  · rw [xt_ix_f c] at K e
    refine br_t (nI_le (by omega) (by omega)) ?_
    rw [zb_a64, pk_sub (by omega), show q + 64 - n = q + (64 - n) from by omega]
    exact K (by omega) e
theorem xt_wr {q : Nat} {v : Int32} (h : xt_R n T g ce) (hq : q < n) : xt_R n (upd T q v) g (upd ce (xt_ix n g q) v) := by
  obtain ⟨a, b, c⟩ := h
  refine ⟨a, b, fun r hr => ?_⟩
  by_cases e : r = q
  · subst e
    rw [pk_us, pk_us]
  · have ne : xt_ix n g r ≠ xt_ix n g q := by
      unfold xt_ix
      split <;> split <;> omega
    rw [pk_un ne, pk_un e]
    exact c r hr
end
end
section
/-! the walks over the runs -/
section
variable {fn fg fc ff fh fb : Int32} {ce sz lk hl hs : Nat → Int32} {L : List (Nat × Int32)} {p r c : Nat}
theorem xr_at9 {post : Int32 → SX → Prop} (hF : ru_F sz lk 0 L) (hL : L.length ≤ 68) (ht : ru_tl L < 2 ^ 20) (hp : p < 2 ^ 20) (K : ∀ A B : List (Nat × Int32), L = A ++ B → ru_tl A ≤ p → (∀ x B', B = x :: B' → p < ru_tl A + x.1) → post (nI A.length) (fn, fg, nI L.length, ff, fh, nI (ru_tl A), ce, sz, lk, hl, hs)) : ∀ B A : List (Nat × Int32), L = A ++ B → ru_tl A ≤ p → wX_runAt_9 post (nI p) fn fg (nI L.length) ff fh ce sz lk hl hs (B.length + 1) (nI A.length) (nI A.length) (nI (ru_tl A)) := by
  intro B
  induction B with
  | nil =>
    intro A e hA
    have hl : L.length = A.length := by rw [e, List.append_nil]
    exact br_t (nI_le (by omega) (by omega)) (K A [] e hA (fun x B' z => nomatch z))
  | cons x B ih =>
    intro A e hA
    have hl : A.length < L.length := by rw [e]; simp
    have hx := ru_F_at (A := A) (B := B) (x := x) (by rw [← e]; exact hF)
    have htl : ru_tl A + (x.1 + ru_tl B) = ru_tl L := by rw [e, ru_tl_app]; rfl
    have e1 : nI (ru_tl A) + sz (nI A.length).toNatClampNeg = nI (ru_tl A + x.1) := by rw [nI_clamp (by omega), hx.1, nI_add]
    refine br_f (nI_ge hl (by omega)) ⟨vp_in_nI (by omega) (by omega), ?_⟩
    rw [e1]
    refine pk_lt p (ru_tl A + x.1) (fun c => ?_) (fun c => ?_)
    · exact K A (x :: B) e hA (fun y B' z => by cases z; exact c)
    · refine ⟨vp_in_nI (by omega) (by omega), nm_e (nm_r (nI_1 _) (nm_r (nI_1 _) ?_))⟩
      have e2 : ru_tl (A ++ [x]) = ru_tl A + x.1 := by rw [ru_tl_app]; rfl
      have e3 : (A ++ [x]).length = A.length + 1 := by simp
      have h := ih (A ++ [x]) (by rw [e]; simp) (by omega)
      rw [e2, e3] at h
      exact h
theorem xr_at {post : Int32 → SX → Prop} (hF : ru_F sz lk 0 L) (hL : L.length ≤ 68) (ht : ru_tl L < 2 ^ 20) (hp : p < 2 ^ 20) (K : ∀ A B : List (Nat × Int32), L = A ++ B → ru_tl A ≤ p → (∀ x B', B = x :: B' → p < ru_tl A + x.1) → post (nI A.length) (fn, fg, nI L.length, ff, fh, nI (ru_tl A), ce, sz, lk, hl, hs)) : wpX_runAt post (fn, fg, nI L.length, ff, fh, fb, ce, sz, lk, hl, hs) (nI p) :=
  ⟨L.length + 1, xr_at9 hF hL ht hp K L [] rfl (Nat.zero_le _)⟩
theorem xr_op5 {post : SX → Prop} (hc : c < 68) (K : post (fn, fg, nI (c + 1), ff, fh, fb, ce, ru_up r c sz, ru_up r c lk, hl, hs)) : ∀ d k : Nat, k = r + d → k ≤ c → wX_openRun_5 post (nI r) fn fg (nI c) ff fh fb (d + 1) (nI k) ce (ru_up k c sz) (ru_up k c lk) hl hs := by
  intro d
  induction d with
  | zero =>
    intro k hk hkc
    obtain rfl : k = r := by omega
    exact br_t (nI_le (Nat.le_refl _) (by omega)) (nm_r (nI_1 c) K)
  | succ d ih =>
    intro k hk hkc
    obtain rfl : k = (r + d) + 1 := by omega
    refine br_f (nI_ge (by omega) (by omega)) ?_
    rw [nI_pred]
    refine ⟨vp_in_nI (by omega) (by omega), vp_in_nI (by omega) (by omega), nm_r (e' := ru_up (r + d) c sz) ?_ ⟨vp_in_nI (by omega) (by omega), vp_in_nI (by omega) (by omega), nm_r (e' := ru_up (r + d) c lk) ?_ (nm_r (pk_m1 _) (ih (r + d) rfl (by omega)))⟩⟩
    · rw [nI_clamp (by omega), nI_clamp (by omega), ru_up_s (by omega)]
    · rw [nI_clamp (by omega), nI_clamp (by omega), ru_up_s (by omega)]
theorem xr_op {post : SX → Prop} (hr : r ≤ c) (hc : c < 68) (K : post (fn, fg, nI (c + 1), ff, fh, fb, ce, ru_up r c sz, ru_up r c lk, hl, hs)) : wpX_openRun post (fn, fg, nI c, ff, fh, fb, ce, sz, lk, hl, hs) (nI r) := by
  have h := xr_op5 hc K (c - r) c (by omega) (Nat.le_refl _)
  rw [ru_up_0, ru_up_0] at h
  exact ⟨_, h⟩
theorem xr_cl12 {post : SX → Prop} (hc : c < 67) (K : post (fn, fg, nI c, ff, fh, fb, ce, ru_dn r c sz, ru_dn r c lk, hl, hs)) : ∀ d k : Nat, k + d = c → r ≤ k → wX_closeRun_12 post fn fg (nI c) ff fh fb (d + 1) (nI k) ce (ru_dn r k sz) (ru_dn r k lk) hl hs := by
  intro d
  induction d with
  | zero =>
    intro k hk hkc
    obtain rfl : k = c := by omega
    exact br_t (nI_le (Nat.le_refl _) (by omega)) K
  | succ d ih =>
    intro k hk hkc
    refine br_f (nI_ge (by omega) (by omega)) ?_
    rw [nI_1 k]
    refine ⟨vp_in_nI (by omega) (by omega), vp_in_nI (by omega) (by omega), nm_r (e' := ru_dn r (k + 1) sz) ?_ ⟨vp_in_nI (by omega) (by omega), vp_in_nI (by omega) (by omega), nm_r (e' := ru_dn r (k + 1) lk) ?_ (nm_e (ih (k + 1) (by omega) (by omega)))⟩⟩
    · rw [nI_clamp (by omega), nI_clamp (by omega), ru_dn_s (by omega)]
    · rw [nI_clamp (by omega), nI_clamp (by omega), ru_dn_s (by omega)]
theorem xr_cl {post : SX → Prop} (hr : r ≤ c) (hc : c < 67) (K : post (fn, fg, nI c, ff, fh, fb, ce, ru_dn r c sz, ru_dn r c lk, hl, hs)) : wpX_closeRun post (fn, fg, nI (c + 1), ff, fh, fb, ce, sz, lk, hl, hs) (nI r) := by
  have h := xr_cl12 hc K (c - r) r (by omega) (Nat.le_refl _)
  rw [ru_dn_0, ru_dn_0] at h
  exact nm_r (nI_pred c) ⟨_, h⟩
theorem xr_cut {post : Int32 → SX → Prop} (hF : ru_F sz lk 0 L) (hps : ru_ps L) (ht : ru_tl L ≤ 64) (hp : p ≤ ru_tl L) (K : ∀ (fb : Int32) (sz lk : Nat → Int32), ru_F sz lk 0 (ru_tk L p ++ ru_dp L p) → post (nI (ru_tk L p).length) (fn, fg, nI (ru_tk L p ++ ru_dp L p).length, ff, fh, fb, ce, sz, lk, hl, hs)) : wpX_cutAt post (fn, fg, nI L.length, ff, fh, fb, ce, sz, lk, hl, hs) (nI p) := by
  have hlen := ru_len hps
  unfold wpX_cutAt
  refine xr_at hF (by omega) (by omega) (by omega) fun A B e hA hB => ?_
  subst e
  obtain ⟨psA, psB⟩ := ru_ps_app.mp hps
  rw [ru_tl_app] at ht hp hlen
  by_cases c0 : p = ru_tl A
  · subst c0
    have e1 := ru_tk_app psA B 0
    have e2 := ru_dp_app psA B 0
    rw [ru_tk_0, List.append_nil, Nat.add_zero] at e1
    rw [ru_dp_0, Nat.add_zero] at e2
    rw [e1, e2] at K
    exact br_c (fun _ => K _ _ _ hF) (fun _ => br_t (nI_le (Nat.le_refl _) (by omega)) (K _ _ _ hF))
  · cases B with
    | nil => exact absurd (by simp only [ru_tl] at hp; omega) c0
    | cons x B =>
      obtain ⟨k, s⟩ := x
      have hk : p < ru_tl A + k := hB (k, s) B rfl
      obtain ⟨d, hd⟩ : ∃ d, p = ru_tl A + d := ⟨p - ru_tl A, by omega⟩
      subst hd
      have e1 : ru_tk (A ++ (k, s) :: B) (ru_tl A + d) = A ++ [(d, s)] := by
        rw [ru_tk_app psA]
        simp only [ru_tk]
        rw [if_neg (by omega), if_pos (by omega)]
      have e2 : ru_dp (A ++ (k, s) :: B) (ru_tl A + d) = (k - d, s) :: B := by
        rw [ru_dp_app psA]
        simp only [ru_dp]
        rw [if_neg (by omega), if_pos (by omega)]
      have e3 : (A ++ [(d, s)] ++ (k - d, s) :: B).length = (A ++ (k, s) :: B).length + 1 := by
        simp only [List.length_append, List.length_cons, List.length_nil]; omega
      have e4 : A ++ [(d, s)] ++ (k - d, s) :: B = A ++ (d, s) :: (k - d, s) :: B := by
        rw [List.append_assoc]; rfl
      have e5 : (A ++ [(d, s)]).length = A.length + 1 := by simp
      have e6 : (A ++ (k, s) :: B).length = A.length + B.length + 1 := by simp only [List.length_append, List.length_cons]; omega
      rw [e1, e2, e3, e4, e5] at K
      have hx := ru_F_at hF
      refine br_f (nI_ge (by omega) (by omega)) (br_f (nI_ge (by omega) (by simp only [ru_tl] at ht; omega)) ?_)
      refine xr_op (by omega) (by omega) ?_
      refine And.intro (vp_in_nI (by omega) (by omega)) (nm_r (e' := upd (ru_up A.length (A ++ (k, s) :: B).length sz) A.length (nI d)) ?_ ?_)
      · rw [nI_clamp (by omega), pk_sub (by omega), Nat.add_sub_cancel_left]
      · rw [nI_1 A.length]
        refine And.intro (vp_in_nI (by omega) (by omega)) (And.intro (vp_in_nI (by omega) (by omega)) (And.intro (vp_in_nI (by omega) (by omega)) (nm_r (e' := upd (upd (ru_up A.length (A ++ (k, s) :: B).length sz) A.length (nI d)) (A.length + 1) (nI (k - d))) ?_ (nm_e (K _ _ _ (ru_F_cut hF e6))))))
        rw [nI_clamp (by omega), nI_clamp (by omega), pk_us, pk_un (by omega), ru_up_t (by omega), Nat.add_sub_cancel, hx.1, pk_sub (by omega)]
theorem xr_jn7 {post : SX → Prop} : ∀ (a : Nat) (A C : List (Nat × Int32)) (sz lk : Nat → Int32), A.length = a → C ≠ [] → (A ++ C).length ≤ 67 → ru_F sz lk 0 (A ++ C) → (∀ sz lk : Nat → Int32, ru_F sz lk 0 (A.foldr ru_jc C) → post (fn, fg, nI (A.foldr ru_jc C).length, ff, fh, fb, ce, sz, lk, hl, hs)) → wX_joinRuns_7 post (a + 1) (nI a) fn fg (nI (A ++ C).length) ff fh fb ce sz lk hl hs := by
  intro a
  induction a with
  | zero =>
    intro A C sz lk hA hC hl hF K
    obtain rfl : A = [] := List.eq_nil_of_length_eq_zero hA
    exact br_t (nI_le (b := 0) (Nat.le_refl 0) (by decide)) (K sz lk hF)
  | succ a ih =>
    intro A C sz lk hA hC hl hF K
    obtain ⟨A, x, rfl⟩ : ∃ A' x, A = A' ++ [x] := ⟨_, _, (List.dropLast_concat_getLast (l := A) (fun z => by rw [z] at hA; cases hA)).symm⟩
    obtain ⟨y, C, rfl⟩ : ∃ y C', C = y :: C' := by
      cases C with
      | nil => exact absurd rfl hC
      | cons y C => exact ⟨y, C, rfl⟩
    have hA' : A.length = a := by simp only [List.length_append, List.length_cons, List.length_nil] at hA; omega
    have hy := ru_F_at hF
    rw [hA] at hy
    have eL : A ++ [x] ++ y :: C = A ++ x :: y :: C := by simp
    have eN : (A ++ x :: y :: C).length = (a + 1 + C.length) + 1 := by simp only [List.length_append, List.length_cons]; omega
    simp only [List.foldr_append, List.foldr_cons, List.foldr_nil] at K
    rw [eL] at hF hl ⊢
    have hx := ru_F_at hF
    rw [hA'] at hx
    refine br_f (nI_nle (by omega) (by omega)) ⟨vp_in_nI (by omega) (by omega), ?_⟩
    rw [nI_pred]
    refine ⟨vp_in_nI (by omega) (by omega), ?_⟩
    rw [nI_clamp (n := a + 1) (by omega), nI_clamp (n := a) (by omega), hy.2, hx.2, hy.1, hx.1, nI_add]
    refine br_c (fun e => ?_) (fun e => ?_)
    · refine ⟨vp_in_nI (by omega) (by omega), vp_in_nI (by omega) (by omega), vp_in_nI (by omega) (by omega), nm_e ?_⟩
      rw [eN]
      refine xr_cl (by omega) (by omega) ?_
      refine nm_r (pk_m1 a) ?_
      have ej : ru_jc x (y :: C) = (x.1 + y.1, x.2) :: C := if_pos e
      have eM : (A ++ (x.1 + y.1, x.2) :: C).length = a + 1 + C.length := by simp only [List.length_append, List.length_cons]; omega
      rw [ej] at K
      have hj := ru_F_join (c := a + 1 + C.length) hF (by omega)
      rw [hA'] at hj
      have h := ih A ((x.1 + y.1, x.2) :: C) _ _ hA' (by simp) (by omega) hj K
      rw [eM] at h
      exact h
    · have ej : ru_jc x (y :: C) = x :: y :: C := if_neg e
      rw [ej] at K
      exact nm_r (pk_m1 a) (ih A (x :: y :: C) sz lk hA' (by simp) hl hF K)
theorem xr_jn {post : SX → Prop} (hF : ru_F sz lk 0 L) (hL : L.length ≤ 67) (hps : ru_ps L) (K : ∀ (L' : List (Nat × Int32)) (sz lk : Nat → Int32), ru_F sz lk 0 L' → ru_tl L' = ru_tl L → (∀ q, ru_ex L' q = ru_ex L q) → ru_ps L' → ru_cn L' → post (fn, fg, nI L'.length, ff, fh, fb, ce, sz, lk, hl, hs)) : wpX_joinRuns post (fn, fg, nI L.length, ff, fh, fb, ce, sz, lk, hl, hs) := by
  by_cases h : L = []
  · subst h
    exact nm_e ⟨1, br_t ((zb_lem0 (m := 0) (by omega)).mpr (by omega)) (K [] sz lk hF rfl (fun _ => rfl) hps trivial)⟩
  · obtain ⟨A, x, rfl⟩ : ∃ A x, L = A ++ [x] := ⟨_, _, (List.dropLast_concat_getLast h).symm⟩
    have e : nI (A ++ [x]).length - 1 = nI A.length := by rw [show (A ++ [x]).length = A.length + 1 from by simp, nI_pred]
    refine nm_r e ⟨A.length + 1, xr_jn7 A.length A [x] sz lk rfl (by simp) hL hF fun sz lk h => K _ sz lk h ?_ ?_ ?_ ?_⟩
    · rw [ru_fj_tl, ru_tl_app]
    · intro q
      exact ru_fj_ex A [x] q
    · exact ru_fj_ps (ru_ps_app.mp hps).1 (ru_ps_app.mp hps).2
    · exact ru_fj_cn A ⟨fun y hy => (nomatch hy), trivial⟩
end
/-! the runs say what styles there are -/
def ru_D (n : Nat) (S : Nat → Int32) (fc : Int32) (sz lk : Nat → Int32) : Prop := ∃ L : List (Nat × Int32), fc = nI L.length ∧ ru_F sz lk 0 L ∧ ru_ps L ∧ ru_cn L ∧ ru_tl L = n ∧ ∀ q, q < n → ru_ex L q = S q
theorem ru_D_eq {n : Nat} {S S' : Nat → Int32} {fc : Int32} {sz lk : Nat → Int32} (h : ru_D n S fc sz lk) (e : ∀ q, q < n → S q = S' q) : ru_D n S' fc sz lk := by
  obtain ⟨L, h1, h2, h3, h4, h5, h6⟩ := h
  exact ⟨L, h1, h2, h3, h4, h5, fun q hq => (h6 q hq).trans (e q hq)⟩
section
variable {post : SX → Prop} {fn fg fc ff fh fb : Int32} {ce sz lk hl hs : Nat → Int32} {n p k i j : Nat} {S : Nat → Int32} {s : Int32}
theorem xr_ps (h : ru_D n S fc sz lk) (hp : p ≤ n) (hk : n + k ≤ 64) (K : ∀ (fc fb : Int32) (sz lk : Nat → Int32), ru_D (n + k) (xt_ins S p k (fun _ => s)) fc sz lk → post (fn, fg, fc, ff, fh, fb, ce, sz, lk, hl, hs)) : wpX_putStyles post (fn, fg, fc, ff, fh, fb, ce, sz, lk, hl, hs) (nI p) (nI k) s := by
  obtain ⟨L, rfl, hF, hps, hcn, htl, hex⟩ := h
  subst htl
  unfold wpX_putStyles
  by_cases h0 : k = 0
  · subst h0
    refine br_t rfl (K _ _ _ _ ⟨L, rfl, hF, hps, hcn, rfl, fun q hq => ?_⟩)
    rw [xt_ins_0]
    exact hex q hq
  · refine br_f (nI_ne0 (by omega) (by omega)) ?_
    refine xr_cut hF hps (by omega) hp fun fb sz lk hF => ?_
    have t1 := ru_tk_tl hp
    have t2 := ru_dp_tl hp
    have p1 := ru_tk_ps hps p
    have p2 := ru_dp_ps hps p
    have l1 := ru_len p1
    have l2 := ru_len p2
    have x1 := fun q hq => ru_ex_tk (q := q) hp hq
    have x2 := ru_ex_dp hp
    generalize ru_tk L p = A at hF t1 p1 l1 x1 ⊢
    generalize ru_dp L p = B at hF t2 p2 l2 x2 ⊢
    have e1 : (A ++ B).length = A.length + B.length := List.length_append
    refine xr_op (by omega) (by omega) ?_
    refine And.intro (vp_in_nI (by omega) (by omega)) (nm_r (e' := upd (ru_up A.length (A ++ B).length sz) A.length (nI k)) (by rw [nI_clamp (by omega)]) (And.intro (vp_in_nI (by omega) (by omega)) (nm_r (e' := upd (ru_up A.length (A ++ B).length lk) A.length s) (by rw [nI_clamp (by omega)]) ?_)))
    have hF2 := ru_F_ins (k, s) hF e1
    have e2 : (A ++ B).length + 1 = (A ++ (k, s) :: B).length := by simp only [List.length_append, List.length_cons]; omega
    have hps2 : ru_ps (A ++ (k, s) :: B) := ru_ps_app.mpr ⟨p1, ru_ps_mk (show 1 ≤ k by omega) p2⟩
    rw [e2]
    refine xr_jn hF2 (by omega) hps2 fun L' sz lk hF htl hex' hps hcn => ?_
    refine K _ _ _ _ ⟨L', rfl, hF, hps, hcn, ?_, fun q hq => ?_⟩
    · rw [htl, ru_tl_app]
      simp only [ru_tl]
      omega
    · rw [hex', ru_ex_app, t1]
      by_cases c1 : q < p
      · rw [if_pos c1, xt_ins_1 c1, x1 q c1]
        exact hex q (by omega)
      · rw [if_neg c1]
        simp only [ru_ex]
        by_cases c2 : q < p + k
        · rw [if_pos (by omega), xt_ins_2 (by omega) c2]
        · rw [if_neg (by omega), xt_ins_3 (by omega), x2, show q - p - k + p = q - k from by omega]
          exact hex _ (by omega)
theorem xr_ds26 : ∀ (M A B : List (Nat × Int32)) (x5 : Nat) (sz lk : Nat → Int32), x5 + M.length ≤ 64 → ru_ps M → ru_tl M ≤ 64 → (A ++ (M ++ B)).length ≤ 64 → ru_F sz lk 0 (A ++ (M ++ B)) → (∀ sz lk : Nat → Int32, ru_F sz lk 0 (A ++ B) → wX_dropStyles_60 post fn fg (nI (A ++ B).length) ff fh fb ce sz lk hl hs) → wX_dropStyles_26 post (nI A.length) (M.length + 1) (nI (ru_tl M)) (nI x5) fn fg (nI (A ++ (M ++ B)).length) ff fh fb ce sz lk hl hs := by
  intro M
  induction M with
  | nil =>
    intro A B x5 sz lk h5 hps ht hl hF K
    exact br_c (fun _ => K _ _ hF) (fun _ => br_t (nI_le (b := 0) (Nat.le_refl 0) (by decide)) (K _ _ hF))
  | cons x M ih =>
    intro A B x5 sz lk h5 hps ht hl hF K
    have hx := ru_F_at hF
    obtain ⟨q1, q2⟩ := ru_ps_c hps
    have eN : (A ++ (x :: M ++ B)).length = (A ++ (M ++ B)).length + 1 := by simp only [List.length_append, List.length_cons]; omega
    have eA : (A ++ (M ++ B)).length = A.length + (M ++ B).length := List.length_append
    simp only [ru_tl] at ht
    simp only [List.length_cons] at h5
    refine br_f (nI_ge (b := 64) (by omega) (by omega)) (br_f (nI_nle (by simp only [ru_tl]; omega) (by simp only [ru_tl]; omega)) ?_)
    refine And.intro (vp_in_nI (by omega) (by omega)) (nm_r (e' := nI (ru_tl M)) ?_ ?_)
    · rw [nI_clamp (by omega), hx.1, pk_sub (by simp only [ru_tl]; omega)]
      exact congrArg nI (by simp only [ru_tl]; omega)
    · rw [eN]
      refine xr_cl (by omega) (by omega) ?_
      refine nm_r (nI_1 x5) ?_
      exact ih A B (x5 + 1) _ _ (by omega) q2 (by omega) (by omega) (ru_F_close hF eA) K
theorem xr_ds (h : ru_D n S fc sz lk) (hij : i ≤ j) (hj : j ≤ n) (hn : n ≤ 64) (K : ∀ (fc fb : Int32) (sz lk : Nat → Int32), ru_D (n - (j - i)) (xt_del S i j) fc sz lk → post (fn, fg, fc, ff, fh, fb, ce, sz, lk, hl, hs)) : wpX_dropStyles post (fn, fg, fc, ff, fh, fb, ce, sz, lk, hl, hs) (nI i) (nI j) := by
  obtain ⟨L, rfl, hF, hps, hcn, htl, hex⟩ := h
  subst htl
  unfold wpX_dropStyles
  by_cases h0 : i = j
  · subst h0
    refine br_t rfl (K _ _ _ _ ⟨L, rfl, hF, hps, hcn, by omega, fun q hq => ?_⟩)
    have e : xt_del S i i q = S q := by
      by_cases c : q < i
      · exact xt_del_1 c
      · rw [xt_del_2 (by omega), Nat.sub_self, Nat.add_zero]
    rw [e]
    exact hex q (by omega)
  · refine br_f (zb_ne h0 (by omega) (by omega)) ?_
    refine xr_cut hF hps (by omega) hj fun fb sz lk hF => ?_
    have t1 := ru_tk_tl hj
    have t2 := ru_dp_tl hj
    have p1 := ru_tk_ps hps j
    have p2 := ru_dp_ps hps j
    have x1 := fun q hq => ru_ex_tk (q := q) hj hq
    have x2 := ru_ex_dp hj
    generalize ru_tk L j = A1 at hF t1 p1 x1 ⊢
    generalize ru_dp L j = B at hF t2 p2 x2 ⊢
    have t3 := ru_tl_app A1 B
    refine xr_cut hF (ru_ps_app.mpr ⟨p1, p2⟩) (by omega) (p := i) (by omega) fun fb sz lk hF => ?_
    rw [ru_tk_in (A := A1) B (i := i) (by omega), ru_dp_in (A := A1) B (i := i) (by omega)] at hF ⊢
    have t4 := ru_tk_tl (L := A1) (p := i) (by omega)
    have t5 := ru_dp_tl (L := A1) (p := i) (by omega)
    have p4 := ru_tk_ps p1 i
    have p5 := ru_dp_ps p1 i
    have x4 := fun q hq => ru_ex_tk (L := A1) (p := i) (q := q) (by omega) hq
    generalize ru_tk A1 i = A at hF t4 p4 x4 ⊢
    generalize ru_dp A1 i = M at hF t5 p5 ⊢
    have l1 := ru_len p4
    have l2 := ru_len p5
    have l3 := ru_len p2
    have e1 : (A ++ (M ++ B)).length = A.length + (M.length + B.length) := by simp only [List.length_append]
    have e2 : (A ++ B).length = A.length + B.length := List.length_append
    refine nm_r (e' := nI (ru_tl M)) (by rw [pk_sub hij]; exact congrArg nI (by omega)) ⟨M.length + 1, ?_⟩
    refine xr_ds26 M A B 0 sz lk (by omega) p5 (by omega) (by omega) hF fun sz lk hF => ?_
    unfold wX_dropStyles_60
    refine xr_jn hF (by omega) (ru_ps_app.mpr ⟨p4, p2⟩) fun L' sz lk hF htl hex' hps hcn => ?_
    refine K _ _ _ _ ⟨L', rfl, hF, hps, hcn, ?_, fun q hq => ?_⟩
    · rw [htl, ru_tl_app]
      omega
    · rw [hex', ru_ex_app, t4]
      by_cases c1 : q < i
      · rw [if_pos c1, xt_del_1 c1, x4 q c1, x1 q (by omega)]
        exact hex q (by omega)
      · rw [if_neg c1, xt_del_2 (by omega), x2, show q - i + j = q + (j - i) from by omega]
        exact hex _ (by omega)
end
end
section
/-! putting in, taking out, taking aside: the class -/
def xm_f (p m f : Nat) : Nat := if p < f then f + m else f
def xd_f (i j f : Nat) : Nat := if f < j then (if f ≤ i then f else i) else f - (j - i)
section
variable {post : SX → Prop} {fn fg fc ff fh fb : Int32} {ce sz lk hl hs : Nat → Int32} {n p k i j g f h m : Nat} {T S : Nat → Int32} {s c : Int32}
theorem xm_fl (hf : f ≤ 64) (hp : p ≤ 64) (K : post (fn, fg, fc, nI (xm_f p m f), fh, fb, ce, sz, lk, hl, hs)) : wpX_moveFlag post (fn, fg, fc, nI f, fh, fb, ce, sz, lk, hl, hs) (nI p) (nI m) := by
  unfold xm_f at K
  refine pk_le f p (fun c => ?_) (fun c => ?_)
  · rw [if_neg (by omega)] at K
    exact K
  · rw [if_pos c] at K
    exact nm_r (nI_add f m) K
theorem xi_3 (hn : n + k ≤ 64) (hp : p ≤ n) (hf : f ≤ 64) (hS : ru_D n S fc sz lk) (K : ∀ (g : Nat) (fc fb : Int32) (ce sz lk : Nat → Int32), xt_R (n + k) (xt_ins T p k (fun _ => c)) g ce → ru_D (n + k) (xt_ins S p k (fun _ => s)) fc sz lk → post (nI (n + k), nI g, fc, nI (xm_f p k f), fh, fb, ce, sz, lk, hl, hs)) : ∀ (d m g : Nat) (ce : Nat → Int32), m + d = k → xt_R (n + m) (xt_ins T p m (fun _ => c)) g ce → wX_insert_3 post (nI p) c (nI k) s (d + 1) (nI m) (nI (n + m)) (nI g) fc (nI f) fh fb ce sz lk hl hs := by
  intro d
  induction d with
  | zero =>
    intro m g ce hm hT
    obtain rfl : m = k := by omega
    refine br_t (nI_le (Nat.le_refl _) (by omega)) ?_
    refine xr_ps hS hp hn fun fc fb sz lk hD => ?_
    exact xm_fl hf (by omega) (K _ _ _ _ _ _ hT hD)
  | succ d ih =>
    intro m g ce hm hT
    refine br_f (nI_ge (by omega) (by omega)) ?_
    refine xt_put hT (by omega) (by omega) fun ce hT => ?_
    exact nm_r (nI_1 m) (ih (m + 1) (p + 1) ce (by omega) (xt_eq hT (fun q _ => xt_ins_c q)))
theorem xi_ins (hT : xt_R n T g ce) (hS : ru_D n S fc sz lk) (hp : p ≤ n) (hn : n + k ≤ 64) (hf : f ≤ 64) (K : ∀ (g : Nat) (fc fb : Int32) (ce sz lk : Nat → Int32), xt_R (n + k) (xt_ins T p k (fun _ => c)) g ce → ru_D (n + k) (xt_ins S p k (fun _ => s)) fc sz lk → post (nI (n + k), nI g, fc, nI (xm_f p k f), fh, fb, ce, sz, lk, hl, hs)) : wpX_insert post (nI n, nI g, fc, nI f, fh, fb, ce, sz, lk, hl, hs) (nI p) c (nI k) s :=
  ⟨k + 1, xi_3 hn hp hf hS K k 0 g ce (by omega) (xt_eq hT (fun q _ => (xt_ins_0 q).symm))⟩
theorem xd_del (hT : xt_R n T g ce) (hS : ru_D n S fc sz lk) (hij : i ≤ j) (hj : j ≤ n) (hf : f ≤ 64) (K : ∀ (g : Nat) (fc fb : Int32) (ce sz lk : Nat → Int32), xt_R (n - (j - i)) (xt_del T i j) g ce → ru_D (n - (j - i)) (xt_del S i j) fc sz lk → post (nI (n - (j - i)), nI g, fc, nI (xd_f i j f), fh, fb, ce, sz, lk, hl, hs)) : wpX_delete post (nI n, nI g, fc, nI f, fh, fb, ce, sz, lk, hl, hs) (nI i) (nI j) := by
  have hn := hT.2.1
  unfold wpX_delete
  refine xt_drop hT hij hj fun ce hT => ?_
  refine xr_ds hS hij hj hn fun fc fb sz lk hS => ?_
  have K := K _ _ fb _ _ _ hT hS
  unfold xd_f at K
  refine pk_lt f j (fun c => ?_) (fun c => ?_)
  · rw [if_pos c] at K
    refine pk_le f i (fun c2 => ?_) (fun c2 => ?_)
    · rw [if_pos c2] at K
      exact K
    · rw [if_neg (by omega)] at K
      exact K
  · rw [if_neg (by omega)] at K
    exact nm_r (e' := nI (f - (j - i))) (by rw [pk_sub hij, pk_sub (by omega)]) K
theorem xh_ex (e : ∀ t, t < k → hl t = T (i + t) ∧ hs t = S (i + t)) : ∀ t, t < k + 1 → upd hl k (T (i + k)) t = T (i + t) ∧ upd hs k (S (i + k)) t = S (i + t) := by
  intro t ht
  by_cases c : t = k
  · subst c
    exact ⟨pk_us, pk_us⟩
  · rw [pk_un c, pk_un c]
    exact e t (by omega)
theorem xh_83 {J : Int32 → Int32 → Int32 → (Nat → Int32) → (Nat → Int32) → (Nat → Int32) → (Nat → Int32) → (Nat → Int32) → Prop} {x4 v : Int32} {r : Nat} (hT : xt_R n T g ce) (hik : i + k < n) (hr : r < 68) (hlk : lk r = v) (K : J (nI r) x4 (nI (k + 1)) ce sz lk (upd hl k (T (i + k))) (upd hs k v)) : wX_hold_83 post J (nI i) (nI r) x4 (nI k) (nI n) (nI g) fc ff fh fb ce sz lk hl hs := by
  have hn := hT.2.1
  unfold wX_hold_83
  rw [nI_add i k]
  refine xt_of hT hik fun h64 hce => ?_
  refine And.intro (vp_in_nI h64 (by omega)) (And.intro (vp_in_nI (by omega) (by omega)) (nm_r (e' := upd hl k (T (i + k))) ?_ (And.intro (vp_in_nI hr (by omega)) (And.intro (vp_in_nI (by omega) (by omega)) (nm_r (e' := upd hs k v) ?_ (nm_r (nI_1 k) K))))))
  · rw [nI_clamp (by omega), nI_clamp (by omega), hce]
  · rw [nI_clamp (by omega), nI_clamp (by omega), hlk]
theorem xh_41 {L : List (Nat × Int32)} (hT : xt_R n T g ce) (hF : ru_F sz lk 0 L) (hlen : L.length ≤ 64) (hps : ru_ps L) (htl : ru_tl L = n) (hex : ∀ q, q < n → ru_ex L q = S q) (hij : i ≤ j) (hj : j ≤ n) (K : ∀ hl hs : Nat → Int32, (∀ t, t < j - i → hl t = T (i + t) ∧ hs t = S (i + t)) → post (nI n, nI g, nI L.length, ff, nI (j - i), fb, ce, sz, lk, hl, hs)) : ∀ (d k : Nat) (A B : List (Nat × Int32)) (x : Nat × Int32) (hl hs : Nat → Int32), k + d = j - i → L = A ++ x :: B → ru_tl A ≤ i + k → i + k ≤ ru_tl A + x.1 → (∀ t, t < k → hl t = T (i + t) ∧ hs t = S (i + t)) → wX_hold_41 post (nI i) (nI n) (nI g) (nI L.length) ff (nI (j - i)) fb (d + 1) (nI A.length) (nI (ru_tl A + x.1)) (nI k) ce sz lk hl hs := by
  intro d
  induction d with
  | zero =>
    intro k A B x hl hs hk e h1 h2 h3
    obtain rfl : k = j - i := by omega
    have hn := hT.2.1
    exact br_t (nI_le (Nat.le_refl _) (by omega)) (K hl hs h3)
  | succ d ih =>
    intro k A B x hl hs hk e h1 h2 h3
    have hn := hT.2.1
    have el : A.length + (B.length + 1) = L.length := by rw [e]; simp
    have et : ru_tl A + (x.1 + ru_tl B) = ru_tl L := by rw [e, ru_tl_app]; rfl
    have hx := ru_F_at (A := A) (x := x) (B := B) (by rw [← e]; exact hF)
    refine br_f (nI_ge (by omega) (by omega)) ?_
    rw [nI_add i k]
    refine pk_lt (i + k) (ru_tl A + x.1) (fun c => ?_) (fun c => ?_)
    · have hS : x.2 = S (i + k) := by
        rw [← hex _ (by omega), e, ru_ex_app, if_neg (by omega)]
        simp only [ru_ex]
        rw [if_pos (by omega)]
      refine xh_83 hT (by omega) (by omega) (hx.2.trans hS) ?_
      exact ih (k + 1) A B x _ _ (by omega) e (by omega) (by omega) (xh_ex h3)
    · cases B with
      | nil =>
        exfalso
        simp only [ru_tl] at et
        omega
      | cons y B =>
        simp only [ru_tl] at et
        simp only [List.length_cons] at el
        have e2 : L = (A ++ [x]) ++ y :: B := by rw [e]; simp
        have e3 : (A ++ [x]).length = A.length + 1 := by simp
        have e4 : ru_tl (A ++ [x]) = ru_tl A + x.1 := by rw [ru_tl_app]; rfl
        have hy := ru_F_at (A := A ++ [x]) (x := y) (B := B) (by rw [← e2]; exact hF)
        rw [e3] at hy
        have hy0 : 1 ≤ y.1 := hps y (by rw [e2]; simp)
        have hS : y.2 = S (i + k) := by
          rw [← hex _ (by omega), e2, ru_ex_app, if_neg (by omega)]
          simp only [ru_ex]
          rw [if_pos (by omega)]
        rw [nI_1 A.length]
        refine br_f (nI_ge (by omega) (by omega)) (nm_e (And.intro (vp_in_nI (by omega) (by omega)) (nm_r (e' := nI (ru_tl A + x.1 + y.1)) ?_ ?_)))
        · rw [nI_clamp (by omega), hy.1, nI_add]
        · refine xh_83 hT (by omega) (by omega) (hy.2.trans hS) ?_
          have q := ih (k + 1) (A ++ [x]) B y _ _ (by omega) e2 (by omega) (by omega) (xh_ex h3)
          rw [e3, e4] at q
          exact q
theorem xh_hold (hT : xt_R n T g ce) (hS : ru_D n S fc sz lk) (hij : i ≤ j) (hj : j ≤ n) (K : ∀ (fb : Int32) (hl hs : Nat → Int32), (∀ t, t < j - i → hl t = T (i + t) ∧ hs t = S (i + t)) → post (nI n, nI g, fc, ff, nI (j - i), fb, ce, sz, lk, hl, hs)) : wpX_hold post (nI n, nI g, fc, ff, fh, fb, ce, sz, lk, hl, hs) (nI i) (nI j) := by
  obtain ⟨L, rfl, hF, hps, hcn, htl, hex⟩ := hS
  have hn := hT.2.1
  have hlen := ru_len hps
  unfold wpX_hold
  refine nm_r (e' := nI (j - i)) (pk_sub hij) ?_
  refine xr_at hF (by omega) (by omega) (p := i) (by omega) fun A B e hA hB => ?_
  have el : A.length + B.length = L.length := by rw [e]; simp
  have et : ru_tl A + ru_tl B = ru_tl L := by rw [e, ru_tl_app]
  by_cases h0 : j = i
  · have z : (nI (j - i)) ≤ 0 := nI_le (b := 0) (by omega) (by omega)
    have K := K (nI (ru_tl A)) hl hs (fun t ht => absurd ht (by omega))
    exact br_c (fun _ => nm_e ⟨1, br_t z K⟩) (fun c => And.intro (vp_in_nI (by omega) (by omega)) (nm_e ⟨1, br_t z K⟩))
  · cases B with
    | nil =>
      exfalso
      simp only [ru_tl] at et
      omega
    | cons x B =>
      have hx := ru_F_at (A := A) (x := x) (B := B) (by rw [← e]; exact hF)
      have hb := hB x B rfl
      simp only [List.length_cons] at el
      refine br_f (nI_ge (by omega) (by omega)) (And.intro (vp_in_nI (by omega) (by omega)) (nm_r (e' := nI (ru_tl A + x.1)) ?_ ⟨j - i + 1, ?_⟩))
      · rw [nI_clamp (by omega), hx.1, nI_add]
      · exact xh_41 hT hF (by omega) hps htl hex hij hj (K _) (j - i) 0 A B x hl hs (by omega) e (by omega) (by omega) (fun t ht => absurd ht (by omega))
theorem xg_2 (hn : n + h ≤ 64) (hp : p ≤ n) (K : ∀ (g : Nat) (ce : Nat → Int32), xt_R (n + h) (xt_ins T p h hl) g ce → ∃ n33 : Nat, wX_giveBack_33 post (nI p) n33 0 1 (nI (n + h)) (nI g) fc ff (nI h) fb ce sz lk hl hs) : ∀ (d k g : Nat) (ce : Nat → Int32), k + d = h → xt_R (n + k) (xt_ins T p k hl) g ce → wX_giveBack_2 post (nI p) (d + 1) (nI k) (nI (n + k)) (nI g) fc ff (nI h) fb ce sz lk hl hs := by
  intro d
  induction d with
  | zero =>
    intro k g ce hk hT
    obtain rfl : k = h := by omega
    exact br_t (nI_le (Nat.le_refl _) (by omega)) (K g ce hT)
  | succ d ih =>
    intro k g ce hk hT
    refine br_f (nI_ge (by omega) (by omega)) (And.intro (vp_in_nI (by omega) (by omega)) ?_)
    rw [nI_add p k, nI_clamp (n := k) (by omega)]
    refine xt_put hT (by omega) (by omega) fun ce hT => ?_
    refine nm_r (nI_1 k) (ih (k + 1) (p + k + 1) ce (by omega) (xt_eq hT (fun q _ => xt_ins_s (k := 1) ?_ q)))
    intro x hx
    obtain rfl : x = 0 := by omega
    rfl
theorem xg_64 {J : Int32 → Int32 → Int32 → Int32 → Int32 → Int32 → Int32 → Int32 → (Nat → Int32) → (Nat → Int32) → (Nat → Int32) → (Nat → Int32) → (Nat → Int32) → Prop} {fr : Nat} (hD : ru_D (m + fr) (xt_ins S p fr hs) fc sz lk) (hp : p ≤ m) (hfk : fr < k) (hk : m + k ≤ 64) (hc : ∀ t, fr ≤ t → t < k → hs t = hs fr) (K : ∀ (fc fb : Int32) (sz lk : Nat → Int32), ru_D (m + k) (xt_ins S p k hs) fc sz lk → J (nI k) (nI (k + 1)) fn fg fc ff fh fb ce sz lk hl hs) : wX_giveBack_64 post J (nI p) (nI fr) (nI k) fn fg fc ff fh fb ce sz lk hl hs := by
  refine And.intro (vp_in_nI (by omega) (by omega)) ?_
  rw [nI_add p fr, pk_sub (a := k) (b := fr) (by omega), nI_clamp (n := fr) (by omega)]
  refine xr_ps hD (by omega) (by omega) fun fc fb sz lk h => ?_
  refine nm_r (nI_1 k) (K _ _ _ _ ?_)
  rw [show m + fr + (k - fr) = m + k from by omega] at h
  refine ru_D_eq h fun q hq => ?_
  have e := xt_ins_s (T := S) (H := hs) (H' := fun _ => hs fr) (p := p) (m := fr) (k := k - fr) (fun x hx => (hc (fr + x) (by omega) (by omega)).symm) q
  rw [show fr + (k - fr) = k from by omega] at e
  exact e
theorem xg_33 (hp : p ≤ m) (hm : m + h ≤ 64) (hf : f ≤ 64) (K : ∀ (fc fb : Int32) (sz lk : Nat → Int32), ru_D (m + h) (xt_ins S p h hs) fc sz lk → post (fn, fg, fc, nI (xm_f p h f), nI h, fb, ce, sz, lk, hl, hs)) : ∀ (d fr k : Nat) (fc fb : Int32) (sz lk : Nat → Int32), k + d = h + 1 → fr < k → (d = 0 → fr = h) → (∀ t, fr ≤ t → t < k → hs t = hs fr) → ru_D (m + fr) (xt_ins S p fr hs) fc sz lk → wX_giveBack_33 post (nI p) (d + 1) (nI fr) (nI k) fn fg fc (nI f) (nI h) fb ce sz lk hl hs := by
  intro d
  induction d with
  | zero =>
    intro fr k fc fb sz lk hk hfk h0 hc hD
    obtain rfl := h0 rfl
    refine br_t (nI_lt (by omega) (by omega)) ?_
    exact xm_fl hf (by omega) (K _ _ _ _ hD)
  | succ d ih =>
    intro fr k fc fb sz lk hk hfk h0 hc hD
    refine br_f (nI_nlt (by omega) (by omega)) ?_
    have nx : ∀ (fc fb : Int32) (sz lk : Nat → Int32), ru_D (m + k) (xt_ins S p k hs) fc sz lk → wX_giveBack_33 post (nI p) (d + 1) (nI k) (nI (k + 1)) fn fg fc (nI f) (nI h) fb ce sz lk hl hs := fun fc fb sz lk hD =>
      ih k (k + 1) fc fb sz lk (by omega) (by omega) (by omega) (fun t h1 h2 => by rw [show t = k from by omega]) hD
    refine pk_eq k h (fun c => ?_) (fun c => ?_)
    · exact xg_64 hD hp hfk (by omega) hc nx
    · refine And.intro (vp_in_nI (by omega) (by omega)) (And.intro (vp_in_nI (by omega) (by omega)) ?_)
      rw [nI_clamp (n := k) (by omega), nI_clamp (n := fr) (by omega)]
      refine br_c (fun e => ?_) (fun e => ?_)
      · refine nm_r (nI_1 k) (ih fr (k + 1) fc fb sz lk (by omega) (by omega) (fun z => absurd z (by omega)) (fun t h1 h2 => ?_) hD)
        by_cases c2 : t = k
        · rw [c2]; exact e
        · exact hc t h1 (by omega)
      · exact xg_64 hD hp hfk (by omega) hc nx
theorem xg_gb (hT : xt_R n T g ce) (hS : ru_D n S fc sz lk) (hp : p ≤ n) (hn : n + h ≤ 64) (hf : f ≤ 64) (K : ∀ (g : Nat) (fc fb : Int32) (ce sz lk : Nat → Int32), xt_R (n + h) (xt_ins T p h hl) g ce → ru_D (n + h) (xt_ins S p h hs) fc sz lk → post (nI (n + h), nI g, fc, nI (xm_f p h f), nI h, fb, ce, sz, lk, hl, hs)) : wpX_giveBack post (nI n, nI g, fc, nI f, nI h, fb, ce, sz, lk, hl, hs) (nI p) := by
  refine ⟨h + 1, xg_2 hn hp (fun g ce hT => ⟨h + 1, ?_⟩) h 0 g ce (by omega) (xt_eq hT (fun q _ => (xt_ins_0 q).symm))⟩
  exact xg_33 hp hn hf (fun fc fb sz lk hD => K _ _ _ _ _ _ hT hD) h 0 1 fc fb sz lk (by omega) (by omega) (fun z => z.symm) (fun t h1 h2 => by rw [show t = 0 from by omega]) (ru_D_eq hS (fun q _ => (xt_ins_0 q).symm))
end
end
section
/-! counts, pure -/
def cu_c (P : Int32 → Bool) (S : Nat → Int32) (i : Nat) : Nat → Nat
  | 0 => 0
  | d + 1 => cu_c P S i d + (if P (S (i + d)) = true then 1 else 0)
def cu_a (P : Int32 → Bool) (S : Nat → Int32) (i : Nat) : Nat → Bool
  | 0 => true
  | d + 1 => (cu_a P S i d && P (S (i + d)))
def cu_d (T S : Nat → Int32) : Nat → Int32
  | 0 => 0
  | p + 1 => cu_d T S p + nI (p + 1) * (64 * T p + S p)
def cu_b (S : Nat → Int32) : Nat → Nat
  | 0 => 0
  | p + 1 => cu_b S p + (if p = 0 ∨ ¬ S p = S (p - 1) then 1 else 0)
def ru_sm (P : Int32 → Bool) : List (Nat × Int32) → Nat
  | [] => 0
  | x :: L => (if P x.2 = true then x.1 else 0) + ru_sm P L
section
variable {P : Int32 → Bool} {S : Nat → Int32} {i d e o : Nat} {v : Int32}
theorem cu_c_app (e : Nat) : cu_c P S i (d + e) = cu_c P S i d + cu_c P S (i + d) e := by
  induction e with
  | zero => rfl
  | succ e ih =>
    show cu_c P S i (d + e) + (if P (S (i + (d + e))) = true then 1 else 0) = cu_c P S i d + (cu_c P S (i + d) e + (if P (S (i + d + e)) = true then 1 else 0))
    rw [ih, Nat.add_assoc i d e, Nat.add_assoc]
theorem cu_c_const (h : ∀ t, t < e → S (o + t) = v) : cu_c P S o e = if P v = true then e else 0 := by
  induction e with
  | zero => simp [cu_c]
  | succ e ih =>
    simp only [cu_c]
    rw [ih (fun t ht => h t (by omega)), h e (by omega)]
    by_cases c : P v = true
    · rw [if_pos c, if_pos c, if_pos c]
    · rw [if_neg c, if_neg c, if_neg c]
theorem cu_c_runs : ∀ (M : List (Nat × Int32)) (o : Nat), (∀ q, q < ru_tl M → S (o + q) = ru_ex M q) → cu_c P S o (ru_tl M) = ru_sm P M := by
  intro M
  induction M with
  | nil => intro o _; rfl
  | cons x M ih =>
    intro o h
    simp only [ru_tl] at h
    simp only [ru_tl, ru_sm]
    rw [cu_c_app, cu_c_const (v := x.2), ih (o + x.1)]
    · intro q hq
      have h1 := h (x.1 + q) (by omega)
      simp only [ru_ex] at h1
      rw [if_neg (by omega), Nat.add_sub_cancel_left, ← Nat.add_assoc] at h1
      exact h1
    · intro t ht
      have h1 := h t (by omega)
      simp only [ru_ex] at h1
      rw [if_pos ht] at h1
      exact h1
theorem cu_a_app (e : Nat) : cu_a P S i (d + e) = (cu_a P S i d && cu_a P S (i + d) e) := by
  induction e with
  | zero => simp [cu_a]
  | succ e ih =>
    show (cu_a P S i (d + e) && P (S (i + (d + e)))) = (cu_a P S i d && (cu_a P S (i + d) e && P (S (i + d + e))))
    rw [ih, Nat.add_assoc i d e, Bool.and_assoc]
theorem cu_a_const (h : ∀ t, t < e → S (o + t) = v) (he : 1 ≤ e) : cu_a P S o e = P v := by
  induction e with
  | zero => omega
  | succ e ih =>
    simp only [cu_a]
    rw [h e (by omega)]
    by_cases c : e = 0
    · subst c
      simp [cu_a]
    · rw [ih (fun t ht => h t (by omega)) (by omega), Bool.and_self]
theorem cu_b_t {p : Nat} (h : p = 0 ∨ ¬ S p = S (p - 1)) : cu_b S (p + 1) = cu_b S p + 1 := by
  simp only [cu_b]
  rw [if_pos h]
theorem cu_b_f {p : Nat} (h : ¬ (p = 0 ∨ ¬ S p = S (p - 1))) : cu_b S (p + 1) = cu_b S p := by
  simp only [cu_b]
  rw [if_neg h, Nat.add_zero]
theorem cu_b_le (p d : Nat) : cu_b S p ≤ cu_b S (p + d) := by
  induction d with
  | zero => exact Nat.le_refl _
  | succ d ih =>
    show cu_b S p ≤ cu_b S (p + d) + _
    omega
theorem cu_b_up (p : Nat) : cu_b S p ≤ p := by
  induction p with
  | zero => exact Nat.le_refl _
  | succ p ih =>
    simp only [cu_b]
    split <;> omega
theorem ru_ex_mid {A B : List (Nat × Int32)} {x : Nat × Int32} {t : Nat} (h : t < x.1) : ru_ex (A ++ x :: B) (ru_tl A + t) = x.2 := by
  rw [ru_ex_app, if_neg (by omega), Nat.add_sub_cancel_left]
  simp only [ru_ex]
  rw [if_pos h]
theorem ru_cn_mid {A B : List (Nat × Int32)} {x y : Nat × Int32} (h : ru_cn (A ++ y :: x :: B)) : x.2 ≠ y.2 := by
  induction A with
  | nil => exact h.1 x rfl
  | cons z A ih => exact ih h.2
theorem cu_b_run {a k : Nat} (h0 : cu_b S o = a) (hb : o = 0 ∨ ¬ S o = S (o - 1)) (hS : ∀ t, t < k → S (o + t) = v) : ∀ t, t + 1 ≤ k → cu_b S (o + (t + 1)) = a + 1 := by
  intro t
  induction t with
  | zero => intro _; exact (cu_b_t hb).trans (by rw [h0])
  | succ t ih =>
    intro ht
    have e : ¬ (o + (t + 1) = 0 ∨ ¬ S (o + (t + 1)) = S (o + (t + 1) - 1)) := by
      intro z
      rcases z with z | z
      · omega
      · apply z
        rw [hS (t + 1) (by omega), show o + (t + 1) - 1 = o + t from by omega, hS t (by omega)]
    exact (cu_b_f e).trans (ih (by omega))
variable {L : List (Nat × Int32)}
theorem cu_b_st (hps : ru_ps L) (hcn : ru_cn L) (hex : ∀ q, q < ru_tl L → ru_ex L q = S q) {A B : List (Nat × Int32)} {x : Nat × Int32} (e : L = A ++ x :: B) : ru_tl A = 0 ∨ ¬ S (ru_tl A) = S (ru_tl A - 1) := by
  by_cases h : A = []
  · subst h
    exact Or.inl rfl
  · right
    obtain ⟨A, y, rfl⟩ : ∃ A' y, A = A' ++ [y] := ⟨_, _, (List.dropLast_concat_getLast h).symm⟩
    have e2 : L = A ++ y :: x :: B := by rw [e]; simp
    have e3 : ru_tl (A ++ [y]) = ru_tl A + y.1 := by rw [ru_tl_app]; rfl
    have et : ru_tl A + (y.1 + (x.1 + ru_tl B)) = ru_tl L := by rw [e2, ru_tl_app]; rfl
    have hx : 1 ≤ x.1 := hps x (by rw [e2]; simp)
    have hy : 1 ≤ y.1 := hps y (by rw [e2]; simp)
    rw [← hex _ (by omega), ← hex _ (by omega)]
    have h1 : ru_ex L (ru_tl (A ++ [y])) = x.2 := by
      rw [e]
      exact ru_ex_mid (A := A ++ [y]) (t := 0) (by omega)
    have h2 : ru_ex L (ru_tl (A ++ [y]) - 1) = y.2 := by
      rw [e2, e3, show ru_tl A + y.1 - 1 = ru_tl A + (y.1 - 1) from by omega]
      exact ru_ex_mid (by omega)
    rw [h1, h2]
    rw [e2] at hcn
    exact ru_cn_mid hcn
theorem cu_b_S (hex : ∀ q, q < ru_tl L → ru_ex L q = S q) {A B : List (Nat × Int32)} {x : Nat × Int32} (e : L = A ++ x :: B) : ∀ t, t < x.1 → S (ru_tl A + t) = x.2 := by
  intro t ht
  have et : ru_tl A + (x.1 + ru_tl B) = ru_tl L := by rw [e, ru_tl_app]; rfl
  rw [← hex _ (by omega), e]
  exact ru_ex_mid ht
theorem cu_b_L (hps : ru_ps L) (hcn : ru_cn L) (hex : ∀ q, q < ru_tl L → ru_ex L q = S q) : ∀ (a : Nat) (A B : List (Nat × Int32)), A.length = a → L = A ++ B → cu_b S (ru_tl A) = A.length := by
  intro a
  induction a with
  | zero =>
    intro A B ha e
    obtain rfl : A = [] := List.eq_nil_of_length_eq_zero ha
    rfl
  | succ a ih =>
    intro A B ha e
    obtain ⟨A, x, rfl⟩ : ∃ A' x, A = A' ++ [x] := ⟨_, _, (List.dropLast_concat_getLast (l := A) (fun z => by rw [z] at ha; cases ha)).symm⟩
    have e2 : L = A ++ x :: B := by rw [e]; simp
    have e3 : ru_tl (A ++ [x]) = ru_tl A + x.1 := by rw [ru_tl_app]; rfl
    have e4 : (A ++ [x]).length = A.length + 1 := by simp
    have hx : 1 ≤ x.1 := hps x (by rw [e2]; simp)
    have h := cu_b_run (ih A (x :: B) (by omega) e2) (cu_b_st hps hcn hex e2) (cu_b_S hex e2) (x.1 - 1) (by omega)
    rw [e3, e4, ← h, show x.1 - 1 + 1 = x.1 from by omega]
theorem cu_b_in (hps : ru_ps L) (hcn : ru_cn L) (hex : ∀ q, q < ru_tl L → ru_ex L q = S q) {A B : List (Nat × Int32)} {x : Nat × Int32} (e : L = A ++ x :: B) {t : Nat} (ht : t < x.1) : cu_b S (ru_tl A + t + 1) = A.length + 1 :=
  cu_b_run (cu_b_L hps hcn hex A.length A (x :: B) rfl e) (cu_b_st hps hcn hex e) (cu_b_S hex e) t (by omega)
end
end
section
/-! styles set, toggled; letters replaced: the class -/
def xs_m (b s v : Int32) : Int32 := (v &&& (b ^^^ (-1))) ||| (s &&& b)
def xs_b (m : Nat) : Int32 := if m < 8 then nI m &&& 7 else (nI m &&& 7) ||| 56
def xs_F (m : Nat) (s : Int32) : Int32 → Int32 := xs_m (xs_b m) s
def xs_P (F : Int32 → Int32) : Int32 → Bool := fun v => decide (¬ F v = v)
def xs_st (S : Nat → Int32) (i j : Nat) (F : Int32 → Int32) : Nat → Int32 := fun q => if i ≤ q ∧ q < j then F (S q) else S q
def xs_mp (F : Int32 → Int32) (M : List (Nat × Int32)) : List (Nat × Int32) := M.map (fun x => (x.1, F x.2))
theorem xs_b_lo : ∀ m, m < 8 → nI m &&& 7 = nI m := by decide +kernel
theorem xs_b_hi : ∀ m, m < 16 → (nI m &&& 7) ||| 56 = (nI m &&& 7) + 56 := by decide +kernel
theorem xs_mp_tl (F : Int32 → Int32) (M : List (Nat × Int32)) : ru_tl (xs_mp F M) = ru_tl M := by
  induction M with
  | nil => rfl
  | cons x M ih => show x.1 + ru_tl (xs_mp F M) = x.1 + ru_tl M; rw [ih]
theorem xs_mp_len (F : Int32 → Int32) (M : List (Nat × Int32)) : (xs_mp F M).length = M.length := List.length_map _
theorem xs_mp_ps {F : Int32 → Int32} {M : List (Nat × Int32)} (h : ru_ps M) : ru_ps (xs_mp F M) := by
  induction M with
  | nil => exact ru_ps_nil
  | cons x M ih => exact ru_ps_mk (x := (x.1, F x.2)) (ru_ps_c h).1 (ih (ru_ps_c h).2)
theorem xs_mp_ex {F : Int32 → Int32} {M : List (Nat × Int32)} : ∀ {q : Nat}, q < ru_tl M → ru_ex (xs_mp F M) q = F (ru_ex M q) := by
  induction M with
  | nil => intro q h; exact absurd h (by simp only [ru_tl]; omega)
  | cons x M ih =>
    intro q h
    simp only [ru_tl] at h
    show (if q < x.1 then F x.2 else ru_ex (xs_mp F M) (q - x.1)) = F (if q < x.1 then x.2 else ru_ex M (q - x.1))
    by_cases c : q < x.1
    · rw [if_pos c, if_pos c]
    · rw [if_neg c, if_neg c, ih (by omega)]
section
variable {fn fg fc ff fh fb : Int32} {ce sz lk hl hs : Nat → Int32} {n p k i j g f h m r : Nat} {T S : Nat → Int32} {s c d : Int32}
theorem xb_ok {post : Int32 → Prop} (hij : i ≤ j) (hj : j ≤ n) (hn : n ≤ 64) (K : post 0) : wpX_bad post (nI n, fg, fc, ff, fh, fb, ce, sz, lk, hl, hs) (nI i) (nI j) :=
  br_f (nI_pos (by omega)) (br_f (nI_nlt hij (by omega)) (br_t (nI_le hj (by omega)) K))
theorem xs_mix {post : Int32 → Prop} {old : Int32} (hm : m < 16) (K : post (xs_F m s old)) : wpX_mixed post (fn, fg, fc, ff, fh, fb, ce, sz, lk, hl, hs) old (nI m) s := by
  unfold xs_F xs_b at K
  refine nm_e ?_
  refine pk_lt m 8 (fun c => ?_) (fun c => ?_)
  · rw [if_pos c] at K
    exact K
  · rw [if_neg (by omega)] at K
    exact nm_e K
theorem xs_115 {post : Int32 → SX → Prop} {J : Int32 → Int32 → Int32 → Int32 → (Nat → Int32) → (Nat → Int32) → (Nat → Int32) → (Nat → Int32) → (Nat → Int32) → Prop} {x2 x3 x4 x6 v : Int32} {a x8 : Nat} (hr : r < 68) (hsz : sz r = nI k) (K : J (nI (r + 1)) x6 (nI (a + k)) (nI (x8 + 1)) ce sz (upd lk r v) hl hs) : wX_style_115 post J x2 x3 x4 (nI r) x6 (nI a) (nI x8) v fn fg fc ff fh fb ce sz lk hl hs := by
  refine And.intro (vp_in_nI hr (by omega)) (nm_r (e' := upd lk r v) (by rw [nI_clamp (by omega)]) (And.intro (vp_in_nI hr (by omega)) (nm_r (e' := nI (a + k)) ?_ (nm_r (nI_1 r) (nm_r (nI_1 x8) K)))))
  rw [nI_clamp (by omega), hsz, nI_add]
theorem xs_62 {post : Int32 → SX → Prop} {c : Nat} (hm : m < 16) (hj : j ≤ 64) (hc : c ≤ 64) : ∀ (M A B : List (Nat × Int32)) (x8 ch : Nat) (lk : Nat → Int32), x8 + M.length ≤ 64 → ru_ps M → ru_tl A + ru_tl M = j → A.length + (M.length + B.length) = c → ru_F sz lk 0 (A ++ (M ++ B)) → (∀ lk : Nat → Int32, ru_F sz lk 0 (A ++ (xs_mp (xs_F m s) M ++ B)) → wX_style_145 post (nI (ch + ru_sm (xs_P (xs_F m s)) M)) fn fg (nI c) ff fh fb ce sz lk hl hs) → wX_style_62 post (nI j) (nI m) s fn fg (nI c) ff fh fb (M.length + 1) (nI A.length) (nI ch) (nI (ru_tl A)) (nI x8) ce sz lk hl hs := by
  intro M
  induction M with
  | nil =>
    intro A B x8 ch lk h8 hps ht hln hF K
    simp only [ru_tl] at ht
    have K := K lk hF
    exact br_c (fun _ => K) (fun _ => br_t (nI_le (by omega) (by omega)) K)
  | cons x M ih =>
    intro A B x8 ch lk h8 hps ht hln hF K
    have hx := ru_F_at (A := A) (x := x) (B := M ++ B) hF
    obtain ⟨q1, q2⟩ := ru_ps_c hps
    simp only [ru_tl] at ht
    simp only [List.length_cons] at h8 hln
    have e3 : (A ++ [(x.1, xs_F m s x.2)]).length = A.length + 1 := by simp
    have e4 : ru_tl (A ++ [(x.1, xs_F m s x.2)]) = ru_tl A + x.1 := by rw [ru_tl_app]; rfl
    have hF2 : ru_F sz (upd lk A.length (xs_F m s x.2)) 0 ((A ++ [(x.1, xs_F m s x.2)]) ++ (M ++ B)) := by
      rw [List.append_assoc]
      exact ru_F_setl (A := A) (x := x) (B := M ++ B) _ hF
    refine br_f (nI_ge (b := 64) (by omega) (by omega)) (br_f (nI_ge (by omega) (by omega)) (And.intro (vp_in_nI (by omega) (by omega)) ?_))
    rw [nI_clamp (n := A.length) (by omega), hx.2, hx.1]
    refine xs_mix hm ?_
    refine And.intro (vp_in_nI (by omega) (by omega)) ?_
    have nx : ∀ ch' : Nat, (ch' + ru_sm (xs_P (xs_F m s)) M = ch + ru_sm (xs_P (xs_F m s)) (x :: M)) → wX_style_62 post (nI j) (nI m) s fn fg (nI c) ff fh fb (M.length + 1) (nI (A.length + 1)) (nI ch') (nI (ru_tl A + x.1)) (nI (x8 + 1)) ce sz (upd lk A.length (xs_F m s x.2)) hl hs := by
      intro ch' e
      have q := ih (A ++ [(x.1, xs_F m s x.2)]) B (x8 + 1) ch' _ (by omega) q2 (by omega) (by omega) hF2 (fun lk h => by
        rw [List.append_assoc] at h
        rw [e]
        exact K lk h)
      rw [e3, e4] at q
      exact q
    refine br_c (fun z => ?_) (fun z => ?_)
    · refine xs_115 (by omega) hx.1 (nx ch ?_)
      have e : xs_P (xs_F m s) x.2 = false := decide_eq_false (fun w => w z)
      simp only [ru_sm]
      rw [e]
      simp
    · refine And.intro (vp_in_nI (by omega) (by omega)) (nm_r (nI_add ch x.1) (xs_115 (by omega) hx.1 (nx (ch + x.1) ?_)))
      have e : xs_P (xs_F m s) x.2 = true := decide_eq_true z
      simp only [ru_sm]
      rw [e, if_pos rfl, Nat.add_assoc]
theorem xs_style {post : Int32 → SX → Prop} {t : Nat} (hS : ru_D n S fc sz lk) (hn : n ≤ 64) (hij : i ≤ j) (hj : j ≤ n) (hm : m < 16) (ht : t ≤ 63) (K : ∀ (fc fb : Int32) (sz lk : Nat → Int32), ru_D n (xs_st S i j (xs_F m (nI t))) fc sz lk → post (nI (cu_c (xs_P (xs_F m (nI t))) S i (j - i))) (nI n, fg, fc, ff, fh, fb, ce, sz, lk, hl, hs)) : wpX_style post (nI n, fg, fc, ff, fh, fb, ce, sz, lk, hl, hs) (nI i) (nI j) (nI m) (nI t) := by
  obtain ⟨L, rfl, hF, hps, hcn, htl, hex⟩ := hS
  subst htl
  unfold wpX_style
  refine xb_ok hij hj hn ?_
  refine br_t rfl (br_f (nI_pos (by omega)) (br_f (nI_nlt (a := 15) (by omega) (by omega)) (br_f (nI_pos (by omega)) (br_t (nI_le (b := 63) (by omega) (by omega)) ?_))))
  by_cases h0 : i = j
  · subst h0
    refine br_t rfl ?_
    have K := K _ fb _ _ ⟨L, rfl, hF, hps, hcn, rfl, fun q hq => ?_⟩
    · rw [Nat.sub_self] at K
      exact K
    · unfold xs_st
      rw [if_neg (by omega)]
      exact hex q hq
  · refine br_f (zb_ne h0 (by omega) (by omega)) ?_
    refine xr_cut hF hps (by omega) hj fun fb sz lk hF => ?_
    have t1 := ru_tk_tl hj
    have t2 := ru_dp_tl hj
    have p1 := ru_tk_ps hps j
    have p2 := ru_dp_ps hps j
    have x1 := fun q hq => ru_ex_tk (q := q) hj hq
    have x2 := ru_ex_dp hj
    generalize ru_tk L j = A1 at hF t1 p1 x1 ⊢
    generalize ru_dp L j = B at hF t2 p2 x2 ⊢
    have t3 := ru_tl_app A1 B
    refine xr_cut hF (ru_ps_app.mpr ⟨p1, p2⟩) (by omega) (p := i) (by omega) fun fb sz lk hF => ?_
    rw [ru_tk_in (A := A1) B (i := i) (by omega), ru_dp_in (A := A1) B (i := i) (by omega)] at hF ⊢
    have t4 := ru_tk_tl (L := A1) (p := i) (by omega)
    have t5 := ru_dp_tl (L := A1) (p := i) (by omega)
    have p4 := ru_tk_ps p1 i
    have p5 := ru_dp_ps p1 i
    have x4 := fun q hq => ru_ex_tk (L := A1) (p := i) (q := q) (by omega) hq
    have x5 := ru_ex_dp (L := A1) (p := i) (by omega)
    generalize ru_tk A1 i = A at hF t4 p4 x4 ⊢
    generalize ru_dp A1 i = M at hF t5 p5 x5 ⊢
    have l1 := ru_len p4
    have l2 := ru_len p5
    have l3 := ru_len p2
    have e1 : (A ++ (M ++ B)).length = A.length + (M.length + B.length) := by simp only [List.length_append]
    have e2 : (A ++ (xs_mp (xs_F m (nI t)) M ++ B)).length = A.length + (M.length + B.length) := by simp only [List.length_append, xs_mp_len]
    rw [e1]
    refine ⟨M.length + 1, ?_⟩
    have q := xs_62 (post := post) (s := nI t) (fn := nI (ru_tl L)) (fg := fg) (ff := ff) (fh := fh) (fb := fb) (ce := ce) (sz := sz) (hl := hl) (hs := hs) hm (show j ≤ 64 by omega) (show A.length + (M.length + B.length) ≤ 64 by omega) M A B 0 0 lk (by omega) p5 (by omega) rfl hF ?_
    · rw [t4] at q
      exact q
    · intro lk hF
      unfold wX_style_145
      rw [← e2]
      refine xr_jn hF (by omega) (ru_ps_app.mpr ⟨p4, ru_ps_app.mpr ⟨xs_mp_ps p5, p2⟩⟩) fun L' sz lk hF htl hex' hps hcn => ?_
      have ec : cu_c (xs_P (xs_F m (nI t))) S i (j - i) = ru_sm (xs_P (xs_F m (nI t))) M := by
        have h := cu_c_runs (P := xs_P (xs_F m (nI t))) (S := S) M i (fun q hq => by rw [x5, x1 _ (by omega), hex _ (by omega), Nat.add_comm q i])
        rw [← h, t5, t1]
      rw [Nat.zero_add, ← ec]
      refine K _ _ _ _ ⟨L', rfl, hF, hps, hcn, ?_, fun q hq => ?_⟩
      · rw [htl, ru_tl_app, ru_tl_app, xs_mp_tl]
        omega
      · rw [hex', ru_ex_app, t4]
        unfold xs_st
        by_cases c1 : q < i
        · rw [if_pos c1, if_neg (by omega), x4 q c1, x1 q (by omega)]
          exact hex q (by omega)
        · rw [if_neg c1, ru_ex_app, xs_mp_tl]
          by_cases c2 : q < j
          · rw [if_pos (by omega), if_pos (by omega), xs_mp_ex (by omega), x5, show q - i + i = q from by omega, x1 q c2, hex q (by omega)]
          · rw [if_neg (by omega), if_neg (by omega), x2, show q - i - ru_tl M + j = q from by omega]
            exact hex _ (by omega)
/-! toggle -/
theorem xo_87 {post : Int32 → SX → Prop} {J : Int32 → Int32 → Int32 → Int32 → Prop} {x1 x2 x3 z0 : Int32} {a x7 : Nat} (hr : r < 68) (hsz : sz r = nI k) (K : J (nI (r + 1)) (nI (a + k)) z0 (nI (x7 + 1))) : wX_toggle_87 post J x1 x2 x3 (nI r) (nI a) (nI x7) z0 fn fg fc ff fh fb ce sz lk hl hs := by
  refine And.intro (vp_in_nI hr (by omega)) (nm_r (e' := nI (a + k)) ?_ (nm_r (nI_1 r) (nm_r (nI_1 x7) K)))
  rw [nI_clamp (by omega), hsz, nI_add]
def xo_P (bit : Int32) : Int32 → Bool := fun v => decide (¬ (v &&& bit) = 0)
theorem xo_st {P : Int32 → Bool} {a k : Nat} {v : Int32} (hS : ∀ t, t < k → S (a + t) = v) (hij : i < j) (hk : 1 ≤ k) (h1 : i < a + k) (h2 : a < j) : cu_a P S i (min (a + k) j - i) = (cu_a P S i (min a j - i) && P v) := by
  have hu : min a j = a := Nat.min_eq_left (by omega)
  have w3 : min (a + k) j = a + k ∨ min (a + k) j = j := by
    rcases Nat.le_total (a + k) j with h | h
    · exact Or.inl (Nat.min_eq_left h)
    · exact Or.inr (Nat.min_eq_right h)
  have w1 := Nat.min_le_left (a + k) j
  have w2 := Nat.min_le_right (a + k) j
  rw [hu]
  generalize min (a + k) j = w at w1 w2 w3 ⊢
  obtain ⟨e, he⟩ : ∃ e, w - i = (a - i) + e := ⟨w - i - (a - i), by omega⟩
  rw [he, cu_a_app]
  congr 1
  refine cu_a_const (fun t ht => ?_) (by omega)
  have h := hS (i + (a - i) + t - a) (by omega)
  rw [show a + (i + (a - i) + t - a) = i + (a - i) + t from by omega] at h
  exact h
theorem xo_52 {post : Int32 → SX → Prop} {L : List (Nat × Int32)} {bit : Int32} (hF : ru_F sz lk 0 L) (hlen : L.length ≤ 64) (hps : ru_ps L) (htl : ru_tl L = n) (hn : n ≤ 64) (hex : ∀ q, q < n → ru_ex L q = S q) (hij : i < j) (hj : j ≤ n) (K : wX_toggle_110 post (nI i) (nI j) bit (zb_fl (cu_a (xo_P bit) S i (j - i))) fn fg fc ff fh fb ce sz lk hl hs) : ∀ (B A : List (Nat × Int32)) (x7 : Nat), L = A ++ B → x7 + B.length ≤ 64 → (∀ x B', B = x :: B' → i < ru_tl A + x.1) → wX_toggle_52 post (nI i) (nI j) bit fn fg fc ff fh fb ce sz lk hl hs (B.length + 1) (nI A.length) (nI (ru_tl A)) (zb_fl (cu_a (xo_P bit) S i (min (ru_tl A) j - i))) (nI x7) := by
  intro B
  induction B with
  | nil =>
    intro A x7 e h7 hi
    have et : ru_tl A = ru_tl L := by rw [e, List.append_nil]
    rw [show min (ru_tl A) j = j from by omega]
    exact br_c (fun _ => K) (fun _ => br_t (nI_le (by omega) (by omega)) K)
  | cons x B ih =>
    intro A x7 e h7 hi
    have et : ru_tl A + (x.1 + ru_tl B) = ru_tl L := by rw [e, ru_tl_app]; rfl
    have el : A.length + (B.length + 1) = L.length := by rw [e]; simp
    by_cases c : j ≤ ru_tl A
    · rw [show min (ru_tl A) j = j from by omega]
      exact br_c (fun _ => K) (fun _ => br_t (nI_le (by omega) (by omega)) K)
    · have hx := ru_F_at (A := A) (x := x) (B := B) (by rw [← e]; exact hF)
      have hi1 := hi x B rfl
      have e2 : L = (A ++ [x]) ++ B := by rw [e]; simp
      have e3 : (A ++ [x]).length = A.length + 1 := by simp
      have e4 : ru_tl (A ++ [x]) = ru_tl A + x.1 := by rw [ru_tl_app]; rfl
      have st := xo_st (P := xo_P bit) (S := S) (i := i) (j := j) (cu_b_S (fun q hq => hex q (by omega)) e) hij (hps x (by rw [e]; simp)) hi1 (by omega)
      simp only [List.length_cons] at h7
      have q := ih (A ++ [x]) (x7 + 1) e2 (by omega) (fun y B' _ => by omega)
      rw [e3, e4, st] at q
      refine br_f (nI_ge (b := 64) (by omega) (by omega)) (br_f (nI_ge (by omega) (by omega)) ?_)
      cases hb : cu_a (xo_P bit) S i (min (ru_tl A) j - i) with
      | false =>
        rw [hb, Bool.false_and] at q
        exact br_t rfl (xo_87 (by omega) hx.1 q)
      | true =>
        rw [hb, Bool.true_and] at q
        refine br_f zb_10 (And.intro (vp_in_nI (by omega) (by omega)) ?_)
        rw [nI_clamp (n := A.length) (by omega), hx.2]
        refine br_c (fun z => ?_) (fun z => ?_)
        · have ep : xo_P bit x.2 = false := decide_eq_false (fun w => w z)
          rw [ep] at q
          exact xo_87 (by omega) hx.1 q
        · have ep : xo_P bit x.2 = true := decide_eq_true z
          rw [ep] at q
          exact xo_87 (by omega) hx.1 q
/-! replace -/
def xp_r (T : Nat → Int32) (c d : Int32) (p : Nat) : Nat → Int32 := fun q => if q < p ∧ T q = c then d else T q
def xp_P (c : Int32) : Int32 → Bool := fun v => decide (v = c)
theorem xp_t (hz : T p = c) (q : Nat) : upd (xp_r T c d p) p d q = xp_r T c d (p + 1) q := by
  by_cases e : q = p
  · subst e
    rw [pk_us]
    unfold xp_r
    rw [if_pos ⟨by omega, hz⟩]
  · rw [pk_un e]
    unfold xp_r
    by_cases h : q < p ∧ T q = c
    · rw [if_pos h, if_pos ⟨by omega, h.2⟩]
    · rw [if_neg h, if_neg (fun w => h ⟨by omega, w.2⟩)]
theorem xp_n (hz : ¬ T p = c) (q : Nat) : xp_r T c d p q = xp_r T c d (p + 1) q := by
  unfold xp_r
  by_cases h : q < p ∧ T q = c
  · rw [if_pos h, if_pos ⟨by omega, h.2⟩]
  · rw [if_neg h, if_neg]
    intro w
    by_cases e : q = p
    · subst e
      exact hz w.2
    · exact h ⟨by omega, w.2⟩
theorem xp_0 (q : Nat) : T q = xp_r T c d 0 q := by
  unfold xp_r
  rw [if_neg (by omega)]
theorem xp_p : xp_r T c d p p = T p := by
  unfold xp_r
  rw [if_neg (by omega)]
theorem xp_ct (hz : T p = c) : cu_c (xp_P c) T 0 (p + 1) = cu_c (xp_P c) T 0 p + 1 := by
  simp only [cu_c]
  rw [Nat.zero_add, if_pos (show xp_P c (T p) = true from decide_eq_true hz)]
theorem xp_cn (hz : ¬ T p = c) : cu_c (xp_P c) T 0 (p + 1) = cu_c (xp_P c) T 0 p := by
  simp only [cu_c]
  rw [Nat.zero_add, if_neg (show ¬ xp_P c (T p) = true from fun w => hz (of_decide_eq_true w)), Nat.add_zero]
theorem xp_23 {post : Int32 → SX → Prop} (hn : n ≤ 64) (K : ∀ ce : Nat → Int32, xt_R n (xp_r T c d n) g ce → post (nI (cu_c (xp_P c) T 0 n)) (nI n, nI g, fc, ff, fh, fb, ce, sz, lk, hl, hs)) : ∀ (e p : Nat) (ce : Nat → Int32), p + e = n → xt_R n (xp_r T c d p) g ce → wX_replace_23 post c d (nI n) (nI g) fc ff fh fb (e + 1) (nI (cu_c (xp_P c) T 0 p)) (nI p) ce sz lk hl hs := by
  intro e
  induction e with
  | zero =>
    intro p ce hp h
    obtain rfl : p = n := by omega
    exact br_t (nI_le (Nat.le_refl _) (by omega)) (K ce h)
  | succ e ih =>
    intro p ce hp h
    refine br_f (nI_ge (by omega) (by omega)) ?_
    refine xt_of h (by omega) fun h64 hce => ?_
    refine And.intro (vp_in_nI h64 (by omega)) ?_
    rw [nI_clamp (by omega), hce, xp_p]
    refine br_c (fun z => ?_) (fun z => ?_)
    · refine And.intro (vp_in_nI h64 (by omega)) (nm_e (nm_r (nI_1 _) (nm_r (nI_1 p) ?_)))
      have q := ih (p + 1) _ (by omega) (xt_eq (xt_wr (v := d) h (show p < n by omega)) (fun q _ => xp_t z q))
      rw [xp_ct z] at q
      exact q
    · refine nm_r (nI_1 p) ?_
      have q := ih (p + 1) _ (by omega) (xt_eq h (fun q _ => xp_n z q))
      rw [xp_cn z] at q
      exact q
end
end
section
/-! the reference's storing methods -/
def yo_sh (p n m : Nat) (a : Nat → Int32) : Nat → Int32 := fun t => if p + m ≤ t ∧ t < n + m then a (t - m) else a t
def yo_fi (p x : Nat) (H a : Nat → Int32) : Nat → Int32 := fun t => if p ≤ t ∧ t < p + x then H (t - p) else a t
def yo_dl (i j x : Nat) (a : Nat → Int32) : Nat → Int32 := fun t => if i ≤ t ∧ t < i + x then a (t + (j - i)) else a t
section
variable {n p k i j f h m x q : Nat} {H a : Nat → Int32}
theorem yo_sh_t (h : p + m ≤ q ∧ q < n + m) : yo_sh p n m a q = a (q - m) := if_pos h
theorem yo_sh_f (h : ¬ (p + m ≤ q ∧ q < n + m)) : yo_sh p n m a q = a q := if_neg h
theorem yo_fi_t (h : p ≤ q ∧ q < p + x) : yo_fi p x H a q = H (q - p) := if_pos h
theorem yo_fi_f (h : ¬ (p ≤ q ∧ q < p + x)) : yo_fi p x H a q = a q := if_neg h
theorem yo_dl_t (h : i ≤ q ∧ q < i + x) : yo_dl i j x a q = a (q + (j - i)) := if_pos h
theorem yo_dl_f (h : ¬ (i ≤ q ∧ q < i + x)) : yo_dl i j x a q = a q := if_neg h
theorem yo_sh_0 (n m : Nat) (a : Nat → Int32) : yo_sh n n m a = a := by
  funext t
  exact yo_sh_f (by omega)
theorem yo_sh_s (h : q < n) (a : Nat → Int32) : upd (yo_sh (q + 1) n m a) (q + m) (yo_sh (q + 1) n m a q) = yo_sh q n m a := by
  funext t
  by_cases e : t = q + m
  · subst e
    rw [pk_us, yo_sh_f (by omega), yo_sh_t (by omega), Nat.add_sub_cancel]
  · rw [pk_un e]
    by_cases e2 : q + m ≤ t ∧ t < n + m
    · rw [yo_sh_t (by omega), yo_sh_t e2]
    · rw [yo_sh_f (by omega), yo_sh_f e2]
theorem yo_fi_0 (p : Nat) (H a : Nat → Int32) : yo_fi p 0 H a = a := by
  funext t
  exact yo_fi_f (by omega)
theorem yo_fi_s (p x : Nat) (H a : Nat → Int32) : upd (yo_fi p x H a) (p + x) (H x) = yo_fi p (x + 1) H a := by
  funext t
  by_cases e : t = p + x
  · subst e
    rw [pk_us, yo_fi_t (by omega), Nat.add_sub_cancel_left]
  · rw [pk_un e]
    by_cases e2 : p ≤ t ∧ t < p + x
    · rw [yo_fi_t e2, yo_fi_t (by omega)]
    · rw [yo_fi_f e2, yo_fi_f (by omega)]
theorem yo_fin (hp : p ≤ n) (hq : q < n + k) : xt_ins a p k H q = yo_fi p k H (yo_sh p n k a) q := by
  by_cases h1 : q < p
  · rw [xt_ins_1 h1, yo_fi_f (by omega), yo_sh_f (by omega)]
  · by_cases h2 : q < p + k
    · rw [xt_ins_2 (by omega) h2, yo_fi_t (by omega)]
    · rw [xt_ins_3 (by omega), yo_fi_f (by omega), yo_sh_t (by omega)]
theorem yo_dl_0 (i j : Nat) (a : Nat → Int32) : yo_dl i j 0 a = a := by
  funext t
  exact yo_dl_f (by omega)
theorem yo_dl_s (hij : i ≤ j) (x : Nat) (a : Nat → Int32) : upd (yo_dl i j x a) (i + x) (yo_dl i j x a (j + x)) = yo_dl i j (x + 1) a := by
  funext t
  by_cases e : t = i + x
  · subst e
    rw [pk_us, yo_dl_f (by omega), yo_dl_t (by omega), show i + x + (j - i) = j + x from by omega]
  · rw [pk_un e]
    by_cases e2 : i ≤ t ∧ t < i + x
    · rw [yo_dl_t e2, yo_dl_t (by omega)]
    · rw [yo_dl_f e2, yo_dl_f (by omega)]
theorem yo_del (hij : i ≤ j) (hj : j ≤ n) (hq : q < n - (j - i)) : xt_del a i j q = yo_dl i j (n - j) a q := by
  by_cases h1 : q < i
  · rw [xt_del_1 h1, yo_dl_f (by omega)]
  · rw [xt_del_2 (by omega), yo_dl_t (by omega)]
end
section
variable {fn ff : Int32} {le st kl ks : Nat → Int32} {n p k i j f m h : Nat} {c s : Int32}
theorem yo_7 {post : SY → Prop} (hn : n + m ≤ 64) (hp : p ≤ n) (hf : f ≤ 64) (K : post (nI (n + m), nI (xm_f p m f), yo_sh p n m le, yo_sh p n m st, kl, ks)) : ∀ d q : Nat, q = p + d → q ≤ n → wY_open_7 post (nI p) (nI m) (nI n) (nI f) (d + 1) (nI q - 1) (yo_sh q n m le) (yo_sh q n m st) kl ks := by
  intro d
  induction d with
  | zero =>
    intro q hq hqn
    have e : q = p := by omega
    rw [e]
    unfold xm_f at K
    refine br_t ((zb_ltm (by omega) (by omega)).mpr (Nat.le_refl _)) (nm_r (nI_add n m) ?_)
    refine pk_le f p (fun c => ?_) (fun c => ?_)
    · rw [if_neg (by omega)] at K
      exact K
    · rw [if_pos c] at K
      exact nm_r (nI_add f m) K
  | succ d ih =>
    intro q hq hqn
    have e : q = (p + d) + 1 := by omega
    rw [e, nI_pred]
    have e1 : nI (p + d) + nI m = nI (p + d + m) := nI_add _ _
    refine br_f (nI_nlt (by omega) (by omega)) ?_
    rw [e1]
    refine ⟨vp_in_nI (by omega) (by omega), vp_in_nI (by omega) (by omega), nm_r (e' := yo_sh (p + d) n m le) ?_ ⟨vp_in_nI (by omega) (by omega), vp_in_nI (by omega) (by omega), nm_r (e' := yo_sh (p + d) n m st) ?_ (nm_r (zb_pm _) (ih (p + d) rfl (by omega)))⟩⟩
    · rw [nI_clamp (by omega), nI_clamp (by omega), yo_sh_s (by omega)]
    · rw [nI_clamp (by omega), nI_clamp (by omega), yo_sh_s (by omega)]
theorem yo_op {post : SY → Prop} (hn : n + m ≤ 64) (hp : p ≤ n) (hf : f ≤ 64) (K : post (nI (n + m), nI (xm_f p m f), yo_sh p n m le, yo_sh p n m st, kl, ks)) : wpY_open post (nI n, nI f, le, st, kl, ks) (nI p) (nI m) := by
  have q := yo_7 hn hp hf K (n - p) n (by omega) (Nat.le_refl _)
  rw [yo_sh_0, yo_sh_0] at q
  exact nm_e ⟨_, q⟩
theorem yp_67 {post : Int32 → SY → Prop} (hk : p + k ≤ 64) (K : post fn (fn, ff, yo_fi p k (fun _ => c) le, yo_fi p k (fun _ => s) st, kl, ks)) : ∀ d x : Nat, x + d = k → wY_put_67 post (nI p) c (nI k) s fn ff (d + 1) (nI x) (yo_fi p x (fun _ => c) le) (yo_fi p x (fun _ => s) st) kl ks := by
  intro d
  induction d with
  | zero =>
    intro x hx
    have e : x = k := by omega
    rw [e]
    exact br_t (nI_le (Nat.le_refl _) (by omega)) K
  | succ d ih =>
    intro x hx
    refine br_f (nI_ge (by omega) (by omega)) ?_
    rw [nI_add p x]
    refine ⟨vp_in_nI (by omega) (by omega), nm_r (e' := yo_fi p (x + 1) (fun _ => c) le) ?_ ⟨vp_in_nI (by omega) (by omega), nm_r (e' := yo_fi p (x + 1) (fun _ => s) st) ?_ (nm_r (nI_1 x) (ih (x + 1) (by omega)))⟩⟩
    · rw [nI_clamp (by omega)]; exact yo_fi_s p x (fun _ => c) le
    · rw [nI_clamp (by omega)]; exact yo_fi_s p x (fun _ => s) st
theorem yk_2 {post : SY → Prop} (hij : i ≤ j) (hj : j ≤ 64) (K : ∀ kl ks : Nat → Int32, (∀ t, t < j - i → kl t = le (i + t) ∧ ks t = st (i + t)) → post (fn, ff, le, st, kl, ks)) : ∀ (d x : Nat) (kl ks : Nat → Int32), x + d = j - i → (∀ t, t < x → kl t = le (i + t) ∧ ks t = st (i + t)) → wY_keep_2 post (nI i) (nI j) fn ff (d + 1) (nI (i + x)) le st kl ks := by
  intro d
  induction d with
  | zero =>
    intro x kl ks hx hk
    refine br_t (nI_le (by omega) (by omega)) (K kl ks ?_)
    rw [← show x = j - i from by omega]
    exact hk
  | succ d ih =>
    intro x kl ks hx hk
    refine br_f (nI_ge (by omega) (by omega)) ?_
    rw [pk_sub (a := i + x) (b := i) (by omega), show i + x - i = x from by omega, nI_clamp (n := i + x) (by omega), nI_clamp (n := x) (by omega)]
    exact ⟨vp_in_nI (by omega) (by omega), vp_in_nI (by omega) (by omega), nm_e ⟨vp_in_nI (by omega) (by omega), vp_in_nI (by omega) (by omega), nm_e (nm_r (nI_1 (i + x)) (ih (x + 1) _ _ (by omega) (xh_ex hk)))⟩⟩
theorem yk_keep {post : SY → Prop} (hij : i ≤ j) (hj : j ≤ 64) (K : ∀ kl ks : Nat → Int32, (∀ t, t < j - i → kl t = le (i + t) ∧ ks t = st (i + t)) → post (fn, ff, le, st, kl, ks)) : wpY_keep post (fn, ff, le, st, kl, ks) (nI i) (nI j) :=
  ⟨j - i + 1, yk_2 hij hj K (j - i) 0 kl ks (by omega) (fun t ht => absurd ht (by omega))⟩
theorem yk_8 {post : SY → Prop} (hk : p + k ≤ 64) (K : post (fn, ff, yo_fi p k kl le, yo_fi p k ks st, kl, ks)) : ∀ d x : Nat, x + d = k → wY_putKept_8 post (nI p) (nI k) fn ff (d + 1) (nI x) (yo_fi p x kl le) (yo_fi p x ks st) kl ks := by
  intro d
  induction d with
  | zero =>
    intro x hx
    have e : x = k := by omega
    rw [e]
    exact br_t (nI_le (Nat.le_refl _) (by omega)) K
  | succ d ih =>
    intro x hx
    refine br_f (nI_ge (by omega) (by omega)) ?_
    rw [nI_add p x]
    refine ⟨vp_in_nI (by omega) (by omega), vp_in_nI (by omega) (by omega), nm_r (e' := yo_fi p (x + 1) kl le) ?_ ⟨vp_in_nI (by omega) (by omega), vp_in_nI (by omega) (by omega), nm_r (e' := yo_fi p (x + 1) ks st) ?_ (nm_r (nI_1 x) (ih (x + 1) (by omega)))⟩⟩
    · rw [nI_clamp (by omega), nI_clamp (by omega)]; exact yo_fi_s p x kl le
    · rw [nI_clamp (by omega), nI_clamp (by omega)]; exact yo_fi_s p x ks st
theorem yk_put {post : SY → Prop} (hn : n + m ≤ 64) (hp : p ≤ n) (hf : f ≤ 64) (K : ∀ le' st' : Nat → Int32, (∀ q, q < n + m → xt_ins le p m kl q = le' q) → (∀ q, q < n + m → xt_ins st p m ks q = st' q) → post (nI (n + m), nI (xm_f p m f), le', st', kl, ks)) : wpY_putKept post (nI n, nI f, le, st, kl, ks) (nI p) (nI m) := by
  unfold wpY_putKept
  refine yo_op hn hp hf ⟨m + 1, ?_⟩
  have q := yk_8 (post := post) (fn := nI (n + m)) (ff := nI (xm_f p m f)) (le := yo_sh p n m le) (st := yo_sh p n m st) (kl := kl) (ks := ks) (p := p) (k := m) (by omega) (K _ _ (fun q hq => yo_fin hp hq) (fun q hq => yo_fin hp hq)) m 0 (by omega)
  rw [yo_fi_0, yo_fi_0] at q
  exact q
theorem yr_13 {post : Int32 → SY → Prop} (hij : i ≤ j) (hj : j ≤ n) (hn : n ≤ 64) (hf : f ≤ 64) (K : post (nI (n - (j - i))) (nI (n - (j - i)), nI (xd_f i j f), yo_dl i j (n - j) le, yo_dl i j (n - j) st, kl, ks)) : ∀ d x : Nat, j + x + d = n → wY_remove_13 post (nI i) (nI j) (nI n) (nI f) (d + 1) (nI (j + x)) (yo_dl i j x le) (yo_dl i j x st) kl ks := by
  intro d
  induction d with
  | zero =>
    intro x hx
    have e : x = n - j := by omega
    rw [e]
    unfold xd_f at K
    refine br_t (nI_le (by omega) (by omega)) (nm_r (e' := nI (n - (j - i))) (by rw [pk_sub hij, pk_sub (by omega)]) ?_)
    refine pk_lt f j (fun c => ?_) (fun c => ?_)
    · rw [if_pos c] at K
      refine pk_le f i (fun c2 => ?_) (fun c2 => ?_)
      · rw [if_pos c2] at K
        exact K
      · rw [if_neg (by omega)] at K
        exact K
    · rw [if_neg (by omega)] at K
      exact nm_r (e' := nI (f - (j - i))) (by rw [pk_sub hij, pk_sub (by omega)]) K
  | succ d ih =>
    intro x hx
    refine br_f (nI_ge (by omega) (by omega)) ?_
    rw [pk_sub hij, pk_sub (a := j + x) (b := j - i) (by omega), show j + x - (j - i) = i + x from by omega]
    refine ⟨vp_in_nI (by omega) (by omega), vp_in_nI (by omega) (by omega), nm_r (e' := yo_dl i j (x + 1) le) ?_ ⟨vp_in_nI (by omega) (by omega), vp_in_nI (by omega) (by omega), nm_r (e' := yo_dl i j (x + 1) st) ?_ (nm_r (nI_1 (j + x)) (ih (x + 1) (by omega)))⟩⟩
    · rw [nI_clamp (by omega), nI_clamp (by omega), yo_dl_s hij]
    · rw [nI_clamp (by omega), nI_clamp (by omega), yo_dl_s hij]
theorem ys_ok {post : Int32 → Prop} (hij : i ≤ j) (hj : j ≤ n) (hn : n ≤ 64) (K : post 1) : wpY_isStretch post (nI n, ff, le, st, kl, ks) (nI i) (nI j) :=
  br_f (nI_pos (by omega)) (br_f (nI_nlt hij (by omega)) (br_f (nI_nlt hj (by omega)) K))
theorem yr_rem {post : Int32 → SY → Prop} (hij : i ≤ j) (hj : j ≤ n) (hn : n ≤ 64) (hf : f ≤ 64) (K : ∀ le' st' : Nat → Int32, (∀ q, q < n - (j - i) → xt_del le i j q = le' q) → (∀ q, q < n - (j - i) → xt_del st i j q = st' q) → post (nI (n - (j - i))) (nI (n - (j - i)), nI (xd_f i j f), le', st', kl, ks)) : wpY_remove post (nI n, nI f, le, st, kl, ks) (nI i) (nI j) := by
  unfold wpY_remove
  refine ys_ok hij hj hn ?_
  refine br_f zb_10 ⟨n - j + 1, ?_⟩
  have q := yr_13 (post := post) (kl := kl) (ks := ks) hij hj hn hf (K _ _ (fun q hq => yo_del hij hj hq) (fun q hq => yo_del hij hj hq)) (n - j) 0 (by omega)
  rw [yo_dl_0, yo_dl_0] at q
  exact q
/-! styles -/
def ym_s (st : Nat → Int32) (i x : Nat) (F : Int32 → Int32) : Nat → Int32 := fun q => if i ≤ q ∧ q < i + x then F (st q) else st q
theorem ym_s0 (st : Nat → Int32) (i : Nat) (F : Int32 → Int32) : ym_s st i 0 F = st := by
  funext q
  exact if_neg (by omega)
theorem ym_ss (st : Nat → Int32) (i x : Nat) (F : Int32 → Int32) : upd (ym_s st i x F) (i + x) (F (st (i + x))) = ym_s st i (x + 1) F := by
  funext q
  by_cases e : q = i + x
  · subst e
    rw [pk_us]
    unfold ym_s
    rw [if_pos (by omega)]
  · rw [pk_un e]
    unfold ym_s
    by_cases e2 : i ≤ q ∧ q < i + x
    · rw [if_pos e2, if_pos (by omega)]
    · rw [if_neg e2, if_neg (by omega)]
theorem ym_at (st : Nat → Int32) (i x : Nat) (F : Int32 → Int32) : ym_s st i x F (i + x) = st (i + x) := if_neg (by omega)
theorem ym_51 {post : Int32 → SY → Prop} {J : Int32 → Int32 → (Nat → Int32) → (Nat → Int32) → (Nat → Int32) → (Nat → Int32) → Prop} {x2 x3 x4 v z0 : Int32} {q : Nat} (hq : q < 64) (K : J z0 (nI (q + 1)) le (upd st q v) kl ks) : wY_setParts_51 post J x2 x3 x4 (nI q) v z0 fn ff le st kl ks :=
  And.intro (vp_in_nI hq (by omega)) (nm_r (e' := upd st q v) (by rw [nI_clamp (by omega)]) (nm_r (nI_1 q) K))
theorem ym_6 {post : Int32 → SY → Prop} {b : Int32} (hij : i ≤ j) (hj : j ≤ 64) (K : post (nI (cu_c (xs_P (xs_m b s)) st i (j - i))) (fn, ff, le, ym_s st i (j - i) (xs_m b s), kl, ks)) : ∀ d x : Nat, x + d = j - i → wY_setParts_6 post (nI j) b s fn ff (d + 1) (nI (cu_c (xs_P (xs_m b s)) st i x)) (nI (i + x)) le (ym_s st i x (xs_m b s)) kl ks := by
  intro d
  induction d with
  | zero =>
    intro x hx
    have e : x = j - i := by omega
    refine br_t (nI_le (by omega) (by omega)) ?_
    rw [e]
    exact K
  | succ d ih =>
    intro x hx
    refine br_f (nI_ge (by omega) (by omega)) (And.intro (vp_in_nI (by omega) (by omega)) ?_)
    rw [nI_clamp (n := i + x) (by omega), ym_at]
    refine nm_r (e' := xs_m b s (st (i + x))) rfl (And.intro (vp_in_nI (by omega) (by omega)) ?_)
    have q := ih (x + 1) (by omega)
    rw [← ym_ss] at q
    refine br_c (fun z => ?_) (fun z => ?_)
    · refine ym_51 (by omega) ?_
      have e : cu_c (xs_P (xs_m b s)) st i (x + 1) = cu_c (xs_P (xs_m b s)) st i x := by
        simp only [cu_c]
        rw [if_neg (show ¬ xs_P (xs_m b s) (st (i + x)) = true from fun w => of_decide_eq_true w z), Nat.add_zero]
      rw [e] at q
      exact q
    · rw [nI_1]
      refine ym_51 (by omega) ?_
      have e : cu_c (xs_P (xs_m b s)) st i (x + 1) = cu_c (xs_P (xs_m b s)) st i x + 1 := by
        simp only [cu_c]
        rw [if_pos (show xs_P (xs_m b s) (st (i + x)) = true from decide_eq_true z)]
      rw [e] at q
      exact q
theorem ym_set {post : Int32 → SY → Prop} {b : Int32} (hij : i ≤ j) (hj : j ≤ 64) (K : ∀ st' : Nat → Int32, (∀ q, xs_st st i j (xs_m b s) q = st' q) → post (nI (cu_c (xs_P (xs_m b s)) st i (j - i))) (fn, ff, le, st', kl, ks)) : wpY_setParts post (fn, ff, le, st, kl, ks) (nI i) (nI j) b s := by
  have q := ym_6 (post := post) (fn := fn) (ff := ff) (le := le) (kl := kl) (ks := ks) (st := st) (b := b) (s := s) hij hj (K _ (fun q => by unfold xs_st ym_s; rw [show i + (j - i) = j from by omega])) (j - i) 0 (by omega)
  rw [ym_s0] at q
  exact ⟨_, q⟩
theorem yg_32 {post : Int32 → SY → Prop} {bit : Int32} (hij : i ≤ j) (hj : j ≤ 64) (K : ∀ b : Bool, b = cu_a (xo_P bit) st i (j - i) → ((zb_fl b = 0 → wY_toggle_82 post (zb_fl b) bit bit (nI j) (nI i) fn ff le st kl ks) ∧ (¬ zb_fl b = 0 → wY_toggle_82 post (zb_fl b) 0 bit (nI j) (nI i) fn ff le st kl ks))) : ∀ d x : Nat, x + d = j - i → wY_toggle_32 post (nI i) (nI j) bit fn ff le st kl ks (d + 1) (zb_fl (cu_a (xo_P bit) st i x)) (nI (i + x)) := by
  intro d
  induction d with
  | zero =>
    intro x hx
    have e : x = j - i := by omega
    refine br_t (nI_le (by omega) (by omega)) (K _ ?_)
    rw [e]
  | succ d ih =>
    intro x hx
    have q := ih (x + 1) (by omega)
    simp only [cu_a] at q
    refine br_f (nI_ge (by omega) (by omega)) ?_
    cases hb : cu_a (xo_P bit) st i x with
    | false =>
      rw [hb, Bool.false_and] at q
      exact br_t rfl (nm_r (nI_1 (i + x)) q)
    | true =>
      rw [hb, Bool.true_and] at q
      refine br_f zb_10 (And.intro (vp_in_nI (by omega) (by omega)) ?_)
      rw [nI_clamp (n := i + x) (by omega)]
      refine br_c (fun z => ?_) (fun z => ?_)
      · have ep : xo_P bit (st (i + x)) = false := decide_eq_false (fun w => w z)
        rw [ep] at q
        exact nm_r (nI_1 (i + x)) q
      · have ep : xo_P bit (st (i + x)) = true := decide_eq_true z
        rw [ep] at q
        exact nm_r (nI_1 (i + x)) q
theorem yp_23 {post : Int32 → SY → Prop} {d : Int32} (hn : n ≤ 64) (K : post (nI (cu_c (xp_P c) le 0 n)) (nI n, ff, xp_r le c d n, st, kl, ks)) : ∀ e p : Nat, p + e = n → wY_replace_23 post c d (nI n) ff (e + 1) (nI (cu_c (xp_P c) le 0 p)) (nI p) (xp_r le c d p) st kl ks := by
  intro e
  induction e with
  | zero =>
    intro p hp
    have e : p = n := by omega
    rw [e]
    exact br_t (nI_le (Nat.le_refl _) (by omega)) K
  | succ e ih =>
    intro p hp
    have q := ih (p + 1) (by omega)
    refine br_f (nI_ge (by omega) (by omega)) (And.intro (vp_in_nI (by omega) (by omega)) ?_)
    rw [nI_clamp (n := p) (by omega), xp_p]
    refine br_c (fun z => ?_) (fun z => ?_)
    · rw [xp_ct z, ← funext (xp_t (d := d) z)] at q
      exact And.intro (vp_in_nI (by omega) (by omega)) (nm_e (nm_r (nI_1 _) (nm_r (nI_1 p) q)))
    · rw [xp_cn z, ← funext (xp_n (d := d) z)] at q
      exact nm_r (nI_1 p) q
end
end
section
/-! looking -/
def xq_P (bits : Int32) : Int32 → Bool := fun v => decide ((v &&& bits) = bits)
theorem zb_m11 (b : Nat) : nI b - 1 + 1 = nI (b + 1) - 1 := by rw [nI_pred, Int32.sub_add_cancel]
section
variable {post : Int32 → Prop} {fn ff : Int32} {le st kl ks : Nat → Int32} {n p q p0 : Nat} {v bits : Int32}
theorem yb_is (hq : q < 64) (K1 : (q = 0 ∨ ¬ st q = st (q - 1)) → post 1) (K0 : ¬ (q = 0 ∨ ¬ st q = st (q - 1)) → post 0) : wpY_isBegin post (fn, ff, le, st, kl, ks) (nI q) := by
  refine pk_eq q 0 (fun c => K1 (Or.inl c)) (fun c => ?_)
  obtain ⟨q, rfl⟩ : ∃ r, q = r + 1 := ⟨q - 1, by omega⟩
  rw [Nat.add_sub_cancel] at K1 K0
  rw [nI_pred]
  refine And.intro (vp_in_nI (by omega) (by omega)) (And.intro (vp_in_nI (by omega) (by omega)) ?_)
  rw [nI_clamp (n := q + 1) (by omega), nI_clamp (n := q) (by omega)]
  refine br_c (fun z => K0 (fun w => ?_)) (fun z => K1 (Or.inr z))
  rcases w with w | w
  · omega
  · exact w z
theorem yb_runs (hn : n ≤ 64) (K : post (nI (cu_b st n))) : ∀ d q : Nat, q + d = n → wY_runs_4 post (nI n) ff le st kl ks (d + 1) (nI (cu_b st q)) (nI q) := by
  intro d
  induction d with
  | zero =>
    intro q hq
    have e : q = n := by omega
    rw [e]
    exact br_t (nI_le (Nat.le_refl _) (by omega)) K
  | succ d ih =>
    intro q hq
    have r := ih (q + 1) (by omega)
    refine br_f (nI_ge (by omega) (by omega)) ?_
    refine yb_is (by omega) (fun z => ?_) (fun z => ?_)
    · rw [cu_b_t z] at r
      exact br_f zb_10 (nm_r (nI_1 _) (nm_r (nI_1 q) r))
    · rw [cu_b_f z] at r
      exact br_t rfl (nm_r (nI_1 q) r)
theorem yb_rb (hn : n ≤ 64) (hp : p0 < n) (hb : p0 = 0 ∨ ¬ st p0 = st (p0 - 1)) (hv : nI (cu_b st p0) = v) (hno : ∀ q, q < p0 → (q = 0 ∨ ¬ st q = st (q - 1)) → ¬ nI (cu_b st q) = v) (K : post (nI p0)) : ∀ d q : Nat, q + d = p0 → wY_runBegin_4 post v (nI n) ff le st kl ks (d + 1) (nI (cu_b st q)) (nI q) := by
  intro d
  induction d with
  | zero =>
    intro q hq
    have e : q = p0 := by omega
    rw [e]
    refine br_f (nI_ge hp (by omega)) ?_
    exact yb_is (by omega) (fun z => br_f zb_10 (br_t hv K)) (fun z => absurd hb z)
  | succ d ih =>
    intro q hq
    have r := ih (q + 1) (by omega)
    refine br_f (nI_ge (by omega) (by omega)) ?_
    refine yb_is (by omega) (fun z => ?_) (fun z => ?_)
    · rw [cu_b_t z] at r
      exact br_f zb_10 (br_f (hno q (by omega) z) (nm_r (nI_1 _) (nm_r (nI_1 q) r)))
    · rw [cu_b_f z] at r
      exact br_t rfl (nm_r (nI_1 q) r)
theorem yb_rn (hn : n ≤ 64) (hno : ∀ q, q < n → (q = 0 ∨ ¬ st q = st (q - 1)) → ¬ nI (cu_b st q) = v) (K : post (-4)) : ∀ d q : Nat, q + d = n → wY_runBegin_4 post v (nI n) ff le st kl ks (d + 1) (nI (cu_b st q)) (nI q) := by
  intro d
  induction d with
  | zero =>
    intro q hq
    have e : q = n := by omega
    rw [e]
    exact br_t (nI_le (Nat.le_refl _) (by omega)) K
  | succ d ih =>
    intro q hq
    have r := ih (q + 1) (by omega)
    refine br_f (nI_ge (by omega) (by omega)) ?_
    refine yb_is (by omega) (fun z => ?_) (fun z => ?_)
    · rw [cu_b_t z] at r
      exact br_f zb_10 (br_f (hno q (by omega) z) (nm_r (nI_1 _) (nm_r (nI_1 q) r)))
    · rw [cu_b_f z] at r
      exact br_t rfl (nm_r (nI_1 q) r)
theorem yb_ro (hp : p < 64) (K : post (nI (cu_b st (p + 1)) - 1)) : ∀ d q : Nat, q + d = p + 1 → wY_runOf_19 post (nI p) fn ff le st kl ks (d + 1) (nI (cu_b st q) - 1) (nI q) := by
  intro d
  induction d with
  | zero =>
    intro q hq
    have e : q = p + 1 := by omega
    rw [e]
    exact br_t (nI_lt (by omega) (by omega)) K
  | succ d ih =>
    intro q hq
    have r := ih (q + 1) (by omega)
    refine br_f (nI_nlt (by omega) (by omega)) ?_
    refine yb_is (by omega) (fun z => ?_) (fun z => ?_)
    · rw [cu_b_t z] at r
      exact br_f zb_10 (nm_r (zb_m11 _) (nm_r (nI_1 q) r))
    · rw [cu_b_f z] at r
      exact br_t rfl (nm_r (nI_1 q) r)
theorem yq_16 (hn : n ≤ 64) (K : post (nI (cu_c (xq_P bits) st 0 n))) : ∀ d q : Nat, q + d = n → wY_having_16 post bits (nI n) ff le st kl ks (d + 1) (nI (cu_c (xq_P bits) st 0 q)) (nI q) := by
  intro d
  induction d with
  | zero =>
    intro q hq
    have e : q = n := by omega
    rw [e]
    exact br_t (nI_le (Nat.le_refl _) (by omega)) K
  | succ d ih =>
    intro q hq
    have r := ih (q + 1) (by omega)
    simp only [cu_c, Nat.zero_add] at r
    refine br_f (nI_ge (by omega) (by omega)) (And.intro (vp_in_nI (by omega) (by omega)) ?_)
    rw [nI_clamp (n := q) (by omega)]
    refine br_c (fun z => ?_) (fun z => ?_)
    · rw [if_pos (show xq_P bits (st q) = true from decide_eq_true z)] at r
      exact nm_r (nI_1 _) (nm_r (nI_1 q) r)
    · rw [if_neg (show ¬ xq_P bits (st q) = true from fun w => z (of_decide_eq_true w)), Nat.add_zero] at r
      exact nm_r (nI_1 q) r
theorem yq_4 (hn : n ≤ 64) (K : post (cu_d le st n)) : ∀ d q : Nat, q + d = n → wY_digest_4 post (nI n) ff le st kl ks (d + 1) (cu_d le st q) (nI q) := by
  intro d
  induction d with
  | zero =>
    intro q hq
    have e : q = n := by omega
    rw [e]
    exact br_t (nI_le (Nat.le_refl _) (by omega)) K
  | succ d ih =>
    intro q hq
    have r := ih (q + 1) (by omega)
    refine br_f (nI_ge (by omega) (by omega)) (And.intro (vp_in_nI (by omega) (by omega)) (And.intro (vp_in_nI (by omega) (by omega)) ?_))
    rw [nI_clamp (n := q) (by omega), nI_1 q]
    exact nm_r (e' := cu_d le st (q + 1)) rfl (nm_e r)
end
section
variable {post : Int32 → Prop} {fn fg fc ff fh fb : Int32} {ce sz lk hl hs : Nat → Int32} {n g r : Nat} {T S : Nat → Int32} {bits : Int32} {L : List (Nat × Int32)}
theorem xq_19 (hF : ru_F sz lk 0 L) (hlen : L.length ≤ 64) (hr : r ≤ L.length) (K : ∀ A B : List (Nat × Int32), L = A ++ B → A.length = r → post (nI (ru_tl A))) : ∀ (d : Nat) (A B : List (Nat × Int32)), L = A ++ B → A.length + d = r → wX_runBegin_19 post (nI r) fn fg fc ff fh fb ce sz lk hl hs (d + 1) (nI (ru_tl A)) (nI A.length) := by
  intro d
  induction d with
  | zero =>
    intro A B e ha
    exact br_t (nI_le (by omega) (by omega)) (K A B e (by omega))
  | succ d ih =>
    intro A B e ha
    have el : A.length + B.length = L.length := by rw [e]; simp
    cases B with
    | nil =>
      exfalso
      simp only [List.length_nil] at el
      omega
    | cons x B =>
      have hx := ru_F_at (A := A) (x := x) (B := B) (by rw [← e]; exact hF)
      have e2 : L = (A ++ [x]) ++ B := by rw [e]; simp
      have e3 : (A ++ [x]).length = A.length + 1 := by simp
      have e4 : ru_tl (A ++ [x]) = ru_tl A + x.1 := by rw [ru_tl_app]; rfl
      have q := ih (A ++ [x]) B e2 (by omega)
      rw [e3, e4] at q
      refine br_f (nI_ge (by omega) (by omega)) (And.intro (vp_in_nI (by omega) (by omega)) (nm_r (e' := nI (ru_tl A + x.1)) ?_ (nm_r (nI_1 _) q)))
      rw [nI_clamp (by omega), hx.1, nI_add]
theorem xq_16 {tot : Nat} (hF : ru_F sz lk 0 L) (hlen : L.length ≤ 64) (K : post (nI tot)) : ∀ (B A : List (Nat × Int32)) (acc : Nat), L = A ++ B → acc + ru_sm (xq_P bits) B = tot → wX_having_16 post bits fn fg (nI L.length) ff fh fb ce sz lk hl hs (B.length + 1) (nI acc) (nI A.length) := by
  intro B
  induction B with
  | nil =>
    intro A acc e ht
    have el : A.length = L.length := by rw [e, List.append_nil]
    have e2 : acc = tot := ht
    rw [e2]
    exact br_t (nI_le (by omega) (by omega)) K
  | cons x B ih =>
    intro A acc e ht
    have el : A.length + (B.length + 1) = L.length := by rw [e]; simp
    have hx := ru_F_at (A := A) (x := x) (B := B) (by rw [← e]; exact hF)
    have e2 : L = (A ++ [x]) ++ B := by rw [e]; simp
    have e3 : (A ++ [x]).length = A.length + 1 := by simp
    simp only [ru_sm] at ht
    refine br_f (nI_ge (by omega) (by omega)) (And.intro (vp_in_nI (by omega) (by omega)) ?_)
    rw [nI_clamp (n := A.length) (by omega), hx.1, hx.2]
    refine br_c (fun z => ?_) (fun z => ?_)
    · rw [if_pos (show xq_P bits x.2 = true from decide_eq_true z)] at ht
      have q := ih (A ++ [x]) (acc + x.1) e2 (by omega)
      rw [e3] at q
      exact And.intro (vp_in_nI (by omega) (by omega)) (nm_r (nI_add acc x.1) (nm_r (nI_1 _) q))
    · rw [if_neg (show ¬ xq_P bits x.2 = true from fun w => z (of_decide_eq_true w))] at ht
      have q := ih (A ++ [x]) acc e2 (by omega)
      rw [e3] at q
      exact nm_r (nI_1 _) q
theorem xq_17 {J : Int32 → Int32 → Int32 → Prop} {A B : List (Nat × Int32)} {x : Nat × Int32} (hT : xt_R n T g ce) (hF : ru_F sz lk 0 L) (hlen : L.length ≤ 64) (htl : ru_tl L = n) (hex : ∀ q, q < n → ru_ex L q = S q) (e : L = A ++ x :: B) (K : J (cu_d T S (ru_tl A + x.1)) (nI (ru_tl A + x.1)) (nI (A.length + 1))) : ∀ d k : Nat, k + d = x.1 → wX_digest_17 post J (nI A.length) (nI n) (nI g) fc ff fh fb ce sz lk hl hs (d + 1) (cu_d T S (ru_tl A + k)) (nI (ru_tl A + k)) (nI k) := by
  have hn := hT.2.1
  have el : A.length + (B.length + 1) = L.length := by rw [e]; simp
  have et : ru_tl A + (x.1 + ru_tl B) = ru_tl L := by rw [e, ru_tl_app]; rfl
  have hx := ru_F_at (A := A) (x := x) (B := B) (by rw [← e]; exact hF)
  have hS := cu_b_S (S := S) (fun q hq => hex q (by omega)) e
  intro d
  induction d with
  | zero =>
    intro k hk
    refine And.intro (vp_in_nI (by omega) (by omega)) ?_
    rw [nI_clamp (n := A.length) (by omega), hx.1]
    have ek : k = x.1 := by omega
    rw [ek]
    exact br_t (nI_le (Nat.le_refl _) (by omega)) (nm_r (nI_1 _) K)
  | succ d ih =>
    intro k hk
    refine And.intro (vp_in_nI (by omega) (by omega)) ?_
    rw [nI_clamp (n := A.length) (by omega), hx.1, hx.2, ← hS k (by omega)]
    refine br_f (nI_ge (by omega) (by omega)) ?_
    refine xt_of hT (by omega) fun h64 hce => ?_
    refine nm_r (nI_1 _) (And.intro (vp_in_nI h64 (by omega)) (And.intro (vp_in_nI (by omega) (by omega)) (nm_r (e' := cu_d T S (ru_tl A + (k + 1))) ?_ (nm_r (nI_1 k) (ih (k + 1) (by omega))))))
    rw [nI_clamp (by omega), hce]
    rfl
theorem xq_6 (hT : xt_R n T g ce) (hF : ru_F sz lk 0 L) (hlen : L.length ≤ 64) (htl : ru_tl L = n) (hex : ∀ q, q < n → ru_ex L q = S q) (K : post (cu_d T S n)) : ∀ B A : List (Nat × Int32), L = A ++ B → wX_digest_6 post (nI n) (nI g) (nI L.length) ff fh fb ce sz lk hl hs (B.length + 1) (cu_d T S (ru_tl A)) (nI (ru_tl A)) (nI A.length) := by
  intro B
  induction B with
  | nil =>
    intro A e
    have el : A.length = L.length := by rw [e, List.append_nil]
    have et : ru_tl A = n := by rw [← htl, e, List.append_nil]
    rw [et]
    exact br_t (nI_le (by omega) (by omega)) K
  | cons x B ih =>
    intro A e
    have el : A.length + (B.length + 1) = L.length := by rw [e]; simp
    have e2 : L = (A ++ [x]) ++ B := by rw [e]; simp
    have e3 : (A ++ [x]).length = A.length + 1 := by simp
    have e4 : ru_tl (A ++ [x]) = ru_tl A + x.1 := by rw [ru_tl_app]; rfl
    have q := ih (A ++ [x]) e2
    rw [e3, e4] at q
    exact br_f (nI_ge (by omega) (by omega)) ⟨x.1 + 1, xq_17 hT hF hlen htl hex e q x.1 0 (by omega)⟩
end
end
section
/-! whole calls whose arguments are good, each side -/
theorem xt_cg {T T' H H' : Nat → Int32} {n p k : Nat} (hT : ∀ q, q < n → T q = T' q) (hH : ∀ t, t < k → H t = H' t) (hp : p ≤ n) : ∀ q, q < n + k → xt_ins T p k H q = xt_ins T' p k H' q := by
  intro q hq
  by_cases h1 : q < p
  · rw [xt_ins_1 h1, xt_ins_1 h1]
    exact hT q (by omega)
  · by_cases h2 : q < p + k
    · rw [xt_ins_2 (by omega) h2, xt_ins_2 (by omega) h2]
      exact hH _ (by omega)
    · rw [xt_ins_3 (by omega), xt_ins_3 (by omega)]
      exact hT _ (by omega)
def zz_s (n p : Nat) (S : Nat → Int32) : Int32 := if n = 0 then 0 else S (p - 1)
def zz_gd (n : Nat) (a b : Int32) : Prop := ¬ a < 0 ∧ ¬ b < a ∧ b ≤ nI n
def zz_lt (c : Int32) : Prop := ¬ c < 0 ∧ c ≤ 25
theorem zz_of {n : Nat} {x : Int32} (hn : n ≤ 64) (h0 : ¬ x < 0) (h1 : x ≤ nI n) : ∃ p : Nat, p ≤ n ∧ x = nI p := by
  obtain ⟨p, hp, rfl⟩ := nI_of h0
  exact ⟨p, (nI_leI hp (by omega)).mp h1, rfl⟩
theorem zz_gd_of {n : Nat} {a b : Int32} (hn : n ≤ 64) (h : zz_gd n a b) : ∃ i j : Nat, a = nI i ∧ b = nI j ∧ i ≤ j ∧ j ≤ n := by
  obtain ⟨h0, h1, h2⟩ := h
  obtain ⟨j, hj, rfl⟩ := zz_of hn (Int32.not_lt.mpr (Int32.le_trans (Int32.not_lt.mp h0) (Int32.not_lt.mp h1))) h2
  obtain ⟨i, hi, rfl⟩ := nI_of h0
  exact ⟨i, j, rfl, rfl, (nI_leI hi (by omega)).mp (Int32.not_lt.mp h1), hj⟩
section
variable {fn fg fc ff fh fb : Int32} {ce sz lk hl hs : Nat → Int32} {n p q k i j g f h m t : Nat} {T S : Nat → Int32} {s c d a b : Int32}
theorem xl_ok {post : Int32 → Prop} (h : zz_lt c) (K : post 0) : wpX_badLetter post (fn, fg, fc, ff, fh, fb, ce, sz, lk, hl, hs) c := br_f h.1 (br_t h.2 K)
theorem xl_no {post : Int32 → Prop} (h : ¬ zz_lt c) (K : post 1) : wpX_badLetter post (fn, fg, fc, ff, fh, fb, ce, sz, lk, hl, hs) c := by
  by_cases h0 : c < 0
  · exact br_t h0 K
  · exact br_f h0 (br_f (fun h1 => h ⟨h0, h1⟩) K)
theorem xb_no {post : Int32 → Prop} (h : ¬ zz_gd n a b) (K : post 1) : wpX_bad post (nI n, fg, fc, ff, fh, fb, ce, sz, lk, hl, hs) a b := by
  by_cases h0 : a < 0
  · exact br_t h0 K
  · by_cases h1 : b < a
    · exact br_f h0 (br_t h1 K)
    · exact br_f h0 (br_f h1 (br_f (fun h2 => h ⟨h0, h1, h2⟩) K))
theorem xr_in {post : Int32 → SX → Prop} (hS : ru_D n S fc sz lk) (hn : n ≤ 64) (hq : q < n) (K : ∀ (fb : Int32) (r : Nat), r < 64 → lk r = S q → cu_b S (q + 1) = r + 1 → post (nI r) (fn, fg, fc, ff, fh, fb, ce, sz, lk, hl, hs)) : wpX_runAt post (fn, fg, fc, ff, fh, fb, ce, sz, lk, hl, hs) (nI q) := by
  obtain ⟨L, rfl, hF, hps, hcn, htl, hex⟩ := hS
  have hlen := ru_len hps
  refine xr_at hF (by omega) (by omega) (by omega) fun A B e hA hB => ?_
  have el : A.length + B.length = L.length := by rw [e]; simp
  have et : ru_tl A + ru_tl B = ru_tl L := by rw [e, ru_tl_app]
  cases B with
  | nil =>
    exfalso
    simp only [ru_tl] at et
    omega
  | cons x B =>
    have hb := hB x B rfl
    have hx := ru_F_at (A := A) (x := x) (B := B) (by rw [← e]; exact hF)
    have hex' : ∀ q, q < ru_tl L → ru_ex L q = S q := fun q hq => hex q (by omega)
    have h1 := cu_b_S hex' e (q - ru_tl A) (by omega)
    have h2 := cu_b_in hps hcn hex' e (t := q - ru_tl A) (by omega)
    rw [show ru_tl A + (q - ru_tl A) = q from by omega] at h1 h2
    simp only [List.length_cons] at el
    exact K _ A.length (by omega) (hx.2.trans h1.symm) h2
theorem xs_here {post : Int32 → SX → Prop} (hS : ru_D n S fc sz lk) (hn : n ≤ 64) (hq : q < n) (K : ∀ fb : Int32, post (S q) (fn, fg, fc, ff, fh, fb, ce, sz, lk, hl, hs)) : wpX_styleHere post (fn, fg, fc, ff, fh, fb, ce, sz, lk, hl, hs) (nI q) := by
  unfold wpX_styleHere
  refine xr_in hS hn hq fun fb r hr h1 h2 => ?_
  refine And.intro (vp_in_nI (by omega) (by omega)) ?_
  rw [nI_clamp (by omega), h1]
  exact K fb
theorem xc_type {post : Int32 → SX → Prop} (hT : xt_R n T g ce) (hS : ru_D n S fc sz lk) (hlt : zz_lt c) (hp : p ≤ n) (hn : n < 64) (hf : f ≤ n) (K : ∀ (g : Nat) (fc fb : Int32) (ce sz lk : Nat → Int32), xt_R (n + 1) (xt_ins T p 1 (fun _ => c)) g ce → ru_D (n + 1) (xt_ins S p 1 (fun _ => zz_s n p S)) fc sz lk → post (nI (n + 1)) (nI (n + 1), nI g, fc, nI (xm_f p 1 f), fh, fb, ce, sz, lk, hl, hs)) : wpX_type post (nI n, nI g, fc, nI f, fh, fb, ce, sz, lk, hl, hs) (nI p) c := by
  unfold wpX_type
  refine xl_ok hlt ?_
  refine br_t rfl (br_f (nI_pos (by omega)) (br_t (nI_le hp (by omega)) (br_f (zb_ne (b := 64) (by omega) (by omega) (by omega)) ?_)))
  unfold zz_s at K
  by_cases n0 : n = 0
  · rw [if_pos n0] at K
    refine br_t (nI_le (b := 0) (by omega) (by omega)) ?_
    exact xi_ins (k := 1) hT hS hp (by omega) (by omega) fun g fc fb ce sz lk h1 h2 => K g fc fb ce sz lk h1 h2
  · rw [if_neg n0] at K
    refine br_f (nI_nle (by omega) (by omega)) ?_
    have go : ∀ z : Int32, z = nI (p - 1) → wX_type_55 post (nI p) c z (nI n) (nI g) fc (nI f) fh fb ce sz lk hl hs := by
      intro z ez
      rw [ez]
      unfold wX_type_55
      refine xs_here hS (by omega) (by omega) fun fb => ?_
      exact xi_ins (k := 1) hT hS hp (by omega) (by omega) fun g fc fb ce sz lk h1 h2 => K g fc fb ce sz lk h1 h2
    refine pk_eq p 0 (fun z => go _ ?_) (fun z => go _ ?_)
    · rw [z]; rfl
    · exact pk_sub (b := 1) (by omega)
theorem xc_put {post : Int32 → SX → Prop} (hT : xt_R n T g ce) (hS : ru_D n S fc sz lk) (hlt : zz_lt c) (hp : p ≤ n) (hn : n + k ≤ 64) (ht : t ≤ 63) (hf : f ≤ n) (K : ∀ (g : Nat) (fc fb : Int32) (ce sz lk : Nat → Int32), xt_R (n + k) (xt_ins T p k (fun _ => c)) g ce → ru_D (n + k) (xt_ins S p k (fun _ => nI t)) fc sz lk → post (nI (n + k)) (nI (n + k), nI g, fc, nI (xm_f p k f), fh, fb, ce, sz, lk, hl, hs)) : wpX_put post (nI n, nI g, fc, nI f, fh, fb, ce, sz, lk, hl, hs) (nI p) c (nI k) (nI t) := by
  unfold wpX_put
  refine xl_ok hlt ?_
  refine br_t rfl (br_f (nI_pos (by omega)) (br_f (nI_nlt hp (by omega)) (br_f (nI_pos (by omega)) (br_f (nI_nlt (a := 64) (by omega) (by omega)) (br_f (nI_pos (by omega)) (br_t (nI_le (b := 63) ht (by omega)) ?_))))))
  rw [nI_add]
  refine br_t (nI_le (b := 64) hn (by omega)) ?_
  exact xi_ins hT hS hp hn (by omega) fun g fc fb ce sz lk h1 h2 => K g fc fb ce sz lk h1 h2
theorem xc_remove {post : Int32 → SX → Prop} (hT : xt_R n T g ce) (hS : ru_D n S fc sz lk) (hij : i ≤ j) (hj : j ≤ n) (hf : f ≤ n) (K : ∀ (g : Nat) (fc fb : Int32) (ce sz lk : Nat → Int32), xt_R (n - (j - i)) (xt_del T i j) g ce → ru_D (n - (j - i)) (xt_del S i j) fc sz lk → post (nI (n - (j - i))) (nI (n - (j - i)), nI g, fc, nI (xd_f i j f), fh, fb, ce, sz, lk, hl, hs)) : wpX_remove post (nI n, nI g, fc, nI f, fh, fb, ce, sz, lk, hl, hs) (nI i) (nI j) := by
  have hn := hT.2.1
  unfold wpX_remove
  refine xb_ok hij hj hn ?_
  refine br_t rfl ?_
  exact xd_del hT hS hij hj (by omega) fun g fc fb ce sz lk h1 h2 => K g fc fb ce sz lk h1 h2
theorem xd_f_le (hij : i ≤ j) (hj : j ≤ n) (hf : f ≤ n) : xd_f i j f ≤ n - (j - i) := by
  unfold xd_f
  split
  · split <;> omega
  · omega
theorem xm_f_le (hf : f ≤ n) : xm_f p m f ≤ n + m := by
  unfold xm_f
  split <;> omega
theorem xc_move {post : Int32 → SX → Prop} (hT : xt_R n T g ce) (hS : ru_D n S fc sz lk) (hij : i ≤ j) (hj : j ≤ n) (hp : p ≤ n - (j - i)) (hf : f ≤ n) (K : ∀ (g : Nat) (fc fh fb : Int32) (ce sz lk hl hs : Nat → Int32), xt_R (n - (j - i) + (j - i)) (xt_ins (xt_del T i j) p (j - i) (fun t => T (i + t))) g ce → ru_D (n - (j - i) + (j - i)) (xt_ins (xt_del S i j) p (j - i) (fun t => S (i + t))) fc sz lk → post 0 (nI (n - (j - i) + (j - i)), nI g, fc, nI (xm_f p (j - i) (xd_f i j f)), fh, fb, ce, sz, lk, hl, hs)) : wpX_move post (nI n, nI g, fc, nI f, fh, fb, ce, sz, lk, hl, hs) (nI i) (nI j) (nI p) := by
  have hn := hT.2.1
  unfold wpX_move
  refine xb_ok hij hj hn ?_
  refine br_t rfl (br_f (nI_pos (by omega)) ?_)
  rw [pk_sub hij, pk_sub (a := n) (b := j - i) (by omega)]
  refine br_t (nI_le hp (by omega)) ?_
  refine xh_hold hT hS hij hj fun fb hl hs hh => ?_
  refine xd_del hT hS hij hj (by omega) fun g fc fb ce sz lk hT hS => ?_
  have hd := xd_f_le hij hj hf
  refine xg_gb hT hS hp (by omega) (by omega) fun g fc fb ce sz lk hT hS => ?_
  exact K g fc _ fb ce sz lk hl hs (xt_eq hT (xt_cg (fun q _ => rfl) (fun t ht => (hh t ht).1) hp)) (ru_D_eq hS (xt_cg (fun q _ => rfl) (fun t ht => (hh t ht).2) hp))
theorem xc_copy {post : Int32 → SX → Prop} (hT : xt_R n T g ce) (hS : ru_D n S fc sz lk) (hij : i ≤ j) (hj : j ≤ n) (hp : p ≤ n) (hm : n + (j - i) ≤ 64) (hf : f ≤ n) (K : ∀ (g : Nat) (fc fh fb : Int32) (ce sz lk hl hs : Nat → Int32), xt_R (n + (j - i)) (xt_ins T p (j - i) (fun t => T (i + t))) g ce → ru_D (n + (j - i)) (xt_ins S p (j - i) (fun t => S (i + t))) fc sz lk → post (nI (n + (j - i))) (nI (n + (j - i)), nI g, fc, nI (xm_f p (j - i) f), fh, fb, ce, sz, lk, hl, hs)) : wpX_copy post (nI n, nI g, fc, nI f, fh, fb, ce, sz, lk, hl, hs) (nI i) (nI j) (nI p) := by
  have hn := hT.2.1
  unfold wpX_copy
  refine xb_ok hij hj hn ?_
  refine br_t rfl (br_f (nI_pos (by omega)) (br_t (nI_le hp (by omega)) ?_))
  have e : nI n + nI j - nI i = nI (n + j - i) := by rw [nI_add, pk_sub (by omega)]
  rw [e]
  refine br_t (nI_le (b := 64) (by omega) (by omega)) ?_
  refine xh_hold hT hS hij hj fun fb hl hs hh => ?_
  refine xg_gb hT hS hp (by omega) (by omega) fun g fc fb ce sz lk hT hS => ?_
  exact K g fc _ fb ce sz lk hl hs (xt_eq hT (xt_cg (fun q _ => rfl) (fun t ht => (hh t ht).1) hp)) (ru_D_eq hS (xt_cg (fun q _ => rfl) (fun t ht => (hh t ht).2) hp))
def zz_al (bt : Bool) (m : Nat) : Nat := if bt = true then 0 else m
theorem xc_tog {post : Int32 → SX → Prop} (hS : ru_D n S fc sz lk) (hn : n ≤ 64) (hij : i ≤ j) (hj : j ≤ n) (hm : m < 8) (K : ∀ (bt : Bool) (fc fb : Int32) (sz lk : Nat → Int32), bt = cu_a (xo_P (nI m)) S i (j - i) → ru_D n (xs_st S i j (xs_F m (nI (zz_al bt m)))) fc sz lk → post (zb_fl (!bt)) (nI n, fg, fc, ff, fh, fb, ce, sz, lk, hl, hs)) : wX_toggle_26 post (nI i) (nI j) (nI m) (nI n) fg fc ff fh fb ce sz lk hl hs := by
  unfold wX_toggle_26
  by_cases h0 : i = j
  · subst h0
    refine br_t rfl ?_
    have K := K true fc fb sz lk (by rw [Nat.sub_self]; rfl) (ru_D_eq hS (fun q _ => ?_))
    · exact K
    · unfold xs_st
      rw [if_neg (by omega)]
  · refine br_f (zb_ne h0 (by omega) (by omega)) ?_
    obtain ⟨L, rfl, hF, hps, hcn, htl, hex⟩ := hS
    have hlen := ru_len hps
    refine xr_at hF (by omega) (by omega) (by omega) fun A B e hA hB => ?_
    have el : A.length + B.length = L.length := by rw [e]; simp
    have hb : ∀ x B', B = x :: B' → i < ru_tl A + x.1 := hB
    have q := xo_52 (post := post) (bit := nI m) (fn := nI n) (fg := fg) (fc := nI L.length) (ff := ff) (fh := fh) (fb := nI (ru_tl A)) (ce := ce) (hl := hl) (hs := hs) (S := S) (i := i) (j := j) hF (by omega) hps htl hn hex (by omega) hj ?_ B A 0 e (by omega) hb
    · rw [show min (ru_tl A) j - i = 0 from by omega] at q
      exact ⟨_, q⟩
    · cases hbt : cu_a (xo_P (nI m)) S i (j - i) with
      | false =>
        refine br_t rfl ?_
        unfold wX_toggle_124
        refine xs_style ⟨L, rfl, hF, hps, hcn, htl, hex⟩ hn hij hj (by omega) (by omega) fun fc fb sz lk hD => ?_
        exact br_t rfl (K false fc fb sz lk hbt.symm hD)
      | true =>
        refine br_f zb_10 ?_
        unfold wX_toggle_124
        refine xs_style (t := 0) ⟨L, rfl, hF, hps, hcn, htl, hex⟩ hn hij hj (by omega) (by omega) fun fc fb sz lk hD => ?_
        exact br_f zb_10 (K true fc fb sz lk hbt.symm hD)
end
section
variable {fn ff : Int32} {le st kl ks : Nat → Int32} {n p q k i j f h m t : Nat} {s c d a b v : Int32}
theorem yl_ok {post : Int32 → Prop} (h : zz_lt c) (K : post 1) : wpY_isLetter post (fn, ff, le, st, kl, ks) c := br_f h.1 (br_f (Int32.not_lt.mpr h.2) K)
theorem yl_no {post : Int32 → Prop} (h : ¬ zz_lt c) (K : post 0) : wpY_isLetter post (fn, ff, le, st, kl, ks) c := by
  by_cases h0 : c < 0
  · exact br_t h0 K
  · refine br_f h0 (br_t ?_ K)
    by_cases h1 : (25 : Int32) < c
    · exact h1
    · exact absurd ⟨h0, Int32.not_lt.mp h1⟩ h
theorem ys_no {post : Int32 → Prop} (h : ¬ zz_gd n a b) (K : post 0) : wpY_isStretch post (nI n, ff, le, st, kl, ks) a b := by
  by_cases h0 : a < 0
  · exact br_t h0 K
  · by_cases h1 : b < a
    · exact br_f h0 (br_t h1 K)
    · refine br_f h0 (br_f h1 (br_t ?_ K))
      by_cases h2 : nI n < b
      · exact h2
      · exact absurd ⟨h0, h1, Int32.not_lt.mp h2⟩ h
theorem yc_66 {post : Int32 → SY → Prop} (hp : p ≤ n) (hn : n < 64) (hf : f ≤ n) (K : ∀ le' st' : Nat → Int32, (∀ q, q < n + 1 → xt_ins le p 1 (fun _ => c) q = le' q) → (∀ q, q < n + 1 → xt_ins st p 1 (fun _ => s) q = st' q) → post (nI (n + 1)) (nI (n + 1), nI (xm_f p 1 f), le', st', kl, ks)) : wY_type_66 post (nI p) c s (nI n) (nI f) le st kl ks := by
  unfold wY_type_66
  refine yo_op (m := 1) (by omega) hp (by omega) ?_
  refine And.intro (vp_in_nI (by omega) (by omega)) (nm_r (e' := upd (yo_sh p n 1 le) p c) (by rw [nI_clamp (by omega)]) (And.intro (vp_in_nI (by omega) (by omega)) (nm_r (e' := upd (yo_sh p n 1 st) p s) (by rw [nI_clamp (by omega)]) (K _ _ (fun q hq => ?_) (fun q hq => ?_)))))
  · rw [yo_fin hp hq, ← yo_fi_s, yo_fi_0]
    rfl
  · rw [yo_fin hp hq, ← yo_fi_s, yo_fi_0]
    rfl
theorem yc_type {post : Int32 → SY → Prop} (hlt : zz_lt c) (hp : p ≤ n) (hn : n < 64) (hf : f ≤ n) (K : ∀ le' st' : Nat → Int32, (∀ q, q < n + 1 → xt_ins le p 1 (fun _ => c) q = le' q) → (∀ q, q < n + 1 → xt_ins st p 1 (fun _ => zz_s n p st) q = st' q) → post (nI (n + 1)) (nI (n + 1), nI (xm_f p 1 f), le', st', kl, ks)) : wpY_type post (nI n, nI f, le, st, kl, ks) (nI p) c := by
  unfold wpY_type
  refine yl_ok hlt ?_
  refine br_f zb_10 (br_f (nI_pos (by omega)) (br_t (nI_le hp (by omega)) (br_f (zb_ne (b := 64) (by omega) (by omega) (by omega)) ?_)))
  unfold zz_s at K
  by_cases n0 : n = 0
  · rw [if_pos n0] at K
    refine br_t (by rw [n0]; rfl) ?_
    exact yc_66 hp hn hf K
  · rw [if_neg n0] at K
    refine br_f (nI_ne0 (by omega) (by omega)) ?_
    refine pk_eq p 0 (fun z => ?_) (fun z => ?_)
    · rw [show p - 1 = 0 from by omega] at K
      exact yc_66 hp hn hf K
    · rw [show nI p - 1 = nI (p - 1) from pk_sub (b := 1) (by omega)]
      refine And.intro (vp_in_nI (by omega) (by omega)) ?_
      rw [nI_clamp (by omega)]
      exact yc_66 hp hn hf K
theorem yc_put {post : Int32 → SY → Prop} (hlt : zz_lt c) (hp : p ≤ n) (hn : n + k ≤ 64) (ht : t ≤ 63) (hf : f ≤ n) (K : ∀ le' st' : Nat → Int32, (∀ q, q < n + k → xt_ins le p k (fun _ => c) q = le' q) → (∀ q, q < n + k → xt_ins st p k (fun _ => nI t) q = st' q) → post (nI (n + k)) (nI (n + k), nI (xm_f p k f), le', st', kl, ks)) : wpY_put post (nI n, nI f, le, st, kl, ks) (nI p) c (nI k) (nI t) := by
  unfold wpY_put
  refine yl_ok hlt ?_
  refine br_f zb_10 (br_f (nI_pos (by omega)) (br_f (nI_nlt hp (by omega)) (br_f (nI_pos (by omega)) (br_f (nI_nlt (a := 64) (by omega) (by omega)) (br_f (nI_pos (by omega)) (br_t (nI_le (b := 63) ht (by omega)) ?_))))))
  rw [nI_add]
  refine br_t (nI_le (b := 64) hn (by omega)) ?_
  refine yo_op hn hp (by omega) ⟨k + 1, ?_⟩
  have q := yp_67 (post := post) (fn := nI (n + k)) (ff := nI (xm_f p k f)) (le := yo_sh p n k le) (st := yo_sh p n k st) (kl := kl) (ks := ks) (c := c) (s := nI t) (p := p) (k := k) (by omega) (K _ _ (fun q hq => yo_fin hp hq) (fun q hq => yo_fin hp hq)) k 0 (by omega)
  rw [yo_fi_0, yo_fi_0] at q
  exact q
theorem yc_move {post : Int32 → SY → Prop} (hn : n ≤ 64) (hij : i ≤ j) (hj : j ≤ n) (hp : p ≤ n - (j - i)) (hf : f ≤ n) (K : ∀ le' st' kl ks : Nat → Int32, (∀ q, q < n - (j - i) + (j - i) → xt_ins (xt_del le i j) p (j - i) (fun t => le (i + t)) q = le' q) → (∀ q, q < n - (j - i) + (j - i) → xt_ins (xt_del st i j) p (j - i) (fun t => st (i + t)) q = st' q) → post 0 (nI (n - (j - i) + (j - i)), nI (xm_f p (j - i) (xd_f i j f)), le', st', kl, ks)) : wpY_move post (nI n, nI f, le, st, kl, ks) (nI i) (nI j) (nI p) := by
  unfold wpY_move
  refine ys_ok hij hj hn ?_
  refine br_f zb_10 (br_f (nI_pos (by omega)) ?_)
  have e : nI n - (nI j - nI i) = nI (n - (j - i)) := by rw [pk_sub hij, pk_sub (by omega)]
  rw [e]
  refine br_t (nI_le hp (by omega)) ?_
  refine yk_keep hij (by omega) fun kl ks hk => ?_
  refine yr_rem hij hj hn (by omega) fun le1 st1 h1 h2 => ?_
  have hd := xd_f_le hij hj hf
  rw [pk_sub hij]
  refine yk_put (by omega) hp (by omega) fun le2 st2 h3 h4 => ?_
  exact K le2 st2 kl ks (fun q hq => (xt_cg h1 (fun t ht => ((hk t ht).1).symm) hp q hq).trans (h3 q hq)) (fun q hq => (xt_cg h2 (fun t ht => ((hk t ht).2).symm) hp q hq).trans (h4 q hq))
theorem yc_copy {post : Int32 → SY → Prop} (hn : n ≤ 64) (hij : i ≤ j) (hj : j ≤ n) (hp : p ≤ n) (hm : n + (j - i) ≤ 64) (hf : f ≤ n) (K : ∀ le' st' kl ks : Nat → Int32, (∀ q, q < n + (j - i) → xt_ins le p (j - i) (fun t => le (i + t)) q = le' q) → (∀ q, q < n + (j - i) → xt_ins st p (j - i) (fun t => st (i + t)) q = st' q) → post (nI (n + (j - i))) (nI (n + (j - i)), nI (xm_f p (j - i) f), le', st', kl, ks)) : wpY_copy post (nI n, nI f, le, st, kl, ks) (nI i) (nI j) (nI p) := by
  unfold wpY_copy
  refine ys_ok hij hj hn ?_
  refine br_f zb_10 (br_f (nI_pos (by omega)) (br_t (nI_le hp (by omega)) ?_))
  have e : nI n + nI j - nI i = nI (n + j - i) := by rw [nI_add, pk_sub (by omega)]
  rw [e]
  refine br_t (nI_le (b := 64) (by omega) (by omega)) ?_
  refine yk_keep hij (by omega) fun kl ks hk => ?_
  rw [pk_sub hij]
  refine yk_put (by omega) hp (by omega) fun le2 st2 h3 h4 => ?_
  exact K le2 st2 kl ks (fun q hq => (xt_cg (fun _ _ => rfl) (fun t ht => ((hk t ht).1).symm) hp q hq).trans (h3 q hq)) (fun q hq => (xt_cg (fun _ _ => rfl) (fun t ht => ((hk t ht).2).symm) hp q hq).trans (h4 q hq))
theorem yc_style {post : Int32 → SY → Prop} (hn : n ≤ 64) (hij : i ≤ j) (hj : j ≤ n) (hm : m < 16) (ht : t ≤ 63) (K : ∀ st' : Nat → Int32, (∀ q, xs_st st i j (xs_F m (nI t)) q = st' q) → post (nI (cu_c (xs_P (xs_F m (nI t))) st i (j - i))) (nI n, ff, le, st', kl, ks)) : wpY_style post (nI n, ff, le, st, kl, ks) (nI i) (nI j) (nI m) (nI t) := by
  unfold wpY_style
  refine ys_ok hij hj hn ?_
  refine br_f zb_10 (br_f (nI_pos (by omega)) (br_f (nI_nlt (a := 15) (by omega) (by omega)) (br_f (nI_pos (by omega)) (br_t (nI_le (b := 63) ht (by omega)) ?_))))
  unfold xs_F xs_b at K
  refine pk_le 8 m (fun z => ?_) (fun z => ?_)
  · rw [if_neg (by omega), xs_b_hi m hm] at K
    exact ym_set hij (by omega) K
  · rw [if_pos z, xs_b_lo m z] at K
    exact ym_set hij (by omega) K
theorem yc_tog {post : Int32 → SY → Prop} (hn : n ≤ 64) (hij : i ≤ j) (hj : j ≤ n) (hm : m < 8) (K : ∀ (bt : Bool) (st' : Nat → Int32), bt = cu_a (xo_P (nI m)) st i (j - i) → (∀ q, xs_st st i j (xs_F m (nI (zz_al bt m))) q = st' q) → post (zb_fl (!bt)) (nI n, ff, le, st', kl, ks)) : ∃ n32 : Nat, wY_toggle_32 post (nI i) (nI j) (nI m) (nI n) ff le st kl ks n32 1 (nI i) := by
  refine ⟨_, yg_32 (hij := hij) (hj := by omega) (fun bt hb => ?_) (j - i) 0 (by omega)⟩
  have eF : ∀ s : Int32, xs_F m s = xs_m (nI m) s := by
    intro s
    unfold xs_F xs_b
    rw [if_pos hm, xs_b_lo m hm]
  cases bt with
  | false =>
    refine br_t rfl ?_
    unfold wY_toggle_82
    refine ym_set hij (by omega) fun st' h => ?_
    exact br_t rfl (K false st' hb (fun q => by rw [eF]; exact h q))
  | true =>
    refine br_f zb_10 ?_
    unfold wY_toggle_82
    refine ym_set hij (by omega) fun st' h => ?_
    exact br_f zb_10 (K true st' hb (fun q => by rw [eF]; exact h q))
variable {L : List (Nat × Int32)}
theorem yb_found {post : Int32 → Prop} {A B : List (Nat × Int32)} {x : Nat × Int32} (hps : ru_ps L) (hcn : ru_cn L) (htl : ru_tl L = n) (hn : n ≤ 64) (hex : ∀ q, q < n → ru_ex L q = st q) (e : L = A ++ x :: B) (K : post (nI (ru_tl A))) : wpY_runBegin post (nI n, ff, le, st, kl, ks) (nI A.length) := by
  have hex' : ∀ q, q < ru_tl L → ru_ex L q = st q := fun q hq => hex q (by omega)
  have et : ru_tl A + (x.1 + ru_tl B) = ru_tl L := by rw [e, ru_tl_app]; rfl
  have hx : 1 ≤ x.1 := hps x (by rw [e]; simp)
  have hb := cu_b_L hps hcn hex' A.length A (x :: B) rfl e
  have hlen := ru_len hps
  have el : A.length + (B.length + 1) = L.length := by rw [e]; simp
  refine ⟨_, yb_rb hn (p0 := ru_tl A) (by omega) (cu_b_st hps hcn hex' e) (by rw [hb]) (fun q hq z w => ?_) K (ru_tl A) 0 (by omega)⟩
  have h1 := cu_b_t z
  have h2 := cu_b_le (S := st) (q + 1) (ru_tl A - (q + 1))
  rw [show q + 1 + (ru_tl A - (q + 1)) = ru_tl A from by omega] at h2
  have h3 := (nI_eq (by omega) (by omega)).mp w
  omega
theorem yb_none {post : Int32 → Prop} (hps : ru_ps L) (hcn : ru_cn L) (htl : ru_tl L = n) (hn : n ≤ 64) (hex : ∀ q, q < n → ru_ex L q = st q) (hv : v < 0 ∨ ¬ v < nI L.length) (K : post (-4)) : wpY_runBegin post (nI n, ff, le, st, kl, ks) v := by
  have hex' : ∀ q, q < ru_tl L → ru_ex L q = st q := fun q hq => hex q (by omega)
  have hb := cu_b_L hps hcn hex' L.length L [] rfl (by simp)
  have hlen := ru_len hps
  refine ⟨_, yb_rn hn (fun q hq z w => ?_) K n 0 (by omega)⟩
  have h1 := cu_b_t z
  have h2 := cu_b_le (S := st) (q + 1) (ru_tl L - (q + 1))
  rw [show q + 1 + (ru_tl L - (q + 1)) = ru_tl L from by omega] at h2
  rcases hv with hv | hv
  · rw [← w] at hv
    exact nI_pos (by omega) hv
  · apply hv
    rw [← w]
    exact nI_lt (by omega) (by omega)
end
end
section
/-! the relation, and the last helpers -/
/-- the reference's letters are the buffer's, its styles are what the runs say -/
def i_Rel (k : Nat) (u : SX) (v : SY) : Prop := ∃ (n f g : Nat) (fc fh fb : Int32) (ce sz lk hl hs le st kl ks : Nat → Int32), u = (nI n, nI g, fc, nI f, fh, fb, ce, sz, lk, hl, hs) ∧ v = (nI n, nI f, le, st, kl, ks) ∧ xt_R n le g ce ∧ ru_D n st fc sz lk ∧ f ≤ n
section
variable {fn fg fc ff fh fb : Int32} {ce sz lk hl hs le st kl ks : Nat → Int32} {k n p q i j g f m t : Nat} {c d v : Int32}
theorem zz_in (hT : xt_R n le g ce) (hS : ru_D n st fc sz lk) (hf : f ≤ n) : i_Rel k (nI n, nI g, fc, nI f, fh, fb, ce, sz, lk, hl, hs) (nI n, nI f, le, st, kl, ks) :=
  ⟨n, f, g, fc, fh, fb, ce, sz, lk, hl, hs, le, st, kl, ks, rfl, rfl, hT, hS, hf⟩
theorem xf_ok {post : Int32 → Prop} (hq : q < n) (hn : n ≤ 64) (K : post 0) : wpX_off post (nI n, fg, fc, ff, fh, fb, ce, sz, lk, hl, hs) (nI q) := br_f (nI_pos (by omega)) (br_t (nI_lt hq (by omega)) K)
theorem xf_no {post : Int32 → Prop} (h : v < 0 ∨ ¬ v < nI n) (K : post 1) : wpX_off post (nI n, fg, fc, ff, fh, fb, ce, sz, lk, hl, hs) v := by
  by_cases h0 : v < 0
  · exact br_t h0 K
  · rcases h with h | h
    · exact absurd h h0
    · exact br_f h0 (br_f h K)
theorem zz_lo (hn : n ≤ 64) (h0 : ¬ v < 0) (h1 : v < nI n) : ∃ q : Nat, q < n ∧ v = nI q := by
  obtain ⟨q, hq, rfl⟩ := nI_of h0
  exact ⟨q, (nI_ltI hq (by omega)).mp h1, rfl⟩
theorem zz_hi (h : ¬ v < nI n) : nI n ≤ v := Int32.not_lt.mp h
theorem zz_tg (hT : xt_R n le g ce) (hS : ru_D n st fc sz lk) (hf : f ≤ n) (hij : i ≤ j) (hj : j ≤ n) (hm : m < 8) (hY : ∀ post : Int32 → SY → Prop, (∃ n32 : Nat, wY_toggle_32 post (nI i) (nI j) (nI m) (nI n) (nI f) le st kl ks n32 1 (nI i)) → wpY_toggle post (nI n, nI f, le, st, kl, ks) (nI i) (nI j) (nI m)) : wX_toggle_26 (fun r u' => wpY_toggle (fun r' v' => r' = r ∧ i_Rel k u' v') (nI n, nI f, le, st, kl, ks) (nI i) (nI j) (nI m)) (nI i) (nI j) (nI m) (nI n) (nI g) fc (nI f) fh fb ce sz lk hl hs := by
  have hn := hT.2.1
  refine xc_tog hS hn hij hj hm fun bt fc fb sz lk hb hD => ?_
  refine hY _ ?_
  refine yc_tog hn hij hj hm fun bt' st' hb' hst => ?_
  obtain rfl : bt' = bt := hb'.trans hb.symm
  exact ⟨rfl, zz_in hT (ru_D_eq hD (fun q _ => hst q)) hf⟩
end
end
section
/-! what is owed -/
theorem i_up {k : Nat} {u : SX} {v : SY} (h : i_Rel k u v) : i_Rel (k + 5) u v := h
theorem i_vc0 : wpX_init (fun u => wpY_init (fun v => i_Rel 0 u v)) :=
  ⟨0, 0, 0, 0, 0, 0, _, _, _, _, _, _, _, _, _, rfl, rfl, ⟨Nat.le_refl 0, by omega, fun q hq => absurd hq (by omega)⟩, ⟨[], rfl, trivial, ru_ps_nil, trivial, rfl, fun q hq => absurd hq (by omega)⟩, Nat.le_refl 0⟩
theorem i_vc_type {k : Nat} {u : SX} {v : SY} (I : i_Rel k u v) (hk : k + 5 ≤ 2560) (v1 : Int32) (v2 : Int32) : wpX_type (fun r u' => wpY_type (fun r' v' => r' = r ∧ i_Rel (k + 5) u' v') v v1 v2) u v1 v2 := by
  obtain ⟨n, f, g, fc, fh, fb, ce, sz, lk, hl, hs, le, st, kl, ks, rfl, rfl, hT, hS, hf⟩ := I
  have hn := hT.2.1
  have I' : i_Rel (k + 5) (nI n, nI g, fc, nI f, fh, fb, ce, sz, lk, hl, hs) (nI n, nI f, le, st, kl, ks) := zz_in hT hS hf
  by_cases hlt : zz_lt v2
  · by_cases a1 : v1 < 0
    · unfold wpX_type
      refine xl_ok hlt (br_t rfl (br_t a1 ?_))
      unfold wpY_type
      exact yl_ok hlt (br_f zb_10 (br_t a1 ⟨rfl, I'⟩))
    · by_cases a2 : v1 ≤ nI n
      · obtain ⟨p, hp, rfl⟩ := zz_of hn a1 a2
        by_cases a3 : n = 64
        · have e : nI n = 64 := by rw [a3]; rfl
          unfold wpX_type
          refine xl_ok hlt (br_t rfl (br_f a1 (br_t a2 (br_t e ?_))))
          unfold wpY_type
          exact yl_ok hlt (br_f zb_10 (br_f a1 (br_t a2 (br_t e ⟨rfl, I'⟩))))
        · refine xc_type hT hS hlt hp (by omega) hf fun g fc fb ce sz lk hT hS => ?_
          refine yc_type hlt hp (by omega) hf fun le' st' h1 h2 => ?_
          exact ⟨rfl, zz_in (xt_eq hT h1) (ru_D_eq hS h2) (xm_f_le hf)⟩
      · unfold wpX_type
        refine xl_ok hlt (br_t rfl (br_f a1 (br_f a2 ?_)))
        unfold wpY_type
        exact yl_ok hlt (br_f zb_10 (br_f a1 (br_f a2 ⟨rfl, I'⟩)))
  · unfold wpX_type
    refine xl_no hlt (br_f zb_10 ?_)
    unfold wpY_type
    exact yl_no hlt (br_t rfl ⟨rfl, I'⟩)
theorem i_vc_put {k : Nat} {u : SX} {v : SY} (I : i_Rel k u v) (hk : k + 5 ≤ 2560) (v1 : Int32) (v2 : Int32) (v3 : Int32) (v4 : Int32) : wpX_put (fun r u' => wpY_put (fun r' v' => r' = r ∧ i_Rel (k + 5) u' v') v v1 v2 v3 v4) u v1 v2 v3 v4 := by
  obtain ⟨n, f, g, fc, fh, fb, ce, sz, lk, hl, hs, le, st, kl, ks, rfl, rfl, hT, hS, hf⟩ := I
  have hn := hT.2.1
  have I' : i_Rel (k + 5) (nI n, nI g, fc, nI f, fh, fb, ce, sz, lk, hl, hs) (nI n, nI f, le, st, kl, ks) := zz_in hT hS hf
  by_cases hlt : zz_lt v2
  rotate_left
  · unfold wpX_put
    refine xl_no hlt (br_f zb_10 ?_)
    unfold wpY_put
    exact yl_no hlt (br_t rfl ⟨rfl, I'⟩)
  by_cases a1 : v1 < 0
  · unfold wpX_put
    refine xl_ok hlt (br_t rfl (br_t a1 ?_))
    unfold wpY_put
    exact yl_ok hlt (br_f zb_10 (br_t a1 ⟨rfl, I'⟩))
  by_cases a2 : nI n < v1
  · unfold wpX_put
    refine xl_ok hlt (br_t rfl (br_f a1 (br_t a2 ?_)))
    unfold wpY_put
    exact yl_ok hlt (br_f zb_10 (br_f a1 (br_t a2 ⟨rfl, I'⟩)))
  by_cases a3 : v3 < 0
  · unfold wpX_put
    refine xl_ok hlt (br_t rfl (br_f a1 (br_f a2 (br_t a3 ?_))))
    unfold wpY_put
    exact yl_ok hlt (br_f zb_10 (br_f a1 (br_f a2 (br_t a3 ⟨rfl, I'⟩))))
  by_cases a4 : 64 < v3
  · unfold wpX_put
    refine xl_ok hlt (br_t rfl (br_f a1 (br_f a2 (br_f a3 (br_t a4 ?_)))))
    unfold wpY_put
    exact yl_ok hlt (br_f zb_10 (br_f a1 (br_f a2 (br_f a3 (br_t a4 ⟨rfl, I'⟩)))))
  by_cases a5 : v4 < 0
  · unfold wpX_put
    refine xl_ok hlt (br_t rfl (br_f a1 (br_f a2 (br_f a3 (br_f a4 (br_t a5 ?_))))))
    unfold wpY_put
    exact yl_ok hlt (br_f zb_10 (br_f a1 (br_f a2 (br_f a3 (br_f a4 (br_t a5 ⟨rfl, I'⟩))))))
  by_cases a6 : v4 ≤ 63
  rotate_left
  · unfold wpX_put
    refine xl_ok hlt (br_t rfl (br_f a1 (br_f a2 (br_f a3 (br_f a4 (br_f a5 (br_f a6 ?_)))))))
    unfold wpY_put
    exact yl_ok hlt (br_f zb_10 (br_f a1 (br_f a2 (br_f a3 (br_f a4 (br_f a5 (br_f a6 ⟨rfl, I'⟩)))))))
  obtain ⟨p, hp, rfl⟩ := zz_of hn a1 (Int32.not_lt.mp a2)
  obtain ⟨w, hw, rfl⟩ := zz_of (n := 64) (by omega) a3 (Int32.not_lt.mp a4)
  obtain ⟨t, ht, rfl⟩ := zz_of (n := 63) (by omega) a5 a6
  by_cases a7 : n + w ≤ 64
  · refine xc_put hT hS hlt hp a7 ht hf fun g fc fb ce sz lk hT hS => ?_
    refine yc_put hlt hp a7 ht hf fun le' st' h1 h2 => ?_
    exact ⟨rfl, zz_in (xt_eq hT h1) (ru_D_eq hS h2) (xm_f_le hf)⟩
  · have e : ¬ nI n + nI w ≤ 64 := by
      rw [nI_add]
      exact nI_ge (a := 64) (by omega) (by omega)
    unfold wpX_put
    refine xl_ok hlt (br_t rfl (br_f a1 (br_f a2 (br_f a3 (br_f a4 (br_f a5 (br_t a6 (br_f e ?_))))))))
    unfold wpY_put
    exact yl_ok hlt (br_f zb_10 (br_f a1 (br_f a2 (br_f a3 (br_f a4 (br_f a5 (br_t a6 (br_f e ⟨rfl, I'⟩))))))))
theorem i_vc_remove {k : Nat} {u : SX} {v : SY} (I : i_Rel k u v) (hk : k + 5 ≤ 2560) (v1 : Int32) (v2 : Int32) : wpX_remove (fun r u' => wpY_remove (fun r' v' => r' = r ∧ i_Rel (k + 5) u' v') v v1 v2) u v1 v2 := by
  obtain ⟨n, f, g, fc, fh, fb, ce, sz, lk, hl, hs, le, st, kl, ks, rfl, rfl, hT, hS, hf⟩ := I
  have hn := hT.2.1
  have I' : i_Rel (k + 5) (nI n, nI g, fc, nI f, fh, fb, ce, sz, lk, hl, hs) (nI n, nI f, le, st, kl, ks) := zz_in hT hS hf
  by_cases hg : zz_gd n v1 v2
  rotate_left
  · unfold wpX_remove
    refine xb_no hg (br_f zb_10 ?_)
    unfold wpY_remove
    exact ys_no hg (br_t rfl ⟨rfl, I'⟩)
  obtain ⟨i, j, rfl, rfl, hij, hj⟩ := zz_gd_of hn hg
  refine xc_remove hT hS hij hj hf fun g fc fb ce sz lk hT hS => ?_
  refine yr_rem hij hj hn (by omega) fun le' st' h1 h2 => ?_
  exact ⟨rfl, zz_in (xt_eq hT h1) (ru_D_eq hS h2) (xd_f_le hij hj hf)⟩
theorem i_vc_move {k : Nat} {u : SX} {v : SY} (I : i_Rel k u v) (hk : k + 5 ≤ 2560) (v1 : Int32) (v2 : Int32) (v3 : Int32) : wpX_move (fun r u' => wpY_move (fun r' v' => r' = r ∧ i_Rel (k + 5) u' v') v v1 v2 v3) u v1 v2 v3 := by
  obtain ⟨n, f, g, fc, fh, fb, ce, sz, lk, hl, hs, le, st, kl, ks, rfl, rfl, hT, hS, hf⟩ := I
  have hn := hT.2.1
  have I' : i_Rel (k + 5) (nI n, nI g, fc, nI f, fh, fb, ce, sz, lk, hl, hs) (nI n, nI f, le, st, kl, ks) := zz_in hT hS hf
  by_cases hg : zz_gd n v1 v2
  rotate_left
  · unfold wpX_move
    refine xb_no hg (br_f zb_10 ?_)
    unfold wpY_move
    exact ys_no hg (br_t rfl ⟨rfl, I'⟩)
  obtain ⟨i, j, rfl, rfl, hij, hj⟩ := zz_gd_of hn hg
  by_cases a1 : v3 < 0
  · unfold wpX_move
    refine xb_ok hij hj hn (br_t rfl (br_t a1 ?_))
    unfold wpY_move
    exact ys_ok hij hj hn (br_f zb_10 (br_t a1 ⟨rfl, I'⟩))
  by_cases a2 : v3 ≤ nI n - (nI j - nI i)
  rotate_left
  · unfold wpX_move
    refine xb_ok hij hj hn (br_t rfl (br_f a1 (br_f a2 ?_)))
    unfold wpY_move
    exact ys_ok hij hj hn (br_f zb_10 (br_f a1 (br_f a2 ⟨rfl, I'⟩)))
  rw [pk_sub hij, pk_sub (by omega)] at a2
  obtain ⟨p, hp, rfl⟩ := zz_of (n := n - (j - i)) (by omega) a1 a2
  refine xc_move hT hS hij hj hp hf fun g fc fh fb ce sz lk hl hs hT hS => ?_
  refine yc_move hn hij hj hp hf fun le' st' kl ks h1 h2 => ?_
  exact ⟨rfl, zz_in (xt_eq hT h1) (ru_D_eq hS h2) (xm_f_le (xd_f_le hij hj hf))⟩
theorem i_vc_copy {k : Nat} {u : SX} {v : SY} (I : i_Rel k u v) (hk : k + 5 ≤ 2560) (v1 : Int32) (v2 : Int32) (v3 : Int32) : wpX_copy (fun r u' => wpY_copy (fun r' v' => r' = r ∧ i_Rel (k + 5) u' v') v v1 v2 v3) u v1 v2 v3 := by
  obtain ⟨n, f, g, fc, fh, fb, ce, sz, lk, hl, hs, le, st, kl, ks, rfl, rfl, hT, hS, hf⟩ := I
  have hn := hT.2.1
  have I' : i_Rel (k + 5) (nI n, nI g, fc, nI f, fh, fb, ce, sz, lk, hl, hs) (nI n, nI f, le, st, kl, ks) := zz_in hT hS hf
  by_cases hg : zz_gd n v1 v2
  rotate_left
  · unfold wpX_copy
    refine xb_no hg (br_f zb_10 ?_)
    unfold wpY_copy
    exact ys_no hg (br_t rfl ⟨rfl, I'⟩)
  obtain ⟨i, j, rfl, rfl, hij, hj⟩ := zz_gd_of hn hg
  by_cases a1 : v3 < 0
  · unfold wpX_copy
    refine xb_ok hij hj hn (br_t rfl (br_t a1 ?_))
    unfold wpY_copy
    exact ys_ok hij hj hn (br_f zb_10 (br_t a1 ⟨rfl, I'⟩))
  by_cases a2 : v3 ≤ nI n
  rotate_left
  · unfold wpX_copy
    refine xb_ok hij hj hn (br_t rfl (br_f a1 (br_f a2 ?_)))
    unfold wpY_copy
    exact ys_ok hij hj hn (br_f zb_10 (br_f a1 (br_f a2 ⟨rfl, I'⟩)))
  obtain ⟨p, hp, rfl⟩ := zz_of hn a1 a2
  by_cases a3 : n + (j - i) ≤ 64
  · refine xc_copy hT hS hij hj hp a3 hf fun g fc fh fb ce sz lk hl hs hT hS => ?_
    refine yc_copy hn hij hj hp a3 hf fun le' st' kl ks h1 h2 => ?_
    exact ⟨rfl, zz_in (xt_eq hT h1) (ru_D_eq hS h2) (xm_f_le hf)⟩
  · have e : ¬ nI n + nI j - nI i ≤ 64 := by
      rw [nI_add, pk_sub (by omega)]
      exact nI_ge (a := 64) (by omega) (by omega)
    unfold wpX_copy
    refine xb_ok hij hj hn (br_t rfl (br_f a1 (br_t a2 (br_f e ?_))))
    unfold wpY_copy
    exact ys_ok hij hj hn (br_f zb_10 (br_f a1 (br_t a2 (br_f e ⟨rfl, I'⟩))))
theorem i_vc_style {k : Nat} {u : SX} {v : SY} (I : i_Rel k u v) (hk : k + 5 ≤ 2560) (v1 : Int32) (v2 : Int32) (v3 : Int32) (v4 : Int32) : wpX_style (fun r u' => wpY_style (fun r' v' => r' = r ∧ i_Rel (k + 5) u' v') v v1 v2 v3 v4) u v1 v2 v3 v4 := by
  obtain ⟨n, f, g, fc, fh, fb, ce, sz, lk, hl, hs, le, st, kl, ks, rfl, rfl, hT, hS, hf⟩ := I
  have hn := hT.2.1
  have I' : i_Rel (k + 5) (nI n, nI g, fc, nI f, fh, fb, ce, sz, lk, hl, hs) (nI n, nI f, le, st, kl, ks) := zz_in hT hS hf
  by_cases hg : zz_gd n v1 v2
  rotate_left
  · unfold wpX_style
    refine xb_no hg (br_f zb_10 ?_)
    unfold wpY_style
    exact ys_no hg (br_t rfl ⟨rfl, I'⟩)
  obtain ⟨i, j, rfl, rfl, hij, hj⟩ := zz_gd_of hn hg
  by_cases a1 : v3 < 0
  · unfold wpX_style
    refine xb_ok hij hj hn (br_t rfl (br_t a1 ?_))
    unfold wpY_style
    exact ys_ok hij hj hn (br_f zb_10 (br_t a1 ⟨rfl, I'⟩))
  by_cases a2 : 15 < v3
  · unfold wpX_style
    refine xb_ok hij hj hn (br_t rfl (br_f a1 (br_t a2 ?_)))
    unfold wpY_style
    exact ys_ok hij hj hn (br_f zb_10 (br_f a1 (br_t a2 ⟨rfl, I'⟩)))
  by_cases a3 : v4 < 0
  · unfold wpX_style
    refine xb_ok hij hj hn (br_t rfl (br_f a1 (br_f a2 (br_t a3 ?_))))
    unfold wpY_style
    exact ys_ok hij hj hn (br_f zb_10 (br_f a1 (br_f a2 (br_t a3 ⟨rfl, I'⟩))))
  by_cases a4 : v4 ≤ 63
  rotate_left
  · unfold wpX_style
    refine xb_ok hij hj hn (br_t rfl (br_f a1 (br_f a2 (br_f a3 (br_f a4 ?_)))))
    unfold wpY_style
    exact ys_ok hij hj hn (br_f zb_10 (br_f a1 (br_f a2 (br_f a3 (br_f a4 ⟨rfl, I'⟩)))))
  obtain ⟨m, hm, rfl⟩ := zz_of (n := 15) (by omega) a1 (Int32.not_lt.mp a2)
  obtain ⟨t, ht, rfl⟩ := zz_of (n := 63) (by omega) a3 a4
  refine xs_style hS hn hij hj (by omega) ht fun fc fb sz lk hS => ?_
  refine yc_style hn hij hj (by omega) ht fun st' h1 => ?_
  exact ⟨rfl, zz_in hT (ru_D_eq hS (fun q _ => h1 q)) hf⟩
theorem i_vc_toggle {k : Nat} {u : SX} {v : SY} (I : i_Rel k u v) (hk : k + 5 ≤ 2560) (v1 : Int32) (v2 : Int32) (v3 : Int32) : wpX_toggle (fun r u' => wpY_toggle (fun r' v' => r' = r ∧ i_Rel (k + 5) u' v') v v1 v2 v3) u v1 v2 v3 := by
  obtain ⟨n, f, g, fc, fh, fb, ce, sz, lk, hl, hs, le, st, kl, ks, rfl, rfl, hT, hS, hf⟩ := I
  have hn := hT.2.1
  have I' : i_Rel (k + 5) (nI n, nI g, fc, nI f, fh, fb, ce, sz, lk, hl, hs) (nI n, nI f, le, st, kl, ks) := zz_in hT hS hf
  by_cases hg : zz_gd n v1 v2
  rotate_left
  · unfold wpX_toggle
    refine xb_no hg (br_f zb_10 ?_)
    unfold wpY_toggle
    exact ys_no hg (br_t rfl ⟨rfl, I'⟩)
  obtain ⟨i, j, rfl, rfl, hij, hj⟩ := zz_gd_of hn hg
  by_cases a1 : v3 = 1
  · subst a1
    unfold wpX_toggle
    refine xb_ok hij hj hn (br_t rfl (br_t rfl ?_))
    refine zz_tg (m := 1) hT hS hf hij hj (by omega) fun post h => ?_
    unfold wpY_toggle
    exact ys_ok hij hj hn (br_f zb_10 (br_t rfl h))
  by_cases a2 : v3 = 2
  · subst a2
    unfold wpX_toggle
    refine xb_ok hij hj hn (br_t rfl (br_f a1 (br_t rfl ?_)))
    refine zz_tg (m := 2) hT hS hf hij hj (by omega) fun post h => ?_
    unfold wpY_toggle
    exact ys_ok hij hj hn (br_f zb_10 (br_f a1 (br_t rfl h)))
  by_cases a3 : v3 = 4
  · subst a3
    unfold wpX_toggle
    refine xb_ok hij hj hn (br_t rfl (br_f a1 (br_f a2 (br_t rfl ?_))))
    refine zz_tg (m := 4) hT hS hf hij hj (by omega) fun post h => ?_
    unfold wpY_toggle
    exact ys_ok hij hj hn (br_f zb_10 (br_f a1 (br_f a2 (br_t rfl h))))
  · unfold wpX_toggle
    refine xb_ok hij hj hn (br_t rfl (br_f a1 (br_f a2 (br_f a3 ?_))))
    unfold wpY_toggle
    exact ys_ok hij hj hn (br_f zb_10 (br_f a1 (br_f a2 (br_f a3 ⟨rfl, I'⟩))))
theorem i_vc_replace {k : Nat} {u : SX} {v : SY} (I : i_Rel k u v) (hk : k + 5 ≤ 2560) (v1 : Int32) (v2 : Int32) : wpX_replace (fun r u' => wpY_replace (fun r' v' => r' = r ∧ i_Rel (k + 5) u' v') v v1 v2) u v1 v2 := by
  obtain ⟨n, f, g, fc, fh, fb, ce, sz, lk, hl, hs, le, st, kl, ks, rfl, rfl, hT, hS, hf⟩ := I
  have hn := hT.2.1
  have I' : i_Rel (k + 5) (nI n, nI g, fc, nI f, fh, fb, ce, sz, lk, hl, hs) (nI n, nI f, le, st, kl, ks) := zz_in hT hS hf
  unfold wpX_replace
  by_cases h1 : zz_lt v1
  · by_cases h2 : zz_lt v2
    · refine xl_ok h1 (br_t rfl ?_)
      refine xl_ok h2 (br_t rfl ⟨n + 1, ?_⟩)
      refine xp_23 hn (fun ce hT => ?_) n 0 ce (by omega) (xt_eq hT (fun q _ => xp_0 q))
      unfold wpY_replace
      refine yl_ok h1 (br_f zb_10 ?_)
      refine yl_ok h2 (br_f zb_10 ⟨n + 1, ?_⟩)
      have e0 : xp_r le v1 v2 0 = le := funext (fun q => (xp_0 q).symm)
      have q := yp_23 (post := fun r' v' => r' = nI (cu_c (xp_P v1) le 0 n) ∧ i_Rel (k + 5) (nI n, nI g, fc, nI f, fh, fb, ce, sz, lk, hl, hs) v') (ff := nI f) (st := st) (kl := kl) (ks := ks) (le := le) (c := v1) (d := v2) hn ⟨rfl, zz_in hT hS hf⟩ n 0 (by omega)
      rw [e0] at q
      exact q
    · refine xl_ok h1 (br_t rfl ?_)
      refine xl_no h2 (br_f zb_10 ?_)
      unfold wpY_replace
      refine yl_ok h1 (br_f zb_10 ?_)
      exact yl_no h2 (br_t rfl ⟨rfl, I'⟩)
  · refine xl_no h1 (br_f zb_10 ?_)
    unfold wpY_replace
    exact yl_no h1 (br_t rfl ⟨rfl, I'⟩)
theorem i_vc_length {k : Nat} {u : SX} {v : SY} (I : i_Rel k u v) (hk : k + 5 ≤ 2560) : wpX_length (fun r => wpY_length (fun r' => r' = r ∧ i_Rel (k + 5) u v) v) u := by
  obtain ⟨n, f, g, fc, fh, fb, ce, sz, lk, hl, hs, le, st, kl, ks, rfl, rfl, hT, hS, hf⟩ := I
  have hn := hT.2.1
  have I' : i_Rel (k + 5) (nI n, nI g, fc, nI f, fh, fb, ce, sz, lk, hl, hs) (nI n, nI f, le, st, kl, ks) := zz_in hT hS hf
  exact And.intro rfl I'
theorem i_vc_letter {k : Nat} {u : SX} {v : SY} (I : i_Rel k u v) (hk : k + 5 ≤ 2560) (v1 : Int32) : wpX_letter (fun r => wpY_letter (fun r' => r' = r ∧ i_Rel (k + 5) u v) v v1) u v1 := by
  obtain ⟨n, f, g, fc, fh, fb, ce, sz, lk, hl, hs, le, st, kl, ks, rfl, rfl, hT, hS, hf⟩ := I
  have hn := hT.2.1
  have I' : i_Rel (k + 5) (nI n, nI g, fc, nI f, fh, fb, ce, sz, lk, hl, hs) (nI n, nI f, le, st, kl, ks) := zz_in hT hS hf
  unfold wpX_letter
  by_cases a1 : v1 < 0
  · exact xf_no (Or.inl a1) (br_f zb_10 (br_t a1 ⟨rfl, I'⟩))
  · by_cases a2 : v1 < nI n
    · obtain ⟨q, hq, rfl⟩ := zz_lo hn a1 a2
      refine xf_ok hq hn (br_t rfl ?_)
      refine xt_of hT hq fun h64 hce => ?_
      refine And.intro (vp_in_nI h64 (by omega)) ?_
      rw [nI_clamp (by omega), hce]
      refine br_f a1 (br_f (nI_ge hq (by omega)) (And.intro (vp_in_nI (by omega) (by omega)) ?_))
      rw [nI_clamp (by omega)]
      exact ⟨rfl, I'⟩
    · exact xf_no (Or.inr a2) (br_f zb_10 (br_f a1 (br_t (zz_hi a2) ⟨rfl, I'⟩)))
theorem i_vc_styleAt {k : Nat} {u : SX} {v : SY} (I : i_Rel k u v) (hk : k + 5 ≤ 2560) (v1 : Int32) : wpX_styleAt (fun r u' => wpY_styleAt (fun r' => r' = r ∧ i_Rel (k + 5) u' v) v v1) u v1 := by
  obtain ⟨n, f, g, fc, fh, fb, ce, sz, lk, hl, hs, le, st, kl, ks, rfl, rfl, hT, hS, hf⟩ := I
  have hn := hT.2.1
  have I' : i_Rel (k + 5) (nI n, nI g, fc, nI f, fh, fb, ce, sz, lk, hl, hs) (nI n, nI f, le, st, kl, ks) := zz_in hT hS hf
  unfold wpX_styleAt
  by_cases a1 : v1 < 0
  · exact xf_no (Or.inl a1) (br_f zb_10 (br_t a1 ⟨rfl, I'⟩))
  · by_cases a2 : v1 < nI n
    · obtain ⟨q, hq, rfl⟩ := zz_lo hn a1 a2
      refine xf_ok hq hn (br_t rfl ?_)
      refine xs_here hS hn hq fun fb => ?_
      refine br_f a1 (br_f (nI_ge hq (by omega)) (And.intro (vp_in_nI (by omega) (by omega)) ?_))
      rw [nI_clamp (by omega)]
      exact ⟨rfl, zz_in hT hS hf⟩
    · exact xf_no (Or.inr a2) (br_f zb_10 (br_f a1 (br_t (zz_hi a2) ⟨rfl, I'⟩)))
theorem i_vc_runs {k : Nat} {u : SX} {v : SY} (I : i_Rel k u v) (hk : k + 5 ≤ 2560) : wpX_runs (fun r => wpY_runs (fun r' => r' = r ∧ i_Rel (k + 5) u v) v) u := by
  obtain ⟨n, f, g, fc, fh, fb, ce, sz, lk, hl, hs, le, st, kl, ks, rfl, rfl, hT, hS, hf⟩ := I
  have hn := hT.2.1
  have I' : i_Rel (k + 5) (nI n, nI g, fc, nI f, fh, fb, ce, sz, lk, hl, hs) (nI n, nI f, le, st, kl, ks) := zz_in hT hS hf
  obtain ⟨L, rfl, hF, hps, hcn, htl, hex⟩ := hS
  have hlen := ru_len hps
  have hex' : ∀ q, q < ru_tl L → ru_ex L q = st q := fun q hq => hex q (by omega)
  have hb := cu_b_L hps hcn hex' L.length L [] rfl (by simp)
  rw [htl] at hb
  exact ⟨_, yb_runs hn ⟨by rw [hb], I'⟩ n 0 (by omega)⟩
theorem i_vc_runBegin {k : Nat} {u : SX} {v : SY} (I : i_Rel k u v) (hk : k + 5 ≤ 2560) (v1 : Int32) : wpX_runBegin (fun r => wpY_runBegin (fun r' => r' = r ∧ i_Rel (k + 5) u v) v v1) u v1 := by
  obtain ⟨n, f, g, fc, fh, fb, ce, sz, lk, hl, hs, le, st, kl, ks, rfl, rfl, hT, hS, hf⟩ := I
  have hn := hT.2.1
  have I' : i_Rel (k + 5) (nI n, nI g, fc, nI f, fh, fb, ce, sz, lk, hl, hs) (nI n, nI f, le, st, kl, ks) := zz_in hT hS hf
  obtain ⟨L, rfl, hF, hps, hcn, htl, hex⟩ := hS
  have hlen := ru_len hps
  have hex' : ∀ q, q < ru_tl L → ru_ex L q = st q := fun q hq => hex q (by omega)
  by_cases a1 : v1 < 0
  · exact br_t a1 (yb_none hps hcn htl hn hex (Or.inl a1) ⟨rfl, I'⟩)
  · by_cases a2 : v1 < nI L.length
    · obtain ⟨r, hr, rfl⟩ := zz_lo (by omega) a1 a2
      refine br_f a1 (br_t a2 ⟨_, xq_19 hF (by omega) (by omega) (fun A B e ha => ?_) r [] L rfl (by simp)⟩)
      subst ha
      cases B with
      | nil =>
        exfalso
        rw [e, List.append_nil] at hr
        omega
      | cons x B => exact yb_found hps hcn htl hn hex e ⟨rfl, I'⟩
    · exact br_f a1 (br_f a2 (yb_none hps hcn htl hn hex (Or.inr a2) ⟨rfl, I'⟩))
theorem i_vc_runStyle {k : Nat} {u : SX} {v : SY} (I : i_Rel k u v) (hk : k + 5 ≤ 2560) (v1 : Int32) : wpX_runStyle (fun r => wpY_runStyle (fun r' => r' = r ∧ i_Rel (k + 5) u v) v v1) u v1 := by
  obtain ⟨n, f, g, fc, fh, fb, ce, sz, lk, hl, hs, le, st, kl, ks, rfl, rfl, hT, hS, hf⟩ := I
  have hn := hT.2.1
  have I' : i_Rel (k + 5) (nI n, nI g, fc, nI f, fh, fb, ce, sz, lk, hl, hs) (nI n, nI f, le, st, kl, ks) := zz_in hT hS hf
  obtain ⟨L, rfl, hF, hps, hcn, htl, hex⟩ := hS
  have hlen := ru_len hps
  have hex' : ∀ q, q < ru_tl L → ru_ex L q = st q := fun q hq => hex q (by omega)
  have z4 : ¬ (0 : Int32) ≤ -4 := by decide
  by_cases a1 : v1 < 0
  · refine br_t a1 ?_
    unfold wpY_runStyle
    exact yb_none hps hcn htl hn hex (Or.inl a1) (br_f z4 ⟨rfl, I'⟩)
  · by_cases a2 : v1 < nI L.length
    · obtain ⟨r, hr, rfl⟩ := zz_lo (by omega) a1 a2
      refine br_f a1 (br_t a2 (And.intro (vp_in_nI (by omega) (by omega)) ?_))
      obtain ⟨A, x, B, e, rfl⟩ : ∃ A x B, L = A ++ x :: B ∧ A.length = r := by
        refine ⟨L.take r, L[r], L.drop (r + 1), ?_, ?_⟩
        · rw [← List.drop_eq_getElem_cons hr, List.take_append_drop]
        · rw [List.length_take]; omega
      have hx := ru_F_at (A := A) (x := x) (B := B) (by rw [← e]; exact hF)
      have et : ru_tl A + (x.1 + ru_tl B) = ru_tl L := by rw [e, ru_tl_app]; rfl
      have hx1 : 1 ≤ x.1 := hps x (by rw [e]; simp)
      have hs1 : st (ru_tl A) = x.2 := cu_b_S hex' e 0 (by omega)
      rw [nI_clamp (by omega), hx.2]
      unfold wpY_runStyle
      refine yb_found hps hcn htl hn hex e ?_
      refine br_t (nI_pos' (by omega)) (And.intro (vp_in_nI (by omega) (by omega)) ?_)
      rw [nI_clamp (by omega)]
      exact ⟨hs1, I'⟩
    · refine br_f a1 (br_f a2 ?_)
      unfold wpY_runStyle
      exact yb_none hps hcn htl hn hex (Or.inr a2) (br_f z4 ⟨rfl, I'⟩)
theorem i_vc_runOf {k : Nat} {u : SX} {v : SY} (I : i_Rel k u v) (hk : k + 5 ≤ 2560) (v1 : Int32) : wpX_runOf (fun r u' => wpY_runOf (fun r' => r' = r ∧ i_Rel (k + 5) u' v) v v1) u v1 := by
  obtain ⟨n, f, g, fc, fh, fb, ce, sz, lk, hl, hs, le, st, kl, ks, rfl, rfl, hT, hS, hf⟩ := I
  have hn := hT.2.1
  have I' : i_Rel (k + 5) (nI n, nI g, fc, nI f, fh, fb, ce, sz, lk, hl, hs) (nI n, nI f, le, st, kl, ks) := zz_in hT hS hf
  unfold wpX_runOf
  by_cases a1 : v1 < 0
  · exact xf_no (Or.inl a1) (br_f zb_10 (br_t a1 ⟨rfl, I'⟩))
  · by_cases a2 : v1 < nI n
    · obtain ⟨q, hq, rfl⟩ := zz_lo hn a1 a2
      refine xf_ok hq hn (br_t rfl ?_)
      refine xr_in hS hn hq fun fb r hr h1 h2 => ?_
      refine br_f a1 (br_t a2 ⟨q + 1 + 1, ?_⟩)
      refine yb_ro (by omega) ?_ (q + 1) 0 (by omega)
      rw [h2, nI_pred]
      exact ⟨rfl, zz_in hT hS hf⟩
    · exact xf_no (Or.inr a2) (br_f zb_10 (br_f a1 (br_f a2 ⟨rfl, I'⟩)))
theorem i_vc_having {k : Nat} {u : SX} {v : SY} (I : i_Rel k u v) (hk : k + 5 ≤ 2560) (v1 : Int32) : wpX_having (fun r => wpY_having (fun r' => r' = r ∧ i_Rel (k + 5) u v) v v1) u v1 := by
  obtain ⟨n, f, g, fc, fh, fb, ce, sz, lk, hl, hs, le, st, kl, ks, rfl, rfl, hT, hS, hf⟩ := I
  have hn := hT.2.1
  have I' : i_Rel (k + 5) (nI n, nI g, fc, nI f, fh, fb, ce, sz, lk, hl, hs) (nI n, nI f, le, st, kl, ks) := zz_in hT hS hf
  obtain ⟨L, rfl, hF, hps, hcn, htl, hex⟩ := hS
  have hlen := ru_len hps
  have hex' : ∀ q, q < ru_tl L → ru_ex L q = st q := fun q hq => hex q (by omega)
  by_cases a1 : v1 < 0
  · exact br_t a1 (br_t a1 ⟨rfl, I'⟩)
  · by_cases a2 : v1 ≤ 7
    · have ec := cu_c_runs (P := xq_P v1) (S := st) L 0 (fun q hq => by rw [Nat.zero_add]; exact (hex' q hq).symm)
      rw [htl] at ec
      refine br_f a1 (br_t a2 ⟨_, xq_16 (tot := ru_sm (xq_P v1) L) hF (by omega) ?_ L [] 0 rfl (by omega)⟩)
      refine br_f a1 (br_t a2 ⟨_, yq_16 hn ?_ n 0 (by omega)⟩)
      exact ⟨by rw [ec], I'⟩
    · exact br_f a1 (br_f a2 (br_f a1 (br_f a2 ⟨rfl, I'⟩)))
theorem i_vc_setFlag {k : Nat} {u : SX} {v : SY} (I : i_Rel k u v) (hk : k + 5 ≤ 2560) (v1 : Int32) : wpX_setFlag (fun r u' => wpY_setFlag (fun r' v' => r' = r ∧ i_Rel (k + 5) u' v') v v1) u v1 := by
  obtain ⟨n, f, g, fc, fh, fb, ce, sz, lk, hl, hs, le, st, kl, ks, rfl, rfl, hT, hS, hf⟩ := I
  have hn := hT.2.1
  have I' : i_Rel (k + 5) (nI n, nI g, fc, nI f, fh, fb, ce, sz, lk, hl, hs) (nI n, nI f, le, st, kl, ks) := zz_in hT hS hf
  by_cases a1 : v1 < 0
  · exact br_t a1 (br_t a1 ⟨rfl, I'⟩)
  · by_cases a2 : v1 ≤ nI n
    · obtain ⟨p, hp, rfl⟩ := zz_of hn a1 a2
      exact br_f a1 (br_t a2 (br_f a1 (br_t a2 ⟨rfl, zz_in hT hS hp⟩)))
    · exact br_f a1 (br_f a2 (br_f a1 (br_f a2 ⟨rfl, I'⟩)))
theorem i_vc_flag {k : Nat} {u : SX} {v : SY} (I : i_Rel k u v) (hk : k + 5 ≤ 2560) : wpX_flag (fun r => wpY_flag (fun r' => r' = r ∧ i_Rel (k + 5) u v) v) u := by
  obtain ⟨n, f, g, fc, fh, fb, ce, sz, lk, hl, hs, le, st, kl, ks, rfl, rfl, hT, hS, hf⟩ := I
  have hn := hT.2.1
  have I' : i_Rel (k + 5) (nI n, nI g, fc, nI f, fh, fb, ce, sz, lk, hl, hs) (nI n, nI f, le, st, kl, ks) := zz_in hT hS hf
  exact And.intro rfl I'
theorem i_vc_digest {k : Nat} {u : SX} {v : SY} (I : i_Rel k u v) (hk : k + 5 ≤ 2560) : wpX_digest (fun r => wpY_digest (fun r' => r' = r ∧ i_Rel (k + 5) u v) v) u := by
  obtain ⟨n, f, g, fc, fh, fb, ce, sz, lk, hl, hs, le, st, kl, ks, rfl, rfl, hT, hS, hf⟩ := I
  have hn := hT.2.1
  have I' : i_Rel (k + 5) (nI n, nI g, fc, nI f, fh, fb, ce, sz, lk, hl, hs) (nI n, nI f, le, st, kl, ks) := zz_in hT hS hf
  obtain ⟨L, rfl, hF, hps, hcn, htl, hex⟩ := hS
  have hlen := ru_len hps
  have hex' : ∀ q, q < ru_tl L → ru_ex L q = st q := fun q hq => hex q (by omega)
  refine ⟨_, xq_6 hT hF (by omega) htl hex ?_ L [] rfl⟩
  exact ⟨_, yq_4 hn ⟨rfl, I'⟩ n 0 (by omega)⟩
end
