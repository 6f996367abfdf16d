section
theorem pk_us {f : Nat → Int32} {k : Nat} {x : Int32} : upd f k x k = x := if_pos rfl
theorem pk_un {f : Nat → Int32} {k j : Nat} {x : Int32} (h : j ≠ k) : upd f k x j = f j := if_neg h
theorem pk_sub {a b : Nat} (h : b ≤ a) : nI a - nI b = nI (a - b) := by
  obtain ⟨c, rfl⟩ : ∃ c, a = c + b := ⟨a - b, by omega⟩
  rw [← nI_add, Int32.add_sub_cancel, Nat.add_sub_cancel]
theorem pk_m1 (n : Nat) : nI (n + 1) + (-1) = nI n := by
  rw [← nI_1, Int32.add_assoc, show (1 : Int32) + (-1) = 0 from rfl, Int32.add_zero]
theorem pk_mul (a b : Nat) : nI a * nI b = nI (a * b) := (Int32.ofNat_mul a b).symm
theorem pk_ix (x : Int32) {n : Nat} (hn : n < 2 ^ 31) : x < 0 ∨ nI n ≤ x ∨ ∃ j : Nat, j < n ∧ x = nI j := by
  by_cases h : x < 0
  · exact Or.inl h
  · obtain ⟨j, hj, rfl⟩ := nI_of h
    by_cases h2 : j < n
    · exact Or.inr (Or.inr ⟨j, h2, rfl⟩)
    · exact Or.inr (Or.inl (nI_le (by omega) hj))
theorem pk_le {x y : Int32} {A B : Prop} (a b : Nat) (f : a ≤ b → A) (g : b < a → B) (hx : x = nI a := by rfl) (hy : y = nI b := by rfl) (ha : a < 2 ^ 31 := by omega) (hb : b < 2 ^ 31 := by omega) : (x ≤ y → A) ∧ (¬ x ≤ y → B) := by
  subst hx hy
  rw [nI_leI ha hb]
  exact ⟨f, fun z => g (by omega)⟩
theorem pk_lt {x y : Int32} {A B : Prop} (a b : Nat) (f : a < b → A) (g : b ≤ a → B) (hx : x = nI a := by rfl) (hy : y = nI b := by rfl) (ha : a < 2 ^ 31 := by omega) (hb : b < 2 ^ 31 := by omega) : (x < y → A) ∧ (¬ x < y → B) := by
  subst hx hy
  rw [nI_ltI ha hb]
  exact ⟨f, fun z => g (by omega)⟩
theorem pk_eq {x y : Int32} {A B : Prop} (a b : Nat) (f : a = b → A) (g : a ≠ b → B) (hx : x = nI a := by rfl) (hy : y = nI b := by rfl) (ha : a < 2 ^ 31 := by omega) (hb : b < 2 ^ 31 := by omega) : (x = y → A) ∧ (¬ x = y → B) := by
  subst hx hy
  rw [nI_eq ha hb]
  exact ⟨f, g⟩
theorem pk_in {x : Int32} (n N : Nat) (h : n < N) (hx : x = nI n := by rfl) (hN : N < 2 ^ 31 := by omega) : vp_in x N := by
  subst hx
  exact vp_in_nI h hN
/-! counts -/
noncomputable def ic_b (P : Prop) : Nat := @ite Nat P (Classical.propDecidable P) 1 0
theorem ic_b_t {P : Prop} (h : P) : ic_b P = 1 := by unfold ic_b; rw [if_pos h]
theorem ic_b_f {P : Prop} (h : ¬ P) : ic_b P = 0 := by unfold ic_b; rw [if_neg h]
theorem ic_b_le (P : Prop) : ic_b P ≤ 1 := by
  rcases Classical.em P with h | h
  · rw [ic_b_t h]; omega
  · rw [ic_b_f h]; omega
noncomputable def ic_cn (P : Nat → Prop) : Nat → Nat
  | 0 => 0
  | k + 1 => ic_cn P k + ic_b (P k)
theorem ic_cn_t {P : Nat → Prop} {k : Nat} (h : P k) : ic_cn P (k + 1) = ic_cn P k + 1 := by simp only [ic_cn]; rw [ic_b_t h]
theorem ic_cn_f {P : Nat → Prop} {k : Nat} (h : ¬ P k) : ic_cn P (k + 1) = ic_cn P k := by simp only [ic_cn]; rw [ic_b_f h]; rfl
theorem ic_cn_le (P : Nat → Prop) : ∀ N, ic_cn P N ≤ N
  | 0 => Nat.le_refl _
  | N + 1 => by have := ic_cn_le P N; have := ic_b_le (P N); simp only [ic_cn]; omega
theorem ic_cn_eq {P Q : Nat → Prop} : ∀ {N : Nat}, (∀ k, k < N → (P k ↔ Q k)) → ic_cn P N = ic_cn Q N
  | 0, _ => rfl
  | N + 1, h => by
    have a := ic_cn_eq (P := P) (Q := Q) (N := N) (fun k hk => h k (by omega))
    have b : ic_b (P N) = ic_b (Q N) := congrArg ic_b (propext (h N (by omega)))
    simp only [ic_cn]; omega
theorem ic_cn_z {P : Nat → Prop} : ∀ {N : Nat}, (∀ k, k < N → ¬ P k) → ic_cn P N = 0
  | 0, _ => rfl
  | N + 1, h => by rw [ic_cn_f (h N (by omega))]; exact ic_cn_z (fun k hk => h k (by omega))
theorem ic_cn_0 {P : Nat → Prop} : ∀ {N : Nat}, ic_cn P N = 0 → ∀ k, k < N → ¬ P k
  | 0, _ => fun k hk => by omega
  | N + 1, h => fun k hk hP => by
    rcases Classical.em (P N) with z | z
    · rw [ic_cn_t z] at h; omega
    · rw [ic_cn_f z] at h
      have : k ≠ N := fun e => z (e ▸ hP)
      exact ic_cn_0 h k (by omega) hP
theorem ic_cn_add {P : Nat → Prop} {a : Nat} (hp : ¬ P a) : ∀ {N : Nat}, a < N → ic_cn (fun k => P k ∨ k = a) N = ic_cn P N + 1
  | 0, h => by omega
  | N + 1, h => by
    rcases Nat.lt_or_ge a N with z | z
    · have e := ic_cn_add hp z
      have b : ic_b (P N ∨ N = a) = ic_b (P N) := congrArg ic_b (propext ⟨fun q => q.elim id (fun e => by omega), Or.inl⟩)
      simp only [ic_cn]; omega
    · have e : a = N := by omega
      subst e
      have x : ic_cn (fun k => P k ∨ k = a) a = ic_cn P a := ic_cn_eq (fun k hk => ⟨fun q => q.elim id (fun e => by omega), Or.inl⟩)
      have y : ic_cn (fun k => P k ∨ k = a) (a + 1) = ic_cn (fun k => P k ∨ k = a) a + 1 := ic_cn_t (Or.inr rfl)
      rw [y, x, ic_cn_f hp]
theorem ic_cn_lt {P : Nat → Prop} {a N : Nat} (hp : ¬ P a) (ha : a < N) : ic_cn P N < N := by
  have e := ic_cn_add hp ha
  have l := ic_cn_le (fun k => P k ∨ k = a) N
  omega
/-! stores of naturals, the codes -/
def ic_ud (f : Nat → Nat) (k v : Nat) : Nat → Nat := fun j => if j = k then v else f j
theorem ic_us {f : Nat → Nat} {k v : Nat} : ic_ud f k v k = v := if_pos rfl
theorem ic_un {f : Nat → Nat} {k v j : Nat} (h : j ≠ k) : ic_ud f k v j = f j := if_neg h
def ic_lc (n : Nat) : Int32 := if n = 17 then -1 else nI n
def ic_oc (n : Nat) : Int32 := if n = 32 then -1 else nI n
def ic_wc (n : Nat) : Int32 := if n < 16 then nI n else -1
def ic_yb (l b : Nat) : Int32 := if l = 17 then -1 else nI b
theorem ic_lc_n {n : Nat} (h : n ≠ 17) : ic_lc n = nI n := if_neg h
theorem ic_lc_17 : ic_lc 17 = -1 := rfl
theorem ic_oc_n {n : Nat} (h : n ≠ 32) : ic_oc n = nI n := if_neg h
theorem ic_oc_32 : ic_oc 32 = -1 := rfl
theorem ic_wc_n {n : Nat} (h : n < 16) : ic_wc n = nI n := if_pos h
theorem ic_wc_m {n : Nat} (h : ¬ n < 16) : ic_wc n = -1 := if_neg h
theorem ic_yb_n {l b : Nat} (h : l ≠ 17) : ic_yb l b = nI b := if_neg h
theorem ic_yb_m {l b : Nat} (h : l = 17) : ic_yb l b = -1 := if_pos h
theorem ic_upG (g : Nat → Int32) (f : Nat → Nat) (k v : Nat) : upd (fun j => g (f j)) k (g v) = fun j => g (ic_ud f k v j) := by
  funext j
  by_cases h : j = k
  · subst h; rw [pk_us, ic_us]
  · rw [pk_un h, ic_un h]
theorem ic_upN (f : Nat → Nat) (k v : Nat) : upd (fun j => nI (f j)) k (nI v) = fun j => nI (ic_ud f k v j) := ic_upG nI f k v
theorem ic_upL (f : Nat → Nat) (k v : Nat) : vp_updL (fun j => lN (f j)) k (lN v) = fun j => lN (ic_ud f k v j) := by
  funext j
  unfold vp_updL ic_ud
  by_cases h : j = k
  · rw [if_pos h, if_pos h]
  · rw [if_neg h, if_neg h]
theorem ic_ix (q i : Nat) : nI q * 32 + nI i = nI (32 * q + i) := by
  rw [show (32 : Int32) = nI 32 from rfl, pk_mul, nI_add, Nat.mul_comm]
theorem ic_ix0 (q : Nat) : nI q * 32 = nI (32 * q) := by
  rw [show (32 : Int32) = nI 32 from rfl, pk_mul, Nat.mul_comm]
theorem ic_m1n {n : Nat} (h : n < 2 ^ 31) : ¬ nI n = -1 := by
  intro e
  have a := nI_toInt h
  rw [e, show (-1 : Int32).toInt = -1 from by decide] at a
  omega
theorem ic_m1neg : (-1 : Int32) < 0 := by decide
theorem ic_lc_eq {n : Nat} (h : n ≤ 17) : ic_lc n = -1 ↔ n = 17 := by
  constructor
  · intro e
    by_cases z : n = 17
    · exact z
    · rw [ic_lc_n z] at e; exact absurd e (ic_m1n (by omega))
  · intro e; rw [e]; rfl
theorem ic_lc_16 {n : Nat} (h : n ≤ 17) : ic_lc n = 16 ↔ n = 16 := by
  constructor
  · intro e
    by_cases z : n = 17
    · subst z; exact absurd e (by decide)
    · rw [ic_lc_n z, show (16 : Int32) = nI 16 from rfl, nI_eq (by omega) (by omega)] at e; exact e
  · intro e; rw [e]; rfl
theorem ic_oc_eq {n : Nat} (h : n ≤ 32) : ic_oc n = -1 ↔ n = 32 := by
  constructor
  · intro e
    by_cases z : n = 32
    · exact z
    · rw [ic_oc_n z] at e; exact absurd e (ic_m1n (by omega))
  · intro e; rw [e]; rfl
theorem ic_oc_nI {n t : Nat} (h : n ≤ 32) (ht : t < 32) : ic_oc n = nI t ↔ n = t := by
  constructor
  · intro e
    by_cases z : n = 32
    · subst z; rw [ic_oc_32] at e; exact absurd e.symm (ic_m1n (by omega))
    · rw [ic_oc_n z, nI_eq (by omega) (by omega)] at e; exact e
  · intro e; rw [e]; exact ic_oc_n (by omega)
theorem ic_oc_0 {n : Nat} (h : n ≤ 32) : 0 ≤ ic_oc n ↔ n ≠ 32 := by
  constructor
  · intro e z
    subst z; exact absurd e (by decide)
  · intro z; rw [ic_oc_n z]; exact nI_pos' (by omega)
theorem ic_wc_0 {n : Nat} : 0 ≤ ic_wc n ↔ n < 16 := by
  constructor
  · intro e
    by_cases z : n < 16
    · exact z
    · rw [ic_wc_m z] at e; exact absurd e (by decide)
  · intro z; rw [ic_wc_n z]; exact nI_pos' (by omega)
theorem ic_wc_lt {n : Nat} : ic_wc n < 0 ↔ ¬ n < 16 := by
  rw [← Int32.not_le, ic_wc_0]
theorem ic_yb_lt {l b : Nat} (h : b < 2 ^ 31) : ic_yb l b < 0 ↔ l = 17 := by
  constructor
  · intro e
    by_cases z : l = 17
    · exact z
    · rw [ic_yb_n z] at e; exact absurd e (nI_pos h)
  · intro z; rw [ic_yb_m z]; exact ic_m1neg
theorem ic_yb_0 {l b : Nat} (h : b < 2 ^ 31) : 0 ≤ ic_yb l b ↔ ¬ l = 17 := by
  rw [← Int32.not_lt, ic_yb_lt h]
theorem ic_wc_eq {a b : Nat} (ha : a < 17) (hb : b < 17) : ic_wc a = ic_wc b ↔ a = b := by
  constructor
  · intro e
    by_cases za : a < 16
    · by_cases zb : b < 16
      · rw [ic_wc_n za, ic_wc_n zb, nI_eq (by omega) (by omega)] at e; exact e
      · rw [ic_wc_n za, ic_wc_m zb] at e; exact absurd e (ic_m1n (by omega))
    · by_cases zb : b < 16
      · rw [ic_wc_n zb, ic_wc_m za] at e; exact absurd e.symm (ic_m1n (by omega))
      · omega
  · intro e; rw [e]
end
section
/-! chains: next, reach, the forest, heights -/
def ic_nx (ln ow : Nat → Nat) (x : Nat) : Nat := if ln x < 16 then ow (ln x) else x
theorem ic_nx_b {ln ow : Nat → Nat} {x : Nat} (h : ln x < 16) : ic_nx ln ow x = ow (ln x) := if_pos h
theorem ic_nx_r {ln ow : Nat → Nat} {x : Nat} (h : ¬ ln x < 16) : ic_nx ln ow x = x := if_neg h
def ic_ch (f : Nat → Nat) : Nat → Nat → Nat
  | 0, x => x
  | n + 1, x => ic_ch f n (f x)
theorem ic_ch_s (f : Nat → Nat) : ∀ n x, ic_ch f (n + 1) x = f (ic_ch f n x)
  | 0, _ => rfl
  | n + 1, x => ic_ch_s f n (f x)
def ic_R (f : Nat → Nat) (x y : Nat) : Prop := ∃ n, ic_ch f n x = y
theorem ic_R0 (f : Nat → Nat) (x : Nat) : ic_R f x x := ⟨0, rfl⟩
theorem ic_Rs {f : Nat → Nat} {x y : Nat} (h : ic_R f (f x) y) : ic_R f x y := by
  obtain ⟨n, h⟩ := h
  exact ⟨n + 1, h⟩
theorem ic_Rc {f : Nat → Nat} {x y : Nat} (h : ic_R f x y) : x = y ∨ ic_R f (f x) y := by
  obtain ⟨n, h⟩ := h
  cases n with
  | zero => exact Or.inl h
  | succ n => exact Or.inr ⟨n, h⟩
theorem ic_Rt {f : Nat → Nat} {x y : Nat} (h : ic_R f x y) : ic_R f x (f y) := by
  obtain ⟨n, h⟩ := h
  exact ⟨n + 1, by rw [ic_ch_s, h]⟩
theorem ic_Rroot {ln ow : Nat → Nat} {x y : Nat} (hb : ¬ ln x < 16) (h : ic_R (ic_nx ln ow) x y) : x = y := by
  obtain ⟨n, h⟩ := h
  induction n with
  | zero => exact h
  | succ n ih =>
    apply ih
    have e : ic_ch (ic_nx ln ow) (n + 1) x = ic_ch (ic_nx ln ow) n (ic_nx ln ow x) := rfl
    rw [e, ic_nx_r hb] at h
    exact h
/-- the forest: a waiter's mutex has a live owner, of lower rank -/
def ic_Fo (T : Nat) (ln ow dp : Nat → Nat) : Prop := ∀ x, x < T → ln x < 16 → ow (ln x) < T ∧ dp (ow (ln x)) < dp x ∧ ln (ow (ln x)) < 17
theorem ic_Rdp {T : Nat} {ln ow dp : Nat → Nat} (F : ic_Fo T ln ow dp) : ∀ n x, x < T → ic_ch (ic_nx ln ow) n x < T ∧ dp (ic_ch (ic_nx ln ow) n x) ≤ dp x
  | 0, x, hx => ⟨hx, Nat.le_refl _⟩
  | n + 1, x, hx => by
    show ic_ch (ic_nx ln ow) n (ic_nx ln ow x) < T ∧ dp (ic_ch (ic_nx ln ow) n (ic_nx ln ow x)) ≤ dp x
    by_cases hb : ln x < 16
    · obtain ⟨a, b, _⟩ := F x hx hb
      have i := ic_Rdp F n (ow (ln x)) a
      rw [ic_nx_b hb]
      exact ⟨i.1, by omega⟩
    · rw [ic_nx_r hb]
      exact ic_Rdp F n x hx
theorem ic_nR {T : Nat} {ln ow dp : Nat → Nat} (F : ic_Fo T ln ow dp) {x : Nat} (hx : x < T) (hb : ln x < 16) : ¬ ic_R (ic_nx ln ow) (ow (ln x)) x := by
  rintro ⟨n, h⟩
  obtain ⟨a, b, _⟩ := F x hx hb
  have i := (ic_Rdp F n (ow (ln x)) a).2
  rw [h] at i
  omega
noncomputable def ic_h (T : Nat) (ln ow : Nat → Nat) (x : Nat) : Nat := ic_cn (fun y => y ≠ x ∧ ic_R (ic_nx ln ow) x y) T
theorem ic_h_lt {T : Nat} {ln ow : Nat → Nat} {x : Nat} (hx : x < T) : ic_h T ln ow x < T := ic_cn_lt (a := x) (fun h => h.1 rfl) hx
theorem ic_h_s {T : Nat} {ln ow dp : Nat → Nat} (F : ic_Fo T ln ow dp) {x : Nat} (hx : x < T) (hb : ln x < 16) : ic_h T ln ow x = ic_h T ln ow (ow (ln x)) + 1 := by
  obtain ⟨a, b, _⟩ := F x hx hb
  have n := ic_nR F hx hb
  have k := ic_cn_add (P := fun y => y ≠ ow (ln x) ∧ ic_R (ic_nx ln ow) (ow (ln x)) y) (a := ow (ln x)) (fun h => h.1 rfl) a
  unfold ic_h
  rw [← k]
  apply ic_cn_eq
  intro y _
  constructor
  · rintro ⟨h1, h2⟩
    rcases ic_Rc h2 with e | h3
    · exact absurd e.symm h1
    · rw [ic_nx_b hb] at h3
      by_cases z : y = ow (ln x)
      · exact Or.inr z
      · exact Or.inl ⟨z, h3⟩
  · intro h
    have r : ic_R (ic_nx ln ow) (ow (ln x)) y := by
      rcases h with h | h
      · exact h.2
      · rw [h]; exact ic_R0 _ _
    refine ⟨fun e => n (e ▸ r), ic_Rs ?_⟩
    rw [ic_nx_b hb]
    exact r
/-! claims -/
def ic_E (T : Nat) (ln ow : Nat → Nat) (x y : Nat) : Prop := x < T ∧ ln x < 16 ∧ ow (ln x) = y
def ic_IC (T : Nat) (ln ow ba ef : Nat → Nat) (t v : Nat) : Prop := ba t ≤ v ∧ (∀ x, ic_E T ln ow x t → ef x ≤ v) ∧ (v = ba t ∨ ∃ x, ic_E T ln ow x t ∧ v = ef x)
def ic_Co (T : Nat) (ln ow ba ef : Nat → Nat) (S : Nat → Prop) : Prop := ∀ t, t < T → ln t < 17 → ¬ S t → ic_IC T ln ow ba ef t (ef t)
theorem ic_IC_u {T : Nat} {ln ow ba ef : Nat → Nat} {t v w : Nat} (h : ic_IC T ln ow ba ef t v) (k : ic_IC T ln ow ba ef t w) : v = w := by
  obtain ⟨a1, a2, a3⟩ := h
  obtain ⟨b1, b2, b3⟩ := k
  have l1 : v ≤ w := by
    rcases a3 with e | ⟨x, hx, e⟩
    · omega
    · have := b2 x hx; omega
  have l2 : w ≤ v := by
    rcases b3 with e | ⟨x, hx, e⟩
    · omega
    · have := a2 x hx; omega
  omega
theorem ic_up {T : Nat} {ln ow dp ba ef : Nat → Nat} (F : ic_Fo T ln ow dp) (C : ic_Co T ln ow ba ef (fun _ => False)) : ∀ n x, x < T → ln x < 17 → ef x ≤ ef (ic_ch (ic_nx ln ow) n x)
  | 0, _, _, _ => Nat.le_refl _
  | n + 1, x, hx, hl => by
    show ef x ≤ ef (ic_ch (ic_nx ln ow) n (ic_nx ln ow x))
    by_cases hb : ln x < 16
    · obtain ⟨a, _, d⟩ := F x hx hb
      have i := ic_up F C n (ow (ln x)) a d
      have j := (C (ow (ln x)) a d (fun z => z)).2.1 x ⟨hx, hb, rfl⟩
      rw [ic_nx_b hb]
      omega
    · rw [ic_nx_r hb]
      exact ic_up F C n x hx hl
theorem ic_dn {T : Nat} {ln ow dp ba ef : Nat → Nat} (F : ic_Fo T ln ow dp) (C : ic_Co T ln ow ba ef (fun _ => False)) : ∀ k t, T - ic_h T ln ow t < k → t < T → ln t < 17 → ∃ x, x < T ∧ ln x < 17 ∧ ic_R (ic_nx ln ow) x t ∧ ba x = ef t
  | 0, _, h, _, _ => by omega
  | k + 1, t, h, ht, hl => by
    rcases (C t ht hl (fun z => z)).2.2 with e | ⟨x, ⟨hx, hb, ho⟩, e⟩
    · exact ⟨t, ht, hl, ic_R0 _ _, e.symm⟩
    · have s := ic_h_s F hx hb
      have l := ic_h_lt (ln := ln) (ow := ow) hx
      rw [ho] at s
      obtain ⟨z, z1, z2, z3, z4⟩ := ic_dn F C k x (by omega) hx (by omega)
      refine ⟨z, z1, z2, ?_, by omega⟩
      have r := ic_Rt z3
      rw [ic_nx_b hb, ho] at r
      exact r
theorem ic_mx {T : Nat} {ln ow dp ba ef : Nat → Nat} (F : ic_Fo T ln ow dp) (C : ic_Co T ln ow ba ef (fun _ => False)) {t v : Nat} (ht : t < T) (hl : ln t < 17) (h1 : ba t ≤ v) (h2 : ∀ x, x < T → ln x < 17 → ic_R (ic_nx ln ow) x t → ba x ≤ v) (h3 : v = ba t ∨ ∃ x, x < T ∧ ln x < 17 ∧ ic_R (ic_nx ln ow) x t ∧ v = ba x) : v = ef t := by
  obtain ⟨x, x1, x2, x3, x4⟩ := ic_dn F C _ t (Nat.lt_succ_self _) ht hl
  have a := h2 x x1 x2 x3
  have b : v ≤ ef t := by
    rcases h3 with e | ⟨y, y1, y2, ⟨n, y3⟩, e⟩
    · have := (C t ht hl (fun z => z)).1; omega
    · have u := ic_up F C n y y1 y2
      have w := (C y y1 y2 (fun z => z)).1
      rw [y3] at u
      omega
  omega
/-! how the forest changes -/
theorem ic_Fo_sub {T : Nat} {ln ow dp : Nat → Nat} (F : ic_Fo T ln ow dp) {t l : Nat} (hl : l = 16) : ic_Fo T (ic_ud ln t l) ow dp := by
  intro x hx hb
  by_cases e : x = t
  · subst e; rw [ic_us] at hb; omega
  · rw [ic_un e] at hb
    obtain ⟨a, b, d⟩ := F x hx hb
    rw [ic_un e]
    refine ⟨a, b, ?_⟩
    by_cases z : ow (ln x) = t
    · rw [z, ic_us]; omega
    · rw [ic_un z]; exact d
theorem ic_Fo_blk {T : Nat} {ln ow dp : Nat → Nat} (F : ic_Fo T ln ow dp) {t m : Nat} (hm : m < 16) (hy : ow m < T) (hyl : ln (ow m) < 17) (hn : ¬ ic_R (ic_nx ln ow) (ow m) t) : ∃ dp', ic_Fo T (ic_ud ln t m) ow dp' := by
  refine ⟨fun x => dp x + ic_b (ic_R (ic_nx ln ow) x t) * (dp (ow m) + 1), ?_⟩
  intro x hx hb
  by_cases e : x = t
  · subst e
    rw [ic_us]
    refine ⟨hy, ?_, ?_⟩
    · show dp (ow m) + ic_b (ic_R (ic_nx ln ow) (ow m) x) * (dp (ow m) + 1) < dp x + ic_b (ic_R (ic_nx ln ow) x x) * (dp (ow m) + 1)
      rw [ic_b_f hn, ic_b_t (ic_R0 _ _)]
      omega
    · by_cases z : ow m = x
      · rw [z, ic_us]; omega
      · rw [ic_un z]; exact hyl
  · rw [ic_un e] at hb
    obtain ⟨a, b, d⟩ := F x hx hb
    rw [ic_un e]
    refine ⟨a, ?_, ?_⟩
    · show dp (ow (ln x)) + ic_b (ic_R (ic_nx ln ow) (ow (ln x)) t) * (dp (ow m) + 1) < dp x + ic_b (ic_R (ic_nx ln ow) x t) * (dp (ow m) + 1)
      rcases Classical.em (ic_R (ic_nx ln ow) (ow (ln x)) t) with r | r
      · have r2 : ic_R (ic_nx ln ow) x t := ic_Rs (by rw [ic_nx_b hb]; exact r)
        rw [ic_b_t r, ic_b_t r2]
        omega
      · rw [ic_b_f r, Nat.zero_mul]
        exact Nat.lt_of_lt_of_le b (Nat.le_add_right _ _)
    · by_cases z : ow (ln x) = t
      · rw [z, ic_us]; omega
      · rw [ic_un z]; exact d
/-- the mutex m of t goes to its waiter w, who gets ready -/
theorem ic_Fo_hand {T : Nat} {ln ow dp : Nat → Nat} (F : ic_Fo T ln ow dp) {w m : Nat} (hw : w < T) (hl : ln w = m) (hm : m < 16) : ic_Fo T (ic_ud ln w 16) (ic_ud ow m w) (ic_ud dp w 0) := by
  intro x hx hb
  by_cases e : x = w
  · subst e; rw [ic_us] at hb; omega
  · rw [ic_un e] at hb
    obtain ⟨a, b, d⟩ := F x hx hb
    rw [ic_un e]
    by_cases z : ln x = m
    · rw [z, ic_us, ic_us, ic_us, ic_un e]
      exact ⟨hw, by omega, by omega⟩
    · rw [ic_un z, ic_un e]
      refine ⟨a, ?_, ?_⟩
      · by_cases y : ow (ln x) = w
        · rw [y, ic_us]; omega
        · rw [ic_un y]; exact b
      · by_cases y : ow (ln x) = w
        · rw [y, ic_us]; omega
        · rw [ic_un y]; exact d
/-- a free mutex without waiters gets an owner -/
theorem ic_Fo_take {T : Nat} {ln ow dp : Nat → Nat} (F : ic_Fo T ln ow dp) {t m : Nat} (h : ∀ x, x < T → ln x ≠ m) : ic_Fo T ln (ic_ud ow m t) dp := by
  intro x hx hb
  rw [ic_un (h x hx)]
  exact F x hx hb
/-! how consistency changes -/
theorem ic_Co_mono {T : Nat} {ln ow ba ef : Nat → Nat} {S S' : Nat → Prop} (C : ic_Co T ln ow ba ef S) (h : ∀ y, S y → S' y) : ic_Co T ln ow ba ef S' :=
  fun t ht hl hs => C t ht hl (fun z => hs (h t z))
theorem ic_IC_E {T : Nat} {ln ow ba ef ln' ow' ba' ef' : Nat → Nat} {t v : Nat} (h : ic_IC T ln ow ba ef t v) (hb : ba' t = ba t) (hE : ∀ x, ic_E T ln' ow' x t ↔ ic_E T ln ow x t) (hf : ∀ x, ic_E T ln ow x t → ef' x = ef x) : ic_IC T ln' ow' ba' ef' t v := by
  obtain ⟨a, b, c⟩ := h
  refine ⟨by omega, fun x hx => ?_, ?_⟩
  · have hx' := (hE x).mp hx
    rw [hf x hx']
    exact b x hx'
  · rcases c with e | ⟨x, hx, e⟩
    · exact Or.inl (by omega)
    · exact Or.inr ⟨x, (hE x).mpr hx, by rw [hf x hx]; exact e⟩
theorem ic_E_mv {T : Nat} {ln ow : Nat → Nat} {t m y : Nat} (h1 : ln t < 16 → y ≠ ow (ln t)) (h2 : m < 16 → y ≠ ow m) (x : Nat) : ic_E T (ic_ud ln t m) ow x y ↔ ic_E T ln ow x y := by
  unfold ic_E
  by_cases e : x = t
  · subst e
    rw [ic_us]
    constructor
    · rintro ⟨_, b, c⟩; exact absurd c.symm (h2 b)
    · rintro ⟨_, b, c⟩; exact absurd c.symm (h1 b)
  · rw [ic_un e]
theorem ic_Co_mv {T : Nat} {ln ow ba ef : Nat → Nat} {S S' : Nat → Prop} {t m : Nat} (C : ic_Co T ln ow ba ef S) (h : ∀ y, S y → S' y) (ht : ln t < 17) (h1 : ln t < 16 → S' (ow (ln t))) (h2 : m < 16 → S' (ow m)) : ic_Co T (ic_ud ln t m) ow ba ef S' := by
  intro y hy hl hs
  have hl' : ln y < 17 := by
    by_cases e : y = t
    · rw [e]; exact ht
    · rw [ic_un e] at hl; exact hl
  exact ic_IC_E (C y hy hl' (fun z => hs (h y z))) rfl (ic_E_mv (fun b e => hs (e ▸ h1 b)) (fun b e => hs (e ▸ h2 b))) (fun _ _ => rfl)
/-- a new effective priority of t, right by its claims: only the next in its chain may be wrong now -/
theorem ic_Co_ef {T : Nat} {ln ow dp ba ef : Nat → Nat} {S S' : Nat → Prop} {t v : Nat} (F : ic_Fo T ln ow dp) (C : ic_Co T ln ow ba ef S) (h : ∀ y, S y → y ≠ t → S' y) (hv : ic_IC T ln ow ba ef t v) (h1 : ln t < 16 → S' (ow (ln t))) : ic_Co T ln ow ba (ic_ud ef t v) S' := by
  intro y hy hl hs
  by_cases e : y = t
  · subst e
    rw [ic_us]
    refine ic_IC_E hv rfl (fun x => Iff.rfl) (fun x hx => ic_un ?_)
    rintro rfl
    have := F x hx.1 hx.2.1
    rw [hx.2.2] at this
    omega
  · rw [ic_un e]
    refine ic_IC_E (C y hy hl (fun z => hs (h y z e))) rfl (fun x => Iff.rfl) (fun x hx => ic_un ?_)
    rintro rfl
    have z := h1 hx.2.1
    rw [hx.2.2] at z
    exact hs z
end
section
/-! the lines: rows of slot, with a hole while a loop moves threads -/
def ic_pr (ef ar : Nat → Nat) (a b : Nat) : Prop := ef b < ef a ∨ (ef a = ef b ∧ ar a < ar b)
theorem ic_pr_tr {ef ar : Nat → Nat} {a b c : Nat} (h : ic_pr ef ar a b) (k : ic_pr ef ar b c) : ic_pr ef ar a c := by
  unfold ic_pr at *
  omega
theorem ic_pr_tot {ef ar : Nat → Nat} {a b : Nat} (h : ar a ≠ ar b) (n : ¬ ic_pr ef ar a b) : ic_pr ef ar b a := by
  unfold ic_pr at *
  omega
theorem ic_pr_as {ef ar : Nat → Nat} {a b : Nat} (h : ic_pr ef ar a b) (k : ic_pr ef ar b a) : False := by
  unfold ic_pr at *
  omega
def ic_RA (T : Nat) (ln pl sl : Nat → Nat) (q n p t : Nat) : Prop := ∀ i, i < n → i ≠ p → sl (32 * q + i) < T ∧ sl (32 * q + i) ≠ t ∧ ln (sl (32 * q + i)) = q ∧ pl (sl (32 * q + i)) = i
def ic_RB (T : Nat) (ln pl sl : Nat → Nat) (q n p t : Nat) : Prop := ∀ x, x < T → ln x = q → x ≠ t → pl x < n ∧ pl x ≠ p ∧ sl (32 * q + pl x) = x
def ic_RS (ef ar sl : Nat → Nat) (q n p : Nat) : Prop := ∀ i j, i < j → j < n → i ≠ p → j ≠ p → ic_pr ef ar (sl (32 * q + i)) (sl (32 * q + j))
def ic_Row (T : Nat) (ln pl sl : Nat → Nat) (q n : Nat) : Prop := (∀ i, i < n → sl (32 * q + i) < T ∧ ln (sl (32 * q + i)) = q ∧ pl (sl (32 * q + i)) = i) ∧ (∀ x, x < T → ln x = q → pl x < n ∧ sl (32 * q + pl x) = x)
def ic_LV (T : Nat) (ln pl sl sz : Nat → Nat) : Prop := ∀ q, q < 17 → ic_Row T ln pl sl q (sz q)
def ic_LS (ef ar sl sz : Nat → Nat) : Prop := ∀ q, q < 17 → ∀ i j, i < j → j < sz q → ic_pr ef ar (sl (32 * q + i)) (sl (32 * q + j))
/-- sorted but for t -/
def ic_LX (ef ar sl sz : Nat → Nat) (t : Nat) : Prop := ∀ q, q < 17 → ∀ i j, i < j → j < sz q → sl (32 * q + i) ≠ t → sl (32 * q + j) ≠ t → ic_pr ef ar (sl (32 * q + i)) (sl (32 * q + j))
/-- what a loop over row q leaves alone -/
def ic_Fr (ln pl sl pl' sl' : Nat → Nat) (q : Nat) : Prop := (∀ j, (j < 32 * q ∨ 32 * q + 32 ≤ j) → sl' j = sl j) ∧ (∀ x, ln x ≠ q → pl' x = pl x)
theorem ic_Fr_r {ln pl sl : Nat → Nat} {q : Nat} : ic_Fr ln pl sl pl sl q := ⟨fun _ _ => rfl, fun _ _ => rfl⟩
theorem ic_Fr_s {ln pl sl pl' sl' : Nat → Nat} {q i y : Nat} (h : ic_Fr ln pl sl pl' sl' q) (hi : i < 32) (hy : ln y = q) : ic_Fr ln pl sl (ic_ud pl' y i) (ic_ud sl' (32 * q + i) y) q := by
  refine ⟨fun j hj => ?_, fun x hx => ?_⟩
  · rw [ic_un (by omega)]; exact h.1 j hj
  · have z : x ≠ y := fun e => hx (by rw [e]; exact hy)
    rw [ic_un z]; exact h.2 x hx
theorem ic_count {T : Nat} {ln pl sl : Nat → Nat} {q n : Nat} (h : ic_Row T ln pl sl q n) (Q : Nat → Prop) : ∀ p, p ≤ n → ic_cn (fun x => ln x = q ∧ pl x < p ∧ Q x) T = ic_cn (fun i => Q (sl (32 * q + i))) p
  | 0, _ => ic_cn_z (fun k _ z => absurd z.2.1 (Nat.not_lt_zero _))
  | p + 1, hp => by
    have ih := ic_count h Q p (by omega)
    obtain ⟨y1, y2, y3⟩ := h.1 p (by omega)
    rcases Classical.em (Q (sl (32 * q + p))) with z | z
    · have a := ic_cn_add (P := fun x => ln x = q ∧ pl x < p ∧ Q x) (a := sl (32 * q + p)) (fun w => by have := w.2.1; omega) y1
      have b : ic_cn (fun i => Q (sl (32 * q + i))) (p + 1) = ic_cn (fun i => Q (sl (32 * q + i))) p + 1 := ic_cn_t z
      rw [b, ← ih, ← a]
      apply ic_cn_eq
      intro x hx
      constructor
      · rintro ⟨c1, c2, c3⟩
        by_cases e : pl x = p
        · right
          have := (h.2 x hx c1).2
          rw [e] at this
          exact this.symm
        · left; exact ⟨c1, by omega, c3⟩
      · rintro (⟨c1, c2, c3⟩ | e)
        · exact ⟨c1, by omega, c3⟩
        · rw [e]; exact ⟨y2, by omega, z⟩
    · have b : ic_cn (fun i => Q (sl (32 * q + i))) (p + 1) = ic_cn (fun i => Q (sl (32 * q + i))) p := ic_cn_f z
      rw [b, ← ih]
      apply ic_cn_eq
      intro x hx
      constructor
      · rintro ⟨c1, c2, c3⟩
        by_cases e : pl x = p
        · have := (h.2 x hx c1).2
          rw [e] at this
          rw [this] at z
          exact absurd c3 z
        · exact ⟨c1, by omega, c3⟩
      · rintro ⟨c1, c2, c3⟩
        exact ⟨c1, by omega, c3⟩
theorem ic_cn_all : ∀ p, ic_cn (fun _ => True) p = p
  | 0 => rfl
  | p + 1 => by rw [ic_cn_t trivial, ic_cn_all p]
theorem ic_size {T : Nat} {ln pl sl : Nat → Nat} {q n : Nat} (h : ic_Row T ln pl sl q n) : n = ic_cn (fun x => ln x = q) T := by
  have a := ic_count h (fun _ => True) n (Nat.le_refl _)
  rw [ic_cn_all] at a
  rw [← a]
  apply ic_cn_eq
  intro x hx
  constructor
  · intro z; exact z.1
  · intro z; exact ⟨z, (h.2 x hx z).1, trivial⟩
theorem ic_sz_le {T : Nat} {ln pl sl : Nat → Nat} {q n : Nat} (h : ic_Row T ln pl sl q n) : n ≤ T := by
  rw [ic_size h]; exact ic_cn_le _ _
theorem ic_sz_lt {T : Nat} {ln pl sl : Nat → Nat} {q n t : Nat} (h : ic_Row T ln pl sl q n) (ht : t < T) (hl : ln t ≠ q) : n < T := by
  rw [ic_size h]; exact ic_cn_lt (a := t) hl ht
/-! the hole moves from p to s -/
theorem ic_hA {T : Nat} {ln pl sl : Nat → Nat} {q n p s t : Nat} (A : ic_RA T ln pl sl q n p t) (hs : s < n) (hsp : s ≠ p) (hn : n ≤ 32) : ic_RA T ln (ic_ud pl (sl (32 * q + s)) p) (ic_ud sl (32 * q + p) (sl (32 * q + s))) q n s t := by
  intro i hi his
  obtain ⟨y1, y2, y3, y4⟩ := A s hs hsp
  by_cases e : i = p
  · subst e
    rw [ic_us, ic_us]
    exact ⟨y1, y2, y3, rfl⟩
  · obtain ⟨a1, a2, a3, a4⟩ := A i hi e
    rw [ic_un (j := 32 * q + i) (by omega)]
    refine ⟨a1, a2, a3, ?_⟩
    rw [ic_un]
    · exact a4
    · intro z
      rw [z] at a4
      omega
theorem ic_hB {T : Nat} {ln pl sl : Nat → Nat} {q n p s t : Nat} (A : ic_RA T ln pl sl q n p t) (B : ic_RB T ln pl sl q n p t) (hs : s < n) (hp : p < n) (hsp : s ≠ p) (hn : n ≤ 32) : ic_RB T ln (ic_ud pl (sl (32 * q + s)) p) (ic_ud sl (32 * q + p) (sl (32 * q + s))) q n s t := by
  intro x hx hl ht
  obtain ⟨b1, b2, b3⟩ := B x hx hl ht
  by_cases e : x = sl (32 * q + s)
  · rw [e, ic_us, ic_us]
    exact ⟨hp, fun z => hsp z.symm, rfl⟩
  · rw [ic_un e]
    refine ⟨b1, fun z => e ?_, ?_⟩
    · rw [← z]; exact b3.symm
    · rw [ic_un (by omega)]; exact b3
theorem ic_hS {ef ar sl : Nat → Nat} {q n p s y : Nat} (S : ic_RS ef ar sl q n p) (hs : s < n) (hp : p < n) (hsp : s = p + 1 ∨ p = s + 1) (hy : y = sl (32 * q + s)) : ic_RS ef ar (ic_ud sl (32 * q + p) y) q n s := by
  intro i j hij hj hi1 hj1
  by_cases ei : i = p
  · subst ei
    rw [ic_us, ic_un (by omega), hy]
    exact S s j (by omega) hj (by omega) (by omega)
  · by_cases ej : j = p
    · subst ej
      rw [ic_us, ic_un (by omega), hy]
      exact S i s (by omega) hs ei (by omega)
    · rw [ic_un (by omega), ic_un (by omega)]
      exact S i j hij hj ei ej
/-! opening and closing a hole -/
theorem ic_open {T : Nat} {ln pl sl : Nat → Nat} {q n t : Nat} (R : ic_Row T ln pl sl q n) (ht : t < T) (hl : ln t = q) : ic_RA T ln pl sl q n (pl t) t ∧ ic_RB T ln pl sl q n (pl t) t := by
  refine ⟨fun i hi hp => ?_, fun x hx hq hxt => ?_⟩
  · obtain ⟨a, b, c⟩ := R.1 i hi
    refine ⟨a, fun e => hp ?_, b, c⟩
    rw [e] at c
    exact c.symm
  · obtain ⟨a, b⟩ := R.2 x hx hq
    refine ⟨a, fun e => hxt ?_, b⟩
    rw [e, (R.2 t ht hl).2] at b
    exact b.symm
theorem ic_close {T : Nat} {ln pl sl : Nat → Nat} {q n p t : Nat} (A : ic_RA T ln pl sl q n p t) (B : ic_RB T ln pl sl q n p t) (ht : t < T) (hl : ln t = q) (hp : p < n) (hn : n ≤ 32) : ic_Row T ln (ic_ud pl t p) (ic_ud sl (32 * q + p) t) q n := by
  refine ⟨fun i hi => ?_, fun x hx hq => ?_⟩
  · by_cases e : i = p
    · subst e
      rw [ic_us, ic_us]
      exact ⟨ht, hl, rfl⟩
    · obtain ⟨a1, a2, a3, a4⟩ := A i hi e
      rw [ic_un (j := 32 * q + i) (by omega), ic_un a2]
      exact ⟨a1, a3, a4⟩
  · by_cases e : x = t
    · subst e
      rw [ic_us, ic_us]
      exact ⟨hp, rfl⟩
    · obtain ⟨b1, b2, b3⟩ := B x hx hq e
      rw [ic_un e, ic_un (by omega)]
      exact ⟨b1, b3⟩
theorem ic_row_fr {T : Nat} {ln pl sl pl' sl' : Nat → Nat} {q q' n : Nat} (R : ic_Row T ln pl sl q' n) (hF : ic_Fr ln pl sl pl' sl' q) (hq : q' ≠ q) (hn : n ≤ 32) : ic_Row T ln pl' sl' q' n := by
  refine ⟨fun i hi => ?_, fun x hx hl => ?_⟩
  · obtain ⟨a, b, c⟩ := R.1 i hi
    rw [hF.1 _ (by omega), hF.2 _ (by omega)]
    exact ⟨a, b, c⟩
  · obtain ⟨a, b⟩ := R.2 x hx hl
    rw [hF.2 x (by omega), hF.1 _ (by omega)]
    exact ⟨a, b⟩
theorem ic_srt_fr {ef ar ln pl sl pl' sl' : Nat → Nat} {q q' n : Nat} (S : ∀ i j, i < j → j < n → ic_pr ef ar (sl (32 * q' + i)) (sl (32 * q' + j))) (hF : ic_Fr ln pl sl pl' sl' q) (hq : q' ≠ q) (hn : n ≤ 32) : ∀ i j, i < j → j < n → ic_pr ef ar (sl' (32 * q' + i)) (sl' (32 * q' + j)) := by
  intro i j hij hj
  rw [hF.1 _ (by omega), hF.1 _ (by omega)]
  exact S i j hij hj
/-- the end of moveForward and of moveBack: the hole at p is filled with t -/
theorem ic_fin {T : Nat} {ln pl sl sz ef ar pl' sl' : Nat → Nat} {q p t : Nat} (hT : T ≤ 32) (V : ic_LV T ln pl sl sz) (X : ic_LX ef ar sl sz t) (ht : t < T) (hl : ln t = q) (hq : q < 17) (hp : p < sz q)
  (A : ic_RA T ln pl' sl' q (sz q) p t) (B : ic_RB T ln pl' sl' q (sz q) p t) (S : ic_RS ef ar sl' q (sz q) p) (hF : ic_Fr ln pl sl pl' sl' q) :
  ic_LV T ln (ic_ud pl' t p) (ic_ud sl' (32 * q + p) t) sz ∧ ic_LX ef ar (ic_ud sl' (32 * q + p) t) sz t ∧
  ((∀ i, i < p → ic_pr ef ar (sl' (32 * q + i)) t) → (∀ j, p < j → j < sz q → ic_pr ef ar t (sl' (32 * q + j))) → ic_LS ef ar (ic_ud sl' (32 * q + p) t) sz) := by
  have hn : sz q ≤ 32 := Nat.le_trans (ic_sz_le (V q hq)) hT
  have hF2 := ic_Fr_s (i := p) (y := t) hF (by omega) hl
  have oth : ∀ q', q' < 17 → q' ≠ q → ∀ i j, i < j → j < sz q' → ic_pr ef ar (sl (32 * q' + i)) (sl (32 * q' + j)) := by
    intro q' hq' hne i j hij hj
    refine X q' hq' i j hij hj ?_ ?_
    · intro e
      have := (V q' hq').1 i (by omega)
      rw [e, hl] at this
      omega
    · intro e
      have := (V q' hq').1 j (by omega)
      rw [e, hl] at this
      omega
  have at_p : ∀ i, i ≠ p → i < sz q → ic_ud sl' (32 * q + p) t (32 * q + i) = sl' (32 * q + i) := fun i hi _ => ic_un (by omega)
  refine ⟨fun q' hq' => ?_, fun q' hq' i j hij hj hi1 hj1 => ?_, fun h1 h2 q' hq' i j hij hj => ?_⟩
  · by_cases e : q' = q
    · subst e; exact ic_close A B ht hl hp hn
    · exact ic_row_fr (V q' hq') hF2 e (Nat.le_trans (ic_sz_le (V q' hq')) hT)
  · by_cases e : q' = q
    · subst e
      have ei : i ≠ p := fun z => hi1 (by rw [z, ic_us])
      have ej : j ≠ p := fun z => hj1 (by rw [z, ic_us])
      rw [at_p i ei (by omega), at_p j ej hj]
      exact S i j hij hj ei ej
    · exact ic_srt_fr (oth q' hq' e) hF2 e (Nat.le_trans (ic_sz_le (V q' hq')) hT) i j hij hj
  · by_cases e : q' = q
    · subst e
      by_cases ei : i = p
      · subst ei
        rw [ic_us, at_p j (by omega) hj]
        exact h2 j hij hj
      · by_cases ej : j = p
        · subst ej
          rw [ic_us, at_p i ei (by omega)]
          exact h1 i hij
        · rw [at_p i ei (by omega), at_p j ej hj]
          exact S i j hij hj ei ej
    · exact ic_srt_fr (oth q' hq' e) hF2 e (Nat.le_trans (ic_sz_le (V q' hq')) hT) i j hij hj
/-- the end of leave -/
theorem ic_finL {T : Nat} {ln pl sl sz ef ar pl' sl' : Nat → Nat} {q n t : Nat} (hT : T ≤ 32) (V : ic_LV T ln pl sl sz) (L : ic_LS ef ar sl sz) (ht : t < T) (hl : ln t = q) (hq : q < 17) (hn : sz q = n + 1)
  (A : ic_RA T ln pl' sl' q (n + 1) n t) (B : ic_RB T ln pl' sl' q (n + 1) n t) (S : ic_RS ef ar sl' q (n + 1) n) (hF : ic_Fr ln pl sl pl' sl' q) :
  ic_LV T (ic_ud ln t 17) pl' sl' (ic_ud sz q n) ∧ ic_LS ef ar sl' (ic_ud sz q n) := by
  have h32 : sz q ≤ 32 := Nat.le_trans (ic_sz_le (V q hq)) hT
  refine ⟨fun q' hq' => ?_, fun q' hq' => ?_⟩
  · by_cases e : q' = q
    · subst e
      rw [ic_us]
      refine ⟨fun i hi => ?_, fun x hx hxl => ?_⟩
      · obtain ⟨a1, a2, a3, a4⟩ := A i (by omega) (by omega)
        rw [ic_un a2]
        exact ⟨a1, a3, a4⟩
      · by_cases z : x = t
        · subst z; rw [ic_us] at hxl; omega
        · rw [ic_un z] at hxl
          obtain ⟨b1, b2, b3⟩ := B x hx hxl z
          exact ⟨by omega, b3⟩
    · rw [ic_un e]
      have R := ic_row_fr (V q' hq') hF e (Nat.le_trans (ic_sz_le (V q' hq')) hT)
      refine ⟨fun i hi => ?_, fun x hx hxl => ?_⟩
      · obtain ⟨a, b, c⟩ := R.1 i hi
        have z : sl' (32 * q' + i) ≠ t := by
          intro z; rw [z, hl] at b; omega
        rw [ic_un z]
        exact ⟨a, b, c⟩
      · by_cases z : x = t
        · subst z; rw [ic_us] at hxl; omega
        · rw [ic_un z] at hxl
          exact R.2 x hx hxl
  · by_cases e : q' = q
    · subst e
      rw [ic_us]
      intro i j hij hj
      exact S i j hij (by omega) (by omega) (by omega)
    · rw [ic_un e]
      exact ic_srt_fr (L q' hq') hF e (Nat.le_trans (ic_sz_le (V q' hq')) hT)
/-- t, in no line, is put behind row q -/
theorem ic_app {T : Nat} {ln pl sl sz ef ar ar' : Nat → Nat} {q t : Nat} (hT : T ≤ 32) (V : ic_LV T ln pl sl sz) (L : ic_LS ef ar sl sz) (ht : t < T) (hl : ln t = 17) (hq : q < 17) (har : ∀ x, x ≠ t → ar' x = ar x) :
  ic_LV T (ic_ud ln t q) (ic_ud pl t (sz q)) (ic_ud sl (32 * q + sz q) t) (ic_ud sz q (sz q + 1)) ∧ ic_LX ef ar' (ic_ud sl (32 * q + sz q) t) (ic_ud sz q (sz q + 1)) t := by
  have hlt : sz q < T := ic_sz_lt (V q hq) ht (by omega)
  have nt : ∀ q', q' < 17 → ∀ i, i < sz q' → sl (32 * q' + i) ≠ t := by
    intro q' hq' i hi e
    have := (V q' hq').1 i hi
    rw [e, hl] at this
    omega
  have hF : ∀ q', q' < 17 → q' ≠ q → ∀ i, i < sz q' → ic_ud sl (32 * q + sz q) t (32 * q' + i) = sl (32 * q' + i) := by
    intro q' hq' hne i hi
    have := ic_sz_le (V q' hq')
    exact ic_un (by omega)
  refine ⟨fun q' hq' => ?_, fun q' hq' i j hij hj hi1 hj1 => ?_⟩
  · by_cases e : q' = q
    · subst e
      rw [ic_us (f := sz)]
      refine ic_close ?_ ?_ ht ic_us (by omega) (by omega)
      · intro i hi hne
        obtain ⟨a, b, c⟩ := (V q' hq').1 i (by omega)
        have z := nt q' hq' i (by omega)
        rw [ic_un z]
        exact ⟨a, z, b, c⟩
      · intro x hx hxl hxt
        rw [ic_un hxt] at hxl
        obtain ⟨a, b⟩ := (V q' hq').2 x hx hxl
        exact ⟨by omega, by omega, b⟩
    · rw [ic_un e]
      refine ⟨fun i hi => ?_, fun x hx hxl => ?_⟩
      · obtain ⟨a, b, c⟩ := (V q' hq').1 i hi
        have z := nt q' hq' i hi
        rw [hF q' hq' e i hi, ic_un z, ic_un z]
        exact ⟨a, b, c⟩
      · by_cases z : x = t
        · subst z; rw [ic_us] at hxl; omega
        · rw [ic_un z] at hxl
          obtain ⟨a, b⟩ := (V q' hq').2 x hx hxl
          rw [ic_un z, hF q' hq' e _ a]
          exact ⟨a, b⟩
  · have key : i < sz q' ∧ j < sz q' ∧ ic_ud sl (32 * q + sz q) t (32 * q' + i) = sl (32 * q' + i) ∧ ic_ud sl (32 * q + sz q) t (32 * q' + j) = sl (32 * q' + j) := by
      by_cases e : q' = q
      · subst e
        rw [ic_us] at hj
        have hj2 : j ≠ sz q' := fun z => hj1 (by rw [z, ic_us])
        exact ⟨by omega, by omega, ic_un (by omega), ic_un (by omega)⟩
      · rw [ic_un e] at hj
        exact ⟨by omega, hj, hF q' hq' e i (by omega), hF q' hq' e j hj⟩
    obtain ⟨k1, k2, k3, k4⟩ := key
    rw [k3, k4]
    have s := L q' hq' i j hij k2
    unfold ic_pr at *
    rw [har _ (nt q' hq' i k1), har _ (nt q' hq' j k2)]
    exact s
end
section
section
variable {T M P c : Nat} {sl sz ln pl ba ef lf nw ar ow : Nat → Nat} {rs : Nat → Int32}
theorem ic_xput {post : SX → Prop} {q i t : Nat} (hq : q < 17) (hi : i < 32) (ht : t < 32) (h : post (16, 32, (-1), (-1), 15, 100, nI T, nI M, nI P, lN c, fun j => nI ((ic_ud sl (32 * q + i) t) j), fun j => nI (sz j), fun j => ic_lc (ln j), fun j => nI ((ic_ud pl t i) j), fun j => nI (ba j), fun j => nI (ef j), rs, fun j => nI (lf j), fun j => nI (nw j), fun j => lN (ar j), fun j => ic_oc (ow j))) : wpX_put post (16, 32, (-1), (-1), 15, 100, nI T, nI M, nI P, lN c, fun j => nI (sl j), fun j => nI (sz j), fun j => ic_lc (ln j), fun j => nI (pl j), fun j => nI (ba j), fun j => nI (ef j), rs, fun j => nI (lf j), fun j => nI (nw j), fun j => lN (ar j), fun j => ic_oc (ow j)) (nI q) (nI i) (nI t) := by
  unfold wpX_put
  refine And.intro ?_ (nm_r (e' := fun j => nI (ic_ud sl (32 * q + i) t j)) ?_ (And.intro (vp_in_nI ht (by omega)) (nm_r (e' := fun j => nI (ic_ud pl t i j)) ?_ h)))
  · rw [ic_ix]; exact vp_in_nI (by omega) (by omega)
  · rw [ic_ix, nI_clamp (by omega)]; exact ic_upN _ _ _
  · rw [nI_clamp (by omega)]; exact ic_upN _ _ _
theorem ic_xprec {post : Int32 → Prop} {a b : Nat} (ha : a < 32) (hb : b < 32) (he : ∀ x, ef x ≤ 15) (har : ∀ x, ar x ≤ c) (hc : c < 2 ^ 31) (h1 : ic_pr ef ar a b → post 1) (h0 : ¬ ic_pr ef ar a b → post 0) : wpX_precedes post (16, 32, (-1), (-1), 15, 100, nI T, nI M, nI P, lN c, fun j => nI (sl j), fun j => nI (sz j), fun j => ic_lc (ln j), fun j => nI (pl j), fun j => nI (ba j), fun j => nI (ef j), rs, fun j => nI (lf j), fun j => nI (nw j), fun j => lN (ar j), fun j => ic_oc (ow j)) (nI a) (nI b) := by
  have va := vp_in_nI (N := 32) ha (by omega)
  have vb := vp_in_nI (N := 32) hb (by omega)
  have ca : (nI a).toNatClampNeg = a := nI_clamp (by omega)
  have cb : (nI b).toNatClampNeg = b := nI_clamp (by omega)
  have ea : ef a < 2 ^ 31 := by have := he a; omega
  have eb : ef b < 2 ^ 31 := by have := he b; omega
  have ra : ar a < 2 ^ 31 := by have := har a; omega
  have rb : ar b < 2 ^ 31 := by have := har b; omega
  unfold wpX_precedes
  rw [ca, cb]
  refine And.intro va (And.intro vb (br_c (fun e => And.intro va (And.intro vb (br_c (fun l => h0 ?_) (fun l => h1 ?_)))) (fun e => And.intro va (And.intro vb (br_c (fun l => h0 ?_) (fun l => h1 ?_))))))
  · have e := (nI_eq ea eb).mp e
    have l := (lN_le rb ra).mp l
    unfold ic_pr; omega
  · have e := (nI_eq ea eb).mp e
    have l : ¬ ar b ≤ ar a := fun z => l ((lN_le rb ra).mpr z)
    unfold ic_pr; omega
  · have e : ¬ ef a = ef b := fun z => e ((nI_eq ea eb).mpr z)
    have l := (nI_leI ea eb).mp l
    unfold ic_pr; omega
  · have l : ¬ ef a ≤ ef b := fun z => l ((nI_leI ea eb).mpr z)
    unfold ic_pr; omega
theorem ic_xprec1 {post : Int32 → Prop} {a b : Nat} (ha : a < 32) (hb : b < 32) (he : ∀ x, ef x ≤ 15) (har : ∀ x, ar x ≤ c) (hc : c < 2 ^ 31) (hp : ic_pr ef ar a b) (h1 : post 1) : wpX_precedes post (16, 32, (-1), (-1), 15, 100, nI T, nI M, nI P, lN c, fun j => nI (sl j), fun j => nI (sz j), fun j => ic_lc (ln j), fun j => nI (pl j), fun j => nI (ba j), fun j => nI (ef j), rs, fun j => nI (lf j), fun j => nI (nw j), fun j => lN (ar j), fun j => ic_oc (ow j)) (nI a) (nI b) :=
  ic_xprec ha hb he har hc (fun _ => h1) (fun n => absurd hp n)
theorem ic_xprec0 {post : Int32 → Prop} {a b : Nat} (ha : a < 32) (hb : b < 32) (he : ∀ x, ef x ≤ 15) (har : ∀ x, ar x ≤ c) (hc : c < 2 ^ 31) (hp : ¬ ic_pr ef ar a b) (h0 : post 0) : wpX_precedes post (16, 32, (-1), (-1), 15, 100, nI T, nI M, nI P, lN c, fun j => nI (sl j), fun j => nI (sz j), fun j => ic_lc (ln j), fun j => nI (pl j), fun j => nI (ba j), fun j => nI (ef j), rs, fun j => nI (lf j), fun j => nI (nw j), fun j => lN (ar j), fun j => ic_oc (ow j)) (nI a) (nI b) :=
  ic_xprec ha hb he har hc (fun n => absurd n hp) (fun _ => h0)
theorem ic_ixm (a p : Nat) : nI a + nI (p + 1) - 1 = nI (a + p) := by
  rw [nI_add]; exact nI_pred (a + p)
theorem ic_ixp (a p : Nat) : nI a + nI p + 1 = nI (a + (p + 1)) := by
  rw [nI_add, nI_1]; rfl
def ic_AD (T : Nat) (ln ar : Nat → Nat) : Prop := ∀ x y, x < T → y < T → ln x < 17 → ln y < 17 → x ≠ y → ar x ≠ ar y
set_option maxHeartbeats 1000000 in
theorem ic_mf_loop {q n t : Nat} {Aft : Prop} {sl0 pl0 : Nat → Nat} (hT : T ≤ 32) (hc : c < 2 ^ 31) (he : ∀ x, ef x ≤ 15) (har : ∀ x, ar x ≤ c) (ht : t < T) (hl : ln t = q) (hq : q < 17) (hn : n ≤ 32) :
  ∀ p (sl pl : Nat → Nat), p < n → ic_RA T ln pl sl q n p t → ic_RB T ln pl sl q n p t → ic_RS ef ar sl q n p → (Aft → ∀ j, p < j → j < n → ic_pr ef ar t (sl (32 * q + j))) → ic_Fr ln pl0 sl0 pl sl q →
  ∃ (p' : Nat) (sl' pl' : Nat → Nat), p' < n ∧ ic_RA T ln pl' sl' q n p' t ∧ ic_RB T ln pl' sl' q n p' t ∧ ic_RS ef ar sl' q n p' ∧ (Aft → ∀ j, p' < j → j < n → ic_pr ef ar t (sl' (32 * q + j))) ∧ ic_Fr ln pl0 sl0 pl' sl' q ∧ (p' = 0 ∨ ¬ ic_pr ef ar t (sl' (32 * q + (p' - 1)))) ∧
  ∀ (post : SX → Prop) (N : Nat), p < N → post (16, 32, (-1), (-1), 15, 100, nI T, nI M, nI P, lN c, fun j => nI ((ic_ud sl' (32 * q + p') t) j), fun j => nI (sz j), fun j => ic_lc (ln j), fun j => nI ((ic_ud pl' t p') j), fun j => nI (ba j), fun j => nI (ef j), rs, fun j => nI (lf j), fun j => nI (nw j), fun j => lN (ar j), fun j => ic_oc (ow j)) → wX_moveForward_20 post (nI t) (nI q) (nI (32 * q)) N (nI p) 16 32 (-1) (-1) 15 100 (nI T) (nI M) (nI P) (lN c) (fun j => nI (sl j)) (fun j => nI (sz j)) (fun j => ic_lc (ln j)) (fun j => nI (pl j)) (fun j => nI (ba j)) (fun j => nI (ef j)) rs (fun j => nI (lf j)) (fun j => nI (nw j)) (fun j => lN (ar j)) (fun j => ic_oc (ow j)) := by
  intro p
  induction p with
  | zero =>
    intro sl pl hp A B S hA hF
    refine ⟨0, sl, pl, hp, A, B, S, hA, hF, Or.inl rfl, fun post N hN h => ?_⟩
    cases N with
    | zero => omega
    | succ N => exact br_t (nI_le (a := 0) (b := 0) (by omega) (by omega)) (ic_xput hq (by omega) (by omega) h)
  | succ p ih =>
    intro sl pl hp A B S hA hF
    have hcl : (nI (32 * q) + nI (p + 1) - 1).toNatClampNeg = 32 * q + p := by rw [ic_ixm]; exact nI_clamp (by omega)
    have hv : vp_in (nI (32 * q) + nI (p + 1) - 1) 544 := by rw [ic_ixm]; exact vp_in_nI (by omega) (by omega)
    obtain ⟨y1, y2, y3, y4⟩ := A p (by omega) (by omega)
    by_cases pr : ic_pr ef ar t (sl (32 * q + p))
    · have hA' : Aft → ∀ j, p < j → j < n → ic_pr ef ar t (ic_ud sl (32 * q + (p + 1)) (sl (32 * q + p)) (32 * q + j)) := by
        intro _ j hj hjn
        by_cases e : j = p + 1
        · subst e; rw [ic_us]; exact pr
        · rw [ic_un (by omega)]
          exact ic_pr_tr pr (S p j (by omega) hjn (by omega) e)
      obtain ⟨p', sl', pl', a1, a2, a3, a4, a5, a6, a7, a8⟩ := ih (ic_ud sl (32 * q + (p + 1)) (sl (32 * q + p))) (ic_ud pl (sl (32 * q + p)) (p + 1)) (by omega) (ic_hA A (by omega) (by omega) hn) (ic_hB A B (by omega) hp (by omega) hn) (ic_hS S (by omega) hp (Or.inr rfl) rfl) hA' (ic_Fr_s hF (by omega) y3)
      refine ⟨p', sl', pl', a1, a2, a3, a4, a5, a6, a7, fun post N hN h => ?_⟩
      cases N with
      | zero => omega
      | succ N =>
        refine br_f (nI_nle (by omega) (by omega)) ?_
        rw [hcl]
        exact And.intro hv (ic_xprec1 (by omega) (by omega) he har hc pr (br_f (by decide) (And.intro hv (ic_xput hq (by omega) (by omega) (nm_r (pk_m1 p) (a8 post N (by omega) h))))))
    · refine ⟨p + 1, sl, pl, hp, A, B, S, hA, hF, Or.inr pr, fun post N hN h => ?_⟩
      cases N with
      | zero => omega
      | succ N =>
        refine br_f (nI_nle (by omega) (by omega)) ?_
        rw [hcl]
        exact And.intro hv (ic_xprec0 (by omega) (by omega) he har hc pr (br_t rfl (ic_xput hq (by omega) (by omega) h)))
theorem ic_rdl {t q : Nat} (ht : t < 32) (hl : ln t = q) (hq : q ≠ 17) : ic_lc (ln (nI t).toNatClampNeg) = nI q := by
  rw [nI_clamp (by omega), hl]; exact ic_lc_n hq
theorem ic_rdn (f : Nat → Nat) {t : Nat} (ht : t < 2 ^ 31) : nI (f (nI t).toNatClampNeg) = nI (f t) := by
  rw [nI_clamp ht]
set_option maxHeartbeats 1000000 in
theorem ic_mf {t : Nat} (hT : T ≤ 32) (hc : c < 2 ^ 31) (he : ∀ x, ef x ≤ 15) (har : ∀ x, ar x ≤ c) (hd : ic_AD T ln ar) (V : ic_LV T ln pl sl sz) (X : ic_LX ef ar sl sz t) (ht : t < T) (hq : ln t < 17) :
  ∃ (sl' pl' : Nat → Nat), ic_LV T ln pl' sl' sz ∧ ic_LX ef ar sl' sz t ∧ (∀ i, i < pl' t → ic_pr ef ar (sl' (32 * ln t + i)) t) ∧ ((∀ j, pl t < j → j < sz (ln t) → ic_pr ef ar t (sl (32 * ln t + j))) → ic_LS ef ar sl' sz) ∧
  ∀ (post : SX → Prop), post (16, 32, (-1), (-1), 15, 100, nI T, nI M, nI P, lN c, fun j => nI (sl' j), fun j => nI (sz j), fun j => ic_lc (ln j), fun j => nI (pl' j), fun j => nI (ba j), fun j => nI (ef j), rs, fun j => nI (lf j), fun j => nI (nw j), fun j => lN (ar j), fun j => ic_oc (ow j)) → wpX_moveForward post (16, 32, (-1), (-1), 15, 100, nI T, nI M, nI P, lN c, fun j => nI (sl j), fun j => nI (sz j), fun j => ic_lc (ln j), fun j => nI (pl j), fun j => nI (ba j), fun j => nI (ef j), rs, fun j => nI (lf j), fun j => nI (nw j), fun j => lN (ar j), fun j => ic_oc (ow j)) (nI t) := by
  have R := V (ln t) hq
  have hn : sz (ln t) ≤ 32 := Nat.le_trans (ic_sz_le R) hT
  obtain ⟨A, B⟩ := ic_open R ht rfl
  have S : ic_RS ef ar sl (ln t) (sz (ln t)) (pl t) := by
    intro i j hij hj hi1 hj1
    exact X (ln t) hq i j hij hj (A i (by omega) hi1).2.1 (A j hj hj1).2.1
  obtain ⟨p', sl', pl', a1, a2, a3, a4, a5, a6, a7, a8⟩ := ic_mf_loop (M := M) (P := P) (sz := sz) (ba := ba) (lf := lf) (nw := nw) (ow := ow) (rs := rs) (Aft := ∀ j, pl t < j → j < sz (ln t) → ic_pr ef ar t (sl (32 * ln t + j))) (sl0 := sl) (pl0 := pl) hT hc he har ht rfl hq hn (pl t) sl pl (R.2 t ht rfl).1 A B S (fun h => h) ic_Fr_r
  obtain ⟨f1, f2, f3⟩ := ic_fin hT V X ht rfl hq a1 a2 a3 a4 a6
  have bef : ∀ i, i < p' → ic_pr ef ar (sl' (32 * ln t + i)) t := by
    intro i hi
    rcases a7 with z | z
    · omega
    · obtain ⟨k1, k2, k3, k4⟩ := a2 (p' - 1) (by omega) (by omega)
      have w : ic_pr ef ar (sl' (32 * ln t + (p' - 1))) t := ic_pr_tot (hd _ _ ht k1 hq (by omega) (fun e => k2 e.symm)) z
      by_cases e : i = p' - 1
      · rw [e]; exact w
      · exact ic_pr_tr (a4 i (p' - 1) (by omega) (by omega) (by omega) (by omega)) w
  refine ⟨ic_ud sl' (32 * ln t + p') t, ic_ud pl' t p', f1, f2, ?_, fun h => f3 bef (a5 h), fun post h => ?_⟩
  · intro i hi
    rw [ic_us] at hi
    rw [ic_un (by omega)]
    exact bef i hi
  · have hv := vp_in_nI (N := 32) (show t < 32 by omega) (by omega)
    unfold wpX_moveForward
    exact And.intro hv (nm_r (ic_rdl (by omega) rfl (by omega)) (nm_r (ic_ix0 (ln t)) (And.intro hv (nm_r (ic_rdn pl (by omega)) ⟨_, a8 post _ (Nat.lt_succ_self _) h⟩))))
set_option maxHeartbeats 1000000 in
theorem ic_mb_loop {q n t : Nat} {sl0 pl0 : Nat → Nat} (hT : T ≤ 32) (hc : c < 2 ^ 31) (he : ∀ x, ef x ≤ 15) (har : ∀ x, ar x ≤ c) (hd : ic_AD T ln ar) (ht : t < T) (hl : ln t = q) (hq : q < 17) (hn : n ≤ 32) :
  ∀ d p (sl pl : Nat → Nat), p + d + 1 = n → ic_RA T ln pl sl q n p t → ic_RB T ln pl sl q n p t → ic_RS ef ar sl q n p → (∀ i, i < p → ic_pr ef ar (sl (32 * q + i)) t) → ic_Fr ln pl0 sl0 pl sl q →
  ∃ (p' : Nat) (sl' pl' : Nat → Nat), p' < n ∧ ic_RA T ln pl' sl' q n p' t ∧ ic_RB T ln pl' sl' q n p' t ∧ ic_RS ef ar sl' q n p' ∧ (∀ i, i < p' → ic_pr ef ar (sl' (32 * q + i)) t) ∧ (∀ j, p' < j → j < n → ic_pr ef ar t (sl' (32 * q + j))) ∧ ic_Fr ln pl0 sl0 pl' sl' q ∧
  ∀ (post : SX → Prop) (N : Nat), d < N → post (16, 32, (-1), (-1), 15, 100, nI T, nI M, nI P, lN c, fun j => nI ((ic_ud sl' (32 * q + p') t) j), fun j => nI (sz j), fun j => ic_lc (ln j), fun j => nI ((ic_ud pl' t p') j), fun j => nI (ba j), fun j => nI (ef j), rs, fun j => nI (lf j), fun j => nI (nw j), fun j => lN (ar j), fun j => ic_oc (ow j)) → wX_moveBack_30 post (nI t) (nI q) (nI (32 * q)) (nI (n - 1)) N (nI p) 16 32 (-1) (-1) 15 100 (nI T) (nI M) (nI P) (lN c) (fun j => nI (sl j)) (fun j => nI (sz j)) (fun j => ic_lc (ln j)) (fun j => nI (pl j)) (fun j => nI (ba j)) (fun j => nI (ef j)) rs (fun j => nI (lf j)) (fun j => nI (nw j)) (fun j => lN (ar j)) (fun j => ic_oc (ow j)) := by
  intro d
  induction d with
  | zero =>
    intro p sl pl hp A B S hA hF
    refine ⟨p, sl, pl, by omega, A, B, S, hA, fun j h1 h2 => by omega, hF, fun post N hN h => ?_⟩
    cases N with
    | zero => omega
    | succ N => exact br_t (nI_le (by omega) (by omega)) (ic_xput hq (by omega) (by omega) h)
  | succ d ih =>
    intro p sl pl hp A B S hA hF
    have hcl : (nI (32 * q) + nI p + 1).toNatClampNeg = 32 * q + (p + 1) := by rw [ic_ixp]; exact nI_clamp (by omega)
    have hv : vp_in (nI (32 * q) + nI p + 1) 544 := by rw [ic_ixp]; exact vp_in_nI (by omega) (by omega)
    obtain ⟨y1, y2, y3, y4⟩ := A (p + 1) (by omega) (by omega)
    by_cases pr : ic_pr ef ar (sl (32 * q + (p + 1))) t
    · have hA' : ∀ i, i < p + 1 → ic_pr ef ar (ic_ud sl (32 * q + p) (sl (32 * q + (p + 1))) (32 * q + i)) t := by
        intro i hi
        by_cases e : i = p
        · subst e; rw [ic_us]; exact pr
        · rw [ic_un (by omega)]
          exact hA i (by omega)
      obtain ⟨p', sl', pl', a1, a2, a3, a4, a5, a6, a7, a8⟩ := ih (p + 1) (ic_ud sl (32 * q + p) (sl (32 * q + (p + 1)))) (ic_ud pl (sl (32 * q + (p + 1))) p) (by omega) (ic_hA A (by omega) (by omega) hn) (ic_hB A B (by omega) (by omega) (by omega) hn) (ic_hS S (by omega) (by omega) (Or.inl rfl) rfl) hA' (ic_Fr_s hF (by omega) y3)
      refine ⟨p', sl', pl', a1, a2, a3, a4, a5, a6, a7, fun post N hN h => ?_⟩
      cases N with
      | zero => omega
      | succ N =>
        refine br_f (nI_ge (by omega) (by omega)) ?_
        rw [hcl]
        exact And.intro hv (ic_xprec1 (by omega) (by omega) he har hc pr (br_f (by decide) (And.intro hv (ic_xput hq (by omega) (by omega) (nm_r (nI_1 p) (a8 post N (by omega) h))))))
    · refine ⟨p, sl, pl, by omega, A, B, S, hA, ?_, hF, fun post N hN h => ?_⟩
      · intro j h1 h2
        have w : ic_pr ef ar t (sl (32 * q + (p + 1))) := ic_pr_tot (hd _ _ y1 ht (by omega) (by omega) y2) pr
        by_cases e : j = p + 1
        · rw [e]; exact w
        · exact ic_pr_tr w (S (p + 1) j (by omega) h2 (by omega) (by omega))
      · cases N with
        | zero => omega
        | succ N =>
          refine br_f (nI_ge (by omega) (by omega)) ?_
          rw [hcl]
          exact And.intro hv (ic_xprec0 (by omega) (by omega) he har hc pr (br_t rfl (ic_xput hq (by omega) (by omega) h)))
set_option maxHeartbeats 1000000 in
theorem ic_mb {t : Nat} (hT : T ≤ 32) (hc : c < 2 ^ 31) (he : ∀ x, ef x ≤ 15) (har : ∀ x, ar x ≤ c) (hd : ic_AD T ln ar) (V : ic_LV T ln pl sl sz) (X : ic_LX ef ar sl sz t) (hb : ∀ i, i < pl t → ic_pr ef ar (sl (32 * ln t + i)) t) (ht : t < T) (hq : ln t < 17) :
  ∃ (sl' pl' : Nat → Nat), ic_LV T ln pl' sl' sz ∧ ic_LS ef ar sl' sz ∧ ∀ (post : SX → Prop), post (16, 32, (-1), (-1), 15, 100, nI T, nI M, nI P, lN c, fun j => nI (sl' j), fun j => nI (sz j), fun j => ic_lc (ln j), fun j => nI (pl' j), fun j => nI (ba j), fun j => nI (ef j), rs, fun j => nI (lf j), fun j => nI (nw j), fun j => lN (ar j), fun j => ic_oc (ow j)) → wpX_moveBack post (16, 32, (-1), (-1), 15, 100, nI T, nI M, nI P, lN c, fun j => nI (sl j), fun j => nI (sz j), fun j => ic_lc (ln j), fun j => nI (pl j), fun j => nI (ba j), fun j => nI (ef j), rs, fun j => nI (lf j), fun j => nI (nw j), fun j => lN (ar j), fun j => ic_oc (ow j)) (nI t) := by
  have R := V (ln t) hq
  have hn : sz (ln t) ≤ 32 := Nat.le_trans (ic_sz_le R) hT
  have hp : pl t < sz (ln t) := (R.2 t ht rfl).1
  obtain ⟨A, B⟩ := ic_open R ht rfl
  have S : ic_RS ef ar sl (ln t) (sz (ln t)) (pl t) := by
    intro i j hij hj hi1 hj1
    exact X (ln t) hq i j hij hj (A i (by omega) hi1).2.1 (A j hj hj1).2.1
  obtain ⟨p', sl', pl', a1, a2, a3, a4, a5, a6, a7, a8⟩ := ic_mb_loop (M := M) (P := P) (sz := sz) (ba := ba) (lf := lf) (nw := nw) (ow := ow) (rs := rs) (sl0 := sl) (pl0 := pl) hT hc he har hd ht rfl hq hn (sz (ln t) - 1 - pl t) (pl t) sl pl (by omega) A B S hb ic_Fr_r
  obtain ⟨f1, f2, f3⟩ := ic_fin hT V X ht rfl hq a1 a2 a3 a4 a7
  refine ⟨ic_ud sl' (32 * ln t + p') t, ic_ud pl' t p', f1, f3 a5 a6, fun post h => ?_⟩
  have hv := vp_in_nI (N := 32) (show t < 32 by omega) (by omega)
  have e5 : nI (sz (nI (ln t)).toNatClampNeg) - 1 = nI (sz (ln t) - 1) := by
    rw [nI_clamp (by omega)]; exact pk_sub (b := 1) (by omega)
  unfold wpX_moveBack
  exact And.intro hv (nm_r (ic_rdl (by omega) rfl (by omega)) (nm_r (ic_ix0 (ln t)) (And.intro (vp_in_nI hq (by omega)) (nm_r e5 (And.intro hv (nm_r (ic_rdn pl (by omega)) ⟨_, a8 post _ (Nat.lt_succ_self _) h⟩))))))
set_option maxHeartbeats 1000000 in
theorem ic_lv_loop {q n t : Nat} {sl0 pl0 : Nat → Nat} (hT : T ≤ 32) (ht : t < T) (hq : q < 17) (hn : n + 1 ≤ 32) (hs : sz q = n) :
  ∀ d p (sl pl : Nat → Nat), p + d = n → ic_RA T ln pl sl q (n + 1) p t → ic_RB T ln pl sl q (n + 1) p t → ic_RS ef ar sl q (n + 1) p → ic_Fr ln pl0 sl0 pl sl q →
  ∃ (sl' pl' : Nat → Nat), ic_RA T ln pl' sl' q (n + 1) n t ∧ ic_RB T ln pl' sl' q (n + 1) n t ∧ ic_RS ef ar sl' q (n + 1) n ∧ ic_Fr ln pl0 sl0 pl' sl' q ∧
  ∀ (post : SX → Prop) (N : Nat), d < N → post (16, 32, (-1), (-1), 15, 100, nI T, nI M, nI P, lN c, fun j => nI (sl' j), fun j => nI (sz j), fun j => ic_lc ((ic_ud ln t 17) j), fun j => nI (pl' j), fun j => nI (ba j), fun j => nI (ef j), rs, fun j => nI (lf j), fun j => nI (nw j), fun j => lN (ar j), fun j => ic_oc (ow j)) → wX_leave_24 post (nI t) (nI q) N (nI p) 16 32 (-1) (-1) 15 100 (nI T) (nI M) (nI P) (lN c) (fun j => nI (sl j)) (fun j => nI (sz j)) (fun j => ic_lc (ln j)) (fun j => nI (pl j)) (fun j => nI (ba j)) (fun j => nI (ef j)) rs (fun j => nI (lf j)) (fun j => nI (nw j)) (fun j => lN (ar j)) (fun j => ic_oc (ow j)) := by
  have hv := vp_in_nI (N := 32) (show t < 32 by omega) (by omega)
  have hvq := vp_in_nI (N := 17) hq (by omega)
  have cq : (nI q).toNatClampNeg = q := nI_clamp (by omega)
  have ct : (nI t).toNatClampNeg = t := nI_clamp (by omega)
  intro d
  induction d with
  | zero =>
    intro p sl pl hp A B S hF
    have e : p = n := by omega
    subst e
    refine ⟨sl, pl, A, B, S, hF, fun post N hN h => ?_⟩
    cases N with
    | zero => omega
    | succ N =>
      have z : nI (sz (nI q).toNatClampNeg) ≤ nI p := by rw [cq, hs]; exact nI_le (by omega) (by omega)
      refine And.intro hvq (br_t z (And.intro hv (nm_r (e' := fun j => ic_lc (ic_ud ln t 17 j)) ?_ h)))
      rw [ct]
      exact ic_upG ic_lc ln t 17
  | succ d ih =>
    intro p sl pl hp A B S hF
    have hcl : (nI q * 32 + nI p + 1).toNatClampNeg = 32 * q + (p + 1) := by rw [ic_ix0, ic_ixp]; exact nI_clamp (by omega)
    have hvi : vp_in (nI q * 32 + nI p + 1) 544 := by rw [ic_ix0, ic_ixp]; exact vp_in_nI (by omega) (by omega)
    obtain ⟨y1, y2, y3, y4⟩ := A (p + 1) (by omega) (by omega)
    obtain ⟨sl', pl', a1, a2, a3, a4, a5⟩ := ih (p + 1) (ic_ud sl (32 * q + p) (sl (32 * q + (p + 1)))) (ic_ud pl (sl (32 * q + (p + 1))) p) (by omega) (ic_hA A (by omega) (by omega) hn) (ic_hB A B (by omega) (by omega) (by omega) hn) (ic_hS S (by omega) (by omega) (Or.inl rfl) rfl) (ic_Fr_s hF (by omega) y3)
    refine ⟨sl', pl', a1, a2, a3, a4, fun post N hN h => ?_⟩
    cases N with
    | zero => omega
    | succ N =>
      have z : ¬ nI (sz (nI q).toNatClampNeg) ≤ nI p := by rw [cq, hs]; exact nI_ge (by omega) (by omega)
      refine And.intro hvq (br_f z ?_)
      rw [hcl]
      exact And.intro hvi (ic_xput hq (by omega) (by omega) (nm_r (nI_1 p) (a5 post N (by omega) h)))
set_option maxHeartbeats 1000000 in
theorem ic_lv {t q : Nat} (hT : T ≤ 32) (V : ic_LV T ln pl sl sz) (L : ic_LS ef ar sl sz) (ht : t < T) (hl : ln t = q) (hq : q < 17) :
  ∃ (sl' pl' : Nat → Nat), ic_LV T (ic_ud ln t 17) pl' sl' (ic_ud sz q (sz q - 1)) ∧ ic_LS ef ar sl' (ic_ud sz q (sz q - 1)) ∧
  ∀ (post : SX → Prop), post (16, 32, (-1), (-1), 15, 100, nI T, nI M, nI P, lN c, fun j => nI (sl' j), fun j => nI ((ic_ud sz q (sz q - 1)) j), fun j => ic_lc ((ic_ud ln t 17) j), fun j => nI (pl' j), fun j => nI (ba j), fun j => nI (ef j), rs, fun j => nI (lf j), fun j => nI (nw j), fun j => lN (ar j), fun j => ic_oc (ow j)) → wpX_leave post (16, 32, (-1), (-1), 15, 100, nI T, nI M, nI P, lN c, fun j => nI (sl j), fun j => nI (sz j), fun j => ic_lc (ln j), fun j => nI (pl j), fun j => nI (ba j), fun j => nI (ef j), rs, fun j => nI (lf j), fun j => nI (nw j), fun j => lN (ar j), fun j => ic_oc (ow j)) (nI t) := by
  have R := V q hq
  have hn : sz q ≤ 32 := Nat.le_trans (ic_sz_le R) hT
  have hp : pl t < sz q := (R.2 t ht hl).1
  obtain ⟨A, B⟩ := ic_open R ht hl
  have en : sz q = (sz q - 1) + 1 := by omega
  have S : ic_RS ef ar sl q (sz q) (pl t) := fun i j hij hj _ _ => L q hq i j hij hj
  rw [en] at A B S
  obtain ⟨sl', pl', a1, a2, a3, a4, a5⟩ := ic_lv_loop (M := M) (P := P) (c := c) (sz := ic_ud sz q (sz q - 1)) (ba := ba) (ef := ef) (ar := ar) (lf := lf) (nw := nw) (ow := ow) (rs := rs) (sl0 := sl) (pl0 := pl) hT ht hq (by omega) ic_us (sz q - 1 - pl t) (pl t) sl pl (by omega) A B S ic_Fr_r
  obtain ⟨f1, f2⟩ := ic_finL hT V L ht hl hq en a1 a2 a3 a4
  refine ⟨sl', pl', f1, f2, fun post h => ?_⟩
  have hv := vp_in_nI (N := 32) (show t < 32 by omega) (by omega)
  have hvq := vp_in_nI (N := 17) hq (by omega)
  unfold wpX_leave
  refine And.intro hv (nm_r (ic_rdl (by omega) hl (by omega)) (And.intro hvq (And.intro hvq (nm_r (e' := fun j => nI (ic_ud sz q (sz q - 1) j)) ?_ (And.intro hv (nm_r (ic_rdn pl (by omega)) ⟨_, a5 post _ (Nat.lt_succ_self _) h⟩))))))
  rw [nI_clamp (by omega)]
  have e1 : nI (sz q) - 1 = nI (sz q - 1) := pk_sub (b := 1) (by omega)
  show upd (fun j => nI (sz j)) q (nI (sz q) - 1) = _
  rw [e1]
  exact ic_upN sz q _
set_option maxHeartbeats 1000000 in
theorem ic_ar {t q : Nat} (hT : T ≤ 32) (hc : c + 1 < 2 ^ 31) (he : ∀ x, ef x ≤ 15) (har : ∀ x, ar x ≤ c) (hd : ic_AD T ln ar) (V : ic_LV T ln pl sl sz) (L : ic_LS ef ar sl sz) (ht : t < T) (hl : ln t = 17) (hq : q < 17) :
  ∃ (sl' pl' : Nat → Nat), ic_LV T (ic_ud ln t q) pl' sl' (ic_ud sz q (sz q + 1)) ∧ ic_LS ef (ic_ud ar t (c + 1)) sl' (ic_ud sz q (sz q + 1)) ∧
  ∀ (post : SX → Prop), post (16, 32, (-1), (-1), 15, 100, nI T, nI M, nI P, lN (c + 1), fun j => nI (sl' j), fun j => nI ((ic_ud sz q (sz q + 1)) j), fun j => ic_lc ((ic_ud ln t q) j), fun j => nI (pl' j), fun j => nI (ba j), fun j => nI (ef j), rs, fun j => nI (lf j), fun j => nI (nw j), fun j => lN ((ic_ud ar t (c + 1)) j), fun j => ic_oc (ow j)) → wpX_arrive post (16, 32, (-1), (-1), 15, 100, nI T, nI M, nI P, lN c, fun j => nI (sl j), fun j => nI (sz j), fun j => ic_lc (ln j), fun j => nI (pl j), fun j => nI (ba j), fun j => nI (ef j), rs, fun j => nI (lf j), fun j => nI (nw j), fun j => lN (ar j), fun j => ic_oc (ow j)) (nI t) (nI q) := by
  obtain ⟨V1, X1⟩ := ic_app (ar' := ic_ud ar t (c + 1)) hT V L ht hl hq (fun x hx => ic_un hx)
  have hlt : sz q < T := ic_sz_lt (V q hq) ht (by omega)
  have har' : ∀ x, ic_ud ar t (c + 1) x ≤ c + 1 := by
    intro x
    by_cases e : x = t
    · rw [e, ic_us]; omega
    · rw [ic_un e]; have := har x; omega
  have hd' : ic_AD T (ic_ud ln t q) (ic_ud ar t (c + 1)) := by
    intro x y hx hy hlx hly hne
    by_cases ex : x = t
    · subst ex
      rw [ic_us, ic_un (fun e => hne e.symm)]
      have := har y; omega
    · by_cases ey : y = t
      · subst ey
        rw [ic_us, ic_un ex]
        have := har x; omega
      · rw [ic_un ex] at hlx
        rw [ic_un ey] at hly
        rw [ic_un ex, ic_un ey]
        exact hd x y hx hy hlx hly hne
  obtain ⟨sl', pl', b1, b2, b3, b4, b5⟩ := ic_mf (M := M) (P := P) (ba := ba) (lf := lf) (nw := nw) (ow := ow) (rs := rs) hT hc he har' hd' V1 X1 ht (by rw [ic_us]; exact hq)
  refine ⟨sl', pl', b1, b4 ?_, fun post h => ?_⟩
  · intro j h1 h2
    rw [ic_us, ic_us] at h2
    rw [ic_us] at h1
    omega
  · have hv := vp_in_nI (N := 32) (show t < 32 by omega) (by omega)
    have hvq := vp_in_nI (N := 17) hq (by omega)
    have ct : (nI t).toNatClampNeg = t := nI_clamp (by omega)
    have cq : (nI q).toNatClampNeg = q := nI_clamp (by omega)
    have e1 : vp_updL (fun j => lN (ar j)) (nI t).toNatClampNeg (lN (c + 1)) = fun j => lN (ic_ud ar t (c + 1) j) := by rw [ct]; exact ic_upL ar t (c + 1)
    have e2 : upd (fun j => ic_lc (ln j)) (nI t).toNatClampNeg (nI q) = fun j => ic_lc (ic_ud ln t q j) := by rw [ct, ← ic_lc_n (n := q) (by omega)]; exact ic_upG ic_lc ln t q
    have e3 : upd (fun j => nI (sz j)) (nI q).toNatClampNeg (nI (sz (nI q).toNatClampNeg) + 1) = fun j => nI (ic_ud sz q (sz q + 1) j) := by rw [cq, nI_1]; exact ic_upN sz q (sz q + 1)
    unfold wpX_arrive
    refine nm_r (lN_1 c) (And.intro hv (nm_r e1 (And.intro hv (nm_r e2 (And.intro hvq ?_)))))
    rw [cq]
    refine ic_xput hq (by omega) (by omega) (And.intro hvq (And.intro hvq (nm_r ?_ (b5 _ h))))
    rw [cq] at e3
    exact e3
end
end
section
/-- what a refresh rests on and doesn't change -/
def ic_St (T M c : Nat) (ln ow nw ar ba dp : Nat → Nat) : Prop := T ≤ 32 ∧ M ≤ 16 ∧ c < 2 ^ 31 ∧ (∀ x, ar x ≤ c) ∧ ic_AD T ln ar ∧ ic_Fo T ln ow dp ∧ (∀ x, x < T → ln x ≤ 17) ∧ (∀ m, m < 16 → ow m ≤ 32) ∧ (∀ x, x < T → ln x < 16 → ln x < M) ∧ (∀ t, t < T → nw t = ic_cn (fun m => ow m = t) M) ∧ (∀ x, ba x ≤ 15)
section
variable {T M P c : Nat} {sl sz ln pl ba ef lf nw ar ow dp : Nat → Nat} {rs : Nat → Int32}
theorem ic_xbl {post : Int32 → Prop} {t : Nat} (ht : t < 32) (hl : ln t ≤ 17) (h1 : ln t < 16 → post 1) (h0 : ¬ ln t < 16 → post 0) : wpX_blocked post (16, 32, (-1), (-1), 15, 100, nI T, nI M, nI P, lN c, fun j => nI (sl j), fun j => nI (sz j), fun j => ic_lc (ln j), fun j => nI (pl j), fun j => nI (ba j), fun j => nI (ef j), rs, fun j => nI (lf j), fun j => nI (nw j), fun j => lN (ar j), fun j => ic_oc (ow j)) (nI t) := by
  have hv := vp_in_nI (N := 32) ht (by omega)
  unfold wpX_blocked
  rw [nI_clamp (by omega)]
  refine And.intro hv (br_c (fun e => h0 ?_) (fun e => And.intro hv (br_c (fun e2 => h0 ?_) (fun e2 => h1 ?_))))
  · have := (ic_lc_eq hl).mp e; omega
  · have := (ic_lc_16 hl).mp e2; omega
  · have a := mt (ic_lc_eq hl).mpr e
    have b := mt (ic_lc_16 hl).mpr e2
    omega
theorem ic_xrun {post : Int32 → Prop} {t : Nat} (ht : t < 32) (hl : ln t ≤ 17) (hP : P < 2 ^ 31) (hp : ln t = 16 → pl t < 2 ^ 31) (h1 : ln t = 16 ∧ pl t < P → post 1) (h0 : ¬ (ln t = 16 ∧ pl t < P) → post 0) : wpX_running post (16, 32, (-1), (-1), 15, 100, nI T, nI M, nI P, lN c, fun j => nI (sl j), fun j => nI (sz j), fun j => ic_lc (ln j), fun j => nI (pl j), fun j => nI (ba j), fun j => nI (ef j), rs, fun j => nI (lf j), fun j => nI (nw j), fun j => lN (ar j), fun j => ic_oc (ow j)) (nI t) := by
  have hv := vp_in_nI (N := 32) ht (by omega)
  unfold wpX_running
  rw [nI_clamp (by omega)]
  refine And.intro hv (br_c (fun e => And.intro hv ?_) (fun e => h0 (fun z => e ((ic_lc_16 hl).mpr z.1))))
  have e := (ic_lc_16 hl).mp e
  have hp := hp e
  refine br_c (fun l => h0 ?_) (fun l => h1 ?_)
  · have l := (nI_leI hP hp).mp l
    omega
  · have l : ¬ P ≤ pl t := fun z => l ((nI_leI hP hp).mpr z)
    exact ⟨e, by omega⟩
theorem ic_xnx {post : Int32 → Prop} {t : Nat} (ht : t < 32) (hl : ln t ≤ 17) (h1 : ln t < 16 → post (ic_oc (ow (ln t)))) (h0 : ¬ ln t < 16 → post (-1)) : wpX_nextInChain post (16, 32, (-1), (-1), 15, 100, nI T, nI M, nI P, lN c, fun j => nI (sl j), fun j => nI (sz j), fun j => ic_lc (ln j), fun j => nI (pl j), fun j => nI (ba j), fun j => nI (ef j), rs, fun j => nI (lf j), fun j => nI (nw j), fun j => lN (ar j), fun j => ic_oc (ow j)) (nI t) := by
  have hv := vp_in_nI (N := 32) ht (by omega)
  unfold wpX_nextInChain
  refine ic_xbl ht hl (fun hb => br_f (by decide) ?_) (fun hb => br_t rfl (h0 hb))
  have e : ic_lc (ln t) = nI (ln t) := ic_lc_n (by omega)
  have ct : (nI t).toNatClampNeg = t := nI_clamp (by omega)
  have cl : (nI (ln t)).toNatClampNeg = ln t := nI_clamp (by omega)
  rw [ct]
  show vp_in (nI t) 32 ∧ vp_in (ic_lc (ln t)) 16 ∧ post (ic_oc (ow (ic_lc (ln t)).toNatClampNeg))
  rw [e, cl]
  exact ⟨hv, vp_in_nI hb (by omega), h1 hb⟩
theorem ic_cc_loop {post : Int32 → Prop} {t : Nat} (hT : T ≤ 32) (F : ic_Fo T ln ow dp) (hL : ∀ x, x < T → ln x ≤ 17) (ht : t < T) :
  ∀ N x i, x < T → i + ic_h T ln ow x < T → ic_h T ln ow x + 2 ≤ N → (ic_R (ic_nx ln ow) x t → post 1) → (¬ ic_R (ic_nx ln ow) x t → post 0) → wX_chainContains_5 post (nI t) 16 32 (-1) (-1) 15 100 (nI T) (nI M) (nI P) (lN c) (fun j => nI (sl j)) (fun j => nI (sz j)) (fun j => ic_lc (ln j)) (fun j => nI (pl j)) (fun j => nI (ba j)) (fun j => nI (ef j)) rs (fun j => nI (lf j)) (fun j => nI (nw j)) (fun j => lN (ar j)) (fun j => ic_oc (ow j)) N (nI x) (nI i) := by
  intro N
  induction N with
  | zero => intro x i hx hi hN; omega
  | succ N ih =>
    intro x i hx hi hN h1 h0
    refine br_f (nI_ge (by omega) (by omega)) (br_f (nI_pos (by omega)) ?_)
    by_cases e : x = t
    · exact br_t (congrArg nI e) (h1 (e ▸ ic_R0 _ _))
    · refine br_f (fun z => e ((nI_eq (by omega) (by omega)).mp z)) (ic_xnx (by omega) (hL x hx) (fun hb => ?_) (fun hb => ?_))
      · obtain ⟨a, _, _⟩ := F x hx hb
        have s := ic_h_s F hx hb
        have eo : ic_oc (ow (ln x)) = nI (ow (ln x)) := ic_oc_n (by omega)
        rw [eo]
        refine nm_r (nI_1 i) (ih (ow (ln x)) (i + 1) a (by omega) (by omega) (fun r => h1 (ic_Rs (by rw [ic_nx_b hb]; exact r))) (fun r => h0 (fun z => ?_)))
        rcases ic_Rc z with w | w
        · exact e w
        · rw [ic_nx_b hb] at w; exact r w
      · have p0 := h0 (fun z => e (ic_Rroot hb z))
        refine nm_r (nI_1 i) ?_
        cases N with
        | zero => omega
        | succ N => exact br_c (fun _ => p0) (fun _ => br_t ic_m1neg p0)
theorem ic_cc {post : Int32 → Prop} {x t : Nat} (hT : T ≤ 32) (F : ic_Fo T ln ow dp) (hL : ∀ x, x < T → ln x ≤ 17) (ht : t < T) (hx : x < T) (h1 : ic_R (ic_nx ln ow) x t → post 1) (h0 : ¬ ic_R (ic_nx ln ow) x t → post 0) : wpX_chainContains post (16, 32, (-1), (-1), 15, 100, nI T, nI M, nI P, lN c, fun j => nI (sl j), fun j => nI (sz j), fun j => ic_lc (ln j), fun j => nI (pl j), fun j => nI (ba j), fun j => nI (ef j), rs, fun j => nI (lf j), fun j => nI (nw j), fun j => lN (ar j), fun j => ic_oc (ow j)) (nI x) (nI t) := by
  unfold wpX_chainContains
  have := ic_h_lt (ln := ln) (ow := ow) hx
  exact ⟨_, ic_cc_loop hT F hL ht _ x 0 hx (by omega) (Nat.le_refl _) h1 h0⟩
set_option maxHeartbeats 1000000 in
theorem ic_sc_loop {t : Nat} (hT : T ≤ 32) (hM : M ≤ 16) (he : ∀ x, ef x ≤ 15) (V : ic_LV T ln pl sl sz) (L : ic_LS ef ar sl sz) (hO : ∀ m, m < 16 → ow m ≤ 32) (hW : ∀ x, x < T → ln x < 16 → ln x < M) (ht : t < T) :
  ∀ d m v, m + d = M → v ≤ 15 → ba t ≤ v → (∀ x, ic_E T ln ow x t → ln x < m → ef x ≤ v) → (v = ba t ∨ ∃ x, ic_E T ln ow x t ∧ v = ef x) →
  ∃ v', v' ≤ 15 ∧ ic_IC T ln ow ba ef t v' ∧ ∀ (post : Int32 → Prop) (N : Nat), d < N → post (nI v') → wX_strongestClaim_20 post (nI t) 16 32 (-1) (-1) 15 100 (nI T) (nI M) (nI P) (lN c) (fun j => nI (sl j)) (fun j => nI (sz j)) (fun j => ic_lc (ln j)) (fun j => nI (pl j)) (fun j => nI (ba j)) (fun j => nI (ef j)) rs (fun j => nI (lf j)) (fun j => nI (nw j)) (fun j => lN (ar j)) (fun j => ic_oc (ow j)) N (nI v) (nI m) := by
  intro d
  induction d with
  | zero =>
    intro m v hm hv h1 h2 h3
    refine ⟨v, hv, ⟨h1, fun x hx => h2 x hx ?_, h3⟩, fun post N hN h => ?_⟩
    · have := hW x hx.1 hx.2.1; omega
    · cases N with
      | zero => omega
      | succ N => exact br_t (nI_le (by omega) (by omega)) h
  | succ d ih =>
    intro m v hm hv h1 h2 h3
    have v16 := vp_in_nI (N := 16) (show m < 16 by omega) (by omega)
    have v17 := vp_in_nI (N := 17) (show m < 17 by omega) (by omega)
    have cm : (nI m).toNatClampNeg = m := nI_clamp (by omega)
    have hoi := ic_oc_nI (hO m (by omega)) (show t < 32 by omega)
    by_cases ho : ow m = t
    · have R := V m (by omega)
      by_cases hz : sz m = 0
      · obtain ⟨v', b1, b2, b3⟩ := ih (m + 1) v (by omega) hv h1 (fun x hx hl => h2 x hx (by
          rcases Nat.lt_or_ge (ln x) m with z | z
          · exact z
          · have := (R.2 x hx.1 (by omega)).1
            omega)) h3
        refine ⟨v', b1, b2, fun post N hN h => ?_⟩
        cases N with
        | zero => omega
        | succ N =>
          refine br_f (nI_ge (by omega) (by omega)) ?_
          rw [cm]
          refine And.intro v16 (br_t (hoi.mpr ho) (And.intro v17 (br_t ?_ (nm_r (nI_1 m) (b3 post N (by omega) h)))))
          show nI (sz m) ≤ 0
          rw [hz]
          exact nI_le (a := 0) (b := 0) (by omega) (by omega)
      · obtain ⟨y1, y2, y3⟩ := R.1 0 (by omega)
        have yE : ic_E T ln ow (sl (32 * m + 0)) t := ⟨y1, by omega, by rw [y2]; exact ho⟩
        have top : ∀ x, ic_E T ln ow x t → ln x = m → ef x ≤ ef (sl (32 * m + 0)) := by
          intro x hx hl
          obtain ⟨p1, p2⟩ := R.2 x hx.1 hl
          by_cases e : pl x = 0
          · rw [e] at p2; rw [p2]; exact Nat.le_refl _
          · have s := L m (by omega) 0 (pl x) (by omega) p1
            rw [p2] at s
            unfold ic_pr at s
            omega
        have c32 : (nI m * 32).toNatClampNeg = 32 * m := by rw [ic_ix0]; exact nI_clamp (by omega)
        have v544 : vp_in (nI m * 32) 544 := by rw [ic_ix0]; exact vp_in_nI (by omega) (by omega)
        have vy := vp_in_nI (N := 32) (show sl (32 * m) < 32 from Nat.lt_of_lt_of_le y1 hT) (by omega)
        have cy : (nI (sl (32 * m))).toNatClampNeg = sl (32 * m) := nI_clamp (Nat.lt_of_lt_of_le y1 (by omega))
        have ey : ef (sl (32 * m)) ≤ 15 := he _
        have nz : ¬ nI (sz m) ≤ 0 := nI_nle (by omega) (by have := ic_sz_le R; omega)
        by_cases hle : ef (sl (32 * m)) ≤ v
        · obtain ⟨v', b1, b2, b3⟩ := ih (m + 1) v (by omega) hv h1 (fun x hx hl => by
            rcases Nat.lt_or_ge (ln x) m with z | z
            · exact h2 x hx z
            · exact Nat.le_trans (top x hx (by omega)) hle) h3
          refine ⟨v', b1, b2, fun post N hN h => ?_⟩
          cases N with
          | zero => omega
          | succ N =>
            refine br_f (nI_ge (by omega) (by omega)) ?_
            rw [cm]
            refine And.intro v16 (br_t (hoi.mpr ho) (And.intro v17 (br_f nz ?_)))
            rw [c32]
            refine And.intro v544 (And.intro vy (nm_r (e' := nI (ef (sl (32 * m)))) (congrArg (fun z => nI (ef z)) cy) (br_t (nI_le hle (by omega)) (nm_r (nI_1 m) (b3 post N (by omega) h)))))
        · obtain ⟨v', b1, b2, b3⟩ := ih (m + 1) (ef (sl (32 * m))) (by omega) ey (by omega) (fun x hx hl => by
            rcases Nat.lt_or_ge (ln x) m with z | z
            · have := h2 x hx z; omega
            · exact top x hx (by omega)) (Or.inr ⟨_, yE, rfl⟩)
          refine ⟨v', b1, b2, fun post N hN h => ?_⟩
          cases N with
          | zero => omega
          | succ N =>
            refine br_f (nI_ge (by omega) (by omega)) ?_
            rw [cm]
            refine And.intro v16 (br_t (hoi.mpr ho) (And.intro v17 (br_f nz ?_)))
            rw [c32]
            refine And.intro v544 (And.intro vy (nm_r (e' := nI (ef (sl (32 * m)))) (congrArg (fun z => nI (ef z)) cy) (br_f (nI_ge (by omega) (by omega)) (nm_r (nI_1 m) (b3 post N (by omega) h)))))
    · obtain ⟨v', b1, b2, b3⟩ := ih (m + 1) v (by omega) hv h1 (fun x hx hl => h2 x hx (by
          rcases Nat.lt_or_ge (ln x) m with z | z
          · exact z
          · have e : ln x = m := by omega
            have := hx.2.2
            rw [e] at this
            exact absurd this ho)) h3
      refine ⟨v', b1, b2, fun post N hN h => ?_⟩
      cases N with
      | zero => omega
      | succ N =>
        refine br_f (nI_ge (by omega) (by omega)) ?_
        rw [cm]
        exact And.intro v16 (br_f (fun z => ho (hoi.mp z)) (nm_r (nI_1 m) (b3 post N (by omega) h)))
theorem ic_sc {t : Nat} (D : ic_St T M c ln ow nw ar ba dp) (he : ∀ x, ef x ≤ 15) (V : ic_LV T ln pl sl sz) (L : ic_LS ef ar sl sz) (ht : t < T) :
  ∃ v, v ≤ 15 ∧ ic_IC T ln ow ba ef t v ∧ ∀ (post : Int32 → Prop), post (nI v) → wpX_strongestClaim post (16, 32, (-1), (-1), 15, 100, nI T, nI M, nI P, lN c, fun j => nI (sl j), fun j => nI (sz j), fun j => ic_lc (ln j), fun j => nI (pl j), fun j => nI (ba j), fun j => nI (ef j), rs, fun j => nI (lf j), fun j => nI (nw j), fun j => lN (ar j), fun j => ic_oc (ow j)) (nI t) := by
  obtain ⟨hT, hM, hc, har, hd, F, hL, hO, hW, hN, hB⟩ := D
  have hv := vp_in_nI (N := 32) (show t < 32 by omega) (by omega)
  have ct : (nI t).toNatClampNeg = t := nI_clamp (by omega)
  have en := hN t ht
  by_cases z : nw t = 0
  · have no : ∀ x, ¬ ic_E T ln ow x t := by
      intro x hx
      rw [z] at en
      exact ic_cn_0 en.symm (ln x) (hW x hx.1 hx.2.1) hx.2.2
    refine ⟨ba t, hB t, ⟨Nat.le_refl _, fun x hx => absurd hx (no x), Or.inl rfl⟩, fun post h => ?_⟩
    unfold wpX_strongestClaim
    rw [ct]
    exact And.intro hv (nm_e (And.intro hv (br_t (congrArg nI z) h)))
  · obtain ⟨v', b1, b2, b3⟩ := ic_sc_loop (P := P) (c := c) (lf := lf) (nw := nw) (rs := rs) (ba := ba) hT hM he V L hO hW ht M 0 (ba t) (by omega) (hB t) (Nat.le_refl _) (fun x _ hl => by omega) (Or.inl rfl)
    refine ⟨v', b1, b2, fun post h => ?_⟩
    have l : nw t < 2 ^ 31 := by rw [en]; have := ic_cn_le (fun m => ow m = t) M; omega
    unfold wpX_strongestClaim
    rw [ct]
    exact And.intro hv (nm_e (And.intro hv (br_f (nI_ne0 (by omega) l) ⟨_, b3 post _ (Nat.lt_succ_self _) h⟩)))
set_option maxHeartbeats 2000000 in
theorem ic_rf_loop {Z : Nat → Prop} (D : ic_St T M c ln ow nw ar ba dp) :
  ∀ k cur i (sl pl ef : Nat → Nat), ic_h T ln ow cur < k → i + ic_h T ln ow cur < T → cur < T → ln cur < 17 → (∀ x, ef x ≤ 15) → ic_LV T ln pl sl sz → ic_LS ef ar sl sz → ic_Co T ln ow ba ef (fun y => y = cur ∨ Z y) →
  ∃ (sl' pl' ef' : Nat → Nat), (∀ x, ef' x ≤ 15) ∧ ic_LV T ln pl' sl' sz ∧ ic_LS ef' ar sl' sz ∧ ic_Co T ln ow ba ef' Z ∧ (∀ y, ¬ ic_R (ic_nx ln ow) cur y → ef' y = ef y) ∧
  ∀ (post : SX → Prop) (N : Nat), k < N → post (16, 32, (-1), (-1), 15, 100, nI T, nI M, nI P, lN c, fun j => nI (sl' j), fun j => nI (sz j), fun j => ic_lc (ln j), fun j => nI (pl' j), fun j => nI (ba j), fun j => nI (ef' j), rs, fun j => nI (lf j), fun j => nI (nw j), fun j => lN (ar j), fun j => ic_oc (ow j)) → wX_refresh_4 post N (nI cur) (nI i) 16 32 (-1) (-1) 15 100 (nI T) (nI M) (nI P) (lN c) (fun j => nI (sl j)) (fun j => nI (sz j)) (fun j => ic_lc (ln j)) (fun j => nI (pl j)) (fun j => nI (ba j)) (fun j => nI (ef j)) rs (fun j => nI (lf j)) (fun j => nI (nw j)) (fun j => lN (ar j)) (fun j => ic_oc (ow j)) := by
  intro k
  induction k with
  | zero => intro cur i sl pl ef h; omega
  | succ k ih =>
    intro cur i sl pl ef hk hi hcur hlive he V L C
    obtain ⟨v, v1, v2, v3⟩ := ic_sc (P := P) (lf := lf) (rs := rs) D he V L hcur
    obtain ⟨hT, hM, hc, har, hd, F, hL, hO, hW, hN, hB⟩ := id D
    have hv := vp_in_nI (N := 32) (show cur < 32 by omega) (by omega)
    have ct : (nI cur).toNatClampNeg = cur := nI_clamp (by omega)
    have b1 : ¬ nI T ≤ nI i := nI_ge (by omega) (by omega)
    have b2 : ¬ nI cur < 0 := nI_pos (by omega)
    by_cases ev : v = ef cur
    · refine ⟨sl, pl, ef, he, V, L, ?_, fun _ _ => rfl, fun post N hN h => ?_⟩
      · intro y hy hl hs
        by_cases e : y = cur
        · rw [e, ← ev]; exact v2
        · exact C y hy hl (fun z => z.elim e hs)
      · cases N with
        | zero => omega
        | succ N =>
          refine br_f b1 (br_f b2 (v3 _ ?_))
          rw [ct]
          exact And.intro hv (br_t (congrArg nI ev) h)
    · have he1 : ∀ x, ic_ud ef cur v x ≤ 15 := by
        intro x
        by_cases e : x = cur
        · rw [e, ic_us]; exact v1
        · rw [ic_un e]; exact he x
      have X1 : ic_LX (ic_ud ef cur v) ar sl sz cur := by
        intro q hq i j hij hj h1 h2
        have s := L q hq i j hij hj
        unfold ic_pr at *
        rw [ic_un h1, ic_un h2]
        exact s
      obtain ⟨sl1, pl1, c1, c2, c3, _, c5⟩ := ic_mf (M := M) (P := P) (ba := ba) (lf := lf) (nw := nw) (ow := ow) (rs := rs) hT hc he1 har hd V X1 hcur hlive
      obtain ⟨sl2, pl2, d1, d2, d3⟩ := ic_mb (M := M) (P := P) (ba := ba) (lf := lf) (nw := nw) (ow := ow) (rs := rs) hT hc he1 har hd c1 c2 c3 hcur hlive
      have nv : ¬ nI v = nI (ef cur) := fun z => ev ((nI_eq (by omega) (by have := he cur; omega)).mp z)
      by_cases hb : ln cur < 16
      · obtain ⟨y1, y2, y3⟩ := F cur hcur hb
        have hs := ic_h_s F hcur hb
        have eo : ic_oc (ow (ln cur)) = nI (ow (ln cur)) := ic_oc_n (by omega)
        obtain ⟨sl3, pl3, ef3, g1, g2, g3, g4, g5, g6⟩ := ih (ow (ln cur)) (i + 1) sl2 pl2 (ic_ud ef cur v) (by omega) (by omega) y1 y3 he1 d1 d2 (ic_Co_ef F C (fun y hy hne => Or.inr (hy.elim (fun e => absurd e hne) id)) v2 (fun _ => Or.inl rfl))
        refine ⟨sl3, pl3, ef3, g1, g2, g3, g4, fun y hy => ?_, fun post N hN h => ?_⟩
        · rw [g5 y (fun r => hy (ic_Rs (by rw [ic_nx_b hb]; exact r)))]
          exact ic_un (fun e => hy (e ▸ ic_R0 _ _))
        · cases N with
          | zero => omega
          | succ N =>
            refine br_f b1 (br_f b2 (v3 _ ?_))
            rw [ct]
            refine And.intro hv (br_f nv (And.intro hv (nm_r (ic_upN ef cur v) (c5 _ (d3 _ (ic_xnx (by omega) (by omega) (fun _ => ?_) (fun z => absurd hb z)))))))
            rw [eo]
            exact nm_r (nI_1 i) (g6 post N (by omega) h)
      · refine ⟨sl2, pl2, ic_ud ef cur v, he1, d1, d2, ic_Co_ef F C (fun y hy hne => hy.elim (fun e => absurd e hne) id) v2 (fun z => absurd z hb), fun y hy => ic_un (fun e => hy (e ▸ ic_R0 _ _)), fun post N hN h => ?_⟩
        cases N with
        | zero => omega
        | succ N =>
          refine br_f b1 (br_f b2 (v3 _ ?_))
          rw [ct]
          refine And.intro hv (br_f nv (And.intro hv (nm_r (ic_upN ef cur v) (c5 _ (d3 _ (ic_xnx (by omega) (by omega) (fun z => absurd z hb) (fun _ => nm_r (nI_1 i) ?_)))))))
          cases N with
          | zero => omega
          | succ N => exact br_c (fun _ => h) (fun _ => br_t ic_m1neg h)
theorem ic_rf {Z : Nat → Prop} {cur : Nat} (D : ic_St T M c ln ow nw ar ba dp) (hcur : cur < T) (hlive : ln cur < 17) (he : ∀ x, ef x ≤ 15) (V : ic_LV T ln pl sl sz) (L : ic_LS ef ar sl sz) (C : ic_Co T ln ow ba ef (fun y => y = cur ∨ Z y)) :
  ∃ (sl' pl' ef' : Nat → Nat), (∀ x, ef' x ≤ 15) ∧ ic_LV T ln pl' sl' sz ∧ ic_LS ef' ar sl' sz ∧ ic_Co T ln ow ba ef' Z ∧ (∀ y, ¬ ic_R (ic_nx ln ow) cur y → ef' y = ef y) ∧
  ∀ (post : SX → Prop), post (16, 32, (-1), (-1), 15, 100, nI T, nI M, nI P, lN c, fun j => nI (sl' j), fun j => nI (sz j), fun j => ic_lc (ln j), fun j => nI (pl' j), fun j => nI (ba j), fun j => nI (ef' j), rs, fun j => nI (lf j), fun j => nI (nw j), fun j => lN (ar j), fun j => ic_oc (ow j)) → wpX_refresh post (16, 32, (-1), (-1), 15, 100, nI T, nI M, nI P, lN c, fun j => nI (sl j), fun j => nI (sz j), fun j => ic_lc (ln j), fun j => nI (pl j), fun j => nI (ba j), fun j => nI (ef j), rs, fun j => nI (lf j), fun j => nI (nw j), fun j => lN (ar j), fun j => ic_oc (ow j)) (nI cur) := by
  have hh := ic_h_lt (ln := ln) (ow := ow) hcur
  obtain ⟨sl', pl', ef', a1, a2, a3, a4, a5, a6⟩ := ic_rf_loop (P := P) (lf := lf) (rs := rs) D _ cur 0 sl pl ef (Nat.lt_succ_self _) (by omega) hcur hlive he V L C
  refine ⟨sl', pl', ef', a1, a2, a3, a4, a5, fun post h => ?_⟩
  unfold wpX_refresh
  exact ⟨_, a6 post _ (Nat.lt_succ_self _) h⟩
end
end
section
/-! the reference's reading methods -/
def ic_Po (od po : Nat → Nat) : Prop := (∀ x, x < 32 → po x < 32 ∧ od (po x) = x) ∧ (∀ i, i < 32 → od i < 32 ∧ po (od i) = i)
def ic_Ao (T : Nat) (ln ar po : Nat → Nat) : Prop := ∀ x y, x < T → y < T → ln x < 17 → ln y < 17 → (ar x < ar y ↔ po x < po y)
def ic_Yk (T : Nat) (sl sz ln pl ba ef ar ow od po dp : Nat → Nat) : Prop := T ≤ 32 ∧ (∀ x, x < T → ln x ≤ 17) ∧ (∀ x, ba x ≤ 15) ∧ (∀ x, ef x ≤ 15) ∧ ic_LV T ln pl sl sz ∧ ic_LS ef ar sl sz ∧ ic_Fo T ln ow dp ∧ ic_Co T ln ow ba ef (fun _ => False) ∧ ic_Po od po ∧ ic_Ao T ln ar po
theorem ic_m1le {v : Nat} (h : v < 2 ^ 31) : (-1 : Int32) ≤ nI v := by
  rw [Int32.le_iff_toInt_le, nI_toInt h, show (-1 : Int32).toInt = -1 from by decide]
  omega
theorem ic_Po_inj {od po : Nat → Nat} (h : ic_Po od po) {x y : Nat} (hx : x < 32) (hy : y < 32) (e : po x = po y) : x = y := by
  have a := (h.1 x hx).2
  have b := (h.1 y hy).2
  rw [e, b] at a
  exact a.symm
section
variable {T M P : Nat} {sl sz ln pl ba ef lf ar ow od po dp : Nat → Nat} {yr : Nat → Int32}
theorem ic_yrc_loop {post : Int32 → Prop} {t : Nat} (hT : T ≤ 32) (F : ic_Fo T ln ow dp) (ht : t < T) :
  ∀ N x i, x < T → i + ic_h T ln ow x < 32 → ic_h T ln ow x < N → (ic_R (ic_nx ln ow) x t → post 1) → (¬ ic_R (ic_nx ln ow) x t → post 0) → wY_reaches_5 post (nI t) (nI T) (nI M) (nI P) (fun j => ic_yb (ln j) (ba j)) (fun j => ic_wc (ln j)) (fun j => nI (lf j)) yr (fun j => nI (od j)) (fun j => ic_oc (ow j)) N (nI x) (nI i) := by
  intro N
  induction N with
  | zero => intro x i hx hi hN; omega
  | succ N ih =>
    intro x i hx hi hN h1 h0
    refine br_f (nI_ge (b := 32) (by omega) (by omega)) ?_
    by_cases e : x = t
    · exact br_t (congrArg nI e) (h1 (e ▸ ic_R0 _ _))
    · have hv := vp_in_nI (N := 32) (show x < 32 by omega) (by omega)
      have cx : (nI x).toNatClampNeg = x := nI_clamp (by omega)
      refine br_f (fun z => e ((nI_eq (by omega) (by omega)).mp z)) (br_f (nI_pos (by omega)) ?_)
      rw [cx]
      refine And.intro hv ?_
      by_cases hb : ln x < 16
      · obtain ⟨a, _, _⟩ := F x hx hb
        have s := ic_h_s F hx hb
        have e1 : ic_wc (ln x) = nI (ln x) := ic_wc_n hb
        have e2 : ic_oc (ow (ic_wc (ln x)).toNatClampNeg) = nI (ow (ln x)) := by
          rw [e1, nI_clamp (by omega)]; exact ic_oc_n (by omega)
        refine br_t (ic_wc_0.mpr hb) (And.intro hv (And.intro ?_ (nm_r e2 (nm_r (nI_1 i) (ih (ow (ln x)) (i + 1) a (by omega) (by omega) (fun r => h1 (ic_Rs (by rw [ic_nx_b hb]; exact r))) (fun r => h0 (fun z => ?_)))))))
        · show vp_in (ic_wc (ln x)) 16
          rw [e1]; exact vp_in_nI hb (by omega)
        · rcases ic_Rc z with w | w
          · exact e w
          · rw [ic_nx_b hb] at w; exact r w
      · exact br_f (fun z => hb (ic_wc_0.mp z)) (h0 (fun z => e (ic_Rroot hb z)))
theorem ic_yrc {post : Int32 → Prop} {x t : Nat} (hT : T ≤ 32) (F : ic_Fo T ln ow dp) (ht : t < T) (hx : x < T) (h1 : ic_R (ic_nx ln ow) x t → post 1) (h0 : ¬ ic_R (ic_nx ln ow) x t → post 0) : wpY_reaches post (nI T, nI M, nI P, fun j => ic_yb (ln j) (ba j), fun j => ic_wc (ln j), fun j => nI (lf j), yr, fun j => nI (od j), fun j => ic_oc (ow j)) (nI x) (nI t) := by
  have := ic_h_lt (ln := ln) (ow := ow) hx
  unfold wpY_reaches
  exact ⟨_, ic_yrc_loop hT F ht _ x 0 hx (by omega) (Nat.lt_succ_self _) h1 h0⟩
theorem ic_yef_loop {post : Int32 → Prop} {t : Nat} (K : ic_Yk T sl sz ln pl ba ef ar ow od po dp) (ht : t < T) (hl : ln t < 17) (hp : post (nI (ef t))) :
  ∀ d x v N, x + d = T → v ≤ 15 → ba t ≤ v → (∀ y, y < x → ln y < 17 → ic_R (ic_nx ln ow) y t → ba y ≤ v) → (v = ba t ∨ ∃ y, y < T ∧ ln y < 17 ∧ ic_R (ic_nx ln ow) y t ∧ v = ba y) → d < N → wY_effective_9 post (nI t) (nI T) (nI M) (nI P) (fun j => ic_yb (ln j) (ba j)) (fun j => ic_wc (ln j)) (fun j => nI (lf j)) yr (fun j => nI (od j)) (fun j => ic_oc (ow j)) N (nI v) (nI x) := by
  obtain ⟨hT, hL, hB, he, V, L, F, C, hPo, hAo⟩ := K
  intro d
  induction d with
  | zero =>
    intro x v N hx hv h1 h2 h3 hN
    have e : v = ef t := ic_mx F C ht hl h1 (fun y hy => h2 y (by omega)) h3
    cases N with
    | zero => omega
    | succ N => exact br_t (nI_le (by omega) (by omega)) (e ▸ hp)
  | succ d ih =>
    intro x v N hx hv h1 h2 h3 hN
    cases N with
    | zero => omega
    | succ N =>
      have hvx := vp_in_nI (N := 32) (show x < 32 by omega) (by omega)
      have cx : (nI x).toNatClampNeg = x := nI_clamp (by omega)
      have lx := hL x (by omega)
      have bx := hB x
      refine br_f (nI_ge (by omega) (by omega)) ?_
      rw [cx]
      refine And.intro hvx ?_
      by_cases hd : ln x = 17
      · have hle : ic_yb (ln x) (ba x) ≤ nI v := by rw [ic_yb_m hd]; exact ic_m1le (by omega)
        refine br_t hle (nm_r (nI_1 x) (ih (x + 1) v N (by omega) hv h1 (fun y hy hly => ?_) h3 (by omega)))
        have : y ≠ x := fun e => by rw [e] at hly; omega
        exact h2 y (by omega) hly
      · have e1 : ic_yb (ln x) (ba x) = nI (ba x) := ic_yb_n hd
        by_cases hle : ba x ≤ v
        · have hle' : ic_yb (ln x) (ba x) ≤ nI v := by rw [e1]; exact nI_le hle (by omega)
          refine br_t hle' (nm_r (nI_1 x) (ih (x + 1) v N (by omega) hv h1 (fun y hy hly hr => ?_) h3 (by omega)))
          by_cases e : y = x
          · rw [e]; exact hle
          · exact h2 y (by omega) hly hr
        · have hle' : ¬ ic_yb (ln x) (ba x) ≤ nI v := by rw [e1]; exact nI_ge (by omega) (by omega)
          refine br_f hle' (ic_yrc hT F ht (by omega) (fun r => br_f (by decide) ?_) (fun r => br_t rfl ?_))
          · refine And.intro hvx (nm_r e1 (nm_r (nI_1 x) (ih (x + 1) (ba x) N (by omega) bx (by omega) (fun y hy hly hr => ?_) (Or.inr ⟨x, by omega, by omega, r, rfl⟩) (by omega))))
            by_cases e : y = x
            · rw [e]; exact Nat.le_refl _
            · have := h2 y (by omega) hly hr; omega
          · refine nm_r (nI_1 x) (ih (x + 1) v N (by omega) hv h1 (fun y hy hly hr => ?_) h3 (by omega))
            by_cases e : y = x
            · rw [e] at hr; exact absurd hr r
            · exact h2 y (by omega) hly hr
theorem ic_yef {post : Int32 → Prop} {t : Nat} (K : ic_Yk T sl sz ln pl ba ef ar ow od po dp) (ht : t < T) (hl : ln t < 17) (hp : post (nI (ef t))) : wpY_effective post (nI T, nI M, nI P, fun j => ic_yb (ln j) (ba j), fun j => ic_wc (ln j), fun j => nI (lf j), yr, fun j => nI (od j), fun j => ic_oc (ow j)) (nI t) := by
  have hT := K.1
  have e1 : ic_yb (ln (nI t).toNatClampNeg) (ba (nI t).toNatClampNeg) = nI (ba t) := by
    rw [nI_clamp (by omega)]; exact ic_yb_n (by omega)
  have hB := K.2.2.1 t
  unfold wpY_effective
  exact And.intro (vp_in_nI (N := 32) (show t < 32 by omega) (by omega)) (nm_r e1 ⟨_, ic_yef_loop K ht hl hp T 0 (ba t) _ (by omega) hB (Nat.le_refl _) (fun y hy => by omega) (Or.inl rfl) (Nat.lt_succ_self _)⟩)
theorem ic_yea_loop {post : Int32 → Prop} {a b : Nat} (hP : ic_Po od po) (ha : a < 32) (hb : b < 32) (hab : a ≠ b) (h1 : po a < po b → post 1) (h0 : ¬ po a < po b → post 0) :
  ∀ d i N, i + d = 32 → i ≤ po a → i ≤ po b → d < N → wY_earlier_2 post (nI a) (nI b) (nI T) (nI M) (nI P) (fun j => ic_yb (ln j) (ba j)) (fun j => ic_wc (ln j)) (fun j => nI (lf j)) yr (fun j => nI (od j)) (fun j => ic_oc (ow j)) N (nI i) := by
  intro d
  have pa := hP.1 a ha
  have pb := hP.1 b hb
  induction d with
  | zero => intro i N hi hia hib; omega
  | succ d ih =>
    intro i N hi hia hib hN
    cases N with
    | zero => omega
    | succ N =>
      have hv := vp_in_nI (N := 32) (show i < 32 by omega) (by omega)
      have ci : (nI i).toNatClampNeg = i := nI_clamp (by omega)
      have oi := hP.2 i (by omega)
      refine br_f (nI_ge (b := 32) (by omega) (by omega)) ?_
      rw [ci]
      refine And.intro hv ?_
      by_cases ea : od i = a
      · have e : po a = i := by rw [← ea]; exact oi.2
        have ne : po a ≠ po b := fun z => hab (ic_Po_inj hP ha hb z)
        exact br_t (congrArg nI ea) (h1 (by omega))
      · refine br_f (fun z => ea ((nI_eq (by omega) (by omega)).mp z)) (And.intro hv ?_)
        by_cases eb : od i = b
        · have e : po b = i := by rw [← eb]; exact oi.2
          exact br_t (congrArg nI eb) (h0 (by omega))
        · refine br_f (fun z => eb ((nI_eq (by omega) (by omega)).mp z)) (nm_r (nI_1 i) (ih (i + 1) N (by omega) ?_ ?_ (by omega)))
          · have : i ≠ po a := fun z => ea (by rw [z]; exact pa.2)
            omega
          · have : i ≠ po b := fun z => eb (by rw [z]; exact pb.2)
            omega
theorem ic_yea {post : Int32 → Prop} {a b : Nat} (hP : ic_Po od po) (ha : a < 32) (hb : b < 32) (hab : a ≠ b) (h1 : po a < po b → post 1) (h0 : ¬ po a < po b → post 0) : wpY_earlier post (nI T, nI M, nI P, fun j => ic_yb (ln j) (ba j), fun j => ic_wc (ln j), fun j => nI (lf j), yr, fun j => nI (od j), fun j => ic_oc (ow j)) (nI a) (nI b) := by
  unfold wpY_earlier
  exact ⟨_, ic_yea_loop hP ha hb hab h1 h0 32 0 _ (by omega) (by omega) (by omega) (Nat.lt_succ_self _)⟩
def ic_Kr (ln ef ar : Nat → Nat) (t x : Nat) : Prop := x ≠ t ∧ ln x = ln t ∧ ic_pr ef ar x t
theorem ic_rank {t : Nat} (V : ic_LV T ln pl sl sz) (L : ic_LS ef ar sl sz) (ht : t < T) (hl : ln t < 17) : ic_cn (ic_Kr ln ef ar t) T = pl t := by
  have R := V (ln t) hl
  obtain ⟨t1, t2⟩ := R.2 t ht rfl
  have a := ic_count R (fun _ => True) (pl t) (by omega)
  rw [ic_cn_all] at a
  rw [← a]
  apply ic_cn_eq
  intro x hx
  constructor
  · rintro ⟨h1, h2, h3⟩
    obtain ⟨x1, x2⟩ := R.2 x hx h2
    refine ⟨h2, ?_, trivial⟩
    rcases Nat.lt_trichotomy (pl x) (pl t) with z | z | z
    · exact z
    · rw [z, t2] at x2; exact absurd x2.symm h1
    · have s := L (ln t) hl (pl t) (pl x) z x1
      rw [t2, x2] at s
      exact (ic_pr_as s h3).elim
  · rintro ⟨h1, h2, _⟩
    obtain ⟨x1, x2⟩ := R.2 x hx h1
    have s := L (ln t) hl (pl x) (pl t) h2 t1
    rw [t2, x2] at s
    exact ⟨fun e => by rw [e] at h2; omega, h1, s⟩
set_option maxHeartbeats 1000000 in
theorem ic_yrk_loop {post : Int32 → Prop} {t : Nat} (K : ic_Yk T sl sz ln pl ba ef ar ow od po dp) (ht : t < T) (hl : ln t < 17) (hp : post (nI (pl t))) :
  ∀ d x N, x + d = T → d < N → wY_rank_11 post (nI t) (nI (ef t)) (nI T) (nI M) (nI P) (fun j => ic_yb (ln j) (ba j)) (fun j => ic_wc (ln j)) (fun j => nI (lf j)) yr (fun j => nI (od j)) (fun j => ic_oc (ow j)) N (nI (ic_cn (ic_Kr ln ef ar t) x)) (nI x) := by
  have K' := K
  obtain ⟨hT, hL, hB, he, V, L, F, C, hPo, hAo⟩ := K'
  have ct : (nI t).toNatClampNeg = t := nI_clamp (by omega)
  intro d
  induction d with
  | zero =>
    intro x N hx hN
    have e : x = T := by omega
    subst e
    rw [ic_rank V L ht hl]
    cases N with
    | zero => omega
    | succ N => exact br_t (nI_le (by omega) (by omega)) hp
  | succ d ih =>
    intro x N hx hN
    cases N with
    | zero => omega
    | succ N =>
      have hvx := vp_in_nI (N := 32) (show x < 32 by omega) (by omega)
      have hvt := vp_in_nI (N := 32) (show t < 32 by omega) (by omega)
      have cx : (nI x).toNatClampNeg = x := nI_clamp (by omega)
      have lx := hL x (by omega)
      have hbx := hB x
      have ex := he x
      have et := he t
      have ih' := ih (x + 1) N (by omega) (by omega)
      have sk : ¬ ic_Kr ln ef ar t x → wY_rank_11 post (nI t) (nI (ef t)) (nI T) (nI M) (nI P) (fun j => ic_yb (ln j) (ba j)) (fun j => ic_wc (ln j)) (fun j => nI (lf j)) yr (fun j => nI (od j)) (fun j => ic_oc (ow j)) N (nI (ic_cn (ic_Kr ln ef ar t) x)) (nI (x + 1)) := by
        intro z
        rw [ic_cn_f z] at ih'
        exact ih'
      refine br_f (nI_ge (by omega) (by omega)) ?_
      rw [cx, ct]
      by_cases e : x = t
      · exact br_t (congrArg nI e) (nm_r (nI_1 x) (sk (fun z => z.1 e)))
      · refine br_f (fun z => e ((nI_eq (by omega) (by omega)).mp z)) (And.intro hvx ?_)
        by_cases hd : ln x = 17
        · exact br_t ((ic_yb_lt (by omega)).mpr hd) (nm_r (nI_1 x) (sk (fun z => by have := z.2.1; omega)))
        · refine br_f (fun z => hd ((ic_yb_lt (by omega)).mp z)) (And.intro hvx (And.intro hvt ?_))
          by_cases hq : ln x = ln t
          · refine br_t ((ic_wc_eq (by omega) hl).mpr hq) (ic_yef K (by omega) (by omega) ?_)
            by_cases g : ef t < ef x
            · have k : ic_Kr ln ef ar t x := ⟨e, hq, Or.inl g⟩
              rw [ic_cn_t k] at ih'
              exact br_t (nI_lt g (by omega)) (nm_r (nI_1 _) (nm_r (nI_1 x) ih'))
            · refine br_f (nI_nlt (by omega) (by omega)) ?_
              by_cases g2 : ef x = ef t
              · have ao := hAo x t (by omega) ht (by omega) hl
                refine br_t (congrArg nI g2) (ic_yea hPo (by omega) (by omega) e (fun w => br_f (by decide) ?_) (fun w => br_t rfl (nm_r (nI_1 x) (sk (fun z => ?_)))))
                · have k : ic_Kr ln ef ar t x := ⟨e, hq, Or.inr ⟨g2, ao.mpr w⟩⟩
                  rw [ic_cn_t k] at ih'
                  exact nm_r (nI_1 _) (nm_r (nI_1 x) ih')
                · rcases z.2.2 with y | y
                  · omega
                  · exact w (ao.mp y.2)
              · refine br_f (fun z => g2 ((nI_eq (by omega) (by omega)).mp z)) (nm_r (nI_1 x) (sk (fun z => ?_)))
                rcases z.2.2 with y | y
                · omega
                · exact g2 y.1
          · exact br_f (fun z => hq ((ic_wc_eq (by omega) hl).mp z)) (nm_r (nI_1 x) (sk (fun z => hq z.2.1)))
theorem ic_yrk {post : Int32 → Prop} {t : Nat} (K : ic_Yk T sl sz ln pl ba ef ar ow od po dp) (ht : t < T) (hl : ln t < 17) (hp : post (nI (pl t))) : wpY_rank post (nI T, nI M, nI P, fun j => ic_yb (ln j) (ba j), fun j => ic_wc (ln j), fun j => nI (lf j), yr, fun j => nI (od j), fun j => ic_oc (ow j)) (nI t) := by
  unfold wpY_rank
  exact ic_yef K ht hl ⟨_, ic_yrk_loop K ht hl hp T 0 _ (by omega) (Nat.lt_succ_self _)⟩
theorem ic_yrun {post : Int32 → Prop} {t : Nat} (K : ic_Yk T sl sz ln pl ba ef ar ow od po dp) (ht : t < T) (hP : P < 2 ^ 31) (h1 : ln t = 16 ∧ pl t < P → post 1) (h0 : ¬ (ln t = 16 ∧ pl t < P) → post 0) : wpY_running post (nI T, nI M, nI P, fun j => ic_yb (ln j) (ba j), fun j => ic_wc (ln j), fun j => nI (lf j), yr, fun j => nI (od j), fun j => ic_oc (ow j)) (nI t) := by
  have K' := K
  obtain ⟨hT, hL, hB, he, V, L, F, C, hPo, hAo⟩ := K'
  have ct : (nI t).toNatClampNeg = t := nI_clamp (by omega)
  have hv := vp_in_nI (N := 32) (show t < 32 by omega) (by omega)
  have lt := hL t ht
  have bt := hB t
  unfold wpY_running
  rw [ct]
  refine And.intro hv ?_
  by_cases hd : ln t = 17
  · exact br_t ((ic_yb_lt (by omega)).mpr hd) (h0 (fun z => by omega))
  · refine br_f (fun z => hd ((ic_yb_lt (by omega)).mp z)) (And.intro hv ?_)
    by_cases hb : ln t < 16
    · exact br_t (ic_wc_0.mpr hb) (h0 (fun z => by omega))
    · refine br_f (fun z => hb (ic_wc_0.mp z)) (ic_yrk K ht (by omega) ?_)
      have hp : pl t < T := Nat.lt_of_lt_of_le ((V (ln t) (by omega)).2 t ht rfl).1 (ic_sz_le (V (ln t) (by omega)))
      by_cases hle : P ≤ pl t
      · exact br_t (nI_le hle (by omega)) (h0 (fun z => by omega))
      · exact br_f (nI_ge (by omega) (by omega)) (h1 ⟨by omega, by omega⟩)
theorem ic_yma_loop {post : Int32 → Prop} {q k : Nat} (K : ic_Yk T sl sz ln pl ba ef ar ow od po dp) (hq : q < 17) (hk : k < 2 ^ 31) (h1 : k < sz q → post (nI (sl (32 * q + k)))) (h0 : ¬ k < sz q → post (-2)) :
  ∀ d x N, x + d = T → (∀ y, y < x → ln y = q → pl y ≠ k) → d < N → wY_memberAt_2 post (ic_wc q) (nI k) (nI T) (nI M) (nI P) (fun j => ic_yb (ln j) (ba j)) (fun j => ic_wc (ln j)) (fun j => nI (lf j)) yr (fun j => nI (od j)) (fun j => ic_oc (ow j)) N (nI x) := by
  have K' := K
  obtain ⟨hT, hL, hB, he, V, L, F, C, hPo, hAo⟩ := K'
  have R := V q hq
  intro d
  induction d with
  | zero =>
    intro x N hx hn hN
    cases N with
    | zero => omega
    | succ N =>
      refine br_t (nI_le (by omega) (by omega)) (h0 (fun z => ?_))
      obtain ⟨a, b, c⟩ := R.1 k z
      exact hn _ (by omega) b c
  | succ d ih =>
    intro x N hx hn hN
    cases N with
    | zero => omega
    | succ N =>
      have hvx := vp_in_nI (N := 32) (show x < 32 by omega) (by omega)
      have cx : (nI x).toNatClampNeg = x := nI_clamp (by omega)
      have lx := hL x (by omega)
      have hbx := hB x
      have sk : (ln x = q → pl x ≠ k) → wY_memberAt_2 post (ic_wc q) (nI k) (nI T) (nI M) (nI P) (fun j => ic_yb (ln j) (ba j)) (fun j => ic_wc (ln j)) (fun j => nI (lf j)) yr (fun j => nI (od j)) (fun j => ic_oc (ow j)) N (nI (x + 1)) := by
        intro z
        refine ih (x + 1) N (by omega) (fun y hy hly => ?_) (by omega)
        by_cases e : y = x
        · rw [e]; rw [e] at hly; exact z hly
        · exact hn y (by omega) hly
      refine br_f (nI_ge (by omega) (by omega)) ?_
      rw [cx]
      refine And.intro hvx ?_
      by_cases hd : ln x = 17
      · exact br_t ((ic_yb_lt (by omega)).mpr hd) (nm_r (nI_1 x) (sk (fun z => by omega)))
      · refine br_f (fun z => hd ((ic_yb_lt (by omega)).mp z)) (And.intro hvx ?_)
        by_cases hl : ln x = q
        · refine br_t ((ic_wc_eq (by omega) hq).mpr hl) (ic_yrk K (by omega) (by omega) ?_)
          obtain ⟨p1, p2⟩ := R.2 x (by omega) hl
          have p3 := ic_sz_le R
          by_cases e : pl x = k
          · refine br_t (congrArg nI e) ?_
            have := h1 (by omega)
            rw [← e, p2] at this
            exact this
          · exact br_f (fun z => e ((nI_eq (by omega) (by omega)).mp z)) (nm_r (nI_1 x) (sk (fun _ => e)))
        · exact br_f (fun z => hl ((ic_wc_eq (by omega) hq).mp z)) (nm_r (nI_1 x) (sk (fun z => absurd z hl)))
theorem ic_yma {post : Int32 → Prop} {q k : Nat} (K : ic_Yk T sl sz ln pl ba ef ar ow od po dp) (hq : q < 17) (hk : k < 2 ^ 31) (h1 : k < sz q → post (nI (sl (32 * q + k)))) (h0 : ¬ k < sz q → post (-2)) : wpY_memberAt post (nI T, nI M, nI P, fun j => ic_yb (ln j) (ba j), fun j => ic_wc (ln j), fun j => nI (lf j), yr, fun j => nI (od j), fun j => ic_oc (ow j)) (ic_wc q) (nI k) := by
  unfold wpY_memberAt
  exact ⟨_, ic_yma_loop K hq hk h1 h0 T 0 _ (by omega) (fun y hy => by omega) (Nat.lt_succ_self _)⟩
end
end
section
/-! the reference's order: t goes to the end -/
def ic_odf (od : Nat → Nat) (p i : Nat) : Nat → Nat := fun j => if p ≤ j ∧ j + 1 < i then od (j + 1) else od j
def ic_kp (p i : Nat) : Nat := if i ≤ p then i else i - 1
def ic_oda (od : Nat → Nat) (p t : Nat) : Nat → Nat := ic_ud (ic_odf od p 32) 31 t
def ic_poa (po : Nat → Nat) (t : Nat) : Nat → Nat := fun x => if x = t then 31 else if po x < po t then po x else po x - 1
theorem ic_odf_t {od : Nat → Nat} {p i j : Nat} (h : p ≤ j ∧ j + 1 < i) : ic_odf od p i j = od (j + 1) := if_pos h
theorem ic_odf_f {od : Nat → Nat} {p i j : Nat} (h : ¬ (p ≤ j ∧ j + 1 < i)) : ic_odf od p i j = od j := if_neg h
theorem ic_odf_0 (od : Nat → Nat) (p : Nat) : ic_odf od p 0 = od := by
  funext j; exact ic_odf_f (by omega)
theorem ic_odf_p (od : Nat → Nat) (p : Nat) : ic_odf od p (p + 1) = ic_odf od p p := by
  funext j; rw [ic_odf_f (by omega), ic_odf_f (by omega)]
theorem ic_odf_s (od : Nat → Nat) {p i : Nat} (h : i ≠ p) : ic_ud (ic_odf od p i) (ic_kp p i) (od i) = ic_odf od p (i + 1) := by
  funext j
  unfold ic_kp
  by_cases z : i ≤ p
  · rw [if_pos z]
    by_cases e : j = i
    · subst e; rw [ic_us, ic_odf_f (by omega)]
    · rw [ic_un e, ic_odf_f (by omega), ic_odf_f (by omega)]
  · rw [if_neg z]
    by_cases e : j = i - 1
    · rw [e, ic_us, ic_odf_t (by omega)]
      exact congrArg od (by omega)
    · rw [ic_un e]
      by_cases w : p ≤ j ∧ j + 1 < i
      · rw [ic_odf_t w, ic_odf_t (by omega)]
      · rw [ic_odf_f w, ic_odf_f (by omega)]
theorem ic_kp_s {p i : Nat} (h : i ≠ p) : ic_kp p i + 1 = ic_kp p (i + 1) := by
  unfold ic_kp
  by_cases z : i ≤ p
  · rw [if_pos z, if_pos (by omega)]
  · rw [if_neg z, if_neg (by omega)]; omega
theorem ic_kp_p (p : Nat) : ic_kp p (p + 1) = ic_kp p p := by
  unfold ic_kp
  rw [if_neg (by omega), if_pos (by omega)]; omega
theorem ic_kp_le (p i : Nat) : ic_kp p i ≤ i := by
  unfold ic_kp
  by_cases z : i ≤ p
  · rw [if_pos z]; omega
  · rw [if_neg z]; omega
theorem ic_poa_t (po : Nat → Nat) (t : Nat) : ic_poa po t t = 31 := if_pos rfl
theorem ic_poa_l {po : Nat → Nat} {t x : Nat} (h : x ≠ t) (l : po x < po t) : ic_poa po t x = po x := by
  unfold ic_poa; rw [if_neg h, if_pos l]
theorem ic_poa_g {po : Nat → Nat} {t x : Nat} (h : x ≠ t) (l : ¬ po x < po t) : ic_poa po t x = po x - 1 := by
  unfold ic_poa; rw [if_neg h, if_neg l]
theorem ic_Po_a {od po : Nat → Nat} {t : Nat} (h : ic_Po od po) (ht : t < 32) : ic_Po (ic_oda od (po t) t) (ic_poa po t) := by
  have pt := h.1 t ht
  refine ⟨fun x hx => ?_, fun i hi => ?_⟩
  · by_cases e : x = t
    · subst e; rw [ic_poa_t]
      exact ⟨by omega, ic_us⟩
    · have px := h.1 x hx
      have ne : po x ≠ po t := fun z => e (ic_Po_inj h hx ht z)
      by_cases l : po x < po t
      · rw [ic_poa_l e l]
        refine ⟨px.1, ?_⟩
        unfold ic_oda
        rw [ic_un (by omega), ic_odf_f (by omega)]
        exact px.2
      · rw [ic_poa_g e l]
        refine ⟨by omega, ?_⟩
        unfold ic_oda
        rw [ic_un (by omega), ic_odf_t (by omega)]
        have : po x - 1 + 1 = po x := by omega
        rw [this]
        exact px.2
  · by_cases e : i = 31
    · subst e
      have z : ic_oda od (po t) t 31 = t := ic_us
      rw [z, ic_poa_t]
      exact ⟨ht, rfl⟩
    · by_cases l : i < po t
      · have z : ic_oda od (po t) t i = od i := by
          unfold ic_oda; rw [ic_un e, ic_odf_f (by omega)]
        have oi := h.2 i hi
        have ne : od i ≠ t := fun w => by rw [w] at oi; omega
        rw [z, ic_poa_l ne (by omega)]
        exact oi
      · have z : ic_oda od (po t) t i = od (i + 1) := by
          unfold ic_oda; rw [ic_un e, ic_odf_t (by omega)]
        have oi := h.2 (i + 1) (by omega)
        have ne : od (i + 1) ≠ t := fun w => by rw [w] at oi; omega
        rw [z, ic_poa_g ne (by omega)]
        exact ⟨oi.1, by omega⟩
theorem ic_Ao_a {T c : Nat} {ln ar od po : Nat → Nat} {t q : Nat} (h : ic_Ao T ln ar po) (hP : ic_Po od po) (hT : T ≤ 32) (ht : t < T) (har : ∀ x, ar x ≤ c) : ic_Ao T (ic_ud ln t q) (ic_ud ar t (c + 1)) (ic_poa po t) := by
  have pt := hP.1 t (by omega)
  intro x y hx hy hlx hly
  have px := hP.1 x (by omega)
  have py := hP.1 y (by omega)
  have ax := har x
  have ay := har y
  by_cases ex : x = t
  · subst ex
    by_cases ey : y = x
    · subst ey; exact ⟨fun z => absurd z (Nat.lt_irrefl _), fun z => absurd z (Nat.lt_irrefl _)⟩
    · have ne : po y ≠ po x := fun z => ey (ic_Po_inj hP (by omega) (by omega) z)
      rw [ic_us, ic_un ey, ic_poa_t]
      by_cases l : po y < po x
      · rw [ic_poa_l ey l]; omega
      · rw [ic_poa_g ey l]; omega
  · have nx : po x ≠ po t := fun z => ex (ic_Po_inj hP (by omega) (by omega) z)
    by_cases ey : y = t
    · subst ey
      rw [ic_us, ic_un ex, ic_poa_t]
      by_cases l : po x < po y
      · rw [ic_poa_l ex l]; omega
      · rw [ic_poa_g ex l]; omega
    · have ny : po y ≠ po t := fun z => ey (ic_Po_inj hP (by omega) (by omega) z)
      rw [ic_un ex] at hlx
      rw [ic_un ey] at hly
      rw [ic_un ex, ic_un ey]
      have o := h x y hx hy hlx hly
      by_cases l : po x < po t
      · rw [ic_poa_l ex l]
        by_cases k : po y < po t
        · rw [ic_poa_l ey k]; exact o
        · rw [ic_poa_g ey k]; omega
      · rw [ic_poa_g ex l]
        by_cases k : po y < po t
        · rw [ic_poa_l ey k]; omega
        · rw [ic_poa_g ey k]; omega
section
variable {T M P : Nat} {ln ba lf ow od po : Nat → Nat} {yr : Nat → Int32}
set_option maxHeartbeats 1000000 in
theorem ic_yar_loop {post : SY → Prop} {t : Nat} (hP : ic_Po od po) (ht : t < 32) (h : post (nI T, nI M, nI P, fun j => ic_yb (ln j) (ba j), fun j => ic_wc (ln j), fun j => nI (lf j), yr, fun j => nI ((ic_oda od (po t) t) j), fun j => ic_oc (ow j))) :
  ∀ d i N, i + d = 32 → d < N → wY_arrive_4 post (nI t) (nI T) (nI M) (nI P) N (nI (ic_kp (po t) i)) (nI i) (fun j => ic_yb (ln j) (ba j)) (fun j => ic_wc (ln j)) (fun j => nI (lf j)) yr (fun j => nI ((ic_odf od (po t) i) j)) (fun j => ic_oc (ow j)) := by
  have pt := hP.1 t ht
  intro d
  induction d with
  | zero =>
    intro i N hi hN
    have e : i = 32 := by omega
    subst e
    cases N with
    | zero => omega
    | succ N => exact br_t (nI_le (a := 32) (b := 32) (by omega) (by omega)) (nm_r (ic_upN _ _ _) h)
  | succ d ih =>
    intro i N hi hN
    cases N with
    | zero => omega
    | succ N =>
      have hv := vp_in_nI (N := 32) (show i < 32 by omega) (by omega)
      have ci : (nI i).toNatClampNeg = i := nI_clamp (by omega)
      have oi := hP.2 i (by omega)
      have kl := ic_kp_le (po t) i
      have ck : (nI (ic_kp (po t) i)).toNatClampNeg = ic_kp (po t) i := nI_clamp (by omega)
      have rd : ic_odf od (po t) i i = od i := ic_odf_f (by omega)
      have ih' := ih (i + 1) N (by omega) (by omega)
      refine br_f (nI_ge (b := 32) (by omega) (by omega)) ?_
      rw [ci]
      refine And.intro hv ?_
      by_cases e : i = po t
      · have r2 : nI (ic_odf od (po t) i i) = nI t := by rw [rd, e, pt.2]
        have e1 : ic_odf od (po t) (i + 1) = ic_odf od (po t) i := by rw [e]; exact ic_odf_p od (po t)
        have e2 : ic_kp (po t) (i + 1) = ic_kp (po t) i := by rw [e]; exact ic_kp_p (po t)
        rw [e1, e2] at ih'
        exact br_t r2 (nm_r (nI_1 i) ih')
      · have r2 : ¬ nI (ic_odf od (po t) i i) = nI t := by
          rw [rd]
          intro z
          have w := (nI_eq (by omega) (by omega)).mp z
          rw [w] at oi
          exact e oi.2.symm
        have up : upd (fun j => nI (ic_odf od (po t) i j)) (nI (ic_kp (po t) i)).toNatClampNeg (nI (ic_odf od (po t) i i)) = fun j => nI (ic_odf od (po t) (i + 1) j) := by
          rw [ck, rd, ic_upN, ic_odf_s od e]
        rw [← ic_kp_s e] at ih'
        exact br_f r2 (And.intro hv (And.intro (vp_in_nI (N := 32) (by omega) (by omega)) (nm_r up (nm_r (nI_1 _) (nm_r (nI_1 i) ih')))))
theorem ic_yar {post : SY → Prop} {t : Nat} (hP : ic_Po od po) (ht : t < 32) (h : post (nI T, nI M, nI P, fun j => ic_yb (ln j) (ba j), fun j => ic_wc (ln j), fun j => nI (lf j), yr, fun j => nI ((ic_oda od (po t) t) j), fun j => ic_oc (ow j))) : wpY_arrive post (nI T, nI M, nI P, fun j => ic_yb (ln j) (ba j), fun j => ic_wc (ln j), fun j => nI (lf j), yr, fun j => nI (od j), fun j => ic_oc (ow j)) (nI t) := by
  have a := ic_yar_loop hP ht h 32 0 33 (by omega) (by omega)
  have k0 : ic_kp (po t) 0 = 0 := if_pos (by omega)
  rw [ic_odf_0, k0] at a
  unfold wpY_arrive
  exact ⟨33, a⟩
theorem ic_yb_mv {t l : Nat} (h1 : ln t ≠ 17) (h2 : l ≠ 17) : (fun j => ic_yb (ic_ud ln t l j) (ba j)) = fun j => ic_yb (ln j) (ba j) := by
  funext j
  by_cases e : j = t
  · subst e; rw [ic_us, ic_yb_n h1, ic_yb_n h2]
  · rw [ic_un e]
theorem ic_yw {post : SY → Prop} {t : Nat} {how : Int32} (hP : ic_Po od po) (ht : t < 32) (hl : ln t ≠ 17) (h : post (nI T, nI M, nI P, fun j => ic_yb ((ic_ud ln t 16) j) (ba j), fun j => ic_wc ((ic_ud ln t 16) j), fun j => nI ((ic_ud lf t 0) j), (upd yr t how), fun j => nI ((ic_oda od (po t) t) j), fun j => ic_oc (ow j))) : wpY_wake post (nI T, nI M, nI P, fun j => ic_yb (ln j) (ba j), fun j => ic_wc (ln j), fun j => nI (lf j), yr, fun j => nI (od j), fun j => ic_oc (ow j)) (nI t) how := by
  have ct : (nI t).toNatClampNeg = t := nI_clamp (by omega)
  have hv := vp_in_nI (N := 32) ht (by omega)
  have e1 : upd (fun j => ic_wc (ln j)) (nI t).toNatClampNeg (-1) = fun j => ic_wc (ic_ud ln t 16 j) := by rw [ct]; exact ic_upG ic_wc ln t 16
  have e2 : upd (fun j => nI (lf j)) (nI t).toNatClampNeg 0 = fun j => nI (ic_ud lf t 0 j) := by rw [ct]; exact ic_upN lf t 0
  have e3 : upd yr (nI t).toNatClampNeg how = upd yr t how := by rw [ct]
  rw [ic_yb_mv hl (by omega)] at h
  unfold wpY_wake
  refine And.intro hv (nm_r e1 (And.intro hv (nm_r e2 (And.intro hv (nm_r e3 ?_)))))
  have z := ic_yb_mv (ba := ba) (l := 16) hl (by omega)
  have a := ic_yar (T := T) (M := M) (P := P) (ln := ic_ud ln t 16) (ba := ba) (lf := ic_ud lf t 0) (yr := upd yr t how) (ow := ow) (post := post) hP ht
  rw [z] at a
  exact a h
end
end
section
/-! the invariant and the relation -/
def ic_Ow (T M : Nat) (ln ow : Nat → Nat) : Prop := ∀ m, m < 16 → ow m = 32 ∨ (ow m < T ∧ m < M ∧ ln (ow m) < 17)
def ic_Lf (T : Nat) (ln lf : Nat → Nat) : Prop := (∀ x, lf x ≤ 100) ∧ ∀ x, x < T → ¬ ln x < 16 → lf x = 0
def ic_Re (T : Nat) (ln : Nat → Nat) (rs yr : Nat → Int32) : Prop := ∀ t, t < T → ln t < 17 → rs t = yr t
def ic_Inv (T M P c : Nat) (sl sz ln pl ba ef lf nw ar ow od po dp : Nat → Nat) (rs yr : Nat → Int32) : Prop :=
  (2 ≤ T ∧ 1 ≤ M ∧ 1 ≤ P ∧ P ≤ 8) ∧ ic_St T M c ln ow nw ar ba dp ∧ (∀ x, ef x ≤ 15) ∧ ic_LV T ln pl sl sz ∧ ic_LS ef ar sl sz ∧ ic_Co T ln ow ba ef (fun _ => False) ∧ ic_Po od po ∧ ic_Ao T ln ar po ∧ ic_Ow T M ln ow ∧ ic_Lf T ln lf ∧ ic_Re T ln rs yr
def i_Rel (k : Nat) (u : SX) (v : SY) : Prop := ∃ (T M P c : Nat) (sl sz ln pl ba ef lf nw ar ow od po dp : Nat → Nat) (rs yr : Nat → Int32), u = (16, 32, (-1), (-1), 15, 100, nI T, nI M, nI P, lN c, fun j => nI (sl j), fun j => nI (sz j), fun j => ic_lc (ln j), fun j => nI (pl j), fun j => nI (ba j), fun j => nI (ef j), rs, fun j => nI (lf j), fun j => nI (nw j), fun j => lN (ar j), fun j => ic_oc (ow j)) ∧ v = (nI T, nI M, nI P, fun j => ic_yb (ln j) (ba j), fun j => ic_wc (ln j), fun j => nI (lf j), yr, fun j => nI (od j), fun j => ic_oc (ow j)) ∧ c ≤ 1000 * k ∧ ic_Inv T M P c sl sz ln pl ba ef lf nw ar ow od po dp rs yr
theorem ic_el {k : Nat} {u : SX} {v : SY} {Q : SX → SY → Prop} (h : ∀ (T M P c : Nat) (sl sz ln pl ba ef lf nw ar ow od po dp : Nat → Nat) (rs yr : Nat → Int32), c ≤ 1000 * k → ic_Inv T M P c sl sz ln pl ba ef lf nw ar ow od po dp rs yr → Q (16, 32, (-1), (-1), 15, 100, nI T, nI M, nI P, lN c, fun j => nI (sl j), fun j => nI (sz j), fun j => ic_lc (ln j), fun j => nI (pl j), fun j => nI (ba j), fun j => nI (ef j), rs, fun j => nI (lf j), fun j => nI (nw j), fun j => lN (ar j), fun j => ic_oc (ow j)) (nI T, nI M, nI P, fun j => ic_yb (ln j) (ba j), fun j => ic_wc (ln j), fun j => nI (lf j), yr, fun j => nI (od j), fun j => ic_oc (ow j))) (I : i_Rel k u v) : Q u v := by
  obtain ⟨T, M, P, c, sl, sz, ln, pl, ba, ef, lf, nw, ar, ow, od, po, dp, rs, yr, eu, ev, hc, hI⟩ := I
  rw [eu, ev]
  exact h T M P c sl sz ln pl ba ef lf nw ar ow od po dp rs yr hc hI
section
variable {T M P c : Nat} {sl sz ln pl ba ef lf nw ar ow od po dp : Nat → Nat} {rs yr : Nat → Int32}
theorem ic_in {k : Nat} (hc : c ≤ 1000 * k) (I : ic_Inv T M P c sl sz ln pl ba ef lf nw ar ow od po dp rs yr) : i_Rel k (16, 32, (-1), (-1), 15, 100, nI T, nI M, nI P, lN c, fun j => nI (sl j), fun j => nI (sz j), fun j => ic_lc (ln j), fun j => nI (pl j), fun j => nI (ba j), fun j => nI (ef j), rs, fun j => nI (lf j), fun j => nI (nw j), fun j => lN (ar j), fun j => ic_oc (ow j)) (nI T, nI M, nI P, fun j => ic_yb (ln j) (ba j), fun j => ic_wc (ln j), fun j => nI (lf j), yr, fun j => nI (od j), fun j => ic_oc (ow j)) :=
  ⟨T, M, P, c, sl, sz, ln, pl, ba, ef, lf, nw, ar, ow, od, po, dp, rs, yr, rfl, rfl, hc, I⟩
end
theorem i_up {k : Nat} {u : SX} {v : SY} (h : i_Rel k u v) : i_Rel (k + 4) u v :=
  ic_el (Q := fun u v => i_Rel (k + 4) u v) (fun _ _ _ _ _ _ _ _ _ _ _ _ _ _ _ _ _ _ _ hc I => ic_in (by omega) I) h
section
variable {T M P c : Nat} {sl sz ln pl ba ef lf nw ar ow od po dp : Nat → Nat} {rs yr : Nat → Int32}
theorem ic_yk (I : ic_Inv T M P c sl sz ln pl ba ef lf nw ar ow od po dp rs yr) : ic_Yk T sl sz ln pl ba ef ar ow od po dp := by
  obtain ⟨_, ⟨hT, hM, hcc, har, hd, F, hL, hO, hW, hN, hB⟩, he, V, L, C, hPo, hAo, hOw, hLf, hRs⟩ := I
  exact ⟨hT, hL, hB, he, V, L, F, C, hPo, hAo⟩
theorem ic_udud (f : Nat → Nat) (k a b : Nat) : ic_ud (ic_ud f k a) k b = ic_ud f k b := by
  funext j
  by_cases e : j = k
  · subst e; rw [ic_us, ic_us]
  · rw [ic_un e, ic_un e, ic_un e]
theorem ic_ud_id {f : Nat → Nat} {k v : Nat} (h : f k = v) : ic_ud f k v = f := by
  funext j
  by_cases e : j = k
  · subst e; rw [ic_us, h]
  · rw [ic_un e]
theorem ic_ud_le {f : Nat → Nat} {k v b : Nat} (h : ∀ x, f x ≤ b) (hv : v ≤ b) : ∀ x, ic_ud f k v x ≤ b := by
  intro x
  by_cases e : x = k
  · rw [e, ic_us]; exact hv
  · rw [ic_un e]; exact h x
theorem ic_AD_mv {t q : Nat} (har : ∀ x, ar x ≤ c) (hd : ic_AD T ln ar) : ic_AD T (ic_ud ln t q) (ic_ud ar t (c + 1)) := by
  intro x y hx hy hlx hly hne
  by_cases ex : x = t
  · subst ex
    rw [ic_us, ic_un (fun e => hne e.symm)]
    have := har y; omega
  · by_cases ey : y = t
    · subst ey
      rw [ic_us, ic_un ex]
      have := har x; omega
    · rw [ic_un ex] at hlx
      rw [ic_un ey] at hly
      rw [ic_un ex, ic_un ey]
      exact hd x y hx hy hlx hly hne
theorem ic_AD_lv {t : Nat} (hd : ic_AD T ln ar) : ic_AD T (ic_ud ln t 17) ar := by
  intro x y hx hy hlx hly hne
  have ex : x ≠ t := by
    intro e; rw [e, ic_us] at hlx; omega
  have ey : y ≠ t := by
    intro e; rw [e, ic_us] at hly; omega
  rw [ic_un ex] at hlx
  rw [ic_un ey] at hly
  exact hd x y hx hy hlx hly hne
theorem ic_St_mv {t l : Nat} {ba' dp' : Nat → Nat} (D : ic_St T M c ln ow nw ar ba dp) (hc : c + 1 < 2 ^ 31) (hl : l = 16 ∨ l < M) (hB' : ∀ x, ba' x ≤ 15) (F' : ic_Fo T (ic_ud ln t l) ow dp') : ic_St T M (c + 1) (ic_ud ln t l) ow nw (ic_ud ar t (c + 1)) ba' dp' := by
  obtain ⟨hT, hM, hcc, har, hd, F, hL, hO, hW, hN, hB⟩ := D
  refine ⟨hT, hM, hc, ic_ud_le (fun x => Nat.le_succ_of_le (har x)) (Nat.le_refl _), ic_AD_mv har hd, F', fun x hx => ?_, hO, fun x hx => ?_, hN, hB'⟩
  · by_cases e : x = t
    · rw [e, ic_us]; omega
    · rw [ic_un e]; exact hL x hx
  · by_cases e : x = t
    · rw [e, ic_us]; omega
    · rw [ic_un e]; exact hW x hx
theorem ic_Ow_mv {t l : Nat} (h : ic_Ow T M ln ow) (hl : l < 17) : ic_Ow T M (ic_ud ln t l) ow := by
  intro m hm
  rcases h m hm with z | ⟨a, b, d⟩
  · exact Or.inl z
  · refine Or.inr ⟨a, b, ?_⟩
    by_cases e : ow m = t
    · rw [e, ic_us]; exact hl
    · rw [ic_un e]; exact d
theorem ic_Inv_mv {t l : Nat} {sl' sz' pl' ba' ef' lf' dp' : Nat → Nat} {rs' yr' : Nat → Int32} (I : ic_Inv T M P c sl sz ln pl ba ef lf nw ar ow od po dp rs yr) (hc : c + 1 < 2 ^ 31) (ht : t < T) (hl : l = 16 ∨ l < M) (hB' : ∀ x, ba' x ≤ 15) (F' : ic_Fo T (ic_ud ln t l) ow dp') (he' : ∀ x, ef' x ≤ 15) (V' : ic_LV T (ic_ud ln t l) pl' sl' sz') (L' : ic_LS ef' (ic_ud ar t (c + 1)) sl' sz') (C' : ic_Co T (ic_ud ln t l) ow ba' ef' (fun _ => False)) (hLf' : ic_Lf T (ic_ud ln t l) lf') (hRs' : ic_Re T (ic_ud ln t l) rs' yr') :
  ic_Inv T M P (c + 1) sl' sz' (ic_ud ln t l) pl' ba' ef' lf' nw (ic_ud ar t (c + 1)) ow (ic_oda od (po t) t) (ic_poa po t) dp' rs' yr' := by
  obtain ⟨h0, D, he, V, L, C, hPo, hAo, hOw, hLf, hRs⟩ := I
  have D' := ic_St_mv D hc hl hB' F'
  obtain ⟨hT, hM, hcc, har, hd, F, hL, hO, hW, hN, hB⟩ := D
  exact ⟨h0, D', he', V', L', C', ic_Po_a hPo (by omega), ic_Ao_a hAo hPo hT ht har, ic_Ow_mv hOw (by omega), hLf', hRs'⟩
theorem ic_Lf_w {t : Nat} (h : ic_Lf T ln lf) : ic_Lf T (ic_ud ln t 16) (ic_ud lf t 0) := by
  refine ⟨ic_ud_le h.1 (by omega), fun x hx hl => ?_⟩
  by_cases e : x = t
  · rw [e, ic_us]
  · rw [ic_un e] at hl
    rw [ic_un e]
    exact h.2 x hx hl
theorem ic_Lf_b {t m r : Nat} (h : ic_Lf T ln lf) (hm : m < 16) (hr : r ≤ 100) : ic_Lf T (ic_ud ln t m) (ic_ud lf t r) := by
  refine ⟨ic_ud_le h.1 hr, fun x hx hl => ?_⟩
  by_cases e : x = t
  · rw [e, ic_us] at hl; omega
  · rw [ic_un e] at hl
    rw [ic_un e]
    exact h.2 x hx hl
theorem ic_Re_w {t l : Nat} {how : Int32} (h : ic_Re T ln rs yr) : ic_Re T (ic_ud ln t l) (upd rs t how) (upd yr t how) := by
  intro x hx hl
  by_cases e : x = t
  · rw [e, pk_us, pk_us]
  · rw [ic_un e] at hl
    rw [pk_un e, pk_un e]
    exact h x hx hl
theorem ic_Re_mv {t l : Nat} (h : ic_Re T ln rs yr) (ht : ln t < 17) : ic_Re T (ic_ud ln t l) rs yr := by
  intro x hx hl
  by_cases e : x = t
  · rw [e] at hx; rw [e]; exact h t hx ht
  · rw [ic_un e] at hl
    exact h x hx hl
theorem ic_live_mv {t l y : Nat} (hl : l < 17) (hy : ln y < 17) : ic_ud ln t l y < 17 := by
  by_cases e : y = t
  · rw [e, ic_us]; exact hl
  · rw [ic_un e]; exact hy
/-! X: a wait ends -/
set_option maxHeartbeats 1000000 in
theorem ic_xew {t : Nat} {how : Int32} (D : ic_St T M c ln ow nw ar ba dp) (hc : c + 1 < 2 ^ 31) (he : ∀ x, ef x ≤ 15) (V : ic_LV T ln pl sl sz) (L : ic_LS ef ar sl sz) (C : ic_Co T ln ow ba ef (fun _ => False)) (ht : t < T) (hb : ln t < 16) :
  ∃ (sl' pl' ef' sz' : Nat → Nat), (∀ x, ef' x ≤ 15) ∧ ic_LV T (ic_ud ln t 16) pl' sl' sz' ∧ ic_LS ef' (ic_ud ar t (c + 1)) sl' sz' ∧ ic_Co T (ic_ud ln t 16) ow ba ef' (fun _ => False) ∧ (∀ y, ¬ ic_R (ic_nx (ic_ud ln t 16) ow) (ow (ln t)) y → ef' y = ef y) ∧
  ∀ (post : SX → Prop), post (16, 32, (-1), (-1), 15, 100, nI T, nI M, nI P, lN (c + 1), fun j => nI (sl' j), fun j => nI (sz' j), fun j => ic_lc ((ic_ud ln t 16) j), fun j => nI (pl' j), fun j => nI (ba j), fun j => nI (ef' j), (upd rs t how), fun j => nI ((ic_ud lf t 0) j), fun j => nI (nw j), fun j => lN ((ic_ud ar t (c + 1)) j), fun j => ic_oc (ow j)) → wpX_endWait post (16, 32, (-1), (-1), 15, 100, nI T, nI M, nI P, lN c, fun j => nI (sl j), fun j => nI (sz j), fun j => ic_lc (ln j), fun j => nI (pl j), fun j => nI (ba j), fun j => nI (ef j), rs, fun j => nI (lf j), fun j => nI (nw j), fun j => lN (ar j), fun j => ic_oc (ow j)) (nI t) how := by
  obtain ⟨hT, hM, hcc, har, hd, F, hL, hO, hW, hN, hB⟩ := id D
  obtain ⟨sl1, pl1, V1, L1, W1⟩ := ic_lv (M := M) (P := P) (c := c) (ba := ba) (lf := lf) (nw := nw) (ow := ow) (rs := rs) hT V L ht rfl (by omega)
  obtain ⟨sl2, pl2, V2, L2, W2⟩ := ic_ar (M := M) (P := P) (ba := ba) (lf := ic_ud lf t 0) (nw := nw) (ow := ow) (rs := upd rs t how) (q := 16) hT hc he har (ic_AD_lv hd) V1 L1 ht ic_us (by omega)
  rw [ic_udud ln t] at V2 W2
  have D' := ic_St_mv (t := t) D hc (Or.inl rfl) hB (ic_Fo_sub F rfl)
  have C' : ic_Co T (ic_ud ln t 16) ow ba ef (fun y => y = ow (ln t) ∨ False) := ic_Co_mv C (fun _ z => z.elim) (by omega) (fun _ => Or.inl rfl) (fun z => absurd z (by omega))
  obtain ⟨y1, y2, y3⟩ := F t ht hb
  obtain ⟨sl3, pl3, ef3, g1, g2, g3, g4, g5, g6⟩ := ic_rf (Z := fun _ => False) (P := P) (lf := ic_ud lf t 0) (rs := upd rs t how) D' y1 (ic_live_mv (by omega) y3) he V2 L2 C'
  refine ⟨sl3, pl3, ef3, _, g1, g2, g3, g4, g5, fun post h => ?_⟩
  have hv := vp_in_nI (N := 32) (show t < 32 by omega) (by omega)
  have ct : (nI t).toNatClampNeg = t := nI_clamp (by omega)
  have e1 : upd (fun j => nI (lf j)) (nI t).toNatClampNeg 0 = fun j => nI (ic_ud lf t 0 j) := by rw [ct]; exact ic_upN lf t 0
  have e2 : upd rs (nI t).toNatClampNeg how = upd rs t how := by rw [ct]
  unfold wpX_endWait
  refine ic_xnx (by omega) (by omega) (fun _ => ?_) (fun z => absurd hb z)
  rw [ic_oc_n (show ow (ln t) ≠ 32 by omega)]
  exact W1 _ (And.intro hv (nm_r e1 (And.intro hv (nm_r e2 (W2 _ (g6 _ h))))))
theorem ic_ew {t : Nat} {how : Int32} (I : ic_Inv T M P c sl sz ln pl ba ef lf nw ar ow od po dp rs yr) (hc : c + 1 < 2 ^ 31) (ht : t < T) (hb : ln t < 16) :
  ∃ (sl' pl' ef' sz' : Nat → Nat), ic_Inv T M P (c + 1) sl' sz' (ic_ud ln t 16) pl' ba ef' (ic_ud lf t 0) nw (ic_ud ar t (c + 1)) ow (ic_oda od (po t) t) (ic_poa po t) dp (upd rs t how) (upd yr t how) ∧
  (∀ (post : SX → Prop), post (16, 32, (-1), (-1), 15, 100, nI T, nI M, nI P, lN (c + 1), fun j => nI (sl' j), fun j => nI (sz' j), fun j => ic_lc ((ic_ud ln t 16) j), fun j => nI (pl' j), fun j => nI (ba j), fun j => nI (ef' j), (upd rs t how), fun j => nI ((ic_ud lf t 0) j), fun j => nI (nw j), fun j => lN ((ic_ud ar t (c + 1)) j), fun j => ic_oc (ow j)) → wpX_endWait post (16, 32, (-1), (-1), 15, 100, nI T, nI M, nI P, lN c, fun j => nI (sl j), fun j => nI (sz j), fun j => ic_lc (ln j), fun j => nI (pl j), fun j => nI (ba j), fun j => nI (ef j), rs, fun j => nI (lf j), fun j => nI (nw j), fun j => lN (ar j), fun j => ic_oc (ow j)) (nI t) how) ∧
  (∀ (post : SY → Prop), post (nI T, nI M, nI P, fun j => ic_yb ((ic_ud ln t 16) j) (ba j), fun j => ic_wc ((ic_ud ln t 16) j), fun j => nI ((ic_ud lf t 0) j), (upd yr t how), fun j => nI ((ic_oda od (po t) t) j), fun j => ic_oc (ow j)) → wpY_wake post (nI T, nI M, nI P, fun j => ic_yb (ln j) (ba j), fun j => ic_wc (ln j), fun j => nI (lf j), yr, fun j => nI (od j), fun j => ic_oc (ow j)) (nI t) how) := by
  obtain ⟨h0, D, he, V, L, C, hPo, hAo, hOw, hLf, hRs⟩ := id I
  obtain ⟨sl', pl', ef', sz', a1, a2, a3, a4, a5, a6⟩ := ic_xew (P := P) (lf := lf) (rs := rs) (how := how) D hc he V L C ht hb
  have hT := D.1
  exact ⟨sl', pl', ef', sz', ic_Inv_mv I hc ht (Or.inl rfl) D.2.2.2.2.2.2.2.2.2.2 (ic_Fo_sub D.2.2.2.2.2.1 rfl) a1 a2 a3 a4 (ic_Lf_w hLf) (ic_Re_w hRs), a6, fun post h => ic_yw hPo (by omega) (by omega) h⟩
/-! the owner of a mutex without waiters changes -/
theorem ic_Inv_own {m z : Nat} {nw' : Nat → Nat} (I : ic_Inv T M P c sl sz ln pl ba ef lf nw ar ow od po dp rs yr) (hm : m < M) (hno : ∀ x, x < T → ln x ≠ m) (hz : z = 32 ∨ (z < T ∧ ln z < 17)) (hN' : ∀ x, x < T → nw' x = ic_cn (fun j => ic_ud ow m z j = x) M) :
  ic_Inv T M P c sl sz ln pl ba ef lf nw' ar (ic_ud ow m z) od po dp rs yr := by
  obtain ⟨h0, ⟨hT, hM, hcc, har, hd, F, hL, hO, hW, hN, hB⟩, he, V, L, C, hPo, hAo, hOw, hLf, hRs⟩ := I
  refine ⟨h0, ⟨hT, hM, hcc, har, hd, ic_Fo_take F hno, hL, ?_, hW, hN', hB⟩, he, V, L, ?_, hPo, hAo, ?_, hLf, hRs⟩
  · intro j hj
    by_cases e : j = m
    · rw [e, ic_us]; omega
    · rw [ic_un e]; exact hO j hj
  · intro y hy hl hs
    refine ic_IC_E (C y hy hl hs) rfl (fun x => ?_) (fun _ _ => rfl)
    unfold ic_E
    constructor
    · rintro ⟨a, b, d⟩
      rw [ic_un (hno x a)] at d
      exact ⟨a, b, d⟩
    · rintro ⟨a, b, d⟩
      rw [ic_un (hno x a)]
      exact ⟨a, b, d⟩
  · intro j hj
    by_cases e : j = m
    · rw [e, ic_us]
      rcases hz with w | w
      · exact Or.inl w
      · exact Or.inr ⟨w.1, hm, w.2⟩
    · rw [ic_un e]; exact hOw j hj
theorem ic_cnow {m z : Nat} (hm : m < M) (hz : z ≠ ow m) : ic_cn (fun j => ic_ud ow m z j = z) M = ic_cn (fun j => ow j = z) M + 1 ∧ ic_cn (fun j => ow j = ow m) M = ic_cn (fun j => ic_ud ow m z j = ow m) M + 1 ∧ ∀ x, x ≠ z → x ≠ ow m → ic_cn (fun j => ic_ud ow m z j = x) M = ic_cn (fun j => ow j = x) M := by
  refine ⟨?_, ?_, fun x hx hx2 => ?_⟩
  · rw [← ic_cn_add (P := fun j => ow j = z) (a := m) (fun e => hz e.symm) hm]
    apply ic_cn_eq
    intro j _
    by_cases e : j = m
    · subst e; rw [ic_us]; exact ⟨fun _ => Or.inr rfl, fun _ => rfl⟩
    · rw [ic_un e]; exact ⟨Or.inl, fun w => w.elim id (fun q => absurd q e)⟩
  · rw [← ic_cn_add (P := fun j => ic_ud ow m z j = ow m) (a := m) (fun e => by rw [ic_us] at e; exact hz e) hm]
    apply ic_cn_eq
    intro j _
    by_cases e : j = m
    · subst e; exact ⟨fun _ => Or.inr rfl, fun _ => rfl⟩
    · rw [ic_un e]; exact ⟨Or.inl, fun w => w.elim id (fun q => absurd q e)⟩
  · apply ic_cn_eq
    intro j _
    by_cases e : j = m
    · subst e; rw [ic_us]; exact ⟨fun q => absurd q.symm hx, fun q => absurd q.symm hx2⟩
    · rw [ic_un e]
theorem ic_nw_take {t m : Nat} (hT : T ≤ 32) (hN : ∀ x, x < T → nw x = ic_cn (fun j => ow j = x) M) (hm : m < M) (ho : ow m = 32) (ht : t < T) : ∀ x, x < T → ic_ud nw t (nw t + 1) x = ic_cn (fun j => ic_ud ow m t j = x) M := by
  intro x hx
  obtain ⟨a, b, d⟩ := ic_cnow (ow := ow) (M := M) (z := t) hm (by omega)
  by_cases e : x = t
  · subst e; rw [ic_us, a, hN x hx]
  · rw [ic_un e, d x e (by omega)]; exact hN x hx
theorem ic_nw_give {t m : Nat} (hT : T ≤ 32) (hN : ∀ x, x < T → nw x = ic_cn (fun j => ow j = x) M) (hm : m < M) (ho : ow m = t) (ht : t < T) : ∀ x, x < T → ic_ud nw t (nw t - 1) x = ic_cn (fun j => ic_ud ow m 32 j = x) M := by
  intro x hx
  obtain ⟨a, b, d⟩ := ic_cnow (ow := ow) (M := M) (z := 32) hm (by omega)
  by_cases e : x = t
  · subst e; rw [ic_us, hN x hx]; rw [ho] at b; omega
  · rw [ic_un e, d x (by omega) (by omega)]; exact hN x hx
theorem ic_nw_hand {t m w : Nat} (hT : T ≤ 32) (hN : ∀ x, x < T → nw x = ic_cn (fun j => ow j = x) M) (hm : m < M) (ho : ow m = t) (ht : t < T) (hw : w < T) (hne : w ≠ t) : ∀ x, x < T → ic_ud (ic_ud nw t (nw t - 1)) w (ic_ud nw t (nw t - 1) w + 1) x = ic_cn (fun j => ic_ud ow m w j = x) M := by
  intro x hx
  obtain ⟨a, b, d⟩ := ic_cnow (ow := ow) (M := M) (z := w) hm (by omega)
  by_cases e : x = w
  · subst e; rw [ic_us, ic_un hne, a, hN x hx]
  · rw [ic_un e]
    by_cases e2 : x = t
    · subst e2; rw [ic_us, hN x hx]; rw [ho] at b; omega
    · rw [ic_un e2, d x e (by omega)]; exact hN x hx
theorem ic_xtake {post : SX → Prop} {t m : Nat} (ht : t < 32) (hm : m < 16) (h : post (16, 32, (-1), (-1), 15, 100, nI T, nI M, nI P, lN c, fun j => nI (sl j), fun j => nI (sz j), fun j => ic_lc (ln j), fun j => nI (pl j), fun j => nI (ba j), fun j => nI (ef j), rs, fun j => nI (lf j), fun j => nI ((ic_ud nw t (nw t + 1)) j), fun j => lN (ar j), fun j => ic_oc ((ic_ud ow m t) j))) : wpX_take post (16, 32, (-1), (-1), 15, 100, nI T, nI M, nI P, lN c, fun j => nI (sl j), fun j => nI (sz j), fun j => ic_lc (ln j), fun j => nI (pl j), fun j => nI (ba j), fun j => nI (ef j), rs, fun j => nI (lf j), fun j => nI (nw j), fun j => lN (ar j), fun j => ic_oc (ow j)) (nI t) (nI m) := by
  have hv := vp_in_nI (N := 32) ht (by omega)
  have ct : (nI t).toNatClampNeg = t := nI_clamp (by omega)
  have cm : (nI m).toNatClampNeg = m := nI_clamp (by omega)
  have e1 : upd (fun j => ic_oc (ow j)) (nI m).toNatClampNeg (nI t) = fun j => ic_oc (ic_ud ow m t j) := by rw [cm, ← ic_oc_n (n := t) (by omega)]; exact ic_upG ic_oc ow m t
  have e2 : upd (fun j => nI (nw j)) (nI t).toNatClampNeg (nI (nw (nI t).toNatClampNeg) + 1) = fun j => nI (ic_ud nw t (nw t + 1) j) := by rw [ct, nI_1]; exact ic_upN nw t _
  unfold wpX_take
  exact And.intro (vp_in_nI hm (by omega)) (nm_r e1 (And.intro hv (And.intro hv (nm_r e2 h))))
theorem ic_xgive {post : SX → Prop} {t m : Nat} (ht : t < 32) (hm : m < 16) (hn : 1 ≤ nw t) (h : post (16, 32, (-1), (-1), 15, 100, nI T, nI M, nI P, lN c, fun j => nI (sl j), fun j => nI (sz j), fun j => ic_lc (ln j), fun j => nI (pl j), fun j => nI (ba j), fun j => nI (ef j), rs, fun j => nI (lf j), fun j => nI ((ic_ud nw t (nw t - 1)) j), fun j => lN (ar j), fun j => ic_oc ((ic_ud ow m 32) j))) : wpX_giveUp post (16, 32, (-1), (-1), 15, 100, nI T, nI M, nI P, lN c, fun j => nI (sl j), fun j => nI (sz j), fun j => ic_lc (ln j), fun j => nI (pl j), fun j => nI (ba j), fun j => nI (ef j), rs, fun j => nI (lf j), fun j => nI (nw j), fun j => lN (ar j), fun j => ic_oc (ow j)) (nI t) (nI m) := by
  have hv := vp_in_nI (N := 32) ht (by omega)
  have ct : (nI t).toNatClampNeg = t := nI_clamp (by omega)
  have cm : (nI m).toNatClampNeg = m := nI_clamp (by omega)
  have e1 : upd (fun j => ic_oc (ow j)) (nI m).toNatClampNeg (-1) = fun j => ic_oc (ic_ud ow m 32 j) := by rw [cm]; exact ic_upG ic_oc ow m 32
  have e2 : upd (fun j => nI (nw j)) (nI t).toNatClampNeg (nI (nw (nI t).toNatClampNeg) - 1) = fun j => nI (ic_ud nw t (nw t - 1) j) := by
    have z : nI (nw t) - 1 = nI (nw t - 1) := pk_sub (b := 1) hn
    rw [ct, z]; exact ic_upN nw t _
  unfold wpX_giveUp
  exact And.intro (vp_in_nI hm (by omega)) (nm_r e1 (And.intro hv (And.intro hv (nm_r e2 h))))
end
end
section
/-! heads: bad arguments, clamp -/
theorem ic_ixT (v : Int32) {n : Nat} (hn : n < 2 ^ 31) : (v < 0 ∨ nI n ≤ v) ∨ ∃ j : Nat, j < n ∧ v = nI j := by
  rcases pk_ix v hn with h | h | h
  · exact Or.inl (Or.inl h)
  · exact Or.inl (Or.inr h)
  · exact Or.inr h
def ic_cl (v lo hi : Int32) : Int32 := if lo ≤ v then (if v ≤ hi then v else hi) else lo
theorem ic_xcl {post : Int32 → Prop} {u : SX} {v lo hi : Int32} (hp : post (ic_cl v lo hi)) : wpX_clamp post u v lo hi := by
  obtain ⟨a1, a2, a3, a4, a5, a6, a7, a8, a9, a10, a11, a12, a13, a14, a15, a16, a17, a18, a19, a20, a21⟩ := u
  unfold wpX_clamp
  unfold ic_cl at hp
  by_cases h : lo ≤ v
  · rw [if_pos h] at hp
    by_cases h2 : v ≤ hi
    · rw [if_pos h2] at hp; exact br_t h (br_t h2 hp)
    · rw [if_neg h2] at hp; exact br_t h (br_f h2 hp)
  · rw [if_neg h] at hp; exact br_f h hp
theorem ic_ycl {post : Int32 → Prop} {u : SY} {v lo hi : Int32} (hp : post (ic_cl v lo hi)) : wpY_clamp post u v lo hi := by
  obtain ⟨a1, a2, a3, a4, a5, a6, a7, a8, a9⟩ := u
  unfold wpY_clamp
  unfold ic_cl at hp
  by_cases h : lo ≤ v
  · rw [if_pos h] at hp
    by_cases h2 : v ≤ hi
    · rw [if_pos h2] at hp; exact br_t h (br_t h2 hp)
    · rw [if_neg h2] at hp; exact br_t h (br_f h2 hp)
  · rw [if_neg h] at hp; exact br_f h hp
theorem ic_cl_r (v : Int32) {a b : Nat} (hab : a ≤ b) (hb : b < 2 ^ 31) : ∃ r, a ≤ r ∧ r ≤ b ∧ ic_cl v (nI a) (nI b) = nI r := by
  unfold ic_cl
  by_cases h : nI a ≤ v
  · rw [if_pos h]
    by_cases h2 : v ≤ nI b
    · rw [if_pos h2]
      have h0 : ¬ v < 0 := Int32.not_lt.mpr (Int32.le_trans (nI_pos' (n := a) (by omega)) h)
      obtain ⟨j, hj, e⟩ := nI_of h0
      rw [e, nI_leI (by omega) hj] at h
      rw [e, nI_leI hj hb] at h2
      exact ⟨j, h, h2, e⟩
    · rw [if_neg h2]; exact ⟨b, hab, Nat.le_refl _, rfl⟩
  · rw [if_neg h]; exact ⟨a, Nat.le_refl _, hab, rfl⟩
section
variable {T M P c : Nat} {sl sz ln pl ba ef lf nw ar ow od po dp : Nat → Nat} {rs yr : Nat → Int32}
theorem ic_xbt1 {post : Int32 → Prop} {v : Int32} (h : v < 0 ∨ nI T ≤ v) (hp : post 1) : wpX_badThread post (16, 32, (-1), (-1), 15, 100, nI T, nI M, nI P, lN c, fun j => nI (sl j), fun j => nI (sz j), fun j => ic_lc (ln j), fun j => nI (pl j), fun j => nI (ba j), fun j => nI (ef j), rs, fun j => nI (lf j), fun j => nI (nw j), fun j => lN (ar j), fun j => ic_oc (ow j)) v := by
  unfold wpX_badThread
  by_cases z : v < 0
  · exact br_t z hp
  · exact br_f z (br_f (Int32.not_lt.mpr (h.elim (fun w => absurd w z) id)) hp)
theorem ic_xbt0 {post : Int32 → Prop} {t : Nat} (ht : t < T) (hT : T ≤ 32) (hp : post 0) : wpX_badThread post (16, 32, (-1), (-1), 15, 100, nI T, nI M, nI P, lN c, fun j => nI (sl j), fun j => nI (sz j), fun j => ic_lc (ln j), fun j => nI (pl j), fun j => nI (ba j), fun j => nI (ef j), rs, fun j => nI (lf j), fun j => nI (nw j), fun j => lN (ar j), fun j => ic_oc (ow j)) (nI t) := by
  unfold wpX_badThread
  exact br_f (nI_pos (by omega)) (br_t (nI_lt ht (by omega)) hp)
theorem ic_xbm1 {post : Int32 → Prop} {v : Int32} (h : v < 0 ∨ nI M ≤ v) (hp : post 1) : wpX_badMutex post (16, 32, (-1), (-1), 15, 100, nI T, nI M, nI P, lN c, fun j => nI (sl j), fun j => nI (sz j), fun j => ic_lc (ln j), fun j => nI (pl j), fun j => nI (ba j), fun j => nI (ef j), rs, fun j => nI (lf j), fun j => nI (nw j), fun j => lN (ar j), fun j => ic_oc (ow j)) v := by
  unfold wpX_badMutex
  by_cases z : v < 0
  · exact br_t z hp
  · exact br_f z (br_f (Int32.not_lt.mpr (h.elim (fun w => absurd w z) id)) hp)
theorem ic_xbm0 {post : Int32 → Prop} {m : Nat} (hm : m < M) (hM : M ≤ 16) (hp : post 0) : wpX_badMutex post (16, 32, (-1), (-1), 15, 100, nI T, nI M, nI P, lN c, fun j => nI (sl j), fun j => nI (sz j), fun j => ic_lc (ln j), fun j => nI (pl j), fun j => nI (ba j), fun j => nI (ef j), rs, fun j => nI (lf j), fun j => nI (nw j), fun j => lN (ar j), fun j => ic_oc (ow j)) (nI m) := by
  unfold wpX_badMutex
  exact br_f (nI_pos (by omega)) (br_t (nI_lt hm (by omega)) hp)
theorem ic_ybt1 {post : Int32 → Prop} {v : Int32} (h : v < 0 ∨ nI T ≤ v) (hp : post 1) : wpY_badThread post (nI T, nI M, nI P, fun j => ic_yb (ln j) (ba j), fun j => ic_wc (ln j), fun j => nI (lf j), yr, fun j => nI (od j), fun j => ic_oc (ow j)) v := by
  unfold wpY_badThread
  by_cases z : v < 0
  · exact br_t z hp
  · exact br_f z (br_f (Int32.not_lt.mpr (h.elim (fun w => absurd w z) id)) hp)
theorem ic_ybt0 {post : Int32 → Prop} {t : Nat} (ht : t < T) (hT : T ≤ 32) (hp : post 0) : wpY_badThread post (nI T, nI M, nI P, fun j => ic_yb (ln j) (ba j), fun j => ic_wc (ln j), fun j => nI (lf j), yr, fun j => nI (od j), fun j => ic_oc (ow j)) (nI t) := by
  unfold wpY_badThread
  exact br_f (nI_pos (by omega)) (br_t (nI_lt ht (by omega)) hp)
theorem ic_ybm1 {post : Int32 → Prop} {v : Int32} (h : v < 0 ∨ nI M ≤ v) (hp : post 1) : wpY_badMutex post (nI T, nI M, nI P, fun j => ic_yb (ln j) (ba j), fun j => ic_wc (ln j), fun j => nI (lf j), yr, fun j => nI (od j), fun j => ic_oc (ow j)) v := by
  unfold wpY_badMutex
  by_cases z : v < 0
  · exact br_t z hp
  · exact br_f z (br_f (Int32.not_lt.mpr (h.elim (fun w => absurd w z) id)) hp)
theorem ic_ybm0 {post : Int32 → Prop} {m : Nat} (hm : m < M) (hM : M ≤ 16) (hp : post 0) : wpY_badMutex post (nI T, nI M, nI P, fun j => ic_yb (ln j) (ba j), fun j => ic_wc (ln j), fun j => nI (lf j), yr, fun j => nI (od j), fun j => ic_oc (ow j)) (nI m) := by
  unfold wpY_badMutex
  exact br_f (nI_pos (by omega)) (br_t (nI_lt hm (by omega)) hp)
theorem ic_yma_m {post : Int32 → Prop} {q k : Nat} (K : ic_Yk T sl sz ln pl ba ef ar ow od po dp) (hq : q < 16) (hk : k < 2 ^ 31) (h1 : k < sz q → post (nI (sl (32 * q + k)))) (h0 : ¬ k < sz q → post (-2)) : wpY_memberAt post (nI T, nI M, nI P, fun j => ic_yb (ln j) (ba j), fun j => ic_wc (ln j), fun j => nI (lf j), yr, fun j => nI (od j), fun j => ic_oc (ow j)) (nI q) (nI k) := by
  have a := ic_yma (M := M) (P := P) (lf := lf) (yr := yr) K (by omega) hk h1 h0
  rw [ic_wc_n hq] at a
  exact a
theorem ic_pl_lt {t : Nat} (hT : T ≤ 32) (V : ic_LV T ln pl sl sz) (ht : t < T) (hl : ln t < 17) : pl t < 32 := by
  have a := ((V (ln t) hl).2 t ht rfl).1
  have b := ic_sz_le (V (ln t) hl)
  omega
end
end
section
section
variable {T M P c : Nat} {sl sz ln pl ba ef lf nw ar ow od po dp : Nat → Nat} {rs yr : Nat → Int32}
theorem ic_xq30 {post : Int32 → Prop} {q k : Nat} (hT : T ≤ 32) (V : ic_LV T ln pl sl sz) (hq : q < 17) (hk : k < 2 ^ 31) (h1 : k < sz q → post (nI (sl (32 * q + k)))) (h0 : ¬ k < sz q → post (-2)) : wX_queue_30 post (nI k) (nI q) 16 32 (-1) (-1) 15 100 (nI T) (nI M) (nI P) (lN c) (fun j => nI (sl j)) (fun j => nI (sz j)) (fun j => ic_lc (ln j)) (fun j => nI (pl j)) (fun j => nI (ba j)) (fun j => nI (ef j)) rs (fun j => nI (lf j)) (fun j => nI (nw j)) (fun j => lN (ar j)) (fun j => ic_oc (ow j)) := by
  have cq : (nI q).toNatClampNeg = q := nI_clamp (by omega)
  have s := ic_sz_le (V q hq)
  unfold wX_queue_30
  rw [cq]
  refine And.intro (vp_in_nI hq (by omega)) ?_
  by_cases h : k < sz q
  · have e : (nI q * 32 + nI k).toNatClampNeg = 32 * q + k := by rw [ic_ix]; exact nI_clamp (by omega)
    rw [e]
    exact br_t (nI_lt h (by omega)) (And.intro (by rw [ic_ix]; exact vp_in_nI (by omega) (by omega)) (h1 h))
  · exact br_f (nI_nlt (by omega) (by omega)) (h0 h)
theorem ic_xsen {t q : Nat} {post : Int32 → Prop} (hT : T ≤ 32) (hcc : c < 2 ^ 31) (har : ∀ x, ar x ≤ c) (V : ic_LV T ln pl sl sz) (ht : t < T) (hq : q < 17) (hp : post (nI (ic_cn (fun i => ar (sl (32 * q + i)) < ar t) (sz q)))) :
  ∀ d i N, i + d = sz q → d < N → wX_seniority_30 post (nI t) (nI q) 16 32 (-1) (-1) 15 100 (nI T) (nI M) (nI P) (lN c) (fun j => nI (sl j)) (fun j => nI (sz j)) (fun j => ic_lc (ln j)) (fun j => nI (pl j)) (fun j => nI (ba j)) (fun j => nI (ef j)) rs (fun j => nI (lf j)) (fun j => nI (nw j)) (fun j => lN (ar j)) (fun j => ic_oc (ow j)) N (nI (ic_cn (fun i => ar (sl (32 * q + i)) < ar t) i)) (nI i) := by
  have cq : (nI q).toNatClampNeg = q := nI_clamp (by omega)
  have ct : (nI t).toNatClampNeg = t := nI_clamp (by omega)
  have s := ic_sz_le (V q hq)
  have vq := vp_in_nI (N := 17) hq (by omega)
  have vt := vp_in_nI (N := 32) (show t < 32 by omega) (by omega)
  intro d
  induction d with
  | zero =>
    intro i N hi hN
    cases N with
    | zero => omega
    | succ N =>
      have e : i = sz q := by omega
      have z : nI (sz (nI q).toNatClampNeg) ≤ nI i := by rw [cq]; exact nI_le (by omega) (by omega)
      refine And.intro vq (br_t z ?_)
      rw [e]
      exact hp
  | succ d ih =>
    intro i N hi hN
    cases N with
    | zero => omega
    | succ N =>
      have z : ¬ nI (sz (nI q).toNatClampNeg) ≤ nI i := by rw [cq]; exact nI_ge (by omega) (by omega)
      have e : (nI q * 32 + nI i).toNatClampNeg = 32 * q + i := by rw [ic_ix]; exact nI_clamp (by omega)
      have v5 : vp_in (nI q * 32 + nI i) 544 := by rw [ic_ix]; exact vp_in_nI (by omega) (by omega)
      obtain ⟨y1, y2, y3⟩ := (V q hq).1 i (by omega)
      have cy : (nI (sl (32 * q + i))).toNatClampNeg = sl (32 * q + i) := nI_clamp (by omega)
      have vy := vp_in_nI (N := 32) (show sl (32 * q + i) < 32 by omega) (by omega)
      have at1 := har t
      have ay := har (sl (32 * q + i))
      have ih' := ih (i + 1) N (by omega) (by omega)
      refine And.intro vq (br_f z ?_)
      rw [e, ct]
      refine And.intro v5 (And.intro vy (And.intro vt ?_))
      by_cases g : ar (sl (32 * q + i)) < ar t
      · have g' : ¬ lN (ar t) ≤ lN (ar (nI (sl (32 * q + i))).toNatClampNeg) := by
          rw [cy, lN_le (by omega) (by omega)]; omega
        rw [ic_cn_t (P := fun i => ar (sl (32 * q + i)) < ar t) (k := i) g] at ih'
        exact br_f g' (nm_r (nI_1 _) (nm_r (nI_1 i) ih'))
      · have g' : lN (ar t) ≤ lN (ar (nI (sl (32 * q + i))).toNatClampNeg) := by
          rw [cy, lN_le (by omega) (by omega)]; omega
        rw [ic_cn_f (P := fun i => ar (sl (32 * q + i)) < ar t) (k := i) g] at ih'
        exact br_t g' (nm_r (nI_1 i) ih')
def ic_Ks (ln ar : Nat → Nat) (t x : Nat) : Prop := x ≠ t ∧ ln x = ln t ∧ ar x < ar t
theorem ic_sen {t : Nat} (V : ic_LV T ln pl sl sz) (hl : ln t < 17) : ic_cn (ic_Ks ln ar t) T = ic_cn (fun i => ar (sl (32 * ln t + i)) < ar t) (sz (ln t)) := by
  rw [← ic_count (V (ln t) hl) (fun x => ar x < ar t) (sz (ln t)) (Nat.le_refl _)]
  apply ic_cn_eq
  intro x hx
  constructor
  · rintro ⟨_, b, d⟩; exact ⟨b, ((V (ln t) hl).2 x hx b).1, d⟩
  · rintro ⟨a, _, d⟩; exact ⟨fun e => by rw [e] at d; omega, a, d⟩
theorem ic_ysen {t : Nat} {post : Int32 → Prop} (K : ic_Yk T sl sz ln pl ba ef ar ow od po dp) (ht : t < T) (hl : ln t < 17) (hp : post (nI (ic_cn (ic_Ks ln ar t) T))) :
  ∀ d x N, x + d = T → d < N → wY_seniority_26 post (nI t) (nI T) (nI M) (nI P) (fun j => ic_yb (ln j) (ba j)) (fun j => ic_wc (ln j)) (fun j => nI (lf j)) yr (fun j => nI (od j)) (fun j => ic_oc (ow j)) N (nI (ic_cn (ic_Ks ln ar t) x)) (nI x) := by
  obtain ⟨hT, hL, hB, he, V, L, F, C, hPo, hAo⟩ := K
  have ct : (nI t).toNatClampNeg = t := nI_clamp (by omega)
  intro d
  induction d with
  | zero =>
    intro x N hx hN
    have e : x = T := by omega
    subst e
    cases N with
    | zero => omega
    | succ N => exact br_t (nI_le (by omega) (by omega)) hp
  | succ d ih =>
    intro x N hx hN
    cases N with
    | zero => omega
    | succ N =>
      have hvx := vp_in_nI (N := 32) (show x < 32 by omega) (by omega)
      have hvt := vp_in_nI (N := 32) (show t < 32 by omega) (by omega)
      have cx : (nI x).toNatClampNeg = x := nI_clamp (by omega)
      have lx := hL x (by omega)
      have hbx := hB x
      have ih' := ih (x + 1) N (by omega) (by omega)
      have sk : ¬ ic_Ks ln ar t x → wY_seniority_26 post (nI t) (nI T) (nI M) (nI P) (fun j => ic_yb (ln j) (ba j)) (fun j => ic_wc (ln j)) (fun j => nI (lf j)) yr (fun j => nI (od j)) (fun j => ic_oc (ow j)) N (nI (ic_cn (ic_Ks ln ar t) x)) (nI (x + 1)) := by
        intro z
        rw [ic_cn_f z] at ih'
        exact ih'
      refine br_f (nI_ge (by omega) (by omega)) ?_
      rw [cx, ct]
      by_cases e : x = t
      · exact br_t (congrArg nI e) (nm_r (nI_1 x) (sk (fun z => z.1 e)))
      · refine br_f (fun z => e ((nI_eq (by omega) (by omega)).mp z)) (And.intro hvx ?_)
        by_cases hd : ln x = 17
        · exact br_t ((ic_yb_lt (by omega)).mpr hd) (nm_r (nI_1 x) (sk (fun z => by have := z.2.1; omega)))
        · refine br_f (fun z => hd ((ic_yb_lt (by omega)).mp z)) (And.intro hvx (And.intro hvt ?_))
          by_cases hq : ln x = ln t
          · have ao := hAo x t (by omega) ht (by omega) hl
            refine br_t ((ic_wc_eq (by omega) hl).mpr hq) (ic_yea hPo (by omega) (by omega) e (fun w => br_f (by decide) ?_) (fun w => br_t rfl (nm_r (nI_1 x) (sk (fun z => w (ao.mp z.2.2))))))
            have kk : ic_Ks ln ar t x := ⟨e, hq, ao.mpr w⟩
            rw [ic_cn_t kk] at ih'
            exact nm_r (nI_1 _) (nm_r (nI_1 x) ih')
          · exact br_f (fun z => hq ((ic_wc_eq (by omega) hl).mp z)) (nm_r (nI_1 x) (sk (fun z => hq z.2.1)))
end
theorem i_vc_state {k : Nat} {u : SX} {v : SY} (I : i_Rel k u v) (hk : k + 4 ≤ 2051) (v1 : Int32) : wpX_state (fun r => wpY_state (fun r' => r' = r ∧ i_Rel (k + 4) u v) v v1) u v1 := by
  refine ic_el (Q := fun u v => wpX_state (fun r => wpY_state (fun r' => r' = r ∧ i_Rel (k + 4) u v) v v1) u v1) ?_ I
  intro T M P c sl sz ln pl ba ef lf nw ar ow od po dp rs yr hc J; obtain ⟨⟨hT2, hM1, hP1, hP8⟩, D, he, V, L, C, hPo, hAo, hOw, hLf, hRs⟩ := id J; obtain ⟨hT, hM, hcc, har, hd, F, hL, hO, hW, hN, hB⟩ := id D; have K := ic_yk J; have R4 := ic_in (k := k + 4) (by omega) J
  rcases ic_ixT v1 (n := T) (by omega) with hb | ⟨t, ht, rfl⟩
  · unfold wpX_state
    refine ic_xbt1 hb (br_f (by decide) ?_)
    unfold wpY_state
    exact ic_ybt1 hb (br_f (by decide) (And.intro rfl R4))
  · have lt := hL t ht; have hv := vp_in_nI (N := 32) (show t < 32 by omega) (by omega); have ct : (nI t).toNatClampNeg = t := nI_clamp (by omega); have bt := hB t
    unfold wpX_state
    refine ic_xbt0 ht hT (br_t rfl ?_)
    rw [ct]
    refine And.intro hv ?_
    by_cases h17 : ln t = 17
    · refine br_t ((ic_lc_eq lt).mpr h17) ?_
      unfold wpY_state
      refine ic_ybt0 ht hT (br_t rfl ?_)
      rw [ct]
      exact And.intro hv (br_f (fun z => absurd h17 ((ic_yb_0 (by omega)).mp z)) (And.intro rfl R4))
    · refine br_f (fun z => h17 ((ic_lc_eq lt).mp z)) ?_
      by_cases hbk : ln t < 16
      · refine ic_xbl (by omega) lt (fun _ => br_f (by decide) (And.intro hv ?_)) (fun z => absurd hbk z)
        unfold wpY_state
        refine ic_ybt0 ht hT (br_t rfl ?_)
        rw [ct]
        refine And.intro hv (br_t ((ic_yb_0 (by omega)).mpr h17) (And.intro hv (br_f (fun z => ic_wc_lt.mp z hbk) (And.intro hv (And.intro ?_ R4)))))
        show ic_wc (ln t) = ic_lc (ln t)
        rw [ic_wc_n hbk, ic_lc_n h17]
      · have hpl := ic_pl_lt hT V ht (by omega)
        refine ic_xbl (by omega) lt (fun z => absurd z hbk) (fun _ => br_t rfl (ic_xrun (by omega) lt (by omega) (fun _ => by omega) (fun hr => br_f (by decide) ?_) (fun hr => br_t rfl ?_)))
        · unfold wpY_state
          refine ic_ybt0 ht hT (br_t rfl ?_)
          rw [ct]
          exact And.intro hv (br_t ((ic_yb_0 (by omega)).mpr h17) (And.intro hv (br_t (ic_wc_lt.mpr hbk) (ic_yrun K ht (by omega) (fun _ => br_f (by decide) (And.intro rfl R4)) (fun z => absurd hr z)))))
        · unfold wpY_state
          refine ic_ybt0 ht hT (br_t rfl ?_)
          rw [ct]
          exact And.intro hv (br_t ((ic_yb_0 (by omega)).mpr h17) (And.intro hv (br_t (ic_wc_lt.mpr hbk) (ic_yrun K ht (by omega) (fun z => absurd z hr) (fun _ => br_t rfl (And.intro rfl R4))))))
theorem i_vc_basePriority {k : Nat} {u : SX} {v : SY} (I : i_Rel k u v) (hk : k + 4 ≤ 2051) (v1 : Int32) : wpX_basePriority (fun r => wpY_basePriority (fun r' => r' = r ∧ i_Rel (k + 4) u v) v v1) u v1 := by
  refine ic_el (Q := fun u v => wpX_basePriority (fun r => wpY_basePriority (fun r' => r' = r ∧ i_Rel (k + 4) u v) v v1) u v1) ?_ I
  intro T M P c sl sz ln pl ba ef lf nw ar ow od po dp rs yr hc J; obtain ⟨⟨hT2, hM1, hP1, hP8⟩, D, he, V, L, C, hPo, hAo, hOw, hLf, hRs⟩ := id J; obtain ⟨hT, hM, hcc, har, hd, F, hL, hO, hW, hN, hB⟩ := id D; have K := ic_yk J; have R4 := ic_in (k := k + 4) (by omega) J
  rcases ic_ixT v1 (n := T) (by omega) with hb | ⟨t, ht, rfl⟩
  · unfold wpX_basePriority
    refine ic_xbt1 hb (br_f (by decide) ?_)
    unfold wpY_basePriority
    exact ic_ybt1 hb (br_f (by decide) (And.intro rfl R4))
  · have lt := hL t ht; have hv := vp_in_nI (N := 32) (show t < 32 by omega) (by omega); have ct : (nI t).toNatClampNeg = t := nI_clamp (by omega); have bt := hB t
    unfold wpX_basePriority
    refine ic_xbt0 ht hT (br_t rfl ?_)
    rw [ct]
    refine And.intro hv ?_
    by_cases h17 : ln t = 17
    · refine br_t ((ic_lc_eq lt).mpr h17) ?_
      unfold wpY_basePriority
      refine ic_ybt0 ht hT (br_t rfl ?_)
      rw [ct]
      exact And.intro hv (br_f (fun z => absurd h17 ((ic_yb_0 (by omega)).mp z)) (And.intro rfl R4))
    · refine br_f (fun z => h17 ((ic_lc_eq lt).mp z)) (And.intro hv ?_)
      unfold wpY_basePriority
      refine ic_ybt0 ht hT (br_t rfl ?_)
      rw [ct]
      exact And.intro hv (br_t ((ic_yb_0 (by omega)).mpr h17) (And.intro hv (And.intro (ic_yb_n h17) R4)))
theorem i_vc_priority {k : Nat} {u : SX} {v : SY} (I : i_Rel k u v) (hk : k + 4 ≤ 2051) (v1 : Int32) : wpX_priority (fun r => wpY_priority (fun r' => r' = r ∧ i_Rel (k + 4) u v) v v1) u v1 := by
  refine ic_el (Q := fun u v => wpX_priority (fun r => wpY_priority (fun r' => r' = r ∧ i_Rel (k + 4) u v) v v1) u v1) ?_ I
  intro T M P c sl sz ln pl ba ef lf nw ar ow od po dp rs yr hc J; obtain ⟨⟨hT2, hM1, hP1, hP8⟩, D, he, V, L, C, hPo, hAo, hOw, hLf, hRs⟩ := id J; obtain ⟨hT, hM, hcc, har, hd, F, hL, hO, hW, hN, hB⟩ := id D; have K := ic_yk J; have R4 := ic_in (k := k + 4) (by omega) J
  rcases ic_ixT v1 (n := T) (by omega) with hb | ⟨t, ht, rfl⟩
  · unfold wpX_priority
    refine ic_xbt1 hb (br_f (by decide) ?_)
    unfold wpY_priority
    exact ic_ybt1 hb (br_f (by decide) (And.intro rfl R4))
  · have lt := hL t ht; have hv := vp_in_nI (N := 32) (show t < 32 by omega) (by omega); have ct : (nI t).toNatClampNeg = t := nI_clamp (by omega); have bt := hB t
    unfold wpX_priority
    refine ic_xbt0 ht hT (br_t rfl ?_)
    rw [ct]
    refine And.intro hv ?_
    by_cases h17 : ln t = 17
    · refine br_t ((ic_lc_eq lt).mpr h17) ?_
      unfold wpY_priority
      refine ic_ybt0 ht hT (br_t rfl ?_)
      rw [ct]
      exact And.intro hv (br_f (fun z => absurd h17 ((ic_yb_0 (by omega)).mp z)) (And.intro rfl R4))
    · refine br_f (fun z => h17 ((ic_lc_eq lt).mp z)) (And.intro hv ?_)
      unfold wpY_priority
      refine ic_ybt0 ht hT (br_t rfl ?_)
      rw [ct]
      exact And.intro hv (br_t ((ic_yb_0 (by omega)).mpr h17) (ic_yef K ht (by omega) (And.intro rfl R4)))
theorem i_vc_outcome {k : Nat} {u : SX} {v : SY} (I : i_Rel k u v) (hk : k + 4 ≤ 2051) (v1 : Int32) : wpX_outcome (fun r => wpY_outcome (fun r' => r' = r ∧ i_Rel (k + 4) u v) v v1) u v1 := by
  refine ic_el (Q := fun u v => wpX_outcome (fun r => wpY_outcome (fun r' => r' = r ∧ i_Rel (k + 4) u v) v v1) u v1) ?_ I
  intro T M P c sl sz ln pl ba ef lf nw ar ow od po dp rs yr hc J; obtain ⟨⟨hT2, hM1, hP1, hP8⟩, D, he, V, L, C, hPo, hAo, hOw, hLf, hRs⟩ := id J; obtain ⟨hT, hM, hcc, har, hd, F, hL, hO, hW, hN, hB⟩ := id D; have K := ic_yk J; have R4 := ic_in (k := k + 4) (by omega) J
  rcases ic_ixT v1 (n := T) (by omega) with hb | ⟨t, ht, rfl⟩
  · unfold wpX_outcome
    refine ic_xbt1 hb (br_f (by decide) ?_)
    unfold wpY_outcome
    exact ic_ybt1 hb (br_f (by decide) (And.intro rfl R4))
  · have lt := hL t ht; have hv := vp_in_nI (N := 32) (show t < 32 by omega) (by omega); have ct : (nI t).toNatClampNeg = t := nI_clamp (by omega); have bt := hB t
    unfold wpX_outcome
    refine ic_xbt0 ht hT (br_t rfl ?_)
    rw [ct]
    refine And.intro hv ?_
    by_cases h17 : ln t = 17
    · refine br_t ((ic_lc_eq lt).mpr h17) ?_
      unfold wpY_outcome
      refine ic_ybt0 ht hT (br_t rfl ?_)
      rw [ct]
      exact And.intro hv (br_f (fun z => absurd h17 ((ic_yb_0 (by omega)).mp z)) (And.intro rfl R4))
    · refine br_f (fun z => h17 ((ic_lc_eq lt).mp z)) (And.intro hv ?_)
      unfold wpY_outcome
      refine ic_ybt0 ht hT (br_t rfl ?_)
      rw [ct]
      exact And.intro hv (br_t ((ic_yb_0 (by omega)).mpr h17) (And.intro hv (And.intro (hRs t ht (by omega)).symm R4)))
theorem i_vc_owner {k : Nat} {u : SX} {v : SY} (I : i_Rel k u v) (hk : k + 4 ≤ 2051) (v1 : Int32) : wpX_owner (fun r => wpY_owner (fun r' => r' = r ∧ i_Rel (k + 4) u v) v v1) u v1 := by
  refine ic_el (Q := fun u v => wpX_owner (fun r => wpY_owner (fun r' => r' = r ∧ i_Rel (k + 4) u v) v v1) u v1) ?_ I
  intro T M P c sl sz ln pl ba ef lf nw ar ow od po dp rs yr hc J; obtain ⟨⟨hT2, hM1, hP1, hP8⟩, D, he, V, L, C, hPo, hAo, hOw, hLf, hRs⟩ := id J; obtain ⟨hT, hM, hcc, har, hd, F, hL, hO, hW, hN, hB⟩ := id D; have K := ic_yk J; have R4 := ic_in (k := k + 4) (by omega) J
  rcases ic_ixT v1 (n := M) (by omega) with hb | ⟨m, hm, rfl⟩
  · unfold wpX_owner
    refine ic_xbm1 hb (br_f (by decide) ?_)
    unfold wpY_owner
    exact ic_ybm1 hb (br_f (by decide) (And.intro rfl R4))
  · have hv := vp_in_nI (N := 16) (show m < 16 by omega) (by omega)
    have cm : (nI m).toNatClampNeg = m := nI_clamp (by omega)
    have om := hO m (by omega)
    unfold wpX_owner
    refine ic_xbm0 hm hM (br_t rfl ?_)
    rw [cm]
    refine And.intro hv ?_
    by_cases h32 : ow m = 32
    · refine br_t ((ic_oc_eq om).mpr h32) ?_
      unfold wpY_owner
      refine ic_ybm0 hm hM (br_t rfl ?_)
      rw [cm]
      exact And.intro hv (br_f (fun z => absurd h32 ((ic_oc_0 om).mp z)) (And.intro rfl R4))
    · refine br_f (fun z => h32 ((ic_oc_eq om).mp z)) (And.intro hv ?_)
      unfold wpY_owner
      refine ic_ybm0 hm hM (br_t rfl ?_)
      rw [cm]
      exact And.intro hv (br_t ((ic_oc_0 om).mpr h32) (And.intro hv (And.intro rfl R4)))
theorem i_vc_remaining {k : Nat} {u : SX} {v : SY} (I : i_Rel k u v) (hk : k + 4 ≤ 2051) (v1 : Int32) : wpX_remaining (fun r => wpY_remaining (fun r' => r' = r ∧ i_Rel (k + 4) u v) v v1) u v1 := by
  refine ic_el (Q := fun u v => wpX_remaining (fun r => wpY_remaining (fun r' => r' = r ∧ i_Rel (k + 4) u v) v v1) u v1) ?_ I
  intro T M P c sl sz ln pl ba ef lf nw ar ow od po dp rs yr hc J; obtain ⟨⟨hT2, hM1, hP1, hP8⟩, D, he, V, L, C, hPo, hAo, hOw, hLf, hRs⟩ := id J; obtain ⟨hT, hM, hcc, har, hd, F, hL, hO, hW, hN, hB⟩ := id D; have K := ic_yk J; have R4 := ic_in (k := k + 4) (by omega) J
  rcases ic_ixT v1 (n := T) (by omega) with hb | ⟨t, ht, rfl⟩
  · unfold wpX_remaining
    refine ic_xbt1 hb (br_f (by decide) ?_)
    unfold wpY_remaining
    exact ic_ybt1 hb (br_f (by decide) (And.intro rfl R4))
  · have lt := hL t ht; have hv := vp_in_nI (N := 32) (show t < 32 by omega) (by omega); have ct : (nI t).toNatClampNeg = t := nI_clamp (by omega); have bt := hB t
    unfold wpX_remaining
    refine ic_xbt0 ht hT (br_t rfl ?_)
    rw [ct]
    refine ic_xbl (by omega) lt (fun hbk => br_f (by decide) (And.intro hv ?_)) (fun hbk => br_t rfl ?_)
    · unfold wpY_remaining
      refine ic_ybt0 ht hT (br_t rfl ?_)
      rw [ct]
      refine And.intro hv (br_t (ic_wc_0.mpr hbk) (And.intro hv (br_c (fun z => And.intro z.symm R4) (fun z => And.intro hv (And.intro rfl R4)))))
    · unfold wpY_remaining
      refine ic_ybt0 ht hT (br_t rfl ?_)
      rw [ct]
      exact And.intro hv (br_f (fun z => hbk (ic_wc_0.mp z)) (And.intro rfl R4))
theorem i_vc_seniority {k : Nat} {u : SX} {v : SY} (I : i_Rel k u v) (hk : k + 4 ≤ 2051) (v1 : Int32) : wpX_seniority (fun r => wpY_seniority (fun r' => r' = r ∧ i_Rel (k + 4) u v) v v1) u v1 := by
  refine ic_el (Q := fun u v => wpX_seniority (fun r => wpY_seniority (fun r' => r' = r ∧ i_Rel (k + 4) u v) v v1) u v1) ?_ I
  intro T M P c sl sz ln pl ba ef lf nw ar ow od po dp rs yr hc J; obtain ⟨⟨hT2, hM1, hP1, hP8⟩, D, he, V, L, C, hPo, hAo, hOw, hLf, hRs⟩ := id J; obtain ⟨hT, hM, hcc, har, hd, F, hL, hO, hW, hN, hB⟩ := id D; have K := ic_yk J; have R4 := ic_in (k := k + 4) (by omega) J
  rcases ic_ixT v1 (n := T) (by omega) with hb | ⟨t, ht, rfl⟩
  · unfold wpX_seniority
    refine ic_xbt1 hb (br_f (by decide) ?_)
    unfold wpY_seniority
    exact ic_ybt1 hb (br_f (by decide) (And.intro rfl R4))
  · have lt := hL t ht; have hv := vp_in_nI (N := 32) (show t < 32 by omega) (by omega); have ct : (nI t).toNatClampNeg = t := nI_clamp (by omega); have bt := hB t
    unfold wpX_seniority
    refine ic_xbt0 ht hT (br_t rfl ?_)
    rw [ct]
    refine And.intro hv ?_
    by_cases h17 : ln t = 17
    · refine nm_e (br_t ((ic_lc_eq lt).mpr h17) ?_)
      unfold wpY_seniority
      refine ic_ybt0 ht hT (br_t rfl ?_)
      rw [ct]
      exact And.intro hv (br_f (fun z => absurd h17 ((ic_yb_0 (by omega)).mp z)) (And.intro rfl R4))
    · refine nm_r (ic_lc_n h17) (br_f (ic_m1n (by omega)) ⟨_, ic_xsen hT hcc har V ht (by omega) ?_ (sz (ln t)) 0 _ (by omega) (Nat.lt_succ_self _)⟩)
      unfold wpY_seniority
      refine ic_ybt0 ht hT (br_t rfl ?_)
      rw [ct]
      refine And.intro hv (br_t ((ic_yb_0 (by omega)).mpr h17) ⟨_, ic_ysen K ht (by omega) (And.intro ?_ R4) T 0 _ (by omega) (Nat.lt_succ_self _)⟩)
      rw [ic_sen V (by omega)]
theorem i_vc_queue {k : Nat} {u : SX} {v : SY} (I : i_Rel k u v) (hk : k + 4 ≤ 2051) (v1 : Int32) (v2 : Int32) : wpX_queue (fun r => wpY_queue (fun r' => r' = r ∧ i_Rel (k + 4) u v) v v1 v2) u v1 v2 := by
  refine ic_el (Q := fun u v => wpX_queue (fun r => wpY_queue (fun r' => r' = r ∧ i_Rel (k + 4) u v) v v1 v2) u v1 v2) ?_ I
  intro T M P c sl sz ln pl ba ef lf nw ar ow od po dp rs yr hc J; obtain ⟨⟨hT2, hM1, hP1, hP8⟩, D, he, V, L, C, hPo, hAo, hOw, hLf, hRs⟩ := id J; obtain ⟨hT, hM, hcc, har, hd, F, hL, hO, hW, hN, hB⟩ := id D; have K := ic_yk J; have R4 := ic_in (k := k + 4) (by omega) J
  unfold wpX_queue
  by_cases h1 : v1 < -1
  · refine br_t h1 ?_
    unfold wpY_queue
    exact br_t h1 (And.intro rfl R4)
  · refine br_f h1 ?_
    by_cases h2 : nI M ≤ v1
    · refine br_t h2 ?_
      unfold wpY_queue
      exact br_f h1 (br_t h2 (And.intro rfl R4))
    · refine br_f h2 ?_
      by_cases h3 : 0 ≤ v2
      · refine br_t h3 ?_
        obtain ⟨j, hj, rfl⟩ := nI_of (x := v2) (Int32.not_lt.mpr h3)
        by_cases h4 : v1 = -1
        · subst h4
          refine br_t rfl (ic_xq30 (q := 16) hT V (by omega) hj (fun hs => ?_) (fun hs => ?_))
          · unfold wpY_queue
            exact br_f h1 (br_f h2 (br_t h3 (ic_yma (q := 16) K (by omega) hj (fun _ => And.intro rfl R4) (fun z => absurd hs z))))
          · unfold wpY_queue
            exact br_f h1 (br_f h2 (br_t h3 (ic_yma (q := 16) K (by omega) hj (fun z => absurd z hs) (fun _ => And.intro rfl R4))))
        · have h0 : ¬ v1 < 0 := by
            intro z
            rw [Int32.lt_iff_toInt_lt] at z h1
            have e : v1.toInt = -1 := by
              rw [show (0 : Int32).toInt = 0 from by decide] at z
              rw [show (-1 : Int32).toInt = -1 from by decide] at h1
              omega
            exact h4 (Int32.toInt_inj.mp (by rw [e]; decide))
          obtain ⟨m, hm, rfl⟩ := nI_of h0
          have hmM : m < M := by
            rw [nI_leI (by omega) hm] at h2; omega
          refine br_f h4 (ic_xq30 (q := m) hT V (by omega) hj (fun hs => ?_) (fun hs => ?_))
          · unfold wpY_queue
            exact br_f h1 (br_f h2 (br_t h3 (ic_yma_m (q := m) K (by omega) hj (fun _ => And.intro rfl R4) (fun z => absurd hs z))))
          · unfold wpY_queue
            exact br_f h1 (br_f h2 (br_t h3 (ic_yma_m (q := m) K (by omega) hj (fun z => absurd z hs) (fun _ => And.intro rfl R4))))
      · refine br_f h3 ?_
        unfold wpY_queue
        exact br_f h1 (br_f h2 (br_f h3 (And.intro rfl R4)))
end
section
section
variable {T M P c : Nat} {sl sz ln pl ba ef lf nw ar ow od po dp : Nat → Nat} {rs yr : Nat → Int32}
theorem ic_LS_ud {t b : Nat} (V : ic_LV T ln pl sl sz) (L : ic_LS ef ar sl sz) (hl : ln t = 17) : ic_LS (ic_ud ef t b) ar sl sz := by
  intro q hq i j hij hj
  have ni : ∀ i, i < sz q → sl (32 * q + i) ≠ t := by
    intro i hi e
    have := (V q hq).1 i hi
    rw [e, hl] at this
    omega
  have s := L q hq i j hij hj
  unfold ic_pr at *
  rw [ic_un (ni i (by omega)), ic_un (ni j hj)]
  exact s
theorem ic_Co_start {t b : Nat} (F : ic_Fo T ln ow dp) (C : ic_Co T ln ow ba ef (fun _ => False)) (hl : ln t = 17) : ic_Co T (ic_ud ln t 16) ow (ic_ud ba t b) (ic_ud ef t b) (fun _ => False) := by
  have ee : ∀ x y, ic_E T (ic_ud ln t 16) ow x y ↔ ic_E T ln ow x y := fun x y => ic_E_mv (fun z => by omega) (fun z => by omega) x
  have nt : ∀ x y, ic_E T ln ow x y → x ≠ t := fun x y h e => by
    have := h.2.1
    rw [e, hl] at this
    omega
  intro y hy hly hs
  by_cases e : y = t
  · subst e
    have no : ∀ x, ¬ ic_E T (ic_ud ln y 16) ow x y := by
      intro x hx
      have h := (ee x y).mp hx
      have f := (F x h.1 h.2.1).2.2
      rw [h.2.2, hl] at f
      omega
    rw [ic_us]
    refine ⟨by rw [ic_us]; exact Nat.le_refl _, fun x hx => absurd hx (no x), Or.inl (by rw [ic_us])⟩
  · rw [ic_un e] at hly
    rw [ic_un e]
    exact ic_IC_E (C y hy hly hs) (ic_un e) (fun x => ee x y) (fun x hx => ic_un (nt x y hx))
theorem ic_yb_set {t l b : Nat} (h : l ≠ 17) : upd (fun j => ic_yb (ln j) (ba j)) t (nI b) = fun j => ic_yb (ic_ud ln t l j) (ic_ud ba t b j) := by
  funext j
  by_cases e : j = t
  · subst e; rw [pk_us, ic_us, ic_us, ic_yb_n h]
  · rw [pk_un e, ic_un e, ic_un e]
theorem ic_yb_setb {t b : Nat} (h : ln t ≠ 17) : upd (fun j => ic_yb (ln j) (ba j)) t (nI b) = fun j => ic_yb (ln j) (ic_ud ba t b j) := by
  funext j
  by_cases e : j = t
  · subst e; rw [pk_us, ic_us, ic_yb_n h]
  · rw [pk_un e, ic_un e]
theorem ic_yb_off {t : Nat} : upd (fun j => ic_yb (ln j) (ba j)) t (-1) = fun j => ic_yb (ic_ud ln t 17 j) (ba j) := by
  funext j
  by_cases e : j = t
  · subst e; rw [pk_us, ic_us, ic_yb_m rfl]
  · rw [pk_un e, ic_un e]
theorem ic_wc_id {t l : Nat} (h1 : ¬ ln t < 16) (h2 : ¬ l < 16) : (fun j => ic_wc (ln j)) = fun j => ic_wc (ic_ud ln t l j) := by
  funext j
  by_cases e : j = t
  · subst e; rw [ic_us, ic_wc_m h1, ic_wc_m h2]
  · rw [ic_un e]
theorem ic_yex {post : Int32 → SY → Prop} {t : Nat} (ht : t < T) (hT : T ≤ 32) (hM : M ≤ 16) (hO : ∀ m, m < 16 → ow m ≤ 32) (hl : ln t = 16) (h1 : (∃ j, j < M ∧ ow j = t) → post (-8) (nI T, nI M, nI P, fun j => ic_yb (ln j) (ba j), fun j => ic_wc (ln j), fun j => nI (lf j), yr, fun j => nI (od j), fun j => ic_oc (ow j))) (h0 : (∀ j, j < M → ow j ≠ t) → post 0 (nI T, nI M, nI P, fun j => ic_yb ((ic_ud ln t 17) j) (ba j), fun j => ic_wc ((ic_ud ln t 17) j), fun j => nI (lf j), (upd yr t 0), fun j => nI (od j), fun j => ic_oc (ow j))) :
  ∀ d m N, m + d = M → (∀ j, j < m → ow j ≠ t) → d < N → wY_exit_23 post (nI t) (nI T) (nI M) (nI P) (fun j => ic_yb (ln j) (ba j)) (fun j => ic_wc (ln j)) (fun j => nI (lf j)) yr (fun j => nI (od j)) (fun j => ic_oc (ow j)) N (nI m) := by
  have hv := vp_in_nI (N := 32) (show t < 32 by omega) (by omega)
  have ct : (nI t).toNatClampNeg = t := nI_clamp (by omega)
  intro d
  induction d with
  | zero =>
    intro m N hm hn hN
    have h0 := h0 (fun j hj => hn j (by omega))
    rw [← ic_wc_id (ln := ln) (t := t) (l := 17) (by omega) (by omega)] at h0
    cases N with
    | zero => omega
    | succ N =>
      refine br_t (nI_le (by omega) (by omega)) ?_
      rw [ct]
      exact And.intro hv (nm_r ic_yb_off (And.intro hv (nm_e h0)))
  | succ d ih =>
    intro m N hm hn hN
    cases N with
    | zero => omega
    | succ N =>
      have cm : (nI m).toNatClampNeg = m := nI_clamp (by omega)
      have oi := ic_oc_nI (hO m (by omega)) (show t < 32 by omega)
      refine br_f (nI_ge (by omega) (by omega)) ?_
      rw [cm]
      refine And.intro (vp_in_nI (N := 16) (by omega) (by omega)) ?_
      by_cases e : ow m = t
      · exact br_t (oi.mpr e) (h1 ⟨m, by omega, e⟩)
      · refine br_f (fun z => e (oi.mp z)) (nm_r (nI_1 m) (ih (m + 1) N (by omega) (fun j hj => ?_) (by omega)))
        by_cases z : j = m
        · rw [z]; exact e
        · exact hn j (by omega)
theorem ic_Inv_exit {t : Nat} {sl' pl' sz' : Nat → Nat} (J : ic_Inv T M P c sl sz ln pl ba ef lf nw ar ow od po dp rs yr) (hl : ln t = 16) (hno : ∀ j, j < M → ow j ≠ t) (V' : ic_LV T (ic_ud ln t 17) pl' sl' sz') (L' : ic_LS ef ar sl' sz') : ic_Inv T M P c sl' sz' (ic_ud ln t 17) pl' ba ef lf nw ar ow od po dp rs (upd yr t 0) := by
  obtain ⟨h0, ⟨hT, hM, hcc, har, hd, F, hL, hO, hW, hN, hB⟩, he, V, L, C, hPo, hAo, hOw, hLf, hRs⟩ := J
  have nt : ∀ x, ic_ud ln t 17 x < 17 → x ≠ t := by
    intro x h e
    rw [e, ic_us] at h
    omega
  refine ⟨h0, ⟨hT, hM, hcc, har, ic_AD_lv hd, ?_, ?_, hO, ?_, hN, hB⟩, he, V', L', ?_, hPo, ?_, ?_, ?_, ?_⟩
  · intro x hx hb
    have e := nt x (by omega)
    rw [ic_un e] at hb
    obtain ⟨a, b, d⟩ := F x hx hb
    rw [ic_un e]
    refine ⟨a, b, ?_⟩
    rw [ic_un (hno (ln x) (hW x hx hb))]
    exact d
  · intro x hx
    by_cases e : x = t
    · rw [e, ic_us]; omega
    · rw [ic_un e]; exact hL x hx
  · intro x hx hb
    have e := nt x (by omega)
    rw [ic_un e] at hb
    rw [ic_un e]
    exact hW x hx hb
  · exact ic_Co_mv C (fun _ z => z) (by omega) (fun z => by omega) (fun z => by omega)
  · intro x y hx hy hlx hly
    have ex := nt x hlx
    have ey := nt y hly
    rw [ic_un ex] at hlx
    rw [ic_un ey] at hly
    exact hAo x y hx hy hlx hly
  · intro m hm
    rcases hOw m hm with z | ⟨a, b, d⟩
    · exact Or.inl z
    · refine Or.inr ⟨a, b, ?_⟩
      rw [ic_un (hno m b)]
      exact d
  · refine ⟨hLf.1, fun x hx hb => hLf.2 x hx ?_⟩
    by_cases e : x = t
    · rw [e]; omega
    · rw [ic_un e] at hb; exact hb
  · intro x hx hlx
    have e := nt x hlx
    rw [ic_un e] at hlx
    rw [pk_un e]
    exact hRs x hx hlx
theorem ic_Inv_pri {t b : Nat} {sl' pl' ef' : Nat → Nat} (J : ic_Inv T M P c sl sz ln pl ba ef lf nw ar ow od po dp rs yr) (hb : b ≤ 15) (he' : ∀ x, ef' x ≤ 15) (V' : ic_LV T ln pl' sl' sz) (L' : ic_LS ef' ar sl' sz) (C' : ic_Co T ln ow (ic_ud ba t b) ef' (fun _ => False)) : ic_Inv T M P c sl' sz ln pl' (ic_ud ba t b) ef' lf nw ar ow od po dp rs yr := by
  obtain ⟨h0, ⟨hT, hM, hcc, har, hd, F, hL, hO, hW, hN, hB⟩, he, V, L, C, hPo, hAo, hOw, hLf, hRs⟩ := J
  exact ⟨h0, ⟨hT, hM, hcc, har, hd, F, hL, hO, hW, hN, ic_ud_le hB hb⟩, he', V', L', C', hPo, hAo, hOw, hLf, hRs⟩
end
theorem i_vc_start {k : Nat} {u : SX} {v : SY} (I : i_Rel k u v) (hk : k + 4 ≤ 2051) (v1 : Int32) (v2 : Int32) : wpX_start (fun r u' => wpY_start (fun r' v' => r' = r ∧ i_Rel (k + 4) u' v') v v1 v2) u v1 v2 := by
  refine ic_el (Q := fun u v => wpX_start (fun r u' => wpY_start (fun r' v' => r' = r ∧ i_Rel (k + 4) u' v') v v1 v2) u v1 v2) ?_ I
  intro T M P c sl sz ln pl ba ef lf nw ar ow od po dp rs yr hc J; obtain ⟨⟨hT2, hM1, hP1, hP8⟩, D, he, V, L, C, hPo, hAo, hOw, hLf, hRs⟩ := id J; obtain ⟨hT, hM, hcc, har, hd, F, hL, hO, hW, hN, hB⟩ := id D; have K := ic_yk J; have R4 := ic_in (k := k + 4) (by omega) J; have hc1 : c + 1 < 2 ^ 31 := by omega
  rcases ic_ixT v1 (n := T) (by omega) with hb | ⟨t, ht, rfl⟩
  · unfold wpX_start
    refine ic_xbt1 hb (br_f (by decide) ?_)
    unfold wpY_start
    exact ic_ybt1 hb (br_f (by decide) (And.intro rfl R4))
  · have lt := hL t ht; have hv := vp_in_nI (N := 32) (show t < 32 by omega) (by omega); have ct : (nI t).toNatClampNeg = t := nI_clamp (by omega); have bt := hB t
    unfold wpX_start
    refine ic_xbt0 ht hT (br_t rfl ?_)
    rw [ct]
    refine And.intro hv ?_
    by_cases h17 : ln t = 17
    · obtain ⟨b, _, hb15, hb⟩ := ic_cl_r v2 (a := 0) (b := 15) (by omega) (by omega)
      have hb' : ic_cl v2 0 15 = nI b := hb
      have lt0 : lf t = 0 := hLf.2 t ht (by omega)
      have e2 : upd (fun j => nI (ef j)) t ((fun j => nI (ic_ud ba t b j)) t) = fun j => nI (ic_ud ef t b j) := by
        show upd (fun j => nI (ef j)) t (nI (ic_ud ba t b t)) = _
        rw [ic_us]; exact ic_upN ef t b
      have e4 : upd (fun j => nI (lf j)) t 0 = fun j => nI (lf j) := by
        have z := ic_upN lf t 0
        rw [ic_ud_id lt0] at z
        exact z
      obtain ⟨sl', pl', V', L', W⟩ := ic_ar (M := M) (P := P) (ba := ic_ud ba t b) (lf := lf) (nw := nw) (ow := ow) (rs := upd rs t 0) (q := 16) hT hc1 (ic_ud_le he hb15) har hd V (ic_LS_ud (b := b) V L h17) ht h17 (by omega)
      have hLf' : ic_Lf T (ic_ud ln t 16) lf := by
        have z := ic_Lf_w (t := t) hLf
        rw [ic_ud_id lt0] at z
        exact z
      have J' := ic_Inv_mv J hc1 ht (Or.inl rfl) (ic_ud_le hB hb15) (ic_Fo_sub F rfl) (ic_ud_le he hb15) V' L' (ic_Co_start F C h17) hLf' (ic_Re_w (how := 0) hRs)
      refine br_t ((ic_lc_eq lt).mpr h17) (ic_xcl ?_)
      rw [hb']
      refine And.intro hv (nm_r (ic_upN ba t b) (And.intro hv (And.intro hv (nm_r e2 (And.intro hv (nm_e (And.intro hv (nm_r e4 (W _ ?_)))))))))
      unfold wpY_start
      refine ic_ybt0 ht hT (br_t rfl ?_)
      rw [ct]
      refine And.intro hv (br_t ((ic_yb_lt (by omega)).mpr h17) (ic_ycl ?_))
      rw [hb']
      refine And.intro hv (nm_r (ic_yb_set (l := 16) (by omega)) (And.intro hv (nm_e ?_)))
      rw [ic_wc_id (ln := ln) (t := t) (l := 16) (by omega) (by omega)]
      exact ic_yar hPo (by omega) (And.intro rfl (ic_in (by omega) J'))
    · refine br_f (fun z => h17 ((ic_lc_eq lt).mp z)) ?_
      unfold wpY_start
      refine ic_ybt0 ht hT (br_t rfl ?_)
      rw [ct]
      exact And.intro hv (br_f (fun z => h17 ((ic_yb_lt (by omega)).mp z)) (And.intro rfl R4))
theorem i_vc_exit {k : Nat} {u : SX} {v : SY} (I : i_Rel k u v) (hk : k + 4 ≤ 2051) (v1 : Int32) : wpX_exit (fun r u' => wpY_exit (fun r' v' => r' = r ∧ i_Rel (k + 4) u' v') v v1) u v1 := by
  refine ic_el (Q := fun u v => wpX_exit (fun r u' => wpY_exit (fun r' v' => r' = r ∧ i_Rel (k + 4) u' v') v v1) u v1) ?_ I
  intro T M P c sl sz ln pl ba ef lf nw ar ow od po dp rs yr hc J; obtain ⟨⟨hT2, hM1, hP1, hP8⟩, D, he, V, L, C, hPo, hAo, hOw, hLf, hRs⟩ := id J; obtain ⟨hT, hM, hcc, har, hd, F, hL, hO, hW, hN, hB⟩ := id D; have K := ic_yk J; have R4 := ic_in (k := k + 4) (by omega) J; have hc1 : c + 1 < 2 ^ 31 := by omega
  rcases ic_ixT v1 (n := T) (by omega) with hb | ⟨t, ht, rfl⟩
  · unfold wpX_exit
    refine ic_xbt1 hb (br_f (by decide) ?_)
    unfold wpY_exit
    exact ic_ybt1 hb (br_f (by decide) (And.intro rfl R4))
  · have lt := hL t ht; have hv := vp_in_nI (N := 32) (show t < 32 by omega) (by omega); have ct : (nI t).toNatClampNeg = t := nI_clamp (by omega); have bt := hB t
    unfold wpX_exit
    refine ic_xbt0 ht hT (br_t rfl (ic_xrun (by omega) lt (by omega) (fun z => by have := ic_pl_lt hT V ht (by omega); omega) (fun hr => br_f (by decide) ?_) (fun hr => br_t rfl ?_)))
    · rw [ct]
      have en := hN t ht
      have ln1 : nw t < 2 ^ 31 := by rw [en]; have := ic_cn_le (fun m => ow m = t) M; omega
      refine And.intro hv ?_
      by_cases z : nw t = 0
      · have hno : ∀ j, j < M → ow j ≠ t := by
          rw [z] at en
          exact ic_cn_0 en.symm
        obtain ⟨sl', pl', V', L', W⟩ := ic_lv (M := M) (P := P) (c := c) (ba := ba) (lf := lf) (nw := nw) (ow := ow) (rs := rs) hT V L ht hr.1 (by omega)
        have J' := ic_Inv_exit J hr.1 hno V' L'
        refine br_t (nI_le (a := nw t) (b := 0) (by omega) (by omega)) (W _ ?_)
        unfold wpY_exit
        exact ic_ybt0 ht hT (br_t rfl (ic_yrun K ht (by omega) (fun _ => br_f (by decide) ⟨_, ic_yex ht hT hM hO hr.1 (fun ⟨j, hj, ho⟩ => absurd ho (hno j hj)) (fun _ => And.intro rfl (ic_in (by omega) J')) M 0 _ (by omega) (fun j hj => by omega) (Nat.lt_succ_self _)⟩) (fun w => absurd hr w)))
      · refine br_f (nI_nle (by omega) ln1) ?_
        unfold wpY_exit
        refine ic_ybt0 ht hT (br_t rfl (ic_yrun K ht (by omega) (fun _ => br_f (by decide) ⟨_, ic_yex ht hT hM hO hr.1 (fun _ => And.intro rfl R4) (fun w => absurd ?_ z) M 0 _ (by omega) (fun j hj => by omega) (Nat.lt_succ_self _)⟩) (fun w => absurd hr w)))
        rw [en]
        exact ic_cn_z w
    · unfold wpY_exit
      exact ic_ybt0 ht hT (br_t rfl (ic_yrun K ht (by omega) (fun z => absurd z hr) (fun _ => br_t rfl (And.intro rfl R4))))
theorem i_vc_setPriority {k : Nat} {u : SX} {v : SY} (I : i_Rel k u v) (hk : k + 4 ≤ 2051) (v1 : Int32) (v2 : Int32) : wpX_setPriority (fun r u' => wpY_setPriority (fun r' v' => r' = r ∧ i_Rel (k + 4) u' v') v v1 v2) u v1 v2 := by
  refine ic_el (Q := fun u v => wpX_setPriority (fun r u' => wpY_setPriority (fun r' v' => r' = r ∧ i_Rel (k + 4) u' v') v v1 v2) u v1 v2) ?_ I
  intro T M P c sl sz ln pl ba ef lf nw ar ow od po dp rs yr hc J; obtain ⟨⟨hT2, hM1, hP1, hP8⟩, D, he, V, L, C, hPo, hAo, hOw, hLf, hRs⟩ := id J; obtain ⟨hT, hM, hcc, har, hd, F, hL, hO, hW, hN, hB⟩ := id D; have K := ic_yk J; have R4 := ic_in (k := k + 4) (by omega) J; have hc1 : c + 1 < 2 ^ 31 := by omega
  rcases ic_ixT v1 (n := T) (by omega) with hb | ⟨t, ht, rfl⟩
  · unfold wpX_setPriority
    refine ic_xbt1 hb (br_f (by decide) ?_)
    unfold wpY_setPriority
    exact ic_ybt1 hb (br_f (by decide) (And.intro rfl R4))
  · have lt := hL t ht; have hv := vp_in_nI (N := 32) (show t < 32 by omega) (by omega); have ct : (nI t).toNatClampNeg = t := nI_clamp (by omega); have bt := hB t
    unfold wpX_setPriority
    refine ic_xbt0 ht hT (br_t rfl ?_)
    rw [ct]
    refine And.intro hv ?_
    by_cases h17 : ln t = 17
    · refine br_t ((ic_lc_eq lt).mpr h17) ?_
      unfold wpY_setPriority
      refine ic_ybt0 ht hT (br_t rfl ?_)
      rw [ct]
      exact And.intro hv (br_f (fun z => absurd h17 ((ic_yb_0 (by omega)).mp z)) (And.intro rfl R4))
    · obtain ⟨b, _, hb15, hb⟩ := ic_cl_r v2 (a := 0) (b := 15) (by omega) (by omega)
      have hb' : ic_cl v2 0 15 = nI b := hb
      have D' : ic_St T M c ln ow nw ar (ic_ud ba t b) dp := ⟨hT, hM, hcc, har, hd, F, hL, hO, hW, hN, ic_ud_le hB hb15⟩
      have C' : ic_Co T ln ow (ic_ud ba t b) ef (fun y => y = t ∨ False) := by
        intro y hy hly hs
        exact ic_IC_E (C y hy hly (fun z => z)) (ic_un (fun e => hs (Or.inl e))) (fun _ => Iff.rfl) (fun _ _ => rfl)
      obtain ⟨sl', pl', ef', g1, g2, g3, g4, g5, g6⟩ := ic_rf (P := P) (lf := lf) (rs := rs) D' ht (by omega) he V L C'
      have J' := ic_Inv_pri J hb15 g1 g2 g3 g4
      refine br_f (fun z => h17 ((ic_lc_eq lt).mp z)) (ic_xcl ?_)
      rw [hb']
      refine And.intro hv (nm_r (ic_upN ba t b) (g6 _ (And.intro hv ?_)))
      unfold wpY_setPriority
      refine ic_ybt0 ht hT (br_t rfl ?_)
      rw [ct]
      refine And.intro hv (br_t ((ic_yb_0 (by omega)).mpr h17) (ic_ycl ?_))
      rw [hb']
      exact And.intro hv (nm_r (ic_yb_setb h17) (ic_yef (ic_yk J') ht (by omega) (And.intro rfl (ic_in (by omega) J'))))
theorem i_vc_signal {k : Nat} {u : SX} {v : SY} (I : i_Rel k u v) (hk : k + 4 ≤ 2051) (v1 : Int32) : wpX_signal (fun r u' => wpY_signal (fun r' v' => r' = r ∧ i_Rel (k + 4) u' v') v v1) u v1 := by
  refine ic_el (Q := fun u v => wpX_signal (fun r u' => wpY_signal (fun r' v' => r' = r ∧ i_Rel (k + 4) u' v') v v1) u v1) ?_ I
  intro T M P c sl sz ln pl ba ef lf nw ar ow od po dp rs yr hc J; obtain ⟨⟨hT2, hM1, hP1, hP8⟩, D, he, V, L, C, hPo, hAo, hOw, hLf, hRs⟩ := id J; obtain ⟨hT, hM, hcc, har, hd, F, hL, hO, hW, hN, hB⟩ := id D; have K := ic_yk J; have R4 := ic_in (k := k + 4) (by omega) J; have hc1 : c + 1 < 2 ^ 31 := by omega
  rcases ic_ixT v1 (n := T) (by omega) with hb | ⟨t, ht, rfl⟩
  · unfold wpX_signal
    refine ic_xbt1 hb (br_f (by decide) ?_)
    unfold wpY_signal
    exact ic_ybt1 hb (br_f (by decide) (And.intro rfl R4))
  · have lt := hL t ht; have hv := vp_in_nI (N := 32) (show t < 32 by omega) (by omega); have ct : (nI t).toNatClampNeg = t := nI_clamp (by omega); have bt := hB t
    unfold wpX_signal
    refine ic_xbt0 ht hT (br_t rfl (ic_xbl (by omega) lt (fun hbk => br_f (by decide) ?_) (fun hbk => br_t rfl ?_)))
    · obtain ⟨sl', pl', ef', sz', J', WX, WY⟩ := ic_ew (how := 3) J hc1 ht hbk
      refine WX _ ?_
      unfold wpY_signal
      refine ic_ybt0 ht hT (br_t rfl ?_)
      rw [ct]
      exact And.intro hv (br_t (ic_wc_0.mpr hbk) (WY _ (And.intro rfl (ic_in (by omega) J'))))
    · unfold wpY_signal
      refine ic_ybt0 ht hT (br_t rfl ?_)
      rw [ct]
      exact And.intro hv (br_f (fun z => hbk (ic_wc_0.mp z)) (And.intro rfl R4))
end
section
section
variable {T M P c : Nat} {sl sz ln pl ba ef lf nw ar ow od po dp : Nat → Nat} {rs yr : Nat → Int32}
theorem ic_yrc' {post : Int32 → Prop} {x t : Nat} {x' : Int32} (e : x' = nI x) (hT : T ≤ 32) (F : ic_Fo T ln ow dp) (ht : t < T) (hx : x < T) (h1 : ic_R (ic_nx ln ow) x t → post 1) (h0 : ¬ ic_R (ic_nx ln ow) x t → post 0) : wpY_reaches post (nI T, nI M, nI P, fun j => ic_yb (ln j) (ba j), fun j => ic_wc (ln j), fun j => nI (lf j), yr, fun j => nI (od j), fun j => ic_oc (ow j)) x' (nI t) := by
  subst e
  exact ic_yrc hT F ht hx h1 h0
theorem ic_cl_lim {v : Int32} (h0 : ¬ v = 0) : ∃ r, r ≤ 100 ∧ ic_cl v 0 100 = nI r ∧ (0 ≤ v → ic_cl v 1 100 = nI r) ∧ (¬ 0 ≤ v → (0 : Int32) = nI r) := by
  by_cases h : 0 ≤ v
  · have h1 : 1 ≤ v := by
      rw [Int32.le_iff_toInt_le, show (0 : Int32).toInt = 0 from by decide] at h
      rw [Int32.le_iff_toInt_le, show (1 : Int32).toInt = 1 from by decide]
      have : v.toInt ≠ 0 := fun z => h0 (Int32.toInt_inj.mp (by rw [z]; decide))
      omega
    have e : ic_cl v 1 100 = ic_cl v 0 100 := by
      unfold ic_cl
      rw [if_pos h, if_pos h1]
    obtain ⟨r, _, hr, er⟩ := ic_cl_r v (a := 0) (b := 100) (by omega) (by omega)
    have er' : ic_cl v 0 100 = nI r := er
    exact ⟨r, hr, er', fun _ => e.trans er', fun z => absurd h z⟩
  · refine ⟨0, by omega, ?_, fun z => absurd z h, fun _ => rfl⟩
    unfold ic_cl
    rw [if_neg h]
    rfl
theorem ic_wc_set {t m : Nat} (hm : m < 16) : upd (fun j => ic_wc (ln j)) t (nI m) = fun j => ic_wc (ic_ud ln t m j) := by
  rw [← ic_wc_n hm]; exact ic_upG ic_wc ln t m
theorem ic_oc_set {m t : Nat} (ht : t < 32) : upd (fun j => ic_oc (ow j)) m (nI t) = fun j => ic_oc (ic_ud ow m t j) := by
  rw [← ic_oc_n (n := t) (by omega)]; exact ic_upG ic_oc ow m t
set_option maxHeartbeats 1000000 in
theorem ic_xlk {t m r : Nat} (D : ic_St T M c ln ow nw ar ba dp) (hc : c + 1 < 2 ^ 31) (he : ∀ x, ef x ≤ 15) (V : ic_LV T ln pl sl sz) (L : ic_LS ef ar sl sz) (C : ic_Co T ln ow ba ef (fun _ => False)) (ht : t < T) (hl : ln t = 16) (hm : m < M) (hy : ow m < T) (hyl : ln (ow m) < 17) (hn : ¬ ic_R (ic_nx ln ow) (ow m) t) :
  ∃ (dp' sl' pl' ef' sz' : Nat → Nat), ic_Fo T (ic_ud ln t m) ow dp' ∧ (∀ x, ef' x ≤ 15) ∧ ic_LV T (ic_ud ln t m) pl' sl' sz' ∧ ic_LS ef' (ic_ud ar t (c + 1)) sl' sz' ∧ ic_Co T (ic_ud ln t m) ow ba ef' (fun _ => False) ∧
  ∀ (post : Int32 → SX → Prop), post 2 (16, 32, (-1), (-1), 15, 100, nI T, nI M, nI P, lN (c + 1), fun j => nI (sl' j), fun j => nI (sz' j), fun j => ic_lc ((ic_ud ln t m) j), fun j => nI (pl' j), fun j => nI (ba j), fun j => nI (ef' j), rs, fun j => nI ((ic_ud lf t r) j), fun j => nI (nw j), fun j => lN ((ic_ud ar t (c + 1)) j), fun j => ic_oc (ow j)) → wX_lock_101 post (nI t) (nI m) (nI (ow m)) (nI r) (nI t) 16 32 (-1) (-1) 15 100 (nI T) (nI M) (nI P) (lN c) (fun j => nI (sl j)) (fun j => nI (sz j)) (fun j => ic_lc (ln j)) (fun j => nI (pl j)) (fun j => nI (ba j)) (fun j => nI (ef j)) rs (fun j => nI (lf j)) (fun j => nI (nw j)) (fun j => lN (ar j)) (fun j => ic_oc (ow j)) := by
  obtain ⟨hT, hM, hcc, har, hd, F, hL, hO, hW, hN, hB⟩ := id D
  obtain ⟨dp', F'⟩ := ic_Fo_blk F (show m < 16 by omega) hy hyl hn
  obtain ⟨sl1, pl1, V1, L1, W1⟩ := ic_lv (M := M) (P := P) (c := c) (ba := ba) (lf := ic_ud lf t r) (nw := nw) (ow := ow) (rs := rs) hT V L ht rfl (by omega)
  obtain ⟨sl2, pl2, V2, L2, W2⟩ := ic_ar (M := M) (P := P) (ba := ba) (lf := ic_ud lf t r) (nw := nw) (ow := ow) (rs := rs) (q := m) hT hc he har (ic_AD_lv hd) V1 L1 ht ic_us (by omega)
  rw [ic_udud ln t] at V2 W2
  have D' := ic_St_mv D hc (Or.inr hm) hB F'
  have C' : ic_Co T (ic_ud ln t m) ow ba ef (fun y => y = ow m ∨ False) := ic_Co_mv C (fun _ z => z.elim) (by omega) (fun z => by omega) (fun _ => Or.inl rfl)
  obtain ⟨sl3, pl3, ef3, g1, g2, g3, g4, g5, g6⟩ := ic_rf (Z := fun _ => False) (P := P) (lf := ic_ud lf t r) (rs := rs) D' hy (ic_live_mv (by omega) hyl) he V2 L2 C'
  refine ⟨dp', sl3, pl3, ef3, _, F', g1, g2, g3, g4, fun post h => ?_⟩
  have hv := vp_in_nI (N := 32) (show t < 32 by omega) (by omega)
  have ct : (nI t).toNatClampNeg = t := nI_clamp (by omega)
  have e1 : upd (fun j => nI (lf j)) (nI t).toNatClampNeg (nI r) = fun j => nI (ic_ud lf t r j) := by rw [ct]; exact ic_upN lf t r
  unfold wX_lock_101
  exact And.intro hv (nm_r e1 (W1 _ (W2 _ (g6 _ h))))
/-- after the hand-over only t may be wrong -/
theorem ic_Co_hand {t w m : Nat} {ef1 : Nat → Nat} (V : ic_LV T ln pl sl sz) (L : ic_LS ef ar sl sz) (hw : sl (32 * m) = w) (hwl : ln w = m) (hm : m < 16) (ho : ow m = t) (hl : ln t = 16) (C1 : ic_Co T (ic_ud ln w 16) ow ba ef1 (fun _ => False)) (hun : ∀ y, y ≠ t → ef1 y = ef y) (hwT : w < T) :
  ic_Co T (ic_ud ln w 16) (ic_ud ow m w) ba ef1 (fun y => y = t ∨ False) := by
  have hwt : w ≠ t := fun e => by rw [e, hl] at hwl; omega
  intro y hy hly hs
  have hyt : y ≠ t := fun e => hs (Or.inl e)
  have c1 := C1 y hy hly (fun z => z)
  by_cases e : y = w
  · subst e
    obtain ⟨a, b, d⟩ := c1
    refine ⟨a, fun x hx => ?_, ?_⟩
    · by_cases z : ic_ud ln y 16 x = m
      · have xw : x ≠ y := by
          intro q; rw [q, ic_us] at z; omega
        rw [ic_un xw] at z
        have xt : x ≠ t := by
          intro q; rw [q, hl] at z; omega
        rw [hun x xt, hun y hwt]
        obtain ⟨p1, p2⟩ := (V m (by omega)).2 x hx.1 z
        by_cases p0 : pl x = 0
        · rw [p0] at p2
          have p2' : sl (32 * m) = x := p2
          rw [hw] at p2'
          exact absurd p2'.symm xw
        · have s := L m (by omega) 0 (pl x) (by omega) p1
          have q0 : sl (32 * m + 0) = y := hw
          rw [p2, q0] at s
          unfold ic_pr at s
          omega
      · have q := hx.2.2
        rw [ic_un z] at q
        exact b x ⟨hx.1, hx.2.1, q⟩
    · rcases d with q | ⟨x, hx, q⟩
      · exact Or.inl q
      · refine Or.inr ⟨x, ⟨hx.1, hx.2.1, ?_⟩, q⟩
        by_cases z : ic_ud ln y 16 x = m
        · rw [z, ic_us]
        · rw [ic_un z]; exact hx.2.2
  · refine ic_IC_E c1 rfl (fun x => ?_) (fun _ _ => rfl)
    unfold ic_E
    by_cases z : ic_ud ln w 16 x = m
    · rw [z, ic_us, ho]
      exact ⟨fun q => absurd q.2.2.symm e, fun q => absurd q.2.2.symm hyt⟩
    · rw [ic_un z]
theorem ic_St_hand {w m : Nat} {nw' : Nat → Nat} (D : ic_St T M c ln ow nw ar ba dp) (hc : c + 1 < 2 ^ 31) (hw : w < T) (hwl : ln w = m) (hm : m < M) (hN' : ∀ x, x < T → nw' x = ic_cn (fun j => ic_ud ow m w j = x) M) : ic_St T M (c + 1) (ic_ud ln w 16) (ic_ud ow m w) nw' (ic_ud ar w (c + 1)) ba (ic_ud dp w 0) := by
  obtain ⟨hT, hM, hcc, har, hd, F, hL, hO, hW, hN, hB⟩ := id D
  obtain ⟨k1, k2, k3, k4, k5, k6, k7, k8, k9, k10, k11⟩ := ic_St_mv (t := w) D hc (Or.inl rfl) hB (ic_Fo_sub F rfl)
  refine ⟨k1, k2, k3, k4, k5, ic_Fo_hand F hw hwl (by omega), k7, fun j hj => ?_, k9, hN', k11⟩
  by_cases e : j = m
  · rw [e, ic_us]; omega
  · rw [ic_un e]; exact hO j hj
theorem ic_Ow_hand {w m : Nat} (h : ic_Ow T M ln ow) (hw : w < T) (hm : m < M) : ic_Ow T M (ic_ud ln w 16) (ic_ud ow m w) := by
  intro j hj
  by_cases e : j = m
  · rw [e, ic_us]
    exact Or.inr ⟨hw, hm, by rw [ic_us]; omega⟩
  · rw [ic_un e]
    exact ic_Ow_mv h (by omega) j hj
end
set_option maxHeartbeats 2000000 in
theorem i_vc_lock {k : Nat} {u : SX} {v : SY} (I : i_Rel k u v) (hk : k + 4 ≤ 2051) (v1 : Int32) (v2 : Int32) (v3 : Int32) : wpX_lock (fun r u' => wpY_lock (fun r' v' => r' = r ∧ i_Rel (k + 4) u' v') v v1 v2 v3) u v1 v2 v3 := by
  refine ic_el (Q := fun u v => wpX_lock (fun r u' => wpY_lock (fun r' v' => r' = r ∧ i_Rel (k + 4) u' v') v v1 v2 v3) u v1 v2 v3) ?_ I
  intro T M P c sl sz ln pl ba ef lf nw ar ow od po dp rs yr hc J; obtain ⟨⟨hT2, hM1, hP1, hP8⟩, D, he, V, L, C, hPo, hAo, hOw, hLf, hRs⟩ := id J; obtain ⟨hT, hM, hcc, har, hd, F, hL, hO, hW, hN, hB⟩ := id D; have K := ic_yk J; have R4 := ic_in (k := k + 4) (by omega) J; have hc1 : c + 1 < 2 ^ 31 := by omega
  rcases ic_ixT v1 (n := T) (by omega) with hb | ⟨t, ht, rfl⟩
  · unfold wpX_lock
    refine ic_xbt1 hb (br_f (by decide) ?_)
    unfold wpY_lock
    exact ic_ybt1 hb (br_f (by decide) (And.intro rfl R4))
  rcases ic_ixT v2 (n := M) (by omega) with hb | ⟨m, hm, rfl⟩
  · unfold wpX_lock
    refine ic_xbt0 ht hT (br_t rfl (ic_xbm1 hb (br_f (by decide) ?_)))
    unfold wpY_lock
    exact ic_ybt0 ht hT (br_t rfl (ic_ybm1 hb (br_f (by decide) (And.intro rfl R4))))
  have lt := hL t ht; have hv := vp_in_nI (N := 32) (show t < 32 by omega) (by omega); have ct : (nI t).toNatClampNeg = t := nI_clamp (by omega); have bt := hB t
  have hvm := vp_in_nI (N := 16) (show m < 16 by omega) (by omega); have cm : (nI m).toNatClampNeg = m := nI_clamp (by omega); have om := hO m (by omega); have omt := ic_oc_nI om (show t < 32 by omega); have om32 := ic_oc_eq om; have om0 := ic_oc_0 om
  unfold wpX_lock
  refine ic_xbt0 ht hT (br_t rfl (ic_xbm0 hm hM (br_t rfl (ic_xrun (by omega) lt (by omega) (fun z => by have := ic_pl_lt hT V ht (by omega); omega) (fun hr => br_f (by decide) ?_) (fun hr => br_t rfl ?_)))))
  · rw [cm]
    by_cases h32 : ow m = 32
    · refine And.intro hvm (nm_r (e' := -1) (om32.mpr h32) (br_f (fun z => ic_m1n (by omega) z.symm) (br_t rfl (ic_xtake (by omega) (by omega) ?_))))
      have hno : ∀ x, x < T → ln x ≠ m := by
        intro x hx e
        have := (F x hx (by omega)).1
        rw [e, h32] at this
        omega
      have J' := ic_Inv_own J hm hno (Or.inr ⟨ht, by omega⟩) (ic_nw_take hT hN hm h32 ht)
      unfold wpY_lock; refine ic_ybt0 ht hT (br_t rfl (ic_ybm0 hm hM (br_t rfl (ic_yrun K ht (by omega) (fun _ => br_f (by decide) ?_) (fun z => absurd hr z))))); rw [cm]
      exact And.intro hvm (br_f (fun z => by have := omt.mp z; omega) (And.intro hvm (br_f (fun z => om0.mp z h32) (And.intro hvm (nm_r (ic_oc_set (by omega)) (And.intro rfl (ic_in (by omega) J')))))))
    · have eo : ic_oc (ow m) = nI (ow m) := ic_oc_n h32
      obtain ⟨hy, _, hyl⟩ := (hOw m (by omega)).resolve_left h32
      refine And.intro hvm (nm_r (e' := nI (ow m)) eo ?_)
      by_cases hot : ow m = t
      · refine br_t (congrArg nI hot) ?_
        unfold wpY_lock; refine ic_ybt0 ht hT (br_t rfl (ic_ybm0 hm hM (br_t rfl (ic_yrun K ht (by omega) (fun _ => br_f (by decide) ?_) (fun z => absurd hr z))))); rw [cm]
        exact And.intro hvm (br_t (omt.mpr hot) (And.intro rfl R4))
      · refine br_f (fun z => hot ((nI_eq (by omega) (by omega)).mp z)) (br_f (ic_m1n (by omega)) ?_)
        by_cases h0 : v3 = 0
        · refine br_t h0 ?_
          unfold wpY_lock; refine ic_ybt0 ht hT (br_t rfl (ic_ybm0 hm hM (br_t rfl (ic_yrun K ht (by omega) (fun _ => br_f (by decide) ?_) (fun z => absurd hr z))))); rw [cm]
          exact And.intro hvm (br_f (fun z => hot (omt.mp z)) (And.intro hvm (br_t (om0.mpr h32) (br_t h0 (And.intro rfl R4)))))
        · refine br_f h0 (ic_cc hT F hL ht hy (fun hR => br_f (by decide) ?_) (fun hR => br_t rfl ?_))
          · unfold wpY_lock; refine ic_ybt0 ht hT (br_t rfl (ic_ybm0 hm hM (br_t rfl (ic_yrun K ht (by omega) (fun _ => br_f (by decide) ?_) (fun z => absurd hr z))))); rw [cm]
            exact And.intro hvm (br_f (fun z => hot (omt.mp z)) (And.intro hvm (br_t (om0.mpr h32) (br_f h0 (And.intro hvm (ic_yrc' eo hT F ht hy (fun _ => br_f (by decide) (And.intro rfl R4)) (fun z => absurd hR z)))))))
          · obtain ⟨r, hr100, er0, er1, er2⟩ := ic_cl_lim h0
            obtain ⟨dp', sl', pl', ef', sz', F', a1, a2, a3, a4, a5⟩ := ic_xlk (P := P) (lf := lf) (rs := rs) (r := r) D hc1 he V L C ht hr.1 hm hy hyl hR
            have J' := ic_Inv_mv J hc1 ht (Or.inr hm) hB F' a1 a2 a3 a4 (ic_Lf_b hLf (by omega) hr100) (ic_Re_mv hRs (by omega))
            have Y : wpY_lock (fun r' v' => r' = 2 ∧ i_Rel (k + 4) (16, 32, (-1), (-1), 15, 100, nI T, nI M, nI P, lN (c + 1), fun j => nI (sl' j), fun j => nI (sz' j), fun j => ic_lc ((ic_ud ln t m) j), fun j => nI (pl' j), fun j => nI (ba j), fun j => nI (ef' j), rs, fun j => nI ((ic_ud lf t r) j), fun j => nI (nw j), fun j => lN ((ic_ud ar t (c + 1)) j), fun j => ic_oc (ow j)) v') (nI T, nI M, nI P, fun j => ic_yb (ln j) (ba j), fun j => ic_wc (ln j), fun j => nI (lf j), yr, fun j => nI (od j), fun j => ic_oc (ow j)) (nI t) (nI m) v3 := by
              unfold wpY_lock; refine ic_ybt0 ht hT (br_t rfl (ic_ybm0 hm hM (br_t rfl (ic_yrun K ht (by omega) (fun _ => br_f (by decide) ?_) (fun z => absurd hr z))))); rw [cm]
              refine And.intro hvm (br_f (fun z => hot (omt.mp z)) (And.intro hvm (br_t (om0.mpr h32) (br_f h0 (And.intro hvm (ic_yrc' eo hT F ht hy (fun z => absurd z hR) (fun _ => br_t rfl ?_)))))))
              rw [ct]
              refine And.intro hv (nm_r (ic_wc_set (by omega)) (ic_ycl ?_))
              rw [er0]
              refine And.intro hv (nm_r (ic_upN lf t r) ?_)
              rw [← ic_yb_mv (ln := ln) (ba := ba) (t := t) (l := m) (by omega) (by omega)]
              exact ic_yar hPo (by omega) (And.intro rfl (ic_in (by omega) J'))
            by_cases hs : 0 ≤ v3
            · refine br_t hs (ic_xcl ?_)
              rw [er1 hs]
              exact a5 _ Y
            · refine br_f hs ?_
              rw [er2 hs]
              exact a5 _ Y
  · unfold wpY_lock
    exact ic_ybt0 ht hT (br_t rfl (ic_ybm0 hm hM (br_t rfl (ic_yrun K ht (by omega) (fun z => absurd z hr) (fun _ => br_t rfl (And.intro rfl R4))))))
set_option maxHeartbeats 2000000 in
theorem i_vc_unlock {k : Nat} {u : SX} {v : SY} (I : i_Rel k u v) (hk : k + 4 ≤ 2051) (v1 : Int32) (v2 : Int32) : wpX_unlock (fun r u' => wpY_unlock (fun r' v' => r' = r ∧ i_Rel (k + 4) u' v') v v1 v2) u v1 v2 := by
  refine ic_el (Q := fun u v => wpX_unlock (fun r u' => wpY_unlock (fun r' v' => r' = r ∧ i_Rel (k + 4) u' v') v v1 v2) u v1 v2) ?_ I
  intro T M P c sl sz ln pl ba ef lf nw ar ow od po dp rs yr hc J; obtain ⟨⟨hT2, hM1, hP1, hP8⟩, D, he, V, L, C, hPo, hAo, hOw, hLf, hRs⟩ := id J; obtain ⟨hT, hM, hcc, har, hd, F, hL, hO, hW, hN, hB⟩ := id D; have K := ic_yk J; have R4 := ic_in (k := k + 4) (by omega) J; have hc1 : c + 1 < 2 ^ 31 := by omega
  rcases ic_ixT v1 (n := T) (by omega) with hb | ⟨t, ht, rfl⟩
  · unfold wpX_unlock
    refine ic_xbt1 hb (br_f (by decide) ?_)
    unfold wpY_unlock
    exact ic_ybt1 hb (br_f (by decide) (And.intro rfl R4))
  rcases ic_ixT v2 (n := M) (by omega) with hb | ⟨m, hm, rfl⟩
  · unfold wpX_unlock
    refine ic_xbt0 ht hT (br_t rfl (ic_xbm1 hb (br_f (by decide) ?_)))
    unfold wpY_unlock
    exact ic_ybt0 ht hT (br_t rfl (ic_ybm1 hb (br_f (by decide) (And.intro rfl R4))))
  have lt := hL t ht; have hv := vp_in_nI (N := 32) (show t < 32 by omega) (by omega); have ct : (nI t).toNatClampNeg = t := nI_clamp (by omega); have bt := hB t
  have hvm := vp_in_nI (N := 16) (show m < 16 by omega) (by omega); have cm : (nI m).toNatClampNeg = m := nI_clamp (by omega); have om := hO m (by omega); have omt := ic_oc_nI om (show t < 32 by omega); have om32 := ic_oc_eq om; have om0 := ic_oc_0 om
  have hvm17 := vp_in_nI (N := 17) (show m < 17 by omega) (by omega)
  have R := V m (by omega)
  have szl := ic_sz_le R
  unfold wpX_unlock
  refine ic_xbt0 ht hT (br_t rfl (ic_xbm0 hm hM (br_t rfl (ic_xrun (by omega) lt (by omega) (fun z => by have := ic_pl_lt hT V ht (by omega); omega) (fun hr => br_f (by decide) ?_) (fun hr => br_t rfl ?_)))))
  · rw [cm]
    refine And.intro hvm ?_
    by_cases hot : ow m = t
    · have nw1 : 1 ≤ nw t := by
        obtain ⟨_, b, _⟩ := ic_cnow (ow := ow) (M := M) (z := 32) hm (by omega)
        rw [hN t ht, ← hot, b]
        omega
      refine br_t (omt.mpr hot) (And.intro hvm17 ?_)
      by_cases hz : sz m = 0
      · have hno : ∀ x, x < T → ln x ≠ m := by
          intro x hx e
          have := (R.2 x hx e).1
          omega
        have J' := ic_Inv_own J hm hno (Or.inl rfl) (ic_nw_give hT hN hm hot ht)
        refine br_t (congrArg nI hz) (ic_xgive (by omega) (by omega) nw1 ?_)
        unfold wpY_unlock; refine ic_ybt0 ht hT (br_t rfl (ic_ybm0 hm hM (br_t rfl (ic_yrun K ht (by omega) (fun _ => br_f (by decide) ?_) (fun z => absurd hr z))))); rw [cm]
        refine And.intro hvm (br_t (omt.mpr hot) (ic_yma_m (k := 0) K (by omega) (by omega) (fun z => by omega) (fun _ => br_f (by decide) (And.intro hvm (nm_r (ic_upG ic_oc ow m 32) (And.intro rfl (ic_in (by omega) J')))))))
      · obtain ⟨w, hw⟩ : ∃ w, sl (32 * m) = w := ⟨_, rfl⟩
        obtain ⟨y1, y2, y3⟩ := R.1 0 (by omega)
        have w1 : w < T := by rw [← hw]; exact y1
        have wl : ln w = m := by rw [← hw]; exact y2
        have hwt : w ≠ t := fun e => by rw [e, hr.1] at wl; omega
        have c32 : (nI m * 32).toNatClampNeg = 32 * m := by rw [ic_ix0]; exact nI_clamp (by omega)
        have v544 : vp_in (nI m * 32) 544 := by rw [ic_ix0]; exact vp_in_nI (by omega) (by omega)
        obtain ⟨sl1, pl1, ef1, sz1, g1, g2, g3, g4, g5, g6⟩ := ic_xew (P := P) (lf := lf) (rs := rs) (how := 1) D hc1 he V L C w1 (by omega)
        have lt1 : ic_ud ln w 16 t = 16 := by rw [ic_un (fun e => hwt e.symm)]; exact hr.1
        have hun : ∀ y, y ≠ t → ef1 y = ef y := by
          intro y hy
          refine g5 y (fun r => hy ?_)
          rw [wl, hot] at r
          exact (ic_Rroot (by omega) r).symm
        have D2 := ic_St_hand D hc1 w1 wl hm (ic_nw_hand hT hN hm hot ht w1 hwt)
        have C2 := ic_Co_hand V L hw wl (by omega) hot hr.1 g4 hun w1
        obtain ⟨sl2, pl2, ef2, p1, p2, p3, p4, p5, p6⟩ := ic_rf (P := P) (lf := ic_ud lf w 0) (rs := upd rs w 1) D2 ht (by omega) g1 g2 g3 C2
        have J' : ic_Inv T M P (c + 1) sl2 sz1 (ic_ud ln w 16) pl2 ba ef2 (ic_ud lf w 0) (ic_ud (ic_ud nw t (nw t - 1)) w (ic_ud nw t (nw t - 1) w + 1)) (ic_ud ar w (c + 1)) (ic_ud ow m w) (ic_oda od (po w) w) (ic_poa po w) (ic_ud dp w 0) (upd rs w 1) (upd yr w 1) :=
          ⟨⟨hT2, hM1, hP1, hP8⟩, D2, p1, p2, p3, p4, ic_Po_a hPo (by omega), ic_Ao_a hAo hPo hT w1 har, ic_Ow_hand hOw w1 hm, ic_Lf_w hLf, ic_Re_w hRs⟩
        refine br_f (nI_ne0 (by omega) (by omega)) ?_
        rw [c32]
        refine And.intro v544 (nm_r (e' := nI w) (congrArg nI hw) (g6 _ (ic_xgive (by omega) (by omega) nw1 (ic_xtake (by omega) (by omega) ?_))))
        rw [ic_udud ow m 32 w]
        refine p6 _ ?_
        unfold wpY_unlock; refine ic_ybt0 ht hT (br_t rfl (ic_ybm0 hm hM (br_t rfl (ic_yrun K ht (by omega) (fun _ => br_f (by decide) ?_) (fun z => absurd hr z))))); rw [cm]
        refine And.intro hvm (br_t (omt.mpr hot) (ic_yma_m (k := 0) K (by omega) (by omega) (fun _ => ?_) (fun z => by omega)))
        have e0 : sl (32 * m + 0) = w := hw
        rw [e0]
        exact br_t (nI_pos' (by omega)) (And.intro hvm (nm_r (ic_oc_set (by omega)) (ic_yw hPo (by omega) (by omega) (And.intro rfl (ic_in (by omega) J')))))
    · refine br_f (fun z => hot (omt.mp z)) ?_
      unfold wpY_unlock; refine ic_ybt0 ht hT (br_t rfl (ic_ybm0 hm hM (br_t rfl (ic_yrun K ht (by omega) (fun _ => br_f (by decide) ?_) (fun z => absurd hr z))))); rw [cm]
      exact And.intro hvm (br_f (fun z => hot (omt.mp z)) (And.intro rfl R4))
  · unfold wpY_unlock
    exact ic_ybt0 ht hT (br_t rfl (ic_ybm0 hm hM (br_t rfl (ic_yrun K ht (by omega) (fun z => absurd z hr) (fun _ => br_t rfl (And.intro rfl R4))))))
end
section
set_option maxHeartbeats 2000000 in
theorem i_vc_requeue {k : Nat} {u : SX} {v : SY} (I : i_Rel k u v) (hk : k + 4 ≤ 2051) (v1 : Int32) (v2 : Int32) : wpX_requeue (fun r u' => wpY_requeue (fun r' v' => r' = r ∧ i_Rel (k + 4) u' v') v v1 v2) u v1 v2 := by
  refine ic_el (Q := fun u v => wpX_requeue (fun r u' => wpY_requeue (fun r' v' => r' = r ∧ i_Rel (k + 4) u' v') v v1 v2) u v1 v2) ?_ I
  intro T M P c sl sz ln pl ba ef lf nw ar ow od po dp rs yr hc J; obtain ⟨⟨hT2, hM1, hP1, hP8⟩, D, he, V, L, C, hPo, hAo, hOw, hLf, hRs⟩ := id J; obtain ⟨hT, hM, hcc, har, hd, F, hL, hO, hW, hN, hB⟩ := id D; have K := ic_yk J; have R4 := ic_in (k := k + 4) (by omega) J; have hc1 : c + 1 < 2 ^ 31 := by omega
  rcases ic_ixT v1 (n := T) (by omega) with hb | ⟨t, ht, rfl⟩
  · unfold wpX_requeue
    refine ic_xbt1 hb (br_f (by decide) ?_)
    unfold wpY_requeue
    exact ic_ybt1 hb (br_f (by decide) (And.intro rfl R4))
  rcases ic_ixT v2 (n := M) (by omega) with hb | ⟨m, hm, rfl⟩
  · unfold wpX_requeue
    refine ic_xbt0 ht hT (br_t rfl (ic_xbm1 hb (br_f (by decide) ?_)))
    unfold wpY_requeue
    exact ic_ybt0 ht hT (br_t rfl (ic_ybm1 hb (br_f (by decide) (And.intro rfl R4))))
  have lt := hL t ht; have hv := vp_in_nI (N := 32) (show t < 32 by omega) (by omega); have ct : (nI t).toNatClampNeg = t := nI_clamp (by omega); have bt := hB t
  have hvm := vp_in_nI (N := 16) (show m < 16 by omega) (by omega); have cm : (nI m).toNatClampNeg = m := nI_clamp (by omega); have om := hO m (by omega); have omt := ic_oc_nI om (show t < 32 by omega); have om32 := ic_oc_eq om; have om0 := ic_oc_0 om
  unfold wpX_requeue
  refine ic_xbt0 ht hT (br_t rfl (ic_xbm0 hm hM (br_t rfl (ic_xbl (by omega) lt (fun hbk => br_f (by decide) ?_) (fun hbk => br_t rfl ?_)))))
  · rw [cm]
    by_cases h32 : ow m = 32
    · obtain ⟨sl', pl', ef', sz', J1, WX, _⟩ := ic_ew (how := 1) J hc1 ht hbk
      have hno : ∀ x, x < T → ic_ud ln t 16 x ≠ m := by
        intro x hx e
        by_cases z : x = t
        · rw [z, ic_us] at e; omega
        · rw [ic_un z] at e
          have := (F x hx (by omega)).1
          rw [e, h32] at this
          omega
      have J' := ic_Inv_own J1 hm hno (Or.inr ⟨ht, by rw [ic_us]; omega⟩) (ic_nw_take hT hN hm h32 ht)
      refine And.intro hvm (nm_r (e' := -1) (om32.mpr h32) (br_t rfl (WX _ (ic_xtake (by omega) (by omega) ?_))))
      unfold wpY_requeue; refine ic_ybt0 ht hT (br_t rfl (ic_ybm0 hm hM (br_t rfl ?_))); rw [ct, cm]
      exact And.intro hv (br_t (ic_wc_0.mpr hbk) (And.intro hvm (br_f (fun z => om0.mp z h32) (And.intro hvm (nm_r (ic_oc_set (by omega)) (ic_yw hPo (by omega) (by omega) (And.intro rfl (ic_in (by omega) J'))))))))
    · have eo : ic_oc (ow m) = nI (ow m) := ic_oc_n h32
      obtain ⟨hy, _, hyl⟩ := (hOw m (by omega)).resolve_left h32
      refine And.intro hvm (nm_r (e' := nI (ow m)) eo (br_f (ic_m1n (by omega)) (ic_cc hT F hL ht hy (fun hR => br_f (by decide) ?_) (fun hR => br_t rfl ?_))))
      · unfold wpY_requeue; refine ic_ybt0 ht hT (br_t rfl (ic_ybm0 hm hM (br_t rfl ?_))); rw [ct, cm]
        exact And.intro hv (br_t (ic_wc_0.mpr hbk) (And.intro hvm (br_t (om0.mpr h32) (And.intro hvm (ic_yrc' eo hT F ht hy (fun _ => br_f (by decide) (And.intro rfl R4)) (fun z => absurd hR z))))))
      · obtain ⟨hy0, hy0b, hy0l⟩ := F t ht hbk
        have eb : ic_oc (ow (ln t)) = nI (ow (ln t)) := ic_oc_n (by omega)
        obtain ⟨dp', F'⟩ := ic_Fo_blk F (show m < 16 by omega) hy hyl hR
        obtain ⟨sl1, pl1, V1, L1, W1⟩ := ic_lv (M := M) (P := P) (c := c) (ba := ba) (lf := lf) (nw := nw) (ow := ow) (rs := rs) hT V L ht rfl (by omega)
        obtain ⟨sl2, pl2, V2, L2, W2⟩ := ic_ar (M := M) (P := P) (ba := ba) (lf := lf) (nw := nw) (ow := ow) (rs := rs) (q := m) hT hc1 he har (ic_AD_lv hd) V1 L1 ht ic_us (by omega)
        rw [ic_udud ln t] at V2 W2
        have D' := ic_St_mv D hc1 (Or.inr hm) hB F'
        have C1 : ic_Co T (ic_ud ln t m) ow ba ef (fun z => z = ow (ln t) ∨ z = ow m) := ic_Co_mv C (fun _ z => z.elim) (by omega) (fun _ => Or.inl rfl) (fun _ => Or.inr rfl)
        obtain ⟨sl3, pl3, ef3, g1, g2, g3, g4, g5, g6⟩ := ic_rf (Z := fun z => z = ow m) (P := P) (lf := lf) (rs := rs) D' hy0 (ic_live_mv (by omega) hy0l) he V2 L2 C1
        obtain ⟨sl4, pl4, ef4, p1, p2, p3, p4, p5, p6⟩ := ic_rf (Z := fun _ => False) (P := P) (lf := lf) (rs := rs) D' hy (ic_live_mv (by omega) hyl) g1 g2 g3 (ic_Co_mono g4 (fun y e => Or.inl e))
        have hLf' : ic_Lf T (ic_ud ln t m) lf := by
          have z := ic_Lf_b (t := t) (m := m) hLf (by omega) (hLf.1 t)
          rw [ic_ud_id rfl] at z
          exact z
        have J' := ic_Inv_mv J hc1 ht (Or.inr hm) hB F' p1 p2 p3 p4 hLf' (ic_Re_mv hRs (by omega))
        refine ic_xnx (by omega) lt (fun _ => ?_) (fun z => absurd hbk z)
        rw [eb]
        refine W1 _ (W2 _ (g6 _ (p6 _ ?_)))
        unfold wpY_requeue; refine ic_ybt0 ht hT (br_t rfl (ic_ybm0 hm hM (br_t rfl ?_))); rw [ct, cm]
        refine And.intro hv (br_t (ic_wc_0.mpr hbk) (And.intro hvm (br_t (om0.mpr h32) (And.intro hvm (ic_yrc' eo hT F ht hy (fun z => absurd z hR) (fun _ => br_t rfl (And.intro hv (nm_r (ic_wc_set (by omega)) ?_))))))))
        rw [← ic_yb_mv (ln := ln) (ba := ba) (t := t) (l := m) (by omega) (by omega)]
        exact ic_yar hPo (by omega) (And.intro rfl (ic_in (by omega) J'))
  · unfold wpY_requeue; refine ic_ybt0 ht hT (br_t rfl (ic_ybm0 hm hM (br_t rfl ?_))); rw [ct, cm]
    exact And.intro hv (br_f (fun z => hbk (ic_wc_0.mp z)) (And.intro rfl R4))
end
section
section
variable {T M P : Nat} {ba nw ow dp : Nat → Nat}
theorem ic_Inv_lf {c : Nat} {sl sz ln pl ef lf ar od po : Nat → Nat} {rs yr : Nat → Int32} {x l : Nat} (J : ic_Inv T M P c sl sz ln pl ba ef lf nw ar ow od po dp rs yr) (hl : l ≤ 100) (hb : ln x < 16) : ic_Inv T M P c sl sz ln pl ba ef (ic_ud lf x l) nw ar ow od po dp rs yr := by
  obtain ⟨h0, D, he, V, L, C, hPo, hAo, hOw, hLf, hRs⟩ := J
  refine ⟨h0, D, he, V, L, C, hPo, hAo, hOw, ⟨ic_ud_le hLf.1 hl, fun y hy hly => ?_⟩, hRs⟩
  rw [ic_un (fun e => hly (by rw [e]; exact hb))]
  exact hLf.2 y hy hly
set_option maxHeartbeats 2000000 in
theorem ic_tk_loop : ∀ (d x e c : Nat) (sl sz ln pl ef lf ar od po : Nat → Nat) (rs yr : Nat → Int32), x + d = T → ic_Inv T M P c sl sz ln pl ba ef lf nw ar ow od po dp rs yr → c + d < 2 ^ 31 →
  ∃ (r c' : Nat) (sl' sz' ln' pl' ef' lf' ar' od' po' : Nat → Nat) (rs' yr' : Nat → Int32), c' ≤ c + d ∧ ic_Inv T M P c' sl' sz' ln' pl' ba ef' lf' nw ar' ow od' po' dp rs' yr' ∧
  (∀ (post : Int32 → SX → Prop) (N : Nat), d < N → post (nI (e + r)) (16, 32, (-1), (-1), 15, 100, nI T, nI M, nI P, lN c', fun j => nI (sl' j), fun j => nI (sz' j), fun j => ic_lc (ln' j), fun j => nI (pl' j), fun j => nI (ba j), fun j => nI (ef' j), rs', fun j => nI (lf' j), fun j => nI (nw j), fun j => lN (ar' j), fun j => ic_oc (ow j)) → wX_oneTick_4 post N (nI e) (nI x) 16 32 (-1) (-1) 15 100 (nI T) (nI M) (nI P) (lN c) (fun j => nI (sl j)) (fun j => nI (sz j)) (fun j => ic_lc (ln j)) (fun j => nI (pl j)) (fun j => nI (ba j)) (fun j => nI (ef j)) rs (fun j => nI (lf j)) (fun j => nI (nw j)) (fun j => lN (ar j)) (fun j => ic_oc (ow j))) ∧
  (∀ (post : Int32 → SY → Prop) (J14 : Int32 → Int32 → Int32 → Int32 → Int32 → (Nat → Int32) → (Nat → Int32) → (Nat → Int32) → (Nat → Int32) → (Nat → Int32) → (Nat → Int32) → Prop) (x2 x4 : Int32) (s N : Nat), d < N → J14 (nI (s + r)) (x4 + 1) (nI T) (nI M) (nI P) (fun j => ic_yb (ln' j) (ba j)) (fun j => ic_wc (ln' j)) (fun j => nI (lf' j)) yr' (fun j => nI (od' j)) (fun j => ic_oc (ow j)) → wY_tick_23 post J14 x2 x4 N (nI s) (nI x) (nI T) (nI M) (nI P) (fun j => ic_yb (ln j) (ba j)) (fun j => ic_wc (ln j)) (fun j => nI (lf j)) yr (fun j => nI (od j)) (fun j => ic_oc (ow j))) := by
  intro d
  induction d with
  | zero =>
    intro x e c sl sz ln pl ef lf ar od po rs yr hx J hc
    have hT := J.2.1.1
    refine ⟨0, c, sl, sz, ln, pl, ef, lf, ar, od, po, rs, yr, Nat.le_refl _, J, fun post N hN h => ?_, fun post J14 x2 x4 s N hN h => ?_⟩
    · cases N with
      | zero => omega
      | succ N => exact br_t (nI_le (by omega) (by omega)) h
    · cases N with
      | zero => omega
      | succ N => exact br_t (nI_le (by omega) (by omega)) (nm_e h)
  | succ d ih =>
    intro x e c sl sz ln pl ef lf ar od po rs yr hx J hc
    have hT := J.2.1.1
    have hx32 : x < 32 := by omega
    have lx : ln x ≤ 17 := J.2.1.2.2.2.2.2.2.1 x (by omega)
    have lf100 : lf x ≤ 100 := J.2.2.2.2.2.2.2.2.2.1.1 x
    have hv := vp_in_nI (N := 32) hx32 (by omega)
    have cx : (nI x).toNatClampNeg = x := nI_clamp (by omega)
    have bT : ¬ nI T ≤ nI x := nI_ge (by omega) (by omega)
    by_cases hb : ln x < 16
    · by_cases hz : lf x = 0
      · obtain ⟨r, c', sl', sz', ln', pl', ef', lf', ar', od', po', rs', yr', h1, h2, h3, h4⟩ := ih (x + 1) e c sl sz ln pl ef lf ar od po rs yr (by omega) J (by omega)
        refine ⟨r, c', sl', sz', ln', pl', ef', lf', ar', od', po', rs', yr', by omega, h2, fun post N hN h => ?_, fun post J14 x2 x4 s N hN h => ?_⟩
        · cases N with
          | zero => omega
          | succ N =>
            refine br_f bT (ic_xbl hx32 lx (fun _ => br_f (by decide) ?_) (fun z => absurd hb z))
            rw [cx]
            exact And.intro hv (br_t (nI_le (a := lf x) (b := 0) (by omega) (by omega)) (nm_r (nI_1 x) (h3 post N (by omega) h)))
        · cases N with
          | zero => omega
          | succ N =>
            refine br_f bT ?_
            rw [cx]
            exact And.intro hv (br_f (fun z => ic_wc_lt.mp z hb) (And.intro hv (br_t (nI_le (a := lf x) (b := 0) (by omega) (by omega)) (nm_r (nI_1 x) (h4 post J14 x2 x4 s N (by omega) h)))))
      · have nl : ¬ nI (lf x) ≤ 0 := nI_nle (by omega) (by omega)
        have J1 := ic_Inv_lf (x := x) (l := lf x - 1) J (by omega) hb
        have e1 : upd (fun j => nI (lf j)) x (nI (lf x) - 1) = fun j => nI (ic_ud lf x (lf x - 1) j) := by
          have z : nI (lf x) - 1 = nI (lf x - 1) := pk_sub (b := 1) (by omega)
          rw [z]; exact ic_upN lf x _
        have e2 : nI (ic_ud lf x (lf x - 1) x) = nI (lf x - 1) := by rw [ic_us]
        by_cases h1z : lf x - 1 = 0
        · have e3 : nI (ic_ud lf x (lf x - 1) x) = 0 := e2.trans (congrArg nI h1z)
          obtain ⟨sl1, pl1, ef1, sz1, J2, WX, WY⟩ := ic_ew (how := 2) J1 (by omega) (show x < T by omega) hb
          obtain ⟨r, c', sl', sz', ln', pl', ef', lf', ar', od', po', rs', yr', h1, h2, h3, h4⟩ := ih (x + 1) (e + 1) _ _ _ _ _ _ _ _ _ _ _ _ (by omega) J2 (by omega)
          refine ⟨r + 1, c', sl', sz', ln', pl', ef', lf', ar', od', po', rs', yr', by omega, h2, fun post N hN h => ?_, fun post J14 x2 x4 s N hN h => ?_⟩
          · have er : e + (r + 1) = e + 1 + r := by omega
            rw [er] at h
            cases N with
            | zero => omega
            | succ N =>
              refine br_f bT (ic_xbl hx32 lx (fun _ => br_f (by decide) ?_) (fun z => absurd hb z))
              rw [cx]
              exact And.intro hv (br_f nl (And.intro hv (And.intro hv (nm_r e1 (And.intro hv (br_t e3 (WX _ (nm_r (nI_1 e) (nm_r (nI_1 x) (h3 post N (by omega) h))))))))))
          · have er : s + (r + 1) = s + 1 + r := by omega
            rw [er] at h
            cases N with
            | zero => omega
            | succ N =>
              refine br_f bT ?_
              rw [cx]
              exact And.intro hv (br_f (fun z => ic_wc_lt.mp z hb) (And.intro hv (br_f nl (And.intro hv (And.intro hv (nm_r e1 (And.intro hv (br_t e3 (WY _ (nm_r (nI_1 s) (nm_r (nI_1 x) (h4 post J14 x2 x4 (s + 1) N (by omega) h))))))))))))
        · have e3 : ¬ nI (ic_ud lf x (lf x - 1) x) = 0 := by rw [e2]; exact nI_ne0 (by omega) (by omega)
          obtain ⟨r, c', sl', sz', ln', pl', ef', lf', ar', od', po', rs', yr', h1, h2, h3, h4⟩ := ih (x + 1) e _ _ _ _ _ _ _ _ _ _ _ _ (by omega) J1 (by omega)
          refine ⟨r, c', sl', sz', ln', pl', ef', lf', ar', od', po', rs', yr', by omega, h2, fun post N hN h => ?_, fun post J14 x2 x4 s N hN h => ?_⟩
          · cases N with
            | zero => omega
            | succ N =>
              refine br_f bT (ic_xbl hx32 lx (fun _ => br_f (by decide) ?_) (fun z => absurd hb z))
              rw [cx]
              exact And.intro hv (br_f nl (And.intro hv (And.intro hv (nm_r e1 (And.intro hv (br_f e3 (nm_r (nI_1 x) (h3 post N (by omega) h))))))))
          · cases N with
            | zero => omega
            | succ N =>
              refine br_f bT ?_
              rw [cx]
              exact And.intro hv (br_f (fun z => ic_wc_lt.mp z hb) (And.intro hv (br_f nl (And.intro hv (And.intro hv (nm_r e1 (And.intro hv (br_f e3 (nm_r (nI_1 x) (h4 post J14 x2 x4 s N (by omega) h))))))))))
    · obtain ⟨r, c', sl', sz', ln', pl', ef', lf', ar', od', po', rs', yr', h1, h2, h3, h4⟩ := ih (x + 1) e c sl sz ln pl ef lf ar od po rs yr (by omega) J (by omega)
      refine ⟨r, c', sl', sz', ln', pl', ef', lf', ar', od', po', rs', yr', by omega, h2, fun post N hN h => ?_, fun post J14 x2 x4 s N hN h => ?_⟩
      · cases N with
        | zero => omega
        | succ N => exact br_f bT (ic_xbl hx32 lx (fun z => absurd z hb) (fun _ => br_t rfl (nm_r (nI_1 x) (h3 post N (by omega) h))))
      · cases N with
        | zero => omega
        | succ N =>
          refine br_f bT ?_
          rw [cx]
          exact And.intro hv (br_t (ic_wc_lt.mpr hb) (nm_r (nI_1 x) (h4 post J14 x2 x4 s N (by omega) h)))
theorem ic_ot {c : Nat} {sl sz ln pl ef lf ar : Nat → Nat} {rs : Nat → Int32} {post : Int32 → SX → Prop} (N : Nat) (h : wX_oneTick_4 post N (nI 0) (nI 0) 16 32 (-1) (-1) 15 100 (nI T) (nI M) (nI P) (lN c) (fun j => nI (sl j)) (fun j => nI (sz j)) (fun j => ic_lc (ln j)) (fun j => nI (pl j)) (fun j => nI (ba j)) (fun j => nI (ef j)) rs (fun j => nI (lf j)) (fun j => nI (nw j)) (fun j => lN (ar j)) (fun j => ic_oc (ow j))) : wpX_oneTick post (16, 32, (-1), (-1), 15, 100, nI T, nI M, nI P, lN c, fun j => nI (sl j), fun j => nI (sz j), fun j => ic_lc (ln j), fun j => nI (pl j), fun j => nI (ba j), fun j => nI (ef j), rs, fun j => nI (lf j), fun j => nI (nw j), fun j => lN (ar j), fun j => ic_oc (ow j)) := by
  unfold wpX_oneTick
  exact ⟨N, h⟩
set_option maxHeartbeats 2000000 in
theorem ic_tk_out {n : Nat} (hn : n ≤ 100) : ∀ (d i e c : Nat) (sl sz ln pl ef lf ar od po : Nat → Nat) (rs yr : Nat → Int32), i + d = n → ic_Inv T M P c sl sz ln pl ba ef lf nw ar ow od po dp rs yr → c + 32 * d < 2 ^ 31 →
  ∃ (r c' : Nat) (sl' sz' ln' pl' ef' lf' ar' od' po' : Nat → Nat) (rs' yr' : Nat → Int32), c' ≤ c + 32 * d ∧ ic_Inv T M P c' sl' sz' ln' pl' ba ef' lf' nw ar' ow od' po' dp rs' yr' ∧
  (∀ (post : Int32 → SX → Prop) (N : Nat), d < N → post (nI (e + r)) (16, 32, (-1), (-1), 15, 100, nI T, nI M, nI P, lN c', fun j => nI (sl' j), fun j => nI (sz' j), fun j => ic_lc (ln' j), fun j => nI (pl' j), fun j => nI (ba j), fun j => nI (ef' j), rs', fun j => nI (lf' j), fun j => nI (nw j), fun j => lN (ar' j), fun j => ic_oc (ow j)) → wX_tick_14 post (nI n) N (nI e) (nI i) 16 32 (-1) (-1) 15 100 (nI T) (nI M) (nI P) (lN c) (fun j => nI (sl j)) (fun j => nI (sz j)) (fun j => ic_lc (ln j)) (fun j => nI (pl j)) (fun j => nI (ba j)) (fun j => nI (ef j)) rs (fun j => nI (lf j)) (fun j => nI (nw j)) (fun j => lN (ar j)) (fun j => ic_oc (ow j))) ∧
  (∀ (post : Int32 → SY → Prop) (N : Nat), d < N → post (nI (e + r)) (nI T, nI M, nI P, fun j => ic_yb (ln' j) (ba j), fun j => ic_wc (ln' j), fun j => nI (lf' j), yr', fun j => nI (od' j), fun j => ic_oc (ow j)) → wY_tick_14 post (nI n) N (nI e) (nI i) (nI T) (nI M) (nI P) (fun j => ic_yb (ln j) (ba j)) (fun j => ic_wc (ln j)) (fun j => nI (lf j)) yr (fun j => nI (od j)) (fun j => ic_oc (ow j))) := by
  intro d
  induction d with
  | zero =>
    intro i e c sl sz ln pl ef lf ar od po rs yr hi J hc
    refine ⟨0, c, sl, sz, ln, pl, ef, lf, ar, od, po, rs, yr, Nat.le_refl _, J, fun post N hN h => ?_, fun post N hN h => ?_⟩
    · cases N with
      | zero => omega
      | succ N => exact br_t (nI_le (by omega) (by omega)) h
    · cases N with
      | zero => omega
      | succ N => exact br_t (nI_le (by omega) (by omega)) h
  | succ d ih =>
    intro i e c sl sz ln pl ef lf ar od po rs yr hi J hc
    have hT := J.2.1.1
    obtain ⟨r1, c1, sl1, sz1, ln1, pl1, ef1, lf1, ar1, od1, po1, rs1, yr1, a1, a2, a3, a4⟩ := ic_tk_loop T 0 0 c sl sz ln pl ef lf ar od po rs yr (by omega) J (by omega)
    obtain ⟨r2, c2, sl2, sz2, ln2, pl2, ef2, lf2, ar2, od2, po2, rs2, yr2, b1, b2, b3, b4⟩ := ih (i + 1) (e + r1) c1 sl1 sz1 ln1 pl1 ef1 lf1 ar1 od1 po1 rs1 yr1 (by omega) a2 (by omega)
    have er : e + (r1 + r2) = e + r1 + r2 := by omega
    have e0 : nI e + nI (0 + r1) = nI (e + r1) := by rw [nI_add, Nat.zero_add]
    refine ⟨r1 + r2, c2, sl2, sz2, ln2, pl2, ef2, lf2, ar2, od2, po2, rs2, yr2, by omega, b2, fun post N hN h => ?_, fun post N hN h => ?_⟩
    · rw [er] at h
      cases N with
      | zero => omega
      | succ N => exact br_f (nI_ge (by omega) (by omega)) (ic_ot (T + 1) (a3 _ (T + 1) (by omega) (nm_r e0 (nm_r (nI_1 i) (b3 post N (by omega) h)))))
    · rw [er] at h
      cases N with
      | zero => omega
      | succ N =>
        refine br_f (nI_ge (by omega) (by omega)) ⟨T + 1, a4 post _ (nI n) (nI i) e (T + 1) (by omega) ?_⟩
        rw [nI_1 i]
        exact b4 post N (by omega) h
end
theorem i_vc_tick {k : Nat} {u : SX} {v : SY} (I : i_Rel k u v) (hk : k + 4 ≤ 2051) (v1 : Int32) : wpX_tick (fun r u' => wpY_tick (fun r' v' => r' = r ∧ i_Rel (k + 4) u' v') v v1) u v1 := by
  refine ic_el (Q := fun u v => wpX_tick (fun r u' => wpY_tick (fun r' v' => r' = r ∧ i_Rel (k + 4) u' v') v v1) u v1) ?_ I
  intro T M P c sl sz ln pl ba ef lf nw ar ow od po dp rs yr hc J
  obtain ⟨n, _, hn, en⟩ := ic_cl_r v1 (a := 0) (b := 100) (by omega) (by omega)
  have en' : ic_cl v1 0 100 = nI n := en
  obtain ⟨r, c', sl', sz', ln', pl', ef', lf', ar', od', po', rs', yr', a1, a2, a3, a4⟩ := ic_tk_out hn n 0 0 c sl sz ln pl ef lf ar od po rs yr (by omega) J (by omega)
  unfold wpX_tick
  refine ic_xcl ?_
  rw [en']
  refine ⟨n + 1, a3 _ (n + 1) (by omega) ?_⟩
  unfold wpY_tick
  refine ic_ycl ?_
  rw [en']
  exact ⟨n + 1, a4 _ (n + 1) (by omega) (And.intro rfl (ic_in (by omega) a2))⟩
end
section
def ic_z (_ : Nat) : Nat := 0
def ic_l0 (i j : Nat) : Nat := if j < i then 17 else 0
def ic_o0 (i j : Nat) : Nat := if j < i then 32 else 0
def ic_d0 (i j : Nat) : Nat := if j < i then j else 0
theorem ic_l0_s (i : Nat) : ic_ud (ic_l0 i) i 17 = ic_l0 (i + 1) := by
  funext j
  unfold ic_l0
  by_cases e : j = i
  · subst e; rw [ic_us, if_pos (by omega)]
  · rw [ic_un e]
    by_cases h : j < i
    · rw [if_pos h, if_pos (by omega)]
    · rw [if_neg h, if_neg (by omega)]
theorem ic_o0_s (i : Nat) : ic_ud (ic_o0 i) i 32 = ic_o0 (i + 1) := by
  funext j
  unfold ic_o0
  by_cases e : j = i
  · subst e; rw [ic_us, if_pos (by omega)]
  · rw [ic_un e]
    by_cases h : j < i
    · rw [if_pos h, if_pos (by omega)]
    · rw [if_neg h, if_neg (by omega)]
theorem ic_d0_s (i : Nat) : ic_ud (ic_d0 i) i i = ic_d0 (i + 1) := by
  funext j
  unfold ic_d0
  by_cases e : j = i
  · subst e; rw [ic_us, if_pos (by omega)]
  · rw [ic_un e]
    by_cases h : j < i
    · rw [if_pos h, if_pos (by omega)]
    · rw [if_neg h, if_neg (by omega)]
section
variable {T M P c : Nat} {sl sz ln pl ba ef lf nw ar ow : Nat → Nat} {rs yr : Nat → Int32} {od : Nat → Nat}
theorem ic_xi2 {post : SX → Prop} (h : post (16, 32, (-1), (-1), 15, 100, nI T, nI M, nI P, lN c, fun j => nI (sl j), fun j => nI (sz j), fun j => ic_lc (ln j), fun j => nI (pl j), fun j => nI (ba j), fun j => nI (ef j), rs, fun j => nI (lf j), fun j => nI (nw j), fun j => lN (ar j), fun j => ic_oc ((ic_o0 16) j))) : ∀ d i N, i + d = 16 → d < N → wX_init_195 post 16 32 (-1) (-1) 15 100 (nI T) (nI M) (nI P) (lN c) N (nI i) (fun j => nI (sl j)) (fun j => nI (sz j)) (fun j => ic_lc (ln j)) (fun j => nI (pl j)) (fun j => nI (ba j)) (fun j => nI (ef j)) rs (fun j => nI (lf j)) (fun j => nI (nw j)) (fun j => lN (ar j)) (fun j => ic_oc (ic_o0 i j)) := by
  intro d
  induction d with
  | zero =>
    intro i N hi hN
    have e : i = 16 := by omega
    subst e
    cases N with
    | zero => omega
    | succ N => exact br_t (nI_le (a := 16) (b := 16) (by omega) (by omega)) h
  | succ d ih =>
    intro i N hi hN
    cases N with
    | zero => omega
    | succ N =>
      have ci : (nI i).toNatClampNeg = i := nI_clamp (by omega)
      have e1 : upd (fun j => ic_oc (ic_o0 i j)) (nI i).toNatClampNeg (-1) = fun j => ic_oc (ic_o0 (i + 1) j) := by
        rw [ci, ← ic_o0_s]; exact ic_upG ic_oc (ic_o0 i) i 32
      exact br_f (nI_ge (b := 16) (by omega) (by omega)) (And.intro (vp_in_nI (by omega) (by omega)) (nm_r e1 (nm_r (nI_1 i) (ih (i + 1) N (by omega) (by omega)))))
theorem ic_xi1 {post : SX → Prop} (h : post (16, 32, (-1), (-1), 15, 100, nI T, nI M, nI P, lN c, fun j => nI (sl j), fun j => nI (sz j), fun j => ic_lc ((ic_l0 32) j), fun j => nI (pl j), fun j => nI (ba j), fun j => nI (ef j), rs, fun j => nI (lf j), fun j => nI (nw j), fun j => lN (ar j), fun j => ic_oc ((ic_o0 16) j))) : ∀ d i N, i + d = 32 → d < N → wX_init_171 post 16 32 (-1) (-1) 15 100 (nI T) (nI M) (nI P) (lN c) N (nI i) (fun j => nI (sl j)) (fun j => nI (sz j)) (fun j => ic_lc (ic_l0 i j)) (fun j => nI (pl j)) (fun j => nI (ba j)) (fun j => nI (ef j)) rs (fun j => nI (lf j)) (fun j => nI (nw j)) (fun j => lN (ar j)) (fun j => ic_oc (ic_o0 0 j)) := by
  intro d
  induction d with
  | zero =>
    intro i N hi hN
    have e : i = 32 := by omega
    subst e
    cases N with
    | zero => omega
    | succ N => exact br_t (nI_le (a := 32) (b := 32) (by omega) (by omega)) ⟨17, ic_xi2 h 16 0 17 (by omega) (by omega)⟩
  | succ d ih =>
    intro i N hi hN
    cases N with
    | zero => omega
    | succ N =>
      have ci : (nI i).toNatClampNeg = i := nI_clamp (by omega)
      have e1 : upd (fun j => ic_lc (ic_l0 i j)) (nI i).toNatClampNeg (-1) = fun j => ic_lc (ic_l0 (i + 1) j) := by
        rw [ci, ← ic_l0_s]; exact ic_upG ic_lc (ic_l0 i) i 17
      exact br_f (nI_ge (b := 32) (by omega) (by omega)) (And.intro (vp_in_nI (by omega) (by omega)) (nm_r e1 (nm_r (nI_1 i) (ih (i + 1) N (by omega) (by omega)))))
theorem ic_yi2 {post : SY → Prop} (h : post (nI T, nI M, nI P, fun j => ic_yb (ln j) (ba j), fun j => ic_wc (ln j), fun j => nI (lf j), yr, fun j => nI (od j), fun j => ic_oc ((ic_o0 16) j))) : ∀ d i N, i + d = 16 → d < N → wY_init_132 post (nI T) (nI M) (nI P) N (nI i) (fun j => ic_yb (ln j) (ba j)) (fun j => ic_wc (ln j)) (fun j => nI (lf j)) yr (fun j => nI (od j)) (fun j => ic_oc (ic_o0 i j)) := by
  intro d
  induction d with
  | zero =>
    intro i N hi hN
    have e : i = 16 := by omega
    subst e
    cases N with
    | zero => omega
    | succ N => exact br_t (nI_le (a := 16) (b := 16) (by omega) (by omega)) h
  | succ d ih =>
    intro i N hi hN
    cases N with
    | zero => omega
    | succ N =>
      have ci : (nI i).toNatClampNeg = i := nI_clamp (by omega)
      have e1 : upd (fun j => ic_oc (ic_o0 i j)) (nI i).toNatClampNeg (-1) = fun j => ic_oc (ic_o0 (i + 1) j) := by
        rw [ci, ← ic_o0_s]; exact ic_upG ic_oc (ic_o0 i) i 32
      exact br_f (nI_ge (b := 16) (by omega) (by omega)) (And.intro (vp_in_nI (by omega) (by omega)) (nm_r e1 (nm_r (nI_1 i) (ih (i + 1) N (by omega) (by omega)))))
theorem ic_yi1 {post : SY → Prop} (h : post (nI T, nI M, nI P, fun j => ic_yb ((ic_l0 32) j) (ba j), fun j => ic_wc ((ic_l0 32) j), fun j => nI (lf j), yr, fun j => nI ((ic_d0 32) j), fun j => ic_oc ((ic_o0 16) j))) : ∀ d i N, i + d = 32 → d < N → wY_init_91 post (nI T) (nI M) (nI P) N (nI i) (fun j => ic_yb (ic_l0 i j) (ba j)) (fun j => ic_wc (ic_l0 i j)) (fun j => nI (lf j)) yr (fun j => nI (ic_d0 i j)) (fun j => ic_oc (ic_o0 0 j)) := by
  intro d
  induction d with
  | zero =>
    intro i N hi hN
    have e : i = 32 := by omega
    subst e
    cases N with
    | zero => omega
    | succ N => exact br_t (nI_le (a := 32) (b := 32) (by omega) (by omega)) ⟨17, ic_yi2 h 16 0 17 (by omega) (by omega)⟩
  | succ d ih =>
    intro i N hi hN
    cases N with
    | zero => omega
    | succ N =>
      have ci : (nI i).toNatClampNeg = i := nI_clamp (by omega)
      have hv := vp_in_nI (N := 32) (show i < 32 by omega) (by omega)
      have e1 : upd (fun j => ic_yb (ic_l0 i j) (ba j)) (nI i).toNatClampNeg (-1) = fun j => ic_yb (ic_l0 (i + 1) j) (ba j) := by
        rw [ci, ← ic_l0_s]; exact ic_yb_off
      have e2 : upd (fun j => ic_wc (ic_l0 i j)) (nI i).toNatClampNeg (-1) = fun j => ic_wc (ic_l0 (i + 1) j) := by
        rw [ci, ← ic_l0_s]; exact ic_upG ic_wc (ic_l0 i) i 17
      have e3 : upd (fun j => nI (ic_d0 i j)) (nI i).toNatClampNeg (nI i) = fun j => nI (ic_d0 (i + 1) j) := by
        rw [ci, ← ic_d0_s]; exact ic_upN (ic_d0 i) i i
      exact br_f (nI_ge (b := 32) (by omega) (by omega)) (And.intro hv (nm_r e1 (And.intro hv (nm_r e2 (And.intro hv (nm_r e3 (nm_r (nI_1 i) (ih (i + 1) N (by omega) (by omega)))))))))
end
theorem ic_Inv0 {T M P : Nat} (hT2 : 2 ≤ T) (hT : T ≤ 32) (hM1 : 1 ≤ M) (hM : M ≤ 16) (hP1 : 1 ≤ P) (hP : P ≤ 8) : ic_Inv T M P 0 ic_z ic_z (ic_l0 32) ic_z ic_z ic_z ic_z ic_z ic_z (ic_o0 16) (ic_d0 32) (fun x => x) ic_z (fun _ => 0) (fun _ => 0) := by
  have l17 : ∀ x, x < T → ic_l0 32 x = 17 := fun x hx => if_pos (by omega)
  have o32 : ∀ m, m < 16 → ic_o0 16 m = 32 := fun m hm => if_pos hm
  refine ⟨⟨hT2, hM1, hP1, hP⟩, ⟨hT, hM, by omega, fun _ => Nat.le_refl _, ?_, ?_, ?_, ?_, ?_, ?_, fun _ => Nat.zero_le _⟩, fun _ => Nat.zero_le _, ?_, ?_, ?_, ?_, ?_, ?_, ?_, ?_⟩
  · intro x y hx hy hlx
    rw [l17 x hx] at hlx; omega
  · intro x hx hb
    rw [l17 x hx] at hb; omega
  · intro x hx
    rw [l17 x hx]; omega
  · intro m hm
    rw [o32 m hm]; omega
  · intro x hx hb
    rw [l17 x hx] at hb; omega
  · intro t ht
    refine (ic_cn_z (fun m hm e => ?_)).symm
    rw [o32 m (by omega)] at e
    omega
  · intro q hq
    refine ⟨fun i hi => absurd hi (Nat.not_lt_zero i), fun x hx hl => ?_⟩
    rw [l17 x hx] at hl; omega
  · intro q hq i j hij hj
    exact absurd hj (Nat.not_lt_zero j)
  · intro t ht hl
    rw [l17 t ht] at hl; omega
  · exact ⟨fun x hx => ⟨hx, if_pos hx⟩, fun i hi => ⟨by show (if i < 32 then i else 0) < 32; rw [if_pos hi]; exact hi, if_pos hi⟩⟩
  · intro x y hx hy hlx
    rw [l17 x hx] at hlx; omega
  · intro m hm
    exact Or.inl (o32 m hm)
  · exact ⟨fun _ => Nat.zero_le _, fun _ _ _ => rfl⟩
  · intro t ht hl
    rfl
theorem i_vc0 (k0 : Int32) (k1 : Int32) (k2 : Int32) : wpX_init (fun u => wpY_init (fun v => i_Rel 3 u v) k0 k1 k2) k0 k1 k2 := by
  obtain ⟨T, hT2, hT, eT⟩ := ic_cl_r k0 (a := 2) (b := 32) (by omega) (by omega)
  obtain ⟨M, hM1, hM, eM⟩ := ic_cl_r k1 (a := 1) (b := 16) (by omega) (by omega)
  obtain ⟨P, hP1, hP, eP⟩ := ic_cl_r k2 (a := 1) (b := 8) (by omega) (by omega)
  have eT' : ic_cl k0 2 32 = nI T := eT
  have eM' : ic_cl k1 1 16 = nI M := eM
  have eP' : ic_cl k2 1 8 = nI P := eP
  have J := ic_Inv0 hT2 hT hM1 hM hP1 hP
  have R := ic_in (k := 3) (by omega) J
  have Y := ic_yi1 (T := T) (M := M) (P := P) (ba := ic_z) (lf := ic_z) (yr := fun _ => 0) (post := fun v => i_Rel 3 _ v) R 32 0 33 (by omega) (by omega)
  unfold wpX_init
  refine ic_xcl ?_
  rw [eT']
  refine ic_xcl ?_
  rw [eM']
  refine ic_xcl ?_
  rw [eP']
  refine ⟨33, ic_xi1 (c := 0) (sl := ic_z) (sz := ic_z) (pl := ic_z) (ba := ic_z) (ef := ic_z) (lf := ic_z) (nw := ic_z) (ar := ic_z) (rs := fun _ => 0) ?_ 32 0 33 (by omega) (by omega)⟩
  unfold wpY_init
  refine ic_ycl ?_
  rw [eT']
  refine ic_ycl ?_
  rw [eM']
  refine ic_ycl ?_
  rw [eP']
  exact ⟨33, Y⟩
end
