section
/-! counts over the first places of an array -/
/-- how many of the first n places hold c -/
def dq_c (a : Nat → Int32) (c : Int32) : Nat → Nat
  | 0 => 0
  | n + 1 => dq_c a c n + (if a n = c then 1 else 0)
theorem dq_ct {a : Nat → Int32} {c : Int32} {n : Nat} (h : a n = c) : dq_c a c (n + 1) = dq_c a c n + 1 := by
  show dq_c a c n + (if a n = c then 1 else 0) = _
  rw [if_pos h]
theorem dq_cf {a : Nat → Int32} {c : Int32} {n : Nat} (h : ¬ a n = c) : dq_c a c (n + 1) = dq_c a c n := by
  show dq_c a c n + (if a n = c then 1 else 0) = _
  rw [if_neg h]
  rfl
theorem dq_cC {a b : Nat → Int32} {c : Int32} : ∀ n, (∀ j, j < n → a j = b j) → dq_c a c n = dq_c b c n
  | 0, _ => rfl
  | n + 1, h => by
    show dq_c a c n + (if a n = c then 1 else 0) = dq_c b c n + (if b n = c then 1 else 0)
    rw [h n (Nat.lt_succ_self n), dq_cC n (fun j hj => h j (Nat.lt_succ_of_lt hj))]
theorem dq_c1 {a : Nat → Int32} {c : Int32} {n : Nat} : dq_c a c n ≤ dq_c a c (n + 1) ∧ dq_c a c (n + 1) ≤ dq_c a c n + 1 := by
  by_cases h : a n = c
  · rw [dq_ct h]
    omega
  · rw [dq_cf h]
    omega
theorem dq_cM {a : Nat → Int32} {c : Int32} {m n : Nat} (h : m ≤ n) : dq_c a c m ≤ dq_c a c n := by
  induction n with
  | zero =>
    rw [show m = 0 by omega]
    exact Nat.le_refl _
  | succ n ih =>
    by_cases e : m = n + 1
    · rw [e]
      exact Nat.le_refl _
    · exact Nat.le_trans (ih (by omega)) dq_c1.1
theorem dq_cL (a : Nat → Int32) (c : Int32) : ∀ n, dq_c a c n ≤ n
  | 0 => Nat.le_refl 0
  | n + 1 => by
    have h := dq_cL a c n
    have h2 := (dq_c1 (a := a) (c := c) (n := n)).2
    omega
theorem dq_cl {a : Nat → Int32} {c : Int32} {m n : Nat} (h : m < n) (ha : a m = c) : dq_c a c m < dq_c a c n := by
  have h1 : dq_c a c (m + 1) ≤ dq_c a c n := dq_cM h
  rw [dq_ct ha] at h1
  omega
theorem dq_cr {a : Nat → Int32} {c : Int32} {s : Nat} : ∀ m, (∀ v, v < m → a (s + v) = c) → dq_c a c (s + m) = dq_c a c s + m
  | 0, _ => rfl
  | m + 1, h => by
    have e : dq_c a c (s + m + 1) = dq_c a c (s + m) + 1 := dq_ct (h m (Nat.lt_succ_self m))
    have e2 := dq_cr m (fun v hv => h v (Nat.lt_succ_of_lt hv))
    show dq_c a c (s + m + 1) = _
    omega
theorem dq_cs {a : Nat → Int32} {c : Int32} {s : Nat} : ∀ m, (∀ v, v < m → ¬ a (s + v) = c) → dq_c a c (s + m) = dq_c a c s
  | 0, _ => rfl
  | m + 1, h => by
    have e : dq_c a c (s + m + 1) = dq_c a c (s + m) := dq_cf (h m (Nat.lt_succ_self m))
    have e2 := dq_cs m (fun v hv => h v (Nat.lt_succ_of_lt hv))
    show dq_c a c (s + m + 1) = _
    omega
/-- how many of the first n places are not 0 -/
def dq_n (a : Nat → Int32) : Nat → Nat
  | 0 => 0
  | n + 1 => dq_n a n + (if a n = 0 then 0 else 1)
theorem dq_nC {a b : Nat → Int32} : ∀ n, (∀ j, j < n → a j = b j) → dq_n a n = dq_n b n
  | 0, _ => rfl
  | n + 1, h => by
    show dq_n a n + (if a n = 0 then 0 else 1) = dq_n b n + (if b n = 0 then 0 else 1)
    rw [h n (Nat.lt_succ_self n), dq_nC n (fun j hj => h j (Nat.lt_succ_of_lt hj))]
theorem dq_nL (a : Nat → Int32) : ∀ n, dq_n a n ≤ n
  | 0 => Nat.le_refl 0
  | n + 1 => by
    have h := dq_nL a n
    show dq_n a n + (if a n = 0 then 0 else 1) ≤ n + 1
    by_cases e : a n = 0
    · rw [if_pos e]
      omega
    · rw [if_neg e]
      omega
/-! the walk of recordsWith: (how many records, whether the present record is counted) -/
def dq_st (hit z : Bool) (q : Nat × Bool) : Nat × Bool := if (hit && !(!z && q.2)) = true then (q.1 + 1, true) else (q.1, !z && q.2)
def dq_w (p : Int32 → Bool) (A D X : Nat → Int32) : Nat → Nat × Bool
  | 0 => (0, true)
  | e + 1 => dq_st (decide (D e = 2) && p (X (dq_c D 2 e))) (decide (A e = 0)) (dq_w p A D X e)
def dq_a (A D : Nat → Int32) : Nat → Nat × Bool
  | 0 => (0, true)
  | e + 1 => dq_st (decide (D e = 2)) (decide (A e = 0)) (dq_a A D e)
theorem dq_rel (h1 h2 z : Bool) (q1 q2 : Nat × Bool) (hh : h1 = true → h2 = true) (h : q1.1 + (if (q2.2 && !q1.2) = true then 1 else 0) ≤ q2.1) :
    (dq_st h1 z q1).1 + (if ((dq_st h2 z q2).2 && !(dq_st h1 z q1).2) = true then 1 else 0) ≤ (dq_st h2 z q2).1 := by
  obtain ⟨n1, f1⟩ := q1
  obtain ⟨n2, f2⟩ := q2
  revert hh h
  cases h1 <;> cases h2 <;> cases z <;> cases f1 <;> cases f2 <;> simp [dq_st] <;> omega
theorem dq_le (p : Int32 → Bool) (A D X : Nat → Int32) : ∀ e, (dq_w p A D X e).1 + (if ((dq_a A D e).2 && !(dq_w p A D X e).2) = true then 1 else 0) ≤ (dq_a A D e).1
  | 0 => by
    show 0 + (if (true && !true) = true then 1 else 0) ≤ 0
    decide
  | e + 1 => dq_rel _ _ _ _ _ (fun h => by
      revert h
      cases decide (D e = 2) <;> simp) (dq_le p A D X e)
theorem dq_wa (p : Int32 → Bool) (A D X : Nat → Int32) (e : Nat) : (dq_w p A D X e).1 ≤ (dq_a A D e).1 := Nat.le_trans (Nat.le_add_right _ _) (dq_le p A D X e)
theorem dq_wt {p : Int32 → Bool} (hp : ∀ x, p x = true) (A D X : Nat → Int32) : ∀ e, dq_w p A D X e = dq_a A D e
  | 0 => rfl
  | e + 1 => by
    show dq_st (decide (D e = 2) && p (X (dq_c D 2 e))) (decide (A e = 0)) (dq_w p A D X e) = dq_st (decide (D e = 2)) (decide (A e = 0)) (dq_a A D e)
    rw [hp, dq_wt hp A D X e, Bool.and_true]
theorem dq_aC {A D A' D' : Nat → Int32} : ∀ e, (∀ j, j < e → A' j = A j ∧ D' j = D j) → dq_a A' D' e = dq_a A D e
  | 0, _ => rfl
  | e + 1, h => by
    show dq_st (decide (D' e = 2)) (decide (A' e = 0)) (dq_a A' D' e) = dq_st (decide (D e = 2)) (decide (A e = 0)) (dq_a A D e)
    rw [(h e (Nat.lt_succ_self e)).1, (h e (Nat.lt_succ_self e)).2, dq_aC e (fun j hj => h j (Nat.lt_succ_of_lt hj))]
theorem dq_st1 (h z : Bool) (q : Nat × Bool) : (dq_st h z q).1 ≤ q.1 + 1 := by
  obtain ⟨n, f⟩ := q
  cases h <;> cases z <;> cases f <;> simp [dq_st]
theorem dq_aL (A D : Nat → Int32) : ∀ e, (dq_a A D e).1 ≤ e
  | 0 => Nat.le_refl 0
  | e + 1 => by
    have h := dq_aL A D e
    have h2 : (dq_a A D (e + 1)).1 ≤ (dq_a A D e).1 + 1 := dq_st1 _ _ _
    omega
/-- an entry that is no new record -/
theorem dq_st_n {h : Bool} {n : Nat} {f : Bool} : dq_st h false (n, f) = (n + (if (h && !f) = true then 1 else 0), h || f) := by
  cases h <;> cases f <;> rfl
theorem dq_st_z {h : Bool} {q : Nat × Bool} : dq_st h true q = (q.1 + (if h = true then 1 else 0), h) := by
  cases h <;> rfl
/-! one column: how it goes on (A), how much is there (D), the data (X) -/
def dq_at (A D X : Nat → Int32) (e : Nat) (x y z : Int32) : Prop := A e = x ∧ D e = y ∧ (y = 2 → X (dq_c D 2 e) = z)
/-- the first n entries, and their data, are kept -/
def dq_pre (n : Nat) (A D X A' D' X' : Nat → Int32) : Prop := (∀ e, e < n → A' e = A e ∧ D' e = D e) ∧ (∀ i, i < dq_c D 2 n → X' i = X i)
theorem dq_preR {n : Nat} {A D X : Nat → Int32} : dq_pre n A D X A D X := ⟨fun _ _ => ⟨rfl, rfl⟩, fun _ _ => rfl⟩
theorem dq_preD {n m : Nat} {A D X A' D' X' : Nat → Int32} (h : dq_pre n A D X A' D' X') (hm : m ≤ n) (c : Int32) : dq_c D' c m = dq_c D c m := dq_cC m (fun j hj => (h.1 j (by omega)).2)
theorem dq_preA {n m : Nat} {A D X A' D' X' : Nat → Int32} (h : dq_pre n A D X A' D' X') (hm : m ≤ n) (c : Int32) : dq_c A' c m = dq_c A c m := dq_cC m (fun j hj => (h.1 j (by omega)).1)
theorem dq_preT {n m : Nat} {A D X A' D' X' A'' D'' X'' : Nat → Int32} (h : dq_pre n A D X A' D' X') (h' : dq_pre m A' D' X' A'' D'' X'') (hm : n ≤ m) : dq_pre n A D X A'' D'' X'' := by
  refine ⟨fun e he => ?_, fun i hi => ?_⟩
  · have h1 := h.1 e he
    have h2 := h'.1 e (by omega)
    exact ⟨by rw [h2.1, h1.1], by rw [h2.2, h1.2]⟩
  · have h1 := dq_preD h (Nat.le_refl n) 2
    have h2 : dq_c D' 2 n ≤ dq_c D' 2 m := dq_cM hm
    rw [h'.2 i (by omega), h.2 i hi]
theorem dq_preE {n : Nat} {A D X A' D' X' : Nat → Int32} (h : dq_pre n A D X A' D' X') {e : Nat} (he : e < n) {x y z : Int32} (k : dq_at A D X e x y z) : dq_at A' D' X' e x y z := by
  obtain ⟨k1, k2, k3⟩ := k
  have h1 := h.1 e he
  refine ⟨by rw [h1.1, k1], by rw [h1.2, k2], fun hy => ?_⟩
  have e1 : dq_c D' 2 e = dq_c D 2 e := dq_preD h (by omega) 2
  have e2 : dq_c D 2 e < dq_c D 2 n := dq_cl he (by rw [k2, hy])
  rw [e1, h.2 _ e2, k3 hy]
theorem dq_app {n : Nat} {A D X : Nat → Int32} (x y : Int32) : dq_pre n A D X (upd A n x) (upd D n y) X :=
  ⟨fun e he => ⟨pk_un (by omega), pk_un (by omega)⟩, fun _ _ => rfl⟩
theorem dq_app2 {n : Nat} {A D X : Nat → Int32} (x y z : Int32) : dq_pre n A D X (upd A n x) (upd D n y) (upd X (dq_c D 2 n) z) :=
  ⟨fun e he => ⟨pk_un (by omega), pk_un (by omega)⟩, fun i hi => pk_un (by omega)⟩
theorem dq_new {n : Nat} {A D X : Nat → Int32} {x y z : Int32} (hy : ¬ y = 2) : dq_at (upd A n x) (upd D n y) X n x y z := ⟨pk_us, pk_us, fun h => absurd h hy⟩
theorem dq_new2 {n : Nat} {A D X : Nat → Int32} {x z : Int32} : dq_at (upd A n x) (upd D n 2) (upd X (dq_c D 2 n) z) n x 2 z := by
  refine ⟨pk_us, pk_us, fun _ => ?_⟩
  rw [dq_cC (a := upd D n 2) (b := D) n (fun j hj => pk_un (by omega))]
  exact pk_us
theorem dq_cU {a : Nat → Int32} {c x : Int32} {n m : Nat} (h : m ≤ n) : dq_c (upd a n x) c m = dq_c a c m := dq_cC m (fun j hj => pk_un (by omega))
theorem dq_cUt {a : Nat → Int32} {c : Int32} {n : Nat} : dq_c (upd a n c) c (n + 1) = dq_c a c n + 1 := by
  rw [dq_ct pk_us, dq_cU (Nat.le_refl n)]
theorem dq_cUf {a : Nat → Int32} {c x : Int32} {n : Nat} (h : ¬ x = c) : dq_c (upd a n x) c (n + 1) = dq_c a c n := by
  rw [dq_cf (by rw [pk_us]; exact h), dq_cU (Nat.le_refl n)]
/-! the law's word 'done' as a number: the last digit (of 8) counts the groups, the j-th above it the values of group j -/
def dq_ns (D j : Nat) : Nat := D / 8 ^ (j + 1) % 8
def dq_nx (D k m : Nat) : Nat := D + 1 + m * 8 ^ (k + 1)
theorem dq_4 {k : Nat} (h : k < 4) : k = 0 ∨ k = 1 ∨ k = 2 ∨ k = 3 := by omega
theorem dq_nxM {D k m : Nat} (hk : k < 4) (h : D % 8 = k) : dq_nx D k m % 8 = k + 1 := by
  rcases dq_4 hk with e | e | e | e <;> subst e
  · show (D + 1 + m * 8) % 8 = 0 + 1
    omega
  · show (D + 1 + m * 64) % 8 = 1 + 1
    omega
  · show (D + 1 + m * 512) % 8 = 2 + 1
    omega
  · show (D + 1 + m * 4096) % 8 = 3 + 1
    omega
theorem dq_nxL {D k m : Nat} (hk : k < 4) (h : D % 8 = k) (hD : D < 8 ^ (k + 1)) (hm : m < 8) : dq_nx D k m < 8 ^ (k + 2) := by
  rcases dq_4 hk with e | e | e | e <;> subst e
  · have hD : D < 8 := hD
    show D + 1 + m * 8 < 64
    omega
  · have hD : D < 64 := hD
    show D + 1 + m * 64 < 512
    omega
  · have hD : D < 512 := hD
    show D + 1 + m * 512 < 4096
    omega
  · have hD : D < 4096 := hD
    show D + 1 + m * 4096 < 32768
    omega
theorem dq_nsN {D k m : Nat} (hk : k < 4) (h : D % 8 = k) (hD : D < 8 ^ (k + 1)) (hm : m < 8) : dq_ns (dq_nx D k m) k = m := by
  rcases dq_4 hk with e | e | e | e <;> subst e
  · have hD : D < 8 := hD
    show (D + 1 + m * 8) / 8 % 8 = m
    omega
  · have hD : D < 64 := hD
    show (D + 1 + m * 64) / 64 % 8 = m
    omega
  · have hD : D < 512 := hD
    show (D + 1 + m * 512) / 512 % 8 = m
    omega
  · have hD : D < 4096 := hD
    show (D + 1 + m * 4096) / 4096 % 8 = m
    omega
theorem dq_nsK {D k m j : Nat} (hk : k < 4) (h : D % 8 = k) (hD : D < 8 ^ (k + 1)) (hj : j < k) : dq_ns (dq_nx D k m) j = dq_ns D j := by
  rcases dq_4 hk with e | e | e | e <;> subst e
  · exact absurd hj (by omega)
  · have hD : D < 64 := hD
    have hc : j = 0 := by omega
    subst hc
    show (D + 1 + m * 64) / 8 % 8 = D / 8 % 8
    omega
  · have hD : D < 512 := hD
    have hc : j = 0 ∨ j = 1 := by omega
    rcases hc with e | e <;> subst e
    · show (D + 1 + m * 512) / 8 % 8 = D / 8 % 8
      omega
    · show (D + 1 + m * 512) / 64 % 8 = D / 64 % 8
      omega
  · have hD : D < 4096 := hD
    have hc : j = 0 ∨ j = 1 ∨ j = 2 := by omega
    rcases hc with e | e | e <;> subst e
    · show (D + 1 + m * 4096) / 8 % 8 = D / 8 % 8
      omega
    · show (D + 1 + m * 4096) / 64 % 8 = D / 64 % 8
      omega
    · show (D + 1 + m * 4096) / 512 % 8 = D / 512 % 8
      omega
theorem dq_nx8 {D k m : Nat} (hk : k < 4) (h : D % 8 = k) : 8 ≤ dq_nx D k m ↔ (8 ≤ D ∨ 0 < m) := by
  rcases dq_4 hk with e | e | e | e <;> subst e
  · show 8 ≤ D + 1 + m * 8 ↔ _
    omega
  · show 8 ≤ D + 1 + m * 64 ↔ _
    omega
  · show 8 ≤ D + 1 + m * 512 ↔ _
    omega
  · show 8 ≤ D + 1 + m * 4096 ↔ _
    omega
theorem dq_nsL (D j : Nat) : dq_ns D j < 8 := Nat.mod_lt _ (by decide)
/-- where the value entries of group g begin -/
def dq_v (V D : Nat) : Nat → Nat
  | 0 => V
  | g + 1 => dq_v V D g + (if dq_ns D g = 0 then 1 else dq_ns D g)
theorem dq_vC {V D D' : Nat} : ∀ k, (∀ j, j < k → dq_ns D' j = dq_ns D j) → dq_v V D' k = dq_v V D k
  | 0, _ => rfl
  | k + 1, h => by
    show dq_v V D' k + (if dq_ns D' k = 0 then 1 else dq_ns D' k) = dq_v V D k + (if dq_ns D k = 0 then 1 else dq_ns D k)
    rw [h k (Nat.lt_succ_self k), dq_vC k (fun j hj => h j (Nat.lt_succ_of_lt hj))]
theorem dq_v1 (V D g : Nat) : dq_v V D g + 1 ≤ dq_v V D (g + 1) ∧ dq_v V D g + dq_ns D g ≤ dq_v V D (g + 1) := by
  show dq_v V D g + 1 ≤ dq_v V D g + (if dq_ns D g = 0 then 1 else dq_ns D g) ∧ dq_v V D g + dq_ns D g ≤ dq_v V D g + (if dq_ns D g = 0 then 1 else dq_ns D g)
  by_cases e : dq_ns D g = 0
  · rw [if_pos e]
    omega
  · rw [if_neg e]
    omega
theorem dq_vM (V D : Nat) {g h : Nat} (hg : g ≤ h) : dq_v V D g + (h - g) ≤ dq_v V D h := by
  induction h with
  | zero =>
    rw [show g = 0 by omega]
    exact Nat.le_refl _
  | succ h ih =>
    by_cases e : g = h + 1
    · rw [e]
      omega
    · have h1 := ih (by omega)
      have h2 := (dq_v1 V D h).1
      omega
/-! the law's own small functions -/
def dq_md (s g v : Int32) : Int32 := (((s >>> ((20 : Int32) &&& 31)) * (g + 2)) + (v * ((s >>> ((8 : Int32) &&& 31)) ||| 1))) + g
def dq_tb (s g : Int32) : Int32 := if ((s >>> ((16 + g) &&& 31)) &&& 1) = 0 then 0 else 1
def dq_nb (s : Int32) : Int32 := if (s &&& 1) = 0 then 0 else 1
/-- how the v-th entry of group j goes on -/
def dq_g (j v : Nat) : Int32 := if v = 0 then (if j = 0 then 0 else 1) else 2
/-- how much is there of the tag of group j -/
def dq_td (s : Int32) (j : Nat) : Int32 := if dq_tb s (nI j) = 0 then 1 else 2
theorem dq_g00 : dq_g 0 0 = 0 := rfl
theorem dq_gj0 {j : Nat} (h : 0 < j) : dq_g j 0 = 1 := by
  show (if j = 0 then (0 : Int32) else 1) = 1
  rw [if_neg (by omega)]
theorem dq_gv {j v : Nat} (h : 0 < v) : dq_g j v = 2 := by
  show (if v = 0 then (if j = 0 then (0 : Int32) else 1) else 2) = 2
  rw [if_neg (by omega)]
theorem dq_gn {j v : Nat} (h : 0 < j ∨ 0 < v) : ¬ dq_g j v = 0 := by
  by_cases e : v = 0
  · rw [e, dq_gj0 (by omega)]
    decide
  · rw [dq_gv (by omega)]
    decide
theorem dq_wtag {post : Int32 → Prop} {s g : Int32} (h : post (dq_tb s g)) : wpL_tagged post () s g := by
  refine br_c (fun e => ?_) (fun e => ?_)
  · have h' := h
    unfold dq_tb at h'
    rw [if_pos e] at h'
    exact h'
  · have h' := h
    unfold dq_tb at h'
    rw [if_neg e] at h'
    exact h'
theorem dq_wnot {post : Int32 → Prop} {s : Int32} (h : post (dq_nb s)) : wpL_noted post () s := by
  refine br_c (fun e => ?_) (fun e => ?_)
  · have h' := h
    unfold dq_nb at h'
    rw [if_pos e] at h'
    exact h'
  · have h' := h
    unfold dq_nb at h'
    rw [if_neg e] at h'
    exact h'
theorem dq_wmad {post : Int32 → Prop} {s g v : Int32} (h : post (dq_md s g v)) : wpL_made post () s g v := h
theorem dq_rem5 (x : Int32) : ∃ q : Nat, q ≤ 4 ∧ (x &&& 7) - (x &&& 7) / 5 * 5 = nI q := by
  obtain ⟨j, hj, e⟩ := pk_andE x (m := 7) 3 (by decide)
  refine ⟨j % 5, by omega, ?_⟩
  rw [e]
  exact pk_rem (a := j) (d := 5) (by omega) (by decide) (by decide)
theorem dq_rem12 (x : Int32) : ∃ q : Nat, q < 12 ∧ (x &&& 255) - (x &&& 255) / 12 * 12 = nI q := by
  obtain ⟨j, hj, e⟩ := pk_andE x (m := 255) 8 (by decide)
  refine ⟨j % 12, by omega, ?_⟩
  rw [e]
  exact pk_rem (a := j) (d := 12) (by omega) (by decide) (by decide)
theorem dq_wgrs {post : Int32 → Prop} {s : Int32} (h : ∀ q, q ≤ 4 → post (nI q)) : wpL_groups post () s := by
  obtain ⟨q, hq, e⟩ := dq_rem5 (s >>> ((1 : Int32) &&& 31))
  refine ⟨by decide, ?_⟩
  rw [e]
  exact h q hq
theorem dq_wvls {post : Int32 → Prop} {s g : Int32} (h : ∀ q, q ≤ 4 → post (nI q)) : wpL_values post () s g := by
  obtain ⟨q, hq, e⟩ := dq_rem5 (s >>> ((4 + (3 * g)) &&& 31))
  refine ⟨by decide, ?_⟩
  rw [e]
  exact h q hq
/-! the bits of 'done' -/
theorem dq_or (a b : Nat) : nI a ||| nI b = nI (a ||| b) := by
  apply Int32.toBitVec_inj.1
  show BitVec.ofNat 32 a ||| BitVec.ofNat 32 b = BitVec.ofNat 32 (a ||| b)
  apply BitVec.eq_of_getLsbD_eq
  intro i hi
  simp [hi]
theorem dq_orA {a b : Nat} (i : Nat) (ha : a < 2 ^ i) : a ||| b * 2 ^ i = a + b * 2 ^ i := by
  rw [Nat.or_comm, Nat.mul_comm, ← Nat.two_pow_add_eq_or_of_lt ha, Nat.add_comm]
theorem dq_nxI {D k m : Nat} (hk : k < 4) (h : D % 8 = k) (hD : D < 8 ^ (k + 1)) (hm : m < 8) : (nI D + 1) ||| (nI m <<< ((3 + (3 * nI k)) &&& 31)) = nI (dq_nx D k m) := by
  rcases dq_4 hk with e | e | e | e <;> subst e
  · have hD : D < 8 := hD
    rw [pk_shlN ((3 + (3 * nI 0)) &&& 31) 3 (by decide) (by omega), nI_1, dq_or, dq_orA 3 (by omega)]
    rfl
  · have hD : D < 64 := hD
    rw [pk_shlN ((3 + (3 * nI 1)) &&& 31) 6 (by decide) (by omega), nI_1, dq_or, dq_orA 6 (by omega)]
    rfl
  · have hD : D < 512 := hD
    rw [pk_shlN ((3 + (3 * nI 2)) &&& 31) 9 (by decide) (by omega), nI_1, dq_or, dq_orA 9 (by omega)]
    rfl
  · have hD : D < 4096 := hD
    rw [pk_shlN ((3 + (3 * nI 3)) &&& 31) 12 (by decide) (by omega), nI_1, dq_or, dq_orA 12 (by omega)]
    rfl
theorem dq_nsI {D k : Nat} (hk : k < 4) (hD : D < 2 ^ 31) : (nI D >>> ((3 + (3 * nI k)) &&& 31)) &&& 7 = nI (dq_ns D k) := by
  rcases dq_4 hk with e | e | e | e <;> subst e
  · rw [pk_shrN (by omega) ((3 + (3 * nI 0)) &&& 31) 3 (by decide), pk_andN (by omega) 3 (by decide)]
    rfl
  · rw [pk_shrN (by omega) ((3 + (3 * nI 1)) &&& 31) 6 (by decide), pk_andN (by omega) 3 (by decide)]
    rfl
  · rw [pk_shrN (by omega) ((3 + (3 * nI 2)) &&& 31) 9 (by decide), pk_andN (by omega) 3 (by decide)]
    rfl
  · rw [pk_shrN (by omega) ((3 + (3 * nI 3)) &&& 31) 12 (by decide), pk_andN (by omega) 3 (by decide)]
    rfl
theorem dq_and7 {D : Nat} (hD : D < 2 ^ 31) : nI D &&& 7 = nI (D % 8) := pk_andN (by omega) 3 (by decide)
theorem dq_shr3 {D : Nat} (hD : D < 2 ^ 31) : nI D >>> ((3 : Int32) &&& 31) = nI (D / 8) := pk_shrN hD _ 3 (by decide)
theorem dq_bool (x : Int32) (h : x = 0 ∨ x = 1) : vp_nar .boolean x = x := by
  rcases h with e | e <;> subst e <;> rfl
theorem dq_nb01 (s : Int32) : dq_nb s = 0 ∨ dq_nb s = 1 := by
  unfold dq_nb
  by_cases e : (s &&& 1) = 0
  · rw [if_pos e]
    exact Or.inl rfl
  · rw [if_neg e]
    exact Or.inr rfl
end
section
section
variable {q1 q2 q3 q4 q5 q6 q7 q8 q9 q10 q11 q12 q13 : Int32} {a1 a2 a3 a4 a5 a6 a7 a8 : Nat → Int32}
theorem dq_i1 (x : Int32) : x - 1 + 1 = x := Int32.sub_add_cancel x 1
theorem dq_i0 (x : Int32) : x + 0 = x := Int32.add_zero x
theorem dq_im {c r : Nat} (hc : c < 2 ^ 30) (hr : r < 2 ^ 30) : nI c - 1 = nI r ↔ c = r + 1 := by
  constructor
  · intro h
    have h2 : nI c = nI (r + 1) := by rw [nI_succ, ← h, dq_i1]
    exact (nI_eq (by omega) (by omega)).mp h2
  · intro h
    rw [h, nI_pred]
theorem dq_imm {c r : Nat} (hc : c < 2 ^ 30) (hr : r < 2 ^ 30) : nI c - 1 = nI r - 1 ↔ c = r := by
  constructor
  · intro h
    have h2 : nI c = nI r := by rw [← dq_i1 (nI c), h, dq_i1]
    exact (nI_eq (by omega) (by omega)).mp h2
  · intro h
    rw [h]
theorem dq_inle {c R : Nat} (hc : c ≤ R) (hR : R < 2 ^ 30) : ¬ nI R ≤ nI c - 1 := by
  cases c with
  | zero =>
    intro h
    have h2 : nI 0 ≤ nI R := nI_le (Nat.zero_le _) (by omega)
    have h3 : nI 0 ≤ nI 0 - 1 := Int32.le_trans h2 h
    exact absurd h3 (by decide)
  | succ c =>
    rw [nI_pred]
    exact nI_ge (by omega) (by omega)
theorem dq_u1 {a : Nat → Int32} {c : Int32} {i : Nat} : (a i = c → nI (dq_c a c (i + 1)) = nI (dq_c a c i) + 1) ∧ (¬ a i = c → nI (dq_c a c (i + 1)) = nI (dq_c a c i) + 0) :=
  ⟨fun e => by rw [dq_ct e, nI_succ], fun e => by rw [dq_cf e, dq_i0]⟩
theorem dq_u2 {a : Nat → Int32} {c : Int32} {i : Nat} : (a i = c → nI (dq_c a c (i + 1)) - 1 = nI (dq_c a c i) - 1 + 1) ∧ (¬ a i = c → nI (dq_c a c (i + 1)) - 1 = nI (dq_c a c i) - 1 + 0) :=
  ⟨fun e => by rw [dq_ct e, nI_pred, dq_i1], fun e => by rw [dq_cf e, dq_i0]⟩
/-! findTag -/
theorem dq_ft1 {post : St1 → Prop} {x1 x2 x3 x4 y3 y4 y5 : Int32} {n i te : Nat} (hi : i < te) (hte : te ≤ 52)
    (e3 : a3 i = 0 → y3 = x3 + 1) (e3' : ¬ a3 i = 0 → y3 = x3 + 0) (e4 : a3 i = 0 → y4 = 0) (e4' : ¬ a3 i = 0 → y4 = x4 + 1) (e5 : a4 i = 2 → y5 = q13 + 1) (e5' : ¬ a4 i = 2 → y5 = q13 + 0)
    (hm : y3 = x1 → y4 = x2 → post (q1, q2, q3, q4, nI te, q6, q7, q8, q9, q10, q11, nI i, q13, a1, a2, a3, a4, a5, a6, a7, a8))
    (hn : ¬ (y3 = x1 ∧ y4 = x2) → wX_findTag_18 post x1 x2 q1 q2 q3 q4 (nI te) q6 q7 q8 q9 q10 q11 q12 a1 a2 a3 a4 a5 a6 a7 a8 n y3 y4 (nI (i + 1)) y5) :
    wX_findTag_18 post x1 x2 q1 q2 q3 q4 (nI te) q6 q7 q8 q9 q10 q11 q12 a1 a2 a3 a4 a5 a6 a7 a8 (n + 1) x3 x4 (nI i) q13 := by
  have c : (nI i).toNatClampNeg = i := nI_clamp (by omega)
  have K3 : ¬ (y3 = x1 ∧ y4 = x2) → wX_findTag_83 post (wX_findTag_18 post x1 x2 q1 q2 q3 q4 (nI te) q6 q7 q8 q9 q10 q11 q12 a1 a2 a3 a4 a5 a6 a7 a8 n) x1 x2 y3 y4 (nI i) q1 q2 q3 q4 (nI te) q6 q7 q8 q9 q10 q11 q12 q13 a1 a2 a3 a4 a5 a6 a7 a8 := by
    intro h
    refine ⟨pk_in i 52 (by omega), ?_⟩
    rw [c]
    exact br_c (fun e => nm_r (e5 e).symm (nm_r (nI_1 i) (hn h))) (fun e => nm_r (e5' e).symm (nm_r (nI_1 i) (hn h)))
  have K2 : wX_findTag_63 post (wX_findTag_18 post x1 x2 q1 q2 q3 q4 (nI te) q6 q7 q8 q9 q10 q11 q12 a1 a2 a3 a4 a5 a6 a7 a8 n) x1 x2 y3 (nI i) y4 q1 q2 q3 q4 (nI te) q6 q7 q8 q9 q10 q11 q12 q13 a1 a2 a3 a4 a5 a6 a7 a8 :=
    br_c (fun e => br_c (fun e' => hm e e') (fun e' => K3 (fun t => e' t.2))) (fun e => K3 (fun t => e t.1))
  by_cases hz : a3 i = 0
  · refine pk_le te i (fun z => absurd z (by omega)) (fun _ => ⟨pk_in i 52 (by omega), ?_⟩)
    rw [c]
    refine br_t hz (nm_r (e3 hz).symm ⟨pk_in i 52 (by omega), ?_⟩)
    rw [c]
    refine br_t hz ?_
    rw [e4 hz] at K2
    exact K2
  · refine pk_le te i (fun z => absurd z (by omega)) (fun _ => ⟨pk_in i 52 (by omega), ?_⟩)
    rw [c]
    refine br_f hz (nm_r (e3' hz).symm ⟨pk_in i 52 (by omega), ?_⟩)
    rw [c]
    refine br_f hz ?_
    rw [e4' hz] at K2
    exact K2
theorem dq_ft {post : St1 → Prop} {r g T te : Nat} (hte : te ≤ 52) (h1 : T + g < te) (h2 : dq_c a3 0 T = r) (h3 : a3 T = 0) (h4 : ∀ j, 0 < j → j ≤ g → ¬ a3 (T + j) = 0)
    (H : post (q1, q2, q3, q4, nI te, q6, q7, q8, q9, q10, q11, nI (T + g), nI (dq_c a4 2 (T + g)), a1, a2, a3, a4, a5, a6, a7, a8)) : wpX_findTag post (q1, q2, q3, q4, nI te, q6, q7, q8, q9, q10, q11, q12, q13, a1, a2, a3, a4, a5, a6, a7, a8) (nI r) (nI g) := by
  have hr : r ≤ T := by
    rw [← h2]
    exact dq_cL _ _ _
  have hz : dq_c a3 0 (T + g + 1) = r + 1 := by
    have e1 : dq_c a3 0 (T + 1) = r + 1 := by rw [dq_ct h3, h2]
    have e2 := dq_cs (a := a3) (c := 0) (s := T + 1) g (fun v hv => by
      have := h4 (v + 1) (by omega) (by omega)
      rw [show T + 1 + v = T + (v + 1) by omega]
      exact this)
    rw [show T + g + 1 = T + 1 + g by omega, e2, e1]
  have L : ∀ (n i : Nat) (x3 s : Int32), i ≤ T + g → T + g - i < n → x3 = nI (dq_c a3 0 i) - 1 → (T < i → s = nI (i - 1 - T)) → wX_findTag_18 post (nI r) (nI g) q1 q2 q3 q4 (nI te) q6 q7 q8 q9 q10 q11 0 a1 a2 a3 a4 a5 a6 a7 a8 n x3 s (nI i) (nI (dq_c a4 2 i)) := by
    intro n
    induction n with
    | zero =>
      intro i x3 s hi hn
      omega
    | succ n ih =>
      intro i x3 s hi hn hx hs
      subst hx
      have hc : dq_c a3 0 (i + 1) ≤ i + 1 := dq_cL _ _ _
      have hy4 : T ≤ i → (if a3 i = 0 then 0 else s + 1) = nI (i - T) := by
        intro hti
        by_cases e : i = T
        · rw [e, if_pos h3, Nat.sub_self]
          rfl
        · have h5 : ¬ a3 i = 0 := by
            have := h4 (i - T) (by omega) (by omega)
            rw [show T + (i - T) = i by omega] at this
            exact this
          rw [if_neg h5, hs (by omega), nI_1, show i - 1 - T + 1 = i - T by omega]
      refine dq_ft1 (y3 := nI (dq_c a3 0 (i + 1)) - 1) (y4 := if a3 i = 0 then 0 else s + 1) (y5 := nI (dq_c a4 2 (i + 1))) (by omega) hte dq_u2.1 dq_u2.2 (fun e => if_pos e) (fun e => if_neg e) dq_u1.1 dq_u1.2 ?_ ?_
      · intro m3 m4
        have m5 := (dq_im (by omega) (by omega)).mp m3
        have hiE : i = T + g := by
          rcases Nat.lt_or_ge i T with hlt | hge
          · have h6 : dq_c a3 0 (i + 1) ≤ dq_c a3 0 T := dq_cM (by omega)
            omega
          · rw [hy4 hge] at m4
            have m6 := (nI_eq (by omega) (by omega)).mp m4
            omega
        rw [hiE]
        exact H
      · intro hno
        have hlt : i < T + g := by
          rcases Nat.lt_or_ge i (T + g) with h | h
          · exact h
          · have e : i = T + g := by omega
            refine absurd ⟨?_, ?_⟩ hno
            · rw [e, hz, nI_pred]
            · rw [hy4 (by omega), e, show T + g - T = g by omega]
        refine ih (i + 1) _ _ (by omega) (by omega) rfl (fun ht => ?_)
        rw [hy4 (by omega)]
        rfl
  exact ⟨T + g + 1, L (T + g + 1) 0 (-1) 0 (by omega) (by omega) (show (-1 : Int32) = nI 0 - 1 by decide) (fun h => absurd h (by omega))⟩
/-! findValue -/
theorem dq_fv1 {post : St1 → Prop} {x1 x2 x3 x4 y3 y4 y5 : Int32} {n i ve : Nat} (hi : i < ve) (hve : ve ≤ 112)
    (e3 : a6 i = 0 → y3 = x3 + 1) (e3' : ¬ a6 i = 0 → y3 = x3 + 0) (e4 : a6 i = 0 → y4 = 0) (e4' : ¬ a6 i = 0 → a6 i = 1 → y4 = x4 + 1) (e4'' : ¬ a6 i = 0 → ¬ a6 i = 1 → y4 = x4)
    (e5 : a7 i = 2 → y5 = q13 + 1) (e5' : ¬ a7 i = 2 → y5 = q13 + 0)
    (hm : y3 = x1 → y4 = x2 → post (q1, q2, q3, q4, q5, q6, nI ve, q8, q9, q10, q11, nI i, q13, a1, a2, a3, a4, a5, a6, a7, a8))
    (hn : ¬ (y3 = x1 ∧ y4 = x2) → wX_findValue_18 post x1 x2 q1 q2 q3 q4 q5 q6 (nI ve) q8 q9 q10 q11 q12 a1 a2 a3 a4 a5 a6 a7 a8 n y3 y4 (nI (i + 1)) y5) :
    wX_findValue_18 post x1 x2 q1 q2 q3 q4 q5 q6 (nI ve) q8 q9 q10 q11 q12 a1 a2 a3 a4 a5 a6 a7 a8 (n + 1) x3 x4 (nI i) q13 := by
  have c : (nI i).toNatClampNeg = i := nI_clamp (by omega)
  have K3 : ¬ (y3 = x1 ∧ y4 = x2) → wX_findValue_99 post (wX_findValue_18 post x1 x2 q1 q2 q3 q4 q5 q6 (nI ve) q8 q9 q10 q11 q12 a1 a2 a3 a4 a5 a6 a7 a8 n) x1 x2 y3 y4 (nI i) q1 q2 q3 q4 q5 q6 (nI ve) q8 q9 q10 q11 q12 q13 a1 a2 a3 a4 a5 a6 a7 a8 := by
    intro h
    refine ⟨pk_in i 112 (by omega), ?_⟩
    rw [c]
    exact br_c (fun e => nm_r (e5 e).symm (nm_r (nI_1 i) (hn h))) (fun e => nm_r (e5' e).symm (nm_r (nI_1 i) (hn h)))
  have K2 : wX_findValue_79 post (wX_findValue_18 post x1 x2 q1 q2 q3 q4 q5 q6 (nI ve) q8 q9 q10 q11 q12 a1 a2 a3 a4 a5 a6 a7 a8 n) x1 x2 y3 (nI i) y4 q1 q2 q3 q4 q5 q6 (nI ve) q8 q9 q10 q11 q12 q13 a1 a2 a3 a4 a5 a6 a7 a8 :=
    br_c (fun e => br_c (fun e' => hm e e') (fun e' => K3 (fun t => e' t.2))) (fun e => K3 (fun t => e t.1))
  by_cases hz : a6 i = 0
  · refine pk_le ve i (fun z => absurd z (by omega)) (fun _ => ⟨pk_in i 112 (by omega), ?_⟩)
    rw [c]
    refine br_t hz (nm_r (e3 hz).symm ⟨pk_in i 112 (by omega), ?_⟩)
    rw [c]
    refine br_t hz ?_
    rw [e4 hz] at K2
    exact K2
  · refine pk_le ve i (fun z => absurd z (by omega)) (fun _ => ⟨pk_in i 112 (by omega), ?_⟩)
    rw [c]
    refine br_f hz (nm_r (e3' hz).symm ⟨pk_in i 112 (by omega), ?_⟩)
    rw [c]
    refine br_f hz ⟨pk_in i 112 (by omega), ?_⟩
    by_cases ho : a6 i = 1
    · refine br_t ho ?_
      rw [e4' hz ho] at K2
      exact K2
    · refine br_f ho ?_
      rw [e4'' hz ho] at K2
      exact K2
theorem dq_fv {post : St1 → Prop} {r g V E ve : Nat} (hve : ve ≤ 112) (h1 : E < ve) (hVE : V ≤ E) (h2 : dq_c a6 0 V = r) (h3 : a6 V = 0) (h4 : dq_c a6 0 (E + 1) = r + 1) (h5 : dq_c a6 1 (E + 1) = dq_c a6 1 V + g) (h6 : V < E → a6 E = 1)
    (H : post (q1, q2, q3, q4, q5, q6, nI ve, q8, q9, q10, q11, nI E, nI (dq_c a7 2 E), a1, a2, a3, a4, a5, a6, a7, a8)) : wpX_findValue post (q1, q2, q3, q4, q5, q6, nI ve, q8, q9, q10, q11, q12, q13, a1, a2, a3, a4, a5, a6, a7, a8) (nI r) (nI g) := by
  have hr : r ≤ V := by
    rw [← h2]
    exact dq_cL _ _ _
  have hV1 : dq_c a6 0 (V + 1) = r + 1 := by rw [dq_ct h3, h2]
  have hV2 : dq_c a6 1 (V + 1) = dq_c a6 1 V := dq_cf (by rw [h3]; decide)
  have hg : dq_c a6 1 (E + 1) ≤ E + 1 := dq_cL _ _ _
  have L : ∀ (n i : Nat) (x3 s : Int32), i ≤ E → E - i < n → x3 = nI (dq_c a6 0 i) - 1 → (V < i → s = nI (dq_c a6 1 i - dq_c a6 1 V)) → wX_findValue_18 post (nI r) (nI g) q1 q2 q3 q4 q5 q6 (nI ve) q8 q9 q10 q11 0 a1 a2 a3 a4 a5 a6 a7 a8 n x3 s (nI i) (nI (dq_c a7 2 i)) := by
    intro n
    induction n with
    | zero =>
      intro i x3 s hi hn
      omega
    | succ n ih =>
      intro i x3 s hi hn hx hs
      subst hx
      have hc : dq_c a6 0 (i + 1) ≤ i + 1 := dq_cL _ _ _
      have hc1 : dq_c a6 1 (i + 1) ≤ i + 1 := dq_cL _ _ _
      have hy4 : V ≤ i → (if a6 i = 0 then 0 else if a6 i = 1 then s + 1 else s) = nI (dq_c a6 1 (i + 1) - dq_c a6 1 V) := by
        intro hti
        by_cases e : i = V
        · rw [e, if_pos h3, hV2, Nat.sub_self]
          rfl
        · have h7 : ¬ a6 i = 0 := by
            intro h8
            have h9 : dq_c a6 0 (V + 1) ≤ dq_c a6 0 i := dq_cM (by omega)
            have h10 : dq_c a6 0 (i + 1) ≤ dq_c a6 0 (E + 1) := dq_cM (by omega)
            rw [dq_ct h8] at h10
            omega
          have h11 : dq_c a6 1 V ≤ dq_c a6 1 i := dq_cM hti
          rw [if_neg h7, hs (by omega)]
          by_cases ho : a6 i = 1
          · rw [if_pos ho, dq_ct ho, nI_1, show dq_c a6 1 i - dq_c a6 1 V + 1 = dq_c a6 1 i + 1 - dq_c a6 1 V by omega]
          · rw [if_neg ho, dq_cf ho]
      refine dq_fv1 (y3 := nI (dq_c a6 0 (i + 1)) - 1) (y4 := if a6 i = 0 then 0 else if a6 i = 1 then s + 1 else s) (y5 := nI (dq_c a7 2 (i + 1))) (by omega) hve dq_u2.1 dq_u2.2 (fun e => if_pos e) (fun e e' => by rw [if_neg e, if_pos e']) (fun e e' => by rw [if_neg e, if_neg e']) dq_u1.1 dq_u1.2 ?_ ?_
      · intro m3 m4
        have m5 := (dq_im (by omega) (by omega)).mp m3
        have hiE : i = E := by
          rcases Nat.lt_or_ge i V with hlt | hge
          · have h7 : dq_c a6 0 (i + 1) ≤ dq_c a6 0 V := dq_cM (by omega)
            omega
          · rw [hy4 hge] at m4
            have m6 := (nI_eq (by omega) (by omega)).mp m4
            rcases Nat.lt_or_ge i E with hlt | hge2
            · have h8 : dq_c a6 1 (E + 1) = dq_c a6 1 E + 1 := dq_ct (h6 (by omega))
              have h9 : dq_c a6 1 (i + 1) ≤ dq_c a6 1 E := dq_cM (by omega)
              have h10 : dq_c a6 1 V ≤ dq_c a6 1 (i + 1) := dq_cM (by omega)
              omega
            · omega
        rw [hiE]
        exact H
      · intro hno
        have hlt : i < E := by
          rcases Nat.lt_or_ge i E with h | h
          · exact h
          · have e : i = E := by omega
            refine absurd ⟨?_, ?_⟩ hno
            · rw [e, h4, nI_pred]
            · rw [hy4 (by omega), e, h5, show dq_c a6 1 V + g - dq_c a6 1 V = g by omega]
        exact ih (i + 1) _ _ (by omega) (by omega) rfl (fun ht => hy4 (by omega))
  exact ⟨E + 1, L (E + 1) 0 (-1) 0 (by omega) (by omega) (show (-1 : Int32) = nI 0 - 1 by decide) (fun h => absurd h (by omega))⟩
/-! recordsWith -/
theorem dq_rc1 {post : Int32 → Prop} {x1 x2 x3 x4 x6 y4 : Int32} {n i j ve : Nat} (hi : i < ve) (hve : ve ≤ 112) (hj : a7 i = 2 → j < 60)
    (e4 : a6 i = 0 → y4 = x4 + 1) (e4' : ¬ a6 i = 0 → y4 = x4 + 0)
    (hA : a7 i = 2 → (a8 j < x1 ∨ x2 < a8 j ∨ y4 = x6 ∨ q3 ≤ y4) → wX_recordsWith_14 post x1 x2 q1 q2 q3 q4 q5 q6 (nI ve) q8 q9 q10 q11 q12 q13 a1 a2 a3 a4 a5 a6 a7 a8 n x3 y4 (nI (j + 1)) x6 (nI (i + 1)))
    (hB : a7 i = 2 → ¬ a8 j < x1 → ¬ x2 < a8 j → ¬ y4 = x6 → ¬ q3 ≤ y4 → wX_recordsWith_14 post x1 x2 q1 q2 q3 q4 q5 q6 (nI ve) q8 q9 q10 q11 q12 q13 a1 a2 a3 a4 a5 a6 a7 a8 n (x3 + 1) y4 (nI (j + 1)) y4 (nI (i + 1)))
    (hC : ¬ a7 i = 2 → wX_recordsWith_14 post x1 x2 q1 q2 q3 q4 q5 q6 (nI ve) q8 q9 q10 q11 q12 q13 a1 a2 a3 a4 a5 a6 a7 a8 n x3 y4 (nI j) x6 (nI (i + 1))) :
    wX_recordsWith_14 post x1 x2 q1 q2 q3 q4 q5 q6 (nI ve) q8 q9 q10 q11 q12 q13 a1 a2 a3 a4 a5 a6 a7 a8 (n + 1) x3 x4 (nI j) x6 (nI i) := by
  have c : (nI i).toNatClampNeg = i := nI_clamp (by omega)
  have K : ∀ z0, y4 = x4 + z0 → wX_recordsWith_40 post (wX_recordsWith_14 post x1 x2 q1 q2 q3 q4 q5 q6 (nI ve) q8 q9 q10 q11 q12 q13 a1 a2 a3 a4 a5 a6 a7 a8 n) x1 x2 x3 (nI j) x6 (nI i) z0 x4 q1 q2 q3 q4 q5 q6 (nI ve) q8 q9 q10 q11 q12 q13 a1 a2 a3 a4 a5 a6 a7 a8 := by
    intro z0 hz
    refine nm_r hz.symm ⟨pk_in i 112 (by omega), ?_⟩
    rw [c]
    refine br_c (fun e => ⟨pk_in j 60 (hj e), ?_⟩) (fun e => nm_r (nI_1 i) (hC e))
    have hj' := hj e
    rw [nI_clamp (show j < 2 ^ 31 by omega)]
    refine nm_e (nm_r (nI_1 j) ?_)
    exact br_c (fun u1 => nm_r (nI_1 i) (hA e (Or.inl u1))) (fun u1 => br_c (fun u2 => nm_r (nI_1 i) (hA e (Or.inr (Or.inl u2)))) (fun u2 => br_c (fun u3 => nm_r (nI_1 i) (hA e (Or.inr (Or.inr (Or.inl u3))))) (fun u3 => br_c (fun u4 => nm_r (nI_1 i) (hA e (Or.inr (Or.inr (Or.inr u4))))) (fun u4 => nm_e (nm_r (nI_1 i) (hB e u1 u2 u3 u4))))))
  by_cases hz : a6 i = 0
  · refine pk_le ve i (fun z => absurd z (by omega)) (fun _ => ⟨pk_in i 112 (by omega), ?_⟩)
    rw [c]
    exact br_t hz (K 1 (e4 hz))
  · refine pk_le ve i (fun z => absurd z (by omega)) (fun _ => ⟨pk_in i 112 (by omega), ?_⟩)
    rw [c]
    exact br_f hz (K 0 (e4' hz))
theorem dq_stA {h z f : Bool} {w : Nat} (e : (h && !(!z && f)) = false) : dq_st h z (w, f) = (w, !z && f) := by
  unfold dq_st
  rw [if_neg (by rw [e]; decide)]
theorem dq_stB {h z f : Bool} {w : Nat} (e : (h && !(!z && f)) = true) : dq_st h z (w, f) = (w + 1, true) := by
  unfold dq_st
  rw [if_pos e]
theorem dq_rc {post : Int32 → Prop} {lo hi : Int32} {R ve : Nat} (hve : ve ≤ 112) (hR : R ≤ 12) (h0 : dq_c a6 0 ve ≤ R) (h2 : dq_c a7 2 ve ≤ 60) (p : Int32 → Bool) (hp1 : ∀ v, v < lo ∨ hi < v → p v = false) (hp2 : ∀ v, ¬ v < lo → ¬ hi < v → p v = true)
    (H : post (nI (dq_w p a6 a7 a8 ve).1)) : wpX_recordsWith post (q1, q2, nI R, q4, q5, q6, nI ve, q8, q9, q10, q11, q12, q13, a1, a2, a3, a4, a5, a6, a7, a8) lo hi := by
  have L : ∀ (n i : Nat) (x3 x4 x5 x6 : Int32) (l : Nat), i ≤ ve → ve - i < n → x3 = nI (dq_w p a6 a7 a8 i).1 → x4 = nI (dq_c a6 0 i) - 1 → x5 = nI (dq_c a7 2 i) → x6 = nI l - 1 → l ≤ dq_c a6 0 i → ((dq_w p a6 a7 a8 i).2 = true ↔ l = dq_c a6 0 i) → wX_recordsWith_14 post lo hi q1 q2 (nI R) q4 q5 q6 (nI ve) q8 q9 q10 q11 q12 q13 a1 a2 a3 a4 a5 a6 a7 a8 n x3 x4 x5 x6 (nI i) := by
    intro n
    induction n with
    | zero =>
      intro i x3 x4 x5 x6 l hi' hn
      omega
    | succ n ih =>
      intro i x3 x4 x5 x6 l hi' hn e3 e4 e5 e6 hl hf
      subst e3 e4 e5 e6
      rcases Nat.lt_or_ge i ve with hlt | hge
      · have hst : dq_w p a6 a7 a8 (i + 1) = dq_st (decide (a7 i = 2) && p (a8 (dq_c a7 2 i))) (decide (a6 i = 0)) (dq_w p a6 a7 a8 i) := rfl
        rcases hw : dq_w p a6 a7 a8 i with ⟨w, f⟩
        rw [hw] at hst hf
        have hcR : dq_c a6 0 (i + 1) ≤ R := Nat.le_trans (dq_cM hlt) h0
        have hcl : l ≤ dq_c a6 0 (i + 1) := Nat.le_trans hl dq_c1.1
        have hf' : ((!decide (a6 i = 0)) && f) = true ↔ l = dq_c a6 0 (i + 1) := by
          by_cases hz : a6 i = 0
          · rw [dq_ct hz, decide_eq_true hz]
            constructor
            · intro h
              exact absurd h (by simp)
            · intro h
              omega
          · rw [dq_cf hz, decide_eq_false hz]
            exact hf
        refine dq_rc1 (y4 := nI (dq_c a6 0 (i + 1)) - 1) hlt hve (fun e => by
          have := dq_cl hlt e
          omega) dq_u2.1 dq_u2.2 ?_ ?_ ?_
        · intro e hor
          have hh : ((decide (a7 i = 2) && p (a8 (dq_c a7 2 i))) && !(!decide (a6 i = 0) && f)) = false := by
            rcases hor with u | u | u | u
            · rw [hp1 _ (Or.inl u), Bool.and_false, Bool.false_and]
            · rw [hp1 _ (Or.inr u), Bool.and_false, Bool.false_and]
            · have u' := (dq_imm (by omega) (by omega)).mp u
              rw [hf'.mpr u'.symm, Bool.not_true, Bool.and_false]
            · exact absurd u (dq_inle hcR (by omega))
          rw [dq_stA hh] at hst
          refine ih (i + 1) _ _ _ _ l (by omega) (by omega) ?_ rfl ?_ rfl hcl ?_
          · rw [hst]
          · rw [dq_ct e]
          · rw [hst]
            exact hf'
        · intro e u1 u2 u3 u4
          have hh : ((decide (a7 i = 2) && p (a8 (dq_c a7 2 i))) && !(!decide (a6 i = 0) && f)) = true := by
            have hff : (!decide (a6 i = 0) && f) = false := by
              rcases hb : (!decide (a6 i = 0) && f) with _ | _
              · rfl
              · exact absurd (by rw [hf'.mp hb]) u3
            rw [hff, hp2 _ u1 u2, decide_eq_true e]
            rfl
          rw [dq_stB hh] at hst
          refine ih (i + 1) _ _ _ _ (dq_c a6 0 (i + 1)) (by omega) (by omega) ?_ rfl ?_ rfl (Nat.le_refl _) ?_
          · rw [hst]
            exact nI_1 w
          · rw [dq_ct e]
          · rw [hst]
            exact ⟨fun _ => rfl, fun _ => rfl⟩
        · intro e
          have hh : ((decide (a7 i = 2) && p (a8 (dq_c a7 2 i))) && !(!decide (a6 i = 0) && f)) = false := by
            rw [decide_eq_false e, Bool.false_and, Bool.false_and]
          rw [dq_stA hh] at hst
          refine ih (i + 1) _ _ _ _ l (by omega) (by omega) ?_ rfl ?_ rfl hcl ?_
          · rw [hst]
          · rw [dq_cf e]
          · rw [hst]
            exact hf'
      · have e : i = ve := by omega
        subst e
        exact pk_le i i (fun _ => H) (fun z => absurd z (by omega))
  exact ⟨ve + 1, L (ve + 1) 0 0 (-1) 0 (-1) 0 (by omega) (by omega) rfl (show (-1 : Int32) = nI 0 - 1 by decide) rfl (show (-1 : Int32) = nI 0 - 1 by decide) (Nat.le_refl 0) ⟨fun _ => rfl, fun _ => rfl⟩⟩
/-! notesBefore -/
theorem dq_nbf {post : Int32 → Prop} {r : Nat} (hr : r ≤ 12) (H : post (nI (dq_n a1 r))) : wpX_notesBefore post (q1, q2, q3, q4, q5, q6, q7, q8, q9, q10, q11, q12, q13, a1, a2, a3, a4, a5, a6, a7, a8) (nI r) := by
  have L : ∀ (n i : Nat), i ≤ r → r - i < n → wX_notesBefore_4 post (nI r) q1 q2 q3 q4 q5 q6 q7 q8 q9 q10 q11 q12 q13 a1 a2 a3 a4 a5 a6 a7 a8 n (nI (dq_n a1 i)) (nI i) := by
    intro n
    induction n with
    | zero =>
      intro i hi hn
      omega
    | succ n ih =>
      intro i hi hn
      refine pk_le r i (fun z => ?_) (fun z => ⟨pk_in i 12 (by omega), ?_⟩)
      · rw [show i = r by omega]
        exact H
      · rw [nI_clamp (show i < 2 ^ 31 by omega)]
        have hh := ih (i + 1) (by omega) (by omega)
        refine br_c (fun e => nm_r ?_ (nm_r (nI_1 i) hh)) (fun e => nm_r ?_ (nm_r (nI_1 i) hh))
        · show nI (dq_n a1 i) + 0 = nI (dq_n a1 i + (if a1 i = 0 then 0 else 1))
          rw [if_pos e, dq_i0]
          rfl
        · show nI (dq_n a1 i) + 1 = nI (dq_n a1 i + (if a1 i = 0 then 0 else 1))
          rw [if_neg e, nI_1]
  exact ⟨r + 1, L (r + 1) 0 (by omega) (by omega)⟩
end
end
section
section
variable {q1 q2 q3 q4 q5 q6 q7 q8 q9 q10 q11 q12 q13 : Int32} {a1 a2 a3 a4 a5 a6 a7 a8 : Nat → Int32}
/-- the note of record r, out of seed s -/
def dq_lN (s : Int32) (r : Nat) (a1 a2 : Nat → Int32) : Prop := a1 r = dq_nb s ∧ (¬ dq_nb s = 0 → a2 (dq_n a1 r) = dq_md s (-1) 0)
/-- the tags of record r: its entries begin at T -/
def dq_lT (s : Int32) (r D te T : Nat) (a3 a4 a5 : Nat → Int32) : Prop :=
  dq_c a3 0 T = r ∧ T + max 1 (D % 8) ≤ te ∧ (T + max 1 (D % 8) < te → a3 (T + max 1 (D % 8)) = 0) ∧ (D % 8 = 0 → a3 T = 0 ∧ a4 T = 0) ∧ ∀ j, j < D % 8 → dq_at a3 a4 a5 (T + j) (dq_g j 0) (dq_td s j) (dq_md s (nI j) (-1) &&& 3)
/-- m values of group j, from entry st on -/
def dq_vg (s : Int32) (st j m : Nat) (a6 a7 a8 : Nat → Int32) : Prop := ∀ v, v < m → dq_at a6 a7 a8 (st + v) (dq_g j v) 2 (dq_md s (nI j) (nI v))
/-- a group, closed -/
def dq_vh (s : Int32) (st j m : Nat) (a6 a7 a8 : Nat → Int32) : Prop := dq_vg s st j m a6 a7 a8 ∧ (m = 0 → a6 st = dq_g j 0 ∧ a7 st = 1)
/-- the values of record r: its entries begin at V -/
def dq_lV (s : Int32) (r D ve V : Nat) (a6 a7 a8 : Nat → Int32) : Prop :=
  dq_c a6 0 V = r ∧ dq_v V D (D % 8) ≤ ve ∧ (0 < D % 8 → dq_v V D (D % 8) < ve → a6 (dq_v V D (D % 8)) = 0) ∧ ∀ j, j < D % 8 → dq_vh s (dq_v V D j) j (dq_ns D j) a6 a7 a8
/-- record r is there -/
def dq_L (s : Int32) (r D R te ve T V : Nat) (a1 a2 a3 a4 a5 a6 a7 a8 : Nat → Int32) : Prop :=
  dq_lN s r a1 a2 ∧ dq_lT s r D te T a3 a4 a5 ∧ dq_lV s r D ve V a6 a7 a8 ∧ r < R ∧ R ≤ 12 ∧ te ≤ 52 ∧ ve ≤ 112 ∧ dq_c a4 2 te ≤ 40 ∧ dq_c a7 2 ve ≤ 60 ∧ D % 8 ≤ 4 ∧ D < 2 ^ 15
theorem dq_tdn (s : Int32) (j : Nat) : ¬ dq_td s j = 0 := by
  unfold dq_td
  by_cases e : dq_tb s (nI j) = 0
  · rw [if_pos e]
    decide
  · rw [if_neg e]
    decide
theorem dq_nm1 {g : Nat} (h : g < 2 ^ 31) : ¬ nI g = -1 := by
  intro e
  have h2 := nI_pos h
  rw [e] at h2
  exact h2 (by decide)
theorem dq_lT0 {s : Int32} {r D te T : Nat} (h : dq_lT s r D te T a3 a4 a5) : a3 T = 0 := by
  by_cases e : D % 8 = 0
  · exact (h.2.2.2.1 e).1
  · exact (h.2.2.2.2 0 (by omega)).1
theorem dq_lTj {s : Int32} {r D te T j : Nat} (h : dq_lT s r D te T a3 a4 a5) (h0 : 0 < j) (hj : j < D % 8) : a3 (T + j) = 1 := by
  rw [(h.2.2.2.2 j hj).1, dq_gj0 h0]
theorem dq_ie {post : Int32 → Prop} {r R : Nat} (hr : r < R) (hR : R ≤ 12) (H : post 1) : wpX_isEnded post (q1, q2, nI R, q4, q5, q6, q7, q8, q9, q10, q11, q12, q13, a1, a2, a3, a4, a5, a6, a7, a8) (nI r) :=
  pk_lt r 0 (fun z => absurd z (by omega)) (fun _ => pk_le R r (fun z => absurd z (by omega)) (fun _ => H))
theorem dq_gs {post : Int32 → St1 → Prop} {s : Int32} {r D R te ve T V : Nat} (h : dq_L s r D R te ve T V a1 a2 a3 a4 a5 a6 a7 a8)
    (H : ∀ y z, post (nI (D % 8)) (q1, q2, nI R, q4, nI te, q6, nI ve, q8, q9, q10, q11, y, z, a1, a2, a3, a4, a5, a6, a7, a8)) : wpX_groups post (q1, q2, nI R, q4, nI te, q6, nI ve, q8, q9, q10, q11, q12, q13, a1, a2, a3, a4, a5, a6, a7, a8) (nI r) := by
  obtain ⟨hN, hT, hV, hr, hR, hte, hve, htc, hvc, hD, hDl⟩ := h
  have hk := hT.2.1
  unfold wpX_groups
  refine dq_ie hr hR (br_f (by decide) ?_)
  refine dq_ft (T := T) (g := 0) hte (by omega) hT.1 (dq_lT0 hT) (fun j u v => absurd u (by omega)) ?_
  refine ⟨pk_in (T + 0) 52 (by omega), ?_⟩
  rw [nI_clamp (show T + 0 < 2 ^ 31 by omega)]
  by_cases e : D % 8 = 0
  · have H' := H (nI (T + 0)) (nI (dq_c a4 2 (T + 0)))
    rw [e] at H'
    exact br_t (hT.2.2.2.1 e).2 H'
  · have hmx : max 1 (D % 8) = D % 8 := by omega
    rw [hmx] at hk
    refine br_f ?_ (nm_r (nI_1 (T + 0)) ?_)
    · rw [(hT.2.2.2.2 0 (by omega)).2.1]
      exact dq_tdn s 0
    · have L : ∀ n i, 1 ≤ i → i ≤ D % 8 → D % 8 - i < n → wX_groups_39 post q1 q2 (nI R) q4 (nI te) q6 (nI ve) q8 q9 q10 q11 (nI (T + 0)) (nI (dq_c a4 2 (T + 0))) a1 a2 a3 a4 a5 a6 a7 a8 n (nI i) (nI (T + i)) := by
        intro n
        induction n with
        | zero =>
          intro i h1 h2 h3
          omega
        | succ n ih =>
          intro i h1 h2 h3
          refine pk_le te (T + i) (fun z => ?_) (fun z => ⟨pk_in (T + i) 52 (by omega), ?_⟩)
          · rw [show i = D % 8 by omega]
            exact H _ _
          · rw [nI_clamp (show T + i < 2 ^ 31 by omega)]
            by_cases ei : i < D % 8
            · refine br_f ?_ (nm_r (nI_1 i) (nm_r (nI_1 (T + i)) (ih (i + 1) (by omega) (by omega) (by omega))))
              rw [dq_lTj hT (by omega) ei]
              decide
            · have ei' : i = D % 8 := by omega
              refine br_t ?_ ?_
              · have := hT.2.2.1
                rw [hmx] at this
                rw [ei', this (by omega)]
                decide
              · rw [ei']
                exact H _ _
      exact ⟨D % 8 + 1, L (D % 8 + 1) 1 (by omega) (by omega) (by omega)⟩
theorem dq_ig {post : Int32 → St1 → Prop} {s : Int32} {r D R te ve T V g : Nat} (h : dq_L s r D R te ve T V a1 a2 a3 a4 a5 a6 a7 a8) (hg : g < D % 8)
    (H : ∀ y z, post 1 (q1, q2, nI R, q4, nI te, q6, nI ve, q8, q9, q10, q11, y, z, a1, a2, a3, a4, a5, a6, a7, a8)) : wpX_isGroup post (q1, q2, nI R, q4, nI te, q6, nI ve, q8, q9, q10, q11, q12, q13, a1, a2, a3, a4, a5, a6, a7, a8) (nI r) (nI g) := by
  unfold wpX_isGroup
  refine dq_ie h.2.2.2.1 h.2.2.2.2.1 (br_f (by decide) ?_)
  refine pk_lt g 0 (fun z => absurd z (by omega)) (fun _ => ?_)
  refine dq_gs h (fun y z => ?_)
  exact pk_le (D % 8) g (fun z => absurd z (by omega)) (fun _ => H y z)
theorem dq_hn {post : Int32 → Prop} {s : Int32} {r D R te ve T V : Nat} (h : dq_L s r D R te ve T V a1 a2 a3 a4 a5 a6 a7 a8) (H : post (dq_nb s)) : wpX_hasNote post (q1, q2, nI R, q4, nI te, q6, nI ve, q8, q9, q10, q11, q12, q13, a1, a2, a3, a4, a5, a6, a7, a8) (nI r) := by
  obtain ⟨hN, hT, hV, hr, hR, hte, hve, htc, hvc, hD, hDl⟩ := h
  unfold wpX_hasNote
  refine dq_ie hr hR (br_f (by decide) ?_)
  refine ⟨pk_in r 12 (by omega), ?_⟩
  rw [nI_clamp (show r < 2 ^ 31 by omega), hN.1]
  rcases dq_nb01 s with e | e
  · rw [e] at H ⊢
    exact br_t rfl H
  · rw [e] at H ⊢
    exact br_f (by decide) H
theorem dq_lb1 {post : Int32 → St1 → Prop} {s : Int32} {r D R te ve T V : Nat} (h : dq_L s r D R te ve T V a1 a2 a3 a4 a5 a6 a7 a8)
    (H : post (if dq_nb s = 0 then 0 else dq_md s (-1) 0) (q1, q2, nI R, q4, nI te, q6, nI ve, q8, q9, q10, q11, q12, q13, a1, a2, a3, a4, a5, a6, a7, a8)) : wpX_label post (q1, q2, nI R, q4, nI te, q6, nI ve, q8, q9, q10, q11, q12, q13, a1, a2, a3, a4, a5, a6, a7, a8) (nI r) (-1) := by
  obtain ⟨hN, hT, hV, hr, hR, hte, hve, htc, hvc, hD, hDl⟩ := h
  have hl := dq_nL a1 r
  unfold wpX_label
  refine dq_ie hr hR (br_f (by decide) ?_)
  refine br_t rfl ⟨pk_in r 12 (by omega), ?_⟩
  rw [nI_clamp (show r < 2 ^ 31 by omega)]
  refine br_c (fun e => ?_) (fun e => ?_)
  · rw [hN.1] at e
    rw [if_pos e] at H
    exact H
  · rw [hN.1] at e
    rw [if_neg e] at H
    refine dq_nbf (by omega) ⟨pk_in (dq_n a1 r) 12 (by omega), ?_⟩
    rw [nI_clamp (show dq_n a1 r < 2 ^ 31 by omega), hN.2 e]
    exact H
theorem dq_lbg {post : Int32 → St1 → Prop} {s : Int32} {r D R te ve T V g : Nat} (h : dq_L s r D R te ve T V a1 a2 a3 a4 a5 a6 a7 a8) (hg : g < D % 8)
    (H : ∀ y z, post (if dq_tb s (nI g) = 0 then 0 else dq_md s (nI g) (-1) &&& 3) (q1, q2, nI R, q4, nI te, q6, nI ve, q8, q9, q10, q11, y, z, a1, a2, a3, a4, a5, a6, a7, a8)) : wpX_label post (q1, q2, nI R, q4, nI te, q6, nI ve, q8, q9, q10, q11, q12, q13, a1, a2, a3, a4, a5, a6, a7, a8) (nI r) (nI g) := by
  have h' := h
  obtain ⟨hN, hT, hV, hr, hR, hte, hve, htc, hvc, hD, hDl⟩ := h'
  have hk := hT.2.1
  have E := hT.2.2.2.2 g hg
  unfold wpX_label
  refine dq_ie hr hR (br_f (by decide) ?_)
  refine br_f (dq_nm1 (by omega)) ?_
  refine dq_ig h hg (fun y z => br_f (by decide) ?_)
  refine dq_ft (T := T) (g := g) hte (by omega) hT.1 (dq_lT0 hT) (fun j u v => by rw [dq_lTj hT u (by omega)]; decide) ?_
  refine ⟨pk_in (T + g) 52 (by omega), ?_⟩
  rw [nI_clamp (show T + g < 2 ^ 31 by omega)]
  have H' := H (nI (T + g)) (nI (dq_c a4 2 (T + g)))
  by_cases e : dq_tb s (nI g) = 0
  · rw [if_pos e] at H'
    refine br_f ?_ H'
    rw [E.2.1]
    unfold dq_td
    rw [if_pos e]
    decide
  · rw [if_neg e] at H'
    have e2 : dq_td s g = 2 := if_neg e
    have e3 : dq_c a4 2 (T + g) < dq_c a4 2 te := dq_cl (by omega) (by rw [E.2.1, e2])
    refine br_t (by rw [E.2.1, e2]) ⟨pk_in (dq_c a4 2 (T + g)) 40 (by omega), ?_⟩
    rw [nI_clamp (show dq_c a4 2 (T + g) < 2 ^ 31 by omega), E.2.2 e2]
    exact H'
/-! values -/
theorem dq_lVs {s : Int32} {r D ve V g : Nat} (h : dq_lV s r D ve V a6 a7 a8) (hg : g < D % 8) : a6 (dq_v V D g) = dq_g g 0 := by
  obtain ⟨h1, h2⟩ := h.2.2.2 g hg
  by_cases e : dq_ns D g = 0
  · exact (h2 e).1
  · exact (h1 0 (by omega)).1
theorem dq_lVE {s : Int32} {r D ve V g : Nat} (h : dq_lV s r D ve V a6 a7 a8) (hg : g < D % 8) : dq_v V D (g + 1) ≤ ve := by
  have h1 := dq_vM V D (show g + 1 ≤ D % 8 by omega)
  have h2 := h.2.1
  omega
theorem dq_lVc {s : Int32} {r D ve V g : Nat} (h : dq_lV s r D ve V a6 a7 a8) (hg : g < D % 8) (c : Int32) (hc : ¬ (2 : Int32) = c) : dq_c a6 c (dq_v V D (g + 1)) = dq_c a6 c (dq_v V D g + 1) := by
  obtain ⟨h1, h2⟩ := h.2.2.2 g hg
  show dq_c a6 c (dq_v V D g + (if dq_ns D g = 0 then 1 else dq_ns D g)) = _
  by_cases e : dq_ns D g = 0
  · rw [if_pos e]
  · rw [if_neg e, show dq_v V D g + dq_ns D g = dq_v V D g + 1 + (dq_ns D g - 1) by omega]
    refine dq_cs _ (fun v hv => ?_)
    rw [show dq_v V D g + 1 + v = dq_v V D g + (v + 1) by omega, (h1 (v + 1) (by omega)).1, dq_gv (by omega)]
    exact hc
theorem dq_lVf {s : Int32} {r D ve V : Nat} (h : dq_lV s r D ve V a6 a7 a8) : ∀ g, g < D % 8 → dq_c a6 0 (dq_v V D g + 1) = r + 1 ∧ dq_c a6 1 (dq_v V D g + 1) = dq_c a6 1 V + g
  | 0, hg => by
    have e : a6 (dq_v V D 0) = 0 := dq_lVs h hg
    exact ⟨by rw [dq_ct e]; show dq_c a6 0 V + 1 = r + 1; rw [h.1], dq_cf (by rw [e]; decide)⟩
  | g + 1, hg => by
    have e := dq_lVs h hg
    rw [dq_gj0 (by omega)] at e
    obtain ⟨i1, i2⟩ := dq_lVf h g (by omega)
    refine ⟨?_, ?_⟩
    · rw [dq_cf (by rw [e]; decide), dq_lVc h (by omega) 0 (by decide), i1]
    · rw [dq_ct e, dq_lVc h (by omega) 1 (by decide), i2]
      omega
theorem dq_lVz {s : Int32} {r D ve V g : Nat} (h : dq_lV s r D ve V a6 a7 a8) (hg : g < D % 8) (hl : dq_v V D (g + 1) < ve) : ¬ a6 (dq_v V D (g + 1)) = 2 := by
  by_cases e : g + 1 < D % 8
  · rw [dq_lVs h e, dq_gj0 (by omega)]
    decide
  · have e2 : g + 1 = D % 8 := by omega
    rw [e2] at hl ⊢
    rw [h.2.2.1 (by omega) hl]
    decide
/-- findValue finds the group -/
theorem dq_fvg {post : St1 → Prop} {s : Int32} {r D R te ve T V g : Nat} (h : dq_L s r D R te ve T V a1 a2 a3 a4 a5 a6 a7 a8) (hg : g < D % 8)
    (H : post (q1, q2, nI R, q4, nI te, q6, nI ve, q8, q9, q10, q11, nI (dq_v V D g), nI (dq_c a7 2 (dq_v V D g)), a1, a2, a3, a4, a5, a6, a7, a8)) : wpX_findValue post (q1, q2, nI R, q4, nI te, q6, nI ve, q8, q9, q10, q11, q12, q13, a1, a2, a3, a4, a5, a6, a7, a8) (nI r) (nI g) := by
  obtain ⟨hN, hT, hV, hr, hR, hte, hve, htc, hvc, hD, hDl⟩ := h
  obtain ⟨f1, f2⟩ := dq_lVf hV g hg
  have f3 := dq_lVE hV hg
  have f4 := (dq_v1 V D g).1
  have f5 := dq_vM V D (Nat.zero_le g)
  have f6 : V + (g - 0) ≤ dq_v V D g := f5
  refine dq_fv (V := V) (E := dq_v V D g) hve (by omega) (by omega) hV.1 ?_ f1 f2 (fun hl => ?_) H
  · exact dq_lVs (g := 0) hV (by omega)
  · rw [dq_lVs hV hg, dq_gj0]
    rcases Nat.eq_zero_or_pos g with e | e
    · rw [e] at hl
      exact absurd hl (Nat.lt_irrefl V)
    · exact e
theorem dq_vs {post : Int32 → St1 → Prop} {s : Int32} {r D R te ve T V g : Nat} (h : dq_L s r D R te ve T V a1 a2 a3 a4 a5 a6 a7 a8) (hg : g < D % 8)
    (H : ∀ y z, post (nI (dq_ns D g)) (q1, q2, nI R, q4, nI te, q6, nI ve, q8, q9, q10, q11, y, z, a1, a2, a3, a4, a5, a6, a7, a8)) : wpX_values post (q1, q2, nI R, q4, nI te, q6, nI ve, q8, q9, q10, q11, q12, q13, a1, a2, a3, a4, a5, a6, a7, a8) (nI r) (nI g) := by
  have h' := h
  obtain ⟨hN, hT, hV, hr, hR, hte, hve, htc, hvc, hD, hDl⟩ := h'
  have f3 := dq_lVE hV hg
  have f4 := (dq_v1 V D g).1
  have f5 := dq_nsL D g
  obtain ⟨g1, g2⟩ := hV.2.2.2 g hg
  unfold wpX_values
  refine dq_ig h hg (fun y z => br_f (by decide) ?_)
  refine dq_fvg h hg ?_
  refine ⟨pk_in (dq_v V D g) 112 (by omega), ?_⟩
  rw [nI_clamp (show dq_v V D g < 2 ^ 31 by omega)]
  by_cases e : dq_ns D g = 0
  · have H' := H (nI (dq_v V D g)) (nI (dq_c a7 2 (dq_v V D g)))
    rw [e] at H'
    refine br_f ?_ H'
    rw [(g2 e).2]
    decide
  · have hE : dq_v V D (g + 1) = dq_v V D g + dq_ns D g := by
      show dq_v V D g + (if dq_ns D g = 0 then 1 else dq_ns D g) = _
      rw [if_neg e]
    refine br_t ?_ (nm_r (nI_1 (dq_v V D g)) ?_)
    · rw [show a7 (dq_v V D g) = 2 from (g1 0 (by omega)).2.1]
      decide
    · have L : ∀ n i, 1 ≤ i → i ≤ dq_ns D g → dq_ns D g - i < n → wX_values_42 post q1 q2 (nI R) q4 (nI te) q6 (nI ve) q8 q9 q10 q11 (nI (dq_v V D g)) (nI (dq_c a7 2 (dq_v V D g))) a1 a2 a3 a4 a5 a6 a7 a8 n (nI i) (nI (dq_v V D g + i)) := by
        intro n
        induction n with
        | zero =>
          intro i h1 h2 h3
          omega
        | succ n ih =>
          intro i h1 h2 h3
          refine pk_le ve (dq_v V D g + i) (fun z => ?_) (fun z => ⟨pk_in (dq_v V D g + i) 112 (by omega), ?_⟩)
          · rw [show i = dq_ns D g by omega]
            exact H _ _
          · rw [nI_clamp (show dq_v V D g + i < 2 ^ 31 by omega)]
            by_cases ei : i < dq_ns D g
            · refine br_t ?_ (nm_r (nI_1 i) (nm_r (nI_1 (dq_v V D g + i)) (ih (i + 1) (by omega) (by omega) (by omega))))
              rw [(g1 i ei).1, dq_gv (by omega)]
            · have ei' : i = dq_ns D g := by omega
              refine br_f ?_ ?_
              · rw [ei', ← hE]
                exact dq_lVz hV hg (by omega)
              · rw [ei']
                exact H _ _
      exact ⟨dq_ns D g + 1, L (dq_ns D g + 1) 1 (by omega) (by omega) (by omega)⟩
theorem dq_va {post : Int32 → St1 → Prop} {s : Int32} {r D R te ve T V g v : Nat} (h : dq_L s r D R te ve T V a1 a2 a3 a4 a5 a6 a7 a8) (hg : g < D % 8) (hv : v < dq_ns D g)
    (H : ∀ y z, post (dq_md s (nI g) (nI v)) (q1, q2, nI R, q4, nI te, q6, nI ve, q8, q9, q10, q11, y, z, a1, a2, a3, a4, a5, a6, a7, a8)) : wpX_valueAt post (q1, q2, nI R, q4, nI te, q6, nI ve, q8, q9, q10, q11, q12, q13, a1, a2, a3, a4, a5, a6, a7, a8) (nI r) (nI g) (nI v) := by
  have h' := h
  obtain ⟨hN, hT, hV, hr, hR, hte, hve, htc, hvc, hD, hDl⟩ := h'
  have f3 := dq_lVE hV hg
  have f4 := (dq_v1 V D g).2
  have f5 := dq_nsL D g
  obtain ⟨g1, g2⟩ := hV.2.2.2 g hg
  unfold wpX_valueAt
  refine dq_ig h hg (fun y z => br_f (by decide) ?_)
  refine pk_lt v 0 (fun z => absurd z (by omega)) (fun _ => ?_)
  refine dq_vs h hg (fun y z => ?_)
  refine pk_lt v (dq_ns D g) (fun _ => ?_) (fun z => absurd z (by omega))
  refine dq_fvg h hg ?_
  have e1 : dq_c a7 2 (dq_v V D g + v) = dq_c a7 2 (dq_v V D g) + v := dq_cr v (fun w hw => (g1 w (by omega)).2.1)
  have e2 : dq_c a7 2 (dq_v V D g + v) < dq_c a7 2 ve := dq_cl (by omega) (g1 v hv).2.1
  refine ⟨pk_in (dq_c a7 2 (dq_v V D g) + v) 60 (by omega) (nI_add _ _), ?_⟩
  rw [nI_add, nI_clamp (show dq_c a7 2 (dq_v V D g) + v < 2 ^ 31 by omega), ← e1, (g1 v hv).2.2 rfl]
  exact H _ _
theorem dq_va0 {post : Int32 → St1 → Prop} {s : Int32} {r D R te ve T V g : Nat} (h : dq_L s r D R te ve T V a1 a2 a3 a4 a5 a6 a7 a8) (hg : g < D % 8)
    (H : ∀ y z, post 0 (q1, q2, nI R, q4, nI te, q6, nI ve, q8, q9, q10, q11, y, z, a1, a2, a3, a4, a5, a6, a7, a8)) : wpX_valueAt post (q1, q2, nI R, q4, nI te, q6, nI ve, q8, q9, q10, q11, q12, q13, a1, a2, a3, a4, a5, a6, a7, a8) (nI r) (nI g) (nI (dq_ns D g)) := by
  have f5 := dq_nsL D g
  unfold wpX_valueAt
  refine dq_ig h hg (fun y z => br_f (by decide) ?_)
  refine pk_lt (dq_ns D g) 0 (fun z => absurd z (by omega)) (fun _ => ?_)
  refine dq_vs h hg (fun y z => ?_)
  exact pk_lt (dq_ns D g) (dq_ns D g) (fun z => absurd z (by omega)) (fun _ => H _ _)
end
end
section
section
variable {q1 q2 q3 q4 q5 q6 q7 q8 q9 q10 q11 q12 q13 : Int32} {a1 a2 a3 a4 a5 a6 a7 a8 : Nat → Int32}
theorem dq_s156 {post : Int32 → St1 → Prop} {J : Int32 → Int32 → Int32 → Int32 → Int32 → Int32 → Int32 → Int32 → Int32 → Int32 → Int32 → Int32 → Int32 → Int32 → (Nat → Int32) → (Nat → Int32) → (Nat → Int32) → (Nat → Int32) → (Nat → Int32) → (Nat → Int32) → (Nat → Int32) → (Nat → Int32) → Prop} {s x3 : Int32} {r D R te ve T V g : Nat} (h : dq_L s r D R te ve T V a1 a2 a3 a4 a5 a6 a7 a8) (hg : g < D % 8)
    (H : ∀ y z, J (nI (g + 1)) q1 q2 (nI R) q4 (nI te) q6 (nI ve) q8 q9 q10 q11 y z a1 a2 a3 a4 a5 a6 a7 a8) :
    ∀ n v y z, v ≤ dq_ns D g → dq_ns D g - v < n → wL_shows_156 post J (nI r) s x3 (nI g) (nI (dq_ns D g)) n (nI v) q1 q2 (nI R) q4 (nI te) q6 (nI ve) q8 q9 q10 q11 y z a1 a2 a3 a4 a5 a6 a7 a8 := by
  have f5 := dq_nsL D g
  intro n
  induction n with
  | zero =>
    intro v y z h1 h2
    omega
  | succ n ih =>
    intro v y z h1 h2
    refine pk_le (dq_ns D g) v (fun _ => nm_r (nI_1 g) (H y z)) (fun hv => ?_)
    refine dq_va h hg hv (fun y z => ?_)
    exact dq_wmad (br_t rfl (nm_r (nI_1 v) (ih (v + 1) y z (by omega) (by omega))))
theorem dq_s124 {post : Int32 → St1 → Prop} {J : Int32 → Int32 → Int32 → Int32 → Int32 → Int32 → Int32 → Int32 → Int32 → Int32 → Int32 → Int32 → Int32 → Int32 → (Nat → Int32) → (Nat → Int32) → (Nat → Int32) → (Nat → Int32) → (Nat → Int32) → (Nat → Int32) → (Nat → Int32) → (Nat → Int32) → Prop} {s x3 w : Int32} {r D R te ve T V g : Nat} (h : dq_L s r D R te ve T V a1 a2 a3 a4 a5 a6 a7 a8) (hg : g < D % 8)
    (H : ∀ y z, J (nI (g + 1)) q1 q2 (nI R) q4 (nI te) q6 (nI ve) q8 q9 q10 q11 y z a1 a2 a3 a4 a5 a6 a7 a8) :
    wL_shows_124 post J (nI r) s x3 (nI g) (nI (dq_ns D g)) w w q1 q2 (nI R) q4 (nI te) q6 (nI ve) q8 q9 q10 q11 q12 q13 a1 a2 a3 a4 a5 a6 a7 a8 := by
  unfold wL_shows_124
  refine br_t rfl ?_
  refine dq_vs h hg (fun y z => br_t rfl ?_)
  refine dq_va0 h hg (fun y z => br_t rfl ?_)
  exact ⟨dq_ns D g + 1, dq_s156 h hg H _ 0 y z (by omega) (by omega)⟩
theorem dq_s69 {post : Int32 → St1 → Prop} {s : Int32} {r D R te ve T V : Nat} (h : dq_L s r D R te ve T V a1 a2 a3 a4 a5 a6 a7 a8)
    (H : ∀ y z, post 1 (q1, q2, nI R, q4, nI te, q6, nI ve, q8, q9, q10, q11, y, z, a1, a2, a3, a4, a5, a6, a7, a8)) :
    ∀ n g y z, g ≤ D % 8 → D % 8 - g < n → wL_shows_69 post (nI r) s (nI D) n (nI g) q1 q2 (nI R) q4 (nI te) q6 (nI ve) q8 q9 q10 q11 y z a1 a2 a3 a4 a5 a6 a7 a8 := by
  have hD4 : D % 8 ≤ 4 := h.2.2.2.2.2.2.2.2.2.1
  have hDl : D < 2 ^ 15 := h.2.2.2.2.2.2.2.2.2.2
  intro n
  induction n with
  | zero =>
    intro g y z h1 h2
    omega
  | succ n ih =>
    intro g y z h1 h2
    refine pk_le (D % 8) g (fun _ => H y z) (fun hg => ?_) (hx := dq_and7 (by omega))
    refine dq_wmad (nm_e (nm_r (dq_nsI (by omega) (by omega)) ?_))
    refine dq_lbg h hg (fun y z => dq_wtag ?_)
    refine br_c (fun e => ?_) (fun e => ?_)
    · rw [if_pos e]
      exact dq_s124 h hg (fun y z => ih (g + 1) y z (by omega) (by omega))
    · rw [if_neg e]
      exact dq_s124 h hg (fun y z => ih (g + 1) y z (by omega) (by omega))
theorem dq_sh {post : Int32 → St1 → Prop} {s : Int32} {r D R te ve T V : Nat} (h : dq_L s r D R te ve T V a1 a2 a3 a4 a5 a6 a7 a8)
    (H : ∀ y z, post 1 (q1, q2, nI R, q4, nI te, q6, nI ve, q8, q9, q10, q11, y, z, a1, a2, a3, a4, a5, a6, a7, a8)) : wpL_shows post (q1, q2, nI R, q4, nI te, q6, nI ve, q8, q9, q10, q11, q12, q13, a1, a2, a3, a4, a5, a6, a7, a8) (nI r) s (nI D) := by
  have hDl : D < 2 ^ 15 := h.2.2.2.2.2.2.2.2.2.2
  have K : ∀ y z w, dq_nb s = w → wL_shows_41 post (nI r) s (nI D) (dq_nb s) (dq_md s (-1) 0) w (dq_nb s) q1 q2 (nI R) q4 (nI te) q6 (nI ve) q8 q9 q10 q11 y z a1 a2 a3 a4 a5 a6 a7 a8 := by
    intro y z w hw
    unfold wL_shows_41
    refine br_t hw ?_
    refine dq_lb1 h ?_
    refine br_c (fun e => ?_) (fun e => ?_)
    · rw [if_pos e]
      exact br_t rfl ⟨D % 8 + 1, dq_s69 h H _ 0 y z (by omega) (by omega)⟩
    · rw [if_neg e]
      exact br_t rfl ⟨D % 8 + 1, dq_s69 h H _ 0 y z (by omega) (by omega)⟩
  unfold wpL_shows
  refine dq_wnot (dq_wmad ?_)
  refine dq_gs h (fun y z => br_t (dq_and7 (by omega)).symm ?_)
  refine dq_hn h ?_
  refine br_c (fun e => K y z 0 e) (fun e => K y z 1 ?_)
  rcases dq_nb01 s with e' | e'
  · exact absurd e' e
  · exact e'
end
end
section
section
variable {b3 b4 b5 b6 b7 b8 a3 a4 a5 a6 a7 a8 : Nat → Int32}
/-- the tags of the record in hand: k groups, from entry T on; before it stands b -/
def dq_tg (s : Int32) (T k te tc : Nat) (b3 b4 b5 a3 a4 a5 : Nat → Int32) : Prop :=
  te = T + k ∧ tc = dq_c a4 2 te ∧ dq_pre T b3 b4 b5 a3 a4 a5 ∧ ∀ j, j < k → dq_at a3 a4 a5 (T + j) (dq_g j 0) (dq_td s j) (dq_md s (nI j) (-1) &&& 3)
theorem dq_tg0 {s : Int32} {T tc : Nat} (h : tc = dq_c a4 2 T) : dq_tg s T 0 T tc a3 a4 a5 a3 a4 a5 := ⟨rfl, h, dq_preR, fun j hj => absurd hj (by omega)⟩
theorem dq_tgU {s : Int32} {T k te tc : Nat} (h : dq_tg s T k te tc b3 b4 b5 a3 a4 a5) (e : dq_tb s (nI k) = 0) : dq_tg s T (k + 1) (te + 1) tc b3 b4 b5 (upd a3 te (dq_g k 0)) (upd a4 te 1) a5 := by
  obtain ⟨h1, h2, h3, h4⟩ := h
  have hp : dq_pre te a3 a4 a5 (upd a3 te (dq_g k 0)) (upd a4 te 1) a5 := dq_app _ _
  refine ⟨by omega, ?_, dq_preT h3 hp (by omega), fun j hj => ?_⟩
  · rw [dq_cUf (by decide), ← h2]
  · by_cases ej : j = k
    · rw [ej, ← h1, show dq_td s k = 1 from if_pos e]
      exact dq_new (by decide)
    · exact dq_preE hp (by omega) (h4 j (by omega))
theorem dq_tgT {s : Int32} {T k te tc : Nat} (h : dq_tg s T k te tc b3 b4 b5 a3 a4 a5) (e : ¬ dq_tb s (nI k) = 0) : dq_tg s T (k + 1) (te + 1) (tc + 1) b3 b4 b5 (upd a3 te (dq_g k 0)) (upd a4 te 2) (upd a5 tc (dq_md s (nI k) (-1) &&& 3)) := by
  obtain ⟨h1, h2, h3, h4⟩ := h
  rw [h2]
  have hp : dq_pre te a3 a4 a5 (upd a3 te (dq_g k 0)) (upd a4 te 2) (upd a5 (dq_c a4 2 te) (dq_md s (nI k) (-1) &&& 3)) := dq_app2 _ _ _
  refine ⟨by omega, ?_, dq_preT h3 hp (by omega), fun j hj => ?_⟩
  · rw [dq_cUt]
  · by_cases ej : j = k
    · rw [ej, ← h1, show dq_td s k = 2 from if_neg e]
      exact dq_new2
    · exact dq_preE hp (by omega) (h4 j (by omega))
theorem dq_vhK {s : Int32} {n st j m : Nat} (hp : dq_pre n b6 b7 b8 a6 a7 a8) (h : dq_vh s st j m b6 b7 b8) (hst : st < n) (hm : st + m ≤ n) : dq_vh s st j m a6 a7 a8 :=
  ⟨fun v hv => dq_preE hp (by omega) (h.1 v hv), fun e => ⟨by rw [(hp.1 st hst).1]; exact (h.2 e).1, by rw [(hp.1 st hst).2]; exact (h.2 e).2⟩⟩
/-- the values of the record in hand: k groups closed, m values of the next one, from entry V on; before it stands b, where fl records have values -/
def dq_vq (s : Int32) (V fl k D m ve vc : Nat) (b6 b7 b8 a6 a7 a8 : Nat → Int32) : Prop :=
  ve = dq_v V D k + m ∧ vc = dq_c a7 2 ve ∧ dq_pre V b6 b7 b8 a6 a7 a8 ∧ (∀ j, j < k → dq_vh s (dq_v V D j) j (dq_ns D j) a6 a7 a8) ∧ dq_vg s (dq_v V D k) k m a6 a7 a8
  ∧ (∃ b : Bool, (b = true ↔ (8 ≤ D ∨ 0 < m)) ∧ (ve = V ∨ dq_a a6 a7 ve = (fl + b.toNat, b)))
  ∧ ve + dq_c b7 2 V ≤ V + vc + k ∧ D % 8 = k ∧ D < 8 ^ (k + 1) ∧ (dq_a b6 b7 V).1 = fl
theorem dq_vq0 {s : Int32} {V fl vc : Nat} (h : vc = dq_c a7 2 V) (hf : (dq_a a6 a7 V).1 = fl) : dq_vq s V fl 0 0 0 V vc a6 a7 a8 a6 a7 a8 :=
  ⟨rfl, h, dq_preR, fun j hj => absurd hj (by omega), fun j hj => absurd hj (by omega), ⟨false, ⟨fun h => absurd h (by decide), fun h => absurd h (by omega)⟩, Or.inl rfl⟩, by omega, rfl, by decide, hf⟩
theorem dq_vqW {V fl k D m ve : Nat} {y : Int32} {b : Bool} (h1 : ve = dq_v V D k + m) (h3 : dq_pre V b6 b7 b8 a6 a7 a8) (hb : b = true ↔ (8 ≤ D ∨ 0 < m)) (h6 : ve = V ∨ dq_a a6 a7 ve = (fl + b.toNat, b)) (h8 : D % 8 = k) (h9 : D < 8 ^ (k + 1)) (h10 : (dq_a b6 b7 V).1 = fl) :
    dq_a (upd a6 ve (dq_g k m)) (upd a7 ve y) (ve + 1) = (fl + (b || decide (y = 2)).toNat, b || decide (y = 2)) := by
  have hV := dq_vM V D (Nat.zero_le k)
  have hV : V + (k - 0) ≤ dq_v V D k := hV
  have e1 : dq_a (upd a6 ve (dq_g k m)) (upd a7 ve y) ve = dq_a a6 a7 ve := dq_aC ve (fun j hj => ⟨pk_un (by omega), pk_un (by omega)⟩)
  show dq_st (decide (upd a7 ve y ve = 2)) (decide (upd a6 ve (dq_g k m) ve = 0)) (dq_a (upd a6 ve (dq_g k m)) (upd a7 ve y) ve) = _
  rw [e1, pk_us, pk_us]
  by_cases hc : 0 < k ∨ 0 < m
  · rw [decide_eq_false (dq_gn hc)]
    rcases h6 with h6 | h6
    · omega
    · rw [h6, dq_st_n]
      cases b <;> cases decide (y = 2) <;> rfl
  · have hk : k = 0 := by omega
    have hm : m = 0 := by omega
    subst hk hm
    have hve : ve = V := h1
    have h9' : D < 8 := h9
    have hbf : b = false := by
      cases b with
      | false => rfl
      | true => exact absurd (hb.mp rfl) (by omega)
    have e2 : dq_a a6 a7 V = dq_a b6 b7 V := dq_aC V h3.1
    rw [show decide (dq_g 0 0 = 0) = true from rfl, dq_st_z, hve, e2, h10, hbf]
    cases decide (y = 2) <;> rfl
theorem dq_vqV {s : Int32} {V fl k D m ve vc : Nat} (h : dq_vq s V fl k D m ve vc b6 b7 b8 a6 a7 a8) :
    dq_vq s V fl k D (m + 1) (ve + 1) (vc + 1) b6 b7 b8 (upd a6 ve (dq_g k m)) (upd a7 ve 2) (upd a8 vc (dq_md s (nI k) (nI m))) := by
  obtain ⟨h1, h2, h3, h4, h5, ⟨b, hb, h6⟩, h7, h8, h9, h10⟩ := h
  have hV := dq_vM V D (Nat.zero_le k)
  have hV : V + (k - 0) ≤ dq_v V D k := hV
  have hw := dq_vqW (y := 2) h1 h3 hb h6 h8 h9 h10
  rw [h2]
  have hp : dq_pre ve a6 a7 a8 (upd a6 ve (dq_g k m)) (upd a7 ve 2) (upd a8 (dq_c a7 2 ve) (dq_md s (nI k) (nI m))) := dq_app2 _ _ _
  refine ⟨by omega, by rw [dq_cUt], dq_preT h3 hp (by omega), fun j hj => ?_, fun v hv => ?_, ⟨true, ⟨fun _ => Or.inr (by omega), fun _ => rfl⟩, Or.inr ?_⟩, by omega, h8, h9, h10⟩
  · have e1 := dq_v1 V D j
    have e2 := dq_vM V D (show j + 1 ≤ k by omega)
    exact dq_vhK hp (h4 j hj) (by omega) (by omega)
  · by_cases ev : v = m
    · rw [ev, ← h1]
      exact dq_new2
    · exact dq_preE hp (by omega) (h5 v (by omega))
  · rw [hw, decide_eq_true rfl, Bool.or_true]
theorem dq_vqM {s : Int32} {V fl k D m ve vc : Nat} (h : dq_vq s V fl k D m ve vc b6 b7 b8 a6 a7 a8) (hk : k < 4) (hm0 : 0 < m) (hm : m < 8) : dq_vq s V fl (k + 1) (dq_nx D k m) 0 ve vc b6 b7 b8 a6 a7 a8 := by
  obtain ⟨h1, h2, h3, h4, h5, ⟨b, hb, h6⟩, h7, h8, h9, h10⟩ := h
  have hns : ∀ j, j < k → dq_ns (dq_nx D k m) j = dq_ns D j := fun j hj => dq_nsK hk h8 h9 hj
  have hnk : dq_ns (dq_nx D k m) k = m := dq_nsN hk h8 h9 hm
  have hv : ∀ j, j ≤ k → dq_v V (dq_nx D k m) j = dq_v V D j := fun j hj => dq_vC j (fun i hi => hns i (by omega))
  have hvk : dq_v V (dq_nx D k m) (k + 1) = dq_v V D k + m := by
    show dq_v V (dq_nx D k m) k + (if dq_ns (dq_nx D k m) k = 0 then 1 else dq_ns (dq_nx D k m) k) = _
    rw [hnk, if_neg (by omega), hv k (Nat.le_refl k)]
  have h11 := dq_nx8 (m := m) hk h8
  refine ⟨by rw [hvk]; exact h1, h2, h3, fun j hj => ?_, fun v hv => absurd hv (by omega), ⟨b, ⟨fun e => Or.inl (h11.mpr (hb.mp e)), fun e => hb.mpr (h11.mp (by omega))⟩, h6⟩, by omega, dq_nxM hk h8, dq_nxL hk h8 h9 hm, h10⟩
  by_cases ej : j = k
  · rw [ej, hv k (Nat.le_refl k), hnk]
    exact ⟨h5, fun e => absurd e (by omega)⟩
  · rw [hv j (by omega), hns j (by omega)]
    exact h4 j (by omega)
theorem dq_vqZ {s : Int32} {V fl k D ve vc : Nat} (h : dq_vq s V fl k D 0 ve vc b6 b7 b8 a6 a7 a8) (hk : k < 4) : dq_vq s V fl (k + 1) (dq_nx D k 0) 0 (ve + 1) vc b6 b7 b8 (upd a6 ve (dq_g k 0)) (upd a7 ve 1) a8 := by
  obtain ⟨h1, h2, h3, h4, h5, ⟨b, hb, h6⟩, h7, h8, h9, h10⟩ := h
  have hns : ∀ j, j < k → dq_ns (dq_nx D k 0) j = dq_ns D j := fun j hj => dq_nsK hk h8 h9 hj
  have hnk : dq_ns (dq_nx D k 0) k = 0 := dq_nsN hk h8 h9 (by omega)
  have hv : ∀ j, j ≤ k → dq_v V (dq_nx D k 0) j = dq_v V D j := fun j hj => dq_vC j (fun i hi => hns i (by omega))
  have hvk : dq_v V (dq_nx D k 0) (k + 1) = dq_v V D k + 1 := by
    show dq_v V (dq_nx D k 0) k + (if dq_ns (dq_nx D k 0) k = 0 then 1 else dq_ns (dq_nx D k 0) k) = _
    rw [hnk, if_pos rfl, hv k (Nat.le_refl k)]
  have h11 := dq_nx8 (m := 0) hk h8
  have hV := dq_vM V D (Nat.zero_le k)
  have hV : V + (k - 0) ≤ dq_v V D k := hV
  have hw := dq_vqW (y := 1) h1 h3 hb h6 h8 h9 h10
  have hp : dq_pre ve a6 a7 a8 (upd a6 ve (dq_g k 0)) (upd a7 ve 1) a8 := dq_app _ _
  refine ⟨by rw [hvk]; omega, ?_, dq_preT h3 hp (by omega), fun j hj => ?_, fun v hv => absurd hv (by omega), ⟨b, ⟨fun e => Or.inl (h11.mpr (hb.mp e)), fun e => hb.mpr (h11.mp (by omega))⟩, Or.inr ?_⟩, by omega, dq_nxM hk h8, dq_nxL hk h8 h9 (by omega), h10⟩
  · rw [dq_cUf (by decide), ← h2]
  · by_cases ej : j = k
    · rw [ej, hv k (Nat.le_refl k), hnk]
      refine ⟨fun v hv => absurd hv (by omega), fun _ => ?_⟩
      rw [show dq_v V D k = ve by omega]
      exact ⟨pk_us, pk_us⟩
    · rw [hv j (by omega), hns j (by omega)]
      have e1 := dq_v1 V D j
      have e2 := dq_vM V D (show j + 1 ≤ k by omega)
      exact dq_vhK hp (h4 j (by omega)) (by omega) (by omega)
  · rw [hw, decide_eq_false (by decide), Bool.or_false]
/-! the record is closed -/
def dq_fT (s : Int32) (R D T k te tc : Nat) (b3 b4 b5 a3 a4 a5 : Nat → Int32) : Prop :=
  dq_c a3 0 te = R + 1 ∧ tc = dq_c a4 2 te ∧ T < te ∧ te ≤ T + k + 1 ∧ a3 T = 0 ∧ dq_pre T b3 b4 b5 a3 a4 a5 ∧ dq_lT s R D te T a3 a4 a5
def dq_fV (s : Int32) (R D V fl k ve vc : Nat) (b6 b7 b8 a6 a7 a8 : Nat → Int32) : Prop :=
  dq_c a6 0 ve = R + 1 ∧ vc = dq_c a7 2 ve ∧ V < ve ∧ ve + dq_c b7 2 V ≤ V + vc + k + 1 ∧ a6 V = 0 ∧ dq_pre V b6 b7 b8 a6 a7 a8 ∧ dq_lV s R D ve V a6 a7 a8 ∧ (dq_a a6 a7 ve).1 = fl + (if 8 ≤ D then 1 else 0) ∧ D % 8 = k ∧ D < 8 ^ (k + 1)
theorem dq_fT1 {s : Int32} {R D T k te tc : Nat} (h : dq_tg s T k te tc b3 b4 b5 a3 a4 a5) (hk : 0 < k) (hD : D % 8 = k) (hR : dq_c b3 0 T = R) : dq_fT s R D T k te tc b3 b4 b5 a3 a4 a5 := by
  obtain ⟨h1, h2, h3, h4⟩ := h
  have e0 : a3 T = 0 := (h4 0 hk).1
  have e1 : dq_c a3 0 T = R := by rw [dq_preA h3 (Nat.le_refl T) 0, hR]
  have e2 : dq_c a3 0 te = R + 1 := by
    rw [h1, show T + k = T + 1 + (k - 1) by omega, dq_cs (k - 1) (fun v hv => ?_), dq_ct e0, e1]
    rw [show T + 1 + v = T + (v + 1) by omega, (h4 (v + 1) (by omega)).1]
    exact dq_gn (Or.inl (by omega))
  refine ⟨e2, h2, by omega, by omega, e0, h3, e1, by omega, fun z => absurd z (by omega), fun z => absurd z (by omega), ?_⟩
  rw [hD]
  exact h4
theorem dq_fT0 {s : Int32} {R D T te tc : Nat} (h : dq_tg s T 0 te tc b3 b4 b5 a3 a4 a5) (hD : D % 8 = 0) (hR : dq_c b3 0 T = R) : dq_fT s R D T 0 (te + 1) tc b3 b4 b5 (upd a3 te 0) (upd a4 te 0) a5 := by
  obtain ⟨h1, h2, h3, h4⟩ := h
  have h1' : te = T := h1
  subst h1'
  have hp : dq_pre te a3 a4 a5 (upd a3 te 0) (upd a4 te 0) a5 := dq_app _ _
  have hq := dq_preT h3 hp (Nat.le_refl te)
  have e1 : dq_c (upd a3 te 0) 0 te = R := by rw [dq_preA hq (Nat.le_refl te) 0, hR]
  refine ⟨by rw [dq_ct pk_us, e1], by rw [dq_cUf (by decide), ← h2], by omega, by omega, pk_us, hq, e1, by omega, fun z => absurd z (by omega), fun _ => ⟨pk_us, pk_us⟩, fun j hj => absurd hj (by omega)⟩
theorem dq_fV1 {s : Int32} {R D V fl k ve vc : Nat} (h : dq_vq s V fl k D 0 ve vc b6 b7 b8 a6 a7 a8) (hk : 0 < k) (hR : dq_c b6 0 V = R) : dq_fV s R D V fl k ve vc b6 b7 b8 a6 a7 a8 := by
  obtain ⟨h1, h2, h3, h4, h5, ⟨b, hb, h6⟩, h7, h8, h9, h10⟩ := h
  have hV := dq_vM V D (Nat.zero_le k)
  have hV : V + (k - 0) ≤ dq_v V D k := hV
  have e1 : dq_c a6 0 V = R := by rw [dq_preA h3 (Nat.le_refl V) 0, hR]
  have hl : dq_lV s R D ve V a6 a7 a8 := by
    refine ⟨e1, ?_, fun _ z => ?_, ?_⟩
    · rw [h8]
      omega
    · rw [h8] at z
      omega
    · rw [h8]
      exact h4
  have e0 : a6 V = 0 := dq_lVs (g := 0) hl (by omega)
  have e2 : dq_c a6 0 ve = R + 1 := by
    rw [h1, show k = k - 1 + 1 by omega, Nat.add_zero, dq_lVc hl (by omega) 0 (by decide)]
    exact (dq_lVf hl (k - 1) (by omega)).1
  refine ⟨e2, h2, by omega, by omega, e0, h3, hl, ?_, h8, h9⟩
  rcases h6 with h6 | h6
  · omega
  · rw [h6]
    show fl + b.toNat = fl + (if 8 ≤ D then 1 else 0)
    cases b with
    | false => rw [if_neg (fun z => absurd (hb.mpr (Or.inl z)) (by decide))]; rfl
    | true => rw [if_pos (by rcases hb.mp rfl with z | z; exact z; omega)]; rfl
theorem dq_fV0 {s : Int32} {R D V fl ve vc : Nat} (h : dq_vq s V fl 0 D 0 ve vc b6 b7 b8 a6 a7 a8) (hR : dq_c b6 0 V = R) : dq_fV s R D V fl 0 (ve + 1) vc b6 b7 b8 (upd a6 ve 0) (upd a7 ve 0) a8 := by
  obtain ⟨h1, h2, h3, h4, h5, ⟨b, hb, h6⟩, h7, h8, h9, h10⟩ := h
  have hve : ve = V := h1
  subst hve
  have h9' : D < 8 := h9
  have hp : dq_pre ve a6 a7 a8 (upd a6 ve 0) (upd a7 ve 0) a8 := dq_app _ _
  have hq := dq_preT h3 hp (Nat.le_refl ve)
  have e1 : dq_c (upd a6 ve 0) 0 ve = R := by rw [dq_preA hq (Nat.le_refl ve) 0, hR]
  have hw : dq_a (upd a6 ve 0) (upd a7 ve 0) (ve + 1) = (fl + (b || decide ((0 : Int32) = 2)).toNat, b || decide ((0 : Int32) = 2)) := dq_vqW (y := 0) (m := 0) h1 h3 hb h6 h8 h9 h10
  have hbf : b = false := by
    cases b with
    | false => rfl
    | true => exact absurd (hb.mp rfl) (by omega)
  refine ⟨by rw [dq_ct pk_us, e1], by rw [dq_cUf (by decide), ← h2], by omega, by omega, pk_us, hq, ⟨e1, ?_, fun z => absurd z (by omega), fun j hj => absurd hj (by omega)⟩, ?_, h8, h9⟩
  · rw [h8]
    show ve ≤ ve + 1
    omega
  · rw [hw, hbf, if_neg (by omega)]
    rfl
end
end
section
section
variable {q1 q2 q3 q4 q5 q6 q7 q8 q9 q10 q11 q12 q13 : Int32} {a1 a2 a3 a4 a5 a6 a7 a8 b3 b4 b5 b6 b7 b8 : Nat → Int32}
theorem dq_ave {post : St1 → Prop} {x y : Int32} {ve : Nat} (h : ve < 112) (H : post (q1, q2, q3, q4, q5, q6, nI (ve + 1), q8, q9, q10, q11, q12, q13, a1, a2, a3, a4, a5, upd a6 ve x, upd a7 ve y, a8)) : wpX_addValueEntry post (q1, q2, q3, q4, q5, q6, nI ve, q8, q9, q10, q11, q12, q13, a1, a2, a3, a4, a5, a6, a7, a8) x y := by
  have c : (nI ve).toNatClampNeg = ve := nI_clamp (by omega)
  refine ⟨pk_in ve 112 h, nm_r (by rw [c]) ⟨pk_in ve 112 h, nm_r (by rw [c]) (nm_r (nI_1 ve) H)⟩⟩
theorem dq_ate {post : St1 → Prop} {x y : Int32} {te : Nat} (h : te < 52) (H : post (q1, q2, q3, q4, nI (te + 1), q6, q7, q8, q9, q10, q11, q12, q13, a1, a2, upd a3 te x, upd a4 te y, a5, a6, a7, a8)) : wpX_addTagEntry post (q1, q2, q3, q4, nI te, q6, q7, q8, q9, q10, q11, q12, q13, a1, a2, a3, a4, a5, a6, a7, a8) x y := by
  have c : (nI te).toNatClampNeg = te := nI_clamp (by omega)
  refine ⟨pk_in te 52 h, nm_r (by rw [c]) ⟨pk_in te 52 h, nm_r (by rw [c]) (nm_r (nI_1 te) H)⟩⟩
/-- the values column between two groups: k groups begun, the last one perhaps without an entry yet -/
def dq_hd (s : Int32) (V fl k D ve vc : Nat) (ov : Int32) (b6 b7 b8 a6 a7 a8 : Nat → Int32) : Prop :=
  (k = 0 ∧ D = 0 ∧ dq_vq s V fl 0 0 0 ve vc b6 b7 b8 a6 a7 a8) ∨ ∃ k' D' m, k = k' + 1 ∧ D = dq_nx D' k' m ∧ k' < 4 ∧ m ≤ 4 ∧ ov = nI m ∧ dq_vq s V fl k' D' m ve vc b6 b7 b8 a6 a7 a8
theorem dq_cg {post : St1 → Prop} {s : Int32} {V fl k D ve vc : Nat} (h : dq_hd s V fl k D ve vc q10 b6 b7 b8 a6 a7 a8) (hb : V + vc + k ≤ 112 + dq_c b7 2 V)
    (H : ∀ ve' a6' a7', dq_vq s V fl k D 0 ve' vc b6 b7 b8 a6' a7' a8 → post (q1, q2, q3, q4, q5, q6, nI ve', q8, nI k, q10, q11, q12, q13, a1, a2, a3, a4, a5, a6', a7', a8)) : wpX_closeGroup post (q1, q2, q3, q4, q5, q6, nI ve, q8, nI k, q10, q11, q12, q13, a1, a2, a3, a4, a5, a6, a7, a8) := by
  unfold wpX_closeGroup
  rcases h with ⟨hk, hD, h⟩ | ⟨k', D', m, hk, hD, hk4, hm, hov, h⟩
  · subst hk hD
    exact pk_le 0 0 (fun _ => H _ _ _ h) (fun z => absurd z (by omega))
  · subst hk hD hov
    refine pk_le (k' + 1) 0 (fun z => absurd z (by omega)) (fun _ => ?_)
    refine pk_eq m 0 (fun e => ?_) (fun e => H _ _ _ (dq_vqM h hk4 (by omega) (by omega)))
    subst e
    have h7 := h.2.2.2.2.2.2.1
    have hve : ve < 112 := by omega
    have t := dq_vqZ h hk4
    refine pk_le (k' + 1) 1 (fun z => ?_) (fun z => ?_)
    · rw [show dq_g k' 0 = 0 from by rw [show k' = 0 by omega]; rfl] at t
      unfold wX_closeGroup_28
      exact dq_ave hve (H _ _ _ t)
    · rw [dq_gj0 (by omega)] at t
      unfold wX_closeGroup_28
      exact dq_ave hve (H _ _ _ t)
theorem dq_gp {post : Int32 → St1 → Prop} {s : Int32} {te tc ve vc gc T V fl k D : Nat} (hk : k < 4) (hT : dq_tg s T k te tc b3 b4 b5 a3 a4 a5) (hV : dq_hd s V fl k D ve vc q10 b6 b7 b8 a6 a7 a8)
    (hb : V + vc + k ≤ 112 + dq_c b7 2 V) (hgc : gc < 40) (hte : te < 52) (htc : tc < 40)
    (H : ∀ te' tc' ve' a3' a4' a5' a6' a7', dq_tg s T (k + 1) te' tc' b3 b4 b5 a3' a4' a5' → dq_vq s V fl k D 0 ve' vc b6 b7 b8 a6' a7' a8 → tc' ≤ tc + 1 →
      post (nI (k + 1)) (1, q2, q3, q4, nI te', nI tc', nI ve', nI vc, nI (k + 1), 0, nI (gc + 1), q12, q13, a1, a2, a3', a4', a5', a6', a7', a8)) :
    wpX_group post (1, q2, q3, q4, nI te, nI tc, nI ve, nI vc, nI k, q10, nI gc, q12, q13, a1, a2, a3, a4, a5, a6, a7, a8) (dq_tb s (nI k)) (dq_md s (nI k) (-1) &&& 3) := by
  unfold wpX_group
  refine br_f (by decide) ?_
  refine pk_le 4 k (fun z => absurd z (by omega)) (fun _ => ?_)
  refine pk_lt gc 40 (fun _ => ?_) (fun z => absurd z (by omega))
  refine dq_cg hV hb (fun ve' a6' a7' hq => ?_)
  have K : ∀ z0 z1, z0 = dq_td s k → z1 = dq_g k 0 → wX_group_52 post (dq_tb s (nI k)) (dq_md s (nI k) (-1) &&& 3) z0 z1 1 q2 q3 q4 (nI te) (nI tc) (nI ve') (nI vc) (nI k) q10 (nI gc) q12 q13 a1 a2 a3 a4 a5 a6' a7' a8 := by
    intro z0 z1 e0 e1
    subst e0 e1
    unfold wX_group_52
    refine dq_ate hte ?_
    by_cases e : dq_tb s (nI k) = 0
    · refine br_t e (nm_r (nI_1 k) (nm_r (nI_1 gc) (H _ _ _ _ _ _ _ _ ?_ hq (by omega))))
      rw [show dq_td s k = 1 from if_pos e]
      exact dq_tgU hT e
    · refine br_f e ⟨pk_in tc 40 htc, nm_r (by rw [nI_clamp (show tc < 2 ^ 31 by omega)]) (nm_r (nI_1 tc) (nm_r (nI_1 k) (nm_r (nI_1 gc) (H _ _ _ _ _ _ _ _ ?_ hq (by omega)))))⟩
      rw [show dq_td s k = 2 from if_neg e]
      exact dq_tgT hT e
  have K2 : ∀ z, z = dq_g k 0 → wX_group_43 post (dq_tb s (nI k)) (dq_md s (nI k) (-1) &&& 3) z 1 q2 q3 q4 (nI te) (nI tc) (nI ve') (nI vc) (nI k) q10 (nI gc) q12 q13 a1 a2 a3 a4 a5 a6' a7' a8 :=
    fun z hz => br_c (fun e => K 1 z (if_pos e).symm hz) (fun e => K 2 z (if_neg e).symm hz)
  exact pk_eq k 0 (fun e => K2 0 (by rw [e]; rfl)) (fun e => K2 1 (dq_gj0 (by omega)).symm)
theorem dq_gpF {post : Int32 → St1 → Prop} {p0 p1 : Int32} {k : Nat} (hk : k ≤ 4) (H : post (-1) (1, q2, q3, q4, q5, q6, q7, q8, nI k, q10, nI 40, q12, q13, a1, a2, a3, a4, a5, a6, a7, a8)) : wpX_group post (1, q2, q3, q4, q5, q6, q7, q8, nI k, q10, nI 40, q12, q13, a1, a2, a3, a4, a5, a6, a7, a8) p0 p1 := by
  unfold wpX_group
  refine br_f (by decide) ?_
  refine pk_le 4 k (fun z => H) (fun _ => ?_)
  exact pk_lt 40 40 (fun z => absurd z (by omega)) (fun _ => H)
theorem dq_vl {post : Int32 → St1 → Prop} {s : Int32} {ve vc V fl k D m : Nat} (h : dq_vq s V fl k D m ve vc b6 b7 b8 a6 a7 a8) (hk : k < 4) (hm : m < 4) (hvc : vc < 60) (hve : ve < 112)
    (H : ∀ a6' a7' a8', dq_vq s V fl k D (m + 1) (ve + 1) (vc + 1) b6 b7 b8 a6' a7' a8' → post (nI (m + 1)) (1, q2, q3, q4, q5, q6, nI (ve + 1), nI (vc + 1), nI (k + 1), nI (m + 1), q11, q12, q13, a1, a2, a3, a4, a5, a6', a7', a8')) :
    wpX_value post (1, q2, q3, q4, q5, q6, nI ve, nI vc, nI (k + 1), nI m, q11, q12, q13, a1, a2, a3, a4, a5, a6, a7, a8) (dq_md s (nI k) (nI m)) := by
  unfold wpX_value
  refine br_f (by decide) ?_
  refine pk_eq (k + 1) 0 (fun z => absurd z (by omega)) (fun _ => ?_)
  refine pk_le 4 m (fun z => absurd z (by omega)) (fun _ => ?_)
  refine pk_lt vc 60 (fun _ => ?_) (fun z => absurd z (by omega))
  have K : ∀ z, z = dq_g k m → wX_value_58 post (dq_md s (nI k) (nI m)) z 1 q2 q3 q4 q5 q6 (nI ve) (nI vc) (nI (k + 1)) (nI m) q11 q12 q13 a1 a2 a3 a4 a5 a6 a7 a8 := by
    intro z hz
    subst hz
    unfold wX_value_58
    exact dq_ave hve ⟨pk_in vc 60 hvc, nm_r (by rw [nI_clamp (show vc < 2 ^ 31 by omega)]) (nm_r (nI_1 vc) (nm_r (nI_1 m) (H _ _ _ (dq_vqV h))))⟩
  refine pk_le m 0 (fun z => pk_le (k + 1) 1 (fun z' => K 0 ?_) (fun z' => K 1 ?_)) (fun z => K 2 ?_)
  · rw [show k = 0 by omega, show m = 0 by omega]
    rfl
  · rw [show m = 0 by omega, dq_gj0 (by omega)]
  · rw [dq_gv (by omega)]
theorem dq_vlF {post : Int32 → St1 → Prop} {x : Int32} {k m : Nat} (hk : k < 4) (hm : m ≤ 4) (H : post (-1) (1, q2, q3, q4, q5, q6, q7, nI 60, nI (k + 1), nI m, q11, q12, q13, a1, a2, a3, a4, a5, a6, a7, a8)) :
    wpX_value post (1, q2, q3, q4, q5, q6, q7, nI 60, nI (k + 1), nI m, q11, q12, q13, a1, a2, a3, a4, a5, a6, a7, a8) x := by
  unfold wpX_value
  refine br_f (by decide) ?_
  refine pk_eq (k + 1) 0 (fun z => absurd z (by omega)) (fun _ => ?_)
  refine pk_le 4 m (fun z => H) (fun _ => ?_)
  exact pk_lt 60 60 (fun z => absurd z (by omega)) (fun _ => H)
theorem dq_w86 {post : Int32 → St1 → Prop} {J : Int32 → Int32 → Int32 → Int32 → Int32 → Int32 → Int32 → Int32 → Int32 → Int32 → Int32 → Int32 → Int32 → Int32 → Int32 → (Nat → Int32) → (Nat → Int32) → (Nat → Int32) → (Nat → Int32) → (Nat → Int32) → (Nat → Int32) → (Nat → Int32) → (Nat → Int32) → Prop} {s x5 : Int32} {V fl k D left : Nat} (hk : k < 4) (hl : left ≤ 4) (hb : V + k ≤ 50 + dq_c b7 2 V)
    (H : ∀ m ve vc a6 a7 a8, m ≤ 4 → vc ≤ 60 → dq_vq s V fl k D m ve vc b6 b7 b8 a6 a7 a8 → J (nI (dq_nx D k m)) (nI (k + 1)) 1 q2 q3 q4 q5 q6 (nI ve) (nI vc) (nI (k + 1)) (nI m) q11 q12 q13 a1 a2 a3 a4 a5 a6 a7 a8) :
    ∀ n v m ve vc a6 a7 a8, v ≤ left → left - v < n → m ≤ v → (m = v ∨ vc = 60) → vc ≤ 60 → dq_vq s V fl k D m ve vc b6 b7 b8 a6 a7 a8 →
      wL_write_86 post J s (nI D) x5 (nI k) (nI left) n (nI m) (nI v) 1 q2 q3 q4 q5 q6 (nI ve) (nI vc) (nI (k + 1)) (nI m) q11 q12 q13 a1 a2 a3 a4 a5 a6 a7 a8 := by
  intro n
  induction n with
  | zero =>
    intro v m ve vc a6 a7 a8 h1 h2
    omega
  | succ n ih =>
    intro v m ve vc a6 a7 a8 h1 h2 h3 h4 h5 hq
    have h7 := hq.2.2.2.2.2.2.1
    have h8 := hq.2.2.2.2.2.2.2.1
    have h9 := hq.2.2.2.2.2.2.2.2.1
    refine pk_le left v (fun z => nm_r (dq_nxI hk h8 h9 (by omega)) (nm_r (nI_1 k) (H m ve vc a6 a7 a8 (by omega) h5 hq))) (fun z => dq_wmad ?_)
    by_cases e : vc = 60
    · subst e
      refine dq_vlF hk (by omega) ?_
      exact br_t (by decide) (nm_r (dq_i0 (nI m)) (nm_r (nI_1 v) (ih (v + 1) m ve 60 a6 a7 a8 (by omega) (by omega) (by omega) (Or.inr rfl) h5 hq)))
    · have ev : m = v := by omega
      subst ev
      refine dq_vl hq hk (by omega) (by omega) (by omega) (fun a6' a7' a8' hq' => ?_)
      exact br_f (nI_nle (by omega) (by omega)) (nm_r (nI_1 m) (nm_r (nI_1 m) (ih (m + 1) (m + 1) (ve + 1) (vc + 1) a6' a7' a8' (by omega) (by omega) (by omega) (Or.inl rfl) (by omega) hq')))
/-- a record is ended -/
theorem dq_en {post : Int32 → St1 → Prop} {s : Int32} {R te tc ve vc T V fl k D : Nat} (hR : R < 12) (hT : dq_tg s T k te tc b3 b4 b5 a3 a4 a5) (hV : dq_hd s V fl k D ve vc q10 b6 b7 b8 a6 a7 a8)
    (hb : V + vc + k ≤ 111 + dq_c b7 2 V) (hte : te < 52) (hk : k ≤ 4) (hr3 : dq_c b3 0 T = R) (hr6 : dq_c b6 0 V = R)
    (H : ∀ te' ve' a3' a4' a6' a7', dq_fT s R D T k te' tc b3 b4 b5 a3' a4' a5 → dq_fV s R D V fl k ve' vc b6 b7 b8 a6' a7' a8 →
      post (nI (R + 1)) (0, q2, nI (R + 1), q4, nI te', q6, nI ve', q8, nI k, q10, q11, q12, q13, a1, a2, a3', a4', a5, a6', a7', a8)) :
    wpX_end post (1, q2, nI R, q4, nI te, q6, nI ve, q8, nI k, q10, q11, q12, q13, a1, a2, a3, a4, a5, a6, a7, a8) := by
  unfold wpX_end
  refine br_f (by decide) ?_
  refine dq_cg hV (by omega) (fun ve' a6' a7' hq => ?_)
  have h7 := hq.2.2.2.2.2.2.1
  have h8 := hq.2.2.2.2.2.2.2.1
  refine pk_eq k 0 (fun e => ?_) (fun e => ?_)
  · subst e
    refine dq_ate hte ?_
    refine dq_ave (by omega) ?_
    exact nm_r (nI_1 R) (H _ _ _ _ _ _ (dq_fT0 hT h8 hr3) (dq_fV0 hq hr6))
  · exact nm_r (nI_1 R) (H _ _ _ _ _ _ (dq_fT1 hT (by omega) h8 hr3) (dq_fV1 hq (by omega) hr6))
theorem dq_w35 {post : Int32 → St1 → Prop} {s : Int32} {R T V fl gc0 al : Nat} (hR : R < 12) (hal : al ≤ 4) (hT0 : T ≤ gc0 + R) (hV0 : V ≤ dq_c b7 2 V + gc0 + R) (hr3 : dq_c b3 0 T = R) (hr6 : dq_c b6 0 V = R)
    (H : ∀ k D te tc ve vc y a3 a4 a5 a6 a7 a8, k ≤ 4 → gc0 + k ≤ 40 → vc ≤ 60 → tc ≤ gc0 + k → dq_fT s R D T k te tc b3 b4 b5 a3 a4 a5 → dq_fV s R D V fl k ve vc b6 b7 b8 a6 a7 a8 →
      post (nI D) (0, q2, nI (R + 1), q4, nI te, nI tc, nI ve, nI vc, nI k, y, nI (gc0 + k), q12, q13, a1, a2, a3, a4, a5, a6, a7, a8)) :
    ∀ n g k D te tc ve vc y a3 a4 a5 a6 a7 a8, g ≤ al → al - g < n → k ≤ g → (k = g ∨ gc0 + k = 40) → gc0 + k ≤ 40 → vc ≤ 60 → tc ≤ gc0 + k → dq_tg s T k te tc b3 b4 b5 a3 a4 a5 → dq_hd s V fl k D ve vc y b6 b7 b8 a6 a7 a8 →
      wL_write_35 post s (nI al) n (nI D) (nI g) 1 q2 (nI R) q4 (nI te) (nI tc) (nI ve) (nI vc) (nI k) y (nI (gc0 + k)) q12 q13 a1 a2 a3 a4 a5 a6 a7 a8 := by
  intro n
  induction n with
  | zero =>
    intro g k D te tc ve vc y a3 a4 a5 a6 a7 a8 h1 h2
    omega
  | succ n ih =>
    intro g k D te tc ve vc y a3 a4 a5 a6 a7 a8 h1 h2 h3 h4 h5 h6 h6' hT hV
    have ht := hT.1
    refine pk_le al g (fun z => ?_) (fun z => ?_)
    · refine dq_en hR hT hV (by omega) (by omega) (by omega) hr3 hr6 (fun te' ve' a3' a4' a6' a7' fT fV => ?_)
      exact br_f (nI_nle (by omega) (by omega)) (H k D te' tc ve' vc y a3' a4' a5 a6' a7' a8 (by omega) h5 h6 h6' fT fV)
    · refine dq_wmad (nm_e (dq_wtag ?_))
      by_cases e : gc0 + k = 40
      · rw [e]
        refine dq_gpF (by omega) ?_
        rw [← e]
        exact br_t (by decide) (nm_r (nI_1 g) (ih (g + 1) k D te tc ve vc y a3 a4 a5 a6 a7 a8 (by omega) (by omega) (by omega) (Or.inr e) h5 h6 h6' hT hV))
      · have eg : k = g := by omega
        subst eg
        refine dq_gp (by omega) hT hV (by omega) (by omega) (by omega) (by omega) (fun te' tc' ve' a3' a4' a5' a6' a7' hT' hq htc' => ?_)
        refine br_f (nI_nle (by omega) (by omega)) ?_
        refine dq_wvls (fun left hl => ?_)
        refine ⟨left + 1, dq_w86 (k := k) (D := D) (left := left) (b6 := b6) (b7 := b7) (b8 := b8) (V := V) (fl := fl) (by omega) hl (by omega) (fun m ve'' vc'' a6'' a7'' a8'' hm hvc hq'' => ?_) (left + 1) 0 0 ve' vc a6' a7' a8 (by omega) (by omega) (by omega) (Or.inl rfl) h6 hq⟩
        exact ih (k + 1) (k + 1) (dq_nx D k m) te' tc' ve'' vc'' (nI m) a3' a4' a5' a6'' a7'' a8'' (by omega) (by omega) (by omega) (Or.inl rfl) (by omega) hvc (by omega) hT' (Or.inr ⟨k, D, m, rfl, rfl, by omega, hm, rfl, hq''⟩)
theorem dq_bg {post : Int32 → St1 → Prop} {s : Int32} {R nc : Nat} (hR : R < 12) (hnc : nc = dq_n a1 R)
    (H : ∀ nc' a1' a2', dq_lN s R a1' a2' → nc' = dq_n a1' (R + 1) → (∀ j, j < R → a1' j = a1 j) → (∀ i, i < nc → a2' i = a2 i) → post (nI R) (1, nI (R + 1), q3, nI nc', q5, q6, q7, q8, 0, q10, q11, q12, q13, a1', a2', a3, a4, a5, a6, a7, a8)) :
    wpX_begin post (0, nI R, q3, nI nc, q5, q6, q7, q8, q9, q10, q11, q12, q13, a1, a2, a3, a4, a5, a6, a7, a8) (dq_nb s) (dq_md s (-1) 0) := by
  have c : (nI R).toNatClampNeg = R := nI_clamp (by omega)
  have hl := dq_nL a1 R
  have e0 : ∀ j, j < R → upd a1 R (dq_nb s) j = a1 j := fun j hj => pk_un (by omega)
  have e1 : dq_n (upd a1 R (dq_nb s)) R = nc := by rw [dq_nC R e0, hnc]
  have e2 : dq_n (upd a1 R (dq_nb s)) (R + 1) = nc + (if dq_nb s = 0 then 0 else 1) := by
    show dq_n (upd a1 R (dq_nb s)) R + (if upd a1 R (dq_nb s) R = 0 then 0 else 1) = _
    rw [e1, pk_us]
  unfold wpX_begin
  refine br_t rfl ?_
  refine pk_lt R 12 (fun _ => ?_) (fun z => absurd z (by omega))
  refine ⟨pk_in R 12 hR, nm_r (by rw [c, dq_bool _ (dq_nb01 s)]) ?_⟩
  refine br_c (fun e => ?_) (fun e => ?_)
  · unfold wX_begin_62
    refine nm_r (nI_1 R) ?_
    rw [nI_pred]
    rw [if_pos e] at e2
    exact H nc (upd a1 R (dq_nb s)) a2 ⟨pk_us, fun z => absurd e z⟩ e2.symm e0 (fun i hi => rfl)
  · refine ⟨pk_in nc 12 (by omega), nm_r (by rw [nI_clamp (show nc < 2 ^ 31 by omega)]) (nm_r (nI_1 nc) ?_)⟩
    unfold wX_begin_62
    refine nm_r (nI_1 R) ?_
    rw [nI_pred]
    rw [if_neg e] at e2
    exact H (nc + 1) (upd a1 R (dq_nb s)) (upd a2 nc (dq_md s (-1) 0)) ⟨pk_us, fun _ => by rw [e1]; exact pk_us⟩ e2.symm e0 (fun i hi => pk_un (by omega))
/-- between two records: the counters count -/
def dq_K (R nc te tc ve vc gc fl : Nat) (a1 a3 a4 a6 a7 : Nat → Int32) : Prop :=
  R ≤ 12 ∧ gc ≤ 40 ∧ tc ≤ gc ∧ vc ≤ 60 ∧ te ≤ gc + R ∧ ve ≤ vc + gc + R ∧ nc = dq_n a1 R ∧ dq_c a3 0 te = R ∧ tc = dq_c a4 2 te ∧ dq_c a6 0 ve = R ∧ vc = dq_c a7 2 ve ∧ (dq_a a6 a7 ve).1 = fl
/-- what a record written leaves: a before, c behind it -/
def dq_R (s : Int32) (R nc te ve fl D nc' te' tc' ve' vc' gc' : Nat) (a1 a2 a3 a4 a5 a6 a7 a8 c1 c2 c3 c4 c5 c6 c7 c8 : Nat → Int32) : Prop :=
  dq_K (R + 1) nc' te' tc' ve' vc' gc' (fl + (if 8 ≤ D then 1 else 0)) c1 c3 c4 c6 c7 ∧ D % 8 ≤ 4 ∧ D < 2 ^ 15 ∧ dq_lN s R c1 c2 ∧ dq_lT s R D te' te c3 c4 c5 ∧ dq_lV s R D ve' ve c6 c7 c8
  ∧ (∀ j, j < R → c1 j = a1 j) ∧ (∀ i, i < nc → c2 i = a2 i) ∧ (dq_pre te a3 a4 a5 c3 c4 c5 ∧ c3 te = 0 ∧ te < te') ∧ (dq_pre ve a6 a7 a8 c6 c7 c8 ∧ c6 ve = 0 ∧ ve < ve')
theorem dq_wr {post : Int32 → St1 → Prop} {s : Int32} {R nc te tc ve vc gc fl : Nat} (K : dq_K R nc te tc ve vc gc fl a1 a3 a4 a6 a7) (hR : R < 12)
    (H : ∀ D nc' te' tc' ve' vc' gc' y z c1 c2 c3 c4 c5 c6 c7 c8, dq_R s R nc te ve fl D nc' te' tc' ve' vc' gc' a1 a2 a3 a4 a5 a6 a7 a8 c1 c2 c3 c4 c5 c6 c7 c8 →
      post (nI D) (0, nI (R + 1), nI (R + 1), nI nc', nI te', nI tc', nI ve', nI vc', y, z, nI gc', q12, q13, c1, c2, c3, c4, c5, c6, c7, c8)) :
    wpL_write post (0, nI R, nI R, nI nc, nI te, nI tc, nI ve, nI vc, q9, q10, nI gc, q12, q13, a1, a2, a3, a4, a5, a6, a7, a8) s := by
  obtain ⟨k1, k2, k3, k4, k5, k6, k7, k8, k9, k10, k11, k12⟩ := K
  unfold wpL_write
  refine dq_wmad (dq_wnot ?_)
  refine dq_bg hR k7 (fun nc' a1' a2' hN hn' hj hi => ?_)
  refine br_t (nI_pos' (by omega)) ?_
  refine dq_wgrs (fun al hal => ?_)
  refine ⟨al + 1, dq_w35 (b3 := a3) (b4 := a4) (b5 := a5) (b6 := a6) (b7 := a7) (b8 := a8) (R := R) (T := te) (V := ve) (fl := fl) (gc0 := gc) hR hal k5 (by omega) k8 k10 ?_ (al + 1) 0 0 0 te tc ve vc q10 a3 a4 a5 a6 a7 a8 (by omega) (by omega) (by omega) (Or.inl rfl) k2 k4 k3 (dq_tg0 k9) (Or.inl ⟨rfl, rfl, dq_vq0 k11 k12⟩)⟩
  intro k D te' tc' ve' vc' y c3 c4 c5 c6 c7 c8 hk hg hv ht fT fV
  obtain ⟨t1, t2, t3, t4, t5, t6, t7⟩ := fT
  obtain ⟨v1, v2, v3, v4, v5, v6, v7, v8, v9, v10⟩ := fV
  have hD : D < 8 ^ 5 := Nat.lt_of_lt_of_le v10 (Nat.pow_le_pow_right (by decide) (by omega))
  have hD : D < 2 ^ 15 := hD
  exact H D nc' te' tc' ve' vc' (gc + k) _ _ a1' a2' c3 c4 c5 c6 c7 c8 ⟨⟨by omega, hg, ht, hv, by omega, by omega, hn', t1, t2, v1, v2, v8⟩, by omega, hD, hN, t7, v7, hj, hi, ⟨t6, t5, t3⟩, ⟨v6, v5, v3⟩⟩
/-- no room for a record -/
theorem dq_wrF {post : Int32 → St1 → Prop} {s : Int32} (H : post (-1) (0, nI 12, q3, q4, q5, q6, q7, q8, q9, q10, q11, q12, q13, a1, a2, a3, a4, a5, a6, a7, a8)) : wpL_write post (0, nI 12, q3, q4, q5, q6, q7, q8, q9, q10, q11, q12, q13, a1, a2, a3, a4, a5, a6, a7, a8) s := by
  unfold wpL_write
  refine dq_wmad (dq_wnot ?_)
  unfold wpX_begin
  refine br_t rfl ?_
  refine pk_lt 12 12 (fun z => absurd z (by omega)) (fun _ => ?_)
  exact br_f (by decide) H
end
end
section
section
variable {q1 q2 q3 q4 q5 q6 q7 q8 q9 q10 q11 q12 q13 : Int32} {a1 a2 a3 a4 a5 a6 a7 a8 c1 c2 c3 c4 c5 c6 c7 c8 : Nat → Int32}
theorem dq_nl {a : Nat → Int32} {m n : Nat} (h : m < n) (ha : ¬ a m = 0) : dq_n a m < dq_n a n := by
  induction n with
  | zero => omega
  | succ n ih =>
    have e : dq_n a (n + 1) = dq_n a n + (if a n = 0 then 0 else 1) := rfl
    by_cases em : m = n
    · subst em
      rw [if_neg ha] at e
      omega
    · have h1 := ih (by omega)
      omega
/-- a record stays as it is while another one is written -/
theorem dq_keep {s s' : Int32} {R nc te tc ve vc gc fl w D T V D' nc' te' tc' ve' vc' gc' : Nat} (h : dq_L s' w D R te ve T V a1 a2 a3 a4 a5 a6 a7 a8) (K : dq_K R nc te tc ve vc gc fl a1 a3 a4 a6 a7)
    (hR : dq_R s R nc te ve fl D' nc' te' tc' ve' vc' gc' a1 a2 a3 a4 a5 a6 a7 a8 c1 c2 c3 c4 c5 c6 c7 c8) : dq_L s' w D (R + 1) te' ve' T V c1 c2 c3 c4 c5 c6 c7 c8 := by
  obtain ⟨⟨n1, n2⟩, ⟨t1, t2, t3, t4, t5⟩, hV, hw, hR12, hte, hve, htc, hvc, hD, hDl⟩ := h
  obtain ⟨⟨k1, k2, k3, k4, k5, k6, k7, k8, k9, k10, k11, k12⟩, r2, r3, r4, r5, r6, r7, r8, ⟨p1, p2, p3⟩, ⟨p4, p5, p6⟩⟩ := hR
  have hV' := hV
  obtain ⟨v1, v2, v3, v4⟩ := hV'
  have hv0 : dq_v V D 0 + (D % 8 - 0) ≤ dq_v V D (D % 8) := dq_vM V D (Nat.zero_le _)
  have hv0 : V + (D % 8 - 0) ≤ dq_v V D (D % 8) := hv0
  have hnn : nc = dq_n a1 R := K.2.2.2.2.2.2.1
  refine ⟨⟨?_, fun e => ?_⟩, ⟨?_, ?_, fun z => ?_, fun e => ?_, fun j hj => ?_⟩, ⟨?_, ?_, fun e z => ?_, fun j hj => ?_⟩, by omega, by omega, by omega, by omega, by omega, by omega, hD, hDl⟩
  · rw [r7 w hw, n1]
  · have e1 : dq_n c1 w = dq_n a1 w := dq_nC w (fun j hj => r7 j (by omega))
    have e2 : dq_n a1 w < dq_n a1 R := dq_nl hw (by rw [n1]; exact e)
    rw [e1, r8 _ (by omega), n2 e]
  · rw [dq_preA p1 (by omega) 0, t1]
  · omega
  · rcases Nat.lt_or_ge (T + max 1 (D % 8)) te with hl | hl
    · rw [(p1.1 _ hl).1, t3 hl]
    · rw [show T + max 1 (D % 8) = te by omega, p2]
  · have hl : T < te := by omega
    rw [(p1.1 T hl).1, (p1.1 T hl).2]
    exact t4 e
  · exact dq_preE p1 (by omega) (t5 j hj)
  · rw [dq_preA p4 (by omega) 0, v1]
  · omega
  · rcases Nat.lt_or_ge (dq_v V D (D % 8)) ve with hl | hl
    · rw [(p4.1 _ hl).1, v3 e hl]
    · rw [show dq_v V D (D % 8) = ve by omega, p5]
  · have e1 := dq_v1 V D j
    have e2 := dq_lVE hV hj
    exact dq_vhK p4 (v4 j hj) (by omega) (by omega)
theorem dq_fresh {s : Int32} {R nc te ve fl D nc' te' tc' ve' vc' gc' : Nat} (hR : dq_R s R nc te ve fl D nc' te' tc' ve' vc' gc' a1 a2 a3 a4 a5 a6 a7 a8 c1 c2 c3 c4 c5 c6 c7 c8) : dq_L s R D (R + 1) te' ve' te ve c1 c2 c3 c4 c5 c6 c7 c8 := by
  obtain ⟨⟨k1, k2, k3, k4, k5, k6, k7, k8, k9, k10, k11, k12⟩, r2, r3, r4, r5, r6, r7, r8, p1, p4⟩ := hR
  exact ⟨r4, r5, r6, by omega, k1, by omega, by omega, by omega, by omega, r2, r3⟩
theorem dq_min (v : Int32) : ¬ v < (-2147483648) := by
  intro h
  have h1 := Int32.lt_iff_toInt_lt.mp h
  have h2 := Int32.le_toInt v
  have h3 : ((-2147483648 : Int32)).toInt = -2147483648 := by decide
  omega
theorem dq_max (v : Int32) : ¬ (2147483647 : Int32) < v := by
  intro h
  have h1 := Int32.lt_iff_toInt_lt.mp h
  have h2 := Int32.toInt_lt v
  have h3 : ((2147483647 : Int32)).toInt = 2147483647 := by decide
  omega
theorem dq_149 {J : Int32 → Int32 → Int32 → Int32 → Int32 → Int32 → Int32 → Int32 → Int32 → Int32 → Int32 → Int32 → Int32 → Int32 → Int32 → Int32 → Int32 → (Nat → Int32) → (Nat → Int32) → (Nat → Int32) → (Nat → Int32) → (Nat → Int32) → (Nat → Int32) → (Nat → Int32) → (Nat → Int32) → Prop} {xs : Nat → Int32} {L kc ks : Nat} {x2 x3 x4 : Int32} {R nc te tc ve vc gc fl i : Nat} (hL : L ≤ 260) (K : dq_K R nc te tc ve vc gc fl a1 a3 a4 a6 a7) (hi : i < L)
    (H : J x3 x4 (nI fl) (nI (i + 1)) 0 (nI R) (nI R) (nI nc) (nI te) (nI tc) (nI ve) (nI vc) q9 q10 (nI gc) q12 q13 a1 a2 a3 a4 a5 a6 a7 a8) : wL_law_149 (fun r => r = 1) L xs J x2 x3 x4 (nI fl) (nI i) kc ks 0 (nI R) (nI R) (nI nc) (nI te) (nI tc) (nI ve) (nI vc) q9 q10 (nI gc) q12 q13 a1 a2 a3 a4 a5 a6 a7 a8 := by
  obtain ⟨k1, k2, k3, k4, k5, k6, k7, k8, k9, k10, k11, k12⟩ := K
  unfold wL_law_149
  refine ⟨pk_in i L hi, nm_e ⟨pk_in i L hi, ?_⟩⟩
  refine dq_rc (by omega) k1 (by omega) (by omega) (fun v => decide (¬ v < (xs (nI i).toNatClampNeg >>> ((20 : Int32) &&& 31)) ∧ ¬ (xs (nI i).toNatClampNeg >>> ((20 : Int32) &&& 31)) + (xs (nI i).toNatClampNeg &&& 1023) < v)) (fun v hv => ?_) (fun v h1 h2 => decide_eq_true ⟨h1, h2⟩) ?_
  · refine decide_eq_false (fun z => ?_)
    rcases hv with e | e
    · exact z.1 e
    · exact z.2 e
  refine dq_rc (by omega) k1 (by omega) (by omega) (fun _ => true) (fun v hv => ?_) (fun v h1 h2 => rfl) ?_
  · rcases hv with e | e
    · exact absurd e (dq_min v)
    · exact absurd e (dq_max v)
  have e1 := dq_wa (fun v => decide (¬ v < (xs (nI i).toNatClampNeg >>> ((20 : Int32) &&& 31)) ∧ ¬ (xs (nI i).toNatClampNeg >>> ((20 : Int32) &&& 31)) + (xs (nI i).toNatClampNeg &&& 1023) < v)) a6 a7 a8 ve
  have e2 := dq_aL a6 a7 ve
  rw [dq_wt (fun _ => rfl) a6 a7 a8 ve]
  refine br_f (nI_pos (by omega)) (br_f (nI_nlt e1 (by omega)) (br_t (by rw [k12]) (nm_r (nI_1 i) H)))
theorem dq_123 {J : Int32 → Int32 → Int32 → Int32 → Int32 → Int32 → Int32 → Int32 → Int32 → Int32 → Int32 → Int32 → Int32 → Int32 → Int32 → Int32 → Int32 → (Nat → Int32) → (Nat → Int32) → (Nat → Int32) → (Nat → Int32) → (Nat → Int32) → (Nat → Int32) → (Nat → Int32) → (Nat → Int32) → Prop} {xs : Nat → Int32} {L kc ks : Nat} {x3 x4 : Int32} {R nc te tc ve vc gc fl i j w : Nat} (hL : L ≤ 260) (K : dq_K R nc te tc ve vc gc fl a1 a3 a4 a6 a7) (hi : i < L) (hj : j < 260) (hw : w < 12)
    (hl : w ≤ j → ∃ D T V, x4 = nI D ∧ dq_L x3 w D R te ve T V a1 a2 a3 a4 a5 a6 a7 a8)
    (H : ∀ y z, J x3 x4 (nI fl) (nI (i + 1)) 0 (nI R) (nI R) (nI nc) (nI te) (nI tc) (nI ve) (nI vc) q9 q10 (nI gc) y z a1 a2 a3 a4 a5 a6 a7 a8) : wL_law_123 (fun r => r = 1) L xs J (nI w) x3 x4 (nI fl) (nI i) (nI j) kc ks 0 (nI R) (nI R) (nI nc) (nI te) (nI tc) (nI ve) (nI vc) q9 q10 (nI gc) q12 q13 a1 a2 a3 a4 a5 a6 a7 a8 := by
  unfold wL_law_123
  refine pk_lt j w (fun _ => dq_149 hL K hi (H _ _)) (fun hge => pk_le 40 j (fun _ => dq_149 hL K hi (H _ _)) (fun _ => ?_))
  obtain ⟨D, T, V, e, hh⟩ := hl hge
  subst e
  refine dq_sh hh (fun y z => ?_)
  exact br_f (by decide) (dq_149 hL K hi (H y z))
theorem dq_law {xs : Nat → Int32} {L kc ks w : Nat} (hL : L ≤ 260) (hw : w < 12) :
    ∀ n j x3 x4 R nc te tc ve vc gc fl y z fo pa a1 a2 a3 a4 a5 a6 a7 a8, j + 1 ≤ max L 1 → max L 1 - (j + 1) < n → R = min j 12 → dq_K R nc te tc ve vc gc fl a1 a3 a4 a6 a7 →
      (w < R → ∃ D T V, x4 = nI D ∧ dq_L x3 w D R te ve T V a1 a2 a3 a4 a5 a6 a7 a8) →
      wL_law_39 (fun r => r = 1) L xs (nI w) kc ks n x3 x4 (nI fl) (nI (j + 1)) 0 (nI R) (nI R) (nI nc) (nI te) (nI tc) (nI ve) (nI vc) y z (nI gc) fo pa a1 a2 a3 a4 a5 a6 a7 a8 := by
  intro n
  induction n with
  | zero =>
    intro j x3 x4 R nc te tc ve vc gc fl y z fo pa a1 a2 a3 a4 a5 a6 a7 a8 h1 h2
    omega
  | succ n ih =>
    intro j x3 x4 R nc te tc ve vc gc fl y z fo pa a1 a2 a3 a4 a5 a6 a7 a8 h1 h2 hR K hl
    refine pk_le L (j + 1) (fun _ => rfl) (fun hi => ?_)
    refine nm_r (nI_pred j) ⟨pk_in (j + 1) L hi, ?_⟩
    have c : (nI (j + 1)).toNatClampNeg = j + 1 := nI_clamp (by omega)
    rw [c]
    by_cases hj : j < 12
    · have eR : R = j := by omega
      subst eR
      refine dq_wr K hj (fun D nc' te' tc' ve' vc' gc' y z c1 c2 c3 c4 c5 c6 c7 c8 hr => ?_)
      have hD : D < 2 ^ 15 := hr.2.2.1
      have hK := hr.1
      have K108 : ∀ x5, x5 = nI (fl + (if 8 ≤ D then 1 else 0)) → wL_law_108 (fun r => r = 1) L xs (wL_law_39 (fun r => r = 1) L xs (nI w) kc ks n) (nI w) x3 x4 x5 (nI (R + 1)) (nI R) (nI D) kc ks
          0 (nI (R + 1)) (nI (R + 1)) (nI nc') (nI te') (nI tc') (nI ve') (nI vc') y z (nI gc') fo pa c1 c2 c3 c4 c5 c6 c7 c8 := by
        intro x5 e5
        subst e5
        unfold wL_law_108
        refine pk_eq R w (fun e => ⟨pk_in (R + 1) L hi, nm_r (by rw [c]) ?_⟩) (fun e => ?_)
        · subst e
          have hf : ∃ D' T V, nI D = nI D' ∧ dq_L (xs (R + 1)) R D' (R + 1) te' ve' T V c1 c2 c3 c4 c5 c6 c7 c8 := ⟨D, te, ve, rfl, dq_fresh hr⟩
          exact dq_123 hL hK hi (by omega) hw (fun _ => hf) (fun y' z' => ih (R + 1) _ _ (R + 1) nc' te' tc' ve' vc' gc' _ y z y' z' c1 c2 c3 c4 c5 c6 c7 c8 (by omega) (by omega) (by omega) hK (fun _ => hf))
        · have hf : w ≤ R → ∃ D' T V, x4 = nI D' ∧ dq_L x3 w D' (R + 1) te' ve' T V c1 c2 c3 c4 c5 c6 c7 c8 := by
            intro hwR
            obtain ⟨D1, T, V, e1, hh⟩ := hl (by omega)
            exact ⟨D1, T, V, e1, dq_keep hh K hr⟩
          exact dq_123 hL hK hi (by omega) hw hf (fun y' z' => ih (R + 1) _ _ (R + 1) nc' te' tc' ve' vc' gc' _ y z y' z' c1 c2 c3 c4 c5 c6 c7 c8 (by omega) (by omega) (by omega) hK (fun h => hf (by omega)))
      refine br_f (dq_nm1 (by omega)) ?_
      unfold wL_law_73
      refine pk_lt R 12 (fun _ => ?_) (fun h => absurd h (by omega))
      unfold wL_law_85
      refine br_t rfl (br_f (nI_pos (by omega)) ?_)
      refine pk_eq (D / 8) 0 (fun e => ?_) (fun e => nm_r (nI_1 fl) ?_) (hx := dq_shr3 (by omega))
      · exact K108 _ (by rw [if_neg (by omega)]; rfl)
      · exact K108 _ (by rw [if_pos (by omega)])
    · have eR : R = 12 := by omega
      subst eR
      refine dq_wrF ?_
      refine br_t rfl ?_
      unfold wL_law_73
      refine pk_lt j 12 (fun h => absurd h (by omega)) (fun _ => ?_)
      unfold wL_law_85
      refine br_t rfl (br_t (by decide) ?_)
      unfold wL_law_108
      refine pk_eq j w (fun e => absurd e (by omega)) (fun e => ?_)
      exact dq_123 hL K hi (by omega) hw (fun _ => hl hw) (fun y' z' => ih (j + 1) _ _ 12 nc te tc ve vc gc fl y z y' z' a1 a2 a3 a4 a5 a6 a7 a8 (by omega) (by omega) (by omega) K hl)
end
theorem dq_K0 : dq_K 0 0 0 0 0 0 0 0 (fun _ => 0) (fun _ => 0) (fun _ => 0) (fun _ => 0) (fun _ => 0) :=
  ⟨by decide, by decide, by decide, by decide, by decide, by decide, rfl, rfl, rfl, rfl, rfl, rfl⟩
theorem i_vc (xs : Nat → Int32) (L : Nat) (hL : L ≤ 260) : wpL_law (fun r => r = 1) L xs := by
  have main : ∀ w kc ks, w < 12 → wL_law_27 (fun r => r = 1) L xs (nI w) kc ks 0 0 0 0 0 0 0 0 0 0 0 0 0 (fun _ => 0) (fun _ => 0) (fun _ => 0) (fun _ => 0) (fun _ => 0) (fun _ => 0) (fun _ => 0) (fun _ => 0) := by
    intro w kc ks hw
    exact ⟨max L 1 + 1, dq_law hL hw (max L 1 + 1) 0 0 0 0 0 0 0 0 0 0 0 0 0 0 0 (fun _ => 0) (fun _ => 0) (fun _ => 0) (fun _ => 0) (fun _ => 0) (fun _ => 0) (fun _ => 0) (fun _ => 0) (by omega) (by omega) (by omega) dq_K0 (fun h => absurd h (by omega))⟩
  refine ⟨8, 452, by decide, by decide, ?_⟩
  refine ⟨by decide, by decide, by decide, by decide, by decide, by decide, by decide, by decide, by decide, by decide, by decide, by decide, by decide, by decide, by decide, by decide, ?_⟩
  refine pk_le L 0 (fun _ => main 0 _ _ (by omega)) (fun h => ⟨pk_in 0 L h, by decide, ?_⟩)
  obtain ⟨q, hq, e⟩ := dq_rem12 (xs (0 : Int32).toNatClampNeg)
  rw [e]
  exact main q _ _ hq
end
