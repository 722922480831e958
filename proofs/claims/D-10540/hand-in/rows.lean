section
/-! sets of vertices as numbers, sums, the picture of a layer: no program here -/
def mb_on (v x : Nat) : Nat → Nat
  | 0 => 0
  | i + 1 => mb_on v x i + (if v ≤ i ∧ i ≠ x then 2 ^ i else 0)
/-- the vertices from v on, below n, but x (12: none) -/
def mb_op (n v x : Nat) : Int32 := nI (mb_on v x n)
/-- the vertices below v, but x -/
def mb_tk (v x : Nat) : Int32 := nI (mb_on 0 x v)
abbrev mb_bit (v : Nat) : Int32 := (1 : Int32) <<< (nI v &&& 31)
/-- the one edge a - b, as the neighbours of i -/
def mb_jn (a b i : Nat) : Int32 := if i = a then mb_bit b else if i = b then mb_bit a else 0
theorem mb_t1 : ∀ n, n < 13 → ∀ v, v < n → ∀ x, x < 13 → mb_op n v x &&& (mb_bit v ^^^ (-1)) = mb_op n (v + 1) x := by decide +kernel
theorem mb_t2 : ∀ n, n < 13 → ∀ v, v < n → ∀ x, x < 13 → x ≠ v → ¬ mb_op n v x &&& mb_bit v = 0 := by decide +kernel
theorem mb_t3 : ∀ n, n < 13 → ∀ v, v < n → mb_op n v v &&& mb_bit v = 0 := by decide +kernel
theorem mb_t4 : ∀ v, v < 12 → ∀ x, x < 13 → x ≠ v → mb_tk v x ||| mb_bit v = mb_tk (v + 1) x := by decide +kernel
theorem mb_t4' : ∀ v, v < 12 → mb_tk (v + 1) v = mb_tk v v := by decide +kernel
theorem mb_t5 : ∀ n, n < 13 → ∀ b, b < n → ∀ a, a < b → ∀ x, x < 13 → mb_op n (b + 1) x &&& (mb_bit a ^^^ (-1)) = mb_op n (b + 1) x := by decide +kernel
theorem mb_t6 : ∀ n, n < 13 → ∀ b, b < n → ∀ a, a < b → mb_op n (a + 1) 12 &&& (mb_bit b ^^^ (-1)) = mb_op n (a + 1) b := by decide +kernel
theorem mb_t7 : ∀ n, n < 13 → ∀ v, v < 13 → ∀ a, a < v → mb_op n v a = mb_op n v 12 := by decide +kernel
theorem mb_t8 : ∀ v, v < 13 → ∀ b, b < 13 → v ≤ b → mb_tk v b = mb_tk v 12 := by decide +kernel
theorem mb_t9 : ∀ n, n < 13 → ∀ b, b < n → ∀ v, v < 13 → v ≤ b → ¬ mb_op n v 12 = mb_op n v b := by decide +kernel
theorem mb_t10 : ∀ n, n < 13 → ((1 : Int32) <<< (nI n &&& 31)) - 1 = mb_op n 0 12 := by decide +kernel
theorem mb_t11 : ∀ n, n < 13 → ∀ b, b < n → ∀ v, v < 13 → mb_op n v b ||| mb_op n v 12 = mb_op n v 12 := by decide +kernel
theorem mb_t12 : ∀ n, n < 13 → ∀ x, x < 13 → ∀ i, i < n → ((((mb_tk n x) >>> (nI i &&& 31)) &&& 1) = 1 ↔ i ≠ x) := by decide +kernel
theorem mb_t13 : ∀ n, n < 13 → (1 : Int32) <<< (nI n &&& 31) = nI (2 ^ n) := by decide +kernel
theorem mb_t14 : ∀ n, n < 13 → 2 ≤ n → (3 : Int32) <<< ((nI n - 2) &&& 31) = nI (3 * 2 ^ (n - 2)) := by decide +kernel
theorem mb_tk0 (x : Nat) : mb_tk 0 x = 0 := rfl
theorem mb_z0 (x : Int32) : (0 : Int32) &&& x = 0 := by
  apply Int32.toBitVec_inj.1
  rw [Int32.toBitVec_and]
  exact BitVec.zero_and
theorem mb_z1 (x : Int32) : x &&& ((0 : Int32) ^^^ (-1)) = x := by
  apply Int32.toBitVec_inj.1
  rw [Int32.toBitVec_and, show ((0 : Int32) ^^^ (-1)).toBitVec = BitVec.allOnes 32 by decide]
  exact BitVec.and_allOnes
theorem mb_z2 (x : Int32) : (0 : Int32) ||| x = x := by
  apply Int32.toBitVec_inj.1
  rw [Int32.toBitVec_or]
  exact BitVec.zero_or
/-! sums over the vertices below v, but x -/
def mb_sm (g : Nat → Nat) (x : Nat) : Nat → Nat
  | 0 => 0
  | v + 1 => mb_sm g x v + (if v = x then 0 else g v)
theorem mb_sm_eq {g : Nat → Nat} {x v : Nat} (h : v = x) : mb_sm g x (v + 1) = mb_sm g x v := by
  show mb_sm g x v + (if v = x then 0 else g v) = _
  rw [if_pos h, Nat.add_zero]
theorem mb_sm_ne {g : Nat → Nat} {x v : Nat} (h : ¬ v = x) : mb_sm g x (v + 1) = mb_sm g x v + g v := by
  show mb_sm g x v + (if v = x then 0 else g v) = _
  rw [if_neg h]
theorem mb_sm_le {g : Nat → Nat} {x : Nat} (hg : ∀ i, i < 12 → 0 < g i ∧ g i ≤ 131072) : ∀ v, v ≤ 12 → mb_sm g x v ≤ v * 131072 := by
  intro v
  induction v with
  | zero => intro _; exact Nat.le_refl 0
  | succ v ih =>
    intro hv
    have h1 := ih (by omega)
    have h2 := (hg v (by omega)).2
    rw [Nat.succ_mul]
    by_cases e : v = x
    · rw [mb_sm_eq e]
      exact Nat.le_trans h1 (Nat.le_add_right _ _)
    · rw [mb_sm_ne e]
      exact Nat.add_le_add h1 h2
theorem mb_sm_31 {g : Nat → Nat} {x v : Nat} (hg : ∀ i, i < 12 → 0 < g i ∧ g i ≤ 131072) (hv : v ≤ 12) : mb_sm g x v < 2 ^ 31 := by
  have h := mb_sm_le (x := x) hg v hv
  omega
theorem mb_sm_lo {g : Nat → Nat} {x y : Nat} : ∀ v, v ≤ x → v ≤ y → mb_sm g x v = mb_sm g y v := by
  intro v
  induction v with
  | zero => intro _ _; rfl
  | succ v ih =>
    intro h1 h2
    rw [mb_sm_ne (by omega), mb_sm_ne (by omega), ih (by omega) (by omega)]
theorem mb_sm_all {g : Nat → Nat} {x y : Nat} : ∀ v, x < v → v ≤ y → mb_sm g x v + g x = mb_sm g y v := by
  intro v
  induction v with
  | zero => intro h _; omega
  | succ v ih =>
    intro h1 h2
    by_cases e : v = x
    · subst e
      rw [mb_sm_eq rfl, mb_sm_ne (by omega), mb_sm_lo (x := v) (y := y) v (Nat.le_refl v) (by omega)]
    · have := ih (by omega) (by omega)
      rw [mb_sm_ne e, mb_sm_ne (x := y) (by omega)]
      omega
theorem mb_sm_lin {wt : Nat → Nat} {x : Nat} : ∀ v, mb_sm (fun i => 4096 * wt i + 2 ^ i) x v = 4096 * mb_sm wt x v + mb_sm (fun i => 2 ^ i) x v := by
  intro v
  induction v with
  | zero => rfl
  | succ v ih =>
    by_cases e : v = x
    · rw [mb_sm_eq e, mb_sm_eq e, mb_sm_eq e, ih]
    · rw [mb_sm_ne e, mb_sm_ne e, mb_sm_ne e, ih]
      omega
theorem mb_sm_pow {x : Nat} : ∀ v, mb_sm (fun i => 2 ^ i) x v < 2 ^ v := by
  intro v
  induction v with
  | zero => exact Nat.one_pos
  | succ v ih =>
    have h2 : 2 ^ (v + 1) = 2 ^ v + 2 ^ v := by rw [Nat.pow_succ]; omega
    by_cases e : v = x
    · rw [mb_sm_eq e]; omega
    · rw [mb_sm_ne e]
      omega
theorem mb_sm_cmp {wt : Nat → Nat} {x y n : Nat} (hn : n ≤ 12) (h : mb_sm (fun i => 4096 * wt i + 2 ^ i) x n ≤ mb_sm (fun i => 4096 * wt i + 2 ^ i) y n) : mb_sm wt x n ≤ mb_sm wt y n := by
  rw [mb_sm_lin, mb_sm_lin] at h
  have h1 := mb_sm_pow (x := y) n
  have h2 : 2 ^ n ≤ 2 ^ 12 := Nat.pow_le_pow_right (by omega) hn
  have h3 : (2 : Nat) ^ 12 = 4096 := rfl
  omega
theorem mb_sm_one {u w : Nat} : ∀ v, v ≤ 12 → mb_sm (fun i => if i = u then w else 1) 12 v + (if u < v then 1 else 0) = v + (if u < v then w else 0) := by
  intro v
  induction v with
  | zero => intro _; rfl
  | succ v ih =>
    intro hv
    have h := ih (by omega)
    rw [mb_sm_ne (by omega)]
    by_cases e : v = u
    · subst e
      rw [if_neg (by omega), if_neg (by omega)] at h
      rw [if_pos rfl, if_pos (by omega), if_pos (by omega)]
      omega
    · rw [if_neg e]
      by_cases e2 : u < v
      · rw [if_pos e2, if_pos e2] at h
        rw [if_pos (by omega), if_pos (by omega)]
        omega
      · rw [if_neg e2, if_neg e2] at h
        rw [if_neg (by omega), if_neg (by omega)]
        omega
/-- the gains of the vertices out of their weights -/
def mb_g (wt : Nat → Nat) : Nat → Nat := fun i => 4096 * wt i + 2 ^ i
/-- y may be left out of the best set -/
def mb_good (n a b : Nat) (g : Nat → Nat) (y : Nat) : Prop :=
  (n ≤ a ∧ y = 12) ∨ (b < n ∧ (y = a ∨ y = b) ∧ mb_sm g a n ≤ mb_sm g y n ∧ mb_sm g b n ≤ mb_sm g y n)
theorem mb_best0 {n u w : Nat} (hn : n ≤ 12) (hu : u < n) : mb_sm (fun i => if i = u then w else 1) 12 n = n - 1 + w := by
  have h := mb_sm_one (u := u) (w := w) n hn
  rw [if_pos hu, if_pos hu] at h
  omega
theorem mb_best1 {n a b u v w y : Nat} (hn : n ≤ 12) (hu : u < n) (hv : v < n) (huv : u ≠ v) (hab : (a = u ∧ b = v) ∨ (a = v ∧ b = u)) (hb : b < n)
    (hy : mb_good n a b (mb_g (fun i => if i = u then w else 1)) y) : mb_sm (fun i => if i = u then w else 1) y n = n - 2 + (if w ≤ 1 then 1 else w) := by
  have hT := mb_best0 (w := w) hn hu
  have ha : a < n := by omega
  obtain ⟨h, _⟩ | ⟨_, hy, h1, h2⟩ := hy
  · omega
  have k1 := mb_sm_cmp hn h1
  have k2 := mb_sm_cmp hn h2
  have s1 := mb_sm_all (g := fun i => if i = u then w else 1) (x := u) (y := 12) n hu hn
  have s2 := mb_sm_all (g := fun i => if i = u then w else 1) (x := v) (y := 12) n hv hn
  rw [if_pos rfl] at s1
  rw [if_neg (fun e => huv e.symm)] at s2
  have q : mb_sm (fun i => if i = u then w else 1) u n ≤ mb_sm (fun i => if i = u then w else 1) y n ∧ mb_sm (fun i => if i = u then w else 1) v n ≤ mb_sm (fun i => if i = u then w else 1) y n := by
    rcases hab with ⟨e1, e2⟩ | ⟨e1, e2⟩
    · subst e1 e2; exact ⟨k1, k2⟩
    · subst e1 e2; exact ⟨k2, k1⟩
  have hy' : y = u ∨ y = v := by omega
  rcases hy' with e | e
  · subst e
    by_cases hw : w ≤ 1
    · rw [if_pos hw]; omega
    · rw [if_neg hw]; omega
  · subst e
    by_cases hw : w ≤ 1
    · rw [if_pos hw]; omega
    · rw [if_neg hw]; omega
theorem mb_g_ok {wt : Nat → Nat} (h : ∀ i, wt i ≤ 30) : ∀ i, i < 12 → 0 < mb_g wt i ∧ mb_g wt i ≤ 131072 := by
  intro i hi
  have h1 : 2 ^ i ≤ 2 ^ 11 := Nat.pow_le_pow_right (by omega) (by omega)
  have h2 : (2 : Nat) ^ 11 = 2048 := rfl
  have h3 : 0 < 2 ^ i := Nat.pow_pos (by omega)
  have h4 := h i
  unfold mb_g
  omega
/-! the picture of a layer at level v: m places, place j leaves out c j -/
def mb_ly (n : Nat) (g : Nat → Nat) (v m : Nat) (c : Nat → Nat) (p q r : Nat → Int32) : Prop :=
  ∀ j, j < m → p j = mb_op n v (c j) ∧ q j = nI (mb_sm g (c j) v) ∧ r j = mb_tk v (c j)
theorem mb_ly_cp {n v m : Nat} {g c : Nat → Nat} {p q r p' q' r' : Nat → Int32} (h : mb_ly n g v m c p q r) (e : ∀ j, j < m → p' j = p j ∧ q' j = q j ∧ r' j = r j) : mb_ly n g v m c p' q' r' := by
  intro j hj
  obtain ⟨e1, e2, e3⟩ := e j hj
  rw [e1, e2, e3]
  exact h j hj
def mb_ab (a b : Nat) : Nat → Nat := fun j => if j = 0 then a else b
theorem mb_ab0 (a b : Nat) : mb_ab a b 0 = a := rfl
theorem mb_ab1 (a b : Nat) : mb_ab a b 1 = b := rfl
/-- which of the two the join leaves out -/
def mb_bb (g : Nat → Nat) (a b : Nat) : Nat := if mb_sm g b (b + 1) ≤ mb_sm g a (b + 1) then a else b
def mb_cx (n a b : Nat) (g : Nat → Nat) (a1 a3 : Nat → Int32) : Prop :=
  n ≤ 12 ∧ 2 ≤ n ∧ a < b ∧ (b < n ∨ n ≤ a) ∧ (∀ i, i < n → a1 i = mb_jn a b i) ∧ (∀ i, i < n → a3 i = nI (g i)) ∧ (∀ i, i < 12 → 0 < g i ∧ g i ≤ 131072)
/-- how many places a layer may have -/
def mb_mo (w L v : Nat) : Nat := if v = L ∧ w < 2 then 2 else w
/-- the best so far after a value s with the set t -/
def mb_up (s t bv bt bv' bt' : Int32) : Prop := (s ≤ bv ∧ bv' = bv ∧ bt' = bt) ∨ (¬ s ≤ bv ∧ bv' = s ∧ bt' = t)
/-! the steps that keep a place as it is -/
def mb_ok (n a b x v : Nat) : Prop := mb_op n (v + 1) x &&& (mb_jn a b v ^^^ (-1)) = mb_op n (v + 1) x
theorem mb_ok_of {n a b x v : Nat} (hn : n ≤ 12) (hab : a < b) (hbn : b < n ∨ n ≤ a) (hv : v < n) (hx : x < 13) (h : v ≠ a) : mb_ok n a b x v := by
  unfold mb_ok mb_jn
  rw [if_neg h]
  by_cases e : v = b
  · rw [if_pos e]
    subst e
    exact mb_t5 n (by omega) v hv a hab x hx
  · rw [if_neg e]
    exact mb_z1 _
theorem mb_ne_ab {n a b v : Nat} (hn : n ≤ 12) (hbn : b < n) (h1 : a < v) (h2 : v ≤ b) : ∀ k, k < 2 → ∀ j, j < k → ¬ mb_op n v (mb_ab a b j) = mb_op n v (mb_ab a b k) := by
  intro k hk j hj
  have ej : j = 0 := by omega
  have ek : k = 1 := by omega
  subst ej ek
  rw [mb_ab0, mb_ab1, mb_t7 n (by omega) v (by omega) a h1]
  exact mb_t9 n (by omega) b hbn v (by omega) h2
theorem mb_ab13 {n a b : Nat} (hn : n ≤ 12) (hab : a < b) (hb : b < n) : ∀ j, j < 2 → mb_ab a b j < 13 := by
  intro j hj
  unfold mb_ab
  by_cases e : j = 0
  · rw [if_pos e]; omega
  · rw [if_neg e]; omega
end
section
/-! the small methods, their posts general -/
section LOW
variable {fn fw fi fo mi mo sz ns cl cs ex bv bt : Int32} {a1 a2 a3 a4 a5 a6 a7 a8 a9 a10 a11 a12 a13 a14 a15 a16 a17 : Nat → Int32}
theorem mb_reach_new {post : St2 → Prop} {x1 x2 x3 : Int32} {k : Nat} (hk : k < 64) (h : ∀ j, j < k → ¬ a7 j = x1)
    (H : post (fn, fw, fi, fo, mi, mo, sz, nI (k + 1), cl, cs, ex, bv, bt, a1, a2, a3, a4, a5, a6, upd a7 k x1, upd a8 k x2, upd a9 k x3, a10, a11, a12, a13, a14, a15, a16, a17)) : wpX_reach post (fn, fw, fi, fo, mi, mo, sz, nI k, cl, cs, ex, bv, bt, a1, a2, a3, a4, a5, a6, a7, a8, a9, a10, a11, a12, a13, a14, a15, a16, a17) x1 x2 x3 := by
  have e : (nI k).toNatClampNeg = k := nI_clamp (by omega)
  refine pk_loop (σ := Unit) (fun fu i _ => wX_reach_3 post x1 x2 x3 fn fw fi fo mi mo sz (nI k) cl cs ex bv bt a1 a2 a3 a4 a5 a6 a7 a8 a9 a10 a11 a12 a13 a14 a15 a16 a17 fu (nI i)) (fun _ _ => True) k 0 () (by omega) trivial ?_ ?_
  · intro fu _ _
    refine pk_le k k (fun _ => pk_le 64 k (fun z => absurd z (by omega)) (fun _ => ⟨pk_in k 64 hk, ?_⟩)) (fun z => absurd z (by omega))
    exact nm_r (e' := upd a7 k x1) (by rw [e]) ⟨pk_in k 64 hk, nm_r (e' := upd a8 k x2) (by rw [e]) ⟨pk_in k 64 hk, nm_r (e' := upd a9 k x3) (by rw [e]) (nm_r (nI_1 k) H)⟩⟩
  · intro fu i _ hi _ hw
    refine pk_le k i (fun z => absurd z (by omega)) (fun _ => ⟨pk_in i 64 (by omega), br_f ?_ (nm_r (nI_1 i) (hw () trivial))⟩)
    rw [nI_clamp (by omega)]
    exact h i hi
theorem mb_reach_hit {post : St2 → Prop} {x1 x2 x3 : Int32} {k j : Nat} (hk : k ≤ 64) (hj : j < k) (h : ∀ i, i < j → ¬ a7 i = x1) (e1 : a7 j = x1)
    (H0 : x2 ≤ a8 j → post (fn, fw, fi, fo, mi, mo, sz, nI k, cl, cs, ex, bv, bt, a1, a2, a3, a4, a5, a6, a7, a8, a9, a10, a11, a12, a13, a14, a15, a16, a17)) (H1 : ¬ x2 ≤ a8 j → post (fn, fw, fi, fo, mi, mo, sz, nI k, cl, cs, ex, bv, bt, a1, a2, a3, a4, a5, a6, a7, upd a8 j x2, upd a9 j x3, a10, a11, a12, a13, a14, a15, a16, a17)) : wpX_reach post (fn, fw, fi, fo, mi, mo, sz, nI k, cl, cs, ex, bv, bt, a1, a2, a3, a4, a5, a6, a7, a8, a9, a10, a11, a12, a13, a14, a15, a16, a17) x1 x2 x3 := by
  have e : (nI j).toNatClampNeg = j := nI_clamp (by omega)
  refine pk_loop (σ := Unit) (fun fu i _ => wX_reach_3 post x1 x2 x3 fn fw fi fo mi mo sz (nI k) cl cs ex bv bt a1 a2 a3 a4 a5 a6 a7 a8 a9 a10 a11 a12 a13 a14 a15 a16 a17 fu (nI i)) (fun _ _ => True) j 0 () (by omega) trivial ?_ ?_
  · intro fu _ _
    refine pk_le k j (fun z => absurd z (by omega)) (fun _ => ⟨pk_in j 64 (by omega), br_t (by rw [e]; exact e1) ⟨pk_in j 64 (by omega), br_c (fun z => H0 (by rw [e] at z; exact z)) (fun z => ⟨pk_in j 64 (by omega), ?_⟩)⟩⟩)
    exact nm_r (e' := upd a8 j x2) (by rw [e]) ⟨pk_in j 64 (by omega), nm_r (e' := upd a9 j x3) (by rw [e]) (H1 (by rw [e] at z; exact z))⟩
  · intro fu i _ hi _ hw
    refine pk_le k i (fun z => absurd z (by omega)) (fun _ => ⟨pk_in i 64 (by omega), br_f ?_ (nm_r (nI_1 i) (hw () trivial))⟩)
    rw [nI_clamp (by omega)]
    exact h i hi
theorem mb_start {post : St2 → Prop} {p0 p1 p2 : Int32} (H : post (fn, fw, fi, fo, mi, mo, nI 1, ns, cl, cs, ex, bv, bt, a1, a2, a3, upd a4 0 p0, upd a5 0 p1, upd a6 0 p2, a7, a8, a9, a10, a11, a12, a13, a14, a15, a16, a17)) : wpX_startLayer post (fn, fw, fi, fo, mi, mo, sz, ns, cl, cs, ex, bv, bt, a1, a2, a3, a4, a5, a6, a7, a8, a9, a10, a11, a12, a13, a14, a15, a16, a17) p0 p1 p2 :=
  nm_e (nm_e (nm_e H))
theorem mb_cp3 {s1 s2 s3 b1 b2 b3 : Nat → Int32} {i : Nat} (h : ∀ j, j < i → s1 j = b1 j ∧ s2 j = b2 j ∧ s3 j = b3 j) :
    ∀ j, j < i + 1 → upd s1 i (b1 i) j = b1 j ∧ upd s2 i (b2 i) j = b2 j ∧ upd s3 i (b3 i) j = b3 j := by
  intro j hj
  by_cases e : j = i
  · subst e
    exact ⟨pk_us, pk_us, pk_us⟩
  · obtain ⟨h1, h2, h3⟩ := h j (by omega)
    exact ⟨by rw [pk_un e, h1], by rw [pk_un e, h2], by rw [pk_un e, h3]⟩
theorem mb_tl {post : St2 → Prop} {k : Nat} (hk : k ≤ 64) (H : ∀ p q r : Nat → Int32, (∀ j, j < k → p j = a7 j ∧ q j = a8 j ∧ r j = a9 j) → post (fn, fw, fi, fo, mi, mo, nI k, nI k, cl, cs, ex, bv, bt, a1, a2, a3, p, q, r, a7, a8, a9, a10, a11, a12, a13, a14, a15, a16, a17)) :
    wpX_takeLayer post (fn, fw, fi, fo, mi, mo, sz, nI k, cl, cs, ex, bv, bt, a1, a2, a3, a4, a5, a6, a7, a8, a9, a10, a11, a12, a13, a14, a15, a16, a17) := by
  refine pk_loop (σ := (Nat → Int32) × (Nat → Int32) × (Nat → Int32)) (fun fu i s => wX_takeLayer_10 post fn fw fi fo mi mo (nI k) (nI k) cl cs ex bv bt fu (nI i) a1 a2 a3 s.1 s.2.1 s.2.2 a7 a8 a9 a10 a11 a12 a13 a14 a15 a16 a17) (fun i s => ∀ j, j < i → s.1 j = a7 j ∧ s.2.1 j = a8 j ∧ s.2.2 j = a9 j) k 0 (a4, a5, a6) (by omega) (fun j hj => absurd hj (by omega)) ?_ ?_
  · intro fu s hs
    exact pk_le k k (fun _ => H _ _ _ hs) (fun z => absurd z (by omega))
  · intro fu i s hi hs hw
    have e : (nI i).toNatClampNeg = i := nI_clamp (by omega)
    have h64 : vp_in (nI i) 64 := pk_in i 64 (by omega)
    exact pk_le k i (fun z => absurd z (by omega)) (fun _ => ⟨h64, h64, nm_r (e' := upd s.1 i (a7 i)) (by rw [e]) ⟨h64, h64, nm_r (e' := upd s.2.1 i (a8 i)) (by rw [e]) ⟨h64, h64, nm_r (e' := upd s.2.2 i (a9 i)) (by rw [e]) (nm_r (nI_1 i) (hw (upd s.1 i (a7 i), upd s.2.1 i (a8 i), upd s.2.2 i (a9 i)) (mb_cp3 hs)))⟩⟩⟩)
theorem mb_keep {post : St2 → Prop} {k : Nat} {p0 : Int32} (hk : k ≤ 64) (H : ∀ p q r : Nat → Int32, (∀ j, j < k → p j = a4 j ∧ q j = a5 j ∧ r j = a6 j) → post (fn, fw, fi, fo, mi, mo, nI k, ns, p0, nI k, ex, bv, bt, a1, a2, a3, a4, a5, a6, a7, a8, a9, p, q, r, a13, a14, a15, a16, a17)) :
    wpX_keepCut post (fn, fw, fi, fo, mi, mo, nI k, ns, cl, cs, ex, bv, bt, a1, a2, a3, a4, a5, a6, a7, a8, a9, a10, a11, a12, a13, a14, a15, a16, a17) p0 := by
  refine pk_loop (σ := (Nat → Int32) × (Nat → Int32) × (Nat → Int32)) (fun fu i s => wX_keepCut_15 post fn fw fi fo mi mo (nI k) ns p0 (nI k) ex bv bt fu (nI i) a1 a2 a3 a4 a5 a6 a7 a8 a9 s.1 s.2.1 s.2.2 a13 a14 a15 a16 a17) (fun i s => ∀ j, j < i → s.1 j = a4 j ∧ s.2.1 j = a5 j ∧ s.2.2 j = a6 j) k 0 (a10, a11, a12) (by omega) (fun j hj => absurd hj (by omega)) ?_ ?_
  · intro fu s hs
    exact pk_le k k (fun _ => H _ _ _ hs) (fun z => absurd z (by omega))
  · intro fu i s hi hs hw
    have e : (nI i).toNatClampNeg = i := nI_clamp (by omega)
    have h64 : vp_in (nI i) 64 := pk_in i 64 (by omega)
    exact pk_le k i (fun z => absurd z (by omega)) (fun _ => ⟨h64, h64, nm_r (e' := upd s.1 i (a4 i)) (by rw [e]) ⟨h64, h64, nm_r (e' := upd s.2.1 i (a5 i)) (by rw [e]) ⟨h64, h64, nm_r (e' := upd s.2.2 i (a6 i)) (by rw [e]) (nm_r (nI_1 i) (hw (upd s.1 i (a4 i), upd s.2.1 i (a5 i), upd s.2.2 i (a6 i)) (mb_cp3 hs)))⟩⟩⟩)
theorem mb_c0 : (0 : Int32).toNatClampNeg = 0 := by decide
theorem mb_c1 : (1 : Int32).toNatClampNeg = 1 := by decide
theorem mb_c11 : ((1 : Int32) - 1).toNatClampNeg = 0 := by decide
theorem mb_sort2 {post : St2 → Prop} (h : ¬ a5 1 ≤ a5 0)
    (H : ∀ p q r : Nat → Int32, p 0 = a4 1 → p 1 = a4 0 → q 0 = a5 1 → q 1 = a5 0 → r 0 = a6 1 → r 1 = a6 0 → post (fn, fw, fi, fo, mi, mo, nI 2, ns, cl, cs, ex, bv, bt, a1, a2, a3, p, q, r, a7, a8, a9, a10, a11, a12, a13, a14, a15, a16, a17)) : wpX_sortLayer post (fn, fw, fi, fo, mi, mo, nI 2, ns, cl, cs, ex, bv, bt, a1, a2, a3, a4, a5, a6, a7, a8, a9, a10, a11, a12, a13, a14, a15, a16, a17) := by
  have i0 : vp_in ((1 : Int32) - 1) 64 := pk_in 0 64 (by omega)
  have i1 : vp_in (1 : Int32) 64 := pk_in 1 64 (by omega)
  have iz : vp_in (0 : Int32) 64 := pk_in 0 64 (by omega)
  have E : wX_sortLayer_2 post fn fw fi fo mi mo (nI 2) ns cl cs ex bv bt 1 2 a1 a2 a3 (upd (upd a4 1 (a4 0)) 0 (a4 1)) (upd (upd a5 1 (a5 0)) 0 (a5 1)) (upd (upd a6 1 (a6 0)) 0 (a6 1)) a7 a8 a9 a10 a11 a12 a13 a14 a15 a16 a17 :=
    pk_le 2 2 (fun _ => H _ _ _ rfl rfl rfl rfl rfl rfl) (fun z => absurd z (by omega))
  have D : wX_sortLayer_107 post (wX_sortLayer_2 post fn fw fi fo mi mo (nI 2) ns cl cs ex bv bt 1) 1 (a4 1) (a5 1) (a6 1) 0 fn fw fi fo mi mo (nI 2) ns cl cs ex bv bt a1 a2 a3 (upd a4 1 (a4 0)) (upd a5 1 (a5 0)) (upd a6 1 (a6 0)) a7 a8 a9 a10 a11 a12 a13 a14 a15 a16 a17 :=
    ⟨iz, nm_r (e' := upd (upd a4 1 (a4 0)) 0 (a4 1)) (by rw [mb_c0]) ⟨iz, nm_r (e' := upd (upd a5 1 (a5 0)) 0 (a5 1)) (by rw [mb_c0]) ⟨iz, nm_r (e' := upd (upd a6 1 (a6 0)) 0 (a6 1)) (by rw [mb_c0]) (nm_r (e' := (2 : Int32)) (by decide) E)⟩⟩⟩
  have C : wX_sortLayer_35 post (wX_sortLayer_2 post fn fw fi fo mi mo (nI 2) ns cl cs ex bv bt 1) 1 (a4 1) (a5 1) (a6 1) fn fw fi fo mi mo (nI 2) ns cl cs ex bv bt 1 0 a1 a2 a3 (upd a4 1 (a4 0)) (upd a5 1 (a5 0)) (upd a6 1 (a6 0)) a7 a8 a9 a10 a11 a12 a13 a14 a15 a16 a17 :=
    pk_le 0 0 (fun _ => D) (fun z => absurd z (by omega))
  have B : wX_sortLayer_35 post (wX_sortLayer_2 post fn fw fi fo mi mo (nI 2) ns cl cs ex bv bt 1) 1 (a4 1) (a5 1) (a6 1) fn fw fi fo mi mo (nI 2) ns cl cs ex bv bt 2 1 a1 a2 a3 a4 a5 a6 a7 a8 a9 a10 a11 a12 a13 a14 a15 a16 a17 :=
    pk_le 1 0 (fun z => absurd z (by omega)) (fun _ => ⟨i0, br_f (by rw [mb_c11]; exact h) ⟨i0, i1, nm_r (e' := upd a4 1 (a4 0)) (by rw [mb_c11, mb_c1]) ⟨i0, i1, nm_r (e' := upd a5 1 (a5 0)) (by rw [mb_c11, mb_c1]) ⟨i0, i1, nm_r (e' := upd a6 1 (a6 0)) (by rw [mb_c11, mb_c1]) (nm_r (e' := (0 : Int32)) (by decide) C)⟩⟩⟩⟩)
  exact ⟨2, pk_le 2 1 (fun z => absurd z (by omega)) (fun _ => ⟨i1, nm_r (e' := a4 1) (by rw [mb_c1]) ⟨i1, nm_r (e' := a5 1) (by rw [mb_c1]) ⟨i1, nm_r (e' := a6 1) (by rw [mb_c1]) ⟨2, B⟩⟩⟩⟩)⟩
theorem mb_merge2 {post : St2 → Prop} (H : post (fn, fw, fi, fo, mi, mo, nI 2, ns, cl, cs, ex, bv, bt, a1, a2, a3, upd a4 0 (a4 0 ||| a4 1), a5, a6, a7, a8, a9, a10, a11, a12, a13, a14, a15, a16, a17)) : wpX_mergeBehind post (fn, fw, fi, fo, mi, mo, nI 2, ns, cl, cs, ex, bv, bt, a1, a2, a3, a4, a5, a6, a7, a8, a9, a10, a11, a12, a13, a14, a15, a16, a17) (nI 1) := by
  have e0 : (nI 1 - 1).toNatClampNeg = 0 := by decide
  have e1 : (nI 1).toNatClampNeg = 1 := by decide
  have i0 : vp_in (nI 1 - 1) 64 := pk_in 0 64 (by omega)
  have i1 : vp_in (nI 1) 64 := pk_in 1 64 (by omega)
  have E : wX_mergeBehind_2 post (nI 1) fn fw fi fo mi mo (nI 2) ns cl cs ex bv bt 1 (nI 2) a1 a2 a3 (upd a4 0 (a4 0 ||| a4 1)) a5 a6 a7 a8 a9 a10 a11 a12 a13 a14 a15 a16 a17 :=
    pk_le 2 2 (fun _ => H) (fun z => absurd z (by omega))
  exact ⟨2, pk_le 2 1 (fun z => absurd z (by omega)) (fun _ => ⟨i0, i1, i0, nm_r (e' := upd a4 0 (a4 0 ||| a4 1)) (by rw [e0, e1]) (nm_r (nI_1 1) E)⟩)⟩
theorem mb_fin {post : Int32 → St2 → Prop} {mg : Int32} {s : Nat} (hs : s < 2 ^ 31) (h5 : a5 0 = nI s)
    (H0 : mg = 0 → nI s ≤ bv → post (nI s) (fn, fw, fi, fo, mi, mo, nI 1, ns, cl, cs, ex, bv, bt, a1, a2, a3, a4, a5, a6, a7, a8, a9, a10, a11, a12, a13, a14, a15, a16, a17)) (H1 : mg = 0 → ¬ nI s ≤ bv → post (nI s) (fn, fw, fi, fo, mi, mo, nI 1, ns, cl, cs, ex, nI s, a6 0, a1, a2, a3, a4, a5, a6, a7, a8, a9, a10, a11, a12, a13, a14, a15, a16, a17)) (H2 : ¬ mg = 0 → post (nI s) (fn, fw, fi, fo, mi, mo, nI 1, ns, cl, cs, ex, bv, bt, a1, a2, a3, a4, a5, a6, a7, a8, a9, a10, a11, a12, a13, a14, a15, a16, a17)) :
    ∃ fu, wX_run_133 post mg fn fw fi fo mi mo (nI 1) ns cl cs ex a1 a2 a3 a4 a5 a6 a7 a8 a9 a10 a11 a12 a13 a14 a15 a16 a17 fu (-1) 0 bv bt := by
  have iz : vp_in (0 : Int32) 64 := pk_in 0 64 (by omega)
  have e5 : a5 (0 : Int32).toNatClampNeg = nI s := by rw [mb_c0]; exact h5
  have e6 : a6 (0 : Int32).toNatClampNeg = a6 0 := by rw [mb_c0]
  have hm : ¬ a5 (0 : Int32).toNatClampNeg ≤ (-1 : Int32) := by
    rw [e5, Int32.le_iff_toInt_le, nI_toInt hs]
    have : (-1 : Int32).toInt = -1 := by decide
    omega
  have E : ∀ bv' bt' : Int32, post (nI s) (fn, fw, fi, fo, mi, mo, nI 1, ns, cl, cs, ex, bv', bt', a1, a2, a3, a4, a5, a6, a7, a8, a9, a10, a11, a12, a13, a14, a15, a16, a17) → wX_run_133 post mg fn fw fi fo mi mo (nI 1) ns cl cs ex a1 a2 a3 a4 a5 a6 a7 a8 a9 a10 a11 a12 a13 a14 a15 a16 a17 1 (nI s) (nI 1) bv' bt' := fun bv' bt' h =>
    pk_le 1 1 (fun _ => h) (fun z => absurd z (by omega))
  refine ⟨2, pk_le 1 0 (fun z => absurd z (by omega)) (fun _ => ⟨iz, br_f hm ⟨iz, nm_r e5 ?_⟩⟩)⟩
  exact br_c (fun z => ⟨iz, br_c (fun y => nm_r (nI_1 0) (E _ _ (H0 z (by rw [e5] at y; exact y)))) (fun y => ⟨iz, nm_r e5 ⟨iz, nm_r e6 (nm_r (nI_1 0) (E _ _ (H1 z (by rw [e5] at y; exact y))))⟩⟩)⟩) (fun z => nm_r (nI_1 0) (E _ _ (H2 z)))
end LOW
end
section
/-! one layer to the next -/
section LAY
variable {fn fw fi fo mi mo sz ns cl cs ex bv bt : Int32} {a1 a2 a3 a4 a5 a6 a7 a8 a9 a10 a11 a12 a13 a14 a15 a16 a17 : Nat → Int32}
theorem mb_x39_skip {post : St2 → Prop} {i v : Nat} {x3 : Int32} (hi : i < 64) (h : a4 i &&& x3 = 0) (H : post (fn, fw, fi, fo, mi, mo, sz, ns, cl, cs, ex, bv, bt, a1, a2, a3, a4, a5, a6, a7, a8, a9, a10, a11, a12, a13, a14, a15, a16, a17)) : wX_expand_39 post (nI i) (nI v) x3 fn fw fi fo mi mo sz ns cl cs ex bv bt a1 a2 a3 a4 a5 a6 a7 a8 a9 a10 a11 a12 a13 a14 a15 a16 a17 := by
  have e : (nI i).toNatClampNeg = i := nI_clamp (by omega)
  exact ⟨pk_in i 64 hi, br_t (by rw [e]; exact h) H⟩
theorem mb_x39_take {post : St2 → Prop} {i v : Nat} {x3 y1 y2 y3 : Int32} (hi : i < 64) (hv : v < 12) (h : ¬ a4 i &&& x3 = 0)
    (e1 : (a4 i &&& (x3 ^^^ (-1))) &&& (a1 v ^^^ (-1)) = y1) (e2 : a5 i + a3 v = y2) (e3 : a6 i ||| x3 = y3)
    (H : ∀ Q : St2 → Prop, (∀ u, post u → Q u) → wpX_reach Q (fn, fw, fi, fo, mi, 0, sz, ns, cl, cs, ex, bv, bt, a1, a2, a3, a4, a5, a6, a7, a8, a9, a10, a11, a12, a13, a14, a15, a16, a17) y1 y2 y3) : wX_expand_39 post (nI i) (nI v) x3 fn fw fi fo mi 0 sz ns cl cs ex bv bt a1 a2 a3 a4 a5 a6 a7 a8 a9 a10 a11 a12 a13 a14 a15 a16 a17 := by
  have e : (nI i).toNatClampNeg = i := nI_clamp (by omega)
  have ev : (nI v).toNatClampNeg = v := nI_clamp (by omega)
  have i64 : vp_in (nI i) 64 := pk_in i 64 hi
  have i12 : vp_in (nI v) 12 := pk_in v 12 hv
  subst e1 e2 e3
  unfold wX_expand_39
  rw [e, ev]
  refine ⟨i64, br_f h (br_t (mb_z0 _) ⟨i64, i12, i64, i12, i64, H _ ?_⟩)⟩
  rintro ⟨b1, b2, b3, b4, b5, b6, b7, b8, b9, b10, b11, b12, b13, c1, c2, c3, c4, c5, c6, c7, c8, c9, c10, c11, c12, c13, c14, c15, c16, c17⟩ hu
  exact hu
/-- the first half of expand: the place i without v -/
theorem mb_x_first {post : St2 → Prop} {i v k : Nat} {y1 y2 y3 : Int32} (hi : i < 64) (hk : k < 64)
    (e1 : a4 i &&& (mb_bit v ^^^ (-1)) = y1) (e2 : a5 i = y2) (e3 : a6 i = y3) (h : ∀ j, j < k → ¬ a7 j = y1)
    (H : wX_expand_39 post (nI i) (nI v) (mb_bit v) fn fw fi fo 0 mo sz (nI (k + 1)) cl cs ex bv bt a1 a2 a3 a4 a5 a6 (upd a7 k y1) (upd a8 k y2) (upd a9 k y3) a10 a11 a12 a13 a14 a15 a16 a17) : wpX_expand post (fn, fw, fi, fo, 0, mo, sz, nI k, cl, cs, ex, bv, bt, a1, a2, a3, a4, a5, a6, a7, a8, a9, a10, a11, a12, a13, a14, a15, a16, a17) (nI i) (nI v) := by
  have e : (nI i).toNatClampNeg = i := nI_clamp (by omega)
  have i64 : vp_in (nI i) 64 := pk_in i 64 hi
  subst e1 e2 e3
  unfold wpX_expand
  rw [e]
  exact nm_e (br_t (mb_z0 _) ⟨i64, i64, i64, mb_reach_new hk h H⟩)
theorem mb_x_plain {post : St2 → Prop} {n a b v m k : Nat} {g c : Nat → Nat} (cx : mb_cx n a b g a1 a3) (hv : v < n) (hm : m ≤ 64) (hk : k < m)
    (hc : ∀ j, j < m → c j < 13) (hl : mb_ly n g v m c a4 a5 a6) (hx : mb_ly n g (v + 1) k c a7 a8 a9) (ho : mb_ok n a b (c k) v)
    (hd : ∀ j, j < k → ¬ mb_op n (v + 1) (c j) = mb_op n (v + 1) (c k))
    (H : ∀ p q r : Nat → Int32, mb_ly n g (v + 1) (k + 1) c p q r → post (nI n, fw, fi, fo, 0, 0, sz, nI (k + 1), cl, cs, ex, bv, bt, a1, a2, a3, a4, a5, a6, p, q, r, a10, a11, a12, a13, a14, a15, a16, a17)) :
    wpX_expand post (nI n, fw, fi, fo, 0, 0, sz, nI k, cl, cs, ex, bv, bt, a1, a2, a3, a4, a5, a6, a7, a8, a9, a10, a11, a12, a13, a14, a15, a16, a17) (nI k) (nI v) := by
  obtain ⟨hn, hn2, hab, hbn, h1, h3, hg⟩ := cx
  obtain ⟨l1, l2, l3⟩ := hl k hk
  have c13 := hc k hk
  have N : ∀ j, j < k → ¬ a7 j = mb_op n (v + 1) (c k) := fun j hj => by
    rw [(hx j hj).1]
    exact hd j hj
  have F : ∀ q r : Nat → Int32, q k = nI (mb_sm g (c k) (v + 1)) → r k = mb_tk (v + 1) (c k) → (∀ j, j < k → q j = a8 j ∧ r j = a9 j) → mb_ly n g (v + 1) (k + 1) c (upd a7 k (mb_op n (v + 1) (c k))) q r := by
    intro q r eq er ej j hj
    by_cases e : j = k
    · subst e
      exact ⟨pk_us, eq, er⟩
    · rw [pk_un e, (ej j (by omega)).1, (ej j (by omega)).2]
      exact hx j (by omega)
  refine mb_x_first (by omega) (by omega) (by rw [l1]; exact mb_t1 n (by omega) v hv (c k) c13) l2 l3 N ?_
  by_cases e : c k = v
  · refine mb_x39_skip (by omega) (by rw [l1, e]; exact mb_t3 n (by omega) v hv) (H _ _ _ (F _ _ ?_ ?_ ?_))
    · rw [pk_us, mb_sm_eq e.symm]
    · rw [pk_us, e, mb_t4' v (by omega)]
    · intro j hj
      exact ⟨pk_un (by omega), pk_un (by omega)⟩
  · have hgv := hg v (by omega)
    have hs1 : mb_sm g (c k) (v + 1) < 2 ^ 31 := mb_sm_31 hg (by omega)
    have es : mb_sm g (c k) (v + 1) = mb_sm g (c k) v + g v := mb_sm_ne (fun z => e z.symm)
    refine mb_x39_take (by omega) (by omega) (by rw [l1]; exact mb_t2 n (by omega) v hv (c k) c13 e) (y1 := mb_op n (v + 1) (c k)) (y2 := nI (mb_sm g (c k) (v + 1))) (y3 := mb_tk (v + 1) (c k)) ?_ ?_ ?_ ?_
    · rw [l1, mb_t1 n (by omega) v hv (c k) c13, h1 v hv]
      exact ho
    · rw [l2, h3 v hv, nI_add, es]
    · rw [l3]
      exact mb_t4 v (by omega) (c k) c13 e
    · intro Q hQ
      refine mb_reach_hit (by omega) (Nat.lt_succ_self k) (fun j hj => ?_) pk_us (fun z => ?_) (fun z => hQ _ (H _ _ _ (F _ _ ?_ ?_ ?_)))
      · rw [pk_un (by omega)]
        exact N j hj
      · rw [pk_us, nI_leI hs1 (by omega)] at z
        omega
      · exact pk_us
      · exact pk_us
      · intro j hj
        exact ⟨by rw [pk_un (by omega), pk_un (by omega)], by rw [pk_un (by omega), pk_un (by omega)]⟩
theorem mb_x_split {post : St2 → Prop} {n a b : Nat} {g : Nat → Nat} (cx : mb_cx n a b g a1 a3) (hb : b < n) (hl : mb_ly n g a 1 (fun _ => 12) a4 a5 a6)
    (H : ∀ p q r : Nat → Int32, mb_ly n g (a + 1) 2 (mb_ab a b) p q r → post (nI n, fw, fi, fo, 0, 0, sz, nI 2, cl, cs, ex, bv, bt, a1, a2, a3, a4, a5, a6, p, q, r, a10, a11, a12, a13, a14, a15, a16, a17)) :
    wpX_expand post (nI n, fw, fi, fo, 0, 0, sz, nI 0, cl, cs, ex, bv, bt, a1, a2, a3, a4, a5, a6, a7, a8, a9, a10, a11, a12, a13, a14, a15, a16, a17) (nI 0) (nI a) := by
  obtain ⟨hn, hn2, hab, hbn, h1, h3, hg⟩ := cx
  obtain ⟨l1, l2, l3⟩ := hl 0 (by omega)
  dsimp only at l1 l2 l3
  have T1 := mb_t1 n (by omega) a (by omega) 12 (by omega)
  have ja : a1 a = mb_bit b := by
    rw [h1 a (by omega)]
    unfold mb_jn
    rw [if_pos rfl]
  refine mb_x_first (y1 := mb_op n (a + 1) 12) (by omega) (by omega) (by rw [l1]; exact T1) l2 l3 (fun j hj => absurd hj (by omega)) ?_
  refine mb_x39_take (by omega) (by omega) (by rw [l1]; exact mb_t2 n (by omega) a (by omega) 12 (by omega) (by omega)) (y1 := mb_op n (a + 1) b) (y2 := nI (mb_sm g b (a + 1))) (y3 := mb_tk (a + 1) b) ?_ ?_ ?_ ?_
  · rw [l1, T1, ja]
    exact mb_t6 n (by omega) b hb a hab
  · rw [l2, h3 a (by omega), nI_add, mb_sm_ne (show ¬ a = b by omega), mb_sm_lo (x := 12) (y := b) a (by omega) (by omega)]
  · rw [l3, ← mb_t8 a (by omega) b (by omega) (by omega)]
    exact mb_t4 a (by omega) b (by omega) (by omega)
  · intro Q hQ
    refine mb_reach_new (k := 1) (by omega) (fun j hj => ?_) (hQ _ (H _ _ _ ?_))
    · have ej : j = 0 := by omega
      subst ej
      rw [pk_us]
      exact mb_t9 n (by omega) b hb (a + 1) (by omega) (by omega)
    · intro j hj
      by_cases e : j = 0
      · subst e
        rw [pk_un (by omega), pk_us, pk_un (by omega), pk_us, pk_un (by omega), pk_us, mb_ab0]
        refine ⟨(mb_t7 n (by omega) (a + 1) (by omega) a (by omega)).symm, ?_, ?_⟩
        · rw [mb_sm_eq rfl, mb_sm_lo (x := 12) (y := a) a (by omega) (by omega)]
        · rw [mb_t4' a (by omega), mb_t8 a (by omega) a (by omega) (by omega)]
      · have ej : j = 1 := by omega
        subst ej
        rw [pk_us, pk_us, pk_us, mb_ab1]
        exact ⟨rfl, rfl, rfl⟩
theorem mb_x_join {post : St2 → Prop} {n a b : Nat} {g : Nat → Nat} (cx : mb_cx n a b g a1 a3) (hb : b < n) (hl : mb_ly n g b 2 (mb_ab a b) a4 a5 a6) (hx : mb_ly n g (b + 1) 1 (mb_ab a b) a7 a8 a9)
    (H : ∀ p q r : Nat → Int32, mb_ly n g (b + 1) 1 (fun _ => mb_bb g a b) p q r → post (nI n, fw, fi, fo, 0, 0, sz, nI 1, cl, cs, ex, bv, bt, a1, a2, a3, a4, a5, a6, p, q, r, a10, a11, a12, a13, a14, a15, a16, a17)) :
    wpX_expand post (nI n, fw, fi, fo, 0, 0, sz, nI 1, cl, cs, ex, bv, bt, a1, a2, a3, a4, a5, a6, a7, a8, a9, a10, a11, a12, a13, a14, a15, a16, a17) (nI 1) (nI b) := by
  obtain ⟨hn, hn2, hab, hbn, h1, h3, hg⟩ := cx
  obtain ⟨l1, l2, l3⟩ := hl 1 (by omega)
  obtain ⟨x1, x2, x3⟩ := hx 0 (by omega)
  rw [mb_ab1] at l1 l2 l3
  rw [mb_ab0] at x1 x2 x3
  have hsa : mb_sm g a (b + 1) < 2 ^ 31 := mb_sm_31 hg (by omega)
  have hsb : mb_sm g b (b + 1) < 2 ^ 31 := mb_sm_31 hg (by omega)
  have e : (nI 1).toNatClampNeg = 1 := nI_clamp (by omega)
  have i64 : vp_in (nI 1) 64 := pk_in 1 64 (by omega)
  have S1 : ∀ p q r : Nat → Int32, post (nI n, fw, fi, fo, 0, 0, sz, nI 1, cl, cs, ex, bv, bt, a1, a2, a3, a4, a5, a6, p, q, r, a10, a11, a12, a13, a14, a15, a16, a17) → wX_expand_39 post (nI 1) (nI b) (mb_bit b) (nI n) fw fi fo 0 0 sz (nI 1) cl cs ex bv bt a1 a2 a3 a4 a5 a6 p q r a10 a11 a12 a13 a14 a15 a16 a17 := fun p q r h =>
    mb_x39_skip (by omega) (by rw [l1]; exact mb_t3 n (by omega) b hb) h
  have eO : a7 0 = a4 1 &&& (mb_bit b ^^^ (-1)) := by
    rw [x1, l1, mb_t1 n (by omega) b hb b (by omega), mb_t7 n (by omega) (b + 1) (by omega) a (by omega), mb_t7 n (by omega) (b + 1) (by omega) b (by omega)]
  have e5 : a5 1 = nI (mb_sm g b (b + 1)) := by rw [l2, mb_sm_eq rfl]
  have e6 : a6 1 = mb_tk (b + 1) b := by rw [l3, mb_t4' b (by omega)]
  unfold wpX_expand
  rw [e]
  refine nm_e (br_t (mb_z0 _) ⟨i64, i64, i64, mb_reach_hit (j := 0) (by omega) (by omega) (fun j hj => absurd hj (by omega)) eO (fun z => S1 _ _ _ (H _ _ _ ?_)) (fun z => S1 _ _ _ (H _ _ _ ?_))⟩)
  · rw [e5, x2, nI_leI hsb hsa] at z
    intro j hj
    have ej : j = 0 := by omega
    subst ej
    rw [show mb_bb g a b = a by unfold mb_bb; rw [if_pos z]]
    exact ⟨x1, x2, x3⟩
  · rw [e5, x2, nI_leI hsb hsa] at z
    intro j hj
    have ej : j = 0 := by omega
    subst ej
    rw [show mb_bb g a b = b by unfold mb_bb; rw [if_neg z], pk_us, pk_us, e5, e6, x1, mb_t7 n (by omega) (b + 1) (by omega) a (by omega), mb_t7 n (by omega) (b + 1) (by omega) b (by omega)]
    exact ⟨rfl, rfl, rfl⟩
end LAY
end
section
/-! the body of run's loop -/
section STEP
variable {fn fw fi fo mi mo sz ns cl cs ex bv bt : Int32} {a1 a2 a3 a4 a5 a6 a7 a8 a9 a10 a11 a12 a13 a14 a15 a16 a17 : Nat → Int32}
theorem mb_r39_out {post : Int32 → St2 → Prop} {J7 : Int32 → Int32 → Int32 → Int32 → Int32 → Int32 → Int32 → Int32 → Int32 → Int32 → Int32 → Int32 → Int32 → Int32 → (Nat → Int32) → (Nat → Int32) → (Nat → Int32) → (Nat → Int32) → (Nat → Int32) → (Nat → Int32) → (Nat → Int32) → (Nat → Int32) → (Nat → Int32) → (Nat → Int32) → (Nat → Int32) → (Nat → Int32) → (Nat → Int32) → (Nat → Int32) → (Nat → Int32) → (Nat → Int32) → (Nat → Int32) → Prop}
    {mg : Int32} {L v w m k fu : Nat} (hL : L < 2 ^ 31) (hv : v < 2 ^ 31) (hw : w < 2 ^ 31) (hm : m < 2 ^ 31) (hk : k ≤ 64)
    (H : ∀ p q r : Nat → Int32, (∀ j, j < k → p j = a7 j ∧ q j = a8 j ∧ r j = a9 j) → wX_run_86 post J7 (nI L) mg (nI v) (nI (mb_mo w L v)) fn (nI w) fi fo mi mo (nI k) (nI k) cl cs ex bv bt a1 a2 a3 p q r a7 a8 a9 a10 a11 a12 a13 a14 a15 a16 a17) :
    wX_run_39 post J7 (nI L) mg (nI v) (fu + 1) (nI m) fn (nI w) fi fo mi mo (nI m) (nI k) cl cs ex bv bt a1 a2 a3 a4 a5 a6 a7 a8 a9 a10 a11 a12 a13 a14 a15 a16 a17 := by
  refine pk_le m m (fun _ => mb_tl hk (fun p q r h => ?_)) (fun z => absurd z (by omega))
  have H' := H p q r h
  refine pk_eq v L (fun z => pk_le 2 w (fun y => ?_) (fun y => ?_)) (fun z => ?_)
  · rw [show mb_mo w L v = w by unfold mb_mo; rw [if_neg (by omega)]] at H'
    exact H'
  · rw [show mb_mo w L v = 2 by unfold mb_mo; rw [if_pos (by omega)]] at H'
    exact H'
  · rw [show mb_mo w L v = w by unfold mb_mo; rw [if_neg (by omega)]] at H'
    exact H'
theorem mb_r39_plain {post : Int32 → St2 → Prop} {J7 : Int32 → Int32 → Int32 → Int32 → Int32 → Int32 → Int32 → Int32 → Int32 → Int32 → Int32 → Int32 → Int32 → Int32 → (Nat → Int32) → (Nat → Int32) → (Nat → Int32) → (Nat → Int32) → (Nat → Int32) → (Nat → Int32) → (Nat → Int32) → (Nat → Int32) → (Nat → Int32) → (Nat → Int32) → (Nat → Int32) → (Nat → Int32) → (Nat → Int32) → (Nat → Int32) → (Nat → Int32) → (Nat → Int32) → (Nat → Int32) → Prop}
    {mg : Int32} {n a b L v w m : Nat} {g c : Nat → Nat} (cx : mb_cx n a b g a1 a3) (hL : L < 2 ^ 31) (hw : w < 2 ^ 31) (hv : v < n) (hm : m ≤ 64) (hc : ∀ j, j < m → c j < 13)
    (hl : mb_ly n g v m c a4 a5 a6) (ho : ∀ j, j < m → mb_ok n a b (c j) v) (hd : ∀ k, k < m → ∀ j, j < k → ¬ mb_op n (v + 1) (c j) = mb_op n (v + 1) (c k))
    (H : ∀ p q r p' q' r' : Nat → Int32, mb_ly n g (v + 1) m c p q r → wX_run_86 post J7 (nI L) mg (nI v) (nI (mb_mo w L v)) (nI n) (nI w) fi fo 0 0 (nI m) (nI m) cl cs ex bv bt a1 a2 a3 p q r p' q' r' a10 a11 a12 a13 a14 a15 a16 a17) :
    ∃ fu, wX_run_39 post J7 (nI L) mg (nI v) fu 0 (nI n) (nI w) fi fo 0 0 (nI m) 0 cl cs ex bv bt a1 a2 a3 a4 a5 a6 a7 a8 a9 a10 a11 a12 a13 a14 a15 a16 a17 := by
  have hn : n ≤ 12 := cx.1
  refine pk_loop (σ := (Nat → Int32) × (Nat → Int32) × (Nat → Int32)) (fun fu i s => wX_run_39 post J7 (nI L) mg (nI v) fu (nI i) (nI n) (nI w) fi fo 0 0 (nI m) (nI i) cl cs ex bv bt a1 a2 a3 a4 a5 a6 s.1 s.2.1 s.2.2 a10 a11 a12 a13 a14 a15 a16 a17) (fun i s => mb_ly n g (v + 1) i c s.1 s.2.1 s.2.2) m 0 (a7, a8, a9) (by omega) (fun j hj => absurd hj (by omega)) ?_ ?_
  · intro fu s hs
    exact mb_r39_out hL (by omega) hw (by omega) hm (fun p q r h => H p q r _ _ _ (mb_ly_cp hs h))
  · intro fu i s hi hs hW
    exact pk_le m i (fun z => absurd z (by omega)) (fun _ => mb_x_plain cx hv hm hi hc hl hs (ho i hi) (hd i hi) (fun p q r h => nm_r (nI_1 i) (hW (p, q, r) h)))
theorem mb_r39_split {post : Int32 → St2 → Prop} {J7 : Int32 → Int32 → Int32 → Int32 → Int32 → Int32 → Int32 → Int32 → Int32 → Int32 → Int32 → Int32 → Int32 → Int32 → (Nat → Int32) → (Nat → Int32) → (Nat → Int32) → (Nat → Int32) → (Nat → Int32) → (Nat → Int32) → (Nat → Int32) → (Nat → Int32) → (Nat → Int32) → (Nat → Int32) → (Nat → Int32) → (Nat → Int32) → (Nat → Int32) → (Nat → Int32) → (Nat → Int32) → (Nat → Int32) → (Nat → Int32) → Prop}
    {mg : Int32} {n a b L w : Nat} {g : Nat → Nat} (cx : mb_cx n a b g a1 a3) (hb : b < n) (hL : L < 2 ^ 31) (hw : w < 2 ^ 31) (hl : mb_ly n g a 1 (fun _ => 12) a4 a5 a6)
    (H : ∀ p q r p' q' r' : Nat → Int32, mb_ly n g (a + 1) 2 (mb_ab a b) p q r → wX_run_86 post J7 (nI L) mg (nI a) (nI (mb_mo w L a)) (nI n) (nI w) fi fo 0 0 (nI 2) (nI 2) cl cs ex bv bt a1 a2 a3 p q r p' q' r' a10 a11 a12 a13 a14 a15 a16 a17) :
    ∃ fu, wX_run_39 post J7 (nI L) mg (nI a) fu 0 (nI n) (nI w) fi fo 0 0 (nI 1) 0 cl cs ex bv bt a1 a2 a3 a4 a5 a6 a7 a8 a9 a10 a11 a12 a13 a14 a15 a16 a17 := by
  have hn : n ≤ 12 := cx.1
  have hab : a < b := cx.2.2.1
  exact ⟨2, pk_le 1 0 (fun z => absurd z (by omega)) (fun _ => mb_x_split cx hb hl (fun p q r h => nm_r (nI_1 0) (mb_r39_out hL (by omega) hw (by omega) (by omega) (fun p' q' r' e => H p' q' r' _ _ _ (mb_ly_cp h e)))))⟩
theorem mb_r39_join {post : Int32 → St2 → Prop} {J7 : Int32 → Int32 → Int32 → Int32 → Int32 → Int32 → Int32 → Int32 → Int32 → Int32 → Int32 → Int32 → Int32 → Int32 → (Nat → Int32) → (Nat → Int32) → (Nat → Int32) → (Nat → Int32) → (Nat → Int32) → (Nat → Int32) → (Nat → Int32) → (Nat → Int32) → (Nat → Int32) → (Nat → Int32) → (Nat → Int32) → (Nat → Int32) → (Nat → Int32) → (Nat → Int32) → (Nat → Int32) → (Nat → Int32) → (Nat → Int32) → Prop}
    {mg : Int32} {n a b L w : Nat} {g : Nat → Nat} (cx : mb_cx n a b g a1 a3) (hb : b < n) (hL : L < 2 ^ 31) (hw : w < 2 ^ 31) (hl : mb_ly n g b 2 (mb_ab a b) a4 a5 a6)
    (H : ∀ p q r p' q' r' : Nat → Int32, mb_ly n g (b + 1) 1 (fun _ => mb_bb g a b) p q r → wX_run_86 post J7 (nI L) mg (nI b) (nI (mb_mo w L b)) (nI n) (nI w) fi fo 0 0 (nI 1) (nI 1) cl cs ex bv bt a1 a2 a3 p q r p' q' r' a10 a11 a12 a13 a14 a15 a16 a17) :
    ∃ fu, wX_run_39 post J7 (nI L) mg (nI b) fu 0 (nI n) (nI w) fi fo 0 0 (nI 2) 0 cl cs ex bv bt a1 a2 a3 a4 a5 a6 a7 a8 a9 a10 a11 a12 a13 a14 a15 a16 a17 := by
  have hn : n ≤ 12 := cx.1
  have hab : a < b := cx.2.2.1
  exact ⟨3, pk_le 2 0 (fun z => absurd z (by omega)) (fun _ => mb_x_plain (k := 0) cx hb (by omega) (by omega) (mb_ab13 hn hab hb) hl (fun j hj => absurd hj (by omega)) (mb_ok_of hn hab (Or.inl hb) hb (by rw [mb_ab0]; omega) (by omega)) (fun j hj => absurd hj (by omega))
    (fun p q r h => nm_r (nI_1 0) (pk_le 2 1 (fun z => absurd z (by omega)) (fun _ => mb_x_join cx hb hl h (fun p q r h => nm_r (nI_1 1) (mb_r39_out hL (by omega) hw (by omega) (by omega) (fun p' q' r' e => H p' q' r' _ _ _ (mb_ly_cp h e)))))))) ⟩
theorem mb_r86_le {post : Int32 → St2 → Prop} {J7 : Int32 → Int32 → Int32 → Int32 → Int32 → Int32 → Int32 → Int32 → Int32 → Int32 → Int32 → Int32 → Int32 → Int32 → (Nat → Int32) → (Nat → Int32) → (Nat → Int32) → (Nat → Int32) → (Nat → Int32) → (Nat → Int32) → (Nat → Int32) → (Nat → Int32) → (Nat → Int32) → (Nat → Int32) → (Nat → Int32) → (Nat → Int32) → (Nat → Int32) → (Nat → Int32) → (Nat → Int32) → (Nat → Int32) → (Nat → Int32) → Prop}
    {x1 mg : Int32} {v m z : Nat} (hz : z < 2 ^ 31) (h : m ≤ z) (H : J7 (nI (v + 1)) fn fw fi fo mi mo (nI m) ns cl cs ex bv bt a1 a2 a3 a4 a5 a6 a7 a8 a9 a10 a11 a12 a13 a14 a15 a16 a17) : wX_run_86 post J7 x1 mg (nI v) (nI z) fn fw fi fo mi mo (nI m) ns cl cs ex bv bt a1 a2 a3 a4 a5 a6 a7 a8 a9 a10 a11 a12 a13 a14 a15 a16 a17 :=
  pk_le m z (fun _ => nm_r (nI_1 v) H) (fun y => absurd y (by omega))
theorem mb_r86_cut0 {post : Int32 → St2 → Prop} {J7 : Int32 → Int32 → Int32 → Int32 → Int32 → Int32 → Int32 → Int32 → Int32 → Int32 → Int32 → Int32 → Int32 → Int32 → (Nat → Int32) → (Nat → Int32) → (Nat → Int32) → (Nat → Int32) → (Nat → Int32) → (Nat → Int32) → (Nat → Int32) → (Nat → Int32) → (Nat → Int32) → (Nat → Int32) → (Nat → Int32) → (Nat → Int32) → (Nat → Int32) → (Nat → Int32) → (Nat → Int32) → (Nat → Int32) → (Nat → Int32) → Prop}
    {x1 : Int32} {v : Nat} (h : ¬ a5 1 ≤ a5 0) (H : ∀ p q r : Nat → Int32, p 0 = a4 1 → q 0 = a5 1 → r 0 = a6 1 → J7 (nI (v + 1)) fn fw fi fo mi mo (nI 1) ns cl cs 0 bv bt a1 a2 a3 p q r a7 a8 a9 a10 a11 a12 a13 a14 a15 a16 a17) :
    wX_run_86 post J7 x1 0 (nI v) (nI 1) fn fw fi fo mi mo (nI 2) ns cl cs ex bv bt a1 a2 a3 a4 a5 a6 a7 a8 a9 a10 a11 a12 a13 a14 a15 a16 a17 :=
  pk_le 2 1 (fun y => absurd y (by omega)) (fun _ => mb_sort2 h (fun p q r e1 e2 e3 e4 e5 e6 => br_t rfl (nm_r (nI_1 v) (H p q r e1 e3 e5))))
theorem mb_r86_cut1 {post : Int32 → St2 → Prop} {J7 : Int32 → Int32 → Int32 → Int32 → Int32 → Int32 → Int32 → Int32 → Int32 → Int32 → Int32 → Int32 → Int32 → Int32 → (Nat → Int32) → (Nat → Int32) → (Nat → Int32) → (Nat → Int32) → (Nat → Int32) → (Nat → Int32) → (Nat → Int32) → (Nat → Int32) → (Nat → Int32) → (Nat → Int32) → (Nat → Int32) → (Nat → Int32) → (Nat → Int32) → (Nat → Int32) → (Nat → Int32) → (Nat → Int32) → (Nat → Int32) → Prop}
    {x1 : Int32} {v : Nat} (h : ¬ a5 1 ≤ a5 0) (H : ∀ p q r : Nat → Int32, p 0 = a4 1 ||| a4 0 → q 0 = a5 1 → r 0 = a6 1 → J7 (nI (v + 1)) fn fw fi fo mi mo (nI 1) ns cl cs 0 bv bt a1 a2 a3 p q r a7 a8 a9 a10 a11 a12 a13 a14 a15 a16 a17) :
    wX_run_86 post J7 x1 1 (nI v) (nI 1) fn fw fi fo mi mo (nI 2) ns cl cs ex bv bt a1 a2 a3 a4 a5 a6 a7 a8 a9 a10 a11 a12 a13 a14 a15 a16 a17 :=
  pk_le 2 1 (fun y => absurd y (by omega)) (fun _ => mb_sort2 h (fun p q r e1 e2 e3 e4 e5 e6 => br_f (by decide) (mb_merge2 (nm_r (nI_1 v) (H _ q r (by rw [pk_us, e1, e2]) e3 e5)))))
theorem mb_r7_go {post : Int32 → St2 → Prop} {x1 mg : Int32} {n v fu : Nat} (hn : n < 2 ^ 31) (hv : v < n) (he : ex = 0 ∨ mg = 0)
    (H : ∃ f, wX_run_39 post (wX_run_7 post x1 mg fu) x1 mg (nI v) f 0 (nI n) fw fi fo mi mo sz 0 cl cs ex bv bt a1 a2 a3 a4 a5 a6 a7 a8 a9 a10 a11 a12 a13 a14 a15 a16 a17) : wX_run_7 post x1 mg (fu + 1) (nI v) (nI n) fw fi fo mi mo sz ns cl cs ex bv bt a1 a2 a3 a4 a5 a6 a7 a8 a9 a10 a11 a12 a13 a14 a15 a16 a17 :=
  pk_le n v (fun y => absurd y (by omega)) (fun _ => br_c (fun _ => H) (fun z => br_t (he.resolve_left z) H))
theorem mb_r7_keep {post : Int32 → St2 → Prop} {x1 : Int32} {n v k fu : Nat} (hn : n < 2 ^ 31) (hv : v < n) (hk : k ≤ 64)
    (H : ∀ p q r : Nat → Int32, (∀ j, j < k → p j = a4 j ∧ q j = a5 j ∧ r j = a6 j) → ∃ f, wX_run_39 post (wX_run_7 post x1 1 fu) x1 1 (nI v) f 0 (nI n) fw fi fo mi mo (nI k) 0 (nI v) (nI k) 1 bv bt a1 a2 a3 a4 a5 a6 a7 a8 a9 p q r a13 a14 a15 a16 a17) :
    wX_run_7 post x1 1 (fu + 1) (nI v) (nI n) fw fi fo mi mo (nI k) ns cl cs 1 bv bt a1 a2 a3 a4 a5 a6 a7 a8 a9 a10 a11 a12 a13 a14 a15 a16 a17 :=
  pk_le n v (fun y => absurd y (by omega)) (fun _ => br_f (by decide) (br_f (by decide) (mb_keep hk H)))
theorem mb_r7_end {post : Int32 → St2 → Prop} {x1 mg : Int32} {n s fu : Nat} (hn : n < 2 ^ 31) (hs : s < 2 ^ 31) (h5 : a5 0 = nI s)
    (H0 : mg = 0 → nI s ≤ bv → post (nI s) (nI n, fw, fi, fo, mi, mo, nI 1, ns, cl, cs, ex, bv, bt, a1, a2, a3, a4, a5, a6, a7, a8, a9, a10, a11, a12, a13, a14, a15, a16, a17)) (H1 : mg = 0 → ¬ nI s ≤ bv → post (nI s) (nI n, fw, fi, fo, mi, mo, nI 1, ns, cl, cs, ex, nI s, a6 0, a1, a2, a3, a4, a5, a6, a7, a8, a9, a10, a11, a12, a13, a14, a15, a16, a17)) (H2 : ¬ mg = 0 → post (nI s) (nI n, fw, fi, fo, mi, mo, nI 1, ns, cl, cs, ex, bv, bt, a1, a2, a3, a4, a5, a6, a7, a8, a9, a10, a11, a12, a13, a14, a15, a16, a17)) :
    wX_run_7 post x1 mg (fu + 1) (nI n) (nI n) fw fi fo mi mo (nI 1) ns cl cs ex bv bt a1 a2 a3 a4 a5 a6 a7 a8 a9 a10 a11 a12 a13 a14 a15 a16 a17 :=
  pk_le n n (fun _ => mb_fin hs h5 H0 H1 H2) (fun y => absurd y (by omega))
end STEP
end
section
/-! run, both ways -/
section RUN
variable {fn fw fi fo mi mo sz ns cl cs ex bv bt : Int32} {a1 a2 a3 a4 a5 a6 a7 a8 a9 a10 a11 a12 a13 a14 a15 a16 a17 : Nat → Int32}
theorem mb_mo_lt {w L v : Nat} (hw : w < 2 ^ 31) : mb_mo w L v < 2 ^ 31 := by
  unfold mb_mo
  by_cases e : v = L ∧ w < 2
  · rw [if_pos e]; omega
  · rw [if_neg e]; exact hw
theorem mb_mo_1 {w L v : Nat} (hw : 1 ≤ w) : 1 ≤ mb_mo w L v := by
  unfold mb_mo
  by_cases e : v = L ∧ w < 2
  · rw [if_pos e]; omega
  · rw [if_neg e]; exact hw
theorem mb_R_plain {post : Int32 → St2 → Prop} {mg : Int32} {n a b L v0 e w m : Nat} {g c : Nat → Nat} (cx : mb_cx n a b g a1 a3) (hL : L < 2 ^ 31) (hw : w < 2 ^ 31) (he : e ≤ n) (hex : ex = 0 ∨ mg = 0) (hm : m ≤ 64) (hc : ∀ j, j < m → c j < 13)
    (ho : ∀ i, v0 ≤ i → i < e → ∀ j, j < m → mb_ok n a b (c j) i)
    (hd : ∀ i, v0 ≤ i → i < e → ∀ k, k < m → ∀ j, j < k → ¬ mb_op n (i + 1) (c j) = mb_op n (i + 1) (c k))
    (hmo : ∀ i, v0 ≤ i → i < e → m ≤ mb_mo w L i)
    (hE : ∀ (fu : Nat) (ns : Int32) (a4 a5 a6 a7 a8 a9 : Nat → Int32), n - e < fu → mb_ly n g e m c a4 a5 a6 → wX_run_7 post (nI L) mg fu (nI e) (nI n) (nI w) fi fo 0 0 (nI m) ns cl cs ex bv bt a1 a2 a3 a4 a5 a6 a7 a8 a9 a10 a11 a12 a13 a14 a15 a16 a17) :
    ∀ (d v fu : Nat) (ns : Int32) (a4 a5 a6 a7 a8 a9 : Nat → Int32), v + d = e → v0 ≤ v → n - v < fu → mb_ly n g v m c a4 a5 a6 → wX_run_7 post (nI L) mg fu (nI v) (nI n) (nI w) fi fo 0 0 (nI m) ns cl cs ex bv bt a1 a2 a3 a4 a5 a6 a7 a8 a9 a10 a11 a12 a13 a14 a15 a16 a17 := by
  intro d
  have hn := cx.1
  induction d with
  | zero =>
    intro v fu ns a4 a5 a6 a7 a8 a9 hv _ hf hl
    have ev : v = e := by omega
    rw [ev] at hl hf
    rw [ev]
    exact hE fu ns a4 a5 a6 a7 a8 a9 hf hl
  | succ d ih =>
    intro v fu ns a4 a5 a6 a7 a8 a9 hv h0 hf hl
    obtain ⟨f, rfl⟩ : ∃ f, fu = f + 1 := ⟨fu - 1, by omega⟩
    exact mb_r7_go (by omega) (by omega) hex (mb_r39_plain cx hL hw (by omega) hm hc hl (ho v h0 (by omega)) (hd v h0 (by omega)) (fun p q r p' q' r' h => mb_r86_le (mb_mo_lt hw) (hmo v h0 (by omega)) (ih (v + 1) f _ p q r p' q' r' (by omega) (by omega) (by omega) h)))
theorem mb_R_e0 {post : Int32 → St2 → Prop} {x1 : Int32} {n a b w x fu : Nat} {g : Nat → Nat} (cx : mb_cx n a b g a1 a3) (hf : n - n < fu) (hl : mb_ly n g n 1 (fun _ => x) a4 a5 a6)
    (H : ∀ bv' bt' : Int32, mb_up (nI (mb_sm g x n)) (mb_tk n x) bv bt bv' bt' → post (nI (mb_sm g x n)) (nI n, nI w, fi, fo, 0, 0, nI 1, ns, cl, cs, ex, bv', bt', a1, a2, a3, a4, a5, a6, a7, a8, a9, a10, a11, a12, a13, a14, a15, a16, a17)) : wX_run_7 post x1 0 fu (nI n) (nI n) (nI w) fi fo 0 0 (nI 1) ns cl cs ex bv bt a1 a2 a3 a4 a5 a6 a7 a8 a9 a10 a11 a12 a13 a14 a15 a16 a17 := by
  obtain ⟨f, rfl⟩ : ∃ f, fu = f + 1 := ⟨fu - 1, by omega⟩
  obtain ⟨hn, hn2, hab, hbn, h1, h3, hg⟩ := cx
  obtain ⟨l1, l2, l3⟩ := hl 0 (by omega)
  exact mb_r7_end (by omega) (mb_sm_31 hg hn) l2 (fun _ z => H _ _ (Or.inl ⟨z, rfl, rfl⟩)) (fun _ z => H _ _ (Or.inr ⟨z, rfl, l3⟩)) (fun z => absurd rfl z)
theorem mb_R_e1 {post : Int32 → St2 → Prop} {x1 : Int32} {n a b w x fu : Nat} {g : Nat → Nat} (cx : mb_cx n a b g a1 a3) (hf : n - n < fu) (hl : mb_ly n g n 1 (fun _ => x) a4 a5 a6)
    (H : post (nI (mb_sm g x n)) (nI n, nI w, fi, fo, 0, 0, nI 1, ns, cl, cs, ex, bv, bt, a1, a2, a3, a4, a5, a6, a7, a8, a9, a10, a11, a12, a13, a14, a15, a16, a17)) : wX_run_7 post x1 1 fu (nI n) (nI n) (nI w) fi fo 0 0 (nI 1) ns cl cs ex bv bt a1 a2 a3 a4 a5 a6 a7 a8 a9 a10 a11 a12 a13 a14 a15 a16 a17 := by
  obtain ⟨f, rfl⟩ : ∃ f, fu = f + 1 := ⟨fu - 1, by omega⟩
  obtain ⟨hn, hn2, hab, hbn, h1, h3, hg⟩ := cx
  obtain ⟨l1, l2, l3⟩ := hl 0 (by omega)
  exact mb_r7_end (by omega) (mb_sm_31 hg hn) l2 (fun z => absurd z (by decide)) (fun z => absurd z (by decide)) (fun _ => H)
theorem mb_R_tail {post : Int32 → St2 → Prop} {mg : Int32} {n a b L w x : Nat} {g : Nat → Nat} (cx : mb_cx n a b g a1 a3) (hL : L < 2 ^ 31) (hw : w < 2 ^ 31) (h1 : 1 ≤ w) (hx : x < 13) (hex : ex = 0 ∨ mg = 0)
    (hE : ∀ (fu : Nat) (ns : Int32) (a4 a5 a6 a7 a8 a9 : Nat → Int32), n - n < fu → mb_ly n g n 1 (fun _ => x) a4 a5 a6 → wX_run_7 post (nI L) mg fu (nI n) (nI n) (nI w) fi fo 0 0 (nI 1) ns cl cs ex bv bt a1 a2 a3 a4 a5 a6 a7 a8 a9 a10 a11 a12 a13 a14 a15 a16 a17)
    (v fu : Nat) (ns : Int32) (a4 a5 a6 a7 a8 a9 : Nat → Int32) (hv : a < v ∨ n ≤ a) (hvn : v ≤ n) (hf : n - v < fu) (hl : mb_ly n g v 1 (fun _ => x) a4 a5 a6) : wX_run_7 post (nI L) mg fu (nI v) (nI n) (nI w) fi fo 0 0 (nI 1) ns cl cs ex bv bt a1 a2 a3 a4 a5 a6 a7 a8 a9 a10 a11 a12 a13 a14 a15 a16 a17 :=
  mb_R_plain (v0 := v) (e := n) (m := 1) (c := fun _ => x) cx hL hw (Nat.le_refl n) hex (by omega) (fun _ _ => hx) (fun i h0 hi _ _ => mb_ok_of cx.1 cx.2.2.1 cx.2.2.2.1 hi hx (by omega)) (fun i _ _ k hk j hj => absurd hj (by omega)) (fun i _ _ => mb_mo_1 h1) hE (n - v) v fu ns a4 a5 a6 a7 a8 a9 (by omega) (Nat.le_refl v) hf hl
theorem mb_bb13 {n a b : Nat} {g : Nat → Nat} (hn : n ≤ 12) (hab : a < b) (hb : b < n) : mb_bb g a b < 13 := by
  unfold mb_bb
  by_cases e : mb_sm g b (b + 1) ≤ mb_sm g a (b + 1)
  · rw [if_pos e]; omega
  · rw [if_neg e]; omega
theorem mb_R_dbl {post : Int32 → St2 → Prop} {n a b L w : Nat} {g : Nat → Nat} (cx : mb_cx n a b g a1 a3) (hb : b < n) (hL : L < 2 ^ 31) (hw : w < 2 ^ 31) (h1 : 1 ≤ w)
    (hE : ∀ (fu : Nat) (ns : Int32) (a4 a5 a6 a7 a8 a9 : Nat → Int32), n - n < fu → mb_ly n g n 1 (fun _ => mb_bb g a b) a4 a5 a6 → wX_run_7 post (nI L) 0 fu (nI n) (nI n) (nI w) fi fo 0 0 (nI 1) ns cl cs ex bv bt a1 a2 a3 a4 a5 a6 a7 a8 a9 a10 a11 a12 a13 a14 a15 a16 a17)
    (v fu : Nat) (ns : Int32) (a4 a5 a6 a7 a8 a9 : Nat → Int32) (hv : a < v) (hvb : v ≤ b) (hmo : ∀ i, v ≤ i → i < b → 2 ≤ mb_mo w L i) (hf : n - v < fu) (hl : mb_ly n g v 2 (mb_ab a b) a4 a5 a6) : wX_run_7 post (nI L) 0 fu (nI v) (nI n) (nI w) fi fo 0 0 (nI 2) ns cl cs ex bv bt a1 a2 a3 a4 a5 a6 a7 a8 a9 a10 a11 a12 a13 a14 a15 a16 a17 := by
  have hn := cx.1
  have hab := cx.2.2.1
  refine mb_R_plain (v0 := v) (e := b) (m := 2) (c := mb_ab a b) cx hL hw (by omega) (Or.inr rfl) (by omega) (mb_ab13 hn hab hb) (fun i h0 hi j hj => mb_ok_of hn hab (Or.inl hb) (by omega) (mb_ab13 hn hab hb j hj) (by omega)) (fun i h0 hi => mb_ne_ab hn hb (by omega) (by omega)) hmo ?_ (b - v) v fu ns a4 a5 a6 a7 a8 a9 (by omega) (Nat.le_refl v) hf hl
  intro fu ns a4 a5 a6 a7 a8 a9 hf hl
  obtain ⟨f, rfl⟩ : ∃ f, fu = f + 1 := ⟨fu - 1, by omega⟩
  exact mb_r7_go (by omega) hb (Or.inr rfl) (mb_r39_join cx hb hL hw hl (fun p q r p' q' r' h => mb_r86_le (mb_mo_lt hw) (mb_mo_1 h1) (mb_R_tail cx hL hw h1 (mb_bb13 hn hab hb) (Or.inr rfl) hE (b + 1) f _ p q r p' q' r' (Or.inl (by omega)) (by omega) (by omega) h)))
/-- from the start to the split at a -/
theorem mb_R_head {post : Int32 → St2 → Prop} {n a b L w : Nat} {g : Nat → Nat} (cx : mb_cx n a b g a1 a3) (hb : b < n) (hL : L ≤ a) (hw : w < 2 ^ 31) (h1 : 1 ≤ w)
    (hE : ∀ (fu : Nat) (ns : Int32) (a4 a5 a6 a7 a8 a9 : Nat → Int32), n - a < fu → mb_ly n g a 1 (fun _ => 12) a4 a5 a6 → wX_run_7 post (nI L) 0 fu (nI a) (nI n) (nI w) fi fo 0 0 (nI 1) ns cl cs ex bv bt a1 a2 a3 a4 a5 a6 a7 a8 a9 a10 a11 a12 a13 a14 a15 a16 a17)
    (hl : mb_ly n g L 1 (fun _ => 12) a4 a5 a6) : wX_run_7 post (nI L) 0 (n + 1) (nI L) (nI n) (nI w) fi fo 0 0 (nI 1) ns cl cs ex bv bt a1 a2 a3 a4 a5 a6 a7 a8 a9 a10 a11 a12 a13 a14 a15 a16 a17 := by
  have hn := cx.1
  have hab := cx.2.2.1
  exact mb_R_plain (v0 := L) (e := a) (m := 1) (c := fun _ => 12) cx (by omega) hw (by omega) (Or.inr rfl) (by omega) (fun _ _ => by omega) (fun i h0 hi _ _ => mb_ok_of hn hab (Or.inl hb) (by omega) (by omega) (by omega)) (fun i _ _ k hk j hj => absurd hj (by omega)) (fun i _ _ => mb_mo_1 h1) hE (a - L) L (n + 1) ns a4 a5 a6 a7 a8 a9 (by omega) (Nat.le_refl L) (by omega) hl
theorem mb_run_single {post : Int32 → St2 → Prop} {n a b L w x : Nat} {g : Nat → Nat} (cx : mb_cx n a b g a1 a3) (hv : a < L ∨ n ≤ a) (hL : L ≤ n) (hw : w < 2 ^ 31) (h1 : 1 ≤ w) (hx : x < 13) (hl : mb_ly n g L 1 (fun _ => x) a4 a5 a6)
    (H : ∀ (ns bv' bt' : Int32) (a4 a5 a6 a7 a8 a9 : Nat → Int32), mb_up (nI (mb_sm g x n)) (mb_tk n x) bv bt bv' bt' → post (nI (mb_sm g x n)) (nI n, nI w, fi, fo, 0, 0, nI 1, ns, cl, cs, 1, bv', bt', a1, a2, a3, a4, a5, a6, a7, a8, a9, a10, a11, a12, a13, a14, a15, a16, a17)) : wpX_run post (nI n, nI w, fi, fo, 0, 0, nI 1, ns, cl, cs, ex, bv, bt, a1, a2, a3, a4, a5, a6, a7, a8, a9, a10, a11, a12, a13, a14, a15, a16, a17) (nI L) 0 := by
  have hn := cx.1
  exact ⟨n + 1, mb_R_tail cx (by omega) hw h1 hx (Or.inr rfl) (fun fu ns a4 a5 a6 a7 a8 a9 hf hl => mb_R_e0 cx hf hl (fun bv' bt' h => H ns bv' bt' a4 a5 a6 a7 a8 a9 h)) L (n + 1) ns a4 a5 a6 a7 a8 a9 hv hL (by omega) hl⟩
theorem mb_run_exact {post : Int32 → St2 → Prop} {n a b L w : Nat} {g : Nat → Nat} (cx : mb_cx n a b g a1 a3) (hb : b < n) (hL : L ≤ a) (hw : w < 2 ^ 31) (h1 : 1 ≤ w) (hmo : ∀ i, a ≤ i → i < b → 2 ≤ mb_mo w L i) (hl : mb_ly n g L 1 (fun _ => 12) a4 a5 a6)
    (H : ∀ (ns bv' bt' : Int32) (a4 a5 a6 a7 a8 a9 : Nat → Int32), mb_up (nI (mb_sm g (mb_bb g a b) n)) (mb_tk n (mb_bb g a b)) bv bt bv' bt' → post (nI (mb_sm g (mb_bb g a b) n)) (nI n, nI w, fi, fo, 0, 0, nI 1, ns, cl, cs, 1, bv', bt', a1, a2, a3, a4, a5, a6, a7, a8, a9, a10, a11, a12, a13, a14, a15, a16, a17)) : wpX_run post (nI n, nI w, fi, fo, 0, 0, nI 1, ns, cl, cs, ex, bv, bt, a1, a2, a3, a4, a5, a6, a7, a8, a9, a10, a11, a12, a13, a14, a15, a16, a17) (nI L) 0 := by
  have hn := cx.1
  have hab := cx.2.2.1
  refine ⟨n + 1, mb_R_head cx hb hL hw h1 ?_ hl⟩
  intro fu ns a4 a5 a6 a7 a8 a9 hf hl
  obtain ⟨f, rfl⟩ : ∃ f, fu = f + 1 := ⟨fu - 1, by omega⟩
  exact mb_r7_go (by omega) (by omega) (Or.inr rfl) (mb_r39_split cx hb (by omega) hw hl (fun p q r p' q' r' h => mb_r86_le (mb_mo_lt hw) (hmo a (Nat.le_refl a) hab)
    (mb_R_dbl cx hb (by omega) hw h1 (fun fu ns a4 a5 a6 a7 a8 a9 hf hl => mb_R_e0 cx hf hl (fun bv' bt' h => H ns bv' bt' a4 a5 a6 a7 a8 a9 h)) (a + 1) f _ p q r p' q' r' (by omega) (by omega) (fun i hi => hmo i (by omega)) (by omega) h)))
theorem mb_sm_ab {n a b v : Nat} {g : Nat → Nat} (hn : n ≤ 12) (hb : b < n) (h1 : a < v) (h2 : v ≤ b) : mb_sm g a v + g a = mb_sm g b v ∧ mb_sm g b v = mb_sm g 12 v :=
  ⟨mb_sm_all v h1 h2, mb_sm_lo v h2 (by omega)⟩
theorem mb_lt_ab {n a b v : Nat} {g : Nat → Nat} {p q r : Nat → Int32} (hn : n ≤ 12) (hb : b < n) (h1 : a < v) (h2 : v ≤ b) (hg : ∀ i, i < 12 → 0 < g i ∧ g i ≤ 131072) (hl : mb_ly n g v 2 (mb_ab a b) p q r) : ¬ q 1 ≤ q 0 := by
  obtain ⟨e, _⟩ := mb_sm_ab (g := g) hn hb h1 h2
  rw [(hl 1 (by omega)).2.1, (hl 0 (by omega)).2.1, mb_ab0, mb_ab1, nI_leI (mb_sm_31 hg (by omega)) (mb_sm_31 hg (by omega))]
  have := hg a (by omega)
  omega
theorem mb_cut_ly0 {n a b v : Nat} {g : Nat → Nat} {p q r p' q' r' : Nat → Int32} (hl : mb_ly n g v 2 (mb_ab a b) p q r) (e1 : p' 0 = p 1) (e2 : q' 0 = q 1) (e3 : r' 0 = r 1) : mb_ly n g v 1 (fun _ => b) p' q' r' := by
  intro j hj
  have ej : j = 0 := by omega
  subst ej
  rw [e1, e2, e3]
  exact hl 1 (by omega)
theorem mb_cut_ly1 {n a b v : Nat} {g : Nat → Nat} {p q r p' q' r' : Nat → Int32} (hn : n ≤ 12) (hb : b < n) (h1 : a < v) (h2 : v ≤ b) (hl : mb_ly n g v 2 (mb_ab a b) p q r) (e1 : p' 0 = p 1 ||| p 0) (e2 : q' 0 = q 1) (e3 : r' 0 = r 1) : mb_ly n g v 1 (fun _ => 12) p' q' r' := by
  intro j hj
  have ej : j = 0 := by omega
  subst ej
  rw [e1, e2, e3, (hl 1 (by omega)).1, (hl 1 (by omega)).2.1, (hl 1 (by omega)).2.2, (hl 0 (by omega)).1, mb_ab0, mb_ab1, mb_t7 n (by omega) v (by omega) a h1, mb_t11 n (by omega) b hb v (by omega), (mb_sm_ab (g := g) hn hb h1 h2).2, mb_t8 v (by omega) b (by omega) h2]
  exact ⟨rfl, rfl, rfl⟩
theorem mb_mo_w1 {L v : Nat} (h : v ≠ L) : mb_mo 1 L v = 1 := by
  unfold mb_mo
  rw [if_neg (fun z => h z.1)]
theorem mb_mo_L {L : Nat} : mb_mo 1 L L = 2 := by
  unfold mb_mo
  rw [if_pos ⟨rfl, by omega⟩]
/-- one place at a time, the subproblem lies ahead of a -/
theorem mb_run_cutA {post : Int32 → St2 → Prop} {n a b L : Nat} {g : Nat → Nat} (cx : mb_cx n a b g a1 a3) (hb : b < n) (hL : L < a) (hl : mb_ly n g L 1 (fun _ => 12) a4 a5 a6)
    (H : ∀ (ns bv' bt' : Int32) (a4 a5 a6 a7 a8 a9 : Nat → Int32), mb_up (nI (mb_sm g b n)) (mb_tk n b) bv bt bv' bt' → post (nI (mb_sm g b n)) (nI n, nI 1, fi, fo, 0, 0, nI 1, ns, cl, cs, 0, bv', bt', a1, a2, a3, a4, a5, a6, a7, a8, a9, a10, a11, a12, a13, a14, a15, a16, a17)) : wpX_run post (nI n, nI 1, fi, fo, 0, 0, nI 1, ns, cl, cs, ex, bv, bt, a1, a2, a3, a4, a5, a6, a7, a8, a9, a10, a11, a12, a13, a14, a15, a16, a17) (nI L) 0 := by
  have hn := cx.1
  have hab := cx.2.2.1
  have hg := cx.2.2.2.2.2.2
  refine ⟨n + 1, mb_R_head cx hb (by omega) (by omega) (by omega) ?_ hl⟩
  intro fu ns a4 a5 a6 a7 a8 a9 hf hl
  obtain ⟨f, rfl⟩ : ∃ f, fu = f + 1 := ⟨fu - 1, by omega⟩
  refine mb_r7_go (by omega) (by omega) (Or.inr rfl) (mb_r39_split cx hb (by omega) (by omega) hl (fun p q r p' q' r' h => ?_))
  rw [mb_mo_w1 (show a ≠ L by omega)]
  refine mb_r86_cut0 (mb_lt_ab hn hb (by omega) (by omega) hg h) (fun s t u e1 e2 e3 => ?_)
  exact mb_R_tail cx (by omega) (by omega) (by omega) (show b < 13 by omega) (Or.inl rfl) (fun fu ns a4 a5 a6 a7 a8 a9 hf hl => mb_R_e0 cx hf hl (fun bv' bt' h => H ns bv' bt' a4 a5 a6 a7 a8 a9 h)) (a + 1) f _ s t u p' q' r' (Or.inl (by omega)) (by omega) (by omega) (mb_cut_ly0 h e1 e2 e3)
/-- one place at a time, the subproblem begins at a, b isn't next -/
theorem mb_run_cutB {post : Int32 → St2 → Prop} {n a b : Nat} {g : Nat → Nat} (cx : mb_cx n a b g a1 a3) (hb : b < n) (hb2 : a + 1 < b) (hl : mb_ly n g a 1 (fun _ => 12) a4 a5 a6)
    (H : ∀ (ns bv' bt' : Int32) (a4 a5 a6 a7 a8 a9 : Nat → Int32), mb_up (nI (mb_sm g b n)) (mb_tk n b) bv bt bv' bt' → post (nI (mb_sm g b n)) (nI n, nI 1, fi, fo, 0, 0, nI 1, ns, cl, cs, 0, bv', bt', a1, a2, a3, a4, a5, a6, a7, a8, a9, a10, a11, a12, a13, a14, a15, a16, a17)) : wpX_run post (nI n, nI 1, fi, fo, 0, 0, nI 1, ns, cl, cs, ex, bv, bt, a1, a2, a3, a4, a5, a6, a7, a8, a9, a10, a11, a12, a13, a14, a15, a16, a17) (nI a) 0 := by
  have hn := cx.1
  have hab := cx.2.2.1
  have hg := cx.2.2.2.2.2.2
  obtain ⟨f, hf⟩ : ∃ f, n = f + 1 := ⟨n - 1, by omega⟩
  refine ⟨f + 1 + 1, mb_r7_go (by omega) (by omega) (Or.inr rfl) (mb_r39_split cx hb (by omega) (by omega) hl (fun p q r p' q' r' h => mb_r86_le (mb_mo_lt (by omega)) (by rw [mb_mo_L]; omega) ?_))⟩
  refine mb_r7_go (by omega) (by omega) (Or.inr rfl) (mb_r39_plain cx (by omega) (by omega) (show a + 1 < n by omega) (by omega) (mb_ab13 hn hab hb) h (fun j hj => mb_ok_of hn hab (Or.inl hb) (by omega) (mb_ab13 hn hab hb j hj) (by omega)) (mb_ne_ab hn hb (by omega) (by omega)) (fun p q r p' q' r' h => ?_))
  rw [mb_mo_w1 (show a + 1 ≠ a by omega)]
  refine mb_r86_cut0 (mb_lt_ab hn hb (by omega) (by omega) hg h) (fun s t u e1 e2 e3 => ?_)
  exact mb_R_tail cx (by omega) (by omega) (by omega) (show b < 13 by omega) (Or.inl rfl) (fun fu ns a4 a5 a6 a7 a8 a9 hf hl => mb_R_e0 cx hf hl (fun bv' bt' h => H ns bv' bt' a4 a5 a6 a7 a8 a9 h)) (a + 1 + 1) f _ s t u p' q' r' (Or.inl (by omega)) (by omega) (by omega) (mb_cut_ly0 h e1 e2 e3)
/-- merged, ahead of a -/
theorem mb_M_head {post : Int32 → St2 → Prop} {n a b L : Nat} {g : Nat → Nat} (cx : mb_cx n a b g a1 a3) (hb : b < n) (hL : L ≤ a)
    (hE : ∀ (fu : Nat) (ns cl cs : Int32) (a4 a5 a6 a7 a8 a9 a10 a11 a12 : Nat → Int32), n - a < fu → mb_ly n g a 1 (fun _ => 12) a4 a5 a6 → wX_run_7 post (nI L) 1 fu (nI a) (nI n) (nI 1) fi fo 0 0 (nI 1) ns cl cs 1 bv bt a1 a2 a3 a4 a5 a6 a7 a8 a9 a10 a11 a12 a13 a14 a15 a16 a17) :
    ∀ (d v fu : Nat) (ns cl cs : Int32) (a4 a5 a6 a7 a8 a9 a10 a11 a12 : Nat → Int32), v + d = a → L ≤ v → n - v < fu → mb_ly n g v 1 (fun _ => 12) a4 a5 a6 → wX_run_7 post (nI L) 1 fu (nI v) (nI n) (nI 1) fi fo 0 0 (nI 1) ns cl cs 1 bv bt a1 a2 a3 a4 a5 a6 a7 a8 a9 a10 a11 a12 a13 a14 a15 a16 a17 := by
  intro d
  have hn := cx.1
  have hab := cx.2.2.1
  induction d with
  | zero =>
    intro v fu ns cl cs a4 a5 a6 a7 a8 a9 a10 a11 a12 hv _ hf hl
    have ev : v = a := by omega
    rw [ev] at hl hf
    rw [ev]
    exact hE fu ns cl cs a4 a5 a6 a7 a8 a9 a10 a11 a12 hf hl
  | succ d ih =>
    intro v fu ns cl cs a4 a5 a6 a7 a8 a9 a10 a11 a12 hv h0 hf hl
    obtain ⟨f, rfl⟩ : ∃ f, fu = f + 1 := ⟨fu - 1, by omega⟩
    exact mb_r7_keep (by omega) (by omega) (by omega) (fun s t u _ => mb_r39_plain (c := fun _ => 12) cx (by omega) (by omega) (show v < n by omega) (by omega) (fun _ _ => by omega) hl (fun _ _ => mb_ok_of hn hab (Or.inl hb) (by omega) (by omega) (by omega)) (fun k hk j hj => absurd hj (by omega))
      (fun p q r p' q' r' h => mb_r86_le (mb_mo_lt (by omega)) (mb_mo_1 (by omega)) (ih (v + 1) f _ _ _ p q r p' q' r' s t u (by omega) (by omega) (by omega) h)))
theorem mb_run_merA {post : Int32 → St2 → Prop} {n a b L : Nat} {g : Nat → Nat} (cx : mb_cx n a b g a1 a3) (hb : b < n) (hL : L < a) (hl : mb_ly n g L 1 (fun _ => 12) a4 a5 a6)
    (H : ∀ (ns : Int32) (a4 a5 a6 a7 a8 a9 a10 a11 a12 : Nat → Int32), mb_ly n g a 1 (fun _ => 12) a10 a11 a12 → post (nI (mb_sm g 12 n)) (nI n, nI 1, fi, fo, 0, 0, nI 1, ns, nI a, nI 1, 0, bv, bt, a1, a2, a3, a4, a5, a6, a7, a8, a9, a10, a11, a12, a13, a14, a15, a16, a17)) : wpX_run post (nI n, nI 1, fi, fo, 0, 0, nI 1, ns, cl, cs, ex, bv, bt, a1, a2, a3, a4, a5, a6, a7, a8, a9, a10, a11, a12, a13, a14, a15, a16, a17) (nI L) 1 := by
  have hn := cx.1
  have hab := cx.2.2.1
  have hg := cx.2.2.2.2.2.2
  refine ⟨n + 1, mb_M_head cx hb (by omega) ?_ (a - L) L (n + 1) _ _ _ _ _ _ _ _ _ _ _ _ (by omega) (Nat.le_refl L) (by omega) hl⟩
  intro fu ns cl cs a4 a5 a6 a7 a8 a9 a10 a11 a12 hf hl
  obtain ⟨f, rfl⟩ : ∃ f, fu = f + 1 := ⟨fu - 1, by omega⟩
  refine mb_r7_keep (by omega) (by omega) (by omega) (fun c1 c2 c3 hc => mb_r39_split cx hb (by omega) (by omega) hl (fun p q r p' q' r' h => ?_))
  rw [mb_mo_w1 (show a ≠ L by omega)]
  refine mb_r86_cut1 (mb_lt_ab hn hb (by omega) (by omega) hg h) (fun s t u e1 e2 e3 => ?_)
  exact mb_R_tail cx (by omega) (by omega) (by omega) (show 12 < 13 by omega) (Or.inl rfl) (fun fu ns a4 a5 a6 a7 a8 a9 hf hl' => mb_R_e1 cx hf hl' (H ns a4 a5 a6 a7 a8 a9 c1 c2 c3 (mb_ly_cp hl hc))) (a + 1) f _ s t u p' q' r' (Or.inl (by omega)) (by omega) (by omega) (mb_cut_ly1 hn hb (by omega) (by omega) h e1 e2 e3)
theorem mb_run_merB {post : Int32 → St2 → Prop} {n a b : Nat} {g : Nat → Nat} (cx : mb_cx n a b g a1 a3) (hb : b < n) (hb2 : a + 1 < b) (hl : mb_ly n g a 1 (fun _ => 12) a4 a5 a6)
    (H : ∀ (ns : Int32) (a4 a5 a6 a7 a8 a9 a10 a11 a12 : Nat → Int32), mb_ly n g (a + 1) 2 (mb_ab a b) a10 a11 a12 → post (nI (mb_sm g 12 n)) (nI n, nI 1, fi, fo, 0, 0, nI 1, ns, nI (a + 1), nI 2, 0, bv, bt, a1, a2, a3, a4, a5, a6, a7, a8, a9, a10, a11, a12, a13, a14, a15, a16, a17)) : wpX_run post (nI n, nI 1, fi, fo, 0, 0, nI 1, ns, cl, cs, ex, bv, bt, a1, a2, a3, a4, a5, a6, a7, a8, a9, a10, a11, a12, a13, a14, a15, a16, a17) (nI a) 1 := by
  have hn := cx.1
  have hab := cx.2.2.1
  have hg := cx.2.2.2.2.2.2
  obtain ⟨f, hf⟩ : ∃ f, n = f + 1 := ⟨n - 1, by omega⟩
  refine ⟨f + 1 + 1, mb_r7_keep (by omega) (by omega) (by omega) (fun _ _ _ _ => mb_r39_split cx hb (by omega) (by omega) hl (fun p q r p' q' r' h => mb_r86_le (mb_mo_lt (by omega)) (by rw [mb_mo_L]; omega) ?_))⟩
  refine mb_r7_keep (by omega) (by omega) (by omega) (fun c1 c2 c3 hc => mb_r39_plain cx (by omega) (by omega) (show a + 1 < n by omega) (by omega) (mb_ab13 hn hab hb) h (fun j hj => mb_ok_of hn hab (Or.inl hb) (by omega) (mb_ab13 hn hab hb j hj) (by omega)) (mb_ne_ab hn hb (by omega) (by omega)) (fun p q r p' q' r' h' => ?_))
  rw [mb_mo_w1 (show a + 1 ≠ a by omega)]
  refine mb_r86_cut1 (mb_lt_ab hn hb (by omega) (by omega) hg h') (fun s t u e1 e2 e3 => ?_)
  exact mb_R_tail cx (by omega) (by omega) (by omega) (show 12 < 13 by omega) (Or.inl rfl) (fun fu ns a4 a5 a6 a7 a8 a9 hf hl' => mb_R_e1 cx hf hl' (H ns a4 a5 a6 a7 a8 a9 c1 c2 c3 (mb_ly_cp h hc))) (a + 1 + 1) f _ s t u p' q' r' (Or.inl (by omega)) (by omega) (by omega) (mb_cut_ly1 hn hb (by omega) (by omega) h' e1 e2 e3)
end RUN
end
section
/-! solve -/
section SOLVE
variable {fn fw fi fo mi mo sz ns cl cs ex bv bt : Int32} {a1 a2 a3 a4 a5 a6 a7 a8 a9 a10 a11 a12 a13 a14 a15 a16 a17 : Nat → Int32}
def mb_we (n : Nat) (g : Nat → Nat) (lv x j : Nat) (a13 a14 a15 a16 : Nat → Int32) : Prop :=
  a13 j = nI lv ∧ a14 j = mb_op n lv x ∧ a15 j = nI (mb_sm g x lv) ∧ a16 j = mb_tk lv x
def mb_fb (n a b : Nat) (g : Nat → Nat) (bv bt : Int32) : Prop := ∃ y, y < 13 ∧ mb_good n a b g y ∧ bv = nI (mb_sm g y n) ∧ bt = mb_tk n y
theorem mb_ly_st {n lv x : Nat} {g : Nat → Nat} : mb_ly n g lv 1 (fun _ => x) (upd a4 0 (mb_op n lv x)) (upd a5 0 (nI (mb_sm g x lv))) (upd a6 0 (mb_tk lv x)) := by
  intro j hj
  have ej : j = 0 := by omega
  subst ej
  exact ⟨pk_us, pk_us, pk_us⟩
theorem mb_push {post : St2 → Prop} {J49 : Int32 → Int32 → Int32 → Int32 → Int32 → Int32 → Int32 → Int32 → Int32 → Int32 → Int32 → Int32 → Int32 → Int32 → Int32 → (Nat → Int32) → (Nat → Int32) → (Nat → Int32) → (Nat → Int32) → (Nat → Int32) → (Nat → Int32) → (Nat → Int32) → (Nat → Int32) → (Nat → Int32) → (Nat → Int32) → (Nat → Int32) → (Nat → Int32) → (Nat → Int32) → (Nat → Int32) → (Nat → Int32) → (Nat → Int32) → (Nat → Int32) → Prop} {k t : Nat} (hk : k ≤ 64)
    (H : ∀ p13 p14 p15 p16 : Nat → Int32, (∀ j, j < k → p13 j = cl ∧ p14 j = a10 j ∧ p15 j = a11 j ∧ p16 j = a12 j) → J49 (nI k) (nI (t + 1)) fn fw fi fo mi mo sz ns cl (nI k) ex bv bt a1 a2 a3 a4 a5 a6 a7 a8 a9 a10 a11 a12 p13 p14 p15 p16 a17) :
    ∃ fu, wX_solve_148 post J49 (nI t) fn fw fi fo mi mo sz ns cl (nI k) ex bv bt fu (nI 0) 0 a1 a2 a3 a4 a5 a6 a7 a8 a9 a10 a11 a12 a13 a14 a15 a16 a17 := by
  refine pk_loop (σ := (Nat → Int32) × (Nat → Int32) × (Nat → Int32) × (Nat → Int32)) (fun fu i s => wX_solve_148 post J49 (nI t) fn fw fi fo mi mo sz ns cl (nI k) ex bv bt fu (nI i) (nI i) a1 a2 a3 a4 a5 a6 a7 a8 a9 a10 a11 a12 s.1 s.2.1 s.2.2.1 s.2.2.2 a17) (fun i s => ∀ j, j < i → s.1 j = cl ∧ s.2.1 j = a10 j ∧ s.2.2.1 j = a11 j ∧ s.2.2.2 j = a12 j) k 0 (a13, a14, a15, a16) (by omega) (fun j hj => absurd hj (by omega)) ?_ ?_
  · intro fu s hs
    exact pk_le k k (fun _ => nm_r (nI_1 t) (H _ _ _ _ hs)) (fun z => absurd z (by omega))
  · intro fu i s hi hs hw
    have e : (nI i).toNatClampNeg = i := nI_clamp (by omega)
    have h64 : vp_in (nI i) 64 := pk_in i 64 (by omega)
    have h256 : vp_in (nI i) 256 := pk_in i 256 (by omega)
    have F : ∀ j, j < i + 1 → upd s.1 i cl j = cl ∧ upd s.2.1 i (a10 i) j = a10 j ∧ upd s.2.2.1 i (a11 i) j = a11 j ∧ upd s.2.2.2 i (a12 i) j = a12 j := by
      intro j hj
      by_cases ej : j = i
      · subst ej
        exact ⟨pk_us, pk_us, pk_us, pk_us⟩
      · rw [pk_un ej, pk_un ej, pk_un ej, pk_un ej]
        exact hs j (by omega)
    exact pk_le k i (fun z => absurd z (by omega)) (fun _ => pk_le 256 i (fun z => absurd z (by omega)) (fun _ => ⟨h256, nm_r (e' := upd s.1 i cl) (by rw [e]) ⟨h64, h256, nm_r (e' := upd s.2.1 i (a10 i)) (by rw [e]) ⟨h64, h256, nm_r (e' := upd s.2.2.1 i (a11 i)) (by rw [e]) ⟨h64, h256, nm_r (e' := upd s.2.2.2 i (a12 i)) (by rw [e])
      (nm_r (nI_1 i) (nm_r (nI_1 i) (hw (upd s.1 i cl, upd s.2.1 i (a10 i), upd s.2.2.1 i (a11 i), upd s.2.2.2 i (a12 i)) F)))⟩⟩⟩⟩))
theorem mb_sv_end {post : St2 → Prop} {n w t fu : Nat} (ht : t < 8192) (H : post (nI n, nI w, fi, fo, 0, 0, sz, ns, cl, cs, ex, bv, bt, a1, a2, a3, a4, a5, a6, a7, a8, a9, a10, a11, a12, a13, a14, a15, a16, a17)) : wX_solve_49 post (fu + 1) (nI 0) (nI t) (nI n) (nI w) fi fo 0 0 sz ns cl cs ex bv bt a1 a2 a3 a4 a5 a6 a7 a8 a9 a10 a11 a12 a13 a14 a15 a16 a17 :=
  pk_le 8192 t (fun z => absurd z (by omega)) (fun _ => pk_le 0 0 (fun _ => H) (fun z => absurd z (by omega)))
theorem mb_sv_exact {post : St2 → Prop} {n w q t lv x fu : Nat} {g : Nat → Nat} {S T : Int32} (hq : q < 256) (ht : t < 8192) (he : mb_we n g lv x q a13 a14 a15 a16)
    (hr : ∀ (Q : Int32 → St2 → Prop) (a4 a5 a6 : Nat → Int32), mb_ly n g lv 1 (fun _ => x) a4 a5 a6 → (∀ (ns bv' bt' : Int32) (a4 a5 a6 a7 a8 a9 : Nat → Int32), mb_up S T bv bt bv' bt' → Q S (nI n, nI w, fi, fo, 0, 0, nI 1, ns, cl, cs, 1, bv', bt', a1, a2, a3, a4, a5, a6, a7, a8, a9, a10, a11, a12, a13, a14, a15, a16, a17)) → wpX_run Q (nI n, nI w, fi, fo, 0, 0, nI 1, ns, cl, cs, ex, bv, bt, a1, a2, a3, a4, a5, a6, a7, a8, a9, a10, a11, a12, a13, a14, a15, a16, a17) (nI lv) 0)
    (H : ∀ (ns bv' bt' : Int32) (a4 a5 a6 a7 a8 a9 : Nat → Int32), mb_up S T bv bt bv' bt' → wX_solve_49 post fu (nI q) (nI (t + 1)) (nI n) (nI w) fi fo 0 0 (nI 1) ns cl cs 1 bv' bt' a1 a2 a3 a4 a5 a6 a7 a8 a9 a10 a11 a12 a13 a14 a15 a16 a17) :
    wX_solve_49 post (fu + 1) (nI (q + 1)) (nI t) (nI n) (nI w) fi fo 0 0 sz ns cl cs ex bv bt a1 a2 a3 a4 a5 a6 a7 a8 a9 a10 a11 a12 a13 a14 a15 a16 a17 := by
  have e : (nI q).toNatClampNeg = q := nI_clamp (by omega)
  have i256 : vp_in (nI q) 256 := pk_in q 256 hq
  obtain ⟨e1, e2, e3, e4⟩ := he
  exact pk_le 8192 t (fun z => absurd z (by omega)) (fun _ => pk_le (q + 1) 0 (fun z => absurd z (by omega)) (fun _ => nm_r (pk_m1 q) ⟨i256, nm_r (e' := nI lv) (by rw [e]; exact e1) ⟨i256, nm_r (e' := mb_op n lv x) (by rw [e]; exact e2) ⟨i256, nm_r (e' := nI (mb_sm g x lv)) (by rw [e]; exact e3) ⟨i256, nm_r (e' := mb_tk lv x) (by rw [e]; exact e4)
    (mb_start (hr _ _ _ _ mb_ly_st (fun ns bv' bt' a4 a5 a6 a7 a8 a9 h => br_f (by decide) (nm_r (nI_1 t) (H ns bv' bt' a4 a5 a6 a7 a8 a9 h)))))⟩⟩⟩⟩))
theorem mb_sv_cut {post : St2 → Prop} {n w t lv x fu k LV : Nat} {g c : Nat → Nat} {S T B : Int32} (ht : t < 8192) (hk : k ≤ 64) (he : mb_we n g lv x 0 a13 a14 a15 a16)
    (hr0 : ∀ (Q : Int32 → St2 → Prop) (a4 a5 a6 : Nat → Int32), mb_ly n g lv 1 (fun _ => x) a4 a5 a6 → (∀ (ns bv' bt' : Int32) (a4 a5 a6 a7 a8 a9 : Nat → Int32), mb_up S T bv bt bv' bt' → Q S (nI n, nI w, fi, fo, 0, 0, nI 1, ns, cl, cs, 0, bv', bt', a1, a2, a3, a4, a5, a6, a7, a8, a9, a10, a11, a12, a13, a14, a15, a16, a17)) → wpX_run Q (nI n, nI w, fi, fo, 0, 0, nI 1, ns, cl, cs, ex, bv, bt, a1, a2, a3, a4, a5, a6, a7, a8, a9, a10, a11, a12, a13, a14, a15, a16, a17) (nI lv) 0)
    (hr1 : ∀ (Q : Int32 → St2 → Prop) (ns bv bt : Int32) (a4 a5 a6 a7 a8 a9 : Nat → Int32), mb_ly n g lv 1 (fun _ => x) a4 a5 a6 → (∀ (ns : Int32) (a4 a5 a6 a7 a8 a9 a10 a11 a12 : Nat → Int32), mb_ly n g LV k c a10 a11 a12 → Q B (nI n, nI w, fi, fo, 0, 0, nI 1, ns, nI LV, nI k, 0, bv, bt, a1, a2, a3, a4, a5, a6, a7, a8, a9, a10, a11, a12, a13, a14, a15, a16, a17)) → wpX_run Q (nI n, nI w, fi, fo, 0, 0, nI 1, ns, cl, cs, 0, bv, bt, a1, a2, a3, a4, a5, a6, a7, a8, a9, a10, a11, a12, a13, a14, a15, a16, a17) (nI lv) 1)
    (hB : ∀ bv' bt' : Int32, mb_up S T bv bt bv' bt' → ¬ B ≤ bv')
    (H : ∀ (ns bv' bt' : Int32) (a4 a5 a6 a7 a8 a9 a10 a11 a12 a13 a14 a15 a16 : Nat → Int32), mb_up S T bv bt bv' bt' → (∀ j, j < k → mb_we n g LV (c j) j a13 a14 a15 a16) → wX_solve_49 post fu (nI k) (nI (t + 1)) (nI n) (nI w) fi fo 0 0 (nI 1) ns (nI LV) (nI k) 0 bv' bt' a1 a2 a3 a4 a5 a6 a7 a8 a9 a10 a11 a12 a13 a14 a15 a16 a17) :
    wX_solve_49 post (fu + 1) (nI 1) (nI t) (nI n) (nI w) fi fo 0 0 sz ns cl cs ex bv bt a1 a2 a3 a4 a5 a6 a7 a8 a9 a10 a11 a12 a13 a14 a15 a16 a17 := by
  have e : (nI 0).toNatClampNeg = 0 := nI_clamp (by omega)
  have i256 : vp_in (nI 0) 256 := pk_in 0 256 (by omega)
  obtain ⟨e1, e2, e3, e4⟩ := he
  refine pk_le 8192 t (fun z => absurd z (by omega)) (fun _ => pk_le 1 0 (fun z => absurd z (by omega)) (fun _ => nm_r (pk_m1 0) ⟨i256, nm_r (e' := nI lv) (by rw [e]; exact e1) ⟨i256, nm_r (e' := mb_op n lv x) (by rw [e]; exact e2) ⟨i256, nm_r (e' := nI (mb_sm g x lv)) (by rw [e]; exact e3) ⟨i256, nm_r (e' := mb_tk lv x) (by rw [e]; exact e4)
    (mb_start (hr0 _ _ _ _ mb_ly_st (fun ns bv' bt' a4 a5 a6 a7 a8 a9 h => br_t rfl (mb_start (hr1 _ _ _ _ _ _ _ _ _ _ mb_ly_st (fun ns a4 a5 a6 a7 a8 a9 a10 a11 a12 hc => br_f (hB bv' bt' h) (mb_push hk (fun p13 p14 p15 p16 hp => ?_))))))))⟩⟩⟩⟩))
  refine H ns bv' bt' a4 a5 a6 a7 a8 a9 a10 a11 a12 p13 p14 p15 p16 h (fun j hj => ?_)
  obtain ⟨h1, h2, h3, h4⟩ := hp j hj
  obtain ⟨k1, k2, k3⟩ := hc j hj
  exact ⟨h1, h2.trans k1, h3.trans k2, h4.trans k3⟩
theorem mb_nm1 {s : Nat} (hs : s < 2 ^ 31) : ¬ nI s ≤ (-1 : Int32) := by
  rw [Int32.le_iff_toInt_le, nI_toInt hs]
  have : (-1 : Int32).toInt = -1 := by decide
  omega
theorem mb_up_neg {s : Nat} {t bt bv' bt' : Int32} (hs : s < 2 ^ 31) (h : mb_up (nI s) t (-1) bt bv' bt') : bv' = nI s ∧ bt' = t := by
  rcases h with ⟨h, _⟩ | ⟨_, h1, h2⟩
  · exact absurd h (mb_nm1 hs)
  · exact ⟨h1, h2⟩
theorem mb_up_pos {s s0 : Nat} {t bt bv' bt' : Int32} (hs : s < 2 ^ 31) (hs0 : s0 < 2 ^ 31) (h : mb_up (nI s) t (nI s0) bt bv' bt') : (s ≤ s0 ∧ bv' = nI s0 ∧ bt' = bt) ∨ (s0 < s ∧ bv' = nI s ∧ bt' = t) := by
  rcases h with ⟨h, h1, h2⟩ | ⟨h, h1, h2⟩
  · rw [nI_leI hs hs0] at h
    exact Or.inl ⟨h, h1, h2⟩
  · rw [nI_leI hs hs0] at h
    exact Or.inr ⟨by omega, h1, h2⟩
theorem mb_bb_good {n a b : Nat} {g : Nat → Nat} (hn : n ≤ 12) (hab : a < b) (hb : b < n) : mb_good n a b g (mb_bb g a b) := by
  have p1 := mb_sm_all (g := g) (x := a) (y := 12) (b + 1) (by omega) (by omega)
  have p2 := mb_sm_all (g := g) (x := b) (y := 12) (b + 1) (by omega) (by omega)
  have q1 := mb_sm_all (g := g) (x := a) (y := 12) n (by omega) (by omega)
  have q2 := mb_sm_all (g := g) (x := b) (y := 12) n (by omega) (by omega)
  unfold mb_bb
  by_cases e : mb_sm g b (b + 1) ≤ mb_sm g a (b + 1)
  · rw [if_pos e]
    exact Or.inr ⟨hb, Or.inl rfl, Nat.le_refl _, by omega⟩
  · rw [if_neg e]
    exact Or.inr ⟨hb, Or.inr rfl, by omega, Nat.le_refl _⟩
/-- the two subproblems behind a -/
theorem mb_S3 {post : St2 → Prop} {n a b w t fu : Nat} {g : Nat → Nat} (cx : mb_cx n a b g a1 a3) (hb : b < n) (hw : w < 2 ^ 31) (h1 : 1 ≤ w) (ht : t + 2 < 8192)
    (H : ∀ (sz ns cl cs ex bv bt : Int32) (a4 a5 a6 a7 a8 a9 a10 a11 a12 a13 a14 a15 a16 : Nat → Int32), mb_fb n a b g bv bt → post (nI n, nI w, fi, fo, 0, 0, sz, ns, cl, cs, ex, bv, bt, a1, a2, a3, a4, a5, a6, a7, a8, a9, a10, a11, a12, a13, a14, a15, a16, a17))
    (he0 : mb_we n g (a + 1) a 0 a13 a14 a15 a16) (he1 : mb_we n g (a + 1) b 1 a13 a14 a15 a16) (hbt : bt = mb_tk n b) : wX_solve_49 post (fu + 1 + 1 + 1) (nI 2) (nI t) (nI n) (nI w) fi fo 0 0 sz ns cl cs ex (nI (mb_sm g b n)) bt a1 a2 a3 a4 a5 a6 a7 a8 a9 a10 a11 a12 a13 a14 a15 a16 a17 := by
  have hn := cx.1
  have hab := cx.2.2.1
  have hg := cx.2.2.2.2.2.2
  have sa : mb_sm g a n < 2 ^ 31 := mb_sm_31 hg hn
  have sb : mb_sm g b n < 2 ^ 31 := mb_sm_31 hg hn
  refine mb_sv_exact (q := 1) (S := nI (mb_sm g b n)) (T := mb_tk n b) (by omega) (by omega) he1 (fun Q a4 a5 a6 hl hQ => mb_run_single cx (Or.inl (by omega)) (by omega) hw h1 (by omega) hl hQ) ?_
  intro ns bv' bt' a4 a5 a6 a7 a8 a9 hu
  obtain ⟨_, u1, u2⟩ | ⟨u0, _⟩ := mb_up_pos sb sb hu
  rotate_left
  · omega
  subst u1 u2
  refine mb_sv_exact (q := 0) (S := nI (mb_sm g a n)) (T := mb_tk n a) (by omega) (by omega) he0 (fun Q a4 a5 a6 hl hQ => mb_run_single cx (Or.inl (by omega)) (by omega) hw h1 (by omega) hl hQ) ?_
  intro ns bv' bt' a4 a5 a6 a7 a8 a9 hu
  refine mb_sv_end (by omega) (H _ _ _ _ _ _ _ _ _ _ _ _ _ _ _ _ _ _ _ _ ?_)
  obtain ⟨u0, u1, u2⟩ | ⟨u0, u1, u2⟩ := mb_up_pos sa sb hu
  · exact ⟨b, by omega, Or.inr ⟨hb, Or.inr rfl, u0, Nat.le_refl _⟩, u1, u2.trans hbt⟩
  · exact ⟨a, by omega, Or.inr ⟨hb, Or.inl rfl, Nat.le_refl _, by omega⟩, u1, u2⟩
theorem mb_up_b {n b : Nat} {g : Nat → Nat} {bv bt bv' bt' : Int32} (hs : mb_sm g b n < 2 ^ 31) (hbv : bv = -1 ∨ (bv = nI (mb_sm g b n) ∧ bt = mb_tk n b)) (h : mb_up (nI (mb_sm g b n)) (mb_tk n b) bv bt bv' bt') : bv' = nI (mb_sm g b n) ∧ bt' = mb_tk n b := by
  rcases hbv with e | ⟨e1, e2⟩
  · subst e
    exact mb_up_neg hs h
  · subst e1 e2
    obtain ⟨_, u1, u2⟩ | ⟨u0, _⟩ := mb_up_pos hs hs h
    · exact ⟨u1, u2⟩
    · omega
/-- the subproblem at a -/
theorem mb_S2 {post : St2 → Prop} {n a b t fu : Nat} {g : Nat → Nat} (cx : mb_cx n a b g a1 a3) (hb : b < n) (ht : t + 3 < 8192)
    (H : ∀ (sz ns cl cs ex bv bt : Int32) (a4 a5 a6 a7 a8 a9 a10 a11 a12 a13 a14 a15 a16 : Nat → Int32), mb_fb n a b g bv bt → post (nI n, nI 1, fi, fo, 0, 0, sz, ns, cl, cs, ex, bv, bt, a1, a2, a3, a4, a5, a6, a7, a8, a9, a10, a11, a12, a13, a14, a15, a16, a17))
    (he : mb_we n g a 12 0 a13 a14 a15 a16) (hbv : bv = -1 ∨ (bv = nI (mb_sm g b n) ∧ bt = mb_tk n b)) : wX_solve_49 post (fu + 1 + 1 + 1 + 1) (nI 1) (nI t) (nI n) (nI 1) fi fo 0 0 sz ns cl cs ex bv bt a1 a2 a3 a4 a5 a6 a7 a8 a9 a10 a11 a12 a13 a14 a15 a16 a17 := by
  have hn := cx.1
  have hab := cx.2.2.1
  have hg := cx.2.2.2.2.2.2
  have sb : mb_sm g b n < 2 ^ 31 := mb_sm_31 hg hn
  have s12 : mb_sm g 12 n < 2 ^ 31 := mb_sm_31 hg hn
  have sbb : mb_sm g (mb_bb g a b) n < 2 ^ 31 := mb_sm_31 hg hn
  by_cases e : b = a + 1
  · refine mb_sv_exact (q := 0) (w := 1) (S := nI (mb_sm g (mb_bb g a b) n)) (T := mb_tk n (mb_bb g a b)) (by omega) (by omega) he (fun Q a4 a5 a6 hl hQ => mb_run_exact cx hb (Nat.le_refl a) (by omega) (by omega) (fun i h0 hi => ?_) hl hQ) ?_
    · rw [show i = a by omega, mb_mo_L]
      exact Nat.le_refl 2
    · intro ns bv' bt' a4 a5 a6 a7 a8 a9 hu
      refine mb_sv_end (by omega) (H _ _ _ _ _ _ _ _ _ _ _ _ _ _ _ _ _ _ _ _ ?_)
      have hG := mb_bb_good (g := g) hn hab hb
      rcases hbv with e | ⟨e1, e2⟩
      · subst e
        obtain ⟨u1, u2⟩ := mb_up_neg sbb hu
        exact ⟨mb_bb g a b, mb_bb13 hn hab hb, hG, u1, u2⟩
      · subst e1 e2
        obtain ⟨u0, u1, u2⟩ | ⟨u0, u1, u2⟩ := mb_up_pos sbb sb hu
        · refine ⟨b, by omega, Or.inr ⟨hb, Or.inr rfl, ?_, Nat.le_refl _⟩, u1, u2⟩
          rcases hG with ⟨z, _⟩ | ⟨_, _, z, _⟩
          · omega
          · omega
        · exact ⟨mb_bb g a b, mb_bb13 hn hab hb, hG, u1, u2⟩
  · refine mb_sv_cut (w := 1) (k := 2) (LV := a + 1) (c := mb_ab a b) (S := nI (mb_sm g b n)) (T := mb_tk n b) (B := nI (mb_sm g 12 n)) (by omega) (by omega) he (fun Q a4 a5 a6 hl hQ => mb_run_cutB cx hb (by omega) hl hQ) (fun Q ns bv bt a4 a5 a6 a7 a8 a9 hl hQ => mb_run_merB cx hb (by omega) hl hQ) ?_ ?_
    · intro bv' bt' hu
      rw [(mb_up_b sb hbv hu).1, nI_leI s12 sb]
      have := mb_sm_all (g := g) (x := b) (y := 12) n hb hn
      have := hg b (by omega)
      omega
    · intro ns bv' bt' a4 a5 a6 a7 a8 a9 a10 a11 a12 a13 a14 a15 a16 hu hw
      obtain ⟨u1, u2⟩ := mb_up_b sb hbv hu
      rw [u1]
      exact mb_S3 cx hb (by omega) (by omega) (by omega) H (hw 0 (by omega)) (hw 1 (by omega)) u2
/-- the whole, a is not the first vertex -/
theorem mb_S1 {post : St2 → Prop} {n a b t fu : Nat} {g : Nat → Nat} (cx : mb_cx n a b g a1 a3) (hb : b < n) (ha : 0 < a) (ht : t + 4 < 8192)
    (H : ∀ (sz ns cl cs ex bv bt : Int32) (a4 a5 a6 a7 a8 a9 a10 a11 a12 a13 a14 a15 a16 : Nat → Int32), mb_fb n a b g bv bt → post (nI n, nI 1, fi, fo, 0, 0, sz, ns, cl, cs, ex, bv, bt, a1, a2, a3, a4, a5, a6, a7, a8, a9, a10, a11, a12, a13, a14, a15, a16, a17))
    (he : mb_we n g 0 12 0 a13 a14 a15 a16) (hbv : bv = -1) : wX_solve_49 post (fu + 1 + 1 + 1 + 1 + 1) (nI 1) (nI t) (nI n) (nI 1) fi fo 0 0 sz ns cl cs ex bv bt a1 a2 a3 a4 a5 a6 a7 a8 a9 a10 a11 a12 a13 a14 a15 a16 a17 := by
  have hn := cx.1
  have hab := cx.2.2.1
  have hg := cx.2.2.2.2.2.2
  have sb : mb_sm g b n < 2 ^ 31 := mb_sm_31 hg hn
  have s12 : mb_sm g 12 n < 2 ^ 31 := mb_sm_31 hg hn
  refine mb_sv_cut (w := 1) (k := 1) (LV := a) (c := fun _ => 12) (S := nI (mb_sm g b n)) (T := mb_tk n b) (B := nI (mb_sm g 12 n)) (by omega) (by omega) he (fun Q a4 a5 a6 hl hQ => mb_run_cutA cx hb ha hl hQ) (fun Q ns bv bt a4 a5 a6 a7 a8 a9 hl hQ => mb_run_merA cx hb ha hl hQ) ?_ ?_
  · intro bv' bt' hu
    rw [(mb_up_b sb (Or.inl hbv) hu).1, nI_leI s12 sb]
    have := mb_sm_all (g := g) (x := b) (y := 12) n hb hn
    have := hg b (by omega)
    omega
  · intro ns bv' bt' a4 a5 a6 a7 a8 a9 a10 a11 a12 a13 a14 a15 a16 hu hw
    exact mb_S2 cx hb (by omega) H (hw 0 (by omega)) (Or.inr (mb_up_b sb (Or.inl hbv) hu))
theorem mb_S0 {post : St2 → Prop} {n a b w : Nat} {g : Nat → Nat} (cx : mb_cx n a b g a1 a3) (hw : w ≤ 16) (h1 : 1 ≤ w)
    (H : ∀ (sz ns cl cs ex bv bt : Int32) (a4 a5 a6 a7 a8 a9 a10 a11 a12 a13 a14 a15 a16 : Nat → Int32), mb_fb n a b g bv bt → post (nI n, nI w, fi, fo, 0, 0, sz, ns, cl, cs, ex, bv, bt, a1, a2, a3, a4, a5, a6, a7, a8, a9, a10, a11, a12, a13, a14, a15, a16, a17))
    (he : mb_we n g 0 12 0 a13 a14 a15 a16) : ∃ fu, wX_solve_49 post fu (nI 1) (nI 0) (nI n) (nI w) fi fo 0 0 sz ns cl cs ex ((-1)) bt a1 a2 a3 a4 a5 a6 a7 a8 a9 a10 a11 a12 a13 a14 a15 a16 a17 := by
  have hn := cx.1
  have hab := cx.2.2.1
  have hg := cx.2.2.2.2.2.2
  have s12 : mb_sm g 12 n < 2 ^ 31 := mb_sm_31 hg hn
  have sbb : mb_sm g (mb_bb g a b) n < 2 ^ 31 := mb_sm_31 hg hn
  rcases cx.2.2.2.1 with hb | hna
  · by_cases hw2 : 2 ≤ w
    · refine ⟨0 + 1 + 1, mb_sv_exact (q := 0) (S := nI (mb_sm g (mb_bb g a b) n)) (T := mb_tk n (mb_bb g a b)) (by omega) (by omega) he (fun Q a4 a5 a6 hl hQ => mb_run_exact cx hb (Nat.zero_le a) (by omega) (by omega) (fun i h0 hi => ?_) hl hQ) ?_⟩
      · unfold mb_mo
        rw [if_neg (by omega)]
        exact hw2
      · intro ns bv' bt' a4 a5 a6 a7 a8 a9 hu
        obtain ⟨u1, u2⟩ := mb_up_neg sbb hu
        exact mb_sv_end (by omega) (H _ _ _ _ _ _ _ _ _ _ _ _ _ _ _ _ _ _ _ _ ⟨mb_bb g a b, mb_bb13 hn hab hb, mb_bb_good hn hab hb, u1, u2⟩)
    · have ew : w = 1 := by omega
      subst ew
      by_cases ha : a = 0
      · subst ha
        exact ⟨0 + 1 + 1 + 1 + 1, mb_S2 cx hb (by omega) H he (Or.inl rfl)⟩
      · exact ⟨0 + 1 + 1 + 1 + 1 + 1, mb_S1 cx hb (by omega) (by omega) H he rfl⟩
  · refine ⟨0 + 1 + 1, mb_sv_exact (q := 0) (S := nI (mb_sm g 12 n)) (T := mb_tk n 12) (by omega) (by omega) he (fun Q a4 a5 a6 hl hQ => mb_run_single cx (Or.inr hna) (by omega) (by omega) h1 (by omega) hl hQ) ?_⟩
    intro ns bv' bt' a4 a5 a6 a7 a8 a9 hu
    obtain ⟨u1, u2⟩ := mb_up_neg s12 hu
    exact mb_sv_end (by omega) (H _ _ _ _ _ _ _ _ _ _ _ _ _ _ _ _ _ _ _ _ ⟨12, by omega, Or.inl ⟨hna, rfl⟩, u1, u2⟩)
theorem mb_solve {post : St2 → Prop} {n a b w : Nat} {g : Nat → Nat} (cx : mb_cx n a b g a1 a3) (hw : w ≤ 16) (h1 : 1 ≤ w)
    (H : ∀ (sz ns cl cs ex bv bt : Int32) (a4 a5 a6 a7 a8 a9 a10 a11 a12 a13 a14 a15 a16 : Nat → Int32), mb_fb n a b g bv bt → post (nI n, nI w, fi, fo, 0, 0, sz, ns, cl, cs, ex, bv, bt, a1, a2, a3, a4, a5, a6, a7, a8, a9, a10, a11, a12, a13, a14, a15, a16, a17)) : wpX_solve post (nI n, nI w, fi, fo, 0, 0, sz, ns, cl, cs, ex, bv, bt, a1, a2, a3, a4, a5, a6, a7, a8, a9, a10, a11, a12, a13, a14, a15, a16, a17) := by
  have hn := cx.1
  refine nm_e (nm_r (e' := upd a14 0 (mb_op n 0 12)) (by rw [mb_t10 n (by omega)]) (nm_e (nm_e ?_)))
  exact mb_S0 cx hw h1 H ⟨pk_us, pk_us, pk_us, pk_us⟩
end SOLVE
end
section
/-! takeWeights, weightOf, best -/
section BEST
variable {fn fw fi fo mi mo sz ns cl cs ex bv bt : Int32} {a1 a2 a3 a4 a5 a6 a7 a8 a9 a10 a11 a12 a13 a14 a15 a16 a17 : Nat → Int32}
theorem mb_tw {post : St2 → Prop} {n : Nat} {wt : Nat → Nat} (hn : n ≤ 12) (h2 : ∀ i, i < n → a2 i = nI (wt i))
    (H : ∀ p : Nat → Int32, (∀ i, i < n → p i = nI (mb_g wt i)) → post (nI n, fw, fi, fo, fi, fo, sz, ns, cl, cs, ex, bv, bt, a1, a2, p, a4, a5, a6, a7, a8, a9, a10, a11, a12, a13, a14, a15, a16, a17)) : wpX_takeWeights post (nI n, fw, fi, fo, mi, mo, sz, ns, cl, cs, ex, bv, bt, a1, a2, a3, a4, a5, a6, a7, a8, a9, a10, a11, a12, a13, a14, a15, a16, a17) := by
  refine pk_loop (fun fu i s => wX_takeWeights_2 post (nI n) fw fi fo mi mo sz ns cl cs ex bv bt fu (nI i) a1 a2 s a4 a5 a6 a7 a8 a9 a10 a11 a12 a13 a14 a15 a16 a17) (fun i s => ∀ j, j < i → s j = nI (mb_g wt j)) n 0 a3 (by omega) (fun j hj => absurd hj (by omega)) ?_ ?_
  · intro fu s hs
    exact pk_le n n (fun _ => H s hs) (fun z => absurd z (by omega))
  · intro fu i s hi hs hw
    have e : (nI i).toNatClampNeg = i := nI_clamp (by omega)
    have i12 : vp_in (nI i) 12 := pk_in i 12 (by omega)
    have ev : (4096 * (a2 (nI i).toNatClampNeg)) + ((1 : Int32) <<< (nI i &&& 31)) = nI (mb_g wt i) := by
      rw [e, h2 i hi, mb_t13 i (by omega), show (4096 : Int32) = nI 4096 from rfl, pk_mul, nI_add]
      rfl
    refine pk_le n i (fun z => absurd z (by omega)) (fun _ => ⟨i12, i12, nm_r (e' := upd s i (nI (mb_g wt i))) (by rw [ev, e]) (nm_r (nI_1 i) (hw _ ?_))⟩)
    intro j hj
    by_cases ej : j = i
    · subst ej
      exact pk_us
    · rw [pk_un ej]
      exact hs j (by omega)
theorem mb_wo {post : Int32 → Prop} {n y : Nat} {wt : Nat → Nat} (hn : n ≤ 12) (hy : y < 13) (h2 : ∀ i, i < n → a2 i = nI (wt i)) (H : post (nI (mb_sm wt y n))) : wpX_weightOf post (nI n, fw, fi, fo, mi, mo, sz, ns, cl, cs, ex, bv, bt, a1, a2, a3, a4, a5, a6, a7, a8, a9, a10, a11, a12, a13, a14, a15, a16, a17) (mb_tk n y) := by
  refine pk_loop (σ := Unit) (fun fu i _ => wX_weightOf_4 post (mb_tk n y) (nI n) fw fi fo mi mo sz ns cl cs ex bv bt a1 a2 a3 a4 a5 a6 a7 a8 a9 a10 a11 a12 a13 a14 a15 a16 a17 fu (nI (mb_sm wt y i)) (nI i)) (fun _ _ => True) n 0 () (by omega) trivial ?_ ?_
  · intro fu _ _
    exact pk_le n n (fun _ => H) (fun z => absurd z (by omega))
  · intro fu i _ hi _ hw
    have e : (nI i).toNatClampNeg = i := nI_clamp (by omega)
    have T := mb_t12 n (by omega) y hy i hi
    refine pk_le n i (fun z => absurd z (by omega)) (fun _ => ?_)
    by_cases ey : i = y
    · exact br_f (fun z => T.mp z ey) (nm_r (e' := nI (mb_sm wt y (i + 1))) (by rw [mb_sm_eq ey]; exact Int32.add_zero _) (nm_r (nI_1 i) (hw () trivial)))
    · exact br_t (T.mpr ey) ⟨pk_in i 12 (by omega), nm_r (e' := nI (mb_sm wt y (i + 1))) (by rw [e, h2 i hi, nI_add, mb_sm_ne ey]) (nm_r (nI_1 i) (hw () trivial))⟩
theorem mb_best {post : Int32 → St2 → Prop} {n a b w : Nat} {wt : Nat → Nat} (hn : n ≤ 12) (hn2 : 2 ≤ n) (hab : a < b) (hbn : b < n ∨ n ≤ a) (hw : w ≤ 16) (h1 : 1 ≤ w)
    (hj : ∀ i, i < n → a1 i = mb_jn a b i) (h2 : ∀ i, i < n → a2 i = nI (wt i)) (h30 : ∀ i, wt i ≤ 30)
    (H : ∀ (mi mo sz ns cl cs ex bv bt : Int32) (a3 a4 a5 a6 a7 a8 a9 a10 a11 a12 a13 a14 a15 a16 : Nat → Int32) (y : Nat), y < 13 → mb_good n a b (mb_g wt) y → post (nI (mb_sm wt y n)) (nI n, nI w, 0, 0, mi, mo, sz, ns, cl, cs, ex, bv, bt, a1, a2, a3, a4, a5, a6, a7, a8, a9, a10, a11, a12, a13, a14, a15, a16, a17)) :
    wpX_best post (nI n, nI w, 0, 0, mi, mo, sz, ns, cl, cs, ex, bv, bt, a1, a2, a3, a4, a5, a6, a7, a8, a9, a10, a11, a12, a13, a14, a15, a16, a17) := by
  refine mb_tw hn h2 (fun p hp => mb_solve (a := a) (b := b) (g := mb_g wt) ⟨hn, hn2, hab, hbn, hj, hp, mb_g_ok h30⟩ hw h1 (fun sz ns cl cs ex bv bt a4 a5 a6 a7 a8 a9 a10 a11 a12 a13 a14 a15 a16 hb => ?_))
  obtain ⟨y, hy, hg, rfl, rfl⟩ := hb
  exact br_t (nI_pos' (mb_sm_31 (mb_g_ok h30) hn)) (mb_wo hn hy h2 (H _ _ _ _ _ _ _ _ _ _ _ _ _ _ _ _ _ _ _ _ _ _ _ y hy hg))
end BEST
end
section
/-! allowedSets -/
section COUNT
variable {fn fw fi fo mi mo sz ns cl cs ex bv bt : Int32} {a1 a2 a3 a4 a5 a6 a7 a8 a9 a10 a11 a12 a13 a14 a15 a16 a17 : Nat → Int32}
def mb_lc (n v m : Nat) (c : Nat → Nat) (W : Nat) (p q : Nat → Int32) : Prop := ∀ j, j < m → p j = mb_op n v (c j) ∧ q j = nI W
theorem mb_rc_new {post : St2 → Prop} {x1 x2 : Int32} {k : Nat} (hk : k < 64) (h : ∀ j, j < k → ¬ a7 j = x1) (H : post (fn, fw, fi, fo, mi, mo, sz, nI (k + 1), cl, cs, ex, bv, bt, a1, a2, a3, a4, a5, a6, upd a7 k x1, upd a8 k x2, a9, a10, a11, a12, a13, a14, a15, a16, a17)) : wpX_reachCount post (fn, fw, fi, fo, mi, mo, sz, nI k, cl, cs, ex, bv, bt, a1, a2, a3, a4, a5, a6, a7, a8, a9, a10, a11, a12, a13, a14, a15, a16, a17) x1 x2 := by
  have e : (nI k).toNatClampNeg = k := nI_clamp (by omega)
  refine pk_loop (σ := Unit) (fun fu i _ => wX_reachCount_2 post x1 x2 fn fw fi fo mi mo sz (nI k) cl cs ex bv bt a1 a2 a3 a4 a5 a6 a7 a8 a9 a10 a11 a12 a13 a14 a15 a16 a17 fu (nI i)) (fun _ _ => True) k 0 () (by omega) trivial ?_ ?_
  · intro fu _ _
    refine pk_le k k (fun _ => pk_le 64 k (fun z => absurd z (by omega)) (fun _ => ⟨pk_in k 64 hk, ?_⟩)) (fun z => absurd z (by omega))
    exact nm_r (e' := upd a7 k x1) (by rw [e]) ⟨pk_in k 64 hk, nm_r (e' := upd a8 k x2) (by rw [e]) (nm_r (nI_1 k) H)⟩
  · intro fu i _ hi _ hw
    refine pk_le k i (fun z => absurd z (by omega)) (fun _ => ⟨pk_in i 64 (by omega), br_f ?_ (nm_r (nI_1 i) (hw () trivial))⟩)
    rw [nI_clamp (by omega)]
    exact h i hi
theorem mb_rc_hit {post : St2 → Prop} {x1 x2 : Int32} {k j : Nat} (hk : k ≤ 64) (hj : j < k) (h : ∀ i, i < j → ¬ a7 i = x1) (e1 : a7 j = x1) (H : post (fn, fw, fi, fo, mi, mo, sz, nI k, cl, cs, ex, bv, bt, a1, a2, a3, a4, a5, a6, a7, upd a8 j (a8 j + x2), a9, a10, a11, a12, a13, a14, a15, a16, a17)) : wpX_reachCount post (fn, fw, fi, fo, mi, mo, sz, nI k, cl, cs, ex, bv, bt, a1, a2, a3, a4, a5, a6, a7, a8, a9, a10, a11, a12, a13, a14, a15, a16, a17) x1 x2 := by
  have e : (nI j).toNatClampNeg = j := nI_clamp (by omega)
  refine pk_loop (σ := Unit) (fun fu i _ => wX_reachCount_2 post x1 x2 fn fw fi fo mi mo sz (nI k) cl cs ex bv bt a1 a2 a3 a4 a5 a6 a7 a8 a9 a10 a11 a12 a13 a14 a15 a16 a17 fu (nI i)) (fun _ _ => True) j 0 () (by omega) trivial ?_ ?_
  · intro fu _ _
    exact pk_le k j (fun z => absurd z (by omega)) (fun _ => ⟨pk_in j 64 (by omega), br_t (by rw [e]; exact e1) ⟨pk_in j 64 (by omega), pk_in j 64 (by omega), nm_r (e' := upd a8 j (a8 j + x2)) (by rw [e]) H⟩⟩)
  · intro fu i _ hi _ hw
    refine pk_le k i (fun z => absurd z (by omega)) (fun _ => ⟨pk_in i 64 (by omega), br_f ?_ (nm_r (nI_1 i) (hw () trivial))⟩)
    rw [nI_clamp (by omega)]
    exact h i hi
theorem mb_k33_skip {post : St2 → Prop} {i v : Nat} {x3 : Int32} (hi : i < 64) (h : a4 i &&& x3 = 0) (H : post (fn, fw, fi, fo, mi, mo, sz, ns, cl, cs, ex, bv, bt, a1, a2, a3, a4, a5, a6, a7, a8, a9, a10, a11, a12, a13, a14, a15, a16, a17)) : wX_countNode_33 post (nI i) (nI v) x3 fn fw fi fo mi mo sz ns cl cs ex bv bt a1 a2 a3 a4 a5 a6 a7 a8 a9 a10 a11 a12 a13 a14 a15 a16 a17 := by
  have e : (nI i).toNatClampNeg = i := nI_clamp (by omega)
  exact ⟨pk_in i 64 hi, br_t (by rw [e]; exact h) H⟩
theorem mb_k33_take {post : St2 → Prop} {i v : Nat} {x3 y1 y2 : Int32} (hi : i < 64) (hv : v < 12) (h : ¬ a4 i &&& x3 = 0)
    (e1 : (a4 i &&& (x3 ^^^ (-1))) &&& (a1 v ^^^ (-1)) = y1) (e2 : a5 i = y2)
    (H : ∀ Q : St2 → Prop, (∀ u, post u → Q u) → wpX_reachCount Q (fn, fw, fi, fo, mi, 0, sz, ns, cl, cs, ex, bv, bt, a1, a2, a3, a4, a5, a6, a7, a8, a9, a10, a11, a12, a13, a14, a15, a16, a17) y1 y2) : wX_countNode_33 post (nI i) (nI v) x3 fn fw fi fo mi 0 sz ns cl cs ex bv bt a1 a2 a3 a4 a5 a6 a7 a8 a9 a10 a11 a12 a13 a14 a15 a16 a17 := by
  have e : (nI i).toNatClampNeg = i := nI_clamp (by omega)
  have ev : (nI v).toNatClampNeg = v := nI_clamp (by omega)
  have i64 : vp_in (nI i) 64 := pk_in i 64 hi
  have i12 : vp_in (nI v) 12 := pk_in v 12 hv
  subst e1 e2
  unfold wX_countNode_33
  rw [e, ev]
  refine ⟨i64, br_f h (br_t (mb_z0 _) ⟨i64, i12, i64, H _ ?_⟩)⟩
  rintro ⟨b1, b2, b3, b4, b5, b6, b7, b8, b9, b10, b11, b12, b13, c1, c2, c3, c4, c5, c6, c7, c8, c9, c10, c11, c12, c13, c14, c15, c16, c17⟩ hu
  exact hu
theorem mb_k_first {post : St2 → Prop} {i v k : Nat} {y1 y2 : Int32} (hi : i < 64) (hk : k < 64)
    (e1 : a4 i &&& (mb_bit v ^^^ (-1)) = y1) (e2 : a5 i = y2) (h : ∀ j, j < k → ¬ a7 j = y1)
    (H : wX_countNode_33 post (nI i) (nI v) (mb_bit v) fn fw fi fo 0 mo sz (nI (k + 1)) cl cs ex bv bt a1 a2 a3 a4 a5 a6 (upd a7 k y1) (upd a8 k y2) a9 a10 a11 a12 a13 a14 a15 a16 a17) : wpX_countNode post (fn, fw, fi, fo, 0, mo, sz, nI k, cl, cs, ex, bv, bt, a1, a2, a3, a4, a5, a6, a7, a8, a9, a10, a11, a12, a13, a14, a15, a16, a17) (nI i) (nI v) := by
  have e : (nI i).toNatClampNeg = i := nI_clamp (by omega)
  have i64 : vp_in (nI i) 64 := pk_in i 64 hi
  subst e1 e2
  unfold wpX_countNode
  rw [e]
  exact nm_e (br_t (mb_z0 _) ⟨i64, i64, mb_rc_new hk h H⟩)
theorem mb_k_plain {post : St2 → Prop} {n a b v m k W : Nat} {c : Nat → Nat} (hn : n ≤ 12) (h1 : ∀ i, i < n → a1 i = mb_jn a b i) (hv : v < n) (hm : m ≤ 64) (hk : k < m)
    (hc : ∀ j, j < m → c j < 13 ∧ c j ≠ v) (hl : mb_lc n v m c W a4 a5) (hx : mb_lc n (v + 1) k c (2 * W) a7 a8) (ho : mb_ok n a b (c k) v)
    (hd : ∀ j, j < k → ¬ mb_op n (v + 1) (c j) = mb_op n (v + 1) (c k))
    (H : ∀ p q : Nat → Int32, mb_lc n (v + 1) (k + 1) c (2 * W) p q → post (nI n, fw, fi, fo, 0, 0, sz, nI (k + 1), cl, cs, ex, bv, bt, a1, a2, a3, a4, a5, a6, p, q, a9, a10, a11, a12, a13, a14, a15, a16, a17)) :
    wpX_countNode post (nI n, fw, fi, fo, 0, 0, sz, nI k, cl, cs, ex, bv, bt, a1, a2, a3, a4, a5, a6, a7, a8, a9, a10, a11, a12, a13, a14, a15, a16, a17) (nI k) (nI v) := by
  obtain ⟨l1, l2⟩ := hl k hk
  obtain ⟨c13, cv⟩ := hc k hk
  have N : ∀ j, j < k → ¬ a7 j = mb_op n (v + 1) (c k) := fun j hj => by
    rw [(hx j hj).1]
    exact hd j hj
  refine mb_k_first (y1 := mb_op n (v + 1) (c k)) (by omega) (by omega) (by rw [l1]; exact mb_t1 n (by omega) v hv (c k) c13) l2 N ?_
  refine mb_k33_take (by omega) (by omega) (by rw [l1]; exact mb_t2 n (by omega) v hv (c k) c13 cv) (y1 := mb_op n (v + 1) (c k)) (y2 := nI W) ?_ l2 ?_
  · rw [l1, mb_t1 n (by omega) v hv (c k) c13, h1 v hv]
    exact ho
  · intro Q hQ
    refine mb_rc_hit (by omega) (Nat.lt_succ_self k) (fun j hj => ?_) pk_us (hQ _ (H _ _ ?_))
    · rw [pk_un (by omega)]
      exact N j hj
    · intro j hj
      by_cases e : j = k
      · subst e
        refine ⟨pk_us, ?_⟩
        rw [pk_us, pk_us, nI_add, Nat.two_mul]
      · rw [pk_un e, pk_un e, pk_un e]
        exact hx j (by omega)
theorem mb_k_split {post : St2 → Prop} {n a b W : Nat} (hn : n ≤ 12) (hab : a < b) (hb : b < n) (h1 : ∀ i, i < n → a1 i = mb_jn a b i) (hl : mb_lc n a 1 (fun _ => 12) W a4 a5)
    (H : ∀ p q : Nat → Int32, mb_lc n (a + 1) 2 (mb_ab a b) W p q → post (nI n, fw, fi, fo, 0, 0, sz, nI 2, cl, cs, ex, bv, bt, a1, a2, a3, a4, a5, a6, p, q, a9, a10, a11, a12, a13, a14, a15, a16, a17)) :
    wpX_countNode post (nI n, fw, fi, fo, 0, 0, sz, nI 0, cl, cs, ex, bv, bt, a1, a2, a3, a4, a5, a6, a7, a8, a9, a10, a11, a12, a13, a14, a15, a16, a17) (nI 0) (nI a) := by
  obtain ⟨l1, l2⟩ := hl 0 (by omega)
  dsimp only at l1
  have T1 := mb_t1 n (by omega) a (by omega) 12 (by omega)
  have ja : a1 a = mb_bit b := by
    rw [h1 a (by omega)]
    unfold mb_jn
    rw [if_pos rfl]
  refine mb_k_first (y1 := mb_op n (a + 1) 12) (by omega) (by omega) (by rw [l1]; exact T1) l2 (fun j hj => absurd hj (by omega)) ?_
  refine mb_k33_take (by omega) (by omega) (by rw [l1]; exact mb_t2 n (by omega) a (by omega) 12 (by omega) (by omega)) (y1 := mb_op n (a + 1) b) (y2 := nI W) ?_ l2 ?_
  · rw [l1, T1, ja]
    exact mb_t6 n (by omega) b hb a hab
  · intro Q hQ
    refine mb_rc_new (k := 1) (by omega) (fun j hj => ?_) (hQ _ (H _ _ ?_))
    · have ej : j = 0 := by omega
      subst ej
      rw [pk_us]
      exact mb_t9 n (by omega) b hb (a + 1) (by omega) (by omega)
    · intro j hj
      by_cases e : j = 0
      · subst e
        rw [pk_un (by omega), pk_us, pk_un (by omega), pk_us, mb_ab0]
        exact ⟨(mb_t7 n (by omega) (a + 1) (by omega) a (by omega)).symm, rfl⟩
      · have ej : j = 1 := by omega
        subst ej
        rw [pk_us, pk_us, mb_ab1]
        exact ⟨rfl, rfl⟩
theorem mb_k_join {post : St2 → Prop} {n a b W : Nat} (hn : n ≤ 12) (hab : a < b) (hb : b < n) (hl : mb_lc n b 2 (mb_ab a b) W a4 a5) (hx : mb_lc n (b + 1) 1 (mb_ab a b) (2 * W) a7 a8)
    (H : ∀ p q : Nat → Int32, mb_lc n (b + 1) 1 (fun _ => 12) (3 * W) p q → post (nI n, fw, fi, fo, 0, 0, sz, nI 1, cl, cs, ex, bv, bt, a1, a2, a3, a4, a5, a6, p, q, a9, a10, a11, a12, a13, a14, a15, a16, a17)) :
    wpX_countNode post (nI n, fw, fi, fo, 0, 0, sz, nI 1, cl, cs, ex, bv, bt, a1, a2, a3, a4, a5, a6, a7, a8, a9, a10, a11, a12, a13, a14, a15, a16, a17) (nI 1) (nI b) := by
  obtain ⟨l1, l2⟩ := hl 1 (by omega)
  obtain ⟨x1, x2⟩ := hx 0 (by omega)
  rw [mb_ab1] at l1
  rw [mb_ab0] at x1
  have e : (nI 1).toNatClampNeg = 1 := nI_clamp (by omega)
  have i64 : vp_in (nI 1) 64 := pk_in 1 64 (by omega)
  have eO : a7 0 = a4 1 &&& (mb_bit b ^^^ (-1)) := by
    rw [x1, l1, mb_t1 n (by omega) b hb b (by omega), mb_t7 n (by omega) (b + 1) (by omega) a (by omega), mb_t7 n (by omega) (b + 1) (by omega) b (by omega)]
  unfold wpX_countNode
  rw [e]
  refine nm_e (br_t (mb_z0 _) ⟨i64, i64, mb_rc_hit (j := 0) (by omega) (by omega) (fun j hj => absurd hj (by omega)) eO (mb_k33_skip (by omega) (by rw [l1]; exact mb_t3 n (by omega) b hb) (H _ _ ?_))⟩)
  intro j hj
  have ej : j = 0 := by omega
  subst ej
  rw [pk_us, x1, x2, l2, nI_add, mb_t7 n (by omega) (b + 1) (by omega) a (by omega)]
  exact ⟨rfl, by rw [show 2 * W + W = 3 * W by omega]⟩
theorem mb_a35_out {post : Int32 → St2 → Prop} {J20 : Int32 → Int32 → Int32 → Int32 → Int32 → Int32 → Int32 → Int32 → Int32 → Int32 → Int32 → Int32 → Int32 → Int32 → (Nat → Int32) → (Nat → Int32) → (Nat → Int32) → (Nat → Int32) → (Nat → Int32) → (Nat → Int32) → (Nat → Int32) → (Nat → Int32) → (Nat → Int32) → (Nat → Int32) → (Nat → Int32) → (Nat → Int32) → (Nat → Int32) → (Nat → Int32) → (Nat → Int32) → (Nat → Int32) → (Nat → Int32) → Prop} {v m k fu : Nat} (hm : m < 2 ^ 31) (hk : k ≤ 64)
    (H : ∀ p q r : Nat → Int32, (∀ j, j < k → p j = a7 j ∧ q j = a8 j ∧ r j = a9 j) → J20 (nI (v + 1)) fn fw fi fo mi mo (nI k) (nI k) cl cs ex bv bt a1 a2 a3 p q r a7 a8 a9 a10 a11 a12 a13 a14 a15 a16 a17) :
    wX_allowedSets_35 post J20 (nI v) (fu + 1) (nI m) fn fw fi fo mi mo (nI m) (nI k) cl cs ex bv bt a1 a2 a3 a4 a5 a6 a7 a8 a9 a10 a11 a12 a13 a14 a15 a16 a17 :=
  pk_le m m (fun _ => mb_tl hk (fun p q r h => nm_r (nI_1 v) (H p q r h))) (fun z => absurd z (by omega))
theorem mb_lc_cp {n v m W : Nat} {c : Nat → Nat} {p q p' q' r r' : Nat → Int32} (h : mb_lc n v m c W p q) (e : ∀ j, j < m → p' j = p j ∧ q' j = q j ∧ r' j = r j) : mb_lc n v m c W p' q' := by
  intro j hj
  obtain ⟨e1, e2, _⟩ := e j hj
  rw [e1, e2]
  exact h j hj
theorem mb_a35_plain {post : Int32 → St2 → Prop} {J20 : Int32 → Int32 → Int32 → Int32 → Int32 → Int32 → Int32 → Int32 → Int32 → Int32 → Int32 → Int32 → Int32 → Int32 → (Nat → Int32) → (Nat → Int32) → (Nat → Int32) → (Nat → Int32) → (Nat → Int32) → (Nat → Int32) → (Nat → Int32) → (Nat → Int32) → (Nat → Int32) → (Nat → Int32) → (Nat → Int32) → (Nat → Int32) → (Nat → Int32) → (Nat → Int32) → (Nat → Int32) → (Nat → Int32) → (Nat → Int32) → Prop} {n a b v m W : Nat} {c : Nat → Nat} (hn : n ≤ 12) (h1 : ∀ i, i < n → a1 i = mb_jn a b i) (hv : v < n) (hm : m ≤ 64) (hc : ∀ j, j < m → c j < 13 ∧ c j ≠ v)
    (hl : mb_lc n v m c W a4 a5) (ho : ∀ j, j < m → mb_ok n a b (c j) v) (hd : ∀ k, k < m → ∀ j, j < k → ¬ mb_op n (v + 1) (c j) = mb_op n (v + 1) (c k))
    (H : ∀ p q r p' q' : Nat → Int32, mb_lc n (v + 1) m c (2 * W) p q → J20 (nI (v + 1)) (nI n) fw fi fo 0 0 (nI m) (nI m) cl cs ex bv bt a1 a2 a3 p q r p' q' a9 a10 a11 a12 a13 a14 a15 a16 a17) :
    ∃ fu, wX_allowedSets_35 post J20 (nI v) fu 0 (nI n) fw fi fo 0 0 (nI m) 0 cl cs ex bv bt a1 a2 a3 a4 a5 a6 a7 a8 a9 a10 a11 a12 a13 a14 a15 a16 a17 := by
  refine pk_loop (σ := (Nat → Int32) × (Nat → Int32)) (fun fu i s => wX_allowedSets_35 post J20 (nI v) fu (nI i) (nI n) fw fi fo 0 0 (nI m) (nI i) cl cs ex bv bt a1 a2 a3 a4 a5 a6 s.1 s.2 a9 a10 a11 a12 a13 a14 a15 a16 a17) (fun i s => mb_lc n (v + 1) i c (2 * W) s.1 s.2) m 0 (a7, a8) (by omega) (fun j hj => absurd hj (by omega)) ?_ ?_
  · intro fu s hs
    exact mb_a35_out (by omega) hm (fun p q r h => H p q r _ _ (mb_lc_cp hs h))
  · intro fu i s hi hs hW
    exact pk_le m i (fun z => absurd z (by omega)) (fun _ => mb_k_plain hn h1 hv hm hi hc hl hs (ho i hi) (hd i hi) (fun p q h => nm_r (nI_1 i) (hW (p, q) h)))
theorem mb_a35_split {post : Int32 → St2 → Prop} {J20 : Int32 → Int32 → Int32 → Int32 → Int32 → Int32 → Int32 → Int32 → Int32 → Int32 → Int32 → Int32 → Int32 → Int32 → (Nat → Int32) → (Nat → Int32) → (Nat → Int32) → (Nat → Int32) → (Nat → Int32) → (Nat → Int32) → (Nat → Int32) → (Nat → Int32) → (Nat → Int32) → (Nat → Int32) → (Nat → Int32) → (Nat → Int32) → (Nat → Int32) → (Nat → Int32) → (Nat → Int32) → (Nat → Int32) → (Nat → Int32) → Prop} {n a b W : Nat} (hn : n ≤ 12) (hab : a < b) (hb : b < n) (h1 : ∀ i, i < n → a1 i = mb_jn a b i) (hl : mb_lc n a 1 (fun _ => 12) W a4 a5)
    (H : ∀ p q r p' q' : Nat → Int32, mb_lc n (a + 1) 2 (mb_ab a b) W p q → J20 (nI (a + 1)) (nI n) fw fi fo 0 0 (nI 2) (nI 2) cl cs ex bv bt a1 a2 a3 p q r p' q' a9 a10 a11 a12 a13 a14 a15 a16 a17) :
    ∃ fu, wX_allowedSets_35 post J20 (nI a) fu 0 (nI n) fw fi fo 0 0 (nI 1) 0 cl cs ex bv bt a1 a2 a3 a4 a5 a6 a7 a8 a9 a10 a11 a12 a13 a14 a15 a16 a17 :=
  ⟨2, pk_le 1 0 (fun z => absurd z (by omega)) (fun _ => mb_k_split hn hab hb h1 hl (fun p q h => nm_r (nI_1 0) (mb_a35_out (by omega) (by omega) (fun p' q' r' e => H p' q' r' _ _ (mb_lc_cp h e)))))⟩
theorem mb_a35_join {post : Int32 → St2 → Prop} {J20 : Int32 → Int32 → Int32 → Int32 → Int32 → Int32 → Int32 → Int32 → Int32 → Int32 → Int32 → Int32 → Int32 → Int32 → (Nat → Int32) → (Nat → Int32) → (Nat → Int32) → (Nat → Int32) → (Nat → Int32) → (Nat → Int32) → (Nat → Int32) → (Nat → Int32) → (Nat → Int32) → (Nat → Int32) → (Nat → Int32) → (Nat → Int32) → (Nat → Int32) → (Nat → Int32) → (Nat → Int32) → (Nat → Int32) → (Nat → Int32) → Prop} {n a b W : Nat} (hn : n ≤ 12) (hab : a < b) (hb : b < n) (h1 : ∀ i, i < n → a1 i = mb_jn a b i) (hl : mb_lc n b 2 (mb_ab a b) W a4 a5)
    (H : ∀ p q r p' q' : Nat → Int32, mb_lc n (b + 1) 1 (fun _ => 12) (3 * W) p q → J20 (nI (b + 1)) (nI n) fw fi fo 0 0 (nI 1) (nI 1) cl cs ex bv bt a1 a2 a3 p q r p' q' a9 a10 a11 a12 a13 a14 a15 a16 a17) :
    ∃ fu, wX_allowedSets_35 post J20 (nI b) fu 0 (nI n) fw fi fo 0 0 (nI 2) 0 cl cs ex bv bt a1 a2 a3 a4 a5 a6 a7 a8 a9 a10 a11 a12 a13 a14 a15 a16 a17 := by
  have hl0 : mb_lc n b 1 (mb_ab a b) W a4 a5 := fun j hj => hl j (by omega)
  exact ⟨3, pk_le 2 0 (fun z => absurd z (by omega)) (fun _ => mb_k_plain (m := 1) (k := 0) hn h1 hb (by omega) (by omega) (fun j hj => by rw [show j = 0 by omega, mb_ab0]; omega) hl0 (fun j hj => absurd hj (by omega)) (mb_ok_of hn hab (Or.inl hb) hb (by rw [mb_ab0]; omega) (by omega)) (fun j hj => absurd hj (by omega))
    (fun p q h => nm_r (nI_1 0) (pk_le 2 1 (fun z => absurd z (by omega)) (fun _ => mb_k_join hn hab hb hl h (fun p q h => nm_r (nI_1 1) (mb_a35_out (by omega) (by omega) (fun p' q' r' e => H p' q' r' _ _ (mb_lc_cp h e))))))))⟩
theorem mb_a20_go {post : Int32 → St2 → Prop} {n v fu : Nat} (hn : n < 2 ^ 31) (hv : v < n) (H : ∃ f, wX_allowedSets_35 post (wX_allowedSets_20 post fu) (nI v) f 0 (nI n) fw fi fo mi mo sz 0 cl cs ex bv bt a1 a2 a3 a4 a5 a6 a7 a8 a9 a10 a11 a12 a13 a14 a15 a16 a17) : wX_allowedSets_20 post (fu + 1) (nI v) (nI n) fw fi fo mi mo sz ns cl cs ex bv bt a1 a2 a3 a4 a5 a6 a7 a8 a9 a10 a11 a12 a13 a14 a15 a16 a17 :=
  pk_le n v (fun y => absurd y (by omega)) (fun _ => H)
theorem mb_a20_end {post : Int32 → St2 → Prop} {n fu : Nat} {R : Int32} (hn : n < 2 ^ 31) (hf : n - n < fu) (h5 : a5 0 = R) (H : post R (nI n, fw, fi, fo, mi, mo, nI 1, ns, cl, cs, ex, bv, bt, a1, a2, a3, a4, a5, a6, a7, a8, a9, a10, a11, a12, a13, a14, a15, a16, a17)) : wX_allowedSets_20 post fu (nI n) (nI n) fw fi fo mi mo (nI 1) ns cl cs ex bv bt a1 a2 a3 a4 a5 a6 a7 a8 a9 a10 a11 a12 a13 a14 a15 a16 a17 := by
  obtain ⟨f, rfl⟩ : ∃ f, fu = f + 1 := ⟨fu - 1, by omega⟩
  have E : wX_allowedSets_69 post (nI n) fw fi fo mi mo (nI 1) ns cl cs ex bv bt a1 a2 a3 a4 a5 a6 a7 a8 a9 a10 a11 a12 a13 a14 a15 a16 a17 1 R (nI 1) := pk_le 1 1 (fun _ => H) (fun z => absurd z (by omega))
  exact pk_le n n (fun _ => ⟨2, pk_le 1 0 (fun z => absurd z (by omega)) (fun _ => ⟨pk_in 0 64 (by omega), nm_r (e' := R) (by rw [mb_c0, h5]; exact Int32.zero_add _) (nm_r (nI_1 0) E)⟩)⟩) (fun y => absurd y (by omega))
theorem mb_A_plain {post : Int32 → St2 → Prop} {n a b v0 e m : Nat} {c Wf : Nat → Nat} (hn : n ≤ 12) (h1 : ∀ i, i < n → a1 i = mb_jn a b i) (he : e ≤ n) (hm : m ≤ 64)
    (hc : ∀ i, v0 ≤ i → i < e → ∀ j, j < m → c j < 13 ∧ c j ≠ i) (ho : ∀ i, v0 ≤ i → i < e → ∀ j, j < m → mb_ok n a b (c j) i)
    (hd : ∀ i, v0 ≤ i → i < e → ∀ k, k < m → ∀ j, j < k → ¬ mb_op n (i + 1) (c j) = mb_op n (i + 1) (c k))
    (hW : ∀ i, v0 ≤ i → i < e → Wf (i + 1) = 2 * Wf i)
    (hE : ∀ (fu : Nat) (ns : Int32) (a4 a5 a6 a7 a8 : Nat → Int32), n - e < fu → mb_lc n e m c (Wf e) a4 a5 → wX_allowedSets_20 post fu (nI e) (nI n) fw fi fo 0 0 (nI m) ns cl cs ex bv bt a1 a2 a3 a4 a5 a6 a7 a8 a9 a10 a11 a12 a13 a14 a15 a16 a17) :
    ∀ (d v fu : Nat) (ns : Int32) (a4 a5 a6 a7 a8 : Nat → Int32), v + d = e → v0 ≤ v → n - v < fu → mb_lc n v m c (Wf v) a4 a5 → wX_allowedSets_20 post fu (nI v) (nI n) fw fi fo 0 0 (nI m) ns cl cs ex bv bt a1 a2 a3 a4 a5 a6 a7 a8 a9 a10 a11 a12 a13 a14 a15 a16 a17 := by
  intro d
  induction d with
  | zero =>
    intro v fu ns a4 a5 a6 a7 a8 hv _ hf hl
    have ev : v = e := by omega
    rw [ev] at hl hf
    rw [ev]
    exact hE fu ns a4 a5 a6 a7 a8 hf hl
  | succ d ih =>
    intro v fu ns a4 a5 a6 a7 a8 hv h0 hf hl
    obtain ⟨f, rfl⟩ : ∃ f, fu = f + 1 := ⟨fu - 1, by omega⟩
    refine mb_a20_go (by omega) (by omega) (mb_a35_plain hn h1 (by omega) hm (hc v h0 (by omega)) hl (ho v h0 (by omega)) (hd v h0 (by omega)) (fun p q r p' q' h => ih (v + 1) f _ p q r p' q' (by omega) (by omega) (by omega) ?_))
    rw [hW v h0 (by omega)]
    exact h
theorem mb_allowed0 {post : Int32 → St2 → Prop} {n a b : Nat} (hn : n ≤ 12) (hna : n ≤ a) (hab : a < b) (h1 : ∀ i, i < n → a1 i = mb_jn a b i) (hl : mb_lc n 0 1 (fun _ => 12) 1 a4 a5)
    (H : ∀ (ns : Int32) (a4 a5 a6 a7 a8 : Nat → Int32), post (nI (2 ^ n)) (nI n, fw, fi, fo, 0, 0, nI 1, ns, cl, cs, ex, bv, bt, a1, a2, a3, a4, a5, a6, a7, a8, a9, a10, a11, a12, a13, a14, a15, a16, a17)) : ∃ fu, wX_allowedSets_20 post fu 0 (nI n) fw fi fo 0 0 (nI 1) ns cl cs ex bv bt a1 a2 a3 a4 a5 a6 a7 a8 a9 a10 a11 a12 a13 a14 a15 a16 a17 := by
  refine ⟨n + 1, mb_A_plain (v0 := 0) (e := n) (m := 1) (c := fun _ => 12) (Wf := fun i => 2 ^ i) hn h1 (Nat.le_refl n) (by omega) (fun i _ hi _ _ => ⟨by omega, by omega⟩) (fun i _ hi _ _ => mb_ok_of hn hab (Or.inr hna) hi (by omega) (by omega)) (fun i _ _ k hk j hj => absurd hj (by omega)) (fun i _ _ => by rw [Nat.pow_succ]; omega) ?_ n 0 (n + 1) ns a4 a5 a6 a7 a8 (by omega) (Nat.le_refl 0) (by omega) hl⟩
  intro fu ns a4 a5 a6 a7 a8 hf hl
  exact mb_a20_end (by omega) hf (hl 0 (by omega)).2 (H ns a4 a5 a6 a7 a8)
theorem mb_pw1 {i : Nat} (h : 1 ≤ i) : 2 ^ (i + 1 - 1) = 2 * 2 ^ (i - 1) := by
  obtain ⟨k, rfl⟩ : ∃ k, i = k + 1 := ⟨i - 1, by omega⟩
  rw [show k + 1 + 1 - 1 = k + 1 by omega, show k + 1 - 1 = k by omega, Nat.pow_succ]
  omega
theorem mb_pw2 {i : Nat} (h : 2 ≤ i) : 3 * 2 ^ (i + 1 - 2) = 2 * (3 * 2 ^ (i - 2)) := by
  obtain ⟨k, rfl⟩ : ∃ k, i = k + 2 := ⟨i - 2, by omega⟩
  rw [show k + 2 + 1 - 2 = k + 1 by omega, show k + 2 - 2 = k by omega, Nat.pow_succ]
  omega
theorem mb_allowed1 {post : Int32 → St2 → Prop} {n a b : Nat} (hn : n ≤ 12) (hb : b < n) (hab : a < b) (h1 : ∀ i, i < n → a1 i = mb_jn a b i) (hl : mb_lc n 0 1 (fun _ => 12) 1 a4 a5)
    (H : ∀ (ns : Int32) (a4 a5 a6 a7 a8 : Nat → Int32), post (nI (3 * 2 ^ (n - 2))) (nI n, fw, fi, fo, 0, 0, nI 1, ns, cl, cs, ex, bv, bt, a1, a2, a3, a4, a5, a6, a7, a8, a9, a10, a11, a12, a13, a14, a15, a16, a17)) : ∃ fu, wX_allowedSets_20 post fu 0 (nI n) fw fi fo 0 0 (nI 1) ns cl cs ex bv bt a1 a2 a3 a4 a5 a6 a7 a8 a9 a10 a11 a12 a13 a14 a15 a16 a17 := by
  refine ⟨n + 1, mb_A_plain (v0 := 0) (e := a) (m := 1) (c := fun _ => 12) (Wf := fun i => 2 ^ i) hn h1 (by omega) (by omega) (fun i _ hi _ _ => ⟨by omega, by omega⟩) (fun i _ hi _ _ => mb_ok_of hn hab (Or.inl hb) (by omega) (by omega) (by omega)) (fun i _ _ k hk j hj => absurd hj (by omega)) (fun i _ _ => by rw [Nat.pow_succ]; omega) ?_ a 0 (n + 1) ns a4 a5 a6 a7 a8 (by omega) (Nat.le_refl 0) (by omega) hl⟩
  intro fu ns a4 a5 a6 a7 a8 hf hl
  obtain ⟨f, rfl⟩ : ∃ f, fu = f + 1 := ⟨fu - 1, by omega⟩
  refine mb_a20_go (by omega) (by omega) (mb_a35_split hn hab hb h1 hl (fun p q r p' q' h => ?_))
  refine mb_A_plain (v0 := a + 1) (e := b) (m := 2) (c := mb_ab a b) (Wf := fun i => 2 ^ (i - 1)) hn h1 (by omega) (by omega) (fun i h0 hi j hj => ⟨mb_ab13 hn hab hb j hj, ?_⟩) (fun i h0 hi j hj => mb_ok_of hn hab (Or.inl hb) (by omega) (mb_ab13 hn hab hb j hj) (by omega)) (fun i h0 hi => mb_ne_ab hn hb (by omega) (by omega)) (fun i h0 _ => mb_pw1 (by omega)) ?_ (b - (a + 1)) (a + 1) f _ p q r p' q' (by omega) (Nat.le_refl _) (by omega) h
  · unfold mb_ab
    by_cases e : j = 0
    · rw [if_pos e]; omega
    · rw [if_neg e]; omega
  intro fu ns a4 a5 a6 a7 a8 hf hl
  obtain ⟨f, rfl⟩ : ∃ f, fu = f + 1 := ⟨fu - 1, by omega⟩
  refine mb_a20_go (by omega) (by omega) (mb_a35_join hn hab hb h1 hl (fun p q r p' q' h => ?_))
  refine mb_A_plain (v0 := b + 1) (e := n) (m := 1) (c := fun _ => 12) (Wf := fun i => 3 * 2 ^ (i - 2)) hn h1 (Nat.le_refl n) (by omega) (fun i _ hi _ _ => ⟨by omega, by omega⟩) (fun i _ hi _ _ => mb_ok_of hn hab (Or.inl hb) hi (by omega) (by omega)) (fun i _ _ k hk j hj => absurd hj (by omega)) (fun i h0 _ => mb_pw2 (by omega)) ?_ (n - (b + 1)) (b + 1) f _ p q r p' q' (by omega) (Nat.le_refl _) (by omega) h
  intro fu ns a4 a5 a6 a7 a8 hf hl
  exact mb_a20_end (by omega) hf (hl 0 (by omega)).2 (H ns a4 a5 a6 a7 a8)
theorem mb_allowed {post : Int32 → St2 → Prop} {n a b : Nat} {wt : Nat → Nat} {R : Int32} (hn : n ≤ 12) (hab : a < b) (hR : (n ≤ a ∧ R = nI (2 ^ n)) ∨ (b < n ∧ R = nI (3 * 2 ^ (n - 2))))
    (hj : ∀ i, i < n → a1 i = mb_jn a b i) (h2 : ∀ i, i < n → a2 i = nI (wt i))
    (H : ∀ (sz ns : Int32) (a3 a4 a5 a6 a7 a8 : Nat → Int32), post R (nI n, fw, 0, 0, 0, 0, sz, ns, cl, cs, ex, bv, bt, a1, a2, a3, a4, a5, a6, a7, a8, a9, a10, a11, a12, a13, a14, a15, a16, a17)) : wpX_allowedSets post (nI n, fw, 0, 0, mi, mo, sz, ns, cl, cs, ex, bv, bt, a1, a2, a3, a4, a5, a6, a7, a8, a9, a10, a11, a12, a13, a14, a15, a16, a17) := by
  refine mb_tw hn h2 (fun p hp => ?_)
  refine mb_start ?_
  have hl : mb_lc n 0 1 (fun _ => 12) 1 (upd a4 0 (((1 : Int32) <<< (nI n &&& 31)) - 1)) (upd a5 0 1) := by
    intro j hj
    have ej : j = 0 := by omega
    subst ej
    rw [pk_us, pk_us, mb_t10 n (by omega)]
    exact ⟨rfl, rfl⟩
  rcases hR with ⟨hna, e⟩ | ⟨hb, e⟩
  · subst e
    exact mb_allowed0 hn hna hab hj hl (fun ns a4 a5 a6 a7 a8 => H _ ns p a4 a5 a6 a7 a8)
  · subst e
    exact mb_allowed1 hn hb hab hj hl (fun ns a4 a5 a6 a7 a8 => H _ ns p a4 a5 a6 a7 a8)
end COUNT
end
section
/-! the constructor, edge, weigh, neighbours -/
section FRONT
variable {fn fw fi fo mi mo sz ns cl cs ex bv bt : Int32} {a1 a2 a3 a4 a5 a6 a7 a8 a9 a10 a11 a12 a13 a14 a15 a16 a17 : Nat → Int32}
theorem mb_iv0 {post : Int32 → Prop} {p0 : Int32} (h : p0 < 0 ∨ fn ≤ p0) (H : post 0) : wpX_isVertex post (fn, fw, fi, fo, mi, mo, sz, ns, cl, cs, ex, bv, bt, a1, a2, a3, a4, a5, a6, a7, a8, a9, a10, a11, a12, a13, a14, a15, a16, a17) p0 := by
  by_cases h0 : p0 < 0
  · exact br_t h0 H
  · exact br_f h0 (br_t (h.resolve_left h0) H)
theorem mb_iv1 {post : Int32 → Prop} {n u : Nat} (hn : n ≤ 12) (hu : u < n) (H : post 1) : wpX_isVertex post (nI n, fw, fi, fo, mi, mo, sz, ns, cl, cs, ex, bv, bt, a1, a2, a3, a4, a5, a6, a7, a8, a9, a10, a11, a12, a13, a14, a15, a16, a17) (nI u) :=
  br_f (nI_pos (by omega)) (br_f (nI_ge hu (by omega)) H)
theorem mb_nb0 {post : Int32 → Prop} {p0 : Int32} (h : p0 < 0 ∨ fn ≤ p0) (H : post (-1)) : wpX_neighbours post (fn, fw, fi, fo, mi, mo, sz, ns, cl, cs, ex, bv, bt, a1, a2, a3, a4, a5, a6, a7, a8, a9, a10, a11, a12, a13, a14, a15, a16, a17) p0 := by
  unfold wpX_neighbours
  exact mb_iv0 h (br_t rfl H)
theorem mb_nb1 {post : Int32 → Prop} {n u : Nat} (hn : n ≤ 12) (hu : u < n) (H : post (a1 u)) : wpX_neighbours post (nI n, fw, fi, fo, mi, mo, sz, ns, cl, cs, ex, bv, bt, a1, a2, a3, a4, a5, a6, a7, a8, a9, a10, a11, a12, a13, a14, a15, a16, a17) (nI u) := by
  have e : (nI u).toNatClampNeg = u := nI_clamp (by omega)
  unfold wpX_neighbours
  exact mb_iv1 hn hu (br_f (by decide) ⟨pk_in u 12 (by omega), by rw [e]; exact H⟩)
theorem mb_wg0 {post : Int32 → St2 → Prop} {p0 p1 : Int32} (h : p0 < 0 ∨ fn ≤ p0) (H : post (-1) (fn, fw, fi, fo, mi, mo, sz, ns, cl, cs, ex, bv, bt, a1, a2, a3, a4, a5, a6, a7, a8, a9, a10, a11, a12, a13, a14, a15, a16, a17)) : wpX_weigh post (fn, fw, fi, fo, mi, mo, sz, ns, cl, cs, ex, bv, bt, a1, a2, a3, a4, a5, a6, a7, a8, a9, a10, a11, a12, a13, a14, a15, a16, a17) p0 p1 := by
  unfold wpX_weigh
  exact mb_iv0 h (br_t rfl H)
theorem mb_wg1 {post : Int32 → St2 → Prop} {n u : Nat} {p1 : Int32} (hn : n ≤ 12) (hu : u < n) (h : p1 < 0 ∨ ¬ p1 ≤ 30) (H : post (-2) (nI n, fw, fi, fo, mi, mo, sz, ns, cl, cs, ex, bv, bt, a1, a2, a3, a4, a5, a6, a7, a8, a9, a10, a11, a12, a13, a14, a15, a16, a17)) : wpX_weigh post (nI n, fw, fi, fo, mi, mo, sz, ns, cl, cs, ex, bv, bt, a1, a2, a3, a4, a5, a6, a7, a8, a9, a10, a11, a12, a13, a14, a15, a16, a17) (nI u) p1 := by
  unfold wpX_weigh
  refine mb_iv1 hn hu (br_f (by decide) ?_)
  by_cases h0 : p1 < 0
  · exact br_t h0 H
  · exact br_f h0 (br_f (h.resolve_left h0) H)
theorem mb_wg2 {post : Int32 → St2 → Prop} {n u : Nat} {p1 : Int32} (hn : n ≤ 12) (hu : u < n) (h : ¬ p1 < 0) (h2 : p1 ≤ 30) (H : post (a2 u) (nI n, fw, fi, fo, mi, mo, sz, ns, cl, cs, ex, bv, bt, a1, upd a2 u p1, a3, a4, a5, a6, a7, a8, a9, a10, a11, a12, a13, a14, a15, a16, a17)) : wpX_weigh post (nI n, fw, fi, fo, mi, mo, sz, ns, cl, cs, ex, bv, bt, a1, a2, a3, a4, a5, a6, a7, a8, a9, a10, a11, a12, a13, a14, a15, a16, a17) (nI u) p1 := by
  have e : (nI u).toNatClampNeg = u := nI_clamp (by omega)
  have i12 : vp_in (nI u) 12 := pk_in u 12 (by omega)
  unfold wpX_weigh
  exact mb_iv1 hn hu (br_f (by decide) (br_f h (br_t h2 ⟨i12, nm_r (e' := a2 u) (by rw [e]) ⟨i12, nm_r (e' := upd a2 u p1) (by rw [e]) H⟩⟩)))
theorem mb_t15 : ∀ v, v < 12 → ((0 : Int32) >>> (nI v &&& 31)) &&& 1 = 0 := by decide +kernel
theorem mb_se0 {post : St2 → Prop} {u v : Nat} (hu : u < 12) (hv : v < 12) (h0 : ∀ i, a1 i = 0) (H : ∀ p : Nat → Int32, (∀ i, p i = 0) → post (fn, fw, fi, fo, mi, mo, sz, ns, cl, cs, ex, bv, bt, p, a2, a3, a4, a5, a6, a7, a8, a9, a10, a11, a12, a13, a14, a15, a16, a17)) : wpX_setEdge post (fn, fw, fi, fo, mi, mo, sz, ns, cl, cs, ex, bv, bt, a1, a2, a3, a4, a5, a6, a7, a8, a9, a10, a11, a12, a13, a14, a15, a16, a17) (nI u) (nI v) 0 := by
  have e : (nI u).toNatClampNeg = u := nI_clamp (by omega)
  have ev : (nI v).toNatClampNeg = v := nI_clamp (by omega)
  have iu : vp_in (nI u) 12 := pk_in u 12 hu
  have iv : vp_in (nI v) 12 := pk_in v 12 hv
  refine br_t rfl ⟨iu, ⟨iu, nm_e (br_t rfl ⟨iv, iv, nm_e (H _ ?_)⟩)⟩⟩
  have h1 : ∀ i, upd a1 (nI u).toNatClampNeg ((a1 (nI u).toNatClampNeg) &&& (((1 : Int32) <<< (nI v &&& 31)) ^^^ (-1))) i = 0 := by
    intro i
    by_cases ei : i = (nI u).toNatClampNeg
    · rw [ei, pk_us, h0, mb_z0]
    · rw [pk_un ei, h0]
  intro i
  by_cases ei : i = (nI v).toNatClampNeg
  · rw [ei, pk_us, h1, mb_z0]
  · rw [pk_un ei, h1]
theorem mb_se1 {post : St2 → Prop} {u v : Nat} (hu : u < 12) (hv : v < 12) (huv : u ≠ v) (h0 : ∀ i, a1 i = 0) (H : ∀ p : Nat → Int32, (p u = mb_bit v) → (p v = mb_bit u) → (∀ i, i ≠ u → i ≠ v → p i = 0) → post (fn, fw, fi, fo, mi, mo, sz, ns, cl, cs, ex, bv, bt, p, a2, a3, a4, a5, a6, a7, a8, a9, a10, a11, a12, a13, a14, a15, a16, a17)) : wpX_setEdge post (fn, fw, fi, fo, mi, mo, sz, ns, cl, cs, ex, bv, bt, a1, a2, a3, a4, a5, a6, a7, a8, a9, a10, a11, a12, a13, a14, a15, a16, a17) (nI u) (nI v) 1 := by
  have e : (nI u).toNatClampNeg = u := nI_clamp (by omega)
  have ev : (nI v).toNatClampNeg = v := nI_clamp (by omega)
  have iu : vp_in (nI u) 12 := pk_in u 12 hu
  have iv : vp_in (nI v) 12 := pk_in v 12 hv
  refine br_f (by decide) ⟨iu, ⟨iu, nm_r (e' := upd a1 u (mb_bit v)) (by rw [e, h0, mb_z2]) (br_f (by decide) ⟨iv, iv, nm_r (e' := upd (upd a1 u (mb_bit v)) v (mb_bit u)) (by rw [ev, pk_un (fun z => huv z.symm), h0, mb_z2]) (H _ ?_ ?_ ?_)⟩)⟩⟩
  · rw [pk_un huv, pk_us]
  · exact pk_us
  · intro i h1 h2
    rw [pk_un h2, pk_un h1, h0]
theorem mb_ed0 {post : Int32 → St2 → Prop} {p0 p1 p2 : Int32} (h : p0 < 0 ∨ fn ≤ p0) (H : post (-1) (fn, fw, fi, fo, mi, mo, sz, ns, cl, cs, ex, bv, bt, a1, a2, a3, a4, a5, a6, a7, a8, a9, a10, a11, a12, a13, a14, a15, a16, a17)) : wpX_edge post (fn, fw, fi, fo, mi, mo, sz, ns, cl, cs, ex, bv, bt, a1, a2, a3, a4, a5, a6, a7, a8, a9, a10, a11, a12, a13, a14, a15, a16, a17) p0 p1 p2 := by
  unfold wpX_edge
  exact mb_iv0 h (br_t rfl H)
theorem mb_ed1 {post : Int32 → St2 → Prop} {n u : Nat} {p1 p2 : Int32} (hn : n ≤ 12) (hu : u < n) (h : p1 < 0 ∨ nI n ≤ p1) (H : post (-1) (nI n, fw, fi, fo, mi, mo, sz, ns, cl, cs, ex, bv, bt, a1, a2, a3, a4, a5, a6, a7, a8, a9, a10, a11, a12, a13, a14, a15, a16, a17)) : wpX_edge post (nI n, fw, fi, fo, mi, mo, sz, ns, cl, cs, ex, bv, bt, a1, a2, a3, a4, a5, a6, a7, a8, a9, a10, a11, a12, a13, a14, a15, a16, a17) (nI u) p1 p2 := by
  unfold wpX_edge
  exact mb_iv1 hn hu (br_f (by decide) (mb_iv0 h (br_t rfl H)))
theorem mb_ed2 {post : Int32 → St2 → Prop} {n u : Nat} {p2 : Int32} (hn : n ≤ 12) (hu : u < n) (H : post (-2) (nI n, fw, fi, fo, mi, mo, sz, ns, cl, cs, ex, bv, bt, a1, a2, a3, a4, a5, a6, a7, a8, a9, a10, a11, a12, a13, a14, a15, a16, a17)) : wpX_edge post (nI n, fw, fi, fo, mi, mo, sz, ns, cl, cs, ex, bv, bt, a1, a2, a3, a4, a5, a6, a7, a8, a9, a10, a11, a12, a13, a14, a15, a16, a17) (nI u) (nI u) p2 := by
  unfold wpX_edge
  exact mb_iv1 hn hu (br_f (by decide) (mb_iv1 hn hu (br_f (by decide) (br_t rfl H))))
theorem mb_ed3 {post : Int32 → St2 → Prop} {n u v : Nat} {p2 : Int32} (hn : n ≤ 12) (hu : u < n) (hv : v < n) (huv : u ≠ v) (h0 : ∀ i, a1 i = 0)
    (H0 : p2 = 0 → ∀ p : Nat → Int32, (∀ i, p i = 0) → post 0 (nI n, fw, fi, fo, mi, mo, sz, ns, cl, cs, ex, bv, bt, p, a2, a3, a4, a5, a6, a7, a8, a9, a10, a11, a12, a13, a14, a15, a16, a17))
    (H1 : ¬ p2 = 0 → ∀ p : Nat → Int32, (p u = mb_bit v) → (p v = mb_bit u) → (∀ i, i ≠ u → i ≠ v → p i = 0) → post 0 (nI n, fw, fi, fo, mi, mo, sz, ns, cl, cs, ex, bv, bt, p, a2, a3, a4, a5, a6, a7, a8, a9, a10, a11, a12, a13, a14, a15, a16, a17)) : wpX_edge post (nI n, fw, fi, fo, mi, mo, sz, ns, cl, cs, ex, bv, bt, a1, a2, a3, a4, a5, a6, a7, a8, a9, a10, a11, a12, a13, a14, a15, a16, a17) (nI u) (nI v) p2 := by
  have e : (nI u).toNatClampNeg = u := nI_clamp (by omega)
  unfold wpX_edge
  refine mb_iv1 hn hu (br_f (by decide) (mb_iv1 hn hv (br_f (by decide) (br_f (fun z => huv ((nI_eq (by omega) (by omega)).mp z)) ⟨pk_in u 12 (by omega), nm_r (e' := (0 : Int32)) (by rw [h0, mb_t15 v (by omega)]) ?_⟩))))
  exact br_c (fun z => mb_se0 (by omega) (by omega) h0 (fun p hp => H0 z p hp)) (fun z => mb_se1 (by omega) (by omega) huv h0 (fun p q1 q2 q3 => H1 z p q1 q2 q3))
end FRONT
section INIT
/-- the number of vertices that the constructor and the law take out of p0 -/
def mb_N (p0 : Int32) (N : Nat) : Prop := 2 ≤ N ∧ N ≤ 12 ∧ ((¬ (2 : Int32) ≤ p0 ∧ N = 2) ∨ ((2 : Int32) ≤ p0 ∧ p0 ≤ 12 ∧ p0 = nI N) ∨ ((2 : Int32) ≤ p0 ∧ ¬ p0 ≤ 12 ∧ N = 12))
theorem mb_pos {x : Int32} {k : Int32} (hk : 0 ≤ k.toInt) (h : k ≤ x) : ¬ x < 0 := by
  rw [Int32.le_iff_toInt_le] at h
  rw [Int32.lt_iff_toInt_lt]
  have : (0 : Int32).toInt = 0 := by decide
  omega
theorem mb_N_ex (p0 : Int32) : ∃ N, mb_N p0 N := by
  by_cases h : (2 : Int32) ≤ p0
  · by_cases h2 : p0 ≤ 12
    · obtain ⟨j, hj, e⟩ := nI_of2 (M := 12) (n := 12) (by decide) (mb_pos (by decide) h) h2
      refine ⟨j, ?_, hj, Or.inr (Or.inl ⟨h, h2, e⟩)⟩
      rw [e] at h
      exact (nI_leI (a := 2) (by omega) (by omega)).mp h
    · exact ⟨12, by omega, by omega, Or.inr (Or.inr ⟨h, h2, rfl⟩)⟩
  · exact ⟨2, by omega, by omega, Or.inl ⟨h, rfl⟩⟩
theorem mb_i204 {post : St2 → Prop} {mc ms kc ks : Nat} {n w : Int32}
    (H : ∀ p : Nat → Int32, (∀ j, j < 12 → p j = 1) → post (n, w, 0, 0, 0, 0, 0, 0, 0, 0, 0, 0, 0, fun _ => 0, p, fun _ => 0, fun _ => 0, fun _ => 0, fun _ => 0, fun _ => 0, fun _ => 0, fun _ => 0, fun _ => 0, fun _ => 0, fun _ => 0, fun _ => 0, fun _ => 0, fun _ => 0, fun _ => 0, fun _ => 0)) :
    ∃ fu, wX_init_204 post mc ms kc ks n w 0 0 0 0 0 0 0 0 0 0 0 fu 0 (fun _ => 0) (fun _ => 0) (fun _ => 0) (fun _ => 0) (fun _ => 0) (fun _ => 0) (fun _ => 0) (fun _ => 0) (fun _ => 0) (fun _ => 0) (fun _ => 0) (fun _ => 0) (fun _ => 0) (fun _ => 0) (fun _ => 0) (fun _ => 0) (fun _ => 0) := by
  refine pk_loop (fun fu i s => wX_init_204 post mc ms kc ks n w 0 0 0 0 0 0 0 0 0 0 0 fu (nI i) (fun _ => 0) s (fun _ => 0) (fun _ => 0) (fun _ => 0) (fun _ => 0) (fun _ => 0) (fun _ => 0) (fun _ => 0) (fun _ => 0) (fun _ => 0) (fun _ => 0) (fun _ => 0) (fun _ => 0) (fun _ => 0) (fun _ => 0) (fun _ => 0)) (fun i s => ∀ j, j < i → s j = 1) 12 0 (fun _ => 0) (by omega) (fun j hj => absurd hj (by omega)) ?_ ?_
  · intro fu s hs
    exact pk_le 12 12 (fun _ => H s hs) (fun z => absurd z (by omega))
  · intro fu i s hi hs hw
    have e : (nI i).toNatClampNeg = i := nI_clamp (by omega)
    refine pk_le 12 i (fun z => absurd z (by omega)) (fun _ => ⟨pk_in i 12 hi, nm_r (e' := upd s i 1) (by rw [e]) (nm_r (nI_1 i) (hw _ ?_))⟩)
    intro j hj
    by_cases ej : j = i
    · subst ej
      exact pk_us
    · rw [pk_un ej]
      exact hs j (by omega)
theorem mb_i173 {post : St2 → Prop} {mc ms kc ks : Nat} {n p1 : Int32}
    (H : ∀ (w : Nat) (p : Nat → Int32), 1 ≤ w → w ≤ 16 → (∀ j, j < 12 → p j = 1) → post (n, nI w, 0, 0, 0, 0, 0, 0, 0, 0, 0, 0, 0, fun _ => 0, p, fun _ => 0, fun _ => 0, fun _ => 0, fun _ => 0, fun _ => 0, fun _ => 0, fun _ => 0, fun _ => 0, fun _ => 0, fun _ => 0, fun _ => 0, fun _ => 0, fun _ => 0, fun _ => 0, fun _ => 0)) :
    wX_init_173 post mc ms p1 kc ks n 0 0 0 0 0 0 0 0 0 0 0 0 (fun _ => 0) (fun _ => 0) (fun _ => 0) (fun _ => 0) (fun _ => 0) (fun _ => 0) (fun _ => 0) (fun _ => 0) (fun _ => 0) (fun _ => 0) (fun _ => 0) (fun _ => 0) (fun _ => 0) (fun _ => 0) (fun _ => 0) (fun _ => 0) (fun _ => 0) := by
  by_cases h : (1 : Int32) ≤ p1
  · by_cases h2 : p1 ≤ 16
    · obtain ⟨j, hj, e⟩ := nI_of2 (M := 16) (n := 16) (by decide) (mb_pos (by decide) h) h2
      have h' := h
      rw [e] at h'
      have hj1 : 1 ≤ j := (nI_leI (a := 1) (by omega) (by omega)).mp h'
      exact br_t h (br_t h2 (mb_i204 (fun p hp => by rw [e]; exact H j p hj1 hj hp)))
    · exact br_t h (br_f h2 (mb_i204 (fun p hp => H 16 p (by omega) (by omega) hp)))
  · exact br_f h (br_t (by decide) (mb_i204 (fun p hp => H 1 p (by omega) (by omega) hp)))
theorem mb_init {post : St2 → Prop} {mc ms : Nat} {p0 p1 : Int32} {N : Nat} (hmc : 17 ≤ mc) (hms : 1649 ≤ ms) (hN : mb_N p0 N)
    (H : ∀ (w : Nat) (p : Nat → Int32), 1 ≤ w → w ≤ 16 → (∀ j, j < 12 → p j = 1) → post (nI N, nI w, 0, 0, 0, 0, 0, 0, 0, 0, 0, 0, 0, fun _ => 0, p, fun _ => 0, fun _ => 0, fun _ => 0, fun _ => 0, fun _ => 0, fun _ => 0, fun _ => 0, fun _ => 0, fun _ => 0, fun _ => 0, fun _ => 0, fun _ => 0, fun _ => 0, fun _ => 0, fun _ => 0)) :
    wpX_init post mc ms (0, 0, 0, 0, 0, 0, 0, 0, 0, 0, 0, 0, 0) p0 p1 := by
  refine ⟨by omega, by omega, by omega, by omega, by omega, by omega, by omega, by omega, by omega, by omega, by omega, by omega, by omega, by omega, by omega, by omega, by omega, by omega, by omega, by omega, by omega, by omega, by omega, by omega, by omega, by omega, by omega, by omega, by omega, by omega, by omega, by omega, by omega, by omega, ?_⟩
  obtain ⟨_, _, ⟨h, e⟩ | ⟨h, h2, e⟩ | ⟨h, h2, e⟩⟩ := hN
  · subst e
    exact br_f h (br_t (by decide) (mb_i173 H))
  · subst e
    exact br_t h (br_t h2 (mb_i173 H))
  · subst e
    exact br_t h (br_f h2 (mb_i173 H))
end INIT
end
section
/-! the law -/
section LAW
variable {fn fw fi fo mi mo sz ns cl cs ex bv bt : Int32} {a1 a2 a3 a4 a5 a6 a7 a8 a9 a10 a11 a12 a13 a14 a15 a16 a17 : Nat → Int32}
variable {post : Int32 → St0 → Prop} {mc ms kc ks : Nat} {x2 x3 x4 x5 x8 x10 : Int32} {n a b w : Nat}
/-- where the law stands behind edge: which flags, which edge -/
def mb_sit (n a b : Nat) (x2 x3 x8 x10 : Int32) (a1 : Nat → Int32) : Prop :=
  2 ≤ n ∧ n ≤ 12 ∧ a < b ∧ (∀ i, i < n → a1 i = mb_jn a b i) ∧
  ((x10 = 0 ∧ n ≤ a ∧ ((x8 = 0 ∧ (x2 < 0 ∨ nI n ≤ x2)) ∨ (x8 = 1 ∧ ∃ u, u < n ∧ x2 = nI u))) ∨
   (x10 = 1 ∧ b < n ∧ x8 = 1 ∧ ∃ u v, u < n ∧ v < n ∧ u ≠ v ∧ x2 = nI u ∧ x3 = nI v ∧ ((a = u ∧ b = v) ∨ (a = v ∧ b = u))))
theorem mb_L285 {z0 z1 : Int32} (hp : post 1 ()) (hs : mb_sit n a b x2 x3 x8 x10 a1) (hz : z1 = z0) : wL_lawOf_285 post mc ms x2 x3 x8 x10 z0 z1 kc ks (nI n) fw fi fo mi mo sz ns cl cs ex bv bt a1 a2 a3 a4 a5 a6 a7 a8 a9 a10 a11 a12 a13 a14 a15 a16 a17 := by
  obtain ⟨hn2, hn, hab, hj, hs⟩ := hs
  refine br_t hz ?_
  rcases hs with ⟨e10, hna, ⟨e8, h⟩ | ⟨e8, u, hu, e2⟩⟩ | ⟨e10, hb, e8, u, v, hu, hv, huv, e2, e3, hc⟩
  · exact mb_nb0 h (br_t e8 (br_t rfl hp))
  · subst e2
    refine mb_nb1 hn hu (br_f (by rw [e8]; decide) (br_t e10 (br_t ?_ hp)))
    rw [hj u hu]
    unfold mb_jn
    rw [if_neg (by omega), if_neg (by omega)]
  · subst e2 e3
    refine mb_nb1 hn hu (br_f (by rw [e8]; decide) (br_f (by rw [e10]; decide) (br_t ?_ hp)))
    rw [hj u hu]
    unfold mb_jn
    rcases hc with ⟨c1, c2⟩ | ⟨c1, c2⟩
    · rw [if_pos c1.symm, c2]
    · rw [if_neg (by omega), if_pos c2.symm, c1]
theorem mb_L248 {z : Int32} {wt : Nat → Nat} (hp : post 1 ()) (hs : mb_sit n a b x2 x3 x8 x10 a1) (hw : w ≤ 16) (h1 : 1 ≤ w) (h2 : ∀ i, i < n → a2 i = nI (wt i)) (h30 : ∀ i, wt i ≤ 30)
    (hz : ∀ y, y < 13 → mb_good n a b (mb_g wt) y → nI (mb_sm wt y n) = z) : wL_lawOf_248 post mc ms x2 x3 (nI n) x8 x10 z kc ks (nI n) (nI w) 0 0 mi mo sz ns cl cs ex bv bt a1 a2 a3 a4 a5 a6 a7 a8 a9 a10 a11 a12 a13 a14 a15 a16 a17 := by
  have hs' := hs
  obtain ⟨hn2, hn, hab, hj, hs⟩ := hs
  have hbn : (x10 = 0 ∧ n ≤ a) ∨ (x10 = 1 ∧ b < n) := by
    rcases hs with ⟨e10, hna, _⟩ | ⟨e10, hb, _⟩
    · exact Or.inl ⟨e10, hna⟩
    · exact Or.inr ⟨e10, hb⟩
  unfold wL_lawOf_248
  refine mb_best hn hn2 hab (hbn.symm.imp (fun z => z.2) (fun z => z.2)) hw h1 hj h2 h30 (fun mi mo sz ns cl cs ex bv bt a3 a4 a5 a6 a7 a8 a9 a10 a11 a12 a13 a14 a15 a16 y hy hg => br_t (hz y hy hg) ?_)
  rcases hbn with ⟨e10, hna⟩ | ⟨e10, hb⟩
  · exact mb_allowed (R := nI (2 ^ n)) hn hab (Or.inl ⟨hna, rfl⟩) hj h2 (fun sz ns a3 a4 a5 a6 a7 a8 => br_t e10 (mb_L285 hp hs' (mb_t13 n (by omega)).symm))
  · exact mb_allowed (R := nI (3 * 2 ^ (n - 2))) hn hab (Or.inr ⟨hb, rfl⟩) hj h2 (fun sz ns a3 a4 a5 a6 a7 a8 => br_f (by rw [e10]; decide) (mb_L285 hp hs' (mb_t14 n (by omega) hn2).symm))
theorem mb_L214 {z0 : Int32} {u0 ww : Nat} (hp : post 1 ()) (hs : mb_sit n a b x2 x3 x8 x10 a1) (hw : w ≤ 16) (h1 : 1 ≤ w) (hu0 : u0 < n) (hww : ww ≤ 30) (h2 : ∀ i, i < n → a2 i = nI (if i = u0 then ww else 1))
    (hu : ¬ x10 = 0 → x2 = nI u0) (hz : z0 = nI ww) : wL_lawOf_214 post mc ms x2 x3 (nI n) x8 x10 z0 kc ks (nI n) (nI w) 0 0 mi mo sz ns cl cs ex bv bt a1 a2 a3 a4 a5 a6 a7 a8 a9 a10 a11 a12 a13 a14 a15 a16 a17 := by
  have hs' := hs
  obtain ⟨hn2, hn, hab, hj, hs⟩ := hs
  have h30 : ∀ i, (fun i => if i = u0 then ww else 1) i ≤ 30 := by
    intro i
    dsimp only
    by_cases e : i = u0
    · rw [if_pos e]; exact hww
    · rw [if_neg e]; omega
  subst hz
  rcases hs with ⟨e10, hna, _⟩ | ⟨e10, hb, e8, u, v, hu', hv, huv, e2, e3, hc⟩
  · refine br_t e10 (mb_L248 (wt := fun i => if i = u0 then ww else 1) hp hs' hw h1 h2 h30 (fun y hy hg => ?_))
    rcases hg with ⟨_, ey⟩ | ⟨hb, _⟩
    · subst ey
      rw [mb_best0 hn hu0, show (1 : Int32) = nI 1 from rfl, pk_sub (by omega), nI_add]
    · omega
  · have eu : u = u0 := (nI_eq (by omega) (by omega)).mp (e2.symm.trans (hu (by rw [e10]; decide)))
    subst eu
    have B : ∀ y, mb_good n a b (mb_g (fun i => if i = u then ww else 1)) y → mb_sm (fun i => if i = u then ww else 1) y n = n - 2 + (if ww ≤ 1 then 1 else ww) := fun y hg => mb_best1 hn hu' hv huv hc hb hg
    refine br_f (by rw [e10]; decide) (pk_le ww 1 (fun z => ?_) (fun z => ?_))
    · unfold wL_lawOf_237
      refine mb_L248 (wt := fun i => if i = u then ww else 1) hp hs' hw h1 h2 h30 (fun y hy hg => ?_)
      rw [B y hg, if_pos z, show (2 : Int32) = nI 2 from rfl, pk_sub (by omega), show (1 : Int32) = nI 1 from rfl, nI_add]
    · unfold wL_lawOf_237
      refine mb_L248 (wt := fun i => if i = u then ww else 1) hp hs' hw h1 h2 h30 (fun y hy hg => ?_)
      rw [B y hg, if_neg (by omega), show (2 : Int32) = nI 2 from rfl, pk_sub (by omega), nI_add]
theorem mb_ones {p : Nat → Int32} {u0 : Nat} (hn : n ≤ 12) (h : ∀ j, j < 12 → p j = 1) : ∀ i, i < n → p i = nI (if i = u0 then 1 else 1) := by
  intro i hi
  rw [h i (by omega)]
  by_cases e : i = u0
  · rw [if_pos e]; rfl
  · rw [if_neg e]; rfl
theorem mb_L163a {x11 : Int32} (hp : post 1 ()) (hs : mb_sit n a b x2 x3 x8 x10 a1) (hw : w ≤ 16) (h1 : 1 ≤ w) (h2 : ∀ j, j < 12 → a2 j = 1) (h8 : x8 = 0) : wL_lawOf_163 post mc ms x2 x3 x5 (nI n) x8 x10 x11 kc ks (nI n) (nI w) 0 0 mi mo sz ns cl cs ex bv bt a1 a2 a3 a4 a5 a6 a7 a8 a9 a10 a11 a12 a13 a14 a15 a16 a17 := by
  have hs' := hs
  obtain ⟨hn2, hn, hab, hj, hs⟩ := hs
  subst h8
  rcases hs with ⟨e10, hna, ⟨_, h⟩ | ⟨e8, _⟩⟩ | ⟨_, _, e8, _⟩
  · unfold wL_lawOf_163
    refine mb_wg0 h (br_t rfl (br_t rfl (br_t rfl ?_)))
    unfold wL_lawOf_213
    exact mb_L214 (u0 := 0) (ww := 1) hp hs' hw h1 (by omega) (by omega) (mb_ones hn h2) (fun z => absurd e10 z) rfl
  · exact absurd e8 (by decide)
  · exact absurd e8 (by decide)
theorem mb_sit_u (hs : mb_sit n a b x2 x3 x8 x10 a1) (h8 : ¬ x8 = 0) : ∃ u, u < n ∧ x2 = nI u := by
  obtain ⟨hn2, hn, hab, hj, hs⟩ := hs
  rcases hs with ⟨e10, hna, ⟨e8, h⟩ | ⟨e8, u, hu, e2⟩⟩ | ⟨e10, hb, e8, u, v, hu, hv, huv, e2, e3, hc⟩
  · exact absurd e8 h8
  · exact ⟨u, hu, e2⟩
  · exact ⟨u, hu, e2⟩
theorem mb_L163b (hp : post 1 ()) (hs : mb_sit n a b x2 x3 x8 x10 a1) (hw : w ≤ 16) (h1 : 1 ≤ w) (h2 : ∀ j, j < 12 → a2 j = 1) (h8 : ¬ x8 = 0) (h5 : x5 < 0 ∨ ¬ x5 ≤ 30) : wL_lawOf_163 post mc ms x2 x3 x5 (nI n) x8 x10 0 kc ks (nI n) (nI w) 0 0 mi mo sz ns cl cs ex bv bt a1 a2 a3 a4 a5 a6 a7 a8 a9 a10 a11 a12 a13 a14 a15 a16 a17 := by
  obtain ⟨u, hu, e2⟩ := mb_sit_u hs h8
  have hn := hs.2.1
  subst e2
  unfold wL_lawOf_163
  refine mb_wg1 hn hu h5 (br_f h8 (br_t rfl (br_t rfl (br_f h8 (br_t rfl ?_)))))
  unfold wL_lawOf_213
  exact mb_L214 (u0 := u) (ww := 1) hp hs hw h1 hu (by omega) (mb_ones hn h2) (fun _ => rfl) rfl
theorem mb_L163c (hp : post 1 ()) (hs : mb_sit n a b x2 x3 x8 x10 a1) (hw : w ≤ 16) (h1 : 1 ≤ w) (h2 : ∀ j, j < 12 → a2 j = 1) (h8 : ¬ x8 = 0) (h5 : ¬ x5 < 0) (h6 : x5 ≤ 30) : wL_lawOf_163 post mc ms x2 x3 x5 (nI n) x8 x10 1 kc ks (nI n) (nI w) 0 0 mi mo sz ns cl cs ex bv bt a1 a2 a3 a4 a5 a6 a7 a8 a9 a10 a11 a12 a13 a14 a15 a16 a17 := by
  obtain ⟨u, hu, e2⟩ := mb_sit_u hs h8
  have hn := hs.2.1
  subst e2
  obtain ⟨ww, hww, e5⟩ := nI_of2 (M := 30) (n := 30) (by decide) h5 h6
  unfold wL_lawOf_163
  refine mb_wg2 hn hu h5 h6 (br_f h8 (br_f (by decide) (br_t (h2 u (by omega)) (br_f h8 (br_f (by decide) ?_)))))
  refine mb_L214 (u0 := u) (ww := ww) hp hs hw h1 hu hww ?_ (fun _ => rfl) e5
  intro i hi
  by_cases e : i = u
  · subst e
    rw [pk_us, if_pos rfl, e5]
  · rw [pk_un e, if_neg e, h2 i (by omega)]
    rfl
theorem mb_L144 (hp : post 1 ()) (hs : mb_sit n a b x2 x3 x8 x10 a1) (hw : w ≤ 16) (h1 : 1 ≤ w) (h2 : ∀ j, j < 12 → a2 j = 1) : wL_lawOf_144 post mc ms x2 x3 x5 (nI n) x8 x10 kc ks (nI n) (nI w) 0 0 mi mo sz ns cl cs ex bv bt a1 a2 a3 a4 a5 a6 a7 a8 a9 a10 a11 a12 a13 a14 a15 a16 a17 := by
  have bad : (x5 < 0 ∨ ¬ x5 ≤ 30) → wL_lawOf_162 post mc ms x2 x3 x5 (nI n) x8 x10 kc ks (nI n) (nI w) 0 0 mi mo sz ns cl cs ex bv bt a1 a2 a3 a4 a5 a6 a7 a8 a9 a10 a11 a12 a13 a14 a15 a16 a17 := by
    intro h5
    unfold wL_lawOf_162
    by_cases h8 : x8 = 0
    · exact mb_L163a hp hs hw h1 h2 h8
    · exact mb_L163b hp hs hw h1 h2 h8 h5
  have e30 : (30 : Int32) < x5 ↔ ¬ x5 ≤ 30 := by
    rw [Int32.lt_iff_toInt_lt, Int32.le_iff_toInt_le]
    omega
  refine br_c (fun h => bad (Or.inl h)) (fun h => br_c (fun h' => bad (Or.inr (e30.mp h'))) (fun h' => ?_))
  by_cases h8 : x8 = 0
  · exact mb_L163a hp hs hw h1 h2 h8
  · exact mb_L163c hp hs hw h1 h2 h8 h (Decidable.not_not.mp (fun z => h' (e30.mpr z)))
theorem mb_sit0 (hn2 : 2 ≤ n) (hn : n ≤ 12) (h0 : ∀ i, a1 i = 0) (h : (x8 = 0 ∧ (x2 < 0 ∨ nI n ≤ x2)) ∨ (x8 = 1 ∧ ∃ u, u < n ∧ x2 = nI u)) : mb_sit n 12 13 x2 x3 x8 0 a1 := by
  refine ⟨hn2, hn, by omega, fun i hi => ?_, Or.inl ⟨rfl, hn, h⟩⟩
  rw [h0]
  unfold mb_jn
  rw [if_neg (by omega), if_neg (by omega)]
theorem mb_sit1 {u v : Nat} (hn2 : 2 ≤ n) (hn : n ≤ 12) (hu : u < n) (hv : v < n) (huv : u ≠ v) (q1 : a1 u = mb_bit v) (q2 : a1 v = mb_bit u) (q3 : ∀ i, i ≠ u → i ≠ v → a1 i = 0) : ∃ a b, mb_sit n a b (nI u) (nI v) 1 1 a1 := by
  by_cases h : u < v
  · refine ⟨u, v, hn2, hn, h, fun i hi => ?_, Or.inr ⟨rfl, hv, rfl, u, v, hu, hv, huv, rfl, rfl, Or.inl ⟨rfl, rfl⟩⟩⟩
    unfold mb_jn
    by_cases e1 : i = u
    · rw [if_pos e1, e1, q1]
    · rw [if_neg e1]
      by_cases e2 : i = v
      · rw [if_pos e2, e2, q2]
      · rw [if_neg e2, q3 i e1 e2]
  · refine ⟨v, u, hn2, hn, by omega, fun i hi => ?_, Or.inr ⟨rfl, hu, rfl, u, v, hu, hv, huv, rfl, rfl, Or.inr ⟨rfl, rfl⟩⟩⟩
    unfold mb_jn
    by_cases e1 : i = v
    · rw [if_pos e1, e1, q2]
    · rw [if_neg e1]
      by_cases e2 : i = u
      · rw [if_pos e2, e2, q1]
      · rw [if_neg e2, q3 i e2 e1]
/-- the first vertex isn't one -/
theorem mb_L78a {x9 : Int32} (hp : post 1 ()) (hn2 : 2 ≤ n) (hn : n ≤ 12) (hw : w ≤ 16) (h1 : 1 ≤ w) (h0 : ∀ i, a1 i = 0) (h2 : ∀ j, j < 12 → a2 j = 1) (h : x2 < 0 ∨ nI n ≤ x2) : wL_lawOf_78 post mc ms x2 x3 x4 x5 (nI n) 0 x9 kc ks (nI n) (nI w) 0 0 mi mo sz ns cl cs ex bv bt a1 a2 a3 a4 a5 a6 a7 a8 a9 a10 a11 a12 a13 a14 a15 a16 a17 := by
  unfold wL_lawOf_78
  refine mb_ed0 h (br_t rfl ?_)
  unfold wL_lawOf_99
  refine br_t rfl (br_t rfl ?_)
  unfold wL_lawOf_143
  exact mb_L144 hp (mb_sit0 hn2 hn h0 (Or.inl ⟨rfl, h⟩)) hw h1 h2
/-- the second vertex isn't one -/
theorem mb_L78b {u : Nat} (hp : post 1 ()) (hn2 : 2 ≤ n) (hn : n ≤ 12) (hw : w ≤ 16) (h1 : 1 ≤ w) (h0 : ∀ i, a1 i = 0) (h2 : ∀ j, j < 12 → a2 j = 1) (hu : u < n) (h : x3 < 0 ∨ nI n ≤ x3) : wL_lawOf_78 post mc ms (nI u) x3 x4 x5 (nI n) 1 0 kc ks (nI n) (nI w) 0 0 mi mo sz ns cl cs ex bv bt a1 a2 a3 a4 a5 a6 a7 a8 a9 a10 a11 a12 a13 a14 a15 a16 a17 := by
  unfold wL_lawOf_78
  refine mb_ed1 hn hu h (br_f (by decide) (br_t rfl ?_))
  unfold wL_lawOf_99
  refine br_t rfl (br_f (by decide) (br_t rfl ?_))
  unfold wL_lawOf_143
  exact mb_L144 hp (mb_sit0 hn2 hn h0 (Or.inr ⟨rfl, u, hu, rfl⟩)) hw h1 h2
/-- both are vertices -/
theorem mb_L78c {u v : Nat} (hp : post 1 ()) (hn2 : 2 ≤ n) (hn : n ≤ 12) (hw : w ≤ 16) (h1 : 1 ≤ w) (h0 : ∀ i, a1 i = 0) (h2 : ∀ j, j < 12 → a2 j = 1) (hu : u < n) (hv : v < n) : wL_lawOf_78 post mc ms (nI u) (nI v) x4 x5 (nI n) 1 1 kc ks (nI n) (nI w) 0 0 mi mo sz ns cl cs ex bv bt a1 a2 a3 a4 a5 a6 a7 a8 a9 a10 a11 a12 a13 a14 a15 a16 a17 := by
  unfold wL_lawOf_78
  by_cases e : u = v
  · subst e
    refine mb_ed2 hn hu (br_f (by decide) (br_f (by decide) (br_t rfl (br_t rfl (br_f (by decide) (br_f (by decide) (br_t rfl ?_)))))))
    unfold wL_lawOf_143
    exact mb_L144 hp (mb_sit0 hn2 hn h0 (Or.inr ⟨rfl, u, hu, rfl⟩)) hw h1 h2
  · have ne : ¬ nI u = nI v := fun z => e ((nI_eq (by omega) (by omega)).mp z)
    refine mb_ed3 hn hu hv e h0 (fun z p hp0 => br_f (by decide) (br_f (by decide) (br_f ne (br_t rfl (br_f (by decide) (br_f (by decide) (br_f ne (br_t z ?_)))))))) (fun z p q1 q2 q3 => br_f (by decide) (br_f (by decide) (br_f ne (br_t rfl (br_f (by decide) (br_f (by decide) (br_f ne (br_f z ?_))))))))
    · unfold wL_lawOf_143
      exact mb_L144 hp (mb_sit0 hn2 hn hp0 (Or.inr ⟨rfl, u, hu, rfl⟩)) hw h1 h2
    · obtain ⟨a, b, hs⟩ := mb_sit1 hn2 hn hu hv e q1 q2 q3
      exact mb_L144 hp hs hw h1 h2
theorem mb_L34 (hp : post 1 ()) (hn2 : 2 ≤ n) (hn : n ≤ 12) (hw : w ≤ 16) (h1 : 1 ≤ w) (h0 : ∀ i, a1 i = 0) (h2 : ∀ j, j < 12 → a2 j = 1) : wL_lawOf_34 post mc ms x2 x3 x4 x5 (nI n) kc ks (nI n) (nI w) 0 0 mi mo sz ns cl cs ex bv bt a1 a2 a3 a4 a5 a6 a7 a8 a9 a10 a11 a12 a13 a14 a15 a16 a17 := by
  have A0 : ∀ x9 : Int32, (x2 < 0 ∨ nI n ≤ x2) → wL_lawOf_78 post mc ms x2 x3 x4 x5 (nI n) 0 x9 kc ks (nI n) (nI w) 0 0 mi mo sz ns cl cs ex bv bt a1 a2 a3 a4 a5 a6 a7 a8 a9 a10 a11 a12 a13 a14 a15 a16 a17 := fun x9 h => mb_L78a hp hn2 hn hw h1 h0 h2 h
  have A : (x2 < 0 ∨ nI n ≤ x2) → wL_lawOf_60 post mc ms x2 x3 x4 x5 (nI n) kc ks (nI n) (nI w) 0 0 mi mo sz ns cl cs ex bv bt a1 a2 a3 a4 a5 a6 a7 a8 a9 a10 a11 a12 a13 a14 a15 a16 a17 := by
    intro h
    unfold wL_lawOf_60 wL_lawOf_61 wL_lawOf_77
    exact br_c (fun _ => A0 0 h) (fun _ => br_c (fun _ => A0 0 h) (fun _ => A0 1 h))
  have B : ∀ u, u < n → x2 = nI u → wL_lawOf_61 post mc ms x2 x3 x4 x5 (nI n) 1 kc ks (nI n) (nI w) 0 0 mi mo sz ns cl cs ex bv bt a1 a2 a3 a4 a5 a6 a7 a8 a9 a10 a11 a12 a13 a14 a15 a16 a17 := by
    intro u hu e
    subst e
    unfold wL_lawOf_61 wL_lawOf_77
    refine br_c (fun h => mb_L78b hp hn2 hn hw h1 h0 h2 hu (Or.inl h)) (fun h => br_c (fun h' => mb_L78b hp hn2 hn hw h1 h0 h2 hu (Or.inr h')) (fun h' => ?_))
    rcases pk_ix x3 (n := n) (by omega) with z | z | ⟨v, hv, ev⟩
    · exact absurd z h
    · exact absurd z h'
    · subst ev
      exact mb_L78c hp hn2 hn hw h1 h0 h2 hu hv
  unfold wL_lawOf_34
  refine br_t rfl (br_c (fun h => A (Or.inl h)) (fun h => br_c (fun h' => A (Or.inr h')) (fun h' => ?_)))
  rcases pk_ix x2 (n := n) (by omega) with z | z | ⟨u, hu, eu⟩
  · exact absurd z h
  · exact absurd z h'
  · exact B u hu eu
end LAW
section TOP
theorem mb_lawOf {post : Int32 → St0 → Prop} {mc ms : Nat} {p0 p1 p2 p3 p4 p5 : Int32} (hp : post 1 ()) (hmc : 18 ≤ mc) (hms : 1679 ≤ ms) : wpL_lawOf post mc ms () p0 p1 p2 p3 p4 p5 := by
  obtain ⟨N, hN⟩ := mb_N_ex p0
  refine ⟨by omega, by omega, mc - 1, ms - 30, by omega, by omega, mb_init (N := N) (by omega) (by omega) hN (fun w p h1 hw h2 => ?_)⟩
  obtain ⟨hn2, hn, ⟨h, e⟩ | ⟨h, h2', e⟩ | ⟨h, h2', e⟩⟩ := hN
  · subst e
    exact br_f h (br_t (by decide) (mb_L34 (n := 2) hp hn2 hn hw h1 (fun _ => rfl) h2))
  · subst e
    exact br_t h (br_t h2' (mb_L34 hp hn2 hn hw h1 (fun _ => rfl) h2))
  · subst e
    exact br_t h (br_f h2' (mb_L34 (n := 12) hp hn2 hn hw h1 (fun _ => rfl) h2))
theorem i_vc (xs : Nat → Int32) (L : Nat) (hL : L ≤ 6) : wpL_law (fun r => r = 1) L xs := by
  have C : ∀ (post : Int32 → Prop) (k : Nat), k < 6 → (∀ x, post x) → wpL_cellAt post L xs () (nI k) := fun post k hk h =>
    pk_le L k (fun _ => h _) (fun z => ⟨pk_in k L z, h _⟩)
  unfold wpL_law
  exact C _ 0 (by omega) (fun r1 => C _ 1 (by omega) (fun r2 => C _ 2 (by omega) (fun r3 => C _ 3 (by omega) (fun r4 => C _ 4 (by omega) (fun r5 => C _ 5 (by omega) (fun r6 => ⟨876, 14016, by omega, by omega, mb_lawOf rfl (by omega) (by omega)⟩))))))
end TOP
end
