section
theorem pk_us {f : Nat → Int32} {k : Nat} {x : Int32} : upd f k x k = x := if_pos rfl
theorem pk_un {f : Nat → Int32} {k j : Nat} {x : Int32} (h : j ≠ k) : upd f k x j = f j := if_neg h
theorem pk_sub {a b : Nat} (h : b ≤ a) : nI a - nI b = nI (a - b) := by
  obtain ⟨c, rfl⟩ : ∃ c, a = c + b := ⟨a - b, by omega⟩
  rw [← nI_add, Int32.add_sub_cancel, Nat.add_sub_cancel]
theorem pk_ix (x : Int32) {n : Nat} (hn : n < 2 ^ 31) : x < 0 ∨ nI n ≤ x ∨ ∃ j : Nat, j < n ∧ x = nI j := by
  by_cases h : x < 0
  · exact Or.inl h
  · obtain ⟨j, hj, rfl⟩ := nI_of h
    by_cases h2 : j < n
    · exact Or.inr (Or.inr ⟨j, h2, rfl⟩)
    · exact Or.inr (Or.inl (nI_le (by omega) hj))
theorem dq_m1i : (-1 : Int32).toInt = -1 := by decide
theorem dq_ne1 {t : Nat} (h : t < 2 ^ 31) : nI t ≠ -1 := by
  intro e
  have := congrArg Int32.toInt e
  rw [nI_toInt h, dq_m1i] at this
  omega
theorem dq_n1neg : (-1 : Int32) < 0 := by decide
theorem dq_inj {a b : Nat} (ha : a < 2 ^ 31) (hb : b < 2 ^ 31) (e : nI a = nI b) : a = b := (nI_eq ha hb).mp e
theorem dq_cl {n N : Nat} (h : n < N) (hN : N < 2 ^ 31 := by decide) : (nI n).toNatClampNeg = n := nI_clamp (by omega)
theorem dq_b1 : vp_nar .boolean 1 = 1 := rfl
theorem dq_b0 : vp_nar .boolean 0 = 0 := rfl
theorem dq_bb {x : Int32} (h : x = 0 ∨ x = 1) : vp_nar .boolean x = x := by
  rcases h with h | h <;> rw [h] <;> rfl
theorem dq_us {f : Nat → Int32} {k : Nat} : upd f k (f k) = f := by
  funext j
  unfold upd
  by_cases h : j = k
  · rw [if_pos h, h]
  · rw [if_neg h]
theorem dq_us' {f : Nat → Int32} {k : Nat} {x : Int32} (e : f k = x) : upd f k x = f := by rw [← e]; exact dq_us
/-- an array whose first j cells are v -/
def dq_f (v : Int32) (j : Nat) (a : Nat → Int32) : Nat → Int32 := fun i => if i < j then v else a i
theorem dq_f_lt {v : Int32} {j i : Nat} {a : Nat → Int32} (h : i < j) : dq_f v j a i = v := if_pos h
theorem dq_f_ge {v : Int32} {j i : Nat} {a : Nat → Int32} (h : j ≤ i) : dq_f v j a i = a i := if_neg (by omega)
theorem dq_f_0 {v : Int32} {a : Nat → Int32} : dq_f v 0 a = a := by
  funext i
  exact dq_f_ge (Nat.zero_le i)
theorem dq_f_s {v : Int32} {j : Nat} {a : Nat → Int32} : upd (dq_f v j a) j v = dq_f v (j + 1) a := by
  funext i
  by_cases h : i = j
  · subst h; rw [pk_us, dq_f_lt (by omega)]
  · rw [pk_un h]
    by_cases h2 : i < j
    · rw [dq_f_lt h2, dq_f_lt (by omega)]
    · rw [dq_f_ge (by omega), dq_f_ge (by omega)]
theorem dq_f_all {v : Int32} {j : Nat} {a : Nat → Int32} (h : ∀ i, j ≤ i → a i = v) : dq_f v j a = fun _ => v := by
  funext i
  by_cases h2 : i < j
  · exact dq_f_lt h2
  · rw [dq_f_ge (by omega)]; exact h i (by omega)
/-- an array whose cells 1 .. j-1 have moved down by one -/
def dq_sh (j : Nat) (a : Nat → Int32) : Nat → Int32 := fun i => if i + 1 < j then a (i + 1) else a i
theorem dq_sh_lt {j i : Nat} {a : Nat → Int32} (h : i + 1 < j) : dq_sh j a i = a (i + 1) := if_pos h
theorem dq_sh_ge {j i : Nat} {a : Nat → Int32} (h : j ≤ i + 1) : dq_sh j a i = a i := if_neg (by omega)
theorem dq_sh_1 {a : Nat → Int32} : dq_sh 1 a = a := by
  funext i
  exact dq_sh_ge (by omega)
theorem dq_sh_s {j : Nat} {a : Nat → Int32} : upd (dq_sh (j + 1) a) j (dq_sh (j + 1) a (j + 1)) = dq_sh (j + 2) a := by
  funext i
  by_cases h : i = j
  · subst h; rw [pk_us, dq_sh_ge (by omega), dq_sh_lt (by omega)]
  · rw [pk_un h]
    by_cases h2 : i < j
    · rw [dq_sh_lt (by omega), dq_sh_lt (by omega)]
    · rw [dq_sh_ge (by omega), dq_sh_ge (by omega)]
/-- the nodes once the base has gone to the free stack -/
def dq_rot (h : Nat) (nd : Nat → Nat) : Nat → Nat := fun i => if i < h then nd (i + 1) else if i = h then nd 0 else nd i
theorem dq_rot_lt {h i : Nat} {nd : Nat → Nat} (e : i < h) : dq_rot h nd i = nd (i + 1) := if_pos e
theorem dq_rot_eq {h : Nat} {nd : Nat → Nat} : dq_rot h nd h = nd 0 := by
  unfold dq_rot; rw [if_neg (by omega), if_pos rfl]
theorem dq_rot_gt {h i : Nat} {nd : Nat → Nat} (e : h < i) : dq_rot h nd i = nd i := by
  unfold dq_rot; rw [if_neg (by omega), if_neg (by omega)]
/-- how many of the first n cells are 0 -/
def dq_cz (a : Nat → Int32) : Nat → Nat
  | 0 => 0
  | n + 1 => (if a n = 0 then 1 else 0) + dq_cz a n
theorem dq_cz_le (a : Nat → Int32) : ∀ n, dq_cz a n ≤ n := by
  intro n
  induction n with
  | zero => exact Nat.le_refl 0
  | succ n ih =>
    show (if a n = 0 then 1 else 0) + dq_cz a n ≤ n + 1
    split <;> omega
theorem dq_cz_t {a : Nat → Int32} {n : Nat} (h : a n = 0) : dq_cz a (n + 1) = dq_cz a n + 1 := by
  show (if a n = 0 then 1 else 0) + dq_cz a n = _
  rw [if_pos h]; omega
theorem dq_cz_f {a : Nat → Int32} {n : Nat} (h : ¬ a n = 0) : dq_cz a (n + 1) = dq_cz a n := by
  show (if a n = 0 then 1 else 0) + dq_cz a n = _
  rw [if_neg h]; omega
theorem dq_cz_hi {a : Nat → Int32} {k : Nat} {x : Int32} : ∀ n, n ≤ k → dq_cz (upd a k x) n = dq_cz a n := by
  intro n
  induction n with
  | zero => intro _; rfl
  | succ n ih =>
    intro hn
    have e := ih (by omega)
    have u : upd a k x n = a n := pk_un (by omega)
    by_cases z : a n = 0
    · rw [dq_cz_t z, dq_cz_t (u.trans z), e]
    · rw [dq_cz_f z, dq_cz_f (by rw [u]; exact z), e]
theorem dq_cz_set {a : Nat → Int32} {k : Nat} {x : Int32} (hx : x ≠ 0) (hk : a k = 0) : ∀ n, k < n → dq_cz (upd a k x) n + 1 = dq_cz a n := by
  intro n
  induction n with
  | zero => intro h; omega
  | succ n ih =>
    intro hn
    by_cases z : n = k
    · subst z
      rw [dq_cz_t hk, dq_cz_f (by rw [pk_us]; exact hx), dq_cz_hi _ (Nat.le_refl _)]
    · have e := ih (by omega)
      have u : upd a k x n = a n := pk_un z
      by_cases z : a n = 0
      · rw [dq_cz_t z, dq_cz_t (u.trans z)]; omega
      · rw [dq_cz_f z, dq_cz_f (by rw [u]; exact z)]; omega
theorem dq_cz_all {a : Nat → Int32} : ∀ n, (∀ i, i < n → a i = 0) → dq_cz a n = n := by
  intro n
  induction n with
  | zero => intro _; rfl
  | succ n ih =>
    intro h
    rw [dq_cz_t (h n (by omega)), ih (fun i hi => h i (by omega))]
end
section
/-- the pool against the list, by position -/
def dq_P (h c d : Nat) (nd : Nat → Nat) (xv xap xn xcl xpn xpc xfs yv yap ycl yaw ycw : Nat → Int32) : Prop :=
  (h ≤ 12 ∧ c ≤ h ∧ d ≤ h) ∧
  (∀ i, i < 13 → nd i < 13) ∧
  (∀ i j, i < 13 → j < 13 → nd i = nd j → i = j) ∧
  (∀ i, i < h → xn (nd i) = nI (nd (i + 1))) ∧
  xn (nd h) = -1 ∧
  (∀ i, i < h → xv (nd (i + 1)) = yv i) ∧
  (∀ i, i < h → xcl (nd (i + 1)) = ycl i) ∧
  (∀ i, i < h → xpn (nd i) = if yaw i = 0 then -1 else nI (nd (i + 1))) ∧
  xpn (nd h) = -1 ∧
  (∀ i, i < h → xpc (nd (i + 1)) = if ycw i = 0 then -1 else ycl i) ∧
  (∀ i, h < i → i < 13 → xfs (12 - i) = nI (nd i)) ∧
  (∀ i, i < h → yaw i = 0 ∨ yaw i = 1) ∧
  (∀ i, i < h → ycw i = 0 ∨ ycw i = 1) ∧
  (∀ i, i < d → yaw i = 1) ∧
  (∀ i, i < d → yap i = -1) ∧
  (∀ i, d ≤ i → i < h → yap i = xap (nd (i + 1))) ∧
  (∀ i, c ≤ i → i < h → ycl i = -1) ∧
  (∀ i, c ≤ i → i < h → ycw i = 0) ∧
  (∀ i, i < h → yv i ≠ -3 ∧ yv i ≠ -4)
/-- the threads whose append or claim is not durable, by position -/
def dq_T (tc h c d : Nat) (nd : Nat → Nat) (ph tk oo ol du yap ycl : Nat → Int32) : Prop :=
  (∀ i, i < c → ∃ t, t < tc ∧ ycl i = nI t ∧ ph t = 5 ∧ du t = 0 ∧ oo t ≠ -3 ∧ oo t ≠ -4 ∧ tk t = -8 ∧ ol t = nI (nd (i + 1))) ∧
  (∀ i, d ≤ i → i < h → ∃ t, t < tc ∧ yap i = nI t ∧ ph t = 5 ∧ du t = 0 ∧ oo t ≠ -3 ∧ oo t ≠ -4 ∧ tk t ≠ -8 ∧ ol t = nI (nd i)) ∧
  (∀ t, t < tc → ph t = 5 → du t = 0 → oo t ≠ -3 → oo t ≠ -4 → tk t = -8 → ∃ i, i < c ∧ ycl i = nI t) ∧
  (∀ t, t < tc → ph t = 5 → du t = 0 → oo t ≠ -3 → oo t ≠ -4 → tk t ≠ -8 → ∃ i, d ≤ i ∧ i < h ∧ yap i = nI t)
section
variable {tc h c d : Nat} {nd : Nat → Nat} {xv xap xn xcl xpn xpc xfs yv yap ycl yaw ycw ph tk oo ol du : Nat → Int32}
theorem dq_pb (P : dq_P h c d nd xv xap xn xcl xpn xpc xfs yv yap ycl yaw ycw) : h ≤ 12 ∧ c ≤ h ∧ d ≤ h := P.1
theorem dq_nd (P : dq_P h c d nd xv xap xn xcl xpn xpc xfs yv yap ycl yaw ycw) {i : Nat} (hi : i < 13) : nd i < 13 := P.2.1 i hi
theorem dq_nj (P : dq_P h c d nd xv xap xn xcl xpn xpc xfs yv yap ycl yaw ycw) {i j : Nat} (hi : i < 13) (hj : j < 13) (e : nd i = nd j) : i = j := P.2.2.1 i j hi hj e
/-- one line is written -/
theorem dq_m1 {k : Nat} (P : dq_P h c d nd xv xap xn xcl xpn xpc xfs yv yap ycl yaw ycw) (hk : k ≤ h) : dq_P h c d nd xv xap xn xcl (upd xpn (nd k) (xn (nd k))) (upd xpc (nd k) (xcl (nd k))) xfs yv yap ycl (if k < h then upd yaw k 1 else yaw) (if 0 < k ∧ k ≤ c then upd ycw (k - 1) 1 else ycw) := by
  obtain ⟨b, n1, n2, nx, nh, vv, cl, pn, ph, pc, fs, ba, bc, aw, a1, a2, c1, c2, v3⟩ := P
  refine ⟨b, n1, n2, nx, nh, vv, cl, ?_, ?_, ?_, fs, ?_, ?_, ?_, a1, a2, c1, ?_, v3⟩
  · intro i hi
    by_cases e : i = k
    · subst e
      rw [pk_us, if_pos hi, pk_us, if_neg (by decide)]
      exact nx i hi
    · have q : nd i ≠ nd k := fun z => e (n2 i k (by omega) (by omega) z)
      rw [pk_un q, pn i hi]
      by_cases kh : k < h
      · rw [if_pos kh, pk_un e]
      · rw [if_neg kh]
  · by_cases e : h = k
    · subst e
      rw [pk_us]; exact nh
    · have q : nd h ≠ nd k := fun z => e (n2 h k (by omega) (by omega) z)
      rw [pk_un q]; exact ph
  · intro i hi
    by_cases e : i + 1 = k
    · subst e
      rw [pk_us, cl i hi]
      by_cases ic : i + 1 ≤ c
      · have q : 0 < i + 1 ∧ i + 1 ≤ c := ⟨by omega, ic⟩
        rw [if_pos q, show i + 1 - 1 = i from rfl, pk_us, if_neg (by decide)]
      · have q : ¬ (0 < i + 1 ∧ i + 1 ≤ c) := fun z => ic z.2
        rw [if_neg q, c2 i (by omega) hi, if_pos rfl]
        exact c1 i (by omega) hi
    · have q : nd (i + 1) ≠ nd k := fun z => e (n2 (i + 1) k (by omega) (by omega) z)
      rw [pk_un q, pc i hi]
      by_cases kc : 0 < k ∧ k ≤ c
      · rw [if_pos kc, pk_un (by omega)]
      · rw [if_neg kc]
  · intro i hi
    by_cases kh : k < h
    · rw [if_pos kh]
      by_cases e : i = k
      · subst e; rw [pk_us]; exact Or.inr rfl
      · rw [pk_un e]; exact ba i hi
    · rw [if_neg kh]; exact ba i hi
  · intro i hi
    by_cases kc : 0 < k ∧ k ≤ c
    · rw [if_pos kc]
      by_cases e : i = k - 1
      · subst e; rw [pk_us]; exact Or.inr rfl
      · rw [pk_un e]; exact bc i hi
    · rw [if_neg kc]; exact bc i hi
  · intro i hi
    by_cases kh : k < h
    · rw [if_pos kh]
      by_cases e : i = k
      · subst e; rw [pk_us]
      · rw [pk_un e]; exact aw i hi
    · rw [if_neg kh]; exact aw i hi
  · intro i hi hi2
    by_cases kc : 0 < k ∧ k ≤ c
    · rw [if_pos kc, pk_un (by omega)]
      exact c2 i hi hi2
    · rw [if_neg kc]; exact c2 i hi hi2
/-- the next append becomes durable -/
theorem dq_m2 (htc : tc ≤ 6) (P : dq_P h c d nd xv xap xn xcl xpn xpc xfs yv yap ycl yaw ycw) (T : dq_T tc h c d nd ph tk oo ol du yap ycl) (hd : d < h) (ha : yaw d = 1) : ∃ t, t < tc ∧ yap d = nI t ∧ xap (nd (d + 1)) = nI t ∧ ph t = 5 ∧ dq_P h c (d + 1) nd xv xap xn xcl xpn xpc xfs yv (upd yap d (-1)) ycl yaw ycw ∧ dq_T tc h c (d + 1) nd ph tk oo ol (upd du t 1) (upd yap d (-1)) ycl := by
  obtain ⟨t1, t2, t3, t4⟩ := T
  obtain ⟨t, ht, e1, e2, e3, e4, e5, e6, e7⟩ := t2 d (Nat.le_refl d) hd
  have n1 := fun i hi => dq_nd P (i := i) hi
  have n2 := fun i j hi hj => dq_nj P (i := i) (j := j) hi hj
  have hh := (dq_pb P).1
  refine ⟨t, ht, e1, ?_, e2, ?_, ?_⟩
  · obtain ⟨b, n1, n2, nx, nh, vv, cl, pn, ph, pc, fs, ba, bc, aw, a1, a2, c1, c2, v3⟩ := P
    rw [← a2 d (Nat.le_refl d) hd]; exact e1
  · obtain ⟨b, n1, n2, nx, nh, vv, cl, pn, ph, pc, fs, ba, bc, aw, a1, a2, c1, c2, v3⟩ := P
    refine ⟨⟨b.1, b.2.1, hd⟩, n1, n2, nx, nh, vv, cl, pn, ph, pc, fs, ba, bc, ?_, ?_, ?_, c1, c2, v3⟩
    · intro i hi
      by_cases e : i = d
      · subst e; exact ha
      · exact aw i (by omega)
    · intro i hi
      by_cases e : i = d
      · subst e; exact pk_us
      · rw [pk_un e]; exact a1 i (by omega)
    · intro i hi hi2
      rw [pk_un (by omega)]; exact a2 i (by omega) hi2
  · refine ⟨?_, ?_, ?_, ?_⟩
    · intro i hi
      obtain ⟨s, hs, f1, f2, f3, f4, f5, f6, f7⟩ := t1 i hi
      have q : s ≠ t := fun z => e6 (z ▸ f6)
      exact ⟨s, hs, f1, f2, (pk_un q).trans f3, f4, f5, f6, f7⟩
    · intro i hi hi2
      obtain ⟨s, hs, f1, f2, f3, f4, f5, f6, f7⟩ := t2 i (by omega) hi2
      have q : s ≠ t := by
        intro z
        subst z
        have w := n1 i (by omega)
        have w2 := n1 d (by omega)
        have := n2 i d (by omega) (by omega) (dq_inj (by omega) (by omega) (f7.symm.trans e7))
        omega
      exact ⟨s, hs, (pk_un (by omega)).trans f1, f2, (pk_un q).trans f3, f4, f5, f6, f7⟩
    · intro s hs f1 f2 f3 f4 f5
      by_cases q : s = t
      · subst q; exact absurd f5 e6
      · exact t3 s hs f1 (by rw [pk_un q] at f2; exact f2) f3 f4 f5
    · intro s hs f1 f2 f3 f4 f5
      by_cases q : s = t
      · subst q; rw [pk_us] at f2; exact absurd f2 (by decide)
      · obtain ⟨i, i1, i2, i3⟩ := t4 s hs f1 (by rw [pk_un q] at f2; exact f2) f3 f4 f5
        have z : i ≠ d := by
          intro z; subst z
          exact q (dq_inj (by omega) (by omega) (i3.symm.trans e1))
        exact ⟨i, by omega, i2, (pk_un z).trans i3⟩
/-- the oldest value goes -/
theorem dq_m3 (htc : tc ≤ 6) (P : dq_P (h + 1) (c + 1) (d + 1) nd xv xap xn xcl xpn xpc xfs yv yap ycl yaw ycw) (T : dq_T tc (h + 1) (c + 1) (d + 1) nd ph tk oo ol du yap ycl) : ∃ t, t < tc ∧ ycl 0 = nI t ∧ xcl (nd 1) = nI t ∧ ph t = 5 ∧ dq_P h c d (dq_rot (h + 1) nd) xv xap xn xcl xpn xpc (upd xfs (12 - (h + 1)) (nI (nd 0))) (dq_sh (h + 1) yv) (dq_sh (h + 1) yap) (dq_sh (h + 1) ycl) (dq_sh (h + 1) yaw) (dq_sh (h + 1) ycw) ∧ dq_T tc h c d (dq_rot (h + 1) nd) ph tk oo ol (upd du t 1) (dq_sh (h + 1) yap) (dq_sh (h + 1) ycl) := by
  obtain ⟨t1, t2, t3, t4⟩ := T
  obtain ⟨t, ht, e1, e2, e3, e4, e5, e6, e7⟩ := t1 0 (by omega)
  obtain ⟨b, n1, n2, nx, nh, vv, cl, pn, pnh, pc, fs, ba, bc, aw, a1, a2, c1, c2, v3⟩ := P
  refine ⟨t, ht, e1, ?_, e2, ?_, ?_⟩
  · rw [cl 0 (by omega)]; exact e1
  · refine ⟨by omega, ?_, ?_, ?_, ?_, ?_, ?_, ?_, ?_, ?_, ?_, ?_, ?_, ?_, ?_, ?_, ?_, ?_, ?_⟩
    · intro i hi
      by_cases e : i < h + 1
      · rw [dq_rot_lt e]; exact n1 _ (by omega)
      · by_cases e' : i = h + 1
        · rw [e', dq_rot_eq]; exact n1 _ (by omega)
        · rw [dq_rot_gt (by omega)]; exact n1 _ (by omega)
    · intro i j hi hj
      by_cases e : i < h + 1
      · rw [dq_rot_lt e]
        by_cases f : j < h + 1
        · rw [dq_rot_lt f]; intro z; have := n2 _ _ (by omega) (by omega) z; omega
        · by_cases f' : j = h + 1
          · rw [f', dq_rot_eq]; intro z; have := n2 _ _ (by omega) (by omega) z; omega
          · rw [dq_rot_gt (by omega)]; intro z; have := n2 _ _ (by omega) (by omega) z; omega
      · by_cases e' : i = h + 1
        · rw [e', dq_rot_eq]
          by_cases f : j < h + 1
          · rw [dq_rot_lt f]; intro z; have := n2 _ _ (by omega) (by omega) z; omega
          · by_cases f' : j = h + 1
            · intro _; omega
            · rw [dq_rot_gt (by omega)]; intro z; have := n2 _ _ (by omega) (by omega) z; omega
        · rw [dq_rot_gt (by omega)]
          by_cases f : j < h + 1
          · rw [dq_rot_lt f]; intro z; have := n2 _ _ (by omega) (by omega) z; omega
          · by_cases f' : j = h + 1
            · rw [f', dq_rot_eq]; intro z; have := n2 _ _ (by omega) (by omega) z; omega
            · rw [dq_rot_gt (by omega)]; intro z; exact n2 _ _ (by omega) (by omega) z
    · intro i hi
      rw [dq_rot_lt (by omega), dq_rot_lt (by omega)]; exact nx _ (by omega)
    · rw [dq_rot_lt (by omega)]; exact nh
    · intro i hi
      rw [dq_rot_lt (by omega), dq_sh_lt (by omega)]; exact vv _ (by omega)
    · intro i hi
      rw [dq_rot_lt (by omega), dq_sh_lt (by omega)]; exact cl _ (by omega)
    · intro i hi
      rw [dq_rot_lt (by omega), dq_rot_lt (by omega), dq_sh_lt (by omega)]; exact pn _ (by omega)
    · rw [dq_rot_lt (by omega)]; exact pnh
    · intro i hi
      rw [dq_rot_lt (by omega), dq_sh_lt (by omega), dq_sh_lt (by omega)]; exact pc _ (by omega)
    · intro i hi hi2
      by_cases e : i = h + 1
      · subst e
        rw [dq_rot_eq, pk_us]
      · rw [dq_rot_gt (by omega), pk_un (by omega)]; exact fs i (by omega) hi2
    · intro i hi
      rw [dq_sh_lt (by omega)]; exact ba _ (by omega)
    · intro i hi
      rw [dq_sh_lt (by omega)]; exact bc _ (by omega)
    · intro i hi
      rw [dq_sh_lt (by omega)]; exact aw _ (by omega)
    · intro i hi
      rw [dq_sh_lt (by omega)]; exact a1 _ (by omega)
    · intro i hi hi2
      rw [dq_sh_lt (by omega), dq_rot_lt (by omega)]; exact a2 _ (by omega) (by omega)
    · intro i hi hi2
      rw [dq_sh_lt (by omega)]; exact c1 _ (by omega) (by omega)
    · intro i hi hi2
      rw [dq_sh_lt (by omega)]; exact c2 _ (by omega) (by omega)
    · intro i hi
      rw [dq_sh_lt (by omega)]; exact v3 _ (by omega)
  · refine ⟨?_, ?_, ?_, ?_⟩
    · intro i hi
      obtain ⟨s, hs, f1, f2, f3, f4, f5, f6, f7⟩ := t1 (i + 1) (by omega)
      have q : s ≠ t := by
        intro z
        subst z
        have w := n1 (i + 1 + 1) (by omega)
        have w2 := n1 (0 + 1) (by omega)
        have := n2 (i + 1 + 1) (0 + 1) (by omega) (by omega) (dq_inj (by omega) (by omega) (f7.symm.trans e7))
        omega
      refine ⟨s, hs, ?_, f2, (pk_un q).trans f3, f4, f5, f6, ?_⟩
      · rw [dq_sh_lt (by omega)]; exact f1
      · rw [dq_rot_lt (by omega)]; exact f7
    · intro i hi hi2
      obtain ⟨s, hs, f1, f2, f3, f4, f5, f6, f7⟩ := t2 (i + 1) (by omega) (by omega)
      have q : s ≠ t := fun z => f6 (z ▸ e6)
      refine ⟨s, hs, ?_, f2, (pk_un q).trans f3, f4, f5, f6, ?_⟩
      · rw [dq_sh_lt (by omega)]; exact f1
      · rw [dq_rot_lt (by omega)]; exact f7
    · intro s hs f1 f2 f3 f4 f5
      by_cases q : s = t
      · subst q; rw [pk_us] at f2; exact absurd f2 (by decide)
      · obtain ⟨i, i2, i3⟩ := t3 s hs f1 (by rw [pk_un q] at f2; exact f2) f3 f4 f5
        have z : i ≠ 0 := by
          intro z; subst z
          exact q (dq_inj (by omega) (by omega) (i3.symm.trans e1))
        obtain ⟨j, rfl⟩ : ∃ j, i = j + 1 := ⟨i - 1, by omega⟩
        refine ⟨j, by omega, ?_⟩
        rw [dq_sh_lt (by omega)]; exact i3
    · intro s hs f1 f2 f3 f4 f5
      by_cases q : s = t
      · subst q; exact absurd e6 f5
      · obtain ⟨i, i1, i2, i3⟩ := t4 s hs f1 (by rw [pk_un q] at f2; exact f2) f3 f4 f5
        obtain ⟨j, rfl⟩ : ∃ j, i = j + 1 := ⟨i - 1, by omega⟩
        refine ⟨j, by omega, by omega, ?_⟩
        rw [dq_sh_lt (by omega)]; exact i3
end
end
section
/-- what holds of the threads besides -/
def dq_E (tc cap h c ur : Nat) (yD : Int32) (ph tk onn oo an du rn rc yo : Nat → Int32) : Prop :=
  (1 ≤ tc ∧ tc ≤ 6 ∧ 1 ≤ cap ∧ cap ≤ 12 ∧ h ≤ cap) ∧
  (∀ t, t < tc → ph t = 3 → tk t = -8 → c < h) ∧
  (∀ t, t < tc → ph t = 3 → tk t ≠ -8 → h < cap) ∧
  (∀ t, t < tc → ph t = 5 ∨ ph t = 6 → yo t = oo t) ∧
  (∀ t, t < tc → ph t = 1 → an t = 0 → onn t = rn t + 1) ∧
  (∀ t, tc ≤ t → ph t = 0) ∧
  (∀ t, tc ≤ t → rc t = 0) ∧
  (∀ t, t < tc → ph t ≠ 0 → tk t ≠ -3 ∧ tk t ≠ -4) ∧
  (∀ t, t < tc → ph t ≠ 0 → ph t ≠ 5 → ph t ≠ 6 → du t = 0) ∧
  ((ur = 0 ∧ yD = 0) ∨ (0 < ur ∧ yD = 1 ∧ ur = dq_cz rc tc ∧ ∀ t, ph t = 0))
section
variable {tc cap h c d ur : Nat} {nd : Nat → Nat} {yD : Int32} {xv xap xn xcl xpn xpc xfs yv yap ycl yaw ycw ph tk onn oo ol an du rn rc yo : Nat → Int32}
/-- one thread that is not pending changes and is not pending -/
theorem dq_ts {t : Nat} {ph' tk' oo' ol' du' : Nat → Int32} (T : dq_T tc h c d nd ph tk oo ol du yap ycl) (np : ph t ≠ 5 ∨ du t ≠ 0 ∨ oo t = -3 ∨ oo t = -4) (nq : ph' t ≠ 5 ∨ du' t ≠ 0 ∨ oo' t = -3 ∨ oo' t = -4) (hs : ∀ s, s ≠ t → ph' s = ph s ∧ tk' s = tk s ∧ oo' s = oo s ∧ ol' s = ol s ∧ du' s = du s) : dq_T tc h c d nd ph' tk' oo' ol' du' yap ycl := by
  obtain ⟨t1, t2, t3, t4⟩ := T
  refine ⟨?_, ?_, ?_, ?_⟩
  · intro i hi
    obtain ⟨s, h1, f1, f2, f3, f4, f5, f6, f7⟩ := t1 i hi
    have q : s ≠ t := by
      intro z; subst z
      rcases np with q | q | q | q
      · exact q f2
      · exact q f3
      · exact f4 q
      · exact f5 q
    obtain ⟨g1, g2, g3, g4, g5⟩ := hs s q
    rw [← g1] at f2; rw [← g5] at f3; rw [← g3] at f4 f5; rw [← g2] at f6; rw [← g4] at f7
    exact ⟨s, h1, f1, f2, f3, f4, f5, f6, f7⟩
  · intro i hi hi2
    obtain ⟨s, h1, f1, f2, f3, f4, f5, f6, f7⟩ := t2 i hi hi2
    have q : s ≠ t := by
      intro z; subst z
      rcases np with q | q | q | q
      · exact q f2
      · exact q f3
      · exact f4 q
      · exact f5 q
    obtain ⟨g1, g2, g3, g4, g5⟩ := hs s q
    rw [← g1] at f2; rw [← g5] at f3; rw [← g3] at f4 f5; rw [← g2] at f6; rw [← g4] at f7
    exact ⟨s, h1, f1, f2, f3, f4, f5, f6, f7⟩
  · intro s h1 f2 f3 f4 f5 f6
    have q : s ≠ t := by
      intro z; subst z
      rcases nq with q | q | q | q
      · exact q f2
      · exact q f3
      · exact f4 q
      · exact f5 q
    obtain ⟨g1, g2, g3, g4, g5⟩ := hs s q
    rw [g1] at f2; rw [g5] at f3; rw [g3] at f4 f5; rw [g2] at f6
    exact t3 s h1 f2 f3 f4 f5 f6
  · intro s h1 f2 f3 f4 f5 f6
    have q : s ≠ t := by
      intro z; subst z
      rcases nq with q | q | q | q
      · exact q f2
      · exact q f3
      · exact f4 q
      · exact f5 q
    obtain ⟨g1, g2, g3, g4, g5⟩ := hs s q
    rw [g1] at f2; rw [g5] at f3; rw [g3] at f4 f5; rw [g2] at f6
    exact t4 s h1 f2 f3 f4 f5 f6
theorem dq_tp {ph' : Nat → Int32} (T : dq_T tc h c d nd ph tk oo ol du yap ycl) (hp : ∀ s, ph' s = 5 ↔ ph s = 5) : dq_T tc h c d nd ph' tk oo ol du yap ycl := by
  obtain ⟨t1, t2, t3, t4⟩ := T
  refine ⟨?_, ?_, ?_, ?_⟩
  · intro i hi
    obtain ⟨s, h1, f1, f2, f3⟩ := t1 i hi
    exact ⟨s, h1, f1, (hp s).mpr f2, f3⟩
  · intro i hi hi2
    obtain ⟨s, h1, f1, f2, f3⟩ := t2 i hi hi2
    exact ⟨s, h1, f1, (hp s).mpr f2, f3⟩
  · intro s h1 f2
    exact t3 s h1 ((hp s).mp f2)
  · intro s h1 f2
    exact t4 s h1 ((hp s).mp f2)
/-- an append -/
theorem dq_m4p {a x : Int32} (P : dq_P h c d nd xv xap xn xcl xpn xpc xfs yv yap ycl yaw ycw) (hh : h < 12) (ha : a ≠ -3 ∧ a ≠ -4) : dq_P (h + 1) c d nd (upd xv (nd (h + 1)) a) (upd xap (nd (h + 1)) x) (upd (upd xn (nd (h + 1)) (-1)) (nd h) (nI (nd (h + 1)))) (upd xcl (nd (h + 1)) (-1)) (upd xpn (nd (h + 1)) (-1)) (upd xpc (nd (h + 1)) (-1)) xfs (upd yv h a) (upd yap h x) (upd ycl h (-1)) (upd yaw h 0) (upd ycw h 0) := by
  obtain ⟨b, n1, n2, nx, nh, vv, cl, pn, pnh, pc, fs, ba, bc, aw, a1, a2, c1, c2, v3⟩ := P
  have ne : ∀ i j, i < 13 → j < 13 → i ≠ j → nd i ≠ nd j := fun i j hi hj q z => q (n2 i j hi hj z)
  refine ⟨by omega, n1, n2, ?_, ?_, ?_, ?_, ?_, ?_, ?_, ?_, ?_, ?_, ?_, ?_, ?_, ?_, ?_, ?_⟩
  · intro i hi
    by_cases e : i = h
    · subst e; exact pk_us
    · rw [pk_un (ne _ _ (by omega) (by omega) e), pk_un (ne _ _ (by omega) (by omega) (by omega))]
      exact nx i (by omega)
  · rw [pk_un (ne _ _ (by omega) (by omega) (by omega))]; exact pk_us
  · intro i hi
    by_cases e : i = h
    · subst e; rw [pk_us, pk_us]
    · rw [pk_un (ne _ _ (by omega) (by omega) (by omega)), pk_un e]; exact vv i (by omega)
  · intro i hi
    by_cases e : i = h
    · subst e; rw [pk_us, pk_us]
    · rw [pk_un (ne _ _ (by omega) (by omega) (by omega)), pk_un e]; exact cl i (by omega)
  · intro i hi
    rw [pk_un (ne _ _ (by omega) (by omega) (by omega))]
    by_cases e : i = h
    · subst e; rw [pk_us, if_pos rfl]; exact pnh
    · rw [pk_un e]; exact pn i (by omega)
  · exact pk_us
  · intro i hi
    by_cases e : i = h
    · subst e; rw [pk_us, pk_us, if_pos rfl]
    · rw [pk_un (ne _ _ (by omega) (by omega) (by omega)), pk_un e, pk_un e]; exact pc i (by omega)
  · intro i hi hi2
    exact fs i (by omega) hi2
  · intro i hi
    by_cases e : i = h
    · subst e; rw [pk_us]; exact Or.inl rfl
    · rw [pk_un e]; exact ba i (by omega)
  · intro i hi
    by_cases e : i = h
    · subst e; rw [pk_us]; exact Or.inl rfl
    · rw [pk_un e]; exact bc i (by omega)
  · intro i hi
    rw [pk_un (by omega)]; exact aw i hi
  · intro i hi
    rw [pk_un (by omega)]; exact a1 i hi
  · intro i hi hi2
    by_cases e : i = h
    · subst e; rw [pk_us, pk_us]
    · rw [pk_un (ne _ _ (by omega) (by omega) (by omega)), pk_un e]; exact a2 i hi (by omega)
  · intro i hi hi2
    by_cases e : i = h
    · subst e; rw [pk_us]
    · rw [pk_un e]; exact c1 i hi (by omega)
  · intro i hi hi2
    by_cases e : i = h
    · subst e; rw [pk_us]
    · rw [pk_un e]; exact c2 i hi (by omega)
  · intro i hi
    by_cases e : i = h
    · subst e; rw [pk_us]; exact ha
    · rw [pk_un e]; exact v3 i (by omega)
theorem dq_m4t {t : Nat} {x : Int32} (T : dq_T tc h c d nd ph tk oo ol du yap ycl) (hc : c ≤ h) (hd : d ≤ h) (ht : t < tc) (hp : ph t ≠ 5) (hu : du t = 0) (hk : tk t ≠ -8) : dq_T tc (h + 1) c d nd (upd ph t 5) tk (upd oo t (-5)) (upd ol t (nI (nd h))) du (upd yap h (nI t)) (upd ycl h x) := by
  obtain ⟨t1, t2, t3, t4⟩ := T
  refine ⟨?_, ?_, ?_, ?_⟩
  · intro i hi
    obtain ⟨s, h1, f1, f2, f3, f4, f5, f6, f7⟩ := t1 i hi
    have q : s ≠ t := by intro z; subst z; exact hp f2
    exact ⟨s, h1, (pk_un (by omega)).trans f1, (pk_un q).trans f2, f3, by rw [pk_un q]; exact f4, by rw [pk_un q]; exact f5, f6, (pk_un q).trans f7⟩
  · intro i hi hi2
    by_cases e : i = h
    · subst e
      exact ⟨t, ht, pk_us, pk_us, hu, by rw [pk_us]; decide, by rw [pk_us]; decide, hk, pk_us⟩
    · obtain ⟨s, h1, f1, f2, f3, f4, f5, f6, f7⟩ := t2 i hi (by omega)
      have q : s ≠ t := by intro z; subst z; exact hp f2
      exact ⟨s, h1, (pk_un e).trans f1, (pk_un q).trans f2, f3, by rw [pk_un q]; exact f4, by rw [pk_un q]; exact f5, f6, (pk_un q).trans f7⟩
  · intro s h1 f2 f3 f4 f5 f6
    by_cases q : s = t
    · subst q; exact absurd f6 hk
    · rw [pk_un q] at f2 f4 f5
      obtain ⟨i, hi, e⟩ := t3 s h1 f2 f3 f4 f5 f6
      exact ⟨i, hi, (pk_un (by omega)).trans e⟩
  · intro s h1 f2 f3 f4 f5 f6
    by_cases q : s = t
    · subst q; exact ⟨h, hd, by omega, pk_us⟩
    · rw [pk_un q] at f2 f4 f5
      obtain ⟨i, hi, hi2, e⟩ := t4 s h1 f2 f3 f4 f5 f6
      exact ⟨i, hi, by omega, (pk_un (by omega)).trans e⟩
/-- a claim -/
theorem dq_m5p {x : Int32} (P : dq_P h c d nd xv xap xn xcl xpn xpc xfs yv yap ycl yaw ycw) (hh : c < h) : dq_P h (c + 1) d nd xv xap xn (upd xcl (nd (c + 1)) x) xpn xpc xfs yv yap (upd ycl c x) yaw (upd ycw c 0) := by
  obtain ⟨b, n1, n2, nx, nh, vv, cl, pn, pnh, pc, fs, ba, bc, aw, a1, a2, c1, c2, v3⟩ := P
  have ne : ∀ i j, i < 13 → j < 13 → i ≠ j → nd i ≠ nd j := fun i j hi hj q z => q (n2 i j hi hj z)
  refine ⟨by omega, n1, n2, nx, nh, vv, ?_, pn, pnh, ?_, fs, ba, ?_, aw, a1, a2, ?_, ?_, v3⟩
  · intro i hi
    by_cases e : i = c
    · subst e; rw [pk_us, pk_us]
    · rw [pk_un (ne _ _ (by omega) (by omega) (by omega)), pk_un e]; exact cl i hi
  · intro i hi
    by_cases e : i = c
    · subst e; rw [pk_us, if_pos rfl, pc i hi, c2 i (Nat.le_refl i) hi, if_pos rfl]
    · rw [pk_un e, pk_un e]; exact pc i hi
  · intro i hi
    by_cases e : i = c
    · subst e; rw [pk_us]; exact Or.inl rfl
    · rw [pk_un e]; exact bc i hi
  · intro i hi hi2
    rw [pk_un (by omega)]; exact c1 i (by omega) hi2
  · intro i hi hi2
    rw [pk_un (by omega)]; exact c2 i (by omega) hi2
theorem dq_m5t {t : Nat} {a : Int32} (T : dq_T tc h c d nd ph tk oo ol du yap ycl) (hc : c < h) (ha : a ≠ -3 ∧ a ≠ -4) (ht : t < tc) (hp : ph t ≠ 5) (hu : du t = 0) (hk : tk t = -8) : dq_T tc h (c + 1) d nd (upd ph t 5) tk (upd oo t a) (upd ol t (nI (nd (c + 1)))) du yap (upd ycl c (nI t)) := by
  obtain ⟨t1, t2, t3, t4⟩ := T
  refine ⟨?_, ?_, ?_, ?_⟩
  · intro i hi
    by_cases e : i = c
    · subst e
      exact ⟨t, ht, pk_us, pk_us, hu, by rw [pk_us]; exact ha.1, by rw [pk_us]; exact ha.2, hk, pk_us⟩
    · obtain ⟨s, h1, f1, f2, f3, f4, f5, f6, f7⟩ := t1 i (by omega)
      have q : s ≠ t := by intro z; subst z; exact hp f2
      exact ⟨s, h1, (pk_un e).trans f1, (pk_un q).trans f2, f3, by rw [pk_un q]; exact f4, by rw [pk_un q]; exact f5, f6, (pk_un q).trans f7⟩
  · intro i hi hi2
    obtain ⟨s, h1, f1, f2, f3, f4, f5, f6, f7⟩ := t2 i hi hi2
    have q : s ≠ t := by intro z; subst z; exact hp f2
    exact ⟨s, h1, f1, (pk_un q).trans f2, f3, by rw [pk_un q]; exact f4, by rw [pk_un q]; exact f5, f6, (pk_un q).trans f7⟩
  · intro s h1 f2 f3 f4 f5 f6
    by_cases q : s = t
    · subst q; exact ⟨c, by omega, pk_us⟩
    · rw [pk_un q] at f2 f4 f5
      obtain ⟨i, hi, e⟩ := t3 s h1 f2 f3 f4 f5 f6
      exact ⟨i, by omega, (pk_un (by omega)).trans e⟩
  · intro s h1 f2 f3 f4 f5 f6
    by_cases q : s = t
    · subst q; exact absurd hk f6
    · rw [pk_un q] at f2 f4 f5
      exact t4 s h1 f2 f3 f4 f5 f6
/-- what a crash leaves -/
theorem dq_m6 {nd' : Nat → Nat} {xn' xcl' xpc' xfs' : Nat → Int32} (P : dq_P h c d nd xv xap xn xcl xpn xpc xfs yv yap ycl yaw ycw) (D : d < h → yaw d = 0) (hn : ∀ i, i ≤ d → nd' i = nd i) (n1' : ∀ i, i < 13 → nd' i < 13) (n2' : ∀ i j, i < 13 → j < 13 → nd' i = nd' j → i = j) (hxn : ∀ i, i ≤ d → xn' (nd i) = xpn (nd i)) (hcl : ∀ i, i ≤ d → xcl' (nd i) = -1) (hpc : ∀ i, i ≤ d → xpc' (nd i) = -1) (hfs : ∀ i, d < i → i < 13 → xfs' (12 - i) = nI (nd' i)) : dq_P d 0 d nd' xv xap xn' xcl' xpn xpc' xfs' yv (dq_f (-1) d yap) (dq_f (-1) d ycl) yaw (dq_f 0 d ycw) := by
  obtain ⟨b, n1, n2, nx, nh, vv, cl, pn, pnh, pc, fs, ba, bc, aw, a1, a2, c1, c2, v3⟩ := P
  have z1 : ∀ i, i < d → xpn (nd i) = nI (nd (i + 1)) := by
    intro i hi
    rw [pn i (by omega), aw i hi, if_neg (by decide)]
  have z2 : xpn (nd d) = -1 := by
    by_cases e : d < h
    · rw [pn d e, D e, if_pos rfl]
    · rw [show d = h by omega]; exact pnh
  refine ⟨by omega, n1', n2', ?_, ?_, ?_, ?_, ?_, ?_, ?_, hfs, ?_, ?_, aw, ?_, ?_, ?_, ?_, ?_⟩
  · intro i hi
    rw [hn i (by omega), hn (i + 1) (by omega), hxn i (by omega)]; exact z1 i hi
  · rw [hn d (by omega), hxn d (by omega)]; exact z2
  · intro i hi
    rw [hn (i + 1) (by omega)]; exact vv i (by omega)
  · intro i hi
    rw [hn (i + 1) (by omega), hcl (i + 1) (by omega), dq_f_lt hi]
  · intro i hi
    rw [hn i (by omega), hn (i + 1) (by omega), aw i hi, if_neg (by decide)]; exact z1 i hi
  · rw [hn d (by omega)]; exact z2
  · intro i hi
    rw [hn (i + 1) (by omega), hpc (i + 1) (by omega), dq_f_lt hi, if_pos rfl]
  · intro i hi
    exact ba i (by omega)
  · intro i hi
    rw [dq_f_lt hi]; exact Or.inl rfl
  · intro i hi
    exact dq_f_lt hi
  · intro i hi hi2
    omega
  · intro i _ hi
    exact dq_f_lt hi
  · intro i _ hi
    exact dq_f_lt hi
  · intro i hi
    exact v3 i (by omega)
theorem dq_m6d (P : dq_P h 0 h nd xv xap xn xcl xpn xpc xfs yv yap ycl yaw ycw) : dq_P h 0 h nd xv xap xn xcl xpn xpc xfs yv (dq_f (-1) h yap) (dq_f (-1) h ycl) yaw (dq_f 0 h ycw) := by
  obtain ⟨b, n1, n2, nx, nh, vv, cl, pn, pnh, pc, fs, ba, bc, aw, a1, a2, c1, c2, v3⟩ := P
  refine ⟨b, n1, n2, nx, nh, vv, ?_, pn, pnh, ?_, fs, ba, ?_, aw, ?_, ?_, ?_, ?_, v3⟩
  · intro i hi
    rw [dq_f_lt hi, cl i hi]; exact c1 i (by omega) hi
  · intro i hi
    rw [dq_f_lt hi, if_pos rfl, pc i hi, c2 i (by omega) hi, if_pos rfl]
  · intro i hi
    rw [dq_f_lt hi]; exact Or.inl rfl
  · intro i hi
    exact dq_f_lt hi
  · intro i hi hi2
    omega
  · intro i _ hi
    exact dq_f_lt hi
  · intro i _ hi
    exact dq_f_lt hi
theorem dq_t0 {nd' : Nat → Nat} : dq_T tc d 0 d nd' (fun _ => 0) tk oo ol du yap ycl := by
  refine ⟨?_, ?_, ?_, ?_⟩
  · intro i hi; omega
  · intro i hi hi2; omega
  · intro s _ f; exact absurd (show (0 : Int32) = 5 from f) (by decide)
  · intro s _ f; exact absurd (show (0 : Int32) = 5 from f) (by decide)
theorem dq_dn (b : c ≤ h ∧ d ≤ h) (T : dq_T tc h c d nd ph tk oo ol du yap ycl) (hp : ∀ t, ph t = 0) : c = 0 ∧ d = h := by
  obtain ⟨t1, t2, t3, t4⟩ := T
  constructor
  · by_cases e : c = 0
    · exact e
    · obtain ⟨s, h1, f1, f2, f3⟩ := t1 0 (by omega)
      rw [hp s] at f2; exact absurd f2 (by decide)
  · by_cases e : d = h
    · exact e
    · obtain ⟨s, h1, f1, f2, f3⟩ := t2 d (Nat.le_refl d) (by omega)
      rw [hp s] at f2; exact absurd f2 (by decide)
/-- the three kinds of an effect that is not durable -/
theorem dq_cls {t : Nat} (htc : tc ≤ 6) (P : dq_P h c d nd xv xap xn xcl xpn xpc xfs yv yap ycl yaw ycw) (T : dq_T tc h c d nd ph tk oo ol du yap ycl) (ht : t < tc) (hp : ph t = 5) (hu : du t = 0) :
    ((oo t = -3 ∨ oo t = -4) ∧ (∀ i, i < h → ycl i ≠ nI t) ∧ (∀ i, i < h → yap i ≠ nI t)) ∨
    ((oo t ≠ -3 ∧ oo t ≠ -4) ∧ tk t = -8 ∧ ∃ i, i < c ∧ ycl i = nI t ∧ ol t = nI (nd (i + 1)) ∧ ∀ j, j < h → ycl j = nI t → j = i) ∨
    ((oo t ≠ -3 ∧ oo t ≠ -4) ∧ tk t ≠ -8 ∧ ∃ i, d ≤ i ∧ i < h ∧ yap i = nI t ∧ ol t = nI (nd i) ∧ ∀ j, j < h → yap j = nI t → j = i) := by
  obtain ⟨t1, t2, t3, t4⟩ := T
  obtain ⟨b, n1, n2, nx, nh, vv, cl, pn, pnh, pc, fs, ba, bc, aw, a1, a2, c1, c2, v3⟩ := P
  have k1 : ∀ i, i < h → ycl i = nI t → i < c ∧ oo t ≠ -3 ∧ oo t ≠ -4 ∧ ol t = nI (nd (i + 1)) := by
    intro i hi e
    by_cases ic : i < c
    · obtain ⟨s, h1, f1, f2, f3, f4, f5, f6, f7⟩ := t1 i ic
      have q : s = t := dq_inj (by omega) (by omega) (f1.symm.trans e)
      subst q
      exact ⟨ic, f4, f5, f7⟩
    · exact absurd (e.symm.trans (c1 i (by omega) hi)) (dq_ne1 (by omega))
  have k2 : ∀ i, i < h → yap i = nI t → d ≤ i ∧ oo t ≠ -3 ∧ oo t ≠ -4 ∧ ol t = nI (nd i) := by
    intro i hi e
    by_cases ic : d ≤ i
    · obtain ⟨s, h1, f1, f2, f3, f4, f5, f6, f7⟩ := t2 i ic hi
      have q : s = t := dq_inj (by omega) (by omega) (f1.symm.trans e)
      subst q
      exact ⟨ic, f4, f5, f7⟩
    · exact absurd (e.symm.trans (a1 i (by omega))) (dq_ne1 (by omega))
  by_cases o3 : oo t = -3
  · exact Or.inl ⟨Or.inl o3, fun i hi e => (k1 i hi e).2.1 o3, fun i hi e => (k2 i hi e).2.1 o3⟩
  by_cases o4 : oo t = -4
  · exact Or.inl ⟨Or.inr o4, fun i hi e => (k1 i hi e).2.2.1 o4, fun i hi e => (k2 i hi e).2.2.1 o4⟩
  by_cases k8 : tk t = -8
  · obtain ⟨i, hi, e⟩ := t3 t ht hp hu o3 o4 k8
    have z := (k1 i (by omega) e).2.2.2
    refine Or.inr (Or.inl ⟨⟨o3, o4⟩, k8, i, hi, e, z, ?_⟩)
    intro j hj f
    have w := n1 (i + 1) (by omega)
    have w2 := n1 (j + 1) (by omega)
    have := n2 (j + 1) (i + 1) (by omega) (by omega) (dq_inj (by omega) (by omega) ((k1 j hj f).2.2.2.symm.trans z))
    omega
  · obtain ⟨i, hi, hi2, e⟩ := t4 t ht hp hu o3 o4 k8
    have z := (k2 i (by omega) e).2.2.2
    refine Or.inr (Or.inr ⟨⟨o3, o4⟩, k8, i, hi, hi2, e, z, ?_⟩)
    intro j hj f
    have w := n1 i (by omega)
    have w2 := n1 j (by omega)
    exact n2 j i (by omega) (by omega) (dq_inj (by omega) (by omega) ((k2 j hj f).2.2.2.symm.trans z))
/-- the others after a settling -/
theorem dq_es {h' c' : Nat} {du' : Nat → Int32} (E : dq_E tc cap h c ur yD ph tk onn oo an du rn rc yo) (h1 : h' ≤ h) (h2 : h' + c = h + c') (h3 : ∀ s, ph s ≠ 5 → du' s = du s) : dq_E tc cap h' c' ur yD ph tk onn oo an du' rn rc yo := by
  obtain ⟨b, e1, e2, e3, e4, e5, e6, e7, e8, e9⟩ := E
  refine ⟨by omega, ?_, ?_, e3, e4, e5, e6, e7, ?_, e9⟩
  · intro t ht a k
    have := e1 t ht a k; omega
  · intro t ht a k
    have := e2 t ht a k; omega
  · intro t ht a k k2
    rw [h3 t k]; exact e8 t ht a k k2
/-- the others when one thread changes -/
theorem dq_ee {t : Nat} {ph' tk' onn' oo' an' du' rn' yo' : Nat → Int32} (E : dq_E tc cap h c ur yD ph tk onn oo an du rn rc yo) (hu : ur = 0) (ht : t < tc)
    (hs : ∀ s, s ≠ t → ph' s = ph s ∧ tk' s = tk s ∧ onn' s = onn s ∧ oo' s = oo s ∧ an' s = an s ∧ du' s = du s ∧ rn' s = rn s ∧ yo' s = yo s)
    (k1 : ph' t = 3 → tk' t = -8 → c < h) (k2 : ph' t = 3 → tk' t ≠ -8 → h < cap) (k3 : ph' t = 5 ∨ ph' t = 6 → yo' t = oo' t)
    (k4 : ph' t = 1 → an' t = 0 → onn' t = rn' t + 1) (k5 : ph' t ≠ 0 → tk' t ≠ -3 ∧ tk' t ≠ -4) (k6 : ph' t ≠ 0 → ph' t ≠ 5 → ph' t ≠ 6 → du' t = 0) :
    dq_E tc cap h c ur yD ph' tk' onn' oo' an' du' rn' rc yo' := by
  obtain ⟨b, e1, e2, e3, e4, e5, e6, e7, e8, e9⟩ := E
  refine ⟨b, ?_, ?_, ?_, ?_, ?_, e6, ?_, ?_, ?_⟩
  · intro s h1
    by_cases q : s = t
    · subst q; exact k1
    · obtain ⟨g1, g2, g3, g4, g5, g6, g7, g8⟩ := hs s q
      rw [g1, g2]; exact e1 s h1
  · intro s h1
    by_cases q : s = t
    · subst q; exact k2
    · obtain ⟨g1, g2, g3, g4, g5, g6, g7, g8⟩ := hs s q
      rw [g1, g2]; exact e2 s h1
  · intro s h1
    by_cases q : s = t
    · subst q; exact k3
    · obtain ⟨g1, g2, g3, g4, g5, g6, g7, g8⟩ := hs s q
      rw [g1, g4, g8]; exact e3 s h1
  · intro s h1
    by_cases q : s = t
    · subst q; exact k4
    · obtain ⟨g1, g2, g3, g4, g5, g6, g7, g8⟩ := hs s q
      rw [g1, g3, g5, g7]; exact e4 s h1
  · intro s h1
    have q : s ≠ t := by omega
    rw [(hs s q).1]; exact e5 s h1
  · intro s h1
    by_cases q : s = t
    · subst q; exact k5
    · obtain ⟨g1, g2, g3, g4, g5, g6, g7, g8⟩ := hs s q
      rw [g1, g2]; exact e7 s h1
  · intro s h1
    by_cases q : s = t
    · subst q; exact k6
    · obtain ⟨g1, g2, g3, g4, g5, g6, g7, g8⟩ := hs s q
      rw [g1, g6]; exact e8 s h1
  · rcases e9 with e9 | e9
    · exact Or.inl e9
    · omega
/-- the others when some that looked become stale -/
theorem dq_er {h' c' : Nat} {ph' : Nat → Int32} (E : dq_E tc cap h c ur yD ph tk onn oo an du rn rc yo) (hu : ur = 0) (hs : ∀ s, ph' s = ph s ∨ (s < tc ∧ ph s = 3 ∧ ph' s = 4)) (hh : h' ≤ cap)
    (k1 : ∀ s, s < tc → ph' s = 3 → tk s = -8 → c' < h') (k2 : ∀ s, s < tc → ph' s = 3 → tk s ≠ -8 → h' < cap) : dq_E tc cap h' c' ur yD ph' tk onn oo an du rn rc yo := by
  obtain ⟨b, e1, e2, e3, e4, e5, e6, e7, e8, e9⟩ := E
  refine ⟨by omega, k1, k2, ?_, ?_, ?_, e6, ?_, ?_, ?_⟩
  · intro s h1
    rcases hs s with g | ⟨g1, g2, g3⟩
    · rw [g]; exact e3 s h1
    · rw [g3]; intro z; rcases z with z | z <;> exact absurd z (by decide)
  · intro s h1
    rcases hs s with g | ⟨g1, g2, g3⟩
    · rw [g]; exact e4 s h1
    · rw [g3]; intro z; exact absurd z (by decide)
  · intro s h1
    rcases hs s with g | ⟨g1, g2, g3⟩
    · rw [g]; exact e5 s h1
    · omega
  · intro s h1
    rcases hs s with g | ⟨g1, g2, g3⟩
    · rw [g]; exact e7 s h1
    · intro _; exact e7 s h1 (by rw [g2]; decide)
  · intro s h1
    rcases hs s with g | ⟨g1, g2, g3⟩
    · rw [g]; exact e8 s h1
    · intro _ _ _; exact e8 s h1 (by rw [g2]; decide) (by rw [g2]; decide) (by rw [g2]; decide)
  · rcases e9 with e9 | e9
    · exact Or.inl e9
    · omega
end
end
section
section
variable {yT yK yD yH : Int32} {ph tk yo an du rc rn rt rv yv yap ycl yaw ycw : Nat → Int32} {h c d t : Nat}
theorem dy_mk {post : SY → Prop} {x : Int32} (hx : x = nI t) (ht : t < 6) (K : post (yT, yK, yD, yH, ph, tk, yo, an, upd du t 1, rc, rn, rt, upd rv t (yo t), yv, yap, ycl, yaw, ycw)) : wpY_makeDurable post (yT, yK, yD, yH, ph, tk, yo, an, du, rc, rn, rt, rv, yv, yap, ycl, yaw, ycw) x := by
  subst hx
  have hi : vp_in (nI t) 6 := vp_in_nI ht (by decide)
  exact ⟨hi, nm_r (by rw [dq_cl ht]; rfl) ⟨hi, hi, nm_r (by rw [dq_cl ht]) K⟩⟩
theorem dy_an {post : SY → Prop} (ht : t < 6) (K : post (yT, yK, yD, yH, ph, tk, yo, upd an t 1, du, rc, upd rn t (rn t + 1), upd rt t (tk t), upd rv t (-7), yv, yap, ycl, yaw, ycw)) : wpY_announce post (yT, yK, yD, yH, ph, tk, yo, an, du, rc, rn, rt, rv, yv, yap, ycl, yaw, ycw) (nI t) := by
  have hi : vp_in (nI t) 6 := vp_in_nI ht (by decide)
  exact ⟨hi, nm_r (by rw [dq_cl ht]; rfl) ⟨hi, hi, nm_r (by rw [dq_cl ht]) ⟨hi, hi, nm_r (by rw [dq_cl ht]) ⟨hi, nm_r (by rw [dq_cl ht]) K⟩⟩⟩⟩
theorem dy_bad0 {post : Int32 → Prop} {tc : Nat} (ht : t < tc) (htc : tc ≤ 6) (K : post 0) : wpY_bad post (nI tc, yK, yD, yH, ph, tk, yo, an, du, rc, rn, rt, rv, yv, yap, ycl, yaw, ycw) (nI t) :=
  br_f (nI_pos (by omega)) (br_t (nI_lt ht (by omega)) K)
theorem dy_bad1 {post : Int32 → Prop} {x : Int32} (hx : x < 0 ∨ yT ≤ x) (K : post 1) : wpY_bad post (yT, yK, yD, yH, ph, tk, yo, an, du, rc, rn, rt, rv, yv, yap, ycl, yaw, ycw) x := by
  by_cases h0 : x < 0
  · exact br_t h0 K
  · rcases hx with hx | hx
    · exact absurd hx h0
    · exact br_f h0 (br_f (Int32.not_lt.mpr hx) K)
/-- the oldest value goes: the reference's loop -/
theorem dy_drop_l {post : SY → Prop} (hh : h ≤ 11) (ba : ∀ i, i < h + 1 → yaw i = 0 ∨ yaw i = 1) (bc : ∀ i, i < h + 1 → ycw i = 0 ∨ ycw i = 1)
    (K : post (yT, yK, yD, nI h, ph, tk, yo, an, du, rc, rn, rt, rv, dq_sh (h + 1) yv, dq_sh (h + 1) yap, dq_sh (h + 1) ycl, dq_sh (h + 1) yaw, dq_sh (h + 1) ycw)) :
    ∀ m i n : Nat, i + m = h → m < n → wY_dropOldest_2 post yT yK yD (nI (h + 1)) n (nI (i + 1)) ph tk yo an du rc rn rt rv (dq_sh (i + 1) yv) (dq_sh (i + 1) yap) (dq_sh (i + 1) ycl) (dq_sh (i + 1) yaw) (dq_sh (i + 1) ycw) := by
  intro m
  induction m with
  | zero =>
    intro i n hi hn
    obtain ⟨n, rfl⟩ : ∃ k, n = k + 1 := ⟨n - 1, by omega⟩
    have e : i = h := by omega
    subst e
    exact br_t (nI_le (Nat.le_refl _) (by omega)) (nm_r (nI_pred i) K)
  | succ m ih =>
    intro i n hi hn
    obtain ⟨n, rfl⟩ : ∃ k, n = k + 1 := ⟨n - 1, by omega⟩
    have h1 : vp_in (nI (i + 1)) 12 := vp_in_nI (by omega) (by decide)
    have h0 : vp_in (nI (i + 1) - 1) 12 := by rw [nI_pred]; exact vp_in_nI (by omega) (by decide)
    have c1 : (nI (i + 1)).toNatClampNeg = i + 1 := nI_clamp (by omega)
    have c0 : (nI (i + 1) - 1).toNatClampNeg = i := by rw [nI_pred]; exact nI_clamp (by omega)
    have w1 : vp_nar .boolean (dq_sh (i + 1) yaw (i + 1)) = dq_sh (i + 1) yaw (i + 1) := dq_bb (by rw [dq_sh_ge (by omega)]; exact ba _ (by omega))
    have w2 : vp_nar .boolean (dq_sh (i + 1) ycw (i + 1)) = dq_sh (i + 1) ycw (i + 1) := dq_bb (by rw [dq_sh_ge (by omega)]; exact bc _ (by omega))
    exact br_f (nI_ge (by omega) (by omega)) ⟨h1, h0, nm_r (by rw [c1, c0]; exact dq_sh_s) ⟨h1, h0, nm_r (by rw [c1, c0]; exact dq_sh_s) ⟨h1, h0, nm_r (by rw [c1, c0]; exact dq_sh_s) ⟨h1, h0, nm_r (by rw [c1, c0, w1]; exact dq_sh_s) ⟨h1, h0, nm_r (by rw [c1, c0, w2]; exact dq_sh_s) (nm_r (nI_1 (i + 1)) (ih (i + 1) n (by omega) (by omega)))⟩⟩⟩⟩⟩
theorem dy_drop {post : SY → Prop} (hh : h ≤ 11) (ba : ∀ i, i < h + 1 → yaw i = 0 ∨ yaw i = 1) (bc : ∀ i, i < h + 1 → ycw i = 0 ∨ ycw i = 1)
    (K : post (yT, yK, yD, nI h, ph, tk, yo, an, du, rc, rn, rt, rv, dq_sh (h + 1) yv, dq_sh (h + 1) yap, dq_sh (h + 1) ycl, dq_sh (h + 1) yaw, dq_sh (h + 1) ycw)) :
    wpY_dropOldest post (yT, yK, yD, nI (h + 1), ph, tk, yo, an, du, rc, rn, rt, rv, yv, yap, ycl, yaw, ycw) := by
  have L := dy_drop_l hh ba bc K h 0 (h + 1) (by omega) (by omega)
  rw [dq_sh_1, dq_sh_1, dq_sh_1, dq_sh_1, dq_sh_1] at L
  exact ⟨h + 1, L⟩
/-- the durable size -/
theorem dy_size1_l {post : Int32 → Prop} (hh : h ≤ 12) (hd : d ≤ h) (aw : ∀ i, i < d → yaw i = 1) (D : d < h → yaw d = 0) (K : post (nI d)) :
    ∀ m j n : Nat, j + m = d → m < n → wY_size_29 post 1 yT yK yD (nI h) ph tk yo an du rc rn rt rv yv yap ycl yaw ycw n (nI j) (nI j) := by
  intro m
  induction m with
  | zero =>
    intro j n hj hn
    obtain ⟨n, rfl⟩ : ∃ k, n = k + 1 := ⟨n - 1, by omega⟩
    have e : j = d := by omega
    subst e
    by_cases q : j < h
    · exact br_f (nI_ge q (by omega)) (br_t rfl ⟨vp_in_nI (by omega) (by decide), br_t (by rw [nI_clamp (by omega)]; exact D q) K⟩)
    · exact br_t (nI_le (by omega) (by omega)) K
  | succ m ih =>
    intro j n hj hn
    obtain ⟨n, rfl⟩ : ∃ k, n = k + 1 := ⟨n - 1, by omega⟩
    exact br_f (nI_ge (by omega) (by omega)) (br_t rfl ⟨vp_in_nI (by omega) (by decide), br_f (by rw [nI_clamp (by omega), aw j (by omega)]; decide) (br_t rfl (nm_r (nI_1 j) (nm_r (nI_1 j) (ih (j + 1) n (by omega) (by omega)))))⟩)
theorem dy_size1 {post : Int32 → Prop} (hh : h ≤ 12) (hd : d ≤ h) (aw : ∀ i, i < d → yaw i = 1) (D : d < h → yaw d = 0) (K : post (nI d)) : wpY_size post (yT, yK, yD, nI h, ph, tk, yo, an, du, rc, rn, rt, rv, yv, yap, ycl, yaw, ycw) 1 :=
  br_f (by decide) (br_t rfl (br_f (by decide) ⟨d + 1, dy_size1_l hh hd aw D K d 0 (d + 1) (by omega) (by omega)⟩))
/-- the live size -/
theorem dy_size0_l {post : Int32 → Prop} (hh : h ≤ 12) (hc : c ≤ h) (c0 : ∀ i, i < c → 0 ≤ ycl i) (c1 : ∀ i, c ≤ i → i < h → ycl i = -1) (K : post (nI (h - c))) :
    ∀ m j n : Nat, j + m = h → m < n → wY_size_29 post 0 yT yK yD (nI h) ph tk yo an du rc rn rt rv yv yap ycl yaw ycw n (nI (j - c)) (nI j) := by
  intro m
  induction m with
  | zero =>
    intro j n hj hn
    obtain ⟨n, rfl⟩ : ∃ k, n = k + 1 := ⟨n - 1, by omega⟩
    have e : j = h := by omega
    subst e
    exact br_t (nI_le (by omega) (by omega)) K
  | succ m ih =>
    intro j n hj hn
    obtain ⟨n, rfl⟩ : ∃ k, n = k + 1 := ⟨n - 1, by omega⟩
    refine br_f (nI_ge (by omega) (by omega)) (br_f (by decide) (br_f (by decide) ⟨vp_in_nI (by omega) (by decide), ?_⟩))
    have L := ih (j + 1) n (by omega) (by omega)
    by_cases q : j < c
    · rw [show j + 1 - c = j - c by omega] at L
      exact br_t (by rw [nI_clamp (by omega)]; exact c0 j q) (nm_r (nI_1 j) L)
    · rw [show j + 1 - c = j - c + 1 by omega] at L
      exact br_f (by rw [nI_clamp (by omega), c1 j (by omega) (by omega)]; decide) (nm_r (nI_1 (j - c)) (nm_r (nI_1 j) L))
theorem dy_size0 {post : Int32 → Prop} (hh : h ≤ 12) (hc : c ≤ h) (c0 : ∀ i, i < c → 0 ≤ ycl i) (c1 : ∀ i, c ≤ i → i < h → ycl i = -1) (K : post (nI (h - c))) : wpY_size post (yT, yK, 0, nI h, ph, tk, yo, an, du, rc, rn, rt, rv, yv, yap, ycl, yaw, ycw) 0 := by
  have L := dy_size0_l (yT := yT) (yK := yK) (yD := 0) (ph := ph) (tk := tk) (yo := yo) (an := an) (du := du) (rc := rc) (rn := rn) (rt := rt) (rv := rv) (yv := yv) (yap := yap) (yaw := yaw) (ycw := ycw) hh hc c0 c1 K h 0 (h + 1) (by omega) (by omega)
  rw [show 0 - c = 0 by omega] at L
  exact br_t rfl (br_t rfl (br_t rfl ⟨h + 1, L⟩))
theorem dy_sizeD {post : Int32 → Prop} (hd : yD ≠ 0) (K : post (-2)) : wpY_size post (yT, yK, yD, yH, ph, tk, yo, an, du, rc, rn, rt, rv, yv, yap, ycl, yaw, ycw) 0 := br_t rfl (br_t rfl (br_f hd K))
theorem dy_sizeB {post : Int32 → Prop} {x : Int32} (h0 : ¬ x = 0) (h1 : ¬ x = 1) (K : post (-1)) : wpY_size post (yT, yK, yD, yH, ph, tk, yo, an, du, rc, rn, rt, rv, yv, yap, ycl, yaw, ycw) x := br_f h0 (br_f h1 K)
/-- the index of an effect -/
theorem dy_find_l {post : Int32 → Prop} {z : Nat → Int32} {k : Nat} {r : Int32} (hz : (tk t = -8 ∧ z = ycl) ∨ (tk t ≠ -8 ∧ z = yap)) (ht : t < 6) (hh : h ≤ 12) (hk : k ≤ h)
    (hn : ∀ i, i < k → z i ≠ nI t) (hr : (k < h ∧ z k = nI t ∧ r = nI k) ∨ (k = h ∧ r = -1)) (K : post r) :
    ∀ m j n : Nat, j + m = k → m < n → wY_find_23 post (nI t) yT yK yD (nI h) ph tk yo an du rc rn rt rv yv yap ycl yaw ycw n (nI j) := by
  have hi : vp_in (nI t) 6 := vp_in_nI ht (by decide)
  have ct : (nI t).toNatClampNeg = t := nI_clamp (by omega)
  intro m
  induction m with
  | zero =>
    intro j n hj hn
    obtain ⟨n, rfl⟩ : ∃ k, n = k + 1 := ⟨n - 1, by omega⟩
    have e : j = k := by omega
    subst e
    rcases hr with ⟨q, e, rfl⟩ | ⟨q, rfl⟩
    · rcases hz with ⟨k8, rfl⟩ | ⟨k8, rfl⟩
      · exact br_f (nI_ge q (by omega)) ⟨hi, br_t (by rw [ct]; exact k8) ⟨vp_in_nI (by omega) (by decide), br_t (by rw [nI_clamp (by omega)]; exact e) K⟩⟩
      · exact br_f (nI_ge q (by omega)) ⟨hi, br_f (by rw [ct]; exact k8) ⟨vp_in_nI (by omega) (by decide), br_t (by rw [nI_clamp (by omega)]; exact e) K⟩⟩
    · exact br_t (nI_le (by omega) (by omega)) K
  | succ m ih =>
    intro j n hj hn'
    obtain ⟨n, rfl⟩ : ∃ k, n = k + 1 := ⟨n - 1, by omega⟩
    have L := ih (j + 1) n (by omega) (by omega)
    have e := hn j (by omega)
    rcases hz with ⟨k8, rfl⟩ | ⟨k8, rfl⟩
    · exact br_f (nI_ge (by omega) (by omega)) ⟨hi, br_t (by rw [ct]; exact k8) ⟨vp_in_nI (by omega) (by decide), br_f (by rw [nI_clamp (by omega)]; exact e) (nm_r (nI_1 j) L)⟩⟩
    · exact br_f (nI_ge (by omega) (by omega)) ⟨hi, br_f (by rw [ct]; exact k8) ⟨vp_in_nI (by omega) (by decide), br_f (by rw [nI_clamp (by omega)]; exact e) (nm_r (nI_1 j) L)⟩⟩
theorem dy_find {post : Int32 → Prop} {z : Nat → Int32} {k : Nat} (r : Int32) (hz : (tk t = -8 ∧ z = ycl) ∨ (tk t ≠ -8 ∧ z = yap)) (ht : t < 6) (hh : h ≤ 12) (hk : k ≤ h) (hp : ph t = 5) (hu : du t = 0)
    (hn : ∀ i, i < k → z i ≠ nI t) (hr : (k < h ∧ z k = nI t ∧ r = nI k) ∨ (k = h ∧ r = -1)) (K : post r) : wpY_find post (yT, yK, yD, nI h, ph, tk, yo, an, du, rc, rn, rt, rv, yv, yap, ycl, yaw, ycw) (nI t) := by
  have hi : vp_in (nI t) 6 := vp_in_nI ht (by decide)
  have ct : (nI t).toNatClampNeg = t := nI_clamp (by omega)
  exact ⟨hi, br_t (by rw [ct]; exact hp) ⟨hi, br_t (by rw [ct]; exact hu) ⟨k + 1, dy_find_l hz ht hh hk hn hr K k 0 (k + 1) (by omega) (by omega)⟩⟩⟩
theorem dy_find0 {post : Int32 → Prop} (ht : t < 6) (hp : ph t ≠ 5 ∨ du t ≠ 0) (K : post (-1)) : wpY_find post (yT, yK, yD, yH, ph, tk, yo, an, du, rc, rn, rt, rv, yv, yap, ycl, yaw, ycw) (nI t) := by
  have hi : vp_in (nI t) 6 := vp_in_nI ht (by decide)
  have ct : (nI t).toNatClampNeg = t := nI_clamp (by omega)
  by_cases q : ph t = 5
  · rcases hp with hp | hp
    · exact absurd q hp
    · exact ⟨hi, br_t (by rw [ct]; exact q) ⟨hi, br_f (by rw [ct]; exact hp) K⟩⟩
  · exact ⟨hi, br_f (by rw [ct]; exact q) K⟩
/-- the reference's lines: not chosen, chosen, the end -/
theorem dy_w1 {post : SY → Prop} {a b k n : Nat} (hh : h ≤ 12) (hk : k ≤ h) (ha : a ≤ 13) (hb : b ≤ 13) (hq : k < a ∨ b < k) (K : wY_write_2 post (nI a) (nI b) yT yK yD (nI h) n (nI (k + 1)) ph tk yo an du rc rn rt rv yv yap ycl yaw ycw) :
    wY_write_2 post (nI a) (nI b) yT yK yD (nI h) (n + 1) (nI k) ph tk yo an du rc rn rt rv yv yap ycl yaw ycw := by
  refine br_f (nI_nlt hk (by omega)) ?_
  by_cases q : k < a
  · exact br_t (nI_lt q (by omega)) (br_t rfl (br_t rfl (nm_r (nI_1 k) K)))
  · exact br_f (nI_nlt (by omega) (by omega)) (br_t (nI_lt (by omega) (by omega)) (br_t rfl (br_t rfl (nm_r (nI_1 k) K))))
theorem dy_w47 {post : SY → Prop} {J : Int32 → (Nat → Int32) → (Nat → Int32) → (Nat → Int32) → (Nat → Int32) → (Nat → Int32) → (Nat → Int32) → (Nat → Int32) → (Nat → Int32) → (Nat → Int32) → (Nat → Int32) → (Nat → Int32) → (Nat → Int32) → (Nat → Int32) → (Nat → Int32) → Prop} {x1 x2 : Int32} {k : Nat} (hh : h ≤ 12) (hk : k ≤ h)
    (c0 : ∀ i, i < c → 0 ≤ ycl i) (c1 : ∀ i, c ≤ i → i < h → ycl i = -1) (K : J (nI (k + 1)) ph tk yo an du rc rn rt rv yv yap ycl yaw (if 0 < k ∧ k ≤ c then upd ycw (k - 1) 1 else ycw)) :
    wY_write_47 post J x1 x2 (nI k) 1 yT yK yD (nI h) ph tk yo an du rc rn rt rv yv yap ycl yaw ycw := by
  refine br_f (by decide) ?_
  by_cases k0 : k = 0
  · subst k0
    rw [if_neg (by omega)] at K
    exact br_t (nI_le (b := 0) (Nat.le_refl 0) (by decide)) (nm_r (nI_1 0) K)
  · obtain ⟨k, rfl⟩ : ∃ q, k = q + 1 := ⟨k - 1, by omega⟩
    have e : nI (k + 1) - 1 = nI k := nI_pred k
    have hi : vp_in (nI (k + 1) - 1) 12 := by rw [e]; exact vp_in_nI (by omega) (by decide)
    have cl : (nI (k + 1) - 1).toNatClampNeg = k := by rw [e]; exact nI_clamp (by omega)
    refine br_f (nI_nle (by omega) (by omega)) ⟨hi, ?_⟩
    by_cases q : k + 1 ≤ c
    · rw [if_pos ⟨by omega, q⟩, show k + 1 - 1 = k from rfl] at K
      exact br_f (by rw [cl]; exact Int32.not_lt.mpr (c0 k (by omega))) ⟨hi, nm_r (by rw [cl]; rfl) (nm_r (nI_1 (k + 1)) K)⟩
    · rw [if_neg (fun z => q z.2)] at K
      exact br_t (by rw [cl, c1 k (by omega) (by omega)]; decide) (nm_r (nI_1 (k + 1)) K)
theorem dy_w2 {post : SY → Prop} {a b k n : Nat} (hh : h ≤ 12) (hk : k ≤ h) (ha : a ≤ k) (hb : k ≤ b) (hb2 : b ≤ 13)
    (c0 : ∀ i, i < c → 0 ≤ ycl i) (c1 : ∀ i, c ≤ i → i < h → ycl i = -1) (K : wY_write_2 post (nI a) (nI b) yT yK yD (nI h) n (nI (k + 1)) ph tk yo an du rc rn rt rv yv yap ycl (if k < h then upd yaw k 1 else yaw) (if 0 < k ∧ k ≤ c then upd ycw (k - 1) 1 else ycw)) :
    wY_write_2 post (nI a) (nI b) yT yK yD (nI h) (n + 1) (nI k) ph tk yo an du rc rn rt rv yv yap ycl yaw ycw := by
  refine br_f (nI_nlt hk (by omega)) (br_f (nI_nlt ha (by omega)) (br_f (nI_nlt hb (by omega)) (br_f (by decide) ?_)))
  by_cases q : k < h
  · rw [if_pos q] at K
    exact br_f (nI_ge q (by omega)) ⟨vp_in_nI (by omega) (by decide), nm_r (by rw [nI_clamp (by omega)]; rfl) (dy_w47 hh hk c0 c1 K)⟩
  · rw [if_neg q] at K
    exact br_t (nI_le (by omega) (by omega)) (dy_w47 hh hk c0 c1 K)
theorem dy_w3 {post : SY → Prop} {a b n : Nat} (hh : h ≤ 12) (K : wpY_size (fun r => ∃ n91 : Nat, wY_write_91 post r n91 0 yT yK yD (nI h) ph tk yo an du rc rn rt rv yv yap ycl yaw ycw) (yT, yK, yD, nI h, ph, tk, yo, an, du, rc, rn, rt, rv, yv, yap, ycl, yaw, ycw) 1) :
    wY_write_2 post (nI a) (nI b) yT yK yD (nI h) (n + 1) (nI (h + 1)) ph tk yo an du rc rn rt rv yv yap ycl yaw ycw := br_t (nI_lt (by omega) (by omega)) K
/-- all lines from k on are not chosen -/
theorem dy_w4 {post : SY → Prop} {a b : Nat} (hh : h ≤ 12) (ha : a ≤ 13) (hb : b ≤ 13) (K : wpY_size (fun r => ∃ n91 : Nat, wY_write_91 post r n91 0 yT yK yD (nI h) ph tk yo an du rc rn rt rv yv yap ycl yaw ycw) (yT, yK, yD, nI h, ph, tk, yo, an, du, rc, rn, rt, rv, yv, yap, ycl, yaw, ycw) 1) :
    ∀ m k n : Nat, k + m = h + 1 → m < n → b < k → wY_write_2 post (nI a) (nI b) yT yK yD (nI h) n (nI k) ph tk yo an du rc rn rt rv yv yap ycl yaw ycw := by
  intro m
  induction m with
  | zero =>
    intro k n hk hn hbk
    obtain ⟨n, rfl⟩ : ∃ k, n = k + 1 := ⟨n - 1, by omega⟩
    have e : k = h + 1 := by omega
    subst e
    exact dy_w3 hh K
  | succ m ih =>
    intro k n hk hn hbk
    obtain ⟨n, rfl⟩ : ∃ k, n = k + 1 := ⟨n - 1, by omega⟩
    exact dy_w1 hh (by omega) ha hb (Or.inr hbk) (ih (k + 1) n (by omega) (by omega) (by omega))
/-- all lines ahead of a are not chosen -/
theorem dy_w5 {post : SY → Prop} {a b n : Nat} (hh : h ≤ 12) (ha : a ≤ h) (hb : b ≤ 13) (K : wY_write_2 post (nI a) (nI b) yT yK yD (nI h) n (nI a) ph tk yo an du rc rn rt rv yv yap ycl yaw ycw) :
    ∀ m k : Nat, k + m = a → wY_write_2 post (nI a) (nI b) yT yK yD (nI h) (n + m) (nI k) ph tk yo an du rc rn rt rv yv yap ycl yaw ycw := by
  intro m
  induction m with
  | zero =>
    intro k hk
    have e : k = a := by omega
    subst e
    exact K
  | succ m ih =>
    intro k hk
    exact dy_w1 (n := n + m) hh (by omega) (by omega) hb (Or.inl (by omega)) (ih (k + 1) (by omega))
end
end
section
/-- the phases once the rivals among the first j threads are stale -/
def dq_rs (tk : Nat → Int32) (x : Int32) (j : Nat) (ph : Nat → Int32) : Nat → Int32 := fun s => if s < j ∧ ph s = 3 ∧ (if tk s = -8 then (1 : Int32) else 0) = x then 4 else ph s
theorem dq_rs_0 {tk ph : Nat → Int32} {x : Int32} : dq_rs tk x 0 ph = ph := by
  funext s
  exact if_neg (fun z => absurd z.1 (by omega))
theorem dq_rs_at {tk ph : Nat → Int32} {x : Int32} {j s : Nat} (hs : j ≤ s) : dq_rs tk x j ph s = ph s := if_neg (fun z => absurd z.1 (by omega))
theorem dq_rs_no {tk ph : Nat → Int32} {x : Int32} {j : Nat} (hn : ¬ (ph j = 3 ∧ (if tk j = -8 then (1 : Int32) else 0) = x)) : dq_rs tk x (j + 1) ph = dq_rs tk x j ph := by
  funext s
  by_cases q : s = j
  · subst q
    rw [dq_rs_at (Nat.le_refl s)]
    exact if_neg (fun z => hn z.2)
  · by_cases w : s < j ∧ ph s = 3 ∧ (if tk s = -8 then (1 : Int32) else 0) = x
    · exact (if_pos (⟨by omega, w.2⟩ : s < j + 1 ∧ ph s = 3 ∧ (if tk s = -8 then (1 : Int32) else 0) = x)).trans (if_pos w).symm
    · exact (if_neg (fun z => w ⟨by omega, z.2⟩)).trans (if_neg w).symm
theorem dq_rs_yes {tk ph : Nat → Int32} {x : Int32} {j : Nat} (h3 : ph j = 3) (hn : (if tk j = -8 then (1 : Int32) else 0) = x) : upd (dq_rs tk x j ph) j 4 = dq_rs tk x (j + 1) ph := by
  funext s
  by_cases q : s = j
  · subst q
    rw [pk_us]
    exact (if_pos (⟨by omega, h3, hn⟩ : s < s + 1 ∧ ph s = 3 ∧ (if tk s = -8 then (1 : Int32) else 0) = x)).symm
  · rw [pk_un q]
    by_cases w : s < j ∧ ph s = 3 ∧ (if tk s = -8 then (1 : Int32) else 0) = x
    · exact (if_pos w).trans (if_pos (⟨by omega, w.2⟩ : s < j + 1 ∧ ph s = 3 ∧ (if tk s = -8 then (1 : Int32) else 0) = x)).symm
    · exact (if_neg w).trans (if_neg (fun z => w ⟨by omega, z.2⟩)).symm
/-- the component's and the reference's phases agree in the end -/
theorem dq_rs_sw {tk ph : Nat → Int32} {x : Int32} {j t : Nat} : dq_rs tk x j (upd ph t 5) = upd (dq_rs tk x j ph) t 5 := by
  funext s
  by_cases q : s = t
  · subst q
    rw [pk_us]
    have e : upd ph s 5 s = 5 := pk_us
    refine (if_neg ?_).trans e
    intro z
    exact absurd (e.symm.trans z.2.1) (by decide)
  · rw [pk_un q]
    have e : upd ph t 5 s = ph s := pk_un q
    unfold dq_rs
    rw [e]
section
variable {xN xT xK fT bS dT cE tL hC lC dC uR : Int32} {xv xap xn xcl xpn xpc xre xfs ph tk onn oo ol an du rn rt rv rc : Nat → Int32} {tc h c d t : Nat} {nd : Nat → Nat}
theorem dx_bad0 {post : Int32 → Prop} (ht : t < tc) (htc : tc ≤ 6) (K : post 0) : wpX_isBad post (xN, nI tc, xK, fT, bS, dT, cE, tL, hC, lC, dC, uR, xv, xap, xn, xcl, xpn, xpc, xre, xfs, ph, tk, onn, oo, ol, an, du, rn, rt, rv, rc) (nI t) :=
  br_f (nI_pos (by omega)) (br_t (nI_lt ht (by omega)) K)
theorem dx_bad1 {post : Int32 → Prop} {x : Int32} (hx : x < 0 ∨ xT ≤ x) (K : post 1) : wpX_isBad post (xN, xT, xK, fT, bS, dT, cE, tL, hC, lC, dC, uR, xv, xap, xn, xcl, xpn, xpc, xre, xfs, ph, tk, onn, oo, ol, an, du, rn, rt, rv, rc) x := by
  by_cases h0 : x < 0
  · exact br_t h0 K
  · rcases hx with hx | hx
    · exact absurd hx h0
    · exact br_f h0 (br_f (Int32.not_lt.mpr hx) K)
theorem dx_dn0 {post : Int32 → Prop} {ur : Nat} (hu : ur = 0) (K : post 0) : wpX_isDown post (xN, xT, xK, fT, bS, dT, cE, tL, hC, lC, dC, nI ur, xv, xap, xn, xcl, xpn, xpc, xre, xfs, ph, tk, onn, oo, ol, an, du, rn, rt, rv, rc) := by
  subst hu
  exact br_t (nI_le (b := 0) (Nat.le_refl 0) (by decide)) K
theorem dx_dn1 {post : Int32 → Prop} {ur : Nat} (hu : 0 < ur) (hu2 : ur ≤ 6) (K : post 1) : wpX_isDown post (xN, xT, xK, fT, bS, dT, cE, tL, hC, lC, dC, nI ur, xv, xap, xn, xcl, xpn, xpc, xre, xfs, ph, tk, onn, oo, ol, an, du, rn, rt, rv, rc) := br_f (nI_nle hu (by omega)) K
theorem dx_mk {post : SX → Prop} {x : Int32} (hx : x = nI t) (ht : t < 6) (K : post (xN, xT, xK, fT, bS, dT, cE, tL, hC, lC, dC, uR, xv, xap, xn, xcl, xpn, xpc, xre, xfs, ph, tk, onn, oo, ol, an, upd du t 1, rn, rt, upd rv t (oo t), rc)) : wpX_makeDurable post (xN, xT, xK, fT, bS, dT, cE, tL, hC, lC, dC, uR, xv, xap, xn, xcl, xpn, xpc, xre, xfs, ph, tk, onn, oo, ol, an, du, rn, rt, rv, rc) x := by
  subst hx
  have hi : vp_in (nI t) 6 := vp_in_nI ht (by decide)
  exact ⟨hi, nm_r (by rw [dq_cl ht]; rfl) ⟨hi, hi, nm_r (by rw [dq_cl ht]) K⟩⟩
theorem dx_rel {post : SX → Prop} {x : Int32} {f : Nat} (hf : f < 13) (K : post (xN, xT, xK, nI (f + 1), bS, dT, cE, tL, hC, lC, dC, uR, xv, xap, xn, xcl, xpn, xpc, xre, upd xfs f x, ph, tk, onn, oo, ol, an, du, rn, rt, rv, rc)) : wpX_release post (xN, xT, xK, nI f, bS, dT, cE, tL, hC, lC, dC, uR, xv, xap, xn, xcl, xpn, xpc, xre, xfs, ph, tk, onn, oo, ol, an, du, rn, rt, rv, rc) x :=
  ⟨vp_in_nI hf (by decide), nm_r (by rw [dq_cl hf]) (nm_r (nI_1 f) K)⟩
theorem dx_wl {post : SX → Prop} {q : Nat} (hq : q < 13) (K : post (xN, xT, xK, fT, bS, dT, cE, tL, hC, lC, dC, uR, xv, xap, xn, xcl, upd xpn q (xn q), upd xpc q (xcl q), xre, xfs, ph, tk, onn, oo, ol, an, du, rn, rt, rv, rc)) : wpX_writeLine post (xN, xT, xK, fT, bS, dT, cE, tL, hC, lC, dC, uR, xv, xap, xn, xcl, xpn, xpc, xre, xfs, ph, tk, onn, oo, ol, an, du, rn, rt, rv, rc) (nI q) := by
  have hi : vp_in (nI q) 13 := vp_in_nI hq (by decide)
  exact ⟨hi, hi, nm_r (by rw [dq_cl hq]) ⟨hi, hi, nm_r (by rw [dq_cl hq]) K⟩⟩
theorem dx_te {post : SX → Prop} {x y : Int32} (ht : t < 6) (K : post (xN, xT, xK, fT, bS, dT, cE, tL, hC, lC, dC, uR, xv, xap, xn, xcl, xpn, xpc, xre, xfs, upd ph t 5, tk, onn, upd oo t x, upd ol t y, an, du, rn, rt, rv, rc)) : wpX_takeEffect post (xN, xT, xK, fT, bS, dT, cE, tL, hC, lC, dC, uR, xv, xap, xn, xcl, xpn, xpc, xre, xfs, ph, tk, onn, oo, ol, an, du, rn, rt, rv, rc) (nI t) x y := by
  have hi : vp_in (nI t) 6 := vp_in_nI ht (by decide)
  exact ⟨hi, nm_r (by rw [dq_cl ht]) ⟨hi, nm_r (by rw [dq_cl ht]) ⟨hi, nm_r (by rw [dq_cl ht]) K⟩⟩⟩
theorem dx_wa0 {post : SX → Prop} (ht : t < 6) (ha : an t = 0) (K : post (xN, xT, xK, fT, bS, dT, cE, tL, hC, lC, dC, uR, xv, xap, xn, xcl, xpn, xpc, xre, xfs, ph, tk, onn, oo, ol, upd an t 1, du, upd rn t (onn t), upd rt t (tk t), upd rv t (-7), rc)) : wpX_writeAnnouncement post (xN, xT, xK, fT, bS, dT, cE, tL, hC, lC, dC, uR, xv, xap, xn, xcl, xpn, xpc, xre, xfs, ph, tk, onn, oo, ol, an, du, rn, rt, rv, rc) (nI t) := by
  have hi : vp_in (nI t) 6 := vp_in_nI ht (by decide)
  exact ⟨hi, br_t (by rw [dq_cl ht]; exact ha) ⟨hi, nm_r (by rw [dq_cl ht]; rfl) ⟨hi, hi, nm_r (by rw [dq_cl ht]) ⟨hi, hi, nm_r (by rw [dq_cl ht]) ⟨hi, nm_r (by rw [dq_cl ht]) K⟩⟩⟩⟩⟩
theorem dx_wa1 {post : SX → Prop} (ht : t < 6) (ha : ¬ an t = 0) (K : post (xN, xT, xK, fT, bS, dT, cE, tL, hC, lC, dC, uR, xv, xap, xn, xcl, xpn, xpc, xre, xfs, ph, tk, onn, oo, ol, an, du, rn, rt, rv, rc)) : wpX_writeAnnouncement post (xN, xT, xK, fT, bS, dT, cE, tL, hC, lC, dC, uR, xv, xap, xn, xcl, xpn, xpc, xre, xfs, ph, tk, onn, oo, ol, an, du, rn, rt, rv, rc) (nI t) :=
  ⟨vp_in_nI ht (by decide), br_f (by rw [dq_cl ht]; exact ha) K⟩
theorem dx_note0 {post : Int32 → Prop} (ht : t < 6) (h3 : oo t ≠ -3) (h4 : oo t ≠ -4) (K : post 0) : wpX_hasNote post (xN, xT, xK, fT, bS, dT, cE, tL, hC, lC, dC, uR, xv, xap, xn, xcl, xpn, xpc, xre, xfs, ph, tk, onn, oo, ol, an, du, rn, rt, rv, rc) (nI t) := by
  have hi : vp_in (nI t) 6 := vp_in_nI ht (by decide)
  exact ⟨hi, br_f (by rw [dq_cl ht]; exact h4) ⟨hi, br_f (by rw [dq_cl ht]; exact h3) K⟩⟩
theorem dx_note1 {post : Int32 → Prop} (ht : t < 6) (hn : oo t = -3 ∨ oo t = -4) (K : post 1) : wpX_hasNote post (xN, xT, xK, fT, bS, dT, cE, tL, hC, lC, dC, uR, xv, xap, xn, xcl, xpn, xpc, xre, xfs, ph, tk, onn, oo, ol, an, du, rn, rt, rv, rc) (nI t) := by
  have hi : vp_in (nI t) 6 := vp_in_nI ht (by decide)
  by_cases h4 : oo t = -4
  · exact ⟨hi, br_t (by rw [dq_cl ht]; exact h4) K⟩
  · rcases hn with hn | hn
    · exact ⟨hi, br_f (by rw [dq_cl ht]; exact h4) ⟨hi, br_t (by rw [dq_cl ht]; exact hn) K⟩⟩
    · exact absurd hn h4
/-- the distance -/
theorem dx_dist_l {post : Int32 → Prop} {k : Nat} (hh : h ≤ 12) (hk : k ≤ h) (n1 : ∀ i, i < 13 → nd i < 13) (n2 : ∀ i j, i < 13 → j < 13 → nd i = nd j → i = j) (nx : ∀ i, i < h → xn (nd i) = nI (nd (i + 1))) (K : post (nI k)) :
    ∀ m j n : Nat, j + m = k → m < n → wX_distanceFromBase_10 post (nI (nd k)) xN xT xK fT bS dT cE tL hC lC dC uR xv xap xn xcl xpn xpc xre xfs ph tk onn oo ol an du rn rt rv rc n (nI (nd j)) (nI j) (nI j) := by
  intro m
  induction m with
  | zero =>
    intro j n hj hn
    obtain ⟨n, rfl⟩ : ∃ k, n = k + 1 := ⟨n - 1, by omega⟩
    have e : j = k := by omega
    subst e
    have w := n1 j (by omega)
    exact br_f (nI_ge (b := 13) (by omega) (by decide)) (br_f (dq_ne1 (by omega)) (br_t rfl K))
  | succ m ih =>
    intro j n hj hn
    obtain ⟨n, rfl⟩ : ∃ k, n = k + 1 := ⟨n - 1, by omega⟩
    have w := n1 j (by omega)
    have w2 := n1 k (by omega)
    refine br_f (nI_ge (b := 13) (by omega) (by decide)) (br_f (dq_ne1 (by omega)) (br_f ?_ ⟨vp_in_nI w (by decide), nm_r (e' := nI (nd (j + 1))) ?_ (nm_r (nI_1 j) (nm_r (nI_1 j) (ih (j + 1) n (by omega) (by omega))))⟩))
    · intro e
      have := n2 j k (by omega) (by omega) (dq_inj (by omega) (by omega) e)
      omega
    · rw [dq_cl w]; exact nx j (by omega)
theorem dx_dist {post : Int32 → Prop} {k : Nat} (hh : h ≤ 12) (hk : k ≤ h) (n1 : ∀ i, i < 13 → nd i < 13) (n2 : ∀ i j, i < 13 → j < 13 → nd i = nd j → i = j) (nx : ∀ i, i < h → xn (nd i) = nI (nd (i + 1))) (K : post (nI k)) :
    wpX_distanceFromBase post (xN, xT, xK, fT, nI (nd 0), dT, cE, tL, hC, lC, dC, uR, xv, xap, xn, xcl, xpn, xpc, xre, xfs, ph, tk, onn, oo, ol, an, du, rn, rt, rv, rc) (nI (nd k)) := ⟨k + 1, dx_dist_l hh hk n1 n2 nx K k 0 (k + 1) (by omega) (by omega)⟩
/-- the value at an index -/
theorem dx_at_l {post : Int32 → Prop} {s q : Nat} (hh : h ≤ 12) (hq : s + q < h) (n1 : ∀ i, i < 13 → nd i < 13) (nx : ∀ i, i < h → xn (nd i) = nI (nd (i + 1))) (K : post (xv (nd (s + q + 1)))) :
    ∀ m j n : Nat, j + m = q + 1 → m < n → wX_at_44 post (nI q) xN xT xK fT bS dT cE tL hC lC dC uR xv xap xn xcl xpn xpc xre xfs ph tk onn oo ol an du rn rt rv rc n (nI (nd (s + j))) (nI j) := by
  intro m
  induction m with
  | zero =>
    intro j n hj hn
    obtain ⟨n, rfl⟩ : ∃ k, n = k + 1 := ⟨n - 1, by omega⟩
    have e : j = q + 1 := by omega
    subst e
    have w := n1 (s + (q + 1)) (by omega)
    exact br_t (nI_lt (by omega) (by omega)) ⟨vp_in_nI w (by decide), by rw [dq_cl w]; exact K⟩
  | succ m ih =>
    intro j n hj hn
    obtain ⟨n, rfl⟩ : ∃ k, n = k + 1 := ⟨n - 1, by omega⟩
    have w := n1 (s + j) (by omega)
    exact br_f (nI_nlt (by omega) (by omega)) ⟨vp_in_nI w (by decide), nm_r (e' := nI (nd (s + (j + 1)))) (by rw [dq_cl w]; exact nx _ (by omega)) (nm_r (nI_1 j) (ih (j + 1) n (by omega) (by omega)))⟩
/-- the rivals -/
theorem dx_r52 {post : SX → Prop} {J : Int32 → (Nat → Int32) → (Nat → Int32) → (Nat → Int32) → (Nat → Int32) → (Nat → Int32) → (Nat → Int32) → (Nat → Int32) → (Nat → Int32) → (Nat → Int32) → (Nat → Int32) → (Nat → Int32) → (Nat → Int32) → (Nat → Int32) → (Nat → Int32) → (Nat → Int32) → (Nat → Int32) → (Nat → Int32) → (Nat → Int32) → (Nat → Int32) → Prop} {x z : Int32} {j : Nat} (hj : j < 6) (ht : t < 6) (h5 : ph t ≠ 3)
    (hz : (z = 0 ∧ (if tk j = -8 then (1 : Int32) else 0) ≠ x) ∨ (z = 1 ∧ (if tk j = -8 then (1 : Int32) else 0) = x)) (K : J (nI (j + 1)) xv xap xn xcl xpn xpc xre xfs (dq_rs tk x (j + 1) ph) tk onn oo ol an du rn rt rv rc) :
    wX_makeRivalsStale_52 post J (nI t) x (nI j) z xN xT xK fT bS dT cE tL hC lC dC uR xv xap xn xcl xpn xpc xre xfs (dq_rs tk x j ph) tk onn oo ol an du rn rt rv rc := by
  by_cases e : j = t
  · subst e
    rw [dq_rs_no (fun q => h5 q.1)] at K
    exact br_t rfl (nm_r (nI_1 j) K)
  · refine br_f (fun q => e (dq_inj (by omega) (by omega) q)) ?_
    rcases hz with ⟨rfl, q⟩ | ⟨rfl, q⟩
    · rw [dq_rs_no (fun w => q w.2)] at K
      exact br_t rfl (nm_r (nI_1 j) K)
    · have hi : vp_in (nI j) 6 := vp_in_nI hj (by decide)
      refine br_f (by decide) ⟨hi, ?_⟩
      by_cases p : ph j = 3
      · exact br_t (by rw [dq_cl hj, dq_rs_at (Nat.le_refl j)]; exact p) ⟨hi, nm_r (by rw [dq_cl hj]; exact dq_rs_yes p q) (nm_r (nI_1 j) K)⟩
      · rw [dq_rs_no (fun w => p w.1)] at K
        exact br_f (by rw [dq_cl hj, dq_rs_at (Nat.le_refl j)]; exact p) (nm_r (nI_1 j) K)
theorem dx_r19 {post : SX → Prop} {x : Int32} (hx : x = 0 ∨ x = 1) (htc : tc ≤ 6) (ht : t < tc) (h5 : ph t ≠ 3) (K : post (xN, nI tc, xK, fT, bS, dT, cE, tL, hC, lC, dC, uR, xv, xap, xn, xcl, xpn, xpc, xre, xfs, dq_rs tk x tc ph, tk, onn, oo, ol, an, du, rn, rt, rv, rc)) :
    ∀ m j n : Nat, j + m = tc → m < n → wX_makeRivalsStale_19 post (nI t) x xN (nI tc) xK fT bS dT cE tL hC lC dC uR n (nI j) xv xap xn xcl xpn xpc xre xfs (dq_rs tk x j ph) tk onn oo ol an du rn rt rv rc := by
  intro m
  induction m with
  | zero =>
    intro j n hj hn
    obtain ⟨n, rfl⟩ : ∃ k, n = k + 1 := ⟨n - 1, by omega⟩
    have e : j = tc := by omega
    subst e
    exact br_t (nI_le (Nat.le_refl _) (by omega)) K
  | succ m ih =>
    intro j n hj hn
    obtain ⟨n, rfl⟩ : ∃ k, n = k + 1 := ⟨n - 1, by omega⟩
    have L := ih (j + 1) n (by omega) (by omega)
    have hi : vp_in (nI j) 6 := vp_in_nI (by omega) (by decide)
    refine br_f (nI_ge (by omega) (by omega)) ⟨hi, ?_⟩
    have cj : (nI j).toNatClampNeg = j := nI_clamp (by omega)
    by_cases k8 : tk j = -8
    · refine br_t (by rw [cj]; exact k8) ?_
      rcases hx with rfl | rfl
      · exact br_f (by decide) (dx_r52 (by omega) (by omega) h5 (Or.inl ⟨rfl, by rw [if_pos k8]; decide⟩) L)
      · exact br_t rfl (dx_r52 (by omega) (by omega) h5 (Or.inr ⟨rfl, if_pos k8⟩) L)
    · refine br_f (by rw [cj]; exact k8) ?_
      rcases hx with rfl | rfl
      · exact br_t rfl (dx_r52 (by omega) (by omega) h5 (Or.inr ⟨rfl, if_neg k8⟩) L)
      · exact br_f (by decide) (dx_r52 (by omega) (by omega) h5 (Or.inl ⟨rfl, by rw [if_neg k8]; decide⟩) L)
theorem dx_riv {post : SX → Prop} (htc : tc ≤ 6) (ht : t < tc) (h5 : ph t ≠ 3) (K : post (xN, nI tc, xK, fT, bS, dT, cE, tL, hC, lC, dC, uR, xv, xap, xn, xcl, xpn, xpc, xre, xfs, dq_rs tk (if tk t = -8 then (1 : Int32) else 0) tc ph, tk, onn, oo, ol, an, du, rn, rt, rv, rc)) :
    wpX_makeRivalsStale post (xN, nI tc, xK, fT, bS, dT, cE, tL, hC, lC, dC, uR, xv, xap, xn, xcl, xpn, xpc, xre, xfs, ph, tk, onn, oo, ol, an, du, rn, rt, rv, rc) (nI t) := by
  refine ⟨vp_in_nI (by omega) (by decide), ?_⟩
  have ct : (nI t).toNatClampNeg = t := nI_clamp (by omega)
  by_cases k8 : tk t = -8
  · rw [if_pos k8] at K
    have L := dx_r19 (Or.inr rfl) htc ht h5 K tc 0 (tc + 1) (by omega) (by omega)
    rw [dq_rs_0] at L
    exact br_t (by rw [ct]; exact k8) ⟨tc + 1, L⟩
  · rw [if_neg k8] at K
    have L := dx_r19 (Or.inl rfl) htc ht h5 K tc 0 (tc + 1) (by omega) (by omega)
    rw [dq_rs_0] at L
    exact br_f (by rw [ct]; exact k8) ⟨tc + 1, L⟩
/-- the crash's own loop -/
theorem dx_cr_l {post : Int32 → SX → Prop} (htc : tc ≤ 6) (K : post dC (xN, nI tc, xK, fT, bS, dT, cE, tL, hC, lC, dC, nI tc, xv, xap, xn, xcl, xpn, xpc, xre, xfs, dq_f 0 tc ph, tk, onn, oo, ol, an, du, rn, rt, rv, dq_f 0 tc rc)) :
    ∀ m j n : Nat, j + m = tc → m < n → wX_crash_13 post xN (nI tc) xK fT bS dT cE tL hC lC dC uR n (nI j) xv xap xn xcl xpn xpc xre xfs (dq_f 0 j ph) tk onn oo ol an du rn rt rv (dq_f 0 j rc) := by
  intro m
  induction m with
  | zero =>
    intro j n hj hn
    obtain ⟨n, rfl⟩ : ∃ k, n = k + 1 := ⟨n - 1, by omega⟩
    have e : j = tc := by omega
    subst e
    exact br_t (nI_le (Nat.le_refl _) (by omega)) K
  | succ m ih =>
    intro j n hj hn
    obtain ⟨n, rfl⟩ : ∃ k, n = k + 1 := ⟨n - 1, by omega⟩
    have hi : vp_in (nI j) 6 := vp_in_nI (by omega) (by decide)
    have cj : (nI j).toNatClampNeg = j := nI_clamp (by omega)
    exact br_f (nI_ge (by omega) (by omega)) ⟨hi, nm_r (by rw [cj]; exact dq_f_s) ⟨hi, nm_r (by rw [cj]; exact dq_f_s) (nm_r (nI_1 j) (ih (j + 1) n (by omega) (by omega)))⟩⟩
theorem dx_cr {post : Int32 → SX → Prop} (htc : tc ≤ 6) (K : post dC (xN, nI tc, xK, fT, bS, dT, cE, tL, hC, lC, dC, nI tc, xv, xap, xn, xcl, xpn, xpc, xre, xfs, dq_f 0 tc ph, tk, onn, oo, ol, an, du, rn, rt, rv, dq_f 0 tc rc)) : ∃ n, wX_crash_13 post xN (nI tc) xK fT bS dT cE tL hC lC dC uR n 0 xv xap xn xcl xpn xpc xre xfs ph tk onn oo ol an du rn rt rv rc := by
  have L := dx_cr_l (uR := uR) htc K tc 0 (tc + 1) (by omega) (by omega)
  rw [dq_f_0, dq_f_0] at L
  exact ⟨tc + 1, L⟩
end
end
section
section
variable {xN xT xK fT bS dT cE tL hC lC dC uR : Int32} {xv xap xpn ph tk onn oo ol an du rn rt rv rc : Nat → Int32} {d : Nat} {nd : Nat → Nat}
/-- the free list anew -/
theorem dx_rb_l {bS dT cE tL hC lC dC uR : Int32} {xn xcl xpc xre : Nat → Int32} : ∀ m i : Nat, ∀ (xfs : Nat → Int32) (g : Nat → Nat), i + m = 13 →
    (∀ j, j < dq_cz xre i → g j < i ∧ xre (g j) = 0 ∧ xfs j = nI (g j)) → (∀ j k, j < k → k < dq_cz xre i → g j < g k) →
    ∃ (xfs' : Nat → Int32) (g' : Nat → Nat), (∀ j, j < dq_cz xre 13 → g' j < 13 ∧ xre (g' j) = 0 ∧ xfs' j = nI (g' j)) ∧ (∀ j k, j < k → k < dq_cz xre 13 → g' j < g' k) ∧
    ∀ (post : SX → Prop) (n : Nat), m < n → post (xN, xT, xK, nI (dq_cz xre 13), bS, dT, cE, tL, hC, lC, dC, uR, xv, xap, xn, xcl, xpn, xpc, xre, xfs', ph, tk, onn, oo, ol, an, du, rn, rt, rv, rc) → wX_rebuildFreeList_7 post n (nI i) xN xT xK (nI (dq_cz xre i)) bS dT cE tL hC lC dC uR xv xap xn xcl xpn xpc xre xfs ph tk onn oo ol an du rn rt rv rc := by
  intro m
  induction m with
  | zero =>
    intro i xfs g hi hg hm
    have e : i = 13 := by omega
    subst e
    refine ⟨xfs, g, hg, hm, ?_⟩
    intro post n hn K
    obtain ⟨n, rfl⟩ : ∃ k, n = k + 1 := ⟨n - 1, by omega⟩
    exact br_t (nI_le (a := 13) (b := 13) (Nat.le_refl _) (by decide)) K
  | succ m ih =>
    intro i xfs g hi hg hm
    have cl := dq_cz_le xre i
    have hin : vp_in (nI i) 13 := vp_in_nI (by omega) (by decide)
    have ci : (nI i).toNatClampNeg = i := nI_clamp (by omega)
    by_cases z : xre i = 0
    · have ez := dq_cz_t z
      obtain ⟨xfs', g', hg', hm', L⟩ := ih (i + 1) (upd xfs (dq_cz xre i) (nI i)) (fun j => if j = dq_cz xre i then i else g j) (by omega)
        (by
          intro j hj
          by_cases e : j = dq_cz xre i
          · subst e
            refine ⟨?_, ?_, ?_⟩
            · show (if dq_cz xre i = dq_cz xre i then i else g _) < i + 1
              rw [if_pos rfl]; omega
            · show xre (if dq_cz xre i = dq_cz xre i then i else g _) = 0
              rw [if_pos rfl]; exact z
            · show _ = nI (if dq_cz xre i = dq_cz xre i then i else g _)
              rw [if_pos rfl]; exact pk_us
          · obtain ⟨q1, q2, q3⟩ := hg j (by omega)
            refine ⟨?_, ?_, ?_⟩
            · show (if j = dq_cz xre i then i else g j) < i + 1
              rw [if_neg e]; omega
            · show xre (if j = dq_cz xre i then i else g j) = 0
              rw [if_neg e]; exact q2
            · show _ = nI (if j = dq_cz xre i then i else g j)
              rw [if_neg e, pk_un e]; exact q3)
        (by
          intro j k hjk hk
          show (if j = dq_cz xre i then i else g j) < (if k = dq_cz xre i then i else g k)
          rw [if_neg (by omega)]
          by_cases e : k = dq_cz xre i
          · rw [if_pos e]; exact (hg j (by omega)).1
          · rw [if_neg e]; exact hm j k hjk (by omega))
      refine ⟨xfs', g', hg', hm', ?_⟩
      intro post n hn K
      obtain ⟨n, rfl⟩ : ∃ k, n = k + 1 := ⟨n - 1, by omega⟩
      have L := L post n (by omega) K
      rw [ez] at L
      exact br_f (nI_ge (b := 13) (by omega) (by decide)) ⟨hin, br_t (by rw [ci]; exact z) (dx_rel (by omega) (nm_r (nI_1 i) L))⟩
    · have ez := dq_cz_f z
      obtain ⟨xfs', g', hg', hm', L⟩ := ih (i + 1) xfs g (by omega)
        (by
          intro j hj
          obtain ⟨q1, q2, q3⟩ := hg j (by omega)
          exact ⟨by omega, q2, q3⟩)
        (by
          intro j k hjk hk
          exact hm j k hjk (by omega))
      refine ⟨xfs', g', hg', hm', ?_⟩
      intro post n hn K
      obtain ⟨n, rfl⟩ : ∃ k, n = k + 1 := ⟨n - 1, by omega⟩
      have L := L post n (by omega) K
      rw [ez] at L
      exact br_f (nI_ge (b := 13) (by omega) (by decide)) ⟨hin, br_f (by rw [ci]; exact z) (nm_r (nI_1 i) L)⟩
/-- the walk over the durable run -/
theorem dx_r31 {xfs : Nat → Int32} (hd : d ≤ 12) (n1 : ∀ i, i < 13 → nd i < 13) (n2 : ∀ i j, i < 13 → j < 13 → nd i = nd j → i = j) (pn : ∀ i, i < d → xpn (nd i) = nI (nd (i + 1))) (pd : xpn (nd d) = -1) :
    ∀ m i : Nat, ∀ (x : Int32) (xn xcl xpc xre : Nat → Int32), i + m = d + 1 → ((i ≤ d ∧ x = nI (nd i)) ∨ (i = d + 1 ∧ x = -1)) →
    (∀ q, q < i → xn (nd q) = xpn (nd q) ∧ xcl (nd q) = -1 ∧ xpc (nd q) = -1 ∧ xre (nd q) = 1) → (∀ q, q < 13 → xre q = 0 ∨ ∃ p, p < i ∧ q = nd p) → dq_cz xre 13 + i = 13 →
    ∃ xn' xcl' xpc' xre' : Nat → Int32, (∀ q, q < d + 1 → xn' (nd q) = xpn (nd q) ∧ xcl' (nd q) = -1 ∧ xpc' (nd q) = -1 ∧ xre' (nd q) = 1) ∧ dq_cz xre' 13 + (d + 1) = 13 ∧
    ∀ (post : SX → Prop) (n : Nat), m < n → wX_restorePersistentImage_91 post xN xT xK fT bS dT cE tL hC lC dC uR xv xap xn' xcl' xpn xpc' xre' xfs ph tk onn oo ol an du rn rt rv rc → wX_restorePersistentImage_31 post xN xT xK fT bS dT cE tL hC lC dC uR n x (nI i) xv xap xn xcl xpn xpc xre xfs ph tk onn oo ol an du rn rt rv rc := by
  intro m
  induction m with
  | zero =>
    intro i x xn xcl xpc xre hi hx A1 A2 A3
    have e : i = d + 1 := by omega
    subst e
    refine ⟨xn, xcl, xpc, xre, A1, A3, ?_⟩
    intro post n hn K
    obtain ⟨n, rfl⟩ : ∃ k, n = k + 1 := ⟨n - 1, by omega⟩
    have e : x = -1 := by
      rcases hx with hx | hx
      · omega
      · exact hx.2
    by_cases q : d = 12
    · subst q
      exact br_t (nI_le (a := 13) (b := 13) (Nat.le_refl _) (by decide)) K
    · exact br_f (nI_ge (b := 13) (by omega) (by decide)) (br_t e K)
  | succ m ih =>
    intro i x xn xcl xpc xre hi hx A1 A2 A3
    have id : i ≤ d := by omega
    have e : x = nI (nd i) := by
      rcases hx with hx | hx
      · exact hx.2
      · omega
    subst e
    have w := n1 i (by omega)
    have hin : vp_in (nI (nd i)) 13 := vp_in_nI w (by decide)
    have ci : (nI (nd i)).toNatClampNeg = nd i := nI_clamp (by omega)
    have z : xre (nd i) = 0 := by
      rcases A2 (nd i) w with z | ⟨p, hp, e⟩
      · exact z
      · have := n2 i p (by omega) (by omega) e; omega
    have hx' : (i + 1 ≤ d ∧ xpn (nd i) = nI (nd (i + 1))) ∨ (i + 1 = d + 1 ∧ xpn (nd i) = -1) := by
      by_cases q : i < d
      · exact Or.inl ⟨q, pn i q⟩
      · have e : i = d := by omega
        subst e
        exact Or.inr ⟨rfl, pd⟩
    obtain ⟨xn', xcl', xpc', xre', B1, B2, L⟩ := ih (i + 1) (xpn (nd i)) (upd xn (nd i) (xpn (nd i))) (upd xcl (nd i) (-1)) (upd xpc (nd i) (-1)) (upd xre (nd i) 1) (by omega) hx'
      (by
        intro q hq
        by_cases e : q = i
        · subst e
          exact ⟨pk_us, pk_us, pk_us, pk_us⟩
        · have ne : nd q ≠ nd i := fun f => e (n2 q i (by omega) (by omega) f)
          obtain ⟨q1, q2, q3, q4⟩ := A1 q (by omega)
          exact ⟨(pk_un ne).trans q1, (pk_un ne).trans q2, (pk_un ne).trans q3, (pk_un ne).trans q4⟩)
      (by
        intro q hq
        by_cases e : q = nd i
        · exact Or.inr ⟨i, by omega, e⟩
        · rw [pk_un e]
          rcases A2 q hq with q1 | ⟨p, hp, q1⟩
          · exact Or.inl q1
          · exact Or.inr ⟨p, by omega, q1⟩)
      (by
        have := dq_cz_set (x := 1) (by decide) z 13 w
        omega)
    refine ⟨xn', xcl', xpc', xre', B1, B2, ?_⟩
    intro post n hn K
    obtain ⟨n, rfl⟩ : ∃ k, n = k + 1 := ⟨n - 1, by omega⟩
    have L := L post n (by omega) K
    exact br_f (nI_ge (b := 13) (by omega) (by decide)) (br_f (dq_ne1 (by omega)) ⟨hin, nm_r (e' := upd xre (nd i) 1) (by rw [ci]; rfl) ⟨hin, hin, nm_r (e' := upd xn (nd i) (xpn (nd i))) (by rw [ci]) ⟨hin, nm_r (e' := upd xcl (nd i) (-1)) (by rw [ci]) ⟨hin, nm_r (e' := upd xpc (nd i) (-1)) (by rw [ci]) ⟨hin, nm_r (e' := xpn (nd i)) (by rw [ci]; exact pk_us) (nm_r (nI_1 i) L)⟩⟩⟩⟩⟩)
/-- the marks are cleared -/
theorem dx_r2 {xn xcl xpc xre xfs : Nat → Int32} {post : SX → Prop} (K : ∃ n, wX_restorePersistentImage_31 post xN xT xK fT bS dT cE tL hC lC dC uR n bS 0 xv xap xn xcl xpn xpc (dq_f 0 13 xre) xfs ph tk onn oo ol an du rn rt rv rc) :
    ∀ m j n : Nat, j + m = 13 → m < n → wX_restorePersistentImage_2 post xN xT xK fT bS dT cE tL hC lC dC uR n (nI j) xv xap xn xcl xpn xpc (dq_f 0 j xre) xfs ph tk onn oo ol an du rn rt rv rc := by
  intro m
  induction m with
  | zero =>
    intro j n hj hn
    obtain ⟨n, rfl⟩ : ∃ k, n = k + 1 := ⟨n - 1, by omega⟩
    have e : j = 13 := by omega
    subst e
    exact br_t (nI_le (a := 13) (b := 13) (Nat.le_refl _) (by decide)) K
  | succ m ih =>
    intro j n hj hn
    obtain ⟨n, rfl⟩ : ∃ k, n = k + 1 := ⟨n - 1, by omega⟩
    have hin : vp_in (nI j) 13 := vp_in_nI (by omega) (by decide)
    exact br_f (nI_ge (b := 13) (by omega) (by decide)) ⟨hin, nm_r (e' := dq_f 0 (j + 1) xre) (by rw [nI_clamp (by omega)]; exact dq_f_s) (nm_r (nI_1 j) (ih (j + 1) n (by omega) (by omega)))⟩
/-- the whole restoring -/
theorem dx_res {xn xcl xpc xre xfs : Nat → Int32} (hd : d ≤ 12) (n1 : ∀ i, i < 13 → nd i < 13) (n2 : ∀ i j, i < 13 → j < 13 → nd i = nd j → i = j) (pn : ∀ i, i < d → xpn (nd i) = nI (nd (i + 1))) (pd : xpn (nd d) = -1) :
    ∃ (nd' : Nat → Nat) (xn' xcl' xpc' xre' xfs' : Nat → Int32), (∀ i, i ≤ d → nd' i = nd i) ∧ (∀ i, i < 13 → nd' i < 13) ∧ (∀ i j, i < 13 → j < 13 → nd' i = nd' j → i = j) ∧
    (∀ i, i ≤ d → xn' (nd i) = xpn (nd i)) ∧ (∀ i, i ≤ d → xcl' (nd i) = -1) ∧ (∀ i, i ≤ d → xpc' (nd i) = -1) ∧ (∀ i, d < i → i < 13 → xfs' (12 - i) = nI (nd' i)) ∧
    ∀ post : SX → Prop, post (xN, xT, xK, nI (12 - d), nI (nd' 0), nI (nd' d), nI (nd' 0), nI (nd' d), nI d, nI (d - 0), nI d, uR, xv, xap, xn', xcl', xpn, xpc', xre', xfs', ph, tk, onn, oo, ol, an, du, rn, rt, rv, rc) →
      wpX_restorePersistentImage post (xN, xT, xK, fT, nI (nd 0), nI (nd d), cE, tL, hC, lC, nI d, uR, xv, xap, xn, xcl, xpn, xpc, xre, xfs, ph, tk, onn, oo, ol, an, du, rn, rt, rv, rc) := by
  obtain ⟨xn', xcl', xpc', xre', B1, B2, L⟩ := dx_r31 (xN := xN) (xT := xT) (xK := xK) (fT := fT) (bS := nI (nd 0)) (dT := nI (nd d)) (cE := cE) (tL := tL) (hC := hC) (lC := lC) (dC := nI d) (uR := uR) (xv := xv) (xap := xap) (xpn := xpn) (ph := ph) (tk := tk) (onn := onn) (oo := oo) (ol := ol) (an := an) (du := du) (rn := rn) (rt := rt) (rv := rv) (rc := rc) (xfs := xfs) hd n1 n2 pn pd (d + 1) 0 (nI (nd 0)) xn xcl xpc (dq_f 0 13 xre) (by omega) (Or.inl ⟨by omega, rfl⟩) (fun q hq => by omega) (fun q hq => Or.inl (dq_f_lt hq)) (by rw [dq_cz_all 13 (fun i hi => dq_f_lt hi)])
  obtain ⟨xfs', g, hg, hm, R⟩ := dx_rb_l (xN := xN) (xT := xT) (xK := xK) (bS := nI (nd 0)) (dT := nI (nd d)) (cE := cE) (tL := tL) (hC := hC) (lC := lC) (dC := nI d) (uR := uR) (xv := xv) (xap := xap) (xpn := xpn) (ph := ph) (tk := tk) (onn := onn) (oo := oo) (ol := ol) (an := an) (du := du) (rn := rn) (rt := rt) (rv := rv) (rc := rc) (xn := xn') (xcl := xcl') (xpc := xpc') (xre := xre') 13 0 xfs (fun _ => 0) (by omega) (fun j hj => absurd hj (by show ¬ j < 0; omega)) (fun j k _ hk => absurd hk (by show ¬ k < 0; omega))
  have cz : dq_cz xre' 13 = 12 - d := by omega
  have en : ∀ i, i ≤ d → (if i ≤ d then nd i else g (12 - i)) = nd i := fun i hi => if_pos hi
  have eg : ∀ i, d < i → (if i ≤ d then nd i else g (12 - i)) = g (12 - i) := fun i hi => if_neg (by omega)
  refine ⟨fun i => if i ≤ d then nd i else g (12 - i), xn', xcl', xpc', xre', xfs', en, ?_, ?_, fun i hi => (B1 i (by omega)).1, fun i hi => (B1 i (by omega)).2.1, fun i hi => (B1 i (by omega)).2.2.1, ?_, ?_⟩
  · intro i hi
    show (if i ≤ d then nd i else g (12 - i)) < 13
    by_cases q : i ≤ d
    · rw [en i q]; exact n1 i hi
    · rw [eg i (by omega)]; exact (hg (12 - i) (by omega)).1
  · intro i j hi hj
    show (if i ≤ d then nd i else g (12 - i)) = (if j ≤ d then nd j else g (12 - j)) → i = j
    by_cases q : i ≤ d
    · rw [en i q]
      by_cases p : j ≤ d
      · rw [en j p]; exact n2 i j hi hj
      · rw [eg j (by omega)]
        intro e
        have z1 := (B1 i (by omega)).2.2.2
        have z2 := (hg (12 - j) (by omega)).2.1
        rw [← e, z1] at z2
        exact absurd z2 (by decide)
    · rw [eg i (by omega)]
      by_cases p : j ≤ d
      · rw [en j p]
        intro e
        have z1 := (B1 j (by omega)).2.2.2
        have z2 := (hg (12 - i) (by omega)).2.1
        rw [e, z1] at z2
        exact absurd z2 (by decide)
      · rw [eg j (by omega)]
        intro e
        by_cases l1 : 12 - i < 12 - j
        · have := hm (12 - i) (12 - j) l1 (by omega); omega
        · by_cases l2 : 12 - j < 12 - i
          · have := hm (12 - j) (12 - i) l2 (by omega); omega
          · omega
  · intro i hi hi2
    show xfs' (12 - i) = nI (if i ≤ d then nd i else g (12 - i))
    rw [eg i hi]
    exact (hg (12 - i) (by omega)).2.2
  · intro post K
    have K2 : post (xN, xT, xK, nI (dq_cz xre' 13), nI (nd 0), nI (nd d), nI (nd 0), nI (nd d), nI d, nI d, nI d, uR, xv, xap, xn', xcl', xpn, xpc', xre', xfs', ph, tk, onn, oo, ol, an, du, rn, rt, rv, rc) := by
      rw [cz]
      have e0 := en 0 (by omega)
      have e1 := en d (Nat.le_refl d)
      simp only [e0, e1] at K
      exact K
    have R2 := R (fun u => match u with | (xN, xT, xK, fT, bS, dT, cE, tL, hC, lC, dC, uR, xv, xap, xn, xcl, xpn, xpc, xre, xfs, ph, tk, onn, oo, ol, an, du, rn, rt, rv, rc) => post (xN, xT, xK, fT, bS, dT, bS, dT, dC, dC, dC, uR, xv, xap, xn, xcl, xpn, xpc, xre, xfs, ph, tk, onn, oo, ol, an, du, rn, rt, rv, rc)) 14 (by omega) K2
    have M := dx_r2 (xN := xN) (xT := xT) (xK := xK) (fT := fT) (bS := nI (nd 0)) (dT := nI (nd d)) (cE := cE) (tL := tL) (hC := hC) (lC := lC) (dC := nI d) (uR := uR) (xv := xv) (xap := xap) (xpn := xpn) (ph := ph) (tk := tk) (onn := onn) (oo := oo) (ol := ol) (an := an) (du := du) (rn := rn) (rt := rt) (rv := rv) (rc := rc) (xn := xn) (xcl := xcl) (xpc := xpc) (xre := xre) (xfs := xfs) (post := post) ⟨d + 2, L post (d + 2) (by omega) ⟨14, R2⟩⟩ 13 0 14 (by omega) (by omega)
    rw [dq_f_0] at M
    exact ⟨14, M⟩
end
end
section
section
variable {xN xT xK fT bS dT cE tL hC lC dC uR : Int32} {xv xap xn xcl xpn xpc xre xfs ph tk onn oo ol an rn rt rc : Nat → Int32} {tc h c d : Nat} {nd : Nat → Nat}
variable {yT yK yD : Int32} {yo yv ycl yaw ycw : Nat → Int32}
theorem dq_pe {yap : Nat → Int32} (P : dq_P h c d nd xv xap xn xcl xpn xpc xfs yv yap ycl yaw ycw) (D : d < h → yaw d = 0) : xpn (nd d) = -1 := by
  obtain ⟨b, n1, n2, nx, nh, vv, cl, pn, pnh, pc, fs, ba, bc, aw, a1, a2, c1, c2, v3⟩ := P
  by_cases e : d < h
  · rw [pn d e, D e, if_pos rfl]
  · rw [show d = h by omega]; exact pnh
theorem dq_run {yap : Nat → Int32} (P : dq_P h c d nd xv xap xn xcl xpn xpc xfs yv yap ycl yaw ycw) : ∃ e, d ≤ e ∧ e ≤ h ∧ (∀ i, i < e → yaw i = 1) ∧ (e < h → yaw e = 0) := by
  obtain ⟨b, n1, n2, nx, nh, vv, cl, pn, pnh, pc, fs, ba, bc, aw, a1, a2, c1, c2, v3⟩ := P
  have hd := b.2.2
  clear b a1 a2
  obtain ⟨m, hm⟩ : ∃ m, d + m = h := ⟨h - d, by omega⟩
  induction m generalizing d with
  | zero => exact ⟨d, Nat.le_refl d, hd, aw, fun q => by omega⟩
  | succ m ih =>
    rcases ba d (by omega) with z | z
    · exact ⟨d, Nat.le_refl d, hd, aw, fun _ => z⟩
    · obtain ⟨e, e1, e2, e3, e4⟩ := ih (d := d + 1) (by
        intro i hi
        by_cases q : i = d
        · subst q; exact z
        · exact aw i (by omega)) (by omega) (by omega)
      exact ⟨e, by omega, e2, e3, e4⟩
/-- the durable run grows, in lockstep -/
theorem ds_sa {e : Nat} (htc : tc ≤ 6) (hoo : ∀ t, t < tc → ph t = 5 → yo t = oo t) (he : e ≤ h) (haw : ∀ i, i < e → yaw i = 1) (hD : e < h → yaw e = 0) :
    ∀ m d : Nat, ∀ du rv yap : Nat → Int32, d + m = e → dq_P h c d nd xv xap xn xcl xpn xpc xfs yv yap ycl yaw ycw → dq_T tc h c d nd ph tk oo ol du yap ycl →
    ∃ du' rv' yap' : Nat → Int32, dq_P h c e nd xv xap xn xcl xpn xpc xfs yv yap' ycl yaw ycw ∧ dq_T tc h c e nd ph tk oo ol du' yap' ycl ∧ (∀ s, du s ≠ 0 → du' s ≠ 0) ∧ (∀ s, ph s ≠ 5 → du' s = du s) ∧
    (∀ t i : Nat, t < 6 → d ≤ i → i < e → yap i = nI t → du' t ≠ 0) ∧
    (∀ (post : SX → Prop) (j n : Nat), j + m ≤ 12 → m < n → post (xN, xT, xK, fT, bS, nI (nd e), cE, tL, hC, lC, nI e, uR, xv, xap, xn, xcl, xpn, xpc, xre, xfs, ph, tk, onn, oo, ol, an, du', rn, rt, rv', rc) → wX_settleAppends_2 post n (nI j) xN xT xK fT bS (nI (nd d)) cE tL hC lC (nI d) uR xv xap xn xcl xpn xpc xre xfs ph tk onn oo ol an du rn rt rv rc) ∧
    (∀ (post : SY → Prop) (n : Nat), m < n → (∃ n', wY_write_135 post n' 0 yT yK yD (nI h) ph tk yo an du' rc rn rt rv' yv yap' ycl yaw ycw) → wY_write_91 post (nI e) n (nI d) yT yK yD (nI h) ph tk yo an du rc rn rt rv yv yap ycl yaw ycw) := by
  intro m
  induction m with
  | zero =>
    intro d du rv yap hd P T
    have q : d = e := by omega
    subst q
    have w := dq_nd P (i := d) (by have := (dq_pb P).1; omega)
    refine ⟨du, rv, yap, P, T, fun s z => z, fun s _ => rfl, fun t i _ h1 h2 => by omega, ?_, ?_⟩
    · intro post j n hj hn K
      obtain ⟨n, rfl⟩ : ∃ k, n = k + 1 := ⟨n - 1, by omega⟩
      exact br_f (nI_ge (b := 13) (by omega) (by decide)) ⟨vp_in_nI w (by decide), br_t (by rw [dq_cl w]; exact dq_pe P hD) K⟩
    · intro post n hn K
      obtain ⟨n, rfl⟩ : ∃ k, n = k + 1 := ⟨n - 1, by omega⟩
      have := (dq_pb P).1
      exact br_t (nI_le (Nat.le_refl _) (by omega)) K
  | succ m ih =>
    intro d du rv yap hd P T
    have hb := (dq_pb P).1
    obtain ⟨t, ht, e1, e2, e3, P', T'⟩ := dq_m2 htc P T (by omega) (haw d (by omega))
    obtain ⟨du', rv', yap', Q, S, M1, M2, M3, LX, LY⟩ := ih (d + 1) (upd du t 1) (upd rv t (oo t)) (upd yap d (-1)) (by omega) P' T'
    have w := dq_nd P (i := d) (by omega)
    have w2 := dq_nd P (i := d + 1) (by omega)
    have ep : xpn (nd d) = nI (nd (d + 1)) := by
      obtain ⟨b, n1, n2, nx, nh, vv, cl, pn, pnh, pc, fs, ba, bc, aw, a1, a2, c1, c2, v3⟩ := P
      rw [pn d (by omega), haw d (by omega), if_neg (by decide)]
    refine ⟨du', rv', yap', Q, S, ?_, ?_, ?_, ?_, ?_⟩
    · intro s z
      refine M1 s ?_
      by_cases q : s = t
      · subst q; rw [pk_us]; decide
      · rw [pk_un q]; exact z
    · intro s z
      rw [M2 s z]
      exact pk_un (fun q => z (q ▸ e3))
    · intro s i hs h1 h2 f
      by_cases q : i = d
      · subst q
        have : s = t := dq_inj (by omega) (by omega) (f.symm.trans e1)
        subst this
        exact M1 s (by rw [pk_us]; decide)
      · exact M3 s i hs (by omega) h2 ((pk_un q).trans f)
    · intro post j n hj hn K
      obtain ⟨n, rfl⟩ : ∃ k, n = k + 1 := ⟨n - 1, by omega⟩
      exact br_f (nI_ge (b := 13) (by omega) (by decide)) ⟨vp_in_nI w (by decide), br_f (by rw [dq_cl w, ep]; exact dq_ne1 (by omega)) ⟨vp_in_nI w (by decide), nm_r (e' := nI (nd (d + 1))) (by rw [dq_cl w]; exact ep) (nm_r (nI_1 d) ⟨vp_in_nI w2 (by decide), dx_mk (t := t) (by rw [dq_cl w2]; exact e2) (by omega) (nm_r (nI_1 j) (LX post (j + 1) n (by omega) (by omega) K))⟩)⟩⟩
    · intro post n hn K
      obtain ⟨n, rfl⟩ : ∃ k, n = k + 1 := ⟨n - 1, by omega⟩
      have L := LY post n (by omega) K
      rw [← hoo t ht e3] at L
      have hi : vp_in (nI d) 12 := vp_in_nI (by omega) (by decide)
      have cd : (nI d).toNatClampNeg = d := nI_clamp (by omega)
      exact br_f (nI_ge (by omega) (by omega)) ⟨hi, br_f (by rw [cd, e1]; exact nI_pos (by omega)) ⟨hi, dy_mk (t := t) (by rw [cd]; exact e1) (by omega) ⟨hi, nm_r (e' := upd yap d (-1)) (by rw [cd]) (nm_r (nI_1 d) L)⟩⟩⟩
/-- the reference passes over what is durable already -/
theorem dy_91 {e : Nat} {du rv yap : Nat → Int32} {post : SY → Prop} {n : Nat} (hde : d ≤ e) (he : e ≤ 12) (a1 : ∀ i, i < d → yap i = -1) (K : wY_write_91 post (nI e) n (nI d) yT yK yD (nI h) ph tk yo an du rc rn rt rv yv yap ycl yaw ycw) :
    ∀ m i : Nat, i + m = d → wY_write_91 post (nI e) (n + m) (nI i) yT yK yD (nI h) ph tk yo an du rc rn rt rv yv yap ycl yaw ycw := by
  intro m
  induction m with
  | zero =>
    intro i hi
    have q : i = d := by omega
    subst q
    exact K
  | succ m ih =>
    intro i hi
    have hin : vp_in (nI i) 12 := vp_in_nI (by omega) (by decide)
    have ci : (nI i).toNatClampNeg = i := nI_clamp (by omega)
    have ei := a1 i (by omega)
    have L := ih (i + 1) (by omega)
    exact br_f (nI_ge (by omega) (by omega)) ⟨hin, br_t (by rw [ci, ei]; decide) ⟨hin, nm_r (e' := yap) (by rw [ci]; exact dq_us' ei) (nm_r (nI_1 i) L)⟩⟩
theorem dx_gone0 {du rv : Nat → Int32} {post : Int32 → Prop} {yap : Nat → Int32} (P : dq_P h c d nd xv xap xn xcl xpn xpc xfs yv yap ycl yaw ycw) (hg : d = 0 ∨ ycw 0 = 0) (K : post 0) : wpX_oldestIsGone post (xN, xT, xK, fT, nI (nd 0), nI (nd d), cE, tL, hC, lC, dC, uR, xv, xap, xn, xcl, xpn, xpc, xre, xfs, ph, tk, onn, oo, ol, an, du, rn, rt, rv, rc) := by
  obtain ⟨b, n1, n2, nx, nh, vv, cl, pn, pnh, pc, fs, ba, bc, aw, a1, a2, c1, c2, v3⟩ := P
  by_cases q : d = 0
  · subst q
    exact br_t rfl K
  · have w := n1 0 (by omega)
    have w1 := n1 1 (by omega)
    have wd := n1 d (by omega)
    have g : ycw 0 = 0 := by
      rcases hg with g | g
      · exact absurd g q
      · exact g
    refine br_f ?_ ⟨vp_in_nI w (by decide), ?_⟩
    · intro e
      exact q (n2 0 d (by omega) (by omega) (dq_inj (by omega) (by omega) e)).symm
    · have e1 : xn (nI (nd 0)).toNatClampNeg = nI (nd 1) := by rw [dq_cl w]; exact nx 0 (by omega)
      rw [e1]
      exact ⟨vp_in_nI w1 (by decide), br_t (by rw [dq_cl w1, pc 0 (by omega), if_pos g]) K⟩
theorem dx_gone1 {du rv : Nat → Int32} {post : Int32 → Prop} {yap : Nat → Int32} (P : dq_P h c d nd xv xap xn xcl xpn xpc xfs yv yap ycl yaw ycw) (hd : 0 < d) (hg : ycw 0 = 1) (hc : ycl 0 ≠ -1) (K : post 1) : wpX_oldestIsGone post (xN, xT, xK, fT, nI (nd 0), nI (nd d), cE, tL, hC, lC, dC, uR, xv, xap, xn, xcl, xpn, xpc, xre, xfs, ph, tk, onn, oo, ol, an, du, rn, rt, rv, rc) := by
  obtain ⟨b, n1, n2, nx, nh, vv, cl, pn, pnh, pc, fs, ba, bc, aw, a1, a2, c1, c2, v3⟩ := P
  have w := n1 0 (by omega)
  have w1 := n1 1 (by omega)
  have wd := n1 d (by omega)
  refine br_f ?_ ⟨vp_in_nI w (by decide), ?_⟩
  · intro e
    have := n2 0 d (by omega) (by omega) (dq_inj (by omega) (by omega) e)
    omega
  · have e1 : xn (nI (nd 0)).toNatClampNeg = nI (nd 1) := by rw [dq_cl w]; exact nx 0 (by omega)
    rw [e1]
    exact ⟨vp_in_nI w1 (by decide), br_f (by rw [dq_cl w1, pc 0 (by omega), hg, if_neg (by decide)]; exact hc) K⟩
theorem dy_135 {du rv yap : Nat → Int32} {post : SY → Prop} (hh : h ≤ 12) (hg : h = 0 ∨ yaw 0 = 0 ∨ ycw 0 = 0) (K : post (yT, yK, yD, nI h, ph, tk, yo, an, du, rc, rn, rt, rv, yv, yap, ycl, yaw, ycw)) :
    ∀ m j n : Nat, j + m = 12 → m < n → wY_write_135 post n (nI j) yT yK yD (nI h) ph tk yo an du rc rn rt rv yv yap ycl yaw ycw := by
  intro m
  induction m with
  | zero =>
    intro j n hj hn
    obtain ⟨n, rfl⟩ : ∃ k, n = k + 1 := ⟨n - 1, by omega⟩
    have q : j = 12 := by omega
    subst q
    exact br_t (nI_le (a := 12) (b := 12) (Nat.le_refl _) (by decide)) K
  | succ m ih =>
    intro j n hj hn
    obtain ⟨n, rfl⟩ : ∃ k, n = k + 1 := ⟨n - 1, by omega⟩
    have L := ih (j + 1) n (by omega) (by omega)
    refine br_f (nI_ge (b := 12) (by omega) (by decide)) ?_
    by_cases h0 : h = 0
    · subst h0
      exact br_t (nI_le (b := 0) (Nat.le_refl 0) (by decide)) (nm_r (nI_1 j) L)
    · refine br_f (nI_nle (by omega) (by omega)) ?_
      by_cases z : yaw 0 = 0
      · exact br_t z (nm_r (nI_1 j) L)
      · refine br_f z ?_
        have g : ycw 0 = 0 := by
          rcases hg with g | g | g
          · exact absurd g h0
          · exact absurd g z
          · exact g
        by_cases y : ycl 0 < 0
        · exact br_t y (nm_r (nI_1 j) L)
        · exact br_f y (br_t g (nm_r (nI_1 j) L))
end
end
section
section
variable {xN xT xK dT cE tL lC uR : Int32} {xv xap xn xcl xpn xpc xre ph tk onn oo ol an rn rt rc : Nat → Int32} {tc : Nat}
variable {yT yK yD : Int32} {yo : Nat → Int32}
/-- the oldest values go, in lockstep -/
theorem ds_sc (htc : tc ≤ 6) (hoo : ∀ t, t < tc → ph t = 5 → yo t = oo t) :
    ∀ h c d j : Nat, ∀ (nd : Nat → Nat) (du rv xfs yv yap ycl yaw ycw : Nat → Int32), h + j ≤ 12 → dq_P h c d nd xv xap xn xcl xpn xpc xfs yv yap ycl yaw ycw → dq_T tc h c d nd ph tk oo ol du yap ycl → (d < h → yaw d = 0) →
    ∃ (h' c' d' : Nat) (nd' : Nat → Nat) (du' rv' xfs' yv' yap' ycl' yaw' ycw' : Nat → Int32), dq_P h' c' d' nd' xv xap xn xcl xpn xpc xfs' yv' yap' ycl' yaw' ycw' ∧ dq_T tc h' c' d' nd' ph tk oo ol du' yap' ycl' ∧ (d' < h' → yaw' d' = 0) ∧
    (h' ≤ h ∧ h' + c = h + c') ∧ (nd' d' = nd d ∧ nd' c' = nd c ∧ nd' h' = nd h) ∧ (∀ s, du s ≠ 0 → du' s ≠ 0) ∧ (∀ s, ph s ≠ 5 → du' s = du s) ∧
    (∀ t i : Nat, t < 6 → i < c → i < d → ycl i = nI t → (∀ q, q ≤ i → ycw q = 1) → du' t ≠ 0) ∧
    (∀ (post : SX → Prop) (n : Nat) (dT : Int32), dT = nI (nd d) → h < n → post (xN, xT, xK, nI (12 - h'), nI (nd' 0), dT, cE, tL, nI h', lC, nI d', uR, xv, xap, xn, xcl, xpn, xpc, xre, xfs', ph, tk, onn, oo, ol, an, du', rn, rt, rv', rc) → wX_settleClaims_2 post n (nI j) xN xT xK (nI (12 - h)) (nI (nd 0)) dT cE tL (nI h) lC (nI d) uR xv xap xn xcl xpn xpc xre xfs ph tk onn oo ol an du rn rt rv rc) ∧
    (∀ (post : SY → Prop) (n : Nat), 12 - j < n → post (yT, yK, yD, nI h', ph, tk, yo, an, du', rc, rn, rt, rv', yv', yap', ycl', yaw', ycw') → wY_write_135 post n (nI j) yT yK yD (nI h) ph tk yo an du rc rn rt rv yv yap ycl yaw ycw) := by
  intro h
  induction h with
  | zero =>
    intro c d j nd du rv xfs yv yap ycl yaw ycw hj P T D
    have b := dq_pb P
    refine ⟨0, c, d, nd, du, rv, xfs, yv, yap, ycl, yaw, ycw, P, T, D, by omega, ⟨rfl, rfl, rfl⟩, fun s z => z, fun s _ => rfl, fun t i _ hi => by omega, ?_, ?_⟩
    · intro post n dT hdT hn K
      obtain ⟨n, rfl⟩ : ∃ k, n = k + 1 := ⟨n - 1, by omega⟩
      subst hdT
      exact br_f (nI_ge (b := 13) (by omega) (by decide)) (dx_gone0 P (Or.inl (by omega)) (br_t rfl K))
    · intro post n hn K
      exact dy_135 (by omega) (Or.inl rfl) K (12 - j) j n (by omega) hn
  | succ h ih =>
    intro c d j nd du rv xfs yv yap ycl yaw ycw hj P T D
    have b := dq_pb P
    by_cases g : 0 < d ∧ ycw 0 = 1
    · have c0 : 0 < c := by
        by_cases z : c = 0
        · obtain ⟨_, n1, n2, nx, nh, vv, cl, pn, pnh, pc, fs, ba, bc, aw, a1, a2, c1, c2, v3⟩ := P
          have := c2 0 (by omega) (by omega)
          rw [g.2] at this
          exact absurd this (by decide)
        · omega
      obtain ⟨c, rfl⟩ : ∃ k, c = k + 1 := ⟨c - 1, by omega⟩
      obtain ⟨d, rfl⟩ : ∃ k, d = k + 1 := ⟨d - 1, by omega⟩
      obtain ⟨t, ht, e1, e2, e3, P', T'⟩ := dq_m3 htc P T
      obtain ⟨h', c', d', nd', du', rv', xfs', yv', yap', ycl', yaw', ycw', Q, S, D', B, N, M1, M2, M3, LX, LY⟩ := ih c d (j + 1) (dq_rot (h + 1) nd) (upd du t 1) (upd rv t (oo t)) (upd xfs (12 - (h + 1)) (nI (nd 0))) (dq_sh (h + 1) yv) (dq_sh (h + 1) yap) (dq_sh (h + 1) ycl) (dq_sh (h + 1) yaw) (dq_sh (h + 1) ycw) (by omega) P' T' (by
        intro q
        rw [dq_sh_lt (by omega)]
        exact D (by omega))
      rw [dq_rot_lt (by omega), dq_rot_lt (by omega), dq_rot_lt (by omega)] at N
      refine ⟨h', c', d', nd', du', rv', xfs', yv', yap', ycl', yaw', ycw', Q, S, D', by omega, N, ?_, ?_, ?_, ?_, ?_⟩
      · intro s z
        refine M1 s ?_
        by_cases q : s = t
        · subst q; rw [pk_us]; decide
        · rw [pk_un q]; exact z
      · intro s z
        rw [M2 s z]
        exact pk_un (fun q => z (q ▸ e3))
      · intro s i hs hi hi2 f fw
        by_cases q : i = 0
        · subst q
          have : s = t := dq_inj (by omega) (by omega) (f.symm.trans e1)
          subst this
          exact M1 s (by rw [pk_us]; decide)
        · obtain ⟨i, rfl⟩ : ∃ k, i = k + 1 := ⟨i - 1, by omega⟩
          refine M3 s i hs (by omega) (by omega) ?_ ?_
          · rw [dq_sh_lt (by omega)]; exact f
          · intro q hq
            rw [dq_sh_lt (by omega)]; exact fw (q + 1) (by omega)
      · intro post n dT hdT hn K
        obtain ⟨n, rfl⟩ : ∃ k, n = k + 1 := ⟨n - 1, by omega⟩
        have L := LX post n dT (by rw [dq_rot_lt (by omega)]; exact hdT) (by omega) K
        rw [show 12 - h = 12 - (h + 1) + 1 by omega] at L
        subst hdT
        have w := dq_nd P (i := 0) (by omega)
        have w1 := dq_nd P (i := 1) (by omega)
        have ex : xn (nd 0) = nI (nd 1) := by
          obtain ⟨_, n1, n2, nx, nh, vv, cl, pn, pnh, pc, fs, ba, bc, aw, a1, a2, c1, c2, v3⟩ := P
          exact nx 0 (by omega)
        refine br_f (nI_ge (b := 13) (by omega) (by decide)) (dx_gone1 P g.1 g.2 (by rw [e1]; exact dq_ne1 (by omega)) (br_f (by decide) ⟨vp_in_nI w (by decide), nm_r (e' := nI (dq_rot (h + 1) nd 0)) ?_ ⟨?_, dx_mk (t := t) ?_ (by omega) (dx_rel (by omega) (nm_r (nI_pred h) (nm_r (nI_pred d) (nm_r (nI_1 j) L))))⟩⟩))
        · rw [dq_cl w, dq_rot_lt (by omega)]; exact ex
        · rw [dq_rot_lt (by omega)]; exact vp_in_nI w1 (by decide)
        · rw [dq_rot_lt (by omega), dq_cl w1]; exact e2
      · intro post n hn K
        obtain ⟨n, rfl⟩ : ∃ k, n = k + 1 := ⟨n - 1, by omega⟩
        have L := LY post n (by omega) K
        rw [← hoo t ht e3] at L
        obtain ⟨_, n1, n2, nx, nh, vv, cl, pn, pnh, pc, fs, ba, bc, aw, a1, a2, c1, c2, v3⟩ := P
        exact br_f (nI_ge (b := 12) (by omega) (by decide)) (br_f (nI_nle (by omega) (by omega)) (br_f (by rw [aw 0 (by omega)]; decide) (br_f (by rw [e1]; exact nI_pos (by omega)) (br_f (by rw [g.2]; decide) (dy_mk (t := t) e1 (by omega) (dy_drop (by omega) ba bc (nm_r (nI_1 j) L)))))))
    · have bc : ycw 0 = 0 ∨ ycw 0 = 1 := by
        obtain ⟨_, n1, n2, nx, nh, vv, cl, pn, pnh, pc, fs, ba, bc, aw, a1, a2, c1, c2, v3⟩ := P
        exact bc 0 (by omega)
      have g2 : d = 0 ∨ ycw 0 = 0 := by
        rcases bc with z | z
        · exact Or.inr z
        · by_cases q : d = 0
          · exact Or.inl q
          · exact absurd ⟨by omega, z⟩ g
      refine ⟨h + 1, c, d, nd, du, rv, xfs, yv, yap, ycl, yaw, ycw, P, T, D, by omega, ⟨rfl, rfl, rfl⟩, fun s z => z, fun s _ => rfl, ?_, ?_, ?_⟩
      · intro t i _ hi hi2 _ fw
        exact absurd ⟨by omega, fw 0 (by omega)⟩ g
      · intro post n dT hdT hn K
        obtain ⟨n, rfl⟩ : ∃ k, n = k + 1 := ⟨n - 1, by omega⟩
        subst hdT
        exact br_f (nI_ge (b := 13) (by omega) (by decide)) (dx_gone0 P g2 (br_t rfl K))
      · intro post n hn K
        refine dy_135 (by omega) ?_ K (12 - j) j n (by omega) hn
        rcases g2 with z | z
        · subst z; exact Or.inr (Or.inl (D (by omega)))
        · exact Or.inr (Or.inr z)
end
end
section
section
variable {xN uR : Int32} {xv xap xn xcl xpn xpc xre xfs ph tk onn oo ol an du rn rt rv rc : Nat → Int32} {tc cap ur h c d : Nat} {nd : Nat → Nat}
variable {yD : Int32} {yo yv yap ycl yaw ycw : Nat → Int32}
/-- the settling, in lockstep -/
theorem ds_settle (htc : tc ≤ 6) (hoo : ∀ t, t < tc → ph t = 5 → yo t = oo t) (P : dq_P h c d nd xv xap xn xcl xpn xpc xfs yv yap ycl yaw ycw) (T : dq_T tc h c d nd ph tk oo ol du yap ycl) :
    ∃ (h' c' d' : Nat) (nd' : Nat → Nat) (du' rv' xfs' yv' yap' ycl' yaw' ycw' : Nat → Int32), dq_P h' c' d' nd' xv xap xn xcl xpn xpc xfs' yv' yap' ycl' yaw' ycw' ∧ dq_T tc h' c' d' nd' ph tk oo ol du' yap' ycl' ∧ (d' < h' → yaw' d' = 0) ∧
    (h' ≤ h ∧ h' + c = h + c') ∧ (∀ s, ph s ≠ 5 → du' s = du s) ∧
    (∀ t i : Nat, t < 6 → d ≤ i → i < h → yap i = nI t → (∀ q, q ≤ i → yaw q = 1) → du' t ≠ 0) ∧
    (∀ t i : Nat, t < 6 → i < c → ycl i = nI t → (∀ q, q ≤ i → yaw q = 1 ∧ ycw q = 1) → du' t ≠ 0) ∧
    (∀ post : SX → Prop, post (xN, nI tc, nI cap, nI (12 - h'), nI (nd' 0), nI (nd' d'), nI (nd' c'), nI (nd' h'), nI h', nI (h' - c'), nI d', nI ur, xv, xap, xn, xcl, xpn, xpc, xre, xfs', ph, tk, onn, oo, ol, an, du', rn, rt, rv', rc) → wpX_settle post (xN, nI tc, nI cap, nI (12 - h), nI (nd 0), nI (nd d), nI (nd c), nI (nd h), nI h, nI (h - c), nI d, nI ur, xv, xap, xn, xcl, xpn, xpc, xre, xfs, ph, tk, onn, oo, ol, an, du, rn, rt, rv, rc)) ∧
    (∀ post : SY → Prop, post (nI tc, nI cap, yD, nI h', ph, tk, yo, an, du', rc, rn, rt, rv', yv', yap', ycl', yaw', ycw') → wpY_size (fun r => ∃ n91 : Nat, wY_write_91 post r n91 0 (nI tc) (nI cap) yD (nI h) ph tk yo an du rc rn rt rv yv yap ycl yaw ycw) (nI tc, nI cap, yD, nI h, ph, tk, yo, an, du, rc, rn, rt, rv, yv, yap, ycl, yaw, ycw) 1) := by
  have hb := dq_pb P
  obtain ⟨e, e1, e2, e3, e4⟩ := dq_run P
  obtain ⟨m, hm⟩ : ∃ m, d + m = e := ⟨e - d, by omega⟩
  obtain ⟨du1, rv1, yap1, P1, T1, A1, A2, A3, AX, AY⟩ := ds_sa (xN := xN) (xT := nI tc) (xK := nI cap) (fT := nI (12 - h)) (bS := nI (nd 0)) (cE := nI (nd c)) (tL := nI (nd h)) (hC := nI h) (lC := nI (h - c)) (uR := nI ur) (xre := xre) (onn := onn) (an := an) (rn := rn) (rt := rt) (rc := rc) (yT := nI tc) (yK := nI cap) (yD := yD) htc hoo e2 e3 e4 m d du rv yap hm P T
  obtain ⟨h', c', d', nd', du', rv', xfs', yv', yap', ycl', yaw', ycw', Q, S, D', B, N, M1, M2, M3, CX, CY⟩ := ds_sc (xN := xN) (xT := nI tc) (xK := nI cap) (cE := nI (nd c)) (tL := nI (nd h)) (lC := nI (h - c)) (uR := nI ur) (xre := xre) (onn := onn) (an := an) (rn := rn) (rt := rt) (rc := rc) (yT := nI tc) (yK := nI cap) (yD := yD) htc hoo h c e 0 nd du1 rv1 xfs yv yap1 ycl yaw ycw (by omega) P1 T1 e4
  refine ⟨h', c', d', nd', du', rv', xfs', yv', yap', ycl', yaw', ycw', Q, S, D', B, ?_, ?_, ?_, ?_, ?_⟩
  · intro s z
    rw [M2 s z, A2 s z]
  · intro t i ht h1 h2 f fw
    refine M1 t (A3 t i ht h1 ?_ f)
    by_cases q : i < e
    · exact q
    · have := fw e (by omega)
      rw [e4 (by omega)] at this
      exact absurd this (by decide)
  · intro t i ht h1 f fw
    refine M3 t i ht h1 ?_ f (fun q hq => (fw q hq).2)
    by_cases q : i < e
    · exact q
    · have := (fw e (by omega)).1
      rw [e4 (by omega)] at this
      exact absurd this (by decide)
  · intro post K
    have K2 : post (xN, nI tc, nI cap, nI (12 - h'), nI (nd' 0), nI (nd e), nI (nd c), nI (nd h), nI h', nI (h - c), nI d', nI ur, xv, xap, xn, xcl, xpn, xpc, xre, xfs', ph, tk, onn, oo, ol, an, du', rn, rt, rv', rc) := by
      rw [← N.1, ← N.2.1, ← N.2.2, show h - c = h' - c' by omega]
      exact K
    exact ⟨m + 1, AX _ 0 (m + 1) (by omega) (by omega) ⟨h + 1, CX _ (h + 1) (nI (nd e)) rfl (by omega) K2⟩⟩
  · intro post K
    refine dy_size1 hb.1 e2 e3 e4 ⟨m + 1 + d, ?_⟩
    have a1 : ∀ i, i < d → yap i = -1 := by
      obtain ⟨b, n1, n2, nx, nh, vv, cl, pn, pnh, pc, fs, ba, bc, aw, a1, a2, c1, c2, v3⟩ := P
      exact a1
    exact dy_91 (n := m + 1) e1 (by omega) a1 (AY post (m + 1) (by omega) ⟨13, CY post 13 (by omega) K⟩) d 0 (by omega)
theorem dq_c0 (htc : tc ≤ 6) (T : dq_T tc h c d nd ph tk oo ol du yap ycl) : ∀ i, i < c → 0 ≤ ycl i := by
  intro i hi
  obtain ⟨t, ht, e, _⟩ := T.1 i hi
  rw [e]
  exact nI_pos' (by omega)
theorem dq_c1 (P : dq_P h c d nd xv xap xn xcl xpn xpc xfs yv yap ycl yaw ycw) : ∀ i, c ≤ i → i < h → ycl i = -1 := by
  obtain ⟨b, n1, n2, nx, nh, vv, cl, pn, pnh, pc, fs, ba, bc, aw, a1, a2, c1, c2, v3⟩ := P
  exact c1
theorem dq_nx (P : dq_P h c d nd xv xap xn xcl xpn xpc xfs yv yap ycl yaw ycw) : ∀ i, i < h → xn (nd i) = nI (nd (i + 1)) := by
  obtain ⟨b, n1, n2, nx, nh, vv, cl, pn, pnh, pc, fs, ba, bc, aw, a1, a2, c1, c2, v3⟩ := P
  exact nx
theorem dq_aw (P : dq_P h c d nd xv xap xn xcl xpn xpc xfs yv yap ycl yaw ycw) : ∀ i, i < d → yaw i = 1 := by
  obtain ⟨b, n1, n2, nx, nh, vv, cl, pn, pnh, pc, fs, ba, bc, aw, a1, a2, c1, c2, v3⟩ := P
  exact aw
/-- the end of the component's walk over the lines -/
theorem dx_w_end {k n : Nat} {x1 : Int32} {post : SX → Prop} {xT xK fT bS dT cE tL hC lC dC : Int32} (hk : k ≤ 13) (K : wX_writeThrough_48 post xN xT xK fT bS dT cE tL hC lC dC uR xv xap xn xcl xpn xpc xre xfs ph tk onn oo ol an du rn rt rv rc) : wX_writeThrough_7 post x1 (n + 1) (-1) (nI k) xN xT xK fT bS dT cE tL hC lC dC uR xv xap xn xcl xpn xpc xre xfs ph tk onn oo ol an du rn rt rv rc := by
  by_cases q : k = 13
  · subst q
    exact br_t (nI_le (a := 13) (b := 13) (Nat.le_refl _) (by decide)) K
  · exact br_f (nI_ge (b := 13) (by omega) (by decide)) (br_t rfl K)
/-- the lines up to k, in lockstep -/
theorem ds_wl {xT xK fT bS dT cE tL hC lC dC : Int32} {k : Nat} {yT yK : Int32} (hk : k ≤ h) (c0 : ∀ i, i < c → 0 ≤ ycl i) :
    ∀ m j : Nat, ∀ xpn xpc yaw ycw : Nat → Int32, j + m = k → dq_P h c d nd xv xap xn xcl xpn xpc xfs yv yap ycl yaw ycw → (∀ q, q < j → q < h → yaw q = 1) → (∀ q, q + 1 < j → q < c → ycw q = 1) →
    ∃ xpn' xpc' yaw' ycw' : Nat → Int32, dq_P h c d nd xv xap xn xcl xpn' xpc' xfs yv yap ycl yaw' ycw' ∧ (∀ q, q ≤ k → q < h → yaw' q = 1) ∧ (∀ q, q + 1 ≤ k → q < c → ycw' q = 1) ∧
    (∀ (post : SX → Prop) (n : Nat), m + 1 < n → wX_writeThrough_48 post xN xT xK fT bS dT cE tL hC lC dC uR xv xap xn xcl xpn' xpc' xre xfs ph tk onn oo ol an du rn rt rv rc → wX_writeThrough_7 post (nI (nd k)) n (nI (nd j)) (nI j) xN xT xK fT bS dT cE tL hC lC dC uR xv xap xn xcl xpn xpc xre xfs ph tk onn oo ol an du rn rt rv rc) ∧
    (∀ (post : SY → Prop) (n : Nat), h + 1 - j < n → wpY_size (fun r => ∃ n91 : Nat, wY_write_91 post r n91 0 yT yK yD (nI h) ph tk yo an du rc rn rt rv yv yap ycl yaw' ycw') (yT, yK, yD, nI h, ph, tk, yo, an, du, rc, rn, rt, rv, yv, yap, ycl, yaw', ycw') 1 → wY_write_2 post (nI 0) (nI k) yT yK yD (nI h) n (nI j) ph tk yo an du rc rn rt rv yv yap ycl yaw ycw) := by
  intro m
  induction m with
  | zero =>
    intro j xpn xpc yaw ycw hj P A B
    have q : j = k := by omega
    subst q
    have hb := dq_pb P
    have w := dq_nd P (i := j) (by omega)
    refine ⟨_, _, _, _, dq_m1 P hk, ?_, ?_, ?_, ?_⟩
    · intro q hq hq2
      by_cases z : q = j
      · subst z; rw [if_pos hq2, pk_us]
      · by_cases y : j < h
        · rw [if_pos y, pk_un z]; exact A q (by omega) hq2
        · rw [if_neg y]; exact A q (by omega) hq2
    · intro q hq hq2
      by_cases z : q + 1 = j
      · rw [if_pos ⟨by omega, by omega⟩, show j - 1 = q by omega, pk_us]
      · by_cases y : 0 < j ∧ j ≤ c
        · rw [if_pos y, pk_un (by omega)]; exact B q (by omega) hq2
        · rw [if_neg y]; exact B q (by omega) hq2
    · intro post n hn K
      obtain ⟨n, rfl⟩ : ∃ k, n = k + 1 + 1 := ⟨n - 2, by omega⟩
      exact br_f (nI_ge (b := 13) (by omega) (by decide)) (br_f (dq_ne1 (by omega)) (dx_wl w (br_t rfl (nm_r (nI_1 j) (dx_w_end (by omega) K)))))
    · intro post n hn K
      obtain ⟨n, rfl⟩ : ∃ k, n = k + 1 := ⟨n - 1, by omega⟩
      exact dy_w2 hb.1 hk (by omega) (Nat.le_refl _) (by omega) c0 (dq_c1 P) (dy_w4 hb.1 (by omega) (by omega) K (h - j) (j + 1) n (by omega) (by omega) (by omega))
  | succ m ih =>
    intro j xpn xpc yaw ycw hj P A B
    have hb := dq_pb P
    have w := dq_nd P (i := j) (by omega)
    have wk := dq_nd P (i := k) (by omega)
    obtain ⟨xpn', xpc', yaw', ycw', Q, A', B', LX, LY⟩ := ih (j + 1) _ _ _ _ (by omega) (dq_m1 P (k := j) (by omega))
      (by
        intro q hq hq2
        by_cases z : q = j
        · subst z; rw [if_pos hq2, pk_us]
        · rw [if_pos (by omega), pk_un z]; exact A q (by omega) hq2)
      (by
        intro q hq hq2
        by_cases z : q + 1 = j
        · rw [if_pos ⟨by omega, by omega⟩, show j - 1 = q by omega, pk_us]
        · by_cases y : 0 < j ∧ j ≤ c
          · rw [if_pos y, pk_un (by omega)]; exact B q (by omega) hq2
          · rw [if_neg y]; exact B q (by omega) hq2)
    refine ⟨xpn', xpc', yaw', ycw', Q, A', B', ?_, ?_⟩
    · intro post n hn K
      obtain ⟨n, rfl⟩ : ∃ k, n = k + 1 := ⟨n - 1, by omega⟩
      refine br_f (nI_ge (b := 13) (by omega) (by decide)) (br_f (dq_ne1 (by omega)) (dx_wl w (br_f ?_ ⟨vp_in_nI w (by decide), nm_r (e' := nI (nd (j + 1))) ?_ (nm_r (nI_1 j) (LX post n (by omega) K))⟩)))
      · intro z
        have := dq_nj P (i := j) (j := k) (by omega) (by omega) (dq_inj (by omega) (by omega) z)
        omega
      · rw [dq_cl w]; exact dq_nx P j (by omega)
    · intro post n hn K
      obtain ⟨n, rfl⟩ : ∃ k, n = k + 1 := ⟨n - 1, by omega⟩
      exact dy_w2 hb.1 (by omega) (by omega) (by omega) (by omega) c0 (dq_c1 P) (LY post n (by omega) K)
/-- writing through to line k, in lockstep -/
theorem ds_write {k : Nat} (htc : tc ≤ 6) (hoo : ∀ t, t < tc → ph t = 5 → yo t = oo t) (P : dq_P h c d nd xv xap xn xcl xpn xpc xfs yv yap ycl yaw ycw) (T : dq_T tc h c d nd ph tk oo ol du yap ycl) (hk : k ≤ h) :
    ∃ (h' c' d' : Nat) (nd' : Nat → Nat) (xpn' xpc' du' rv' xfs' yv' yap' ycl' yaw' ycw' : Nat → Int32), dq_P h' c' d' nd' xv xap xn xcl xpn' xpc' xfs' yv' yap' ycl' yaw' ycw' ∧ dq_T tc h' c' d' nd' ph tk oo ol du' yap' ycl' ∧ (d' < h' → yaw' d' = 0) ∧
    (h' ≤ h ∧ h' + c = h + c') ∧ (∀ s, ph s ≠ 5 → du' s = du s) ∧
    (∀ t i : Nat, t < 6 → d ≤ i → i ≤ k → i < h → yap i = nI t → du' t ≠ 0) ∧
    (∀ t i : Nat, t < 6 → i < c → i + 1 ≤ k → ycl i = nI t → du' t ≠ 0) ∧
    (∀ post : SX → Prop, post (xN, nI tc, nI cap, nI (12 - h'), nI (nd' 0), nI (nd' d'), nI (nd' c'), nI (nd' h'), nI h', nI (h' - c'), nI d', nI ur, xv, xap, xn, xcl, xpn', xpc', xre, xfs', ph, tk, onn, oo, ol, an, du', rn, rt, rv', rc) → wpX_writeThrough post (xN, nI tc, nI cap, nI (12 - h), nI (nd 0), nI (nd d), nI (nd c), nI (nd h), nI h, nI (h - c), nI d, nI ur, xv, xap, xn, xcl, xpn, xpc, xre, xfs, ph, tk, onn, oo, ol, an, du, rn, rt, rv, rc) (nI (nd k))) ∧
    (∀ post : SY → Prop, post (nI tc, nI cap, yD, nI h', ph, tk, yo, an, du', rc, rn, rt, rv', yv', yap', ycl', yaw', ycw') → wpY_write post (nI tc, nI cap, yD, nI h, ph, tk, yo, an, du, rc, rn, rt, rv, yv, yap, ycl, yaw, ycw) 0 (nI k)) := by
  have hb := dq_pb P
  obtain ⟨xpn', xpc', yaw1, ycw1, P1, A, B, LX, LY⟩ := ds_wl (xN := xN) (xT := nI tc) (xK := nI cap) (fT := nI (12 - h)) (bS := nI (nd 0)) (dT := nI (nd d)) (cE := nI (nd c)) (tL := nI (nd h)) (hC := nI h) (lC := nI (h - c)) (dC := nI d) (uR := nI ur) (xre := xre) (ph := ph) (tk := tk) (onn := onn) (oo := oo) (ol := ol) (an := an) (du := du) (rn := rn) (rt := rt) (rv := rv) (rc := rc) (yT := nI tc) (yK := nI cap) (yD := yD) (yo := yo) hk (dq_c0 htc T) k 0 xpn xpc yaw ycw (by omega) P (fun q hq => by omega) (fun q hq => by omega)
  obtain ⟨h', c', d', nd', du', rv', xfs', yv', yap', ycl', yaw', ycw', Q, S, D', H, M2, M3, M4, CX, CY⟩ := ds_settle (xN := xN) (cap := cap) (ur := ur) (xre := xre) (onn := onn) (an := an) (rn := rn) (rt := rt) (rv := rv) (rc := rc) (yD := yD) htc hoo P1 T
  refine ⟨h', c', d', nd', xpn', xpc', du', rv', xfs', yv', yap', ycl', yaw', ycw', Q, S, D', H, M2, ?_, ?_, ?_, ?_⟩
  · intro t i ht h1 h2 h3 f
    exact M3 t i ht h1 h3 f (fun q hq => A q (by omega) (by omega))
  · intro t i ht h1 h2 f
    exact M4 t i ht h1 f (fun q hq => ⟨A q (by omega) (by omega), B q (by omega) (by omega)⟩)
  · intro post K
    exact ⟨k + 2, LX post (k + 2) (by omega) (CX _ K)⟩
  · intro post K
    exact ⟨h + 2, LY post (h + 2) (by omega) (CY post K)⟩
/-- writing line k alone, in lockstep -/
theorem ds_evict {k : Nat} (htc : tc ≤ 6) (hoo : ∀ t, t < tc → ph t = 5 → yo t = oo t) (P : dq_P h c d nd xv xap xn xcl xpn xpc xfs yv yap ycl yaw ycw) (T : dq_T tc h c d nd ph tk oo ol du yap ycl) (hk : k ≤ h) :
    ∃ (h' c' d' : Nat) (nd' : Nat → Nat) (xpn' xpc' du' rv' xfs' yv' yap' ycl' yaw' ycw' : Nat → Int32), dq_P h' c' d' nd' xv xap xn xcl xpn' xpc' xfs' yv' yap' ycl' yaw' ycw' ∧ dq_T tc h' c' d' nd' ph tk oo ol du' yap' ycl' ∧ (d' < h' → yaw' d' = 0) ∧
    (h' ≤ h ∧ h' + c = h + c') ∧ (∀ s, ph s ≠ 5 → du' s = du s) ∧
    (∀ post : SX → Prop, post (xN, nI tc, nI cap, nI (12 - h'), nI (nd' 0), nI (nd' d'), nI (nd' c'), nI (nd' h'), nI h', nI (h' - c'), nI d', nI ur, xv, xap, xn, xcl, xpn', xpc', xre, xfs', ph, tk, onn, oo, ol, an, du', rn, rt, rv', rc) → wpX_writeLine (fun u => match u with | (xN, xT, xK, fT, bS, dT, cE, tL, hC, lC, dC, uR, xv, xap, xn, xcl, xpn, xpc, xre, xfs, ph, tk, onn, oo, ol, an, du, rn, rt, rv, rc) => wpX_settle post (xN, xT, xK, fT, bS, dT, cE, tL, hC, lC, dC, uR, xv, xap, xn, xcl, xpn, xpc, xre, xfs, ph, tk, onn, oo, ol, an, du, rn, rt, rv, rc)) (xN, nI tc, nI cap, nI (12 - h), nI (nd 0), nI (nd d), nI (nd c), nI (nd h), nI h, nI (h - c), nI d, nI ur, xv, xap, xn, xcl, xpn, xpc, xre, xfs, ph, tk, onn, oo, ol, an, du, rn, rt, rv, rc) (nI (nd k))) ∧
    (∀ post : SY → Prop, post (nI tc, nI cap, yD, nI h', ph, tk, yo, an, du', rc, rn, rt, rv', yv', yap', ycl', yaw', ycw') → wpY_write post (nI tc, nI cap, yD, nI h, ph, tk, yo, an, du, rc, rn, rt, rv, yv, yap, ycl, yaw, ycw) (nI k) (nI k)) := by
  have hb := dq_pb P
  have w := dq_nd P (i := k) (by omega)
  obtain ⟨h', c', d', nd', du', rv', xfs', yv', yap', ycl', yaw', ycw', Q, S, D', H, M2, M3, M4, CX, CY⟩ := ds_settle (xN := xN) (cap := cap) (ur := ur) (xre := xre) (onn := onn) (an := an) (rn := rn) (rt := rt) (rv := rv) (rc := rc) (yD := yD) htc hoo (dq_m1 P hk) T
  refine ⟨h', c', d', nd', _, _, du', rv', xfs', yv', yap', ycl', yaw', ycw', Q, S, D', H, M2, ?_, ?_⟩
  · intro post K
    exact dx_wl w (CX _ K)
  · intro post K
    exact ⟨h + 2 - k + 1 + k, dy_w5 (n := h + 2 - k + 1) hb.1 hk (by omega) (dy_w2 (n := h + 2 - k) hb.1 hk (Nat.le_refl _) (Nat.le_refl _) (by omega) (dq_c0 htc T) (dq_c1 P) (dy_w4 hb.1 (by omega) (by omega) (CY post K) (h - k) (k + 1) (h + 2 - k) (by omega) (by omega) (by omega))) k 0 (by omega)⟩
end
end
section
/-- the relation -/
def i_Rel (k : Nat) (u : SX) (v : SY) : Prop := ∃ (tc cap h c d ur : Nat) (nd : Nat → Nat) (xN yD : Int32) (xv xap xn xcl xpn xpc xre xfs ph tk onn oo ol an du rn rt rv rc yo yv yap ycl yaw ycw : Nat → Int32), u = (xN, nI tc, nI cap, nI (12 - h), nI (nd 0), nI (nd d), nI (nd c), nI (nd h), nI h, nI (h - c), nI d, nI ur, xv, xap, xn, xcl, xpn, xpc, xre, xfs, ph, tk, onn, oo, ol, an, du, rn, rt, rv, rc) ∧ v = (nI tc, nI cap, yD, nI h, ph, tk, yo, an, du, rc, rn, rt, rv, yv, yap, ycl, yaw, ycw) ∧ dq_P h c d nd xv xap xn xcl xpn xpc xfs yv yap ycl yaw ycw ∧ dq_T tc h c d nd ph tk oo ol du yap ycl ∧ (d < h → yaw d = 0) ∧ dq_E tc cap h c ur yD ph tk onn oo an du rn rc yo
theorem i_up {k : Nat} {u : SX} {v : SY} (h : i_Rel k u v) : i_Rel (k + 3) u v := h
theorem zz_el {k : Nat} {u : SX} {v : SY} {Z : SX → SY → Prop} (H : ∀ (tc cap h c d ur : Nat) (nd : Nat → Nat) (xN yD : Int32) (xv xap xn xcl xpn xpc xre xfs ph tk onn oo ol an du rn rt rv rc yo yv yap ycl yaw ycw : Nat → Int32), dq_P h c d nd xv xap xn xcl xpn xpc xfs yv yap ycl yaw ycw → dq_T tc h c d nd ph tk oo ol du yap ycl → (d < h → yaw d = 0) → dq_E tc cap h c ur yD ph tk onn oo an du rn rc yo → Z (xN, nI tc, nI cap, nI (12 - h), nI (nd 0), nI (nd d), nI (nd c), nI (nd h), nI h, nI (h - c), nI d, nI ur, xv, xap, xn, xcl, xpn, xpc, xre, xfs, ph, tk, onn, oo, ol, an, du, rn, rt, rv, rc) (nI tc, nI cap, yD, nI h, ph, tk, yo, an, du, rc, rn, rt, rv, yv, yap, ycl, yaw, ycw)) (I : i_Rel k u v) : Z u v :=
  Exists.elim I fun tc I => Exists.elim I fun cap I => Exists.elim I fun h I => Exists.elim I fun c I => Exists.elim I fun d I => Exists.elim I fun ur I => Exists.elim I fun nd I => Exists.elim I fun xN I => Exists.elim I fun yD I =>
  Exists.elim I fun xv I => Exists.elim I fun xap I => Exists.elim I fun xn I => Exists.elim I fun xcl I => Exists.elim I fun xpn I => Exists.elim I fun xpc I => Exists.elim I fun xre I => Exists.elim I fun xfs I => Exists.elim I fun ph I => Exists.elim I fun tk I => Exists.elim I fun onn I => Exists.elim I fun oo I => Exists.elim I fun ol I => Exists.elim I fun an I => Exists.elim I fun du I => Exists.elim I fun rn I => Exists.elim I fun rt I => Exists.elim I fun rv I => Exists.elim I fun rc I =>
  Exists.elim I fun yo I => Exists.elim I fun yv I => Exists.elim I fun yap I => Exists.elim I fun ycl I => Exists.elim I fun yaw I => Exists.elim I fun ycw I => by
    have K := H tc cap h c d ur nd xN yD xv xap xn xcl xpn xpc xre xfs ph tk onn oo ol an du rn rt rv rc yo yv yap ycl yaw ycw I.2.2.1 I.2.2.2.1 I.2.2.2.2.1 I.2.2.2.2.2
    rw [I.1, I.2.1]
    exact K
section
variable {xN yD : Int32} {xv xap xn xcl xpn xpc xre xfs ph tk onn oo ol an du rn rt rv rc yo yv yap ycl yaw ycw : Nat → Int32} {tc cap h c d ur t : Nat} {nd : Nat → Nat}
theorem zz_in (k : Nat) (P : dq_P h c d nd xv xap xn xcl xpn xpc xfs yv yap ycl yaw ycw) (T : dq_T tc h c d nd ph tk oo ol du yap ycl) (D : d < h → yaw d = 0) (E : dq_E tc cap h c ur yD ph tk onn oo an du rn rc yo) : i_Rel k (xN, nI tc, nI cap, nI (12 - h), nI (nd 0), nI (nd d), nI (nd c), nI (nd h), nI h, nI (h - c), nI d, nI ur, xv, xap, xn, xcl, xpn, xpc, xre, xfs, ph, tk, onn, oo, ol, an, du, rn, rt, rv, rc) (nI tc, nI cap, yD, nI h, ph, tk, yo, an, du, rc, rn, rt, rv, yv, yap, ycl, yaw, ycw) :=
  ⟨tc, cap, h, c, d, ur, nd, xN, yD, xv, xap, xn, xcl, xpn, xpc, xre, xfs, ph, tk, onn, oo, ol, an, du, rn, rt, rv, rc, yo, yv, yap, ycl, yaw, ycw, rfl, rfl, P, T, D, E⟩
theorem dq_arg (x : Int32) (htc : tc ≤ 6) : (x < 0 ∨ nI tc ≤ x) ∨ ∃ t, t < tc ∧ x = nI t := by
  rcases pk_ix x (n := tc) (by omega) with q | q | q
  · exact Or.inl (Or.inl q)
  · exact Or.inl (Or.inr q)
  · exact Or.inr q
theorem dq_tc (E : dq_E tc cap h c ur yD ph tk onn oo an du rn rc yo) : tc ≤ 6 := E.1.2.1
end
end
section
section
variable {xN yD : Int32} {xv xap xn xcl xpn xpc xre xfs ph tk onn oo ol an du rn rt rv rc yo yv yap ycl yaw ycw : Nat → Int32} {tc cap h c d ur t : Nat} {nd : Nat → Nat}
theorem dq_ud (E : dq_E tc cap h c ur yD ph tk onn oo an du rn rc yo) : (ur = 0 ∧ yD = 0) ∨ (0 < ur ∧ ur ≤ 6 ∧ yD = 1 ∧ ur = dq_cz rc tc ∧ ∀ t, ph t = 0) := by
  obtain ⟨b, e1, e2, e3, e4, e5, e6, e7, e8, e9⟩ := E
  rcases e9 with e9 | ⟨q1, q2, q3, q4⟩
  · exact Or.inl e9
  · have := dq_cz_le rc tc
    exact Or.inr ⟨q1, by omega, q2, q3, q4⟩
end
theorem i_vc_phase {k : Nat} {u : SX} {v : SY} (I : i_Rel k u v) (hk : k + 3 ≤ 1538) (v1 : Int32) : wpX_phase (fun r => wpY_phase (fun r' => r' = r ∧ i_Rel (k + 3) u v) v v1) u v1 := by
  refine zz_el (Z := fun u v => wpX_phase (fun r => wpY_phase (fun r' => r' = r ∧ i_Rel (k + 3) u v) v v1) u v1) ?_ I
  intro tc cap h c d ur nd xN yD xv xap xn xcl xpn xpc xre xfs ph tk onn oo ol an du rn rt rv rc yo yv yap ycl yaw ycw P T D E
  have R : i_Rel (k + 3) (xN, nI tc, nI cap, nI (12 - h), nI (nd 0), nI (nd d), nI (nd c), nI (nd h), nI h, nI (h - c), nI d, nI ur, xv, xap, xn, xcl, xpn, xpc, xre, xfs, ph, tk, onn, oo, ol, an, du, rn, rt, rv, rc) (nI tc, nI cap, yD, nI h, ph, tk, yo, an, du, rc, rn, rt, rv, yv, yap, ycl, yaw, ycw) := zz_in (k + 3) P T D E
  have htc := dq_tc E
  unfold wpX_phase wpY_phase
  rcases dq_arg v1 htc with hx | ⟨t, ht, rfl⟩
  · exact dx_bad1 hx (br_f (by decide) (dy_bad1 hx (br_f (by decide) ⟨rfl, R⟩)))
  · have hi : vp_in (nI t) 6 := vp_in_nI (by omega) (by decide)
    exact dx_bad0 ht htc (br_t rfl ⟨hi, dy_bad0 ht htc (br_t rfl ⟨hi, rfl, R⟩)⟩)
theorem i_vc_task {k : Nat} {u : SX} {v : SY} (I : i_Rel k u v) (hk : k + 3 ≤ 1538) (v1 : Int32) : wpX_task (fun r => wpY_task (fun r' => r' = r ∧ i_Rel (k + 3) u v) v v1) u v1 := by
  refine zz_el (Z := fun u v => wpX_task (fun r => wpY_task (fun r' => r' = r ∧ i_Rel (k + 3) u v) v v1) u v1) ?_ I
  intro tc cap h c d ur nd xN yD xv xap xn xcl xpn xpc xre xfs ph tk onn oo ol an du rn rt rv rc yo yv yap ycl yaw ycw P T D E
  have R : i_Rel (k + 3) (xN, nI tc, nI cap, nI (12 - h), nI (nd 0), nI (nd d), nI (nd c), nI (nd h), nI h, nI (h - c), nI d, nI ur, xv, xap, xn, xcl, xpn, xpc, xre, xfs, ph, tk, onn, oo, ol, an, du, rn, rt, rv, rc) (nI tc, nI cap, yD, nI h, ph, tk, yo, an, du, rc, rn, rt, rv, yv, yap, ycl, yaw, ycw) := zz_in (k + 3) P T D E
  have htc := dq_tc E
  unfold wpX_task wpY_task
  rcases dq_arg v1 htc with hx | ⟨t, ht, rfl⟩
  · exact dx_bad1 hx (br_f (by decide) (dy_bad1 hx (br_f (by decide) ⟨rfl, R⟩)))
  · have hi : vp_in (nI t) 6 := vp_in_nI (by omega) (by decide)
    by_cases z : ph (nI t).toNatClampNeg = 0
    · exact dx_bad0 ht htc (br_t rfl ⟨hi, br_t z (dy_bad0 ht htc (br_t rfl ⟨hi, br_t z ⟨rfl, R⟩⟩))⟩)
    · exact dx_bad0 ht htc (br_t rfl ⟨hi, br_f z ⟨hi, dy_bad0 ht htc (br_t rfl ⟨hi, br_f z ⟨hi, rfl, R⟩⟩)⟩⟩)
theorem i_vc_outcome {k : Nat} {u : SX} {v : SY} (I : i_Rel k u v) (hk : k + 3 ≤ 1538) (v1 : Int32) : wpX_outcome (fun r => wpY_outcome (fun r' => r' = r ∧ i_Rel (k + 3) u v) v v1) u v1 := by
  refine zz_el (Z := fun u v => wpX_outcome (fun r => wpY_outcome (fun r' => r' = r ∧ i_Rel (k + 3) u v) v v1) u v1) ?_ I
  intro tc cap h c d ur nd xN yD xv xap xn xcl xpn xpc xre xfs ph tk onn oo ol an du rn rt rv rc yo yv yap ycl yaw ycw P T D E
  have R : i_Rel (k + 3) (xN, nI tc, nI cap, nI (12 - h), nI (nd 0), nI (nd d), nI (nd c), nI (nd h), nI h, nI (h - c), nI d, nI ur, xv, xap, xn, xcl, xpn, xpc, xre, xfs, ph, tk, onn, oo, ol, an, du, rn, rt, rv, rc) (nI tc, nI cap, yD, nI h, ph, tk, yo, an, du, rc, rn, rt, rv, yv, yap, ycl, yaw, ycw) := zz_in (k + 3) P T D E
  have htc := dq_tc E
  unfold wpX_outcome wpY_outcome
  rcases dq_arg v1 htc with hx | ⟨t, ht, rfl⟩
  · exact dx_bad1 hx (br_f (by decide) (dy_bad1 hx (br_f (by decide) ⟨rfl, R⟩)))
  · have hi : vp_in (nI t) 6 := vp_in_nI (by omega) (by decide)
    have ct : (nI t).toNatClampNeg = t := nI_clamp (by omega)
    have e3 := E.2.2.2.1 t ht
    by_cases z : ph (nI t).toNatClampNeg = 5
    · have e := e3 (Or.inl (ct ▸ z))
      rw [← ct] at e
      exact dx_bad0 ht htc (br_t rfl ⟨hi, br_t z ⟨hi, dy_bad0 ht htc (br_t rfl ⟨hi, br_t z ⟨hi, e, R⟩⟩)⟩⟩)
    · by_cases y : ph (nI t).toNatClampNeg = 6
      · have e := e3 (Or.inr (ct ▸ y))
        rw [← ct] at e
        exact dx_bad0 ht htc (br_t rfl ⟨hi, br_f z ⟨hi, br_t y ⟨hi, dy_bad0 ht htc (br_t rfl ⟨hi, br_f z ⟨hi, br_t y ⟨hi, e, R⟩⟩⟩)⟩⟩⟩)
      · exact dx_bad0 ht htc (br_t rfl ⟨hi, br_f z ⟨hi, br_f y (dy_bad0 ht htc (br_t rfl ⟨hi, br_f z ⟨hi, br_f y ⟨rfl, R⟩⟩⟩))⟩⟩)
section
variable {xN xT xK fT bS dT cE tL hC lC dC : Int32} {xv xap xn xcl xpn xpc xre xfs ph tk onn oo ol an du rn rt rv rc : Nat → Int32} {ur t : Nat}
theorem dx_hid0 {post : Int32 → Prop} (ht : t < 6) (hu : ur = 0 ∨ (0 < ur ∧ ur ≤ 6 ∧ rc t ≠ 0)) (K : post 0) : wpX_isHidden post (xN, xT, xK, fT, bS, dT, cE, tL, hC, lC, dC, nI ur, xv, xap, xn, xcl, xpn, xpc, xre, xfs, ph, tk, onn, oo, ol, an, du, rn, rt, rv, rc) (nI t) := by
  rcases hu with hu | ⟨h1, h2, h3⟩
  · unfold wpX_isHidden; exact dx_dn0 hu (br_t rfl K)
  · unfold wpX_isHidden; exact dx_dn1 h1 h2 (br_f (by decide) ⟨vp_in_nI ht (by decide), br_f (by rw [dq_cl ht]; exact h3) K⟩)
theorem dx_hid1 {post : Int32 → Prop} (ht : t < 6) (h1 : 0 < ur) (h2 : ur ≤ 6) (h3 : rc t = 0) (K : post 1) : wpX_isHidden post (xN, xT, xK, fT, bS, dT, cE, tL, hC, lC, dC, nI ur, xv, xap, xn, xcl, xpn, xpc, xre, xfs, ph, tk, onn, oo, ol, an, du, rn, rt, rv, rc) (nI t) := by
  unfold wpX_isHidden; exact dx_dn1 h1 h2 (br_f (by decide) ⟨vp_in_nI ht (by decide), br_t (by rw [dq_cl ht]; exact h3) K⟩)
end
theorem i_vc_number {k : Nat} {u : SX} {v : SY} (I : i_Rel k u v) (hk : k + 3 ≤ 1538) (v1 : Int32) : wpX_number (fun r => wpY_number (fun r' => r' = r ∧ i_Rel (k + 3) u v) v v1) u v1 := by
  refine zz_el (Z := fun u v => wpX_number (fun r => wpY_number (fun r' => r' = r ∧ i_Rel (k + 3) u v) v v1) u v1) ?_ I
  intro tc cap h c d ur nd xN yD xv xap xn xcl xpn xpc xre xfs ph tk onn oo ol an du rn rt rv rc yo yv yap ycl yaw ycw P T D E
  have R : i_Rel (k + 3) (xN, nI tc, nI cap, nI (12 - h), nI (nd 0), nI (nd d), nI (nd c), nI (nd h), nI h, nI (h - c), nI d, nI ur, xv, xap, xn, xcl, xpn, xpc, xre, xfs, ph, tk, onn, oo, ol, an, du, rn, rt, rv, rc) (nI tc, nI cap, yD, nI h, ph, tk, yo, an, du, rc, rn, rt, rv, yv, yap, ycl, yaw, ycw) := zz_in (k + 3) P T D E
  have htc := dq_tc E
  unfold wpX_number wpY_number
  rcases dq_arg v1 htc with hx | ⟨t, ht, rfl⟩
  · exact dx_bad1 hx (br_f (by decide) (dy_bad1 hx (br_f (by decide) ⟨rfl, R⟩)))
  · have hi : vp_in (nI t) 6 := vp_in_nI (by omega) (by decide)
    have ct : (nI t).toNatClampNeg = t := nI_clamp (by omega)
    refine dx_bad0 ht htc (br_t rfl ?_)
    rcases dq_ud E with ⟨q1, q2⟩ | ⟨q1, q2, q3, q4, q5⟩
    · exact dx_hid0 (by omega) (Or.inl q1) (br_t rfl ⟨hi, dy_bad0 ht htc (br_t rfl (br_t q2 ⟨hi, rfl, R⟩))⟩)
    · have q3' : ¬ yD = 0 := by rw [q3]; decide
      by_cases z : rc t = 0
      · exact dx_hid1 (by omega) q1 q2 z (br_f (by decide) (dy_bad0 ht htc (br_t rfl (br_f q3' ⟨hi, br_t (by rw [ct]; exact z) ⟨rfl, R⟩⟩))))
      · exact dx_hid0 (by omega) (Or.inr ⟨q1, q2, z⟩) (br_t rfl ⟨hi, dy_bad0 ht htc (br_t rfl (br_f q3' ⟨hi, br_f (by rw [ct]; exact z) ⟨hi, rfl, R⟩⟩))⟩)
theorem i_vc_announcedTask {k : Nat} {u : SX} {v : SY} (I : i_Rel k u v) (hk : k + 3 ≤ 1538) (v1 : Int32) : wpX_announcedTask (fun r => wpY_announcedTask (fun r' => r' = r ∧ i_Rel (k + 3) u v) v v1) u v1 := by
  refine zz_el (Z := fun u v => wpX_announcedTask (fun r => wpY_announcedTask (fun r' => r' = r ∧ i_Rel (k + 3) u v) v v1) u v1) ?_ I
  intro tc cap h c d ur nd xN yD xv xap xn xcl xpn xpc xre xfs ph tk onn oo ol an du rn rt rv rc yo yv yap ycl yaw ycw P T D E
  have R : i_Rel (k + 3) (xN, nI tc, nI cap, nI (12 - h), nI (nd 0), nI (nd d), nI (nd c), nI (nd h), nI h, nI (h - c), nI d, nI ur, xv, xap, xn, xcl, xpn, xpc, xre, xfs, ph, tk, onn, oo, ol, an, du, rn, rt, rv, rc) (nI tc, nI cap, yD, nI h, ph, tk, yo, an, du, rc, rn, rt, rv, yv, yap, ycl, yaw, ycw) := zz_in (k + 3) P T D E
  have htc := dq_tc E
  unfold wpX_announcedTask wpY_announcedTask
  rcases dq_arg v1 htc with hx | ⟨t, ht, rfl⟩
  · exact dx_bad1 hx (br_f (by decide) (dy_bad1 hx (br_f (by decide) ⟨rfl, R⟩)))
  · have hi : vp_in (nI t) 6 := vp_in_nI (by omega) (by decide)
    have ct : (nI t).toNatClampNeg = t := nI_clamp (by omega)
    refine dx_bad0 ht htc (br_t rfl ?_)
    rcases dq_ud E with ⟨q1, q2⟩ | ⟨q1, q2, q3, q4, q5⟩
    · exact dx_hid0 (by omega) (Or.inl q1) (br_t rfl ⟨hi, dy_bad0 ht htc (br_t rfl (br_t q2 ⟨hi, rfl, R⟩))⟩)
    · have q3' : ¬ yD = 0 := by rw [q3]; decide
      by_cases z : rc t = 0
      · exact dx_hid1 (by omega) q1 q2 z (br_f (by decide) (dy_bad0 ht htc (br_t rfl (br_f q3' ⟨hi, br_t (by rw [ct]; exact z) ⟨rfl, R⟩⟩))))
      · exact dx_hid0 (by omega) (Or.inr ⟨q1, q2, z⟩) (br_t rfl ⟨hi, dy_bad0 ht htc (br_t rfl (br_f q3' ⟨hi, br_f (by rw [ct]; exact z) ⟨hi, rfl, R⟩⟩))⟩)
theorem i_vc_verdict {k : Nat} {u : SX} {v : SY} (I : i_Rel k u v) (hk : k + 3 ≤ 1538) (v1 : Int32) : wpX_verdict (fun r => wpY_verdict (fun r' => r' = r ∧ i_Rel (k + 3) u v) v v1) u v1 := by
  refine zz_el (Z := fun u v => wpX_verdict (fun r => wpY_verdict (fun r' => r' = r ∧ i_Rel (k + 3) u v) v v1) u v1) ?_ I
  intro tc cap h c d ur nd xN yD xv xap xn xcl xpn xpc xre xfs ph tk onn oo ol an du rn rt rv rc yo yv yap ycl yaw ycw P T D E
  have R : i_Rel (k + 3) (xN, nI tc, nI cap, nI (12 - h), nI (nd 0), nI (nd d), nI (nd c), nI (nd h), nI h, nI (h - c), nI d, nI ur, xv, xap, xn, xcl, xpn, xpc, xre, xfs, ph, tk, onn, oo, ol, an, du, rn, rt, rv, rc) (nI tc, nI cap, yD, nI h, ph, tk, yo, an, du, rc, rn, rt, rv, yv, yap, ycl, yaw, ycw) := zz_in (k + 3) P T D E
  have htc := dq_tc E
  unfold wpX_verdict wpY_verdict
  rcases dq_arg v1 htc with hx | ⟨t, ht, rfl⟩
  · exact dx_bad1 hx (br_f (by decide) (dy_bad1 hx (br_f (by decide) ⟨rfl, R⟩)))
  · have hi : vp_in (nI t) 6 := vp_in_nI (by omega) (by decide)
    have ct : (nI t).toNatClampNeg = t := nI_clamp (by omega)
    refine dx_bad0 ht htc (br_t rfl ?_)
    rcases dq_ud E with ⟨q1, q2⟩ | ⟨q1, q2, q3, q4, q5⟩
    · exact dx_hid0 (by omega) (Or.inl q1) (br_t rfl ⟨hi, dy_bad0 ht htc (br_t rfl (br_t q2 ⟨hi, rfl, R⟩))⟩)
    · have q3' : ¬ yD = 0 := by rw [q3]; decide
      by_cases z : rc t = 0
      · exact dx_hid1 (by omega) q1 q2 z (br_f (by decide) (dy_bad0 ht htc (br_t rfl (br_f q3' ⟨hi, br_t (by rw [ct]; exact z) ⟨rfl, R⟩⟩))))
      · exact dx_hid0 (by omega) (Or.inr ⟨q1, q2, z⟩) (br_t rfl ⟨hi, dy_bad0 ht htc (br_t rfl (br_f q3' ⟨hi, br_f (by rw [ct]; exact z) ⟨hi, rfl, R⟩⟩))⟩)
end
section
section
variable {xN yD : Int32} {xv xap xn xcl xpn xpc xre xfs ph tk onn oo ol an du rn rt rv rc yo yv yap ycl yaw ycw : Nat → Int32} {tc cap h c d ur t : Nat} {nd : Nat → Nat}
theorem dy_fn {post : Int32 → Prop} (ht : t < 6) (hh : h ≤ 12) (hp : ph t = 5) (hu : du t = 0) (h1 : ∀ i, i < h → ycl i ≠ nI t) (h2 : ∀ i, i < h → yap i ≠ nI t) (K : post (-1)) : wpY_find post (nI tc, nI cap, yD, nI h, ph, tk, yo, an, du, rc, rn, rt, rv, yv, yap, ycl, yaw, ycw) (nI t) := by
  by_cases k8 : tk t = -8
  · exact dy_find (-1) (Or.inl ⟨k8, rfl⟩) ht hh (Nat.le_refl h) hp hu h1 (Or.inr ⟨rfl, rfl⟩) K
  · exact dy_find (-1) (Or.inr ⟨k8, rfl⟩) ht hh (Nat.le_refl h) hp hu h2 (Or.inr ⟨rfl, rfl⟩) K
theorem dy_fc {post : Int32 → Prop} {i : Nat} (ht : t < 6) (hh : h ≤ 12) (hp : ph t = 5) (hu : du t = 0) (k8 : tk t = -8) (hi : i < h) (e : ycl i = nI t) (un : ∀ j, j < h → ycl j = nI t → j = i) (K : post (nI i)) : wpY_find post (nI tc, nI cap, yD, nI h, ph, tk, yo, an, du, rc, rn, rt, rv, yv, yap, ycl, yaw, ycw) (nI t) :=
  dy_find (nI i) (Or.inl ⟨k8, rfl⟩) ht hh (Nat.le_of_lt hi) hp hu (fun q hq z => absurd (un q (by omega) z) (by omega)) (Or.inl ⟨hi, e, rfl⟩) K
theorem dy_fa {post : Int32 → Prop} {i : Nat} (ht : t < 6) (hh : h ≤ 12) (hp : ph t = 5) (hu : du t = 0) (k8 : tk t ≠ -8) (hi : i < h) (e : yap i = nI t) (un : ∀ j, j < h → yap j = nI t → j = i) (K : post (nI i)) : wpY_find post (nI tc, nI cap, yD, nI h, ph, tk, yo, an, du, rc, rn, rt, rv, yv, yap, ycl, yaw, ycw) (nI t) :=
  dy_find (nI i) (Or.inr ⟨k8, rfl⟩) ht hh (Nat.le_of_lt hi) hp hu (fun q hq z => absurd (un q (by omega) z) (by omega)) (Or.inl ⟨hi, e, rfl⟩) K
/-- the mark of a thread, on both sides -/
theorem dz_mark (htc : tc ≤ 6) (P : dq_P h c d nd xv xap xn xcl xpn xpc xfs yv yap ycl yaw ycw) (T : dq_T tc h c d nd ph tk oo ol du yap ycl) (ht : t < tc) :
    ∃ r : Int32, (∀ post : Int32 → Prop, post r → wpX_mark post (xN, nI tc, nI cap, nI (12 - h), nI (nd 0), nI (nd d), nI (nd c), nI (nd h), nI h, nI (h - c), nI d, nI ur, xv, xap, xn, xcl, xpn, xpc, xre, xfs, ph, tk, onn, oo, ol, an, du, rn, rt, rv, rc) (nI t)) ∧ (∀ post : Int32 → Prop, post r → wpY_mark post (nI tc, nI cap, yD, nI h, ph, tk, yo, an, du, rc, rn, rt, rv, yv, yap, ycl, yaw, ycw) (nI t)) := by
  have hb := dq_pb P
  have hi : vp_in (nI t) 6 := vp_in_nI (by omega) (by decide)
  have ct : (nI t).toNatClampNeg = t := nI_clamp (by omega)
  have ht6 : t < 6 := by omega
  by_cases p1 : ph t = 1
  · by_cases a : an t = 0
    · exact ⟨0, fun post K => by unfold wpX_mark; exact dx_bad0 ht htc (br_t rfl ⟨hi, nm_r (e' := 1) (by rw [ct]; exact p1) (br_t rfl ⟨hi, br_t (by rw [ct]; exact a) K⟩)⟩), fun post K => by unfold wpY_mark; exact dy_bad0 ht htc (br_t rfl ⟨hi, br_t (by rw [ct]; exact p1) ⟨hi, br_t (by rw [ct]; exact a) K⟩⟩)⟩
    · exact ⟨2, fun post K => by unfold wpX_mark; exact dx_bad0 ht htc (br_t rfl ⟨hi, nm_r (e' := 1) (by rw [ct]; exact p1) (br_t rfl ⟨hi, br_f (by rw [ct]; exact a) K⟩)⟩), fun post K => by unfold wpY_mark; exact dy_bad0 ht htc (br_t rfl ⟨hi, br_t (by rw [ct]; exact p1) ⟨hi, br_f (by rw [ct]; exact a) K⟩⟩)⟩
  by_cases p6 : ph t = 6
  · exact ⟨2, fun post K => by unfold wpX_mark; exact dx_bad0 ht htc (br_t rfl ⟨hi, nm_r (e' := 6) (by rw [ct]; exact p6) (br_f (by decide) (br_f (by decide) (br_t rfl K)))⟩), fun post K => by unfold wpY_mark; exact dy_bad0 ht htc (br_t rfl ⟨hi, br_f (by rw [ct]; exact p1) ⟨hi, br_t (by rw [ct]; exact p6) K⟩⟩)⟩
  by_cases p5 : ph t = 5
  · have EX : ∀ post : Int32 → Prop, wpX_effectMark (fun r => post r) (xN, nI tc, nI cap, nI (12 - h), nI (nd 0), nI (nd d), nI (nd c), nI (nd h), nI h, nI (h - c), nI d, nI ur, xv, xap, xn, xcl, xpn, xpc, xre, xfs, ph, tk, onn, oo, ol, an, du, rn, rt, rv, rc) (nI t) → wpX_mark post (xN, nI tc, nI cap, nI (12 - h), nI (nd 0), nI (nd d), nI (nd c), nI (nd h), nI h, nI (h - c), nI d, nI ur, xv, xap, xn, xcl, xpn, xpc, xre, xfs, ph, tk, onn, oo, ol, an, du, rn, rt, rv, rc) (nI t) := fun post K => by unfold wpX_mark; exact dx_bad0 ht htc (br_t rfl ⟨hi, nm_r (e' := 5) (by rw [ct]; exact p5) (br_f (by decide) (br_t rfl K))⟩)
    by_cases u0 : du t = 0
    · have EY : ∀ post : Int32 → Prop, wpY_find (fun r_29 => (((0 ≤ r_29 → (vp_in (nI t) 6 ∧ ((((tk (nI t).toNatClampNeg) = (-8) → (vp_in r_29 12 ∧ (wY_mark_110 post (ycw r_29.toNatClampNeg) (nI tc) (nI cap) yD (nI h) ph tk yo an du rc rn rt rv yv yap ycl yaw ycw))) ∧ (¬ (tk (nI t).toNatClampNeg) = (-8) → (vp_in r_29 12 ∧ (wY_mark_110 post (yaw r_29.toNatClampNeg) (nI tc) (nI cap) yD (nI h) ph tk yo an du rc rn rt rv yv yap ycl yaw ycw))))))) ∧ (¬ 0 ≤ r_29 → (post 0))))) (nI tc, nI cap, yD, nI h, ph, tk, yo, an, du, rc, rn, rt, rv, yv, yap, ycl, yaw, ycw) (nI t) → wpY_mark post (nI tc, nI cap, yD, nI h, ph, tk, yo, an, du, rc, rn, rt, rv, yv, yap, ycl, yaw, ycw) (nI t) :=
        fun post K => by unfold wpY_mark; exact dy_bad0 ht htc (br_t rfl ⟨hi, br_f (by rw [ct]; exact p1) ⟨hi, br_f (by rw [ct]; exact p6) ⟨hi, br_t (by rw [ct]; exact p5) ⟨hi, br_t (by rw [ct]; exact u0) K⟩⟩⟩⟩)
      rcases dq_cls htc P T ht p5 u0 with ⟨o, f1, f2⟩ | ⟨⟨o3, o4⟩, k8, i, hic, ei, el, un⟩ | ⟨⟨o3, o4⟩, k8, i, hid, hih, ei, el, un⟩
      · exact ⟨0, fun post K => EX post ⟨hi, br_t (by rw [ct]; exact u0) (dx_note1 ht6 o (br_f (by decide) K))⟩, fun post K => EY post (dy_fn ht6 hb.1 p5 u0 f1 f2 (br_f (by decide) K))⟩
      · have w := dq_nd P (i := i + 1) (by omega)
        have hin : vp_in (nI (nd (i + 1))) 13 := vp_in_nI w (by decide)
        have hy : vp_in (nI i) 12 := vp_in_nI (by omega) (by decide)
        have ci : (nI i).toNatClampNeg = i := nI_clamp (by omega)
        have pc : xpc (nd (i + 1)) = if ycw i = 0 then -1 else ycl i := by
          obtain ⟨b, n1, n2, nx, nh, vv, cl, pn, pnh, pc, fs, ba, bc, aw, a1, a2, c1, c2, v3⟩ := P
          exact pc i (by omega)
        by_cases z : ycw i = 0
        · refine ⟨0, fun post K => EX post ⟨hi, br_t (by rw [ct]; exact u0) (dx_note0 ht6 o3 o4 (br_t rfl ⟨hi, nm_r (e' := nI (nd (i + 1))) (by rw [ct]; exact el) ⟨hi, br_t (by rw [ct]; exact k8) ⟨hin, br_t ?_ K⟩⟩⟩))⟩, fun post K => EY post (dy_fc ht6 hb.1 p5 u0 k8 (by omega) ei un (br_t (nI_pos' (by omega)) ⟨hi, br_t (by rw [ct]; exact k8) ⟨hy, br_t (by rw [ci]; exact z) K⟩⟩))⟩
          rw [dq_cl w, pc, if_pos z]
        · refine ⟨1, fun post K => EX post ⟨hi, br_t (by rw [ct]; exact u0) (dx_note0 ht6 o3 o4 (br_t rfl ⟨hi, nm_r (e' := nI (nd (i + 1))) (by rw [ct]; exact el) ⟨hi, br_t (by rw [ct]; exact k8) ⟨hin, br_f ?_ K⟩⟩⟩))⟩, fun post K => EY post (dy_fc ht6 hb.1 p5 u0 k8 (by omega) ei un (br_t (nI_pos' (by omega)) ⟨hi, br_t (by rw [ct]; exact k8) ⟨hy, br_f (by rw [ci]; exact z) K⟩⟩))⟩
          rw [dq_cl w, pc, if_neg z, ei]
          exact dq_ne1 (by omega)
      · have w := dq_nd P (i := i) (by omega)
        have w1 := dq_nd P (i := i + 1) (by omega)
        have hin : vp_in (nI (nd i)) 13 := vp_in_nI w (by decide)
        have hy : vp_in (nI i) 12 := vp_in_nI (by omega) (by decide)
        have ci : (nI i).toNatClampNeg = i := nI_clamp (by omega)
        have pn : xpn (nd i) = if yaw i = 0 then -1 else nI (nd (i + 1)) := by
          obtain ⟨b, n1, n2, nx, nh, vv, cl, pn, pnh, pc, fs, ba, bc, aw, a1, a2, c1, c2, v3⟩ := P
          exact pn i (by omega)
        by_cases z : yaw i = 0
        · refine ⟨0, fun post K => EX post ⟨hi, br_t (by rw [ct]; exact u0) (dx_note0 ht6 o3 o4 (br_t rfl ⟨hi, nm_r (e' := nI (nd i)) (by rw [ct]; exact el) ⟨hi, br_f (by rw [ct]; exact k8) ⟨hin, br_t ?_ K⟩⟩⟩))⟩, fun post K => EY post (dy_fa ht6 hb.1 p5 u0 k8 hih ei un (br_t (nI_pos' (by omega)) ⟨hi, br_f (by rw [ct]; exact k8) ⟨hy, br_t (by rw [ci]; exact z) K⟩⟩))⟩
          rw [dq_cl w, pn, if_pos z]
        · refine ⟨1, fun post K => EX post ⟨hi, br_t (by rw [ct]; exact u0) (dx_note0 ht6 o3 o4 (br_t rfl ⟨hi, nm_r (e' := nI (nd i)) (by rw [ct]; exact el) ⟨hi, br_f (by rw [ct]; exact k8) ⟨hin, br_f ?_ K⟩⟩⟩))⟩, fun post K => EY post (dy_fa ht6 hb.1 p5 u0 k8 hih ei un (br_t (nI_pos' (by omega)) ⟨hi, br_f (by rw [ct]; exact k8) ⟨hy, br_f (by rw [ci]; exact z) K⟩⟩))⟩
          rw [dq_cl w, pn, if_neg z]
          exact dq_ne1 (by omega)
    · exact ⟨2, fun post K => EX post ⟨hi, br_f (by rw [ct]; exact u0) K⟩, fun post K => by unfold wpY_mark; exact dy_bad0 ht htc (br_t rfl ⟨hi, br_f (by rw [ct]; exact p1) ⟨hi, br_f (by rw [ct]; exact p6) ⟨hi, br_t (by rw [ct]; exact p5) ⟨hi, br_f (by rw [ct]; exact u0) K⟩⟩⟩⟩)⟩
  · exact ⟨-6, fun post K => by unfold wpX_mark; exact dx_bad0 ht htc (br_t rfl ⟨hi, nm_r (e' := ph t) (by rw [ct]) (br_f p1 (br_f p5 (br_f p6 K)))⟩), fun post K => by unfold wpY_mark; exact dy_bad0 ht htc (br_t rfl ⟨hi, br_f (by rw [ct]; exact p1) ⟨hi, br_f (by rw [ct]; exact p6) ⟨hi, br_f (by rw [ct]; exact p5) K⟩⟩⟩)⟩
/-- the place of a thread's value, on both sides -/
theorem dz_place (htc : tc ≤ 6) (P : dq_P h c d nd xv xap xn xcl xpn xpc xfs yv yap ycl yaw ycw) (T : dq_T tc h c d nd ph tk oo ol du yap ycl) (ht : t < tc) :
    ∃ r : Int32, (∀ post : Int32 → Prop, post r → wpX_place post (xN, nI tc, nI cap, nI (12 - h), nI (nd 0), nI (nd d), nI (nd c), nI (nd h), nI h, nI (h - c), nI d, nI ur, xv, xap, xn, xcl, xpn, xpc, xre, xfs, ph, tk, onn, oo, ol, an, du, rn, rt, rv, rc) (nI t)) ∧ (∀ post : Int32 → Prop, post r → wpY_place post (nI tc, nI cap, yD, nI h, ph, tk, yo, an, du, rc, rn, rt, rv, yv, yap, ycl, yaw, ycw) (nI t)) := by
  have hb := dq_pb P
  have hi : vp_in (nI t) 6 := vp_in_nI (by omega) (by decide)
  have ct : (nI t).toNatClampNeg = t := nI_clamp (by omega)
  have ht6 : t < 6 := by omega
  have n1 : ∀ i, i < 13 → nd i < 13 := fun i h => dq_nd P h
  have n2 : ∀ i j, i < 13 → j < 13 → nd i = nd j → i = j := fun i j h h' => dq_nj P h h'
  have nx := dq_nx P
  by_cases p5 : ph t = 5
  · by_cases u0 : du t = 0
    · rcases dq_cls htc P T ht p5 u0 with ⟨o, f1, f2⟩ | ⟨⟨o3, o4⟩, k8, i, hic, ei, el, un⟩ | ⟨⟨o3, o4⟩, k8, i, hid, hih, ei, el, un⟩
      · exact ⟨-6, fun post K => by unfold wpX_place; exact dx_bad0 ht htc (br_t rfl ⟨hi, br_t (by rw [ct]; exact p5) ⟨hi, br_t (by rw [ct]; exact u0) (dx_note1 ht6 o (br_f (by decide) K))⟩⟩), fun post K => by unfold wpY_place; exact dy_bad0 ht htc (br_t rfl (dy_fn ht6 hb.1 p5 u0 f1 f2 (br_f (by decide) K)))⟩
      · refine ⟨nI i, fun post K => ?_, fun post K => by unfold wpY_place; exact dy_bad0 ht htc (br_t rfl (dy_fc ht6 hb.1 p5 u0 k8 (by omega) ei un (br_t (nI_pos' (by omega)) K)))⟩
        unfold wpX_place
        refine dx_bad0 ht htc (br_t rfl ⟨hi, br_t (by rw [ct]; exact p5) ⟨hi, br_t (by rw [ct]; exact u0) (dx_note0 ht6 o3 o4 (br_t rfl ⟨hi, ?_⟩))⟩⟩)
        rw [ct, el]
        exact dx_dist (k := i + 1) hb.1 (by omega) n1 n2 nx ⟨hi, br_t k8 (by rw [nI_pred]; exact K)⟩
      · refine ⟨nI i, fun post K => ?_, fun post K => by unfold wpY_place; exact dy_bad0 ht htc (br_t rfl (dy_fa ht6 hb.1 p5 u0 k8 hih ei un (br_t (nI_pos' (by omega)) K)))⟩
        unfold wpX_place
        refine dx_bad0 ht htc (br_t rfl ⟨hi, br_t (by rw [ct]; exact p5) ⟨hi, br_t (by rw [ct]; exact u0) (dx_note0 ht6 o3 o4 (br_t rfl ⟨hi, ?_⟩))⟩⟩)
        rw [ct, el]
        exact dx_dist (k := i) hb.1 (by omega) n1 n2 nx ⟨hi, br_f k8 K⟩
    · exact ⟨-6, fun post K => by unfold wpX_place; exact dx_bad0 ht htc (br_t rfl ⟨hi, br_t (by rw [ct]; exact p5) ⟨hi, br_f (by rw [ct]; exact u0) K⟩⟩), fun post K => by unfold wpY_place; exact dy_bad0 ht htc (br_t rfl (dy_find0 ht6 (Or.inr u0) (br_f (by decide) K)))⟩
  · exact ⟨-6, fun post K => by unfold wpX_place; exact dx_bad0 ht htc (br_t rfl ⟨hi, br_f (by rw [ct]; exact p5) K⟩), fun post K => by unfold wpY_place; exact dy_bad0 ht htc (br_t rfl (dy_find0 ht6 (Or.inl p5) (br_f (by decide) K)))⟩
/-- the sizes, on both sides -/
theorem dz_size (E : dq_E tc cap h c ur yD ph tk onn oo an du rn rc yo) (P : dq_P h c d nd xv xap xn xcl xpn xpc xfs yv yap ycl yaw ycw) (T : dq_T tc h c d nd ph tk oo ol du yap ycl) (D : d < h → yaw d = 0) (x : Int32) :
    ∃ r : Int32, ((x = 1 ∧ r = nI d) ∨ (x = 0 ∧ r = nI (h - c)) ∨ r = -1 ∨ r = -2) ∧ (∀ post : Int32 → Prop, post r → wpX_size post (xN, nI tc, nI cap, nI (12 - h), nI (nd 0), nI (nd d), nI (nd c), nI (nd h), nI h, nI (h - c), nI d, nI ur, xv, xap, xn, xcl, xpn, xpc, xre, xfs, ph, tk, onn, oo, ol, an, du, rn, rt, rv, rc) x) ∧ (∀ post : Int32 → Prop, post r → wpY_size post (nI tc, nI cap, yD, nI h, ph, tk, yo, an, du, rc, rn, rt, rv, yv, yap, ycl, yaw, ycw) x) := by
  have hb := dq_pb P
  have htc := dq_tc E
  by_cases x1 : x = 1
  · subst x1
    exact ⟨nI d, Or.inl ⟨rfl, rfl⟩, fun post K => br_t rfl K, fun post K => dy_size1 hb.1 hb.2.2 (dq_aw P) D K⟩
  by_cases x0 : x = 0
  · subst x0
    rcases dq_ud E with ⟨q1, q2⟩ | ⟨q1, q2, q3, q4, q5⟩
    · subst q2
      exact ⟨nI (h - c), Or.inr (Or.inl ⟨rfl, rfl⟩), fun post K => br_f x1 (br_t rfl (dx_dn0 q1 (br_t rfl K))), fun post K => dy_size0 hb.1 hb.2.1 (dq_c0 htc T) (dq_c1 P) K⟩
    · exact ⟨-2, Or.inr (Or.inr (Or.inr rfl)), fun post K => br_f x1 (br_t rfl (dx_dn1 q1 q2 (br_f (by decide) K))), fun post K => dy_sizeD (by rw [q3]; decide) K⟩
  · exact ⟨-1, Or.inr (Or.inr (Or.inl rfl)), fun post K => br_f x1 (br_f x0 K), fun post K => dy_sizeB x0 x1 K⟩
theorem dz_at (E : dq_E tc cap h c ur yD ph tk onn oo an du rn rc yo) (P : dq_P h c d nd xv xap xn xcl xpn xpc xfs yv yap ycl yaw ycw) (T : dq_T tc h c d nd ph tk oo ol du yap ycl) (D : d < h → yaw d = 0) (x y : Int32) :
    ∃ r : Int32, (∀ post : Int32 → Prop, post r → wpX_at post (xN, nI tc, nI cap, nI (12 - h), nI (nd 0), nI (nd d), nI (nd c), nI (nd h), nI h, nI (h - c), nI d, nI ur, xv, xap, xn, xcl, xpn, xpc, xre, xfs, ph, tk, onn, oo, ol, an, du, rn, rt, rv, rc) x y) ∧ (∀ post : Int32 → Prop, post r → wpY_at post (nI tc, nI cap, yD, nI h, ph, tk, yo, an, du, rc, rn, rt, rv, yv, yap, ycl, yaw, ycw) x y) := by
  have hb := dq_pb P
  have n1 : ∀ i, i < 13 → nd i < 13 := fun i h => dq_nd P h
  have nx := dq_nx P
  have vv : ∀ i, i < h → xv (nd (i + 1)) = yv i := by
    obtain ⟨b, n1, n2, nx, nh, vv, cl, pn, pnh, pc, fs, ba, bc, aw, a1, a2, c1, c2, v3⟩ := P
    exact vv
  obtain ⟨r, hr, SX0, SY0⟩ := dz_size (xN := xN) (cap := cap) (ur := ur) (xre := xre) (rt := rt) (rv := rv) E P T D x
  by_cases r0 : 0 ≤ r
  · by_cases y0 : y < 0
    · exact ⟨-6, fun post K => by unfold wpX_at; exact SX0 _ (br_t r0 (br_t y0 K)), fun post K => by unfold wpY_at; exact SY0 _ (br_t r0 (br_t y0 K))⟩
    by_cases yr : y < r
    · obtain ⟨q, hq, rfl⟩ := nI_of y0
      rcases hr with ⟨rfl, rfl⟩ | ⟨rfl, rfl⟩ | rfl | rfl
      · rw [nI_ltI hq (by omega)] at yr
        have yr' : nI q < nI d := nI_lt yr (by omega)
        refine ⟨yv q, fun post K => ?_, fun post K => by unfold wpY_at; exact SY0 _ (br_t r0 (br_f y0 (br_t yr' (br_f (by decide) ⟨vp_in_nI (by omega) (by decide), by rw [nI_clamp (by omega)]; exact K⟩))))⟩
        unfold wpX_at
        refine SX0 _ (br_t r0 (br_f y0 (br_t yr' (br_f (by decide) ⟨q + 2, ?_⟩))))
        have L := dx_at_l (xN := xN) (xT := nI tc) (xK := nI cap) (fT := nI (12 - h)) (bS := nI (nd 0)) (dT := nI (nd d)) (cE := nI (nd c)) (tL := nI (nd h)) (hC := nI h) (lC := nI (h - c)) (dC := nI d) (uR := nI ur) (xv := xv) (xap := xap) (xcl := xcl) (xpn := xpn) (xpc := xpc) (xre := xre) (xfs := xfs) (ph := ph) (tk := tk) (onn := onn) (oo := oo) (ol := ol) (an := an) (du := du) (rn := rn) (rt := rt) (rv := rv) (rc := rc) (post := post) (s := 0) (q := q) hb.1 (by omega) n1 nx (by rw [vv (0 + q) (by omega), Nat.zero_add]; exact K) (q + 1) 0 (q + 2) (by omega) (by omega)
        exact L
      · rw [nI_ltI hq (by omega)] at yr
        have yr' : nI q < nI (h - c) := nI_lt yr (by omega)
        refine ⟨yv (c + q), fun post K => ?_, fun post K => ?_⟩
        · unfold wpX_at
          refine SX0 _ (br_t r0 (br_f y0 (br_t yr' (br_t rfl ⟨q + 2, ?_⟩))))
          have L := dx_at_l (xN := xN) (xT := nI tc) (xK := nI cap) (fT := nI (12 - h)) (bS := nI (nd 0)) (dT := nI (nd d)) (cE := nI (nd c)) (tL := nI (nd h)) (hC := nI h) (lC := nI (h - c)) (dC := nI d) (uR := nI ur) (xv := xv) (xap := xap) (xcl := xcl) (xpn := xpn) (xpc := xpc) (xre := xre) (xfs := xfs) (ph := ph) (tk := tk) (onn := onn) (oo := oo) (ol := ol) (an := an) (du := du) (rn := rn) (rt := rt) (rv := rv) (rc := rc) (post := post) (s := c) (q := q) hb.1 (by omega) n1 nx (by rw [vv (c + q) (by omega)]; exact K) (q + 1) 0 (q + 2) (by omega) (by omega)
          exact L
        · unfold wpY_at
          refine SY0 _ (br_t r0 (br_f y0 (br_t yr' (br_t rfl ?_))))
          have e : nI h - nI (h - c) + nI q = nI (c + q) := by
            rw [pk_sub (by omega), nI_add, show h - (h - c) = c by omega]
          rw [e]
          exact ⟨vp_in_nI (by omega) (by decide), by rw [nI_clamp (by omega)]; exact K⟩
      · exact absurd r0 (by decide)
      · exact absurd r0 (by decide)
    · exact ⟨-6, fun post K => by unfold wpX_at; exact SX0 _ (br_t r0 (br_f y0 (br_f yr K))), fun post K => by unfold wpY_at; exact SY0 _ (br_t r0 (br_f y0 (br_f yr K)))⟩
  · exact ⟨r, fun post K => by unfold wpX_at; exact SX0 _ (br_f r0 K), fun post K => by unfold wpY_at; exact SY0 _ (br_f r0 K)⟩
end
theorem i_vc_mark {k : Nat} {u : SX} {v : SY} (I : i_Rel k u v) (hk : k + 3 ≤ 1538) (v1 : Int32) : wpX_mark (fun r => wpY_mark (fun r' => r' = r ∧ i_Rel (k + 3) u v) v v1) u v1 := by
  refine zz_el (Z := fun u v => wpX_mark (fun r => wpY_mark (fun r' => r' = r ∧ i_Rel (k + 3) u v) v v1) u v1) ?_ I
  intro tc cap h c d ur nd xN yD xv xap xn xcl xpn xpc xre xfs ph tk onn oo ol an du rn rt rv rc yo yv yap ycl yaw ycw P T D E
  have R : i_Rel (k + 3) (xN, nI tc, nI cap, nI (12 - h), nI (nd 0), nI (nd d), nI (nd c), nI (nd h), nI h, nI (h - c), nI d, nI ur, xv, xap, xn, xcl, xpn, xpc, xre, xfs, ph, tk, onn, oo, ol, an, du, rn, rt, rv, rc) (nI tc, nI cap, yD, nI h, ph, tk, yo, an, du, rc, rn, rt, rv, yv, yap, ycl, yaw, ycw) := zz_in (k + 3) P T D E
  have htc := dq_tc E
  rcases dq_arg v1 htc with hx | ⟨t, ht, rfl⟩
  · unfold wpX_mark wpY_mark
    exact dx_bad1 hx (br_f (by decide) (dy_bad1 hx (br_f (by decide) ⟨rfl, R⟩)))
  · obtain ⟨r, hX, hY⟩ := dz_mark (xN := xN) (yD := yD) (cap := cap) (ur := ur) (xre := xre) (onn := onn) (an := an) (rn := rn) (rt := rt) (rv := rv) (rc := rc) (yo := yo) htc P T ht
    exact hX _ (hY _ ⟨rfl, R⟩)
theorem i_vc_place {k : Nat} {u : SX} {v : SY} (I : i_Rel k u v) (hk : k + 3 ≤ 1538) (v1 : Int32) : wpX_place (fun r => wpY_place (fun r' => r' = r ∧ i_Rel (k + 3) u v) v v1) u v1 := by
  refine zz_el (Z := fun u v => wpX_place (fun r => wpY_place (fun r' => r' = r ∧ i_Rel (k + 3) u v) v v1) u v1) ?_ I
  intro tc cap h c d ur nd xN yD xv xap xn xcl xpn xpc xre xfs ph tk onn oo ol an du rn rt rv rc yo yv yap ycl yaw ycw P T D E
  have R : i_Rel (k + 3) (xN, nI tc, nI cap, nI (12 - h), nI (nd 0), nI (nd d), nI (nd c), nI (nd h), nI h, nI (h - c), nI d, nI ur, xv, xap, xn, xcl, xpn, xpc, xre, xfs, ph, tk, onn, oo, ol, an, du, rn, rt, rv, rc) (nI tc, nI cap, yD, nI h, ph, tk, yo, an, du, rc, rn, rt, rv, yv, yap, ycl, yaw, ycw) := zz_in (k + 3) P T D E
  have htc := dq_tc E
  rcases dq_arg v1 htc with hx | ⟨t, ht, rfl⟩
  · unfold wpX_place wpY_place
    exact dx_bad1 hx (br_f (by decide) (dy_bad1 hx (br_f (by decide) ⟨rfl, R⟩)))
  · obtain ⟨r, hX, hY⟩ := dz_place (xN := xN) (yD := yD) (cap := cap) (ur := ur) (xre := xre) (onn := onn) (an := an) (rn := rn) (rt := rt) (rv := rv) (rc := rc) (yo := yo) htc P T ht
    exact hX _ (hY _ ⟨rfl, R⟩)
theorem i_vc_size {k : Nat} {u : SX} {v : SY} (I : i_Rel k u v) (hk : k + 3 ≤ 1538) (v1 : Int32) : wpX_size (fun r => wpY_size (fun r' => r' = r ∧ i_Rel (k + 3) u v) v v1) u v1 := by
  refine zz_el (Z := fun u v => wpX_size (fun r => wpY_size (fun r' => r' = r ∧ i_Rel (k + 3) u v) v v1) u v1) ?_ I
  intro tc cap h c d ur nd xN yD xv xap xn xcl xpn xpc xre xfs ph tk onn oo ol an du rn rt rv rc yo yv yap ycl yaw ycw P T D E
  have R : i_Rel (k + 3) (xN, nI tc, nI cap, nI (12 - h), nI (nd 0), nI (nd d), nI (nd c), nI (nd h), nI h, nI (h - c), nI d, nI ur, xv, xap, xn, xcl, xpn, xpc, xre, xfs, ph, tk, onn, oo, ol, an, du, rn, rt, rv, rc) (nI tc, nI cap, yD, nI h, ph, tk, yo, an, du, rc, rn, rt, rv, yv, yap, ycl, yaw, ycw) := zz_in (k + 3) P T D E
  obtain ⟨r, _, hX, hY⟩ := dz_size (xN := xN) (xre := xre) (rt := rt) (rv := rv) E P T D v1
  exact hX _ (hY _ ⟨rfl, R⟩)
theorem i_vc_at {k : Nat} {u : SX} {v : SY} (I : i_Rel k u v) (hk : k + 3 ≤ 1538) (v1 : Int32) (v2 : Int32) : wpX_at (fun r => wpY_at (fun r' => r' = r ∧ i_Rel (k + 3) u v) v v1 v2) u v1 v2 := by
  refine zz_el (Z := fun u v => wpX_at (fun r => wpY_at (fun r' => r' = r ∧ i_Rel (k + 3) u v) v v1 v2) u v1 v2) ?_ I
  intro tc cap h c d ur nd xN yD xv xap xn xcl xpn xpc xre xfs ph tk onn oo ol an du rn rt rv rc yo yv yap ycl yaw ycw P T D E
  have R : i_Rel (k + 3) (xN, nI tc, nI cap, nI (12 - h), nI (nd 0), nI (nd d), nI (nd c), nI (nd h), nI h, nI (h - c), nI d, nI ur, xv, xap, xn, xcl, xpn, xpc, xre, xfs, ph, tk, onn, oo, ol, an, du, rn, rt, rv, rc) (nI tc, nI cap, yD, nI h, ph, tk, yo, an, du, rc, rn, rt, rv, yv, yap, ycl, yaw, ycw) := zz_in (k + 3) P T D E
  obtain ⟨r, hX, hY⟩ := dz_at (xN := xN) (xre := xre) (rt := rt) (rv := rv) E P T D v1 v2
  exact hX _ (hY _ ⟨rfl, R⟩)
end
section
section
variable {xN yD : Int32} {xv xap xn xcl xpn xpc xre xfs ph tk onn oo ol an du rn rt rv rc yo yv yap ycl yaw ycw : Nat → Int32} {tc cap h c d ur t : Nat} {nd : Nat → Nat}
/-- an operation begins -/
theorem dz_begin1 {a : Int32} (k : Nat) (P : dq_P h c d nd xv xap xn xcl xpn xpc xfs yv yap ycl yaw ycw) (T : dq_T tc h c d nd ph tk oo ol du yap ycl) (D : d < h → yaw d = 0) (E : dq_E tc cap h c ur yD ph tk onn oo an du rn rc yo) (ht : t < tc) (hu : ur = 0) (hp : ph t = 0) (ha : a ≠ -3 ∧ a ≠ -4) :
    i_Rel k (xN, nI tc, nI cap, nI (12 - h), nI (nd 0), nI (nd d), nI (nd c), nI (nd h), nI h, nI (h - c), nI d, nI ur, xv, xap, xn, xcl, xpn, xpc, xre, xfs, upd ph t 1, upd tk t a, upd onn t (rn t + 1), upd oo t (-6), upd ol t (-1), upd an t 0, upd du t 0, rn, rt, rv, rc) (nI tc, nI cap, yD, nI h, upd ph t 1, upd tk t a, yo, upd an t 0, upd du t 0, rc, rn, rt, rv, yv, yap, ycl, yaw, ycw) := by
  refine zz_in k P ?_ D ?_
  · exact dq_ts (t := t) T (Or.inl (by rw [hp]; decide)) (Or.inl (by rw [pk_us]; decide)) (fun s q => ⟨pk_un q, pk_un q, pk_un q, pk_un q, pk_un q⟩)
  · refine dq_ee (t := t) E hu ht (fun s q => ⟨pk_un q, pk_un q, pk_un q, pk_un q, pk_un q, pk_un q, rfl, rfl⟩) ?_ ?_ ?_ ?_ ?_ ?_
    · rw [pk_us]; intro z; exact absurd z (by decide)
    · rw [pk_us]; intro z; exact absurd z (by decide)
    · rw [pk_us]; intro z; rcases z with z | z <;> exact absurd z (by decide)
    · intro _ _; exact pk_us
    · intro _; rw [pk_us]; exact ha
    · intro _ _ _; exact pk_us
theorem dx_begin1 {a : Int32} {post : Int32 → SX → Prop} (ht : t < 6) (hu : ur = 0) (hp : ph t = 0) (K : post (rn t + 1) (xN, nI tc, nI cap, nI (12 - h), nI (nd 0), nI (nd d), nI (nd c), nI (nd h), nI h, nI (h - c), nI d, nI ur, xv, xap, xn, xcl, xpn, xpc, xre, xfs, upd ph t 1, upd tk t a, upd onn t (rn t + 1), upd oo t (-6), upd ol t (-1), upd an t 0, upd du t 0, rn, rt, rv, rc)) : wpX_begin post (xN, nI tc, nI cap, nI (12 - h), nI (nd 0), nI (nd d), nI (nd c), nI (nd h), nI h, nI (h - c), nI d, nI ur, xv, xap, xn, xcl, xpn, xpc, xre, xfs, ph, tk, onn, oo, ol, an, du, rn, rt, rv, rc) (nI t) a := by
  have hi : vp_in (nI t) 6 := vp_in_nI ht (by decide)
  have ct : (nI t).toNatClampNeg = t := nI_clamp (by omega)
  unfold wpX_begin
  exact dx_dn0 hu (br_t rfl ⟨hi, br_t (by rw [ct]; exact hp) ⟨hi, nm_r (e' := upd tk t a) (by rw [ct]) ⟨hi, hi, nm_r (e' := upd onn t (rn t + 1)) (by rw [ct]) ⟨hi, nm_r (e' := upd oo t (-6)) (by rw [ct]) ⟨hi, nm_r (e' := upd ol t (-1)) (by rw [ct]) ⟨hi, nm_r (e' := upd an t 0) (by rw [ct]; rfl) ⟨hi, nm_r (e' := upd du t 0) (by rw [ct]; rfl) ⟨hi, nm_r (e' := upd ph t 1) (by rw [ct]) ⟨hi, by rw [ct, pk_us]; exact K⟩⟩⟩⟩⟩⟩⟩⟩⟩)
theorem dx_begin0 {a : Int32} {post : Int32 → SX → Prop} (ht : t < 6) (hu : (0 < ur ∧ ur ≤ 6) ∨ (ur = 0 ∧ ph t ≠ 0)) (K : post (-2) (xN, nI tc, nI cap, nI (12 - h), nI (nd 0), nI (nd d), nI (nd c), nI (nd h), nI h, nI (h - c), nI d, nI ur, xv, xap, xn, xcl, xpn, xpc, xre, xfs, ph, tk, onn, oo, ol, an, du, rn, rt, rv, rc)) : wpX_begin post (xN, nI tc, nI cap, nI (12 - h), nI (nd 0), nI (nd d), nI (nd c), nI (nd h), nI h, nI (h - c), nI d, nI ur, xv, xap, xn, xcl, xpn, xpc, xre, xfs, ph, tk, onn, oo, ol, an, du, rn, rt, rv, rc) (nI t) a := by
  have hi : vp_in (nI t) 6 := vp_in_nI ht (by decide)
  have ct : (nI t).toNatClampNeg = t := nI_clamp (by omega)
  rcases hu with ⟨h1, h2⟩ | ⟨h1, h2⟩
  · unfold wpX_begin; exact dx_dn1 h1 h2 (br_f (by decide) K)
  · unfold wpX_begin; exact dx_dn0 h1 (br_t rfl ⟨hi, br_f (by rw [ct]; exact h2) K⟩)
theorem dy_begin1 {a : Int32} {post : Int32 → SY → Prop} (ht : t < 6) (hu : yD = 0) (hp : ph t = 0) (K : post (rn t + 1) (nI tc, nI cap, yD, nI h, upd ph t 1, upd tk t a, yo, upd an t 0, upd du t 0, rc, rn, rt, rv, yv, yap, ycl, yaw, ycw)) : wpY_begin post (nI tc, nI cap, yD, nI h, ph, tk, yo, an, du, rc, rn, rt, rv, yv, yap, ycl, yaw, ycw) (nI t) a := by
  have hi : vp_in (nI t) 6 := vp_in_nI ht (by decide)
  have ct : (nI t).toNatClampNeg = t := nI_clamp (by omega)
  exact br_t hu ⟨hi, br_t (by rw [ct]; exact hp) ⟨hi, nm_r (e' := upd tk t a) (by rw [ct]) ⟨hi, nm_r (e' := upd an t 0) (by rw [ct]; rfl) ⟨hi, nm_r (e' := upd du t 0) (by rw [ct]; rfl) ⟨hi, nm_r (e' := upd ph t 1) (by rw [ct]) ⟨hi, by rw [ct]; exact K⟩⟩⟩⟩⟩⟩
theorem dy_begin0 {a : Int32} {post : Int32 → SY → Prop} (ht : t < 6) (hu : yD = 1 ∨ (yD = 0 ∧ ph t ≠ 0)) (K : post (-2) (nI tc, nI cap, yD, nI h, ph, tk, yo, an, du, rc, rn, rt, rv, yv, yap, ycl, yaw, ycw)) : wpY_begin post (nI tc, nI cap, yD, nI h, ph, tk, yo, an, du, rc, rn, rt, rv, yv, yap, ycl, yaw, ycw) (nI t) a := by
  have hi : vp_in (nI t) 6 := vp_in_nI ht (by decide)
  have ct : (nI t).toNatClampNeg = t := nI_clamp (by omega)
  rcases hu with h1 | ⟨h1, h2⟩
  · exact br_f (by rw [h1]; decide) K
  · exact br_t h1 ⟨hi, br_f (by rw [ct]; exact h2) K⟩
theorem dq_rng {a : Int32} (h0 : ¬ a < 0) : a ≠ -3 ∧ a ≠ -4 := by
  constructor
  · intro z; subst z; exact h0 (by decide)
  · intro z; subst z; exact h0 (by decide)
end
theorem i_vc_enqueue {k : Nat} {u : SX} {v : SY} (I : i_Rel k u v) (hk : k + 3 ≤ 1538) (v1 : Int32) (v2 : Int32) : wpX_enqueue (fun r u' => wpY_enqueue (fun r' v' => r' = r ∧ i_Rel (k + 3) u' v') v v1 v2) u v1 v2 := by
  refine zz_el (Z := fun u v => wpX_enqueue (fun r u' => wpY_enqueue (fun r' v' => r' = r ∧ i_Rel (k + 3) u' v') v v1 v2) u v1 v2) ?_ I
  intro tc cap h c d ur nd xN yD xv xap xn xcl xpn xpc xre xfs ph tk onn oo ol an du rn rt rv rc yo yv yap ycl yaw ycw P T D E
  have R : i_Rel (k + 3) (xN, nI tc, nI cap, nI (12 - h), nI (nd 0), nI (nd d), nI (nd c), nI (nd h), nI h, nI (h - c), nI d, nI ur, xv, xap, xn, xcl, xpn, xpc, xre, xfs, ph, tk, onn, oo, ol, an, du, rn, rt, rv, rc) (nI tc, nI cap, yD, nI h, ph, tk, yo, an, du, rc, rn, rt, rv, yv, yap, ycl, yaw, ycw) := zz_in (k + 3) P T D E
  have htc := dq_tc E
  rcases dq_arg v1 htc with hx | ⟨t, ht, rfl⟩
  · unfold wpX_enqueue wpY_enqueue
    exact dx_bad1 hx (br_f (by decide) (dy_bad1 hx (br_f (by decide) ⟨rfl, R⟩)))
  · have ht6 : t < 6 := by omega
    unfold wpX_enqueue wpY_enqueue
    refine dx_bad0 ht htc (br_t rfl ?_)
    by_cases n : v2 < 0
    · exact br_t n (dy_bad0 ht htc (br_t rfl (br_t n ⟨rfl, R⟩)))
    by_cases m : v2 ≤ 9999
    · refine br_f n (br_t m ?_)
      rcases dq_ud E with ⟨q1, q2⟩ | ⟨q1, q2, q3, q4, q5⟩
      · by_cases z : ph t = 0
        · exact dx_begin1 ht6 q1 z (dy_bad0 ht htc (br_t rfl (br_f n (br_t m (dy_begin1 ht6 q2 z ⟨rfl, dz_begin1 (k + 3) P T D E ht q1 z (dq_rng n)⟩)))))
        · exact dx_begin0 ht6 (Or.inr ⟨q1, z⟩) (dy_bad0 ht htc (br_t rfl (br_f n (br_t m (dy_begin0 ht6 (Or.inr ⟨q2, z⟩) ⟨rfl, R⟩)))))
      · exact dx_begin0 ht6 (Or.inl ⟨q1, q2⟩) (dy_bad0 ht htc (br_t rfl (br_f n (br_t m (dy_begin0 ht6 (Or.inl q3) ⟨rfl, R⟩)))))
    · exact br_f n (br_f m (dy_bad0 ht htc (br_t rfl (br_f n (br_f m ⟨rfl, R⟩)))))
theorem i_vc_dequeue {k : Nat} {u : SX} {v : SY} (I : i_Rel k u v) (hk : k + 3 ≤ 1538) (v1 : Int32) : wpX_dequeue (fun r u' => wpY_dequeue (fun r' v' => r' = r ∧ i_Rel (k + 3) u' v') v v1) u v1 := by
  refine zz_el (Z := fun u v => wpX_dequeue (fun r u' => wpY_dequeue (fun r' v' => r' = r ∧ i_Rel (k + 3) u' v') v v1) u v1) ?_ I
  intro tc cap h c d ur nd xN yD xv xap xn xcl xpn xpc xre xfs ph tk onn oo ol an du rn rt rv rc yo yv yap ycl yaw ycw P T D E
  have R : i_Rel (k + 3) (xN, nI tc, nI cap, nI (12 - h), nI (nd 0), nI (nd d), nI (nd c), nI (nd h), nI h, nI (h - c), nI d, nI ur, xv, xap, xn, xcl, xpn, xpc, xre, xfs, ph, tk, onn, oo, ol, an, du, rn, rt, rv, rc) (nI tc, nI cap, yD, nI h, ph, tk, yo, an, du, rc, rn, rt, rv, yv, yap, ycl, yaw, ycw) := zz_in (k + 3) P T D E
  have htc := dq_tc E
  rcases dq_arg v1 htc with hx | ⟨t, ht, rfl⟩
  · unfold wpX_dequeue wpY_dequeue
    exact dx_bad1 hx (br_f (by decide) (dy_bad1 hx (br_f (by decide) ⟨rfl, R⟩)))
  · have ht6 : t < 6 := by omega
    unfold wpX_dequeue wpY_dequeue
    refine dx_bad0 ht htc (br_t rfl ?_)
    rcases dq_ud E with ⟨q1, q2⟩ | ⟨q1, q2, q3, q4, q5⟩
    · by_cases z : ph t = 0
      · exact dx_begin1 ht6 q1 z (dy_bad0 ht htc (br_t rfl (dy_begin1 ht6 q2 z ⟨rfl, dz_begin1 (k + 3) P T D E ht q1 z (by decide)⟩)))
      · exact dx_begin0 ht6 (Or.inr ⟨q1, z⟩) (dy_bad0 ht htc (br_t rfl (dy_begin0 ht6 (Or.inr ⟨q2, z⟩) ⟨rfl, R⟩)))
    · exact dx_begin0 ht6 (Or.inl ⟨q1, q2⟩) (dy_bad0 ht htc (br_t rfl (dy_begin0 ht6 (Or.inl q3) ⟨rfl, R⟩)))
end
section
section
variable {xN yD : Int32} {xv xap xn xcl xpn xpc xre xfs ph tk onn oo ol an du rn rt rv rc yo yv yap ycl yaw ycw : Nat → Int32} {tc cap h c d ur t : Nat} {nd : Nat → Nat}
/-- the head of a step -/
theorem dx_step {post : Int32 → SX → Prop} (ht : t < tc) (htc : tc ≤ 6) (hu : ur = 0) (hp : ph t ≠ 0) (K : wpX_advance (fun u => match u with | (xN, xT, xK, fT, bS, dT, cE, tL, hC, lC, dC, uR, xv, xap, xn, xcl, xpn, xpc, xre, xfs, ph, tk, onn, oo, ol, an, du, rn, rt, rv, rc) => (vp_in (nI t) 6 ∧ (post (ph (nI t).toNatClampNeg) (xN, xT, xK, fT, bS, dT, cE, tL, hC, lC, dC, uR, xv, xap, xn, xcl, xpn, xpc, xre, xfs, ph, tk, onn, oo, ol, an, du, rn, rt, rv, rc)))) (xN, nI tc, nI cap, nI (12 - h), nI (nd 0), nI (nd d), nI (nd c), nI (nd h), nI h, nI (h - c), nI d, nI ur, xv, xap, xn, xcl, xpn, xpc, xre, xfs, ph, tk, onn, oo, ol, an, du, rn, rt, rv, rc) (nI t)) : wpX_step post (xN, nI tc, nI cap, nI (12 - h), nI (nd 0), nI (nd d), nI (nd c), nI (nd h), nI h, nI (h - c), nI d, nI ur, xv, xap, xn, xcl, xpn, xpc, xre, xfs, ph, tk, onn, oo, ol, an, du, rn, rt, rv, rc) (nI t) := by
  have hi : vp_in (nI t) 6 := vp_in_nI (by omega) (by decide)
  have ct : (nI t).toNatClampNeg = t := nI_clamp (by omega)
  unfold wpX_step
  exact dx_bad0 ht htc (br_t rfl (dx_dn0 hu (br_t rfl ⟨hi, br_f (by rw [ct]; exact hp) K⟩)))
theorem dx_adv0 {post : SX → Prop} (ht : t < 6) (h0 : ph t < 1 ∨ 5 < ph t) (K : post (xN, nI tc, nI cap, nI (12 - h), nI (nd 0), nI (nd d), nI (nd c), nI (nd h), nI h, nI (h - c), nI d, nI ur, xv, xap, xn, xcl, xpn, xpc, xre, xfs, upd ph t 0, tk, onn, oo, ol, an, du, rn, rt, rv, rc)) : wpX_advance post (xN, nI tc, nI cap, nI (12 - h), nI (nd 0), nI (nd d), nI (nd c), nI (nd h), nI h, nI (h - c), nI d, nI ur, xv, xap, xn, xcl, xpn, xpc, xre, xfs, ph, tk, onn, oo, ol, an, du, rn, rt, rv, rc) (nI t) := by
  have hi : vp_in (nI t) 6 := vp_in_nI (by omega) (by decide)
  have ct : (nI t).toNatClampNeg = t := nI_clamp (by omega)
  refine ⟨hi, nm_r (e' := ph t) (by rw [ct]) ?_⟩
  by_cases z : ph t < 1
  · exact br_t z ⟨hi, nm_r (by rw [ct]) K⟩
  · rcases h0 with h0 | h0
    · exact absurd h0 z
    · exact br_f z (br_t h0 ⟨hi, nm_r (by rw [ct]) K⟩)
theorem dx_adv1 {post : SX → Prop} (ht : t < 6) (hp : ph t = 1) (K : wpX_writeAnnouncement (fun u => match u with | (xN, xT, xK, fT, bS, dT, cE, tL, hC, lC, dC, uR, xv, xap, xn, xcl, xpn, xpc, xre, xfs, ph, tk, onn, oo, ol, an, du, rn, rt, rv, rc) => (vp_in (nI t) 6 ∧ ∀ ph_43 : Nat → Int32, ph_43 = upd ph (nI t).toNatClampNeg 2 → (post (xN, xT, xK, fT, bS, dT, cE, tL, hC, lC, dC, uR, xv, xap, xn, xcl, xpn, xpc, xre, xfs, ph_43, tk, onn, oo, ol, an, du, rn, rt, rv, rc)))) (xN, nI tc, nI cap, nI (12 - h), nI (nd 0), nI (nd d), nI (nd c), nI (nd h), nI h, nI (h - c), nI d, nI ur, xv, xap, xn, xcl, xpn, xpc, xre, xfs, ph, tk, onn, oo, ol, an, du, rn, rt, rv, rc) (nI t)) : wpX_advance post (xN, nI tc, nI cap, nI (12 - h), nI (nd 0), nI (nd d), nI (nd c), nI (nd h), nI h, nI (h - c), nI d, nI ur, xv, xap, xn, xcl, xpn, xpc, xre, xfs, ph, tk, onn, oo, ol, an, du, rn, rt, rv, rc) (nI t) := by
  have hi : vp_in (nI t) 6 := vp_in_nI (by omega) (by decide)
  have ct : (nI t).toNatClampNeg = t := nI_clamp (by omega)
  exact ⟨hi, nm_r (e' := 1) (by rw [ct]; exact hp) (br_f (by decide) (br_f (by decide) (br_t rfl K)))⟩
theorem dx_adv2 {post : SX → Prop} (ht : t < 6) (hp : ph t = 2) (K : wpX_look (fun u => match u with | (xN, xT, xK, fT, bS, dT, cE, tL, hC, lC, dC, uR, xv, xap, xn, xcl, xpn, xpc, xre, xfs, ph, tk, onn, oo, ol, an, du, rn, rt, rv, rc) => post (xN, xT, xK, fT, bS, dT, cE, tL, hC, lC, dC, uR, xv, xap, xn, xcl, xpn, xpc, xre, xfs, ph, tk, onn, oo, ol, an, du, rn, rt, rv, rc)) (xN, nI tc, nI cap, nI (12 - h), nI (nd 0), nI (nd d), nI (nd c), nI (nd h), nI h, nI (h - c), nI d, nI ur, xv, xap, xn, xcl, xpn, xpc, xre, xfs, ph, tk, onn, oo, ol, an, du, rn, rt, rv, rc) (nI t)) : wpX_advance post (xN, nI tc, nI cap, nI (12 - h), nI (nd 0), nI (nd d), nI (nd c), nI (nd h), nI h, nI (h - c), nI d, nI ur, xv, xap, xn, xcl, xpn, xpc, xre, xfs, ph, tk, onn, oo, ol, an, du, rn, rt, rv, rc) (nI t) := by
  have hi : vp_in (nI t) 6 := vp_in_nI (by omega) (by decide)
  have ct : (nI t).toNatClampNeg = t := nI_clamp (by omega)
  exact ⟨hi, nm_r (e' := 2) (by rw [ct]; exact hp) (br_f (by decide) (br_f (by decide) (br_f (by decide) (br_t rfl K))))⟩
theorem dx_adv3 {post : SX → Prop} (ht : t < 6) (hp : ph t = 3) (K : wpX_attempt (fun u => match u with | (xN, xT, xK, fT, bS, dT, cE, tL, hC, lC, dC, uR, xv, xap, xn, xcl, xpn, xpc, xre, xfs, ph, tk, onn, oo, ol, an, du, rn, rt, rv, rc) => post (xN, xT, xK, fT, bS, dT, cE, tL, hC, lC, dC, uR, xv, xap, xn, xcl, xpn, xpc, xre, xfs, ph, tk, onn, oo, ol, an, du, rn, rt, rv, rc)) (xN, nI tc, nI cap, nI (12 - h), nI (nd 0), nI (nd d), nI (nd c), nI (nd h), nI h, nI (h - c), nI d, nI ur, xv, xap, xn, xcl, xpn, xpc, xre, xfs, ph, tk, onn, oo, ol, an, du, rn, rt, rv, rc) (nI t)) : wpX_advance post (xN, nI tc, nI cap, nI (12 - h), nI (nd 0), nI (nd d), nI (nd c), nI (nd h), nI h, nI (h - c), nI d, nI ur, xv, xap, xn, xcl, xpn, xpc, xre, xfs, ph, tk, onn, oo, ol, an, du, rn, rt, rv, rc) (nI t) := by
  have hi : vp_in (nI t) 6 := vp_in_nI (by omega) (by decide)
  have ct : (nI t).toNatClampNeg = t := nI_clamp (by omega)
  exact ⟨hi, nm_r (e' := 3) (by rw [ct]; exact hp) (br_f (by decide) (br_f (by decide) (br_f (by decide) (br_f (by decide) (br_t rfl K)))))⟩
theorem dx_adv4 {post : SX → Prop} (ht : t < 6) (hp : ph t = 4) (K : post (xN, nI tc, nI cap, nI (12 - h), nI (nd 0), nI (nd d), nI (nd c), nI (nd h), nI h, nI (h - c), nI d, nI ur, xv, xap, xn, xcl, xpn, xpc, xre, xfs, upd ph t 2, tk, onn, oo, ol, an, du, rn, rt, rv, rc)) : wpX_advance post (xN, nI tc, nI cap, nI (12 - h), nI (nd 0), nI (nd d), nI (nd c), nI (nd h), nI h, nI (h - c), nI d, nI ur, xv, xap, xn, xcl, xpn, xpc, xre, xfs, ph, tk, onn, oo, ol, an, du, rn, rt, rv, rc) (nI t) := by
  have hi : vp_in (nI t) 6 := vp_in_nI (by omega) (by decide)
  have ct : (nI t).toNatClampNeg = t := nI_clamp (by omega)
  exact ⟨hi, nm_r (e' := 4) (by rw [ct]; exact hp) (br_f (by decide) (br_f (by decide) (br_f (by decide) (br_f (by decide) (br_f (by decide) (br_t rfl ⟨hi, nm_r (by rw [ct]) K⟩))))))⟩
theorem dx_adv5 {post : SX → Prop} (ht : t < 6) (hp : ph t = 5) (K : wpX_persistEffect (fun u => match u with | (xN, xT, xK, fT, bS, dT, cE, tL, hC, lC, dC, uR, xv, xap, xn, xcl, xpn, xpc, xre, xfs, ph, tk, onn, oo, ol, an, du, rn, rt, rv, rc) => (vp_in (nI t) 6 ∧ ∀ ph_147 : Nat → Int32, ph_147 = upd ph (nI t).toNatClampNeg 6 → (post (xN, xT, xK, fT, bS, dT, cE, tL, hC, lC, dC, uR, xv, xap, xn, xcl, xpn, xpc, xre, xfs, ph_147, tk, onn, oo, ol, an, du, rn, rt, rv, rc)))) (xN, nI tc, nI cap, nI (12 - h), nI (nd 0), nI (nd d), nI (nd c), nI (nd h), nI h, nI (h - c), nI d, nI ur, xv, xap, xn, xcl, xpn, xpc, xre, xfs, ph, tk, onn, oo, ol, an, du, rn, rt, rv, rc) (nI t)) : wpX_advance post (xN, nI tc, nI cap, nI (12 - h), nI (nd 0), nI (nd d), nI (nd c), nI (nd h), nI h, nI (h - c), nI d, nI ur, xv, xap, xn, xcl, xpn, xpc, xre, xfs, ph, tk, onn, oo, ol, an, du, rn, rt, rv, rc) (nI t) := by
  have hi : vp_in (nI t) 6 := vp_in_nI (by omega) (by decide)
  have ct : (nI t).toNatClampNeg = t := nI_clamp (by omega)
  exact ⟨hi, nm_r (e' := 5) (by rw [ct]; exact hp) (br_f (by decide) (br_f (by decide) (br_f (by decide) (br_f (by decide) (br_f (by decide) (br_f (by decide) (br_t rfl K)))))))⟩
theorem dy_step0 {post : Int32 → SY → Prop} (ht : t < tc) (htc : tc ≤ 6) (hu : yD = 0) (h0 : ph t ≠ 0) (h1 : ph t ≠ 1) (h2 : ph t ≠ 2) (h3 : ph t ≠ 3) (h4 : ph t ≠ 4) (h5 : ph t ≠ 5) (K : post 0 (nI tc, nI cap, yD, nI h, upd ph t 0, tk, yo, an, du, rc, rn, rt, rv, yv, yap, ycl, yaw, ycw)) : wpY_step post (nI tc, nI cap, yD, nI h, ph, tk, yo, an, du, rc, rn, rt, rv, yv, yap, ycl, yaw, ycw) (nI t) := by
  have hi : vp_in (nI t) 6 := vp_in_nI (by omega) (by decide)
  have ct : (nI t).toNatClampNeg = t := nI_clamp (by omega)
  unfold wpY_step
  exact dy_bad0 ht htc (br_t rfl (br_t hu ⟨hi, br_f (by rw [ct]; exact h0) ⟨hi, nm_r (e' := ph t) (by rw [ct]) (br_f h1 (br_f h2 (br_f h4 (br_f h3 (br_f h5 ⟨hi, nm_r (e' := upd ph t 0) (by rw [ct]) ⟨hi, by rw [ct, pk_us]; exact K⟩⟩)))))⟩⟩))
theorem dy_s55 {yT yK yH : Int32} {post : Int32 → SY → Prop} (ht : t < 6) (K : post 2 (yT, yK, yD, yH, upd ph t 2, tk, yo, an, du, rc, rn, rt, rv, yv, yap, ycl, yaw, ycw)) : wY_step_55 post (nI t) yT yK yD yH ph tk yo an du rc rn rt rv yv yap ycl yaw ycw := by
  have hi : vp_in (nI t) 6 := vp_in_nI (by omega) (by decide)
  have ct : (nI t).toNatClampNeg = t := nI_clamp (by omega)
  exact ⟨hi, nm_r (e' := upd ph t 2) (by rw [ct]) ⟨hi, by rw [ct, pk_us]; exact K⟩⟩
end
end
section
theorem dq_phc {x : Int32} (h1 : x ≠ 1) (h2 : x ≠ 2) (h3 : x ≠ 3) (h4 : x ≠ 4) (h5 : x ≠ 5) : x < 1 ∨ 5 < x := by
  have e1 : (1 : Int32).toInt = 1 := by decide
  have e2 : (2 : Int32).toInt = 2 := by decide
  have e3 : (3 : Int32).toInt = 3 := by decide
  have e4 : (4 : Int32).toInt = 4 := by decide
  have e5 : (5 : Int32).toInt = 5 := by decide
  rw [Int32.lt_iff_toInt_lt, Int32.lt_iff_toInt_lt, e1, e5]
  have g1 : x.toInt ≠ 1 := fun z => h1 (Int32.toInt_inj.mp (z.trans e1.symm))
  have g2 : x.toInt ≠ 2 := fun z => h2 (Int32.toInt_inj.mp (z.trans e2.symm))
  have g3 : x.toInt ≠ 3 := fun z => h3 (Int32.toInt_inj.mp (z.trans e3.symm))
  have g4 : x.toInt ≠ 4 := fun z => h4 (Int32.toInt_inj.mp (z.trans e4.symm))
  have g5 : x.toInt ≠ 5 := fun z => h5 (Int32.toInt_inj.mp (z.trans e5.symm))
  omega
section
variable {xN yD : Int32} {xv xap xn xcl xpn xpc xre xfs ph tk onn oo ol an du rn rt rv rc yo yv yap ycl yaw ycw : Nat → Int32} {tc cap h c d ur t : Nat} {nd : Nat → Nat}
theorem dq_ph2 (T : dq_T tc h c d nd ph tk oo ol du yap ycl) (E : dq_E tc cap h c ur yD ph tk onn oo an du rn rc yo) (ht : t < tc) (hu : ur = 0) (h0 : ph t ≠ 0) (h5 : ph t ≠ 5) (h6 : ph t ≠ 6) : dq_T tc h c d nd (upd ph t 2) tk oo ol du yap ycl ∧ dq_E tc cap h c ur yD (upd ph t 2) tk onn oo an du rn rc yo := by
  have e7 := E.2.2.2.2.2.2.2.1 t ht h0
  have e8 := E.2.2.2.2.2.2.2.2.1 t ht h0 h5 h6
  refine ⟨dq_ts (t := t) T (Or.inl h5) (Or.inl (by rw [pk_us]; decide)) (fun s q => ⟨pk_un q, rfl, rfl, rfl, rfl⟩), dq_ee (t := t) E hu ht (fun s q => ⟨pk_un q, rfl, rfl, rfl, rfl, rfl, rfl, rfl⟩) ?_ ?_ ?_ ?_ (fun _ => e7) (fun _ _ _ => e8)⟩
  · rw [pk_us]; intro z; exact absurd z (by decide)
  · rw [pk_us]; intro z; exact absurd z (by decide)
  · rw [pk_us]; intro z; rcases z with z | z <;> exact absurd z (by decide)
  · rw [pk_us]; intro z; exact absurd z (by decide)
theorem dq_ph0 (T : dq_T tc h c d nd ph tk oo ol du yap ycl) (E : dq_E tc cap h c ur yD ph tk onn oo an du rn rc yo) (ht : t < tc) (hu : ur = 0) (h5 : ph t ≠ 5) : dq_T tc h c d nd (upd ph t 0) tk oo ol du yap ycl ∧ dq_E tc cap h c ur yD (upd ph t 0) tk onn oo an du rn rc yo := by
  refine ⟨dq_ts (t := t) T (Or.inl h5) (Or.inl (by rw [pk_us]; decide)) (fun s q => ⟨pk_un q, rfl, rfl, rfl, rfl⟩), dq_ee (t := t) E hu ht (fun s q => ⟨pk_un q, rfl, rfl, rfl, rfl, rfl, rfl, rfl⟩) ?_ ?_ ?_ ?_ ?_ ?_⟩
  · rw [pk_us]; intro z; exact absurd z (by decide)
  · rw [pk_us]; intro z; exact absurd z (by decide)
  · rw [pk_us]; intro z; rcases z with z | z <;> exact absurd z (by decide)
  · rw [pk_us]; intro z; exact absurd z (by decide)
  · rw [pk_us]; intro z; exact absurd rfl z
  · rw [pk_us]; intro z; exact absurd rfl z
theorem dq_ph3 (T : dq_T tc h c d nd ph tk oo ol du yap ycl) (E : dq_E tc cap h c ur yD ph tk onn oo an du rn rc yo) (ht : t < tc) (hu : ur = 0) (h2 : ph t = 2) (k1 : tk t = -8 → c < h) (k2 : tk t ≠ -8 → h < cap) : dq_T tc h c d nd (upd ph t 3) tk oo ol du yap ycl ∧ dq_E tc cap h c ur yD (upd ph t 3) tk onn oo an du rn rc yo := by
  have e7 := E.2.2.2.2.2.2.2.1 t ht (by rw [h2]; decide)
  have e8 := E.2.2.2.2.2.2.2.2.1 t ht (by rw [h2]; decide) (by rw [h2]; decide) (by rw [h2]; decide)
  refine ⟨dq_ts (t := t) T (Or.inl (by rw [h2]; decide)) (Or.inl (by rw [pk_us]; decide)) (fun s q => ⟨pk_un q, rfl, rfl, rfl, rfl⟩), dq_ee (t := t) E hu ht (fun s q => ⟨pk_un q, rfl, rfl, rfl, rfl, rfl, rfl, rfl⟩) (fun _ => k1) (fun _ => k2) ?_ ?_ (fun _ => e7) (fun _ _ _ => e8)⟩
  · rw [pk_us]; intro z; rcases z with z | z <;> exact absurd z (by decide)
  · rw [pk_us]; intro z; exact absurd z (by decide)
theorem dq_ph6 (T : dq_T tc h c d nd ph tk oo ol du yap ycl) (E : dq_E tc cap h c ur yD ph tk onn oo an du rn rc yo) (ht : t < tc) (hu : ur = 0) (h5 : ph t = 5) (hd : du t ≠ 0) : dq_T tc h c d nd (upd ph t 6) tk oo ol du yap ycl ∧ dq_E tc cap h c ur yD (upd ph t 6) tk onn oo an du rn rc yo := by
  have e7 := E.2.2.2.2.2.2.2.1 t ht (by rw [h5]; decide)
  have e3 := E.2.2.2.1 t ht (Or.inl h5)
  refine ⟨dq_ts (t := t) T (Or.inr (Or.inl hd)) (Or.inl (by rw [pk_us]; decide)) (fun s q => ⟨pk_un q, rfl, rfl, rfl, rfl⟩), dq_ee (t := t) E hu ht (fun s q => ⟨pk_un q, rfl, rfl, rfl, rfl, rfl, rfl, rfl⟩) ?_ ?_ (fun _ => e3) ?_ (fun _ => e7) ?_⟩
  · rw [pk_us]; intro z; exact absurd z (by decide)
  · rw [pk_us]; intro z; exact absurd z (by decide)
  · rw [pk_us]; intro z; exact absurd z (by decide)
  · rw [pk_us]; intro _ _ z; exact absurd rfl z
theorem dq_note {o x : Int32} (T : dq_T tc h c d nd ph tk oo ol du yap ycl) (E : dq_E tc cap h c ur yD ph tk onn oo an du rn rc yo) (ht : t < tc) (hu : ur = 0) (h2 : ph t = 2) (ho : o = -3 ∨ o = -4) : dq_T tc h c d nd (upd ph t 5) tk (upd oo t o) (upd ol t x) du yap ycl ∧ dq_E tc cap h c ur yD (upd ph t 5) tk onn (upd oo t o) an du rn rc (upd yo t o) := by
  have e7 := E.2.2.2.2.2.2.2.1 t ht (by rw [h2]; decide)
  refine ⟨dq_ts (t := t) T (Or.inl (by rw [h2]; decide)) (Or.inr (Or.inr (by rw [pk_us]; exact ho))) (fun s q => ⟨pk_un q, rfl, pk_un q, pk_un q, rfl⟩), dq_ee (t := t) E hu ht (fun s q => ⟨pk_un q, rfl, rfl, pk_un q, rfl, rfl, rfl, pk_un q⟩) ?_ ?_ ?_ ?_ (fun _ => e7) ?_⟩
  · rw [pk_us]; intro z; exact absurd z (by decide)
  · rw [pk_us]; intro z; exact absurd z (by decide)
  · intro _; rw [pk_us, pk_us]
  · rw [pk_us]; intro z; exact absurd z (by decide)
  · rw [pk_us]; intro _ z; exact absurd rfl z
theorem dq_mkd (T : dq_T tc h c d nd ph tk oo ol du yap ycl) (E : dq_E tc cap h c ur yD ph tk onn oo an du rn rc yo) (ht : t < tc) (hu : ur = 0) (h5 : ph t = 5) (ho : oo t = -3 ∨ oo t = -4) : dq_T tc h c d nd ph tk oo ol (upd du t 1) yap ycl ∧ dq_E tc cap h c ur yD ph tk onn oo an (upd du t 1) rn rc yo := by
  have e7 := E.2.2.2.2.2.2.2.1 t ht (by rw [h5]; decide)
  have e3 := E.2.2.2.1 t ht (Or.inl h5)
  refine ⟨dq_ts (t := t) T (Or.inr (Or.inr ho)) (Or.inr (Or.inr ho)) (fun s q => ⟨rfl, rfl, rfl, rfl, pk_un q⟩), dq_ee (t := t) E hu ht (fun s q => ⟨rfl, rfl, rfl, rfl, rfl, pk_un q, rfl, rfl⟩) ?_ ?_ (fun _ => e3) ?_ (fun _ => e7) ?_⟩
  · intro z; rw [h5] at z; exact absurd z (by decide)
  · intro z; rw [h5] at z; exact absurd z (by decide)
  · intro z; rw [h5] at z; exact absurd z (by decide)
  · intro _ z; exact absurd h5 z
theorem dq_ann (T : dq_T tc h c d nd ph tk oo ol du yap ycl) (E : dq_E tc cap h c ur yD ph tk onn oo an du rn rc yo) (ht : t < tc) (hu : ur = 0) (h1 : ph t = 1) : dq_T tc h c d nd ph tk oo ol du yap ycl ∧ dq_E tc cap h c ur yD ph tk onn oo (upd an t 1) du (upd rn t (onn t)) rc yo := by
  have e7 := E.2.2.2.2.2.2.2.1 t ht (by rw [h1]; decide)
  have e8 := E.2.2.2.2.2.2.2.2.1 t ht (by rw [h1]; decide) (by rw [h1]; decide) (by rw [h1]; decide)
  refine ⟨T, dq_ee (t := t) E hu ht (fun s q => ⟨rfl, rfl, rfl, rfl, pk_un q, rfl, pk_un q, rfl⟩) ?_ ?_ ?_ ?_ (fun _ => e7) (fun _ _ _ => e8)⟩
  · rw [h1]; intro z; exact absurd z (by decide)
  · rw [h1]; intro z; exact absurd z (by decide)
  · rw [h1]; intro z; rcases z with z | z <;> exact absurd z (by decide)
  · rw [pk_us]; intro _ z; exact absurd z (by decide)
/-- phases that are none of 1 .. 5 -/
theorem dz_st0 (k : Nat) (P : dq_P h c d nd xv xap xn xcl xpn xpc xfs yv yap ycl yaw ycw) (T : dq_T tc h c d nd ph tk oo ol du yap ycl) (D : d < h → yaw d = 0) (E : dq_E tc cap h c ur yD ph tk onn oo an du rn rc yo) (ht : t < tc) (q1 : ur = 0) (q2 : yD = 0) (h0 : ph t ≠ 0) (h1 : ph t ≠ 1) (h2 : ph t ≠ 2) (h3 : ph t ≠ 3) (h4 : ph t ≠ 4) (h5 : ph t ≠ 5) :
    wpX_step (fun r u' => wpY_step (fun r' v' => r' = r ∧ i_Rel k u' v') (nI tc, nI cap, yD, nI h, ph, tk, yo, an, du, rc, rn, rt, rv, yv, yap, ycl, yaw, ycw) (nI t)) (xN, nI tc, nI cap, nI (12 - h), nI (nd 0), nI (nd d), nI (nd c), nI (nd h), nI h, nI (h - c), nI d, nI ur, xv, xap, xn, xcl, xpn, xpc, xre, xfs, ph, tk, onn, oo, ol, an, du, rn, rt, rv, rc) (nI t) := by
  have htc := dq_tc E
  have ht6 : t < 6 := by omega
  have hi : vp_in (nI t) 6 := vp_in_nI (by omega) (by decide)
  have ct : (nI t).toNatClampNeg = t := nI_clamp (by omega)
  obtain ⟨T', E'⟩ := dq_ph0 T E ht q1 h5
  exact dx_step ht htc q1 h0 (dx_adv0 ht6 (dq_phc h1 h2 h3 h4 h5) ⟨hi, dy_step0 ht htc q2 h0 h1 h2 h3 h4 h5 ⟨by rw [ct, pk_us], zz_in k P T' D E'⟩⟩)
theorem dy_step4 {post : Int32 → SY → Prop} (ht : t < tc) (htc : tc ≤ 6) (hu : yD = 0) (h4 : ph t = 4) (K : post 2 (nI tc, nI cap, yD, nI h, upd ph t 2, tk, yo, an, du, rc, rn, rt, rv, yv, yap, ycl, yaw, ycw)) : wpY_step post (nI tc, nI cap, yD, nI h, ph, tk, yo, an, du, rc, rn, rt, rv, yv, yap, ycl, yaw, ycw) (nI t) := by
  have hi : vp_in (nI t) 6 := vp_in_nI (by omega) (by decide)
  have ct : (nI t).toNatClampNeg = t := nI_clamp (by omega)
  unfold wpY_step
  exact dy_bad0 ht htc (br_t rfl (br_t hu ⟨hi, br_f (by rw [ct, h4]; decide) ⟨hi, nm_r (e' := 4) (by rw [ct]; exact h4) (br_f (by decide) (br_f (by decide) (br_t rfl ⟨hi, nm_r (e' := upd ph t 2) (by rw [ct]) ⟨hi, by rw [ct, pk_us]; exact K⟩⟩)))⟩⟩))
theorem dz_st4 (k : Nat) (P : dq_P h c d nd xv xap xn xcl xpn xpc xfs yv yap ycl yaw ycw) (T : dq_T tc h c d nd ph tk oo ol du yap ycl) (D : d < h → yaw d = 0) (E : dq_E tc cap h c ur yD ph tk onn oo an du rn rc yo) (ht : t < tc) (q1 : ur = 0) (q2 : yD = 0) (h4 : ph t = 4) :
    wpX_step (fun r u' => wpY_step (fun r' v' => r' = r ∧ i_Rel k u' v') (nI tc, nI cap, yD, nI h, ph, tk, yo, an, du, rc, rn, rt, rv, yv, yap, ycl, yaw, ycw) (nI t)) (xN, nI tc, nI cap, nI (12 - h), nI (nd 0), nI (nd d), nI (nd c), nI (nd h), nI h, nI (h - c), nI d, nI ur, xv, xap, xn, xcl, xpn, xpc, xre, xfs, ph, tk, onn, oo, ol, an, du, rn, rt, rv, rc) (nI t) := by
  have htc := dq_tc E
  have ht6 : t < 6 := by omega
  have hi : vp_in (nI t) 6 := vp_in_nI (by omega) (by decide)
  have ct : (nI t).toNatClampNeg = t := nI_clamp (by omega)
  obtain ⟨T', E'⟩ := dq_ph2 T E ht q1 (by rw [h4]; decide) (by rw [h4]; decide) (by rw [h4]; decide)
  exact dx_step ht htc q1 (by rw [h4]; decide) (dx_adv4 ht6 h4 ⟨hi, dy_step4 ht htc q2 h4 ⟨by rw [ct, pk_us], zz_in k P T' D E'⟩⟩)
theorem dy_step1a {post : Int32 → SY → Prop} (ht : t < tc) (htc : tc ≤ 6) (hu : yD = 0) (h1 : ph t = 1) (ha : an t = 0) (K : post 2 (nI tc, nI cap, yD, nI h, upd ph t 2, tk, yo, upd an t 1, du, rc, upd rn t (rn t + 1), upd rt t (tk t), upd rv t (-7), yv, yap, ycl, yaw, ycw)) : wpY_step post (nI tc, nI cap, yD, nI h, ph, tk, yo, an, du, rc, rn, rt, rv, yv, yap, ycl, yaw, ycw) (nI t) := by
  have hi : vp_in (nI t) 6 := vp_in_nI (by omega) (by decide)
  have ct : (nI t).toNatClampNeg = t := nI_clamp (by omega)
  unfold wpY_step
  exact dy_bad0 ht htc (br_t rfl (br_t hu ⟨hi, br_f (by rw [ct, h1]; decide) ⟨hi, nm_r (e' := 1) (by rw [ct]; exact h1) (br_t rfl ⟨hi, br_t (by rw [ct]; exact ha) (dy_an (by omega) (dy_s55 (by omega) K))⟩)⟩⟩))
theorem dy_step1b {post : Int32 → SY → Prop} (ht : t < tc) (htc : tc ≤ 6) (hu : yD = 0) (h1 : ph t = 1) (ha : ¬ an t = 0) (K : post 2 (nI tc, nI cap, yD, nI h, upd ph t 2, tk, yo, an, du, rc, rn, rt, rv, yv, yap, ycl, yaw, ycw)) : wpY_step post (nI tc, nI cap, yD, nI h, ph, tk, yo, an, du, rc, rn, rt, rv, yv, yap, ycl, yaw, ycw) (nI t) := by
  have hi : vp_in (nI t) 6 := vp_in_nI (by omega) (by decide)
  have ct : (nI t).toNatClampNeg = t := nI_clamp (by omega)
  unfold wpY_step
  exact dy_bad0 ht htc (br_t rfl (br_t hu ⟨hi, br_f (by rw [ct, h1]; decide) ⟨hi, nm_r (e' := 1) (by rw [ct]; exact h1) (br_t rfl ⟨hi, br_f (by rw [ct]; exact ha) (dy_s55 (by omega) K)⟩)⟩⟩))
theorem dz_st1 (k : Nat) (P : dq_P h c d nd xv xap xn xcl xpn xpc xfs yv yap ycl yaw ycw) (T : dq_T tc h c d nd ph tk oo ol du yap ycl) (D : d < h → yaw d = 0) (E : dq_E tc cap h c ur yD ph tk onn oo an du rn rc yo) (ht : t < tc) (q1 : ur = 0) (q2 : yD = 0) (h1 : ph t = 1) :
    wpX_step (fun r u' => wpY_step (fun r' v' => r' = r ∧ i_Rel k u' v') (nI tc, nI cap, yD, nI h, ph, tk, yo, an, du, rc, rn, rt, rv, yv, yap, ycl, yaw, ycw) (nI t)) (xN, nI tc, nI cap, nI (12 - h), nI (nd 0), nI (nd d), nI (nd c), nI (nd h), nI h, nI (h - c), nI d, nI ur, xv, xap, xn, xcl, xpn, xpc, xre, xfs, ph, tk, onn, oo, ol, an, du, rn, rt, rv, rc) (nI t) := by
  have htc := dq_tc E
  have ht6 : t < 6 := by omega
  have hi : vp_in (nI t) 6 := vp_in_nI (by omega) (by decide)
  have ct : (nI t).toNatClampNeg = t := nI_clamp (by omega)
  by_cases a : an t = 0
  · obtain ⟨T1, E1⟩ := dq_ann T E ht q1 h1
    obtain ⟨T', E'⟩ := dq_ph2 T1 E1 ht q1 (by rw [h1]; decide) (by rw [h1]; decide) (by rw [h1]; decide)
    have e4 := E.2.2.2.2.1 t ht h1 a
    have R : i_Rel k (xN, nI tc, nI cap, nI (12 - h), nI (nd 0), nI (nd d), nI (nd c), nI (nd h), nI h, nI (h - c), nI d, nI ur, xv, xap, xn, xcl, xpn, xpc, xre, xfs, upd ph t 2, tk, onn, oo, ol, upd an t 1, du, upd rn t (onn t), upd rt t (tk t), upd rv t (-7), rc) (nI tc, nI cap, yD, nI h, upd ph t 2, tk, yo, upd an t 1, du, rc, upd rn t (onn t), upd rt t (tk t), upd rv t (-7), yv, yap, ycl, yaw, ycw) := zz_in k P T' D E'
    rw [e4] at R
    exact dx_step ht htc q1 (by rw [h1]; decide) (dx_adv1 ht6 h1 (dx_wa0 ht6 a ⟨hi, nm_r (e' := upd ph t 2) (by rw [ct]) ⟨hi, dy_step1a ht htc q2 h1 a ⟨by rw [ct, pk_us], by rw [e4]; exact R⟩⟩⟩))
  · obtain ⟨T', E'⟩ := dq_ph2 T E ht q1 (by rw [h1]; decide) (by rw [h1]; decide) (by rw [h1]; decide)
    exact dx_step ht htc q1 (by rw [h1]; decide) (dx_adv1 ht6 h1 (dx_wa1 ht6 a ⟨hi, nm_r (e' := upd ph t 2) (by rw [ct]) ⟨hi, dy_step1b ht htc q2 h1 a ⟨by rw [ct, pk_us], zz_in k P T' D E'⟩⟩⟩))
end
end
section
section
variable {xN yD : Int32} {xv xap xn xcl xpn xpc xre xfs ph tk onn oo ol an du rn rt rv rc yo yv yap ycl yaw ycw : Nat → Int32} {tc cap h c d ur t : Nat} {nd : Nat → Nat}
theorem dy_step2 {post : Int32 → SY → Prop} (ht : t < tc) (htc : tc ≤ 6) (hu : yD = 0) (h2 : ph t = 2) (K : wpY_look (fun u => match u with | (yT, yK, yD, yH, ph, tk, yo, an, du, rc, rn, rt, rv, yv, yap, ycl, yaw, ycw) => (vp_in (nI t) 6 ∧ (post (ph (nI t).toNatClampNeg) (yT, yK, yD, yH, ph, tk, yo, an, du, rc, rn, rt, rv, yv, yap, ycl, yaw, ycw)))) (nI tc, nI cap, yD, nI h, ph, tk, yo, an, du, rc, rn, rt, rv, yv, yap, ycl, yaw, ycw) (nI t)) : wpY_step post (nI tc, nI cap, yD, nI h, ph, tk, yo, an, du, rc, rn, rt, rv, yv, yap, ycl, yaw, ycw) (nI t) := by
  have hi : vp_in (nI t) 6 := vp_in_nI (by omega) (by decide)
  have ct : (nI t).toNatClampNeg = t := nI_clamp (by omega)
  unfold wpY_step
  exact dy_bad0 ht htc (br_t rfl (br_t hu ⟨hi, br_f (by rw [ct, h2]; decide) ⟨hi, nm_r (e' := 2) (by rw [ct]; exact h2) (br_f (by decide) (br_t rfl K))⟩⟩))
theorem dx_19a {post : SX → Prop} (ht : t < 6) (hh : h ≤ 12) (hc : h = cap) (K : post (xN, nI tc, nI cap, nI (12 - h), nI (nd 0), nI (nd d), nI (nd c), nI (nd h), nI h, nI (h - c), nI d, nI ur, xv, xap, xn, xcl, xpn, xpc, xre, xfs, upd ph t 5, tk, onn, upd oo t (-4), upd ol t (-1), an, du, rn, rt, rv, rc)) : wX_lookForRoom_19 post (nI t) xN (nI tc) (nI cap) (nI (12 - h)) (nI (nd 0)) (nI (nd d)) (nI (nd c)) (nI (nd h)) (nI h) (nI (h - c)) (nI d) (nI ur) xv xap xn xcl xpn xpc xre xfs ph tk onn oo ol an du rn rt rv rc :=
  br_t (by rw [hc]) (dx_te ht K)
theorem dx_19b {post : SX → Prop} (ht : t < 6) (hh : h ≤ 12) (hcp : cap ≤ 12) (hc : h ≠ cap) (K : post (xN, nI tc, nI cap, nI (12 - h), nI (nd 0), nI (nd d), nI (nd c), nI (nd h), nI h, nI (h - c), nI d, nI ur, xv, xap, xn, xcl, xpn, xpc, xre, xfs, upd ph t 3, tk, onn, oo, ol, an, du, rn, rt, rv, rc)) : wX_lookForRoom_19 post (nI t) xN (nI tc) (nI cap) (nI (12 - h)) (nI (nd 0)) (nI (nd d)) (nI (nd c)) (nI (nd h)) (nI h) (nI (h - c)) (nI d) (nI ur) xv xap xn xcl xpn xpc xre xfs ph tk onn oo ol an du rn rt rv rc :=
  br_f (fun z => hc (dq_inj (by omega) (by omega) z)) ⟨vp_in_nI ht (by decide), nm_r (by rw [dq_cl ht]) K⟩
theorem dy_67a {post : SY → Prop} {x : Int32} (ht : t < 6) (hc : h = cap) (K : post (nI tc, nI cap, yD, nI h, upd ph t 5, tk, upd yo t (-4), an, du, rc, rn, rt, rv, yv, yap, ycl, yaw, ycw)) : wY_look_67 post (nI t) 0 x (nI tc) (nI cap) yD (nI h) ph tk yo an du rc rn rt rv yv yap ycl yaw ycw := by
  have hi : vp_in (nI t) 6 := vp_in_nI (by omega) (by decide)
  exact br_t rfl (br_t (by rw [hc]) (br_f (by decide) (br_t rfl ⟨hi, nm_r (e' := upd yo t (-4)) (by rw [dq_cl ht]) (br_f (by decide) ⟨hi, nm_r (e' := upd ph t 5) (by rw [dq_cl ht]) K⟩)⟩)))
theorem dy_67b {post : SY → Prop} {x : Int32} (ht : t < 6) (hh : h ≤ 12) (hcp : cap ≤ 12) (hc : h ≠ cap) (K : post (nI tc, nI cap, yD, nI h, upd ph t 3, tk, yo, an, du, rc, rn, rt, rv, yv, yap, ycl, yaw, ycw)) : wY_look_67 post (nI t) 0 x (nI tc) (nI cap) yD (nI h) ph tk yo an du rc rn rt rv yv yap ycl yaw ycw := by
  have hi : vp_in (nI t) 6 := vp_in_nI (by omega) (by decide)
  exact br_t rfl (br_f (fun z => hc (dq_inj (by omega) (by omega) z)) (br_t rfl (br_t rfl ⟨hi, nm_r (e' := upd ph t 3) (by rw [dq_cl ht]) K⟩)))
/-- a look for a value -/
theorem dz_st2v (k : Nat) (P : dq_P h c d nd xv xap xn xcl xpn xpc xfs yv yap ycl yaw ycw) (T : dq_T tc h c d nd ph tk oo ol du yap ycl) (D : d < h → yaw d = 0) (E : dq_E tc cap h c ur yD ph tk onn oo an du rn rc yo) (ht : t < tc) (q1 : ur = 0) (q2 : yD = 0) (h2 : ph t = 2) (k8 : tk t = -8) :
    wpX_step (fun r u' => wpY_step (fun r' v' => r' = r ∧ i_Rel k u' v') (nI tc, nI cap, yD, nI h, ph, tk, yo, an, du, rc, rn, rt, rv, yv, yap, ycl, yaw, ycw) (nI t)) (xN, nI tc, nI cap, nI (12 - h), nI (nd 0), nI (nd d), nI (nd c), nI (nd h), nI h, nI (h - c), nI d, nI ur, xv, xap, xn, xcl, xpn, xpc, xre, xfs, ph, tk, onn, oo, ol, an, du, rn, rt, rv, rc) (nI t) := by
  subst q2
  have htc := dq_tc E
  have hb := dq_pb P
  have ht6 : t < 6 := by omega
  have hi : vp_in (nI t) 6 := vp_in_nI (by omega) (by decide)
  have ct : (nI t).toNatClampNeg = t := nI_clamp (by omega)
  have hoo : ∀ t, t < tc → ph t = 5 → yo t = oo t := fun s hs z => E.2.2.2.1 s hs (Or.inl z)
  by_cases q : c = h
  · obtain ⟨h', c', d', nd', xpn', xpc', du', rv', xfs', yv', yap', ycl', yaw', ycw', P', T', D', B, M2, M3, M4, HX, HY⟩ := ds_write (xN := xN) (cap := cap) (ur := ur) (xre := xre) (onn := onn) (an := an) (rn := rn) (rt := rt) (rv := rv) (rc := rc) (yD := 0) (k := h) htc hoo P T (Nat.le_refl h)
    obtain ⟨T2, E2⟩ := dq_note (o := -3) (x := -1) T' (dq_es E B.1 B.2 M2) ht q1 h2 (Or.inl rfl)
    have z : nI (h - c) = 0 := by rw [show h - c = 0 by omega]; rfl
    refine dx_step ht htc q1 (by rw [h2]; decide) (dx_adv2 ht6 h2 ⟨hi, br_t (by rw [ct]; exact k8) (br_t z (HX _ (dx_te ht6 ⟨hi, ?_⟩)))⟩)
    refine dy_step2 ht htc rfl h2 ⟨hi, br_t (by rw [ct]; exact k8) (br_f (by decide) (dy_size0 hb.1 hb.2.1 (dq_c0 htc T) (dq_c1 P) (br_t z (br_f (by decide) (HY _ ?_)))))⟩
    exact br_f (by decide) (br_f (by decide) (br_f (by decide) ⟨hi, nm_r (e' := upd yo t (-3)) (by rw [ct]) (br_f (by decide) ⟨hi, nm_r (e' := upd ph t 5) (by rw [ct]) ⟨hi, rfl, zz_in k P' T2 D' E2⟩⟩)⟩))
  · obtain ⟨T2, E2⟩ := dq_ph3 T E ht q1 h2 (fun _ => by omega) (fun z => absurd k8 z)
    have z : ¬ nI (h - c) = 0 := nI_ne0 (by omega) (by omega)
    refine dx_step ht htc q1 (by rw [h2]; decide) (dx_adv2 ht6 h2 ⟨hi, br_t (by rw [ct]; exact k8) (br_f z ⟨hi, nm_r (e' := upd ph t 3) (by rw [ct]) ⟨hi, ?_⟩⟩)⟩)
    refine dy_step2 ht htc rfl h2 ⟨hi, br_t (by rw [ct]; exact k8) (br_f (by decide) (dy_size0 hb.1 hb.2.1 (dq_c0 htc T) (dq_c1 P) (br_f z (br_t rfl ?_))))⟩
    exact br_f (by decide) (br_t rfl (br_t rfl ⟨hi, nm_r (e' := upd ph t 3) (by rw [ct]) ⟨hi, rfl, zz_in k P T2 D E2⟩⟩))
/-- a look for room -/
theorem dz_st2r (k : Nat) (P : dq_P h c d nd xv xap xn xcl xpn xpc xfs yv yap ycl yaw ycw) (T : dq_T tc h c d nd ph tk oo ol du yap ycl) (D : d < h → yaw d = 0) (E : dq_E tc cap h c ur yD ph tk onn oo an du rn rc yo) (ht : t < tc) (q1 : ur = 0) (q2 : yD = 0) (h2 : ph t = 2) (k8 : tk t ≠ -8) :
    wpX_step (fun r u' => wpY_step (fun r' v' => r' = r ∧ i_Rel k u' v') (nI tc, nI cap, yD, nI h, ph, tk, yo, an, du, rc, rn, rt, rv, yv, yap, ycl, yaw, ycw) (nI t)) (xN, nI tc, nI cap, nI (12 - h), nI (nd 0), nI (nd d), nI (nd c), nI (nd h), nI h, nI (h - c), nI d, nI ur, xv, xap, xn, xcl, xpn, xpc, xre, xfs, ph, tk, onn, oo, ol, an, du, rn, rt, rv, rc) (nI t) := by
  subst q2
  have htc := dq_tc E
  have hb := dq_pb P
  have hcp : cap ≤ 12 := E.1.2.2.2.1
  have hcc : h ≤ cap := E.1.2.2.2.2
  have ht6 : t < 6 := by omega
  have hi : vp_in (nI t) 6 := vp_in_nI (by omega) (by decide)
  have ct : (nI t).toNatClampNeg = t := nI_clamp (by omega)
  have hoo : ∀ t, t < tc → ph t = 5 → yo t = oo t := fun s hs z => E.2.2.2.1 s hs (Or.inl z)
  by_cases q : h = cap
  · obtain ⟨h', c', d', nd', xpn', xpc', du', rv', xfs', yv', yap', ycl', yaw', ycw', P', T', D', B, M2, M3, M4, HX, HY⟩ := ds_write (xN := xN) (cap := cap) (ur := ur) (xre := xre) (onn := onn) (an := an) (rn := rn) (rt := rt) (rv := rv) (rc := rc) (yD := 0) (k := h) htc hoo P T (Nat.le_refl h)
    have E1 := dq_es E B.1 B.2 M2
    have z : nI h = nI cap := by rw [q]
    by_cases q' : h' = cap
    · obtain ⟨T2, E2⟩ := dq_note (o := -4) (x := -1) T' E1 ht q1 h2 (Or.inr rfl)
      refine dx_step ht htc q1 (by rw [h2]; decide) (dx_adv2 ht6 h2 ⟨hi, br_f (by rw [ct]; exact k8) (br_t z (HX _ (dx_19a ht6 (by omega) q' ⟨hi, ?_⟩)))⟩)
      exact dy_step2 ht htc rfl h2 ⟨hi, br_f (by rw [ct]; exact k8) (br_t rfl (br_t z (br_f (by decide) (HY _ (dy_67a ht6 q' ⟨hi, rfl, zz_in k P' T2 D' E2⟩)))))⟩
    · obtain ⟨T2, E2⟩ := dq_ph3 T' E1 ht q1 h2 (fun z => absurd z k8) (fun _ => by omega)
      refine dx_step ht htc q1 (by rw [h2]; decide) (dx_adv2 ht6 h2 ⟨hi, br_f (by rw [ct]; exact k8) (br_t z (HX _ (dx_19b ht6 (by omega) hcp q' ⟨hi, ?_⟩)))⟩)
      exact dy_step2 ht htc rfl h2 ⟨hi, br_f (by rw [ct]; exact k8) (br_t rfl (br_t z (br_f (by decide) (HY _ (dy_67b ht6 (by omega) hcp q' ⟨hi, rfl, zz_in k P' T2 D' E2⟩)))))⟩
  · obtain ⟨T2, E2⟩ := dq_ph3 T E ht q1 h2 (fun z => absurd z k8) (fun _ => by omega)
    have z : ¬ nI h = nI cap := fun e => q (dq_inj (by omega) (by omega) e)
    refine dx_step ht htc q1 (by rw [h2]; decide) (dx_adv2 ht6 h2 ⟨hi, br_f (by rw [ct]; exact k8) (br_f z (dx_19b ht6 (by omega) hcp q ⟨hi, ?_⟩))⟩)
    exact dy_step2 ht htc rfl h2 ⟨hi, br_f (by rw [ct]; exact k8) (br_t rfl (br_f z (br_t rfl (dy_67b ht6 (by omega) hcp q ⟨hi, rfl, zz_in k P T2 D E2⟩))))⟩
end
end
section
theorem dq_rs_c {tk ph : Nat → Int32} {x : Int32} {j s : Nat} : dq_rs tk x j ph s = ph s ∨ (s < j ∧ ph s = 3 ∧ dq_rs tk x j ph s = 4) := by
  by_cases w : s < j ∧ ph s = 3 ∧ (if tk s = -8 then (1 : Int32) else 0) = x
  · exact Or.inr ⟨w.1, w.2.1, if_pos w⟩
  · exact Or.inl (if_neg w)
theorem dq_rs_n3 {tk ph : Nat → Int32} {x : Int32} {j s : Nat} (hs : s < j) (hr : (if tk s = -8 then (1 : Int32) else 0) = x) : dq_rs tk x j ph s ≠ 3 := by
  intro z
  rcases dq_rs_c (tk := tk) (ph := ph) (x := x) (j := j) (s := s) with q | ⟨q1, q2, q3⟩
  · have e : dq_rs tk x j ph s = 4 := if_pos ⟨hs, q.symm.trans z, hr⟩
    rw [e] at z
    exact absurd z (by decide)
  · rw [q3] at z
    exact absurd z (by decide)
section
variable {xN yD : Int32} {xv xap xn xcl xpn xpc xre xfs ph tk onn oo ol an du rn rt rv rc yo yv yap ycl yaw ycw : Nat → Int32} {tc cap h c d ur t : Nat} {nd : Nat → Nat}
theorem dq_rsT {x : Int32} {j : Nat} (T : dq_T tc h c d nd ph tk oo ol du yap ycl) : dq_T tc h c d nd (dq_rs tk x j ph) tk oo ol du yap ycl := by
  refine dq_tp T (fun s => ?_)
  rcases dq_rs_c (tk := tk) (ph := ph) (x := x) (j := j) (s := s) with q | ⟨q1, q2, q3⟩
  · rw [q]
  · rw [q3, q2]
    constructor
    · intro z; exact absurd z (by decide)
    · intro z; exact absurd z (by decide)
/-- the threads after an attempt -/
theorem dq_rsE {a x : Int32} {h' c' : Nat} (E : dq_E tc cap h c ur yD ph tk onn oo an du rn rc yo) (hu : ur = 0) (ht : t < tc) (h3 : ph t = 3) (hh : h' ≤ cap)
    (hk : (x = 1 ∧ h' = h) ∨ (x = 0 ∧ c' < h')) : dq_E tc cap h' c' ur yD (dq_rs tk x tc (upd ph t 5)) tk onn (upd oo t a) an du rn rc (upd yo t a) := by
  have e7 := E.2.2.2.2.2.2.2.1 t ht (by rw [h3]; decide)
  have E1 : dq_E tc cap h c ur yD (upd ph t 5) tk onn (upd oo t a) an du rn rc (upd yo t a) := by
    refine dq_ee (t := t) E hu ht (fun s q => ⟨pk_un q, rfl, rfl, pk_un q, rfl, rfl, rfl, pk_un q⟩) ?_ ?_ ?_ ?_ (fun _ => e7) ?_
    · rw [pk_us]; intro z; exact absurd z (by decide)
    · rw [pk_us]; intro z; exact absurd z (by decide)
    · intro _; rw [pk_us, pk_us]
    · rw [pk_us]; intro z; exact absurd z (by decide)
    · rw [pk_us]; intro _ z; exact absurd rfl z
  refine dq_er E1 hu (fun s => dq_rs_c) hh ?_ ?_
  · intro s hs z k8
    rcases hk with ⟨rfl, rfl⟩ | ⟨rfl, q⟩
    · exact absurd z (dq_rs_n3 hs (if_pos k8))
    · exact q
  · intro s hs z k8
    rcases hk with ⟨rfl, rfl⟩ | ⟨rfl, q⟩
    · rcases dq_rs_c (tk := tk) (ph := upd ph t 5) (x := 1) (j := tc) (s := s) with q | ⟨q1, q2, q3⟩
      · exact E1.2.2.1 s hs (q.symm.trans z) k8
      · rw [q3] at z; exact absurd z (by decide)
    · exact absurd z (dq_rs_n3 hs (if_neg k8))
theorem dx_24 {post : SX → Prop} {xK fT bS dT cE tL hC lC dC uR : Int32} (htc : tc ≤ 6) (ht : t < tc) (h5 : ph t ≠ 3) (K : post (xN, nI tc, xK, fT, bS, dT, cE, tL, hC, lC, dC, uR, xv, xap, xn, xcl, xpn, xpc, xre, xfs, dq_rs tk (if tk t = -8 then (1 : Int32) else 0) tc ph, tk, onn, oo, ol, an, du, rn, rt, rv, rc)) : wX_attempt_24 post (nI t) xN (nI tc) xK fT bS dT cE tL hC lC dC uR xv xap xn xcl xpn xpc xre xfs ph tk onn oo ol an du rn rt rv rc := by
  unfold wX_attempt_24
  exact dx_riv htc ht h5 K
/-- the component's claim -/
theorem dx_claim {post : SX → Prop} (P : dq_P h c d nd xv xap xn xcl xpn xpc xfs yv yap ycl yaw ycw) (hc : c < h) (ht : t < 6) (K : post (xN, nI tc, nI cap, nI (12 - h), nI (nd 0), nI (nd d), nI (nd (c + 1)), nI (nd h), nI h, nI (h - (c + 1)), nI d, nI ur, xv, xap, xn, upd xcl (nd (c + 1)) (nI t), xpn, xpc, xre, xfs, upd ph t 5, tk, onn, upd oo t (yv c), upd ol t (nI (nd (c + 1))), an, du, rn, rt, rv, rc)) : wpX_claim post (xN, nI tc, nI cap, nI (12 - h), nI (nd 0), nI (nd d), nI (nd c), nI (nd h), nI h, nI (h - c), nI d, nI ur, xv, xap, xn, xcl, xpn, xpc, xre, xfs, ph, tk, onn, oo, ol, an, du, rn, rt, rv, rc) (nI t) := by
  have hb := dq_pb P
  have w := dq_nd P (i := c) (by omega)
  have w1 := dq_nd P (i := c + 1) (by omega)
  have hin : vp_in (nI (nd (c + 1))) 13 := vp_in_nI w1 (by decide)
  have nx := dq_nx P c hc
  have vv : xv (nd (c + 1)) = yv c := by
    obtain ⟨b, n1, n2, nx, nh, vv, cl, pn, pnh, pc, fs, ba, bc, aw, a1, a2, c1, c2, v3⟩ := P
    exact vv c hc
  refine ⟨vp_in_nI w (by decide), nm_r (e' := nI (nd (c + 1))) (by rw [dq_cl w]; exact nx) ⟨hin, nm_r (e' := upd xcl (nd (c + 1)) (nI t)) (by rw [dq_cl w1]) (nm_r (e' := nI (h - (c + 1))) ?_ ⟨hin, ?_⟩)⟩⟩
  · rw [show h - c = h - (c + 1) + 1 by omega]; exact nI_pred _
  · rw [dq_cl w1, vv]
    exact dx_te ht K
/-- the component's append -/
theorem dx_app {post : SX → Prop} (P : dq_P h c d nd xv xap xn xcl xpn xpc xfs yv yap ycl yaw ycw) (hh : h < 12) (ht : t < 6) (K : post (xN, nI tc, nI cap, nI (12 - (h + 1)), nI (nd 0), nI (nd d), nI (nd c), nI (nd (h + 1)), nI (h + 1), nI ((h + 1) - c), nI d, nI ur, upd xv (nd (h + 1)) (tk t), upd xap (nd (h + 1)) (nI t), upd (upd xn (nd (h + 1)) (-1)) (nd h) (nI (nd (h + 1))), upd xcl (nd (h + 1)) (-1), upd xpn (nd (h + 1)) (-1), upd xpc (nd (h + 1)) (-1), xre, xfs, upd ph t 5, tk, onn, upd oo t (-5), upd ol t (nI (nd h)), an, du, rn, rt, rv, rc)) : wpX_append post (xN, nI tc, nI cap, nI (12 - h), nI (nd 0), nI (nd d), nI (nd c), nI (nd h), nI h, nI (h - c), nI d, nI ur, xv, xap, xn, xcl, xpn, xpc, xre, xfs, ph, tk, onn, oo, ol, an, du, rn, rt, rv, rc) (nI t) := by
  have hb := dq_pb P
  have w := dq_nd P (i := h) (by omega)
  have w1 := dq_nd P (i := h + 1) (by omega)
  have hin : vp_in (nI (nd (h + 1))) 13 := vp_in_nI w1 (by decide)
  have hi : vp_in (nI t) 6 := vp_in_nI ht (by decide)
  have c1 : (nI (nd (h + 1))).toNatClampNeg = nd (h + 1) := dq_cl w1
  have fs : xfs (12 - (h + 1)) = nI (nd (h + 1)) := by
    obtain ⟨b, n1, n2, nx, nh, vv, cl, pn, pnh, pc, fs, ba, bc, aw, a1, a2, c1, c2, v3⟩ := P
    exact fs (h + 1) (by omega) (by omega)
  have ef : nI (12 - h) - 1 = nI (12 - (h + 1)) := by rw [show 12 - h = 12 - (h + 1) + 1 by omega]; exact nI_pred _
  have el : nI (h - c) + 1 = nI (h + 1 - c) := by rw [show h + 1 - c = h - c + 1 by omega]; exact nI_1 _
  have cf : (nI (12 - (h + 1))).toNatClampNeg = 12 - (h + 1) := nI_clamp (by omega)
  unfold wpX_append
  exact nm_r ef ⟨vp_in_nI (by omega) (by decide), nm_r (e' := nI (nd (h + 1))) (by rw [cf]; exact fs) ⟨hin, nm_r (e' := upd xn (nd (h + 1)) (-1)) (by rw [c1]) ⟨hin, nm_r (e' := upd xpn (nd (h + 1)) (-1)) (by rw [c1]) ⟨hin, nm_r (e' := upd xcl (nd (h + 1)) (-1)) (by rw [c1]) ⟨hin, nm_r (e' := upd xpc (nd (h + 1)) (-1)) (by rw [c1]) ⟨hi, hin, nm_r (e' := upd xv (nd (h + 1)) (tk t)) (by rw [c1, dq_cl ht]) ⟨hin, nm_r (e' := upd xap (nd (h + 1)) (nI t)) (by rw [c1]) ⟨vp_in_nI w (by decide), nm_r (e' := upd (upd xn (nd (h + 1)) (-1)) (nd h) (nI (nd (h + 1)))) (by rw [dq_cl w]) (nm_r (nI_1 h) (nm_r el (dx_te ht K)))⟩⟩⟩⟩⟩⟩⟩⟩
end
section
variable {yT yK yD yH : Int32} {ph tk yo an du rc rn rt rv yv yap ycl yaw ycw : Nat → Int32} {h c d t tc cap : Nat}
/-- the reference's rivals -/
theorem dy_174 {post : SY → Prop} {J : Int32 → (Nat → Int32) → (Nat → Int32) → (Nat → Int32) → (Nat → Int32) → (Nat → Int32) → (Nat → Int32) → (Nat → Int32) → (Nat → Int32) → (Nat → Int32) → (Nat → Int32) → (Nat → Int32) → (Nat → Int32) → (Nat → Int32) → (Nat → Int32) → Prop} {x z : Int32} {j : Nat} (hj : j < 6) (h3 : ph j = 3) (hz : z = (if tk j = -8 then (1 : Int32) else 0)) (K : J (nI (j + 1)) (dq_rs tk x (j + 1) ph) tk yo an du rc rn rt rv yv yap ycl yaw ycw) :
    wY_act_174 post J (nI t) x (nI j) z yT yK yD yH (dq_rs tk x j ph) tk yo an du rc rn rt rv yv yap ycl yaw ycw := by
  by_cases q : z = x
  · exact br_t q ⟨vp_in_nI hj (by decide), nm_r (by rw [dq_cl hj]; exact dq_rs_yes h3 (hz.symm.trans q)) (nm_r (nI_1 j) K)⟩
  · rw [dq_rs_no (fun w => q (hz.trans w.2))] at K
    exact br_f q (nm_r (nI_1 j) K)
theorem dy_137 {post : SY → Prop} {x : Int32} (htc : tc ≤ 6) (ht : t < tc) (K : post (nI tc, yK, yD, yH, dq_rs tk x tc (upd ph t 5), tk, yo, an, du, rc, rn, rt, rv, yv, yap, ycl, yaw, ycw)) :
    ∀ m j n : Nat, j + m = tc → m < n → wY_act_137 post (nI t) x (nI tc) yK yD yH n (nI j) (dq_rs tk x j ph) tk yo an du rc rn rt rv yv yap ycl yaw ycw := by
  intro m
  induction m with
  | zero =>
    intro j n hj hn
    obtain ⟨n, rfl⟩ : ∃ k, n = k + 1 := ⟨n - 1, by omega⟩
    have e : j = tc := by omega
    subst e
    rw [dq_rs_sw] at K
    exact br_t (nI_le (Nat.le_refl _) (by omega)) ⟨vp_in_nI (by omega) (by decide), nm_r (by rw [nI_clamp (by omega)]) K⟩
  | succ m ih =>
    intro j n hj hn
    obtain ⟨n, rfl⟩ : ∃ k, n = k + 1 := ⟨n - 1, by omega⟩
    have L := ih (j + 1) n (by omega) (by omega)
    have hi : vp_in (nI j) 6 := vp_in_nI (by omega) (by decide)
    have cj : (nI j).toNatClampNeg = j := nI_clamp (by omega)
    refine br_f (nI_ge (by omega) (by omega)) ⟨hi, ?_⟩
    by_cases h3 : ph j = 3
    · refine br_t (by rw [cj, dq_rs_at (Nat.le_refl j)]; exact h3) ⟨hi, ?_⟩
      by_cases k8 : tk j = -8
      · exact br_t (by rw [cj]; exact k8) (dy_174 (by omega) h3 (if_pos k8).symm L)
      · exact br_f (by rw [cj]; exact k8) (dy_174 (by omega) h3 (if_neg k8).symm L)
    · rw [dq_rs_no (fun w => h3 w.1)] at L
      exact br_f (by rw [cj, dq_rs_at (Nat.le_refl j)]; exact h3) (nm_r (nI_1 j) L)
/-- the reference's claim -/
theorem dy_38c {post : SY → Prop} {z : Int32} (hz : z = nI c) (htc : tc ≤ 6) (ht : t < tc) (hc : c < 12)
    (K : post (nI tc, nI cap, yD, nI h, dq_rs tk 1 tc (upd ph t 5), tk, upd yo t (yv c), an, du, rc, rn, rt, rv, yv, yap, upd ycl c (nI t), yaw, upd ycw c 0)) : wY_act_38 post (nI t) 1 z (nI tc) (nI cap) yD (nI h) ph tk yo an du rc rn rt rv yv yap ycl yaw ycw := by
  subst hz
  have hi : vp_in (nI t) 6 := vp_in_nI (by omega) (by decide)
  have ct : (nI t).toNatClampNeg = t := nI_clamp (by omega)
  have hin : vp_in (nI c) 12 := vp_in_nI hc (by decide)
  have cc : (nI c).toNatClampNeg = c := nI_clamp (by omega)
  have L := dy_137 (post := post) (x := 1) (yK := nI cap) (yD := yD) (yH := nI h) (ph := ph) (tk := tk) (yo := upd yo t (yv c)) (an := an) (du := du) (rc := rc) (rn := rn) (rt := rt) (rv := rv) (yv := yv) (yap := yap) (ycl := upd ycl c (nI t)) (yaw := yaw) (ycw := upd ycw c 0) htc ht K tc 0 (tc + 1) (by omega) (by omega)
  rw [dq_rs_0] at L
  exact br_f (nI_pos (by omega)) (br_t (nI_lt (b := 12) hc (by decide)) (br_f (by decide) ⟨hin, nm_r (e' := upd ycl c (nI t)) (by rw [cc]) ⟨hin, hi, nm_r (e' := upd yo t (yv c)) (by rw [cc, ct]) ⟨hin, nm_r (e' := upd ycw c 0) (by rw [cc]; rfl) ⟨tc + 1, L⟩⟩⟩⟩))
/-- the reference's append -/
theorem dy_38a {post : SY → Prop} (htc : tc ≤ 6) (ht : t < tc) (hh : h < 12)
    (K : post (nI tc, nI cap, yD, nI (h + 1), dq_rs tk 0 tc (upd ph t 5), tk, upd yo t (-5), an, du, rc, rn, rt, rv, upd yv h (tk t), upd yap h (nI t), upd ycl h (-1), upd yaw h 0, upd ycw h 0)) : wY_act_38 post (nI t) 0 (nI h) (nI tc) (nI cap) yD (nI h) ph tk yo an du rc rn rt rv yv yap ycl yaw ycw := by
  have hi : vp_in (nI t) 6 := vp_in_nI (by omega) (by decide)
  have ct : (nI t).toNatClampNeg = t := nI_clamp (by omega)
  have hin : vp_in (nI h) 12 := vp_in_nI hh (by decide)
  have cc : (nI h).toNatClampNeg = h := nI_clamp (by omega)
  have L := dy_137 (post := post) (x := 0) (yK := nI cap) (yD := yD) (yH := nI (h + 1)) (ph := ph) (tk := tk) (yo := upd yo t (-5)) (an := an) (du := du) (rc := rc) (rn := rn) (rt := rt) (rv := rv) (yv := upd yv h (tk t)) (yap := upd yap h (nI t)) (ycl := upd ycl h (-1)) (yaw := upd yaw h 0) (ycw := upd ycw h 0) htc ht K tc 0 (tc + 1) (by omega) (by omega)
  rw [dq_rs_0] at L
  exact br_f (nI_pos (by omega)) (br_t (nI_lt (b := 12) hh (by decide)) (br_t rfl ⟨hi, hin, nm_r (e' := upd yv h (tk t)) (by rw [cc, ct]) ⟨hin, nm_r (e' := upd yap h (nI t)) (by rw [cc]) ⟨hin, nm_r (e' := upd ycl h (-1)) (by rw [cc]) ⟨hin, nm_r (e' := upd yaw h 0) (by rw [cc]; rfl) ⟨hi, nm_r (e' := upd yo t (-5)) (by rw [ct]) (nm_r (nI_1 h) ⟨hin, nm_r (e' := upd ycw h 0) (by rw [cc]; rfl) ⟨tc + 1, L⟩⟩)⟩⟩⟩⟩⟩))
theorem dy_step3 {post : Int32 → SY → Prop} (ht : t < tc) (htc : tc ≤ 6) (hu : yD = 0) (h3 : ph t = 3) (K : wpY_act (fun u => match u with | (yT, yK, yD, yH, ph, tk, yo, an, du, rc, rn, rt, rv, yv, yap, ycl, yaw, ycw) => (vp_in (nI t) 6 ∧ (post (ph (nI t).toNatClampNeg) (yT, yK, yD, yH, ph, tk, yo, an, du, rc, rn, rt, rv, yv, yap, ycl, yaw, ycw)))) (nI tc, nI cap, yD, nI h, ph, tk, yo, an, du, rc, rn, rt, rv, yv, yap, ycl, yaw, ycw) (nI t)) : wpY_step post (nI tc, nI cap, yD, nI h, ph, tk, yo, an, du, rc, rn, rt, rv, yv, yap, ycl, yaw, ycw) (nI t) := by
  have hi : vp_in (nI t) 6 := vp_in_nI (by omega) (by decide)
  have ct : (nI t).toNatClampNeg = t := nI_clamp (by omega)
  unfold wpY_step
  exact dy_bad0 ht htc (br_t rfl (br_t hu ⟨hi, br_f (by rw [ct, h3]; decide) ⟨hi, nm_r (e' := 3) (by rw [ct]; exact h3) (br_f (by decide) (br_f (by decide) (br_f (by decide) (br_t rfl K))))⟩⟩))
end
section
variable {xN yD : Int32} {xv xap xn xcl xpn xpc xre xfs ph tk onn oo ol an du rn rt rv rc yo yv yap ycl yaw ycw : Nat → Int32} {tc cap h c d ur t : Nat} {nd : Nat → Nat}
theorem dz_st3c (k : Nat) (P : dq_P h c d nd xv xap xn xcl xpn xpc xfs yv yap ycl yaw ycw) (T : dq_T tc h c d nd ph tk oo ol du yap ycl) (D : d < h → yaw d = 0) (E : dq_E tc cap h c ur yD ph tk onn oo an du rn rc yo) (ht : t < tc) (q1 : ur = 0) (q2 : yD = 0) (h3 : ph t = 3) (k8 : tk t = -8) :
    wpX_step (fun r u' => wpY_step (fun r' v' => r' = r ∧ i_Rel k u' v') (nI tc, nI cap, yD, nI h, ph, tk, yo, an, du, rc, rn, rt, rv, yv, yap, ycl, yaw, ycw) (nI t)) (xN, nI tc, nI cap, nI (12 - h), nI (nd 0), nI (nd d), nI (nd c), nI (nd h), nI h, nI (h - c), nI d, nI ur, xv, xap, xn, xcl, xpn, xpc, xre, xfs, ph, tk, onn, oo, ol, an, du, rn, rt, rv, rc) (nI t) := by
  subst q2
  have htc := dq_tc E
  have hb := dq_pb P
  have ht6 : t < 6 := by omega
  have hi : vp_in (nI t) 6 := vp_in_nI (by omega) (by decide)
  have ct : (nI t).toNatClampNeg = t := nI_clamp (by omega)
  have hc : c < h := E.2.1 t ht h3 k8
  have hu := E.2.2.2.2.2.2.2.2.1 t ht (by rw [h3]; decide) (by rw [h3]; decide) (by rw [h3]; decide)
  have v3 : yv c ≠ -3 ∧ yv c ≠ -4 := by
    obtain ⟨b, n1, n2, nx, nh, vv, cl, pn, pnh, pc, fs, ba, bc, aw, a1, a2, c1, c2, v3⟩ := P
    exact v3 c hc
  have P2 := dq_m5p (x := nI t) P hc
  have T2 := dq_rsT (x := 1) (j := tc) (dq_m5t T hc v3 ht (by rw [h3]; decide) hu k8)
  have E2 := dq_rsE (a := yv c) (x := 1) (h' := h) (c' := c + 1) E q1 ht h3 E.1.2.2.2.2 (Or.inl ⟨rfl, rfl⟩)
  have e5 : upd ph t 5 t ≠ 3 := by rw [pk_us]; decide
  refine dx_step ht htc q1 (by rw [h3]; decide) (dx_adv3 ht6 h3 ⟨hi, br_t (by rw [ct]; exact k8) (dx_claim P hc ht6 (dx_24 htc ht e5 ?_))⟩)
  rw [if_pos k8]
  exact ⟨hi, dy_step3 ht htc rfl h3 ⟨hi, br_t (by rw [ct]; exact k8) (br_f (by decide) (dy_size0 hb.1 hb.2.1 (dq_c0 htc T) (dq_c1 P) (dy_38c (c := c) (by rw [pk_sub (by omega), show h - (h - c) = c by omega]) htc ht (by omega) ⟨hi, rfl, zz_in k P2 T2 D E2⟩)))⟩⟩
theorem dz_st3a (k : Nat) (P : dq_P h c d nd xv xap xn xcl xpn xpc xfs yv yap ycl yaw ycw) (T : dq_T tc h c d nd ph tk oo ol du yap ycl) (D : d < h → yaw d = 0) (E : dq_E tc cap h c ur yD ph tk onn oo an du rn rc yo) (ht : t < tc) (q1 : ur = 0) (q2 : yD = 0) (h3 : ph t = 3) (k8 : tk t ≠ -8) :
    wpX_step (fun r u' => wpY_step (fun r' v' => r' = r ∧ i_Rel k u' v') (nI tc, nI cap, yD, nI h, ph, tk, yo, an, du, rc, rn, rt, rv, yv, yap, ycl, yaw, ycw) (nI t)) (xN, nI tc, nI cap, nI (12 - h), nI (nd 0), nI (nd d), nI (nd c), nI (nd h), nI h, nI (h - c), nI d, nI ur, xv, xap, xn, xcl, xpn, xpc, xre, xfs, ph, tk, onn, oo, ol, an, du, rn, rt, rv, rc) (nI t) := by
  subst q2
  have htc := dq_tc E
  have hb := dq_pb P
  have ht6 : t < 6 := by omega
  have hi : vp_in (nI t) 6 := vp_in_nI (by omega) (by decide)
  have ct : (nI t).toNatClampNeg = t := nI_clamp (by omega)
  have hc : h < cap := E.2.2.1 t ht h3 k8
  have hcp : cap ≤ 12 := E.1.2.2.2.1
  have hu := E.2.2.2.2.2.2.2.2.1 t ht (by rw [h3]; decide) (by rw [h3]; decide) (by rw [h3]; decide)
  have e7 := E.2.2.2.2.2.2.2.1 t ht (by rw [h3]; decide)
  have P2 := dq_m4p (a := tk t) (x := nI t) P (by omega) e7
  have T2 := dq_rsT (x := 0) (j := tc) (dq_m4t (x := -1) T hb.2.1 hb.2.2 ht (by rw [h3]; decide) hu k8)
  have E2 := dq_rsE (a := -5) (x := 0) (h' := h + 1) (c' := c) E q1 ht h3 (by omega) (Or.inr ⟨rfl, by omega⟩)
  have D2 : d < h + 1 → upd yaw h 0 d = 0 := by
    intro _
    by_cases q : d = h
    · subst q; exact pk_us
    · rw [pk_un q]; exact D (by omega)
  have e5 : upd ph t 5 t ≠ 3 := by rw [pk_us]; decide
  refine dx_step ht htc q1 (by rw [h3]; decide) (dx_adv3 ht6 h3 ⟨hi, br_f (by rw [ct]; exact k8) (dx_app P (by omega) ht6 (dx_24 htc ht e5 ?_))⟩)
  rw [if_neg k8]
  exact ⟨hi, dy_step3 ht htc rfl h3 ⟨hi, br_f (by rw [ct]; exact k8) (br_t rfl (dy_38a htc ht (by omega) ⟨hi, rfl, zz_in k P2 T2 D2 E2⟩))⟩⟩
end
end
section
section
variable {yT yK yD yH : Int32} {ph tk yo an du rc rn rt rv yv yap ycl yaw ycw : Nat → Int32} {h c d t tc cap : Nat}
theorem dy_s174 {post : Int32 → SY → Prop} (ht : t < 6) (K : post 6 (yT, yK, yD, yH, upd ph t 6, tk, yo, an, du, rc, rn, rt, rv, yv, yap, ycl, yaw, ycw)) : wY_step_174 post (nI t) yT yK yD yH ph tk yo an du rc rn rt rv yv yap ycl yaw ycw := by
  have hi : vp_in (nI t) 6 := vp_in_nI (by omega) (by decide)
  have ct : (nI t).toNatClampNeg = t := nI_clamp (by omega)
  exact ⟨hi, nm_r (e' := upd ph t 6) (by rw [ct]) ⟨hi, by rw [ct, pk_us]; exact K⟩⟩
theorem dy_step5 {post : Int32 → SY → Prop} (ht : t < tc) (htc : tc ≤ 6) (hu : yD = 0) (h5 : ph t = 5) (K : wpY_find (fun r_34 => (vp_in (nI t) 6 ∧ ((((tk (nI t).toNatClampNeg) = (-8) → (wY_step_135 post (nI t) r_34 (r_34 + 1) (nI tc) (nI cap) yD (nI h) ph tk yo an du rc rn rt rv yv yap ycl yaw ycw)) ∧ (¬ (tk (nI t).toNatClampNeg) = (-8) → (wY_step_135 post (nI t) r_34 r_34 (nI tc) (nI cap) yD (nI h) ph tk yo an du rc rn rt rv yv yap ycl yaw ycw)))))) (nI tc, nI cap, yD, nI h, ph, tk, yo, an, du, rc, rn, rt, rv, yv, yap, ycl, yaw, ycw) (nI t)) : wpY_step post (nI tc, nI cap, yD, nI h, ph, tk, yo, an, du, rc, rn, rt, rv, yv, yap, ycl, yaw, ycw) (nI t) := by
  have hi : vp_in (nI t) 6 := vp_in_nI (by omega) (by decide)
  have ct : (nI t).toNatClampNeg = t := nI_clamp (by omega)
  unfold wpY_step
  exact dy_bad0 ht htc (br_t rfl (br_t hu ⟨hi, br_f (by rw [ct, h5]; decide) ⟨hi, nm_r (e' := 5) (by rw [ct]; exact h5) (br_f (by decide) (br_f (by decide) (br_f (by decide) (br_f (by decide) (br_t rfl K)))))⟩⟩))
/-- nothing more is to be written -/
theorem dy_s135d {post : Int32 → SY → Prop} {x z : Int32} (ht : t < 6) (hu : du t ≠ 0) (K : post 6 (yT, yK, yD, yH, upd ph t 6, tk, yo, an, du, rc, rn, rt, rv, yv, yap, ycl, yaw, ycw)) : wY_step_135 post (nI t) x z yT yK yD yH ph tk yo an du rc rn rt rv yv yap ycl yaw ycw := by
  have hi : vp_in (nI t) 6 := vp_in_nI (by omega) (by decide)
  have ct : (nI t).toNatClampNeg = t := nI_clamp (by omega)
  exact ⟨hi, br_f (by rw [ct]; exact hu) ⟨hi, br_f (by rw [ct]; exact hu) (dy_s174 ht K)⟩⟩
/-- a note -/
theorem dy_s135n {post : Int32 → SY → Prop} {z : Int32} (ht : t < 6) (hu : du t = 0) (K : post 6 (yT, yK, yD, yH, upd ph t 6, tk, yo, an, upd du t 1, rc, rn, rt, upd rv t (yo t), yv, yap, ycl, yaw, ycw)) : wY_step_135 post (nI t) (-1) z yT yK yD yH ph tk yo an du rc rn rt rv yv yap ycl yaw ycw := by
  have hi : vp_in (nI t) 6 := vp_in_nI (by omega) (by decide)
  have ct : (nI t).toNatClampNeg = t := nI_clamp (by omega)
  exact ⟨hi, br_t (by rw [ct]; exact hu) (br_f (by decide) (dy_mk rfl ht (dy_s174 ht K)))⟩
/-- a write -/
theorem dy_s135w {post : Int32 → SY → Prop} {i : Nat} {z : Int32} (ht : t < 6) (hu : du t = 0) (hi12 : i ≤ 12) (K : wpY_write (fun u => match u with | (yT, yK, yD, yH, ph, tk, yo, an, du, rc, rn, rt, rv, yv, yap, ycl, yaw, ycw) => (wY_step_174 post (nI t) yT yK yD yH ph tk yo an du rc rn rt rv yv yap ycl yaw ycw)) (yT, yK, yD, yH, ph, tk, yo, an, du, rc, rn, rt, rv, yv, yap, ycl, yaw, ycw) 0 z) : wY_step_135 post (nI t) (nI i) z yT yK yD yH ph tk yo an du rc rn rt rv yv yap ycl yaw ycw := by
  have hi : vp_in (nI t) 6 := vp_in_nI (by omega) (by decide)
  have ct : (nI t).toNatClampNeg = t := nI_clamp (by omega)
  exact ⟨hi, br_t (by rw [ct]; exact hu) (br_t (nI_pos' (by omega)) ⟨hi, br_t (by rw [ct]; exact hu) K⟩)⟩
end
section
variable {xN yD : Int32} {xv xap xn xcl xpn xpc xre xfs ph tk onn oo ol an du rn rt rv rc yo yv yap ycl yaw ycw : Nat → Int32} {tc cap h c d ur t : Nat} {nd : Nat → Nat}
theorem dz_st5 (k : Nat) (P : dq_P h c d nd xv xap xn xcl xpn xpc xfs yv yap ycl yaw ycw) (T : dq_T tc h c d nd ph tk oo ol du yap ycl) (D : d < h → yaw d = 0) (E : dq_E tc cap h c ur yD ph tk onn oo an du rn rc yo) (ht : t < tc) (q1 : ur = 0) (q2 : yD = 0) (h5 : ph t = 5) :
    wpX_step (fun r u' => wpY_step (fun r' v' => r' = r ∧ i_Rel k u' v') (nI tc, nI cap, yD, nI h, ph, tk, yo, an, du, rc, rn, rt, rv, yv, yap, ycl, yaw, ycw) (nI t)) (xN, nI tc, nI cap, nI (12 - h), nI (nd 0), nI (nd d), nI (nd c), nI (nd h), nI h, nI (h - c), nI d, nI ur, xv, xap, xn, xcl, xpn, xpc, xre, xfs, ph, tk, onn, oo, ol, an, du, rn, rt, rv, rc) (nI t) := by
  have htc := dq_tc E
  have hb := dq_pb P
  have ht6 : t < 6 := by omega
  have hi : vp_in (nI t) 6 := vp_in_nI (by omega) (by decide)
  have ct : (nI t).toNatClampNeg = t := nI_clamp (by omega)
  have hoo : ∀ t, t < tc → ph t = 5 → yo t = oo t := fun s hs z => E.2.2.2.1 s hs (Or.inl z)
  have e6 : ∀ f : Nat → Int32, (6 : Int32) = upd f t 6 (nI t).toNatClampNeg := fun f => by rw [ct, pk_us]
  refine dx_step ht htc q1 (by rw [h5]; decide) (dx_adv5 ht6 h5 ⟨hi, ?_⟩)
  by_cases u0 : du t = 0
  · refine br_t (by rw [ct]; exact u0) ?_
    rcases dq_cls htc P T ht h5 u0 with ⟨o, f1, f2⟩ | ⟨⟨o3, o4⟩, k8, i, hic, ei, el, un⟩ | ⟨⟨o3, o4⟩, k8, i, hid, hih, ei, el, un⟩
    · obtain ⟨T1, E1⟩ := dq_mkd T E ht q1 h5 o
      obtain ⟨T2, E2⟩ := dq_ph6 T1 E1 ht q1 h5 (by rw [pk_us]; decide)
      refine dx_note1 ht6 o (br_f (by decide) (dx_mk rfl ht6 ⟨hi, nm_r (e' := upd ph t 6) (by rw [ct]) ⟨hi, ?_⟩⟩))
      have Z : ∀ z : Int32, wY_step_135 (fun r' v' => r' = upd ph t 6 (nI t).toNatClampNeg ∧ i_Rel k (xN, nI tc, nI cap, nI (12 - h), nI (nd 0), nI (nd d), nI (nd c), nI (nd h), nI h, nI (h - c), nI d, nI ur, xv, xap, xn, xcl, xpn, xpc, xre, xfs, upd ph t 6, tk, onn, oo, ol, an, upd du t 1, rn, rt, upd rv t (oo t), rc) v') (nI t) (-1) z (nI tc) (nI cap) yD (nI h) ph tk yo an du rc rn rt rv yv yap ycl yaw ycw := by
        intro z
        refine dy_s135n ht6 u0 ⟨e6 ph, ?_⟩
        rw [hoo t ht h5]
        exact zz_in k P T2 D E2
      refine dy_step5 ht htc q2 h5 (dy_fn ht6 hb.1 h5 u0 f1 f2 ⟨hi, ?_⟩)
      exact br_c (fun _ => Z _) (fun _ => Z _)
    · obtain ⟨h', c', d', nd', xpn', xpc', du', rv', xfs', yv', yap', ycl', yaw', ycw', P', T', D', B, M2, M3, M4, HX, HY⟩ := ds_write (xN := xN) (cap := cap) (ur := ur) (xre := xre) (onn := onn) (an := an) (rn := rn) (rt := rt) (rv := rv) (rc := rc) (yD := yD) (k := i + 1) htc hoo P T (by omega)
      obtain ⟨T2, E2⟩ := dq_ph6 T' (dq_es E B.1 B.2 M2) ht q1 h5 (M4 t i ht6 hic (Nat.le_refl _) ei)
      refine dx_note0 ht6 o3 o4 (br_t rfl ⟨hi, ?_⟩)
      rw [show ol (nI t).toNatClampNeg = nI (nd (i + 1)) by rw [ct]; exact el]
      refine HX _ ⟨hi, nm_r (e' := upd ph t 6) (by rw [ct]) ⟨hi, ?_⟩⟩
      refine dy_step5 ht htc q2 h5 (dy_fc ht6 hb.1 h5 u0 k8 (by omega) ei un ⟨hi, br_t (by rw [ct]; exact k8) ?_⟩)
      rw [nI_1 i]
      exact dy_s135w ht6 u0 (by omega) (HY _ (dy_s174 ht6 ⟨e6 ph, zz_in k P' T2 D' E2⟩))
    · obtain ⟨h', c', d', nd', xpn', xpc', du', rv', xfs', yv', yap', ycl', yaw', ycw', P', T', D', B, M2, M3, M4, HX, HY⟩ := ds_write (xN := xN) (cap := cap) (ur := ur) (xre := xre) (onn := onn) (an := an) (rn := rn) (rt := rt) (rv := rv) (rc := rc) (yD := yD) (k := i) htc hoo P T (by omega)
      obtain ⟨T2, E2⟩ := dq_ph6 T' (dq_es E B.1 B.2 M2) ht q1 h5 (M3 t i ht6 hid (Nat.le_refl _) hih ei)
      refine dx_note0 ht6 o3 o4 (br_t rfl ⟨hi, ?_⟩)
      rw [show ol (nI t).toNatClampNeg = nI (nd i) by rw [ct]; exact el]
      refine HX _ ⟨hi, nm_r (e' := upd ph t 6) (by rw [ct]) ⟨hi, ?_⟩⟩
      refine dy_step5 ht htc q2 h5 (dy_fa ht6 hb.1 h5 u0 k8 hih ei un ⟨hi, br_f (by rw [ct]; exact k8) ?_⟩)
      exact dy_s135w ht6 u0 (by omega) (HY _ (dy_s174 ht6 ⟨e6 ph, zz_in k P' T2 D' E2⟩))
  · obtain ⟨T2, E2⟩ := dq_ph6 T E ht q1 h5 u0
    refine br_f (by rw [ct]; exact u0) ⟨hi, nm_r (e' := upd ph t 6) (by rw [ct]) ⟨hi, ?_⟩⟩
    have Z : ∀ x z : Int32, wY_step_135 (fun r' v' => r' = upd ph t 6 (nI t).toNatClampNeg ∧ i_Rel k (xN, nI tc, nI cap, nI (12 - h), nI (nd 0), nI (nd d), nI (nd c), nI (nd h), nI h, nI (h - c), nI d, nI ur, xv, xap, xn, xcl, xpn, xpc, xre, xfs, upd ph t 6, tk, onn, oo, ol, an, du, rn, rt, rv, rc) v') (nI t) x z (nI tc) (nI cap) yD (nI h) ph tk yo an du rc rn rt rv yv yap ycl yaw ycw := fun x z => dy_s135d ht6 u0 ⟨e6 ph, zz_in k P T2 D E2⟩
    refine dy_step5 ht htc q2 h5 (dy_find0 ht6 (Or.inr u0) ⟨hi, ?_⟩)
    exact br_c (fun _ => Z _ _) (fun _ => Z _ _)
end
theorem i_vc_step {k : Nat} {u : SX} {v : SY} (I : i_Rel k u v) (hk : k + 3 ≤ 1538) (v1 : Int32) : wpX_step (fun r u' => wpY_step (fun r' v' => r' = r ∧ i_Rel (k + 3) u' v') v v1) u v1 := by
  refine zz_el (Z := fun u v => wpX_step (fun r u' => wpY_step (fun r' v' => r' = r ∧ i_Rel (k + 3) u' v') v v1) u v1) ?_ I
  intro tc cap h c d ur nd xN yD xv xap xn xcl xpn xpc xre xfs ph tk onn oo ol an du rn rt rv rc yo yv yap ycl yaw ycw P T D E
  have R : i_Rel (k + 3) (xN, nI tc, nI cap, nI (12 - h), nI (nd 0), nI (nd d), nI (nd c), nI (nd h), nI h, nI (h - c), nI d, nI ur, xv, xap, xn, xcl, xpn, xpc, xre, xfs, ph, tk, onn, oo, ol, an, du, rn, rt, rv, rc) (nI tc, nI cap, yD, nI h, ph, tk, yo, an, du, rc, rn, rt, rv, yv, yap, ycl, yaw, ycw) := zz_in (k + 3) P T D E
  have htc := dq_tc E
  rcases dq_arg v1 htc with hx | ⟨t, ht, rfl⟩
  · unfold wpX_step wpY_step
    exact dx_bad1 hx (br_f (by decide) (dy_bad1 hx (br_f (by decide) ⟨rfl, R⟩)))
  have hi : vp_in (nI t) 6 := vp_in_nI (by omega) (by decide)
  have ct : (nI t).toNatClampNeg = t := nI_clamp (by omega)
  rcases dq_ud E with ⟨q1, q2⟩ | ⟨q1, q2, q3, q4, q5⟩
  · by_cases p0 : ph t = 0
    · unfold wpX_step wpY_step
      exact dx_bad0 ht htc (br_t rfl (dx_dn0 q1 (br_t rfl ⟨hi, br_t (by rw [ct]; exact p0) (dy_bad0 ht htc (br_t rfl (br_t q2 ⟨hi, br_t (by rw [ct]; exact p0) ⟨rfl, R⟩⟩)))⟩)))
    by_cases p1 : ph t = 1
    · exact dz_st1 (k + 3) P T D E ht q1 q2 p1
    by_cases p2 : ph t = 2
    · by_cases k8 : tk t = -8
      · exact dz_st2v (k + 3) P T D E ht q1 q2 p2 k8
      · exact dz_st2r (k + 3) P T D E ht q1 q2 p2 k8
    by_cases p3 : ph t = 3
    · by_cases k8 : tk t = -8
      · exact dz_st3c (k + 3) P T D E ht q1 q2 p3 k8
      · exact dz_st3a (k + 3) P T D E ht q1 q2 p3 k8
    by_cases p4 : ph t = 4
    · exact dz_st4 (k + 3) P T D E ht q1 q2 p4
    by_cases p5 : ph t = 5
    · exact dz_st5 (k + 3) P T D E ht q1 q2 p5
    · exact dz_st0 (k + 3) P T D E ht q1 q2 p0 p1 p2 p3 p4 p5
  · unfold wpX_step wpY_step
    exact dx_bad0 ht htc (br_t rfl (dx_dn1 q1 q2 (br_f (by decide) (dy_bad0 ht htc (br_t rfl (br_f (by rw [q3]; decide) ⟨rfl, R⟩))))))
end
section
section
variable {xN yD : Int32} {xv xap xn xcl xpn xpc xre xfs ph tk onn oo ol an du rn rt rv rc yo yv yap ycl yaw ycw : Nat → Int32} {tc cap h c d ur t : Nat} {nd : Nat → Nat}
theorem dx_evh {post : Int32 → SX → Prop} (ht : t < tc) (htc : tc ≤ 6) (hu : ur = 0) (h1 : ¬ (ph t = 1 ∧ an t = 0)) (K : wX_evict_46 post (nI t) xN (nI tc) (nI cap) (nI (12 - h)) (nI (nd 0)) (nI (nd d)) (nI (nd c)) (nI (nd h)) (nI h) (nI (h - c)) (nI d) (nI ur) xv xap xn xcl xpn xpc xre xfs ph tk onn oo ol an du rn rt rv rc) : wpX_evict post (xN, nI tc, nI cap, nI (12 - h), nI (nd 0), nI (nd d), nI (nd c), nI (nd h), nI h, nI (h - c), nI d, nI ur, xv, xap, xn, xcl, xpn, xpc, xre, xfs, ph, tk, onn, oo, ol, an, du, rn, rt, rv, rc) (nI t) := by
  have hi : vp_in (nI t) 6 := vp_in_nI (by omega) (by decide)
  have ct : (nI t).toNatClampNeg = t := nI_clamp (by omega)
  unfold wpX_evict
  refine dx_bad0 ht htc (br_t rfl (dx_dn0 hu (br_t rfl ⟨hi, ?_⟩)))
  by_cases p : ph t = 1
  · exact br_t (by rw [ct]; exact p) ⟨hi, br_f (by rw [ct]; exact fun z => h1 ⟨p, z⟩) K⟩
  · exact br_f (by rw [ct]; exact p) K
theorem dy_evh {post : Int32 → SY → Prop} (ht : t < tc) (htc : tc ≤ 6) (hu : yD = 0) (h1 : ¬ (ph t = 1 ∧ an t = 0)) (K : wY_evict_46 post (nI t) (nI tc) (nI cap) yD (nI h) ph tk yo an du rc rn rt rv yv yap ycl yaw ycw) : wpY_evict post (nI tc, nI cap, yD, nI h, ph, tk, yo, an, du, rc, rn, rt, rv, yv, yap, ycl, yaw, ycw) (nI t) := by
  have hi : vp_in (nI t) 6 := vp_in_nI (by omega) (by decide)
  have ct : (nI t).toNatClampNeg = t := nI_clamp (by omega)
  unfold wpY_evict
  refine dy_bad0 ht htc (br_t rfl (br_t hu ⟨hi, ?_⟩))
  by_cases p : ph t = 1
  · exact br_t (by rw [ct]; exact p) ⟨hi, br_f (by rw [ct]; exact fun z => h1 ⟨p, z⟩) K⟩
  · exact br_f (by rw [ct]; exact p) K
theorem dy_111 {post : Int32 → SY → Prop} {x yT yK yH : Int32} (K : wpY_mark (fun r => post r (yT, yK, yD, yH, ph, tk, yo, an, du, rc, rn, rt, rv, yv, yap, ycl, yaw, ycw)) (yT, yK, yD, yH, ph, tk, yo, an, du, rc, rn, rt, rv, yv, yap, ycl, yaw, ycw) x) : wY_evict_111 post x yT yK yD yH ph tk yo an du rc rn rt rv yv yap ycl yaw ycw := by
  unfold wY_evict_111
  exact K
/-- the announcement goes early -/
theorem dz_ev1 (k : Nat) (P : dq_P h c d nd xv xap xn xcl xpn xpc xfs yv yap ycl yaw ycw) (T : dq_T tc h c d nd ph tk oo ol du yap ycl) (D : d < h → yaw d = 0) (E : dq_E tc cap h c ur yD ph tk onn oo an du rn rc yo) (ht : t < tc) (q1 : ur = 0) (q2 : yD = 0) (h1 : ph t = 1) (a : an t = 0) :
    wpX_evict (fun r u' => wpY_evict (fun r' v' => r' = r ∧ i_Rel k u' v') (nI tc, nI cap, yD, nI h, ph, tk, yo, an, du, rc, rn, rt, rv, yv, yap, ycl, yaw, ycw) (nI t)) (xN, nI tc, nI cap, nI (12 - h), nI (nd 0), nI (nd d), nI (nd c), nI (nd h), nI h, nI (h - c), nI d, nI ur, xv, xap, xn, xcl, xpn, xpc, xre, xfs, ph, tk, onn, oo, ol, an, du, rn, rt, rv, rc) (nI t) := by
  have htc := dq_tc E
  have ht6 : t < 6 := by omega
  have hi : vp_in (nI t) 6 := vp_in_nI (by omega) (by decide)
  have ct : (nI t).toNatClampNeg = t := nI_clamp (by omega)
  obtain ⟨T1, E1⟩ := dq_ann T E ht q1 h1
  have e4 := E.2.2.2.2.1 t ht h1 a
  have R : i_Rel k (xN, nI tc, nI cap, nI (12 - h), nI (nd 0), nI (nd d), nI (nd c), nI (nd h), nI h, nI (h - c), nI d, nI ur, xv, xap, xn, xcl, xpn, xpc, xre, xfs, ph, tk, onn, oo, ol, upd an t 1, du, upd rn t (onn t), upd rt t (tk t), upd rv t (-7), rc) (nI tc, nI cap, yD, nI h, ph, tk, yo, upd an t 1, du, rc, upd rn t (onn t), upd rt t (tk t), upd rv t (-7), yv, yap, ycl, yaw, ycw) := zz_in k P T1 D E1
  rw [e4] at R
  unfold wpX_evict wpY_evict
  exact dx_bad0 ht htc (br_t rfl (dx_dn0 q1 (br_t rfl ⟨hi, br_t (by rw [ct]; exact h1) ⟨hi, br_t (by rw [ct]; exact a) (dx_wa0 ht6 a (dy_bad0 ht htc (br_t rfl (br_t q2 ⟨hi, br_t (by rw [ct]; exact h1) ⟨hi, br_t (by rw [ct]; exact a) (dy_an ht6 ⟨rfl, by rw [e4]; exact R⟩)⟩⟩))))⟩⟩)))
/-- nothing to write -/
theorem dz_ev0 (k : Nat) (P : dq_P h c d nd xv xap xn xcl xpn xpc xfs yv yap ycl yaw ycw) (T : dq_T tc h c d nd ph tk oo ol du yap ycl) (D : d < h → yaw d = 0) (E : dq_E tc cap h c ur yD ph tk onn oo an du rn rc yo) (ht : t < tc) (q1 : ur = 0) (q2 : yD = 0) (h1 : ¬ (ph t = 1 ∧ an t = 0)) (h5 : ¬ (ph t = 5 ∧ du t = 0)) :
    wpX_evict (fun r u' => wpY_evict (fun r' v' => r' = r ∧ i_Rel k u' v') (nI tc, nI cap, yD, nI h, ph, tk, yo, an, du, rc, rn, rt, rv, yv, yap, ycl, yaw, ycw) (nI t)) (xN, nI tc, nI cap, nI (12 - h), nI (nd 0), nI (nd d), nI (nd c), nI (nd h), nI h, nI (h - c), nI d, nI ur, xv, xap, xn, xcl, xpn, xpc, xre, xfs, ph, tk, onn, oo, ol, an, du, rn, rt, rv, rc) (nI t) := by
  have htc := dq_tc E
  have hi : vp_in (nI t) 6 := vp_in_nI (by omega) (by decide)
  have ct : (nI t).toNatClampNeg = t := nI_clamp (by omega)
  have R : i_Rel k (xN, nI tc, nI cap, nI (12 - h), nI (nd 0), nI (nd d), nI (nd c), nI (nd h), nI h, nI (h - c), nI d, nI ur, xv, xap, xn, xcl, xpn, xpc, xre, xfs, ph, tk, onn, oo, ol, an, du, rn, rt, rv, rc) (nI tc, nI cap, yD, nI h, ph, tk, yo, an, du, rc, rn, rt, rv, yv, yap, ycl, yaw, ycw) := zz_in k P T D E
  refine dx_evh ht htc q1 h1 ?_
  by_cases p : ph t = 5
  · have u0 : ¬ du t = 0 := fun z => h5 ⟨p, z⟩
    exact ⟨hi, br_t (by rw [ct]; exact p) ⟨hi, br_f (by rw [ct]; exact u0) (dy_evh ht htc q2 h1 ⟨hi, br_t (by rw [ct]; exact p) ⟨hi, br_f (by rw [ct]; exact u0) ⟨rfl, R⟩⟩⟩)⟩⟩
  · exact ⟨hi, br_f (by rw [ct]; exact p) (dy_evh ht htc q2 h1 ⟨hi, br_f (by rw [ct]; exact p) ⟨rfl, R⟩⟩)⟩
/-- an effect goes early -/
theorem dz_ev5 (k : Nat) (P : dq_P h c d nd xv xap xn xcl xpn xpc xfs yv yap ycl yaw ycw) (T : dq_T tc h c d nd ph tk oo ol du yap ycl) (D : d < h → yaw d = 0) (E : dq_E tc cap h c ur yD ph tk onn oo an du rn rc yo) (ht : t < tc) (q1 : ur = 0) (q2 : yD = 0) (h5 : ph t = 5) (u0 : du t = 0) :
    wpX_evict (fun r u' => wpY_evict (fun r' v' => r' = r ∧ i_Rel k u' v') (nI tc, nI cap, yD, nI h, ph, tk, yo, an, du, rc, rn, rt, rv, yv, yap, ycl, yaw, ycw) (nI t)) (xN, nI tc, nI cap, nI (12 - h), nI (nd 0), nI (nd d), nI (nd c), nI (nd h), nI h, nI (h - c), nI d, nI ur, xv, xap, xn, xcl, xpn, xpc, xre, xfs, ph, tk, onn, oo, ol, an, du, rn, rt, rv, rc) (nI t) := by
  have htc := dq_tc E
  have hb := dq_pb P
  have ht6 : t < 6 := by omega
  have hi : vp_in (nI t) 6 := vp_in_nI (by omega) (by decide)
  have ct : (nI t).toNatClampNeg = t := nI_clamp (by omega)
  have h1 : ¬ (ph t = 1 ∧ an t = 0) := by
    intro z
    rw [h5] at z
    exact absurd z.1 (by decide)
  have hoo : ∀ t, t < tc → ph t = 5 → yo t = oo t := fun s hs z => E.2.2.2.1 s hs (Or.inl z)
  refine dx_evh ht htc q1 h1 ⟨hi, br_t (by rw [ct]; exact h5) ⟨hi, br_t (by rw [ct]; exact u0) ?_⟩⟩
  unfold wpX_evictEffect
  rcases dq_cls htc P T ht h5 u0 with ⟨o, f1, f2⟩ | ⟨⟨o3, o4⟩, k8, i, hic, ei, el, un⟩ | ⟨⟨o3, o4⟩, k8, i, hid, hih, ei, el, un⟩
  · obtain ⟨T1, E1⟩ := dq_mkd T E ht q1 h5 o
    obtain ⟨r, mX, mY⟩ := dz_mark (xN := xN) (yD := yD) (cap := cap) (ur := ur) (xre := xre) (onn := onn) (an := an) (rn := rn) (rt := rt) (rv := upd rv t (oo t)) (rc := rc) (yo := yo) htc P T1 ht
    refine dx_note1 ht6 o (br_f (by decide) (dx_mk rfl ht6 (mX _ ?_)))
    have Z : ∀ z : Int32, wY_evict_92 (fun r' v' => r' = r ∧ i_Rel k (xN, nI tc, nI cap, nI (12 - h), nI (nd 0), nI (nd d), nI (nd c), nI (nd h), nI h, nI (h - c), nI d, nI ur, xv, xap, xn, xcl, xpn, xpc, xre, xfs, ph, tk, onn, oo, ol, an, upd du t 1, rn, rt, upd rv t (oo t), rc) v') (nI t) (-1) z (nI tc) (nI cap) yD (nI h) ph tk yo an du rc rn rt rv yv yap ycl yaw ycw := by
      intro z
      refine br_f (by decide) (dy_mk rfl ht6 (dy_111 ?_))
      rw [hoo t ht h5]
      exact mY _ ⟨rfl, zz_in k P T1 D E1⟩
    exact dy_evh ht htc q2 h1 ⟨hi, br_t (by rw [ct]; exact h5) ⟨hi, br_t (by rw [ct]; exact u0) (dy_fn ht6 hb.1 h5 u0 f1 f2 ⟨hi, br_c (fun _ => Z _) (fun _ => Z _)⟩)⟩⟩
  · obtain ⟨h', c', d', nd', xpn', xpc', du', rv', xfs', yv', yap', ycl', yaw', ycw', P', T', D', B, M2, HX, HY⟩ := ds_evict (xN := xN) (cap := cap) (ur := ur) (xre := xre) (onn := onn) (an := an) (rn := rn) (rt := rt) (rv := rv) (rc := rc) (yD := yD) (k := i + 1) htc hoo P T (by omega)
    obtain ⟨r, mX, mY⟩ := dz_mark (xN := xN) (yD := yD) (cap := cap) (ur := ur) (xre := xre) (onn := onn) (an := an) (rn := rn) (rt := rt) (rv := rv') (rc := rc) (yo := yo) htc P' T' ht
    refine dx_note0 ht6 o3 o4 (br_t rfl ⟨hi, ?_⟩)
    rw [show ol (nI t).toNatClampNeg = nI (nd (i + 1)) by rw [ct]; exact el]
    refine HX _ (mX _ ?_)
    refine dy_evh ht htc q2 h1 ⟨hi, br_t (by rw [ct]; exact h5) ⟨hi, br_t (by rw [ct]; exact u0) (dy_fc ht6 hb.1 h5 u0 k8 (by omega) ei un ⟨hi, br_t (by rw [ct]; exact k8) ?_⟩)⟩⟩
    rw [nI_1 i]
    exact br_t (nI_pos' (by omega)) (HY _ (dy_111 (mY _ ⟨rfl, zz_in k P' T' D' (dq_es E B.1 B.2 M2)⟩)))
  · obtain ⟨h', c', d', nd', xpn', xpc', du', rv', xfs', yv', yap', ycl', yaw', ycw', P', T', D', B, M2, HX, HY⟩ := ds_evict (xN := xN) (cap := cap) (ur := ur) (xre := xre) (onn := onn) (an := an) (rn := rn) (rt := rt) (rv := rv) (rc := rc) (yD := yD) (k := i) htc hoo P T (by omega)
    obtain ⟨r, mX, mY⟩ := dz_mark (xN := xN) (yD := yD) (cap := cap) (ur := ur) (xre := xre) (onn := onn) (an := an) (rn := rn) (rt := rt) (rv := rv') (rc := rc) (yo := yo) htc P' T' ht
    refine dx_note0 ht6 o3 o4 (br_t rfl ⟨hi, ?_⟩)
    rw [show ol (nI t).toNatClampNeg = nI (nd i) by rw [ct]; exact el]
    refine HX _ (mX _ ?_)
    refine dy_evh ht htc q2 h1 ⟨hi, br_t (by rw [ct]; exact h5) ⟨hi, br_t (by rw [ct]; exact u0) (dy_fa ht6 hb.1 h5 u0 k8 hih ei un ⟨hi, br_f (by rw [ct]; exact k8) ?_⟩)⟩⟩
    exact br_t (nI_pos' (by omega)) (HY _ (dy_111 (mY _ ⟨rfl, zz_in k P' T' D' (dq_es E B.1 B.2 M2)⟩)))
end
theorem i_vc_evict {k : Nat} {u : SX} {v : SY} (I : i_Rel k u v) (hk : k + 3 ≤ 1538) (v1 : Int32) : wpX_evict (fun r u' => wpY_evict (fun r' v' => r' = r ∧ i_Rel (k + 3) u' v') v v1) u v1 := by
  refine zz_el (Z := fun u v => wpX_evict (fun r u' => wpY_evict (fun r' v' => r' = r ∧ i_Rel (k + 3) u' v') v v1) u v1) ?_ I
  intro tc cap h c d ur nd xN yD xv xap xn xcl xpn xpc xre xfs ph tk onn oo ol an du rn rt rv rc yo yv yap ycl yaw ycw P T D E
  have R : i_Rel (k + 3) (xN, nI tc, nI cap, nI (12 - h), nI (nd 0), nI (nd d), nI (nd c), nI (nd h), nI h, nI (h - c), nI d, nI ur, xv, xap, xn, xcl, xpn, xpc, xre, xfs, ph, tk, onn, oo, ol, an, du, rn, rt, rv, rc) (nI tc, nI cap, yD, nI h, ph, tk, yo, an, du, rc, rn, rt, rv, yv, yap, ycl, yaw, ycw) := zz_in (k + 3) P T D E
  have htc := dq_tc E
  rcases dq_arg v1 htc with hx | ⟨t, ht, rfl⟩
  · unfold wpX_evict wpY_evict
    exact dx_bad1 hx (br_f (by decide) (dy_bad1 hx (br_f (by decide) ⟨rfl, R⟩)))
  rcases dq_ud E with ⟨q1, q2⟩ | ⟨q1, q2, q3, q4, q5⟩
  · by_cases p1 : ph t = 1 ∧ an t = 0
    · exact dz_ev1 (k + 3) P T D E ht q1 q2 p1.1 p1.2
    by_cases p5 : ph t = 5 ∧ du t = 0
    · exact dz_ev5 (k + 3) P T D E ht q1 q2 p5.1 p5.2
    · exact dz_ev0 (k + 3) P T D E ht q1 q2 p1 p5
  · unfold wpX_evict wpY_evict
    exact dx_bad0 ht htc (br_t rfl (dx_dn1 q1 q2 (br_f (by decide) (dy_bad0 ht htc (br_t rfl (br_f (by rw [q3]; decide) ⟨rfl, R⟩))))))
end
section
section
variable {yT yK yD yH : Int32} {ph tk yo an du rc rn rt rv yv yap ycl yaw ycw : Nat → Int32} {h tc : Nat}
theorem dy_c55 {post : Int32 → SY → Prop} (K : wpY_size (fun r => post r (yT, yK, 1, yH, dq_f 0 6 ph, tk, yo, an, du, dq_f 0 6 rc, rn, rt, rv, yv, yap, ycl, yaw, ycw)) (yT, yK, 1, yH, dq_f 0 6 ph, tk, yo, an, du, dq_f 0 6 rc, rn, rt, rv, yv, yap, ycl, yaw, ycw) 1) :
    ∀ m j n : Nat, j + m = 6 → m < n → wY_crash_55 post yT yK yD yH n (nI j) (dq_f 0 j ph) tk yo an du (dq_f 0 j rc) rn rt rv yv yap ycl yaw ycw := by
  intro m
  induction m with
  | zero =>
    intro j n hj hn
    obtain ⟨n, rfl⟩ : ∃ k, n = k + 1 := ⟨n - 1, by omega⟩
    have e : j = 6 := by omega
    subst e
    exact br_t (nI_le (a := 6) (b := 6) (Nat.le_refl _) (by decide)) K
  | succ m ih =>
    intro j n hj hn
    obtain ⟨n, rfl⟩ : ∃ k, n = k + 1 := ⟨n - 1, by omega⟩
    have hi : vp_in (nI j) 6 := vp_in_nI (by omega) (by decide)
    have cj : (nI j).toNatClampNeg = j := nI_clamp (by omega)
    exact br_f (nI_ge (b := 6) (by omega) (by decide)) ⟨hi, nm_r (by rw [cj]; exact dq_f_s) ⟨hi, nm_r (by rw [cj]; exact dq_f_s) (nm_r (nI_1 j) (ih (j + 1) n (by omega) (by omega)))⟩⟩
theorem dy_c18 {post : Int32 → SY → Prop} (hh : h ≤ 12) (K : ∃ n, wY_crash_55 post yT yK yD (nI h) n 0 ph tk yo an du rc rn rt rv yv (dq_f (-1) h yap) (dq_f (-1) h ycl) yaw (dq_f 0 h ycw)) :
    ∀ m j n : Nat, j + m = h → m < n → wY_crash_18 post yT yK yD (nI h) n (nI j) ph tk yo an du rc rn rt rv yv (dq_f (-1) j yap) (dq_f (-1) j ycl) yaw (dq_f 0 j ycw) := by
  intro m
  induction m with
  | zero =>
    intro j n hj hn
    obtain ⟨n, rfl⟩ : ∃ k, n = k + 1 := ⟨n - 1, by omega⟩
    have e : j = h := by omega
    subst e
    exact br_t (nI_le (Nat.le_refl _) (by omega)) K
  | succ m ih =>
    intro j n hj hn
    obtain ⟨n, rfl⟩ : ∃ k, n = k + 1 := ⟨n - 1, by omega⟩
    have hi : vp_in (nI j) 12 := vp_in_nI (by omega) (by decide)
    have cj : (nI j).toNatClampNeg = j := nI_clamp (by omega)
    exact br_f (nI_ge (by omega) (by omega)) ⟨hi, nm_r (by rw [cj]; exact dq_f_s) ⟨hi, nm_r (by rw [cj]; exact dq_f_s) ⟨hi, nm_r (by rw [cj]; exact dq_f_s) (nm_r (nI_1 j) (ih (j + 1) n (by omega) (by omega)))⟩⟩⟩
/-- the reference's crash, once its length is known -/
theorem dy_cr {post : Int32 → SY → Prop} (hh : h ≤ 12) (htc : tc ≤ 6) (e5 : ∀ t, tc ≤ t → ph t = 0) (e6 : ∀ t, tc ≤ t → rc t = 0) (aw : ∀ i, i < h → yaw i = 1)
    (K : post (nI h) (yT, yK, 1, nI h, fun _ => 0, tk, yo, an, du, fun _ => 0, rn, rt, rv, yv, dq_f (-1) h yap, dq_f (-1) h ycl, yaw, dq_f 0 h ycw)) : ∃ n, wY_crash_18 post yT yK yD (nI h) n 0 ph tk yo an du rc rn rt rv yv yap ycl yaw ycw := by
  have K : post (nI h) (yT, yK, 1, nI h, dq_f 0 6 ph, tk, yo, an, du, dq_f 0 6 rc, rn, rt, rv, yv, dq_f (-1) h yap, dq_f (-1) h ycl, yaw, dq_f 0 h ycw) := by
    rw [dq_f_all (v := 0) (j := 6) (a := ph) (fun t z => e5 t (by omega)), dq_f_all (v := 0) (j := 6) (a := rc) (fun t z => e6 t (by omega))]
    exact K
  have L := dy_c55 (yT := yT) (yK := yK) (yD := yD) (yH := nI h) (ph := ph) (tk := tk) (yo := yo) (an := an) (du := du) (rc := rc) (rn := rn) (rt := rt) (rv := rv) (yv := yv) (yap := dq_f (-1) h yap) (ycl := dq_f (-1) h ycl) (yaw := yaw) (ycw := dq_f 0 h ycw) (post := post) (dy_size1 hh (Nat.le_refl h) aw (fun z => absurd z (Nat.lt_irrefl h)) K) 6 0 7 (by omega) (by omega)
  rw [dq_f_0, dq_f_0] at L
  have M := dy_c18 hh ⟨7, L⟩ h 0 (h + 1) (by omega) (by omega)
  rw [dq_f_0, dq_f_0, dq_f_0] at M
  exact ⟨h + 1, M⟩
end
section
variable {xN yD : Int32} {xv xap xn xcl xpn xpc xre xfs ph tk onn oo ol an du rn rt rv rc yo yv yap ycl yaw ycw : Nat → Int32} {tc cap h c d ur t : Nat} {nd : Nat → Nat}
theorem dq_e0 (E : dq_E tc cap h c ur yD ph tk onn oo an du rn rc yo) (hd : d ≤ h) : dq_E tc cap d 0 tc 1 (fun _ => 0) tk onn oo an du rn (fun _ => 0) yo := by
  obtain ⟨b, e1, e2, e3, e4, e5, e6, e7, e8, e9⟩ := E
  refine ⟨by omega, ?_, ?_, ?_, ?_, fun _ _ => rfl, fun _ _ => rfl, ?_, ?_, Or.inr ⟨by omega, rfl, (dq_cz_all tc (fun _ _ => rfl)).symm, fun _ => rfl⟩⟩
  · intro t _ z; exact absurd (show (0 : Int32) = 3 from z) (by decide)
  · intro t _ z; exact absurd (show (0 : Int32) = 3 from z) (by decide)
  · intro t _ z
    rcases z with z | z
    · exact absurd (show (0 : Int32) = 5 from z) (by decide)
    · exact absurd (show (0 : Int32) = 6 from z) (by decide)
  · intro t _ z; exact absurd (show (0 : Int32) = 1 from z) (by decide)
  · intro t _ z; exact absurd rfl z
  · intro t _ z; exact absurd rfl z
end
theorem i_vc_crash {k : Nat} {u : SX} {v : SY} (I : i_Rel k u v) (hk : k + 3 ≤ 1538) : wpX_crash (fun r u' => wpY_crash (fun r' v' => r' = r ∧ i_Rel (k + 3) u' v') v) u := by
  refine zz_el (Z := fun u v => wpX_crash (fun r u' => wpY_crash (fun r' v' => r' = r ∧ i_Rel (k + 3) u' v') v) u) ?_ I
  intro tc cap h c d ur nd xN yD xv xap xn xcl xpn xpc xre xfs ph tk onn oo ol an du rn rt rv rc yo yv yap ycl yaw ycw P T D E
  have htc := dq_tc E
  have hb := dq_pb P
  have e5 := E.2.2.2.2.2.1
  have e6 := E.2.2.2.2.2.2.1
  have zp : dq_f 0 tc ph = fun _ => 0 := dq_f_all e5
  have zr : dq_f 0 tc rc = fun _ => 0 := dq_f_all e6
  unfold wpX_crash
  rcases dq_ud E with ⟨q1, q2⟩ | ⟨q1, q2, q3, q4, q5⟩
  · have n1 : ∀ i, i < 13 → nd i < 13 := fun i h => dq_nd P h
    have n2 : ∀ i j, i < 13 → j < 13 → nd i = nd j → i = j := fun i j h h' => dq_nj P h h'
    have pn : ∀ i, i < d → xpn (nd i) = nI (nd (i + 1)) := by
      obtain ⟨b, n1, n2, nx, nh, vv, cl, pn, pnh, pc, fs, ba, bc, aw, a1, a2, c1, c2, v3⟩ := P
      intro i hi
      rw [pn i (by omega), aw i hi, if_neg (by decide)]
    obtain ⟨nd', xn', xcl', xpc', xre', xfs', g1, g2, g3, g4, g5, g6, g7, HR⟩ := dx_res (xN := xN) (xT := nI tc) (xK := nI cap) (fT := nI (12 - h)) (cE := nI (nd c)) (tL := nI (nd h)) (hC := nI h) (lC := nI (h - c)) (uR := nI ur) (xv := xv) (xap := xap) (ph := ph) (tk := tk) (onn := onn) (oo := oo) (ol := ol) (an := an) (du := du) (rn := rn) (rt := rt) (rv := rv) (rc := rc) (xn := xn) (xcl := xcl) (xpc := xpc) (xre := xre) (xfs := xfs) (d := d) (by omega) n1 n2 pn (dq_pe P D)
    have P' := dq_m6 P D g1 g2 g3 g4 g5 g6 g7
    refine dx_dn0 q1 (br_t rfl (HR _ (dx_cr htc ?_)))
    rw [zp, zr]
    exact br_t q2 (dy_size1 hb.1 hb.2.2 (dq_aw P) D (dy_cr (by omega) htc e5 e6 (dq_aw P) ⟨rfl, zz_in (k + 3) P' dq_t0 (fun z => absurd z (Nat.lt_irrefl d)) (dq_e0 E hb.2.2)⟩))
  · obtain ⟨rfl, rfl⟩ := dq_dn hb.2 T q5
    refine dx_dn1 q1 q2 (br_f (by decide) (dx_cr htc ?_))
    rw [zp, zr]
    exact br_f (by rw [q3]; decide) (dy_cr hb.1 htc e5 e6 (dq_aw P) ⟨rfl, zz_in (k + 3) (dq_m6d P) dq_t0 (fun z => absurd z (Nat.lt_irrefl _)) (dq_e0 E hb.2.2)⟩)
end
section
section
variable {yK yD yH : Int32} {ph tk yo an du rc rn rt rv yv yap ycl yaw ycw : Nat → Int32} {tc : Nat}
theorem dy_40 {post : Int32 → SY → Prop} (htc : tc ≤ 6) (K0 : dq_cz rc tc = 0 → post 0 (nI tc, yK, 0, yH, ph, tk, yo, an, du, rc, rn, rt, rv, yv, yap, ycl, yaw, ycw)) (K1 : dq_cz rc tc ≠ 0 → post (nI (dq_cz rc tc)) (nI tc, yK, yD, yH, ph, tk, yo, an, du, rc, rn, rt, rv, yv, yap, ycl, yaw, ycw)) :
    ∀ m j n : Nat, j + m = tc → m < n → wY_recover_40 post (nI tc) yK yD yH ph tk yo an du rc rn rt rv yv yap ycl yaw ycw n (nI (dq_cz rc j)) (nI j) := by
  intro m
  induction m with
  | zero =>
    intro j n hj hn
    obtain ⟨n, rfl⟩ : ∃ k, n = k + 1 := ⟨n - 1, by omega⟩
    have e : j = tc := by omega
    subst e
    have l := dq_cz_le rc j
    refine br_t (nI_le (Nat.le_refl _) (by omega)) ?_
    by_cases z : dq_cz rc j = 0
    · have w := K0 z
      rw [z]
      exact br_t rfl w
    · exact br_f (nI_ne0 (by omega) (by omega)) (K1 z)
  | succ m ih =>
    intro j n hj hn
    obtain ⟨n, rfl⟩ : ∃ k, n = k + 1 := ⟨n - 1, by omega⟩
    have hi : vp_in (nI j) 6 := vp_in_nI (by omega) (by decide)
    have cj : (nI j).toNatClampNeg = j := nI_clamp (by omega)
    have L := ih (j + 1) n (by omega) (by omega)
    refine br_f (nI_ge (by omega) (by omega)) ⟨hi, ?_⟩
    by_cases z : rc j = 0
    · rw [dq_cz_t z] at L
      exact br_t (by rw [cj]; exact z) (nm_r (nI_1 _) (nm_r (nI_1 j) L))
    · rw [dq_cz_f z] at L
      exact br_f (by rw [cj]; exact z) (nm_r (nI_1 j) L)
end
section
variable {xN yD : Int32} {xv xap xn xcl xpn xpc xre xfs ph tk onn oo ol an du rn rt rv rc yo yv yap ycl yaw ycw : Nat → Int32} {tc cap h c d ur t : Nat} {nd : Nat → Nat}
theorem dq_erc {y : Int32} (E : dq_E tc cap h c ur yD ph tk onn oo an du rn rc yo) (ht : t < tc) (h0 : rc t = 0) (hu : ur = dq_cz rc tc) (hp : ∀ t, ph t = 0) (hy : (ur = 1 ∧ y = 0) ∨ (1 < ur ∧ y = 1)) : dq_E tc cap h c (ur - 1) y ph tk onn oo an du rn (upd rc t 1) yo := by
  obtain ⟨b, e1, e2, e3, e4, e5, e6, e7, e8, e9⟩ := E
  have z := dq_cz_set (x := 1) (by decide) h0 tc ht
  refine ⟨b, e1, e2, e3, e4, e5, ?_, e7, e8, ?_⟩
  · intro s hs
    rw [pk_un (by omega)]; exact e6 s hs
  · rcases hy with ⟨h1, h2⟩ | ⟨h1, h2⟩
    · exact Or.inl ⟨by omega, h2⟩
    · exact Or.inr ⟨by omega, h2, by omega, hp⟩
end
theorem i_vc_recover {k : Nat} {u : SX} {v : SY} (I : i_Rel k u v) (hk : k + 3 ≤ 1538) (v1 : Int32) : wpX_recover (fun r u' => wpY_recover (fun r' v' => r' = r ∧ i_Rel (k + 3) u' v') v v1) u v1 := by
  refine zz_el (Z := fun u v => wpX_recover (fun r u' => wpY_recover (fun r' v' => r' = r ∧ i_Rel (k + 3) u' v') v v1) u v1) ?_ I
  intro tc cap h c d ur nd xN yD xv xap xn xcl xpn xpc xre xfs ph tk onn oo ol an du rn rt rv rc yo yv yap ycl yaw ycw P T D E
  have R : i_Rel (k + 3) (xN, nI tc, nI cap, nI (12 - h), nI (nd 0), nI (nd d), nI (nd c), nI (nd h), nI h, nI (h - c), nI d, nI ur, xv, xap, xn, xcl, xpn, xpc, xre, xfs, ph, tk, onn, oo, ol, an, du, rn, rt, rv, rc) (nI tc, nI cap, yD, nI h, ph, tk, yo, an, du, rc, rn, rt, rv, yv, yap, ycl, yaw, ycw) := zz_in (k + 3) P T D E
  have htc := dq_tc E
  unfold wpX_recover wpY_recover
  rcases dq_arg v1 htc with hx | ⟨t, ht, rfl⟩
  · exact dx_bad1 hx (br_f (by decide) (dy_bad1 hx (br_f (by decide) ⟨rfl, R⟩)))
  have hi : vp_in (nI t) 6 := vp_in_nI (by omega) (by decide)
  have ct : (nI t).toNatClampNeg = t := nI_clamp (by omega)
  rcases dq_ud E with ⟨q1, q2⟩ | ⟨q1, q2, q3, q4, q5⟩
  · exact dx_bad0 ht htc (br_t rfl (dx_dn0 q1 (br_t rfl (dy_bad0 ht htc (br_t rfl (br_t q2 ⟨rfl, R⟩))))))
  · have yd : ¬ yD = 0 := by rw [q3]; decide
    by_cases z : rc t = 0
    · have w := dq_cz_set (x := 1) (by decide) z tc ht
      have eu : nI ur - 1 = nI (ur - 1) := by rw [show ur = ur - 1 + 1 by omega]; exact nI_pred _
      refine dx_bad0 ht htc (br_t rfl (dx_dn1 q1 q2 (br_f (by decide) ⟨hi, br_t (by rw [ct]; exact z) ⟨hi, nm_r (e' := upd rc t 1) (by rw [ct]; rfl) (nm_r (e' := nI (ur - 1)) eu ?_)⟩⟩)))
      refine dy_bad0 ht htc (br_t rfl (br_f yd ⟨hi, br_t (by rw [ct]; exact z) ⟨hi, nm_r (e' := upd rc t 1) (by rw [ct]; rfl) ⟨tc + 1, ?_⟩⟩⟩))
      refine dy_40 htc ?_ ?_ tc 0 (tc + 1) (by omega) (by omega)
      · intro y
        have E' := dq_erc (y := 0) E ht z q4 q5 (Or.inl ⟨by omega, rfl⟩)
        refine ⟨?_, zz_in (k + 3) P T D E'⟩
        rw [show ur - 1 = 0 by omega]
        rfl
      · intro y
        have E' := dq_erc (y := 1) E ht z q4 q5 (Or.inr ⟨by omega, rfl⟩)
        subst q3
        refine ⟨?_, zz_in (k + 3) P T D E'⟩
        rw [show ur - 1 = dq_cz (upd rc t 1) tc by omega]
    · exact dx_bad0 ht htc (br_t rfl (dx_dn1 q1 q2 (br_f (by decide) ⟨hi, br_f (by rw [ct]; exact z) (dy_bad0 ht htc (br_t rfl (br_f yd ⟨hi, br_f (by rw [ct]; exact z) ⟨rfl, R⟩⟩)))⟩)))
end
section
def dq_cm (x M : Int32) (n : Nat) : Prop := (¬ 1 ≤ x ∧ n = 1) ∨ (1 ≤ x ∧ x ≤ M ∧ x = nI n) ∨ (1 ≤ x ∧ ¬ x ≤ M ∧ nI n = M)
theorem dq_clamp (x : Int32) (m : Nat) (hm : 1 ≤ m) (hm2 : m ≤ 12) : ∃ n, 1 ≤ n ∧ n ≤ m ∧ dq_cm x (nI m) n := by
  by_cases a : 1 ≤ x
  · have b : ¬ x < 0 := by
      intro z
      rw [Int32.lt_iff_toInt_lt, show (0 : Int32).toInt = 0 from by decide] at z
      rw [Int32.le_iff_toInt_le, show (1 : Int32).toInt = 1 from by decide] at a
      omega
    obtain ⟨j, hj, rfl⟩ := nI_of b
    have j1 : 1 ≤ j := by
      rw [show (1 : Int32) = nI 1 from rfl, nI_leI (by omega) hj] at a
      exact a
    by_cases l : nI j ≤ nI m
    · have jm := (nI_leI hj (by omega)).mp l
      exact ⟨j, j1, jm, Or.inr (Or.inl ⟨a, l, rfl⟩)⟩
    · exact ⟨m, hm, Nat.le_refl m, Or.inr (Or.inr ⟨a, l, rfl⟩)⟩
  · exact ⟨1, Nat.le_refl 1, hm, Or.inl ⟨a, rfl⟩⟩
section
variable {xN xT xK fT bS dT cE tL hC lC dC uR : Int32} {xv xap xn xcl xpn xpc xre xfs ph tk onn oo ol an du rn rt rv rc : Nat → Int32}
theorem dx_clamp {post : Int32 → Prop} {x M : Int32} {n : Nat} (hn : dq_cm x M n) (K : post (nI n)) : wpX_clamp post (xN, xT, xK, fT, bS, dT, cE, tL, hC, lC, dC, uR, xv, xap, xn, xcl, xpn, xpc, xre, xfs, ph, tk, onn, oo, ol, an, du, rn, rt, rv, rc) x M := by
  rcases hn with ⟨a, rfl⟩ | ⟨a, b, rfl⟩ | ⟨a, b, rfl⟩
  · exact br_f a K
  · exact br_t a (br_t b K)
  · exact br_t a (br_f b K)
theorem dx_218 {post : SX → Prop} (K : wpX_restorePersistentImage (fun u => match u with | (xN, xT, xK, fT, bS, dT, cE, tL, hC, lC, dC, uR, xv, xap, xn, xcl, xpn, xpc, xre, xfs, ph, tk, onn, oo, ol, an, du, rn, rt, rv, rc) => (post (xN, xT, xK, fT, bS, dT, cE, tL, hC, lC, dC, uR, xv, xap, xn, xcl, xpn, xpc, xre, xfs, ph, tk, onn, oo, ol, an, du, rn, rt, rv, rc))) (xN, xT, xK, fT, bS, dT, cE, tL, hC, lC, dC, uR, xv, xap, xn, xcl, dq_f (-1) 13 xpn, xpc, xre, xfs, ph, tk, onn, oo, ol, an, du, rn, rt, rv, rc)) :
    ∀ m j n : Nat, j + m = 13 → m < n → wX_init_218 post xN xT xK fT bS dT cE tL hC lC dC uR n (nI j) xv xap xn xcl (dq_f (-1) j xpn) xpc xre xfs ph tk onn oo ol an du rn rt rv rc := by
  intro m
  induction m with
  | zero =>
    intro j n hj hn
    obtain ⟨n, rfl⟩ : ∃ k, n = k + 1 := ⟨n - 1, by omega⟩
    have e : j = 13 := by omega
    subst e
    exact br_t (nI_le (a := 13) (b := 13) (Nat.le_refl _) (by decide)) K
  | succ m ih =>
    intro j n hj hn
    obtain ⟨n, rfl⟩ : ∃ k, n = k + 1 := ⟨n - 1, by omega⟩
    have hi : vp_in (nI j) 13 := vp_in_nI (by omega) (by decide)
    exact br_f (nI_ge (b := 13) (by omega) (by decide)) ⟨hi, nm_r (by rw [nI_clamp (by omega)]; exact dq_f_s) (nm_r (nI_1 j) (ih (j + 1) n (by omega) (by omega)))⟩
theorem dx_185 {post : SX → Prop} (K : ∃ n, wX_init_218 post xN xT xK fT bS dT cE tL hC lC dC uR n 0 xv xap xn xcl xpn xpc xre xfs ph tk onn oo ol an du rn (dq_f (-6) 6 rt) (dq_f (-6) 6 rv) rc) :
    ∀ m j n : Nat, j + m = 6 → m < n → wX_init_185 post xN xT xK fT bS dT cE tL hC lC dC uR n (nI j) xv xap xn xcl xpn xpc xre xfs ph tk onn oo ol an du rn (dq_f (-6) j rt) (dq_f (-6) j rv) rc := by
  intro m
  induction m with
  | zero =>
    intro j n hj hn
    obtain ⟨n, rfl⟩ : ∃ k, n = k + 1 := ⟨n - 1, by omega⟩
    have e : j = 6 := by omega
    subst e
    exact br_t (nI_le (a := 6) (b := 6) (Nat.le_refl _) (by decide)) K
  | succ m ih =>
    intro j n hj hn
    obtain ⟨n, rfl⟩ : ∃ k, n = k + 1 := ⟨n - 1, by omega⟩
    have hi : vp_in (nI j) 6 := vp_in_nI (by omega) (by decide)
    have cj : (nI j).toNatClampNeg = j := nI_clamp (by omega)
    exact br_f (nI_ge (b := 6) (by omega) (by decide)) ⟨hi, nm_r (by rw [cj]; exact dq_f_s) ⟨hi, nm_r (by rw [cj]; exact dq_f_s) (nm_r (nI_1 j) (ih (j + 1) n (by omega) (by omega)))⟩⟩
theorem dx_i {post : SX → Prop} (K : wpX_restorePersistentImage (fun u => match u with | (xN, xT, xK, fT, bS, dT, cE, tL, hC, lC, dC, uR, xv, xap, xn, xcl, xpn, xpc, xre, xfs, ph, tk, onn, oo, ol, an, du, rn, rt, rv, rc) => (post (xN, xT, xK, fT, bS, dT, cE, tL, hC, lC, dC, uR, xv, xap, xn, xcl, xpn, xpc, xre, xfs, ph, tk, onn, oo, ol, an, du, rn, rt, rv, rc))) (xN, xT, xK, fT, bS, dT, cE, tL, hC, lC, dC, uR, xv, xap, xn, xcl, dq_f (-1) 13 xpn, xpc, xre, xfs, ph, tk, onn, oo, ol, an, du, rn, dq_f (-6) 6 rt, dq_f (-6) 6 rv, rc)) : ∃ n, wX_init_185 post xN xT xK fT bS dT cE tL hC lC dC uR n 0 xv xap xn xcl xpn xpc xre xfs ph tk onn oo ol an du rn rt rv rc := by
  have L := dx_218 K 13 0 14 (by omega) (by omega)
  rw [dq_f_0] at L
  have M := dx_185 ⟨14, L⟩ 6 0 7 (by omega) (by omega)
  rw [dq_f_0, dq_f_0] at M
  exact ⟨7, M⟩
end
section
variable {yT yK yD yH : Int32} {ph tk yo an du rc rn rt rv yv yap ycl yaw ycw : Nat → Int32}
theorem dy_168 {post : SY → Prop} (K : post (yT, yK, yD, yH, ph, tk, yo, an, du, rc, rn, dq_f (-6) 6 rt, dq_f (-6) 6 rv, yv, yap, ycl, yaw, ycw)) :
    ∀ m j n : Nat, j + m = 6 → m < n → wY_init_168 post yT yK yD yH n (nI j) ph tk yo an du rc rn (dq_f (-6) j rt) (dq_f (-6) j rv) yv yap ycl yaw ycw := by
  intro m
  induction m with
  | zero =>
    intro j n hj hn
    obtain ⟨n, rfl⟩ : ∃ k, n = k + 1 := ⟨n - 1, by omega⟩
    have e : j = 6 := by omega
    subst e
    exact br_t (nI_le (a := 6) (b := 6) (Nat.le_refl _) (by decide)) K
  | succ m ih =>
    intro j n hj hn
    obtain ⟨n, rfl⟩ : ∃ k, n = k + 1 := ⟨n - 1, by omega⟩
    have hi : vp_in (nI j) 6 := vp_in_nI (by omega) (by decide)
    have cj : (nI j).toNatClampNeg = j := nI_clamp (by omega)
    exact br_f (nI_ge (b := 6) (by omega) (by decide)) ⟨hi, nm_r (by rw [cj]; exact dq_f_s) ⟨hi, nm_r (by rw [cj]; exact dq_f_s) (nm_r (nI_1 j) (ih (j + 1) n (by omega) (by omega)))⟩⟩
theorem dy_i {post : SY → Prop} (K : post (yT, yK, yD, yH, ph, tk, yo, an, du, rc, rn, dq_f (-6) 6 rt, dq_f (-6) 6 rv, yv, yap, ycl, yaw, ycw)) : ∃ n, wY_init_168 post yT yK yD yH n 0 ph tk yo an du rc rn rt rv yv yap ycl yaw ycw := by
  have M := dy_168 K 6 0 7 (by omega) (by omega)
  rw [dq_f_0, dq_f_0] at M
  exact ⟨7, M⟩
theorem dy_138 {post : SY → Prop} {x z : Int32} {n : Nat} (hn : dq_cm x 12 n) (K : post (z, nI n, yD, yH, ph, tk, yo, an, du, rc, rn, dq_f (-6) 6 rt, dq_f (-6) 6 rv, yv, yap, ycl, yaw, ycw)) : wY_init_138 post x z yT yK yD yH ph tk yo an du rc rn rt rv yv yap ycl yaw ycw := by
  rcases hn with ⟨a, rfl⟩ | ⟨a, b, rfl⟩ | ⟨a, b, e⟩
  · exact br_f a (dy_i K)
  · exact br_t a (br_t b (dy_i K))
  · rw [e] at K
    exact br_t a (br_f b (dy_i K))
end
theorem dy_init {post : SY → Prop} {x y : Int32} {n m : Nat} (hn : dq_cm x 6 n) (hm : dq_cm y 12 m) (K : post (nI n, nI m, 0, 0, (fun _ => 0), (fun _ => 0), (fun _ => 0), (fun _ => 0), (fun _ => 0), (fun _ => 0), (fun _ => 0), dq_f (-6) 6 (fun _ => 0), dq_f (-6) 6 (fun _ => 0), (fun _ => 0), (fun _ => 0), (fun _ => 0), (fun _ => 0), (fun _ => 0))) : wpY_init post x y := by
  rcases hn with ⟨a, rfl⟩ | ⟨a, b, rfl⟩ | ⟨a, b, e⟩
  · exact br_f a (dy_138 hm K)
  · exact br_t a (br_t b (dy_138 hm K))
  · rw [e] at K
    exact br_t a (br_f b (dy_138 hm K))
theorem i_vc0 (k0 : Int32) (k1 : Int32) : wpX_init (fun u => wpY_init (fun v => i_Rel 2 u v) k0 k1) k0 k1 := by
  obtain ⟨tc, t1, t2, ht⟩ := dq_clamp k0 6 (by decide) (by decide)
  obtain ⟨cap, c1, c2, hc⟩ := dq_clamp k1 12 (by decide) (by decide)
  obtain ⟨nd', xn', xcl', xpc', xre', xfs', g1, g2, g3, g4, g5, g6, g7, HR⟩ := dx_res (xN := -1) (xT := nI tc) (xK := nI cap) (fT := 0) (cE := 0) (tL := 0) (hC := 0) (lC := 0) (uR := 0) (xv := fun _ => 0) (xap := fun _ => 0) (xpn := dq_f (-1) 13 (fun _ => 0)) (ph := fun _ => 0) (tk := fun _ => 0) (onn := fun _ => 0) (oo := fun _ => 0) (ol := fun _ => 0) (an := fun _ => 0) (du := fun _ => 0) (rn := fun _ => 0) (rt := dq_f (-6) 6 (fun _ => 0)) (rv := dq_f (-6) 6 (fun _ => 0)) (rc := fun _ => 0) (xn := fun _ => 0) (xcl := fun _ => 0) (xpc := fun _ => 0) (xre := fun _ => 0) (xfs := fun _ => 0) (d := 0) (nd := fun i => i) (by omega) (fun i hi => hi) (fun i j _ _ e => e) (fun i hi => absurd hi (by omega)) (dq_f_lt (by omega))
  have z0 : nd' 0 = 0 := g1 0 (Nat.le_refl 0)
  have P : dq_P 0 0 0 nd' (fun _ => 0) (fun _ => 0) xn' xcl' (dq_f (-1) 13 (fun _ => 0)) xpc' xfs' (fun _ => 0) (fun _ => 0) (fun _ => 0) (fun _ => 0) (fun _ => 0) := by
    refine ⟨by omega, g2, g3, fun i hi => absurd hi (by omega), ?_, fun i hi => absurd hi (by omega), fun i hi => absurd hi (by omega), fun i hi => absurd hi (by omega), ?_, fun i hi => absurd hi (by omega), g7, fun i hi => absurd hi (by omega), fun i hi => absurd hi (by omega), fun i hi => absurd hi (by omega), fun i hi => absurd hi (by omega), fun i _ hi => absurd hi (by omega), fun i _ hi => absurd hi (by omega), fun i _ hi => absurd hi (by omega), fun i hi => absurd hi (by omega)⟩
    · rw [z0, g4 0 (Nat.le_refl 0)]; exact dq_f_lt (by omega)
    · rw [z0]; exact dq_f_lt (by omega)
  have E : dq_E tc cap 0 0 0 0 (fun _ => 0) (fun _ => 0) (fun _ => 0) (fun _ => 0) (fun _ => 0) (fun _ => 0) (fun _ => 0) (fun _ => 0) (fun _ => 0) := by
    refine ⟨by omega, ?_, ?_, ?_, ?_, fun _ _ => rfl, fun _ _ => rfl, ?_, ?_, Or.inl ⟨rfl, rfl⟩⟩
    · intro t _ z; exact absurd (show (0 : Int32) = 3 from z) (by decide)
    · intro t _ z; exact absurd (show (0 : Int32) = 3 from z) (by decide)
    · intro t _ _; rfl
    · intro t _ z; exact absurd (show (0 : Int32) = 1 from z) (by decide)
    · intro t _ z; exact absurd rfl z
    · intro t _ z; exact absurd rfl z
  unfold wpX_init
  refine dx_clamp ht (dx_clamp hc (dx_i (HR _ (dy_init ht hc ?_))))
  exact zz_in 2 P dq_t0 (fun z => absurd z (Nat.lt_irrefl 0)) E
end
