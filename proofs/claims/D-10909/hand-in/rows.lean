section
/-- at how many of the first n places P holds -/
def dk_ct (P : Nat → Bool) : Nat → Nat
  | 0 => 0
  | n + 1 => dk_ct P n + (if P n = true then 1 else 0)
theorem dk_ct_congr {P Q : Nat → Bool} : ∀ n, (∀ j, j < n → P j = Q j) → dk_ct P n = dk_ct Q n := by
  intro n
  induction n with
  | zero => intro _; rfl
  | succ n ih =>
    intro h
    show dk_ct P n + (if P n = true then 1 else 0) = dk_ct Q n + (if Q n = true then 1 else 0)
    rw [ih (fun j hj => h j (by omega)), h n (by omega)]
theorem dk_ct_drop {P Q : Nat → Bool} {t : Nat} (hP : P t = true) (hQ : Q t = false) (h : ∀ j, j ≠ t → Q j = P j) : ∀ n, t < n → dk_ct P n = dk_ct Q n + 1 := by
  intro n
  induction n with
  | zero => intro h; omega
  | succ n ih =>
    intro ht
    show dk_ct P n + (if P n = true then 1 else 0) = dk_ct Q n + (if Q n = true then 1 else 0) + 1
    by_cases e : t = n
    · subst e
      rw [hP, hQ, dk_ct_congr t (P := Q) (Q := P) (fun j hj => h j (by omega))]
      rfl
    · rw [ih (by omega), h n (by omega)]
      omega
theorem dk_ct_none {P : Nat → Bool} : ∀ n, (∀ j, j < n → P j = false) → dk_ct P n = 0 := by
  intro n
  induction n with
  | zero => intro _; rfl
  | succ n ih =>
    intro h
    show dk_ct P n + (if P n = true then 1 else 0) = 0
    rw [ih (fun j hj => h j (by omega)), h n (by omega)]
    rfl
theorem dk_ct_win (r d : Nat) : ∀ n, dk_ct (fun t => decide (r ≤ t ∧ t < d)) n = min n d - r := by
  intro n
  induction n with
  | zero => show 0 = min 0 d - r; omega
  | succ n ih =>
    show dk_ct (fun t => decide (r ≤ t ∧ t < d)) n + (if decide (r ≤ n ∧ n < d) = true then 1 else 0) = min (n + 1) d - r
    rw [ih]
    by_cases c : r ≤ n ∧ n < d
    · rw [if_pos (decide_eq_true c)]
      omega
    · rw [if_neg (fun z => c (of_decide_eq_true z))]
      omega
/-- unit t isn't shut -/
def dk_av (sh : Int32) (t : Nat) : Bool := decide (((sh >>> (nI t &&& 31)) &&& 1) = 0)
theorem dk_av_0 : ∀ t, t < 24 → dk_av 0 t = true := by decide +kernel
theorem dk_av_one : ∀ u, u < 24 → ∀ t, t < 24 → dk_av (0 ||| ((1 : Int32) <<< (nI u &&& 31))) t = decide (t ≠ u) := by decide +kernel
theorem dk_av_low : ∀ u, u < 25 → ∀ t, t < 24 → dk_av (0 ||| (((1 : Int32) <<< (nI u &&& 31)) - 1)) t = decide (u ≤ t) := by decide +kernel
/-- unit t lies in [r, d), isn't shut, nobody has it -/
def dk_F (sh : Int32) (r d : Nat) (o : Nat → Int32) (t : Nat) : Bool := decide (r ≤ t ∧ t < d) && (dk_av sh t && decide (o t = -1))
/-- how many units are free for task 0 -/
def dk_fr (sh : Int32) (r d : Nat) (o : Nat → Int32) : Nat := dk_ct (dk_F sh r d o) 24
/-- the same when nobody has any -/
def dk_N (sh : Int32) (r d : Nat) : Nat := dk_ct (fun t => decide (r ≤ t ∧ t < d) && dk_av sh t) 24
/-- only task 0 has units -/
def dk_ow (o : Nat → Int32) : Prop := ∀ t, t < 24 → o t = 0 ∨ o t = -1
theorem dk_ow_new {o : Nat → Int32} (h : ∀ t, t < 24 → o t = -1) : dk_ow o := fun t ht => Or.inr (h t ht)
theorem dk_ow_put {o : Nat → Int32} (t : Nat) (h : dk_ow o) : dk_ow (upd o t 0) := by
  intro j hj
  by_cases e : j = t
  · rw [e, pk_us]
    exact Or.inl rfl
  · rw [pk_un e]
    exact h j hj
theorem dk_fr_new {sh : Int32} {r d : Nat} {o : Nat → Int32} (h : ∀ t, t < 24 → o t = -1) : dk_fr sh r d o = dk_N sh r d :=
  dk_ct_congr 24 (fun j hj => by
    show (decide (r ≤ j ∧ j < d) && (dk_av sh j && decide (o j = -1))) = (decide (r ≤ j ∧ j < d) && dk_av sh j)
    rw [decide_eq_true (h j hj), Bool.and_true])
theorem dk_F_put {sh : Int32} {r d : Nat} {o : Nat → Int32} {t : Nat} : dk_F sh r d (upd o t 0) t = false := by
  show (decide (r ≤ t ∧ t < d) && (dk_av sh t && decide (upd o t 0 t = -1))) = false
  rw [pk_us, show decide ((0 : Int32) = -1) = false from by decide, Bool.and_false, Bool.and_false]
theorem dk_fr_put {sh : Int32} {r d : Nat} {o : Nat → Int32} {t : Nat} (ht : t < 24) (h : dk_F sh r d o t = true) : dk_fr sh r d o = dk_fr sh r d (upd o t 0) + 1 :=
  dk_ct_drop h dk_F_put (fun j hj => by
    show (decide (r ≤ j ∧ j < d) && (dk_av sh j && decide (upd o t 0 j = -1))) = (decide (r ≤ j ∧ j < d) && (dk_av sh j && decide (o j = -1)))
    rw [pk_un hj]) 24 ht
theorem dk_fr_none {sh : Int32} {r d : Nat} {o : Nat → Int32} (h : ∀ t, t < 24 → dk_F sh r d o t = false) : dk_fr sh r d o = 0 := dk_ct_none 24 h
theorem dk_F_t {sh : Int32} {r d : Nat} {o : Nat → Int32} {t : Nat} (h1 : r ≤ t) (h2 : t < d) (h3 : dk_av sh t = true) (h4 : o t = -1) : dk_F sh r d o t = true := by
  show (decide (r ≤ t ∧ t < d) && (dk_av sh t && decide (o t = -1))) = true
  rw [decide_eq_true ⟨h1, h2⟩, h3, decide_eq_true h4]
  rfl
theorem dk_F_w {sh : Int32} {r d : Nat} {o : Nat → Int32} {t : Nat} (h : ¬ (r ≤ t ∧ t < d ∧ dk_av sh t = true)) : dk_F sh r d o t = false := by
  show (decide (r ≤ t ∧ t < d) && (dk_av sh t && decide (o t = -1))) = false
  by_cases c : r ≤ t ∧ t < d
  · have e : dk_av sh t = false := by
      cases z : dk_av sh t with
      | true => exact absurd ⟨c.1, c.2, z⟩ h
      | false => rfl
    rw [e, Bool.false_and, Bool.and_false]
  · rw [decide_eq_false c, Bool.false_and]
theorem dk_F_o {sh : Int32} {r d : Nat} {o : Nat → Int32} {t : Nat} (h : o t = 0) : dk_F sh r d o t = false := by
  show (decide (r ≤ t ∧ t < d) && (dk_av sh t && decide (o t = -1))) = false
  rw [h, show decide ((0 : Int32) = -1) = false from by decide, Bool.and_false, Bool.and_false]
theorem dk_N_0 {r d : Nat} (hd : d ≤ 24) : dk_N 0 r d = d - r := by
  have e : dk_N 0 r d = dk_ct (fun t => decide (r ≤ t ∧ t < d)) 24 := dk_ct_congr 24 (fun j hj => by
    show (decide (r ≤ j ∧ j < d) && dk_av 0 j) = decide (r ≤ j ∧ j < d)
    rw [dk_av_0 j hj, Bool.and_true])
  rw [e, dk_ct_win]
  omega
theorem dk_N_out {u r d : Nat} (hu : u < 24) (hd : d ≤ 24) (h : ¬ (r ≤ u ∧ u < d)) : dk_N (0 ||| ((1 : Int32) <<< (nI u &&& 31))) r d = d - r := by
  have e : dk_N (0 ||| ((1 : Int32) <<< (nI u &&& 31))) r d = dk_ct (fun t => decide (r ≤ t ∧ t < d)) 24 := dk_ct_congr 24 (fun j hj => by
    show (decide (r ≤ j ∧ j < d) && dk_av _ j) = decide (r ≤ j ∧ j < d)
    rw [dk_av_one u hu j hj]
    by_cases c : r ≤ j ∧ j < d
    · rw [decide_eq_true (show j ≠ u from fun z => h (z ▸ c)), Bool.and_true]
    · rw [decide_eq_false c, Bool.false_and])
  rw [e, dk_ct_win]
  omega
theorem dk_N_in {u r d : Nat} (hd : d ≤ 24) (h1 : r ≤ u) (h2 : u < d) : dk_N (0 ||| ((1 : Int32) <<< (nI u &&& 31))) r d + 1 = d - r := by
  have hu : u < 24 := by omega
  have e : dk_ct (fun t => decide (r ≤ t ∧ t < d)) 24 = dk_N (0 ||| ((1 : Int32) <<< (nI u &&& 31))) r d + 1 := by
    have e1 : dk_N (0 ||| ((1 : Int32) <<< (nI u &&& 31))) r d = dk_ct (fun t => decide (r ≤ t ∧ t < d) && decide (t ≠ u)) 24 := dk_ct_congr 24 (fun j hj => by
      show (decide (r ≤ j ∧ j < d) && dk_av _ j) = (decide (r ≤ j ∧ j < d) && decide (j ≠ u))
      rw [dk_av_one u hu j hj])
    rw [e1]
    refine dk_ct_drop (t := u) (decide_eq_true ⟨h1, h2⟩) ?_ (fun j hj => ?_) 24 hu
    · show (decide (r ≤ u ∧ u < d) && decide (u ≠ u)) = false
      rw [decide_eq_false (show ¬ (u ≠ u) from fun z => z rfl), Bool.and_false]
    · show (decide (r ≤ j ∧ j < d) && decide (j ≠ u)) = decide (r ≤ j ∧ j < d)
      rw [decide_eq_true hj, Bool.and_true]
  rw [← e, dk_ct_win]
  omega
theorem dk_N_low {u r d : Nat} (hu : u < 25) (hd : d ≤ 24) : dk_N (0 ||| (((1 : Int32) <<< (nI u &&& 31)) - 1)) r d = d - max r u := by
  have e : dk_N (0 ||| (((1 : Int32) <<< (nI u &&& 31)) - 1)) r d = dk_ct (fun t => decide (max r u ≤ t ∧ t < d)) 24 := dk_ct_congr 24 (fun j hj => by
    show (decide (r ≤ j ∧ j < d) && dk_av _ j) = decide (max r u ≤ j ∧ j < d)
    rw [dk_av_low u hu j hj, ← Bool.decide_and]
    exact decide_eq_decide.mpr ⟨fun z => ⟨by omega, z.1.2⟩, fun z => ⟨⟨by omega, z.2⟩, by omega⟩⟩)
  rw [e, dk_ct_win]
  omega
theorem dk_b : ∀ n, n < 128 → (nI n).toInt8.toInt32 = nI n := by decide +kernel
theorem dk_fill {s : Nat → Int32} {i k : Nat} {x : Int32} (hk : k = i) (h : ∀ j, j < i → s j = x) : ∀ j, j < i + 1 → upd s k x j = x := by
  intro j hj
  rw [hk]
  by_cases e : j = i
  · rw [e, pk_us]
  · rw [pk_un e]
    exact h j (by omega)
/-- bits of 'present' -/
def dk_no (pr : Int32) (i : Nat) : Prop := ∀ j, i ≤ j → j < 6 → ((pr >>> (nI j &&& 31)) &&& 1) = 0
theorem dk_no_0a : ∀ j, j < 6 → (((0 : Int32) >>> (nI j &&& 31)) &&& 1) = 0 := by decide +kernel
theorem dk_no_1a : ∀ j, j < 5 → (((1 : Int32) >>> (nI (j + 1) &&& 31)) &&& 1) = 0 := by decide +kernel
theorem dk_no_0 (i : Nat) : dk_no 0 i := fun j _ hj => dk_no_0a j hj
theorem dk_no_1 : dk_no 1 1 := fun j h hj => by
  obtain ⟨k, rfl⟩ : ∃ k, j = k + 1 := ⟨j - 1, by omega⟩
  exact dk_no_1a k (by omega)
end
section
section
variable {pr bl sh re le kn ll : Int32} {a1 a2 a3 a4 a5 a6 a7 a8 a9 a10 a11 a12 : Nat → Int32}
theorem dk_win {post : Int32 → Prop} {x : Int32} {t r d : Nat} (h1 : a1 0 = nI r) (h2 : a2 0 = nI d) (hr : r ≤ 24) (hd : d ≤ 24) (ht : t < 24) (hx : x = 0)
    (Ht : r ≤ t → t < d → dk_av sh t = true → post 1) (Hf : ¬ (r ≤ t ∧ t < d ∧ dk_av sh t = true) → post 0) : wpX_inWindow post (pr, bl, sh, re, le, kn, ll, a1, a2, a3, a4, a5, a6, a7, a8, a9, a10, a11, a12) x (nI t) := by
  subst hx
  exact ⟨pk_in 0 6 (by omega), pk_lt t r (fun z => Hf (fun q => absurd q.1 (by omega))) (fun z1 => ⟨pk_in 0 6 (by omega),
    pk_le d t (fun z => Hf (fun q => absurd q.2.1 (by omega))) (fun z2 => br_c (fun b => Ht z1 z2 (decide_eq_true b)) (fun b => Hf (fun q => b (of_decide_eq_true q.2.2)))) h2⟩) rfl h1⟩
end
section
variable {pr bl sh re le kn ll : Int32} {a1 a2 a3 a4 a5 a6 a7 a8 a9 a10 a11 a12 : Nat → Int32}
theorem dk_begin {post : St2 → Prop} {p : Int32} (H : ∀ o : Nat → Int32, (∀ t, t < 24 → o t = -1) → post (pr, bl, p, re, le, kn, ll, a1, a2, a3, a4, a5, o, a7, a8, a9, a10, a11, a12)) : wpX_begin post (pr, bl, sh, re, le, kn, ll, a1, a2, a3, a4, a5, a6, a7, a8, a9, a10, a11, a12) p :=
  pk_loop (fun n i s => wX_begin_7 post pr bl p re le kn ll n (nI i) a1 a2 a3 a4 a5 s a7 a8 a9 a10 a11 a12) (fun i s => ∀ j, j < i → s j = -1) 24 0 a6 (by omega) (fun j hj => absurd hj (by omega))
    (fun n s h => pk_le 24 24 (fun _ => H s h) (fun z => absurd z (by omega)))
    (fun n i s hi h hw => pk_le 24 i (fun z => absurd z (by omega)) (fun _ => ⟨pk_in i 24 hi, nm_e (nm_r (nI_1 i) (hw _ (dk_fill (nI_clamp (by omega)) h)))⟩))
theorem dk_look_l {post : Int32 → St2 → Prop} {r d : Nat} (h1 : a1 0 = nI r) (h2 : a2 0 = nI d) (hr : r ≤ d) (hd : d ≤ 24) (ho : dk_ow a6)
    (hre : ¬ ((re >>> ((0 : Int32) &&& 31)) &&& 1) = 0)
    (Hs : ∀ t, t < 24 → dk_F sh r d a6 t = true → post (nI t) (pr, bl, sh, re, le, kn, ll, a1, a2, a3, a4, a5, a6, a7, a8, a9, a10, a11, a12)) (Hn : (∀ t, t < 24 → dk_F sh r d a6 t = false) → post (-1) (pr, bl, sh, re, le, kn, ll, a1, a2, a3, a4, a5, a6, a7, a8, a9, a10, a11, a12)) :
    ∀ q i, i + q = d → r ≤ i → (∀ t, t < i → dk_F sh r d a6 t = false) → wX_look_7 post 0 pr bl sh kn ll (q + 1) (nI i) re le a1 a2 a3 a4 a5 a6 a7 a8 a9 a10 a11 a12 := by
  intro q
  induction q with
  | zero =>
    intro i hi hri hf
    refine ⟨pk_in 0 6 (by omega), pk_le d i (fun _ => Hn (fun t _ => ?_)) (fun z => absurd z (by omega)) h2⟩
    by_cases c : t < i
    · exact hf t c
    · exact dk_F_w (fun z => absurd z.2.1 (by omega))
  | succ q ih =>
    intro i hi hri hf
    have nx : dk_F sh r d a6 i = false → wX_look_7 post 0 pr bl sh kn ll (q + 1) (nI (i + 1)) re le a1 a2 a3 a4 a5 a6 a7 a8 a9 a10 a11 a12 := fun e =>
      ih (i + 1) (by omega) (by omega) (fun t ht => by
        by_cases c : t = i
        · rw [c]; exact e
        · exact hf t (by omega))
    refine ⟨pk_in 0 6 (by omega), pk_le d i (fun z => absurd z (by omega)) (fun _ => dk_win h1 h2 (by omega) hd (by omega) rfl (fun z1 z2 z3 => ?_) (fun z => ?_)) h2⟩
    · refine br_f (by decide) ⟨pk_in i 24 (by omega), ?_⟩
      have ec : a6 (nI i).toNatClampNeg = a6 i := by rw [nI_clamp (by omega)]
      rcases ho i (by omega) with e | e
      · exact nm_r (ec.trans e) (br_f (by decide) (br_f hre (nm_r (nI_1 i) (nx (dk_F_o e)))))
      · exact nm_r (ec.trans e) (br_t rfl (Hs i (by omega) (dk_F_t z1 z2 z3 e)))
    · exact br_t rfl (nm_r (nI_1 i) (nx (dk_F_w z)))
theorem dk_look {post : Int32 → St2 → Prop} {x : Int32} {r d : Nat} (hx : x = 0) (h1 : a1 0 = nI r) (h2 : a2 0 = nI d) (hr : r ≤ d) (hd : d ≤ 24) (ho : dk_ow a6)
    (hre : ¬ ((re >>> ((0 : Int32) &&& 31)) &&& 1) = 0)
    (Hs : ∀ t, t < 24 → dk_F sh r d a6 t = true → post (nI t) (pr, bl, sh, re, le, kn, ll, a1, a2, a3, a4, a5, a6, a7, a8, a9, a10, a11, a12)) (Hn : (∀ t, t < 24 → dk_F sh r d a6 t = false) → post (-1) (pr, bl, sh, re, le, kn, ll, a1, a2, a3, a4, a5, a6, a7, a8, a9, a10, a11, a12)) : wpX_look post (pr, bl, sh, re, le, kn, ll, a1, a2, a3, a4, a5, a6, a7, a8, a9, a10, a11, a12) x := by
  subst hx
  exact ⟨pk_in 0 6 (by omega), nm_r h1 ⟨(d - r) + 1, dk_look_l h1 h2 hr hd ho hre Hs Hn (d - r) r (by omega) (Nat.le_refl r) (fun t ht => dk_F_w (fun z => absurd z.1 (by omega)))⟩⟩
theorem dk_shift {post : St2 → Prop} {x : Int32} {t : Nat} (hx : x = 0) (ht : t < 24) (h8 : a8 0 = -1) (h9 : a9 0 = -1) (H : post (pr, bl, sh, re, le, kn, ll, a1, a2, a3, a4, a5, upd a6 t 0, a7, a8, a9, a10, a11, a12)) : wpX_shift post (pr, bl, sh, re, le, kn, ll, a1, a2, a3, a4, a5, a6, a7, a8, a9, a10, a11, a12) x (nI t) := by
  subst hx
  refine ⟨0 + 1 + 1, br_f (by decide) (br_f (by decide) ⟨pk_in t 24 ht, nm_r (e' := upd a6 t 0) ?_ ⟨pk_in 0 6 (by omega), nm_r h8 ⟨pk_in 0 6 (by omega), nm_r h9 (nm_r (e' := 1) (by decide) ?_)⟩⟩⟩)⟩
  · rw [nI_clamp (by omega)]
    exact congrArg (upd a6 t) (by decide)
  · exact br_f (by decide) (br_t (by decide) H)
theorem dk_give {post : Int32 → St2 → Prop} {x : Int32} {r d : Nat} (hx : x = 0) (h1 : a1 0 = nI r) (h2 : a2 0 = nI d) (hr : r ≤ d) (hd : d ≤ 24) (ho : dk_ow a6)
    (H0 : dk_fr sh r d a6 = 0 → ∀ (re le : Int32) (a7 a8 a9 : Nat → Int32), post 0 (pr, bl, sh, re, le, kn, ll, a1, a2, a3, a4, a5, a6, a7, a8, a9, a10, a11, a12))
    (H1 : ∀ (re le : Int32) (o a7 a8 a9 : Nat → Int32), dk_ow o → dk_fr sh r d a6 = dk_fr sh r d o + 1 → post 1 (pr, bl, sh, re, le, kn, ll, a1, a2, a3, a4, a5, o, a7, a8, a9, a10, a11, a12)) : wpX_give post (pr, bl, sh, re, le, kn, ll, a1, a2, a3, a4, a5, a6, a7, a8, a9, a10, a11, a12) x := by
  subst hx
  refine nm_r (e' := 1) (by decide) (nm_r (e' := upd a7 0 0) (congrArg (upd a7 0) (by decide)) ⟨pk_in 0 6 (by omega), nm_r (e' := upd a8 0 (-1)) rfl ⟨pk_in 0 6 (by omega), nm_r (e' := upd a9 0 (-1)) rfl ⟨0 + 1 + 1, ?_⟩⟩⟩)
  refine br_f (by decide) (br_f (by decide) ⟨pk_in 0 8 (by omega), ?_⟩)
  refine dk_look rfl h1 h2 hr hd ho (by decide) (fun t ht hf => ?_) (fun hf => ?_)
  · exact br_f (nI_pos (by omega)) ⟨pk_in 0 8 (by omega), dk_shift rfl ht rfl rfl (H1 _ _ _ _ _ _ (dk_ow_put t ho) (dk_fr_put ht hf))⟩
  · exact br_t (by decide) (nm_r (e' := 1) (by decide) (br_t (by decide) (H0 (dk_fr_none hf) _ _ _ _ _)))
theorem dk_many_l {post : Int32 → St2 → Prop} {r d m : Nat} (h1 : a1 0 = nI r) (h2 : a2 0 = nI d) (hr : r ≤ d) (hd : d ≤ 24) (hm : m < 100) :
    ∀ (q i : Nat) (re le : Int32) (a6 a7 a8 a9 : Nat → Int32), i + q = m → dk_ow a6 →
    (q ≤ dk_fr sh r d a6 → ∀ (re le : Int32) (o a7 a8 a9 : Nat → Int32), dk_ow o → dk_fr sh r d a6 = dk_fr sh r d o + q → post 1 (pr, bl, sh, re, le, kn, ll, a1, a2, a3, a4, a5, o, a7, a8, a9, a10, a11, a12)) →
    (dk_fr sh r d a6 < q → ∀ (re le : Int32) (a6 a7 a8 a9 : Nat → Int32), post 0 (pr, bl, sh, re, le, kn, ll, a1, a2, a3, a4, a5, a6, a7, a8, a9, a10, a11, a12)) →
    wX_giveMany_2 post 0 (nI m) (q + 1) (nI i) pr bl sh re le kn ll a1 a2 a3 a4 a5 a6 a7 a8 a9 a10 a11 a12 := by
  intro q
  induction q with
  | zero =>
    intro i re le a6 a7 a8 a9 hi ho H1 H0
    exact pk_le m i (fun _ => H1 (by omega) re le a6 a7 a8 a9 ho rfl) (fun z => absurd z (by omega))
  | succ q ih =>
    intro i re le a6 a7 a8 a9 hi ho H1 H0
    refine pk_le m i (fun z => absurd z (by omega)) (fun _ => dk_give rfl h1 h2 hr hd ho (fun e re le a7 a8 a9 => ?_) (fun re le o a7 a8 a9 ho' e => ?_))
    · exact br_t rfl (H0 (by omega) re le a6 a7 a8 a9)
    · exact br_f (by decide) (nm_r (nI_1 i) (ih (i + 1) re le o a7 a8 a9 (by omega) ho' (fun z re le p a7 a8 a9 hp e' => H1 (by omega) re le p a7 a8 a9 hp (by omega)) (fun z => H0 (by omega))))
theorem dk_many {post : Int32 → St2 → Prop} {x y : Int32} {r d m : Nat} (hx : x = 0) (hy : y = nI m) (h1 : a1 0 = nI r) (h2 : a2 0 = nI d) (hr : r ≤ d) (hd : d ≤ 24) (hm : m < 100) (ho : dk_ow a6)
    (H1 : m ≤ dk_fr sh r d a6 → ∀ (re le : Int32) (o a7 a8 a9 : Nat → Int32), dk_ow o → dk_fr sh r d a6 = dk_fr sh r d o + m → post 1 (pr, bl, sh, re, le, kn, ll, a1, a2, a3, a4, a5, o, a7, a8, a9, a10, a11, a12))
    (H0 : dk_fr sh r d a6 < m → ∀ (re le : Int32) (a6 a7 a8 a9 : Nat → Int32), post 0 (pr, bl, sh, re, le, kn, ll, a1, a2, a3, a4, a5, a6, a7, a8, a9, a10, a11, a12)) : wpX_giveMany post (pr, bl, sh, re, le, kn, ll, a1, a2, a3, a4, a5, a6, a7, a8, a9, a10, a11, a12) x y := by
  subst hx hy
  exact ⟨m + 1, dk_many_l h1 h2 hr hd hm m 0 re le a6 a7 a8 a9 (by omega) ho H1 H0⟩
theorem dk_many0 {post : Int32 → St2 → Prop} {x y : Int32} (hy : y = 0) (H : post 1 (pr, bl, sh, re, le, kn, ll, a1, a2, a3, a4, a5, a6, a7, a8, a9, a10, a11, a12)) : wpX_giveMany post (pr, bl, sh, re, le, kn, ll, a1, a2, a3, a4, a5, a6, a7, a8, a9, a10, a11, a12) x y := by
  subst hy
  exact ⟨0 + 1, br_t (by decide) H⟩
end
section
variable {pr bl sh re le kn ll : Int32} {a1 a2 a3 a4 a5 a6 a7 a8 a9 a10 a11 a12 : Nat → Int32}
theorem dk_begin_2 {post : St2 → Prop} {p : Int32} (H : ∀ o : Nat → Int32, (∀ t, t < 24 → o t = -1) → post (pr, bl, p, re, le, kn, ll, a1, a2, a3, a4, a5, o, a7, a8, a9, a10, a11, a12)) : wpX_begin_2 post (pr, bl, sh, re, le, kn, ll, a1, a2, a3, a4, a5, a6, a7, a8, a9, a10, a11, a12) p :=
  pk_loop (fun n i s => wX_begin_2_7 post pr bl p re le kn ll n (nI i) a1 a2 a3 a4 a5 s a7 a8 a9 a10 a11 a12) (fun i s => ∀ j, j < i → s j = -1) 24 0 a6 (by omega) (fun j hj => absurd hj (by omega))
    (fun n s h => pk_le 24 24 (fun _ => H s h) (fun z => absurd z (by omega)))
    (fun n i s hi h hw => pk_le 24 i (fun z => absurd z (by omega)) (fun _ => ⟨pk_in i 24 hi, nm_e (nm_r (nI_1 i) (hw _ (dk_fill (nI_clamp (by omega)) h)))⟩))
theorem dk_look_2_l {post : Int32 → St2 → Prop} {r d : Nat} (h1 : a1 0 = nI r) (h2 : a2 0 = nI d) (hr : r ≤ d) (hd : d ≤ 24) (ho : dk_ow a6)
    (hre : ¬ ((re >>> ((0 : Int32) &&& 31)) &&& 1) = 0)
    (Hs : ∀ t, t < 24 → dk_F sh r d a6 t = true → post (nI t) (pr, bl, sh, re, le, kn, ll, a1, a2, a3, a4, a5, a6, a7, a8, a9, a10, a11, a12)) (Hn : (∀ t, t < 24 → dk_F sh r d a6 t = false) → post (-1) (pr, bl, sh, re, le, kn, ll, a1, a2, a3, a4, a5, a6, a7, a8, a9, a10, a11, a12)) :
    ∀ q i, i + q = d → r ≤ i → (∀ t, t < i → dk_F sh r d a6 t = false) → wX_look_2_7 post 0 pr bl sh kn ll (q + 1) (nI i) re le a1 a2 a3 a4 a5 a6 a7 a8 a9 a10 a11 a12 := by
  intro q
  induction q with
  | zero =>
    intro i hi hri hf
    refine ⟨pk_in 0 6 (by omega), pk_le d i (fun _ => Hn (fun t _ => ?_)) (fun z => absurd z (by omega)) h2⟩
    by_cases c : t < i
    · exact hf t c
    · exact dk_F_w (fun z => absurd z.2.1 (by omega))
  | succ q ih =>
    intro i hi hri hf
    have nx : dk_F sh r d a6 i = false → wX_look_2_7 post 0 pr bl sh kn ll (q + 1) (nI (i + 1)) re le a1 a2 a3 a4 a5 a6 a7 a8 a9 a10 a11 a12 := fun e =>
      ih (i + 1) (by omega) (by omega) (fun t ht => by
        by_cases c : t = i
        · rw [c]; exact e
        · exact hf t (by omega))
    refine ⟨pk_in 0 6 (by omega), pk_le d i (fun z => absurd z (by omega)) (fun _ => dk_win h1 h2 (by omega) hd (by omega) rfl (fun z1 z2 z3 => ?_) (fun z => ?_)) h2⟩
    · refine br_f (by decide) ⟨pk_in i 24 (by omega), ?_⟩
      have ec : a6 (nI i).toNatClampNeg = a6 i := by rw [nI_clamp (by omega)]
      rcases ho i (by omega) with e | e
      · exact nm_r (ec.trans e) (br_f (by decide) (br_f hre (nm_r (nI_1 i) (nx (dk_F_o e)))))
      · exact nm_r (ec.trans e) (br_t rfl (Hs i (by omega) (dk_F_t z1 z2 z3 e)))
    · exact br_t rfl (nm_r (nI_1 i) (nx (dk_F_w z)))
theorem dk_look_2 {post : Int32 → St2 → Prop} {x : Int32} {r d : Nat} (hx : x = 0) (h1 : a1 0 = nI r) (h2 : a2 0 = nI d) (hr : r ≤ d) (hd : d ≤ 24) (ho : dk_ow a6)
    (hre : ¬ ((re >>> ((0 : Int32) &&& 31)) &&& 1) = 0)
    (Hs : ∀ t, t < 24 → dk_F sh r d a6 t = true → post (nI t) (pr, bl, sh, re, le, kn, ll, a1, a2, a3, a4, a5, a6, a7, a8, a9, a10, a11, a12)) (Hn : (∀ t, t < 24 → dk_F sh r d a6 t = false) → post (-1) (pr, bl, sh, re, le, kn, ll, a1, a2, a3, a4, a5, a6, a7, a8, a9, a10, a11, a12)) : wpX_look_2 post (pr, bl, sh, re, le, kn, ll, a1, a2, a3, a4, a5, a6, a7, a8, a9, a10, a11, a12) x := by
  subst hx
  exact ⟨pk_in 0 6 (by omega), nm_r h1 ⟨(d - r) + 1, dk_look_2_l h1 h2 hr hd ho hre Hs Hn (d - r) r (by omega) (Nat.le_refl r) (fun t ht => dk_F_w (fun z => absurd z.1 (by omega)))⟩⟩
theorem dk_shift_2 {post : St2 → Prop} {x : Int32} {t : Nat} (hx : x = 0) (ht : t < 24) (h8 : a8 0 = -1) (h9 : a9 0 = -1) (H : post (pr, bl, sh, re, le, kn, ll, a1, a2, a3, a4, a5, upd a6 t 0, a7, a8, a9, a10, a11, a12)) : wpX_shift_2 post (pr, bl, sh, re, le, kn, ll, a1, a2, a3, a4, a5, a6, a7, a8, a9, a10, a11, a12) x (nI t) := by
  subst hx
  refine ⟨0 + 1 + 1, br_f (by decide) (br_f (by decide) ⟨pk_in t 24 ht, nm_r (e' := upd a6 t 0) ?_ ⟨pk_in 0 6 (by omega), nm_r h8 ⟨pk_in 0 6 (by omega), nm_r h9 (nm_r (e' := 1) (by decide) ?_)⟩⟩⟩)⟩
  · rw [nI_clamp (by omega)]
    exact congrArg (upd a6 t) (by decide)
  · exact br_f (by decide) (br_t (by decide) H)
theorem dk_give_2 {post : Int32 → St2 → Prop} {x : Int32} {r d : Nat} (hx : x = 0) (h1 : a1 0 = nI r) (h2 : a2 0 = nI d) (hr : r ≤ d) (hd : d ≤ 24) (ho : dk_ow a6)
    (H0 : dk_fr sh r d a6 = 0 → ∀ (re le : Int32) (a7 a8 a9 : Nat → Int32), post 0 (pr, bl, sh, re, le, kn, ll, a1, a2, a3, a4, a5, a6, a7, a8, a9, a10, a11, a12))
    (H1 : ∀ (re le : Int32) (o a7 a8 a9 : Nat → Int32), dk_ow o → dk_fr sh r d a6 = dk_fr sh r d o + 1 → post 1 (pr, bl, sh, re, le, kn, ll, a1, a2, a3, a4, a5, o, a7, a8, a9, a10, a11, a12)) : wpX_give_2 post (pr, bl, sh, re, le, kn, ll, a1, a2, a3, a4, a5, a6, a7, a8, a9, a10, a11, a12) x := by
  subst hx
  refine nm_r (e' := 1) (by decide) (nm_r (e' := upd a7 0 0) (congrArg (upd a7 0) (by decide)) ⟨pk_in 0 6 (by omega), nm_r (e' := upd a8 0 (-1)) rfl ⟨pk_in 0 6 (by omega), nm_r (e' := upd a9 0 (-1)) rfl ⟨0 + 1 + 1, ?_⟩⟩⟩)
  refine br_f (by decide) (br_f (by decide) ⟨pk_in 0 8 (by omega), ?_⟩)
  refine dk_look_2 rfl h1 h2 hr hd ho (by decide) (fun t ht hf => ?_) (fun hf => ?_)
  · exact br_f (nI_pos (by omega)) ⟨pk_in 0 8 (by omega), dk_shift_2 rfl ht rfl rfl (H1 _ _ _ _ _ _ (dk_ow_put t ho) (dk_fr_put ht hf))⟩
  · exact br_t (by decide) (nm_r (e' := 1) (by decide) (br_t (by decide) (H0 (dk_fr_none hf) _ _ _ _ _)))
theorem dk_many_2_l {post : Int32 → St2 → Prop} {r d m : Nat} (h1 : a1 0 = nI r) (h2 : a2 0 = nI d) (hr : r ≤ d) (hd : d ≤ 24) (hm : m < 100) :
    ∀ (q i : Nat) (re le : Int32) (a6 a7 a8 a9 : Nat → Int32), i + q = m → dk_ow a6 →
    (q ≤ dk_fr sh r d a6 → ∀ (re le : Int32) (o a7 a8 a9 : Nat → Int32), dk_ow o → dk_fr sh r d a6 = dk_fr sh r d o + q → post 1 (pr, bl, sh, re, le, kn, ll, a1, a2, a3, a4, a5, o, a7, a8, a9, a10, a11, a12)) →
    (dk_fr sh r d a6 < q → ∀ (re le : Int32) (a6 a7 a8 a9 : Nat → Int32), post 0 (pr, bl, sh, re, le, kn, ll, a1, a2, a3, a4, a5, a6, a7, a8, a9, a10, a11, a12)) →
    wX_giveMany_2_2 post 0 (nI m) (q + 1) (nI i) pr bl sh re le kn ll a1 a2 a3 a4 a5 a6 a7 a8 a9 a10 a11 a12 := by
  intro q
  induction q with
  | zero =>
    intro i re le a6 a7 a8 a9 hi ho H1 H0
    exact pk_le m i (fun _ => H1 (by omega) re le a6 a7 a8 a9 ho rfl) (fun z => absurd z (by omega))
  | succ q ih =>
    intro i re le a6 a7 a8 a9 hi ho H1 H0
    refine pk_le m i (fun z => absurd z (by omega)) (fun _ => dk_give_2 rfl h1 h2 hr hd ho (fun e re le a7 a8 a9 => ?_) (fun re le o a7 a8 a9 ho' e => ?_))
    · exact br_t rfl (H0 (by omega) re le a6 a7 a8 a9)
    · exact br_f (by decide) (nm_r (nI_1 i) (ih (i + 1) re le o a7 a8 a9 (by omega) ho' (fun z re le p a7 a8 a9 hp e' => H1 (by omega) re le p a7 a8 a9 hp (by omega)) (fun z => H0 (by omega))))
theorem dk_many_2 {post : Int32 → St2 → Prop} {x y : Int32} {r d m : Nat} (hx : x = 0) (hy : y = nI m) (h1 : a1 0 = nI r) (h2 : a2 0 = nI d) (hr : r ≤ d) (hd : d ≤ 24) (hm : m < 100) (ho : dk_ow a6)
    (H1 : m ≤ dk_fr sh r d a6 → ∀ (re le : Int32) (o a7 a8 a9 : Nat → Int32), dk_ow o → dk_fr sh r d a6 = dk_fr sh r d o + m → post 1 (pr, bl, sh, re, le, kn, ll, a1, a2, a3, a4, a5, o, a7, a8, a9, a10, a11, a12))
    (H0 : dk_fr sh r d a6 < m → ∀ (re le : Int32) (a6 a7 a8 a9 : Nat → Int32), post 0 (pr, bl, sh, re, le, kn, ll, a1, a2, a3, a4, a5, a6, a7, a8, a9, a10, a11, a12)) : wpX_giveMany_2 post (pr, bl, sh, re, le, kn, ll, a1, a2, a3, a4, a5, a6, a7, a8, a9, a10, a11, a12) x y := by
  subst hx hy
  exact ⟨m + 1, dk_many_2_l h1 h2 hr hd hm m 0 re le a6 a7 a8 a9 (by omega) ho H1 H0⟩
theorem dk_many0_2 {post : Int32 → St2 → Prop} {x y : Int32} (hy : y = 0) (H : post 1 (pr, bl, sh, re, le, kn, ll, a1, a2, a3, a4, a5, a6, a7, a8, a9, a10, a11, a12)) : wpX_giveMany_2 post (pr, bl, sh, re, le, kn, ll, a1, a2, a3, a4, a5, a6, a7, a8, a9, a10, a11, a12) x y := by
  subst hy
  exact ⟨0 + 1, br_t (by decide) H⟩
end
end
section
section
variable {pr bl sh re le kn ll : Int32} {a1 a2 a3 a4 a5 a6 a7 a8 a9 a10 a11 a12 : Nat → Int32}
theorem dk_has0 {post : Int32 → Prop} {i j : Nat} (hn : dk_no pr i) (hi : i ≤ j) (hj : j < 6) (H : post 0) : wpX_has post (pr, bl, sh, re, le, kn, ll, a1, a2, a3, a4, a5, a6, a7, a8, a9, a10, a11, a12) (nI j) :=
  br_f (nI_pos (by omega)) (br_f (nI_ge (b := 6) hj (by decide)) (br_t (hn j hi hj) H))
theorem dk_has1 {post : Int32 → Prop} {x : Int32} (hx : x = 0) (H : post 1) : wpX_has post (1, bl, sh, re, le, kn, ll, a1, a2, a3, a4, a5, a6, a7, a8, a9, a10, a11, a12) x := by
  subst hx
  exact br_f (by decide) (br_f (by decide) (br_f (by decide) H))
theorem dk_musts_l {post : Int32 → St2 → Prop} (H : post 1 (pr, bl, sh, re, le, kn, ll, a1, a2, a3, a4, a5, a6, a7, a8, a9, a10, a11, a12)) : ∀ q i, i + q = 6 → dk_no pr i → wX_giveMusts_2 post (q + 1) (nI i) pr bl sh re le kn ll a1 a2 a3 a4 a5 a6 a7 a8 a9 a10 a11 a12 := by
  intro q
  induction q with
  | zero =>
    intro i hi hn
    exact pk_le 6 i (fun _ => H) (fun z => absurd z (by omega))
  | succ q ih =>
    intro i hi hn
    exact pk_le 6 i (fun z => absurd z (by omega)) (fun _ => dk_has0 hn (Nat.le_refl i) (by omega) (br_t rfl (nm_r (nI_1 i) (ih (i + 1) (by omega) (fun j h1 h2 => hn j (by omega) h2)))))
theorem dk_musts0 {post : Int32 → St2 → Prop} (H : post 1 (0, bl, sh, re, le, kn, ll, a1, a2, a3, a4, a5, a6, a7, a8, a9, a10, a11, a12)) : wpX_giveMusts post (0, bl, sh, re, le, kn, ll, a1, a2, a3, a4, a5, a6, a7, a8, a9, a10, a11, a12) := ⟨6 + 1, dk_musts_l H 6 0 (by omega) (dk_no_0 0)⟩
theorem dk_musts1 {post : Int32 → St2 → Prop} {r d m : Nat} (h1 : a1 0 = nI r) (h2 : a2 0 = nI d) (h3 : a3 0 = nI m) (hr : r ≤ d) (hd : d ≤ 24) (hm : m < 100) (ho : dk_ow a6)
    (H1 : m ≤ dk_fr sh r d a6 → ∀ (re le : Int32) (o a7 a8 a9 : Nat → Int32), dk_ow o → dk_fr sh r d a6 = dk_fr sh r d o + m → post 1 (1, bl, sh, re, le, kn, ll, a1, a2, a3, a4, a5, o, a7, a8, a9, a10, a11, a12))
    (H0 : dk_fr sh r d a6 < m → ∀ (re le : Int32) (a6 a7 a8 a9 : Nat → Int32), post 0 (1, bl, sh, re, le, kn, ll, a1, a2, a3, a4, a5, a6, a7, a8, a9, a10, a11, a12)) : wpX_giveMusts post (1, bl, sh, re, le, kn, ll, a1, a2, a3, a4, a5, a6, a7, a8, a9, a10, a11, a12) := by
  refine ⟨6 + 1, br_f (by decide) (dk_has1 rfl (br_f (by decide) ⟨pk_in 0 6 (by omega), dk_many rfl h3 h1 h2 hr hd hm ho (fun z re le o a7 a8 a9 ho' e => ?_) (fun z re le a6 a7 a8 a9 => ?_)⟩))⟩
  · exact br_f (by decide) (nm_r (e' := nI 1) (by decide) (dk_musts_l (H1 z re le o a7 a8 a9 ho' e) 5 1 (by omega) dk_no_1))
  · exact br_t rfl (H0 z re le a6 a7 a8 a9)
theorem dk_pos0 {post : Int32 → St2 → Prop} (H : ∀ o : Nat → Int32, post 1 (0, bl, bl, re, le, kn, ll, a1, a2, a3, a4, a5, o, a7, a8, a9, a10, a11, a12)) : wpX_possible post (0, bl, sh, re, le, kn, ll, a1, a2, a3, a4, a5, a6, a7, a8, a9, a10, a11, a12) :=
  dk_begin (sh := sh) (fun o _ => dk_musts0 ⟨rfl, H o⟩)
theorem dk_pos1 {post : Int32 → St2 → Prop} {r d m : Nat} (h1 : a1 0 = nI r) (h2 : a2 0 = nI d) (h3 : a3 0 = nI m) (hr : r ≤ d) (hd : d ≤ 24) (hm : m < 100)
    (H1 : m ≤ dk_N bl r d → ∀ (re le : Int32) (a6 a7 a8 a9 : Nat → Int32), post 1 (1, bl, bl, re, le, kn, ll, a1, a2, a3, a4, a5, a6, a7, a8, a9, a10, a11, a12))
    (H0 : dk_N bl r d < m → ∀ (re le : Int32) (a6 a7 a8 a9 : Nat → Int32), post 0 (1, bl, bl, re, le, kn, ll, a1, a2, a3, a4, a5, a6, a7, a8, a9, a10, a11, a12)) : wpX_possible post (1, bl, sh, re, le, kn, ll, a1, a2, a3, a4, a5, a6, a7, a8, a9, a10, a11, a12) :=
  dk_begin (sh := sh) (fun o ho => dk_musts1 h1 h2 h3 hr hd hm (dk_ow_new ho)
    (fun z re le p a7 a8 a9 _ _ => ⟨rfl, H1 (by rw [← dk_fr_new ho]; exact z) re le p a7 a8 a9⟩)
    (fun z re le p a7 a8 a9 => ⟨rfl, H0 (by rw [← dk_fr_new ho]; exact z) re le p a7 a8 a9⟩))
theorem dk_next_l {post : Int32 → Prop} {x b : Int32} (H : post b) : ∀ q i, i + q = 6 → dk_no pr i → wX_nextInOrder_4 post x pr bl sh re le kn ll a1 a2 a3 a4 a5 a6 a7 a8 a9 a10 a11 a12 (q + 1) b (nI i) := by
  intro q
  induction q with
  | zero =>
    intro i hi hn
    exact pk_le 6 i (fun _ => H) (fun z => absurd z (by omega))
  | succ q ih =>
    intro i hi hn
    exact pk_le 6 i (fun z => absurd z (by omega)) (fun _ => dk_has0 hn (Nat.le_refl i) (by omega) (br_t rfl (nm_r (nI_1 i) (ih (i + 1) (by omega) (fun j h1 h2 => hn j (by omega) h2)))))
theorem dk_next0 {post : Int32 → Prop} {x : Int32} (H : post (-1)) : wpX_nextInOrder post (0, bl, sh, re, le, kn, ll, a1, a2, a3, a4, a5, a6, a7, a8, a9, a10, a11, a12) x := ⟨6 + 1, dk_next_l H 6 0 (by omega) (dk_no_0 0)⟩
theorem dk_next1 {post : Int32 → Prop} (H : post 0) : wpX_nextInOrder post (1, bl, sh, re, le, kn, ll, a1, a2, a3, a4, a5, a6, a7, a8, a9, a10, a11, a12) 0 :=
  ⟨6 + 1, br_f (by decide) (dk_has1 rfl (br_f (by decide) (br_t (by decide) (br_t (by decide) (nm_r (e' := nI 1) (by decide) (dk_next_l H 5 1 (by omega) dk_no_1))))))⟩
theorem dk_next2 {post : Int32 → Prop} (H : post (-1)) : wpX_nextInOrder post (1, bl, sh, re, le, kn, ll, a1, a2, a3, a4, a5, a6, a7, a8, a9, a10, a11, a12) 1 :=
  ⟨6 + 1, br_f (by decide) (dk_has1 rfl (br_f (by decide) (br_f (by decide) (nm_r (e' := nI 1) (by decide) (dk_next_l H 5 1 (by omega) dk_no_1)))))⟩
theorem dk_least_l {post : Int32 → St2 → Prop} {x y : Int32} (hN : ∀ P : Int32 → Prop, P (-1) → wpX_nextInOrder P (pr, bl, sh, re, le, kn, ll, a1, a2, a3, a4, a5, a6, a7, a8, a9, a10, a11, a12) y) (H : post x (pr, bl, sh, re, le, kn, ll, a1, a2, a3, a4, a5, a6, a7, a8, a9, a10, a11, a12)) : ∀ q i, i + q = 6 → wX_leastLossWith_21 post (q + 1) x y (nI i) pr bl sh re le kn ll a1 a2 a3 a4 a5 a6 a7 a8 a9 a10 a11 a12 := by
  intro q
  induction q with
  | zero =>
    intro i hi
    exact pk_le 6 i (fun _ => H) (fun z => absurd z (by omega))
  | succ q ih =>
    intro i hi
    exact pk_le 6 i (fun z => absurd z (by omega)) (fun _ => hN _ (br_t (by decide) (nm_r (nI_1 i) (ih (i + 1) (by omega)))))
theorem dk_least0 {post : Int32 → St2 → Prop} {p : Int32} (H : ∀ o : Nat → Int32, post 0 (0, bl, p, re, le, kn, ll, a1, a2, a3, a4, a5, o, a7, a8, a9, a10, a11, a12)) : wpX_leastLossWith post (0, bl, sh, re, le, kn, ll, a1, a2, a3, a4, a5, a6, a7, a8, a9, a10, a11, a12) p :=
  dk_begin (sh := sh) (fun o _ => dk_musts0 (br_f (by decide) ⟨6 + 1, dk_least_l (fun P hP => dk_next0 hP) (H o) 6 0 (by omega)⟩))
theorem dk_least_w {post : Int32 → St2 → Prop} {J : Int32 → Int32 → Int32 → Int32 → Int32 → Int32 → Int32 → Int32 → Int32 → Int32 → (Nat → Int32) → (Nat → Int32) → (Nat → Int32) → (Nat → Int32) → (Nat → Int32) → (Nat → Int32) → (Nat → Int32) → (Nat → Int32) → (Nat → Int32) → (Nat → Int32) → (Nat → Int32) → (Nat → Int32) → Prop}
    {x y z : Int32} {r d m : Nat} (h1 : a1 0 = nI r) (h2 : a2 0 = nI d) (h4 : a4 0 = nI m) (hr : r ≤ d) (hd : d ≤ 24) (hm : m < 100) :
    ∀ (q i : Nat) (re le : Int32) (a6 a7 a8 a9 : Nat → Int32), i + q = m → dk_ow a6 →
    (∀ (re le : Int32) (o a7 a8 a9 : Nat → Int32), wX_leastLossWith_77 post J x y z 0 (nI (i + min q (dk_fr sh r d a6))) pr bl sh re le kn ll a1 a2 a3 a4 a5 o a7 a8 a9 a10 a11 a12) →
    wX_leastLossWith_50 post J x y z 0 (q + 1) (nI i) pr bl sh re le kn ll a1 a2 a3 a4 a5 a6 a7 a8 a9 a10 a11 a12 := by
  intro q
  induction q with
  | zero =>
    intro i re le a6 a7 a8 a9 hi ho H
    refine ⟨pk_in 0 6 (by omega), pk_le m i (fun _ => ?_) (fun z => absurd z (by omega)) h4⟩
    have t := H re le a6 a7 a8 a9
    rw [Nat.zero_min] at t
    exact t
  | succ q ih =>
    intro i re le a6 a7 a8 a9 hi ho H
    refine ⟨pk_in 0 6 (by omega), pk_le m i (fun z => absurd z (by omega)) (fun _ => dk_give rfl h1 h2 hr hd ho (fun e re le a7 a8 a9 => ?_) (fun re le o a7 a8 a9 ho' e => ?_)) h4⟩
    · have t := H re le a6 a7 a8 a9
      rw [e, Nat.min_zero] at t
      exact br_t rfl t
    · refine br_f (by decide) (nm_r (nI_1 i) (ih (i + 1) re le o a7 a8 a9 (by omega) ho' (fun re le o' a7 a8 a9 => ?_)))
      have t := H re le o' a7 a8 a9
      rw [show i + min (q + 1) (dk_fr sh r d a6) = i + 1 + min q (dk_fr sh r d o) by omega] at t
      exact t
theorem dk_least1 {post : Int32 → St2 → Prop} {p : Int32} {r d m f w : Nat} (h1 : a1 0 = nI r) (h2 : a2 0 = nI d) (h3 : a3 0 = nI m) (h4 : a4 0 = nI f) (h5 : a5 0 = nI w)
    (hr : r ≤ d) (hd : d ≤ 24) (hm : m < 100) (hf : f < 100)
    (H1 : m ≤ dk_N p r d → ∀ (re le : Int32) (a6 a7 a8 a9 : Nat → Int32), post (nI (w * (f - min f (dk_N p r d - m)))) (1, bl, p, re, le, kn, ll, a1, a2, a3, a4, a5, a6, a7, a8, a9, upd a10 0 (nI (min f (dk_N p r d - m))), a11, a12))
    (H0 : dk_N p r d < m → ∀ (re le : Int32) (a6 a7 a8 a9 : Nat → Int32), post (-1) (1, bl, p, re, le, kn, ll, a1, a2, a3, a4, a5, a6, a7, a8, a9, a10, a11, a12)) : wpX_leastLossWith post (1, bl, sh, re, le, kn, ll, a1, a2, a3, a4, a5, a6, a7, a8, a9, a10, a11, a12) p := by
  refine dk_begin (sh := sh) (fun o ho => dk_musts1 h1 h2 h3 hr hd hm (dk_ow_new ho) (fun z re le o' a7 a8 a9 ho' e => ?_) (fun z re le o' a7 a8 a9 => ?_))
  · rw [dk_fr_new ho] at z e
    have e' : dk_fr p r d o' = dk_N p r d - m := by omega
    refine br_f (by decide) ⟨6 + 1, br_f (by decide) (dk_next1 (br_f (by decide) (nm_r (e' := 1) (by decide) ⟨f + 1, dk_least_w h1 h2 h4 hr hd hf f 0 re le o' a7 a8 a9 (by omega) ho' (fun re le o2 a7 a8 a9 => ?_)⟩)))⟩
    rw [e', Nat.zero_add]
    have hk : min f (dk_N p r d - m) ≤ f := Nat.min_le_left _ _
    have t := H1 z re le o2 a7 a8 a9
    revert t
    generalize min f (dk_N p r d - m) = k at hk
    intro t
    refine ⟨pk_in 0 6 (by omega), nm_r (e' := upd a10 0 (nI k)) (congrArg (upd a10 0) (dk_b k (by omega))) ⟨pk_in 0 6 (by omega), pk_in 0 6 (by omega), nm_r (e' := nI (w * (f - k))) ?_ (nm_r (e' := nI 1) (by decide) ?_)⟩⟩
    · show (0 : Int32) + a5 0 * (a4 0 - nI k) = nI (w * (f - k))
      rw [h4, h5, pk_sub hk, pk_mul, ← nI_0, nI_add, Nat.zero_add]
    · exact dk_least_l (fun P hP => dk_next2 hP) t 5 1 (by omega)
  · rw [dk_fr_new ho] at z
    exact br_t rfl (H0 z re le o' a7 a8 a9)
end
end
section
section
variable {pr bl sh re le kn ll : Int32} {a1 a2 a3 a4 a5 a6 a7 a8 a9 a10 a11 a12 : Nat → Int32}
/-- nothing is to be given to tasks from i on -/
def dk_nil (a : Nat → Int32) (i : Nat) : Prop := ∀ j, i ≤ j → j < 6 → a j = 0
theorem dk_nil_up {a : Nat → Int32} {x : Int32} (h : dk_nil a 1) : dk_nil (upd a 0 x) 1 := fun j h1 h2 => by
  rw [pk_un (by omega)]
  exact h j h1 h2
theorem dk_nil_s {a : Nat → Int32} {i : Nat} (h : dk_nil a i) : dk_nil a (i + 1) := fun j h1 h2 => h j (by omega) h2
theorem dk_cl {a : Nat → Int32} {i : Nat} (hi : i < 100) : a (nI i).toNatClampNeg = a i := by rw [nI_clamp (by omega)]
theorem dk_rest_l {post : Int32 → St2 → Prop} (H : post 1 (pr, bl, sh, re, le, kn, ll, a1, a2, a3, a4, a5, a6, a7, a8, a9, a10, a11, a12)) : ∀ q i, i + q = 6 → dk_nil a12 i → wX_restFits_16 post (q + 1) (nI i) pr bl sh re le kn ll a1 a2 a3 a4 a5 a6 a7 a8 a9 a10 a11 a12 := by
  intro q
  induction q with
  | zero =>
    intro i hi hn
    exact pk_le 6 i (fun _ => H) (fun z => absurd z (by omega))
  | succ q ih =>
    intro i hi hn
    exact pk_le 6 i (fun z => absurd z (by omega)) (fun _ => ⟨pk_in i 6 (by omega), dk_many0_2 ((dk_cl (by omega)).trans (hn i (Nat.le_refl i) (by omega)))
      (br_f (by decide) (nm_r (nI_1 i) (ih (i + 1) (by omega) (dk_nil_s hn))))⟩)
theorem dk_rest {post : Int32 → St2 → Prop} {x : Int32} {r d u g : Nat} (hx : x = nI u) (h1 : a1 0 = nI r) (h2 : a2 0 = nI d) (hr : r ≤ d) (hd : d ≤ 24) (hu : u < 25) (hg : a12 0 = nI g) (hn : dk_nil a12 1)
    (hN : g ≤ d - max r u) (H : ∀ (sh re le : Int32) (a6 a7 a8 a9 : Nat → Int32), post 1 (pr, 0, sh, re, le, kn, ll, a1, a2, a3, a4, a5, a6, a7, a8, a9, a10, a11, a12)) : wpX_restFits post (pr, 0, sh, re, le, kn, ll, a1, a2, a3, a4, a5, a6, a7, a8, a9, a10, a11, a12) x := by
  subst hx
  refine dk_begin_2 (sh := sh) (fun o ho => ⟨6 + 1, br_f (by decide) ⟨pk_in 0 6 (by omega), dk_many_2 rfl hg h1 h2 hr hd (by omega) (dk_ow_new ho) (fun z re le o' a7 a8 a9 ho' e => ?_) (fun z => ?_)⟩⟩)
  · exact br_f (by decide) (nm_r (e' := nI 1) (by decide) (dk_rest_l (H _ re le o' a7 a8 a9) 5 1 (by omega) hn))
  · rw [dk_fr_new ho, dk_N_low hu hd] at z
    omega
theorem dk_first_l {post : Int32 → St2 → Prop} {x : Int32} (hn : dk_nil a12 1) (H : ∀ (sh : Int32) (a6 : Nat → Int32), post (-1) (pr, bl, sh, re, le, kn, ll, a1, a2, a3, a4, a5, a6, a7, a8, a9, a10, a11, a12)) :
    ∀ (q i : Nat) (sh : Int32) (a6 : Nat → Int32), i + q = 6 → 1 ≤ i → wX_firstOwner_2 post x (q + 1) (nI i) pr bl sh re le kn ll a1 a2 a3 a4 a5 a6 a7 a8 a9 a10 a11 a12 := by
  intro q
  induction q with
  | zero =>
    intro i sh a6 hi h1
    exact pk_le 6 i (fun _ => H sh a6) (fun z => absurd z (by omega))
  | succ q ih =>
    intro i sh a6 hi h1
    exact pk_le 6 i (fun z => absurd z (by omega)) (fun _ => dk_begin_2 (sh := sh) (fun o _ => ⟨pk_in i 6 (by omega), pk_le 0 0 (fun _ => nm_r (nI_1 i) (ih (i + 1) bl o (by omega) (by omega))) (fun z => absurd z (by omega))
      ((dk_cl (by omega)).trans (hn i h1 (by omega)))⟩))
/-- the owner of unit t in the first plan: task 0 if it still has g to get and t lies in its window -/
theorem dk_first {post : Int32 → St2 → Prop} {x : Int32} {r d t g : Nat} (hx : x = nI t) (ht : t < 24) (hg : a12 0 = nI g) (hgm : g < 100) (hn : dk_nil a12 1)
    (hw : 0 < g → a1 0 = nI r ∧ a2 0 = nI d ∧ r ≤ d ∧ d ≤ 24 ∧ g ≤ d - max r t)
    (H0 : ¬ (0 < g ∧ r ≤ t) → ∀ (sh re le : Int32) (a6 a7 a8 a9 : Nat → Int32), post (-1) (pr, 0, sh, re, le, kn, ll, a1, a2, a3, a4, a5, a6, a7, a8, a9, a10, a11, a12))
    (H1 : 0 < g → r ≤ t → ∀ (sh re le : Int32) (a6 a7 a8 a9 a12 : Nat → Int32), a12 0 = nI g → dk_nil a12 1 → post 0 (pr, 0, sh, re, le, kn, ll, a1, a2, a3, a4, a5, a6, a7, a8, a9, a10, a11, a12)) : wpX_firstOwner post (pr, 0, sh, re, le, kn, ll, a1, a2, a3, a4, a5, a6, a7, a8, a9, a10, a11, a12) x := by
  subst hx
  refine ⟨6 + 1, br_f (by decide) (dk_begin_2 (sh := sh) (fun o _ => ⟨pk_in 0 6 (by omega), pk_le g 0 (fun z => ?_) (fun z => ?_) hg⟩))⟩
  · exact nm_r (e' := nI 1) (by decide) (dk_first_l hn (fun sh a6 => H0 (fun q => absurd q.1 (by omega)) sh re le a6 a7 a8 a9) 5 1 0 o (by omega) (by omega))
  · obtain ⟨w1, w2, w3, w4, w5⟩ := hw z
    refine dk_win w1 w2 (by omega) w4 ht rfl (fun z1 z2 _ => ?_) (fun zw => ?_)
    · refine br_f (by decide) ⟨pk_in 0 6 (by omega), pk_in 0 6 (by omega), nm_r (e' := upd a12 0 (nI (g - 1))) ?_ ?_⟩
      · show upd a12 0 ((a12 0 - nI 1).toInt8.toInt32) = upd a12 0 (nI (g - 1))
        rw [hg, pk_sub (by omega), dk_b _ (by omega)]
      · refine dk_rest (nI_1 t) w1 w2 w3 w4 (by omega) pk_us (dk_nil_up hn) (by omega) (fun sh re le a6 a7 a8 a9 => ?_)
        refine ⟨pk_in 0 6 (by omega), pk_in 0 6 (by omega), nm_r (e' := upd (upd a12 0 (nI (g - 1))) 0 (nI g)) ?_ (br_f (by decide) (H1 z z1 _ _ _ _ _ _ _ _ pk_us (dk_nil_up (dk_nil_up hn))))⟩
        show upd (upd a12 0 (nI (g - 1))) 0 ((nI (g - 1) + 1).toInt8.toInt32) = upd (upd a12 0 (nI (g - 1))) 0 (nI g)
        rw [nI_1, show g - 1 + 1 = g by omega, dk_b _ (by omega)]
    · have hz : ¬ r ≤ t := fun q => zw ⟨q, by omega, dk_av_0 t ht⟩
      exact br_t rfl (nm_r (e' := nI 1) (by decide) (dk_first_l hn (fun sh a6 => H0 (fun q => hz q.2) sh re le a6 a7 a8 a9) 5 1 0 o (by omega) (by omega)))
/-- the first plan below i -/
def dk_plan (r g : Nat) (a : Nat → Int32) (i : Nat) : Prop := ∀ u, u < i → a u = if r ≤ u ∧ u < r + g then 0 else -1
theorem dk_plan_in {r g i : Nat} {a : Nat → Int32} (h : dk_plan r g a i) (h1 : r ≤ i) (h2 : i < r + g) : dk_plan r g (upd a i 0) (i + 1) := fun u hu => by
  by_cases e : u = i
  · rw [e, pk_us, if_pos ⟨h1, h2⟩]
  · rw [pk_un e]
    exact h u (by omega)
theorem dk_plan_out {r g i : Nat} {a : Nat → Int32} (h : dk_plan r g a i) (h1 : ¬ (r ≤ i ∧ i < r + g)) : dk_plan r g (upd a i (-1)) (i + 1) := fun u hu => by
  by_cases e : u = i
  · rw [e, pk_us, if_neg h1]
  · rw [pk_un e]
    exact h u (by omega)
theorem dk_learn_68 {post : St2 → Prop} {r d g : Nat} (hgm : g < 100) (hw : 0 < g → a1 0 = nI r ∧ a2 0 = nI d ∧ d ≤ 24 ∧ r + g ≤ d)
    (H : ∀ (sh re le : Int32) (a6 a7 a8 a9 a11 a12 : Nat → Int32), dk_plan r g a11 24 → post (pr, 0, sh, re, le, 1, ll, a1, a2, a3, a4, a5, a6, a7, a8, a9, a10, a11, a12)) :
    ∀ (q i : Nat) (sh re le : Int32) (a6 a7 a8 a9 a11 a12 : Nat → Int32), i + q = 24 → a12 0 = nI (r + g - max r i) → dk_nil a12 1 → dk_plan r g a11 i → wX_learn_68 post (q + 1) (nI i) pr 0 sh re le kn ll a1 a2 a3 a4 a5 a6 a7 a8 a9 a10 a11 a12 := by
  intro q
  induction q with
  | zero =>
    intro i sh re le a6 a7 a8 a9 a11 a12 hi hg hn hp
    have e : i = 24 := by omega
    subst e
    exact pk_le 24 24 (fun _ => H sh re le a6 a7 a8 a9 a11 a12 hp) (fun z => absurd z (by omega))
  | succ q ih =>
    intro i sh re le a6 a7 a8 a9 a11 a12 hi hg hn hp
    refine pk_le 24 i (fun z => absurd z (by omega)) (fun _ => dk_first rfl (r := r) (d := d) (g := r + g - max r i) (by omega) hg (by omega) hn (fun z => ?_) (fun z sh re le a6 a7 a8 a9 => ?_) (fun z z1 sh re le a6 a7 a8 a9 a12 hg' hn' => ?_))
    · obtain ⟨w1, w2, w3, w4⟩ := hw (by omega)
      exact ⟨w1, w2, by omega, w3, by omega⟩
    · refine ⟨pk_in i 24 (by omega), nm_r (e' := upd a11 i (-1)) ?_ ⟨pk_in i 24 (by omega), br_t ?_ (nm_r (nI_1 i) (ih (i + 1) sh re le a6 a7 a8 a9 _ a12 (by omega) ?_ hn (dk_plan_out hp ?_)))⟩⟩
      · rw [nI_clamp (by omega)]
        exact congrArg (upd a11 i) (by decide)
      · rw [nI_clamp (by omega), pk_us]
        decide
      · rw [hg]
        congr 1
        omega
      · omega
    · refine ⟨pk_in i 24 (by omega), nm_r (e' := upd a11 i 0) ?_ ?_⟩
      · rw [nI_clamp (by omega)]
        exact congrArg (upd a11 i) (by decide)
      · have e0 : upd a11 i 0 (nI i).toNatClampNeg = 0 := by rw [nI_clamp (by omega), pk_us]
        rw [e0]
        refine ⟨pk_in i 24 (by omega), br_f (by decide) ⟨pk_in i 24 (by omega), pk_in 0 6 (by omega), pk_in 0 6 (by omega), nm_r (e' := upd a12 0 (nI (r + g - max r i - 1))) ?_ (nm_r (nI_1 i) (ih (i + 1) sh re le a6 a7 a8 a9 _ _ (by omega) ?_ (dk_nil_up hn') (dk_plan_in hp z1 (by omega))))⟩⟩
        · show upd a12 0 ((a12 0 - nI 1).toInt8.toInt32) = _
          rw [hg', pk_sub (by omega), dk_b _ (by omega)]
        · rw [pk_us]
          congr 1
          omega
/-- what is to be given: i tasks are written -/
theorem dk_learn_22 {post : St2 → Prop} {r d g : Nat} (hgm : g < 100) (hr : r ≤ 24) (hw : 0 < g → a1 0 = nI r ∧ a2 0 = nI d ∧ d ≤ 24 ∧ r + g ≤ d)
    (H : ∀ (sh re le : Int32) (a6 a7 a8 a9 a11 a12 : Nat → Int32), dk_plan r g a11 24 → post (pr, 0, sh, re, le, 1, ll, a1, a2, a3, a4, a5, a6, a7, a8, a9, a10, a11, a12)) :
    ∀ (q i : Nat) (a12 : Nat → Int32), i + q = 6 → 1 ≤ i → dk_no pr i → a12 0 = nI g → (∀ j, 1 ≤ j → j < i → a12 j = 0) → wX_learn_22 post pr 0 sh re le kn ll (q + 1) (nI i) a1 a2 a3 a4 a5 a6 a7 a8 a9 a10 a11 a12 := by
  intro q
  induction q with
  | zero =>
    intro i a12 hi h1 hn hg h0
    refine pk_le 6 i (fun _ => ⟨24 + 1, ?_⟩) (fun z => absurd z (by omega))
    refine dk_learn_68 hgm hw H 24 0 sh re le a6 a7 a8 a9 a11 a12 (by omega) ?_ (fun j h1 h2 => h0 j h1 (by omega)) (fun u hu => absurd hu (by omega))
    rw [hg]
    congr 1
    omega
  | succ q ih =>
    intro i a12 hi h1 hn hg h0
    refine pk_le 6 i (fun z => absurd z (by omega)) (fun _ => dk_has0 hn (Nat.le_refl i) (by omega) (br_t rfl ⟨pk_in i 6 (by omega), nm_r (e' := upd a12 i 0) ?_ (nm_r (nI_1 i)
      (ih (i + 1) _ (by omega) (by omega) (fun j h1 h2 => hn j (by omega) h2) ?_ (fun j h2 h3 => ?_)))⟩))
    · rw [nI_clamp (by omega)]
      exact congrArg (upd a12 i) (by decide)
    · rw [pk_un (by omega)]
      exact hg
    · by_cases e : j = i
      · rw [e, pk_us]
      · rw [pk_un e]
        exact h0 j h2 (by omega)
theorem dk_learn0 {post : St2 → Prop} (H : ∀ (sh re le : Int32) (a6 a7 a8 a9 a11 a12 : Nat → Int32), (∀ t, t < 24 → a11 t = -1) → post (0, 0, sh, re, le, 1, 0, a1, a2, a3, a4, a5, a6, a7, a8, a9, a10, a11, a12)) : wpX_learn post (0, 0, sh, re, le, 0, ll, a1, a2, a3, a4, a5, a6, a7, a8, a9, a10, a11, a12) := by
  refine br_t rfl (dk_least0 (fun o => ⟨6 + 1, br_f (by decide) (dk_has0 (i := 0) (j := 0) (dk_no_0 0) (Nat.le_refl 0) (by omega) (br_t rfl ⟨pk_in 0 6 (by omega), nm_r (e' := upd a12 0 0) (congrArg (upd a12 0) (by decide)) (nm_r (e' := nI 1) (by decide) ?_)⟩))⟩))
  exact dk_learn_22 (r := 0) (d := 0) (g := 0) (by omega) (by omega) (fun z => absurd z (by omega))
    (fun sh re le a6 a7 a8 a9 a11 a12 hp => H sh re le a6 a7 a8 a9 a11 a12 (fun t ht => by rw [hp t ht, if_neg (by omega)])) 5 1 _ (by omega) (by omega) (dk_no_0 1) (pk_us.trans nI_0.symm) (fun j h1 h2 => absurd h2 (by omega))
theorem dk_learn1 {post : St2 → Prop} {r d m f w : Nat} (h1 : a1 0 = nI r) (h2 : a2 0 = nI d) (h3 : a3 0 = nI m) (h4 : a4 0 = nI f) (h5 : a5 0 = nI w) (hr : r ≤ d) (hd : d ≤ 24) (hf : f ≤ 6) (hm : m ≤ d - r)
    (H : ∀ (sh re le : Int32) (a6 a7 a8 a9 a10 a11 a12 : Nat → Int32), a10 0 = nI (min f (d - r - m)) → dk_plan r (m + min f (d - r - m)) a11 24 → post (1, 0, sh, re, le, 1, nI (w * (f - min f (d - r - m))), a1, a2, a3, a4, a5, a6, a7, a8, a9, a10, a11, a12)) :
    wpX_learn post (1, 0, sh, re, le, 0, ll, a1, a2, a3, a4, a5, a6, a7, a8, a9, a10, a11, a12) := by
  refine br_t rfl (dk_least1 h1 h2 h3 h4 h5 hr hd (by omega) (by omega) (fun z re le a6 a7 a8 a9 => ?_) (fun z => ?_))
  · rw [dk_N_0 hd]
    have hk : m + min f (d - r - m) ≤ d - r := by omega
    revert H
    generalize min f (d - r - m) = k at hk
    intro H
    refine ⟨6 + 1, br_f (by decide) (dk_has1 rfl (br_f (by decide) ⟨pk_in 0 6 (by omega), pk_in 0 6 (by omega), pk_in 0 6 (by omega), nm_r (e' := upd a12 0 (nI (m + k))) ?_ (nm_r (e' := nI 1) (by decide) ?_)⟩))⟩
    · show upd a12 0 ((a3 0 + upd a10 0 (nI k) 0).toInt8.toInt32) = _
      rw [h3, pk_us, nI_add, dk_b _ (by omega)]
    · exact dk_learn_22 (r := r) (d := d) (g := m + k) (by omega) (by omega) (fun z => ⟨h1, h2, hd, by omega⟩)
        (fun sh re le a6 a7 a8 a9 a11 a12 hp => H sh re le a6 a7 a8 a9 _ a11 a12 pk_us hp) 5 1 _ (by omega) (by omega) dk_no_1 pk_us (fun j h1 h2 => absurd h2 (by omega))
  · rw [dk_N_0 hd] at z
    omega
end
end
section
section
variable {pr bl sh re le kn ll : Int32} {a1 a2 a3 a4 a5 a6 a7 a8 a9 a10 a11 a12 : Nat → Int32}
/-- what bring takes -/
def dk_form (p0 p1 p2 : Int32) : Prop := ¬ p0 < 0 ∧ ¬ 24 < p1 ∧ ¬ p1 ≤ p0 ∧ ¬ 6 < (p2 &&& 7) ∧ ¬ 6 < ((p2 >>> ((3 : Int32) &&& 31)) &&& 7) ∧ ¬ (p2 >>> ((6 : Int32) &&& 31)) < 1 ∧ ¬ 9 < (p2 >>> ((6 : Int32) &&& 31))
theorem dk_bring_bad {post : Int32 → St2 → Prop} {p0 p1 p2 : Int32} (h : ¬ dk_form p0 p1 p2) (H : post (-1) (pr, bl, sh, re, le, kn, ll, a1, a2, a3, a4, a5, a6, a7, a8, a9, a10, a11, a12)) : wpX_bring post (pr, bl, sh, re, le, kn, ll, a1, a2, a3, a4, a5, a6, a7, a8, a9, a10, a11, a12) p0 p1 p2 :=
  br_c (fun _ => H) (fun g1 => br_c (fun _ => H) (fun g2 => br_c (fun _ => H) (fun g3 => nm_e (br_c (fun _ => br_t rfl H) (fun g4 => br_c (fun _ => br_t rfl H) (fun g5 =>
    br_c (fun _ => br_t rfl H) (fun g6 => br_c (fun _ => br_t rfl H) (fun g7 => absurd ⟨g1, g2, g3, g4, g5, g6, g7⟩ h))))))))
theorem dk_bring_ok {post : Int32 → St2 → Prop} {p2 : Int32} {r d m f w : Nat} (hr : r < d) (hd : d ≤ 24) (e7 : p2 &&& 7 = nI m) (e3 : (p2 >>> ((3 : Int32) &&& 31)) &&& 7 = nI f) (e6 : p2 >>> ((6 : Int32) &&& 31) = nI w)
    (hm : m ≤ 6) (hf : f ≤ 6) (hw : 1 ≤ w) (hw9 : w ≤ 9)
    (H1 : m ≤ d - r → ∀ (sh re le : Int32) (a1 a2 a3 a4 a5 a6 a7 a8 a9 : Nat → Int32), a1 0 = nI r → a2 0 = nI d → a3 0 = nI m → a4 0 = nI f → a5 0 = nI w → post 0 (1, 0, sh, re, le, 0, ll, a1, a2, a3, a4, a5, a6, a7, a8, a9, a10, a11, a12))
    (H0 : d - r < m → ∀ (sh re le : Int32) (a1 a2 a3 a4 a5 a6 a7 a8 a9 : Nat → Int32), post (-3) (0, 0, sh, re, le, 0, ll, a1, a2, a3, a4, a5, a6, a7, a8, a9, a10, a11, a12)) : wpX_bring post (0, 0, sh, re, le, kn, ll, a1, a2, a3, a4, a5, a6, a7, a8, a9, a10, a11, a12) (nI r) (nI d) p2 := by
  refine br_f (nI_pos (by omega)) (pk_lt 24 d (fun z => absurd z (by omega)) (fun _ => pk_le d r (fun z => absurd z (by omega)) (fun _ => nm_r e6 ?_)))
  refine pk_lt 6 m (fun z => absurd z (by omega)) (fun _ => pk_lt 6 f (fun z => absurd z (by omega)) (fun _ => pk_lt w 1 (fun z => absurd z (by omega)) (fun _ => pk_lt 9 w (fun z => absurd z (by omega)) (fun _ => br_f (by decide) ⟨0 + 1, ?_⟩))) rfl e3) rfl e7
  refine br_f (by decide) (dk_has0 (i := 0) (j := 0) (dk_no_0 0) (Nat.le_refl 0) (by omega) (br_t rfl (nm_r (e' := 1) (by decide) ⟨pk_in 0 6 (by omega), nm_r (e' := upd a1 0 (nI r)) (congrArg (upd a1 0) (dk_b r (by omega))) ⟨pk_in 0 6 (by omega), nm_r (e' := upd a2 0 (nI d)) (congrArg (upd a2 0) (dk_b d (by omega))) ?_⟩⟩)))
  refine ⟨pk_in 0 6 (by omega), nm_r (e' := upd a3 0 (nI m)) (congrArg (upd a3 0) (by rw [e7, dk_b m (by omega)])) ⟨pk_in 0 6 (by omega), nm_r (e' := upd a4 0 (nI f)) (congrArg (upd a4 0) (by rw [e3, dk_b f (by omega)])) ⟨pk_in 0 6 (by omega), nm_r (e' := upd a5 0 (nI w)) (congrArg (upd a5 0) (by rw [e6, dk_b w (by omega)])) ?_⟩⟩⟩
  refine dk_pos1 (r := r) (d := d) (m := m) pk_us pk_us pk_us (by omega) hd (by omega) (fun z re le a6 a7 a8 a9 => ?_) (fun z re le a6 a7 a8 a9 => ?_)
  · rw [dk_N_0 hd] at z
    exact br_f (by decide) (H1 z _ _ _ _ _ _ _ _ _ _ _ _ pk_us pk_us pk_us pk_us pk_us)
  · rw [dk_N_0 hd] at z
    exact br_t rfl (nm_r (e' := 0) (by decide) (H0 z _ _ _ _ _ _ _ _ _ _ _ _))
theorem dk_loss0 {post : Int32 → St2 → Prop} (H : ∀ (sh re le : Int32) (a6 a7 a8 a9 a11 a12 : Nat → Int32), (∀ t, t < 24 → a11 t = -1) → post 0 (0, 0, sh, re, le, 1, 0, a1, a2, a3, a4, a5, a6, a7, a8, a9, a10, a11, a12)) : wpX_loss post (0, 0, sh, re, le, 0, ll, a1, a2, a3, a4, a5, a6, a7, a8, a9, a10, a11, a12) :=
  dk_learn0 (fun sh re le a6 a7 a8 a9 a11 a12 h => H sh re le a6 a7 a8 a9 a11 a12 h)
theorem dk_loss1 {post : Int32 → St2 → Prop} {r d m f w : Nat} (h1 : a1 0 = nI r) (h2 : a2 0 = nI d) (h3 : a3 0 = nI m) (h4 : a4 0 = nI f) (h5 : a5 0 = nI w) (hr : r ≤ d) (hd : d ≤ 24) (hf : f ≤ 6) (hm : m ≤ d - r)
    (H : ∀ (sh re le : Int32) (a6 a7 a8 a9 a10 a11 a12 : Nat → Int32), a10 0 = nI (min f (d - r - m)) → dk_plan r (m + min f (d - r - m)) a11 24 → post (nI (w * (f - min f (d - r - m)))) (1, 0, sh, re, le, 1, nI (w * (f - min f (d - r - m))), a1, a2, a3, a4, a5, a6, a7, a8, a9, a10, a11, a12)) :
    wpX_loss post (1, 0, sh, re, le, 0, ll, a1, a2, a3, a4, a5, a6, a7, a8, a9, a10, a11, a12) :=
  dk_learn1 h1 h2 h3 h4 h5 hr hd hf hm (fun sh re le a6 a7 a8 a9 a10 a11 a12 e h => H sh re le a6 a7 a8 a9 a10 a11 a12 e h)
theorem dk_kept0 {post : Int32 → St2 → Prop} (H : post (-1) (0, bl, sh, re, le, kn, ll, a1, a2, a3, a4, a5, a6, a7, a8, a9, a10, a11, a12)) : wpX_kept post (0, bl, sh, re, le, kn, ll, a1, a2, a3, a4, a5, a6, a7, a8, a9, a10, a11, a12) 0 := by
  unfold wpX_kept
  exact dk_has0 (i := 0) (j := 0) (dk_no_0 0) (Nat.le_refl 0) (by omega) (br_t rfl H)
theorem dk_kept1 {post : Int32 → St2 → Prop} {k : Nat} (hk : a10 0 = nI k) (H : post (nI k) (1, bl, sh, re, le, 1, ll, a1, a2, a3, a4, a5, a6, a7, a8, a9, a10, a11, a12)) : wpX_kept post (1, bl, sh, re, le, 1, ll, a1, a2, a3, a4, a5, a6, a7, a8, a9, a10, a11, a12) 0 := by
  rw [← hk] at H
  unfold wpX_kept
  exact dk_has1 rfl (br_f (by decide) (br_f (by decide) ⟨pk_in 0 6 (by omega), H⟩))
theorem dk_at_out {post : Int32 → St2 → Prop} {x : Int32} (hx : x < 0 ∨ ¬ x < 24) (H : post (-1) (pr, bl, sh, re, le, kn, ll, a1, a2, a3, a4, a5, a6, a7, a8, a9, a10, a11, a12)) : wpX_at post (pr, bl, sh, re, le, kn, ll, a1, a2, a3, a4, a5, a6, a7, a8, a9, a10, a11, a12) x :=
  br_c (fun _ => H) (fun g => br_f (hx.resolve_left g) H)
theorem dk_at_in {post : Int32 → St2 → Prop} {t : Nat} (ht : t < 24) (H : post (a11 t) (pr, bl, sh, re, le, 1, ll, a1, a2, a3, a4, a5, a6, a7, a8, a9, a10, a11, a12)) : wpX_at post (pr, bl, sh, re, le, 1, ll, a1, a2, a3, a4, a5, a6, a7, a8, a9, a10, a11, a12) (nI t) :=
  br_f (nI_pos (by omega)) (pk_lt t 24 (fun _ => br_f (by decide) ⟨pk_in t 24 ht, by rw [nI_clamp (by omega)]; exact H⟩) (fun z => absurd z (by omega)))
theorem dk_wo_out {post : Int32 → St2 → Prop} {x : Int32} (hx : x < 0 ∨ ¬ x < 24) (H : post (-1) (pr, bl, sh, re, le, kn, ll, a1, a2, a3, a4, a5, a6, a7, a8, a9, a10, a11, a12)) : wpX_lossWithout post (pr, bl, sh, re, le, kn, ll, a1, a2, a3, a4, a5, a6, a7, a8, a9, a10, a11, a12) x :=
  br_c (fun _ => H) (fun g => br_f (hx.resolve_left g) H)
theorem dk_wo0 {post : Int32 → St2 → Prop} {t : Nat} (ht : t < 24) (H : ∀ (sh : Int32) (a6 : Nat → Int32), post 0 (0, bl, sh, re, le, 0, ll, a1, a2, a3, a4, a5, a6, a7, a8, a9, a10, a11, a12)) : wpX_lossWithout post (0, bl, sh, re, le, kn, ll, a1, a2, a3, a4, a5, a6, a7, a8, a9, a10, a11, a12) (nI t) :=
  br_f (nI_pos (by omega)) (pk_lt t 24 (fun _ => dk_least0 (fun o => br_t (by decide) (H _ o))) (fun z => absurd z (by omega)))
theorem dk_wo1 {post : Int32 → St2 → Prop} {t r d m f w N : Nat} (ht : t < 24) (hN : dk_N (0 ||| ((1 : Int32) <<< (nI t &&& 31))) r d = N) (h1 : a1 0 = nI r) (h2 : a2 0 = nI d) (h3 : a3 0 = nI m) (h4 : a4 0 = nI f) (h5 : a5 0 = nI w)
    (hr : r ≤ d) (hd : d ≤ 24) (hm : m ≤ 6) (hf : f ≤ 6) (hw : w ≤ 9)
    (H1 : m ≤ N → ∀ (sh re le : Int32) (a6 a7 a8 a9 a10 : Nat → Int32), post (nI (w * (f - min f (N - m)))) (1, 0, sh, re, le, 0, ll, a1, a2, a3, a4, a5, a6, a7, a8, a9, a10, a11, a12))
    (H0 : N < m → ∀ (sh re le : Int32) (a6 a7 a8 a9 : Nat → Int32), post (-1) (1, 0, sh, re, le, 0, ll, a1, a2, a3, a4, a5, a6, a7, a8, a9, a10, a11, a12)) : wpX_lossWithout post (1, 0, sh, re, le, kn, ll, a1, a2, a3, a4, a5, a6, a7, a8, a9, a10, a11, a12) (nI t) := by
  subst hN
  refine br_f (nI_pos (by omega)) (pk_lt t 24 (fun _ => dk_least1 h1 h2 h3 h4 h5 hr hd (by omega) (by omega) (fun z re le a6 a7 a8 a9 => ?_) (fun z re le a6 a7 a8 a9 => ?_)) (fun z => absurd z (by omega)))
  · refine br_t (nI_pos' ?_) (H1 z _ _ _ _ _ _ _ _)
    have b : ∀ k, w * (f - k) ≤ 9 * 6 := fun k => Nat.mul_le_mul hw (by omega)
    exact Nat.lt_of_le_of_lt (b _) (by decide)
  · exact br_f (by decide) (H0 z _ _ _ _ _ _ _)
theorem dk_bl_out {post : Int32 → St2 → Prop} {x : Int32} (hx : x < 0 ∨ ¬ x < 24) (H : post (-1) (pr, bl, sh, re, le, kn, ll, a1, a2, a3, a4, a5, a6, a7, a8, a9, a10, a11, a12)) : wpX_block post (pr, bl, sh, re, le, kn, ll, a1, a2, a3, a4, a5, a6, a7, a8, a9, a10, a11, a12) x 1 :=
  br_c (fun _ => H) (fun g => br_f (hx.resolve_left g) H)
theorem dk_bl0 {post : Int32 → St2 → Prop} {t : Nat} (ht : t < 24) (H : ∀ u : St2, post (nI t) u) : wpX_block post (0, bl, sh, re, le, kn, ll, a1, a2, a3, a4, a5, a6, a7, a8, a9, a10, a11, a12) (nI t) 1 :=
  br_f (nI_pos (by omega)) (pk_lt t 24 (fun _ => br_f (by decide) (dk_pos0 (fun o => br_f (by decide) (H _)))) (fun z => absurd z (by omega)))
theorem dk_bl1 {post : Int32 → St2 → Prop} {t r d m N : Nat} (ht : t < 24) (hN : dk_N (0 ||| ((1 : Int32) <<< (nI t &&& 31))) r d = N) (h1 : a1 0 = nI r) (h2 : a2 0 = nI d) (h3 : a3 0 = nI m)
    (hr : r ≤ d) (hd : d ≤ 24) (hm : m ≤ 6) (H1 : m ≤ N → ∀ u : St2, post (nI t) u) (H0 : N < m → ∀ u : St2, post (-3) u) : wpX_block post (1, 0, sh, re, le, kn, ll, a1, a2, a3, a4, a5, a6, a7, a8, a9, a10, a11, a12) (nI t) 1 := by
  subst hN
  exact br_f (nI_pos (by omega)) (pk_lt t 24 (fun _ => br_f (by decide) (dk_pos1 h1 h2 h3 hr hd (by omega) (fun z re le a6 a7 a8 a9 => br_f (by decide) (H1 z _)) (fun z re le a6 a7 a8 a9 => br_t rfl (H0 z _)))) (fun z => absurd z (by omega)))
end
end
section
section
variable {post : Int32 → St0 → Prop} {mc ms kc ks : Nat} {x0 x1 x3 x5 x6 x7 x8 x9 x10 x11 x12 x13 x14 x15 x16 x17 x18 x19 x20 x22 z0 z1 : Int32}
theorem dk_l444 (h : z1 = z0) (H : post 1 ()) : wL_lawOf_444 post mc ms z0 z1 kc ks := br_t h H
theorem dk_l419 (h : z1 = z0) (h10 : x10 = if x18 = 0 then -1 else if x20 = 0 then x3 else -3) (H : post 1 ()) : wL_lawOf_419 post mc ms x3 x10 x18 x20 z0 z1 kc ks :=
  br_t h (br_c (fun c => dk_l444 (by rw [h10, if_pos c]) H) (fun c => br_c (fun e => dk_l444 (by rw [h10, if_neg c, if_pos e]) H) (fun e => dk_l444 (by rw [h10, if_neg c, if_neg e]) H)))
theorem dk_l398 (h : z1 = z0) (h9 : x9 = if x18 = 0 then -1 else if x20 = 0 then x22 else -1) (h10 : x10 = if x18 = 0 then -1 else if x20 = 0 then x3 else -3) (H : post 1 ()) : wL_lawOf_398 post mc ms x3 x9 x10 x18 x20 x22 z0 z1 kc ks :=
  br_t h (br_c (fun c => dk_l419 (by rw [h9, if_pos c]) h10 H) (fun c => br_c (fun e => dk_l419 (by rw [h9, if_neg c, if_pos e]) h10 H) (fun e => dk_l419 (by rw [h9, if_neg c, if_neg e]) h10 H)))
theorem dk_l372 (h : z1 = z0) (h8 : x8 = if x19 = 0 then -1 else if x0 + x11 + x17 ≤ x3 then -1 else 0) (h9 : x9 = if x18 = 0 then -1 else if x20 = 0 then x22 else -1) (h10 : x10 = if x18 = 0 then -1 else if x20 = 0 then x3 else -3) (H : post 1 ()) :
    wL_lawOf_372 post mc ms x0 x3 x8 x9 x10 x11 x17 x18 x19 x20 x22 z0 z1 kc ks :=
  br_t h (br_c (fun c => dk_l398 (by rw [h8, if_pos c]) h9 h10 H) (fun c => br_c (fun e => dk_l398 (by rw [h8, if_neg c, if_pos e]) h9 h10 H) (fun e => dk_l398 (by rw [h8, if_neg c, if_neg e]) h9 h10 H)))
theorem dk_l356 (h : z1 = z0) (h7 : x7 = if x16 = 0 then -1 else x17) (h8 : x8 = if x19 = 0 then -1 else if x0 + x11 + x17 ≤ x3 then -1 else 0) (h9 : x9 = if x18 = 0 then -1 else if x20 = 0 then x22 else -1) (h10 : x10 = if x18 = 0 then -1 else if x20 = 0 then x3 else -3) (H : post 1 ()) :
    wL_lawOf_356 post mc ms x0 x3 x7 x8 x9 x10 x11 x16 x17 x18 x19 x20 x22 z0 z1 kc ks :=
  br_t h (br_c (fun c => dk_l372 (by rw [h7, if_pos c]) h8 h9 h10 H) (fun c => dk_l372 (by rw [h7, if_neg c]) h8 h9 h10 H))
theorem dk_l334 (h : z1 = z0) (h6 : x6 = if x16 = 0 then 0 else x13 * (x12 - x17)) (h7 : x7 = if x16 = 0 then -1 else x17) (h8 : x8 = if x19 = 0 then -1 else if x0 + x11 + x17 ≤ x3 then -1 else 0) (h9 : x9 = if x18 = 0 then -1 else if x20 = 0 then x22 else -1) (h10 : x10 = if x18 = 0 then -1 else if x20 = 0 then x3 else -3) (H : post 1 ()) :
    wL_lawOf_334 post mc ms x0 x3 x6 x7 x8 x9 x10 x11 x12 x13 x16 x17 x18 x19 x20 x22 z0 z1 kc ks :=
  br_t h (br_c (fun c => dk_l356 (by rw [h6, if_pos c]) h7 h8 h9 h10 H) (fun c => dk_l356 (by rw [h6, if_neg c]) h7 h8 h9 h10 H))
theorem dk_l310 (h5 : x5 = if x14 = 0 then -1 else if x16 = 0 then -3 else 0) (h6 : x6 = if x16 = 0 then 0 else x13 * (x12 - x17)) (h7 : x7 = if x16 = 0 then -1 else x17) (h8 : x8 = if x19 = 0 then -1 else if x0 + x11 + x17 ≤ x3 then -1 else 0) (h9 : x9 = if x18 = 0 then -1 else if x20 = 0 then x22 else -1) (h10 : x10 = if x18 = 0 then -1 else if x20 = 0 then x3 else -3) (H : post 1 ()) :
    wL_lawOf_310 post mc ms x0 x3 x5 x6 x7 x8 x9 x10 x11 x12 x13 x14 x16 x17 x18 x19 x20 x22 kc ks :=
  br_c (fun c => dk_l334 (by rw [h5, if_pos c]) h6 h7 h8 h9 h10 H) (fun c => br_c (fun e => dk_l334 (by rw [h5, if_neg c, if_pos e]) h6 h7 h8 h9 h10 H) (fun e => dk_l334 (by rw [h5, if_neg c, if_neg e]) h6 h7 h8 h9 h10 H))
theorem dk_l279 (K : ∀ v, v = (if x16 = 0 then 0 else x13 * (x12 - (if z0 ≤ x12 then z0 else x12))) → wL_lawOf_310 post mc ms x0 x3 x5 x6 x7 x8 x9 x10 x11 x12 x13 x14 x16 x17 x18 x19 x20 v kc ks) :
    wL_lawOf_279 post mc ms x0 x3 x5 x6 x7 x8 x9 x10 x11 x12 x13 x14 x16 x17 x18 x19 x20 z0 kc ks :=
  br_c (fun c => K _ (by rw [if_pos c])) (fun c => br_c (fun e => K _ (by rw [if_neg c, if_pos e])) (fun e => K _ (by rw [if_neg c, if_neg e])))
theorem dk_l257 (K : ∀ v, v = (if x19 = 0 then x15 - x11 else (x15 - 1) - x11) → wL_lawOf_279 post mc ms x0 x3 x5 x6 x7 x8 x9 x10 x11 x12 x13 x14 x16 x17 x18 x19 z0 v kc ks) :
    wL_lawOf_257 post mc ms x0 x3 x5 x6 x7 x8 x9 x10 x11 x12 x13 x14 x15 x16 x17 x18 x19 z0 kc ks :=
  br_c (fun c => K _ (by rw [if_pos c])) (fun c => K _ (by rw [if_neg c]))
theorem dk_l238 (K : ∀ v, v = (if z0 = 0 then 0 else if x11 = x15 then 1 else 0) → wL_lawOf_257 post mc ms x0 x3 x5 x6 x7 x8 x9 x10 x11 x12 x13 x14 x15 x16 x17 x18 z0 v kc ks) :
    wL_lawOf_238 post mc ms x0 x3 x5 x6 x7 x8 x9 x10 x11 x12 x13 x14 x15 x16 x17 x18 z0 kc ks :=
  br_c (fun c => K _ (by rw [if_pos c])) (fun c => br_c (fun e => K _ (by rw [if_neg c, if_pos e])) (fun e => K _ (by rw [if_neg c, if_neg e])))
theorem dk_l211 (K : ∀ v, v = (if x16 = 0 then 0 else if z0 = 0 then 0 else if x3 < x0 then 0 else if x1 ≤ x3 then 0 else 1) → wL_lawOf_238 post mc ms x0 x3 x5 x6 x7 x8 x9 x10 x11 x12 x13 x14 x15 x16 x17 z0 v kc ks) :
    wL_lawOf_211 post mc ms x0 x1 x3 x5 x6 x7 x8 x9 x10 x11 x12 x13 x14 x15 x16 x17 z0 kc ks :=
  br_c (fun c => K _ (by rw [if_pos c])) (fun c => br_c (fun e => K _ (by rw [if_neg c, if_pos e])) (fun e => br_c (fun g => K _ (by rw [if_neg c, if_neg e, if_pos g])) (fun g =>
    br_c (fun i => K _ (by rw [if_neg c, if_neg e, if_neg g, if_pos i])) (fun i => K _ (by rw [if_neg c, if_neg e, if_neg g, if_neg i])))))
theorem dk_l194 (K : ∀ v, v = (if x3 < 0 then 0 else if 23 < x3 then 0 else 1) → wL_lawOf_211 post mc ms x0 x1 x3 x5 x6 x7 x8 x9 x10 x11 x12 x13 x14 x15 x16 z0 v kc ks) :
    wL_lawOf_194 post mc ms x0 x1 x3 x5 x6 x7 x8 x9 x10 x11 x12 x13 x14 x15 x16 z0 kc ks :=
  br_c (fun c => K _ (by rw [if_pos c])) (fun c => br_c (fun e => K _ (by rw [if_neg c, if_pos e])) (fun e => K _ (by rw [if_neg c, if_neg e])))
theorem dk_l163 (K : ∀ v, v = (if z0 = 0 then 0 else if x15 - x11 ≤ x12 then x15 - x11 else x12) → wL_lawOf_194 post mc ms x0 x1 x3 x5 x6 x7 x8 x9 x10 x11 x12 x13 x14 x15 z0 v kc ks) :
    wL_lawOf_163 post mc ms x0 x1 x3 x5 x6 x7 x8 x9 x10 x11 x12 x13 x14 x15 z0 kc ks :=
  br_c (fun c => K _ (by rw [if_pos c])) (fun c => br_c (fun e => K _ (by rw [if_neg c, if_pos e])) (fun e => K _ (by rw [if_neg c, if_neg e])))
theorem dk_l144 (K : ∀ v, v = (if x14 = 0 then 0 else if z0 < x11 then 0 else 1) → wL_lawOf_163 post mc ms x0 x1 x3 x5 x6 x7 x8 x9 x10 x11 x12 x13 x14 z0 v kc ks) :
    wL_lawOf_144 post mc ms x0 x1 x3 x5 x6 x7 x8 x9 x10 x11 x12 x13 x14 z0 kc ks :=
  br_c (fun c => K _ (by rw [if_pos c])) (fun c => br_c (fun e => K _ (by rw [if_neg c, if_pos e])) (fun e => K _ (by rw [if_neg c, if_neg e])))
theorem dk_l130 (K : ∀ v, v = (if z0 = 0 then 0 else x1 - x0) → wL_lawOf_144 post mc ms x0 x1 x3 x5 x6 x7 x8 x9 x10 x11 x12 x13 z0 v kc ks) :
    wL_lawOf_130 post mc ms x0 x1 x3 x5 x6 x7 x8 x9 x10 x11 x12 x13 z0 kc ks :=
  br_c (fun c => K _ (by rw [if_pos c])) (fun c => K _ (by rw [if_neg c]))
/-- the checks over a desk without a task: no form (z0 = 0), or a must too great -/
theorem dk_end0 (hz : z0 = 0 ∨ (z0 = 1 ∧ x1 - x0 < x11)) (h5 : x5 = if z0 = 0 then -1 else -3) (h6 : x6 = 0) (h7 : x7 = -1) (h8 : x8 = -1)
    (h9 : x9 = if x3 < 0 then -1 else if 23 < x3 then -1 else 0) (h10 : x10 = if x3 < 0 then -1 else if 23 < x3 then -1 else x3) (H : post 1 ()) :
    wL_lawOf_130 post mc ms x0 x1 x3 x5 x6 x7 x8 x9 x10 x11 x12 x13 z0 kc ks := by
  refine dk_l130 (fun n hn => dk_l144 (fun g hg => ?_))
  have g0 : g = 0 := by
    rcases hz with e | ⟨e, l⟩
    · rw [hg, if_pos e]
    · have ne : ¬ z0 = 0 := by rw [e]; decide
      rw [if_neg ne] at hn
      rw [hg, if_neg ne, hn, if_pos l]
  subst g0
  refine dk_l163 (fun k hk => dk_l194 (fun u hu => dk_l211 (fun i hi => ?_)))
  rw [if_pos rfl] at hi
  subst hi
  refine dk_l238 (fun f hf => ?_)
  rw [if_pos rfl] at hf
  subst hf
  refine dk_l257 (fun rs hrs => dk_l279 (fun th hth => ?_))
  rw [if_pos rfl] at hth
  subst hth
  refine dk_l310 ?_ ?_ ?_ ?_ ?_ ?_ H
  · rw [h5, if_pos rfl]
  · rw [h6, if_pos rfl]
  · rw [h7, if_pos rfl]
  · rw [h8, if_pos rfl]
  · rw [h9, if_pos rfl, hu]
    by_cases c : x3 < 0
    · rw [if_pos c, if_pos c, if_pos rfl]
    · rw [if_neg c, if_neg c]
      by_cases e : 23 < x3
      · rw [if_pos e, if_pos e, if_pos rfl]
      · rw [if_neg e, if_neg e, if_neg (by decide)]
  · rw [h10, if_pos rfl, hu]
    by_cases c : x3 < 0
    · rw [if_pos c, if_pos c, if_pos rfl]
    · rw [if_neg c, if_neg c]
      by_cases e : 23 < x3
      · rw [if_pos e, if_pos e, if_pos rfl]
      · rw [if_neg e, if_neg e, if_neg (by decide)]
theorem dk_min {a b : Nat} (ha : a < 2 ^ 31) (hb : b < 2 ^ 31) : (if nI a ≤ nI b then nI a else nI b) = nI (min b a) := by
  by_cases c : a ≤ b
  · rw [if_pos (nI_le c hb), Nat.min_eq_right c]
  · rw [if_neg (fun z => c ((nI_leI ha hb).mp z)), Nat.min_eq_left (by omega)]
/-- the checks over a desk with the task, a unit outside 0 .. 23 -/
theorem dk_end1 {r d m f w k : Nat} (hr : r < d) (hd : d ≤ 24) (hm : m ≤ d - r) (hf : f ≤ 6) (hk : k = min f (d - r - m)) (h3 : x3 < 0 ∨ 23 < x3)
    (h5 : x5 = 0) (h6 : x6 = nI (w * (f - k))) (h7 : x7 = nI k) (h8 : x8 = -1) (h9 : x9 = -1) (h10 : x10 = -1) (H : post 1 ()) :
    wL_lawOf_130 post mc ms (nI r) (nI d) x3 x5 x6 x7 x8 x9 x10 (nI m) (nI f) (nI w) 1 kc ks := by
  refine dk_l130 (fun n hn => ?_)
  rw [if_neg (by decide), pk_sub (by omega)] at hn
  subst hn
  refine dk_l144 (fun g hg => ?_)
  rw [if_neg (by decide), if_neg (nI_nlt hm (by omega))] at hg
  subst hg
  refine dk_l163 (fun kp hkp => ?_)
  rw [if_neg (by decide), pk_sub hm, dk_min (by omega) (by omega), ← hk] at hkp
  subst hkp
  refine dk_l194 (fun u hu => ?_)
  have u0 : u = 0 := by
    rw [hu]
    by_cases c : x3 < 0
    · rw [if_pos c]
    · rw [if_neg c, if_pos (h3.resolve_left c)]
  subst u0
  refine dk_l211 (fun i hi => ?_)
  rw [if_neg (by decide), if_pos rfl] at hi
  subst hi
  refine dk_l238 (fun fu hfu => ?_)
  rw [if_pos rfl] at hfu
  subst hfu
  refine dk_l257 (fun rs hrs => dk_l279 (fun th hth => dk_l310 ?_ ?_ ?_ ?_ ?_ ?_ H))
  · rw [h5, if_neg (by decide), if_neg (by decide)]
  · rw [h6, if_neg (by decide), pk_sub (by omega), pk_mul]
  · rw [h7, if_neg (by decide)]
  · rw [h8, if_pos rfl]
  · rw [h9, if_pos rfl]
  · rw [h10, if_pos rfl]
/-- the same, a unit t: N units are left without it -/
theorem dk_end2 {r d m f w k t : Nat} (hr : r < d) (hd : d ≤ 24) (hm : m ≤ d - r) (hf : f ≤ 6) (hk : k = min f (d - r - m)) (ht : t < 24)
    (h5 : x5 = 0) (h6 : x6 = nI (w * (f - k))) (h7 : x7 = nI k) (h8 : x8 = if r ≤ t ∧ t < r + (m + k) then 0 else -1)
    (hi : r ≤ t → t < d → (m = d - r ∧ x9 = -1 ∧ x10 = -3) ∨ (m ≤ d - r - 1 ∧ x9 = nI (w * (f - min f (d - r - 1 - m))) ∧ x10 = nI t))
    (ho : ¬ (r ≤ t ∧ t < d) → x9 = nI (w * (f - min f (d - r - m))) ∧ x10 = nI t) (H : post 1 ()) :
    wL_lawOf_130 post mc ms (nI r) (nI d) (nI t) x5 x6 x7 x8 x9 x10 (nI m) (nI f) (nI w) 1 kc ks := by
  refine dk_l130 (fun n hn => ?_)
  rw [if_neg (by decide), pk_sub (by omega)] at hn
  subst hn
  refine dk_l144 (fun g hg => ?_)
  rw [if_neg (by decide), if_neg (nI_nlt hm (by omega))] at hg
  subst hg
  refine dk_l163 (fun kp hkp => ?_)
  rw [if_neg (by decide), pk_sub hm, dk_min (by omega) (by omega), ← hk] at hkp
  subst hkp
  refine dk_l194 (fun u hu => ?_)
  rw [if_neg (nI_pos (by omega)), if_neg (show ¬ (23 : Int32) < nI t from nI_nlt (b := t) (a := 23) (by omega) (by decide))] at hu
  subst hu
  have b5 : x5 = if (1 : Int32) = 0 then -1 else if (1 : Int32) = 0 then -3 else 0 := by rw [h5, if_neg (by decide), if_neg (by decide)]
  have b6 : x6 = if (1 : Int32) = 0 then 0 else nI w * (nI f - nI k) := by rw [h6, if_neg (by decide), pk_sub (by omega), pk_mul]
  have b7 : x7 = if (1 : Int32) = 0 then -1 else nI k := by rw [h7, if_neg (by decide)]
  refine dk_l211 (fun i hin => ?_)
  rw [if_neg (by decide), if_neg (by decide)] at hin
  by_cases c : r ≤ t ∧ t < d
  · rw [if_neg (nI_nlt c.1 (by omega)), if_neg (nI_ge c.2 (by omega))] at hin
    subst hin
    have b8 : x8 = if (1 : Int32) = 0 then -1 else if nI r + nI m + nI k ≤ nI t then -1 else 0 := by
      rw [h8, if_neg (show ¬ (1 : Int32) = 0 by decide), nI_add, nI_add]
      by_cases e : t < r + (m + k)
      · rw [if_pos ⟨c.1, e⟩, if_neg (nI_ge (by omega) (by omega))]
      · rw [if_neg (fun q => e q.2), if_pos (nI_le (by omega) (by omega))]
    refine dk_l238 (fun fu hfu => ?_)
    rw [if_neg (by decide)] at hfu
    rcases hi c.1 c.2 with ⟨e, e9, e10⟩ | ⟨e, e9, e10⟩
    · rw [if_pos (by rw [e])] at hfu
      subst hfu
      refine dk_l257 (fun rs hrs => dk_l279 (fun th hth => dk_l310 b5 b6 b7 b8 ?_ ?_ H))
      · rw [e9, if_neg (by decide), if_neg (by decide)]
      · rw [e10, if_neg (by decide), if_neg (by decide)]
    · rw [if_neg (fun z => absurd ((nI_eq (by omega) (by omega)).mp z) (by omega))] at hfu
      subst hfu
      refine dk_l257 (fun rs hrs => ?_)
      rw [if_neg (by decide), show (1 : Int32) = nI 1 from rfl, pk_sub (by omega), pk_sub e] at hrs
      subst hrs
      refine dk_l279 (fun th hth => ?_)
      rw [if_neg (by decide), dk_min (by omega) (by omega), pk_sub (Nat.min_le_left _ _), pk_mul] at hth
      subst hth
      refine dk_l310 b5 b6 b7 b8 ?_ ?_ H
      · rw [e9, if_neg (by decide), if_pos rfl]
      · rw [e10, if_neg (by decide), if_pos rfl]
  · have hin0 : i = 0 := by
      rw [hin]
      by_cases e : t < r
      · rw [if_pos (nI_lt e (by omega))]
      · rw [if_neg (nI_nlt (by omega) (by omega)), if_pos (nI_le (by omega) (by omega))]
    subst hin0
    obtain ⟨e9, e10⟩ := ho c
    refine dk_l238 (fun fu hfu => ?_)
    rw [if_pos rfl] at hfu
    subst hfu
    refine dk_l257 (fun rs hrs => ?_)
    rw [if_pos rfl, pk_sub hm] at hrs
    subst hrs
    refine dk_l279 (fun th hth => ?_)
    rw [if_neg (by decide), dk_min (by omega) (by omega), pk_sub (Nat.min_le_left _ _), pk_mul] at hth
    subst hth
    refine dk_l310 b5 b6 b7 ?_ ?_ ?_ H
    · rw [h8, if_pos rfl, if_neg (fun q => c ⟨q.1, by omega⟩)]
    · rw [e9, if_neg (by decide), if_pos rfl]
    · rw [e10, if_neg (by decide), if_pos rfl]
end
end
section
theorem dk_ck0 {A B : Int32 → Int32 → Int32 → Prop} {p0 p1 p2 : Int32} (h : ¬ dk_form p0 p1 p2) (HA : A (p2 &&& 7) ((p2 >>> ((3 : Int32) &&& 31)) &&& 7) (p2 >>> ((6 : Int32) &&& 31))) :
    ∀ x11 : Int32, x11 = p2 &&& 7 → ∀ x12 : Int32, x12 = (p2 >>> ((3 : Int32) &&& 31)) &&& 7 → ∀ x13 : Int32, x13 = p2 >>> ((6 : Int32) &&& 31) →
    (p0 < 0 → A x11 x12 x13) ∧ (¬ p0 < 0 → (p1 ≤ p0 → A x11 x12 x13) ∧ (¬ p1 ≤ p0 → (24 < p1 → A x11 x12 x13) ∧ (¬ 24 < p1 → (p2 < 0 → A x11 x12 x13) ∧ (¬ p2 < 0 → (6 < x11 → A x11 x12 x13) ∧ (¬ 6 < x11 →
      (6 < x12 → A x11 x12 x13) ∧ (¬ 6 < x12 → (x13 < 1 → A x11 x12 x13) ∧ (¬ x13 < 1 → (9 < x13 → A x11 x12 x13) ∧ (¬ 9 < x13 → B x11 x12 x13)))))))) := by
  refine nm_e (nm_e (nm_e ?_))
  exact br_c (fun _ => HA) (fun g1 => br_c (fun _ => HA) (fun g2 => br_c (fun _ => HA) (fun g3 => br_c (fun _ => HA) (fun _ => br_c (fun _ => HA) (fun g4 => br_c (fun _ => HA) (fun g5 => br_c (fun _ => HA) (fun g6 => br_c (fun _ => HA) (fun g7 => absurd ⟨g1, g3, g2, g4, g5, g6, g7⟩ h))))))))
theorem dk_ck1 {A B : Int32 → Int32 → Int32 → Prop} {p2 : Int32} {r d m f w : Nat} (hr : r < d) (hd : d ≤ 24) (e7 : p2 &&& 7 = nI m) (e3 : (p2 >>> ((3 : Int32) &&& 31)) &&& 7 = nI f) (e6 : p2 >>> ((6 : Int32) &&& 31) = nI w)
    (hm : m ≤ 6) (hf : f ≤ 6) (hw : 1 ≤ w) (hw9 : w ≤ 9) (hp : ¬ p2 < 0) (HB : B (nI m) (nI f) (nI w)) :
    ∀ x11 : Int32, x11 = p2 &&& 7 → ∀ x12 : Int32, x12 = (p2 >>> ((3 : Int32) &&& 31)) &&& 7 → ∀ x13 : Int32, x13 = p2 >>> ((6 : Int32) &&& 31) →
    (nI r < 0 → A x11 x12 x13) ∧ (¬ nI r < 0 → (nI d ≤ nI r → A x11 x12 x13) ∧ (¬ nI d ≤ nI r → (24 < nI d → A x11 x12 x13) ∧ (¬ 24 < nI d → (p2 < 0 → A x11 x12 x13) ∧ (¬ p2 < 0 → (6 < x11 → A x11 x12 x13) ∧ (¬ 6 < x11 →
      (6 < x12 → A x11 x12 x13) ∧ (¬ 6 < x12 → (x13 < 1 → A x11 x12 x13) ∧ (¬ x13 < 1 → (9 < x13 → A x11 x12 x13) ∧ (¬ 9 < x13 → B x11 x12 x13)))))))) := by
  refine nm_r e7 (nm_r e3 (nm_r e6 ?_))
  exact br_f (nI_pos (by omega)) (pk_le d r (fun z => absurd z (by omega)) (fun _ => pk_lt 24 d (fun z => absurd z (by omega)) (fun _ => br_f hp (pk_lt 6 m (fun z => absurd z (by omega)) (fun _ =>
    pk_lt 6 f (fun z => absurd z (by omega)) (fun _ => pk_lt w 1 (fun z => absurd z (by omega)) (fun _ => pk_lt 9 w (fun z => absurd z (by omega)) (fun _ => HB))))))))
theorem dk_out {x : Int32} (h : x < 0 ∨ nI 24 ≤ x) : (x < 0 ∨ ¬ x < 24) ∧ (x < 0 ∨ 23 < x) := by
  rcases h with h | h
  · exact ⟨Or.inl h, Or.inl h⟩
  · have h' : (24 : Int32) ≤ x := h
    exact ⟨Or.inr (Int32.not_lt.mpr h'), Or.inr (Int32.lt_of_lt_of_le (by decide) h')⟩
theorem dk_form_nat {p0 p1 p2 : Int32} (h : dk_form p0 p1 p2) : ∃ r d m f w : Nat, p0 = nI r ∧ p1 = nI d ∧ r < d ∧ d ≤ 24 ∧ p2 &&& 7 = nI m ∧ (p2 >>> ((3 : Int32) &&& 31)) &&& 7 = nI f ∧ p2 >>> ((6 : Int32) &&& 31) = nI w ∧ m ≤ 6 ∧ f ≤ 6 ∧ 1 ≤ w ∧ w ≤ 9 ∧ ¬ p2 < 0 := by
  obtain ⟨g1, g2, g3, g4, g5, g6, g7⟩ := h
  have l2 : p1 ≤ 24 := Int32.not_lt.mp g2
  have l3 : p0 < p1 := Int32.not_le.mp g3
  have l0 : (0 : Int32) ≤ p0 := Int32.not_lt.mp g1
  obtain ⟨r, hr, rfl⟩ := nI_of2 (M := 24) (n := 24) rfl g1 (Int32.le_trans (Int32.le_of_lt l3) l2)
  obtain ⟨d, hd, rfl⟩ := nI_of2 (M := 24) (n := 24) rfl (Int32.not_lt.mpr (Int32.le_trans l0 (Int32.le_of_lt l3))) l2
  have hrd : r < d := (nI_ltI (by omega) (by omega)).mp l3
  obtain ⟨m, hm, e7⟩ := pk_andE p2 (m := 7) 3 (by decide)
  obtain ⟨f, hf, e3⟩ := pk_andE (p2 >>> ((3 : Int32) &&& 31)) (m := 7) 3 (by decide)
  obtain ⟨w, hw, e6⟩ := nI_of2 (M := 9) (n := 9) rfl (fun z => g6 (Int32.lt_of_lt_of_le z (by decide))) (Int32.not_lt.mp g7)
  have hm6 : m ≤ 6 := by
    rcases Nat.lt_or_ge 6 m with z | z
    · rw [e7] at g4
      exact absurd (show (6 : Int32) < nI m from nI_lt z (by omega)) g4
    · exact z
  have hf6 : f ≤ 6 := by
    rcases Nat.lt_or_ge 6 f with z | z
    · rw [e3] at g5
      exact absurd (show (6 : Int32) < nI f from nI_lt z (by omega)) g5
    · exact z
  have hw1 : 1 ≤ w := by
    rcases Nat.lt_or_ge w 1 with z | z
    · rw [e6] at g6
      exact absurd (show nI w < (1 : Int32) from nI_lt (b := 1) z (by decide)) g6
    · exact z
  refine ⟨r, d, m, f, w, rfl, rfl, hrd, hd, e7, e3, e6, hm6, hf6, hw1, hw, fun z => ?_⟩
  have s := pk_shr p2 ((6 : Int32) &&& 31) 6 (by decide)
  rw [e6, nI_toInt (by omega), Int.shiftRight_eq_div_pow] at s
  have z' : p2.toInt < 0 := Int32.lt_iff_toInt_lt.mp z
  omega
theorem dk_law {post : Int32 → St0 → Prop} {mc ms : Nat} (hc : 13 ≤ mc) (hs : 129 ≤ ms) (H : post 1 ()) (p0 p1 p2 p3 : Int32) : wpL_lawOf post mc ms () p0 p1 p2 p3 := by
  refine ⟨by omega, by omega, 12, 110, by omega, by omega, ?_⟩
  refine ⟨by decide, by decide, by decide, by decide, by decide, by decide, by decide, by decide, by decide, by decide, by decide, by decide, by decide, by decide, by decide, by decide, by decide, by decide, by decide, by decide, by decide, by decide, by decide, by decide, ?_⟩
  have ix : (p3 < 0 ∨ nI 24 ≤ p3) ∨ ∃ t : Nat, t < 24 ∧ p3 = nI t := by
    rcases pk_ix p3 (n := 24) (by decide) with h | h | h
    · exact Or.inl (Or.inl h)
    · exact Or.inl (Or.inr h)
    · exact Or.inr h
  by_cases hf : dk_form p0 p1 p2
  · obtain ⟨r, d, m, f, w, rfl, rfl, hr, hd, e7, e3, e6, hm, hf, hw, hw9, hp2⟩ := dk_form_nat hf
    refine dk_bring_ok hr hd e7 e3 e6 hm hf hw hw9 (fun hn sh re le a1 a2 a3 a4 a5 a6 a7 a8 a9 h1 h2 h3 h4 h5 => ?_) (fun hn sh re le a1 a2 a3 a4 a5 a6 a7 a8 a9 => ?_)
    · refine dk_loss1 h1 h2 h3 h4 h5 (by omega) hd hf hn (fun sh re le a6 a7 a8 a9 a10 a11 a12 e10 hp => ?_)
      refine dk_kept1 e10 ?_
      rcases ix with ho | ⟨t, ht, rfl⟩
      · obtain ⟨o1, o2⟩ := dk_out ho
        refine dk_at_out o1 (dk_wo_out o1 (dk_bl_out o1 ?_))
        exact dk_ck1 hr hd e7 e3 e6 hm hf hw hw9 hp2 (dk_end1 hr hd hn hf rfl o2 rfl rfl rfl rfl rfl rfl H)
      · refine dk_at_in ht ?_
        by_cases c : r ≤ t ∧ t < d
        · have hN : dk_N (0 ||| ((1 : Int32) <<< (nI t &&& 31))) r d = d - r - 1 := by
            have := dk_N_in hd c.1 c.2
            omega
          refine dk_wo1 ht hN h1 h2 h3 h4 h5 (by omega) hd hm hf hw9 (fun z sh re le a6 a7 a8 a9 a10 => ?_) (fun z sh re le a6 a7 a8 a9 => ?_)
          · refine dk_bl1 ht hN h1 h2 h3 (by omega) hd hm (fun z' u => ?_) (fun z' => absurd z' (by omega))
            obtain ⟨b0, b1, b2, b3, b4, b5, b6, b7, b8, b9, b10, b11, b12, b13, b14, b15, b16, b17, b18⟩ := u
            exact dk_ck1 hr hd e7 e3 e6 hm hf hw hw9 hp2 (dk_end2 hr hd hn hf rfl ht rfl rfl rfl (hp t ht) (fun _ _ => Or.inr ⟨z, rfl, rfl⟩) (fun q => absurd c q) H)
          · refine dk_bl1 ht hN h1 h2 h3 (by omega) hd hm (fun z' => absurd z' (by omega)) (fun z' u => ?_)
            obtain ⟨b0, b1, b2, b3, b4, b5, b6, b7, b8, b9, b10, b11, b12, b13, b14, b15, b16, b17, b18⟩ := u
            exact dk_ck1 hr hd e7 e3 e6 hm hf hw hw9 hp2 (dk_end2 hr hd hn hf rfl ht rfl rfl rfl (hp t ht) (fun _ _ => Or.inl ⟨by omega, rfl, rfl⟩) (fun q => absurd c q) H)
        · have hN : dk_N (0 ||| ((1 : Int32) <<< (nI t &&& 31))) r d = d - r := dk_N_out ht hd c
          refine dk_wo1 ht hN h1 h2 h3 h4 h5 (by omega) hd hm hf hw9 (fun z sh re le a6 a7 a8 a9 a10 => ?_) (fun z => absurd z (by omega))
          refine dk_bl1 ht hN h1 h2 h3 (by omega) hd hm (fun z' u => ?_) (fun z' => absurd z' (by omega))
          obtain ⟨b0, b1, b2, b3, b4, b5, b6, b7, b8, b9, b10, b11, b12, b13, b14, b15, b16, b17, b18⟩ := u
          exact dk_ck1 hr hd e7 e3 e6 hm hf hw hw9 hp2 (dk_end2 hr hd hn hf rfl ht rfl rfl rfl (hp t ht) (fun q1 q2 => absurd ⟨q1, q2⟩ c) (fun _ => ⟨rfl, rfl⟩) H)
    · refine dk_loss0 (fun sh re le a6 a7 a8 a9 a11 a12 hp => ?_)
      refine dk_kept0 ?_
      have hz : (1 : Int32) = 0 ∨ ((1 : Int32) = 1 ∧ nI d - nI r < nI m) := Or.inr ⟨rfl, by rw [pk_sub (by omega)]; exact nI_lt hn (by omega)⟩
      rcases ix with ho | ⟨t, ht, rfl⟩
      · obtain ⟨o1, o2⟩ := dk_out ho
        refine dk_at_out o1 (dk_wo_out o1 (dk_bl_out o1 ?_))
        have k : ∀ y : Int32, (-1 : Int32) = if p3 < 0 then -1 else if 23 < p3 then -1 else y := fun y => by
          by_cases c : p3 < 0
          · rw [if_pos c]
          · rw [if_neg c, if_pos (o2.resolve_left c)]
        exact dk_ck1 hr hd e7 e3 e6 hm hf hw hw9 hp2 (dk_end0 hz rfl rfl rfl rfl (k _) (k _) H)
      · refine dk_at_in ht ?_
        rw [hp t ht]
        refine dk_wo0 ht (fun sh a6 => dk_bl0 ht (fun u => ?_))
        obtain ⟨b0, b1, b2, b3, b4, b5, b6, b7, b8, b9, b10, b11, b12, b13, b14, b15, b16, b17, b18⟩ := u
        have k : ∀ y : Int32, y = if nI t < 0 then -1 else if 23 < nI t then -1 else y := fun y => by
          rw [if_neg (nI_pos (by omega)), if_neg (show ¬ (23 : Int32) < nI t from nI_nlt (b := t) (a := 23) (by omega) (by decide))]
        exact dk_ck1 hr hd e7 e3 e6 hm hf hw hw9 hp2 (dk_end0 hz rfl rfl rfl rfl (k _) (k _) H)
  · refine dk_bring_bad hf ?_
    refine dk_loss0 (fun sh re le a6 a7 a8 a9 a11 a12 hp => ?_)
    refine dk_kept0 ?_
    rcases ix with ho | ⟨t, ht, rfl⟩
    · obtain ⟨o1, o2⟩ := dk_out ho
      refine dk_at_out o1 (dk_wo_out o1 (dk_bl_out o1 ?_))
      have k : ∀ y : Int32, (-1 : Int32) = if p3 < 0 then -1 else if 23 < p3 then -1 else y := fun y => by
        by_cases c : p3 < 0
        · rw [if_pos c]
        · rw [if_neg c, if_pos (o2.resolve_left c)]
      exact dk_ck0 hf (dk_end0 (Or.inl rfl) rfl rfl rfl rfl (k _) (k _) H)
    · refine dk_at_in ht ?_
      rw [hp t ht]
      refine dk_wo0 ht (fun sh a6 => dk_bl0 ht (fun u => ?_))
      obtain ⟨b0, b1, b2, b3, b4, b5, b6, b7, b8, b9, b10, b11, b12, b13, b14, b15, b16, b17, b18⟩ := u
      have k : ∀ y : Int32, y = if nI t < 0 then -1 else if 23 < nI t then -1 else y := fun y => by
        rw [if_neg (nI_pos (by omega)), if_neg (show ¬ (23 : Int32) < nI t from nI_nlt (b := t) (a := 23) (by omega) (by decide))]
      exact dk_ck0 hf (dk_end0 (Or.inl rfl) rfl rfl rfl rfl (k _) (k _) H)
end
section
theorem dk_cell {post : Int32 → Prop} {xs : Nat → Int32} {L k : Nat} {x : Int32} (hL : L ≤ 4) (hk : k < 4) (hx : x = nI k) (H : ∀ v, post v) : wpL_cellAt post L xs () x := by
  subst hx
  exact pk_le L k (fun _ => H 0) (fun z => ⟨pk_in k L z, H _⟩)
theorem i_vc (xs : Nat → Int32) (L : Nat) (hL : L ≤ 4) : wpL_law (fun r => r = 1) L xs := by
  refine dk_cell (k := 0) hL (by omega) rfl (fun p0 => dk_cell (k := 1) hL (by omega) rfl (fun p1 => dk_cell (k := 2) hL (by omega) rfl (fun p2 => dk_cell (k := 3) hL (by omega) rfl (fun p3 => ?_))))
  exact ⟨52, 816, by omega, by omega, dk_law (by omega) (by omega) rfl p0 p1 p2 p3⟩
end
