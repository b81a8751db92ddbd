section
theorem pk_us {f : Nat → Int32} {k : Nat} {x : Int32} : upd f k x k = x := if_pos rfl
theorem pk_un {f : Nat → Int32} {k j : Nat} {x : Int32} (h : j ≠ k) : upd f k x j = f j := if_neg h
theorem pk_mul (a b : Nat) : nI a * nI b = nI (a * b) := (Int32.ofNat_mul a b).symm
theorem pk_ix (x : Int32) {n : Nat} (hn : n < 2 ^ 31) : x < 0 ∨ nI n ≤ x ∨ ∃ j : Nat, j < n ∧ x = nI j := by
  by_cases h : x < 0
  · exact Or.inl h
  · obtain ⟨j, hj, rfl⟩ := nI_of h
    by_cases h2 : j < n
    · exact Or.inr (Or.inr ⟨j, h2, rfl⟩)
    · exact Or.inr (Or.inl (nI_le (by omega) hj))
/-- g below i, a from i on: an array that a loop has written up to i -/
def zz_mix (i : Nat) (g a : Nat → Int32) : Nat → Int32 := fun j => if j < i then g j else a j
theorem zz_mix0 (g a : Nat → Int32) : zz_mix 0 g a = a := by
  funext j
  exact if_neg (Nat.not_lt_zero j)
theorem zz_mixlo {i j : Nat} {g a : Nat → Int32} (h : j < i) : zz_mix i g a j = g j := if_pos h
theorem zz_mixhi {i j : Nat} {g a : Nat → Int32} (h : i ≤ j) : zz_mix i g a j = a j := if_neg (by omega)
theorem zz_mixS (i : Nat) (g a : Nat → Int32) {x : Int32} (hx : x = g i) : upd (zz_mix i g a) i x = zz_mix (i + 1) g a := by
  funext j
  by_cases h : j = i
  · subst h
    rw [pk_us, zz_mixlo (Nat.lt_succ_self j), hx]
  · rw [pk_un h]
    by_cases h2 : j < i
    · rw [zz_mixlo h2, zz_mixlo (by omega)]
    · rw [zz_mixhi (by omega), zz_mixhi (by omega)]
theorem zz_mixK (i : Nat) (g a : Nat → Int32) (hx : g i = a i) : zz_mix i g a = zz_mix (i + 1) g a := by
  funext j
  by_cases h : j < i
  · rw [zz_mixlo h, zz_mixlo (by omega)]
  · by_cases h2 : j = i
    · subst h2
      rw [zz_mixhi (Nat.le_refl j), zz_mixlo (Nat.lt_succ_self j), hx]
    · rw [zz_mixhi (by omega), zz_mixhi (by omega)]
theorem zz_upd2 (f : Nat → Int32) (k : Nat) (x y : Int32) : upd (upd f k x) k y = upd f k y := by
  funext j
  by_cases h : j = k
  · subst h
    rw [pk_us, pk_us]
  · rw [pk_un h, pk_un h, pk_un h]
theorem zz_nb0 : vp_nar .boolean 0 = 0 := rfl
theorem zz_nb1 : vp_nar .boolean 1 = 1 := rfl
theorem zz_cl {i : Nat} (h : i < 64) : (nI i).toNatClampNeg = i := nI_clamp (by omega)
theorem zz_uc {f : Nat → Int32} {i : Nat} {x : Int32} (h : i < 64) : upd f (nI i).toNatClampNeg x = upd f i x := by rw [zz_cl h]
theorem zz_ub0 {f : Nat → Int32} {i : Nat} (h : i < 64) : upd f (nI i).toNatClampNeg (vp_nar .boolean 0) = upd f i 0 := by rw [zz_cl h, zz_nb0]
theorem zz_go {i N : Nat} (h : i < N) (hN : N ≤ 64) : ¬ nI N ≤ nI i := nI_ge h (by omega)
theorem zz_end {N : Nat} : nI N ≤ nI N := Int32.le_refl _
theorem zz_in {i N M : Nat} (h : i < N) (hN : N ≤ M) (hM : M ≤ 64) : vp_in (nI i) M := vp_in_nI (by omega) (by omega)
theorem zz_ix (a b : Nat) : nI a * 8 + nI b = nI (a * 8 + b) := by
  show nI a * nI 8 + nI b = _
  rw [pk_mul, nI_add]
theorem zz_10 : ¬ (1 : Int32) = 0 := by decide
theorem zz_01 : ¬ (0 : Int32) = 1 := by decide
/-- how many of the first n cells are not 0 -/
def zz_cnt (c : Nat → Int32) : Nat → Nat
  | 0 => 0
  | n + 1 => zz_cnt c n + (if c n = 0 then 0 else 1)
theorem zz_cnt_le (c : Nat → Int32) : ∀ n, zz_cnt c n ≤ n
  | 0 => Nat.le_refl 0
  | n + 1 => by
    have := zz_cnt_le c n
    unfold zz_cnt
    split <;> omega
theorem zz_cnt_lt (c : Nat → Int32) {k : Nat} (hk : c k = 0) : ∀ n, k < n → zz_cnt c n < n
  | 0 => fun h => absurd h (Nat.not_lt_zero k)
  | n + 1 => fun h => by
    have h1 := zz_cnt_le c n
    unfold zz_cnt
    by_cases e : k = n
    · subst e
      rw [if_pos hk]
      omega
    · have := zz_cnt_lt c hk n (by omega)
      split <;> omega
theorem zz_cnt_set (c : Nat → Int32) (k : Nat) : ∀ n, zz_cnt c n ≤ zz_cnt (upd c k 1) n
  | 0 => Nat.le_refl 0
  | n + 1 => by
    have := zz_cnt_set c k n
    unfold zz_cnt
    by_cases e : n = k
    · subst e
      rw [pk_us, if_neg zz_10]
      split <;> omega
    · rw [pk_un e]
      omega
theorem zz_cnt_new (c : Nat → Int32) {k : Nat} (hk : c k = 0) : ∀ n, k < n → zz_cnt c n + 1 ≤ zz_cnt (upd c k 1) n
  | 0 => fun h => absurd h (Nat.not_lt_zero k)
  | n + 1 => fun h => by
    unfold zz_cnt
    by_cases e : n = k
    · subst e
      have := zz_cnt_set c n n
      rw [pk_us, if_neg zz_10, if_pos hk]
      omega
    · have := zz_cnt_new c hk n (by omega)
      rw [pk_un e]
      omega
end
section
/-- one of the first P pairs is a and b, in either order -/
def zz_pair (P : Nat) (pa pb : Nat → Int32) (a b : Nat) : Prop := ∃ i, i < P ∧ ((pa i = nI a ∧ pb i = nI b) ∨ (pa i = nI b ∧ pb i = nI a))
theorem zz_pairS {P : Nat} {pa pb : Nat → Int32} {a b : Nat} (h : zz_pair P pa pb a b) : zz_pair P pa pb b a := by
  obtain ⟨i, hi, h⟩ := h
  exact ⟨i, hi, h.symm⟩
/-- what demand, waited, phase and active keep -/
def zz_Fac (N : Nat) (ph ac : Int32) (de wa : Nat → Int32) : Prop :=
  ((ph = 1 ∨ ph = 2) → ∃ c, c < N ∧ ac = nI c) ∧ (∀ j, N ≤ j → de j = 0 ∧ wa j = 0) ∧ (∀ j, de j = 0 ∨ de j = 1) ∧ (∀ j, de j = 0 → wa j = 0)
/-- what the conflict table and the list of pairs keep -/
def zz_Con (N P : Nat) (cf pa pb : Nat → Int32) : Prop :=
  P ≤ zz_cnt cf 64 ∧ (∀ a, a < N → cf (a * 8 + a) = 0) ∧ (∀ a b, a < N → b < N → (cf (a * 8 + b) = 0 ↔ ¬ zz_pair P pa pb a b))
def zz_Inv (N P : Nat) (ar ph ac fl : Int32) (la de wa cf pa pb : Nat → Int32) : Prop :=
  (1 ≤ N ∧ N ≤ 8) ∧ 0 ≤ ar ∧ (fl = 0 ∨ fl = 1) ∧ (∀ j, N ≤ j → la j = 0) ∧ zz_Fac N ph ac de wa ∧ zz_Con N P cf pa pb
/-- the two objects hold the same ints and the same arrays; the conflict table and the pairs say the same -/
def i_Rel (k : Nat) (u : SX) (v : SY) : Prop :=
  ∃ (N P : Nat) (mn mx am ar ph ac tm fl : Int32) (la de wa cf pa pb : Nat → Int32),
    u = (nI N, mn, mx, am, ar, ph, ac, tm, fl, la, de, wa, cf) ∧ v = (nI N, mn, mx, am, ar, nI P, ph, tm, ac, fl, la, de, wa, pa, pb) ∧ zz_Inv N P ar ph ac fl la de wa cf pa pb
theorem i_up {k : Nat} {u : SX} {v : SY} (h : i_Rel k u v) : i_Rel (k + 3) u v := h
theorem zz_mk {k N P : Nat} {mn mx am ar ph ac tm fl : Int32} {la de wa cf pa pb : Nat → Int32} (h : zz_Inv N P ar ph ac fl la de wa cf pa pb) : i_Rel k (nI N, mn, mx, am, ar, ph, ac, tm, fl, la, de, wa, cf) (nI N, mn, mx, am, ar, nI P, ph, tm, ac, fl, la, de, wa, pa, pb) :=
  ⟨N, P, mn, mx, am, ar, ph, ac, tm, fl, la, de, wa, cf, pa, pb, rfl, rfl, h⟩
theorem zz_el {R : SX → SY → Prop} {k : Nat} {u : SX} {v : SY}
    (h : ∀ (N P : Nat) (mn mx am ar ph ac tm fl : Int32) (la de wa cf pa pb : Nat → Int32), zz_Inv N P ar ph ac fl la de wa cf pa pb → R (nI N, mn, mx, am, ar, ph, ac, tm, fl, la, de, wa, cf) (nI N, mn, mx, am, ar, nI P, ph, tm, ac, fl, la, de, wa, pa, pb)) (I : i_Rel k u v) : R u v := by
  obtain ⟨N, P, mn, mx, am, ar, ph, ac, tm, fl, la, de, wa, cf, pa, pb, rfl, rfl, hI⟩ := I
  exact h N P mn mx am ar ph ac tm fl la de wa cf pa pb hI
section
variable {N P : Nat} {n mn mx am ar np ph ac tm fl : Int32} {la de wa cf pa pb : Nat → Int32}
theorem zx_b0 {post : Int32 → Prop} {j : Nat} (h : j < N) (hN : N ≤ 8) (hp : post 0) : wpX_bad post (nI N, mn, mx, am, ar, ph, ac, tm, fl, la, de, wa, cf) (nI j) :=
  br_f (nI_pos (by omega)) (br_t (nI_lt h (by omega)) hp)
theorem zy_b0 {post : Int32 → Prop} {j : Nat} (h : j < N) (hN : N ≤ 8) (hp : post 0) : wpY_bad post (nI N, mn, mx, am, ar, np, ph, tm, ac, fl, la, de, wa, pa, pb) (nI j) :=
  br_f (nI_pos (by omega)) (br_t (nI_lt h (by omega)) hp)
theorem zx_b1 {post : Int32 → Prop} {x : Int32} (h : x < 0 ∨ nI N ≤ x) (hp : post 1) : wpX_bad post (nI N, mn, mx, am, ar, ph, ac, tm, fl, la, de, wa, cf) x := by
  by_cases h0 : x < 0
  · exact br_t h0 hp
  · refine br_f h0 (br_f ?_ hp)
    rcases h with h | h
    · exact absurd h h0
    · exact Int32.not_lt.mpr h
theorem zy_b1 {post : Int32 → Prop} {x : Int32} (h : x < 0 ∨ nI N ≤ x) (hp : post 1) : wpY_bad post (nI N, mn, mx, am, ar, np, ph, tm, ac, fl, la, de, wa, pa, pb) x := by
  by_cases h0 : x < 0
  · exact br_t h0 hp
  · refine br_f h0 (br_f ?_ hp)
    rcases h with h | h
    · exact absurd h h0
    · exact Int32.not_lt.mpr h
end
theorem zz_ix2 (x : Int32) {N : Nat} (hN : N ≤ 8) : (x < 0 ∨ nI N ≤ x) ∨ ∃ j : Nat, j < N ∧ x = nI j := by
  rcases pk_ix x (n := N) (by omega) with h | h | h
  · exact Or.inl (Or.inl h)
  · exact Or.inl (Or.inr h)
  · exact Or.inr h
theorem i_vc_faulted {k : Nat} {u : SX} {v : SY} (I : i_Rel k u v) (hk : k + 3 ≤ 1541) : wpX_faulted (fun r => wpY_faulted (fun r' => r' = r ∧ i_Rel (k + 3) u v) v) u := by
  refine zz_el (R := fun u v => wpX_faulted (fun r => wpY_faulted (fun r' => r' = r ∧ i_Rel (k + 3) u v) v) u) ?_ I
  intro N P mn mx am ar ph ac tm fl la de wa cf pa pb h
  have e : narrow .boolean (.int fl) = .int fl := by
    rcases h.2.2.1 with rfl | rfl
    · rfl
    · rfl
  exact And.intro e (And.intro e ⟨rfl, zz_mk h⟩)
theorem i_vc_phase {k : Nat} {u : SX} {v : SY} (I : i_Rel k u v) (hk : k + 3 ≤ 1541) : wpX_phase (fun r => wpY_phase (fun r' => r' = r ∧ i_Rel (k + 3) u v) v) u := by
  refine zz_el (R := fun u v => wpX_phase (fun r => wpY_phase (fun r' => r' = r ∧ i_Rel (k + 3) u v) v) u) ?_ I
  intro N P mn mx am ar ph ac tm fl la de wa cf pa pb h
  exact And.intro rfl (zz_mk h)
theorem i_vc_timer {k : Nat} {u : SX} {v : SY} (I : i_Rel k u v) (hk : k + 3 ≤ 1541) : wpX_timer (fun r => wpY_timer (fun r' => r' = r ∧ i_Rel (k + 3) u v) v) u := by
  refine zz_el (R := fun u v => wpX_timer (fun r => wpY_timer (fun r' => r' = r ∧ i_Rel (k + 3) u v) v) u) ?_ I
  intro N P mn mx am ar ph ac tm fl la de wa cf pa pb h
  exact And.intro rfl (zz_mk h)
theorem i_vc_active {k : Nat} {u : SX} {v : SY} (I : i_Rel k u v) (hk : k + 3 ≤ 1541) : wpX_active (fun r => wpY_active (fun r' => r' = r ∧ i_Rel (k + 3) u v) v) u := by
  refine zz_el (R := fun u v => wpX_active (fun r => wpY_active (fun r' => r' = r ∧ i_Rel (k + 3) u v) v) u) ?_ I
  intro N P mn mx am ar ph ac tm fl la de wa cf pa pb h
  exact And.intro rfl (zz_mk h)
theorem i_vc_nGroup {k : Nat} {u : SX} {v : SY} (I : i_Rel k u v) (hk : k + 3 ≤ 1541) : wpX_nGroup (fun r => wpY_nGroup (fun r' => r' = r ∧ i_Rel (k + 3) u v) v) u := by
  refine zz_el (R := fun u v => wpX_nGroup (fun r => wpY_nGroup (fun r' => r' = r ∧ i_Rel (k + 3) u v) v) u) ?_ I
  intro N P mn mx am ar ph ac tm fl la de wa cf pa pb h
  exact And.intro rfl (zz_mk h)
theorem i_vc_minGreen {k : Nat} {u : SX} {v : SY} (I : i_Rel k u v) (hk : k + 3 ≤ 1541) : wpX_minGreen (fun r => wpY_minGreen (fun r' => r' = r ∧ i_Rel (k + 3) u v) v) u := by
  refine zz_el (R := fun u v => wpX_minGreen (fun r => wpY_minGreen (fun r' => r' = r ∧ i_Rel (k + 3) u v) v) u) ?_ I
  intro N P mn mx am ar ph ac tm fl la de wa cf pa pb h
  exact And.intro rfl (zz_mk h)
theorem i_vc_maxGreen {k : Nat} {u : SX} {v : SY} (I : i_Rel k u v) (hk : k + 3 ≤ 1541) : wpX_maxGreen (fun r => wpY_maxGreen (fun r' => r' = r ∧ i_Rel (k + 3) u v) v) u := by
  refine zz_el (R := fun u v => wpX_maxGreen (fun r => wpY_maxGreen (fun r' => r' = r ∧ i_Rel (k + 3) u v) v) u) ?_ I
  intro N P mn mx am ar ph ac tm fl la de wa cf pa pb h
  exact And.intro rfl (zz_mk h)
theorem i_vc_amber {k : Nat} {u : SX} {v : SY} (I : i_Rel k u v) (hk : k + 3 ≤ 1541) : wpX_amber (fun r => wpY_amber (fun r' => r' = r ∧ i_Rel (k + 3) u v) v) u := by
  refine zz_el (R := fun u v => wpX_amber (fun r => wpY_amber (fun r' => r' = r ∧ i_Rel (k + 3) u v) v) u) ?_ I
  intro N P mn mx am ar ph ac tm fl la de wa cf pa pb h
  exact And.intro rfl (zz_mk h)
theorem i_vc_allRed {k : Nat} {u : SX} {v : SY} (I : i_Rel k u v) (hk : k + 3 ≤ 1541) : wpX_allRed (fun r => wpY_allRed (fun r' => r' = r ∧ i_Rel (k + 3) u v) v) u := by
  refine zz_el (R := fun u v => wpX_allRed (fun r => wpY_allRed (fun r' => r' = r ∧ i_Rel (k + 3) u v) v) u) ?_ I
  intro N P mn mx am ar ph ac tm fl la de wa cf pa pb h
  exact And.intro rfl (zz_mk h)
end
section
theorem zz_updK {f : Nat → Int32} {k : Nat} {x : Int32} (h : f k = x) : upd f k x = f := by
  funext j
  by_cases e : j = k
  · subst e
    rw [pk_us, h]
  · rw [pk_un e]
section
variable {N P : Nat} {n mn mx am ar np ph ac tm fl : Int32} {la de wa cf pa pb : Nat → Int32} {j : Nat} {x y : Int32}
theorem zx_lampOf1 {post : Int32 → Prop} (h : x < 0 ∨ nI N ≤ x) (hp : post (-3)) : wpX_lampOf post (nI N, mn, mx, am, ar, ph, ac, tm, fl, la, de, wa, cf) x := by
  unfold wpX_lampOf
  exact zx_b1 h (br_f zz_10 hp)
theorem zy_lampOf1 {post : Int32 → Prop} (h : x < 0 ∨ nI N ≤ x) (hp : post (-3)) : wpY_lampOf post (nI N, mn, mx, am, ar, np, ph, tm, ac, fl, la, de, wa, pa, pb) x := by
  unfold wpY_lampOf
  exact zy_b1 h (br_f zz_10 hp)
theorem zx_lampOf0 {post : Int32 → Prop} (h : j < N) (hN : N ≤ 8) (hp : post (la j)) : wpX_lampOf post (nI N, mn, mx, am, ar, ph, ac, tm, fl, la, de, wa, cf) (nI j) := by
  unfold wpX_lampOf
  refine zx_b0 h hN (br_t rfl (And.intro (zz_in h hN (by omega)) ?_))
  rw [zz_cl (by omega)]
  exact hp
theorem zy_lampOf0 {post : Int32 → Prop} (h : j < N) (hN : N ≤ 8) (hp : post (la j)) : wpY_lampOf post (nI N, mn, mx, am, ar, np, ph, tm, ac, fl, la, de, wa, pa, pb) (nI j) := by
  unfold wpY_lampOf
  refine zy_b0 h hN (br_t rfl (And.intro (zz_in h hN (by omega)) ?_))
  rw [zz_cl (by omega)]
  exact hp
theorem zx_dem1 {post : Int32 → Prop} (h : x < 0 ∨ nI N ≤ x) (hp : post (-3)) : wpX_demandOf post (nI N, mn, mx, am, ar, ph, ac, tm, fl, la, de, wa, cf) x := by
  unfold wpX_demandOf
  exact zx_b1 h (br_f zz_10 hp)
theorem zy_dem1 {post : Int32 → Prop} (h : x < 0 ∨ nI N ≤ x) (hp : post (-3)) : wpY_demandOf post (nI N, mn, mx, am, ar, np, ph, tm, ac, fl, la, de, wa, pa, pb) x := by
  unfold wpY_demandOf
  exact zy_b1 h (br_f zz_10 hp)
theorem zx_dem0 {post : Int32 → Prop} (h : j < N) (hN : N ≤ 8) (hd : de j = 0 ∨ de j = 1) (hp : post (de j)) : wpX_demandOf post (nI N, mn, mx, am, ar, ph, ac, tm, fl, la, de, wa, cf) (nI j) := by
  unfold wpX_demandOf
  refine zx_b0 h hN (br_t rfl (And.intro (zz_in h hN (by omega)) ?_))
  rw [zz_cl (by omega)]
  rcases hd with e | e
  · rw [e] at hp ⊢
    exact br_t rfl hp
  · rw [e] at hp ⊢
    exact br_f zz_10 hp
theorem zy_dem0 {post : Int32 → Prop} (h : j < N) (hN : N ≤ 8) (hp : post (de j)) : wpY_demandOf post (nI N, mn, mx, am, ar, np, ph, tm, ac, fl, la, de, wa, pa, pb) (nI j) := by
  unfold wpY_demandOf
  refine zy_b0 h hN (br_t rfl (And.intro (zz_in h hN (by omega)) ?_))
  rw [zz_cl (by omega)]
  exact hp
theorem zx_wai1 {post : Int32 → Prop} (h : x < 0 ∨ nI N ≤ x) (hp : post (-3)) : wpX_waitedOf post (nI N, mn, mx, am, ar, ph, ac, tm, fl, la, de, wa, cf) x := by
  unfold wpX_waitedOf
  exact zx_b1 h (br_f zz_10 hp)
theorem zy_wai1 {post : Int32 → Prop} (h : x < 0 ∨ nI N ≤ x) (hp : post (-3)) : wpY_waitedOf post (nI N, mn, mx, am, ar, np, ph, tm, ac, fl, la, de, wa, pa, pb) x := by
  unfold wpY_waitedOf
  exact zy_b1 h (br_f zz_10 hp)
theorem zx_wai0 {post : Int32 → Prop} (h : j < N) (hN : N ≤ 8) (hd : de j = 0 → wa j = 0) (hp : post (wa j)) : wpX_waitedOf post (nI N, mn, mx, am, ar, ph, ac, tm, fl, la, de, wa, cf) (nI j) := by
  unfold wpX_waitedOf
  have hi : vp_in (nI j) 8 := zz_in h hN (by omega)
  refine zx_b0 h hN (br_t rfl (And.intro hi ?_))
  rw [zz_cl (by omega)]
  exact br_c (fun e => (hd e) ▸ hp) (fun _ => And.intro hi hp)
theorem zy_wai0 {post : Int32 → Prop} (h : j < N) (hN : N ≤ 8) (hp : post (wa j)) : wpY_waitedOf post (nI N, mn, mx, am, ar, np, ph, tm, ac, fl, la, de, wa, pa, pb) (nI j) := by
  unfold wpY_waitedOf
  refine zy_b0 h hN (br_t rfl (And.intro (zz_in h hN (by omega)) ?_))
  rw [zz_cl (by omega)]
  exact hp
theorem zx_call1 {post : Int32 → SX → Prop} (h : x < 0 ∨ nI N ≤ x) (hp : post (-3) (nI N, mn, mx, am, ar, ph, ac, tm, fl, la, de, wa, cf)) : wpX_call post (nI N, mn, mx, am, ar, ph, ac, tm, fl, la, de, wa, cf) x := by
  unfold wpX_call
  exact zx_b1 h (br_f zz_10 hp)
theorem zy_call1 {post : Int32 → SY → Prop} (h : x < 0 ∨ nI N ≤ x) (hp : post (-3) (nI N, mn, mx, am, ar, np, ph, tm, ac, fl, la, de, wa, pa, pb)) : wpY_call post (nI N, mn, mx, am, ar, np, ph, tm, ac, fl, la, de, wa, pa, pb) x := by
  unfold wpY_call
  exact zy_b1 h (br_f zz_10 hp)
theorem zx_call0 {post : Int32 → SX → Prop} (h : j < N) (hN : N ≤ 8) (hd : de j = 0 ∨ de j = 1) (hw : de j = 0 → wa j = 0) (hp : post 0 (nI N, mn, mx, am, ar, ph, ac, tm, fl, la, upd de j 1, wa, cf)) : wpX_call post (nI N, mn, mx, am, ar, ph, ac, tm, fl, la, de, wa, cf) (nI j) := by
  unfold wpX_call
  have hi : vp_in (nI j) 8 := zz_in h hN (by omega)
  refine zx_b0 h hN (br_t rfl (And.intro hi ?_))
  rw [zz_cl (by omega)]
  refine br_c (fun e => And.intro hi (nm_r rfl (And.intro hi (nm_r (zz_updK (hw e)) hp)))) (fun e => ?_)
  rcases hd with e1 | e1
  · exact absurd e1 e
  · rw [zz_updK e1] at hp
    exact hp
theorem zy_call0 {post : Int32 → SY → Prop} (h : j < N) (hN : N ≤ 8) (hp : post 0 (nI N, mn, mx, am, ar, np, ph, tm, ac, fl, la, upd de j 1, wa, pa, pb)) : wpY_call post (nI N, mn, mx, am, ar, np, ph, tm, ac, fl, la, de, wa, pa, pb) (nI j) := by
  unfold wpY_call
  refine zy_b0 h hN (br_t rfl (And.intro (zz_in h hN (by omega)) ?_))
  rw [zz_cl (by omega)]
  exact nm_e hp
theorem zx_for1 {post : Int32 → SX → Prop} (h : x < 0 ∨ nI N ≤ x) (hp : post (-3) (nI N, mn, mx, am, ar, ph, ac, tm, fl, la, de, wa, cf)) : wpX_forceLamp post (nI N, mn, mx, am, ar, ph, ac, tm, fl, la, de, wa, cf) x y := by
  unfold wpX_forceLamp
  exact zx_b1 h (br_f zz_10 hp)
theorem zy_for1 {post : Int32 → SY → Prop} (h : x < 0 ∨ nI N ≤ x) (hp : post (-3) (nI N, mn, mx, am, ar, np, ph, tm, ac, fl, la, de, wa, pa, pb)) : wpY_forceLamp post (nI N, mn, mx, am, ar, np, ph, tm, ac, fl, la, de, wa, pa, pb) x y := by
  unfold wpY_forceLamp
  exact zy_b1 h (br_f zz_10 hp)
theorem zx_for0 {post : Int32 → SX → Prop} (h : j < N) (hN : N ≤ 8) (hc : y < 0 → post (-4) (nI N, mn, mx, am, ar, ph, ac, tm, fl, la, de, wa, cf)) (hd : ¬ y < 0 → y ≤ 3 → post 0 (nI N, mn, mx, am, ar, ph, ac, tm, fl, upd la j y, de, wa, cf)) (he : ¬ y < 0 → ¬ y ≤ 3 → post (-4) (nI N, mn, mx, am, ar, ph, ac, tm, fl, la, de, wa, cf)) : wpX_forceLamp post (nI N, mn, mx, am, ar, ph, ac, tm, fl, la, de, wa, cf) (nI j) y := by
  unfold wpX_forceLamp
  refine zx_b0 h hN (br_t rfl ?_)
  rw [zz_cl (by omega)]
  exact br_c hc (fun e => br_c (fun e2 => And.intro (zz_in h hN (by omega)) (nm_e (hd e e2))) (fun e2 => he e e2))
theorem zy_for0 {post : Int32 → SY → Prop} (h : j < N) (hN : N ≤ 8) (hc : y < 0 → post (-4) (nI N, mn, mx, am, ar, np, ph, tm, ac, fl, la, de, wa, pa, pb)) (hd : ¬ y < 0 → y ≤ 3 → post 0 (nI N, mn, mx, am, ar, np, ph, tm, ac, fl, upd la j y, de, wa, pa, pb)) (he : ¬ y < 0 → ¬ y ≤ 3 → post (-4) (nI N, mn, mx, am, ar, np, ph, tm, ac, fl, la, de, wa, pa, pb)) : wpY_forceLamp post (nI N, mn, mx, am, ar, np, ph, tm, ac, fl, la, de, wa, pa, pb) (nI j) y := by
  unfold wpY_forceLamp
  refine zy_b0 h hN (br_t rfl ?_)
  rw [zz_cl (by omega)]
  exact br_c hc (fun e => br_c (fun e2 => And.intro (zz_in h hN (by omega)) (nm_e (hd e e2))) (fun e2 => he e e2))
theorem zz_InvLa {l2 : Nat → Int32} (h : zz_Inv N P ar ph ac fl la de wa cf pa pb) (hl : ∀ i, N ≤ i → l2 i = 0) : zz_Inv N P ar ph ac fl l2 de wa cf pa pb :=
  ⟨h.1, h.2.1, h.2.2.1, hl, h.2.2.2.2.1, h.2.2.2.2.2⟩
theorem zz_InvDe (h : zz_Inv N P ar ph ac fl la de wa cf pa pb) (hj : j < N) : zz_Inv N P ar ph ac fl la (upd de j 1) wa cf pa pb := by
  obtain ⟨h1, h2, h3, h4, ⟨f1, f2, f3, f4⟩, h6⟩ := h
  refine ⟨h1, h2, h3, h4, ⟨f1, fun i hi => ?_, fun i => ?_, fun i hi => ?_⟩, h6⟩
  · rw [pk_un (by omega)]
    exact f2 i hi
  · by_cases e : i = j
    · subst e
      rw [pk_us]
      exact Or.inr rfl
    · rw [pk_un e]
      exact f3 i
  · by_cases e : i = j
    · subst e
      rw [pk_us] at hi
      exact absurd hi zz_10
    · rw [pk_un e] at hi
      exact f4 i hi
end
theorem i_vc_lampOf {k : Nat} {u : SX} {v : SY} (I : i_Rel k u v) (hk : k + 3 ≤ 1541) (v1 : Int32) : wpX_lampOf (fun r => wpY_lampOf (fun r' => r' = r ∧ i_Rel (k + 3) u v) v v1) u v1 := by
  refine zz_el (R := fun u v => wpX_lampOf (fun r => wpY_lampOf (fun r' => r' = r ∧ i_Rel (k + 3) u v) v v1) u v1) ?_ I
  intro N P mn mx am ar ph ac tm fl la de wa cf pa pb h
  rcases zz_ix2 v1 h.1.2 with b | ⟨j, hj, rfl⟩
  · exact zx_lampOf1 b (zy_lampOf1 b ⟨rfl, zz_mk h⟩)
  · exact zx_lampOf0 hj h.1.2 (zy_lampOf0 hj h.1.2 ⟨rfl, zz_mk h⟩)
theorem i_vc_demandOf {k : Nat} {u : SX} {v : SY} (I : i_Rel k u v) (hk : k + 3 ≤ 1541) (v1 : Int32) : wpX_demandOf (fun r => wpY_demandOf (fun r' => r' = r ∧ i_Rel (k + 3) u v) v v1) u v1 := by
  refine zz_el (R := fun u v => wpX_demandOf (fun r => wpY_demandOf (fun r' => r' = r ∧ i_Rel (k + 3) u v) v v1) u v1) ?_ I
  intro N P mn mx am ar ph ac tm fl la de wa cf pa pb h
  rcases zz_ix2 v1 h.1.2 with b | ⟨j, hj, rfl⟩
  · exact zx_dem1 b (zy_dem1 b ⟨rfl, zz_mk h⟩)
  · exact zx_dem0 hj h.1.2 (h.2.2.2.2.1.2.2.1 j) (zy_dem0 hj h.1.2 ⟨rfl, zz_mk h⟩)
theorem i_vc_waitedOf {k : Nat} {u : SX} {v : SY} (I : i_Rel k u v) (hk : k + 3 ≤ 1541) (v1 : Int32) : wpX_waitedOf (fun r => wpY_waitedOf (fun r' => r' = r ∧ i_Rel (k + 3) u v) v v1) u v1 := by
  refine zz_el (R := fun u v => wpX_waitedOf (fun r => wpY_waitedOf (fun r' => r' = r ∧ i_Rel (k + 3) u v) v v1) u v1) ?_ I
  intro N P mn mx am ar ph ac tm fl la de wa cf pa pb h
  rcases zz_ix2 v1 h.1.2 with b | ⟨j, hj, rfl⟩
  · exact zx_wai1 b (zy_wai1 b ⟨rfl, zz_mk h⟩)
  · exact zx_wai0 hj h.1.2 (h.2.2.2.2.1.2.2.2 j) (zy_wai0 hj h.1.2 ⟨rfl, zz_mk h⟩)
theorem i_vc_call {k : Nat} {u : SX} {v : SY} (I : i_Rel k u v) (hk : k + 3 ≤ 1541) (v1 : Int32) : wpX_call (fun r u' => wpY_call (fun r' v' => r' = r ∧ i_Rel (k + 3) u' v') v v1) u v1 := by
  refine zz_el (R := fun u v => wpX_call (fun r u' => wpY_call (fun r' v' => r' = r ∧ i_Rel (k + 3) u' v') v v1) u v1) ?_ I
  intro N P mn mx am ar ph ac tm fl la de wa cf pa pb h
  rcases zz_ix2 v1 h.1.2 with b | ⟨j, hj, rfl⟩
  · exact zx_call1 b (zy_call1 b ⟨rfl, zz_mk h⟩)
  · exact zx_call0 hj h.1.2 (h.2.2.2.2.1.2.2.1 j) (h.2.2.2.2.1.2.2.2 j) (zy_call0 hj h.1.2 ⟨rfl, zz_mk (zz_InvDe h hj)⟩)
theorem i_vc_forceLamp {k : Nat} {u : SX} {v : SY} (I : i_Rel k u v) (hk : k + 3 ≤ 1541) (v1 : Int32) (v2 : Int32) : wpX_forceLamp (fun r u' => wpY_forceLamp (fun r' v' => r' = r ∧ i_Rel (k + 3) u' v') v v1 v2) u v1 v2 := by
  refine zz_el (R := fun u v => wpX_forceLamp (fun r u' => wpY_forceLamp (fun r' v' => r' = r ∧ i_Rel (k + 3) u' v') v v1 v2) u v1 v2) ?_ I
  intro N P mn mx am ar ph ac tm fl la de wa cf pa pb h
  rcases zz_ix2 v1 h.1.2 with b | ⟨j, hj, rfl⟩
  · exact zx_for1 b (zy_for1 b ⟨rfl, zz_mk h⟩)
  · have hl : ∀ i, N ≤ i → upd la j v2 i = 0 := fun i hi => by
      rw [pk_un (by omega)]
      exact h.2.2.2.1 i hi
    refine zx_for0 hj h.1.2 (fun c => ?_) (fun c d => ?_) (fun c d => ?_)
    · exact zy_for0 hj h.1.2 (fun _ => ⟨rfl, zz_mk h⟩) (fun z _ => absurd c z) (fun z _ => absurd c z)
    · exact zy_for0 hj h.1.2 (fun z => absurd z c) (fun _ _ => ⟨rfl, zz_mk (zz_InvLa h hl)⟩) (fun _ z => absurd d z)
    · exact zy_for0 hj h.1.2 (fun z => absurd z c) (fun _ z => absurd z d) (fun _ _ => ⟨rfl, zz_mk h⟩)
end
section
section
variable {N P : Nat} {mn mx am ar ph ac tm fl : Int32} {la de wa cf pa pb : Nat → Int32} {a b : Nat} {x y : Int32}
/-- Y's loop over the pairs -/
theorem zy_cfl {post : Int32 → Prop} (hP : P ≤ 64) (h1 : zz_pair P pa pb a b → post 1) (h0 : ¬ zz_pair P pa pb a b → post 0) : ∀ d i, i + d = P →
    (∀ q, q < i → ¬ ((pa q = nI a ∧ pb q = nI b) ∨ (pa q = nI b ∧ pb q = nI a))) →
    wY_conflictOf_21 post (nI a) (nI b) (nI N) mn mx am ar (nI P) ph tm ac fl la de wa pa pb (d + 1) (nI i) := by
  intro d
  induction d with
  | zero =>
    intro i hi hq
    have e : i = P := by omega
    subst e
    exact br_t zz_end (h0 (fun ⟨q, hq1, hq2⟩ => hq q hq1 hq2))
  | succ d ih =>
    intro i hi hq
    have hin : vp_in (nI i) 64 := zz_in (N := P) (by omega) hP (by omega)
    have hc : (nI i).toNatClampNeg = i := zz_cl (by omega)
    have ka : pa (nI i).toNatClampNeg = pa i := congrArg pa hc
    have kb : pb (nI i).toNatClampNeg = pb i := congrArg pb hc
    have hn : ¬ ((pa i = nI a ∧ pb i = nI b) ∨ (pa i = nI b ∧ pb i = nI a)) → wY_conflictOf_21 post (nI a) (nI b) (nI N) mn mx am ar (nI P) ph tm ac fl la de wa pa pb (d + 1) (nI (i + 1)) := by
      intro hm
      refine ih (i + 1) (by omega) (fun q hq1 => ?_)
      by_cases e : q = i
      · subst e
        exact hm
      · exact hq q (by omega)
    have hj : ¬ (pa i = nI a ∧ pb i = nI b) → wY_conflictOf_51 post (wY_conflictOf_21 post (nI a) (nI b) (nI N) mn mx am ar (nI P) ph tm ac fl la de wa pa pb (d + 1)) (nI a) (nI b) (nI i) (nI N) mn mx am ar (nI P) ph tm ac fl la de wa pa pb := by
      intro hm
      refine And.intro hin (br_c (fun e1 => And.intro hin (br_c (fun e2 => ?_) (fun e2 => nm_r (nI_1 i) (hn ?_)))) (fun e1 => nm_r (nI_1 i) (hn ?_)))
      · exact h1 ⟨i, by omega, Or.inr ⟨ka.symm.trans e1, kb.symm.trans e2⟩⟩
      · exact fun z => z.elim hm (fun w => e2 (kb.trans w.2))
      · exact fun z => z.elim hm (fun w => e1 (ka.trans w.1))
    refine br_f (zz_go (by omega) hP) (And.intro hin (br_c (fun e1 => And.intro hin (br_c (fun e2 => ?_) (fun e2 => hj ?_))) (fun e1 => hj ?_)))
    · exact h1 ⟨i, by omega, Or.inl ⟨ka.symm.trans e1, kb.symm.trans e2⟩⟩
    · exact fun w => e2 (kb.trans w.2)
    · exact fun w => e1 (ka.trans w.1)
theorem zy_cf {post : Int32 → Prop} (ha : a < N) (hb : b < N) (hN : N ≤ 8) (hP : P ≤ 64) (h1 : zz_pair P pa pb a b → post 1) (h0 : ¬ zz_pair P pa pb a b → post 0) : wpY_conflictOf post (nI N, mn, mx, am, ar, nI P, ph, tm, ac, fl, la, de, wa, pa, pb) (nI a) (nI b) := by
  unfold wpY_conflictOf
  exact zy_b0 ha hN (br_t rfl (zy_b0 hb hN (br_t rfl ⟨P + 1, zy_cfl hP h1 h0 P 0 (by omega) (fun q hq => absurd hq (Nat.not_lt_zero q))⟩)))
theorem zy_cf1 {post : Int32 → Prop} (h : x < 0 ∨ nI N ≤ x) (hp : post (-3)) : wpY_conflictOf post (nI N, mn, mx, am, ar, nI P, ph, tm, ac, fl, la, de, wa, pa, pb) x y := by
  unfold wpY_conflictOf
  exact zy_b1 h (br_f zz_10 hp)
theorem zy_cf2 {post : Int32 → Prop} (ha : a < N) (hN : N ≤ 8) (h : y < 0 ∨ nI N ≤ y) (hp : post (-3)) : wpY_conflictOf post (nI N, mn, mx, am, ar, nI P, ph, tm, ac, fl, la, de, wa, pa, pb) (nI a) y := by
  unfold wpY_conflictOf
  exact zy_b0 ha hN (br_t rfl (zy_b1 h (br_f zz_10 hp)))
theorem zx_cf {post : Int32 → Prop} (ha : a < N) (hb : b < N) (hN : N ≤ 8) (h1 : ¬ cf (a * 8 + b) = 0 → post 1) (h0 : cf (a * 8 + b) = 0 → post 0) : wpX_conflictOf post (nI N, mn, mx, am, ar, ph, ac, tm, fl, la, de, wa, cf) (nI a) (nI b) := by
  unfold wpX_conflictOf
  refine zx_b0 ha hN (br_t rfl (zx_b0 hb hN (br_t rfl ?_)))
  rw [zz_ix, zz_cl (by omega)]
  exact And.intro (zz_in (N := 64) (by omega) (by omega) (by omega)) (br_c h0 h1)
theorem zx_cf1 {post : Int32 → Prop} (h : x < 0 ∨ nI N ≤ x) (hp : post (-3)) : wpX_conflictOf post (nI N, mn, mx, am, ar, ph, ac, tm, fl, la, de, wa, cf) x y := by
  unfold wpX_conflictOf
  exact zx_b1 h (br_f zz_10 hp)
theorem zx_cf2 {post : Int32 → Prop} (ha : a < N) (hN : N ≤ 8) (h : y < 0 ∨ nI N ≤ y) (hp : post (-3)) : wpX_conflictOf post (nI N, mn, mx, am, ar, ph, ac, tm, fl, la, de, wa, cf) (nI a) y := by
  unfold wpX_conflictOf
  exact zx_b0 ha hN (br_t rfl (zx_b1 h (br_f zz_10 hp)))
theorem zx_sc1 {post : Int32 → SX → Prop} (h : x < 0 ∨ nI N ≤ x) (hp : post (-3) (nI N, mn, mx, am, ar, ph, ac, tm, fl, la, de, wa, cf)) : wpX_setConflict post (nI N, mn, mx, am, ar, ph, ac, tm, fl, la, de, wa, cf) x y := by
  unfold wpX_setConflict
  exact zx_b1 h (br_f zz_10 hp)
theorem zx_sc2 {post : Int32 → SX → Prop} (ha : a < N) (hN : N ≤ 8) (h : y < 0 ∨ nI N ≤ y) (hp : post (-3) (nI N, mn, mx, am, ar, ph, ac, tm, fl, la, de, wa, cf)) : wpX_setConflict post (nI N, mn, mx, am, ar, ph, ac, tm, fl, la, de, wa, cf) (nI a) y := by
  unfold wpX_setConflict
  exact zx_b0 ha hN (br_t rfl (zx_b1 h (br_f zz_10 hp)))
theorem zx_sc3 {post : Int32 → SX → Prop} (ha : a < N) (hN : N ≤ 8) (hp : post (-5) (nI N, mn, mx, am, ar, ph, ac, tm, fl, la, de, wa, cf)) : wpX_setConflict post (nI N, mn, mx, am, ar, ph, ac, tm, fl, la, de, wa, cf) (nI a) (nI a) := by
  unfold wpX_setConflict
  exact zx_b0 ha hN (br_t rfl (zx_b0 ha hN (br_t rfl (br_t rfl hp))))
theorem zx_sc0 {post : Int32 → SX → Prop} (ha : a < N) (hb : b < N) (hN : N ≤ 8) (hne : a ≠ b) (hp : post 0 (nI N, mn, mx, am, ar, ph, ac, tm, fl, la, de, wa, upd (upd cf (a * 8 + b) 1) (b * 8 + a) 1)) : wpX_setConflict post (nI N, mn, mx, am, ar, ph, ac, tm, fl, la, de, wa, cf) (nI a) (nI b) := by
  unfold wpX_setConflict
  refine zx_b0 ha hN (br_t rfl (zx_b0 hb hN (br_t rfl (br_f (fun e => hne ((nI_eq (by omega) (by omega)).mp e)) ?_))))
  rw [zz_ix, zz_ix, zz_cl (by omega), zz_cl (by omega)]
  exact And.intro (zz_in (N := 64) (by omega) (by omega) (by omega)) (nm_e (And.intro (zz_in (N := 64) (by omega) (by omega) (by omega)) (nm_e hp)))
theorem zy_sc1 {post : Int32 → SY → Prop} (h : x < 0 ∨ nI N ≤ x) (hp : post (-3) (nI N, mn, mx, am, ar, nI P, ph, tm, ac, fl, la, de, wa, pa, pb)) : wpY_setConflict post (nI N, mn, mx, am, ar, nI P, ph, tm, ac, fl, la, de, wa, pa, pb) x y := by
  unfold wpY_setConflict
  exact zy_b1 h (br_f zz_10 hp)
theorem zy_sc2 {post : Int32 → SY → Prop} (ha : a < N) (hN : N ≤ 8) (h : y < 0 ∨ nI N ≤ y) (hp : post (-3) (nI N, mn, mx, am, ar, nI P, ph, tm, ac, fl, la, de, wa, pa, pb)) : wpY_setConflict post (nI N, mn, mx, am, ar, nI P, ph, tm, ac, fl, la, de, wa, pa, pb) (nI a) y := by
  unfold wpY_setConflict
  exact zy_b0 ha hN (br_t rfl (zy_b1 h (br_f zz_10 hp)))
theorem zy_sc3 {post : Int32 → SY → Prop} (ha : a < N) (hN : N ≤ 8) (hp : post (-5) (nI N, mn, mx, am, ar, nI P, ph, tm, ac, fl, la, de, wa, pa, pb)) : wpY_setConflict post (nI N, mn, mx, am, ar, nI P, ph, tm, ac, fl, la, de, wa, pa, pb) (nI a) (nI a) := by
  unfold wpY_setConflict
  exact zy_b0 ha hN (br_t rfl (zy_b0 ha hN (br_t rfl (br_t rfl hp))))
theorem zy_sc0 {post : Int32 → SY → Prop} (ha : a < N) (hb : b < N) (hN : N ≤ 8) (hP : P ≤ 64) (hne : a ≠ b) (h1 : zz_pair P pa pb a b → post 0 (nI N, mn, mx, am, ar, nI P, ph, tm, ac, fl, la, de, wa, pa, pb))
    (h0 : ¬ zz_pair P pa pb a b → P < 64 ∧ post 0 (nI N, mn, mx, am, ar, nI (P + 1), ph, tm, ac, fl, la, de, wa, upd pa P (nI a), upd pb P (nI b))) : wpY_setConflict post (nI N, mn, mx, am, ar, nI P, ph, tm, ac, fl, la, de, wa, pa, pb) (nI a) (nI b) := by
  unfold wpY_setConflict
  refine zy_b0 ha hN (br_t rfl (zy_b0 hb hN (br_t rfl (br_f (fun e => hne ((nI_eq (by omega) (by omega)).mp e)) (zy_cf ha hb hN hP (fun h => br_f zz_10 (h1 h)) (fun h => br_t rfl ?_))))))
  obtain ⟨hp, h2⟩ := h0 h
  have hi : vp_in (nI P) 64 := zz_in hp (by omega) (by omega)
  rw [zz_cl hp]
  exact And.intro hi (nm_e (And.intro hi (nm_e (nm_r (nI_1 P) h2))))
end
theorem zz_code {a b c d : Nat} (hb : b < 8) (hd : d < 8) : c * 8 + d = a * 8 + b ↔ c = a ∧ d = b := by omega
theorem zz_cfv {cf : Nat → Int32} {a b c d : Nat} (ha : a < 8) (hb : b < 8) (hd : d < 8) : upd (upd cf (a * 8 + b) 1) (b * 8 + a) 1 (c * 8 + d) = 0 ↔ cf (c * 8 + d) = 0 ∧ ¬ (c = a ∧ d = b) ∧ ¬ (c = b ∧ d = a) := by
  by_cases e1 : c = b ∧ d = a
  · rw [e1.1, e1.2, pk_us]
    exact ⟨fun z => absurd z zz_10, fun z => absurd ⟨rfl, rfl⟩ z.2.2⟩
  · rw [pk_un (fun z => e1 ((zz_code ha hd).mp z))]
    by_cases e2 : c = a ∧ d = b
    · rw [e2.1, e2.2, pk_us]
      exact ⟨fun z => absurd z zz_10, fun z => absurd ⟨rfl, rfl⟩ z.2.1⟩
    · rw [pk_un (fun z => e2 ((zz_code hb hd).mp z))]
      exact ⟨fun z => ⟨z, e2, e1⟩, fun z => z.1⟩
theorem zz_pairN {P : Nat} {pa pb : Nat → Int32} {a b c d : Nat} (ha : a < 8) (hb : b < 8) (hc : c < 8) (hd : d < 8) :
    zz_pair (P + 1) (upd pa P (nI a)) (upd pb P (nI b)) c d ↔ zz_pair P pa pb c d ∨ (c = a ∧ d = b) ∨ (c = b ∧ d = a) := by
  constructor
  · intro ⟨i, hi, h⟩
    by_cases e : i = P
    · subst e
      rw [pk_us, pk_us] at h
      rcases h with ⟨h1, h2⟩ | ⟨h1, h2⟩
      · rw [nI_eq (by omega) (by omega)] at h1 h2
        exact Or.inr (Or.inl ⟨h1.symm, h2.symm⟩)
      · rw [nI_eq (by omega) (by omega)] at h1 h2
        exact Or.inr (Or.inr ⟨h2.symm, h1.symm⟩)
    · rw [pk_un e, pk_un e] at h
      exact Or.inl ⟨i, by omega, h⟩
  · intro h
    rcases h with ⟨i, hi, h⟩ | ⟨h1, h2⟩ | ⟨h1, h2⟩
    · refine ⟨i, by omega, ?_⟩
      rw [pk_un (by omega), pk_un (by omega)]
      exact h
    · refine ⟨P, by omega, Or.inl ?_⟩
      rw [pk_us, pk_us, h1, h2]
      exact ⟨rfl, rfl⟩
    · refine ⟨P, by omega, Or.inr ?_⟩
      rw [pk_us, pk_us, h1, h2]
      exact ⟨rfl, rfl⟩
/-- the table is set again where the pair stood already -/
theorem zz_ConO {N P : Nat} {cf pa pb : Nat → Int32} {a b : Nat} (h : zz_Con N P cf pa pb) (hN : N ≤ 8) (ha : a < N) (hb : b < N) (hne : a ≠ b) (hp : zz_pair P pa pb a b) : zz_Con N P (upd (upd cf (a * 8 + b) 1) (b * 8 + a) 1) pa pb := by
  obtain ⟨h1, h2, h3⟩ := h
  refine ⟨Nat.le_trans h1 (Nat.le_trans (zz_cnt_set cf _ 64) (zz_cnt_set _ _ 64)), fun c hc => ?_, fun c d hc hd => ?_⟩
  · rw [zz_cfv (by omega) (by omega) (by omega)]
    exact ⟨h2 c hc, by omega, by omega⟩
  · rw [zz_cfv (by omega) (by omega) (by omega), h3 c d hc hd]
    constructor
    · exact fun z => z.1
    · intro z
      refine ⟨z, fun w => z ?_, fun w => z ?_⟩
      · rw [w.1, w.2]
        exact hp
      · rw [w.1, w.2]
        exact zz_pairS hp
/-- a new pair -/
theorem zz_ConN {N P : Nat} {cf pa pb : Nat → Int32} {a b : Nat} (h : zz_Con N P cf pa pb) (hN : N ≤ 8) (ha : a < N) (hb : b < N) (hne : a ≠ b) (hp : ¬ zz_pair P pa pb a b) :
    P < 64 ∧ zz_Con N (P + 1) (upd (upd cf (a * 8 + b) 1) (b * 8 + a) 1) (upd pa P (nI a)) (upd pb P (nI b)) := by
  obtain ⟨h1, h2, h3⟩ := h
  have hz : cf (a * 8 + b) = 0 := (h3 a b ha hb).mpr hp
  refine ⟨Nat.lt_of_le_of_lt h1 (zz_cnt_lt cf hz 64 (by omega)), ?_, fun c hc => ?_, fun c d hc hd => ?_⟩
  · have k1 := zz_cnt_new cf hz 64 (by omega)
    have k2 := zz_cnt_set (upd cf (a * 8 + b) 1) (b * 8 + a) 64
    omega
  · rw [zz_cfv (by omega) (by omega) (by omega)]
    exact ⟨h2 c hc, by omega, by omega⟩
  · rw [zz_cfv (by omega) (by omega) (by omega), h3 c d hc hd, zz_pairN (by omega) (by omega) (by omega) (by omega)]
    constructor
    · exact fun z w => w.elim z.1 (fun w => w.elim z.2.1 z.2.2)
    · exact fun z => ⟨fun w => z (Or.inl w), fun w => z (Or.inr (Or.inl w)), fun w => z (Or.inr (Or.inr w))⟩
theorem zz_InvC {N P Q : Nat} {ar ph ac fl : Int32} {la de wa cf pa pb c2 p2 q2 : Nat → Int32} (h : zz_Inv N P ar ph ac fl la de wa cf pa pb) (hc : zz_Con N Q c2 p2 q2) : zz_Inv N Q ar ph ac fl la de wa c2 p2 q2 :=
  ⟨h.1, h.2.1, h.2.2.1, h.2.2.2.1, h.2.2.2.2.1, hc⟩
theorem zz_P64 {N P : Nat} {ar ph ac fl : Int32} {la de wa cf pa pb : Nat → Int32} (h : zz_Inv N P ar ph ac fl la de wa cf pa pb) : P ≤ 64 :=
  Nat.le_trans h.2.2.2.2.2.1 (zz_cnt_le cf 64)
theorem i_vc_conflictOf {k : Nat} {u : SX} {v : SY} (I : i_Rel k u v) (hk : k + 3 ≤ 1541) (v1 : Int32) (v2 : Int32) : wpX_conflictOf (fun r => wpY_conflictOf (fun r' => r' = r ∧ i_Rel (k + 3) u v) v v1 v2) u v1 v2 := by
  refine zz_el (R := fun u v => wpX_conflictOf (fun r => wpY_conflictOf (fun r' => r' = r ∧ i_Rel (k + 3) u v) v v1 v2) u v1 v2) ?_ I
  intro N P mn mx am ar ph ac tm fl la de wa cf pa pb h
  have hN := h.1.2
  rcases zz_ix2 v1 hN with z | ⟨a, ha, rfl⟩
  · exact zx_cf1 z (zy_cf1 z ⟨rfl, zz_mk h⟩)
  · rcases zz_ix2 v2 hN with z | ⟨b, hb, rfl⟩
    · exact zx_cf2 ha hN z (zy_cf2 ha hN z ⟨rfl, zz_mk h⟩)
    · have h3 := h.2.2.2.2.2.2.2 a b ha hb
      refine zx_cf ha hb hN (fun e => zy_cf ha hb hN (zz_P64 h) (fun _ => ⟨rfl, zz_mk h⟩) (fun q => absurd (h3.mpr q) e)) (fun e => zy_cf ha hb hN (zz_P64 h) (fun q => absurd q (h3.mp e)) (fun _ => ⟨rfl, zz_mk h⟩))
theorem i_vc_setConflict {k : Nat} {u : SX} {v : SY} (I : i_Rel k u v) (hk : k + 3 ≤ 1541) (v1 : Int32) (v2 : Int32) : wpX_setConflict (fun r u' => wpY_setConflict (fun r' v' => r' = r ∧ i_Rel (k + 3) u' v') v v1 v2) u v1 v2 := by
  refine zz_el (R := fun u v => wpX_setConflict (fun r u' => wpY_setConflict (fun r' v' => r' = r ∧ i_Rel (k + 3) u' v') v v1 v2) u v1 v2) ?_ I
  intro N P mn mx am ar ph ac tm fl la de wa cf pa pb h
  have hN := h.1.2
  rcases zz_ix2 v1 hN with z | ⟨a, ha, rfl⟩
  · exact zx_sc1 z (zy_sc1 z ⟨rfl, zz_mk h⟩)
  · rcases zz_ix2 v2 hN with z | ⟨b, hb, rfl⟩
    · exact zx_sc2 ha hN z (zy_sc2 ha hN z ⟨rfl, zz_mk h⟩)
    · by_cases e : a = b
      · subst e
        exact zx_sc3 ha hN (zy_sc3 ha hN ⟨rfl, zz_mk h⟩)
      · refine zx_sc0 ha hb hN e (zy_sc0 ha hb hN (zz_P64 h) e (fun q => ⟨rfl, zz_mk (zz_InvC h (zz_ConO h.2.2.2.2.2 hN ha hb e q))⟩) (fun q => ?_))
        obtain ⟨k1, k2⟩ := zz_ConN h.2.2.2.2.2 hN ha hb e q
        exact ⟨k1, rfl, zz_mk (zz_InvC h k2)⟩
end
section
section
variable {N P : Nat} {n mn mx am ar np ph ac tm fl : Int32} {cf pa pb : Nat → Int32}
theorem zx_inl {post : SX → Prop} (hp : post (n, mn, mx, am, ar, 0, -1, 0, 0, fun _ => 0, fun _ => 0, fun _ => 0, cf)) : ∀ d i (la de wa : Nat → Int32), i + d = 8 →
    (∀ j, (j < i ∨ 8 ≤ j) → la j = 0 ∧ de j = 0 ∧ wa j = 0) → wX_init__2 post n mn mx am ar ph ac tm fl (d + 1) (nI i) la de wa cf := by
  intro d
  induction d with
  | zero =>
    intro i la de wa hi h
    have e : i = 8 := by omega
    subst e
    have e1 : la = fun _ => 0 := funext fun j => (h j (by omega)).1
    have e2 : de = fun _ => 0 := funext fun j => (h j (by omega)).2.1
    have e3 : wa = fun _ => 0 := funext fun j => (h j (by omega)).2.2
    subst e1 e2 e3
    exact br_t (zz_end (N := 8)) hp
  | succ d ih =>
    intro i la de wa hi h
    have hin : vp_in (nI i) 8 := zz_in (N := 8) (by omega) (by omega) (by omega)
    have h64 : i < 64 := by omega
    refine br_f (zz_go (i := i) (N := 8) (by omega) (by omega)) (And.intro hin (nm_r (zz_uc h64) (And.intro hin (nm_r (zz_ub0 h64) (And.intro hin (nm_r (zz_uc h64) (nm_r (nI_1 i) (ih (i + 1) _ _ _ (by omega) ?_))))))))
    intro j hj
    by_cases e : j = i
    · subst e
      rw [pk_us, pk_us, pk_us]
      exact ⟨rfl, rfl, rfl⟩
    · rw [pk_un e, pk_un e, pk_un e]
      exact h j (by omega)
theorem zy_inl {post : SY → Prop} (hN : N ≤ 8) (hp : post (nI N, mn, mx, am, ar, np, 0, 0, -1, 0, fun _ => 0, fun _ => 0, fun _ => 0, pa, pb)) : ∀ d i (la de wa : Nat → Int32), i + d = N →
    (∀ j, (j < i ∨ N ≤ j) → la j = 0 ∧ de j = 0 ∧ wa j = 0) → wY_init__2 post (nI N) mn mx am ar np ph tm ac fl (d + 1) (nI i) la de wa pa pb := by
  intro d
  induction d with
  | zero =>
    intro i la de wa hi h
    have e : i = N := by omega
    subst e
    have e1 : la = fun _ => 0 := funext fun j => (h j (by omega)).1
    have e2 : de = fun _ => 0 := funext fun j => (h j (by omega)).2.1
    have e3 : wa = fun _ => 0 := funext fun j => (h j (by omega)).2.2
    subst e1 e2 e3
    exact br_t zz_end hp
  | succ d ih =>
    intro i la de wa hi h
    have hin : vp_in (nI i) 8 := zz_in (N := 8) (by omega) (by omega) (by omega)
    have h64 : i < 64 := by omega
    refine br_f (zz_go (by omega) (by omega)) (And.intro hin (nm_r (zz_uc h64) (And.intro hin (nm_r (zz_uc h64) (And.intro hin (nm_r (zz_uc h64) (nm_r (nI_1 i) (ih (i + 1) _ _ _ (by omega) ?_))))))))
    intro j hj
    by_cases e : j = i
    · subst e
      rw [pk_us, pk_us, pk_us]
      exact ⟨rfl, rfl, rfl⟩
    · rw [pk_un e, pk_un e, pk_un e]
      exact h j (by omega)
theorem zx_ini {post : SX → Prop} {la de wa : Nat → Int32} (h : ∀ j, 8 ≤ j → la j = 0 ∧ de j = 0 ∧ wa j = 0) (hp : post (n, mn, mx, am, ar, 0, -1, 0, 0, fun _ => 0, fun _ => 0, fun _ => 0, cf)) : wpX_init_ post (n, mn, mx, am, ar, ph, ac, tm, fl, la, de, wa, cf) := by
  unfold wpX_init_
  exact ⟨9, zx_inl hp 8 0 la de wa rfl (fun j hj => h j (by omega))⟩
theorem zy_ini {post : SY → Prop} {la de wa : Nat → Int32} (hN : N ≤ 8) (h : ∀ j, N ≤ j → la j = 0 ∧ de j = 0 ∧ wa j = 0) (hp : post (nI N, mn, mx, am, ar, np, 0, 0, -1, 0, fun _ => 0, fun _ => 0, fun _ => 0, pa, pb)) : wpY_init_ post (nI N, mn, mx, am, ar, np, ph, tm, ac, fl, la, de, wa, pa, pb) := by
  unfold wpY_init_
  exact ⟨N + 1, zy_inl hN hp N 0 la de wa (by omega) (fun j hj => h j (by omega))⟩
end
theorem zz_Fac0 (N : Nat) : zz_Fac N 0 (-1) (fun _ => 0) (fun _ => 0) :=
  ⟨fun h => absurd h (by decide), fun _ _ => ⟨rfl, rfl⟩, fun _ => Or.inl rfl, fun _ _ => rfl⟩
theorem i_vc_init_ {k : Nat} {u : SX} {v : SY} (I : i_Rel k u v) (hk : k + 3 ≤ 1541) : wpX_init_ (fun u' => wpY_init_ (fun v' => i_Rel (k + 3) u' v') v) u := by
  refine zz_el (R := fun u v => wpX_init_ (fun u' => wpY_init_ (fun v' => i_Rel (k + 3) u' v') v) u) ?_ I
  intro N P mn mx am ar ph ac tm fl la de wa cf pa pb h
  have hz : ∀ j, N ≤ j → la j = 0 ∧ de j = 0 ∧ wa j = 0 := fun j hj => ⟨h.2.2.2.1 j hj, h.2.2.2.2.1.2.1 j hj⟩
  have hN := h.1.2
  exact zx_ini (fun j hj => hz j (by omega)) (zy_ini hN hz (zz_mk ⟨h.1, h.2.1, Or.inl rfl, fun _ _ => rfl, zz_Fac0 N, h.2.2.2.2.2⟩))
/-- v held between lo and hi -/
def zz_clamp (v lo hi : Int32) : Int32 := if lo ≤ v then (if v ≤ hi then v else hi) else lo
theorem zz_cl2 {B : Int32 → Prop} {p lo hi : Int32} (hl : lo ≤ hi) (h : B (zz_clamp p lo hi)) :
    (lo ≤ p → ((p ≤ hi → B p) ∧ (¬ p ≤ hi → B hi))) ∧ (¬ lo ≤ p → ((lo ≤ hi → B lo) ∧ (¬ lo ≤ hi → B hi))) := by
  unfold zz_clamp at h
  refine ⟨fun h1 => ?_, fun h1 => ?_⟩
  · rw [if_pos h1] at h
    refine ⟨fun h2 => ?_, fun h2 => ?_⟩
    · rw [if_pos h2] at h
      exact h
    · rw [if_neg h2] at h
      exact h
  · rw [if_neg h1] at h
    exact ⟨fun _ => h, fun h2 => absurd hl h2⟩
theorem zy_clamp {post : Int32 → Prop} {p lo hi : Int32} (h : post (zz_clamp p lo hi)) : wpY_clamp post p lo hi := by
  unfold zz_clamp at h
  refine And.intro (fun h1 => ?_) (fun h1 => ?_)
  · rw [if_pos h1] at h
    refine ⟨fun h2 => ?_, fun h2 => ?_⟩
    · rw [if_pos h2] at h
      exact h
    · rw [if_neg h2] at h
      exact h
  · rw [if_neg h1] at h
    exact h
theorem zz_clle {p lo hi : Int32} (h : lo ≤ hi) : zz_clamp p lo hi ≤ hi := by
  unfold zz_clamp
  split
  · split
    · assumption
    · exact Int32.le_refl _
  · exact h
theorem zz_clge {p lo hi : Int32} (h : lo ≤ hi) : lo ≤ zz_clamp p lo hi := by
  unfold zz_clamp
  split
  · split
    · assumption
    · exact h
  · exact Int32.le_refl _
theorem zz_cln (p : Int32) : ∃ N : Nat, 1 ≤ N ∧ N ≤ 8 ∧ zz_clamp p 1 8 = nI N := by
  have h1 : (1 : Int32) ≤ zz_clamp p 1 8 := zz_clge (by decide)
  have h2 : zz_clamp p 1 8 ≤ 8 := zz_clle (by decide)
  rw [Int32.le_iff_toInt_le] at h1 h2
  have e1 : (1 : Int32).toInt = 1 := by decide
  have e8 : (8 : Int32).toInt = 8 := by decide
  rw [e1] at h1
  rw [e8] at h2
  obtain ⟨j, hj, e⟩ := vp_in_of (x := zz_clamp p 1 8) (n := 9) (vp_in_iff.mpr ⟨by omega, by omega⟩) (by omega)
  rw [e, nI_toInt (by omega)] at h1 h2
  exact ⟨j, by omega, by omega, e⟩
theorem zx_ctor {post : SX → Prop} {n mn mx am ar : Int32} (hp : post (n, mn, mx, am, ar, 0, -1, 0, 0, fun _ => 0, fun _ => 0, fun _ => 0, fun _ => 0)) :
    wX_init_148 post n mn mx am ar 0 0 0 0 0 0 0 0 0 (fun _ => 0) (fun _ => 0) (fun _ => 0) (fun _ => 0) := by
  unfold wX_init_148
  exact zx_ini (fun _ _ => ⟨rfl, rfl, rfl⟩) hp
theorem zx_new {post : SX → Prop} {p0 p1 p2 p3 p4 : Int32}
    (hp : post (zz_clamp p0 1 8, zz_clamp p1 1 5, zz_clamp p2 (zz_clamp p1 1 5) 9, zz_clamp p3 1 4, zz_clamp p4 0 4, 0, -1, 0, 0, fun _ => 0, fun _ => 0, fun _ => 0, fun _ => 0)) : wpX_init post p0 p1 p2 p3 p4 := by
  have h9 : zz_clamp p1 1 5 ≤ 9 := Int32.le_trans (zz_clle (by decide)) (by decide)
  refine zz_cl2 (B := fun x6 => wX_init_59 post p1 p2 p3 p4 x6 0 0 0 0 0 0 0 0 0 (fun _ => 0) (fun _ => 0) (fun _ => 0) (fun _ => 0)) (by decide) ?_
  refine zz_cl2 (B := fun x7 => wX_init_80 post p2 p3 p4 (zz_clamp p0 1 8) x7 0 0 0 0 0 0 0 0 0 (fun _ => 0) (fun _ => 0) (fun _ => 0) (fun _ => 0)) (by decide) ?_
  refine zz_cl2 (B := fun x8 => wX_init_105 post p3 p4 (zz_clamp p0 1 8) (zz_clamp p1 1 5) x8 0 0 0 0 0 0 0 0 0 (fun _ => 0) (fun _ => 0) (fun _ => 0) (fun _ => 0)) h9 ?_
  refine zz_cl2 (B := fun x9 => wX_init_127 post p4 (zz_clamp p0 1 8) (zz_clamp p1 1 5) (zz_clamp p2 (zz_clamp p1 1 5) 9) x9 0 0 0 0 0 0 0 0 0 (fun _ => 0) (fun _ => 0) (fun _ => 0) (fun _ => 0)) (by decide) ?_
  refine zz_cl2 (B := fun x10 => wX_init_148 post (zz_clamp p0 1 8) (zz_clamp p1 1 5) (zz_clamp p2 (zz_clamp p1 1 5) 9) (zz_clamp p3 1 4) x10 0 0 0 0 0 0 0 0 0 (fun _ => 0) (fun _ => 0) (fun _ => 0) (fun _ => 0)) (by decide) ?_
  exact zx_ctor hp
theorem zy_new {post : SY → Prop} {N : Nat} {p0 p1 p2 p3 p4 : Int32} (hN : N ≤ 8) (e : zz_clamp p0 1 8 = nI N)
    (hp : post (nI N, zz_clamp p1 1 5, zz_clamp p2 (zz_clamp p1 1 5) 9, zz_clamp p3 1 4, zz_clamp p4 0 4, 0, 0, 0, -1, 0, fun _ => 0, fun _ => 0, fun _ => 0, fun _ => 0, fun _ => 0)) : wpY_init post p0 p1 p2 p3 p4 := by
  unfold wpY_init
  refine zy_clamp (zy_clamp (zy_clamp (zy_clamp (zy_clamp ?_))))
  rw [e]
  exact zy_ini hN (fun _ _ => ⟨rfl, rfl, rfl⟩) hp
theorem zz_Con0 (N : Nat) : zz_Con N 0 (fun _ => 0) (fun _ => 0) (fun _ => 0) :=
  ⟨Nat.zero_le _, fun _ _ => rfl, fun _ _ _ _ => ⟨fun _ h => h.elim (fun i hi => absurd hi.1 (Nat.not_lt_zero i)), fun _ => rfl⟩⟩
theorem i_vc0 (k0 : Int32) (k1 : Int32) (k2 : Int32) (k3 : Int32) (k4 : Int32) : wpX_init (fun u => wpY_init (fun v => i_Rel 5 u v) k0 k1 k2 k3 k4) k0 k1 k2 k3 k4 := by
  obtain ⟨N, h1, h8, e⟩ := zz_cln k0
  refine zx_new (zy_new h8 e ?_)
  rw [e]
  exact zz_mk (P := 0) ⟨⟨h1, h8⟩, zz_clge (by decide), Or.inl rfl, fun _ _ => rfl, zz_Fac0 N, zz_Con0 N⟩
end
section
/-- the flag: 1 and B is known, or 0 and q (no hit so far) -/
def zz_G (B q : Prop) (f : Int32) : Prop := (f = 1 ∧ B) ∨ (f = 0 ∧ q)
theorem zz_Gm {B q q' : Prop} {f : Int32} (hq : q → q') (h : zz_G B q f) : zz_G B q' f := h.elim Or.inl (fun z => Or.inr ⟨z.1, hq z.2⟩)
/-- X's hit: a cell of the table and two lamps that are not 0 -/
def zz_hX (cf la : Nat → Int32) (a b : Nat) : Prop := ¬ cf (a * 8 + b) = 0 ∧ ¬ la a = 0 ∧ ¬ la b = 0
def zz_BX (N : Nat) (cf la : Nat → Int32) : Prop := ∃ a b, a < b ∧ b < N ∧ zz_hX cf la a b
def zz_qX (N : Nat) (cf la : Nat → Int32) (i j : Nat) : Prop := ∀ a b, a < b → b < N → (a < i ∨ (a = i ∧ b < j)) → ¬ zz_hX cf la a b
def zz_hY (P : Nat) (pa pb la : Nat → Int32) (a b : Nat) : Prop := zz_pair P pa pb a b ∧ ¬ la a = 0 ∧ ¬ la b = 0
def zz_BY (N P : Nat) (pa pb la : Nat → Int32) : Prop := ∃ a b, a < N ∧ b < N ∧ zz_hY P pa pb la a b
def zz_qY (N P : Nat) (pa pb la : Nat → Int32) (i j : Nat) : Prop := ∀ a b, a < N → b < N → (a < i ∨ (a = i ∧ b < j)) → ¬ zz_hY P pa pb la a b
theorem zz_qXs {N : Nat} {cf la : Nat → Int32} {i j : Nat} (hn : ¬ zz_hX cf la i j) (h : zz_qX N cf la i j) : zz_qX N cf la i (j + 1) := by
  intro a b h1 h2 h3
  by_cases e : a = i ∧ b = j
  · rw [e.1, e.2]
    exact hn
  · exact h a b h1 h2 (by omega)
theorem zz_qYs {N P : Nat} {pa pb la : Nat → Int32} {i j : Nat} (hn : ¬ zz_hY P pa pb la i j) (h : zz_qY N P pa pb la i j) : zz_qY N P pa pb la i (j + 1) := by
  intro a b h1 h2 h3
  by_cases e : a = i ∧ b = j
  · rw [e.1, e.2]
    exact hn
  · exact h a b h1 h2 (by omega)
section
variable {N P : Nat} {mn mx am ar ph ac tm fl : Int32} {la de wa cf pa pb : Nat → Int32}
/-- X's inner loop of the monitor -/
theorem zx_21 {post : Int32 → SX → Prop} {J : Int32 → Int32 → Prop} {i : Nat} (hN : N ≤ 8) (HJ : ∀ f, zz_G (zz_BX N cf la) (zz_qX N cf la (i + 1) 0) f → J (nI (i + 1)) f) :
    ∀ d j f, j + d = N → i < j → zz_G (zz_BX N cf la) (zz_qX N cf la i j) f → wX_tick_21 post J (nI i) (nI N) mn mx am ar ph ac tm la de wa cf (d + 1) (nI j) f := by
  intro d
  induction d with
  | zero =>
    intro j f hj hij h
    have e : j = N := by omega
    subst e
    exact br_t zz_end (nm_r (nI_1 i) (HJ f (zz_Gm (fun q a b h1 h2 h3 => q a b h1 h2 (by omega)) h)))
  | succ d ih =>
    intro j f hj hij h
    have hi8 : vp_in (nI i) 8 := zz_in (N := 8) (by omega) (by omega) (by omega)
    have hj8 : vp_in (nI j) 8 := zz_in (N := 8) (by omega) (by omega) (by omega)
    have h64 : vp_in (nI i * 8 + nI j) 64 := by
      rw [zz_ix]
      exact zz_in (N := 64) (by omega) (by omega) (by omega)
    have kc : cf (nI i * 8 + nI j).toNatClampNeg = cf (i * 8 + j) := by rw [zz_ix, zz_cl (by omega)]
    have ki : la (nI i).toNatClampNeg = la i := by rw [zz_cl (by omega)]
    have kj : la (nI j).toNatClampNeg = la j := by rw [zz_cl (by omega)]
    have hs : ¬ zz_hX cf la i j → wX_tick_21 post J (nI i) (nI N) mn mx am ar ph ac tm la de wa cf (d + 1) (nI (j + 1)) f := fun hn => ih (j + 1) f (by omega) (by omega) (zz_Gm (zz_qXs hn) h)
    refine br_f (zz_go (by omega) (by omega)) (And.intro h64 (br_c (fun e => nm_r (nI_1 j) (hs ?_)) (fun e => And.intro hi8 (br_c (fun e2 => nm_r (nI_1 j) (hs ?_)) (fun e2 => And.intro hj8 (br_c (fun e3 => nm_r (nI_1 j) (hs ?_)) (fun e3 => nm_r (nI_1 j) (ih (j + 1) 1 (by omega) (by omega) (Or.inl ⟨rfl, i, j, hij, by omega, ?_⟩)))))))))
    · exact fun z => z.1 (kc.symm.trans e)
    · exact fun z => z.2.1 (ki.symm.trans e2)
    · exact fun z => z.2.2 (kj.symm.trans e3)
    · exact ⟨fun z => e (kc.trans z), fun z => e2 (ki.trans z), fun z => e3 (kj.trans z)⟩
theorem zx_9 {post : Int32 → SX → Prop} (hN : N ≤ 8) (H1 : zz_BX N cf la → wX_tick_78 post (nI N) mn mx am ar ph ac tm 1 la de wa cf) (H0 : ¬ zz_BX N cf la → wX_tick_78 post (nI N) mn mx am ar ph ac tm 0 la de wa cf) :
    ∀ d i f, i + d = N → zz_G (zz_BX N cf la) (zz_qX N cf la i 0) f → wX_tick_9 post (nI N) mn mx am ar ph ac tm la de wa cf (d + 1) (nI i) f := by
  intro d
  induction d with
  | zero =>
    intro i f hi h
    have e : i = N := by omega
    subst e
    refine br_t zz_end ?_
    rcases h with ⟨rfl, h⟩ | ⟨rfl, h⟩
    · exact H1 h
    · exact H0 (fun ⟨a, b, h1, h2, h3⟩ => h a b h1 h2 (by omega) h3)
  | succ d ih =>
    intro i f hi h
    refine br_f (zz_go (by omega) (by omega)) (nm_r (nI_1 i) ⟨d + 1, zx_21 hN (fun f h => ih (i + 1) f (by omega) h) d (i + 1) f (by omega) (by omega) (zz_Gm (fun q a b h1 h2 h3 => q a b h1 h2 (by omega)) h)⟩)
/-- Y's inner loop of the monitor -/
theorem zy_19 {post : Int32 → SY → Prop} {J : Int32 → Int32 → Prop} {i : Nat} (hN : N ≤ 8) (hP : P ≤ 64) (hi : i < N) (HJ : ∀ f, zz_G (zz_BY N P pa pb la) (zz_qY N P pa pb la (i + 1) 0) f → J (nI (i + 1)) f) :
    ∀ d j f, j + d = N → zz_G (zz_BY N P pa pb la) (zz_qY N P pa pb la i j) f → wY_tick_19 post J (nI i) (nI N) mn mx am ar (nI P) ph tm ac la de wa pa pb (d + 1) (nI j) f := by
  intro d
  induction d with
  | zero =>
    intro j f hj h
    have e : j = N := by omega
    subst e
    exact br_t zz_end (nm_r (nI_1 i) (HJ f (zz_Gm (fun q a b h1 h2 h3 => q a b h1 h2 (by omega)) h)))
  | succ d ih =>
    intro j f hj h
    have hi8 : vp_in (nI i) 8 := zz_in (N := 8) (by omega) (by omega) (by omega)
    have hj8 : vp_in (nI j) 8 := zz_in (N := 8) (by omega) (by omega) (by omega)
    have ki : la (nI i).toNatClampNeg = la i := by rw [zz_cl (by omega)]
    have kj : la (nI j).toNatClampNeg = la j := by rw [zz_cl (by omega)]
    have hs : ¬ zz_hY P pa pb la i j → wY_tick_19 post J (nI i) (nI N) mn mx am ar (nI P) ph tm ac la de wa pa pb (d + 1) (nI (j + 1)) f := fun hn => ih (j + 1) f (by omega) (zz_Gm (zz_qYs hn) h)
    refine br_f (zz_go (by omega) (by omega)) (zy_cf hi (by omega) hN hP (fun e => br_t rfl (And.intro hi8 (br_c (fun e2 => nm_r (nI_1 j) (hs ?_)) (fun e2 => And.intro hj8 (br_c (fun e3 => nm_r (nI_1 j) (hs ?_)) (fun e3 => nm_r (nI_1 j) (ih (j + 1) 1 (by omega) (Or.inl ⟨rfl, i, j, hi, by omega, ?_⟩)))))))) (fun e => br_f zz_01 (nm_r (nI_1 j) (hs ?_))))
    · exact fun z => z.2.1 (ki.symm.trans e2)
    · exact fun z => z.2.2 (kj.symm.trans e3)
    · exact ⟨e, fun z => e2 (ki.trans z), fun z => e3 (kj.trans z)⟩
    · exact fun z => e z.1
theorem zy_9 {post : Int32 → SY → Prop} (hN : N ≤ 8) (hP : P ≤ 64) (H1 : zz_BY N P pa pb la → wY_tick_72 post (nI N) mn mx am ar (nI P) ph tm ac 1 la de wa pa pb) (H0 : ¬ zz_BY N P pa pb la → wY_tick_72 post (nI N) mn mx am ar (nI P) ph tm ac 0 la de wa pa pb) :
    ∀ d i f, i + d = N → zz_G (zz_BY N P pa pb la) (zz_qY N P pa pb la i 0) f → wY_tick_9 post (nI N) mn mx am ar (nI P) ph tm ac la de wa pa pb (d + 1) (nI i) f := by
  intro d
  induction d with
  | zero =>
    intro i f hi h
    have e : i = N := by omega
    subst e
    refine br_t zz_end ?_
    rcases h with ⟨rfl, h⟩ | ⟨rfl, h⟩
    · exact H1 h
    · exact H0 (fun ⟨a, b, h1, h2, h3⟩ => h a b h1 h2 (by omega) h3)
  | succ d ih =>
    intro i f hi h
    exact br_f (zz_go (by omega) (by omega)) ⟨N + 1, zy_19 hN hP (by omega) (fun f h => ih (i + 1) f (by omega) h) N 0 f (by omega) h⟩
theorem zx_mon {post : Int32 → SX → Prop} (hN : N ≤ 8) (H1 : zz_BX N cf la → wX_tick_78 post (nI N) mn mx am ar ph ac tm 1 la de wa cf) (H0 : ¬ zz_BX N cf la → wX_tick_78 post (nI N) mn mx am ar ph ac tm 0 la de wa cf) : wpX_tick post (nI N, mn, mx, am, ar, ph, ac, tm, 0, la, de, wa, cf) :=
  br_t rfl ⟨N + 1, zx_9 hN H1 H0 N 0 0 (by omega) (Or.inr ⟨rfl, fun a b h1 h2 h3 => absurd h3 (by omega)⟩)⟩
theorem zy_mon {post : Int32 → SY → Prop} (hN : N ≤ 8) (hP : P ≤ 64) (H1 : zz_BY N P pa pb la → wY_tick_72 post (nI N) mn mx am ar (nI P) ph tm ac 1 la de wa pa pb) (H0 : ¬ zz_BY N P pa pb la → wY_tick_72 post (nI N) mn mx am ar (nI P) ph tm ac 0 la de wa pa pb) : wpY_tick post (nI N, mn, mx, am, ar, nI P, ph, tm, ac, 0, la, de, wa, pa, pb) :=
  br_t rfl ⟨N + 1, zy_9 hN hP H1 H0 N 0 0 (by omega) (Or.inr ⟨rfl, fun a b h1 h2 h3 => absurd h3 (by omega)⟩)⟩
/-- the two monitors agree -/
theorem zz_BB (h : zz_Con N P cf pa pb) : zz_BX N cf la ↔ zz_BY N P pa pb la := by
  obtain ⟨h1, h2, h3⟩ := h
  have hp : ∀ a b, a < N → b < N → (¬ cf (a * 8 + b) = 0 ↔ zz_pair P pa pb a b) := fun a b ha hb =>
    ⟨fun z => Classical.byContradiction fun w => z ((h3 a b ha hb).mpr w), fun z w => (h3 a b ha hb).mp w z⟩
  constructor
  · intro ⟨a, b, hab, hb, e1, e2, e3⟩
    exact ⟨a, b, by omega, hb, (hp a b (by omega) hb).mp e1, e2, e3⟩
  · intro ⟨a, b, ha, hb, e1, e2, e3⟩
    by_cases e : a < b
    · exact ⟨a, b, e, hb, (hp a b ha hb).mpr e1, e2, e3⟩
    · by_cases e' : b < a
      · exact ⟨b, a, e', ha, (hp b a hb ha).mpr (zz_pairS e1), e3, e2⟩
      · have e4 : a = b := by omega
        subst e4
        exact absurd (h2 a ha) ((hp a a ha ha).mpr e1)
/-- all lamps flash -/
theorem zx_87 {post : Int32 → SX → Prop} (hN : N ≤ 8) (hp : post (-2) (nI N, mn, mx, am, ar, ph, ac, tm, fl, zz_mix N (fun _ => 3) la, de, wa, cf)) : ∀ d i, i + d = N → wX_tick_87 post (nI N) mn mx am ar ph ac tm fl (d + 1) (nI i) (zz_mix i (fun _ => 3) la) de wa cf := by
  intro d
  induction d with
  | zero =>
    intro i hi
    have e : i = N := by omega
    subst e
    exact br_t zz_end hp
  | succ d ih =>
    intro i hi
    have e : upd (zz_mix i (fun _ => 3) la) (nI i).toNatClampNeg 3 = zz_mix (i + 1) (fun _ => 3) la := by
      rw [zz_cl (by omega)]
      exact zz_mixS i _ la rfl
    exact br_f (zz_go (by omega) (by omega)) (And.intro (zz_in (N := N) (by omega) hN (by omega)) (nm_r e (nm_r (nI_1 i) (ih (i + 1) (by omega)))))
theorem zy_81 {post : Int32 → SY → Prop} (hN : N ≤ 8) (hp : post (-2) (nI N, mn, mx, am, ar, nI P, ph, tm, ac, fl, zz_mix N (fun _ => 3) la, de, wa, pa, pb)) : ∀ d i, i + d = N → wY_tick_81 post (nI N) mn mx am ar (nI P) ph tm ac fl (d + 1) (nI i) (zz_mix i (fun _ => 3) la) de wa pa pb := by
  intro d
  induction d with
  | zero =>
    intro i hi
    have e : i = N := by omega
    subst e
    exact br_t zz_end hp
  | succ d ih =>
    intro i hi
    have e : upd (zz_mix i (fun _ => 3) la) (nI i).toNatClampNeg 3 = zz_mix (i + 1) (fun _ => 3) la := by
      rw [zz_cl (by omega)]
      exact zz_mixS i _ la rfl
    exact br_f (zz_go (by omega) (by omega)) (And.intro (zz_in (N := N) (by omega) hN (by omega)) (nm_r e (nm_r (nI_1 i) (ih (i + 1) (by omega)))))
theorem zx_flash {post : Int32 → SX → Prop} (hN : N ≤ 8) (hf : ¬ fl = 0) (hp : post (-2) (nI N, mn, mx, am, ar, ph, ac, tm, fl, zz_mix N (fun _ => 3) la, de, wa, cf)) : wX_tick_78 post (nI N) mn mx am ar ph ac tm fl la de wa cf := by
  have h := zx_87 hN hp N 0 (by omega)
  rw [zz_mix0] at h
  exact br_f hf ⟨N + 1, h⟩
theorem zy_flash {post : Int32 → SY → Prop} (hN : N ≤ 8) (hf : ¬ fl = 0) (hp : post (-2) (nI N, mn, mx, am, ar, nI P, ph, tm, ac, fl, zz_mix N (fun _ => 3) la, de, wa, pa, pb)) : wY_tick_72 post (nI N) mn mx am ar (nI P) ph tm ac fl la de wa pa pb := by
  have h := zy_81 hN hp N 0 (by omega)
  rw [zz_mix0] at h
  exact br_f hf ⟨N + 1, h⟩
end
end
section
/-- waited behind a tick -/
def zz_wv (de wa : Nat → Int32) : Nat → Int32 := fun j => if de j = 0 then wa j else wa j + 1
/-- is there a demand below i other than the active group's? -/
def zz_oth (de : Nat → Int32) (ac : Int32) : Nat → Int32
  | 0 => 0
  | i + 1 => if nI i = ac then zz_oth de ac i else if de i = 0 then zz_oth de ac i else 1
/-- the first of the longest waiting below i, or -1 -/
def zz_best (de wa : Nat → Int32) : Nat → Int32
  | 0 => -1
  | i + 1 => if de i = 0 then zz_best de wa i else if zz_best de wa i < 0 then nI i else if wa i ≤ wa (zz_best de wa i).toNatClampNeg then zz_best de wa i else nI i
/-- the lamp of group j -/
def zz_lv (ph ac : Int32) : Nat → Int32 := fun j => if nI j = ac then (if ph = 1 then 2 else if ph = 2 then 1 else 0) else 0
/-- the tick's answer -/
def zz_ans (ph ac : Int32) : Int32 := if ph = 1 then ac else -1
theorem zz_best_in (de wa : Nat → Int32) : ∀ i, zz_best de wa i = -1 ∨ ∃ c, c < i ∧ zz_best de wa i = nI c
  | 0 => Or.inl rfl
  | i + 1 => by
    have h := zz_best_in de wa i
    have h' : zz_best de wa i = -1 ∨ ∃ c, c < i + 1 ∧ zz_best de wa i = nI c := h.elim Or.inl (fun ⟨c, hc, e⟩ => Or.inr ⟨c, by omega, e⟩)
    have hi : nI i = -1 ∨ ∃ c, c < i + 1 ∧ nI i = nI c := Or.inr ⟨i, by omega, rfl⟩
    unfold zz_best
    split
    · exact h'
    · split
      · exact hi
      · split
        · exact h'
        · exact hi
section
variable {N P : Nat} {mn mx am ar ph ac tm fl : Int32} {la de wa cf pa pb : Nat → Int32}
theorem zx_113 {post : Int32 → SX → Prop} (hN : N ≤ 8) (hx : wX_tick_113 post (nI N) mn mx am ar ph ac tm fl 1 (nI N) la de (zz_mix N (zz_wv de wa) wa) cf) : ∀ d i, i + d = N → wX_tick_113 post (nI N) mn mx am ar ph ac tm fl (d + 1) (nI i) la de (zz_mix i (zz_wv de wa) wa) cf := by
  intro d
  induction d with
  | zero =>
    intro i hi
    have e : i = N := by omega
    subst e
    exact hx
  | succ d ih =>
    intro i hi
    have hin : vp_in (nI i) 8 := zz_in (N := N) (by omega) hN (by omega)
    have hc : (nI i).toNatClampNeg = i := zz_cl (by omega)
    have r := ih (i + 1) (by omega)
    refine br_f (zz_go (by omega) (by omega)) (And.intro hin (br_c (fun e => nm_r (nI_1 i) ?_) (fun e => And.intro hin (And.intro hin (nm_r ?_ (nm_r (nI_1 i) r))))))
    · rw [hc] at e
      rw [← zz_mixK i (zz_wv de wa) wa (if_pos e)] at r
      exact r
    · rw [hc] at e
      rw [hc, zz_mixhi (Nat.le_refl i)]
      exact zz_mixS i (zz_wv de wa) wa (if_neg e).symm
theorem zy_107 {post : Int32 → SY → Prop} (hN : N ≤ 8) (hd : ∀ j, de j = 0 ∨ de j = 1) (hx : wY_tick_107 post (nI N) mn mx am ar (nI P) ph tm ac fl 1 (nI N) la de (zz_mix N (zz_wv de wa) wa) pa pb) : ∀ d i, i + d = N → wY_tick_107 post (nI N) mn mx am ar (nI P) ph tm ac fl (d + 1) (nI i) la de (zz_mix i (zz_wv de wa) wa) pa pb := by
  intro d
  induction d with
  | zero =>
    intro i hi
    have e : i = N := by omega
    subst e
    exact hx
  | succ d ih =>
    intro i hi
    have hin : vp_in (nI i) 8 := zz_in (N := N) (by omega) hN (by omega)
    have hc : (nI i).toNatClampNeg = i := zz_cl (by omega)
    have r := ih (i + 1) (by omega)
    refine br_f (zz_go (by omega) (by omega)) (And.intro hin (br_c (fun e => And.intro hin (And.intro hin (nm_r ?_ (nm_r (nI_1 i) r)))) (fun e => nm_r (nI_1 i) ?_)))
    · rw [hc] at e
      rw [hc, zz_mixhi (Nat.le_refl i)]
      exact zz_mixS i (zz_wv de wa) wa (if_neg (fun z => zz_01 (z.symm.trans e))).symm
    · rw [hc] at e
      have e0 : de i = 0 := (hd i).elim id (fun z => absurd z e)
      rw [← zz_mixK i (zz_wv de wa) wa (if_pos e0)] at r
      exact r
theorem zx_162 {post : Int32 → SX → Prop} (hN : N ≤ 8) (hx : wX_tick_162 post (nI N) mn mx am ar ph ac tm fl la de wa cf 1 (zz_oth de ac N) (nI N)) : ∀ d i, i + d = N → wX_tick_162 post (nI N) mn mx am ar ph ac tm fl la de wa cf (d + 1) (zz_oth de ac i) (nI i) := by
  intro d
  induction d with
  | zero =>
    intro i hi
    have e : i = N := by omega
    subst e
    exact hx
  | succ d ih =>
    intro i hi
    have hin : vp_in (nI i) 8 := zz_in (N := N) (by omega) hN (by omega)
    have hc : (nI i).toNatClampNeg = i := zz_cl (by omega)
    have r := ih (i + 1) (by omega)
    rw [zz_oth] at r
    refine br_f (zz_go (by omega) (by omega)) (br_c (fun e => nm_r (nI_1 i) ?_) (fun e => And.intro hin (br_c (fun e2 => nm_r (nI_1 i) ?_) (fun e2 => nm_r (nI_1 i) ?_))))
    · rw [if_pos e] at r
      exact r
    · rw [hc] at e2
      rw [if_neg e, if_pos e2] at r
      exact r
    · rw [hc] at e2
      rw [if_neg e, if_neg e2] at r
      exact r
theorem zy_155 {post : Int32 → SY → Prop} {z : Int32} (hN : N ≤ 8) (hd : ∀ j, de j = 0 ∨ de j = 1) (hx : wY_tick_155 post z (nI N) mn mx am ar (nI P) ph tm ac fl la de wa pa pb 1 (zz_oth de ac N) (nI N)) : ∀ d i, i + d = N → wY_tick_155 post z (nI N) mn mx am ar (nI P) ph tm ac fl la de wa pa pb (d + 1) (zz_oth de ac i) (nI i) := by
  intro d
  induction d with
  | zero =>
    intro i hi
    have e : i = N := by omega
    subst e
    exact hx
  | succ d ih =>
    intro i hi
    have hin : vp_in (nI i) 8 := zz_in (N := N) (by omega) hN (by omega)
    have hc : (nI i).toNatClampNeg = i := zz_cl (by omega)
    have r := ih (i + 1) (by omega)
    rw [zz_oth] at r
    refine br_f (zz_go (by omega) (by omega)) (br_c (fun e => nm_r (nI_1 i) ?_) (fun e => And.intro hin (br_c (fun e2 => nm_r (nI_1 i) ?_) (fun e2 => nm_r (nI_1 i) ?_))))
    · rw [if_pos e] at r
      exact r
    · rw [hc] at e2
      rw [if_neg e, if_neg (fun z => zz_01 (z.symm.trans e2))] at r
      exact r
    · rw [hc] at e2
      have e0 : de i = 0 := (hd i).elim id (fun z => absurd z e2)
      rw [if_neg e, if_pos e0] at r
      exact r
theorem zz_bin {i : Nat} (hi : i ≤ 8) (h : ¬ zz_best de wa i < 0) : vp_in (zz_best de wa i) 8 := by
  rcases zz_best_in de wa i with e | ⟨c, hc, e⟩
  · rw [e] at h
    exact absurd (by decide) h
  · rw [e]
    exact zz_in hc hi (by omega)
theorem zx_selL {post : SX → Prop} (hN : N ≤ 8) (hx : wX_select_4 post (nI N) mn mx am ar ph ac tm fl la de wa cf 1 (zz_best de wa N) (nI N)) : ∀ d i, i + d = N → wX_select_4 post (nI N) mn mx am ar ph ac tm fl la de wa cf (d + 1) (zz_best de wa i) (nI i) := by
  intro d
  induction d with
  | zero =>
    intro i hi
    have e : i = N := by omega
    subst e
    exact hx
  | succ d ih =>
    intro i hi
    have hin : vp_in (nI i) 8 := zz_in (N := N) (by omega) hN (by omega)
    have hc : (nI i).toNatClampNeg = i := zz_cl (by omega)
    have r := ih (i + 1) (by omega)
    rw [zz_best] at r
    refine br_f (zz_go (by omega) (by omega)) (And.intro hin (br_c (fun e => nm_r (nI_1 i) ?_) (fun e => br_c (fun e2 => nm_r (nI_1 i) ?_) (fun e2 => And.intro hin (And.intro (zz_bin (by omega) e2) (br_c (fun e3 => nm_r (nI_1 i) ?_) (fun e3 => nm_r (nI_1 i) ?_)))))))
    · rw [hc] at e
      rw [if_pos e] at r
      exact r
    · rw [hc] at e
      rw [if_neg e, if_pos e2] at r
      exact r
    · rw [hc] at e e3
      rw [if_neg e, if_neg e2, if_pos e3] at r
      exact r
    · rw [hc] at e e3
      rw [if_neg e, if_neg e2, if_neg e3] at r
      exact r
theorem zy_selL {post : Int32 → SY → Prop} (hN : N ≤ 8) (hd : ∀ j, de j = 0 ∨ de j = 1) (hx : wY_tick_345 post (nI N) mn mx am ar (nI P) ph tm ac fl la de wa pa pb 1 (zz_best de wa N) (nI N)) : ∀ d i, i + d = N → wY_tick_345 post (nI N) mn mx am ar (nI P) ph tm ac fl la de wa pa pb (d + 1) (zz_best de wa i) (nI i) := by
  intro d
  induction d with
  | zero =>
    intro i hi
    have e : i = N := by omega
    subst e
    exact hx
  | succ d ih =>
    intro i hi
    have hin : vp_in (nI i) 8 := zz_in (N := N) (by omega) hN (by omega)
    have hc : (nI i).toNatClampNeg = i := zz_cl (by omega)
    have r := ih (i + 1) (by omega)
    rw [zz_best] at r
    refine br_f (zz_go (by omega) (by omega)) (And.intro hin (br_c (fun e => br_c (fun e2 => nm_r (nI_1 i) ?_) (fun e2 => And.intro hin (And.intro (zz_bin (by omega) e2) (br_c (fun e3 => nm_r (nI_1 i) ?_) (fun e3 => nm_r (nI_1 i) ?_))))) (fun e => nm_r (nI_1 i) ?_)))
    · rw [hc] at e
      rw [if_neg (fun z => zz_01 (z.symm.trans e)), if_pos e2] at r
      exact r
    · rw [hc] at e e3
      rw [if_neg (fun z => zz_01 (z.symm.trans e)), if_neg e2, if_pos e3] at r
      exact r
    · rw [hc] at e e3
      rw [if_neg (fun z => zz_01 (z.symm.trans e)), if_neg e2, if_neg e3] at r
      exact r
    · rw [hc] at e
      have e0 : de i = 0 := (hd i).elim id (fun z => absurd z e)
      rw [if_pos e0] at r
      exact r
theorem zx_sel {post : SX → Prop} (hN : N ≤ 8) (Hn : zz_best de wa N = -1 → post (nI N, mn, mx, am, ar, 0, -1, 0, fl, la, de, wa, cf)) (Hs : ∀ c, c < N → zz_best de wa N = nI c → post (nI N, mn, mx, am, ar, 1, nI c, 1, fl, la, upd de c 0, upd wa c 0, cf)) : wpX_select post (nI N, mn, mx, am, ar, ph, ac, tm, fl, la, de, wa, cf) := by
  unfold wpX_select
  refine ⟨N + 1, zx_selL hN (br_t zz_end ?_) N 0 (by omega)⟩
  rcases zz_best_in de wa N with e | ⟨c, hc, e⟩
  · have h := Hn e
    rw [e]
    exact br_f (by decide) h
  · have h := Hs c hc e
    have hi : vp_in (nI c) 8 := zz_in hc hN (by omega)
    rw [e, zz_cl (by omega)]
    exact br_t (nI_pos' (by omega)) (And.intro hi (nm_e (And.intro hi (nm_e h))))
theorem zy_sel {post : Int32 → SY → Prop} (hN : N ≤ 8) (hd : ∀ j, de j = 0 ∨ de j = 1) (Hn : zz_best de wa N = -1 → ∃ n, wY_tick_443 post (nI N) mn mx am ar (nI P) 0 0 (-1) fl n 0 la de wa pa pb)
    (Hs : ∀ c, c < N → zz_best de wa N = nI c → ∃ n, wY_tick_443 post (nI N) mn mx am ar (nI P) 1 1 (nI c) fl n 0 la (upd de c 0) (upd wa c 0) pa pb) : wY_tick_337 post 1 (nI N) mn mx am ar (nI P) ph tm ac fl la de wa pa pb := by
  refine br_f zz_10 ⟨N + 1, zy_selL hN hd (br_t zz_end ?_) N 0 (by omega)⟩
  rcases zz_best_in de wa N with e | ⟨c, hc, e⟩
  · have h := Hn e
    rw [e]
    exact br_f (by decide) h
  · have h := Hs c hc e
    have hi : vp_in (nI c) 8 := zz_in hc hN (by omega)
    rw [e, zz_cl (by omega)]
    exact br_t (nI_pos' (by omega)) (And.intro hi (nm_e (And.intro hi (nm_e h))))
theorem zx_351 {post : Int32 → SX → Prop} (hN : N ≤ 8) (hx : wX_tick_351 post (nI N) mn mx am ar ph ac tm fl 1 (nI N) (zz_mix N (fun _ => 0) la) de wa cf) : ∀ d i, i + d = N → wX_tick_351 post (nI N) mn mx am ar ph ac tm fl (d + 1) (nI i) (zz_mix i (fun _ => 0) la) de wa cf := by
  intro d
  induction d with
  | zero =>
    intro i hi
    have e : i = N := by omega
    subst e
    exact hx
  | succ d ih =>
    intro i hi
    have e : upd (zz_mix i (fun _ => 0) la) (nI i).toNatClampNeg 0 = zz_mix (i + 1) (fun _ => 0) la := by
      rw [zz_cl (by omega)]
      exact zz_mixS i _ la rfl
    exact br_f (zz_go (by omega) (by omega)) (And.intro (zz_in (N := N) (by omega) hN (by omega)) (nm_r e (nm_r (nI_1 i) (ih (i + 1) (by omega)))))
theorem zz_lvat {c : Nat} (x : Int32) (hN : N ≤ 8) (hc : c < N) (hx : x = if ph = 1 then 2 else if ph = 2 then 1 else 0) : upd (zz_mix N (fun _ => 0) la) c x = zz_mix N (zz_lv ph (nI c)) la := by
  funext j
  by_cases e : j = c
  · subst e
    rw [pk_us, zz_mixlo hc, hx]
    exact (if_pos rfl).symm
  · rw [pk_un e]
    by_cases e2 : j < N
    · rw [zz_mixlo e2, zz_mixlo e2]
      exact (if_neg (fun z => e ((nI_eq (by omega) (by omega)).mp z))).symm
    · rw [zz_mixhi (by omega), zz_mixhi (by omega)]
theorem zz_lv0 (h1 : ¬ ph = 1) (h2 : ¬ ph = 2) : (fun _ => 0) = zz_lv ph ac := by
  funext j
  show 0 = if nI j = ac then (if ph = 1 then (2 : Int32) else if ph = 2 then 1 else 0) else 0
  rw [if_neg h1, if_neg h2]
  split <;> rfl
theorem zx_lamps {post : Int32 → SX → Prop} (hN : N ≤ 8) (hf : (ph = 1 ∨ ph = 2) → ∃ c, c < N ∧ ac = nI c) (hp : post (zz_ans ph ac) (nI N, mn, mx, am, ar, ph, ac, tm, fl, zz_mix N (zz_lv ph ac) la, de, wa, cf)) : ∃ n, wX_tick_351 post (nI N) mn mx am ar ph ac tm fl n 0 la de wa cf := by
  have hx : wX_tick_351 post (nI N) mn mx am ar ph ac tm fl 1 (nI N) (zz_mix N (fun _ => 0) la) de wa cf := by
    refine br_t zz_end ?_
    by_cases h1 : ph = 1
    · obtain ⟨c, hc, e⟩ := hf (Or.inl h1)
      rw [zz_ans, if_pos h1] at hp
      subst e
      have hv := zz_lvat (ph := ph) (la := la) 2 hN hc (if_pos h1).symm
      refine br_t h1 (And.intro (zz_in hc hN (by omega)) (nm_r ?_ hp))
      rw [zz_cl (by omega)]
      exact hv
    · rw [zz_ans, if_neg h1] at hp
      by_cases h2 : ph = 2
      · obtain ⟨c, hc, e⟩ := hf (Or.inr h2)
        subst e
        have hv := zz_lvat (ph := ph) (la := la) 1 hN hc ((if_neg h1).trans (if_pos h2)).symm
        refine br_f h1 (br_t h2 (And.intro (zz_in hc hN (by omega)) (nm_r ?_ hp)))
        rw [zz_cl (by omega)]
        exact hv
      · rw [← zz_lv0 h1 h2] at hp
        exact br_f h1 (br_f h2 hp)
  have h := zx_351 hN hx N 0 (by omega)
  rw [zz_mix0] at h
  exact ⟨N + 1, h⟩
theorem zy_443 {post : Int32 → SY → Prop} (hN : N ≤ 8) (hp : post (zz_ans ph ac) (nI N, mn, mx, am, ar, nI P, ph, tm, ac, fl, zz_mix N (zz_lv ph ac) la, de, wa, pa, pb)) : ∀ d i, i + d = N → wY_tick_443 post (nI N) mn mx am ar (nI P) ph tm ac fl (d + 1) (nI i) (zz_mix i (zz_lv ph ac) la) de wa pa pb := by
  intro d
  induction d with
  | zero =>
    intro i hi
    have e : i = N := by omega
    subst e
    refine br_t zz_end (br_c (fun h1 => ?_) (fun h1 => ?_))
    · rw [zz_ans, if_pos h1] at hp
      exact hp
    · rw [zz_ans, if_neg h1] at hp
      exact hp
  | succ d ih =>
    intro i hi
    have hin : vp_in (nI i) 8 := zz_in (N := N) (by omega) hN (by omega)
    have hc : (nI i).toNatClampNeg = i := zz_cl (by omega)
    have r := ih (i + 1) (by omega)
    refine br_f (zz_go (by omega) (by omega)) (And.intro hin (nm_r (zz_uc (by omega)) ?_))
    have hS := fun x hx => zz_mixS i (zz_lv ph ac) la (x := x) hx
    have hv : nI i = ac → zz_lv ph ac i = if ph = 1 then 2 else if ph = 2 then 1 else 0 := fun e => if_pos e
    refine br_c (fun e => br_c (fun h1 => And.intro hin (nm_r (e' := zz_mix (i + 1) (zz_lv ph ac) la) ?_ ?_)) (fun h1 => ?_)) (fun e => ?_)
    · rw [hc, zz_upd2]
      exact hS 2 ((hv e).trans (if_pos h1)).symm
    · have h2 : ¬ ph = 2 := fun z => absurd (h1.symm.trans z) (by decide)
      exact br_t e (br_f h2 (nm_r (nI_1 i) r))
    · by_cases h2 : ph = 2
      · refine br_t e (br_t h2 (And.intro hin (nm_r (e' := zz_mix (i + 1) (zz_lv ph ac) la) ?_ (nm_r (nI_1 i) r))))
        rw [hc, zz_upd2]
        exact hS 1 (((hv e).trans (if_neg h1)).trans (if_pos h2)).symm
      · rw [hS 0 (((hv e).trans (if_neg h1)).trans (if_neg h2)).symm]
        exact br_t e (br_f h2 (nm_r (nI_1 i) r))
    · rw [hS 0 (if_neg e).symm]
      exact br_f e (nm_r (nI_1 i) r)
theorem zy_lamps {post : Int32 → SY → Prop} (hN : N ≤ 8) (hp : post (zz_ans ph ac) (nI N, mn, mx, am, ar, nI P, ph, tm, ac, fl, zz_mix N (zz_lv ph ac) la, de, wa, pa, pb)) : ∃ n, wY_tick_443 post (nI N) mn mx am ar (nI P) ph tm ac fl n 0 la de wa pa pb := by
  have h := zy_443 hN hp N 0 (by omega)
  rw [zz_mix0] at h
  exact ⟨N + 1, h⟩
end
end
section
theorem zz_m1 {c : Nat} (hc : c < 64) : ¬ (-1 : Int32) = nI c := by
  intro e
  refine nI_pos (n := c) (by omega) ?_
  rw [← e]
  decide
theorem zz_ar {x : Int32} (h : 0 ≤ x) : x ≤ 0 ↔ x = 0 := by
  constructor
  · intro h2
    rw [Int32.le_iff_toInt_le] at h h2
    exact Int32.toInt_inj.mp (by omega)
  · intro e
    rw [e]
    exact Int32.le_refl 0
theorem zz_FacW {N : Nat} {ph ac : Int32} {de wa : Nat → Int32} (F : zz_Fac N ph ac de wa) : zz_Fac N ph ac de (zz_mix N (zz_wv de wa) wa) := by
  obtain ⟨f1, f2, f3, f4⟩ := F
  refine ⟨f1, fun j hj => ?_, f3, fun j hj => ?_⟩
  · rw [zz_mixhi hj]
    exact f2 j hj
  · by_cases e : j < N
    · rw [zz_mixlo e]
      exact (if_pos hj).trans (f4 j hj)
    · rw [zz_mixhi (by omega)]
      exact f4 j hj
theorem zz_FacS {N c : Nat} {ph ac : Int32} {de wa : Nat → Int32} (F : zz_Fac N ph ac de wa) (hc : c < N) : zz_Fac N 1 (nI c) (upd de c 0) (upd wa c 0) := by
  obtain ⟨f1, f2, f3, f4⟩ := F
  refine ⟨fun _ => ⟨c, hc, rfl⟩, fun j hj => ?_, fun j => ?_, fun j hj => ?_⟩
  · rw [pk_un (by omega), pk_un (by omega)]
    exact f2 j hj
  · by_cases e : j = c
    · subst e
      rw [pk_us]
      exact Or.inl rfl
    · rw [pk_un e]
      exact f3 j
  · by_cases e : j = c
    · subst e
      rw [pk_us]
    · rw [pk_un e] at hj ⊢
      exact f4 j hj
/-- one outcome for both sides -/
def zz_Out (N P : Nat) (mn mx am ar fl : Int32) (la cf pa pb : Nat → Int32) (WX : (Int32 → SX → Prop) → Prop) (WY : (Int32 → SY → Prop) → Prop) : Prop :=
  ∃ (ph ac tm : Int32) (de wa : Nat → Int32), zz_Fac N ph ac de wa ∧
    (∀ post : Int32 → SX → Prop, post (zz_ans ph ac) (nI N, mn, mx, am, ar, ph, ac, tm, fl, zz_mix N (zz_lv ph ac) la, de, wa, cf) → WX post) ∧
    (∀ post : Int32 → SY → Prop, post (zz_ans ph ac) (nI N, mn, mx, am, ar, nI P, ph, tm, ac, fl, zz_mix N (zz_lv ph ac) la, de, wa, pa, pb) → WY post)
section
variable {N P : Nat} {mn mx am ar ph ac tm fl : Int32} {la de wa cf pa pb : Nat → Int32}
theorem zz_selO (hN : N ≤ 8) (F : zz_Fac N ph ac de wa) : ∃ (ph' ac' tm' : Int32) (de' wa' : Nat → Int32), zz_Fac N ph' ac' de' wa' ∧
    (∀ K : SX → Prop, K (nI N, mn, mx, am, ar, ph', ac', tm', fl, la, de', wa', cf) → wpX_select K (nI N, mn, mx, am, ar, ph, ac, tm, fl, la, de, wa, cf)) ∧
    (∀ post : Int32 → SY → Prop, (∃ n, wY_tick_443 post (nI N) mn mx am ar (nI P) ph' tm' ac' fl n 0 la de' wa' pa pb) → wY_tick_337 post 1 (nI N) mn mx am ar (nI P) ph tm ac fl la de wa pa pb) := by
  have hd := F.2.2.1
  rcases zz_best_in de wa N with e | ⟨c, hc, e⟩
  · have no : ∀ c, c < N → zz_best de wa N = nI c → False := fun c hc e2 => zz_m1 (by omega) (e.symm.trans e2)
    exact ⟨0, -1, 0, de, wa, ⟨fun z => absurd z (by decide), F.2⟩, fun K hk => zx_sel hN (fun _ => hk) (fun c hc e2 => (no c hc e2).elim), fun post hk => zy_sel hN hd (fun _ => hk) (fun c hc e2 => (no c hc e2).elim)⟩
  · have no : zz_best de wa N = -1 → False := fun e2 => zz_m1 (c := c) (by omega) (e2.symm.trans e)
    have eq : ∀ c', c' < N → zz_best de wa N = nI c' → c = c' := fun c' hc' e2 => (nI_eq (by omega) (by omega)).mp (e.symm.trans e2)
    refine ⟨1, nI c, 1, upd de c 0, upd wa c 0, zz_FacS F hc, fun K hk => zx_sel hN (fun e2 => (no e2).elim) (fun c' hc' e2 => ?_), fun post hk => zy_sel hN hd (fun e2 => (no e2).elim) (fun c' hc' e2 => ?_)⟩
    · have e3 := eq c' hc' e2
      subst e3
      exact hk
    · have e3 := eq c' hc' e2
      subst e3
      exact hk
theorem zz_cas1 (hN : N ≤ 8) (F : zz_Fac N ph ac de wa) (h1 : ph = 1) : zz_Out N P mn mx am ar fl la cf pa pb (fun post => wX_tick_113 post (nI N) mn mx am ar ph ac tm fl 1 (nI N) la de wa cf) (fun post => wY_tick_107 post (nI N) mn mx am ar (nI P) ph tm ac fl 1 (nI N) la de wa pa pb) := by
  have hd := F.2.2.1
  have F2 : zz_Fac N 2 ac de wa := ⟨fun _ => F.1 (Or.inl h1), F.2⟩
  have wx : ∀ post : Int32 → SX → Prop, wX_tick_162 post (nI N) mn mx am ar ph ac tm fl la de wa cf 1 (zz_oth de ac N) (nI N) → wX_tick_113 post (nI N) mn mx am ar ph ac tm fl 1 (nI N) la de wa cf := fun post hx => br_t zz_end (br_t h1 ⟨N + 1, zx_162 hN hx N 0 (by omega)⟩)
  have wy : ∀ post : Int32 → SY → Prop, wY_tick_155 post 0 (nI N) mn mx am ar (nI P) ph tm ac fl la de wa pa pb 1 (zz_oth de ac N) (nI N) → wY_tick_107 post (nI N) mn mx am ar (nI P) ph tm ac fl 1 (nI N) la de wa pa pb := fun post hx => br_t zz_end (br_t h1 ⟨N + 1, zy_155 hN hd hx N 0 (by omega)⟩)
  have kx : ∀ post : Int32 → SX → Prop, post (zz_ans 2 ac) (nI N, mn, mx, am, ar, 2, ac, 1, fl, zz_mix N (zz_lv 2 ac) la, de, wa, cf) → wX_tick_221 post (nI N) mn mx am ar ph ac tm fl la de wa cf := fun post hp => zx_lamps hN F2.1 hp
  have ky : ∀ post : Int32 → SY → Prop, post (zz_ans 2 ac) (nI N, mn, mx, am, ar, nI P, 2, 1, ac, fl, zz_mix N (zz_lv 2 ac) la, de, wa, pa, pb) → wY_tick_215 post 0 (nI N) mn mx am ar (nI P) ph tm ac fl la de wa pa pb := fun post hp => br_t rfl (zy_lamps hN hp)
  have lx : ∀ post : Int32 → SX → Prop, post (zz_ans ph ac) (nI N, mn, mx, am, ar, ph, ac, tm + 1, fl, zz_mix N (zz_lv ph ac) la, de, wa, cf) → wX_tick_234 post (nI N) mn mx am ar ph ac tm fl la de wa cf := fun post hp => nm_e (zx_lamps hN F.1 hp)
  have ly : ∀ post : Int32 → SY → Prop, post (zz_ans ph ac) (nI N, mn, mx, am, ar, nI P, ph, tm + 1, ac, fl, zz_mix N (zz_lv ph ac) la, de, wa, pa, pb) → wY_tick_228 post 0 (nI N) mn mx am ar (nI P) ph tm ac fl la de wa pa pb := fun post hp => nm_e (br_t rfl (zy_lamps hN hp))
  by_cases hA : mx ≤ tm
  · exact ⟨2, ac, 1, de, wa, F2, fun post hp => wx post (br_t zz_end (br_t hA (kx post hp))), fun post hp => wy post (br_t zz_end (br_t hA (ky post hp)))⟩
  · by_cases hB : tm < mn
    · exact ⟨ph, ac, tm + 1, de, wa, F, fun post hp => wx post (br_t zz_end (br_f hA (br_t hB (lx post hp)))), fun post hp => wy post (br_t zz_end (br_f hA (br_t hB (ly post hp))))⟩
    · by_cases hO : zz_oth de ac N = 0
      · exact ⟨ph, ac, tm + 1, de, wa, F, fun post hp => wx post (br_t zz_end (br_f hA (br_f hB (br_t hO (lx post hp))))), fun post hp => wy post (br_t zz_end (br_f hA (br_f hB (br_t hO (ly post hp)))))⟩
      · exact ⟨2, ac, 1, de, wa, F2, fun post hp => wx post (br_t zz_end (br_f hA (br_f hB (br_f hO (kx post hp))))), fun post hp => wy post (br_t zz_end (br_f hA (br_f hB (br_f hO (ky post hp)))))⟩
theorem zz_cas (hN : N ≤ 8) (har : 0 ≤ ar) (F : zz_Fac N ph ac de wa) : zz_Out N P mn mx am ar fl la cf pa pb (fun post => wX_tick_113 post (nI N) mn mx am ar ph ac tm fl 1 (nI N) la de wa cf) (fun post => wY_tick_107 post (nI N) mn mx am ar (nI P) ph tm ac fl 1 (nI N) la de wa pa pb) := by
  by_cases h1 : ph = 1
  · exact zz_cas1 hN F h1
  · obtain ⟨ph', ac', tm', de', wa', F', sx, sy⟩ := zz_selO (P := P) (mn := mn) (mx := mx) (am := am) (ar := ar) (tm := tm) (fl := fl) (la := la) (cf := cf) (pa := pa) (pb := pb) hN F
    by_cases h2 : ph = 2
    · by_cases hA : tm < am
      · exact ⟨ph, ac, tm + 1, de, wa, F, fun post hp => br_t zz_end (br_f h1 (br_t h2 (br_t hA (nm_e (zx_lamps hN F.1 hp))))), fun post hp => br_t zz_end (br_f h1 (br_t h2 (br_t hA (nm_e (br_t rfl (zy_lamps hN hp))))))⟩
      · by_cases hB : ar = 0
        · exact ⟨ph', ac', tm', de', wa', F', fun post hp => br_t zz_end (br_f h1 (br_t h2 (br_f hA (br_t hB (sx _ (zx_lamps hN F'.1 hp)))))), fun post hp => br_t zz_end (br_f h1 (br_t h2 (br_f hA (br_t ((zz_ar har).mpr hB) (sy post (zy_lamps hN hp))))))⟩
        · have F3 : zz_Fac N 3 ac de wa := ⟨fun z => absurd z (by decide), F.2⟩
          exact ⟨3, ac, 1, de, wa, F3, fun post hp => br_t zz_end (br_f h1 (br_t h2 (br_f hA (br_f hB (zx_lamps hN F3.1 hp))))), fun post hp => br_t zz_end (br_f h1 (br_t h2 (br_f hA (br_f (fun z => hB ((zz_ar har).mp z)) (br_t rfl (zy_lamps hN hp))))))⟩
    · by_cases h3 : ph = 3
      · by_cases hA : tm < ar
        · exact ⟨ph, ac, tm + 1, de, wa, F, fun post hp => br_t zz_end (br_f h1 (br_f h2 (br_t h3 (br_t hA (nm_e (zx_lamps hN F.1 hp)))))), fun post hp => br_t zz_end (br_f h1 (br_f h2 (br_t h3 (br_t hA (nm_e (br_t rfl (zy_lamps hN hp)))))))⟩
        · exact ⟨ph', ac', tm', de', wa', F', fun post hp => br_t zz_end (br_f h1 (br_f h2 (br_t h3 (br_f hA (sx _ (zx_lamps hN F'.1 hp)))))), fun post hp => br_t zz_end (br_f h1 (br_f h2 (br_t h3 (br_f hA (sy post (zy_lamps hN hp))))))⟩
      · exact ⟨ph', ac', tm', de', wa', F', fun post hp => br_t zz_end (br_f h1 (br_f h2 (br_f h3 (sx _ (zx_lamps hN F'.1 hp))))), fun post hp => br_t zz_end (br_f h1 (br_f h2 (br_f h3 (sy post (zy_lamps hN hp)))))⟩
theorem zx_78 {post : Int32 → SX → Prop} (hN : N ≤ 8) (hx : wX_tick_113 post (nI N) mn mx am ar ph ac tm 0 1 (nI N) la de (zz_mix N (zz_wv de wa) wa) cf) : wX_tick_78 post (nI N) mn mx am ar ph ac tm 0 la de wa cf := by
  have h := zx_113 hN hx N 0 (by omega)
  rw [zz_mix0] at h
  exact br_t rfl ⟨N + 1, h⟩
theorem zy_72 {post : Int32 → SY → Prop} (hN : N ≤ 8) (hd : ∀ j, de j = 0 ∨ de j = 1) (hx : wY_tick_107 post (nI N) mn mx am ar (nI P) ph tm ac 0 1 (nI N) la de (zz_mix N (zz_wv de wa) wa) pa pb) : wY_tick_72 post (nI N) mn mx am ar (nI P) ph tm ac 0 la de wa pa pb := by
  have h := zy_107 hN hd hx N 0 (by omega)
  rw [zz_mix0] at h
  exact br_t rfl ⟨N + 1, h⟩
theorem zz_InvT {g de' wa' : Nat → Int32} {ph' ac' fl' : Int32} (h : zz_Inv N P ar ph ac fl la de wa cf pa pb) (hf : fl' = 0 ∨ fl' = 1) (F : zz_Fac N ph' ac' de' wa') : zz_Inv N P ar ph' ac' fl' (zz_mix N g la) de' wa' cf pa pb :=
  ⟨h.1, h.2.1, hf, fun j hj => (zz_mixhi hj).trans (h.2.2.2.1 j hj), F, h.2.2.2.2.2⟩
end
theorem i_vc_tick {k : Nat} {u : SX} {v : SY} (I : i_Rel k u v) (hk : k + 3 ≤ 1541) : wpX_tick (fun r u' => wpY_tick (fun r' v' => r' = r ∧ i_Rel (k + 3) u' v') v) u := by
  refine zz_el (R := fun u v => wpX_tick (fun r u' => wpY_tick (fun r' v' => r' = r ∧ i_Rel (k + 3) u' v') v) u) ?_ I
  intro N P mn mx am ar ph ac tm fl la de wa cf pa pb h
  have hN := h.1.2
  have hP := zz_P64 h
  have F := h.2.2.2.2.1
  have hB := zz_BB (la := la) h.2.2.2.2.2
  rcases h.2.2.1 with e | e
  · subst e
    refine zx_mon hN (fun bx => ?_) (fun nx => ?_)
    · exact zx_flash hN zz_10 (zy_mon hN hP (fun _ => zy_flash hN zz_10 ⟨rfl, zz_mk (zz_InvT h (Or.inr rfl) F)⟩) (fun ny => absurd (hB.mp bx) ny))
    · obtain ⟨ph', ac', tm', de', wa', F', sx, sy⟩ := zz_cas (P := P) (mn := mn) (mx := mx) (am := am) (tm := tm) (fl := 0) (la := la) (cf := cf) (pa := pa) (pb := pb) hN h.2.1 (zz_FacW F)
      exact zx_78 hN (sx _ (zy_mon hN hP (fun b => absurd (hB.mpr b) nx) (fun _ => zy_72 hN F.2.2.1 (sy _ ⟨rfl, zz_mk (zz_InvT h (Or.inl rfl) F')⟩))))
  · subst e
    refine br_f zz_10 (zx_flash hN zz_10 (br_f zz_10 (zy_flash hN zz_10 ⟨rfl, zz_mk (zz_InvT h (Or.inr rfl) F)⟩)))
end
