section
/-! rows of kit/rows/PURE-ROWS (starting text): stores, nI arithmetic, branches by naturals -/
theorem pk_us {f : Nat → Int32} {k : Nat} {x : Int32} : upd f k x k = x := if_pos rfl
theorem pk_un {f : Nat → Int32} {k j : Nat} {x : Int32} (h : j ≠ k) : upd f k x j = f j := if_neg h
theorem pk_sub {a b : Nat} (h : b ≤ a) : nI a - nI b = nI (a - b) := by
  obtain ⟨c, rfl⟩ : ∃ c, a = c + b := ⟨a - b, by omega⟩
  rw [← nI_add, Int32.add_sub_cancel, Nat.add_sub_cancel]
theorem pk_m1 (n : Nat) : nI (n + 1) + (-1) = nI n := by
  rw [← nI_1, Int32.add_assoc, show (1 : Int32) + (-1) = 0 from rfl, Int32.add_zero]
theorem pk_mul (a b : Nat) : nI a * nI b = nI (a * b) := (Int32.ofNat_mul a b).symm
theorem pk_div {a d : Nat} (ha : a < 2 ^ 31) (h0 : 0 < d) (hd : d < 2 ^ 31) : nI a / nI d = nI (a / d) := by
  apply Int32.toInt_inj.mp
  rw [lg_idiv_nonneg (by rw [nI_toInt ha]; omega) (by rw [nI_toInt hd]; omega), nI_toInt ha, nI_toInt hd, nI_toInt (Nat.lt_of_le_of_lt (Nat.div_le_self a d) ha)]
  first | rfl | exact (Int.natCast_ediv _ _).symm
theorem pk_sub_toInt {a b : Nat} (ha : a < 2 ^ 30) (hb : b < 2 ^ 30) : (nI a - nI b).toInt = (a : Int) - b := by
  rw [Int32.toInt_sub, nI_toInt (by omega), nI_toInt (by omega)]
  exact Int.bmod_eq_of_le (by omega) (by omega)
theorem pk_sneg {a b : Nat} (hb : b < 2 ^ 30) (h : a < b) : nI a - nI b < 0 := by
  rw [Int32.lt_iff_toInt_lt, pk_sub_toInt (by omega) hb, show (0 : Int32).toInt = 0 from by decide]
  omega
theorem pk_ix (x : Int32) {n : Nat} (hn : n < 2 ^ 31) : x < 0 ∨ nI n ≤ x ∨ ∃ j : Nat, j < n ∧ x = nI j := by
  by_cases h : x < 0
  · exact Or.inl h
  · obtain ⟨j, hj, rfl⟩ := nI_of h
    by_cases h2 : j < n
    · exact Or.inr (Or.inr ⟨j, h2, rfl⟩)
    · exact Or.inr (Or.inl (nI_le (by omega) hj))
theorem pk_le {x y : Int32} {A B : Prop} (a b : Nat) (f : a ≤ b → A) (g : b < a → B) (hx : x = nI a := by rfl) (hy : y = nI b := by rfl) (ha : a < 2 ^ 31 := by omega) (hb : b < 2 ^ 31 := by omega) : (x ≤ y → A) ∧ (¬ x ≤ y → B) := by
  subst hx hy
  rw [nI_leI ha hb]
  exact ⟨f, fun z => g (by omega)⟩
theorem pk_lt {x y : Int32} {A B : Prop} (a b : Nat) (f : a < b → A) (g : b ≤ a → B) (hx : x = nI a := by rfl) (hy : y = nI b := by rfl) (ha : a < 2 ^ 31 := by omega) (hb : b < 2 ^ 31 := by omega) : (x < y → A) ∧ (¬ x < y → B) := by
  subst hx hy
  rw [nI_ltI ha hb]
  exact ⟨f, fun z => g (by omega)⟩
theorem pk_eq {x y : Int32} {A B : Prop} (a b : Nat) (f : a = b → A) (g : a ≠ b → B) (hx : x = nI a := by rfl) (hy : y = nI b := by rfl) (ha : a < 2 ^ 31 := by omega) (hb : b < 2 ^ 31 := by omega) : (x = y → A) ∧ (¬ x = y → B) := by
  subst hx hy
  rw [nI_eq ha hb]
  exact ⟨f, g⟩
theorem pk_in {x : Int32} (n N : Nat) (h : n < N) (hx : x = nI n := by rfl) (hN : N < 2 ^ 31 := by omega) : vp_in x N := by
  subst hx
  exact vp_in_nI h hN
theorem pk_cl {x : Int32} (n : Nat) (hx : x = nI n := by rfl) (h : n < 2 ^ 31 := by omega) : x.toNatClampNeg = n := by
  subst hx
  exact nI_clamp h
/-! own small rows -/
theorem bs_5x (r f : Nat) : nI r * 5 + nI f = nI (5 * r + f) := by
  rw [show (5 : Int32) = nI 5 from rfl, pk_mul, nI_add, Nat.mul_comm]
theorem bs_5y (r f : Nat) : 5 * nI r + nI f = nI (5 * r + f) := by
  rw [show (5 : Int32) = nI 5 from rfl, pk_mul, nI_add]
theorem bs_6x (r f : Nat) : nI r * 6 + nI f = nI (6 * r + f) := by
  rw [show (6 : Int32) = nI 6 from rfl, pk_mul, nI_add, Nat.mul_comm]
theorem bs_6y (r f : Nat) : 6 * nI r + nI f = nI (6 * r + f) := by
  rw [show (6 : Int32) = nI 6 from rfl, pk_mul, nI_add]
theorem bs_5x0 (r : Nat) : nI r * 5 = nI (5 * r) := by
  rw [show (5 : Int32) = nI 5 from rfl, pk_mul, Nat.mul_comm]
theorem bs_5y0 (r : Nat) : 5 * nI r = nI (5 * r) := by
  rw [show (5 : Int32) = nI 5 from rfl, pk_mul]
theorem bs_2 (a : Nat) : nI a + 2 = nI (a + 2) := nI_add a 2
theorem bs_s1 {a : Nat} (h : 1 ≤ a) : nI a - 1 = nI (a - 1) := pk_sub (b := 1) h
theorem bs_c {n : Nat} (h : n < 1000) : (nI n).toNatClampNeg = n := nI_clamp (by omega)
theorem bs_in {n N : Nat} (h : n < N) (hN : N < 1000) : vp_in (nI n) N := vp_in_nI h (by omega)
theorem bs_01 {z : Int32} (h : z = 0 ∨ z = 1) (hn : ¬ z = 0) : z = 1 := h.resolve_left hn
theorem bs_uu {f : Nat → Int32} {k : Nat} {x y : Int32} : upd (upd f k x) k y = upd f k y := by
  funext j
  unfold upd
  by_cases h : j = k
  · rw [if_pos h, if_pos h]
  · rw [if_neg h, if_neg h, if_neg h]
theorem bs_uid {f : Nat → Int32} {k : Nat} : upd f k (f k) = f := by
  funext j
  unfold upd
  by_cases h : j = k
  · rw [if_pos h, h]
  · rw [if_neg h]
theorem bs_ucm {f : Nat → Int32} {k l : Nat} {x y : Int32} (h : k ≠ l) : upd (upd f k x) l y = upd (upd f l y) k x := by
  funext j
  unfold upd
  by_cases h1 : j = l
  · rw [if_pos h1, if_neg (by omega), if_pos h1]
  · rw [if_neg h1]
    by_cases h2 : j = k
    · rw [if_pos h2, if_pos h2]
    · rw [if_neg h2, if_neg h2, if_neg h1]
end
section
/-! the relation: what both keep alike is one function; of the tables what can be seen agrees -/
def rl_FR (aL aC bL bC : Nat → Int32) (j : Nat) : Prop := ∃ l : Nat, l ≤ 6 ∧ aL j = nI l ∧ bL j = nI l ∧ ∀ i : Nat, i < l → bC (6 * j + i) = aC (6 * j + i)
def rl_TB (c : Nat) (aF aL aC bF bL bC : Nat → Int32) : Prop := ∀ r : Nat, r < c → ∃ k : Nat, 1 ≤ k ∧ k ≤ 5 ∧ aF r = nI k ∧ bF r = nI k ∧ ∀ f : Nat, f < k → rl_FR aL aC bL bC (5 * r + f)
def rl_pl (C dt : Nat → Int32) (j d : Nat) : Nat → Int32 := fun m => if 6 * j ≤ m ∧ m < 6 * j + d then dt (m - 6 * j) else C m
def i_Rel (k : Nat) (u : SX) (v : SY) : Prop := match u with
  | (cn, dr, wl, pu, ke, st, gR, gF, gS, ff, rg, ho, fi, so, aF, aL, aC, dt, tx) => match v with
    | (cn', dr', wl', rR, rF, rS, rI, rO, rE, po, en, di, ou, bC, bL, bF, dt', tx', dC, dL, dF) => cn' = cn ∧ dr' = dr ∧ wl' = wl ∧ dt' = dt ∧ tx' = tx ∧ ∃ c d w : Nat, c ≤ 6 ∧ d ≤ 6 ∧ w ≤ 96 ∧ cn = nI c ∧ dr = nI d ∧ wl = nI w ∧ rl_TB c aF aL aC bF bL bC
theorem rl_mk {k c d w : Nat} {pu ke st gR gF gS ff rg ho fi so : Int32} {aF aL aC dt tx : Nat → Int32} {rR rF rS rI rO rE po en di ou : Int32} {bC bL bF dC dL dF : Nat → Int32} (hc : c ≤ 6) (hd : d ≤ 6) (hw : w ≤ 96) (T : rl_TB c aF aL aC bF bL bC) : i_Rel k (nI c, nI d, nI w, pu, ke, st, gR, gF, gS, ff, rg, ho, fi, so, aF, aL, aC, dt, tx) (nI c, nI d, nI w, rR, rF, rS, rI, rO, rE, po, en, di, ou, bC, bL, bF, dt, tx, dC, dL, dF) :=
  ⟨rfl, rfl, rfl, rfl, rfl, c, d, w, hc, hd, hw, rfl, rfl, rfl, T⟩
theorem rl_el {k : Nat} {P : SX → SY → Prop} {u : SX} {v : SY} (I : i_Rel k u v) (h : ∀ (c d w : Nat) (pu ke st gR gF gS ff rg ho fi so : Int32) (aF aL aC dt tx : Nat → Int32) (rR rF rS rI rO rE po en di ou : Int32) (bC bL bF dC dL dF : Nat → Int32), c ≤ 6 → d ≤ 6 → w ≤ 96 → rl_TB c aF aL aC bF bL bC → P (nI c, nI d, nI w, pu, ke, st, gR, gF, gS, ff, rg, ho, fi, so, aF, aL, aC, dt, tx) (nI c, nI d, nI w, rR, rF, rS, rI, rO, rE, po, en, di, ou, bC, bL, bF, dt, tx, dC, dL, dF)) : P u v := by
  obtain ⟨cn, dr, wl, pu, ke, st, gR, gF, gS, ff, rg, ho, fi, so, aF, aL, aC, dt, tx⟩ := u
  obtain ⟨cn', dr', wl', rR, rF, rS, rI, rO, rE, po, en, di, ou, bC, bL, bF, dt', tx', dC, dL, dF⟩ := v
  obtain ⟨e1, e2, e3, e4, e5, c, d, w, hc, hd, hw, e6, e7, e8, T⟩ := I
  subst e6 e7 e8 e1 e2 e3 e4 e5
  exact h c d w pu ke st gR gF gS ff rg ho fi so aF aL aC dt' tx' rR rF rS rI rO rE po en di ou bC bL bF dC dL dF hc hd hw T
theorem i_up {k : Nat} {u : SX} {v : SY} (h : i_Rel k u v) : i_Rel (k + 4) u v := h
theorem rl_TB0 {aF aL aC bF bL bC : Nat → Int32} : rl_TB 0 aF aL aC bF bL bC := fun r h => absurd h (Nat.not_lt_zero r)
theorem i_vc0 : wpX_init (fun u => wpY_init (fun v => i_Rel 0 u v)) := by
  dsimp only [wpX_init, wpY_init]
  exact rl_mk (c := 0) (d := 0) (w := 0) (by omega) (by omega) (by omega) rl_TB0
/-! place -/
theorem rl_pl0 (C dt : Nat → Int32) (j : Nat) : rl_pl C dt j 0 = C := by
  funext m
  unfold rl_pl
  rw [if_neg (by omega)]
theorem rl_pls (C dt : Nat → Int32) (j i : Nat) : upd (rl_pl C dt j i) (6 * j + i) (dt i) = rl_pl C dt j (i + 1) := by
  funext m
  unfold upd rl_pl
  by_cases h : m = 6 * j + i
  · rw [if_pos h, if_pos (by omega), h, Nat.add_sub_cancel_left]
  · rw [if_neg h]
    by_cases h2 : 6 * j ≤ m ∧ m < 6 * j + i
    · rw [if_pos h2, if_pos (by omega)]
    · rw [if_neg h2, if_neg (by omega)]
theorem rl_pl_in {C dt : Nat → Int32} {j d i : Nat} (h : i < d) : rl_pl C dt j d (6 * j + i) = dt i := by
  unfold rl_pl
  rw [if_pos (by omega), Nat.add_sub_cancel_left]
theorem rl_pl_out {C dt : Nat → Int32} {j d m : Nat} (h : ¬ (6 * j ≤ m ∧ m < 6 * j + d)) : rl_pl C dt j d m = C m := by
  unfold rl_pl
  rw [if_neg h]
theorem rl_put {aL aC bL bC dt : Nat → Int32} {j j' d : Nat} (hd : d ≤ 6) (h : j' = j ∨ rl_FR aL aC bL bC j') : rl_FR (upd aL j (nI d)) (rl_pl aC dt j d) (upd bL j (nI d)) (rl_pl bC dt j d) j' := by
  by_cases e : j' = j
  · subst e
    refine ⟨d, hd, pk_us, pk_us, fun i hi => ?_⟩
    rw [rl_pl_in hi, rl_pl_in hi]
  · obtain ⟨l, hl, h1, h2, h3⟩ := h.resolve_left e
    refine ⟨l, hl, ?_, ?_, fun i hi => ?_⟩
    · rw [pk_un e]; exact h1
    · rw [pk_un e]; exact h2
    · rw [rl_pl_out (by omega), rl_pl_out (by omega)]; exact h3 i hi
section
variable {cn dr wl pu ke st gR gF gS ff rg ho fi so : Int32} {aF aL aC dt tx : Nat → Int32}
theorem rl_xp2 {post : SX → Prop} {j d : Nat} (hj : j < 30) (hd : d ≤ 6) (h : post (cn, 0, wl, pu, ke, st, gR, gF, gS, ff, rg, ho, fi, so, aF, upd aL j (nI d), rl_pl aC dt j d, dt, tx)) : ∀ n i : Nat, i ≤ d → d < n + i → wX_place_2 post (nI j) cn (nI d) wl pu ke st gR gF gS ff rg ho fi so n (nI i) aF aL (rl_pl aC dt j i) dt tx := by
  intro n
  induction n with
  | zero => intro i h1 h2; omega
  | succ n ih =>
    intro i h1 h2
    refine pk_le d i (fun h3 => ?_) (fun h3 => ?_)
    · have e : i = d := by omega
      subst e
      exact ⟨bs_in hj (by omega), nm_r (by rw [bs_c (by omega)]) h⟩
    · refine ⟨bs_in (by omega) (by omega), pk_in (6 * j + i) 180 (by omega) (bs_6x j i), nm_r (e' := rl_pl aC dt j (i + 1)) ?_ (nm_r (nI_1 i) (ih (i + 1) (by omega) (by omega)))⟩
      rw [bs_6x, bs_c (by omega), bs_c (by omega), rl_pls]
theorem rl_xp {post : SX → Prop} {j d : Nat} (hj : j < 30) (hd : d ≤ 6) (h : post (cn, 0, wl, pu, ke, st, gR, gF, gS, ff, rg, ho, fi, so, aF, upd aL j (nI d), rl_pl aC dt j d, dt, tx)) : wpX_place post (cn, nI d, wl, pu, ke, st, gR, gF, gS, ff, rg, ho, fi, so, aF, aL, aC, dt, tx) (nI j) := by
  have := rl_xp2 hj hd h (d + 1) 0 (by omega) (by omega)
  rw [rl_pl0] at this
  exact ⟨d + 1, this⟩
end
section
variable {cn dr wl rR rF rS rI rO rE po en di ou : Int32} {bC bL bF dt tx dC dL dF : Nat → Int32}
theorem rl_yp2 {post : SY → Prop} {j d : Nat} (hj : j < 30) (hd : d ≤ 6) (h : post (cn, 0, wl, rR, rF, rS, rI, rO, rE, po, en, di, ou, rl_pl bC dt j d, upd bL j (nI d), bF, dt, tx, dC, dL, dF)) : ∀ n i : Nat, i ≤ d → d < n + i → wY_putDraft_2 post (nI j) cn (nI d) wl rR rF rS rI rO rE po en di ou n (nI i) (rl_pl bC dt j i) bL bF dt tx dC dL dF := by
  intro n
  induction n with
  | zero => intro i h1 h2; omega
  | succ n ih =>
    intro i h1 h2
    refine pk_le d i (fun h3 => ?_) (fun h3 => ?_)
    · have e : i = d := by omega
      subst e
      exact ⟨bs_in hj (by omega), nm_r (by rw [bs_c (by omega)]) h⟩
    · refine ⟨bs_in (by omega) (by omega), pk_in (6 * j + i) 180 (by omega) (bs_6y j i), nm_r (e' := rl_pl bC dt j (i + 1)) ?_ (nm_r (nI_1 i) (ih (i + 1) (by omega) (by omega)))⟩
      rw [bs_6y, bs_c (by omega), bs_c (by omega), rl_pls]
theorem rl_yp {post : SY → Prop} {j d : Nat} (hj : j < 30) (hd : d ≤ 6) (h : post (cn, 0, wl, rR, rF, rS, rI, rO, rE, po, en, di, ou, rl_pl bC dt j d, upd bL j (nI d), bF, dt, tx, dC, dL, dF)) : wpY_putDraft post (cn, nI d, wl, rR, rF, rS, rI, rO, rE, po, en, di, ou, bC, bL, bF, dt, tx, dC, dL, dF) (nI j) := by
  have := rl_yp2 hj hd h (d + 1) 0 (by omega) (by omega)
  rw [rl_pl0] at this
  exact ⟨d + 1, this⟩
end
end
section
/-! the methods without loops (place aside) -/
section
variable {cn dr wl pu ke st gR gF gS ff rg ho fi so : Int32} {aF aL aC dt tx : Nat → Int32} {rR rF rS rI rO rE po en di ou : Int32} {bC bL bF dC dL dF : Nat → Int32}
theorem rl_nf {c : Nat} (hc : c ≤ 6) (T : rl_TB c aF aL aC bF bL bC) (v1 v2 : Int32) :
    ((∀ post : Int32 → Prop, post 1 → wpX_noField post (nI c, dr, wl, pu, ke, st, gR, gF, gS, ff, rg, ho, fi, so, aF, aL, aC, dt, tx) v1 v2) ∧ (∀ post : Int32 → Prop, post 0 → wpY_isField post (nI c, dr, wl, rR, rF, rS, rI, rO, rE, po, en, di, ou, bC, bL, bF, dt, tx, dC, dL, dF) v1 v2)) ∨
    ∃ r f k : Nat, r < c ∧ f < k ∧ k ≤ 5 ∧ v1 = nI r ∧ v2 = nI f ∧ rl_FR aL aC bL bC (5 * r + f) ∧ (∀ post : Int32 → Prop, post 0 → wpX_noField post (nI c, dr, wl, pu, ke, st, gR, gF, gS, ff, rg, ho, fi, so, aF, aL, aC, dt, tx) v1 v2) ∧ (∀ post : Int32 → Prop, post 1 → wpY_isField post (nI c, dr, wl, rR, rF, rS, rI, rO, rE, po, en, di, ou, bC, bL, bF, dt, tx, dC, dL, dF) v1 v2) := by
  rcases pk_ix v1 (n := c) (by omega) with h | h | ⟨r, hr, rfl⟩
  · exact Or.inl ⟨fun _ p => br_t h p, fun _ p => br_t h p⟩
  · have h0 : ¬ v1 < 0 := Int32.not_lt.mpr (Int32.le_trans (nI_pos' (by omega)) h)
    exact Or.inl ⟨fun _ p => br_f h0 (br_t h p), fun _ p => br_f h0 (br_t h p)⟩
  · obtain ⟨k, k1, k5, ea, eb, hf⟩ := T r hr
    have h0 : ¬ nI r < 0 := nI_pos (by omega)
    have h1 : ¬ nI c ≤ nI r := nI_ge hr (by omega)
    have hi : vp_in (nI r) 6 := bs_in (by omega) (by omega)
    rcases pk_ix v2 (n := k) (by omega) with g | g | ⟨f, hfk, rfl⟩
    · exact Or.inl ⟨fun _ p => br_f h0 (br_f h1 (br_t g p)), fun _ p => br_f h0 (br_f h1 (br_t g p))⟩
    · have g0 : ¬ v2 < 0 := Int32.not_lt.mpr (Int32.le_trans (nI_pos' (by omega)) g)
      have gx : ¬ v2 < nI k := Int32.not_lt.mpr g
      refine Or.inl ⟨fun _ p => br_f h0 (br_f h1 (br_f g0 ⟨hi, ?_⟩)), fun _ p => br_f h0 (br_f h1 (br_f g0 ⟨hi, ?_⟩))⟩
      · rw [bs_c (by omega), ea]; exact br_f gx p
      · rw [bs_c (by omega), eb]; exact br_t g p
    · have g0 : ¬ nI f < 0 := nI_pos (by omega)
      have g1 : nI f < nI k := nI_lt hfk (by omega)
      have g2 : ¬ nI k ≤ nI f := nI_ge hfk (by omega)
      refine Or.inr ⟨r, f, k, hr, hfk, k5, rfl, rfl, hf f hfk, fun _ p => br_f h0 (br_f h1 (br_f g0 ⟨hi, ?_⟩)), fun _ p => br_f h0 (br_f h1 (br_f g0 ⟨hi, ?_⟩))⟩
      · rw [bs_c (by omega), ea]; exact br_t g1 p
      · rw [bs_c (by omega), eb]; exact br_f g2 p
end
theorem i_vc_draft {k : Nat} {u : SX} {v : SY} (I : i_Rel k u v) (hk : k + 4 ≤ 2048) (v1 : Int32) : wpX_draft (fun r u' => wpY_draft (fun r' v' => r' = r ∧ i_Rel (k + 4) u' v') v v1) u v1 := by
  refine rl_el (P := fun u v => wpX_draft (fun r u' => wpY_draft (fun r' v' => r' = r ∧ i_Rel (k + 4) u' v') v v1) u v1) I ?_
  intro c d w pu ke st gR gF gS ff rg ho fi so aF aL aC dt tx rR rF rS rI rO rE po en di ou bC bL bF dC dL dF hc hd hw T
  by_cases h0 : v1 < 0
  · exact br_t h0 (br_t h0 ⟨rfl, rl_mk hc hd hw T⟩)
  · by_cases h9 : v1 ≤ 9
    · by_cases h6 : d = 6
      · have e : nI d = 6 := by rw [h6]; rfl
        exact br_f h0 (br_t h9 (br_t e (br_f h0 (br_t h9 (br_t e ⟨rfl, rl_mk hc hd hw T⟩)))))
      · have e : ¬ nI d = 6 := fun z => h6 ((nI_eq (b := 6) (by omega) (by omega)).mp z)
        exact br_f h0 (br_t h9 (br_f e ⟨bs_in (by omega) (by omega), nm_e (nm_r (nI_1 d) (br_f h0 (br_t h9 (br_f e ⟨bs_in (by omega) (by omega), nm_e (nm_r (nI_1 d) ⟨rfl, rl_mk hc (by omega) hw T⟩)⟩))))⟩))
    · exact br_f h0 (br_f h9 (br_f h0 (br_f h9 ⟨rfl, rl_mk hc hd hw T⟩)))
theorem i_vc_raw {k : Nat} {u : SX} {v : SY} (I : i_Rel k u v) (hk : k + 4 ≤ 2048) (v1 : Int32) : wpX_raw (fun r u' => wpY_raw (fun r' v' => r' = r ∧ i_Rel (k + 4) u' v') v v1) u v1 := by
  refine rl_el (P := fun u v => wpX_raw (fun r u' => wpY_raw (fun r' v' => r' = r ∧ i_Rel (k + 4) u' v') v v1) u v1) I ?_
  intro c d w pu ke st gR gF gS ff rg ho fi so aF aL aC dt tx rR rF rS rI rO rE po en di ou bC bL bF dC dL dF hc hd hw T
  by_cases h0 : v1 < 0
  · exact br_t h0 (br_t h0 ⟨rfl, rl_mk hc hd hw T⟩)
  · by_cases h9 : v1 ≤ 10
    · by_cases h6 : w = 96
      · have e : nI w = 96 := by rw [h6]; rfl
        exact br_f h0 (br_t h9 (br_t e (br_f h0 (br_t h9 (br_t e ⟨rfl, rl_mk hc hd hw T⟩)))))
      · have e : ¬ nI w = 96 := fun z => h6 ((nI_eq (b := 96) (by omega) (by omega)).mp z)
        exact br_f h0 (br_t h9 (br_f e ⟨bs_in (by omega) (by omega), nm_e (nm_r (nI_1 w) (br_f h0 (br_t h9 (br_f e ⟨bs_in (by omega) (by omega), nm_e (nm_r (nI_1 w) ⟨rfl, rl_mk hc hd (by omega) T⟩)⟩))))⟩))
    · exact br_f h0 (br_f h9 (br_f h0 (br_f h9 ⟨rfl, rl_mk hc hd hw T⟩)))
theorem i_vc_scrap {k : Nat} {u : SX} {v : SY} (I : i_Rel k u v) (hk : k + 4 ≤ 2048) : wpX_scrap (fun u' => wpY_scrap (fun v' => i_Rel (k + 4) u' v') v) u := by
  refine rl_el (P := fun u v => wpX_scrap (fun u' => wpY_scrap (fun v' => i_Rel (k + 4) u' v') v) u) I ?_
  intro c d w pu ke st gR gF gS ff rg ho fi so aF aL aC dt tx rR rF rS rI rO rE po en di ou bC bL bF dC dL dF hc hd hw T
  dsimp only [wpX_scrap, wpY_scrap]
  exact rl_mk (d := 0) hc (by omega) hw T
theorem i_vc_clear {k : Nat} {u : SX} {v : SY} (I : i_Rel k u v) (hk : k + 4 ≤ 2048) : wpX_clear (fun u' => wpY_clear (fun v' => i_Rel (k + 4) u' v') v) u := by
  refine rl_el (P := fun u v => wpX_clear (fun u' => wpY_clear (fun v' => i_Rel (k + 4) u' v') v) u) I ?_
  intro c d w pu ke st gR gF gS ff rg ho fi so aF aL aC dt tx rR rF rS rI rO rE po en di ou bC bL bF dC dL dF hc hd hw T
  dsimp only [wpX_clear, wpY_clear]
  exact rl_mk (c := 0) (by omega) hd hw rl_TB0
theorem i_vc_rawClear {k : Nat} {u : SX} {v : SY} (I : i_Rel k u v) (hk : k + 4 ≤ 2048) : wpX_rawClear (fun u' => wpY_rawClear (fun v' => i_Rel (k + 4) u' v') v) u := by
  refine rl_el (P := fun u v => wpX_rawClear (fun u' => wpY_rawClear (fun v' => i_Rel (k + 4) u' v') v) u) I ?_
  intro c d w pu ke st gR gF gS ff rg ho fi so aF aL aC dt tx rR rF rS rI rO rE po en di ou bC bL bF dC dL dF hc hd hw T
  dsimp only [wpX_rawClear, wpY_rawClear]
  exact rl_mk (w := 0) hc hd (by omega) T
theorem i_vc_records {k : Nat} {u : SX} {v : SY} (I : i_Rel k u v) (hk : k + 4 ≤ 2048) : wpX_records (fun r => wpY_records (fun r' => r' = r ∧ i_Rel (k + 4) u v) v) u := by
  refine rl_el (P := fun u v => wpX_records (fun r => wpY_records (fun r' => r' = r ∧ i_Rel (k + 4) u v) v) u) I ?_
  intro c d w pu ke st gR gF gS ff rg ho fi so aF aL aC dt tx rR rF rS rI rO rE po en di ou bC bL bF dC dL dF hc hd hw T
  dsimp only [wpX_records, wpY_records]
  exact ⟨by trivial, rl_mk hc hd hw T⟩
theorem i_vc_rawLength {k : Nat} {u : SX} {v : SY} (I : i_Rel k u v) (hk : k + 4 ≤ 2048) : wpX_rawLength (fun r => wpY_rawLength (fun r' => r' = r ∧ i_Rel (k + 4) u v) v) u := by
  refine rl_el (P := fun u v => wpX_rawLength (fun r => wpY_rawLength (fun r' => r' = r ∧ i_Rel (k + 4) u v) v) u) I ?_
  intro c d w pu ke st gR gF gS ff rg ho fi so aF aL aC dt tx rR rF rS rI rO rE po en di ou bC bL bF dC dL dF hc hd hw T
  dsimp only [wpX_rawLength, wpY_rawLength]
  exact ⟨by trivial, rl_mk hc hd hw T⟩
theorem i_vc_unraw {k : Nat} {u : SX} {v : SY} (I : i_Rel k u v) (hk : k + 4 ≤ 2048) : wpX_unraw (fun r u' => wpY_unraw (fun r' v' => r' = r ∧ i_Rel (k + 4) u' v') v) u := by
  refine rl_el (P := fun u v => wpX_unraw (fun r u' => wpY_unraw (fun r' v' => r' = r ∧ i_Rel (k + 4) u' v') v) u) I ?_
  intro c d w pu ke st gR gF gS ff rg ho fi so aF aL aC dt tx rR rF rS rI rO rE po en di ou bC bL bF dC dL dF hc hd hw T
  by_cases h0 : w = 0
  · have e : nI w = 0 := by rw [h0]; rfl
    exact br_t e (br_t e ⟨rfl, rl_mk hc hd hw T⟩)
  · have e : ¬ nI w = 0 := nI_ne0 (by omega) (by omega)
    exact br_f e (nm_r (bs_s1 (by omega)) ⟨bs_in (by omega) (by omega), br_f e (nm_r (bs_s1 (by omega)) ⟨bs_in (by omega) (by omega), rfl, rl_mk hc hd (by omega) T⟩)⟩)
theorem i_vc_rawAt {k : Nat} {u : SX} {v : SY} (I : i_Rel k u v) (hk : k + 4 ≤ 2048) (v1 : Int32) : wpX_rawAt (fun r => wpY_rawAt (fun r' => r' = r ∧ i_Rel (k + 4) u v) v v1) u v1 := by
  refine rl_el (P := fun u v => wpX_rawAt (fun r => wpY_rawAt (fun r' => r' = r ∧ i_Rel (k + 4) u v) v v1) u v1) I ?_
  intro c d w pu ke st gR gF gS ff rg ho fi so aF aL aC dt tx rR rF rS rI rO rE po en di ou bC bL bF dC dL dF hc hd hw T
  rcases pk_ix v1 (n := w) (by omega) with h | h | ⟨r, hr, rfl⟩
  · exact br_t h (br_t h ⟨rfl, rl_mk hc hd hw T⟩)
  · have h0 : ¬ v1 < 0 := Int32.not_lt.mpr (Int32.le_trans (nI_pos' (by omega)) h)
    exact br_f h0 (br_f (Int32.not_lt.mpr h) (br_f h0 (br_t h ⟨rfl, rl_mk hc hd hw T⟩)))
  · have h0 : ¬ nI r < 0 := nI_pos (by omega)
    exact br_f h0 (br_t (nI_lt hr (by omega)) ⟨bs_in (by omega) (by omega), br_f h0 (br_f (nI_ge hr (by omega)) ⟨bs_in (by omega) (by omega), rfl, rl_mk hc hd hw T⟩)⟩)
theorem i_vc_fields {k : Nat} {u : SX} {v : SY} (I : i_Rel k u v) (hk : k + 4 ≤ 2048) (v1 : Int32) : wpX_fields (fun r => wpY_fields (fun r' => r' = r ∧ i_Rel (k + 4) u v) v v1) u v1 := by
  refine rl_el (P := fun u v => wpX_fields (fun r => wpY_fields (fun r' => r' = r ∧ i_Rel (k + 4) u v) v v1) u v1) I ?_
  intro c d w pu ke st gR gF gS ff rg ho fi so aF aL aC dt tx rR rF rS rI rO rE po en di ou bC bL bF dC dL dF hc hd hw T
  rcases pk_ix v1 (n := c) (by omega) with h | h | ⟨r, hr, rfl⟩
  · exact br_t h (br_t h ⟨rfl, rl_mk hc hd hw T⟩)
  · have h0 : ¬ v1 < 0 := Int32.not_lt.mpr (Int32.le_trans (nI_pos' (by omega)) h)
    exact br_f h0 (br_f (Int32.not_lt.mpr h) (br_f h0 (br_t h ⟨rfl, rl_mk hc hd hw T⟩)))
  · have h0 : ¬ nI r < 0 := nI_pos (by omega)
    obtain ⟨q, q1, q5, ea, eb, hf⟩ := T r hr
    exact br_f h0 (br_t (nI_lt hr (by omega)) ⟨bs_in (by omega) (by omega), br_f h0 (br_f (nI_ge hr (by omega)) ⟨bs_in (by omega) (by omega), by rw [bs_c (by omega), ea, eb], rl_mk hc hd hw T⟩)⟩)
theorem i_vc_size {k : Nat} {u : SX} {v : SY} (I : i_Rel k u v) (hk : k + 4 ≤ 2048) (v1 : Int32) (v2 : Int32) : wpX_size (fun r => wpY_size (fun r' => r' = r ∧ i_Rel (k + 4) u v) v v1 v2) u v1 v2 := by
  refine rl_el (P := fun u v => wpX_size (fun r => wpY_size (fun r' => r' = r ∧ i_Rel (k + 4) u v) v v1 v2) u v1 v2) I ?_
  intro c d w pu ke st gR gF gS ff rg ho fi so aF aL aC dt tx rR rF rS rI rO rE po en di ou bC bL bF dC dL dF hc hd hw T
  dsimp only [wpX_size, wpY_size]
  rcases rl_nf hc T v1 v2 with ⟨hx, hy⟩ | ⟨r, f, q, hr, hf, q5, rfl, rfl, ⟨l, hl, e1, e2, e3⟩, hx, hy⟩
  · exact hx _ (br_f (by decide) (hy _ (br_t rfl ⟨rfl, rl_mk hc hd hw T⟩)))
  · refine hx _ (br_t rfl ?_)
    rw [bs_5x, bs_c (by omega), e1]
    refine ⟨bs_in (by omega) (by omega), ?_⟩
    refine hy _ (br_f (by decide) ?_)
    rw [bs_5y, bs_c (by omega), e2]
    exact ⟨bs_in (by omega) (by omega), rfl, rl_mk hc hd hw T⟩
theorem i_vc_at {k : Nat} {u : SX} {v : SY} (I : i_Rel k u v) (hk : k + 4 ≤ 2048) (v1 : Int32) (v2 : Int32) (v3 : Int32) : wpX_at (fun r => wpY_at (fun r' => r' = r ∧ i_Rel (k + 4) u v) v v1 v2 v3) u v1 v2 v3 := by
  refine rl_el (P := fun u v => wpX_at (fun r => wpY_at (fun r' => r' = r ∧ i_Rel (k + 4) u v) v v1 v2 v3) u v1 v2 v3) I ?_
  intro c d w pu ke st gR gF gS ff rg ho fi so aF aL aC dt tx rR rF rS rI rO rE po en di ou bC bL bF dC dL dF hc hd hw T
  dsimp only [wpX_at, wpY_at]
  rcases rl_nf hc T v1 v2 with ⟨hx, hy⟩ | ⟨r, f, q, hr, hf, q5, rfl, rfl, ⟨l, hl, e1, e2, e3⟩, hx, hy⟩
  · exact hx _ (br_f (by decide) (hy _ (br_t rfl ⟨rfl, rl_mk hc hd hw T⟩)))
  · have hj : 5 * r + f < 30 := by omega
    rcases pk_ix v3 (n := l) (by omega) with h | h | ⟨i, hi, rfl⟩
    · exact hx _ (br_t rfl (br_t h (hy _ (br_f (by decide) (br_t h ⟨rfl, rl_mk hc hd hw T⟩)))))
    · have h0 : ¬ v3 < 0 := Int32.not_lt.mpr (Int32.le_trans (nI_pos' (by omega)) h)
      refine hx _ (br_t rfl (br_f h0 ?_))
      rw [bs_5x, bs_c (by omega), e1]
      refine ⟨bs_in hj (by omega), br_f (Int32.not_lt.mpr h) ?_⟩
      refine hy _ (br_f (by decide) (br_f h0 ?_))
      rw [bs_5y, bs_c (by omega), e2]
      exact ⟨bs_in hj (by omega), br_t h ⟨rfl, rl_mk hc hd hw T⟩⟩
    · have h0 : ¬ nI i < 0 := nI_pos (by omega)
      refine hx _ (br_t rfl (br_f h0 ?_))
      rw [bs_5x, bs_c (by omega), e1]
      refine ⟨bs_in hj (by omega), br_t (nI_lt hi (by omega)) ?_⟩
      rw [bs_6x, bs_c (by omega)]
      refine ⟨bs_in (by omega) (by omega), ?_⟩
      refine hy _ (br_f (by decide) (br_f h0 ?_))
      rw [bs_5y, bs_c (by omega), e2]
      refine ⟨bs_in hj (by omega), br_f (nI_ge hi (by omega)) ?_⟩
      rw [bs_6y, bs_c (by omega)]
      exact ⟨bs_in (by omega) (by omega), e3 i hi, rl_mk hc hd hw T⟩
theorem i_vc_put {k : Nat} {u : SX} {v : SY} (I : i_Rel k u v) (hk : k + 4 ≤ 2048) (v1 : Int32) (v2 : Int32) : wpX_put (fun r u' => wpY_put (fun r' v' => r' = r ∧ i_Rel (k + 4) u' v') v v1 v2) u v1 v2 := by
  refine rl_el (P := fun u v => wpX_put (fun r u' => wpY_put (fun r' v' => r' = r ∧ i_Rel (k + 4) u' v') v v1 v2) u v1 v2) I ?_
  intro c d w pu ke st gR gF gS ff rg ho fi so aF aL aC dt tx rR rF rS rI rO rE po en di ou bC bL bF dC dL dF hc hd hw T
  dsimp only [wpX_put, wpY_put]
  rcases rl_nf hc T v1 v2 with ⟨hx, hy⟩ | ⟨r, f, q, hr, hf, q5, rfl, rfl, ⟨l, hl, e1, e2, e3⟩, hx, hy⟩
  · exact hx _ (br_f (by decide) (hy _ (br_t rfl ⟨rfl, rl_mk hc hd hw T⟩)))
  · have hj : 5 * r + f < 30 := by omega
    refine hx _ (br_t rfl ?_)
    rw [bs_5x]
    refine rl_xp hj hd ?_
    refine hy _ (br_f (by decide) ?_)
    rw [bs_5y]
    refine rl_yp hj hd ?_
    refine ⟨bs_in hj (by omega), ?_, rl_mk (d := 0) hc (by omega) hw ?_⟩
    · rw [bs_c (by omega)]; exact pk_us
    · intro r' hr'
      obtain ⟨q', q1', q5', ea, eb, hf'⟩ := T r' hr'
      exact ⟨q', q1', q5', ea, eb, fun f' h' => rl_put hd (Or.inr (hf' f' h'))⟩
theorem i_vc_addRow {k : Nat} {u : SX} {v : SY} (I : i_Rel k u v) (hk : k + 4 ≤ 2048) : wpX_addRow (fun r u' => wpY_addRow (fun r' v' => r' = r ∧ i_Rel (k + 4) u' v') v) u := by
  refine rl_el (P := fun u v => wpX_addRow (fun r u' => wpY_addRow (fun r' v' => r' = r ∧ i_Rel (k + 4) u' v') v) u) I ?_
  intro c d w pu ke st gR gF gS ff rg ho fi so aF aL aC dt tx rR rF rS rI rO rE po en di ou bC bL bF dC dL dF hc hd hw T
  by_cases h6 : c = 6
  · have e : nI c = 6 := by rw [h6]; rfl
    exact br_t e (br_t e ⟨rfl, rl_mk hc hd hw T⟩)
  · have e : ¬ nI c = 6 := fun z => h6 ((nI_eq (b := 6) (by omega) (by omega)).mp z)
    refine br_f e ⟨bs_in (by omega) (by omega), nm_r (e' := upd aF c 1) (by rw [bs_c (by omega)]) ?_⟩
    rw [bs_5x0]
    refine rl_xp (by omega) hd ?_
    refine nm_r (nI_1 c) ?_
    refine br_f e ?_
    rw [bs_5y0]
    refine rl_yp (by omega) hd ?_
    refine ⟨bs_in (by omega) (by omega), nm_r (e' := upd bF c 1) (by rw [bs_c (by omega)]) (nm_r (nI_1 c) ⟨rfl, rl_mk (d := 0) (by omega) (by omega) hw ?_⟩)⟩
    intro r hr
    by_cases z : r = c
    · subst z
      exact ⟨1, by omega, by omega, pk_us, pk_us, fun f hf => rl_put hd (Or.inl (by omega))⟩
    · obtain ⟨q, q1, q5, ea, eb, hf⟩ := T r (by omega)
      exact ⟨q, q1, q5, by rw [pk_un z]; exact ea, by rw [pk_un z]; exact eb, fun f' h' => rl_put hd (Or.inr (hf f' h'))⟩
theorem i_vc_field {k : Nat} {u : SX} {v : SY} (I : i_Rel k u v) (hk : k + 4 ≤ 2048) : wpX_field (fun r u' => wpY_field (fun r' v' => r' = r ∧ i_Rel (k + 4) u' v') v) u := by
  refine rl_el (P := fun u v => wpX_field (fun r u' => wpY_field (fun r' v' => r' = r ∧ i_Rel (k + 4) u' v') v) u) I ?_
  intro c d w pu ke st gR gF gS ff rg ho fi so aF aL aC dt tx rR rF rS rI rO rE po en di ou bC bL bF dC dL dF hc hd hw T
  by_cases h0 : c = 0
  · have e : nI c = 0 := by rw [h0]; rfl
    exact br_t e (br_t e ⟨rfl, rl_mk hc hd hw T⟩)
  · have e : ¬ nI c = 0 := nI_ne0 (by omega) (by omega)
    obtain ⟨q, q1, q5, ea, eb, hf⟩ := T (c - 1) (by omega)
    have hi : vp_in (nI (c - 1)) 6 := bs_in (by omega) (by omega)
    refine br_f e (nm_r (bs_s1 (by omega)) ⟨hi, ?_⟩)
    rw [bs_c (n := c - 1) (by omega), ea]
    by_cases h5 : q = 5
    · have e5 : nI q = 5 := by rw [h5]; rfl
      refine br_t e5 (br_f e (nm_r (bs_s1 (by omega)) ⟨hi, ?_⟩))
      rw [bs_c (n := c - 1) (by omega), eb]
      exact br_t e5 ⟨rfl, rl_mk hc hd hw T⟩
    · have e5 : ¬ nI q = 5 := fun z => h5 ((nI_eq (b := 5) (by omega) (by omega)).mp z)
      refine br_f e5 ⟨hi, ?_⟩
      rw [bs_5x]
      refine rl_xp (by omega) hd ?_
      refine ⟨hi, hi, nm_r (e' := upd aF (c - 1) (nI (q + 1))) (by rw [ea, nI_1]) ⟨hi, ?_⟩⟩
      refine br_f e (nm_r (bs_s1 (by omega)) ⟨hi, ?_⟩)
      rw [bs_c (n := c - 1) (by omega), eb]
      refine br_f e5 ⟨hi, ?_⟩
      rw [bs_5y]
      refine rl_yp (by omega) hd ?_
      refine ⟨hi, hi, nm_r (e' := upd bF (c - 1) (nI (q + 1))) (by rw [eb, nI_1]) ⟨hi, ?_, rl_mk (d := 0) hc (by omega) hw ?_⟩⟩
      · rw [pk_us, pk_us]
      · intro r hr
        by_cases z : r = c - 1
        · subst z
          refine ⟨q + 1, by omega, by omega, pk_us, pk_us, fun f' h' => rl_put hd ?_⟩
          by_cases z2 : f' = q
          · exact Or.inl (by rw [z2])
          · exact Or.inr (hf f' (by omega))
        · obtain ⟨q', q1', q5', ea', eb', hf'⟩ := T r (by omega)
          exact ⟨q', q1', q5', by rw [pk_un z]; exact ea', by rw [pk_un z]; exact eb', fun f' h' => rl_put hd (Or.inr (hf' f' h'))⟩
end
section
/-! writing: one list of emitted characters for both -/
def wr_l : List Int32 → (Nat → Int32) → Nat → (Nat → Int32)
  | [], t, _ => t
  | c :: cs, t, p => wr_l cs (upd t p c) (p + 1)
theorem wr_la : ∀ (a b : List Int32) (t : Nat → Int32) (p : Nat), wr_l (a ++ b) t p = wr_l b (wr_l a t p) (p + a.length) := by
  intro a
  induction a with
  | nil => intro b t p; rfl
  | cons c a ih =>
    intro b t p
    show wr_l (a ++ b) (upd t p c) (p + 1) = wr_l b (wr_l a (upd t p c) (p + 1)) (p + (a.length + 1))
    rw [ih b (upd t p c) (p + 1), show p + 1 + a.length = p + (a.length + 1) from by omega]
def wr_k (ke : Int32) (l : List Int32) (t : Nat → Int32) (p : Nat) : Nat → Int32 := if ke = 0 then t else wr_l l t p
theorem wr_kn {ke : Int32} {t : Nat → Int32} {p : Nat} : wr_k ke [] t p = t := by
  unfold wr_k
  by_cases h : ke = 0
  · rw [if_pos h]
  · rw [if_neg h]; rfl
theorem wr_ka {ke : Int32} {a b : List Int32} {t : Nat → Int32} {p : Nat} : wr_k ke (a ++ b) t p = wr_k ke b (wr_k ke a t p) (p + a.length) := by
  unfold wr_k
  by_cases h : ke = 0
  · rw [if_pos h, if_pos h, if_pos h]
  · rw [if_neg h, if_neg h, if_neg h, wr_la]
theorem wr_kc {ke c : Int32} {a : List Int32} {t : Nat → Int32} {p : Nat} : wr_k ke (c :: a) t p = wr_k ke a (wr_k ke [c] t p) (p + 1) := wr_ka (a := [c])
def wr_ok (ke : Int32) (m : Nat) : Prop := (ke = 0 ∨ m ≤ 96) ∧ m ≤ 2000
theorem wr_okm {ke : Int32} {m m' : Nat} (h : wr_ok ke m) (hm : m' ≤ m) : wr_ok ke m' := ⟨h.1.imp id (fun z => Nat.le_trans hm z), Nat.le_trans hm h.2⟩
def wr_D (d : Int32) : Prop := (d &&& 4 = 0 ↔ d < 4) ∧ ((d &&& 1 = 1 ∧ 5 + (d &&& 1) = 6) ∨ (¬ d &&& 1 = 1 ∧ 5 + (d &&& 1) = 5))
theorem wr_D8 : ∀ j : Nat, j ≤ 7 → wr_D (nI j) := by
  intro j h
  rcases (by omega : j = 0 ∨ j = 1 ∨ j = 2 ∨ j = 3 ∨ j = 4 ∨ j = 5 ∨ j = 6 ∨ j = 7) with rfl | rfl | rfl | rfl | rfl | rfl | rfl | rfl <;> exact ⟨by decide, by decide⟩
section
variable {cn dr wl pu ke st gR gF gS ff rg ho fi so : Int32} {aF aL aC dt tx : Nat → Int32} {rR rF rS rI rO rE po en di ou : Int32} {bC bL bF dC dL dF : Nat → Int32}
theorem wr_bd (v1 : Int32) : ((∀ post : Int32 → Prop, post 1 → wpX_badDialect post (cn, dr, wl, pu, ke, st, gR, gF, gS, ff, rg, ho, fi, so, aF, aL, aC, dt, tx) v1) ∧ (∀ post : Int32 → Prop, post 0 → wpY_isDialect post (cn, dr, wl, rR, rF, rS, rI, rO, rE, po, en, di, ou, bC, bL, bF, dt, tx, dC, dL, dF) v1)) ∨
    ((∀ post : Int32 → Prop, post 0 → wpX_badDialect post (cn, dr, wl, pu, ke, st, gR, gF, gS, ff, rg, ho, fi, so, aF, aL, aC, dt, tx) v1) ∧ (∀ post : Int32 → Prop, post 1 → wpY_isDialect post (cn, dr, wl, rR, rF, rS, rI, rO, rE, po, en, di, ou, bC, bL, bF, dt, tx, dC, dL, dF) v1) ∧ ∃ j : Nat, j ≤ 7 ∧ v1 = nI j) := by
  by_cases h0 : v1 < 0
  · exact Or.inl ⟨fun _ p => br_t h0 p, fun _ p => br_t h0 p⟩
  · by_cases h7 : v1 ≤ 7
    · exact Or.inr ⟨fun _ p => br_f h0 (br_t h7 p), fun _ p => br_f h0 (br_f (Int32.not_lt.mpr h7) p), nI_of2 (M := 7) (by decide) h0 h7⟩
    · exact Or.inl ⟨fun _ p => br_f h0 (br_f h7 p), fun _ p => br_f h0 (br_t (Int32.not_le.mp h7) p)⟩
theorem wr_xe {post : SX → Prop} {p : Nat} (ch : Int32) (hk : wr_ok ke (p + 1)) (h : post (cn, dr, wl, nI (p + 1), ke, st, gR, gF, gS, ff, rg, ho, fi, so, aF, aL, aC, dt, wr_k ke [ch] tx p)) : wpX_emit post (cn, dr, wl, nI p, ke, st, gR, gF, gS, ff, rg, ho, fi, so, aF, aL, aC, dt, tx) ch := by
  have hb : p + 1 ≤ 2000 := hk.2
  by_cases z : ke = 0
  · rw [show wr_k ke [ch] tx p = tx from if_pos z] at h
    exact br_t z (nm_r (nI_1 p) h)
  · have hp : p + 1 ≤ 96 := hk.1.resolve_left z
    rw [show wr_k ke [ch] tx p = upd tx p ch from if_neg z] at h
    exact br_f z ⟨bs_in (by omega) (by omega), nm_r (e' := upd tx p ch) (by rw [bs_c (by omega)]) (nm_r (nI_1 p) h)⟩
theorem wr_ye {post : SY → Prop} {p : Nat} (ch : Int32) (hk : wr_ok ke (p + 1)) (h : post (cn, dr, wl, rR, rF, rS, rI, rO, rE, po, en, di, nI (p + 1), bC, bL, bF, dt, wr_k ke [ch] tx p, dC, dL, dF)) : wpY_emit post (cn, dr, wl, rR, rF, rS, rI, rO, rE, po, en, di, nI p, bC, bL, bF, dt, tx, dC, dL, dF) ch ke := by
  have hb : p + 1 ≤ 2000 := hk.2
  by_cases z : ke = 0
  · rw [show wr_k ke [ch] tx p = tx from if_pos z] at h
    exact br_t z (nm_r (nI_1 p) h)
  · have hp : p + 1 ≤ 96 := hk.1.resolve_left z
    rw [show wr_k ke [ch] tx p = upd tx p ch from if_neg z] at h
    exact br_f z (br_f (nI_ge (b := 96) (by omega) (by omega)) ⟨bs_in (by omega) (by omega), nm_r (e' := upd tx p ch) (by rw [bs_c (by omega)]) (nm_r (nI_1 p) h)⟩)
theorem wr_xs {post : Int32 → Prop} {d : Int32} (h : post (5 + (d &&& 1))) : wpX_separator post (cn, dr, wl, pu, ke, st, gR, gF, gS, ff, rg, ho, fi, so, aF, aL, aC, dt, tx) d := h
theorem wr_ys {post : Int32 → Prop} {d : Int32} (D : wr_D d) (h : post (5 + (d &&& 1))) : wpY_separator post (cn, dr, wl, rR, rF, rS, rI, rO, rE, po, en, d, ou, bC, bL, bF, dt, tx, dC, dL, dF) := by
  rcases D.2 with ⟨a, b⟩ | ⟨a, b⟩
  · rw [b] at h; exact br_t a h
  · rw [b] at h; exact br_f a h
theorem wr_ip {post : Int32 → Prop} {d : Int32} (D : wr_D d) (ch : Int32) (h : post (if ch = 5 + (d &&& 1) ∨ 7 ≤ ch then 0 else 1)) : wpY_isPlain post (cn, dr, wl, rR, rF, rS, rI, rO, rE, po, en, d, ou, bC, bL, bF, dt, tx, dC, dL, dF) ch := by
  dsimp only [wpY_isPlain]
  refine wr_ys D ?_
  by_cases z : ch = 5 + (d &&& 1)
  · rw [if_pos (Or.inl z)] at h; exact br_t z h
  · by_cases y : 7 ≤ ch
    · rw [if_pos (Or.inr y)] at h; exact br_f z (br_t y h)
    · rw [if_neg (fun q => q.elim z y)] at h; exact br_f z (br_f y h)
end
section
variable {cn dr wl st gR gF gS ff rg ho fi so : Int32} {aF aL aC dt : Nat → Int32} {rR rF rS rI rO rE po en : Int32} {bC bL bF dC dL dF : Nat → Int32}
theorem wr_nq {d : Int32} (D : wr_D d) {j l k : Nat} (hj : j < 30) (hl : l ≤ 6) (hk1 : 1 ≤ k) (hk5 : k ≤ 5) (ea : aL j = nI l) (eb : bL j = nI l) (ef : bF (j / 5) = nI k) (hc : ∀ i : Nat, i < l → bC (6 * j + i) = aC (6 * j + i)) : ∀ m i : Nat, i + m = l →
    ((∀ (post : Int32 → Prop) (n : Nat) (pu ke : Int32) (tx : Nat → Int32), m < n → post 1 → wX_needsQuotes_2 post (nI j) d cn dr wl pu ke st gR gF gS ff rg ho fi so aF aL aC dt tx n (nI i)) ∧ (∀ (post : Int32 → Prop) (n : Nat) (ou : Int32) (tx : Nat → Int32), m < n → post 0 → wY_isPlainField_2 post (nI j) cn dr wl rR rF rS rI rO rE po en d ou bC bL bF dt tx dC dL dF n (nI i))) ∨
    ((∀ (post : Int32 → Prop) (n : Nat) (pu ke : Int32) (tx : Nat → Int32), m < n → post 0 → wX_needsQuotes_2 post (nI j) d cn dr wl pu ke st gR gF gS ff rg ho fi so aF aL aC dt tx n (nI i)) ∧ (∀ (post : Int32 → Prop) (n : Nat) (ou : Int32) (tx : Nat → Int32), m < n → post (if l = 0 ∧ k = 1 then 0 else 1) → wY_isPlainField_2 post (nI j) cn dr wl rR rF rS rI rO rE po en d ou bC bL bF dt tx dC dL dF n (nI i))) := by
  have hjc : (nI j).toNatClampNeg = j := bs_c (by omega)
  intro m
  induction m with
  | zero =>
    intro i hi
    have e : i = l := by omega
    subst e
    refine Or.inr ⟨fun post n pu ke tx hn h => ?_, fun post n ou tx hn h => ?_⟩
    · obtain ⟨n, rfl⟩ : ∃ n', n = n' + 1 := ⟨n - 1, by omega⟩
      refine And.intro (bs_in hj (by omega)) ?_
      rw [hjc, ea]
      exact br_t (Int32.le_refl _) h
    · obtain ⟨n, rfl⟩ : ∃ n', n = n' + 1 := ⟨n - 1, by omega⟩
      refine And.intro (bs_in hj (by omega)) ?_
      rw [hjc, eb]
      refine br_t (Int32.le_refl _) ⟨bs_in hj (by omega), ?_⟩
      refine pk_lt 0 i (fun z => ?_) (fun z => ?_)
      · rw [if_neg (by omega)] at h; exact h
      · have e5 : nI j / 5 = nI (j / 5) := pk_div (d := 5) (by omega) (by omega) (by omega)
        rw [e5, bs_c (n := j / 5) (by omega), ef]
        refine ⟨by decide, bs_in (by omega) (by omega), ?_⟩
        refine pk_le k 1 (fun y => ?_) (fun y => ?_)
        · rw [if_pos (by omega)] at h; exact h
        · rw [if_neg (by omega)] at h; exact h
  | succ m ih =>
    intro i hi
    have hx : (nI j * 6 + nI i).toNatClampNeg = 6 * j + i := by rw [bs_6x, bs_c (by omega)]
    have hy : (6 * nI j + nI i).toNatClampNeg = 6 * j + i := by rw [bs_6y, bs_c (by omega)]
    have vx : vp_in (nI j * 6 + nI i) 180 := pk_in (6 * j + i) 180 (by omega) (bs_6x j i)
    have vy : vp_in (6 * nI j + nI i) 180 := pk_in (6 * j + i) 180 (by omega) (bs_6y j i)
    have hlt : ¬ nI l ≤ nI i := nI_ge (by omega) (by omega)
    have hcc := hc i (by omega)
    by_cases z : aC (6 * j + i) = 5 + (d &&& 1) ∨ 7 ≤ aC (6 * j + i)
    · refine Or.inl ⟨fun post n pu ke tx hn h => ?_, fun post n ou tx hn h => ?_⟩
      · obtain ⟨n, rfl⟩ : ∃ n', n = n' + 1 := ⟨n - 1, by omega⟩
        refine And.intro (bs_in hj (by omega)) ?_
        rw [hjc, ea]
        refine br_f hlt ⟨vx, nm_r (e' := aC (6 * j + i)) (by rw [hx]) ?_⟩
        by_cases y : 7 ≤ aC (6 * j + i)
        · exact br_t y h
        · exact br_f y (br_t (z.resolve_right y) h)
      · obtain ⟨n, rfl⟩ : ∃ n', n = n' + 1 := ⟨n - 1, by omega⟩
        refine And.intro (bs_in hj (by omega)) ?_
        rw [hjc, eb]
        refine br_f hlt ⟨vy, nm_r (e' := aC (6 * j + i)) (by rw [hy, hcc]) ?_⟩
        refine wr_ip D _ ?_
        rw [if_pos z]
        exact br_t rfl h
    · have z1 : ¬ aC (6 * j + i) = 5 + (d &&& 1) := fun q => z (Or.inl q)
      have z2 : ¬ 7 ≤ aC (6 * j + i) := fun q => z (Or.inr q)
      have X1 : ∀ (post : Int32 → Prop) (n : Nat) (pu ke : Int32) (tx : Nat → Int32), wX_needsQuotes_2 post (nI j) d cn dr wl pu ke st gR gF gS ff rg ho fi so aF aL aC dt tx n (nI (i + 1)) → wX_needsQuotes_2 post (nI j) d cn dr wl pu ke st gR gF gS ff rg ho fi so aF aL aC dt tx (n + 1) (nI i) := by
        intro post n pu ke tx h
        refine And.intro (bs_in hj (by omega)) ?_
        rw [hjc, ea]
        exact br_f hlt ⟨vx, nm_r (e' := aC (6 * j + i)) (by rw [hx]) (br_f z2 (br_f z1 (nm_r (nI_1 i) h)))⟩
      have Y1 : ∀ (post : Int32 → Prop) (n : Nat) (ou : Int32) (tx : Nat → Int32), wY_isPlainField_2 post (nI j) cn dr wl rR rF rS rI rO rE po en d ou bC bL bF dt tx dC dL dF n (nI (i + 1)) → wY_isPlainField_2 post (nI j) cn dr wl rR rF rS rI rO rE po en d ou bC bL bF dt tx dC dL dF (n + 1) (nI i) := by
        intro post n ou tx h
        refine And.intro (bs_in hj (by omega)) ?_
        rw [hjc, eb]
        refine br_f hlt ⟨vy, nm_r (e' := aC (6 * j + i)) (by rw [hy, hcc]) ?_⟩
        refine wr_ip D _ ?_
        rw [if_neg z]
        exact br_f (by decide) (nm_r (nI_1 i) h)
      rcases ih (i + 1) (by omega) with ⟨hX, hY⟩ | ⟨hX, hY⟩
      · refine Or.inl ⟨fun post n pu ke tx hn h => ?_, fun post n ou tx hn h => ?_⟩
        · obtain ⟨n, rfl⟩ : ∃ n', n = n' + 1 := ⟨n - 1, by omega⟩
          exact X1 post n pu ke tx (hX post n pu ke tx (by omega) h)
        · obtain ⟨n, rfl⟩ : ∃ n', n = n' + 1 := ⟨n - 1, by omega⟩
          exact Y1 post n ou tx (hY post n ou tx (by omega) h)
      · refine Or.inr ⟨fun post n pu ke tx hn h => ?_, fun post n ou tx hn h => ?_⟩
        · obtain ⟨n, rfl⟩ : ∃ n', n = n' + 1 := ⟨n - 1, by omega⟩
          exact X1 post n pu ke tx (hX post n pu ke tx (by omega) h)
        · obtain ⟨n, rfl⟩ : ∃ n', n = n' + 1 := ⟨n - 1, by omega⟩
          exact Y1 post n ou tx (hY post n ou tx (by omega) h)
theorem wr_q {d : Int32} (D : wr_D d) {r f l k : Nat} (hr : r < 6) (hf : f < k) (hl : l ≤ 6) (hk5 : k ≤ 5) (ea : aL (5 * r + f) = nI l) (eb : bL (5 * r + f) = nI l) (fa : aF r = nI k) (fb : bF r = nI k) (hc : ∀ i : Nat, i < l → bC (6 * (5 * r + f) + i) = aC (6 * (5 * r + f) + i)) : ∃ z z' : Int32, (z = 0 ∧ z' = 1 ∨ z = 1 ∧ z' = 0) ∧
    (∀ (post : SX → Prop) (pu ke : Int32) (tx : Nat → Int32), wX_writeField_42 post d (nI (5 * r + f)) z cn dr wl pu ke st gR gF gS ff rg ho fi so aF aL aC dt tx → wpX_writeField post (cn, dr, wl, pu, ke, st, gR, gF, gS, ff, rg, ho, fi, so, aF, aL, aC, dt, tx) (nI r) (nI f) d) ∧
    (∀ (post : Int32 → Prop) (ou : Int32) (tx : Nat → Int32), post z' → wpY_isPlainField post (cn, dr, wl, rR, rF, rS, rI, rO, rE, po, en, d, ou, bC, bL, bF, dt, tx, dC, dL, dF) (nI (5 * r + f))) := by
  have hj : 5 * r + f < 30 := by omega
  have hjc : (nI (5 * r + f)).toNatClampNeg = 5 * r + f := bs_c (by omega)
  have hrc : (nI r).toNatClampNeg = r := bs_c (by omega)
  have hd5 : (5 * r + f) / 5 = r := by omega
  rcases wr_nq (cn := cn) (dr := dr) (wl := wl) (st := st) (gR := gR) (gF := gF) (gS := gS) (ff := ff) (rg := rg) (ho := ho) (fi := fi) (so := so) (aF := aF) (dt := dt) (rR := rR) (rF := rF) (rS := rS) (rI := rI) (rO := rO) (rE := rE) (po := po) (en := en) (bF := bF) (dC := dC) (dL := dL) (dF := dF) D hj hl (by omega : 1 ≤ k) hk5 ea eb (by rw [hd5]; exact fb) hc l 0 (by omega) with ⟨hX, hY⟩ | ⟨hX, hY⟩
  · refine ⟨1, 0, Or.inr ⟨rfl, rfl⟩, fun post pu ke tx h => ?_, fun post ou tx h => ?_⟩
    · refine nm_r (bs_5x r f) ?_
      exact ⟨l + 1, hX _ (l + 1) pu ke tx (by omega) (br_f (by decide) h)⟩
    · exact ⟨l + 1, hY _ (l + 1) ou tx (by omega) h⟩
  · by_cases z : l = 0 ∧ k = 1
    · rw [if_pos z] at hY
      refine ⟨1, 0, Or.inr ⟨rfl, rfl⟩, fun post pu ke tx h => ?_, fun post ou tx h => ?_⟩
      · refine nm_r (bs_5x r f) ?_
        refine ⟨l + 1, hX _ (l + 1) pu ke tx (by omega) (br_t rfl ⟨bs_in hj (by omega), ?_⟩)⟩
        rw [hjc, ea, hrc, fa, z.1, z.2]
        exact br_t rfl ⟨bs_in hr (by omega), br_t rfl h⟩
      · exact ⟨l + 1, hY _ (l + 1) ou tx (by omega) h⟩
    · rw [if_neg z] at hY
      refine ⟨0, 1, Or.inl ⟨rfl, rfl⟩, fun post pu ke tx h => ?_, fun post ou tx h => ?_⟩
      · refine nm_r (bs_5x r f) ?_
        refine ⟨l + 1, hX _ (l + 1) pu ke tx (by omega) (br_t rfl ⟨bs_in hj (by omega), ?_⟩)⟩
        rw [hjc, ea, hrc, fa]
        refine pk_eq l 0 (fun y => ⟨bs_in hr (by omega), ?_⟩) (fun y => h)
        exact pk_eq k 1 (fun y2 => absurd ⟨y, y2⟩ z) (fun _ => h)
      · exact ⟨l + 1, hY _ (l + 1) ou tx (by omega) h⟩
end
end
section
section
variable {cn dr wl st gR gF gS ff rg ho fi so : Int32} {aF aL aC dt : Nat → Int32} {rR rF rS rI rO rE po en : Int32} {bC bL bF dC dL dF : Nat → Int32}
theorem wr_ch {d : Int32} (D : wr_D d) {j l : Nat} (hj : j < 30) (hl : l ≤ 6) (ea : aL j = nI l) (eb : bL j = nI l) (hc : ∀ i : Nat, i < l → bC (6 * j + i) = aC (6 * j + i)) {z z' : Int32} (hz : z = 0 ∧ z' = 1 ∨ z = 1 ∧ z' = 0) : ∀ m i : Nat, i + m = l → ∃ e : List Int32, e.length ≤ 2 * m + 1 ∧
    (∀ (post : SX → Prop) (n p : Nat) (ke : Int32) (tx : Nat → Int32), m < n → wr_ok ke (p + e.length) → post (cn, dr, wl, nI (p + e.length), ke, st, gR, gF, gS, ff, rg, ho, fi, so, aF, aL, aC, dt, wr_k ke e tx p) → wX_writeField_58 post d (nI j) z n (nI i) cn dr wl (nI p) ke st gR gF gS ff rg ho fi so aF aL aC dt tx) ∧
    (∀ (post : SY → Prop) (n p : Nat) (ke : Int32) (tx : Nat → Int32), m < n → wr_ok ke (p + e.length) → post (cn, dr, wl, rR, rF, rS, rI, rO, rE, po, en, d, nI (p + e.length), bC, bL, bF, dt, wr_k ke e tx p, dC, dL, dF) → wY_writeField_20 post (nI j) ke z' n (nI i) cn dr wl rR rF rS rI rO rE po en d (nI p) bC bL bF dt tx dC dL dF) := by
  have hjc : (nI j).toNatClampNeg = j := bs_c (by omega)
  intro m
  induction m with
  | zero =>
    intro i hi
    have e : i = l := by omega
    subst e
    rcases hz with ⟨rfl, rfl⟩ | ⟨rfl, rfl⟩
    · refine ⟨[], by show 0 ≤ 1; omega, fun post n p ke tx hn hk h => ?_, fun post n p ke tx hn hk h => ?_⟩
      · obtain ⟨n, rfl⟩ : ∃ n', n = n' + 1 := ⟨n - 1, by omega⟩
        rw [wr_kn] at h
        refine And.intro (bs_in hj (by omega)) ?_
        rw [hjc, ea]
        exact br_t (Int32.le_refl _) (br_t rfl h)
      · obtain ⟨n, rfl⟩ : ∃ n', n = n' + 1 := ⟨n - 1, by omega⟩
        rw [wr_kn] at h
        refine And.intro (bs_in hj (by omega)) ?_
        rw [hjc, eb]
        exact br_t (Int32.le_refl _) (br_f (by decide) h)
    · refine ⟨[7], by show 1 ≤ 1; omega, fun post n p ke tx hn hk h => ?_, fun post n p ke tx hn hk h => ?_⟩
      · obtain ⟨n, rfl⟩ : ∃ n', n = n' + 1 := ⟨n - 1, by omega⟩
        refine And.intro (bs_in hj (by omega)) ?_
        rw [hjc, ea]
        exact br_t (Int32.le_refl _) (br_f (by decide) (wr_xe 7 hk h))
      · obtain ⟨n, rfl⟩ : ∃ n', n = n' + 1 := ⟨n - 1, by omega⟩
        refine And.intro (bs_in hj (by omega)) ?_
        rw [hjc, eb]
        exact br_t (Int32.le_refl _) (br_t rfl (wr_ye 7 hk h))
  | succ m ih =>
    intro i hi
    have hx : (nI j * 6 + nI i).toNatClampNeg = 6 * j + i := by rw [bs_6x, bs_c (by omega)]
    have hy : (6 * nI j + nI i).toNatClampNeg = 6 * j + i := by rw [bs_6y, bs_c (by omega)]
    have vx : vp_in (nI j * 6 + nI i) 180 := pk_in (6 * j + i) 180 (by omega) (bs_6x j i)
    have vy : vp_in (6 * nI j + nI i) 180 := pk_in (6 * j + i) 180 (by omega) (bs_6y j i)
    have hlt : ¬ nI l ≤ nI i := nI_ge (by omega) (by omega)
    have hcc := hc i (by omega)
    obtain ⟨e, he, hX, hY⟩ := ih (i + 1) (by omega)
    by_cases c7 : aC (6 * j + i) = 7
    · have key : ∀ q : Int32, (d < 4 → q = 7) → (¬ d < 4 → q = 10) → ∃ e : List Int32, e.length ≤ 2 * (m + 1) + 1 ∧
          (∀ (post : SX → Prop) (n p : Nat) (ke : Int32) (tx : Nat → Int32), m + 1 < n → wr_ok ke (p + e.length) → post (cn, dr, wl, nI (p + e.length), ke, st, gR, gF, gS, ff, rg, ho, fi, so, aF, aL, aC, dt, wr_k ke e tx p) → wX_writeField_58 post d (nI j) z n (nI i) cn dr wl (nI p) ke st gR gF gS ff rg ho fi so aF aL aC dt tx) ∧
          (∀ (post : SY → Prop) (n p : Nat) (ke : Int32) (tx : Nat → Int32), m + 1 < n → wr_ok ke (p + e.length) → post (cn, dr, wl, rR, rF, rS, rI, rO, rE, po, en, d, nI (p + e.length), bC, bL, bF, dt, wr_k ke e tx p, dC, dL, dF) → wY_writeField_20 post (nI j) ke z' n (nI i) cn dr wl rR rF rS rI rO rE po en d (nI p) bC bL bF dt tx dC dL dF) := by
        intro q q7 q10
        refine ⟨q :: aC (6 * j + i) :: e, by show e.length + 1 + 1 ≤ _; omega, fun post n p ke tx hn hk h => ?_, fun post n p ke tx hn hk h => ?_⟩
        · obtain ⟨n, rfl⟩ : ∃ n', n = n' + 1 := ⟨n - 1, by omega⟩
          rw [wr_kc, wr_kc, show p + (q :: aC (6 * j + i) :: e).length = p + 1 + 1 + e.length from by show p + (e.length + 1 + 1) = _; omega] at h
          have hk2 : wr_ok ke (p + (e.length + 1 + 1)) := hk
          have hA : wX_writeField_105 post (wX_writeField_58 post d (nI j) z n) d (nI j) z (nI i) (aC (6 * j + i)) q cn dr wl (nI p) ke st gR gF gS ff rg ho fi so aF aL aC dt tx := by
            refine wr_xe q (wr_okm hk2 (by omega)) ?_
            refine wr_xe _ (wr_okm hk2 (by omega)) ?_
            refine nm_r (nI_1 i) ?_
            exact hX post n (p + 1 + 1) ke _ (by omega) (wr_okm hk2 (by omega)) h
          refine And.intro (bs_in hj (by omega)) ?_
          rw [hjc, ea]
          refine br_f hlt ⟨vx, nm_r (e' := aC (6 * j + i)) (by rw [hx]) (br_t c7 ?_)⟩
          by_cases d4 : d < 4
          · rw [q7 d4] at hA; exact br_t d4 hA
          · rw [q10 d4] at hA; exact br_f d4 hA
        · obtain ⟨n, rfl⟩ : ∃ n', n = n' + 1 := ⟨n - 1, by omega⟩
          rw [wr_kc, wr_kc, show p + (q :: aC (6 * j + i) :: e).length = p + 1 + 1 + e.length from by show p + (e.length + 1 + 1) = _; omega] at h
          have hk2 : wr_ok ke (p + (e.length + 1 + 1)) := hk
          have hA : wY_writeField_69 post (wY_writeField_20 post (nI j) ke z' n) (nI j) ke z' (nI i) (aC (6 * j + i)) q cn dr wl rR rF rS rI rO rE po en d (nI p) bC bL bF dt tx dC dL dF := by
            refine wr_ye q (wr_okm hk2 (by omega)) ?_
            refine wr_ye _ (wr_okm hk2 (by omega)) ?_
            refine nm_r (nI_1 i) ?_
            exact hY post n (p + 1 + 1) ke _ (by omega) (wr_okm hk2 (by omega)) h
          refine And.intro (bs_in hj (by omega)) ?_
          rw [hjc, eb]
          refine br_f hlt ⟨vy, nm_r (e' := aC (6 * j + i)) (by rw [hy, hcc]) (br_t c7 ?_)⟩
          by_cases d4 : d < 4
          · rw [q7 d4] at hA; exact br_t (D.1.mpr d4) hA
          · rw [q10 d4] at hA; exact br_f (fun y => d4 (D.1.mp y)) hA
      by_cases d4 : d < 4
      · exact key 7 (fun _ => rfl) (fun y => absurd d4 y)
      · exact key 10 (fun y => absurd y d4) (fun _ => rfl)
    · refine ⟨aC (6 * j + i) :: e, by show e.length + 1 ≤ _; omega, fun post n p ke tx hn hk h => ?_, fun post n p ke tx hn hk h => ?_⟩
      · obtain ⟨n, rfl⟩ : ∃ n', n = n' + 1 := ⟨n - 1, by omega⟩
        rw [wr_kc, show p + (aC (6 * j + i) :: e).length = p + 1 + e.length from by show p + (e.length + 1) = _; omega] at h
        have hk2 : wr_ok ke (p + (e.length + 1)) := hk
        refine And.intro (bs_in hj (by omega)) ?_
        rw [hjc, ea]
        refine br_f hlt ⟨vx, nm_r (e' := aC (6 * j + i)) (by rw [hx]) (br_f c7 ?_)⟩
        refine wr_xe _ (wr_okm hk2 (by omega)) ?_
        refine nm_r (nI_1 i) ?_
        exact hX post n (p + 1) ke _ (by omega) (wr_okm hk2 (by omega)) h
      · obtain ⟨n, rfl⟩ : ∃ n', n = n' + 1 := ⟨n - 1, by omega⟩
        rw [wr_kc, show p + (aC (6 * j + i) :: e).length = p + 1 + e.length from by show p + (e.length + 1) = _; omega] at h
        have hk2 : wr_ok ke (p + (e.length + 1)) := hk
        refine And.intro (bs_in hj (by omega)) ?_
        rw [hjc, eb]
        refine br_f hlt ⟨vy, nm_r (e' := aC (6 * j + i)) (by rw [hy, hcc]) (br_f c7 ?_)⟩
        refine wr_ye _ (wr_okm hk2 (by omega)) ?_
        refine nm_r (nI_1 i) ?_
        exact hY post n (p + 1) ke _ (by omega) (wr_okm hk2 (by omega)) h
theorem wr_f {d : Int32} (D : wr_D d) {r f k : Nat} (hr : r < 6) (hf : f < k) (hk5 : k ≤ 5) (fa : aF r = nI k) (fb : bF r = nI k) (H : rl_FR aL aC bL bC (5 * r + f)) : ∃ e : List Int32, e.length ≤ 14 ∧
    (∀ (post : SX → Prop) (p : Nat) (ke : Int32) (tx : Nat → Int32), wr_ok ke (p + e.length) → post (cn, dr, wl, nI (p + e.length), ke, st, gR, gF, gS, ff, rg, ho, fi, so, aF, aL, aC, dt, wr_k ke e tx p) → wpX_writeField post (cn, dr, wl, nI p, ke, st, gR, gF, gS, ff, rg, ho, fi, so, aF, aL, aC, dt, tx) (nI r) (nI f) d) ∧
    (∀ (post : SY → Prop) (p : Nat) (ke : Int32) (tx : Nat → Int32), wr_ok ke (p + e.length) → post (cn, dr, wl, rR, rF, rS, rI, rO, rE, po, en, d, nI (p + e.length), bC, bL, bF, dt, wr_k ke e tx p, dC, dL, dF) → wpY_writeField post (cn, dr, wl, rR, rF, rS, rI, rO, rE, po, en, d, nI p, bC, bL, bF, dt, tx, dC, dL, dF) (nI (5 * r + f)) ke) := by
  obtain ⟨l, hl, ea, eb, hc⟩ := H
  have hj : 5 * r + f < 30 := by omega
  obtain ⟨z, z', hz, qX, qY⟩ := wr_q (cn := cn) (dr := dr) (wl := wl) (st := st) (gR := gR) (gF := gF) (gS := gS) (ff := ff) (rg := rg) (ho := ho) (fi := fi) (so := so) (dt := dt) (rR := rR) (rF := rF) (rS := rS) (rI := rI) (rO := rO) (rE := rE) (po := po) (en := en) (dC := dC) (dL := dL) (dF := dF) D hr hf hl hk5 ea eb fa fb hc
  obtain ⟨e, he, hX, hY⟩ := wr_ch (cn := cn) (dr := dr) (wl := wl) (st := st) (gR := gR) (gF := gF) (gS := gS) (ff := ff) (rg := rg) (ho := ho) (fi := fi) (so := so) (aF := aF) (dt := dt) (rR := rR) (rF := rF) (rS := rS) (rI := rI) (rO := rO) (rE := rE) (po := po) (en := en) (bF := bF) (dC := dC) (dL := dL) (dF := dF) D hj hl ea eb hc hz l 0 (by omega)
  rcases hz with ⟨rfl, rfl⟩ | ⟨rfl, rfl⟩
  · refine ⟨e, by omega, fun post p ke tx hk h => ?_, fun post p ke tx hk h => ?_⟩
    · exact qX post _ ke tx (br_t rfl ⟨l + 1, hX post (l + 1) p ke tx (by omega) hk h⟩)
    · exact qY _ _ tx (br_f (by decide) ⟨l + 1, hY post (l + 1) p ke tx (by omega) hk h⟩)
  · refine ⟨7 :: e, by show e.length + 1 ≤ _; omega, fun post p ke tx hk h => ?_, fun post p ke tx hk h => ?_⟩
    · rw [wr_kc, show p + ((7 : Int32) :: e).length = p + 1 + e.length from by show p + (e.length + 1) = _; omega] at h
      have hk2 : wr_ok ke (p + (e.length + 1)) := hk
      refine qX post _ ke tx (br_f (by decide) ?_)
      refine wr_xe 7 (wr_okm hk2 (by omega)) ?_
      exact ⟨l + 1, hX post (l + 1) (p + 1) ke _ (by omega) (wr_okm hk2 (by omega)) h⟩
    · rw [wr_kc, show p + ((7 : Int32) :: e).length = p + 1 + e.length from by show p + (e.length + 1) = _; omega] at h
      have hk2 : wr_ok ke (p + (e.length + 1)) := hk
      refine qY _ _ tx (br_t rfl ?_)
      refine wr_ye 7 (wr_okm hk2 (by omega)) ?_
      exact ⟨l + 1, hY post (l + 1) (p + 1) ke _ (by omega) (wr_okm hk2 (by omega)) h⟩
theorem wr_r {d : Int32} (D : wr_D d) {r k : Nat} (hr : r < 6) (hk5 : k ≤ 5) (fa : aF r = nI k) (fb : bF r = nI k) (H : ∀ f : Nat, f < k → rl_FR aL aC bL bC (5 * r + f)) : ∀ m f : Nat, f + m = k → ∃ e : List Int32, e.length ≤ 15 * m + 2 ∧
    (∀ (post : SX → Prop) (J : Int32 → Int32 → Int32 → Int32 → Int32 → Int32 → Int32 → Int32 → Int32 → Int32 → Int32 → Int32 → Int32 → Int32 → Int32 → (Nat → Int32) → (Nat → Int32) → (Nat → Int32) → (Nat → Int32) → (Nat → Int32) → Prop) (n p : Nat) (ke : Int32) (tx : Nat → Int32), m < n → wr_ok ke (p + e.length) → J (nI (r + 1)) cn dr wl (nI (p + e.length)) ke st gR gF gS ff rg ho fi so aF aL aC dt (wr_k ke e tx p) → wX_writeAll_23 post J d (nI r) n (nI f) cn dr wl (nI p) ke st gR gF gS ff rg ho fi so aF aL aC dt tx) ∧
    (∀ (post : SY → Prop) (J : Int32 → Int32 → Int32 → Int32 → Int32 → Int32 → Int32 → Int32 → Int32 → Int32 → Int32 → Int32 → Int32 → Int32 → (Nat → Int32) → (Nat → Int32) → (Nat → Int32) → (Nat → Int32) → (Nat → Int32) → (Nat → Int32) → (Nat → Int32) → (Nat → Int32) → Prop) (n p : Nat) (ke : Int32) (tx : Nat → Int32), m < n → wr_ok ke (p + e.length) → J (nI (r + 1)) cn dr wl rR rF rS rI rO rE po en d (nI (p + e.length)) bC bL bF dt (wr_k ke e tx p) dC dL dF → wY_writeAll_23 post J d ke (nI r) n (nI f) cn dr wl rR rF rS rI rO rE po en d (nI p) bC bL bF dt tx dC dL dF) := by
  have hrc : (nI r).toNatClampNeg = r := bs_c (by omega)
  intro m
  induction m with
  | zero =>
    intro f hf
    have e : f = k := by omega
    subst e
    by_cases d2 : d &&& 2 = 0
    · refine ⟨[8, 9], by show 2 ≤ 2; omega, fun post J n p ke tx hn hk h => ?_, fun post J n p ke tx hn hk h => ?_⟩
      · obtain ⟨n, rfl⟩ : ∃ n', n = n' + 1 := ⟨n - 1, by omega⟩
        rw [wr_kc] at h
        have hk2 : wr_ok ke (p + 1 + 1) := hk
        refine And.intro (bs_in hr (by omega)) ?_
        rw [hrc, fa]
        refine br_t (Int32.le_refl _) (br_t d2 ?_)
        refine wr_xe 8 (wr_okm hk2 (by omega)) ?_
        refine wr_xe 9 hk2 ?_
        exact nm_r (nI_1 r) h
      · obtain ⟨n, rfl⟩ : ∃ n', n = n' + 1 := ⟨n - 1, by omega⟩
        rw [wr_kc] at h
        have hk2 : wr_ok ke (p + 1 + 1) := hk
        refine And.intro (bs_in hr (by omega)) ?_
        rw [hrc, fb]
        refine br_t (Int32.le_refl _) (br_t d2 ?_)
        refine wr_ye 8 (wr_okm hk2 (by omega)) ?_
        refine wr_ye 9 hk2 ?_
        exact nm_r (nI_1 r) h
    · refine ⟨[9], by show 1 ≤ 2; omega, fun post J n p ke tx hn hk h => ?_, fun post J n p ke tx hn hk h => ?_⟩
      · obtain ⟨n, rfl⟩ : ∃ n', n = n' + 1 := ⟨n - 1, by omega⟩
        refine And.intro (bs_in hr (by omega)) ?_
        rw [hrc, fa]
        refine br_t (Int32.le_refl _) (br_f d2 ?_)
        refine wr_xe 9 hk ?_
        exact nm_r (nI_1 r) h
      · obtain ⟨n, rfl⟩ : ∃ n', n = n' + 1 := ⟨n - 1, by omega⟩
        refine And.intro (bs_in hr (by omega)) ?_
        rw [hrc, fb]
        refine br_t (Int32.le_refl _) (br_f d2 ?_)
        refine wr_ye 9 hk ?_
        exact nm_r (nI_1 r) h
  | succ m ih =>
    intro f hf
    have hlt : ¬ nI k ≤ nI f := nI_ge (by omega) (by omega)
    obtain ⟨e, he, hX, hY⟩ := ih (f + 1) (by omega)
    obtain ⟨e1, he1, gX, gY⟩ := wr_f (cn := cn) (dr := dr) (wl := wl) (st := st) (gR := gR) (gF := gF) (gS := gS) (ff := ff) (rg := rg) (ho := ho) (fi := fi) (so := so) (dt := dt) (rR := rR) (rF := rF) (rS := rS) (rI := rI) (rO := rO) (rE := rE) (po := po) (en := en) (dC := dC) (dL := dL) (dF := dF) D hr (by omega : f < k) hk5 fa fb (H f (by omega))
    have X48 : ∀ (post : SX → Prop) (J : Int32 → Int32 → Int32 → Int32 → Int32 → Int32 → Int32 → Int32 → Int32 → Int32 → Int32 → Int32 → Int32 → Int32 → Int32 → (Nat → Int32) → (Nat → Int32) → (Nat → Int32) → (Nat → Int32) → (Nat → Int32) → Prop) (n p : Nat) (ke : Int32) (tx : Nat → Int32), m < n → wr_ok ke (p + e1.length + e.length) → J (nI (r + 1)) cn dr wl (nI (p + e1.length + e.length)) ke st gR gF gS ff rg ho fi so aF aL aC dt (wr_k ke e (wr_k ke e1 tx p) (p + e1.length)) → wX_writeAll_48 post J (wX_writeAll_23 post J d (nI r) n) d (nI r) (nI f) cn dr wl (nI p) ke st gR gF gS ff rg ho fi so aF aL aC dt tx := by
      intro post J n p ke tx hn hk h
      refine gX _ p ke tx (wr_okm hk (by omega)) ?_
      exact nm_r (nI_1 f) (hX post J n (p + e1.length) ke _ hn hk h)
    have Y48 : ∀ (post : SY → Prop) (J : Int32 → Int32 → Int32 → Int32 → Int32 → Int32 → Int32 → Int32 → Int32 → Int32 → Int32 → Int32 → Int32 → Int32 → (Nat → Int32) → (Nat → Int32) → (Nat → Int32) → (Nat → Int32) → (Nat → Int32) → (Nat → Int32) → (Nat → Int32) → (Nat → Int32) → Prop) (n p : Nat) (ke : Int32) (tx : Nat → Int32), m < n → wr_ok ke (p + e1.length + e.length) → J (nI (r + 1)) cn dr wl rR rF rS rI rO rE po en d (nI (p + e1.length + e.length)) bC bL bF dt (wr_k ke e (wr_k ke e1 tx p) (p + e1.length)) dC dL dF → wY_writeAll_48 post J (wY_writeAll_23 post J d ke (nI r) n) d ke (nI r) (nI f) cn dr wl rR rF rS rI rO rE po en d (nI p) bC bL bF dt tx dC dL dF := by
      intro post J n p ke tx hn hk h
      unfold wY_writeAll_48
      rw [bs_5y]
      refine gY _ p ke tx (wr_okm hk (by omega)) ?_
      exact nm_r (nI_1 f) (hY post J n (p + e1.length) ke _ hn hk h)
    by_cases f0 : f = 0
    · have hle : nI f ≤ 0 := by rw [f0]; decide
      have hlen : (e1 ++ e).length = e1.length + e.length := List.length_append
      refine ⟨e1 ++ e, by omega, fun post J n p ke tx hn hk h => ?_, fun post J n p ke tx hn hk h => ?_⟩
      · obtain ⟨n, rfl⟩ : ∃ n', n = n' + 1 := ⟨n - 1, by omega⟩
        rw [wr_ka, hlen, ← Nat.add_assoc] at h
        rw [hlen, ← Nat.add_assoc] at hk
        refine And.intro (bs_in hr (by omega)) ?_
        rw [hrc, fa]
        exact br_f hlt (br_t hle (X48 post J n p ke tx (by omega) hk h))
      · obtain ⟨n, rfl⟩ : ∃ n', n = n' + 1 := ⟨n - 1, by omega⟩
        rw [wr_ka, hlen, ← Nat.add_assoc] at h
        rw [hlen, ← Nat.add_assoc] at hk
        refine And.intro (bs_in hr (by omega)) ?_
        rw [hrc, fb]
        exact br_f hlt (br_t hle (Y48 post J n p ke tx (by omega) hk h))
    · have hle : ¬ nI f ≤ 0 := nI_nle (by omega) (by omega)
      have hlen : ∀ p : Nat, p + ((5 + (d &&& 1)) :: (e1 ++ e)).length = p + 1 + e1.length + e.length := by
        intro p
        rw [List.length_cons, List.length_append]
        omega
      refine ⟨(5 + (d &&& 1)) :: (e1 ++ e), by have := hlen 0; omega, fun post J n p ke tx hn hk h => ?_, fun post J n p ke tx hn hk h => ?_⟩
      · obtain ⟨n, rfl⟩ : ∃ n', n = n' + 1 := ⟨n - 1, by omega⟩
        rw [wr_kc, wr_ka, hlen] at h
        rw [hlen] at hk
        refine And.intro (bs_in hr (by omega)) ?_
        rw [hrc, fa]
        refine br_f hlt (br_f hle ?_)
        refine wr_xs ?_
        refine wr_xe (p := p) (5 + (d &&& 1)) (wr_okm hk (by omega)) ?_
        exact X48 post J n (p + 1) ke _ (by omega) hk h
      · obtain ⟨n, rfl⟩ : ∃ n', n = n' + 1 := ⟨n - 1, by omega⟩
        rw [wr_kc, wr_ka, hlen] at h
        rw [hlen] at hk
        refine And.intro (bs_in hr (by omega)) ?_
        rw [hrc, fb]
        refine br_f hlt (br_f hle ?_)
        refine wr_ys D ?_
        refine wr_ye (5 + (d &&& 1)) (wr_okm hk (by omega)) ?_
        exact Y48 post J n (p + 1) ke _ (by omega) hk h
theorem wr_t {d : Int32} (D : wr_D d) {c : Nat} (hc : c ≤ 6) (T : rl_TB c aF aL aC bF bL bC) : ∀ m r : Nat, r + m = c → ∃ e : List Int32, e.length ≤ 80 * m ∧
    (∀ (post : SX → Prop) (n p : Nat) (ke : Int32) (tx : Nat → Int32), m < n → wr_ok ke (p + e.length) → post (nI c, dr, wl, nI (p + e.length), ke, st, gR, gF, gS, ff, rg, ho, fi, so, aF, aL, aC, dt, wr_k ke e tx p) → wX_writeAll_12 post d n (nI r) (nI c) dr wl (nI p) ke st gR gF gS ff rg ho fi so aF aL aC dt tx) ∧
    (∀ (post : SY → Prop) (n p : Nat) (ke : Int32) (tx : Nat → Int32), m < n → wr_ok ke (p + e.length) → post (nI c, dr, wl, rR, rF, rS, rI, rO, rE, po, en, d, nI (p + e.length), bC, bL, bF, dt, wr_k ke e tx p, dC, dL, dF) → wY_writeAll_12 post d ke n (nI r) (nI c) dr wl rR rF rS rI rO rE po en d (nI p) bC bL bF dt tx dC dL dF) := by
  intro m
  induction m with
  | zero =>
    intro r hr
    have e : r = c := by omega
    subst e
    refine ⟨[], by show 0 ≤ 0; omega, fun post n p ke tx hn hk h => ?_, fun post n p ke tx hn hk h => ?_⟩
    · obtain ⟨n, rfl⟩ : ∃ n', n = n' + 1 := ⟨n - 1, by omega⟩
      rw [wr_kn] at h
      exact br_t (Int32.le_refl _) h
    · obtain ⟨n, rfl⟩ : ∃ n', n = n' + 1 := ⟨n - 1, by omega⟩
      rw [wr_kn] at h
      exact br_t (Int32.le_refl _) h
  | succ m ih =>
    intro r hr
    have hlt : ¬ nI c ≤ nI r := nI_ge (by omega) (by omega)
    obtain ⟨k, k1, k5, fa, fb, H⟩ := T r (by omega)
    obtain ⟨e, he, hX, hY⟩ := ih (r + 1) (by omega)
    obtain ⟨e1, he1, gX, gY⟩ := wr_r (cn := nI c) (dr := dr) (wl := wl) (st := st) (gR := gR) (gF := gF) (gS := gS) (ff := ff) (rg := rg) (ho := ho) (fi := fi) (so := so) (dt := dt) (rR := rR) (rF := rF) (rS := rS) (rI := rI) (rO := rO) (rE := rE) (po := po) (en := en) (dC := dC) (dL := dL) (dF := dF) D (by omega : r < 6) k5 fa fb H k 0 (by omega)
    have hlen : ∀ p : Nat, p + (e1 ++ e).length = p + e1.length + e.length := by
      intro p
      rw [List.length_append]
      omega
    refine ⟨e1 ++ e, by have := hlen 0; omega, fun post n p ke tx hn hk h => ?_, fun post n p ke tx hn hk h => ?_⟩
    · obtain ⟨n, rfl⟩ : ∃ n', n = n' + 1 := ⟨n - 1, by omega⟩
      rw [wr_ka, hlen] at h
      rw [hlen] at hk
      refine br_f hlt ⟨k + 1, ?_⟩
      refine gX post _ (k + 1) p ke tx (by omega) (wr_okm hk (by omega)) ?_
      exact hX post n (p + e1.length) ke _ (by omega) hk h
    · obtain ⟨n, rfl⟩ : ∃ n', n = n' + 1 := ⟨n - 1, by omega⟩
      rw [wr_ka, hlen] at h
      rw [hlen] at hk
      refine br_f hlt ⟨k + 1, ?_⟩
      refine gY post _ (k + 1) p ke tx (by omega) (wr_okm hk (by omega)) ?_
      exact hY post n (p + e1.length) ke _ (by omega) hk h
theorem wr_all {d : Int32} (D : wr_D d) {c : Nat} (hc : c ≤ 6) (T : rl_TB c aF aL aC bF bL bC) : ∃ e : List Int32, e.length ≤ 480 ∧
    (∀ (post : SX → Prop) (ke pu ke0 : Int32) (tx : Nat → Int32), (ke = 0 ∨ ke = 1) → wr_ok ke e.length → post (nI c, dr, wl, nI e.length, ke, st, gR, gF, gS, ff, rg, ho, fi, so, aF, aL, aC, dt, wr_k ke e tx 0) → wpX_writeAll post (nI c, dr, wl, pu, ke0, st, gR, gF, gS, ff, rg, ho, fi, so, aF, aL, aC, dt, tx) d ke) ∧
    (∀ (post : SY → Prop) (ke ou di : Int32) (tx : Nat → Int32), wr_ok ke e.length → post (nI c, dr, wl, rR, rF, rS, rI, rO, rE, po, en, d, nI e.length, bC, bL, bF, dt, wr_k ke e tx 0, dC, dL, dF) → wpY_writeAll post (nI c, dr, wl, rR, rF, rS, rI, rO, rE, po, en, di, ou, bC, bL, bF, dt, tx, dC, dL, dF) d ke) := by
  obtain ⟨e, he, hX, hY⟩ := wr_t (dr := dr) (wl := wl) (st := st) (gR := gR) (gF := gF) (gS := gS) (ff := ff) (rg := rg) (ho := ho) (fi := fi) (so := so) (dt := dt) (rR := rR) (rF := rF) (rS := rS) (rI := rI) (rO := rO) (rE := rE) (po := po) (en := en) (dC := dC) (dL := dL) (dF := dF) D hc T c 0 (by omega)
  refine ⟨e, by omega, fun post ke pu ke0 tx h01 hk h => ?_, fun post ke ou di tx hk h => ?_⟩
  · have e0 : 0 + e.length = e.length := Nat.zero_add _
    have := hX post (c + 1) 0 ke tx (by omega) (by rw [e0]; exact hk) (by rw [e0]; exact h)
    rcases h01 with rfl | rfl
    · exact ⟨rfl, rfl, c + 1, this⟩
    · exact ⟨rfl, rfl, c + 1, this⟩
  · have e0 : 0 + e.length = e.length := Nat.zero_add _
    exact ⟨c + 1, hY post (c + 1) 0 ke tx (by omega) (by rw [e0]; exact hk) (by rw [e0]; exact h)⟩
end
theorem wr_k0 {l : List Int32} {t : Nat → Int32} {p : Nat} : wr_k 0 l t p = t := if_pos rfl
theorem i_vc_written {k : Nat} {u : SX} {v : SY} (I : i_Rel k u v) (hk : k + 4 ≤ 2048) (v1 : Int32) : wpX_written (fun r u' => wpY_written (fun r' v' => r' = r ∧ i_Rel (k + 4) u' v') v v1) u v1 := by
  refine rl_el (P := fun u v => wpX_written (fun r u' => wpY_written (fun r' v' => r' = r ∧ i_Rel (k + 4) u' v') v v1) u v1) I ?_
  intro c d w pu ke st gR gF gS ff rg ho fi so aF aL aC dt tx rR rF rS rI rO rE po en di ou bC bL bF dC dL dF hc hd hw T
  dsimp only [wpX_written, wpY_written]
  rcases wr_bd v1 with ⟨hx, hy⟩ | ⟨hx, hy, j, hj, rfl⟩
  · exact hx _ (br_f (by decide) (hy _ (br_t rfl ⟨rfl, rl_mk hc hd hw T⟩)))
  · obtain ⟨e, he, hX, hY⟩ := wr_all (wr_D8 j hj) hc T
    refine hx _ (br_t rfl ?_)
    refine hX _ 0 pu ke tx (Or.inl rfl) ⟨Or.inl rfl, by omega⟩ ?_
    refine hy _ (br_f (by decide) ?_)
    refine hY _ 0 ou di tx ⟨Or.inl rfl, by omega⟩ ?_
    rw [wr_k0]
    exact ⟨rfl, rl_mk hc hd hw T⟩
theorem i_vc_write {k : Nat} {u : SX} {v : SY} (I : i_Rel k u v) (hk : k + 4 ≤ 2048) (v1 : Int32) : wpX_write (fun r u' => wpY_write (fun r' v' => r' = r ∧ i_Rel (k + 4) u' v') v v1) u v1 := by
  refine rl_el (P := fun u v => wpX_write (fun r u' => wpY_write (fun r' v' => r' = r ∧ i_Rel (k + 4) u' v') v v1) u v1) I ?_
  intro c d w pu ke st gR gF gS ff rg ho fi so aF aL aC dt tx rR rF rS rI rO rE po en di ou bC bL bF dC dL dF hc hd hw T
  dsimp only [wpX_write, wpY_write]
  rcases wr_bd v1 with ⟨hx, hy⟩ | ⟨hx, hy, j, hj, rfl⟩
  · exact hx _ (br_f (by decide) (hy _ (br_t rfl ⟨rfl, rl_mk hc hd hw T⟩)))
  · obtain ⟨e, he, hX, hY⟩ := wr_all (wr_D8 j hj) hc T
    refine hx _ (br_t rfl ?_)
    refine hX _ 0 pu ke tx (Or.inl rfl) ⟨Or.inl rfl, by omega⟩ ?_
    rw [wr_k0]
    by_cases h96 : e.length ≤ 96
    · have hle : nI e.length ≤ 96 := nI_le (b := 96) h96 (by omega)
      refine br_t hle ?_
      refine hX _ 1 _ 0 tx (Or.inr rfl) ⟨Or.inr h96, by omega⟩ ?_
      refine hy _ (br_f (by decide) ?_)
      refine hY _ 0 ou di tx ⟨Or.inl rfl, by omega⟩ ?_
      rw [wr_k0]
      refine br_t hle ?_
      refine hY _ 1 _ _ tx ⟨Or.inr h96, by omega⟩ ?_
      exact ⟨rfl, rl_mk hc hd h96 T⟩
    · have hle : ¬ nI e.length ≤ 96 := nI_ge (a := 96) (by omega) (by omega)
      refine br_f hle ?_
      refine hy _ (br_f (by decide) ?_)
      refine hY _ 0 ou di tx ⟨Or.inl rfl, by omega⟩ ?_
      rw [wr_k0]
      exact br_f hle ⟨rfl, rl_mk hc hd hw T⟩
end
section
/-! the component's reader as a pure function: (state, records, fields, size, first fields, regular, holds, field counts, lengths, letters) -/
abbrev rd_C : Type := Int32 × Nat × Nat × Nat × Nat × Int32 × Int32 × (Nat → Int32) × (Nat → Int32) × (Nat → Int32)
def rd_h (a b : Nat) (ho : Int32) : Int32 := if a ≤ b then ho else 0
def rd_a (fi h : Int32) (a b : Nat → Int32) : Nat → Int32 := if fi = 0 ∨ h = 0 then a else b
def rd_q (q : Int32) (c : rd_C) : rd_C := (q, c.2)
def rd_sf (fi : Int32) : rd_C → rd_C
  | (q, R, F, S, f0, rg, ho, aF, aL, aC) => (q, R, F + 1, 0, f0, rg, rd_h (F + 1) 5 ho, rd_a fi (rd_h (F + 1) 5 ho) aF (upd aF R (nI (F + 1))), rd_a fi (rd_h (F + 1) 5 ho) aL (upd aL (5 * R + F) 0), aC)
def rd_sr (fi : Int32) : rd_C → rd_C
  | (q, R, F, S, f0, rg, ho, aF, aL, aC) => rd_sf fi (q, R, 0, S, f0, rg, rd_h (R + 1) 6 ho, aF, aL, aC)
def rd_tk (fi ch : Int32) : rd_C → rd_C
  | (q, R, F, S, f0, rg, ho, aF, aL, aC) => (q, R, F, S + 1, f0, rg, rd_h (S + 1) 6 ho, aF, rd_a fi (rd_h (S + 1) 6 ho) aL (upd aL (5 * R + F - 1) (nI (S + 1))), rd_a fi (rd_h (S + 1) 6 ho) aC (upd aC (6 * (5 * R + F - 1) + S) ch))
def rd_er : rd_C → rd_C
  | (q, R, F, S, f0, rg, ho, aF, aL, aC) => (0, R + 1, F, S, (if R = 0 then F else f0), (if F = (if R = 0 then F else f0) then rg else 0), ho, aF, aL, aC)
def rd_af (fi d ch : Int32) (c : rd_C) : rd_C :=
  if ch = 5 + (d &&& 1) then rd_q 1 (rd_sf fi c) else if ch = 9 ∧ ¬ d &&& 2 = 0 then rd_er c else if ch = 8 ∧ d &&& 2 = 0 then rd_q 6 c else rd_q 7 c
def rd_16 (fi d ch : Int32) (c : rd_C) : rd_C :=
  if c.1 = 3 then (if ch = 7 then rd_q 4 c else if ch = 10 then (if d < 4 then rd_q 7 c else rd_q 5 c) else rd_tk fi ch (rd_q 3 c))
  else if c.1 = 4 ∧ ch = 7 then (if 4 ≤ d then rd_tk fi ch (rd_q 7 c) else rd_tk fi ch (rd_q 3 c))
  else if c.1 = 5 then (if ch = 7 then rd_tk fi ch (rd_q 3 c) else rd_tk fi ch (rd_q 7 c))
  else if c.1 = 6 then (if ch = 9 then rd_er c else rd_q 7 c)
  else if c.1 = 1 ∧ ch = 7 then rd_q 3 c
  else if c.1 = 4 ∨ 7 ≤ ch ∨ ch = 5 + (d &&& 1) then rd_af fi d ch c
  else rd_tk fi ch (rd_q 2 c)
def rd_pre (fi : Int32) (c : rd_C) : rd_C := if c.1 = 0 then rd_q 1 (rd_sr fi c) else c
def rd_st (fi d ch : Int32) (c : rd_C) : rd_C := rd_16 fi d ch (rd_pre fi c)
def rd_0 (aF aL aC : Nat → Int32) : rd_C := (0, 0, 0, 0, 0, 1, 1, aF, aL, aC)
def rd_K (fi d : Int32) (t : Nat → Int32) (c : rd_C) : Nat → rd_C
  | 0 => c
  | i + 1 => if (rd_K fi d t c i).1 = 7 then rd_K fi d t c i else rd_st fi d (t i) (rd_K fi d t c i)
def rd_fin (c : rd_C) : rd_C := if c.1 = 1 ∨ c.1 = 2 ∨ c.1 = 4 then rd_er c else c
theorem rd_Ks {fi d : Int32} {t : Nat → Int32} {c : rd_C} {i : Nat} (h : ¬ (rd_K fi d t c i).1 = 7) : rd_K fi d t c (i + 1) = rd_st fi d (t i) (rd_K fi d t c i) := if_neg h
theorem rd_K7 {fi d : Int32} {t : Nat → Int32} {c : rd_C} {i : Nat} (h : (rd_K fi d t c i).1 = 7) : ∀ m : Nat, rd_K fi d t c (i + m) = rd_K fi d t c i := by
  intro m
  induction m with
  | zero => rfl
  | succ m ih =>
    have e : rd_K fi d t c (i + (m + 1)) = rd_K fi d t c (i + m) := if_pos (show (rd_K fi d t c (i + m)).1 = 7 by rw [ih]; exact h)
    rw [e, ih]
theorem rd_K7' {fi d : Int32} {t : Nat → Int32} {c : rd_C} {i j : Nat} (h : (rd_K fi d t c i).1 = 7) (hj : i ≤ j) : rd_K fi d t c j = rd_K fi d t c i := by
  obtain ⟨m, rfl⟩ : ∃ m, j = i + m := ⟨j - i, by omega⟩
  exact rd_K7 h m
theorem rd_Kt {fi d : Int32} {t t' : Nat → Int32} {c : rd_C} : ∀ i : Nat, (∀ j : Nat, j < i → t' j = t j) → rd_K fi d t' c i = rd_K fi d t c i := by
  intro i
  induction i with
  | zero => intro _; rfl
  | succ i ih =>
    intro h
    show (if (rd_K fi d t' c i).1 = 7 then rd_K fi d t' c i else rd_st fi d (t' i) (rd_K fi d t' c i)) = if (rd_K fi d t c i).1 = 7 then rd_K fi d t c i else rd_st fi d (t i) (rd_K fi d t c i)
    rw [ih (fun j hj => h j (by omega)), h i (by omega)]
/-- the leaves of a step -/
theorem rd_16c {P : rd_C → Prop} {fi d ch : Int32} {c : rd_C} (hq : ∀ q : Int32, (q = 3 ∨ q = 4 ∨ q = 5 ∨ q = 6 ∨ q = 7) → P (rd_q q c)) (ht : ∀ q : Int32, (q = 2 ∨ q = 3 ∨ q = 7) → P (rd_tk fi ch (rd_q q c))) (he : P (rd_er c)) (hs : P (rd_q 1 (rd_sf fi c))) : P (rd_16 fi d ch c) := by
  unfold rd_16 rd_af
  repeat' split
  all_goals first | exact he | exact hs | exact hq _ (by decide) | exact ht _ (by decide)
def rd_W (i : Nat) : rd_C → Prop
  | (_, R, F, S, f0, _, _, _, _, _) => R ≤ i ∧ F ≤ i + 1 ∧ S ≤ i ∧ f0 ≤ i + 1
def rd_J (i : Nat) : rd_C → Prop
  | (_, R, F, S, f0, _, ho, _, _, _) => R ≤ i ∧ F ≤ i + 1 ∧ S ≤ i ∧ f0 ≤ i + 1 ∧ 1 ≤ F ∧ (¬ ho = 0 → R < 6 ∧ F ≤ 5)
def rd_Q (c : rd_C) : Prop := c.1 = 0 ∨ c.1 = 1 ∨ c.1 = 2 ∨ c.1 = 3 ∨ c.1 = 4 ∨ c.1 = 5 ∨ c.1 = 6 ∨ c.1 = 7
def rd_I (i : Nat) (c : rd_C) : Prop := rd_W i c ∧ (¬ c.1 = 0 → rd_J i c) ∧ rd_Q c
theorem rd_hn {a b : Nat} {ho : Int32} (h : ¬ rd_h a b ho = 0) : ¬ ho = 0 ∧ a ≤ b := by
  unfold rd_h at h
  by_cases z : a ≤ b
  · rw [if_pos z] at h; exact ⟨h, z⟩
  · rw [if_neg z] at h; exact absurd rfl h
theorem rd_JW {i : Nat} {c : rd_C} (h : rd_J i c) : rd_W i c := by
  obtain ⟨q, R, F, S, f0, rg, ho, aF, aL, aC⟩ := c
  exact ⟨h.1, h.2.1, h.2.2.1, h.2.2.2.1⟩
theorem rd_Jm {i : Nat} {c : rd_C} (h : rd_J i c) : rd_J (i + 1) c := by
  obtain ⟨q, R, F, S, f0, rg, ho, aF, aL, aC⟩ := c
  obtain ⟨h1, h2, h3, h4, h5, h6⟩ := h
  exact ⟨by omega, by omega, by omega, by omega, h5, h6⟩
theorem rd_Jq {i : Nat} {c : rd_C} (q : Int32) (h : rd_J i c) : rd_J i (rd_q q c) := by
  obtain ⟨q', R, F, S, f0, rg, ho, aF, aL, aC⟩ := c
  exact h
theorem rd_Jt {i : Nat} {c : rd_C} (fi ch : Int32) (h : rd_J i c) : rd_J (i + 1) (rd_tk fi ch c) := by
  obtain ⟨q, R, F, S, f0, rg, ho, aF, aL, aC⟩ := c
  obtain ⟨h1, h2, h3, h4, h5, h6⟩ := h
  exact ⟨by omega, by omega, by omega, by omega, h5, fun z => h6 (rd_hn z).1⟩
theorem rd_Jf {i : Nat} {c : rd_C} (fi : Int32) (h : rd_J i c) : rd_J (i + 1) (rd_sf fi c) := by
  obtain ⟨q, R, F, S, f0, rg, ho, aF, aL, aC⟩ := c
  obtain ⟨h1, h2, h3, h4, h5, h6⟩ := h
  exact ⟨by omega, by omega, by omega, by omega, by omega, fun z => ⟨(h6 (rd_hn z).1).1, (rd_hn z).2⟩⟩
theorem rd_We {i : Nat} {c : rd_C} (h : rd_W i c) : rd_W (i + 1) (rd_er c) := by
  obtain ⟨q, R, F, S, f0, rg, ho, aF, aL, aC⟩ := c
  obtain ⟨h1, h2, h3, h4⟩ := h
  refine ⟨by omega, by omega, by omega, ?_⟩
  by_cases z : R = 0
  · rw [if_pos z]; omega
  · rw [if_neg z]; omega
theorem rd_Jp {i : Nat} {c : rd_C} (fi : Int32) (h : rd_I i c) : rd_J i (rd_pre fi c) ∧ ¬ (rd_pre fi c).1 = 0 := by
  unfold rd_pre
  by_cases z : c.1 = 0
  · rw [if_pos z]
    refine ⟨?_, by show ¬ (1 : Int32) = 0; decide⟩
    obtain ⟨q, R, F, S, f0, rg, ho, aF, aL, aC⟩ := c
    obtain ⟨h1, h2, h3, h4⟩ := h.1
    show rd_J i (1, R, 0 + 1, 0, f0, rg, rd_h (0 + 1) 5 (rd_h (R + 1) 6 ho), _, _, aC)
    exact ⟨h1, by omega, by omega, h4, by omega, fun y => ⟨by have := (rd_hn (rd_hn y).1).2; omega, by omega⟩⟩
  · rw [if_neg z]
    exact ⟨h.2.1 z, z⟩
theorem rd_Qp {fi : Int32} {c : rd_C} (h : rd_Q c) : rd_Q (rd_pre fi c) := by
  unfold rd_pre
  by_cases z : c.1 = 0
  · rw [if_pos z]; exact Or.inr (Or.inl rfl)
  · rw [if_neg z]; exact h
theorem rd_tkq {fi ch : Int32} {c : rd_C} : (rd_tk fi ch c).1 = c.1 := rfl
theorem rd_I16 {i : Nat} {c : rd_C} {fi d ch : Int32} (h : rd_J i c) : rd_I (i + 1) (rd_16 fi d ch c) := by
  refine rd_16c ?_ ?_ ?_ ?_
  · intro q hq
    exact ⟨rd_JW (rd_Jm (rd_Jq q h)), fun _ => rd_Jm (rd_Jq q h), Or.inr (Or.inr (Or.inr hq))⟩
  · intro q hq
    refine ⟨rd_JW (rd_Jt fi ch (rd_Jq q h)), fun _ => rd_Jt fi ch (rd_Jq q h), ?_⟩
    have e : (rd_tk fi ch (rd_q q c)).1 = q := rfl
    unfold rd_Q
    rw [e]
    rcases hq with rfl | rfl | rfl <;> decide
  · exact ⟨rd_We (rd_JW h), fun z => absurd rfl z, Or.inl rfl⟩
  · exact ⟨rd_JW (rd_Jq 1 (rd_Jf fi h)), fun _ => rd_Jq 1 (rd_Jf fi h), Or.inr (Or.inl rfl)⟩
theorem rd_Im {i : Nat} {c : rd_C} (h : rd_I i c) : rd_I (i + 1) c := by
  refine ⟨?_, fun z => rd_Jm (h.2.1 z), h.2.2⟩
  obtain ⟨q, R, F, S, f0, rg, ho, aF, aL, aC⟩ := c
  obtain ⟨h1, h2, h3, h4⟩ := h.1
  exact ⟨by omega, by omega, by omega, by omega⟩
theorem rd_IK {fi d : Int32} {t : Nat → Int32} {c : rd_C} (h : rd_I 0 c) : ∀ i : Nat, rd_I i (rd_K fi d t c i) := by
  intro i
  induction i with
  | zero => exact h
  | succ i ih =>
    show rd_I (i + 1) (if (rd_K fi d t c i).1 = 7 then rd_K fi d t c i else rd_st fi d (t i) (rd_K fi d t c i))
    by_cases z : (rd_K fi d t c i).1 = 7
    · rw [if_pos z]; exact rd_Im ih
    · rw [if_neg z]; exact rd_I16 (rd_Jp fi ih).1
theorem rd_I0 {aF aL aC : Nat → Int32} : rd_I 0 (rd_0 aF aL aC) := ⟨⟨by omega, by omega, by omega, by omega⟩, fun z => absurd rfl z, Or.inl rfl⟩
/-! the control doesn't ask the arrays -/
def rd_ct : rd_C → rd_C
  | (q, R, F, S, f0, rg, ho, _, _, _) => (q, R, F, S, f0, rg, ho, fun _ => 0, fun _ => 0, fun _ => 0)
theorem rd_a0 {h : Int32} {a b : Nat → Int32} : rd_a 0 h a b = a := if_pos (Or.inl rfl)
theorem rd_ct1 {c : rd_C} : (rd_ct c).1 = c.1 := rfl
theorem rd_ctq {q : Int32} {c : rd_C} : rd_ct (rd_q q c) = rd_q q (rd_ct c) := rfl
theorem rd_cte {c : rd_C} : rd_ct (rd_er c) = rd_er (rd_ct c) := rfl
theorem rd_ctt {fi ch : Int32} {c : rd_C} : rd_ct (rd_tk fi ch c) = rd_tk 0 ch (rd_ct c) := by
  obtain ⟨q, R, F, S, f0, rg, ho, aF, aL, aC⟩ := c
  show (_, _, _, _, _, _, _, _, _, _) = (_, _, _, _, _, _, _, _, rd_a 0 _ _ _, rd_a 0 _ _ _)
  rw [rd_a0, rd_a0]
theorem rd_ctf {fi : Int32} {c : rd_C} : rd_ct (rd_sf fi c) = rd_sf 0 (rd_ct c) := by
  obtain ⟨q, R, F, S, f0, rg, ho, aF, aL, aC⟩ := c
  show (_, _, _, _, _, _, _, _, _, _) = (_, _, _, _, _, _, _, rd_a 0 _ _ _, rd_a 0 _ _ _, _)
  rw [rd_a0, rd_a0]
theorem rd_ctr {fi : Int32} {c : rd_C} : rd_ct (rd_sr fi c) = rd_sr 0 (rd_ct c) := by
  obtain ⟨q, R, F, S, f0, rg, ho, aF, aL, aC⟩ := c
  exact rd_ctf (c := (q, R, 0, S, f0, rg, rd_h (R + 1) 6 ho, aF, aL, aC))
theorem rd_ct16 {fi d ch : Int32} {c : rd_C} : rd_ct (rd_16 fi d ch c) = rd_16 0 d ch (rd_ct c) := by
  unfold rd_16 rd_af
  simp only [apply_ite rd_ct, rd_ct1, rd_ctq, rd_cte, rd_ctt, rd_ctf]
  rfl
theorem rd_ctp {fi : Int32} {c : rd_C} : rd_ct (rd_pre fi c) = rd_pre 0 (rd_ct c) := by
  unfold rd_pre
  simp only [apply_ite rd_ct, rd_ct1, rd_ctq, rd_ctr]
  rfl
theorem rd_ctK {fi d : Int32} {t : Nat → Int32} {c : rd_C} : ∀ i : Nat, rd_ct (rd_K fi d t c i) = rd_K 0 d t (rd_ct c) i := by
  intro i
  induction i with
  | zero => rfl
  | succ i ih =>
    show rd_ct (if (rd_K fi d t c i).1 = 7 then rd_K fi d t c i else rd_st fi d (t i) (rd_K fi d t c i)) = if (rd_K 0 d t (rd_ct c) i).1 = 7 then rd_K 0 d t (rd_ct c) i else rd_st 0 d (t i) (rd_K 0 d t (rd_ct c) i)
    rw [← ih, rd_ct1, apply_ite rd_ct]
    unfold rd_st
    rw [rd_ct16, rd_ctp]
theorem rd_ctn {c : rd_C} : rd_ct (rd_fin c) = rd_fin (rd_ct c) := by
  unfold rd_fin
  simp only [apply_ite rd_ct, rd_ct1, rd_cte]
  rfl
theorem rd_ct2 (fi fi' d : Int32) (t : Nat → Int32) (i : Nat) (aF aL aC aF' aL' aC' : Nat → Int32) : rd_ct (rd_K fi d t (rd_0 aF aL aC) i) = rd_ct (rd_K fi' d t (rd_0 aF' aL' aC') i) := by
  rw [rd_ctK, rd_ctK]
  rfl
theorem rd_ctf2 (fi fi' d : Int32) (t : Nat → Int32) (i : Nat) (aF aL aC aF' aL' aC' : Nat → Int32) : rd_ct (rd_fin (rd_K fi d t (rd_0 aF aL aC) i)) = rd_ct (rd_fin (rd_K fi' d t (rd_0 aF' aL' aC') i)) := by
  rw [rd_ctn, rd_ctn, rd_ct2 fi fi' d t i aF aL aC aF' aL' aC']
/-! without filling the arrays stay -/
def rd_ar (aF aL aC : Nat → Int32) (c : rd_C) : Prop := c.2.2.2.2.2.2.2 = (aF, aL, aC)
theorem rd_arp {aF aL aC : Nat → Int32} {c : rd_C} (h : rd_ar aF aL aC c) : rd_ar aF aL aC (rd_pre 0 c) := by
  unfold rd_pre
  by_cases z : c.1 = 0
  · rw [if_pos z]
    obtain ⟨q, R, F, S, f0, rg, ho, aF', aL', aC'⟩ := c
    show (rd_a 0 _ _ _, rd_a 0 _ _ _, _) = _
    rw [rd_a0, rd_a0]; exact h
  · rw [if_neg z]; exact h
theorem rd_ar16 {aF aL aC : Nat → Int32} {c : rd_C} {d ch : Int32} (h : rd_ar aF aL aC c) : rd_ar aF aL aC (rd_16 0 d ch c) := by
  refine rd_16c ?_ ?_ ?_ ?_
  · intro q hq; exact h
  · intro q hq
    obtain ⟨q, R, F, S, f0, rg, ho, aF', aL', aC'⟩ := c
    show (_, rd_a 0 _ _ _, rd_a 0 _ _ _) = _
    rw [rd_a0, rd_a0]; exact h
  · obtain ⟨q, R, F, S, f0, rg, ho, aF', aL', aC'⟩ := c
    exact h
  · obtain ⟨q, R, F, S, f0, rg, ho, aF', aL', aC'⟩ := c
    show (rd_a 0 _ _ _, rd_a 0 _ _ _, _) = _
    rw [rd_a0, rd_a0]; exact h
theorem rd_arK {aF aL aC : Nat → Int32} {d : Int32} {t : Nat → Int32} : ∀ i : Nat, rd_ar aF aL aC (rd_K 0 d t (rd_0 aF aL aC) i) := by
  intro i
  induction i with
  | zero => rfl
  | succ i ih =>
    show rd_ar aF aL aC (if (rd_K 0 d t (rd_0 aF aL aC) i).1 = 7 then rd_K 0 d t (rd_0 aF aL aC) i else rd_st 0 d (t i) (rd_K 0 d t (rd_0 aF aL aC) i))
    by_cases z : (rd_K 0 d t (rd_0 aF aL aC) i).1 = 7
    · rw [if_pos z]; exact ih
    · rw [if_neg z]; exact rd_ar16 (rd_arp ih)
theorem rd_arn {aF aL aC : Nat → Int32} {c : rd_C} (h : rd_ar aF aL aC c) : rd_ar aF aL aC (rd_fin c) := by
  unfold rd_fin
  by_cases z : c.1 = 1 ∨ c.1 = 2 ∨ c.1 = 4
  · rw [if_pos z]
    obtain ⟨q, R, F, S, f0, rg, ho, aF', aL', aC'⟩ := c
    exact h
  · rw [if_neg z]; exact h
end
section
/-! the component's reader computes the pure one -/
def rd_x (cn dr wl pu ke fi so : Int32) (dt tx : Nat → Int32) : rd_C → SX
  | (q, R, F, S, f0, rg, ho, aF, aL, aC) => (cn, dr, wl, pu, ke, q, nI R, nI F, nI S, nI f0, rg, ho, fi, so, aF, aL, aC, dt, tx)
theorem xr_5 (R F : Nat) : nI R * 5 + nI (F + 1) - 1 = nI (5 * R + F) := by
  rw [bs_5x]; exact nI_pred _
theorem xr_6 (j S : Nat) : nI j * 6 + nI (S + 1) - 1 = nI (6 * j + S) := by
  rw [bs_6x]; exact nI_pred _
theorem rd_al {fi h : Int32} {a b : Nat → Int32} (z : fi = 0 ∨ h = 0) : rd_a fi h a b = a := if_pos z
theorem rd_ah {fi h : Int32} {a b : Nat → Int32} (z : ¬ fi = 0) (y : ¬ h = 0) : rd_a fi h a b = b := if_neg (fun q => q.elim z y)
section
variable {cn dr wl pu ke st gR gF gS ff rg ho fi so : Int32} {aF aL aC dt tx : Nat → Int32}
theorem xr_28 {post : SX → Prop} {R F : Nat} (hI : ¬ ho = 0 → R < 6 ∧ F + 1 ≤ 5) (h : post (cn, dr, wl, pu, ke, st, nI R, nI (F + 1), gS, ff, rg, ho, fi, so, rd_a fi ho aF (upd aF R (nI (F + 1))), rd_a fi ho aL (upd aL (5 * R + F) 0), aC, dt, tx)) : wX_startField_28 post cn dr wl pu ke st (nI R) (nI (F + 1)) gS ff rg ho fi so aF aL aC dt tx := by
  by_cases z : fi = 0
  · rw [rd_al (Or.inl z), rd_al (Or.inl z)] at h; exact br_t z h
  · by_cases y : ho = 0
    · rw [rd_al (Or.inr y), rd_al (Or.inr y)] at h; exact br_f z (br_t y h)
    · rw [rd_ah z y, rd_ah z y] at h
      obtain ⟨h6, h5⟩ := hI y
      refine br_f z (br_f y ⟨bs_in h6 (by omega), nm_r (e' := upd aF R (nI (F + 1))) (by rw [bs_c (by omega)]) ⟨pk_in (5 * R + F) 30 (by omega) (xr_5 R F), nm_r (e' := upd aL (5 * R + F) 0) ?_ h⟩⟩)
      rw [xr_5, bs_c (by omega)]
theorem xr_sf {post : SX → Prop} {R F : Nat} (hF : F < 1000) (hI : ¬ ho = 0 → R < 6) (h : post (cn, dr, wl, pu, ke, st, nI R, nI (F + 1), 0, ff, rg, rd_h (F + 1) 5 ho, fi, so, rd_a fi (rd_h (F + 1) 5 ho) aF (upd aF R (nI (F + 1))), rd_a fi (rd_h (F + 1) 5 ho) aL (upd aL (5 * R + F) 0), aC, dt, tx)) : wpX_startField post (cn, dr, wl, pu, ke, st, nI R, nI F, gS, ff, rg, ho, fi, so, aF, aL, aC, dt, tx) := by
  refine nm_r (nI_1 F) ?_
  refine pk_le (F + 1) 5 (fun z => ?_) (fun z => ?_)
  · rw [show rd_h (F + 1) 5 ho = ho from if_pos z] at h
    exact xr_28 (fun y => ⟨hI y, z⟩) h
  · rw [show rd_h (F + 1) 5 ho = 0 from if_neg (by omega)] at h
    exact xr_28 (fun y => absurd rfl y) h
theorem xr_sr {post : SX → Prop} {R : Nat} (hR : R < 1000) (h : post (cn, dr, wl, pu, ke, st, nI R, nI (0 + 1), 0, ff, rg, rd_h (0 + 1) 5 (rd_h (R + 1) 6 ho), fi, so, rd_a fi (rd_h (0 + 1) 5 (rd_h (R + 1) 6 ho)) aF (upd aF R (nI (0 + 1))), rd_a fi (rd_h (0 + 1) 5 (rd_h (R + 1) 6 ho)) aL (upd aL (5 * R + 0) 0), aC, dt, tx)) : wpX_startRecord post (cn, dr, wl, pu, ke, st, nI R, gF, gS, ff, rg, ho, fi, so, aF, aL, aC, dt, tx) := by
  refine pk_lt R 6 (fun z => ?_) (fun z => ?_)
  · rw [show rd_h (R + 1) 6 ho = ho from if_pos (by omega)] at h
    exact xr_sf (F := 0) (by omega) (fun _ => z) h
  · rw [show rd_h (R + 1) 6 ho = 0 from if_neg (by omega)] at h
    exact xr_sf (F := 0) (by omega) (fun y => absurd rfl y) h
theorem xr_24 {post : SX → Prop} {ch : Int32} {R G S : Nat} (hI : ¬ ho = 0 → R < 6 ∧ G < 5 ∧ S < 6) (h : post (cn, dr, wl, pu, ke, st, nI R, nI (G + 1), nI (S + 1), ff, rg, ho, fi, so, aF, rd_a fi ho aL (upd aL (5 * R + G) (nI (S + 1))), rd_a fi ho aC (upd aC (6 * (5 * R + G) + S) ch), dt, tx)) : wX_take_24 post ch cn dr wl pu ke st (nI R) (nI (G + 1)) (nI (S + 1)) ff rg ho fi so aF aL aC dt tx := by
  by_cases z : fi = 0
  · rw [rd_al (Or.inl z), rd_al (Or.inl z)] at h; exact br_t z h
  · by_cases y : ho = 0
    · rw [rd_al (Or.inr y), rd_al (Or.inr y)] at h; exact br_f z (br_t y h)
    · rw [rd_ah z y, rd_ah z y] at h
      obtain ⟨h6, h5, hS⟩ := hI y
      refine br_f z (br_f y (nm_r (xr_5 R G) ⟨pk_in (6 * (5 * R + G) + S) 180 (by omega) (xr_6 (5 * R + G) S), nm_r (e' := upd aC (6 * (5 * R + G) + S) ch) ?_ ⟨bs_in (by omega) (by omega), nm_r (e' := upd aL (5 * R + G) (nI (S + 1))) ?_ h⟩⟩))
      · rw [xr_6, bs_c (by omega)]
      · rw [bs_c (by omega)]
theorem xr_tk {post : SX → Prop} {ch : Int32} {R G S : Nat} (hS : S < 1000) (hI : ¬ ho = 0 → R < 6 ∧ G < 5) (h : post (cn, dr, wl, pu, ke, st, nI R, nI (G + 1), nI (S + 1), ff, rg, rd_h (S + 1) 6 ho, fi, so, aF, rd_a fi (rd_h (S + 1) 6 ho) aL (upd aL (5 * R + G) (nI (S + 1))), rd_a fi (rd_h (S + 1) 6 ho) aC (upd aC (6 * (5 * R + G) + S) ch), dt, tx)) : wpX_take post (cn, dr, wl, pu, ke, st, nI R, nI (G + 1), nI S, ff, rg, ho, fi, so, aF, aL, aC, dt, tx) ch := by
  refine nm_r (nI_1 S) ?_
  refine pk_le (S + 1) 6 (fun z => ?_) (fun z => ?_)
  · rw [show rd_h (S + 1) 6 ho = ho from if_pos z] at h
    exact xr_24 (fun y => ⟨(hI y).1, (hI y).2, z⟩) h
  · rw [show rd_h (S + 1) 6 ho = 0 from if_neg (by omega)] at h
    exact xr_24 (fun y => absurd rfl y) h
theorem xr_15 {post : SX → Prop} {R F f0 : Nat} (hF : F < 1000) (hf : f0 < 1000) (h : post (cn, dr, wl, pu, ke, 0, nI (R + 1), nI F, gS, nI f0, (if F = f0 then rg else 0), ho, fi, so, aF, aL, aC, dt, tx)) : wX_endRecord_15 post cn dr wl pu ke st (nI R) (nI F) gS (nI f0) rg ho fi so aF aL aC dt tx := by
  refine pk_eq F f0 (fun z => ?_) (fun z => ?_)
  · rw [if_pos z] at h
    exact nm_r (nI_1 R) h
  · rw [if_neg z] at h
    exact nm_r (nI_1 R) h
theorem xr_er {post : SX → Prop} {R F f0 : Nat} (hR : R < 1000) (hF : F < 1000) (hf : f0 < 1000) (h : post (cn, dr, wl, pu, ke, 0, nI (R + 1), nI F, gS, nI (if R = 0 then F else f0), (if F = (if R = 0 then F else f0) then rg else 0), ho, fi, so, aF, aL, aC, dt, tx)) : wpX_endRecord post (cn, dr, wl, pu, ke, st, nI R, nI F, gS, nI f0, rg, ho, fi, so, aF, aL, aC, dt, tx) := by
  refine pk_eq R 0 (fun z => ?_) (fun z => ?_)
  · rw [if_pos z] at h
    exact xr_15 hF hF h
  · rw [if_neg z] at h
    exact xr_15 hF hf h
theorem xr_af {post : SX → Prop} {d ch : Int32} {R G S f0 : Nat} (hR : R < 1000) (hG : G < 900) (hf : f0 < 1000) (hI : ¬ ho = 0 → R < 6 ∧ G < 5) (h : post (rd_x cn dr wl pu ke fi so dt tx (rd_af fi d ch (st, R, G + 1, S, f0, rg, ho, aF, aL, aC)))) : wpX_afterField post (cn, dr, wl, pu, ke, st, nI R, nI (G + 1), nI S, nI f0, rg, ho, fi, so, aF, aL, aC, dt, tx) ch d := by
  unfold rd_af at h
  dsimp only [wpX_afterField, wpX_separator]
  by_cases z : ch = 5 + (d &&& 1)
  · rw [if_pos z] at h
    exact br_t z (xr_sf (by omega) (fun y => (hI y).1) h)
  · rw [if_neg z] at h
    refine br_f z ?_
    by_cases c9 : ch = 9
    · by_cases d2 : d &&& 2 = 0
      · rw [if_neg (fun y => y.2 d2), if_neg (fun y => absurd (c9.symm.trans y.1) (by decide))] at h
        exact br_t c9 (br_t d2 (br_f (fun y => absurd (c9.symm.trans y) (by decide)) h))
      · rw [if_pos ⟨c9, d2⟩] at h
        exact br_t c9 (br_f d2 (xr_er hR (by omega) hf h))
    · rw [if_neg (fun y => c9 y.1)] at h
      refine br_f c9 ?_
      by_cases c8 : ch = 8
      · by_cases d2 : d &&& 2 = 0
        · rw [if_pos ⟨c8, d2⟩] at h
          exact br_t c8 (br_t d2 h)
        · rw [if_neg (fun y => d2 y.2)] at h
          exact br_t c8 (br_f d2 h)
      · rw [if_neg (fun y => c8 y.1)] at h
        exact br_f c8 h
theorem xr_155 {post : SX → Prop} {d ch : Int32} {R G S f0 : Nat} (hR : R < 1000) (hG : G < 900) (hS : S < 1000) (hf : f0 < 1000) (hI : ¬ ho = 0 → R < 6 ∧ G < 5) (h : post (rd_x cn dr wl pu ke fi so dt tx (if st = 4 ∨ 7 ≤ ch ∨ ch = 5 + (d &&& 1) then rd_af fi d ch (st, R, G + 1, S, f0, rg, ho, aF, aL, aC) else rd_tk fi ch (rd_q 2 (st, R, G + 1, S, f0, rg, ho, aF, aL, aC))))) : wX_step_155 post ch d cn dr wl pu ke st (nI R) (nI (G + 1)) (nI S) (nI f0) rg ho fi so aF aL aC dt tx := by
  by_cases c4 : st = 4
  · rw [if_pos (Or.inl c4)] at h
    exact br_t c4 (xr_af hR hG hf hI h)
  · refine br_f c4 ?_
    by_cases c7 : 7 ≤ ch
    · rw [if_pos (Or.inr (Or.inl c7))] at h
      exact br_t c7 (xr_af hR hG hf hI h)
    · refine br_f c7 ?_
      by_cases c5 : ch = 5 + (d &&& 1)
      · rw [if_pos (Or.inr (Or.inr c5))] at h
        exact br_t c5 (xr_af hR hG hf hI h)
      · rw [if_neg (fun y => y.elim c4 (fun y => y.elim c7 c5))] at h
        exact br_f c5 (xr_tk hS hI h)
theorem xr_16 {post : SX → Prop} {d ch : Int32} {R G S f0 : Nat} (hR : R < 1000) (hG : G < 900) (hS : S < 1000) (hf : f0 < 1000) (hI : ¬ ho = 0 → R < 6 ∧ G < 5) (h : post (rd_x cn dr wl pu ke fi so dt tx (rd_16 fi d ch (st, R, G + 1, S, f0, rg, ho, aF, aL, aC)))) : wX_step_16 post ch d cn dr wl pu ke st (nI R) (nI (G + 1)) (nI S) (nI f0) rg ho fi so aF aL aC dt tx := by
  unfold rd_16 at h
  dsimp only at h
  by_cases s3 : st = 3
  · rw [if_pos s3] at h
    refine br_t s3 ?_
    by_cases c7 : ch = 7
    · rw [if_pos c7] at h
      exact br_t c7 h
    · rw [if_neg c7] at h
      refine br_f c7 ?_
      by_cases c10 : ch = 10
      · rw [if_pos c10] at h
        refine br_t c10 ?_
        by_cases d4 : d < 4
        · rw [if_pos d4] at h; exact br_t d4 h
        · rw [if_neg d4] at h; exact br_f d4 h
      · rw [if_neg c10] at h
        subst s3
        exact br_f c10 (xr_tk hS hI h)
  · rw [if_neg s3] at h
    refine br_f s3 ?_
    by_cases s4 : st = 4 ∧ ch = 7
    · rw [if_pos s4] at h
      refine br_t s4.1 (br_t s4.2 ?_)
      by_cases d4 : 4 ≤ d
      · rw [if_pos d4] at h; exact br_t d4 (xr_tk hS hI h)
      · rw [if_neg d4] at h; exact br_f d4 (xr_tk hS hI h)
    · rw [if_neg s4] at h
      have h70 : wX_step_70 post ch d cn dr wl pu ke st (nI R) (nI (G + 1)) (nI S) (nI f0) rg ho fi so aF aL aC dt tx := by
        by_cases s5 : st = 5
        · rw [if_pos s5] at h
          refine br_t s5 ?_
          by_cases c7 : ch = 7
          · rw [if_pos c7] at h; exact br_t c7 (xr_tk hS hI h)
          · rw [if_neg c7] at h; exact br_f c7 (xr_tk hS hI h)
        · rw [if_neg s5] at h
          refine br_f s5 ?_
          by_cases s6 : st = 6
          · rw [if_pos s6] at h
            refine br_t s6 ?_
            by_cases c9 : ch = 9
            · rw [if_pos c9] at h; exact br_t c9 (xr_er hR (by omega) hf h)
            · rw [if_neg c9] at h; exact br_f c9 h
          · rw [if_neg s6] at h
            refine br_f s6 ?_
            by_cases s1 : st = 1
            · refine br_t s1 ?_
              by_cases c7 : ch = 7
              · rw [if_pos ⟨s1, c7⟩] at h; exact br_t c7 h
              · rw [if_neg (fun y => c7 y.2)] at h; exact br_f c7 (xr_155 hR hG hS hf hI h)
            · rw [if_neg (fun y => s1 y.1)] at h
              exact br_f s1 (xr_155 hR hG hS hf hI h)
      by_cases t4 : st = 4
      · by_cases c7 : ch = 7
        · exact absurd ⟨t4, c7⟩ s4
        · exact br_t t4 (br_f c7 h70)
      · exact br_f t4 h70
theorem xr_st {post : SX → Prop} {d ch : Int32} {R F S f0 i : Nat} (hi : i < 500) (I : rd_I i (st, R, F, S, f0, rg, ho, aF, aL, aC)) (h : post (rd_x cn dr wl pu ke fi so dt tx (rd_st fi d ch (st, R, F, S, f0, rg, ho, aF, aL, aC)))) : wpX_step post (cn, dr, wl, pu, ke, st, nI R, nI F, nI S, nI f0, rg, ho, fi, so, aF, aL, aC, dt, tx) ch d := by
  obtain ⟨h1, h2, h3, h4⟩ := I.1
  unfold rd_st rd_pre at h
  dsimp only at h
  by_cases z : st = 0
  · rw [if_pos z] at h
    refine br_t z ?_
    refine xr_sr (by omega) ?_
    refine xr_16 (G := 0) (S := 0) (by omega) (by omega) (by omega) (by omega) (fun y => ⟨?_, by omega⟩) h
    have := (rd_hn (rd_hn y).1).2
    omega
  · rw [if_neg z] at h
    obtain ⟨_, _, _, _, j5, j6⟩ := I.2.1 z
    obtain ⟨G, rfl⟩ : ∃ G, F = G + 1 := ⟨F - 1, by omega⟩
    exact br_f z (xr_16 (by omega) (by omega) (by omega) (by omega) (fun y => ⟨(j6 y).1, by have := (j6 y).2; omega⟩) h)
theorem xr_97 {post : Int32 → SX → Prop} {R F S f0 : Nat} (hR : R < 1000) (hF : F < 1000) (hf : f0 < 1000) (h : ∀ (q : Int32) (R' F' S' f' : Nat) (rg' ho' : Int32) (aF' aL' aC' : Nat → Int32), rd_fin (st, R, F, S, f0, rg, ho, aF, aL, aC) = (q, R', F', S', f', rg', ho', aF', aL', aC') → post (if q = 0 then 1 else 0) (cn, dr, wl, pu, ke, q, nI R', nI F', nI S', nI f', rg', ho', fi, so, aF', aL', aC', dt, tx)) : wX_readAll_97 post cn dr wl pu ke st (nI R) (nI F) (nI S) (nI f0) rg ho fi so aF aL aC dt tx := by
  have h121 : (st = 1 ∨ st = 2 ∨ st = 4) → wX_readAll_121 post cn dr wl pu ke st (nI R) (nI F) (nI S) (nI f0) rg ho fi so aF aL aC dt tx := by
    intro z
    refine xr_er hR hF hf ?_
    have := h 0 _ _ _ _ _ _ _ _ _ (if_pos z)
    rw [if_pos rfl] at this
    exact br_t rfl this
  by_cases s1 : st = 1
  · exact br_t s1 (h121 (Or.inl s1))
  · refine br_f s1 ?_
    by_cases s2 : st = 2
    · exact br_t s2 (h121 (Or.inr (Or.inl s2)))
    · refine br_f s2 ?_
      by_cases s4 : st = 4
      · exact br_t s4 (h121 (Or.inr (Or.inr s4)))
      · refine br_f s4 ?_
        have := h _ _ _ _ _ _ _ _ _ _ (if_neg (fun y => y.elim s1 (fun y => y.elim s2 s4)))
        by_cases s0 : st = 0
        · rw [if_pos s0] at this
          exact br_t s0 this
        · rw [if_neg s0] at this
          exact br_f s0 this
end
section
variable {cn dr pu ke fi : Int32} {aF aL aC dt tx : Nat → Int32}
theorem xr_loop {d : Int32} {w : Nat} (hw : w ≤ 96) {K : Nat → rd_C} (hK : K = rd_K fi d tx (rd_0 aF aL aC)) {post : Int32 → SX → Prop} (h : ∀ s : Nat, s ≤ w → ¬ (K s).1 = 7 → (∀ j : Nat, s < j → j ≤ w → (K j).1 = 7) → ∀ (st : Int32) (R F S f0 : Nat) (rg ho : Int32) (aF aL aC : Nat → Int32), K w = (st, R, F, S, f0, rg, ho, aF, aL, aC) → wX_readAll_97 post cn dr (nI w) pu ke st (nI R) (nI F) (nI S) (nI f0) rg ho fi (nI s) aF aL aC dt tx) :
    ∀ n i : Nat, w < n + i → i ≤ w → ∀ s : Nat, s ≤ i → ¬ (K s).1 = 7 → (∀ j : Nat, s < j → j ≤ i → (K j).1 = 7) → ∀ (st : Int32) (R F S f0 : Nat) (rg ho : Int32) (aF aL aC : Nat → Int32), K i = (st, R, F, S, f0, rg, ho, aF, aL, aC) → wX_readAll_47 post d n (nI i) cn dr (nI w) pu ke st (nI R) (nI F) (nI S) (nI f0) rg ho fi (nI s) aF aL aC dt tx := by
  intro n
  induction n with
  | zero => intro i h1 h2; omega
  | succ n ih =>
    intro i h1 h2 s hs k7 kj st R F S f0 rg ho bF bL bC e
    have I : rd_I i (st, R, F, S, f0, rg, ho, bF, bL, bC) := by
      rw [← e, hK]; exact rd_IK rd_I0 i
    refine pk_le w i (fun z => ?_) (fun z => ?_)
    · have ei : i = w := by omega
      subst ei
      exact h s hs k7 kj st R F S f0 rg ho bF bL bC e
    · by_cases s7 : st = 7
      · refine br_t s7 ?_
        have e7 : (K i).1 = 7 := by rw [e]; exact s7
        have ew : ∀ j : Nat, i ≤ j → K j = K i := by
          intro j hj
          rw [hK] at e7 ⊢
          exact rd_K7' e7 hj
        refine h s (by omega) k7 (fun j hj1 hj2 => ?_) st R F S f0 rg ho bF bL bC ((ew w (by omega)).trans e)
        rcases Nat.lt_or_ge j i with y | y
        · exact kj j hj1 (by omega)
        · rw [ew j y]; exact e7
      · refine br_f s7 ⟨bs_in (by omega) (by omega), ?_⟩
        rw [bs_c (n := i) (by omega)]
        refine xr_st (i := i) (by omega) I ?_
        have e1 : K (i + 1) = rd_st fi d (tx i) (st, R, F, S, f0, rg, ho, bF, bL, bC) := by
          rw [← e, hK]
          refine rd_Ks ?_
          rw [← hK, e]; exact s7
        rcases e2 : rd_st fi d (tx i) (st, R, F, S, f0, rg, ho, bF, bL, bC) with ⟨st', R', F', S', f', rg', ho', aF', aL', aC'⟩
        rw [e2] at e1
        by_cases t7 : st' = 7
        · refine br_t t7 (nm_r (nI_1 i) ?_)
          refine ih (i + 1) (by omega) (by omega) s (by omega) k7 (fun j hj1 hj2 => ?_) st' R' F' S' f' rg' ho' aF' aL' aC' e1
          rcases Nat.lt_or_ge j (i + 1) with y | y
          · exact kj j hj1 (by omega)
          · have : j = i + 1 := by omega
            rw [this, e1]; exact t7
        · refine br_f t7 (nm_r (nI_1 i) (nm_r (nI_1 i) ?_))
          refine ih (i + 1) (by omega) (by omega) (i + 1) (by omega) ?_ (fun j hj1 hj2 => by omega) st' R' F' S' f' rg' ho' aF' aL' aC' e1
          rw [e1]; exact t7
theorem xr_ra {d : Int32} {w : Nat} (hw : w ≤ 96) (h01 : fi = 0 ∨ fi = 1) {st gR gF gS ff rg ho fi0 so : Int32} {post : Int32 → SX → Prop} (h : ∀ s : Nat, s ≤ w → ¬ (rd_K fi d tx (rd_0 aF aL aC) s).1 = 7 → (∀ j : Nat, s < j → j ≤ w → (rd_K fi d tx (rd_0 aF aL aC) j).1 = 7) → ∀ (st : Int32) (R F S f0 : Nat) (rg ho : Int32) (aF' aL' aC' : Nat → Int32), rd_fin (rd_K fi d tx (rd_0 aF aL aC) w) = (st, R, F, S, f0, rg, ho, aF', aL', aC') → post (if st = 0 then 1 else 0) (cn, dr, nI w, pu, ke, st, nI R, nI F, nI S, nI f0, rg, ho, fi, nI s, aF', aL', aC', dt, tx)) : wpX_readAll post (cn, dr, nI w, pu, ke, st, gR, gF, gS, ff, rg, ho, fi0, so, aF, aL, aC, dt, tx) d fi := by
  have L := xr_loop (cn := cn) (dr := dr) (pu := pu) (ke := ke) (dt := dt) hw (rfl : rd_K fi d tx (rd_0 aF aL aC) = rd_K fi d tx (rd_0 aF aL aC)) (post := post) (fun s hs k7 kj st R F S f0 rg ho bF bL bC e => by
    have I : rd_I w (st, R, F, S, f0, rg, ho, bF, bL, bC) := by
      rw [← e]; exact rd_IK rd_I0 w
    obtain ⟨h1, h2, h3, h4⟩ := I.1
    refine xr_97 (by omega) (by omega) (by omega) ?_
    intro q R' F' S' f' rg' ho' aF' aL' aC' e2
    exact h s hs k7 kj q R' F' S' f' rg' ho' aF' aL' aC' (by rw [e]; exact e2)) (w + 1) 0 (by omega) (by omega) 0 (by omega) (by show ¬ (0 : Int32) = 7; decide) (fun j hj1 hj2 => by omega) 0 0 0 0 0 1 1 aF aL aC rfl
  rcases h01 with rfl | rfl
  · exact ⟨rfl, rfl, w + 1, L⟩
  · exact ⟨rfl, rfl, w + 1, L⟩
end
end
section
/-! steps of the pure reader by state; the matching of the reference's reader -/
theorem yp_n13 : ¬ (1 : Int32) = 3 := by decide
theorem yp_n14 : ¬ (1 : Int32) = 4 := by decide
theorem yp_n15 : ¬ (1 : Int32) = 5 := by decide
theorem yp_n16 : ¬ (1 : Int32) = 6 := by decide
theorem yp_n43 : ¬ (4 : Int32) = 3 := by decide
theorem yp_n45 : ¬ (4 : Int32) = 5 := by decide
theorem yp_n46 : ¬ (4 : Int32) = 6 := by decide
theorem yp_n53 : ¬ (5 : Int32) = 3 := by decide
theorem yp_n54 : ¬ (5 : Int32) = 4 := by decide
theorem yp_n63 : ¬ (6 : Int32) = 3 := by decide
theorem yp_n64 : ¬ (6 : Int32) = 4 := by decide
theorem yp_n65 : ¬ (6 : Int32) = 5 := by decide
theorem yp_37 {fi d ch : Int32} {r : Nat × Nat × Nat × Nat × Int32 × Int32 × (Nat → Int32) × (Nat → Int32) × (Nat → Int32)} (h : ch = 7) : rd_16 fi d ch (3, r) = (4, r) := by
  unfold rd_16
  rw [if_pos rfl, if_pos h]; rfl
theorem yp_310a {fi d ch : Int32} {r : Nat × Nat × Nat × Nat × Int32 × Int32 × (Nat → Int32) × (Nat → Int32) × (Nat → Int32)} (h : ch = 10) (hd : d < 4) : rd_16 fi d ch (3, r) = (7, r) := by
  unfold rd_16
  rw [if_pos rfl, if_neg (by rw [h]; decide), if_pos h, if_pos hd]; rfl
theorem yp_310b {fi d ch : Int32} {r : Nat × Nat × Nat × Nat × Int32 × Int32 × (Nat → Int32) × (Nat → Int32) × (Nat → Int32)} (h : ch = 10) (hd : ¬ d < 4) : rd_16 fi d ch (3, r) = (5, r) := by
  unfold rd_16
  rw [if_pos rfl, if_neg (by rw [h]; decide), if_pos h, if_neg hd]; rfl
theorem yp_3o {fi d ch : Int32} {r : Nat × Nat × Nat × Nat × Int32 × Int32 × (Nat → Int32) × (Nat → Int32) × (Nat → Int32)} (h : ¬ ch = 7) (h2 : ¬ ch = 10) : rd_16 fi d ch (3, r) = rd_tk fi ch (3, r) := by
  unfold rd_16
  rw [if_pos rfl, if_neg h, if_neg h2]; rfl
theorem yp_47a {fi d ch : Int32} {r : Nat × Nat × Nat × Nat × Int32 × Int32 × (Nat → Int32) × (Nat → Int32) × (Nat → Int32)} (h : ch = 7) (hd : d < 4) : rd_16 fi d ch (4, r) = rd_tk fi 7 (3, r) := by
  unfold rd_16
  rw [if_neg yp_n43, if_pos ⟨rfl, h⟩, if_neg (Int32.not_le.mpr hd), h]; rfl
theorem yp_47b {fi d ch : Int32} {r : Nat × Nat × Nat × Nat × Int32 × Int32 × (Nat → Int32) × (Nat → Int32) × (Nat → Int32)} (h : ch = 7) (hd : ¬ d < 4) : (rd_16 fi d ch (4, r)).1 = 7 := by
  unfold rd_16
  rw [if_neg yp_n43, if_pos ⟨rfl, h⟩, if_pos (Int32.not_lt.mp hd)]; rfl
theorem yp_4o {fi d ch : Int32} {r : Nat × Nat × Nat × Nat × Int32 × Int32 × (Nat → Int32) × (Nat → Int32) × (Nat → Int32)} (h : ¬ ch = 7) : rd_16 fi d ch (4, r) = rd_af fi d ch (4, r) := by
  unfold rd_16
  rw [if_neg yp_n43, if_neg (fun y => h y.2), if_neg yp_n45, if_neg yp_n46, if_neg (fun y => h y.2), if_pos (Or.inl rfl)]
theorem yp_57 {fi d ch : Int32} {r : Nat × Nat × Nat × Nat × Int32 × Int32 × (Nat → Int32) × (Nat → Int32) × (Nat → Int32)} (h : ch = 7) : rd_16 fi d ch (5, r) = rd_tk fi 7 (3, r) := by
  unfold rd_16
  rw [if_neg yp_n53, if_neg (fun y => absurd y.1 yp_n54), if_pos rfl, if_pos h, h]; rfl
theorem yp_5o {fi d ch : Int32} {r : Nat × Nat × Nat × Nat × Int32 × Int32 × (Nat → Int32) × (Nat → Int32) × (Nat → Int32)} (h : ¬ ch = 7) : (rd_16 fi d ch (5, r)).1 = 7 := by
  unfold rd_16
  rw [if_neg yp_n53, if_neg (fun y => absurd y.1 yp_n54), if_pos rfl, if_neg h]; rfl
theorem yp_69 {fi d ch : Int32} {r : Nat × Nat × Nat × Nat × Int32 × Int32 × (Nat → Int32) × (Nat → Int32) × (Nat → Int32)} (h : ch = 9) : rd_16 fi d ch (6, r) = rd_er (6, r) := by
  unfold rd_16
  rw [if_neg yp_n63, if_neg (fun y => absurd y.1 yp_n64), if_neg yp_n65, if_pos rfl, if_pos h]
theorem yp_6o {fi d ch : Int32} {r : Nat × Nat × Nat × Nat × Int32 × Int32 × (Nat → Int32) × (Nat → Int32) × (Nat → Int32)} (h : ¬ ch = 9) : (rd_16 fi d ch (6, r)).1 = 7 := by
  unfold rd_16
  rw [if_neg yp_n63, if_neg (fun y => absurd y.1 yp_n64), if_neg yp_n65, if_pos rfl, if_neg h]; rfl
theorem yp_17 {fi d ch : Int32} {r : Nat × Nat × Nat × Nat × Int32 × Int32 × (Nat → Int32) × (Nat → Int32) × (Nat → Int32)} (h : ch = 7) : rd_16 fi d ch (1, r) = (3, r) := by
  unfold rd_16
  rw [if_neg yp_n13, if_neg (fun y => absurd y.1 yp_n14), if_neg yp_n15, if_neg yp_n16, if_pos ⟨rfl, h⟩]; rfl
theorem yp_12a {fi d ch q : Int32} {r : Nat × Nat × Nat × Nat × Int32 × Int32 × (Nat → Int32) × (Nat → Int32) × (Nat → Int32)} (hq : q = 1 ∨ q = 2) (h1 : q = 1 → ¬ ch = 7) (h : ch = 5 + (d &&& 1) ∨ 7 ≤ ch) : rd_16 fi d ch (q, r) = rd_af fi d ch (q, r) := by
  have n3 : ¬ q = 3 := by rcases hq with rfl | rfl <;> decide
  have n4 : ¬ q = 4 := by rcases hq with rfl | rfl <;> decide
  have n5 : ¬ q = 5 := by rcases hq with rfl | rfl <;> decide
  have n6 : ¬ q = 6 := by rcases hq with rfl | rfl <;> decide
  unfold rd_16
  rw [if_neg n3, if_neg (fun y => n4 y.1), if_neg n5, if_neg n6, if_neg (fun y => h1 y.1 y.2), if_pos (Or.inr h.symm)]
theorem yp_12t {fi d ch q : Int32} {r : Nat × Nat × Nat × Nat × Int32 × Int32 × (Nat → Int32) × (Nat → Int32) × (Nat → Int32)} (hq : q = 1 ∨ q = 2) (h : ¬ (ch = 5 + (d &&& 1) ∨ 7 ≤ ch)) : rd_16 fi d ch (q, r) = rd_tk fi ch (2, r) := by
  have n3 : ¬ q = 3 := by rcases hq with rfl | rfl <;> decide
  have n4 : ¬ q = 4 := by rcases hq with rfl | rfl <;> decide
  have n5 : ¬ q = 5 := by rcases hq with rfl | rfl <;> decide
  have n6 : ¬ q = 6 := by rcases hq with rfl | rfl <;> decide
  have n7 : ¬ ch = 7 := fun y => h (Or.inr (by rw [y]; exact Int32.le_refl 7))
  unfold rd_16
  rw [if_neg n3, if_neg (fun y => n4 y.1), if_neg n5, if_neg n6, if_neg (fun y => n7 y.2), if_neg (fun y => y.elim n4 (fun y => h y.symm))]; rfl
theorem yp_sep {d : Int32} (D : wr_D d) : ¬ 5 + (d &&& 1) = 7 ∧ ¬ 5 + (d &&& 1) = 8 ∧ ¬ 5 + (d &&& 1) = 9 := by
  rcases D.2 with ⟨_, b⟩ | ⟨_, b⟩ <;> rw [b] <;> decide
theorem yp_afs {fi d ch : Int32} {c : rd_C} (h : ch = 5 + (d &&& 1)) : rd_af fi d ch c = rd_q 1 (rd_sf fi c) := if_pos h
theorem yp_af9 {fi d ch : Int32} {c : rd_C} (h : ¬ ch = 5 + (d &&& 1)) (h9 : ch = 9) (hd : ¬ d &&& 2 = 0) : rd_af fi d ch c = rd_er c := by
  unfold rd_af
  rw [if_neg h, if_pos ⟨h9, hd⟩]
theorem yp_af8 {fi d ch : Int32} {c : rd_C} (h : ¬ ch = 5 + (d &&& 1)) (h8 : ch = 8) (hd : d &&& 2 = 0) : rd_af fi d ch c = rd_q 6 c := by
  unfold rd_af
  rw [if_neg h, if_neg (fun y => y.2 hd), if_pos ⟨h8, hd⟩]
theorem yp_afl {fi d ch : Int32} {c : rd_C} (h : ¬ ch = 5 + (d &&& 1)) (h9 : ¬ (ch = 9 ∧ ¬ d &&& 2 = 0)) (h8 : ¬ (ch = 8 ∧ d &&& 2 = 0)) : (rd_af fi d ch c).1 = 7 := by
  unfold rd_af
  rw [if_neg h, if_neg h9, if_neg h8]; rfl
theorem yp_fin {c : rd_C} (h : ¬ (c.1 = 0 ∨ c.1 = 1 ∨ c.1 = 2 ∨ c.1 = 4)) : ¬ (rd_fin c).1 = 0 := by
  unfold rd_fin
  rw [if_neg (fun y => h (Or.inr y))]
  exact fun y => h (Or.inl y)
theorem yp_fin0 {c : rd_C} (h : c.1 = 0) : rd_fin c = c := by
  unfold rd_fin
  rw [if_neg (by rw [h]; decide)]
theorem yp_fine {c : rd_C} (h : c.1 = 1 ∨ c.1 = 2 ∨ c.1 = 4) : rd_fin c = rd_er c := if_pos h
theorem yp_lost {fi d : Int32} {t : Nat → Int32} {c : rd_C} {p n : Nat} (h : (rd_K fi d t c p).1 = 7) (hp : p ≤ n) : ¬ (rd_fin (rd_K fi d t c n)).1 = 0 := by
  rw [rd_K7' h hp]
  exact yp_fin (by rw [h]; decide)
theorem yp_s {fi d : Int32} {t : Nat → Int32} {c c' : rd_C} {p : Nat} (e : rd_pre fi (rd_K fi d t c p) = c') (h7 : ¬ c'.1 = 7) : rd_K fi d t c (p + 1) = rd_16 fi d (t p) c' := by
  have hn : ¬ (rd_K fi d t c p).1 = 7 := by
    intro z
    apply h7
    rw [← e]
    unfold rd_pre
    rw [if_neg (by rw [z]; decide)]
    exact z
  rw [rd_Ks hn]
  unfold rd_st
  rw [e]
theorem yp_pn {fi : Int32} {c : rd_C} (h : ¬ c.1 = 0) : rd_pre fi c = c := if_neg h
/-! what agrees below an index stays -/
theorem yp_FR {aL aC bL bC aL' aC' bL' bC' : Nat → Int32} {j k : Nat} (hk : k < j) (h1 : ∀ m : Nat, m < j → aL' m = aL m) (h2 : ∀ m : Nat, m < 6 * j → aC' m = aC m) (h3 : ∀ m : Nat, m < j → bL' m = bL m) (h4 : ∀ m : Nat, m < 6 * j → bC' m = bC m) (h : rl_FR aL aC bL bC k) : rl_FR aL' aC' bL' bC' k := by
  obtain ⟨l, hl, e1, e2, e3⟩ := h
  refine ⟨l, hl, by rw [h1 k hk]; exact e1, by rw [h3 k hk]; exact e2, fun i hi => ?_⟩
  rw [h2 _ (by omega), h4 _ (by omega)]
  exact e3 i hi
theorem yp_TB {R j : Nat} {aF aL aC bF bL bC aF' aL' aC' bF' bL' bC' : Nat → Int32} (hj : 5 * R ≤ j) (h0 : ∀ m : Nat, m < R → aF' m = aF m) (h0' : ∀ m : Nat, m < R → bF' m = bF m) (h1 : ∀ m : Nat, m < j → aL' m = aL m) (h2 : ∀ m : Nat, m < 6 * j → aC' m = aC m) (h3 : ∀ m : Nat, m < j → bL' m = bL m) (h4 : ∀ m : Nat, m < 6 * j → bC' m = bC m) (h : rl_TB R aF aL aC bF bL bC) : rl_TB R aF' aL' aC' bF' bL' bC' := by
  intro r hr
  obtain ⟨k, k1, k5, e1, e2, e3⟩ := h r hr
  exact ⟨k, k1, k5, by rw [h0 r hr]; exact e1, by rw [h0' r hr]; exact e2, fun f hf => yp_FR (j := j) (by omega) h1 h2 h3 h4 (e3 f hf)⟩
theorem yp_ub {a : Nat → Int32} {j : Nat} {x : Int32} {b : Nat} (h : b ≤ j) : ∀ m : Nat, m < b → upd a j x m = a m := fun m hm => pk_un (by omega)
theorem yp_id {a : Nat → Int32} {b : Nat} : ∀ m : Nat, m < b → a m = a m := fun _ _ => rfl
/-! in a field; behind a field; between records -/
def yr_T (R G S : Nat) (aF aL aC dF dL dC : Nat → Int32) : Prop := R < 6 ∧ G < 5 ∧ S ≤ 6 ∧ rl_TB R aF aL aC dF dL dC ∧ aF R = nI (G + 1) ∧ (∀ f : Nat, f < G → rl_FR aL aC dL dC (5 * R + f)) ∧ aL (5 * R + G) = nI S ∧ ∀ i : Nat, i < S → dC (6 * (5 * R + G) + i) = aC (6 * (5 * R + G) + i)
def yr_M (R G S : Nat) (ho : Int32) (aF aL aC : Nat → Int32) (rO : Int32) (dF dL dC : Nat → Int32) : Prop := (ho = 0 ↔ ¬ rO = 0 ∨ 6 ≤ R ∨ 5 ≤ G) ∧ (¬ ho = 0 → yr_T R G S aF aL aC dF dL dC)
def yr_A (R G : Nat) (ho : Int32) (aF aL aC : Nat → Int32) (rO : Int32) (dF dL dC : Nat → Int32) : Prop := (ho = 0 ↔ ¬ rO = 0) ∧ (¬ ho = 0 → R < 6 ∧ G < 5 ∧ rl_TB R aF aL aC dF dL dC ∧ aF R = nI (G + 1) ∧ ∀ f : Nat, f < G + 1 → rl_FR aL aC dL dC (5 * R + f))
def yr_B (R : Nat) (rg ho : Int32) (aF aL aC : Nat → Int32) (rO : Int32) (dF dL dC : Nat → Int32) : Prop := (ho = 0 ↔ ¬ rO = 0) ∧ (rg = 0 ∨ rg = 1) ∧ (¬ ho = 0 → R ≤ 6 ∧ rl_TB R aF aL aC dF dL dC)
theorem yp_h0 {a b : Nat} {ho : Int32} (h : a ≤ b) : rd_h a b ho = ho := if_pos h
theorem yp_h1 {a b : Nat} {ho : Int32} (h : b < a) : rd_h a b ho = 0 := if_neg (by omega)
theorem yp_hz {a b : Nat} : rd_h a b 0 = 0 := by
  unfold rd_h
  by_cases z : a ≤ b
  · rw [if_pos z]
  · rw [if_neg z]
theorem yp_a1 {h : Int32} {a b : Nat → Int32} (y : ¬ h = 0) : rd_a 1 h a b = b := if_neg (fun q => q.elim (by decide) y)
/-- a character is taken: too much .. -/
theorem yp_Mo {R G S : Nat} {ho rO : Int32} {aF aL aC aL' aC' dF dL dC : Nat → Int32} (M : yr_M R G S ho aF aL aC rO dF dL dC) (h : 6 ≤ R ∨ 5 ≤ G ∨ 6 ≤ S) : yr_M R G (S + 1) (rd_h (S + 1) 6 ho) aF aL' aC' 1 dF dL dC := by
  have e : rd_h (S + 1) 6 ho = 0 := by
    rcases h with h | h | h
    · rw [M.1.mpr (Or.inr (Or.inl h))]; exact yp_hz
    · rw [M.1.mpr (Or.inr (Or.inr h))]; exact yp_hz
    · exact yp_h1 (by omega)
  exact ⟨⟨fun _ => Or.inl (by decide), fun _ => e⟩, fun z => absurd e z⟩
/-- .. or it goes to its place -/
theorem yp_Mi {R G S : Nat} {ho rO ch : Int32} {aF aL aC dF dL dC : Nat → Int32} (M : yr_M R G S ho aF aL aC rO dF dL dC) (hS : S < 6) : yr_M R G (S + 1) (rd_h (S + 1) 6 ho) aF (rd_a 1 (rd_h (S + 1) 6 ho) aL (upd aL (5 * R + G) (nI (S + 1)))) (rd_a 1 (rd_h (S + 1) 6 ho) aC (upd aC (6 * (5 * R + G) + S) ch)) rO dF dL (upd dC (6 * (5 * R + G) + S) ch) := by
  rw [yp_h0 (by omega)]
  refine ⟨M.1, fun z => ?_⟩
  rw [yp_a1 z, yp_a1 z]
  obtain ⟨h1, h2, h3, h4, h5, h6, h7, h8⟩ := M.2 z
  refine ⟨h1, h2, by omega, ?_, h5, fun f hf => ?_, pk_us, fun i hi => ?_⟩
  · exact yp_TB (j := 5 * R + G) (by omega) yp_id yp_id (yp_ub (by omega)) (yp_ub (by omega)) yp_id (yp_ub (by omega)) h4
  · exact yp_FR (j := 5 * R + G) (by omega) (yp_ub (by omega)) (yp_ub (by omega)) yp_id (yp_ub (by omega)) (h6 f hf)
  · by_cases y : i = S
    · rw [y, pk_us, pk_us]
    · rw [pk_un (by omega), pk_un (by omega)]; exact h8 i (by omega)
/-- a field ends -/
theorem yp_Ao {R G S : Nat} {ho rO : Int32} {aF aL aC dF dL dC : Nat → Int32} (M : yr_M R G S ho aF aL aC rO dF dL dC) (h : 6 ≤ R ∨ 5 ≤ G) : yr_A R G ho aF aL aC 1 dF dL dC := by
  have e : ho = 0 := M.1.mpr (Or.inr h)
  exact ⟨⟨fun _ => by decide, fun _ => e⟩, fun z => absurd e z⟩
theorem yp_Ai {R G S : Nat} {ho rO : Int32} {aF aL aC dF dL dC : Nat → Int32} {x : Int32} (M : yr_M R G S ho aF aL aC rO dF dL dC) (hR : R < 6) (hG : G < 5) (hx : S ≤ 6 → x = nI S) : yr_A R G ho aF aL aC rO dF (upd dL (5 * R + G) x) dC := by
  refine ⟨⟨fun z => (M.1.mp z).elim id (fun y => by omega), fun z => M.1.mpr (Or.inl z)⟩, fun z => ?_⟩
  obtain ⟨h1, h2, h3, h4, h5, h6, h7, h8⟩ := M.2 z
  refine ⟨h1, h2, ?_, h5, fun f hf => ?_⟩
  · exact yp_TB (j := 5 * R + G) (by omega) yp_id yp_id yp_id yp_id (yp_ub (by omega)) yp_id h4
  · by_cases y : f = G
    · subst y
      exact ⟨S, h3, h7, by rw [pk_us]; exact hx h3, h8⟩
    · exact yp_FR (j := 5 * R + G) (by omega) yp_id yp_id (yp_ub (by omega)) yp_id (h6 f (by omega))
/-- a further field begins -/
theorem yp_AM {R G : Nat} {ho rO : Int32} {aF aL aC dF dL dC : Nat → Int32} (A : yr_A R G ho aF aL aC rO dF dL dC) : yr_M R (G + 1) 0 (rd_h (G + 1 + 1) 5 ho) (rd_a 1 (rd_h (G + 1 + 1) 5 ho) aF (upd aF R (nI (G + 1 + 1)))) (rd_a 1 (rd_h (G + 1 + 1) 5 ho) aL (upd aL (5 * R + (G + 1)) 0)) aC rO dF dL dC := by
  by_cases g : G + 1 + 1 ≤ 5
  · rw [yp_h0 g]
    refine ⟨⟨fun z => Or.inl (A.1.mp z), fun z => ?_⟩, fun z => ?_⟩
    · rcases z with z | z | z
      · exact A.1.mpr z
      · exact Decidable.byContradiction (fun y => by have := (A.2 y).1; omega)
      · omega
    · rw [yp_a1 z, yp_a1 z]
      obtain ⟨h1, h2, h3, h4, h5⟩ := A.2 z
      refine ⟨h1, by omega, by omega, ?_, pk_us, fun f hf => ?_, pk_us, fun i hi => by omega⟩
      · exact yp_TB (j := 5 * R + (G + 1)) (by omega) (yp_ub (by omega)) yp_id (yp_ub (by omega)) yp_id yp_id yp_id h3
      · exact yp_FR (j := 5 * R + (G + 1)) (by omega) (yp_ub (by omega)) yp_id yp_id yp_id (h5 f hf)
  · rw [yp_h1 (by omega)]
    exact ⟨⟨fun _ => Or.inr (Or.inr (by omega)), fun _ => rfl⟩, fun z => absurd rfl z⟩
/-- a record begins -/
theorem yp_BM {R : Nat} {rg ho rO : Int32} {aF aL aC dF dL dC : Nat → Int32} (B : yr_B R rg ho aF aL aC rO dF dL dC) : yr_M R 0 0 (rd_h (0 + 1) 5 (rd_h (R + 1) 6 ho)) (rd_a 1 (rd_h (0 + 1) 5 (rd_h (R + 1) 6 ho)) aF (upd aF R (nI (0 + 1)))) (rd_a 1 (rd_h (0 + 1) 5 (rd_h (R + 1) 6 ho)) aL (upd aL (5 * R + 0) 0)) aC rO dF dL dC := by
  rw [yp_h0 (by omega : 0 + 1 ≤ 5)]
  by_cases g : R < 6
  · rw [yp_h0 (by omega : R + 1 ≤ 6)]
    refine ⟨⟨fun z => Or.inl (B.1.mp z), fun z => B.1.mpr (z.elim id (fun y => by omega))⟩, fun z => ?_⟩
    rw [yp_a1 z, yp_a1 z]
    obtain ⟨h1, h2⟩ := B.2.2 z
    refine ⟨g, by omega, by omega, ?_, pk_us, fun f hf => by omega, pk_us, fun i hi => by omega⟩
    exact yp_TB (j := 5 * R + 0) (by omega) (yp_ub (by omega)) yp_id (yp_ub (by omega)) yp_id yp_id yp_id h2
  · rw [yp_h1 (by omega : 6 < R + 1)]
    exact ⟨⟨fun _ => Or.inr (Or.inl (by omega)), fun _ => rfl⟩, fun z => absurd rfl z⟩
/-- a record ends -/
theorem yp_AB {R G : Nat} {rg ho rO : Int32} {aF aL aC dF dL dC : Nat → Int32} (A : yr_A R G ho aF aL aC rO dF dL dC) (hg : rg = 0 ∨ rg = 1) : yr_B (R + 1) rg ho aF aL aC rO (if 6 ≤ R then dF else upd dF R (nI (G + 1))) dL dC := by
  refine ⟨A.1, hg, fun z => ?_⟩
  obtain ⟨h1, h2, h3, h4, h5⟩ := A.2 z
  rw [if_neg (by omega)]
  refine ⟨by omega, fun r hr => ?_⟩
  by_cases y : r = R
  · subst y
    exact ⟨G + 1, by omega, by omega, h4, pk_us, h5⟩
  · obtain ⟨k, k1, k5, e1, e2, e3⟩ := h3 r (by omega)
    exact ⟨k, k1, k5, e1, by rw [pk_un y]; exact e2, e3⟩
end
section
/-! the reference's reader against the pure one -/
theorem yr_n10 : ¬ (1 : Int32) = 0 := by decide
theorem yr_n17 : ¬ (1 : Int32) = 7 := by decide
theorem yr_n20 : ¬ (2 : Int32) = 0 := by decide
theorem yr_n30 : ¬ (3 : Int32) = 0 := by decide
theorem yr_n37 : ¬ (3 : Int32) = 7 := by decide
theorem yr_n40 : ¬ (4 : Int32) = 0 := by decide
theorem yr_n47 : ¬ (4 : Int32) = 7 := by decide
theorem yr_n50 : ¬ (5 : Int32) = 0 := by decide
theorem yr_n57 : ¬ (5 : Int32) = 7 := by decide
theorem yr_n60 : ¬ (6 : Int32) = 0 := by decide
theorem yr_n67 : ¬ (6 : Int32) = 7 := by decide
theorem yr_f3 : ¬ ((3 : Int32) = 0 ∨ (3 : Int32) = 1 ∨ (3 : Int32) = 2 ∨ (3 : Int32) = 4) := by decide
theorem yr_f5 : ¬ ((5 : Int32) = 0 ∨ (5 : Int32) = 1 ∨ (5 : Int32) = 2 ∨ (5 : Int32) = 4) := by decide
theorem yr_f6 : ¬ ((6 : Int32) = 0 ∨ (6 : Int32) = 1 ∨ (6 : Int32) = 2 ∨ (6 : Int32) = 4) := by decide
theorem yr_s {fi d : Int32} {t : Nat → Int32} {c c' : rd_C} {p : Nat} (e : rd_K fi d t c p = c') (h0 : ¬ c'.1 = 0) (h7 : ¬ c'.1 = 7) : rd_K fi d t c (p + 1) = rd_16 fi d (t p) c' := yp_s (by rw [e]; exact yp_pn h0) h7
def yr_e (d : Int32) : Int32 := if d < 4 then 7 else 10
theorem yr_e7 {d : Int32} (h : d < 4) : yr_e d = 7 := if_pos h
theorem yr_e10 {d : Int32} (h : ¬ d < 4) : yr_e d = 10 := if_neg h
def yr_N (d : Int32) (tx : Nat → Int32) (K : Nat → rd_C) (n p : Nat) (c : rd_C) : Prop := p < n → K (p + 1) = rd_af 1 d (tx p) c ∨ (tx p = 7 ∧ (K (p + 1)).1 = 7)
def yr_E (K : Nat → rd_C) (n p : Nat) (c : rd_C) : Prop := (p = n ∧ rd_fin (K n) = c) ∨ (p < n ∧ K p = c)
theorem yr_Ek {K : Nat → rd_C} {n p : Nat} {c : rd_C} (hp : p ≤ n) (h : K p = c) (h0 : c.1 = 0) : yr_E K n p c := by
  by_cases z : p = n
  · subst z
    exact Or.inl ⟨rfl, by rw [h]; exact yp_fin0 h0⟩
  · exact Or.inr ⟨by omega, h⟩
section
variable {cn dr wl rR rF rS rI rO rE po en di ou : Int32} {bC bL bF dt tx dC dL dF : Nat → Int32}
theorem yr_tk {post : SY → Prop} {R G S : Nat} {ho : Int32} {aF aL aC : Nat → Int32} (ch : Int32) (hR : R < 900) (hG : G < 900) (hS : S < 900) (M : yr_M R G S ho aF aL aC rO dF dL dC) (h : ∀ (rO' : Int32) (dC' : Nat → Int32), yr_M R G (S + 1) (rd_h (S + 1) 6 ho) aF (rd_a 1 (rd_h (S + 1) 6 ho) aL (upd aL (5 * R + G) (nI (S + 1)))) (rd_a 1 (rd_h (S + 1) 6 ho) aC (upd aC (6 * (5 * R + G) + S) ch)) rO' dF dL dC' → post (cn, dr, wl, nI R, nI G, nI (S + 1), rI, rO', rE, po, en, di, ou, bC, bL, bF, dt, tx, dC', dL, dF)) : wpY_take post (cn, dr, wl, nI R, nI G, nI S, rI, rO, rE, po, en, di, ou, bC, bL, bF, dt, tx, dC, dL, dF) ch := by
  refine pk_le 6 R (fun z => nm_r (nI_1 S) (h 1 dC (yp_Mo M (Or.inl z)))) (fun z1 => ?_)
  refine pk_le 5 G (fun z => nm_r (nI_1 S) (h 1 dC (yp_Mo M (Or.inr (Or.inl z))))) (fun z2 => ?_)
  refine pk_le 6 S (fun z => nm_r (nI_1 S) (h 1 dC (yp_Mo M (Or.inr (Or.inr z))))) (fun z3 => ?_)
  have e : 6 * (5 * nI R + nI G) + nI S = nI (6 * (5 * R + G) + S) := by rw [bs_5y, bs_6y]
  exact And.intro (pk_in (6 * (5 * R + G) + S) 180 (by omega) e) (nm_r (e' := upd dC (6 * (5 * R + G) + S) ch) (by rw [e, bs_c (by omega)]) (nm_r (nI_1 S) (h rO _ (yp_Mi M (by omega)))))
theorem yr_99 {post : Int32 → SY → Prop} {J : Int32 → Int32 → Int32 → Int32 → Int32 → Int32 → Int32 → Int32 → Int32 → Int32 → Int32 → Int32 → Int32 → (Nat → Int32) → (Nat → Int32) → (Nat → Int32) → (Nat → Int32) → (Nat → Int32) → (Nat → Int32) → (Nat → Int32) → (Nat → Int32) → Prop} {x1 : Int32} {p R G S : Nat} {ho : Int32} {aF aL aC : Nat → Int32} (hR : R < 900) (hG : G < 900) (hS : S < 900) (M : yr_M R G S ho aF aL aC rO dF dL dC) (h7 : x1 = 7 → post 1 (cn, dr, wl, nI R, nI G, nI S, rI, rO, rE, nI (p + 1), en, di, ou, bC, bL, bF, dt, tx, dC, dL, dF)) (h10 : x1 = 10 → post 0 (cn, dr, wl, nI R, nI G, nI S, rI, rO, rE, nI p, en, di, ou, bC, bL, bF, dt, tx, dC, dL, dF)) (hx : ¬ x1 = 7 → ¬ x1 = 10 → ∀ (rO' : Int32) (dC' : Nat → Int32), yr_M R G (S + 1) (rd_h (S + 1) 6 ho) aF (rd_a 1 (rd_h (S + 1) 6 ho) aL (upd aL (5 * R + G) (nI (S + 1)))) (rd_a 1 (rd_h (S + 1) 6 ho) aC (upd aC (6 * (5 * R + G) + S) x1)) rO' dF dL dC' → J cn dr wl (nI R) (nI G) (nI (S + 1)) rI rO' rE (nI (p + 1)) en di ou bC bL bF dt tx dC' dL dF) : wY_readQuoted_99 post J x1 cn dr wl (nI R) (nI G) (nI S) rI rO rE (nI p) en di ou bC bL bF dt tx dC dL dF := by
  by_cases z : x1 = 7
  · exact br_t z (nm_r (nI_1 p) (h7 z))
  · refine br_f z ?_
    by_cases y : x1 = 10
    · exact br_t y (h10 y)
    · exact br_f y (yr_tk x1 hR hG hS M (fun rO' dC' M' => nm_r (nI_1 p) (hx z y rO' dC' M')))
theorem yr_55 {post : Int32 → SY → Prop} {J : Int32 → Int32 → Int32 → Int32 → Int32 → Int32 → Int32 → Int32 → Int32 → Int32 → Int32 → Int32 → Int32 → (Nat → Int32) → (Nat → Int32) → (Nat → Int32) → (Nat → Int32) → (Nat → Int32) → (Nat → Int32) → (Nat → Int32) → (Nat → Int32) → Prop} {x1 z0 d : Int32} (D : wr_D d) {p R G S : Nat} {ho : Int32} {aF aL aC : Nat → Int32} (hR : R < 900) (hG : G < 900) (hS : S < 900) (M : yr_M R G S ho aF aL aC rO dF dL dC) (hE : x1 = yr_e d → ¬ z0 = 0 → ∀ (rO' : Int32) (dC' : Nat → Int32), yr_M R G (S + 1) (rd_h (S + 1) 6 ho) aF (rd_a 1 (rd_h (S + 1) 6 ho) aL (upd aL (5 * R + G) (nI (S + 1)))) (rd_a 1 (rd_h (S + 1) 6 ho) aC (upd aC (6 * (5 * R + G) + S) 7)) rO' dF dL dC' → J cn dr wl (nI R) (nI G) (nI (S + 1)) rI rO' rE (nI (p + 2)) en d ou bC bL bF dt tx dC' dL dF) (h9 : ¬ (x1 = yr_e d ∧ ¬ z0 = 0) → wY_readQuoted_99 post J x1 cn dr wl (nI R) (nI G) (nI S) rI rO rE (nI p) en d ou bC bL bF dt tx dC dL dF) : wY_readQuoted_55 post J x1 z0 cn dr wl (nI R) (nI G) (nI S) rI rO rE (nI p) en d ou bC bL bF dt tx dC dL dF := by
  have h73 : ∀ e : Int32, e = yr_e d → wY_readQuoted_73 post J x1 z0 e x1 cn dr wl (nI R) (nI G) (nI S) rI rO rE (nI p) en d ou bC bL bF dt tx dC dL dF := by
    intro e he
    by_cases z : x1 = e
    · refine br_t z ?_
      by_cases y : z0 = 0
      · exact br_t y (h9 (fun q => q.2 y))
      · exact br_f y (yr_tk 7 hR hG hS M (fun rO' dC' M' => nm_r (bs_2 p) (hE (z.trans he) y rO' dC' M')))
    · exact br_f z (h9 (fun q => z (q.1.trans he.symm)))
  by_cases d4 : d < 4
  · exact br_t (D.1.mpr d4) (h73 7 (yr_e7 d4).symm)
  · exact br_f (fun y => d4 (D.1.mp y)) (h73 10 (yr_e10 d4).symm)
theorem yr_103 {post : Int32 → SY → Prop} {R G S : Nat} {ho : Int32} {aF aL aC : Nat → Int32} (hR : R < 900) (hG : G < 900) (hS : S < 900) (M : yr_M R G S ho aF aL aC rO dF dL dC) (h : ∀ (rO' : Int32) (dL' : Nat → Int32), yr_A R G ho aF aL aC rO' dF dL' dC → post 1 (cn, dr, wl, nI R, nI (G + 1), nI S, rI, rO', rE, po, en, di, ou, bC, bL, bF, dt, tx, dC, dL', dF)) : wY_readField_103 post 1 cn dr wl (nI R) (nI G) (nI S) rI rO rE po en di ou bC bL bF dt tx dC dL dF := by
  refine pk_le 6 R (fun z => nm_r (nI_1 G) (And.intro rfl (h 1 dL (yp_Ao M (Or.inl z))))) (fun z1 => ?_)
  refine pk_le 5 G (fun z => nm_r (nI_1 G) (And.intro rfl (h 1 dL (yp_Ao M (Or.inr z))))) (fun z2 => ?_)
  have e := bs_5y R G
  refine pk_le 7 S (fun z => ?_) (fun z => ?_)
  · exact And.intro (pk_in (5 * R + G) 30 (by omega) e) (nm_r (e' := upd dL (5 * R + G) 6) (by rw [e, bs_c (by omega)]) (nm_r (nI_1 G) (And.intro rfl (h rO _ (yp_Ai M z1 z2 (fun y => by omega))))))
  · exact And.intro (pk_in (5 * R + G) 30 (by omega) e) (nm_r (e' := upd dL (5 * R + G) (nI S)) (by rw [e, bs_c (by omega)]) (nm_r (nI_1 G) (And.intro rfl (h rO _ (yp_Ai M z1 z2 (fun _ => rfl))))))
theorem yr_103z {post : Int32 → SY → Prop} {R G : Nat} (hR : R < 900) (hG : G < 900) (h : ∀ (rF rO : Int32) (dL : Nat → Int32), post 0 (cn, dr, wl, nI R, rF, rS, rI, rO, rE, po, en, di, ou, bC, bL, bF, dt, tx, dC, dL, dF)) : wY_readField_103 post 0 cn dr wl (nI R) (nI G) rS rI rO rE po en di ou bC bL bF dt tx dC dL dF := by
  refine pk_le 6 R (fun z => nm_e (And.intro rfl (h _ 1 dL))) (fun z1 => ?_)
  refine pk_le 5 G (fun z => nm_e (And.intro rfl (h _ 1 dL))) (fun z2 => ?_)
  have e := bs_5y R G
  exact br_c (fun _ => And.intro (pk_in (5 * R + G) 30 (by omega) e) (nm_e (nm_e (And.intro rfl (h _ _ _))))) (fun _ => And.intro (pk_in (5 * R + G) 30 (by omega) e) (nm_e (nm_e (And.intro rfl (h _ _ _)))))
end
section
variable {cn dr wl ou : Int32} {bC bL bF dt tx : Nat → Int32} {d : Int32} {n : Nat} {c0 : rd_C}
theorem yr_rq (D : wr_D d) (hn : n ≤ 98) (hI : rd_I 0 c0) {R G f0 p0 : Nat} {rg rI rE : Int32} {aF dF dL : Nat → Int32} {post : Int32 → SY → Prop}
    (h0 : ¬ (rd_fin ((rd_K 1 d tx c0) n)).1 = 0 → ∀ (rS rO po : Int32) (dC : Nat → Int32), post 0 (cn, dr, wl, nI R, nI G, rS, rI, rO, rE, po, nI n, d, ou, bC, bL, bF, dt, tx, dC, dL, dF))
    (h1 : ∀ (p S : Nat) (ho rO : Int32) (aL aC dC : Nat → Int32), p0 ≤ p → p ≤ n → (rd_K 1 d tx c0) p = (4, R, G + 1, S, f0, rg, ho, aF, aL, aC) → yr_M R G S ho aF aL aC rO dF dL dC → yr_N d tx (rd_K 1 d tx c0) n p (4, R, G + 1, S, f0, rg, ho, aF, aL, aC) → post 1 (cn, dr, wl, nI R, nI G, nI S, rI, rO, rE, nI p, nI n, d, ou, bC, bL, bF, dt, tx, dC, dL, dF)) :
    ∀ m p : Nat, n < m + p → p0 ≤ p → p ≤ n → ∀ (S : Nat) (ho rO : Int32) (aL aC dC : Nat → Int32), (rd_K 1 d tx c0) p = (3, R, G + 1, S, f0, rg, ho, aF, aL, aC) → yr_M R G S ho aF aL aC rO dF dL dC → wY_readQuoted_0 post m cn dr wl (nI R) (nI G) (nI S) rI rO rE (nI p) (nI n) d ou bC bL bF dt tx dC dL dF := by
  intro m
  induction m with
  | zero => intro p h1 h2 h3; omega
  | succ m ih =>
    intro p hm hp0 hp S ho rO aL aC dC e M
    have I := rd_IK (fi := 1) (d := d) (t := tx) hI p
    rw [e] at I
    obtain ⟨b1, b2, b3, b4⟩ := I.1
    refine pk_le n p (fun z => ?_) (fun z => ?_)
    · have ep : n = p := by omega
      refine h0 ?_ _ _ _ _
      rw [ep, e]
      exact yp_fin yr_f3
    · have e1 : (rd_K 1 d tx c0) (p + 1) = rd_16 1 d (tx p) (3, R, G + 1, S, f0, rg, ho, aF, aL, aC) := yp_s (by rw [e]; exact yp_pn yr_n30) yr_n37
      have H : ∀ z0 : Int32, (¬ z0 = 0 ↔ (p + 1 < n ∧ tx (p + 1) = 7)) → wY_readQuoted_55 post (wY_readQuoted_0 post m) (tx p) z0 cn dr wl (nI R) (nI G) (nI S) rI rO rE (nI p) (nI n) d ou bC bL bF dt tx dC dL dF := by
        intro z0 hz
        refine yr_55 D (by omega) (by omega) (by omega) M (fun hx hz0 rO' dC' M' => ?_) (fun hne => ?_)
        · obtain ⟨hp1, h77⟩ := hz.mp hz0
          have e2 : (rd_K 1 d tx c0) (p + 2) = rd_tk 1 7 (3, R, G + 1, S, f0, rg, ho, aF, aL, aC) := by
            by_cases d4 : d < 4
            · have hx7 : tx p = 7 := hx.trans (yr_e7 d4)
              rw [yp_37 hx7] at e1
              have e3 := yr_s e1 yr_n40 yr_n47
              exact e3.trans (yp_47a h77 d4)
            · have hx10 : tx p = 10 := hx.trans (yr_e10 d4)
              rw [yp_310b hx10 d4] at e1
              have e3 := yr_s e1 yr_n50 yr_n57
              exact e3.trans (yp_57 h77)
          exact ih (p + 2) (by omega) (by omega) (by omega) (S + 1) _ rO' _ _ dC' e2 M'
        · refine yr_99 (by omega) (by omega) (by omega) M (fun x7 => ?_) (fun x10 => ?_) (fun n7 n10 rO' dC' M' => ?_)
          · rw [yp_37 x7] at e1
            refine h1 (p + 1) S ho rO aL aC dC (by omega) (by omega) e1 M ?_
            intro hp2
            have e2 := yr_s e1 yr_n40 yr_n47
            by_cases y7 : tx (p + 1) = 7
            · have nd : ¬ d < 4 := fun d4 => hne ⟨x7.trans (yr_e7 d4).symm, hz.mpr ⟨hp2, y7⟩⟩
              exact Or.inr ⟨y7, by rw [e2]; exact yp_47b y7 nd⟩
            · exact Or.inl (e2.trans (yp_4o y7))
          · refine h0 ?_ _ _ _ _
            by_cases d4 : d < 4
            · rw [yp_310a x10 d4] at e1
              exact yp_lost (p := p + 1) (by rw [e1]) (by omega)
            · rw [yp_310b x10 d4] at e1
              by_cases hp2 : p + 1 < n
              · have e2 := yr_s e1 yr_n50 yr_n57
                have n7 : ¬ tx (p + 1) = 7 := fun y7 => hne ⟨x10.trans (yr_e10 d4).symm, hz.mpr ⟨hp2, y7⟩⟩
                exact yp_lost (p := p + 1 + 1) (by rw [e2]; exact yp_5o n7) (by omega)
              · have ep : n = p + 1 := by omega
                rw [ep, e1]
                exact yp_fin yr_f5
          · rw [yp_3o n7 n10] at e1
            exact ih (p + 1) (by omega) (by omega) (by omega) (S + 1) _ rO' _ _ dC' e1 M'
      refine And.intro (bs_in (by omega) (by omega)) (nm_r (e' := tx p) (by rw [bs_c (by omega)]) ?_)
      rw [nI_1 p]
      refine pk_le n (p + 1) (fun y => H 0 ⟨fun q => absurd rfl q, fun q => by omega⟩) (fun y => And.intro (bs_in (by omega) (by omega)) ?_)
      rw [bs_c (n := p + 1) (by omega)]
      by_cases y7 : tx (p + 1) = 7
      · exact br_t y7 (H 1 ⟨fun _ => ⟨y, y7⟩, fun _ => by decide⟩)
      · exact br_f y7 (H 0 ⟨fun q => absurd rfl q, fun q => absurd q.2 y7⟩)
theorem yr_pl (D : wr_D d) (hn : n ≤ 98) (hI : rd_I 0 c0) {R G f0 p0 : Nat} {rg rI rE : Int32} {aF dF dL : Nat → Int32} {post : Int32 → SY → Prop}
    (h : ∀ (p S : Nat) (q ho rO : Int32) (aL aC dC : Nat → Int32), p0 ≤ p → p ≤ n → (q = 1 ∨ q = 2) → rd_pre 1 ((rd_K 1 d tx c0) p) = (q, R, G + 1, S, f0, rg, ho, aF, aL, aC) → (¬ ((rd_K 1 d tx c0) p).1 = 0 ∨ p < n) → yr_M R G S ho aF aL aC rO dF dL dC → yr_N d tx (rd_K 1 d tx c0) n p (q, R, G + 1, S, f0, rg, ho, aF, aL, aC) → wY_readField_103 post 1 cn dr wl (nI R) (nI G) (nI S) rI rO rE (nI p) (nI n) d ou bC bL bF dt tx dC dL dF) :
    ∀ m p : Nat, n < m + p → p0 ≤ p → p ≤ n → ∀ (S : Nat) (q ho rO : Int32) (aL aC dC : Nat → Int32), (q = 1 ∨ q = 2) → (q = 1 → p < n → ¬ tx p = 7) → rd_pre 1 ((rd_K 1 d tx c0) p) = (q, R, G + 1, S, f0, rg, ho, aF, aL, aC) → (¬ ((rd_K 1 d tx c0) p).1 = 0 ∨ p < n) → yr_M R G S ho aF aL aC rO dF dL dC → wY_readField_50 post 1 m cn dr wl (nI R) (nI G) (nI S) rI rO rE (nI p) (nI n) d ou bC bL bF dt tx dC dL dF := by
  intro m
  induction m with
  | zero => intro p h1 h2 h3; omega
  | succ m ih =>
    intro p hm hp0 hp S q ho rO aL aC dC hq h7 e hZ M
    have I := (rd_Jp 1 (rd_IK (fi := 1) (d := d) (t := tx) hI p)).1
    rw [e] at I
    obtain ⟨b1, b2, b3, b4, b5, b6⟩ := I
    have q7 : ¬ q = 7 := by rcases hq with rfl | rfl <;> decide
    refine pk_le n p (fun z => h p S q ho rO aL aC dC hp0 hp hq e hZ M (fun y => by omega)) (fun z => And.intro (bs_in (by omega) (by omega)) ?_)
    rw [bs_c (n := p) (by omega)]
    refine wr_ip D _ ?_
    by_cases z7 : tx p = 5 + (d &&& 1) ∨ 7 ≤ tx p
    · rw [if_pos z7]
      refine br_t rfl (h p S q ho rO aL aC dC hp0 hp hq e hZ M (fun y => Or.inl ?_))
      exact (yp_s e q7).trans (yp_12a hq (fun q1 => h7 q1 z) z7)
    · rw [if_neg z7]
      refine br_f (by decide) (And.intro (bs_in (by omega) (by omega)) ?_)
      refine yr_tk (tx p) (by omega) (by omega) (by omega) M (fun rO' dC' M' => nm_r (nI_1 p) ?_)
      have e1 : (rd_K 1 d tx c0) (p + 1) = rd_tk 1 (tx p) (2, R, G + 1, S, f0, rg, ho, aF, aL, aC) := (yp_s e q7).trans (yp_12t hq z7)
      have k0 : ¬ ((rd_K 1 d tx c0) (p + 1)).1 = 0 := by rw [e1]; exact yr_n20
      exact ih (p + 1) (by omega) (by omega) (by omega) (S + 1) 2 _ rO' _ _ dC' (Or.inr rfl) (fun q1 => absurd q1 (by decide)) ((yp_pn k0).trans e1) (Or.inl k0) M'
theorem yr_rf (D : wr_D d) (hn : n ≤ 98) (hI : rd_I 0 c0) {p R G f0 : Nat} {rg rI rE ho rO rS : Int32} {aF aL aC dF dL dC : Nat → Int32} {post : Int32 → SY → Prop} (hp : p ≤ n) (e : rd_pre 1 ((rd_K 1 d tx c0) p) = (1, R, G + 1, 0, f0, rg, ho, aF, aL, aC)) (hZ : ¬ ((rd_K 1 d tx c0) p).1 = 0 ∨ p < n) (M : yr_M R G 0 ho aF aL aC rO dF dL dC)
    (h0 : ¬ (rd_fin ((rd_K 1 d tx c0) n)).1 = 0 → ∀ (rF rS rO po : Int32) (dC dL : Nat → Int32), post 0 (cn, dr, wl, nI R, rF, rS, rI, rO, rE, po, nI n, d, ou, bC, bL, bF, dt, tx, dC, dL, dF))
    (h1 : ∀ (p' S : Nat) (q ho rO : Int32) (aL aC dC dL : Nat → Int32), p ≤ p' → p' ≤ n → (q = 1 ∨ q = 2 ∨ q = 4) → rd_pre 1 ((rd_K 1 d tx c0) p') = (q, R, G + 1, S, f0, rg, ho, aF, aL, aC) → (¬ ((rd_K 1 d tx c0) p').1 = 0 ∨ p' < n) → yr_A R G ho aF aL aC rO dF dL dC → yr_N d tx (rd_K 1 d tx c0) n p' (q, R, G + 1, S, f0, rg, ho, aF, aL, aC) → post 1 (cn, dr, wl, nI R, nI (G + 1), nI S, rI, rO, rE, nI p', nI n, d, ou, bC, bL, bF, dt, tx, dC, dL, dF)) :
    wpY_readField post (cn, dr, wl, nI R, nI G, rS, rI, rO, rE, nI p, nI n, d, ou, bC, bL, bF, dt, tx, dC, dL, dF) := by
  have bnd : ∀ (p' S : Nat) (q ho : Int32) (aL aC : Nat → Int32), p' ≤ n → rd_pre 1 ((rd_K 1 d tx c0) p') = (q, R, G + 1, S, f0, rg, ho, aF, aL, aC) → R < 900 ∧ G < 900 ∧ S < 900 := by
    intro p' S q ho aL aC hp' e'
    have I := (rd_Jp 1 (rd_IK (fi := 1) (d := d) (t := tx) hI p')).1
    rw [e'] at I
    obtain ⟨b1, b2, b3, b4, b5, b6⟩ := I
    exact ⟨by omega, by omega, by omega⟩
  obtain ⟨bR, bG, _⟩ := bnd p 0 1 ho aL aC hp e
  have PL : (p < n → ¬ tx p = 7) → wY_readField_50 post 1 (n + 1) cn dr wl (nI R) (nI G) (nI 0) rI rO rE (nI p) (nI n) d ou bC bL bF dt tx dC dL dF := by
    intro h7
    refine yr_pl D hn hI (p0 := p) (fun p' S q ho rO aL aC dC g1 g2 g3 g4 g5 g6 g7 => ?_) (n + 1) p (by omega) (Nat.le_refl p) hp 0 1 ho rO aL aC dC (Or.inl rfl) (fun _ => h7) e hZ M
    obtain ⟨_, _, bS⟩ := bnd p' S q ho aL aC g2 g4
    exact yr_103 bR bG bS g6 (fun rO' dL' A => h1 p' S q ho rO' aL aC dC dL' g1 g2 (g3.imp id Or.inl) g4 g5 A g7)
  refine pk_le n p (fun z => ⟨n + 1, PL (fun y => by omega)⟩) (fun z => And.intro (bs_in (by omega) (by omega)) ?_)
  rw [bs_c (n := p) (by omega)]
  by_cases h7 : tx p = 7
  · refine br_t h7 (nm_r (nI_1 p) ⟨n + 1, ?_⟩)
    have e1 : (rd_K 1 d tx c0) (p + 1) = (3, R, G + 1, 0, f0, rg, ho, aF, aL, aC) := (yp_s e yr_n17).trans (yp_17 h7)
    refine yr_rq D hn hI (p0 := p) (fun na rS rO po dC => ?_) (fun p' S ho rO aL aC dC g1 g2 g3 g4 g5 => ?_) (n + 1) (p + 1) (by omega) (by omega) (by omega) 0 ho rO aL aC dC e1 M
    · exact yr_103z bR bG (fun rF rO dL => h0 na rF rS rO po dC dL)
    · have k0 : ¬ ((rd_K 1 d tx c0) p').1 = 0 := by rw [g3]; exact yr_n40
      obtain ⟨_, _, bS⟩ := bnd p' S 4 ho aL aC g2 ((yp_pn k0).trans g3)
      exact yr_103 bR bG bS g4 (fun rO' dL' A => h1 p' S 4 ho rO' aL aC dC dL' g1 g2 (Or.inr (Or.inr rfl)) ((yp_pn k0).trans g3) (Or.inl k0) A g5)
  · exact br_f h7 ⟨n + 1, PL (fun _ => h7)⟩
end
end
section
/-! the reference's records and the whole read -/
section
variable {cn dr wl ou : Int32} {bC bL bF dt tx : Nat → Int32} {d : Int32} {n : Nat} {c0 : rd_C}
theorem yr_155 (D : wr_D d) (hn : n ≤ 98) {p R G S f0 f' : Nat} {q rg rg' ho rO rS : Int32} {aF aL aC dF dL dC : Nat → Int32} {post : Int32 → SY → Prop} (hp : p ≤ n) (hR : R < 900) (hq : q = 1 ∨ q = 2 ∨ q = 4) (e : rd_pre 1 ((rd_K 1 d tx c0) p) = (q, R, G + 1, S, f0, rg, ho, aF, aL, aC)) (hZ : ¬ ((rd_K 1 d tx c0) p).1 = 0 ∨ p < n) (N : yr_N d tx (rd_K 1 d tx c0) n p (q, R, G + 1, S, f0, rg, ho, aF, aL, aC)) (hs : p < n → ¬ tx p = 5 + (d &&& 1)) (eer : ∀ q : Int32, rd_er (q, R, G + 1, S, f0, rg, ho, aF, aL, aC) = (0, R + 1, G + 1, S, f', rg', ho, aF, aL, aC)) (B : yr_B (R + 1) rg' ho aF aL aC rO dF dL dC)
    (h0 : ¬ (rd_fin ((rd_K 1 d tx c0) n)).1 = 0 → ∀ (rR rF rS rI rO rE po : Int32) (dC dL dF : Nat → Int32), post 0 (cn, dr, wl, rR, rF, rS, rI, rO, rE, po, nI n, d, ou, bC, bL, bF, dt, tx, dC, dL, dF))
    (h1 : ∀ (p' R F S f0 : Nat) (rg ho rF rS rO : Int32) (aF aL aC dC dL dF : Nat → Int32), (p < p' ∨ p' = n) → p' ≤ n → yr_E (rd_K 1 d tx c0) n p' (0, R, F, S, f0, rg, ho, aF, aL, aC) → yr_B R rg ho aF aL aC rO dF dL dC → post 1 (cn, dr, wl, nI R, rF, rS, nI f0, rO, rg, nI p', nI n, d, ou, bC, bL, bF, dt, tx, dC, dL, dF)) :
    wY_readRecord_155 post cn dr wl (nI R) (nI (G + 1)) rS (nI f') rO rg' (nI p) (nI n) d ou bC bL bF dt tx dC dL dF := by
  obtain ⟨s7, s8, s9⟩ := yp_sep D
  refine nm_r (nI_1 R) ?_
  refine pk_eq p n (fun z => ?_) (fun z => ?_)
  · refine h1 p (R + 1) (G + 1) S f' rg' ho _ _ rO aF aL aC dC dL dF (Or.inr z) hp (Or.inl ⟨z, ?_⟩) B
    have k0 : ¬ ((rd_K 1 d tx c0) p).1 = 0 := hZ.resolve_right (by omega)
    have ek : (rd_K 1 d tx c0) p = (q, R, G + 1, S, f0, rg, ho, aF, aL, aC) := (yp_pn k0).symm.trans e
    rw [← z, ek, ← eer q]
    exact yp_fine hq
  · have hpn : p < n := by omega
    have N1 := N hpn
    have hs1 := hs hpn
    have hlost : ¬ (tx p = 9 ∧ ¬ d &&& 2 = 0) → ¬ (tx p = 8 ∧ d &&& 2 = 0) → ¬ (rd_fin ((rd_K 1 d tx c0) n)).1 = 0 := by
      intro a9 a8
      refine yp_lost (p := p + 1) ?_ (by omega)
      rcases N1 with y | y
      · rw [y]; exact yp_afl hs1 a9 a8
      · exact y.2
    by_cases d2 : d &&& 2 = 0
    · refine br_t d2 (br_f (by decide) (And.intro (bs_in (by omega) (by omega)) ?_))
      rw [bs_c (n := p) (by omega)]
      by_cases x8 : tx p = 8
      · have e1 : (rd_K 1 d tx c0) (p + 1) = (6, R, G + 1, S, f0, rg, ho, aF, aL, aC) := (N1.resolve_right (fun y => absurd (x8.symm.trans y.1) (by decide))).trans (yp_af8 hs1 x8 d2)
        refine br_t x8 ?_
        rw [nI_1 p]
        refine pk_le n (p + 1) (fun y => ?_) (fun y => And.intro (bs_in (by omega) (by omega)) ?_)
        · refine br_f (by decide) (nm_e (And.intro rfl (h0 ?_ _ _ _ _ _ _ _ _ _ _)))
          rw [show n = p + 1 from by omega, e1]
          exact yp_fin yr_f6
        · rw [bs_c (n := p + 1) (by omega)]
          have e2 := yr_s e1 yr_n60 yr_n67
          by_cases x9 : tx (p + 1) = 9
          · refine br_t x9 (br_f (by decide) (nm_r (bs_2 p) (And.intro rfl ?_)))
            have e3 : (rd_K 1 d tx c0) (p + 2) = (0, R + 1, G + 1, S, f', rg', ho, aF, aL, aC) := (e2.trans (yp_69 x9)).trans (eer 6)
            exact h1 (p + 2) (R + 1) (G + 1) S f' rg' ho _ _ rO aF aL aC dC dL dF (Or.inl (by omega)) (by omega) (yr_Ek (by omega) e3 rfl) B
          · refine br_f x9 (br_f (by decide) (nm_e (And.intro rfl (h0 ?_ _ _ _ _ _ _ _ _ _ _))))
            exact yp_lost (p := p + 1 + 1) (by rw [e2]; exact yp_6o x9) (by omega)
      · refine br_f x8 (br_f (by decide) (nm_e (And.intro rfl (h0 ?_ _ _ _ _ _ _ _ _ _ _))))
        exact hlost (fun y => y.2 d2) (fun y => x8 y.1)
    · refine br_f d2 (br_t rfl (And.intro (bs_in (by omega) (by omega)) ?_))
      rw [bs_c (n := p) (by omega)]
      by_cases x9 : tx p = 9
      · have e1 : (rd_K 1 d tx c0) (p + 1) = (0, R + 1, G + 1, S, f', rg', ho, aF, aL, aC) := ((N1.resolve_right (fun y => absurd (x9.symm.trans y.1) (by decide))).trans (yp_af9 hs1 x9 d2)).trans (eer q)
        refine br_t x9 (br_t rfl (nm_r (nI_1 p) (And.intro rfl ?_)))
        exact h1 (p + 1) (R + 1) (G + 1) S f' rg' ho _ _ rO aF aL aC dC dL dF (Or.inl (by omega)) (by omega) (yr_Ek (by omega) e1 rfl) B
      · refine br_f x9 (br_t rfl (nm_e (And.intro rfl (h0 ?_ _ _ _ _ _ _ _ _ _ _))))
        exact hlost (fun y => x9 y.1) (fun y => d2 y.2)
theorem yr_re (D : wr_D d) (hn : n ≤ 98) (hI : rd_I 0 c0) {p R G S f0 m : Nat} {q rg ho rO rS : Int32} {aF aL aC dF dL dC : Nat → Int32} {post : Int32 → SY → Prop} (hp : p ≤ n) (hq : q = 1 ∨ q = 2 ∨ q = 4) (e : rd_pre 1 ((rd_K 1 d tx c0) p) = (q, R, G + 1, S, f0, rg, ho, aF, aL, aC)) (hZ : ¬ ((rd_K 1 d tx c0) p).1 = 0 ∨ p < n) (A : yr_A R G ho aF aL aC rO dF dL dC) (N : yr_N d tx (rd_K 1 d tx c0) n p (q, R, G + 1, S, f0, rg, ho, aF, aL, aC)) (hs : p < n → ¬ tx p = 5 + (d &&& 1)) (hg : rg = 0 ∨ rg = 1)
    (h0 : ¬ (rd_fin ((rd_K 1 d tx c0) n)).1 = 0 → ∀ (rR rF rS rI rO rE po : Int32) (dC dL dF : Nat → Int32), post 0 (cn, dr, wl, rR, rF, rS, rI, rO, rE, po, nI n, d, ou, bC, bL, bF, dt, tx, dC, dL, dF))
    (h1 : ∀ (p' R F S f0 : Nat) (rg ho rF rS rO : Int32) (aF aL aC dC dL dF : Nat → Int32), (p < p' ∨ p' = n) → p' ≤ n → yr_E (rd_K 1 d tx c0) n p' (0, R, F, S, f0, rg, ho, aF, aL, aC) → yr_B R rg ho aF aL aC rO dF dL dC → post 1 (cn, dr, wl, nI R, rF, rS, nI f0, rO, rg, nI p', nI n, d, ou, bC, bL, bF, dt, tx, dC, dL, dF)) :
    wY_readRecord_7 post (m + 1) 0 cn dr wl (nI R) (nI (G + 1)) rS (nI f0) rO rg (nI p) (nI n) d ou bC bL bF dt tx dC dL dF := by
  have I := (rd_Jp 1 (rd_IK (fi := 1) (d := d) (t := tx) hI p)).1
  rw [e] at I
  obtain ⟨b1, b2, b3, b4, b5, b6⟩ := I
  obtain ⟨f', hf⟩ : ∃ x : Nat, x = (if R = 0 then G + 1 else f0) := ⟨_, rfl⟩
  obtain ⟨rg', hrg⟩ : ∃ x : Int32, x = (if G + 1 = f' then rg else 0) := ⟨_, rfl⟩
  have hg' : rg' = 0 ∨ rg' = 1 := by
    rw [hrg]
    by_cases z : G + 1 = f'
    · rw [if_pos z]; exact hg
    · rw [if_neg z]; exact Or.inl rfl
  have eer : ∀ q : Int32, rd_er (q, R, G + 1, S, f0, rg, ho, aF, aL, aC) = (0, R + 1, G + 1, S, f', rg', ho, aF, aL, aC) := by
    intro q
    rw [hrg, hf]
    rfl
  have H155 := yr_155 (cn := cn) (dr := dr) (wl := wl) (ou := ou) (bC := bC) (bL := bL) (bF := bF) (dt := dt) (rS := rS) D hn hp (by omega) hq e hZ N hs eer (yp_AB A hg') h0 h1
  have H130 : ∀ rI : Int32, wY_readRecord_130 post (nI f') cn dr wl (nI R) (nI (G + 1)) rS rI rO rg' (nI p) (nI n) d ou bC bL bF dt tx dC dL dF := by
    intro rI
    refine pk_le 6 R (fun z => ?_) (fun z => And.intro (bs_in (by omega) (by omega)) (nm_r (e' := upd dF R (nI (G + 1))) (by rw [bs_c (by omega)]) ?_))
    · rw [if_pos z] at H155; exact H155
    · rw [if_neg (by omega)] at H155; exact H155
  have H108 : wY_readRecord_108 post rg' cn dr wl (nI R) (nI (G + 1)) rS (nI f0) rO rg (nI p) (nI n) d ou bC bL bF dt tx dC dL dF := by
    refine And.intro (by rcases hg' with z | z <;> rw [z] <;> rfl) (And.intro (by rcases hg' with z | z <;> rw [z] <;> rfl) ?_)
    refine pk_eq R 0 (fun z => ?_) (fun z => ?_)
    · rw [if_pos z] at hf
      rw [hf] at H130
      exact H130 _
    · rw [if_neg z] at hf
      rw [hf] at H130
      exact H130 _
  refine br_t rfl ?_
  rcases hg with rfl | rfl
  · rw [ite_self] at hrg
    rw [hrg] at H108
    exact br_t rfl H108
  · refine br_f (by decide) ?_
    refine pk_eq R 0 (fun z => ?_) (fun z => ?_)
    · rw [if_pos z] at hf
      rw [if_pos hf.symm] at hrg
      rw [hrg] at H108
      exact H108
    · rw [if_neg z] at hf
      refine pk_eq (G + 1) f0 (fun y => ?_) (fun y => ?_)
      · rw [hf, if_pos y] at hrg
        rw [hrg] at H108
        exact H108
      · rw [hf, if_neg y] at hrg
        rw [hrg] at H108
        exact H108
theorem yr_rr (D : wr_D d) (hn : n ≤ 98) (hI : rd_I 0 c0) {R f0 p0 : Nat} {rg : Int32} {dF : Nat → Int32} {post : Int32 → SY → Prop} (hg : rg = 0 ∨ rg = 1) (hpn : p0 < n)
    (h0 : ¬ (rd_fin ((rd_K 1 d tx c0) n)).1 = 0 → ∀ (rR rF rS rI rO rE po : Int32) (dC dL dF : Nat → Int32), post 0 (cn, dr, wl, rR, rF, rS, rI, rO, rE, po, nI n, d, ou, bC, bL, bF, dt, tx, dC, dL, dF))
    (h1 : ∀ (p' R F S f0 : Nat) (rg ho rF rS rO : Int32) (aF aL aC dC dL dF : Nat → Int32), p0 < p' → p' ≤ n → yr_E (rd_K 1 d tx c0) n p' (0, R, F, S, f0, rg, ho, aF, aL, aC) → yr_B R rg ho aF aL aC rO dF dL dC → post 1 (cn, dr, wl, nI R, rF, rS, nI f0, rO, rg, nI p', nI n, d, ou, bC, bL, bF, dt, tx, dC, dL, dF)) :
    ∀ m p : Nat, n + 1 < m + p → p0 ≤ p → p ≤ n → ∀ (G : Nat) (ho rO rS : Int32) (aF aL aC dC dL : Nat → Int32), rd_pre 1 ((rd_K 1 d tx c0) p) = (1, R, G + 1, 0, f0, rg, ho, aF, aL, aC) → (¬ ((rd_K 1 d tx c0) p).1 = 0 ∨ p < n) → yr_M R G 0 ho aF aL aC rO dF dL dC → wY_readRecord_7 post m 1 cn dr wl (nI R) (nI G) rS (nI f0) rO rg (nI p) (nI n) d ou bC bL bF dt tx dC dL dF := by
  obtain ⟨s7, s8, s9⟩ := yp_sep D
  intro m
  induction m with
  | zero => intro p h1 h2 h3; omega
  | succ m ih =>
    intro p hm hp0 hp G ho rO rS aF aL aC dC dL e hZ M
    refine br_f (by decide) ?_
    refine yr_rf D hn hI hp e hZ M (fun na rF rS rO po dC dL => br_t rfl (h0 na _ _ _ _ _ _ _ _ _ _)) (fun p' S q ho rO aL aC dC dL g1 g2 g3 g4 g5 A N => ?_)
    refine br_f (by decide) ?_
    have RE : (p' < n → ¬ tx p' = 5 + (d &&& 1)) → wY_readRecord_7 post m 0 cn dr wl (nI R) (nI (G + 1)) (nI S) (nI f0) rO rg (nI p') (nI n) d ou bC bL bF dt tx dC dL dF := by
      intro hs
      obtain ⟨m', rfl⟩ : ∃ m', m = m' + 1 := ⟨m - 1, by omega⟩
      refine yr_re D hn hI g2 g3 g4 g5 A N hs hg h0 (fun p'' R F S f0 rg ho rF rS rO aF aL aC dC dL dF k1 k2 k3 k4 => ?_)
      exact h1 p'' R F S f0 rg ho rF rS rO aF aL aC dC dL dF (by omega) k2 k3 k4
    refine pk_le n p' (fun z => ?_) (fun z => And.intro (bs_in (by omega) (by omega)) ?_)
    · exact br_t rfl (RE (fun y => by omega))
    · refine wr_ys D ?_
      rw [bs_c (n := p') (by omega)]
      by_cases x : tx p' = 5 + (d &&& 1)
      · refine br_t x (br_f (by decide) (nm_r (nI_1 p') ?_))
        have e1 : (rd_K 1 d tx c0) (p' + 1) = rd_q 1 (rd_sf 1 (q, R, G + 1, S, f0, rg, ho, aF, aL, aC)) := ((N z).resolve_right (fun y => s7 (x.symm.trans y.1))).trans (yp_afs x)
        have k0 : ¬ ((rd_K 1 d tx c0) (p' + 1)).1 = 0 := by rw [e1]; exact yr_n10
        exact ih (p' + 1) (by omega) (by omega) (by omega) (G + 1) _ rO (nI S) _ _ aC dC dL ((yp_pn k0).trans e1) (Or.inl k0) (yp_AM A)
      · exact br_f x (br_t rfl (RE (fun _ => x)))
theorem yr_rec (D : wr_D d) (hn : n ≤ 98) (hI : rd_I 0 c0) {R F S f0 p : Nat} {rg ho rF rS rO : Int32} {aF aL aC dF dL dC : Nat → Int32} {post : Int32 → SY → Prop} (hp : p < n) (e : (rd_K 1 d tx c0) p = (0, R, F, S, f0, rg, ho, aF, aL, aC)) (B : yr_B R rg ho aF aL aC rO dF dL dC)
    (h0 : ¬ (rd_fin ((rd_K 1 d tx c0) n)).1 = 0 → ∀ (rR rF rS rI rO rE po : Int32) (dC dL dF : Nat → Int32), post 0 (cn, dr, wl, rR, rF, rS, rI, rO, rE, po, nI n, d, ou, bC, bL, bF, dt, tx, dC, dL, dF))
    (h1 : ∀ (p' R F S f0 : Nat) (rg ho rF rS rO : Int32) (aF aL aC dC dL dF : Nat → Int32), p < p' → p' ≤ n → yr_E (rd_K 1 d tx c0) n p' (0, R, F, S, f0, rg, ho, aF, aL, aC) → yr_B R rg ho aF aL aC rO dF dL dC → post 1 (cn, dr, wl, nI R, rF, rS, nI f0, rO, rg, nI p', nI n, d, ou, bC, bL, bF, dt, tx, dC, dL, dF)) :
    wpY_readRecord post (cn, dr, wl, nI R, rF, rS, nI f0, rO, rg, nI p, nI n, d, ou, bC, bL, bF, dt, tx, dC, dL, dF) := by
  have ep : rd_pre 1 ((rd_K 1 d tx c0) p) = rd_q 1 (rd_sr 1 (0, R, F, S, f0, rg, ho, aF, aL, aC)) := by
    rw [e]; exact if_pos rfl
  exact ⟨n + 2, yr_rr D hn hI B.2.1 hp h0 h1 (n + 2) p (by omega) (Nat.le_refl p) (by omega) 0 _ rO rS _ _ aC dC dL ep (Or.inr hp) (yp_BM B)⟩
theorem yr_lp (D : wr_D d) (hn : n ≤ 98) (hI : rd_I 0 c0) {post : Int32 → SY → Prop}
    (h0 : ¬ (rd_fin ((rd_K 1 d tx c0) n)).1 = 0 → ∀ (rR rF rS rI rO rE po : Int32) (dC dL dF : Nat → Int32), post 0 (cn, dr, wl, rR, rF, rS, rI, rO, rE, po, nI n, d, ou, bC, bL, bF, dt, tx, dC, dL, dF))
    (h1 : ∀ (R F S f0 : Nat) (rg ho rF rS rO po : Int32) (aF aL aC dC dL dF : Nat → Int32), rd_fin ((rd_K 1 d tx c0) n) = (0, R, F, S, f0, rg, ho, aF, aL, aC) → yr_B R rg ho aF aL aC rO dF dL dC → post 1 (cn, dr, wl, nI R, rF, rS, nI f0, rO, rg, po, nI n, d, ou, bC, bL, bF, dt, tx, dC, dL, dF)) :
    ∀ m p : Nat, n < m + p → p ≤ n → ∀ (R F S f0 : Nat) (rg ho rF rS rO : Int32) (aF aL aC dC dL dF : Nat → Int32), yr_E (rd_K 1 d tx c0) n p (0, R, F, S, f0, rg, ho, aF, aL, aC) → yr_B R rg ho aF aL aC rO dF dL dC → wY_reads_35 post m cn dr wl (nI R) rF rS (nI f0) rO rg (nI p) (nI n) d ou bC bL bF dt tx dC dL dF := by
  intro m
  induction m with
  | zero => intro p h1 h2; omega
  | succ m ih =>
    intro p hm hp R F S f0 rg ho rF rS rO aF aL aC dC dL dF E B
    refine pk_le n p (fun z => ?_) (fun z => ?_)
    · rcases E with ⟨_, E⟩ | ⟨E, _⟩
      · exact h1 R F S f0 rg ho rF rS rO _ aF aL aC dC dL dF E B
      · omega
    · rcases E with ⟨E, _⟩ | ⟨_, E⟩
      · omega
      · refine yr_rec D hn hI z E B (fun na rR rF rS rI rO rE po dC dL dF => br_t rfl (h0 na _ _ _ _ _ _ _ _ _ _)) (fun p' R F S f0 rg ho rF rS rO aF aL aC dC dL dF k1 k2 k3 k4 => br_f (by decide) ?_)
        exact ih p' (by omega) k2 R F S f0 rg ho rF rS rO aF aL aC dC dL dF k3 k4
theorem yr_reads (D : wr_D d) (hn : n ≤ 98) (uF uL uC : Nat → Int32) {rR rF rS rI rO rE po en di : Int32} {dC dL dF : Nat → Int32} {post : Int32 → SY → Prop}
    (h0 : ¬ (rd_fin (rd_K 1 d tx (rd_0 uF uL uC) n)).1 = 0 → ∀ (rR rF rS rI rO rE po : Int32) (dC dL dF : Nat → Int32), post 0 (cn, dr, wl, rR, rF, rS, rI, rO, rE, po, nI n, d, ou, bC, bL, bF, dt, tx, dC, dL, dF))
    (h1 : ∀ (R F S f0 : Nat) (rg ho rF rS rO po : Int32) (aF aL aC dC dL dF : Nat → Int32), rd_fin (rd_K 1 d tx (rd_0 uF uL uC) n) = (0, R, F, S, f0, rg, ho, aF, aL, aC) → yr_B R rg ho aF aL aC rO dF dL dC → post 1 (cn, dr, wl, nI R, rF, rS, nI f0, rO, rg, po, nI n, d, ou, bC, bL, bF, dt, tx, dC, dL, dF)) :
    wpY_reads post (cn, dr, wl, rR, rF, rS, rI, rO, rE, po, en, di, ou, bC, bL, bF, dt, tx, dC, dL, dF) d (nI n) :=
  ⟨n + 1, yr_lp D hn rd_I0 h0 h1 (n + 1) 0 (by omega) (by omega) 0 0 0 0 1 1 rF rS 0 uF uL uC dC dL dF (yr_Ek (by omega) rfl rfl) ⟨⟨fun z => absurd z (by decide), fun z => absurd rfl z⟩, Or.inr rfl, fun _ => ⟨by omega, rl_TB0⟩⟩⟩
end
end
section
/-! the component's first pass in the terms of the second; read -/
theorem ow_c1 {d : Int32} {tx aF aL aC : Nat → Int32} (i : Nat) : (rd_K 0 d tx (rd_0 aF aL aC) i).1 = (rd_K 1 d tx (rd_0 aF aL aC) i).1 := by
  have h := congrArg (fun c : rd_C => c.1) (rd_ct2 0 1 d tx i aF aL aC aF aL aC)
  exact h
theorem ow_ct {d : Int32} {tx aF aL aC : Nat → Int32} {w : Nat} {st rg ho st1 rg1 ho1 : Int32} {R F S f0 R1 F1 S1 f1 : Nat} {aF0 aL0 aC0 aF1 aL1 aC1 : Nat → Int32} (e0 : rd_fin (rd_K 0 d tx (rd_0 aF aL aC) w) = (st, R, F, S, f0, rg, ho, aF0, aL0, aC0)) (e1 : rd_fin (rd_K 1 d tx (rd_0 aF aL aC) w) = (st1, R1, F1, S1, f1, rg1, ho1, aF1, aL1, aC1)) : st = st1 ∧ R = R1 ∧ F = F1 ∧ S = S1 ∧ f0 = f1 ∧ rg = rg1 ∧ ho = ho1 ∧ aF0 = aF ∧ aL0 = aL ∧ aC0 = aC := by
  have ct := rd_ctf2 0 1 d tx w aF aL aC aF aL aC
  rw [e0, e1] at ct
  have ct' : (st, R, F, S, f0, rg, ho, (fun _ => 0 : Nat → Int32), (fun _ => 0 : Nat → Int32), (fun _ => 0 : Nat → Int32)) = (st1, R1, F1, S1, f1, rg1, ho1, (fun _ => 0 : Nat → Int32), (fun _ => 0 : Nat → Int32), (fun _ => 0 : Nat → Int32)) := ct
  simp only [Prod.mk.injEq] at ct'
  obtain ⟨a1, a2, a3, a4, a5, a6, a7, _⟩ := ct'
  have ar := rd_arn (rd_arK (aF := aF) (aL := aL) (aC := aC) (d := d) (t := tx) w)
  rw [e0] at ar
  have ar' : (aF0, aL0, aC0) = (aF, aL, aC) := ar
  simp only [Prod.mk.injEq] at ar'
  obtain ⟨b1, b2, b3⟩ := ar'
  exact ⟨a1, a2, a3, a4, a5, a6, a7, b1, b2, b3⟩
section
variable {cn dr pu ke : Int32} {aF aL aC dt tx : Nat → Int32}
theorem ow_xr {d : Int32} {w : Nat} (hw : w ≤ 96) {st gR gF gS ff rg ho fi so : Int32} {post : Int32 → SX → Prop} (h : ∀ s : Nat, s ≤ w → ¬ (rd_K 1 d tx (rd_0 aF aL aC) s).1 = 7 → (∀ j : Nat, s < j → j ≤ w → (rd_K 1 d tx (rd_0 aF aL aC) j).1 = 7) → ∀ (st : Int32) (R F S f0 : Nat) (rg ho : Int32) (aF' aL' aC' : Nat → Int32), rd_fin (rd_K 1 d tx (rd_0 aF aL aC) w) = (st, R, F, S, f0, rg, ho, aF', aL', aC') → post (if st = 0 then 1 else 0) (cn, dr, nI w, pu, ke, st, nI R, nI F, nI S, nI f0, rg, ho, 0, nI s, aF, aL, aC, dt, tx)) : wpX_readAll post (cn, dr, nI w, pu, ke, st, gR, gF, gS, ff, rg, ho, fi, so, aF, aL, aC, dt, tx) d 0 := by
  refine xr_ra hw (Or.inl rfl) (fun s hs k7 kj st R F S f0 rg ho aF0 aL0 aC0 e0 => ?_)
  rcases e1 : rd_fin (rd_K 1 d tx (rd_0 aF aL aC) w) with ⟨st1, R1, F1, S1, f1, rg1, ho1, aF1, aL1, aC1⟩
  obtain ⟨a1, a2, a3, a4, a5, a6, a7, b1, b2, b3⟩ := ow_ct e0 e1
  rw [a1, a2, a3, a4, a5, a6, a7, b1, b2, b3]
  refine h s hs (by rw [← ow_c1]; exact k7) (fun j j1 j2 => by rw [← ow_c1]; exact kj j j1 j2) st1 R1 F1 S1 f1 rg1 ho1 aF1 aL1 aC1 e1
end
/-! the reference's copies -/
def ow_cp (a b : Nat → Int32) (i : Nat) : Nat → Int32 := fun j => if j < i then b j else a j
theorem ow_cp0 {a b : Nat → Int32} : ow_cp a b 0 = a := by
  funext j
  unfold ow_cp
  rw [if_neg (by omega)]
theorem ow_cps {a b : Nat → Int32} {i : Nat} : upd (ow_cp a b i) i (b i) = ow_cp a b (i + 1) := by
  funext j
  unfold ow_cp upd
  by_cases z : j = i
  · rw [if_pos z, if_pos (by omega), z]
  · rw [if_neg z]
    dsimp only
    by_cases y : j < i
    · rw [if_pos y, if_pos (by omega)]
    · rw [if_neg y, if_neg (by omega)]
theorem ow_cpl {a b : Nat → Int32} {i j : Nat} (h : j < i) : ow_cp a b i j = b j := if_pos h
section
variable {cn dr wl rR rF rS rI rO rE po en di ou : Int32} {bC bL bF dt tx dC dL dF : Nat → Int32}
theorem ow_108 {post : Int32 → SY → Prop} (h : post cn (cn, dr, wl, rR, rF, rS, rI, rO, rE, po, en, di, ou, ow_cp bC dC 180, bL, bF, dt, tx, dC, dL, dF)) : ∀ m i : Nat, i ≤ 180 → 180 < m + i → wY_read_108 post cn dr wl rR rF rS rI rO rE po en di ou m (nI i) (ow_cp bC dC i) bL bF dt tx dC dL dF := by
  intro m
  induction m with
  | zero => intro i h1 h2; omega
  | succ m ih =>
    intro i h1 h2
    refine pk_le 180 i (fun z => ?_) (fun z => ?_)
    · have e : i = 180 := by omega
      subst e
      exact h
    · have v : vp_in (nI i) 180 := bs_in z (by omega)
      exact And.intro v (And.intro v (nm_r (e' := ow_cp bC dC (i + 1)) (by rw [bs_c (by omega), ow_cps]) (nm_r (nI_1 i) (ih (i + 1) (by omega) (by omega)))))
theorem ow_82 {post : Int32 → SY → Prop} (h : post cn (cn, dr, wl, rR, rF, rS, rI, rO, rE, po, en, di, ou, ow_cp bC dC 180, ow_cp bL dL 30, bF, dt, tx, dC, dL, dF)) : ∀ m i : Nat, i ≤ 30 → 30 < m + i → wY_read_82 post cn dr wl rR rF rS rI rO rE po en di ou m (nI i) bC (ow_cp bL dL i) bF dt tx dC dL dF := by
  intro m
  induction m with
  | zero => intro i h1 h2; omega
  | succ m ih =>
    intro i h1 h2
    refine pk_le 30 i (fun z => ?_) (fun z => ?_)
    · have e : i = 30 := by omega
      subst e
      have := ow_108 h 181 0 (by omega) (by omega)
      rw [ow_cp0] at this
      exact ⟨181, this⟩
    · have v : vp_in (nI i) 30 := bs_in z (by omega)
      exact And.intro v (And.intro v (nm_r (e' := ow_cp bL dL (i + 1)) (by rw [bs_c (by omega), ow_cps]) (nm_r (nI_1 i) (ih (i + 1) (by omega) (by omega)))))
theorem ow_54 {post : Int32 → SY → Prop} {R : Nat} (hR : R ≤ 6) (h : post (nI R) (nI R, dr, wl, rR, rF, rS, rI, rO, rE, po, en, di, ou, ow_cp bC dC 180, ow_cp bL dL 30, ow_cp bF dF R, dt, tx, dC, dL, dF)) : ∀ m i : Nat, i ≤ R → R < m + i → wY_read_54 post (nI R) dr wl rR rF rS rI rO rE po en di ou m (nI i) bC bL (ow_cp bF dF i) dt tx dC dL dF := by
  intro m
  induction m with
  | zero => intro i h1 h2; omega
  | succ m ih =>
    intro i h1 h2
    refine pk_le R i (fun z => ?_) (fun z => ?_)
    · have e : i = R := by omega
      subst e
      have := ow_82 h 31 0 (by omega) (by omega)
      rw [ow_cp0] at this
      exact ⟨31, this⟩
    · have v : vp_in (nI i) 6 := bs_in (by omega) (by omega)
      exact And.intro v (And.intro v (nm_r (e' := ow_cp bF dF (i + 1)) (by rw [bs_c (by omega), ow_cps]) (nm_r (nI_1 i) (ih (i + 1) (by omega) (by omega)))))
end
theorem i_vc_read {k : Nat} {u : SX} {v : SY} (I : i_Rel k u v) (hk : k + 4 ≤ 2048) (v1 : Int32) : wpX_read (fun r u' => wpY_read (fun r' v' => r' = r ∧ i_Rel (k + 4) u' v') v v1) u v1 := by
  refine rl_el (P := fun u v => wpX_read (fun r u' => wpY_read (fun r' v' => r' = r ∧ i_Rel (k + 4) u' v') v v1) u v1) I ?_
  intro c d w pu ke st gR gF gS ff rg ho fi so aF aL aC dt tx rR rF rS rI rO rE po en di ou bC bL bF dC dL dF hc hd hw T
  dsimp only [wpX_read, wpY_read]
  rcases wr_bd v1 with ⟨hx, hy⟩ | ⟨hx, hy, j, hj, rfl⟩
  · exact hx _ (br_f (by decide) (hy _ (br_t rfl ⟨rfl, rl_mk hc hd hw T⟩)))
  · have D := wr_D8 j hj
    refine hx _ (br_t rfl ?_)
    refine ow_xr hw (fun s hs k7 kj st R F S f0 rg ho aF' aL' aC' e => ?_)
    by_cases s0 : st = 0
    · rw [if_pos s0]
      refine br_f (by decide) ?_
      by_cases h0 : ho = 0
      · refine br_t h0 ?_
        refine hy _ (br_f (by decide) ?_)
        refine yr_reads D (by omega) aF aL aC (fun na rR rF rS rI rO rE po dC dL dF => ?_) (fun R F S f0 rg ho rF rS rO po aF' aL' aC' dC dL dF e2 B => ?_)
        · exact absurd (by rw [e]; exact s0) na
        · rw [e] at e2
          simp only [Prod.mk.injEq] at e2
          refine br_f (by decide) (br_f ?_ ⟨rfl, rl_mk hc hd hw T⟩)
          exact B.1.mp (e2.2.2.2.2.2.2.1.symm.trans h0)
      · refine br_f h0 ?_
        refine xr_ra hw (Or.inr rfl) (fun s' hs' k7' kj' st1 R1 F1 S1 f1 rg1 ho1 aF1 aL1 aC1 e1 => ?_)
        have e1' := e1
        rw [e] at e1'
        simp only [Prod.mk.injEq] at e1'
        obtain ⟨a1, a2, a3, a4, a5, a6, a7, b1, b2, b3⟩ := e1'
        subst a1 a2 a3 a4 a5 a6 a7 b1 b2 b3
        refine hy _ (br_f (by decide) ?_)
        refine yr_reads D (by omega) aF aL aC (fun na rR rF rS rI rO rE po dC dL dF => ?_) (fun R2 F2 S2 f2 rg2 ho2 rF rS rO po aF2 aL2 aC2 dC dL dF e2 B => ?_)
        · exact absurd (by rw [e]; exact s0) na
        · rw [e] at e2
          simp only [Prod.mk.injEq] at e2
          obtain ⟨a1, a2, a3, a4, a5, a6, a7, b1, b2, b3⟩ := e2
          subst a2 a3 a4 a5 a6 a7 b1 b2 b3
          obtain ⟨hR6, TB⟩ := B.2.2 h0
          have hO : rO = 0 := Decidable.byContradiction (fun y => h0 (B.1.mpr y))
          refine br_f (by decide) (br_t hO (br_t (nI_le (b := 6) hR6 (by omega)) ?_))
          have L := ow_54 (post := fun r' v' => r' = nI R ∧ i_Rel (k + 4) (nI R, nI d, nI w, pu, ke, st, nI R, nI F, nI S, nI f0, rg, ho, 1, nI s', aF', aL', aC', dt, tx) v') (dr := nI d) (wl := nI w) (rR := nI R) (rF := rF) (rS := rS) (rI := nI f0) (rO := rO) (rE := rg) (po := po) (en := nI w) (di := nI j) (ou := ou) (bC := bC) (bL := bL) (bF := bF) (dt := dt) (tx := tx) (dC := dC) (dL := dL) (dF := dF) hR6 ⟨rfl, rl_mk hR6 hd hw (yp_TB (j := 30) (by omega) yp_id (fun m hm => ow_cpl hm) yp_id yp_id (fun m hm => ow_cpl hm) (fun m hm => ow_cpl (by omega)) TB)⟩ (R + 1) 0 (by omega) (by omega)
          rw [ow_cp0] at L
          exact ⟨R + 1, L⟩
    · rw [if_neg s0]
      refine br_t rfl ?_
      refine hy _ (br_f (by decide) ?_)
      refine yr_reads D (by omega) aF aL aC (fun na rR rF rS rI rO rE po dC dL dF => ?_) (fun R F S f0 rg ho rF rS rO po aF' aL' aC' dC dL dF e2 B => ?_)
      · exact br_t rfl ⟨rfl, rl_mk hc hd hw T⟩
      · rw [e] at e2
        simp only [Prod.mk.injEq] at e2
        exact absurd e2.1 s0
end
section
/-! sound: a beginning is what hasn't lost its way -/
theorem ow_fin {c : rd_C} (h : c.1 = 0 ∨ c.1 = 1 ∨ c.1 = 2 ∨ c.1 = 4) : (rd_fin c).1 = 0 := by
  rcases h with h | h
  · rw [yp_fin0 h]; exact h
  · rw [yp_fine h]; rfl
theorem ow_a7 {fi d : Int32} {t t' : Nat → Int32} {c : rd_C} {k m : Nat} (ht : ∀ j : Nat, j < k → t' j = t j) (h : (rd_K fi d t c k).1 = 7) (hm : k ≤ m) : ¬ (rd_fin (rd_K fi d t' c m)).1 = 0 :=
  yp_lost (p := k) (by rw [rd_Kt k ht]; exact h) hm
theorem ow_beg {d : Int32} {t t9 t7 : Nat → Int32} {c : rd_C} {k : Nat} (hI : rd_I 0 c) (h9 : ∀ j : Nat, j < k → t9 j = t j) (h7 : ∀ j : Nat, j < k → t7 j = t j) (e9 : t9 k = 9) (e7 : t7 k = 7) (e77 : t7 (k + 1) = 7) (h : ¬ (rd_K 1 d t c k).1 = 7) (hn : ¬ (rd_fin (rd_K 1 d t c k)).1 = 0) : (rd_fin (rd_K 1 d t9 c (k + 1))).1 = 0 ∨ (rd_fin (rd_K 1 d t7 c (k + 1))).1 = 0 ∨ (rd_fin (rd_K 1 d t7 c (k + 2))).1 = 0 := by
  have Q := (rd_IK (fi := 1) (d := d) (t := t) hI k).2.2
  have K9 := rd_Kt (fi := 1) (d := d) (c := c) k h9
  have K7 := rd_Kt (fi := 1) (d := d) (c := c) k h7
  rcases e : rd_K 1 d t c k with ⟨q, R, F, S, f0, rg, ho, aF, aL, aC⟩
  rw [e] at Q K9 K7 h hn
  rcases Q with z | z | z | z | z | z | z | z
  · exact absurd (ow_fin (Or.inl z)) hn
  · exact absurd (ow_fin (Or.inr (Or.inl z))) hn
  · exact absurd (ow_fin (Or.inr (Or.inr (Or.inl z)))) hn
  · have z' : q = 3 := z
    subst z'
    have e1 := yr_s K7 yr_n30 yr_n37
    rw [yp_37 e7] at e1
    exact Or.inr (Or.inl (by rw [e1]; exact ow_fin (Or.inr (Or.inr (Or.inr rfl)))))
  · exact absurd (ow_fin (Or.inr (Or.inr (Or.inr z)))) hn
  · have z' : q = 5 := z
    subst z'
    have e1 := yr_s K7 yr_n50 yr_n57
    rw [yp_57 e7] at e1
    have e2 := yr_s e1 yr_n30 yr_n37
    have e3 : rd_K 1 d t7 c (k + 2) = (4, (rd_tk 1 7 (3, R, F, S, f0, rg, ho, aF, aL, aC)).2) := e2.trans (yp_37 e77)
    exact Or.inr (Or.inr (by rw [e3]; exact ow_fin (Or.inr (Or.inr (Or.inr rfl)))))
  · have z' : q = 6 := z
    subst z'
    have e1 := yr_s K9 yr_n60 yr_n67
    rw [yp_69 e9] at e1
    exact Or.inl (by rw [e1]; exact ow_fin (Or.inl rfl))
  · exact absurd z h
section
variable {cn dr wl ou : Int32} {bC bL bF dt : Nat → Int32}
theorem ow_rb {d : Int32} (D : wr_D d) {n : Nat} (hn : n ≤ 98) {uF uL uC tx : Nat → Int32} {rR rF rS rI rO rE po en di : Int32} {dC dL dF : Nat → Int32} {post : Int32 → SY → Prop} (h : ∀ r : Int32, (r = 0 ∧ ¬ (rd_fin (rd_K 1 d tx (rd_0 uF uL uC) n)).1 = 0) ∨ (r = 1 ∧ (rd_fin (rd_K 1 d tx (rd_0 uF uL uC) n)).1 = 0) → ∀ (rR rF rS rI rO rE po en di : Int32) (dC dL dF : Nat → Int32), post r (cn, dr, wl, rR, rF, rS, rI, rO, rE, po, en, di, ou, bC, bL, bF, dt, tx, dC, dL, dF)) : wpY_reads post (cn, dr, wl, rR, rF, rS, rI, rO, rE, po, en, di, ou, bC, bL, bF, dt, tx, dC, dL, dF) d (nI n) :=
  yr_reads D hn uF uL uC (fun na _ _ _ _ _ _ _ _ _ _ => h 0 (Or.inl ⟨rfl, na⟩) _ _ _ _ _ _ _ _ _ _ _ _) (fun R F S f0 rg ho rF rS rO po aF aL aC dC dL dF e B => h 1 (Or.inr ⟨rfl, by rw [e]⟩) _ _ _ _ _ _ _ _ _ _ _ _)
theorem ow_91 {k : Nat} (hk : k ≤ 96) {x5 z0 R' : Int32} {tx t2 : Nat → Int32} (ht : upd (upd t2 k (tx k)) (k + 1) (tx (k + 1)) = tx) {rR rF rS rI rO rE po en di : Int32} {dC dL dF : Nat → Int32} {post : Int32 → SY → Prop} (ha : x5 = 0 → z0 = 0 → R' = 0) (hb : ¬ (x5 = 0 ∧ z0 = 0) → R' = 1) (h : post R' (cn, dr, wl, rR, rF, rS, rI, rO, rE, po, en, di, ou, bC, bL, bF, dt, tx, dC, dL, dF)) : wY_isBeginning_91 post (nI k) (tx k) (tx (k + 1)) x5 z0 cn dr wl rR rF rS rI rO rE po en di ou bC bL bF dt t2 dC dL dF := by
  refine And.intro (bs_in (by omega) (by omega)) (nm_r (e' := upd t2 k (tx k)) (by rw [bs_c (by omega)]) ?_)
  rw [nI_1 k]
  refine And.intro (bs_in (by omega) (by omega)) (nm_r (e' := tx) (by rw [bs_c (by omega), ht]) ?_)
  by_cases a : x5 = 0
  · refine br_t a ?_
    by_cases b : z0 = 0
    · rw [ha a b] at h; exact br_t b h
    · rw [hb (fun y => b y.2)] at h; exact br_f b h
  · rw [hb (fun y => a y.1)] at h; exact br_f a h
theorem ow_ib {d : Int32} (D : wr_D d) {k : Nat} (hk : k ≤ 96) {uF uL uC tx : Nat → Int32} {rR rF rS rI rO rE po en di : Int32} {dC dL dF : Nat → Int32} {post : Int32 → SY → Prop} (h : ∀ (rR rF rS rI rO rE po en di : Int32) (dC dL dF : Nat → Int32), post (if (rd_K 1 d tx (rd_0 uF uL uC) k).1 = 7 then 0 else 1) (cn, dr, wl, rR, rF, rS, rI, rO, rE, po, en, di, ou, bC, bL, bF, dt, tx, dC, dL, dF)) : wpY_isBeginning post (cn, dr, wl, rR, rF, rS, rI, rO, rE, po, en, di, ou, bC, bL, bF, dt, tx, dC, dL, dF) d (nI k) := by
  dsimp only [wpY_isBeginning]
  refine ow_rb D (by omega) (uF := uF) (uL := uL) (uC := uC) (fun r1 H1 rR rF rS rI rO rE po en di dC dL dF => ?_)
  rcases H1 with ⟨rfl, H1⟩ | ⟨rfl, H1⟩
  · refine br_t rfl ?_
    have ik : vp_in (nI k) 98 := bs_in (by omega) (by omega)
    have ik1 : vp_in (nI (k + 1)) 98 := bs_in (by omega) (by omega)
    rw [nI_1 k, bs_2 k, bs_c (n := k) (by omega), bs_c (n := k + 1) (by omega)]
    refine And.intro ik (nm_e (And.intro ik1 (nm_e (And.intro ik (nm_e ?_)))))
    have g9 : ∀ j : Nat, j < k → upd tx k 9 j = tx j := fun j hj => pk_un (by omega)
    have g7 : ∀ j : Nat, j < k → upd (upd (upd tx k 9) k 7) (k + 1) 7 j = tx j := fun j hj => by rw [pk_un (by omega), pk_un (by omega), pk_un (by omega)]
    have gr : upd (upd (upd (upd (upd tx k 9) k 7) (k + 1) 7) k (tx k)) (k + 1) (tx (k + 1)) = tx := by
      rw [bs_ucm (k := k + 1) (l := k) (by omega), bs_uu, bs_uu, bs_uu, bs_uid, bs_uid]
    have b7 : upd (upd (upd tx k 9) k 7) (k + 1) 7 k = 7 := by rw [pk_un (by omega), pk_us]
    refine ow_rb D (by omega) (uF := uF) (uL := uL) (uC := uC) (fun r2 H2 rR rF rS rI rO rE po en di dC dL dF => ?_)
    refine And.intro ik (nm_e (And.intro ik1 (nm_e ?_)))
    refine ow_rb D (by omega) (uF := uF) (uL := uL) (uC := uC) (fun r3 H3 rR rF rS rI rO rE po en di dC dL dF => ?_)
    have lost : (rd_K 1 d tx (rd_0 uF uL uC) k).1 = 7 → r2 = 0 ∧ r3 = 0 := fun y => ⟨H2.elim (fun z => z.1) (fun z => absurd z.2 (ow_a7 g9 y (by omega))), H3.elim (fun z => z.1) (fun z => absurd z.2 (ow_a7 g7 y (by omega)))⟩
    by_cases t3 : r3 = 0
    · refine br_t t3 ?_
      refine ow_rb D (by omega) (uF := uF) (uL := uL) (uC := uC) (fun r4 H4 rR rF rS rI rO rE po en di dC dL dF => ?_)
      have fin91 : ∀ z0 : Int32, (z0 = 0 ↔ r4 = 0) → wY_isBeginning_91 post (nI k) (tx k) (tx (k + 1)) r2 z0 cn dr wl rR rF rS rI rO rE po en di ou bC bL bF dt (upd (upd (upd tx k 9) k 7) (k + 1) 7) dC dL dF := by
        intro z0 hz
        refine ow_91 hk gr (fun a b => ?_) (fun ab => ?_) (h _ _ _ _ _ _ _ _ _ _ _ _)
        · by_cases y : (rd_K 1 d tx (rd_0 uF uL uC) k).1 = 7
          · rw [if_pos y]
          · have b4 := hz.mp b
            rcases ow_beg rd_I0 g9 g7 pk_us b7 pk_us y H1 with p | p | p
            · exact absurd (H2.elim (fun z => absurd p z.2) (fun z => z.1.symm.trans a)) (by decide)
            · exact absurd (H3.elim (fun z => absurd p z.2) (fun z => z.1.symm.trans t3)) (by decide)
            · exact absurd (H4.elim (fun z => absurd p z.2) (fun z => z.1.symm.trans b4)) (by decide)
        · by_cases y : (rd_K 1 d tx (rd_0 uF uL uC) k).1 = 7
          · refine absurd ⟨(lost y).1, hz.mpr ?_⟩ ab
            exact H4.elim (fun z => z.1) (fun z => absurd z.2 (ow_a7 g7 y (by omega)))
          · rw [if_neg y]
      by_cases t4 : r4 = 0
      · exact br_t t4 (fin91 0 ⟨fun _ => t4, fun _ => rfl⟩)
      · exact br_f t4 (fin91 1 ⟨fun q => absurd q (by decide), fun q => absurd q t4⟩)
    · refine br_f t3 ?_
      refine ow_91 hk gr (fun a b => absurd b (by decide)) (fun ab => ?_) (h _ _ _ _ _ _ _ _ _ _ _ _)
      by_cases y : (rd_K 1 d tx (rd_0 uF uL uC) k).1 = 7
      · exact absurd (lost y).2 t3
      · rw [if_neg y]
  · have y : ¬ (rd_K 1 d tx (rd_0 uF uL uC) k).1 = 7 := fun y => absurd H1 (ow_a7 (fun j _ => rfl) y (by omega))
    rw [if_neg y] at h
    exact br_f (by decide) (h _ _ _ _ _ _ _ _ _ _ _ _)
theorem ow_snd {d : Int32} (D : wr_D d) {w s : Nat} (hw : w ≤ 96) {uF uL uC tx : Nat → Int32} (hs7 : ¬ (rd_K 1 d tx (rd_0 uF uL uC) s).1 = 7) (hsj : ∀ j : Nat, s < j → j ≤ w → (rd_K 1 d tx (rd_0 uF uL uC) j).1 = 7) {post : Int32 → SY → Prop} (h : ∀ (rR rF rS rI rO rE po en di : Int32) (dC dL dF : Nat → Int32), post (nI s) (cn, dr, wl, rR, rF, rS, rI, rO, rE, po, en, di, ou, bC, bL, bF, dt, tx, dC, dL, dF)) :
    ∀ m k : Nat, k < m → s ≤ k → k ≤ w → ∀ (rR rF rS rI rO rE po en di : Int32) (dC dL dF : Nat → Int32), wY_sound_15 post d m (nI k) cn dr wl rR rF rS rI rO rE po en di ou bC bL bF dt tx dC dL dF := by
  intro m
  induction m with
  | zero => intro k h1; omega
  | succ m ih =>
    intro k hm hs hk rR rF rS rI rO rE po en di dC dL dF
    refine pk_le k 0 (fun z => ?_) (fun z => ?_)
    · have e : s = 0 := by omega
      subst e
      exact h _ _ _ _ _ _ _ _ _ _ _ _
    · refine ow_ib D (by omega) (uF := uF) (uL := uL) (uC := uC) (fun rR rF rS rI rO rE po en di dC dL dF => ?_)
      by_cases y : k = s
      · rw [y, if_neg hs7]
        exact br_f (by decide) (h _ _ _ _ _ _ _ _ _ _ _ _)
      · rw [if_pos (hsj k (by omega) hk)]
        obtain ⟨k', rfl⟩ : ∃ k', k = k' + 1 := ⟨k - 1, by omega⟩
        exact br_t rfl (nm_r (pk_m1 k') (ih k' (by omega) (by omega) (by omega) _ _ _ _ _ _ _ _ _ _ _ _))
end
theorem i_vc_sound {k : Nat} {u : SX} {v : SY} (I : i_Rel k u v) (hk : k + 4 ≤ 2048) (v1 : Int32) : wpX_sound (fun r u' => wpY_sound (fun r' v' => r' = r ∧ i_Rel (k + 4) u' v') v v1) u v1 := by
  refine rl_el (P := fun u v => wpX_sound (fun r u' => wpY_sound (fun r' v' => r' = r ∧ i_Rel (k + 4) u' v') v v1) u v1) I ?_
  intro c d w pu ke st gR gF gS ff rg ho fi so aF aL aC dt tx rR rF rS rI rO rE po en di ou bC bL bF dC dL dF hc hd hw T
  dsimp only [wpX_sound, wpY_sound]
  rcases wr_bd v1 with ⟨hx, hy⟩ | ⟨hx, hy, j, hj, rfl⟩
  · exact hx _ (br_f (by decide) (hy _ (br_t rfl ⟨rfl, rl_mk hc hd hw T⟩)))
  · have D := wr_D8 j hj
    refine hx _ (br_t rfl ?_)
    refine ow_xr hw (fun s hs k7 kj st R F S f0 rg ho aF' aL' aC' e => ?_)
    refine hy _ (br_f (by decide) ⟨w + 1, ?_⟩)
    exact ow_snd D hw k7 kj (fun rR rF rS rI rO rE po en di dC dL dF => ⟨rfl, rl_mk hc hd hw T⟩) (w + 1) w (by omega) hs (Nat.le_refl w) _ _ _ _ _ _ _ _ _ _ _ _
end
section
/-! even and guess: one outcome for both -/
theorem ow_bit : ∀ i : Fin 8, ∀ s : Fin 256, s.val < 2 ^ i.val → nI s.val ||| ((1 : Int32) <<< (nI i.val &&& 31)) = nI (s.val + 2 ^ i.val) ∧ nI s.val + ((1 : Int32) <<< (nI i.val &&& 31)) = nI (s.val + 2 ^ i.val) := by decide +kernel
section
variable {cn dr pu ke ou : Int32} {aF aL aC bC bL bF dt tx : Nat → Int32} {w : Nat}
theorem ow_ev (hw : w ≤ 96) : ∀ m i s : Nat, i + m = 8 → s < 2 ^ i → ∃ r : Int32,
    (∀ (post : Int32 → SX → Prop) (n : Nat), m < n → (∀ (st gR gF gS ff rg ho fi so : Int32), post r (cn, dr, nI w, pu, ke, st, gR, gF, gS, ff, rg, ho, fi, so, aF, aL, aC, dt, tx)) → ∀ (st gR gF gS ff rg ho fi so : Int32), wX_even_4 post n (nI s) (nI i) cn dr (nI w) pu ke st gR gF gS ff rg ho fi so aF aL aC dt tx) ∧
    (∀ (post : Int32 → SY → Prop) (n : Nat), m < n → (∀ (rR rF rS rI rO rE po en di : Int32) (dC dL dF : Nat → Int32), post r (cn, dr, nI w, rR, rF, rS, rI, rO, rE, po, en, di, ou, bC, bL, bF, dt, tx, dC, dL, dF)) → ∀ (rR rF rS rI rO rE po en di : Int32) (dC dL dF : Nat → Int32), wY_even_4 post n (nI s) (nI i) cn dr (nI w) rR rF rS rI rO rE po en di ou bC bL bF dt tx dC dL dF) := by
  intro m
  induction m with
  | zero =>
    intro i s hi hs
    have h8 : (8 : Int32) ≤ nI i := nI_le (a := 8) (by omega) (by omega)
    refine ⟨nI s, fun post n hn h st gR gF gS ff rg ho fi so => ?_, fun post n hn h rR rF rS rI rO rE po en di dC dL dF => ?_⟩
    · obtain ⟨n, rfl⟩ : ∃ n', n = n' + 1 := ⟨n - 1, by omega⟩
      exact br_t h8 (h _ _ _ _ _ _ _ _ _)
    · obtain ⟨n, rfl⟩ : ∃ n', n = n' + 1 := ⟨n - 1, by omega⟩
      exact br_t h8 (h _ _ _ _ _ _ _ _ _ _ _ _)
  | succ m ih =>
    intro i s hi hs
    have h8 : ¬ (8 : Int32) ≤ nI i := nI_ge (b := 8) (by omega) (by omega)
    have D := wr_D8 i (by omega)
    have h2 : 2 ^ i ≤ 2 ^ 7 := Nat.pow_le_pow_right (by omega) (by omega)
    have hp : 2 ^ (i + 1) = 2 ^ i + 2 ^ i := by rw [Nat.pow_succ]; omega
    obtain ⟨o1, o2⟩ := ow_bit ⟨i, by omega⟩ ⟨s, by omega⟩ hs
    rcases e : rd_fin (rd_K 1 (nI i) tx (rd_0 aF aL aC) w) with ⟨q, R, F, S, f0, rg0, ho0, aF', aL', aC'⟩
    by_cases good : q = 0 ∧ ¬ rg0 = 0
    · obtain ⟨r, hX, hY⟩ := ih (i + 1) (s + 2 ^ i) (by omega) (by omega)
      refine ⟨r, fun post n hn h st gR gF gS ff rg ho fi so => ?_, fun post n hn h rR rF rS rI rO rE po en di dC dL dF => ?_⟩
      · obtain ⟨n, rfl⟩ : ∃ n', n = n' + 1 := ⟨n - 1, by omega⟩
        refine br_f h8 ?_
        refine ow_xr hw (fun s1 hs1 k7 kj st1 R1 F1 S1 f1 rg1 ho1 aF1 aL1 aC1 e1 => ?_)
        rw [e] at e1
        simp only [Prod.mk.injEq] at e1
        obtain ⟨a1, a2, a3, a4, a5, a6, a7, b1, b2, b3⟩ := e1
        rw [if_pos (a1.symm.trans good.1), ← a6]
        exact br_f (by decide) (br_f good.2 (nm_r o1 (nm_r (nI_1 i) (hX post n (by omega) h _ _ _ _ _ _ _ _ _))))
      · obtain ⟨n, rfl⟩ : ∃ n', n = n' + 1 := ⟨n - 1, by omega⟩
        refine br_f h8 ?_
        refine yr_reads D (by omega) aF aL aC (fun na rR rF rS rI rO rE po dC dL dF => ?_) (fun R1 F1 S1 f1 rg1 ho1 rF rS rO po aF1 aL1 aC1 dC dL dF e1 B => ?_)
        · exact absurd (by rw [e]; exact good.1) na
        · rw [e] at e1
          simp only [Prod.mk.injEq] at e1
          obtain ⟨a1, a2, a3, a4, a5, a6, a7, b1, b2, b3⟩ := e1
          rw [← a6]
          exact br_f (by decide) (br_f good.2 (nm_r o2 (nm_r (nI_1 i) (hY post n (by omega) h _ _ _ _ _ _ _ _ _ _ _ _))))
    · obtain ⟨r, hX, hY⟩ := ih (i + 1) s (by omega) (by omega)
      refine ⟨r, fun post n hn h st gR gF gS ff rg ho fi so => ?_, fun post n hn h rR rF rS rI rO rE po en di dC dL dF => ?_⟩
      · obtain ⟨n, rfl⟩ : ∃ n', n = n' + 1 := ⟨n - 1, by omega⟩
        refine br_f h8 ?_
        refine ow_xr hw (fun s1 hs1 k7 kj st1 R1 F1 S1 f1 rg1 ho1 aF1 aL1 aC1 e1 => ?_)
        rw [e] at e1
        simp only [Prod.mk.injEq] at e1
        obtain ⟨a1, a2, a3, a4, a5, a6, a7, b1, b2, b3⟩ := e1
        by_cases q0 : q = 0
        · have r0 : rg0 = 0 := Decidable.byContradiction (fun y => good ⟨q0, y⟩)
          rw [if_pos (a1.symm.trans q0), ← a6]
          exact br_f (by decide) (br_t r0 (nm_r (nI_1 i) (hX post n (by omega) h _ _ _ _ _ _ _ _ _)))
        · rw [if_neg (fun y => q0 (a1.trans y))]
          exact br_t rfl (nm_r (nI_1 i) (hX post n (by omega) h _ _ _ _ _ _ _ _ _))
      · obtain ⟨n, rfl⟩ : ∃ n', n = n' + 1 := ⟨n - 1, by omega⟩
        refine br_f h8 ?_
        refine yr_reads D (by omega) aF aL aC (fun na rR rF rS rI rO rE po dC dL dF => ?_) (fun R1 F1 S1 f1 rg1 ho1 rF rS rO po aF1 aL1 aC1 dC dL dF e1 B => ?_)
        · exact br_t rfl (nm_r (nI_1 i) (hY post n (by omega) h _ _ _ _ _ _ _ _ _ _ _ _))
        · rw [e] at e1
          simp only [Prod.mk.injEq] at e1
          obtain ⟨a1, a2, a3, a4, a5, a6, a7, b1, b2, b3⟩ := e1
          have r0 : rg0 = 0 := Decidable.byContradiction (fun y => good ⟨a1, y⟩)
          rw [← a6]
          exact br_f (by decide) (br_t r0 (nm_r (nI_1 i) (hY post n (by omega) h _ _ _ _ _ _ _ _ _ _ _ _)))
theorem ow_gs (hw : w ≤ 96) (hw0 : 0 < w) : ∀ (m i : Nat) (b : Int32) (mo : Nat), i + m = 8 → mo < 1000 → ∃ r : Int32,
    (∀ (post : Int32 → SX → Prop) (n : Nat), m < n → (∀ (st gR gF gS ff rg ho fi so : Int32), post r (cn, dr, nI w, pu, ke, st, gR, gF, gS, ff, rg, ho, fi, so, aF, aL, aC, dt, tx)) → ∀ (st gR gF gS ff rg ho fi so : Int32), wX_guess_7 post n b (nI mo) (nI i) cn dr (nI w) pu ke st gR gF gS ff rg ho fi so aF aL aC dt tx) ∧
    (∀ (post : Int32 → SY → Prop) (n : Nat), m < n → (∀ (rR rF rS rI rO rE po en di : Int32) (dC dL dF : Nat → Int32), post r (cn, dr, nI w, rR, rF, rS, rI, rO, rE, po, en, di, ou, bC, bL, bF, dt, tx, dC, dL, dF)) → ∀ (rR rF rS rI rO rE po en di : Int32) (dC dL dF : Nat → Int32), wY_guess_7 post n b (nI mo) (nI i) cn dr (nI w) rR rF rS rI rO rE po en di ou bC bL bF dt tx dC dL dF) := by
  have w0 : ¬ nI w ≤ 0 := nI_nle hw0 (by omega)
  intro m
  induction m with
  | zero =>
    intro i b mo hi hmo
    have h8 : (8 : Int32) ≤ nI i := nI_le (a := 8) (by omega) (by omega)
    refine ⟨b, fun post n hn h st gR gF gS ff rg ho fi so => ?_, fun post n hn h rR rF rS rI rO rE po en di dC dL dF => ?_⟩
    · obtain ⟨n, rfl⟩ : ∃ n', n = n' + 1 := ⟨n - 1, by omega⟩
      exact br_t h8 (h _ _ _ _ _ _ _ _ _)
    · obtain ⟨n, rfl⟩ : ∃ n', n = n' + 1 := ⟨n - 1, by omega⟩
      exact br_t h8 (h _ _ _ _ _ _ _ _ _ _ _ _)
  | succ m ih =>
    intro i b mo hi hmo
    have h8 : ¬ (8 : Int32) ≤ nI i := nI_ge (b := 8) (by omega) (by omega)
    have D := wr_D8 i (by omega)
    have I := (rd_IK (fi := 1) (d := nI i) (t := tx) (rd_I0 (aF := aF) (aL := aL) (aC := aC)) w).1
    have bf : ∀ (q : Int32) (R F S f0 : Nat) (rg0 ho0 : Int32) (aF' aL' aC' : Nat → Int32), rd_fin (rd_K 1 (nI i) tx (rd_0 aF aL aC) w) = (q, R, F, S, f0, rg0, ho0, aF', aL', aC') → f0 < 1000 := by
      intro q R F S f0 rg0 ho0 aF' aL' aC' e
      rcases ek : rd_K 1 (nI i) tx (rd_0 aF aL aC) w with ⟨q2, R2, F2, S2, f2, rg2, ho2, aF2, aL2, aC2⟩
      rw [ek] at e I
      obtain ⟨i1, i2, i3, i4⟩ := I
      unfold rd_fin at e
      by_cases z : q2 = 1 ∨ q2 = 2 ∨ q2 = 4
      · rw [if_pos z] at e
        have e' : (if R2 = 0 then F2 else f2) = f0 := congrArg (fun c : rd_C => c.2.2.2.2.1) e
        by_cases y : R2 = 0
        · rw [if_pos y] at e'; omega
        · rw [if_neg y] at e'; omega
      · rw [if_neg z] at e
        have e' : f2 = f0 := congrArg (fun c : rd_C => c.2.2.2.2.1) e
        omega
    rcases e : rd_fin (rd_K 1 (nI i) tx (rd_0 aF aL aC) w) with ⟨q, R, F, S, f0, rg0, ho0, aF', aL', aC'⟩
    have bf0 := bf q R F S f0 rg0 ho0 aF' aL' aC' e
    by_cases good : q = 0 ∧ ¬ rg0 = 0 ∧ mo < f0
    · have gt : ¬ nI f0 ≤ nI mo := nI_ge good.2.2 (by omega)
      obtain ⟨r, hX, hY⟩ := ih (i + 1) (nI i) f0 (by omega) bf0
      refine ⟨r, fun post n hn h st gR gF gS ff rg ho fi so => ?_, fun post n hn h rR rF rS rI rO rE po en di dC dL dF => ?_⟩
      · obtain ⟨n, rfl⟩ : ∃ n', n = n' + 1 := ⟨n - 1, by omega⟩
        refine br_f h8 ?_
        refine ow_xr hw (fun s1 hs1 k7 kj st1 R1 F1 S1 f1 rg1 ho1 aF1 aL1 aC1 e1 => ?_)
        rw [e] at e1
        simp only [Prod.mk.injEq] at e1
        obtain ⟨a1, a2, a3, a4, a5, a6, a7, b1, b2, b3⟩ := e1
        rw [if_pos (a1.symm.trans good.1), ← a6, ← a5]
        exact br_f (by decide) (br_f good.2.1 (br_f gt (nm_r (nI_1 i) (hX post n (by omega) h _ _ _ _ _ _ _ _ _))))
      · obtain ⟨n, rfl⟩ : ∃ n', n = n' + 1 := ⟨n - 1, by omega⟩
        refine br_f h8 (br_f w0 ?_)
        refine yr_reads D (by omega) aF aL aC (fun na rR rF rS rI rO rE po dC dL dF => ?_) (fun R1 F1 S1 f1 rg1 ho1 rF rS rO po aF1 aL1 aC1 dC dL dF e1 B => ?_)
        · exact absurd (by rw [e]; exact good.1) na
        · rw [e] at e1
          simp only [Prod.mk.injEq] at e1
          obtain ⟨a1, a2, a3, a4, a5, a6, a7, b1, b2, b3⟩ := e1
          rw [← a6, ← a5]
          exact br_f (by decide) (br_f good.2.1 (br_f gt (nm_r (nI_1 i) (hY post n (by omega) h _ _ _ _ _ _ _ _ _ _ _ _))))
    · obtain ⟨r, hX, hY⟩ := ih (i + 1) b mo (by omega) hmo
      refine ⟨r, fun post n hn h st gR gF gS ff rg ho fi so => ?_, fun post n hn h rR rF rS rI rO rE po en di dC dL dF => ?_⟩
      · obtain ⟨n, rfl⟩ : ∃ n', n = n' + 1 := ⟨n - 1, by omega⟩
        refine br_f h8 ?_
        refine ow_xr hw (fun s1 hs1 k7 kj st1 R1 F1 S1 f1 rg1 ho1 aF1 aL1 aC1 e1 => ?_)
        rw [e] at e1
        simp only [Prod.mk.injEq] at e1
        obtain ⟨a1, a2, a3, a4, a5, a6, a7, b1, b2, b3⟩ := e1
        by_cases q0 : q = 0
        · rw [if_pos (a1.symm.trans q0), ← a6, ← a5]
          refine br_f (by decide) ?_
          by_cases r0 : rg0 = 0
          · exact br_t r0 (nm_r (nI_1 i) (hX post n (by omega) h _ _ _ _ _ _ _ _ _))
          · have le : nI f0 ≤ nI mo := nI_le (Nat.le_of_not_lt (fun y => good ⟨q0, r0, y⟩)) (by omega)
            exact br_f r0 (br_t le (nm_r (nI_1 i) (hX post n (by omega) h _ _ _ _ _ _ _ _ _)))
        · rw [if_neg (fun y => q0 (a1.trans y))]
          exact br_t rfl (nm_r (nI_1 i) (hX post n (by omega) h _ _ _ _ _ _ _ _ _))
      · obtain ⟨n, rfl⟩ : ∃ n', n = n' + 1 := ⟨n - 1, by omega⟩
        refine br_f h8 (br_f w0 ?_)
        refine yr_reads D (by omega) aF aL aC (fun na rR rF rS rI rO rE po dC dL dF => ?_) (fun R1 F1 S1 f1 rg1 ho1 rF rS rO po aF1 aL1 aC1 dC dL dF e1 B => ?_)
        · exact br_t rfl (nm_r (nI_1 i) (hY post n (by omega) h _ _ _ _ _ _ _ _ _ _ _ _))
        · rw [e] at e1
          simp only [Prod.mk.injEq] at e1
          obtain ⟨a1, a2, a3, a4, a5, a6, a7, b1, b2, b3⟩ := e1
          rw [← a6, ← a5]
          refine br_f (by decide) ?_
          by_cases r0 : rg0 = 0
          · exact br_t r0 (nm_r (nI_1 i) (hY post n (by omega) h _ _ _ _ _ _ _ _ _ _ _ _))
          · have le : nI f0 ≤ nI mo := nI_le (Nat.le_of_not_lt (fun y => good ⟨a1, r0, y⟩)) (by omega)
            exact br_f r0 (br_t le (nm_r (nI_1 i) (hY post n (by omega) h _ _ _ _ _ _ _ _ _ _ _ _)))
theorem ow_g0 (b : Int32) : ∀ m i : Nat, i + m = 8 → ∀ (post : Int32 → SX → Prop) (n : Nat), m < n → (∀ (st gR gF gS ff rg ho fi so : Int32), post b (cn, dr, nI 0, pu, ke, st, gR, gF, gS, ff, rg, ho, fi, so, aF, aL, aC, dt, tx)) → ∀ (st gR gF gS ff rg ho fi so : Int32), wX_guess_7 post n b (nI 0) (nI i) cn dr (nI 0) pu ke st gR gF gS ff rg ho fi so aF aL aC dt tx := by
  intro m
  induction m with
  | zero =>
    intro i hi post n hn h st gR gF gS ff rg ho fi so
    have h8 : (8 : Int32) ≤ nI i := nI_le (a := 8) (by omega) (by omega)
    obtain ⟨n, rfl⟩ : ∃ n', n = n' + 1 := ⟨n - 1, by omega⟩
    exact br_t h8 (h _ _ _ _ _ _ _ _ _)
  | succ m ih =>
    intro i hi post n hn h st gR gF gS ff rg ho fi so
    have h8 : ¬ (8 : Int32) ≤ nI i := nI_ge (b := 8) (by omega) (by omega)
    obtain ⟨n, rfl⟩ : ∃ n', n = n' + 1 := ⟨n - 1, by omega⟩
    refine br_f h8 ?_
    refine ow_xr (w := 0) (by omega) (fun s1 hs1 k7 kj st1 R1 F1 S1 f1 rg1 ho1 aF1 aL1 aC1 e1 => ?_)
    have e2 : rd_fin (rd_K 1 (nI i) tx (rd_0 aF aL aC) 0) = (0, 0, 0, 0, 0, 1, 1, aF, aL, aC) := rfl
    rw [e2] at e1
    simp only [Prod.mk.injEq] at e1
    obtain ⟨a1, a2, a3, a4, a5, a6, a7, b1, b2, b3⟩ := e1
    rw [if_pos a1.symm, ← a6, ← a5]
    exact br_f (by decide) (br_f (by decide) (br_t (Int32.le_refl _) (nm_r (nI_1 i) (ih (i + 1) (by omega) post n (by omega) h _ _ _ _ _ _ _ _ _))))
end
theorem i_vc_even {k : Nat} {u : SX} {v : SY} (I : i_Rel k u v) (hk : k + 4 ≤ 2048) : wpX_even (fun r u' => wpY_even (fun r' v' => r' = r ∧ i_Rel (k + 4) u' v') v) u := by
  refine rl_el (P := fun u v => wpX_even (fun r u' => wpY_even (fun r' v' => r' = r ∧ i_Rel (k + 4) u' v') v) u) I ?_
  intro c d w pu ke st gR gF gS ff rg ho fi so aF aL aC dt tx rR rF rS rI rO rE po en di ou bC bL bF dC dL dF hc hd hw T
  obtain ⟨r, hX, hY⟩ := ow_ev (cn := nI c) (dr := nI d) (pu := pu) (ke := ke) (ou := ou) (aF := aF) (aL := aL) (aC := aC) (bC := bC) (bL := bL) (bF := bF) (dt := dt) (tx := tx) hw 8 0 0 (by omega) (by decide)
  refine ⟨9, hX _ 9 (by omega) (fun st gR gF gS ff rg ho fi so => ?_) _ _ _ _ _ _ _ _ _⟩
  exact ⟨9, hY _ 9 (by omega) (fun rR rF rS rI rO rE po en di dC dL dF => ⟨rfl, rl_mk hc hd hw T⟩) _ _ _ _ _ _ _ _ _ _ _ _⟩
theorem i_vc_guess {k : Nat} {u : SX} {v : SY} (I : i_Rel k u v) (hk : k + 4 ≤ 2048) : wpX_guess (fun r u' => wpY_guess (fun r' v' => r' = r ∧ i_Rel (k + 4) u' v') v) u := by
  refine rl_el (P := fun u v => wpX_guess (fun r u' => wpY_guess (fun r' v' => r' = r ∧ i_Rel (k + 4) u' v') v) u) I ?_
  intro c d w pu ke st gR gF gS ff rg ho fi so aF aL aC dt tx rR rF rS rI rO rE po en di ou bC bL bF dC dL dF hc hd hw T
  by_cases w0 : w = 0
  · subst w0
    refine ⟨9, ow_g0 (-4) 8 0 (by omega) _ 9 (by omega) (fun st gR gF gS ff rg ho fi so => ?_) _ _ _ _ _ _ _ _ _⟩
    exact ⟨1, br_f (by decide) (br_t (by decide) ⟨rfl, rl_mk hc hd hw T⟩)⟩
  · obtain ⟨r, hX, hY⟩ := ow_gs (cn := nI c) (dr := nI d) (pu := pu) (ke := ke) (ou := ou) (aF := aF) (aL := aL) (aC := aC) (bC := bC) (bL := bL) (bF := bF) (dt := dt) (tx := tx) hw (by omega) 8 0 (-4) 0 (by omega) (by omega)
    refine ⟨9, hX _ 9 (by omega) (fun st gR gF gS ff rg ho fi so => ?_) _ _ _ _ _ _ _ _ _⟩
    exact ⟨9, hY _ 9 (by omega) (fun rR rF rS rI rO rE po en di dC dL dF => ⟨rfl, rl_mk hc hd hw T⟩) _ _ _ _ _ _ _ _ _ _ _ _⟩
end
