section
/-! small things: places, bits, arrays; the methods that only answer -/
section
variable {f1 f2 f3 f4 f5 f6 : Int32} {f7 : Int64} {a1 a2 a3 a4 a5 a6 a7 a8 a9 : Nat → Int32} {a10 : Nat → Int64}
/-- bit i of s -/
abbrev pg_bit (s i : Int32) : Int32 := ((s.toUInt32 >>> (i.toUInt32 &&& Int32.toUInt32 31)).toInt32) &&& 1
abbrev pg_one (i : Int32) : Int32 := (1 : Int32) <<< (i &&& 31)
/-- a place of an array of 32, decided -/
def pg_ib (x : Int32) : Bool := decide (¬ (x < 0 ∨ 32 ≤ x.toNatClampNeg))
theorem pg_iv {x : Int32} (h : pg_ib x = true) : vp_in x 32 := by
  unfold pg_ib at h
  have g := of_decide_eq_true h
  exact g
theorem pg_u {f : Nat → Int32} {i j : Nat} {x y : Int32} (hi : i = j) (hx : x = y) : upd f i x = upd f j y := by rw [hi, hx]
theorem pg_uL {f : Nat → Int64} {i j : Nat} {x y : Int64} (hi : i = j) (hx : x = y) : vp_updL f i x = vp_updL f j y := by rw [hi, hx]

theorem pg_cell {post : Int32 → Prop} {L : Nat} {xs : Nat → Int32} (i : Nat) (hi : i < 4) (hL : L ≤ 4) (h : ∀ x, post x) : wpL_cellAt post L xs () (nI i) :=
  pk_le L i (fun _ => h 0) (fun z => ⟨pk_in i L z, h _⟩)

theorem pg_has {post : Int32 → Prop} {p : Int32} (h0 : ¬ p < 0) (h4 : ¬ 4 ≤ p) (hb : ¬ (f1 >>> (p &&& 31)) &&& 1 = 0) (hp : post 1) :
    wpX_has post (f1, f2, f3, f4, f5, f6, f7, a1, a2, a3, a4, a5, a6, a7, a8, a9, a10) p := br_f h0 (br_f h4 (br_f hb hp))
theorem pg_hasN {post : Int32 → Prop} {p : Int32} (h : p < 0 ∨ 4 ≤ p ∨ (f1 >>> (p &&& 31)) &&& 1 = 0) (hp : post 0) :
    wpX_has post (f1, f2, f3, f4, f5, f6, f7, a1, a2, a3, a4, a5, a6, a7, a8, a9, a10) p :=
  br_c (fun _ => hp) (fun g0 => br_c (fun _ => hp) (fun g4 => br_c (fun _ => hp) (fun gb => absurd h (fun t => t.elim g0 (fun t => t.elim g4 gb)))))

theorem pg_im {post : Int32 → Prop} {p v : Int32} (h0 : ¬ p < 0) (h4 : ¬ 4 ≤ p) (hb : ¬ (f1 >>> (p &&& 31)) &&& 1 = 0) (v0 : ¬ v < 0) (v8 : ¬ 8 ≤ v)
    (hm : ¬ pg_bit f3 (8 * p + v) = 0) (hp : post 1) :
    wpX_isMapped post (f1, f2, f3, f4, f5, f6, f7, a1, a2, a3, a4, a5, a6, a7, a8, a9, a10) p v := by
  unfold wpX_isMapped
  exact pg_has h0 h4 hb (br_f (by decide) (br_f v0 (br_f v8 (br_f hm hp))))
theorem pg_imN {post : Int32 → Prop} {p v : Int32} (h : (p < 0 ∨ 4 ≤ p ∨ (f1 >>> (p &&& 31)) &&& 1 = 0) ∨ v < 0 ∨ 8 ≤ v ∨ pg_bit f3 (8 * p + v) = 0) (hp : post 0) :
    wpX_isMapped post (f1, f2, f3, f4, f5, f6, f7, a1, a2, a3, a4, a5, a6, a7, a8, a9, a10) p v := by
  unfold wpX_isMapped
  by_cases hh : p < 0 ∨ 4 ≤ p ∨ (f1 >>> (p &&& 31)) &&& 1 = 0
  · exact pg_hasN hh (br_t rfl hp)
  · have hv := h.resolve_left hh
    refine pg_has (fun z => hh (Or.inl z)) (fun z => hh (Or.inr (Or.inl z))) (fun z => hh (Or.inr (Or.inr z))) (br_f (by decide) ?_)
    exact br_c (fun _ => hp) (fun g0 => br_c (fun _ => hp) (fun g4 => br_c (fun _ => hp) (fun gb => absurd hv (fun t => t.elim g0 (fun t => t.elim g4 gb)))))
/-- which places are mapped after the fork: 2 and 3 of the processes 0 and 1 -/
theorem pg_tab : ∀ j, j < 4 → ∀ k, k < 8 → ((j = 0 ∨ j = 1) ∧ (k = 2 ∨ k = 3)) ∨ ((3 : Int32) >>> (nI j &&& 31)) &&& 1 = 0 ∨ pg_bit 3084 (8 * nI j + nI k) = 0 := by decide +kernel
theorem pg_out {p v : Int32} (h : ¬ ((p = 0 ∨ p = 1) ∧ (v = 2 ∨ v = 3))) :
    (p < 0 ∨ 4 ≤ p ∨ ((3 : Int32) >>> (p &&& 31)) &&& 1 = 0) ∨ v < 0 ∨ 8 ≤ v ∨ pg_bit 3084 (8 * p + v) = 0 := by
  rcases pk_ix p (n := 4) (by decide) with hp | hp | ⟨j, hj, rfl⟩
  · exact Or.inl (Or.inl hp)
  · exact Or.inl (Or.inr (Or.inl hp))
  rcases pk_ix v (n := 8) (by decide) with hv | hv | ⟨k, hk, rfl⟩
  · exact Or.inr (Or.inl hv)
  · exact Or.inr (Or.inr (Or.inl hv))
  rcases pg_tab j hj k hk with t | t | t
  · refine absurd ?_ h
    refine ⟨t.1.elim (fun e => Or.inl (by rw [e]; rfl)) (fun e => Or.inr (by rw [e]; rfl)), t.2.elim (fun e => Or.inl (by rw [e]; rfl)) (fun e => Or.inr (by rw [e]; rfl))⟩
  · exact Or.inl (Or.inr (Or.inr t))
  · exact Or.inr (Or.inr (Or.inr t))

theorem pg_fp0 {post : Int32 → Prop} (hp : post 0) : wpX_freeProcess post (0, f2, f3, f4, f5, f6, f7, a1, a2, a3, a4, a5, a6, a7, a8, a9, a10) :=
  Exists.intro 1 (br_f (by decide) (pg_hasN (Or.inr (Or.inr (by decide))) (br_t rfl hp)))
theorem pg_fp1 {post : Int32 → Prop} (hp : post 1) : wpX_freeProcess post (1, f2, f3, f4, f5, f6, f7, a1, a2, a3, a4, a5, a6, a7, a8, a9, a10) :=
  Exists.intro 2 (br_f (by decide) (pg_has (by decide) (by decide) (by decide) (br_f (by decide) (nm_r (e' := 1) (by decide) (br_f (by decide) (pg_hasN (Or.inr (Or.inr (by decide))) (br_t rfl hp)))))))
theorem pg_spawn {post : Int32 → St2 → Prop} (hp : post 0 (1, f2, f3, f4, f5, f6, f7, a1, a2, a3, a4, a5, a6, a7, a8, a9, a10)) :
    wpX_spawn post (0, f2, f3, f4, f5, f6, f7, a1, a2, a3, a4, a5, a6, a7, a8, a9, a10) := pg_fp0 (br_f (by decide) (nm_r (e' := 1) (by decide) hp))

theorem pg_ff0 {post : Int32 → Prop} (hp : post 0) : wpX_firstFree post () 0 :=
  Exists.intro 1 (br_f (by decide) (br_t (by decide) hp))
theorem pg_ff1 {post : Int32 → Prop} (hp : post 1) : wpX_firstFree post () 1 :=
  Exists.intro 2 (br_f (by decide) (br_f (by decide) (nm_r (e' := 1) (by decide) (br_f (by decide) (br_t (by decide) hp)))))
theorem pg_ff3 {post : Int32 → Prop} (hp : post 2) : wpX_firstFree post () 3 :=
  Exists.intro 3 (br_f (by decide) (br_f (by decide) (nm_r (e' := 1) (by decide) (br_f (by decide) (br_f (by decide) (nm_r (e' := 2) (by decide) (br_f (by decide) (br_t (by decide) hp))))))))

theorem pg_fg0 {post : Int32 → St2 → Prop} (hp : post 0 (f1, f2, f3, f4, f5, f6, 1, a1, a2, a3, a4, a5, a6, a7, a8, a9, a10)) :
    wpX_freshGroup post (f1, f2, f3, f4, f5, f6, 0, a1, a2, a3, a4, a5, a6, a7, a8, a9, a10) :=
  br_f (by decide) (Exists.intro 1 (br_f (by decide) (br_t (by decide) (nm_r (e' := 1) (by decide) hp))))
theorem pg_fg1 {post : Int32 → St2 → Prop} (hp : post 1 (f1, f2, f3, f4, f5, f6, 3, a1, a2, a3, a4, a5, a6, a7, a8, a9, a10)) :
    wpX_freshGroup post (f1, f2, f3, f4, f5, f6, 1, a1, a2, a3, a4, a5, a6, a7, a8, a9, a10) :=
  br_f (by decide) (Exists.intro 2 (br_f (by decide) (br_f (by decide) (nm_r (e' := 1) (by decide) (br_f (by decide) (br_t (by decide) (nm_r (e' := 3) (by decide) hp)))))))

theorem pg_nr0 {post : Int32 → St2 → Prop} {p v c i p' v' c' i' : Int32} (ep : p.toInt8.toInt32 = p') (ev : v.toInt8.toInt32 = v') (ec : c.toInt8.toInt32 = c') (ei : i.toInt8.toInt32 = i')
    (hp : post 0 (f1, f2, f3, f4, f5, 1, f7, a1, a2, a3, a4, upd a5 0 p', upd a6 0 v', upd a7 0 c', upd a8 0 i', a9, a10)) :
    wpX_newRegion post (f1, f2, f3, f4, f5, 0, f7, a1, a2, a3, a4, a5, a6, a7, a8, a9, a10) p v c i :=
  pg_ff0 (nm_r (e' := 1) (by decide) ⟨pg_iv (by decide), nm_r (pg_u (by decide) ep) ⟨pg_iv (by decide), nm_r (pg_u (by decide) ev) ⟨pg_iv (by decide), nm_r (pg_u (by decide) ec) ⟨pg_iv (by decide), nm_r (pg_u (by decide) ei) hp⟩⟩⟩⟩)
theorem pg_nr1 {post : Int32 → St2 → Prop} {p v c i p' v' c' i' : Int32} (ep : p.toInt8.toInt32 = p') (ev : v.toInt8.toInt32 = v') (ec : c.toInt8.toInt32 = c') (ei : i.toInt8.toInt32 = i')
    (hp : post 1 (f1, f2, f3, f4, f5, 3, f7, a1, a2, a3, a4, upd a5 1 p', upd a6 1 v', upd a7 1 c', upd a8 1 i', a9, a10)) :
    wpX_newRegion post (f1, f2, f3, f4, f5, 1, f7, a1, a2, a3, a4, a5, a6, a7, a8, a9, a10) p v c i :=
  pg_ff1 (nm_r (e' := 3) (by decide) ⟨pg_iv (by decide), nm_r (pg_u (by decide) ep) ⟨pg_iv (by decide), nm_r (pg_u (by decide) ev) ⟨pg_iv (by decide), nm_r (pg_u (by decide) ec) ⟨pg_iv (by decide), nm_r (pg_u (by decide) ei) hp⟩⟩⟩⟩)

/-- newPage: g the page, l and k the places as naturals -/
theorem pg_np {post : St2 → Prop} {p v r x g pl m2 m3 m4 m5 u3 u4 g' : Int32} {k l : Nat}
    (hff : ∀ Q : Int32 → Prop, Q g → wpX_firstFree Q () f4) (epl : 8 * p + v = pl) (e4 : f4 ||| pg_one g = m4) (e5 : f5 ||| pg_one g = m5)
    (hg : vp_in g 32) (kg : g.toNatClampNeg = k) (hr : vp_in r 32) (e3 : vp_nar .byte (a9 r.toNatClampNeg) = u3)
    (eu : (((a8 r.toNatClampNeg) + v) - (a6 r.toNatClampNeg)).toInt8.toInt32 = u4) (hpl : vp_in pl 32) (kp : pl.toNatClampNeg = l) (eg : g.toInt8.toInt32 = g')
    (em : f3 ||| pg_one pl = m3) (ep : f2 ||| pg_one pl = m2)
    (hp : post (f1, m2, m3, m4, m5, f6, f7, upd a1 l g', upd a2 k x, upd a3 k u3, upd a4 k u4, a5, a6, a7, a8, a9, a10)) :
    wpX_newPage post (f1, f2, f3, f4, f5, f6, f7, a1, a2, a3, a4, a5, a6, a7, a8, a9, a10) p v r x :=
  hff _ (nm_r epl (nm_r e4 (nm_r e5 ⟨hg, nm_r (pg_u kg rfl) ⟨hr, hg, nm_r (pg_u kg e3) ⟨hr, hr, hg, nm_r (pg_u kg eu) ⟨hpl, nm_r (pg_u kp eg) (nm_r em (nm_r ep hp))⟩⟩⟩⟩)))

theorem pg_bi {post : St2 → Prop} {g : Int32} (h : ¬ pg_bit f5 g = 0) (hp : post (f1, f2, f3, f4, f5, f6, f7, a1, a2, a3, a4, a5, a6, a7, a8, a9, a10)) :
    wpX_bringIn post (f1, f2, f3, f4, f5, f6, f7, a1, a2, a3, a4, a5, a6, a7, a8, a9, a10) g := br_f h hp

/-- ones, as a program -/
def pg_on (s : Int32) : Nat → Int32 → Int32 → Option Int32
  | 0, _, _ => none
  | n + 1, x1, x2 => if 32 ≤ x2 then some x1 else pg_on s n (x1 + pg_bit s x2) (x2 + 1)
theorem pg_onv {post : Int32 → Prop} {s r : Int32} (hp : post r) : ∀ n x1 x2, pg_on s n x1 x2 = some r → wX_ones_4 post s n x1 x2 := by
  intro n
  induction n with
  | zero => exact fun x1 x2 h => absurd h (by simp [pg_on])
  | succ n ih =>
    intro x1 x2 h
    unfold pg_on at h
    by_cases c : (32 : Int32) ≤ x2
    · rw [if_pos c] at h
      injection h with h
      exact br_t c (h ▸ hp)
    · rw [if_neg c] at h
      exact br_f c (nm_e (nm_e (ih _ _ h)))
theorem pg_pages {post : Int32 → Prop} {r : Int32} (h : pg_on f4 33 0 0 = some r) (hp : post r) :
    wpX_pages post (f1, f2, f3, f4, f5, f6, f7, a1, a2, a3, a4, a5, a6, a7, a8, a9, a10) := Exists.intro 33 (pg_onv hp 33 0 0 h)

/-- walk, as a program -/
def pg_46 (x1 x2 x3 z0 : Int32) (a1 a4 a5 a6 a7 a8 : Nat → Int32) : Option Int32 :=
  if (pg_ib x1 && pg_ib x3) = true then
    if z0 = 0 then some x2
    else if a4 x1.toNatClampNeg - a8 x3.toNatClampNeg < 0 then some x2
    else if a7 x3.toNatClampNeg ≤ a4 x1.toNatClampNeg - a8 x3.toNatClampNeg then some x2
    else if pg_ib (8 * a5 x3.toNatClampNeg + a6 x3.toNatClampNeg + (a4 x1.toNatClampNeg - a8 x3.toNatClampNeg)) = true then
      if a1 (8 * a5 x3.toNatClampNeg + a6 x3.toNatClampNeg + (a4 x1.toNatClampNeg - a8 x3.toNatClampNeg)).toNatClampNeg = x1 then
        some (x2 ||| pg_one (8 * a5 x3.toNatClampNeg + a6 x3.toNatClampNeg + (a4 x1.toNatClampNeg - a8 x3.toNatClampNeg)))
      else some x2
    else none
  else none
theorem pg_46v {post : Int32 → Prop} {J : Int32 → Int32 → Prop} {x1 x2 x3 z0 y : Int32} (h : pg_46 x1 x2 x3 z0 a1 a4 a5 a6 a7 a8 = some y) (hj : J y (x3 + 1)) :
    wX_walk_46 post J x1 x2 x3 z0 f1 f2 f3 f4 f5 f6 f7 a1 a2 a3 a4 a5 a6 a7 a8 a9 a10 := by
  unfold pg_46 at h
  by_cases c : (pg_ib x1 && pg_ib x3) = true
  · rw [if_pos c] at h
    have c' := c
    rw [Bool.and_eq_true] at c'
    have i1 := pg_iv c'.1
    have i3 := pg_iv c'.2
    refine ⟨i1, i3, nm_e ?_⟩
    by_cases z : z0 = 0
    · rw [if_pos z] at h
      injection h with h
      exact br_t z (nm_e (h ▸ hj))
    · rw [if_neg z] at h
      refine br_f z ?_
      by_cases d : a4 x1.toNatClampNeg - a8 x3.toNatClampNeg < 0
      · rw [if_pos d] at h
        injection h with h
        exact br_t d (nm_e (h ▸ hj))
      · rw [if_neg d] at h
        refine br_f d ⟨i3, ?_⟩
        by_cases e : a7 x3.toNatClampNeg ≤ a4 x1.toNatClampNeg - a8 x3.toNatClampNeg
        · rw [if_pos e] at h
          injection h with h
          exact br_t e (nm_e (h ▸ hj))
        · rw [if_neg e] at h
          refine br_f e ⟨i3, i3, nm_e ?_⟩
          by_cases g : pg_ib (8 * a5 x3.toNatClampNeg + a6 x3.toNatClampNeg + (a4 x1.toNatClampNeg - a8 x3.toNatClampNeg)) = true
          · rw [if_pos g] at h
            refine ⟨pg_iv g, ?_⟩
            by_cases k : a1 (8 * a5 x3.toNatClampNeg + a6 x3.toNatClampNeg + (a4 x1.toNatClampNeg - a8 x3.toNatClampNeg)).toNatClampNeg = x1
            · rw [if_pos k] at h
              injection h with h
              exact br_t k (nm_e (nm_e (h ▸ hj)))
            · rw [if_neg k] at h
              injection h with h
              exact br_f k (nm_e (h ▸ hj))
          · rw [if_neg g] at h
            exact absurd h (by simp)
  · rw [if_neg c] at h
    exact absurd h (by simp)
def pg_st (x1 x2 x3 s : Int32) (a1 a3 a4 a5 a6 a7 a8 : Nat → Int32) (a10 : Nat → Int64) : Option Int32 :=
  if pg_bit s x3 = 0 then pg_46 x1 x2 x3 0 a1 a4 a5 a6 a7 a8
  else if (pg_ib x1 && pg_ib x3) = true then
    if ((((a10 x3.toNatClampNeg).toUInt64 >>> ((a3 x1.toNatClampNeg).toInt64.toUInt64 &&& Int64.toUInt64 63)).toInt64) &&& 1) = 0 then pg_46 x1 x2 x3 0 a1 a4 a5 a6 a7 a8
    else pg_46 x1 x2 x3 1 a1 a4 a5 a6 a7 a8
  else none
def pg_wk (x1 s : Int32) (a1 a3 a4 a5 a6 a7 a8 : Nat → Int32) (a10 : Nat → Int64) : Nat → Int32 → Int32 → Option Int32
  | 0, _, _ => none
  | n + 1, x2, x3 => if 32 ≤ x3 then some x2 else
    match pg_st x1 x2 x3 s a1 a3 a4 a5 a6 a7 a8 a10 with
    | some y => pg_wk x1 s a1 a3 a4 a5 a6 a7 a8 a10 n y (x3 + 1)
    | none => none
theorem pg_wkv {post : Int32 → Prop} {x1 r : Int32} (hp : post r) : ∀ n x2 x3, pg_wk x1 f6 a1 a3 a4 a5 a6 a7 a8 a10 n x2 x3 = some r →
    wX_walk_4 post x1 f1 f2 f3 f4 f5 f6 f7 a1 a2 a3 a4 a5 a6 a7 a8 a9 a10 n x2 x3 := by
  intro n
  induction n with
  | zero => exact fun x1 x2 h => absurd h (by simp [pg_wk])
  | succ n ih =>
    intro x2 x3 h
    unfold pg_wk at h
    by_cases c : (32 : Int32) ≤ x3
    · rw [if_pos c] at h
      injection h with h
      exact br_t c (h ▸ hp)
    · rw [if_neg c] at h
      refine br_f c ?_
      cases hs : pg_st x1 x2 x3 f6 a1 a3 a4 a5 a6 a7 a8 a10 with
      | none =>
        rw [hs] at h
        exact absurd h (by simp)
      | some y =>
        rw [hs] at h
        have hw := ih y (x3 + 1) h
        unfold pg_st at hs
        by_cases b : pg_bit f6 x3 = 0
        · rw [if_pos b] at hs
          exact br_t b (pg_46v hs hw)
        · rw [if_neg b] at hs
          refine br_f b ?_
          by_cases i : (pg_ib x1 && pg_ib x3) = true
          · rw [if_pos i] at hs
            have i' := i
            rw [Bool.and_eq_true] at i'
            refine ⟨pg_iv i'.2, pg_iv i'.1, ?_⟩
            by_cases m : ((((a10 x3.toNatClampNeg).toUInt64 >>> ((a3 x1.toNatClampNeg).toInt64.toUInt64 &&& Int64.toUInt64 63)).toInt64) &&& 1) = 0
            · rw [if_pos m] at hs
              exact br_t m (pg_46v hs hw)
            · rw [if_neg m] at hs
              exact br_f m (pg_46v hs hw)
          · rw [if_neg i] at hs
            exact absurd hs (by simp)
theorem pg_walk {post : Int32 → Prop} {x1 r : Int32} (h : pg_wk x1 f6 a1 a3 a4 a5 a6 a7 a8 a10 33 0 0 = some r) (hp : post r) :
    wpX_walk post (f1, f2, f3, f4, f5, f6, f7, a1, a2, a3, a4, a5, a6, a7, a8, a9, a10) x1 := Exists.intro 33 (pg_wkv hp 33 0 0 h)
end
end
section
/-! the road to the fork: every state written out; only contents (a2) holds the script's ints -/
def pg_Z : Nat → Int32 := fun _ => 0
def pg_ZL : Nat → Int64 := fun _ => 0
def pg_B : Nat → Int32 := fun j => if j < 32 then -1 else 0
def pg_M1 : Nat → Int32 := upd (upd pg_B 2 0) 3 1
def pg_M2 : Nat → Int32 := upd (upd pg_Z 0 0) 1 0
def pg_M3 : Nat → Int32 := upd (upd pg_Z 0 0) 1 0
def pg_M4 : Nat → Int32 := upd (upd pg_Z 0 2) 1 3
def pg_M5 : Nat → Int32 := upd pg_Z 0 0
def pg_M6 : Nat → Int32 := upd pg_Z 0 2
def pg_M7 : Nat → Int32 := upd pg_Z 0 2
def pg_M8 : Nat → Int32 := upd pg_Z 0 2
def pg_M9 : Nat → Int32 := upd pg_Z 0 0
def pg_M10 : Nat → Int64 := vp_updL pg_ZL 0 1
def pg_F1 : Nat → Int32 := upd (upd pg_M1 10 0) 11 1
def pg_F5 : Nat → Int32 := upd pg_M5 1 1
def pg_F6 : Nat → Int32 := upd pg_M6 1 2
def pg_F7 : Nat → Int32 := upd pg_M7 1 2
def pg_F8 : Nat → Int32 := upd pg_M8 1 2
def pg_F9 : Nat → Int32 := upd pg_M9 1 1
def pg_F10 : Nat → Int64 := vp_updL pg_M10 1 3

theorem pg_init {post : St2 → Prop} (hp : post (0, 0, 0, 0, 0, 0, 0, pg_B, pg_Z, pg_Z, pg_Z, pg_Z, pg_Z, pg_Z, pg_Z, pg_Z, pg_ZL)) :
    wpX_init post 10 320 (0, 0, 0, 0, 0, 0, 0) := by
  have hl : ∃ n, wX_init_86 post 10 320 10 320 0 0 0 0 0 0 0 n 0 pg_Z pg_Z pg_Z pg_Z pg_Z pg_Z pg_Z pg_Z pg_Z pg_ZL :=
    pk_loop (fun n i s => wX_init_86 post 10 320 10 320 0 0 0 0 0 0 0 n (nI i) s pg_Z pg_Z pg_Z pg_Z pg_Z pg_Z pg_Z pg_Z pg_ZL)
      (fun i s => s = fun j => if j < i then -1 else 0) 32 0 pg_Z (by omega) (by funext j; rw [if_neg (by omega)]; rfl)
      (fun n s h => pk_le 32 32 (fun _ => by rw [h]; exact hp) (fun z => absurd z (by omega)))
      (fun n i s hi h hw => pk_le 32 i (fun z => absurd z (by omega)) (fun _ => ⟨pk_in i 32 hi, nm_e (nm_r (nI_1 i) (hw _ (by
        rw [nI_clamp (by omega), h]
        funext j
        show (if j = i then (-1 : Int32) else if j < i then -1 else 0) = if j < i + 1 then -1 else 0
        by_cases e : j = i
        · rw [if_pos e, if_pos (by omega)]
        · rw [if_neg e]
          by_cases l : j < i
          · rw [if_pos l, if_pos (by omega)]
          · rw [if_neg l, if_neg (by omega)])))⟩))
  unfold wpX_init
  exact ⟨by omega, by omega, by omega, by omega, by omega, by omega, by omega, by omega, by omega, by omega, by omega, by omega, by omega, by omega, by omega, by omega, by omega, by omega, by omega, by omega, hl⟩

theorem pg_map {post : Int32 → St2 → Prop} (hp : post 1 (1, 12, 12, 3, 3, 1, 1, pg_M1, pg_M2, pg_M3, pg_M4, pg_M5, pg_M6, pg_M7, pg_M8, pg_M9, pg_M10)) :
    wpX_map post (1, 0, 0, 0, 0, 0, 0, pg_B, pg_Z, pg_Z, pg_Z, pg_Z, pg_Z, pg_Z, pg_Z, pg_Z, pg_ZL) 0 2 2 := by
  have hl : ∃ n, wX_map_72 post 0 2 2 0 n 2 1 0 0 0 0 1 1 pg_B pg_Z pg_Z pg_Z pg_M5 pg_M6 pg_M7 pg_M8 pg_M9 pg_M10 := by
    refine ⟨3, br_f (by decide) ?_⟩
    refine pg_np (g := 0) (k := 0) (l := 2) (fun Q h => pg_ff0 h) (pl := 2) (by decide) (m4 := 1) (by decide) (m5 := 1) (by decide) (pg_iv (by decide)) (by decide) (pg_iv (by decide)) (u3 := 0) (by decide) (u4 := 2) (by decide) (pg_iv (by decide)) (by decide) (g' := 0) (by decide) (m3 := 4) (by decide) (m2 := 4) (by decide) ?_
    refine nm_r (e' := 3) (by decide) (br_f (by decide) ?_)
    refine pg_np (g := 1) (k := 1) (l := 3) (fun Q h => pg_ff1 h) (pl := 3) (by decide) (m4 := 3) (by decide) (m5 := 3) (by decide) (pg_iv (by decide)) (by decide) (pg_iv (by decide)) (u3 := 0) (by decide) (u4 := 3) (by decide) (pg_iv (by decide)) (by decide) (g' := 1) (by decide) (m3 := 12) (by decide) (m2 := 12) (by decide) ?_
    exact nm_r (e' := 4) (by decide) (br_t (by decide) hp)
  unfold wpX_map
  refine pg_has (by decide) (by decide) (by decide) (br_f (by decide) ?_)
  refine br_f (by decide) (br_f (by decide) (br_f (by decide) (br_f (by decide) (br_f (by decide) (br_f (by decide) ?_)))))
  refine br_t (by decide) ?_
  refine pg_fg0 ?_
  refine pg_nr0 (p' := 0) (by decide) (v' := 2) (by decide) (c' := 2) (by decide) (i' := 2) (by decide) ?_
  exact ⟨pg_iv (by decide), nm_r (e' := pg_M9) (pg_u (by decide) (by decide)) ⟨pg_iv (by decide), nm_r (e' := pg_M10) (pg_uL (by decide) (by decide)) hl⟩⟩

theorem pg_write1 {post : Int32 → St2 → Prop} {x : Int32} (hp : post 1 (1, 12, 12, 3, 3, 1, 1, pg_M1, upd pg_M2 0 x, pg_M3, pg_M4, pg_M5, pg_M6, pg_M7, pg_M8, pg_M9, pg_M10)) :
    wpX_write post (1, 12, 12, 3, 3, 1, 1, pg_M1, pg_M2, pg_M3, pg_M4, pg_M5, pg_M6, pg_M7, pg_M8, pg_M9, pg_M10) 0 2 x := by
  unfold wpX_write
  refine pg_im (by decide) (by decide) (by decide) (by decide) (by decide) (by decide) (br_f (by decide) ?_)
  refine nm_r (e' := 2) (by decide) ⟨pg_iv (by decide), nm_r (e' := 0) (by decide) ?_⟩
  refine pg_bi (by decide) ?_
  refine pg_walk (r := 4) (by decide +kernel) ?_
  exact br_t (by decide) ⟨pg_iv (by decide), nm_r (pg_u (j := 0) (by decide) rfl) hp⟩

theorem pg_inherit {post : St2 → Prop} {b2 : Nat → Int32} (hp : post (3, 3084, 3084, 3, 3, 3, 3, pg_F1, b2, pg_M3, pg_M4, pg_F5, pg_F6, pg_F7, pg_F8, pg_F9, pg_F10)) :
    wpX_inherit post (3, 12, 12, 3, 3, 1, 1, pg_M1, b2, pg_M3, pg_M4, pg_M5, pg_M6, pg_M7, pg_M8, pg_M9, pg_M10) 0 1 := by
  have hl : ∃ n, wX_inherit_59 post 0 1 3 3 3 3 3 n 0 12 12 pg_M1 b2 pg_M3 pg_M4 pg_F5 pg_F6 pg_F7 pg_F8 pg_F9 pg_F10 := by
    refine ⟨3, pg_iv (by decide), br_f (by decide) ⟨pg_iv (by decide), pg_iv (by decide), nm_r (e' := 2) (by decide) ⟨pg_iv (by decide), nm_r (e' := 10) (by decide) ⟨pg_iv (by decide), pg_iv (by decide), ?_⟩⟩⟩⟩
    refine nm_r (e' := upd pg_M1 10 0) (pg_u (by decide) (by decide)) (nm_r (e' := 1036) (by decide) (nm_r (e' := 1036) (by decide) (nm_r (e' := 1) (by decide) ?_)))
    refine ⟨pg_iv (by decide), br_f (by decide) ⟨pg_iv (by decide), pg_iv (by decide), nm_r (e' := 3) (by decide) ⟨pg_iv (by decide), nm_r (e' := 11) (by decide) ⟨pg_iv (by decide), pg_iv (by decide), ?_⟩⟩⟩⟩
    refine nm_r (e' := pg_F1) (pg_u (by decide) (by decide)) (nm_r (e' := 3084) (by decide) (nm_r (e' := 3084) (by decide) (nm_r (e' := 2) (by decide) ?_)))
    exact ⟨pg_iv (by decide), br_t (by decide) hp⟩
  refine pg_fg1 ⟨pg_iv (by decide), pg_iv (by decide), pg_iv (by decide), ?_⟩
  refine pg_nr1 (p' := 1) (by decide) (v' := 2) (by decide) (c' := 2) (by decide) (i' := 2) (by decide) ?_
  exact ⟨pg_iv (by decide), nm_r (e' := pg_F9) (pg_u (by decide) (by decide)) ⟨pg_iv (by decide), pg_iv (by decide), nm_r (e' := pg_F10) (pg_uL (by decide) (by decide)) hl⟩⟩

theorem pg_tail0 : ∀ i, i < 32 → 1 ≤ i → pg_bit 1 (nI i) = 0 := by decide +kernel
theorem pg_fork {post : Int32 → St2 → Prop} {b2 : Nat → Int32} (hp : post 1 (3, 3084, 3084, 3, 3, 3, 3, pg_F1, b2, pg_M3, pg_M4, pg_F5, pg_F6, pg_F7, pg_F8, pg_F9, pg_F10)) :
    wpX_fork post (1, 12, 12, 3, 3, 1, 1, pg_M1, b2, pg_M3, pg_M4, pg_M5, pg_M6, pg_M7, pg_M8, pg_M9, pg_M10) 0 := by
  have hl : ∃ n, wX_fork_42 post 0 1 1 n 1 3 3084 3084 3 3 3 3 pg_F1 b2 pg_M3 pg_M4 pg_F5 pg_F6 pg_F7 pg_F8 pg_F9 pg_F10 :=
    pk_loop (σ := Unit) (fun n i _ => wX_fork_42 post 0 1 1 n (nI i) 3 3084 3084 3 3 3 3 pg_F1 b2 pg_M3 pg_M4 pg_F5 pg_F6 pg_F7 pg_F8 pg_F9 pg_F10)
      (fun i _ => 1 ≤ i) 32 1 () (by omega) (Nat.le_refl 1)
      (fun n _ _ => pk_le 32 32 (fun _ => hp) (fun z => absurd z (by omega)))
      (fun n i _ hi h hw => pk_le 32 i (fun z => absurd z (by omega)) (fun _ => br_t (pg_tail0 i hi h) (nm_r (nI_1 i) (hw () (by omega)))))
  obtain ⟨n, hn⟩ := hl
  unfold wpX_fork
  refine pg_has (by decide) (by decide) (by decide) (br_f (by decide) ?_)
  refine pg_fp1 (br_t (by decide) (nm_r (e' := 3) (by decide) ⟨n + 1, ?_⟩))
  refine br_f (by decide) (br_f (by decide) ⟨pg_iv (by decide), br_t (by decide) ?_⟩)
  exact pg_inherit (nm_r (e' := 1) (by decide) hn)
end
section
/-! the write behind the fork, the answers, the law -/
section
variable {f1 f2 f3 f4 f5 f6 : Int32} {f7 : Int64} {a1 a2 a3 a4 a5 a6 a7 a8 a9 : Nat → Int32} {a10 : Nat → Int64}
theorem pg_mappers {post : Int32 → Prop} {p v g r : Int32} (h0 : ¬ p < 0) (h4 : ¬ 4 ≤ p) (hb : ¬ (f1 >>> (p &&& 31)) &&& 1 = 0) (v0 : ¬ v < 0) (v8 : ¬ 8 ≤ v)
    (hm : ¬ pg_bit f3 (8 * p + v) = 0) (hi : vp_in (8 * p + v) 32) (eg : a1 (8 * p + v).toNatClampNeg = g)
    (h : pg_wk g f6 a1 a3 a4 a5 a6 a7 a8 a10 33 0 0 = some r) (hp : post r) :
    wpX_mappers post (f1, f2, f3, f4, f5, f6, f7, a1, a2, a3, a4, a5, a6, a7, a8, a9, a10) p v := by
  unfold wpX_mappers
  exact pg_im h0 h4 hb v0 v8 hm (br_f (by decide) ⟨hi, pg_walk (by rw [eg]; exact h) hp⟩)
theorem pg_read {post : Int32 → St2 → Prop} {p v g x : Int32} (h0 : ¬ p < 0) (h4 : ¬ 4 ≤ p) (hb : ¬ (f1 >>> (p &&& 31)) &&& 1 = 0) (v0 : ¬ v < 0) (v8 : ¬ 8 ≤ v)
    (hm : ¬ pg_bit f3 (8 * p + v) = 0) (hi : vp_in (8 * p + v) 32) (eg : a1 (8 * p + v).toNatClampNeg = g) (hr : ¬ pg_bit f5 g = 0) (hg : vp_in g 32)
    (ex : a2 g.toNatClampNeg = x) (hp : post x (f1, f2, f3, f4, f5, f6, f7, a1, a2, a3, a4, a5, a6, a7, a8, a9, a10)) :
    wpX_read post (f1, f2, f3, f4, f5, f6, f7, a1, a2, a3, a4, a5, a6, a7, a8, a9, a10) p v := by
  unfold wpX_read
  exact pg_im h0 h4 hb v0 v8 hm (br_f (by decide) ⟨hi, nm_r eg (pg_bi hr ⟨hg, by rw [ex]; exact hp⟩)⟩)
theorem pg_ra0 {post : Int32 → Prop} {v : Int32} (hv : ¬ v < pg_F6 0) (hw : ¬ pg_F6 0 + pg_F7 0 ≤ v) (hp : post 0) :
    wpX_regionAt post (f1, f2, f3, f4, f5, 3, f7, a1, a2, a3, a4, pg_F5, pg_F6, pg_F7, a8, a9, a10) 0 v :=
  Exists.intro 1 (br_f (by decide) (br_f (by decide) ⟨pg_iv (by decide), br_t (by decide) (br_f (by decide) ⟨pg_iv (by decide), br_f hv ⟨pg_iv (by decide), pg_iv (by decide), br_f hw hp⟩⟩)⟩))
theorem pg_ra1 {post : Int32 → Prop} {v : Int32} (hv : ¬ v < pg_F6 1) (hw : ¬ pg_F6 1 + pg_F7 1 ≤ v) (hp : post 1) :
    wpX_regionAt post (f1, f2, f3, f4, f5, 3, f7, a1, a2, a3, a4, pg_F5, pg_F6, pg_F7, a8, a9, a10) 1 v :=
  Exists.intro 2 (br_f (by decide) (br_f (by decide) ⟨pg_iv (by decide), br_f (by decide) (br_t (by decide) (nm_r (e' := 1) (by decide)
    (br_f (by decide) (br_f (by decide) ⟨pg_iv (by decide), br_t (by decide) (br_f (by decide) ⟨pg_iv (by decide), br_f hv ⟨pg_iv (by decide), pg_iv (by decide), br_f hw hp⟩⟩)⟩))))⟩))
end
/-- the write behind the fork at a mapped place: a page of its own -/
theorem pg_write2 {post : Int32 → St2 → Prop} {p v y pl g w u3 u4 : Int32} {l : Nat} {b2 : Nat → Int32} (h0 : ¬ p < 0) (h4 : ¬ 4 ≤ p) (hb : ¬ ((3 : Int32) >>> (p &&& 31)) &&& 1 = 0) (v0 : ¬ v < 0) (v8 : ¬ 8 ≤ v)
    (hm : ¬ pg_bit 3084 (8 * p + v) = 0) (epl : 8 * p + v = pl) (hpl : vp_in pl 32) (kp : pl.toNatClampNeg = l) (eg : pg_F1 l = g) (hr : ¬ pg_bit 3 g = 0)
    (hw : pg_wk g 3 pg_F1 pg_M3 pg_M4 pg_F5 pg_F6 pg_F7 pg_F8 pg_F10 33 0 0 = some w) (hn : ¬ w = pg_one pl)
    (hra : ∀ Q : Int32 → Prop, Q p → wpX_regionAt Q (3, 3084, 3084, 3, 3, 3, 3, pg_F1, b2, pg_M3, pg_M4, pg_F5, pg_F6, pg_F7, pg_F8, pg_F9, pg_F10) p v)
    (hp32 : vp_in p 32) (e3 : vp_nar .byte (pg_F9 p.toNatClampNeg) = u3) (eu : (((pg_F8 p.toNatClampNeg) + v) - (pg_F6 p.toNatClampNeg)).toInt8.toInt32 = u4)
    (em : (3084 : Int32) ||| pg_one pl = 3084)
    (hp : post 1 (3, 3084, 3084, 7, 7, 3, 3, upd pg_F1 l 2, upd b2 2 y, upd pg_M3 2 u3, upd pg_M4 2 u4, pg_F5, pg_F6, pg_F7, pg_F8, pg_F9, pg_F10)) :
    wpX_write post (3, 3084, 3084, 3, 3, 3, 3, pg_F1, b2, pg_M3, pg_M4, pg_F5, pg_F6, pg_F7, pg_F8, pg_F9, pg_F10) p v y := by
  unfold wpX_write
  refine pg_im h0 h4 hb v0 v8 hm (br_f (by decide) ?_)
  refine nm_r epl ⟨hpl, nm_r (e' := g) (by rw [kp, eg]) ?_⟩
  refine pg_bi hr ?_
  refine pg_walk hw ?_
  refine br_f hn ?_
  refine hra _ ?_
  exact pg_np (g := 2) (k := 2) (fun Q h => pg_ff3 h) epl (m4 := 7) (by decide) (m5 := 7) (by decide) (pg_iv (by decide)) (by decide) hp32 e3 eu hpl kp (g' := 2) (by decide) em em hp

/-- the write behind the fork anywhere else: nothing -/
theorem pg_write2N {post : Int32 → St2 → Prop} {p v y : Int32} {b2 : Nat → Int32} (h : ¬ ((p = 0 ∨ p = 1) ∧ (v = 2 ∨ v = 3)))
    (hp : post 0 (3, 3084, 3084, 3, 3, 3, 3, pg_F1, b2, pg_M3, pg_M4, pg_F5, pg_F6, pg_F7, pg_F8, pg_F9, pg_F10)) :
    wpX_write post (3, 3084, 3084, 3, 3, 3, 3, pg_F1, b2, pg_M3, pg_M4, pg_F5, pg_F6, pg_F7, pg_F8, pg_F9, pg_F10) p v y := by
  unfold wpX_write
  exact pg_imN (pg_out h) (br_t rfl hp)

/-! the law's own checks, by case -/
theorem pg_l02 {post : Int32 → St0 → Prop} {mc ms kc ks : Nat} {x y : Int32} (hp : post 1 ()) : wL_lawOf_94 post mc ms x y 0 2 1 1 4 3 y x kc ks :=
  br_t rfl (br_f (by decide) (br_t rfl (br_t rfl (br_t rfl (br_f (by decide) (br_t rfl (br_f (by decide) (br_t rfl (br_f (by decide) (br_t rfl (br_t rfl (br_f (by decide) (br_f (by decide) (br_t rfl hp))))))))))))))
theorem pg_l12 {post : Int32 → St0 → Prop} {mc ms kc ks : Nat} {x y : Int32} (hp : post 1 ()) : wL_lawOf_94 post mc ms x y 1 2 1 1 4 3 x y kc ks :=
  br_t rfl (br_f (by decide) (br_t rfl (br_t rfl (br_t rfl (br_f (by decide) (br_t rfl (br_f (by decide) (br_t rfl (br_f (by decide) (br_f (by decide) (br_t rfl (br_f (by decide) (br_t rfl (br_t rfl hp))))))))))))))
theorem pg_lq3 {post : Int32 → St0 → Prop} {mc ms kc ks : Nat} {x y q : Int32} (hp : post 1 ()) : wL_lawOf_94 post mc ms x y q 3 1 1 1028 3 x x kc ks :=
  br_f (by decide) (br_t rfl (br_f (by decide) (br_f (by decide) (br_t rfl (br_t rfl (br_t rfl (br_t rfl (br_f (by decide) (br_t rfl (br_t rfl (br_t rfl (br_t rfl (br_t rfl hp)))))))))))))
theorem pg_bad {post : Int32 → St0 → Prop} {mc ms kc ks : Nat} {x y q v : Int32} (hp : post 1 ()) : wL_lawOf_108 post mc ms x y q v 1 0 1028 2 x x kc ks :=
  br_t rfl (br_t rfl (br_t rfl (br_t rfl (br_t rfl (br_t rfl (br_t rfl (br_t rfl (br_t rfl (br_t rfl (br_t rfl hp))))))))))

theorem i_vc (xs : Nat → Int32) (L : Nat) (hL : L ≤ 4) : wpL_law (fun r => r = 1) L xs := by
  refine pg_cell 0 (by omega) hL (fun x => ?_)
  refine pg_cell 1 (by omega) hL (fun y => ?_)
  refine pg_cell 2 (by omega) hL (fun q => ?_)
  refine pg_cell 3 (by omega) hL (fun v => ?_)
  refine ⟨11, 337, by omega, by omega, ?_⟩
  refine ⟨by omega, by omega, 10, 320, by omega, by omega, ?_⟩
  refine pg_init ?_
  refine pg_spawn ?_
  refine pg_map ?_
  refine pg_write1 ?_
  refine pg_fork ?_
  by_cases good : (q = 0 ∨ q = 1) ∧ (v = 2 ∨ v = 3)
  · obtain ⟨rfl | rfl, rfl | rfl⟩ := good
    · refine pg_write2 (pl := 2) (l := 2) (g := 0) (w := 1028) (u3 := 0) (u4 := 2) (by decide) (by decide) (by decide) (by decide) (by decide) (by decide) (by decide) (pg_iv (by decide)) (by decide) (by decide) (by decide) (by decide +kernel) (by decide) (fun Q h => pg_ra0 (by decide) (by decide) h) (pg_iv (by decide)) (by decide) (by decide) (by decide) ?_
      refine pg_mappers (g := 2) (r := 4) (by decide) (by decide) (by decide) (by decide) (by decide) (by decide) (pg_iv (by decide)) (by decide) (by decide +kernel) ?_
      refine pg_pages (r := 3) (by decide +kernel) ?_
      refine pg_read (g := 2) (x := y) (by decide) (by decide) (by decide) (by decide) (by decide) (by decide) (pg_iv (by decide)) (by decide) (by decide) (pg_iv (by decide)) rfl ?_
      refine pg_read (g := 0) (x := x) (by decide) (by decide) (by decide) (by decide) (by decide) (by decide) (pg_iv (by decide)) (by decide) (by decide) (pg_iv (by decide)) rfl ?_
      exact br_t rfl (pg_l02 rfl)
    · refine pg_write2 (pl := 3) (l := 3) (g := 1) (w := 2056) (u3 := 0) (u4 := 3) (by decide) (by decide) (by decide) (by decide) (by decide) (by decide) (by decide) (pg_iv (by decide)) (by decide) (by decide) (by decide) (by decide +kernel) (by decide) (fun Q h => pg_ra0 (by decide) (by decide) h) (pg_iv (by decide)) (by decide) (by decide) (by decide) ?_
      refine pg_mappers (g := 0) (r := 1028) (by decide) (by decide) (by decide) (by decide) (by decide) (by decide) (pg_iv (by decide)) (by decide) (by decide +kernel) ?_
      refine pg_pages (r := 3) (by decide +kernel) ?_
      refine pg_read (g := 0) (x := x) (by decide) (by decide) (by decide) (by decide) (by decide) (by decide) (pg_iv (by decide)) (by decide) (by decide) (pg_iv (by decide)) rfl ?_
      refine pg_read (g := 0) (x := x) (by decide) (by decide) (by decide) (by decide) (by decide) (by decide) (pg_iv (by decide)) (by decide) (by decide) (pg_iv (by decide)) rfl ?_
      exact br_t rfl (pg_lq3 rfl)
    · refine pg_write2 (pl := 10) (l := 10) (g := 0) (w := 1028) (u3 := 1) (u4 := 2) (by decide) (by decide) (by decide) (by decide) (by decide) (by decide) (by decide) (pg_iv (by decide)) (by decide) (by decide) (by decide) (by decide +kernel) (by decide) (fun Q h => pg_ra1 (by decide) (by decide) h) (pg_iv (by decide)) (by decide) (by decide) (by decide) ?_
      refine pg_mappers (g := 0) (r := 4) (by decide) (by decide) (by decide) (by decide) (by decide) (by decide) (pg_iv (by decide)) (by decide) (by decide +kernel) ?_
      refine pg_pages (r := 3) (by decide +kernel) ?_
      refine pg_read (g := 0) (x := x) (by decide) (by decide) (by decide) (by decide) (by decide) (by decide) (pg_iv (by decide)) (by decide) (by decide) (pg_iv (by decide)) rfl ?_
      refine pg_read (g := 2) (x := y) (by decide) (by decide) (by decide) (by decide) (by decide) (by decide) (pg_iv (by decide)) (by decide) (by decide) (pg_iv (by decide)) rfl ?_
      exact br_f (by decide) (br_t rfl (pg_l12 rfl))
    · refine pg_write2 (pl := 11) (l := 11) (g := 1) (w := 2056) (u3 := 1) (u4 := 3) (by decide) (by decide) (by decide) (by decide) (by decide) (by decide) (by decide) (pg_iv (by decide)) (by decide) (by decide) (by decide) (by decide +kernel) (by decide) (fun Q h => pg_ra1 (by decide) (by decide) h) (pg_iv (by decide)) (by decide) (by decide) (by decide) ?_
      refine pg_mappers (g := 0) (r := 1028) (by decide) (by decide) (by decide) (by decide) (by decide) (by decide) (pg_iv (by decide)) (by decide) (by decide +kernel) ?_
      refine pg_pages (r := 3) (by decide +kernel) ?_
      refine pg_read (g := 0) (x := x) (by decide) (by decide) (by decide) (by decide) (by decide) (by decide) (pg_iv (by decide)) (by decide) (by decide) (pg_iv (by decide)) rfl ?_
      refine pg_read (g := 0) (x := x) (by decide) (by decide) (by decide) (by decide) (by decide) (by decide) (pg_iv (by decide)) (by decide) (by decide) (pg_iv (by decide)) rfl ?_
      exact br_f (by decide) (br_t rfl (pg_lq3 rfl))
  · refine pg_write2N good ?_
    refine pg_mappers (g := 0) (r := 1028) (by decide) (by decide) (by decide) (by decide) (by decide) (by decide) (pg_iv (by decide)) (by decide) (by decide +kernel) ?_
    refine pg_pages (r := 2) (by decide +kernel) ?_
    refine pg_read (g := 0) (x := x) (by decide) (by decide) (by decide) (by decide) (by decide) (by decide) (pg_iv (by decide)) (by decide) (by decide) (pg_iv (by decide)) rfl ?_
    refine pg_read (g := 0) (x := x) (by decide) (by decide) (by decide) (by decide) (by decide) (by decide) (pg_iv (by decide)) (by decide) (by decide) (pg_iv (by decide)) rfl ?_
    exact br_c (fun e => br_f (fun z => good ⟨Or.inl e, Or.inl z⟩) (br_f (fun z => good ⟨Or.inl e, Or.inr z⟩) (pg_bad rfl)))
      (fun _ => br_c (fun e => br_f (fun z => good ⟨Or.inr e, Or.inl z⟩) (br_f (fun z => good ⟨Or.inr e, Or.inr z⟩) (pg_bad rfl))) (fun _ => pg_bad rfl))
end
