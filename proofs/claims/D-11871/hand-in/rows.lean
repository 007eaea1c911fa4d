section
/-- bit y of x, as the code reads it -/
abbrev qz_bit (x y : Int32) : Int32 := ((x.toUInt32 >>> (y.toUInt32 &&& Int32.toUInt32 31)).toInt32) &&& 1
/-- the set x without the variable v -/
abbrev qz_not (x v : Int32) : Int32 := x &&& (((1 : Int32) <<< (v &&& 31)) ^^^ (-1))
/-- a partial table f: what it holds, the array a holds -/
def qz_ag (f : Nat → Option Int32) (a : Nat → Int32) : Prop := ∀ k x, f k = some x → a k = x
/-- the first s places of a partial table -/
def qz_lt (f : Nat → Option Int32) (s : Nat) : Nat → Option Int32 := fun k => if k < s then f k else none
/-- a read of a partial table, with its bounds -/
def qz_rd (f : Nat → Option Int32) (i : Int32) (n : Nat) : Option Int32 := if i < 0 ∨ n ≤ i.toNatClampNeg then none else f i.toNatClampNeg
theorem qz_if {α : Type} {c : Prop} [Decidable c] {X : Option α} {r : α} (h : (if c then none else X) = some r) : ¬ c ∧ X = some r := by
  by_cases hc : c
  · rw [if_pos hc] at h
    cases h
  · rw [if_neg hc] at h
    exact ⟨hc, h⟩
theorem qz_rd_in {f : Nat → Option Int32} {i : Int32} {n : Nat} {x : Int32} (h : qz_rd f i n = some x) : vp_in i n := (qz_if h).1
theorem qz_rd_at {f : Nat → Option Int32} {a : Nat → Int32} {i : Int32} {n : Nat} {x : Int32} (h : qz_rd f i n = some x) (g : qz_ag f a) : a i.toNatClampNeg = x := g _ _ (qz_if h).2
theorem qz_ag_0 {f : Nat → Option Int32} {a : Nat → Int32} : qz_ag (qz_lt f 0) a := by
  intro k x h
  unfold qz_lt at h
  rw [if_neg (by omega)] at h
  cases h
theorem qz_ag_put {f : Nat → Option Int32} {a : Nat → Int32} {s : Nat} {x : Int32} (h : qz_ag (qz_lt f s) a) (hx : f s = some x) : qz_ag (qz_lt f (s + 1)) (upd a s x) := by
  intro k y hk
  by_cases e : k = s
  · subst e
    unfold qz_lt at hk
    rw [if_pos (by omega), hx] at hk
    injection hk with hk
    rw [pk_us, hk]
  · rw [pk_un e]
    refine h k y ?_
    unfold qz_lt at hk ⊢
    by_cases g : k < s
    · rw [if_pos g]
      rw [if_pos (by omega)] at hk
      exact hk
    · rw [if_neg (by omega)] at hk
      cases hk
theorem qz_ag_skip {f : Nat → Option Int32} {a : Nat → Int32} {s : Nat} (h : qz_ag (qz_lt f s) a) (hx : f s = none) : qz_ag (qz_lt f (s + 1)) a := by
  intro k y hk
  refine h k y ?_
  unfold qz_lt at hk ⊢
  by_cases g : k < s
  · rw [if_pos g]
    rw [if_pos (by omega)] at hk
    exact hk
  · by_cases e : k = s
    · subst e
      rw [if_pos (by omega), hx] at hk
      cases hk
    · rw [if_neg (by omega)] at hk
      cases hk
theorem qz_ag_all {f : Nat → Option Int32} {a : Nat → Int32} {s : Nat} (h : qz_ag (qz_lt f s) a) (hx : ∀ k, s ≤ k → f k = none) : qz_ag f a := by
  intro k y hk
  refine h k y ?_
  unfold qz_lt
  by_cases g : k < s
  · rw [if_pos g]
    exact hk
  · rw [hx k (by omega)] at hk
    cases hk
/-- the rests found so far -/
def qz_rl (rs : List Int32) (a : Nat → Int32) : Prop := ∀ i x, rs[i]? = some x → a i = x
def qz_kr (rs : List Int32) (r d : Int32) : List Int32 := if d = 0 then rs else if r ∈ rs then rs else rs ++ [r]
theorem qz_rl_add {rs : List Int32} {a : Nat → Int32} {r : Int32} (h : qz_rl rs a) : qz_rl (rs ++ [r]) (upd a rs.length r) := by
  intro i x hx
  by_cases e : i = rs.length
  · subst e
    rw [List.getElem?_append_right (Nat.le_refl _), Nat.sub_self] at hx
    injection hx with hx
    rw [pk_us, hx]
  · rw [pk_un e]
    refine h i x ?_
    by_cases g : i < rs.length
    · rw [List.getElem?_append_left g] at hx
      exact hx
    · rw [List.getElem?_eq_none (by rw [List.length_append, List.length_singleton]; omega)] at hx
      cases hx
theorem qz_keepL {post : St2 → Prop} {r kn : Int32} {a1 a2 a3 a4 a5 a6 a7 : Nat → Int32} {rs : List Int32} (hl : rs.length < 64) (ha : qz_rl rs a7)
    (H1 : r ∈ rs → post (4, 15, kn, nI rs.length, a1, a2, a3, a4, a5, a6, a7))
    (H2 : ¬ r ∈ rs → post (4, 15, kn, nI (rs.length + 1), a1, a2, a3, a4, a5, a6, upd a7 rs.length r)) :
    ∀ k i, i + k = rs.length → (∀ j, j < i → a7 j ≠ r) → wX_keepRest_7 post r 4 15 kn (nI rs.length) a1 a2 a3 a4 a5 a6 a7 (k + 1) (nI i) := by
  intro k
  induction k with
  | zero =>
    intro i hi hj
    have hn : ¬ r ∈ rs := by
      intro hm
      obtain ⟨j, hj2, e⟩ := List.getElem_of_mem hm
      exact hj j (by omega) (ha j r (by rw [List.getElem?_eq_getElem hj2, e]))
    exact pk_le rs.length i (fun _ => ⟨pk_in rs.length 64 hl, nm_r (by rw [nI_clamp (by omega)]) (nm_r (nI_1 _) (H2 hn))⟩) (fun z => absurd z (by omega))
  | succ k ih =>
    intro i hi hj
    have hb : i < rs.length := by omega
    have hc : (nI i).toNatClampNeg = i := nI_clamp (by omega)
    refine pk_le rs.length i (fun z => absurd z (by omega)) (fun _ => ⟨pk_in i 64 (by omega), ?_⟩)
    refine br_c (fun e => H1 ?_) (fun e => nm_r (nI_1 i) (ih (i + 1) (by omega) ?_))
    · rw [hc] at e
      have t := ha i rs[i] (List.getElem?_eq_getElem hb)
      rw [e] at t
      rw [t]
      exact List.getElem_mem hb
    · rw [hc] at e
      intro j hj2
      by_cases ej : j = i
      · rw [ej]
        exact e
      · exact hj j (by omega)
theorem qz_keep {post : St2 → Prop} {r d kn : Int32} {a1 a2 a3 a4 a5 a6 a7 : Nat → Int32} {rs : List Int32} (hl : rs.length < 64) (ha : qz_rl rs a7)
    (H : ∀ b, qz_rl (qz_kr rs r d) b → post (4, 15, kn, nI (qz_kr rs r d).length, a1, a2, a3, a4, a5, a6, b)) :
    wpX_keepRest post (4, 15, kn, nI rs.length, a1, a2, a3, a4, a5, a6, a7) r d := by
  by_cases hd : d = 0
  · have e : qz_kr rs r d = rs := if_pos hd
    rw [e] at H
    exact br_t hd (H a7 ha)
  · refine br_f hd (Exists.intro (rs.length + 1) (qz_keepL hl ha (fun hm => ?_) (fun hm => ?_) rs.length 0 (by omega) (fun j hj => absurd hj (by omega))))
    · have e : qz_kr rs r d = rs := by
        unfold qz_kr
        rw [if_neg hd, if_pos hm]
      rw [e] at H
      exact H a7 ha
    · have e : qz_kr rs r d = rs ++ [r] := by
        unfold qz_kr
        rw [if_neg hd, if_neg hm]
      rw [e, List.length_append, List.length_singleton] at H
      exact H _ (qz_rl_add ha)
end
section
def qz_x (x1 x2 x8 : Int32) : Int32 := qz_bit x1 (x2 ||| x8)
def qz_y (x1 x2 x4 x8 : Int32) : Int32 := qz_bit x1 (x2 ||| (x8 ^^^ ((1 : Int32) <<< (x4 &&& 31))))
def qz_d (x1 x2 x4 x6 x8 : Int32) : Int32 := if x6 = 0 then (if qz_x x1 x2 x8 = qz_y x1 x2 x4 x8 then 0 else 1) else 1
def qz_r (x1 x2 x5 x7 x8 : Int32) : Int32 := x5 ||| (qz_x x1 x2 x8 <<< (x7 &&& 31))
/-- addRest: the rest and whether it depends -/
def qz_ad (x1 x2 x3 x4 : Int32) : Nat → Int32 → Int32 → Int32 → Int32 → Int32 → Option (Int32 × Int32)
  | 0, _, _, _, _, _ => none
  | n + 1, x5, x6, x7, x8, x9 => if 32 ≤ x9 then none else
      if x8 = x3 then some (qz_r x1 x2 x5 x7 x8, qz_d x1 x2 x4 x6 x8)
      else qz_ad x1 x2 x3 x4 n (qz_r x1 x2 x5 x7 x8) (qz_d x1 x2 x4 x6 x8) (x7 + 1) ((x8 - x3) &&& x3) (x9 + 1)
theorem qz_adL {post : St2 → Prop} {x1 x2 x3 x4 r d kn : Int32} {a1 a2 a3 a4 a5 a6 a7 : Nat → Int32} {rs : List Int32} (hl : rs.length < 64) (ha : qz_rl rs a7)
    (H : ∀ b, qz_rl (qz_kr rs r d) b → post (4, 15, kn, nI (qz_kr rs r d).length, a1, a2, a3, a4, a5, a6, b)) :
    ∀ n x5 x6 x7 x8 x9, qz_ad x1 x2 x3 x4 n x5 x6 x7 x8 x9 = some (r, d) → wX_addRest_15 post x1 x2 x3 x4 4 15 kn (nI rs.length) a1 a2 a3 a4 a5 a6 a7 n x5 x6 x7 x8 x9 := by
  intro n
  induction n with
  | zero =>
    intro x5 x6 x7 x8 x9 h
    cases h
  | succ n ih =>
    intro x5 x6 x7 x8 x9 h
    rw [qz_ad] at h
    obtain ⟨h9, h⟩ := qz_if h
    have key : wX_addRest_64 post (wX_addRest_15 post x1 x2 x3 x4 4 15 kn (nI rs.length) a1 a2 a3 a4 a5 a6 a7 n) x1 x2 x3 x4 x5 x7 x8 x9 (qz_x x1 x2 x8) (qz_d x1 x2 x4 x6 x8) 4 15 kn (nI rs.length) a1 a2 a3 a4 a5 a6 a7 := by
      by_cases h8 : x8 = x3
      · rw [if_pos h8] at h
        injection h with h
        injection h with hr hd
        rw [← hr, ← hd] at H
        exact nm_e (nm_e (br_t h8 (qz_keep hl ha H)))
      · rw [if_neg h8] at h
        exact nm_e (nm_e (br_f h8 (nm_e (nm_e (ih _ _ _ _ _ h)))))
    refine br_f h9 (nm_e (nm_e ?_))
    by_cases h6 : x6 = 0
    · by_cases hxy : qz_x x1 x2 x8 = qz_y x1 x2 x4 x8
      · have e : qz_d x1 x2 x4 x6 x8 = 0 := by
          unfold qz_d
          rw [if_pos h6, if_pos hxy]
        rw [e] at key
        exact br_t h6 (br_t hxy key)
      · have e : qz_d x1 x2 x4 x6 x8 = 1 := by
          unfold qz_d
          rw [if_pos h6, if_neg hxy]
        rw [e] at key
        exact br_t h6 (br_f hxy key)
    · have e : qz_d x1 x2 x4 x6 x8 = 1 := by
        unfold qz_d
        rw [if_neg h6]
      rw [e] at key
      exact br_f h6 key
def qz_ks (rs : List Int32) (t g op v : Int32) : Option (List Int32) := (qz_ad t g op v 33 0 0 0 0 0).bind (fun p => if 64 ≤ rs.length then none else some (qz_kr rs p.1 p.2))
theorem qz_add {post : St2 → Prop} {t t' g op v kn : Int32} {a1 a2 a3 a4 a5 a6 a7 : Nat → Int32} {rs rs' : List Int32} (ht : t' = t) (h : qz_ks rs t g op v = some rs') (ha : qz_rl rs a7)
    (H : ∀ b, qz_rl rs' b → post (4, 15, kn, nI rs'.length, a1, a2, a3, a4, a5, a6, b)) :
    wpX_addRest post (4, 15, kn, nI rs.length, a1, a2, a3, a4, a5, a6, a7) t' g op v := by
  subst ht
  obtain ⟨p, hp, h⟩ := Option.bind_eq_some_iff.mp h
  obtain ⟨hl, h⟩ := qz_if h
  injection h with h
  subst h
  exact Exists.intro 33 (qz_adL (by omega) ha H 33 0 0 0 0 0 hp)
def qz_c3 (t0 t1 t2 g op v : Int32) (rs : List Int32) : Option (List Int32) := (qz_ks rs t0 g op v).bind (fun r1 => (qz_ks r1 t1 g op v).bind (fun r2 => qz_ks r2 t2 g op v))
def qz_cr (t0 t1 t2 op fx v : Int32) : Nat → Int32 → Int32 → List Int32 → Option (List Int32)
  | 0, _, _, _ => none
  | n + 1, g, st, rs => if 32 ≤ st then none else
      (qz_c3 t0 t1 t2 g op v rs).bind (fun r1 => if g = fx then some r1 else qz_cr t0 t1 t2 op fx v n ((g - fx) &&& fx) (st + 1) r1)
theorem qz_crL {post : Int32 → St2 → Prop} {t0 t1 t2 op fx v kn : Int32} {a1 a2 a3 a4 a5 a6 : Nat → Int32} {rs' : List Int32} (h0 : a1 0 = t0) (h1 : a1 1 = t1) (h2 : a1 2 = t2)
    (H : ∀ b, post (nI rs'.length) (4, 15, kn, nI rs'.length, a1, a2, a3, a4, a5, a6, b)) :
    ∀ n g st rs a7, qz_rl rs a7 → qz_cr t0 t1 t2 op fx v n g st rs = some rs' → wX_countRests_27 post v op fx n g st 4 15 kn (nI rs.length) a1 a2 a3 a4 a5 a6 a7 := by
  intro n
  induction n with
  | zero =>
    intro g st rs a7 ha h
    cases h
  | succ n ih =>
    intro g st rs a7 ha h
    rw [qz_cr] at h
    obtain ⟨h9, h⟩ := qz_if h
    obtain ⟨r3, hc, h⟩ := Option.bind_eq_some_iff.mp h
    obtain ⟨r1, e1, hc⟩ := Option.bind_eq_some_iff.mp hc
    obtain ⟨r2, e2, e3⟩ := Option.bind_eq_some_iff.mp hc
    refine br_f h9 (Exists.intro 4 ?_)
    refine br_f (by decide) (And.intro (vp_in_iff.mpr (by decide)) (qz_add h0 e1 ha (fun b1 g1 => nm_r (show (0 : Int32) + 1 = 1 by decide) ?_)))
    refine br_f (by decide) (And.intro (vp_in_iff.mpr (by decide)) (qz_add h1 e2 g1 (fun b2 g2 => nm_r (show (1 : Int32) + 1 = 2 by decide) ?_)))
    refine br_f (by decide) (And.intro (vp_in_iff.mpr (by decide)) (qz_add h2 e3 g2 (fun b3 g3 => nm_r (show (2 : Int32) + 1 = 3 by decide) ?_)))
    refine br_t (by decide) ?_
    by_cases hg : g = fx
    · rw [if_pos hg] at h
      injection h with h
      subst h
      exact br_t hg (H b3)
    · rw [if_neg hg] at h
      exact br_f hg (nm_e (nm_e (ih _ _ _ _ g3 h)))
abbrev qz_op (s v : Int32) : Int32 := s ||| ((1 : Int32) <<< (v &&& 31))
/-- countRests -/
def qz_wd (t0 t1 t2 s v : Int32) : Option Int32 := (qz_cr t0 t1 t2 (qz_op s v) (15 &&& (qz_op s v ^^^ (-1))) v 33 0 0 []).bind (fun rs => some (nI rs.length))
theorem qz_count {post : Int32 → St2 → Prop} {t0 t1 t2 s v w kn fo : Int32} {a1 a2 a3 a4 a5 a6 a7 : Nat → Int32} (h0 : a1 0 = t0) (h1 : a1 1 = t1) (h2 : a1 2 = t2) (h : qz_wd t0 t1 t2 s v = some w)
    (H : ∀ fo' b, post w (4, 15, kn, fo', a1, a2, a3, a4, a5, a6, b)) : wpX_countRests post (4, 15, kn, fo, a1, a2, a3, a4, a5, a6, a7) s v := by
  obtain ⟨rs, e, h⟩ := Option.bind_eq_some_iff.mp h
  injection h with h
  subst h
  exact nm_e (nm_e (Exists.intro 33 (qz_crL h0 h1 h2 (fun b => H _ b) 33 0 0 [] a7 (fun i x g => by simp at g) e)))
end
section
/-- sumBehind: the least and the greatest sum -/
def qz_sb (W L G : Nat → Option Int32) (x1 : Int32) : Nat → Int32 → Int32 → Int32 → Option (Int32 × Int32)
  | 0, _, _, _ => none
  | n + 1, x2, x3, x4 => if 4 ≤ x4 then some (x2, x3) else
      if qz_bit x1 x4 = 0 then qz_sb W L G x1 n x2 x3 (x4 + 1) else
        (qz_rd W (5 * qz_not x1 x4 + x4) 160).bind (fun w => (qz_rd L (qz_not x1 x4) 32).bind (fun l => (qz_rd G (qz_not x1 x4) 32).bind (fun g =>
          qz_sb W L G x1 n (if x2 ≤ w + l then x2 else w + l) (if w + g ≤ x3 then x3 else w + g) (x4 + 1))))
theorem qz_79 {post : St2 → Prop} {J : Int32 → Int32 → Int32 → Prop} {x1 x3 x4 x5 x6 z0 g kn fo : Int32} {a1 a2 a3 a4 a5 a6 a7 : Nat → Int32} (hg : vp_in x5 32) (e5 : a5 x5.toNatClampNeg = g)
    (hJ : J z0 (if x6 + g ≤ x3 then x3 else x6 + g) (x4 + 1)) : wX_sumBehind_79 post J x1 x3 x4 x5 x6 z0 4 15 kn fo a1 a2 a3 a4 a5 a6 a7 := by
  subst e5
  refine And.intro hg ?_
  by_cases hc : x6 + a5 x5.toNatClampNeg ≤ x3
  · rw [if_pos hc] at hJ
    exact br_t hc (nm_e hJ)
  · rw [if_neg hc] at hJ
    exact br_f hc ⟨hg, nm_e (nm_e hJ)⟩
theorem qz_sbL {post : St2 → Prop} {W L G : Nat → Option Int32} {x1 l g kn fo : Int32} {a1 a2 a3 a4 a5 a6 a7 : Nat → Int32} (hW : qz_ag W a3) (hL : qz_ag L a4) (hG : qz_ag G a5) (hx : vp_in x1 32)
    (H : post (4, 15, kn, fo, a1, a2, a3, upd a4 x1.toNatClampNeg l, upd a5 x1.toNatClampNeg g, a6, a7)) :
    ∀ n x2 x3 x4, qz_sb W L G x1 n x2 x3 x4 = some (l, g) → wX_sumBehind_9 post x1 4 15 kn fo a1 a2 a3 a4 a5 a6 a7 n x2 x3 x4 := by
  intro n
  induction n with
  | zero =>
    intro x2 x3 x4 h
    cases h
  | succ n ih =>
    intro x2 x3 x4 h
    rw [qz_sb] at h
    by_cases h4 : 4 ≤ x4
    · rw [if_pos h4] at h
      injection h with h
      injection h with hl hg
      rw [← hl, ← hg] at H
      exact br_t h4 ⟨hx, nm_e ⟨hx, nm_e H⟩⟩
    · rw [if_neg h4] at h
      by_cases hb : qz_bit x1 x4 = 0
      · rw [if_pos hb] at h
        exact br_f h4 (br_t hb (nm_e (ih _ _ _ h)))
      · rw [if_neg hb] at h
        obtain ⟨w, ew, h⟩ := Option.bind_eq_some_iff.mp h
        obtain ⟨l', el, h⟩ := Option.bind_eq_some_iff.mp h
        obtain ⟨g', eg, h⟩ := Option.bind_eq_some_iff.mp h
        refine br_f h4 (br_f hb (nm_e ⟨qz_rd_in ew, nm_r (qz_rd_at ew hW) ⟨qz_rd_in el, ?_⟩⟩))
        have e4 := qz_rd_at el hL
        have e5 := qz_rd_at eg hG
        by_cases hc : x2 ≤ w + l'
        · rw [if_pos hc] at h
          exact br_t (by rw [e4]; exact hc) (qz_79 (qz_rd_in eg) e5 (ih _ _ _ h))
        · rw [if_neg hc] at h
          refine br_f (by rw [e4]; exact hc) ⟨qz_rd_in el, qz_79 (qz_rd_in eg) e5 ?_⟩
          rw [e4]
          exact ih _ _ _ h
/-- sumBefore: the least sum -/
def qz_sf (W F : Nat → Option Int32) (x1 x3 : Int32) : Nat → Int32 → Int32 → Option Int32
  | 0, _, _ => none
  | n + 1, x2, x4 => if 4 ≤ x4 then some x2 else
      if qz_bit x1 x4 = 0 then qz_sf W F x1 x3 n x2 (x4 + 1) else
        (qz_rd W (5 * x3 + x4) 160).bind (fun w => (qz_rd F (qz_not x1 x4) 32).bind (fun f =>
          qz_sf W F x1 x3 n (if x2 ≤ w + f then x2 else w + f) (x4 + 1)))
theorem qz_sfL {post : St2 → Prop} {W F : Nat → Option Int32} {x1 x3 l kn fo : Int32} {a1 a2 a3 a4 a5 a6 a7 : Nat → Int32} (hW : qz_ag W a3) (hF : qz_ag F a6) (hx : vp_in x1 32)
    (H : post (4, 15, kn, fo, a1, a2, a3, a4, a5, upd a6 x1.toNatClampNeg l, a7)) :
    ∀ n x2 x4, qz_sf W F x1 x3 n x2 x4 = some l → wX_sumBefore_16 post x1 x3 4 15 kn fo a1 a2 a3 a4 a5 a6 a7 n x2 x4 := by
  intro n
  induction n with
  | zero =>
    intro x2 x4 h
    cases h
  | succ n ih =>
    intro x2 x4 h
    rw [qz_sf] at h
    by_cases h4 : 4 ≤ x4
    · rw [if_pos h4] at h
      injection h with hl
      rw [← hl] at H
      exact br_t h4 ⟨hx, nm_e H⟩
    · rw [if_neg h4] at h
      by_cases hb : qz_bit x1 x4 = 0
      · rw [if_pos hb] at h
        exact br_f h4 (br_t hb (nm_e (ih _ _ h)))
      · rw [if_neg hb] at h
        obtain ⟨w, ew, h⟩ := Option.bind_eq_some_iff.mp h
        obtain ⟨f', ef, h⟩ := Option.bind_eq_some_iff.mp h
        refine br_f h4 (br_f hb ⟨qz_rd_in ew, qz_rd_in ef, nm_r (by rw [qz_rd_at ew hW, qz_rd_at ef hF]) ?_⟩)
        by_cases hc : x2 ≤ w + f'
        · rw [if_pos hc] at h
          exact br_t hc (nm_e (ih _ _ h))
        · rw [if_neg hc] at h
          exact br_f hc (nm_e (ih _ _ h))
/-- the widths: W holds, at 5 s + v, what countRests answers for every set s and every variable v outside it, and nothing else -/
def qz_okW (t0 t1 t2 : Int32) (W : Nat → Option Int32) : Bool :=
  (List.range 16).all (fun s => decide (W (5 * s + 4) = none) && (List.range 4).all (fun v => if qz_bit (nI s) (nI v) = 0 then (W (5 * s + v)).isSome && decide (qz_wd t0 t1 t2 (nI s) (nI v) = W (5 * s + v)) else decide (W (5 * s + v) = none)))
theorem qz_okW_4 {t0 t1 t2 : Int32} {W : Nat → Option Int32} (h : qz_okW t0 t1 t2 W = true) {s : Nat} (hs : s < 16) : W (5 * s + 4) = none := by
  have t := List.all_eq_true.mp h s (List.mem_range.mpr hs)
  rw [Bool.and_eq_true] at t
  exact of_decide_eq_true t.1
theorem qz_okW_v {t0 t1 t2 : Int32} {W : Nat → Option Int32} (h : qz_okW t0 t1 t2 W = true) {s v : Nat} (hs : s < 16) (hv : v < 4) :
    (if qz_bit (nI s) (nI v) = 0 then (W (5 * s + v)).isSome && decide (qz_wd t0 t1 t2 (nI s) (nI v) = W (5 * s + v)) else decide (W (5 * s + v) = none)) = true := by
  have t := List.all_eq_true.mp h s (List.mem_range.mpr hs)
  rw [Bool.and_eq_true] at t
  exact List.all_eq_true.mp t.2 v (List.mem_range.mpr hv)
theorem qz_okW_t {t0 t1 t2 : Int32} {W : Nat → Option Int32} (h : qz_okW t0 t1 t2 W = true) {s v : Nat} (hs : s < 16) (hv : v < 4) (hb : qz_bit (nI s) (nI v) = 0) :
    ∃ w, W (5 * s + v) = some w ∧ qz_wd t0 t1 t2 (nI s) (nI v) = some w := by
  have t := qz_okW_v h hs hv
  rw [if_pos hb, Bool.and_eq_true] at t
  obtain ⟨w, e⟩ := Option.isSome_iff_exists.mp t.1
  exact ⟨w, e, (of_decide_eq_true t.2).trans e⟩
theorem qz_okW_f {t0 t1 t2 : Int32} {W : Nat → Option Int32} (h : qz_okW t0 t1 t2 W = true) {s v : Nat} (hs : s < 16) (hv : v < 4) (hb : ¬ qz_bit (nI s) (nI v) = 0) : W (5 * s + v) = none := by
  have t := qz_okW_v h hs hv
  rw [if_neg hb] at t
  exact of_decide_eq_true t
theorem qz_ix (s v : Nat) : (5 : Int32) * nI s + nI v = nI (5 * s + v) := by
  rw [show (5 : Int32) = nI 5 from rfl, pk_mul, nI_add]
theorem qz_25 {post : St2 → Prop} {J : Int32 → Int32 → Int32 → Int32 → Int32 → (Nat → Int32) → (Nat → Int32) → (Nat → Int32) → (Nat → Int32) → (Nat → Int32) → (Nat → Int32) → (Nat → Int32) → Prop}
    {W : Nat → Option Int32} {t0 t1 t2 kn : Int32} {a1 a2 a4 a5 a6 : Nat → Int32} {s : Nat} (hs : s < 16) (h0 : a1 0 = t0) (h1 : a1 1 = t1) (h2 : a1 2 = t2) (ok : qz_okW t0 t1 t2 W = true)
    (H : ∀ fo a3 a7, qz_ag (qz_lt W (5 * (s + 1))) a3 → J (nI (s + 1)) 4 15 kn fo a1 a2 a3 a4 a5 a6 a7) :
    ∀ k v, v + k = 4 → ∀ fo a3 a7, qz_ag (qz_lt W (5 * s + v)) a3 → wX_workOut_25 post J (nI s) (k + 1) (nI v) 4 15 kn fo a1 a2 a3 a4 a5 a6 a7 := by
  intro k
  induction k with
  | zero =>
    intro v hv fo a3 a7 h
    have hv4 : v = 4 := by omega
    subst hv4
    exact pk_le 4 4 (fun _ => nm_r (nI_1 s) (H fo a3 a7 (by rw [show 5 * (s + 1) = 5 * s + 4 + 1 by omega]; exact qz_ag_skip h (qz_okW_4 ok hs)))) (fun z => absurd z (by omega))
  | succ k ih =>
    intro v hv fo a3 a7 h
    refine pk_le 4 v (fun z => absurd z (by omega)) (fun _ => br_c (fun hb => ?_) (fun hb => ?_))
    · obtain ⟨w, e1, e2⟩ := qz_okW_t ok hs (show v < 4 by omega) hb
      refine qz_count h0 h1 h2 e2 (fun fo' b => And.intro (pk_in (5 * s + v) 160 (by omega) (qz_ix s v)) (nm_r (by rw [qz_ix, nI_clamp (show 5 * s + v < 2 ^ 31 by omega)]) (nm_r (nI_1 v) ?_)))
      exact ih (v + 1) (by omega) fo' _ b (qz_ag_put h e1)
    · exact nm_r (nI_1 v) (ih (v + 1) (by omega) fo a3 a7 (qz_ag_skip h (qz_okW_f ok hs (show v < 4 by omega) hb)))
theorem qz_15 {post : St2 → Prop} {W : Nat → Option Int32} {t0 t1 t2 kn : Int32} {a1 a2 a4 a5 a6 : Nat → Int32} (h0 : a1 0 = t0) (h1 : a1 1 = t1) (h2 : a1 2 = t2) (ok : qz_okW t0 t1 t2 W = true)
    (H : ∀ fo a3 a7, qz_ag (qz_lt W 80) a3 → ∃ n, wX_workOut_92 post n 1 4 15 kn fo a1 a2 a3 (upd a4 0 0) (upd a5 0 0) (upd a6 0 0) a7) :
    ∀ k s, s + k = 16 → ∀ fo a3 a7, qz_ag (qz_lt W (5 * s)) a3 → wX_workOut_15 post (k + 1) (nI s) 4 15 kn fo a1 a2 a3 a4 a5 a6 a7 := by
  intro k
  induction k with
  | zero =>
    intro s hs fo a3 a7 h
    have hs4 : s = 16 := by omega
    subst hs4
    exact pk_lt 15 16 (fun _ => nm_e (nm_e (nm_e (H fo a3 a7 h)))) (fun z => absurd z (by omega))
  | succ k ih =>
    intro s hs fo a3 a7 h
    exact pk_lt 15 s (fun z => absurd z (by omega)) (fun _ => Exists.intro 5 (qz_25 (by omega) h0 h1 h2 ok (fun fo a3 a7 h => ih (s + 1) (by omega) fo a3 a7 h) 4 0 (by omega) fo a3 a7 h))
/-- the sums over sets -/
def qz_okS (W L G F : Nat → Option Int32) : Bool :=
  decide (L 0 = some 0) && (decide (G 0 = some 0) && (decide (F 0 = some 0) && (List.range 16).all (fun s => decide (s = 0) ||
    (((L s).bind (fun l => (G s).bind (fun g => some (l, g)))).isSome && (decide (qz_sb W (qz_lt L s) (qz_lt G s) (nI s) 6 1000 0 0 = (L s).bind (fun l => (G s).bind (fun g => some (l, g)))) &&
      ((F s).isSome && decide (qz_sf W (qz_lt F s) (nI s) (15 &&& (nI s ^^^ (-1))) 6 1000 0 = F s)))))))
theorem qz_okS_s {W L G F : Nat → Option Int32} (h : qz_okS W L G F = true) {s : Nat} (h1 : 1 ≤ s) (hs : s < 16) :
    (∃ l g, L s = some l ∧ G s = some g ∧ qz_sb W (qz_lt L s) (qz_lt G s) (nI s) 6 1000 0 0 = some (l, g)) ∧ ∃ f, F s = some f ∧ qz_sf W (qz_lt F s) (nI s) (15 &&& (nI s ^^^ (-1))) 6 1000 0 = some f := by
  unfold qz_okS at h
  rw [Bool.and_eq_true, Bool.and_eq_true, Bool.and_eq_true] at h
  have t := List.all_eq_true.mp h.2.2.2 s (List.mem_range.mpr hs)
  rw [Bool.or_eq_true] at t
  rcases t with t | t
  · exact absurd (of_decide_eq_true t) (by omega)
  · rw [Bool.and_eq_true, Bool.and_eq_true, Bool.and_eq_true] at t
    obtain ⟨p1, p2, p3, p4⟩ := t
    obtain ⟨f, ef⟩ := Option.isSome_iff_exists.mp p3
    obtain ⟨q, eq⟩ := Option.isSome_iff_exists.mp p1
    have p2' := (of_decide_eq_true p2).trans eq
    obtain ⟨l, el, eq⟩ := Option.bind_eq_some_iff.mp eq
    obtain ⟨g, eg, eq⟩ := Option.bind_eq_some_iff.mp eq
    injection eq with eq
    exact ⟨⟨l, g, el, eg, by rw [p2', eq]⟩, ⟨f, ef, (of_decide_eq_true p4).trans ef⟩⟩
theorem qz_113 {post : St2 → Prop} {W L G F : Nat → Option Int32} {kn fo : Int32} {a1 a2 a3 a4 a5 a7 : Nat → Int32} (ok : qz_okS W L G F = true) (hW : qz_ag W a3)
    (H : ∀ a6, qz_ag (qz_lt F 16) a6 → post (4, 15, kn, fo, a1, a2, a3, a4, a5, a6, a7)) :
    ∀ k s, 1 ≤ s → s + k = 16 → ∀ a6, qz_ag (qz_lt F s) a6 → wX_workOut_113 post (k + 1) (nI s) 4 15 kn fo a1 a2 a3 a4 a5 a6 a7 := by
  intro k
  induction k with
  | zero =>
    intro s h1 hs a6 h
    have hs4 : s = 16 := by omega
    subst hs4
    exact pk_lt 15 16 (fun _ => H a6 h) (fun z => absurd z (by omega))
  | succ k ih =>
    intro s h1 hs a6 h
    obtain ⟨_, f, ef, e⟩ := qz_okS_s ok h1 (show s < 16 by omega)
    refine pk_lt 15 s (fun z => absurd z (by omega)) (fun _ => nm_e (Exists.intro 6 (qz_sfL hW h (pk_in s 32 (by omega)) ?_ 6 1000 0 e)))
    refine nm_r (nI_1 s) ?_
    rw [nI_clamp (show s < 2 ^ 31 by omega)]
    exact ih (s + 1) (by omega) (by omega) _ (qz_ag_put h ef)
theorem qz_92 {post : St2 → Prop} {W L G F : Nat → Option Int32} {kn fo : Int32} {a1 a2 a3 a6 a7 : Nat → Int32} (ok : qz_okS W L G F = true) (hW : qz_ag W a3)
    (H : ∀ a4 a5, qz_ag (qz_lt L 16) a4 → qz_ag (qz_lt G 16) a5 → ∃ n, wX_workOut_113 post n 1 4 15 kn fo a1 a2 a3 a4 a5 a6 a7) :
    ∀ k s, 1 ≤ s → s + k = 16 → ∀ a4 a5, qz_ag (qz_lt L s) a4 → qz_ag (qz_lt G s) a5 → wX_workOut_92 post (k + 1) (nI s) 4 15 kn fo a1 a2 a3 a4 a5 a6 a7 := by
  intro k
  induction k with
  | zero =>
    intro s h1 hs a4 a5 h4 h5
    have hs4 : s = 16 := by omega
    subst hs4
    exact pk_lt 15 16 (fun _ => H a4 a5 h4 h5) (fun z => absurd z (by omega))
  | succ k ih =>
    intro s h1 hs a4 a5 h4 h5
    obtain ⟨⟨l, g, el, eg, e⟩, _⟩ := qz_okS_s ok h1 (show s < 16 by omega)
    refine pk_lt 15 s (fun z => absurd z (by omega)) (fun _ => Exists.intro 6 (qz_sbL hW h4 h5 (pk_in s 32 (by omega)) ?_ 6 1000 0 0 e))
    refine nm_r (nI_1 s) ?_
    rw [nI_clamp (show s < 2 ^ 31 by omega)]
    exact ih (s + 1) (by omega) (by omega) _ _ (qz_ag_put h4 el) (qz_ag_put h5 eg)
/-- the four tables, as the four arrays hold them -/
def qz_D (W L G F : Nat → Option Int32) (a3 a4 a5 a6 : Nat → Int32) : Prop := qz_ag W a3 ∧ qz_ag L a4 ∧ qz_ag G a5 ∧ qz_ag F a6
/-- nothing behind the last place -/
def qz_end (W L G F : Nat → Option Int32) : Prop := (∀ k, 80 ≤ k → W k = none) ∧ (∀ k, 16 ≤ k → L k = none) ∧ (∀ k, 16 ≤ k → G k = none) ∧ ∀ k, 16 ≤ k → F k = none
theorem qz_work {post : St2 → Prop} {W L G F : Nat → Option Int32} {t0 t1 t2 fo : Int32} {a1 a2 a3 a4 a5 a6 a7 : Nat → Int32} (h0 : a1 0 = t0) (h1 : a1 1 = t1) (h2 : a1 2 = t2)
    (ok : qz_okW t0 t1 t2 W = true) (okS : qz_okS W L G F = true) (en : qz_end W L G F)
    (H : ∀ fo a3 a4 a5 a6 a7, qz_D W L G F a3 a4 a5 a6 → post (4, 15, 1, fo, a1, a2, a3, a4, a5, a6, a7)) : wpX_workOut post (4, 15, 0, fo, a1, a2, a3, a4, a5, a6, a7) := by
  have z : L 0 = some 0 ∧ G 0 = some 0 ∧ F 0 = some 0 := by
    have h := okS
    unfold qz_okS at h
    rw [Bool.and_eq_true, Bool.and_eq_true, Bool.and_eq_true] at h
    exact ⟨of_decide_eq_true h.1, of_decide_eq_true h.2.1, of_decide_eq_true h.2.2.1⟩
  refine br_t rfl (Exists.intro 17 (qz_15 h0 h1 h2 ok (fun fo b3 b7 g3 => ?_) 16 0 (by omega) fo a3 a7 qz_ag_0))
  have g3' := qz_ag_all g3 en.1
  refine Exists.intro 16 (qz_92 okS g3' (fun b4 b5 g4 g5 => ?_) 15 1 (by omega) (by omega) _ _ (qz_ag_put qz_ag_0 z.1) (qz_ag_put qz_ag_0 z.2.1))
  refine Exists.intro 16 (qz_113 okS g3' (fun b6 g6 => ?_) 15 1 (by omega) (by omega) _ (qz_ag_put qz_ag_0 z.2.2))
  exact H fo b3 b4 b5 b6 b7 ⟨g3', qz_ag_all g4 en.2.1, qz_ag_all g5 en.2.2.1, qz_ag_all g6 en.2.2.2⟩
theorem qz_known {post : St2 → Prop} {fo : Int32} {a1 a2 a3 a4 a5 a6 a7 : Nat → Int32} (H : post (4, 15, 1, fo, a1, a2, a3, a4, a5, a6, a7)) : wpX_workOut post (4, 15, 1, fo, a1, a2, a3, a4, a5, a6, a7) := br_f (by decide) H
end
section
/-- widthAt -/
def qz_wb (O : Nat → Option Int32) : Nat → Int32 → Int32 → Option Int32
  | 0, _, _ => none
  | n + 1, x2, x3 => if 4 ≤ x3 then some x2 else (qz_rd O x3 5).bind (fun o => qz_wb O n (x2 ||| ((1 : Int32) <<< (o &&& 31))) (x3 + 1))
def qz_wa (O W : Nat → Option Int32) (p : Int32) : Option Int32 := (qz_wb O 6 0 (p + 1)).bind (fun be => (qz_rd O p 5).bind (fun o => qz_rd W (5 * be + o) 160))
theorem qz_wbL {post : Int32 → Prop} {O W : Nat → Option Int32} {p be o w kn fo : Int32} {a1 a2 a3 a4 a5 a6 a7 : Nat → Int32} (hO : qz_ag O a2) (hW : qz_ag W a3) (eo : qz_rd O p 5 = some o) (ew : qz_rd W (5 * be + o) 160 = some w) (H : post w) :
    ∀ n x2 x3, qz_wb O n x2 x3 = some be → wX_widthAt_6 post p 4 15 kn fo a1 a2 a3 a4 a5 a6 a7 n x2 x3 := by
  intro n
  induction n with
  | zero =>
    intro x2 x3 h
    cases h
  | succ n ih =>
    intro x2 x3 h
    rw [qz_wb] at h
    by_cases h4 : 4 ≤ x3
    · rw [if_pos h4] at h
      injection h with h
      rw [← h] at ew
      refine br_t h4 ⟨qz_rd_in eo, ?_⟩
      rw [qz_rd_at eo hO, qz_rd_at ew hW]
      exact ⟨qz_rd_in ew, H⟩
    · rw [if_neg h4] at h
      obtain ⟨o', e, h⟩ := Option.bind_eq_some_iff.mp h
      exact br_f h4 ⟨qz_rd_in e, nm_r (by rw [qz_rd_at e hO]) (nm_e (ih _ _ h))⟩
theorem qz_widthAt {post : Int32 → Prop} {O W : Nat → Option Int32} {p w kn fo : Int32} {a1 a2 a3 a4 a5 a6 a7 : Nat → Int32} (hO : qz_ag O a2) (hW : qz_ag W a3) (h : qz_wa O W p = some w) (H : post w) :
    wpX_widthAt post (4, 15, kn, fo, a1, a2, a3, a4, a5, a6, a7) p := by
  obtain ⟨be, e1, h⟩ := Option.bind_eq_some_iff.mp h
  obtain ⟨o, e2, e3⟩ := Option.bind_eq_some_iff.mp h
  exact nm_e (Exists.intro 6 (qz_wbL hO hW e2 e3 H 6 0 _ e1))
theorem qz_width {post : Int32 → St2 → Prop} {O W : Nat → Option Int32} {p w fo : Int32} {a1 a2 a3 a4 a5 a6 a7 : Nat → Int32} (hO : qz_ag O a2) (hW : qz_ag W a3) (h0 : ¬ p < 0) (h4 : ¬ 4 ≤ p) (h : qz_wa O W p = some w)
    (H : post w (4, 15, 1, fo, a1, a2, a3, a4, a5, a6, a7)) : wpX_width post (4, 15, 1, fo, a1, a2, a3, a4, a5, a6, a7) p :=
  br_f h0 (br_f h4 (br_f (by decide) (qz_known (qz_widthAt hO hW h H))))
theorem qz_widthN {post : Int32 → St2 → Prop} {p n1 f1 kn fo : Int32} {a1 a2 a3 a4 a5 a6 a7 : Nat → Int32} (h0 : ¬ p < 0) (h4 : n1 ≤ p)
    (H : post (-1) (n1, f1, kn, fo, a1, a2, a3, a4, a5, a6, a7)) : wpX_width post (n1, f1, kn, fo, a1, a2, a3, a4, a5, a6, a7) p := br_f h0 (br_t h4 (br_t (by decide) H))
/-- size -/
def qz_sz (O W : Nat → Option Int32) : Nat → Int32 → Int32 → Option Int32
  | 0, _, _ => none
  | n + 1, x1, x2 => if 4 ≤ x2 then some x1 else (qz_wa O W x2).bind (fun w => qz_sz O W n (x1 + w) (x2 + 1))
theorem qz_szL {post : Int32 → St2 → Prop} {O W : Nat → Option Int32} {r kn fo : Int32} {a1 a2 a3 a4 a5 a6 a7 : Nat → Int32} (hO : qz_ag O a2) (hW : qz_ag W a3) (H : post r (4, 15, kn, fo, a1, a2, a3, a4, a5, a6, a7)) :
    ∀ n x1 x2, qz_sz O W n x1 x2 = some r → wX_size_8 post 4 15 kn fo a1 a2 a3 a4 a5 a6 a7 n x1 x2 := by
  intro n
  induction n with
  | zero =>
    intro x1 x2 h
    cases h
  | succ n ih =>
    intro x1 x2 h
    rw [qz_sz] at h
    by_cases h4 : 4 ≤ x2
    · rw [if_pos h4] at h
      injection h with h
      rw [← h] at H
      exact br_t h4 H
    · rw [if_neg h4] at h
      obtain ⟨w, e, h⟩ := Option.bind_eq_some_iff.mp h
      exact br_f h4 (qz_widthAt hO hW e (nm_e (nm_e (ih _ _ h))))
theorem qz_size {post : Int32 → St2 → Prop} {O W : Nat → Option Int32} {r fo : Int32} {a1 a2 a3 a4 a5 a6 a7 : Nat → Int32} (hO : qz_ag O a2) (hW : qz_ag W a3) (h : qz_sz O W 6 0 0 = some r)
    (H : post r (4, 15, 1, fo, a1, a2, a3, a4, a5, a6, a7)) : wpX_size post (4, 15, 1, fo, a1, a2, a3, a4, a5, a6, a7) :=
  br_f (by decide) (Exists.intro 6 (qz_szL hO hW H 6 0 0 h))
theorem qz_greatest {post : Int32 → St2 → Prop} {G : Nat → Option Int32} {r fo : Int32} {a1 a2 a3 a4 a5 a6 a7 : Nat → Int32} (hG : qz_ag G a5) (h : G 15 = some r)
    (H : post r (4, 15, 1, fo, a1, a2, a3, a4, a5, a6, a7)) : wpX_greatest post (4, 15, 1, fo, a1, a2, a3, a4, a5, a6, a7) := by
  refine br_f (by decide) (And.intro (pk_in 15 32 (by decide)) ?_)
  have e : a5 (15 : Int32).toNatClampNeg = r := hG 15 r h
  rw [e]
  exact H
/-- bestOnTop -/
def qz_bt (W L : Nat → Option Int32) (x1 : Int32) : Nat → Int32 → Option Int32
  | 0, _ => none
  | n + 1, x2 => if 4 ≤ x2 then some 0 else
      if qz_bit x1 x2 = 0 then qz_bt W L x1 n (x2 + 1) else
        (qz_rd W (5 * qz_not x1 x2 + x2) 160).bind (fun w => (qz_rd L (qz_not x1 x2) 32).bind (fun l => (qz_rd L x1 32).bind (fun t =>
          if w + l = t then some x2 else qz_bt W L x1 n (x2 + 1))))
theorem qz_btL {post : Int32 → Prop} {W L : Nat → Option Int32} {x1 r kn fo : Int32} {a1 a2 a3 a4 a5 a6 a7 : Nat → Int32} (hW : qz_ag W a3) (hL : qz_ag L a4) (H : post r) :
    ∀ n x2, qz_bt W L x1 n x2 = some r → wX_bestOnTop_2 post x1 4 15 kn fo a1 a2 a3 a4 a5 a6 a7 n x2 := by
  intro n
  induction n with
  | zero =>
    intro x2 h
    cases h
  | succ n ih =>
    intro x2 h
    rw [qz_bt] at h
    by_cases h4 : 4 ≤ x2
    · rw [if_pos h4] at h
      injection h with h
      rw [← h] at H
      exact br_t h4 H
    · rw [if_neg h4] at h
      by_cases hb : qz_bit x1 x2 = 0
      · rw [if_pos hb] at h
        exact br_f h4 (br_t hb (nm_e (ih _ h)))
      · rw [if_neg hb] at h
        obtain ⟨w, ew, h⟩ := Option.bind_eq_some_iff.mp h
        obtain ⟨l, el, h⟩ := Option.bind_eq_some_iff.mp h
        obtain ⟨t, et, h⟩ := Option.bind_eq_some_iff.mp h
        refine br_f h4 (br_f hb (nm_e ⟨qz_rd_in ew, qz_rd_in el, qz_rd_in et, ?_⟩))
        rw [qz_rd_at ew hW, qz_rd_at el hL, qz_rd_at et hL]
        by_cases hc : w + l = t
        · rw [if_pos hc] at h
          injection h with h
          rw [← h] at H
          exact br_t hc H
        · rw [if_neg hc] at h
          exact br_f hc (nm_e (ih _ h))
/-- best -/
def qz_be (W L : Nat → Option Int32) (x1 : Int32) : Nat → Int32 → Int32 → Int32 → Option Int32
  | 0, _, _, _ => none
  | n + 1, x2, x3, x4 => if x1 < x4 then some x3 else (qz_bt W L x2 6 0).bind (fun r => qz_be W L x1 n (qz_not x2 r) r (x4 + 1))
theorem qz_beL {post : Int32 → St2 → Prop} {W L : Nat → Option Int32} {x1 r kn fo : Int32} {a1 a2 a3 a4 a5 a6 a7 : Nat → Int32} (hW : qz_ag W a3) (hL : qz_ag L a4) (H : post r (4, 15, kn, fo, a1, a2, a3, a4, a5, a6, a7)) :
    ∀ n x2 x3 x4, qz_be W L x1 n x2 x3 x4 = some r → wX_best_24 post x1 4 15 kn fo a1 a2 a3 a4 a5 a6 a7 n x2 x3 x4 := by
  intro n
  induction n with
  | zero =>
    intro x2 x3 x4 h
    cases h
  | succ n ih =>
    intro x2 x3 x4 h
    rw [qz_be] at h
    by_cases h4 : x1 < x4
    · rw [if_pos h4] at h
      injection h with h
      rw [← h] at H
      exact br_t h4 H
    · rw [if_neg h4] at h
      obtain ⟨t, e, h⟩ := Option.bind_eq_some_iff.mp h
      exact br_f h4 (Exists.intro 6 (qz_btL hW hL (nm_e (nm_e (ih _ _ _ h))) 6 0 e))
theorem qz_best {post : Int32 → St2 → Prop} {W L : Nat → Option Int32} {p r fo : Int32} {a1 a2 a3 a4 a5 a6 a7 : Nat → Int32} (hW : qz_ag W a3) (hL : qz_ag L a4) (h0 : ¬ p < 0) (h4 : ¬ 4 ≤ p) (h : qz_be W L p 6 15 0 0 = some r)
    (H : post r (4, 15, 1, fo, a1, a2, a3, a4, a5, a6, a7)) : wpX_best post (4, 15, 1, fo, a1, a2, a3, a4, a5, a6, a7) p :=
  br_f h0 (br_f h4 (br_f (by decide) (qz_known (Exists.intro 6 (qz_beL hW hL H 6 15 0 0 h)))))
/-- ones -/
def qz_on (x0 : Int32) : Nat → Int32 → Int32 → Option Int32
  | 0, _, _ => none
  | n + 1, x1, x2 => if 5 ≤ x2 then some x1 else qz_on x0 n (x1 + qz_bit x0 x2) (x2 + 1)
theorem qz_onL {post : Int32 → Prop} {x0 r : Int32} (H : post r) : ∀ n x1 x2, qz_on x0 n x1 x2 = some r → wX_ones_4 post x0 n x1 x2 := by
  intro n
  induction n with
  | zero =>
    intro x1 x2 h
    cases h
  | succ n ih =>
    intro x1 x2 h
    rw [qz_on] at h
    by_cases h4 : 5 ≤ x2
    · rw [if_pos h4] at h
      injection h with h
      rw [← h] at H
      exact br_t h4 H
    · rw [if_neg h4] at h
      exact br_f h4 (nm_e (nm_e (ih _ _ h)))
/-- leastWith -/
def qz_lw (W L F : Nat → Option Int32) (x1 x2 : Int32) : Nat → Int32 → Int32 → Option Int32
  | 0, _, _ => none
  | n + 1, x3, x4 => if 15 < x4 then some x3 else
      if qz_bit x4 x1 = 0 then (qz_on x4 7 0 0).bind (fun r => if r = (4 - 1) - x2 then
          (qz_rd F (qz_not (15 &&& (x4 ^^^ (-1))) x1) 32).bind (fun f => (qz_rd W (5 * x4 + x1) 160).bind (fun w => (qz_rd L x4 32).bind (fun l =>
            qz_lw W L F x1 x2 n (if x3 ≤ f + w + l then x3 else f + w + l) (x4 + 1))))
          else qz_lw W L F x1 x2 n x3 (x4 + 1))
      else qz_lw W L F x1 x2 n x3 (x4 + 1)
theorem qz_lwL {post : Int32 → St2 → Prop} {W L F : Nat → Option Int32} {x1 x2 r kn fo : Int32} {a1 a2 a3 a4 a5 a6 a7 : Nat → Int32} (hW : qz_ag W a3) (hL : qz_ag L a4) (hF : qz_ag F a6) (H : post r (4, 15, kn, fo, a1, a2, a3, a4, a5, a6, a7)) :
    ∀ n x3 x4, qz_lw W L F x1 x2 n x3 x4 = some r → wX_leastWith_29 post x1 x2 4 15 kn fo a1 a2 a3 a4 a5 a6 a7 n x3 x4 := by
  intro n
  induction n with
  | zero =>
    intro x3 x4 h
    cases h
  | succ n ih =>
    intro x3 x4 h
    rw [qz_lw] at h
    by_cases h4 : 15 < x4
    · rw [if_pos h4] at h
      injection h with h
      rw [← h] at H
      exact br_t h4 H
    · rw [if_neg h4] at h
      by_cases hb : qz_bit x4 x1 = 0
      · rw [if_pos hb] at h
        obtain ⟨t, et, h⟩ := Option.bind_eq_some_iff.mp h
        refine br_f h4 (br_t hb (Exists.intro 7 (qz_onL ?_ 7 0 0 et)))
        by_cases hr : t = (4 - 1) - x2
        · rw [if_pos hr] at h
          obtain ⟨f, ef, h⟩ := Option.bind_eq_some_iff.mp h
          obtain ⟨w, ew, h⟩ := Option.bind_eq_some_iff.mp h
          obtain ⟨l, el, h⟩ := Option.bind_eq_some_iff.mp h
          refine br_t hr (nm_e ⟨qz_rd_in ef, qz_rd_in ew, qz_rd_in el, nm_r (by rw [qz_rd_at ef hF, qz_rd_at ew hW, qz_rd_at el hL]) ?_⟩)
          by_cases hc : x3 ≤ f + w + l
          · rw [if_pos hc] at h
            exact br_t hc (nm_e (ih _ _ h))
          · rw [if_neg hc] at h
            exact br_f hc (nm_e (ih _ _ h))
        · rw [if_neg hr] at h
          exact br_f hr (nm_e (ih _ _ h))
      · rw [if_neg hb] at h
        exact br_f h4 (br_f hb (nm_e (ih _ _ h)))
theorem qz_leastWith {post : Int32 → St2 → Prop} {W L F : Nat → Option Int32} {p q r fo : Int32} {a1 a2 a3 a4 a5 a6 a7 : Nat → Int32} (hW : qz_ag W a3) (hL : qz_ag L a4) (hF : qz_ag F a6) (p0 : ¬ p < 0) (p4 : ¬ 4 ≤ p) (q0 : ¬ q < 0) (q4 : ¬ 4 ≤ q)
    (h : qz_lw W L F p q 18 1000 0 = some r) (H : post r (4, 15, 1, fo, a1, a2, a3, a4, a5, a6, a7)) : wpX_leastWith post (4, 15, 1, fo, a1, a2, a3, a4, a5, a6, a7) p q :=
  br_f p0 (br_f p4 (br_f (by decide) (br_f q0 (br_f q4 (br_f (by decide) (qz_known (Exists.intro 18 (qz_lwL hW hL hF H 18 1000 0 h))))))))
theorem qz_leastWithN {post : Int32 → St2 → Prop} {p q n1 f1 kn fo : Int32} {a1 a2 a3 a4 a5 a6 a7 : Nat → Int32} (p0 : ¬ p < 0) (p4 : n1 ≤ p)
    (H : post (-1) (n1, f1, kn, fo, a1, a2, a3, a4, a5, a6, a7)) : wpX_leastWith post (n1, f1, kn, fo, a1, a2, a3, a4, a5, a6, a7) p q := br_f p0 (br_t p4 (br_t (by decide) H))
/-- at, on a place in range -/
def qz_at (O : Nat → Option Int32) (p : Int32) : Option Int32 := if p < 0 ∨ 4 ≤ p then none else qz_rd O p 5
theorem qz_atL {post : Int32 → Prop} {O : Nat → Option Int32} {p r kn fo : Int32} {a1 a2 a3 a4 a5 a6 a7 : Nat → Int32} (hO : qz_ag O a2) (h : qz_at O p = some r) (H : post r) : wpX_at post (4, 15, kn, fo, a1, a2, a3, a4, a5, a6, a7) p := by
  obtain ⟨hp, h⟩ := qz_if h
  refine br_f (fun z => hp (Or.inl z)) (br_f (fun z => hp (Or.inr z)) (br_f (by decide) (And.intro (qz_rd_in h) ?_)))
  rw [qz_rd_at h hO]
  exact H
theorem qz_load {post : Int32 → St2 → Prop} {k : Nat} {x b kn fo : Int32} {a1 a2 a3 a4 a5 a6 a7 : Nat → Int32} (hk : k < 3) (hx : x = nI k) (H : post 0 (4, 15, 0, fo, upd a1 k (b &&& 65535), a2, a3, a4, a5, a6, a7)) :
    wpX_load post (4, 15, kn, fo, a1, a2, a3, a4, a5, a6, a7) x b := by
  subst hx
  refine br_f (nI_pos (by omega)) (pk_le k 2 (fun _ => br_f (by decide) (And.intro (pk_in k 3 hk) (nm_r (e' := upd a1 k (b &&& 65535)) ?_ H))) (fun z => absurd z (by omega)))
  rw [nI_clamp (show k < 2 ^ 31 by omega)]
  rw [show ((1 : Int32) <<< (((1 : Int32) <<< ((4 : Int32) &&& 31)) &&& 31)) - 1 = 65535 by decide]
/-- the order with two places swapped -/
def qz_sw (O : Nat → Option Int32) (p q : Nat) : Nat → Option Int32 := fun k => if k = q then O p else if k = p then O q else O k
theorem qz_swap_ag {O : Nat → Option Int32} {a : Nat → Int32} {p q : Nat} (h : qz_ag O a) : qz_ag (qz_sw O p q) (upd (upd a p (a q)) q (a p)) := by
  intro k x hk
  unfold qz_sw at hk
  by_cases e : k = q
  · rw [if_pos e] at hk
    rw [e, pk_us]
    exact h p x hk
  · rw [if_neg e] at hk
    rw [pk_un e]
    by_cases g : k = p
    · rw [if_pos g] at hk
      rw [g, pk_us]
      exact h q x hk
    · rw [if_neg g] at hk
      rw [pk_un g]
      exact h k x hk
theorem qz_swap {post : Int32 → St2 → Prop} {O : Nat → Option Int32} {p q : Nat} {kn fo : Int32} {a1 a2 a3 a4 a5 a6 a7 : Nat → Int32} (hp : p < 4) (hq : q < 4) (hO : qz_ag O a2)
    (H : ∀ b, qz_ag (qz_sw O p q) b → post 0 (4, 15, kn, fo, a1, b, a3, a4, a5, a6, a7)) : wpX_swap post (4, 15, kn, fo, a1, a2, a3, a4, a5, a6, a7) (nI p) (nI q) := by
  have cp : (nI p).toNatClampNeg = p := nI_clamp (by omega)
  have cq : (nI q).toNatClampNeg = q := nI_clamp (by omega)
  refine br_f (nI_pos (by omega)) (br_f (nI_ge (b := 4) hp (by decide)) (br_f (by decide) (br_f (nI_pos (by omega)) (br_f (nI_ge (b := 4) hq (by decide)) (br_f (by decide) ?_)))))
  exact And.intro (pk_in p 5 (by omega)) (nm_r (by rw [cp]) (And.intro (pk_in q 5 (by omega)) (And.intro (pk_in p 5 (by omega)) (nm_r (by rw [cp, cq]) (And.intro (pk_in q 5 (by omega)) (nm_r (by rw [cq]) (H _ (qz_swap_ag hO))))))))
theorem qz_swapN {post : Int32 → St2 → Prop} {p q : Int32} {kn fo : Int32} {a1 a2 a3 a4 a5 a6 a7 : Nat → Int32} (h : (p < 0 ∨ 4 ≤ p) ∨ (q < 0 ∨ 4 ≤ q)) (H : post (-1) (4, 15, kn, fo, a1, a2, a3, a4, a5, a6, a7)) :
    wpX_swap post (4, 15, kn, fo, a1, a2, a3, a4, a5, a6, a7) p q := by
  by_cases hp : p < 0 ∨ 4 ≤ p
  · by_cases h0 : p < 0
    · exact br_t h0 (br_t (by decide) H)
    · exact br_f h0 (br_t (hp.resolve_left h0) (br_t (by decide) H))
  · have hq := h.resolve_left hp
    by_cases h0 : q < 0
    · exact br_f (fun z => hp (Or.inl z)) (br_f (fun z => hp (Or.inr z)) (br_f (by decide) (br_t h0 (br_t (by decide) H))))
    · exact br_f (fun z => hp (Or.inl z)) (br_f (fun z => hp (Or.inr z)) (br_f (by decide) (br_f h0 (br_t (hq.resolve_left h0) (br_t (by decide) H)))))
end
section
/-- a list as a partial table: entry n + 1 holds n, entry 0 holds nothing -/
def qz_tb (l : List Nat) : Nat → Option Int32 := fun k => match l[k]? with | none => none | some 0 => none | some (n + 1) => some (nI n)
/-- the widths, for m = 1, 2, 3 with one function and its copies, then with the complement beside it -/
def qz_lW : Nat → List Nat
  | 0 => [2, 2, 2, 2, 0, 0, 2, 3, 3, 0, 2, 0, 3, 3, 0, 0, 0, 2, 2, 0, 3, 3, 0, 2, 0, 0, 3, 0, 3, 0, 3, 0, 0, 3, 0, 0, 0, 0, 2, 0, 3, 3, 2, 0, 0, 0, 3, 3, 0, 0, 3, 0, 3, 0, 0, 0, 0, 2, 0, 0, 2, 2, 0, 0, 0, 0, 2, 0, 0, 0, 2, 0, 0, 0, 0, 0, 0, 0, 0, 0]
  | 1 => [2, 2, 2, 2, 0, 0, 3, 2, 3, 0, 3, 0, 3, 2, 0, 0, 0, 3, 3, 0, 2, 3, 0, 3, 0, 0, 2, 0, 2, 0, 3, 0, 0, 3, 0, 0, 0, 0, 2, 0, 3, 2, 3, 0, 0, 0, 3, 3, 0, 0, 2, 0, 2, 0, 0, 0, 0, 2, 0, 0, 3, 3, 0, 0, 0, 0, 2, 0, 0, 0, 2, 0, 0, 0, 0, 0, 0, 0, 0, 0]
  | 2 => [2, 2, 2, 2, 0, 0, 3, 3, 2, 0, 3, 0, 2, 3, 0, 0, 0, 3, 3, 0, 3, 2, 0, 3, 0, 0, 3, 0, 3, 0, 2, 0, 0, 2, 0, 0, 0, 0, 2, 0, 2, 3, 3, 0, 0, 0, 2, 2, 0, 0, 3, 0, 3, 0, 0, 0, 0, 2, 0, 0, 3, 3, 0, 0, 0, 0, 2, 0, 0, 0, 2, 0, 0, 0, 0, 0, 0, 0, 0, 0]
  | 3 => [3, 3, 3, 3, 0, 0, 3, 5, 5, 0, 3, 0, 5, 5, 0, 0, 0, 3, 3, 0, 5, 5, 0, 3, 0, 0, 5, 0, 5, 0, 5, 0, 0, 5, 0, 0, 0, 0, 3, 0, 5, 5, 3, 0, 0, 0, 5, 5, 0, 0, 5, 0, 5, 0, 0, 0, 0, 3, 0, 0, 3, 3, 0, 0, 0, 0, 3, 0, 0, 0, 3, 0, 0, 0, 0, 0, 0, 0, 0, 0]
  | 4 => [3, 3, 3, 3, 0, 0, 5, 3, 5, 0, 5, 0, 5, 3, 0, 0, 0, 5, 5, 0, 3, 5, 0, 5, 0, 0, 3, 0, 3, 0, 5, 0, 0, 5, 0, 0, 0, 0, 3, 0, 5, 3, 5, 0, 0, 0, 5, 5, 0, 0, 3, 0, 3, 0, 0, 0, 0, 3, 0, 0, 5, 5, 0, 0, 0, 0, 3, 0, 0, 0, 3, 0, 0, 0, 0, 0, 0, 0, 0, 0]
  | _ => [3, 3, 3, 3, 0, 0, 5, 5, 3, 0, 5, 0, 3, 5, 0, 0, 0, 5, 5, 0, 5, 3, 0, 5, 0, 0, 5, 0, 5, 0, 3, 0, 0, 3, 0, 0, 0, 0, 3, 0, 3, 5, 5, 0, 0, 0, 3, 3, 0, 0, 5, 0, 5, 0, 0, 0, 0, 3, 0, 0, 5, 5, 0, 0, 0, 0, 3, 0, 0, 0, 3, 0, 0, 0, 0, 0, 0, 0, 0, 0]
def qz_tW (j : Nat) : Nat → Option Int32 := qz_tb (qz_lW j)
/-- least behind, for m = 1, 2, 3 with one function and its copies, then with the complement beside it -/
def qz_lL : Nat → List Nat
  | 0 => [1, 2, 2, 3, 2, 4, 4, 4, 2, 4, 4, 4, 3, 4, 4, 5]
  | 1 => [1, 2, 2, 4, 2, 3, 4, 4, 2, 4, 3, 4, 4, 4, 4, 5]
  | 2 => [1, 2, 2, 4, 2, 4, 3, 4, 2, 3, 4, 4, 4, 4, 4, 5]
  | 3 => [1, 3, 3, 5, 3, 7, 7, 7, 3, 7, 7, 7, 5, 7, 7, 9]
  | 4 => [1, 3, 3, 7, 3, 5, 7, 7, 3, 7, 5, 7, 7, 7, 7, 9]
  | _ => [1, 3, 3, 7, 3, 7, 5, 7, 3, 5, 7, 7, 7, 7, 7, 9]
def qz_tL (j : Nat) : Nat → Option Int32 := qz_tb (qz_lL j)
/-- greatest behind, for m = 1, 2, 3 with one function and its copies, then with the complement beside it -/
def qz_lG : Nat → List Nat
  | 0 => [1, 2, 2, 3, 2, 4, 4, 6, 2, 4, 4, 6, 3, 6, 6, 7]
  | 1 => [1, 2, 2, 4, 2, 3, 4, 6, 2, 4, 3, 6, 4, 6, 6, 7]
  | 2 => [1, 2, 2, 4, 2, 4, 3, 6, 2, 3, 4, 6, 4, 6, 6, 7]
  | 3 => [1, 3, 3, 5, 3, 7, 7, 11, 3, 7, 7, 11, 5, 11, 11, 13]
  | 4 => [1, 3, 3, 7, 3, 5, 7, 11, 3, 7, 5, 11, 7, 11, 11, 13]
  | _ => [1, 3, 3, 7, 3, 7, 5, 11, 3, 5, 7, 11, 7, 11, 11, 13]
def qz_tG (j : Nat) : Nat → Option Int32 := qz_tb (qz_lG j)
/-- least before, for m = 1, 2, 3 with one function and its copies, then with the complement beside it -/
def qz_lF : Nat → List Nat
  | 0 => [1, 2, 2, 3, 2, 4, 4, 4, 2, 4, 4, 4, 3, 4, 4, 5]
  | 1 => [1, 2, 2, 4, 2, 3, 4, 4, 2, 4, 3, 4, 4, 4, 4, 5]
  | 2 => [1, 2, 2, 4, 2, 4, 3, 4, 2, 3, 4, 4, 4, 4, 4, 5]
  | 3 => [1, 3, 3, 5, 3, 7, 7, 7, 3, 7, 7, 7, 5, 7, 7, 9]
  | 4 => [1, 3, 3, 7, 3, 5, 7, 7, 3, 7, 5, 7, 7, 7, 7, 9]
  | _ => [1, 3, 3, 7, 3, 7, 5, 7, 3, 5, 7, 7, 7, 7, 7, 9]
def qz_tF (j : Nat) : Nat → Option Int32 := qz_tb (qz_lF j)
theorem qz_tb_end {l : List Nat} {n : Nat} (h : l.length ≤ n) : ∀ k, n ≤ k → qz_tb l k = none := by
  intro k hk
  unfold qz_tb
  rw [List.getElem?_eq_none (by omega)]
theorem qz_len : ∀ j, j < 6 → (qz_lW j).length ≤ 80 ∧ (qz_lL j).length ≤ 16 ∧ (qz_lG j).length ≤ 16 ∧ (qz_lF j).length ≤ 16 := by decide
theorem qz_en {j : Nat} (hj : j < 6) : qz_end (qz_tW j) (qz_tL j) (qz_tG j) (qz_tF j) :=
  ⟨qz_tb_end (qz_len j hj).1, qz_tb_end (qz_len j hj).2.1, qz_tb_end (qz_len j hj).2.2.1, qz_tb_end (qz_len j hj).2.2.2⟩
theorem qz_S : ∀ j, j < 6 → qz_okS (qz_tW j) (qz_tL j) (qz_tG j) (qz_tF j) = true := by decide +kernel
def qz_b : Nat → Int32
  | 0 => 63624
  | 1 => 60576
  | _ => 60096
def qz_B (i t : Nat) : Int32 := if t = 0 then qz_b i else qz_b i ^^^ (-1)
/-- the tables of functions after the first, the second, the third load -/
def qz_A1 (i k t : Nat) : Nat → Int32 := upd (fun _ => 0) k (qz_B i t &&& 65535)
def qz_A2 (i k t : Nat) : Nat → Int32 := upd (qz_A1 i k t) ((k + 1) % 3) (qz_B i t &&& 65535)
def qz_A3 (i k t : Nat) : Nat → Int32 := upd (qz_A2 i k t) ((k + 2) % 3) ((qz_B i t ^^^ (-1)) &&& 65535)
end
section
theorem qz_f1 : ∀ i, i < 3 → ∀ k, k < 3 → ∀ t, t < 2 → qz_okW (qz_A1 i k t 0) (qz_A1 i k t 1) (qz_A1 i k t 2) (qz_tW i) = true := by decide +kernel
theorem qz_f2 : ∀ i, i < 3 → ∀ k, k < 3 → ∀ t, t < 2 → qz_okW (qz_A2 i k t 0) (qz_A2 i k t 1) (qz_A2 i k t 2) (qz_tW i) = true := by decide +kernel
theorem qz_f3 : ∀ i, i < 3 → ∀ k, k < 3 → ∀ t, t < 2 → qz_okW (qz_A3 i k t 0) (qz_A3 i k t 1) (qz_A3 i k t 2) (qz_tW (i + 3)) = true := by decide +kernel
end
section
theorem qz_br {c : Prop} [Decidable c] {P : Int32 → Prop} {x y : Int32} {A B : Prop} (h : P (if c then x else y)) (f : P x → A) (g : P y → B) : (c → A) ∧ (¬ c → B) := by
  by_cases hc : c
  · rw [if_pos hc] at h
    exact br_t hc (f h)
  · rw [if_neg hc] at h
    exact br_f hc (g h)
/-! the law's own bits -/
abbrev qz_m (x0 : Int32) : Int32 := 14 &&& (((1 : Int32) <<< (x0 &&& 31)) ^^^ (-1))
abbrev qz_o (x1 x3 : Int32) : Int32 := x1 ||| ((1 : Int32) <<< (x3 &&& 31))
def qz_bx (x0 x1 x3 z0 : Int32) : Int32 := if z0 = 0 then (if (x3 &&& qz_m x0) = qz_m x0 then qz_o x1 x3 else x1) else qz_o x1 x3
def qz_by (x0 x1 x3 : Int32) : Int32 := if (x3 &&& 1) = 0 then qz_bx x0 x1 x3 0 else if ((x3 >>> (x0 &&& 31)) &&& 1) = 0 then qz_bx x0 x1 x3 0 else qz_bx x0 x1 x3 1
theorem qz_44 {post : Int32 → Prop} {J4 J14 : Int32 → Int32 → Prop} {x0 x1 x2 x3 z0 : Int32} (h : J14 (qz_bx x0 x1 x3 z0) (x3 + 1)) : wL_bits_44 post J4 J14 x0 x1 x2 x3 z0 :=
  nm_e (qz_br (P := fun z => J14 z (x3 + 1)) h (fun h => qz_br (P := fun z => J14 z (x3 + 1)) h (fun h => nm_e (nm_e h)) (fun h => nm_e h)) (fun h => nm_e (nm_e h)))
def qz_b14 (x0 x2 : Int32) : Nat → Int32 → Int32 → Option Int32
  | 0, _, _ => none
  | n + 1, x1, x3 => if (8 * x2) + 8 ≤ x3 then some x1 else qz_b14 x0 x2 n (qz_by x0 x1 x3) (x3 + 1)
theorem qz_b14L {post : Int32 → Prop} {J4 : Int32 → Int32 → Prop} {x0 x2 r : Int32} (H : J4 r (x2 + 1)) : ∀ n x1 x3, qz_b14 x0 x2 n x1 x3 = some r → wL_bits_14 post J4 x0 x2 n x1 x3 := by
  intro n
  induction n with
  | zero =>
    intro x1 x3 h
    cases h
  | succ n ih =>
    intro x1 x3 h
    rw [qz_b14] at h
    by_cases h4 : (8 * x2) + 8 ≤ x3
    · rw [if_pos h4] at h
      injection h with h
      rw [← h] at H
      exact br_t h4 (nm_e H)
    · rw [if_neg h4] at h
      have t := ih _ _ h
      unfold qz_by at t
      exact br_f h4 (qz_br (P := fun z => wL_bits_14 post J4 x0 x2 n z (x3 + 1)) t (fun h => qz_44 h) (fun h => qz_br (P := fun z => wL_bits_14 post J4 x0 x2 n z (x3 + 1)) h (fun h => qz_44 h) (fun h => qz_44 h)))
def qz_b4 (x0 : Int32) : Nat → Int32 → Int32 → Option Int32
  | 0, _, _ => none
  | n + 1, x1, x2 => if 2 ≤ x2 then some x1 else (qz_b14 x0 x2 10 x1 (8 * x2)).bind (fun r => qz_b4 x0 n r (x2 + 1))
theorem qz_b4L {post : Int32 → Prop} {x0 r : Int32} (H : post r) : ∀ n x1 x2, qz_b4 x0 n x1 x2 = some r → wL_bits_4 post x0 n x1 x2 := by
  intro n
  induction n with
  | zero =>
    intro x1 x2 h
    cases h
  | succ n ih =>
    intro x1 x2 h
    rw [qz_b4] at h
    by_cases h4 : 2 ≤ x2
    · rw [if_pos h4] at h
      injection h with h
      rw [← h] at H
      exact br_t h4 H
    · rw [if_neg h4] at h
      obtain ⟨t, e, h⟩ := Option.bind_eq_some_iff.mp h
      exact br_f h4 (nm_e (Exists.intro 10 (qz_b14L (ih _ _ h) 10 _ _ e)))
theorem qz_fb : ∀ i, i < 3 → qz_b4 (nI (i + 1)) 4 0 0 = some (qz_b i) := by decide +kernel
theorem qz_bits {post : Int32 → Prop} {i : Nat} (hi : i < 3) (H : post (qz_b i)) : wpL_bits post () (nI (i + 1)) := Exists.intro 4 (qz_b4L H 4 0 0 (qz_fb i hi))
/-! the pairs of places -/
def qz_p331 (m x12 u v : Int32) : Int32 := if u = 0 then x12 else if u = m then x12 else if v = 0 then x12 else if v = m then x12 else x12 + 1
def qz_p319 (m x12 u v : Int32) : Int32 := if u = m then (if v = 0 then x12 + 1 else qz_p331 m x12 u v) else qz_p331 m x12 u v
def qz_pu (m x12 u v : Int32) : Int32 := if u = 0 then (if v = m then x12 + 1 else qz_p319 m x12 u v) else qz_p319 m x12 u v
def qz_pr (O : Nat → Option Int32) (m : Int32) : Nat → Int32 → Int32 → Option Int32
  | 0, _, _ => none
  | n + 1, x12, x13 => if 2 ≤ x13 then some x12 else (qz_at O (2 * x13)).bind (fun u => (qz_at O (2 * x13 + 1)).bind (fun v => qz_pr O m n (qz_pu m x12 u v) (x13 + 1)))
theorem qz_331 {post : Int32 → St0 → Prop} {mc ms kc ks : Nat} {J : Int32 → Int32 → Prop} {m x7 x8 x12 x13 u v n1 f1 kn fo : Int32} {a1 a2 a3 a4 a5 a6 a7 : Nat → Int32} (h : J (qz_p331 m x12 u v) (x13 + 1)) :
    wL_lawOf_331 post mc ms J m x7 x8 x12 x13 u v kc ks n1 f1 kn fo a1 a2 a3 a4 a5 a6 a7 :=
  qz_br (P := fun z => J z (x13 + 1)) h (fun h => nm_e h) (fun h => qz_br (P := fun z => J z (x13 + 1)) h (fun h => nm_e h) (fun h => qz_br (P := fun z => J z (x13 + 1)) h (fun h => nm_e h) (fun h => qz_br (P := fun z => J z (x13 + 1)) h (fun h => nm_e h) (fun h => nm_e (nm_e h)))))
theorem qz_319 {post : Int32 → St0 → Prop} {mc ms kc ks : Nat} {J : Int32 → Int32 → Prop} {m x7 x8 x12 x13 u v n1 f1 kn fo : Int32} {a1 a2 a3 a4 a5 a6 a7 : Nat → Int32} (h : J (qz_p319 m x12 u v) (x13 + 1)) :
    wL_lawOf_319 post mc ms J m x7 x8 x12 x13 u v kc ks n1 f1 kn fo a1 a2 a3 a4 a5 a6 a7 :=
  qz_br (P := fun z => J z (x13 + 1)) h (fun h => qz_br (P := fun z => J z (x13 + 1)) h (fun h => nm_e (nm_e h)) (fun h => qz_331 h)) (fun h => qz_331 h)
theorem qz_277 {post : Int32 → St0 → Prop} {mc ms kc ks : Nat} {O W : Nat → Option Int32} {m x7 x8 r fo : Int32} {a1 a2 a3 a4 a5 a6 a7 : Nat → Int32} (hO : qz_ag O a2) (hW : qz_ag W a3) (hs : qz_sz O W 6 0 0 = some (if r = 2 then 4 else 6))
    (H : ∀ z, wL_lawOf_381 post mc ms m x7 x8 z z kc ks 4 15 1 fo a1 a2 a3 a4 a5 a6 a7) :
    ∀ n x12 x13, qz_pr O m n x12 x13 = some r → wL_lawOf_277 post mc ms m x7 x8 kc ks 4 15 1 fo a1 a2 a3 a4 a5 a6 a7 n x12 x13 := by
  intro n
  induction n with
  | zero =>
    intro x12 x13 h
    cases h
  | succ n ih =>
    intro x12 x13 h
    rw [qz_pr] at h
    by_cases h2 : 2 ≤ x13
    · rw [if_pos h2] at h
      injection h with h
      rw [← h] at hs
      by_cases hr : x12 = 2
      · rw [if_pos hr] at hs
        exact br_t h2 (qz_size hO hW hs (br_t hr (H 4)))
      · rw [if_neg hr] at hs
        exact br_t h2 (qz_size hO hW hs (br_f hr (H 6)))
    · rw [if_neg h2] at h
      obtain ⟨u, eu, h⟩ := Option.bind_eq_some_iff.mp h
      obtain ⟨v, ev, h⟩ := Option.bind_eq_some_iff.mp h
      have t := ih _ _ h
      unfold qz_pu at t
      refine br_f h2 (qz_atL hO eu (qz_atL hO ev ?_))
      exact qz_br (P := fun z => wL_lawOf_277 post mc ms m x7 x8 kc ks 4 15 1 fo a1 a2 a3 a4 a5 a6 a7 n z (x13 + 1)) t (fun h => qz_br (P := fun z => wL_lawOf_277 post mc ms m x7 x8 kc ks 4 15 1 fo a1 a2 a3 a4 a5 a6 a7 n z (x13 + 1)) h (fun h => nm_e (nm_e h)) (fun h => qz_319 h)) (fun h => qz_319 h)
/-! least, after a load -/
theorem qz_least {post : Int32 → St2 → Prop} {W L G F : Nat → Option Int32} {r fo : Int32} {a1 a2 a3 a4 a5 a6 a7 : Nat → Int32} (ok : qz_okW (a1 0) (a1 1) (a1 2) W = true) (okS : qz_okS W L G F = true) (en : qz_end W L G F) (hL : L 15 = some r)
    (H : ∀ fo a3 a4 a5 a6 a7, qz_D W L G F a3 a4 a5 a6 → post r (4, 15, 1, fo, a1, a2, a3, a4, a5, a6, a7)) : wpX_least post (4, 15, 0, fo, a1, a2, a3, a4, a5, a6, a7) := by
  refine qz_work rfl rfl rfl ok okS en (fun fo a3 a4 a5 a6 a7 D => And.intro (pk_in 15 32 (by decide)) ?_)
  have e : a4 (15 : Int32).toNatClampNeg = r := by
    rw [pk_cl 15]
    exact D.2.1 15 r hL
  rw [e]
  exact H fo a3 a4 a5 a6 a7 D
/-! what the tables answer -/
def qz_O : Nat → Option Int32 := fun k => if k < 5 then some (nI k) else none
def qz_z (i : Nat) : Int32 := if i = 0 then 2 else 1
theorem qz_f15 : ∀ i, i < 3 → qz_tL i 15 = some 4 ∧ qz_tG i 15 = some 6 ∧ qz_tL (i + 3) 15 = some 8 := by decide +kernel
theorem qz_fbe : ∀ i, i < 3 → qz_be (qz_tW i) (qz_tL i) 0 6 15 0 0 = some 0 ∧ qz_be (qz_tW i) (qz_tL i) 1 6 15 0 0 = some (nI (i + 1)) ∧ qz_be (qz_tW i) (qz_tL i) 2 6 15 0 0 = some (qz_z i) ∧ qz_be (qz_tW i) (qz_tL i) 3 6 15 0 0 = some ((6 - nI (i + 1)) - qz_z i) ∧ qz_be (qz_tW (i + 3)) (qz_tL (i + 3)) 1 6 15 0 0 = some (nI (i + 1)) := by decide +kernel
theorem qz_fwa : ∀ i, i < 3 → qz_wa qz_O (qz_tW i) 0 = some 1 ∧ qz_wa qz_O (qz_tW i) 1 = some (if i = 0 then 1 else 2) ∧ qz_wa qz_O (qz_tW i) 3 = some 1 ∧ qz_sz qz_O (qz_tW i) 6 0 0 = some (if i = 0 then 4 else 6) := by decide +kernel
theorem qz_flw : ∀ i, i < 3 → qz_lw (qz_tW i) (qz_tL i) (qz_tF i) 0 0 18 1000 0 = some 4 ∧ qz_lw (qz_tW i) (qz_tL i) (qz_tF i) (nI (i + 1)) 3 18 1000 0 = some 4 := by decide +kernel
def qz_ck (O : Nat → Option Int32) (i : Nat) : Bool := (qz_pr O (nI (i + 1)) 3 0 0).isSome && decide ((qz_pr O (nI (i + 1)) 3 0 0).bind (fun r => some (if r = 2 then (4 : Int32) else 6)) = qz_sz O (qz_tW i) 6 0 0)
theorem qz_fck : ∀ i, i < 3 → qz_ck qz_O i = true ∧ ∀ p, p < 4 → ∀ q, q < 4 → qz_ck (qz_sw qz_O p q) i = true := by decide +kernel
theorem qz_ckE {O : Nat → Option Int32} {i : Nat} (h : qz_ck O i = true) : ∃ r, qz_pr O (nI (i + 1)) 3 0 0 = some r ∧ qz_sz O (qz_tW i) 6 0 0 = some (if r = 2 then 4 else 6) := by
  unfold qz_ck at h
  rw [Bool.and_eq_true] at h
  obtain ⟨r, e⟩ := Option.isSome_iff_exists.mp h.1
  have t := of_decide_eq_true h.2
  rw [e] at t
  exact ⟨r, e, t.symm⟩
theorem qz_md1 : ∀ k, k < 3 → (nI k + 1) - (nI k + 1) / 3 * 3 = nI ((k + 1) % 3) := by decide
theorem qz_md2 : ∀ k, k < 3 → (nI k + 2) - (nI k + 2) / 3 * 3 = nI ((k + 2) % 3) := by decide
theorem qz_md3 : ∀ j, j < 256 → 1 + (nI j - nI j / 3 * 3) = nI (j % 3 + 1) ∧ nI j - nI j / 3 * 3 = nI (j % 3) := by decide +kernel
/-! the law, from its end -/
theorem qz_l381 {post : Int32 → St0 → Prop} {mc ms kc ks i k t : Nat} (hi : i < 3) (hk : k < 3) (ht : t < 2) {z fo : Int32} {a2 a3 a4 a5 a6 a7 : Nat → Int32} (D : qz_D (qz_tW i) (qz_tL i) (qz_tG i) (qz_tF i) a3 a4 a5 a6) (H : post 1 ()) :
    wL_lawOf_381 post mc ms (nI (i + 1)) (nI k) (qz_B i t) z z kc ks 4 15 1 fo (qz_A1 i k t) a2 a3 a4 a5 a6 a7 := by
  refine br_t rfl (qz_leastWith D.1 D.2.1 D.2.2.2 (by decide) (by decide) (by decide) (by decide) (qz_flw i hi).1 ?_)
  refine br_t rfl (qz_leastWith D.1 D.2.1 D.2.2.2 (nI_pos (by omega)) (nI_ge (b := 4) (show i + 1 < 4 by omega) (by decide)) (by decide) (by decide) (qz_flw i hi).2 ?_)
  refine br_t rfl (qz_leastWithN (by decide) (by decide) ?_)
  refine br_t rfl (And.intro (by decide) (qz_load (k := (k + 1) % 3) (Nat.mod_lt _ (by decide)) (qz_md1 k hk) ?_))
  refine br_t rfl (qz_least (qz_f2 i hi k hk t ht) (qz_S i (by omega)) (qz_en (by omega)) (qz_f15 i hi).1 (fun fo a3 a4 a5 a6 a7 D => ?_))
  refine br_t rfl (And.intro (by decide) (qz_load (k := (k + 2) % 3) (Nat.mod_lt _ (by decide)) (qz_md2 k hk) ?_))
  refine br_t rfl (qz_least (qz_f3 i hi k hk t ht) (qz_S (i + 3) (by omega)) (qz_en (by omega)) (qz_f15 i hi).2.2 (fun fo a3 a4 a5 a6 a7 D => ?_))
  refine br_t rfl (qz_best D.1 D.2.1 (by decide) (by decide) (qz_fbe i hi).2.2.2.2 ?_)
  exact br_t rfl H
theorem qz_l266 {post : Int32 → St0 → Prop} {mc ms kc ks i k t : Nat} (hi : i < 3) (hk : k < 3) (ht : t < 2) {O : Nat → Option Int32} {z fo : Int32} {a2 a3 a4 a5 a6 a7 : Nat → Int32} (hO : qz_ag O a2) (ck : qz_ck O i = true) (D : qz_D (qz_tW i) (qz_tL i) (qz_tG i) (qz_tF i) a3 a4 a5 a6) (H : post 1 ()) :
    wL_lawOf_266 post mc ms (nI (i + 1)) (nI k) (qz_B i t) z z kc ks 4 15 1 fo (qz_A1 i k t) a2 a3 a4 a5 a6 a7 := by
  obtain ⟨r, e1, e2⟩ := qz_ckE ck
  exact br_t rfl (Exists.intro 3 (qz_277 hO D.1 e2 (fun z => qz_l381 hi hk ht D H) 3 0 0 e1))
theorem qz_l245 {post : Int32 → St0 → Prop} {mc ms kc ks i k t : Nat} (hi : i < 3) (hk : k < 3) (ht : t < 2) {x3 x4 fo : Int32} {a2 a3 a4 a5 a6 a7 : Nat → Int32} (hO : qz_ag qz_O a2) (D : qz_D (qz_tW i) (qz_tL i) (qz_tG i) (qz_tF i) a3 a4 a5 a6) (H : post 1 ())
    (hx : (x3 < 0 ∨ 4 ≤ x3) ∨ (x4 < 0 ∨ 4 ≤ x4)) : wL_lawOf_245 post mc ms x3 x4 (nI (i + 1)) (nI k) (qz_B i t) kc ks 4 15 1 fo (qz_A1 i k t) a2 a3 a4 a5 a6 a7 := by
  unfold wL_lawOf_245 wL_lawOf_246
  exact qz_swapN hx (br_t rfl (qz_l266 hi hk ht hO (qz_fck i hi).1 D H))
theorem qz_l246 {post : Int32 → St0 → Prop} {mc ms kc ks i k t p q : Nat} (hi : i < 3) (hk : k < 3) (ht : t < 2) (hp : p < 4) (hq : q < 4) {fo : Int32} {a2 a3 a4 a5 a6 a7 : Nat → Int32} (hO : qz_ag qz_O a2) (D : qz_D (qz_tW i) (qz_tL i) (qz_tG i) (qz_tF i) a3 a4 a5 a6) (H : post 1 ()) :
    wL_lawOf_246 post mc ms (nI p) (nI q) (nI (i + 1)) (nI k) (qz_B i t) 1 kc ks 4 15 1 fo (qz_A1 i k t) a2 a3 a4 a5 a6 a7 :=
  qz_swap hp hq hO (fun b hb => br_f (by decide) (qz_l266 hi hk ht hb ((qz_fck i hi).2 p hp q hq) D H))
theorem qz_gt3 {x : Int32} (h : 3 < x) : 4 ≤ x := by
  rw [Int32.lt_iff_toInt_lt] at h
  rw [Int32.le_iff_toInt_le]
  have e3 : (3 : Int32).toInt = 3 := by decide
  have e4 : (4 : Int32).toInt = 4 := by decide
  omega
theorem qz_in3 {x : Int32} (h0 : ¬ x < 0) (h3 : ¬ 3 < x) : ∃ p : Nat, p < 4 ∧ x = nI p := by
  have e3 : (3 : Int32).toInt = 3 := by decide
  have hle : x ≤ 3 := by
    rw [Int32.lt_iff_toInt_lt] at h3
    rw [Int32.le_iff_toInt_le]
    omega
  obtain ⟨j, hj, e⟩ := nI_of2 (n := 3) (by decide) h0 hle
  exact ⟨j, by omega, e⟩
theorem qz_l196 {post : Int32 → St0 → Prop} {mc ms kc ks i k t : Nat} (hi : i < 3) (hk : k < 3) (ht : t < 2) {x3 x4 z fo : Int32} {a2 a3 a4 a5 a6 a7 : Nat → Int32} (hO : qz_ag qz_O a2) (D : qz_D (qz_tW i) (qz_tL i) (qz_tG i) (qz_tF i) a3 a4 a5 a6) (H : post 1 ()) :
    wL_lawOf_196 post mc ms x3 x4 (nI (i + 1)) (nI k) (qz_B i t) z z kc ks 4 15 1 fo (qz_A1 i k t) a2 a3 a4 a5 a6 a7 := by
  refine br_t rfl (qz_width hO D.1 (by decide) (by decide) (qz_fwa i hi).2.2.1 ?_)
  refine br_t rfl (qz_widthN (by decide) (by decide) ?_)
  refine br_t rfl (br_c (fun c => qz_l245 hi hk ht hO D H (Or.inl (Or.inl c))) (fun c1 => br_c (fun c => qz_l245 hi hk ht hO D H (Or.inl (Or.inr (qz_gt3 c)))) (fun c2 => ?_)))
  refine br_c (fun c => qz_l245 hi hk ht hO D H (Or.inr (Or.inl c))) (fun c3 => br_c (fun c => qz_l245 hi hk ht hO D H (Or.inr (Or.inr (qz_gt3 c)))) (fun c4 => ?_))
  obtain ⟨p, hp, ep⟩ := qz_in3 c1 c2
  obtain ⟨q, hq, eq⟩ := qz_in3 c3 c4
  subst ep eq
  exact qz_l246 hi hk ht hp hq hO D H
theorem qz_i1 {i : Nat} (hi : i < 3) : nI (i + 1) = 1 ↔ i = 0 := by
  rw [show (1 : Int32) = nI 1 from rfl, nI_eq (by omega) (by omega)]
  omega
theorem qz_l113 {post : Int32 → St0 → Prop} {mc ms kc ks i k t : Nat} (hi : i < 3) (hk : k < 3) (ht : t < 2) {x3 x4 z fo : Int32} {a2 a3 a4 a5 a6 a7 : Nat → Int32} (hO : qz_ag qz_O a2) (D : qz_D (qz_tW i) (qz_tL i) (qz_tG i) (qz_tF i) a3 a4 a5 a6) (H : post 1 ()) (hz : qz_z i = z) :
    wL_lawOf_113 post mc ms x3 x4 (nI (i + 1)) (nI k) (qz_B i t) z kc ks 4 15 1 fo (qz_A1 i k t) a2 a3 a4 a5 a6 a7 := by
  subst hz
  refine nm_e (qz_best D.1 D.2.1 (by decide) (by decide) (qz_fbe i hi).1 ?_)
  refine br_t rfl (qz_best D.1 D.2.1 (by decide) (by decide) (qz_fbe i hi).2.1 ?_)
  refine br_t rfl (qz_best D.1 D.2.1 (by decide) (by decide) (qz_fbe i hi).2.2.1 ?_)
  refine br_t rfl (qz_best D.1 D.2.1 (by decide) (by decide) (qz_fbe i hi).2.2.2.1 ?_)
  refine br_t rfl (qz_width hO D.1 (by decide) (by decide) (qz_fwa i hi).1 ?_)
  refine br_t rfl (qz_width hO D.1 (by decide) (by decide) (qz_fwa i hi).2.1 ?_)
  refine br_c (fun c => ?_) (fun c => ?_)
  · rw [if_pos ((qz_i1 hi).mp c)]
    exact qz_l196 hi hk ht hO D H
  · rw [if_neg (fun e => c ((qz_i1 hi).mpr e))]
    exact qz_l196 hi hk ht hO D H
theorem qz_l97 {post : Int32 → St0 → Prop} {mc ms kc ks i k t : Nat} (hi : i < 3) (hk : k < 3) (ht : t < 2) {x3 x4 z fo : Int32} {a2 a3 a4 a5 a6 a7 : Nat → Int32} (hO : qz_ag qz_O a2) (D : qz_D (qz_tW i) (qz_tL i) (qz_tG i) (qz_tF i) a3 a4 a5 a6) (H : post 1 ()) :
    wL_lawOf_97 post mc ms x3 x4 (nI (i + 1)) (nI k) (qz_B i t) z z kc ks 4 15 1 fo (qz_A1 i k t) a2 a3 a4 a5 a6 a7 :=
  br_t rfl (br_c (fun c => qz_l113 hi hk ht hO D H (if_pos ((qz_i1 hi).mp c))) (fun c => qz_l113 hi hk ht hO D H (if_neg (fun e => c ((qz_i1 hi).mpr e)))))
theorem qz_l49 {post : Int32 → St0 → Prop} {mc ms kc ks i k t : Nat} (hi : i < 3) (hk : k < 3) (ht : t < 2) {x3 x4 fo : Int32} {a2 a3 a4 a5 a6 a7 : Nat → Int32} (hO : qz_ag qz_O a2) (H : post 1 ()) :
    wL_lawOf_49 post mc ms x3 x4 (nI (i + 1)) (nI k) (qz_B i t) kc ks 4 15 0 fo (fun _ => 0) a2 a3 a4 a5 a6 a7 := by
  refine qz_load hk rfl ?_
  refine br_t rfl (qz_least (qz_f1 i hi k hk t ht) (qz_S i (by omega)) (qz_en (by omega)) (qz_f15 i hi).1 (fun fo a3 a4 a5 a6 a7 D => ?_))
  refine br_t rfl (qz_greatest D.2.2.1 (qz_f15 i hi).2.1 ?_)
  refine br_t rfl (qz_size hO D.1 (qz_fwa i hi).2.2.2 ?_)
  refine br_c (fun c => ?_) (fun c => ?_)
  · rw [if_pos ((qz_i1 hi).mp c)]
    exact qz_l97 hi hk ht hO D H
  · rw [if_neg (fun e => c ((qz_i1 hi).mpr e))]
    exact qz_l97 hi hk ht hO D H
theorem qz_init {post : St2 → Prop} {mc ms : Nat} (hc : 7 ≤ mc) (hs : 328 ≤ ms) (H : ∀ a2, qz_ag qz_O a2 → post (4, 15, 0, 0, fun _ => 0, a2, fun _ => 0, fun _ => 0, fun _ => 0, fun _ => 0, fun _ => 0)) : wpX_init post mc ms (0, 0, 0, 0) 4 := by
  refine br_t (by decide) (br_t (by decide) ?_)
  refine nm_r (show ((1 : Int32) <<< ((4 : Int32) &&& 31)) - 1 = 15 by decide) ?_
  refine ⟨by omega, by omega, by omega, by omega, by omega, by omega, by omega, by omega, by omega, by omega, by omega, by omega, by omega, by omega, ?_⟩
  refine pk_loop (fun n i s => wX_init_96 post mc ms (0 + 7) (0 + 328) 4 15 0 0 n (nI i) (fun _ => 0) s (fun _ => 0) (fun _ => 0) (fun _ => 0) (fun _ => 0) (fun _ => 0)) (fun i s => qz_ag (qz_lt qz_O i) s) 5 0 (fun _ => 0) (by omega) qz_ag_0 ?_ ?_
  · intro n s h
    exact pk_le 5 5 (fun _ => H s (qz_ag_all h (fun k hk => if_neg (by omega)))) (fun z => absurd z (by omega))
  · intro n i s hi h hw
    exact pk_le 5 i (fun z => absurd z (by omega)) (fun _ => And.intro (pk_in i 5 hi) (nm_r (by rw [nI_clamp (show i < 2 ^ 31 by omega)]) (nm_r (nI_1 i) (hw _ (qz_ag_put h (if_pos hi))))))
theorem qz_lawOf {p0 p1 p2 p3 p4 : Int32} : wpL_lawOf (fun r _ => r = 1) 186 2976 () p0 p1 p2 p3 p4 := by
  refine And.intro (by decide) (And.intro (by decide) (Exists.intro 185 (Exists.intro 2965 (And.intro (by decide) (And.intro (by decide) (qz_init (by decide) (by decide) (fun a2 hO => ?_)))))))
  obtain ⟨j0, hj0, e0⟩ := pk_andE p0 (m := 255) 8 (by decide)
  obtain ⟨j1, hj1, e1⟩ := pk_andE p1 (m := 255) 8 (by decide)
  have hi : j0 % 3 < 3 := Nat.mod_lt _ (by decide)
  have hk : j1 % 3 < 3 := Nat.mod_lt _ (by decide)
  refine And.intro (by decide) (nm_r (e' := nI (j0 % 3 + 1)) (by rw [e0]; exact (qz_md3 j0 hj0).1) (And.intro (by decide) (nm_r (e' := nI (j1 % 3)) (by rw [e1]; exact (qz_md3 j1 hj1).2) ?_)))
  refine qz_bits hi ?_
  refine br_c (fun _ => ?_) (fun _ => nm_e ?_)
  · exact qz_l49 (t := 0) hi hk (by decide) hO rfl
  · exact qz_l49 (t := 1) hi hk (by decide) hO rfl
theorem qz_cell {post : Int32 → Prop} {L : Nat} {xs : Nat → Int32} {p : Nat} (hp : p < 5) (hL : L ≤ 5) (H : ∀ r, post r) : wpL_cellAt post L xs () (nI p) :=
  pk_le L p (fun _ => H _) (fun z => And.intro (pk_in p L z) (H _))
/-! ===== WHAT IS OWED for OrderFinderLaw: one statement: the law answers true on every script of L ints xs ===== -/
theorem i_vc (xs : Nat → Int32) (L : Nat) (hL : L ≤ 5) : wpL_law (fun r => r = 1) L xs :=
  qz_cell (p := 0) (by decide) hL (fun r1 => qz_cell (p := 1) (by decide) hL (fun r2 => qz_cell (p := 2) (by decide) hL (fun r3 => qz_cell (p := 3) (by decide) hL (fun r4 => qz_cell (p := 4) (by decide) hL (fun r5 =>
    Exists.intro 186 (Exists.intro 2976 (And.intro (by decide) (And.intro (by decide) qz_lawOf))))))))
end
