section
/-! the methods of TextReplica, one lemma each: any state, side facts as closed numbers, any post -/
theorem rt_v {n N : Nat} (h : n < N) (hN : N < 2 ^ 31 := by decide) : vp_in (nI n) N := vp_in_nI h hN
theorem rt_cl {n : Nat} (h : n < 147) : (nI n).toNatClampNeg = n := nI_clamp (by omega)
theorem rt_49 (r : Nat) : (49 : Int32) * nI r = nI (49 * r) := by
  show nI 49 * nI r = _
  exact pk_mul 49 r
theorem rt_3 (r o : Nat) : (3 : Int32) * nI r + nI o = nI (3 * r + o) := by
  show nI 3 * nI r + nI o = _
  rw [pk_mul, nI_add]
theorem rt_j (B d : Nat) : nI B + 1 + nI d = nI (B + 1 + d) := by
  rw [nI_1, nI_add]
theorem rt_of {x : Int32} (h : ¬ x < 0) : x = nI x.toNatClampNeg ∧ x.toNatClampNeg < 2 ^ 31 := by
  obtain ⟨j, hj, rfl⟩ := nI_of h
  rw [nI_clamp hj]
  exact ⟨rfl, hj⟩
def rt_z : Nat → Int32 := fun _ => 0
/-- the greatest stamp numbers after a learnt insert -/
def rt_max (a6 a11 : Nat → Int32) (r c : Nat) : Nat → Int32 := if a6 c ≤ a11 r then a11 else upd a11 r (a6 c)
theorem rt_rep {post : Int32 → Prop} {r : Nat} (h : r < 3) (H : post 1) : wpX_isReplica post () (nI r) :=
  br_f (nI_pos (by omega)) (br_f (nI_nlt (b := r) (a := 2) (by omega) (by decide)) H)
/-! isGreater -/
def rt_gt (a2 a6 : Nat → Int32) (d c : Nat) : Bool := if a6 d = a6 c then !decide (a2 d ≤ a2 c) else !decide (a6 d ≤ a6 c)
theorem rt_gr {m : Int32} {a1 a2 a3 a4 a5 a6 a7 a8 a9 a10 a11 a12 a13 a14 a15 : Nat → Int32} {post : Int32 → Prop} (d c : Nat) (hd : d < 48) (hc : c < 48) (H0 : rt_gt a2 a6 d c = false → post 0) (H1 : rt_gt a2 a6 d c = true → post 1) : wpX_isGreater post (m, a1, a2, a3, a4, a5, a6, a7, a8, a9, a10, a11, a12, a13, a14, a15) (nI d) (nI c) := by
  unfold wpX_isGreater
  dsimp only
  rw [rt_cl (show d < 147 by omega), rt_cl (show c < 147 by omega)]
  refine ⟨rt_v hd, rt_v hc, br_c (fun e => ⟨rt_v hd, rt_v hc, br_c (fun g => H0 ?_) (fun g => H1 ?_)⟩) (fun e => ⟨rt_v hd, rt_v hc, br_c (fun g => H0 ?_) (fun g => H1 ?_)⟩)⟩
  all_goals (unfold rt_gt; simp [e, g])
/-! putInRow -/
theorem rt_71 {m : Int32} {a1 a2 a3 a4 a5 a6 a7 a8 a9 a10 a11 a12 a13 a14 a15 : Nat → Int32} {post : St2 → Prop} (r c B i : Nat) (hr : r < 3) (hc : c < 48) (hi : i < 147) (hB : B + 49 ≤ 147)
    (H : post (m, a1, a2, a3, a4, a5, a6, a7, a8, a9, a10, rt_max a6 a11 r c, upd (upd a12 (B + 1 + c) (a12 i)) i (nI c), upd a13 (B + 1 + c) 0, upd a14 r (a14 r + 1), upd a15 r (a15 r + 1))) :
    wX_putInRow_71 post (nI r) (nI c) (nI B) (nI i) m a1 a2 a3 a4 a5 a6 a7 a8 a9 a10 a11 a12 a13 a14 a15 := by
  have hj : B + 1 + c < 147 := by omega
  unfold wX_putInRow_71
  rw [rt_j, rt_cl (show r < 147 by omega), rt_cl (show c < 147 by omega), rt_cl hi, rt_cl hj]
  refine ⟨rt_v hi, rt_v hj, nm_e ⟨rt_v hi, nm_e ⟨rt_v hj, nm_e ⟨rt_v hr, rt_v hr, nm_e ⟨rt_v hr, rt_v hr, nm_e ⟨rt_v hc, rt_v hr, br_c (fun h => ?_) (fun h => ⟨rt_v hc, rt_v hr, nm_e ?_⟩)⟩⟩⟩⟩⟩⟩
  · unfold rt_max at H
    rw [if_pos h] at H
    exact H
  · unfold rt_max at H
    rw [if_neg h] at H
    exact H
/-- the walk of putInRow: from place i on, n steps at most -/
def rt_walk (a2 a6 a12 : Nat → Int32) (c B : Nat) : Nat → Nat → Option Nat
  | 0, _ => none
  | n + 1, i => if 147 ≤ i then none else if a12 i < 0 then some i else if 48 ≤ (a12 i).toNatClampNeg then none else if rt_gt a2 a6 (a12 i).toNatClampNeg c = true then rt_walk a2 a6 a12 c B n (B + 1 + (a12 i).toNatClampNeg) else some i
theorem rt_20 {m : Int32} {a1 a2 a3 a4 a5 a6 a7 a8 a9 a10 a11 a12 a13 a14 a15 : Nat → Int32} {post : St2 → Prop} (r c B e : Nat) (hc : c < 48) (H : e < 147 → wX_putInRow_71 post (nI r) (nI c) (nI B) (nI e) m a1 a2 a3 a4 a5 a6 a7 a8 a9 a10 a11 a12 a13 a14 a15) :
    ∀ n i k : Nat, n + k ≤ 48 → rt_walk a2 a6 a12 c B n i = some e → wX_putInRow_20 post (nI r) (nI c) (nI B) m a1 a2 a3 a4 a5 a6 a7 a8 a9 a10 a11 a12 a13 a14 a15 n (nI i) (nI k) := by
  intro n
  induction n with
  | zero =>
    intro i k _ h
    exact absurd h (by simp [rt_walk])
  | succ n ih =>
    intro i k hk h
    rw [rt_walk] at h
    by_cases h1 : 147 ≤ i
    · rw [if_pos h1] at h
      exact absurd h (by simp)
    · rw [if_neg h1] at h
      have hi : i < 147 := by omega
      refine pk_le 48 k (fun z => absurd z (by omega)) (fun _ => ⟨rt_v hi, ?_⟩)
      rw [rt_cl hi]
      by_cases h2 : a12 i < 0
      · rw [if_pos h2] at h
        obtain rfl : i = e := Option.some.inj h
        exact br_t h2 (H hi)
      · rw [if_neg h2] at h
        obtain ⟨hd, _⟩ := rt_of h2
        revert h hd
        generalize (a12 i).toNatClampNeg = d
        intro h hd
        refine br_f h2 ⟨rt_v hi, ?_⟩
        rw [hd]
        by_cases h3 : 48 ≤ d
        · rw [if_pos h3] at h
          exact absurd h (by simp)
        · rw [if_neg h3] at h
          refine rt_gr d c (by omega) hc (fun g => br_t rfl ?_) (fun g => br_f (by decide) ⟨rt_v hi, nm_r (rt_j B d) (nm_r (nI_1 k) ?_)⟩)
          · rw [if_neg (by rw [g]; decide)] at h
            obtain rfl : i = e := Option.some.inj h
            exact H hi
          · rw [if_pos g] at h
            exact ih _ _ (by omega) h
/-! learn (of an insert) -/
theorem rt_learn {m : Int32} {a1 a2 a3 a4 a5 a6 a7 a8 a9 a10 a11 a12 a13 a14 a15 : Nat → Int32} {post : St2 → Prop} (r c o i0 i : Nat) (hr : r < 3) (hc : c < 48) (ho : a2 c = nI o) (ho3 : o < 3) (hins : ¬ a1 c = 0) (ha : nI (49 * r) + 1 + a5 c = nI i0) (hw : rt_walk a2 a6 a12 c (49 * r) 48 i0 = some i)
    (H : post (m, a1, a2, a3, a4, a5, a6, a7, a8, a9, upd a10 (3 * r + o) (a3 c), rt_max a6 a11 r c, upd (upd a12 (49 * r + 1 + c) (a12 i)) i (nI c), upd a13 (49 * r + 1 + c) 0, upd a14 r (a14 r + 1), upd a15 r (a15 r + 1))) :
    wpX_learn post (m, a1, a2, a3, a4, a5, a6, a7, a8, a9, a10, a11, a12, a13, a14, a15) (nI r) (nI c) := by
  have hq : 3 * r + o < 9 := by omega
  unfold wpX_learn
  dsimp only
  rw [rt_cl (show c < 147 by omega), ho, rt_3, rt_cl (show 3 * r + o < 147 by omega)]
  refine ⟨rt_v hc, rt_v hc, rt_v hq, nm_e ⟨rt_v hc, br_f hins ?_⟩⟩
  unfold wpX_putInRow
  dsimp only
  rw [rt_cl (show c < 147 by omega)]
  refine nm_r (rt_49 r) ⟨rt_v hc, nm_r ha ⟨48, ?_⟩⟩
  exact rt_20 r c (49 * r) i hc (fun hi => rt_71 r c (49 * r) i hr hc hi (by omega) H) 48 i0 0 (by omega) hw
/-! newChange, insert -/
theorem rt_new {m : Int32} {a1 a2 a3 a4 a5 a6 a7 a8 a9 a10 a11 a12 a13 a14 a15 : Nat → Int32} {post : Int32 → St2 → Prop} (r c k : Nat) (p1 : Int32) (hr : r < 3) (hc : c < 48) (hm : m = nI c) (hk : nI (49 * r) + (a8 r + 1) = nI k) (hk' : k < 147)
    (H : post (nI c) (nI (c + 1), upd a1 c (vp_nar .boolean p1), upd a2 c (nI r), upd a3 c (upd a8 r (a8 r + 1) r), a4, a5, a6, a7, upd a8 r (a8 r + 1), upd a9 k (nI c), a10, a11, a12, a13, a14, a15)) :
    wpX_newChange post (m, a1, a2, a3, a4, a5, a6, a7, a8, a9, a10, a11, a12, a13, a14, a15) (nI r) p1 := by
  subst hm
  unfold wpX_newChange
  dsimp only
  rw [rt_cl (show c < 147 by omega), rt_cl (show r < 147 by omega), rt_49]
  refine nm_r (nI_1 c) ⟨rt_v hc, nm_e ⟨rt_v hc, nm_e ⟨rt_v hr, rt_v hr, nm_e ⟨rt_v hr, rt_v hc, nm_e ⟨rt_v hr, ?_⟩⟩⟩⟩⟩
  have e : nI (49 * r) + upd a8 r (a8 r + 1) r = nI k := by rw [pk_us]; exact hk
  rw [e, rt_cl hk']
  exact ⟨rt_v hk', nm_e H⟩
theorem rt_48 {m : Int32} {a1 a2 a3 a4 a5 a6 a7 a8 a9 a10 a11 a12 a13 a14 a15 : Nat → Int32} {post : Int32 → St2 → Prop} (r c k i0 i : Nat) (x3 z0 : Int32) (hr : r < 3) (hc : c < 48) (hm : m = nI c) (hk : nI (49 * r) + (a8 r + 1) = nI k) (hk' : k < 147)
    (ha : nI (49 * r) + 1 + z0 = nI i0) (hw : rt_walk (upd a2 c (nI r)) (upd a6 c (a11 r + 1)) a12 c (49 * r) 48 i0 = some i)
    (H : post (upd a15 r (a15 r + 1) r) (nI (c + 1), upd a1 c (vp_nar .boolean 1), upd a2 c (nI r), upd a3 c (upd a8 r (a8 r + 1) r), upd a4 c x3, upd a5 c z0, upd a6 c (a11 r + 1), a7, upd a8 r (a8 r + 1), upd a9 k (nI c), upd a10 (3 * r + r) (upd a3 c (upd a8 r (a8 r + 1) r) c), rt_max (upd a6 c (a11 r + 1)) a11 r c, upd (upd a12 (49 * r + 1 + c) (a12 i)) i (nI c), upd a13 (49 * r + 1 + c) 0, upd a14 r (a14 r + 1), upd a15 r (a15 r + 1))) :
    wX_insert_48 post (nI r) x3 z0 m a1 a2 a3 a4 a5 a6 a7 a8 a9 a10 a11 a12 a13 a14 a15 := by
  unfold wX_insert_48
  refine rt_new r c k 1 hr hc hm hk hk' ?_
  dsimp only
  rw [rt_cl (show c < 147 by omega), rt_cl (show r < 147 by omega)]
  refine ⟨rt_v hc, nm_e ⟨rt_v hc, nm_e ⟨rt_v hr, rt_v hc, nm_e ?_⟩⟩⟩
  refine rt_learn r c r i0 i hr hc pk_us hr (by rw [pk_us]; decide +kernel) (by rw [pk_us]; exact ha) hw ?_
  exact ⟨rt_v hr, H⟩
/-! insertAt -/
def rt_find (a12 a13 : Nat → Int32) (B : Nat) : Nat → Nat → Int32 → Option Nat
  | 0, _, _ => none
  | n + 1, l, x => if x < 0 then none else if 147 ≤ B + 1 + x.toNatClampNeg then none else if a13 (B + 1 + x.toNatClampNeg) = 0 then (if l = 0 then some x.toNatClampNeg else rt_find a12 a13 B n (l - 1) (a12 (B + 1 + x.toNatClampNeg))) else none
theorem rt_19 {m : Int32} {a1 a2 a3 a4 a5 a6 a7 a8 a9 a10 a11 a12 a13 a14 a15 : Nat → Int32} {post : Int32 → Prop} (B e : Nat) (H : post (nI e)) :
    ∀ (n l k : Nat) (x : Int32), n + k ≤ 48 → l < 2 ^ 31 → rt_find a12 a13 B n l x = some e → wX_insertAt_19 post (nI B) m a1 a2 a3 a4 a5 a6 a7 a8 a9 a10 a11 a12 a13 a14 a15 n (nI l) x (nI k) := by
  intro n
  induction n with
  | zero =>
    intro l k x _ _ h
    exact absurd h (by simp [rt_find])
  | succ n ih =>
    intro l k x hk hl h
    rw [rt_find] at h
    by_cases h1 : x < 0
    · rw [if_pos h1] at h
      exact absurd h (by simp)
    · rw [if_neg h1] at h
      obtain ⟨hd, _⟩ := rt_of h1
      revert h hd
      generalize x.toNatClampNeg = d
      intro h hd
      by_cases h2 : 147 ≤ B + 1 + d
      · rw [if_pos h2] at h
        exact absurd h (by simp)
      · rw [if_neg h2] at h
        have hj : B + 1 + d < 147 := by omega
        by_cases h3 : a13 (B + 1 + d) = 0
        · rw [if_pos h3] at h
          refine pk_le 48 k (fun z => absurd z (by omega)) (fun _ => br_f h1 ?_)
          rw [hd, rt_j, rt_cl hj]
          refine ⟨rt_v hj, br_t h3 (pk_eq l 0 (fun z => ?_) (fun z => ?_))⟩
          · rw [if_pos z] at h
            obtain rfl : d = e := Option.some.inj h
            exact H
          · rw [if_neg z] at h
            refine nm_r (sb_m1 (by omega)) ?_
            unfold wX_insertAt_56
            rw [rt_j, rt_cl hj]
            refine ⟨rt_v hj, nm_e (nm_r (nI_1 k) ?_)⟩
            exact ih (l - 1) (k + 1) _ (by omega) (by omega) h
        · rw [if_neg h3] at h
          exact absurd h (by simp)
theorem rt_at {m : Int32} {a1 a2 a3 a4 a5 a6 a7 a8 a9 a10 a11 a12 a13 a14 a15 : Nat → Int32} {post : Int32 → Prop} (r l e : Nat) (hr : r < 3) (hl : l < 2 ^ 31) (hf : rt_find a12 a13 (49 * r) 48 l (a12 (49 * r)) = some e) (H : post (nI e)) : wpX_insertAt post (m, a1, a2, a3, a4, a5, a6, a7, a8, a9, a10, a11, a12, a13, a14, a15) (nI r) (nI l) := by
  unfold wpX_insertAt
  dsimp only
  refine nm_r (rt_49 r) ⟨rt_v (by omega), nm_e ⟨48, ?_⟩⟩
  rw [rt_cl (show 49 * r < 147 by omega)]
  exact rt_19 (49 * r) e H 48 l 0 _ (by omega) hl hf
theorem rt_ins0 {m : Int32} {a1 a2 a3 a4 a5 a6 a7 a8 a9 a10 a11 a12 a13 a14 a15 : Nat → Int32} {post : Int32 → St2 → Prop} (r : Nat) (p2 : Int32) (hr : r < 3) (h1 : ¬ a15 r < 0) (hm : m < 48) (H : wX_insert_48 post (nI r) p2 (-1) m a1 a2 a3 a4 a5 a6 a7 a8 a9 a10 a11 a12 a13 a14 a15) : wpX_insert post (m, a1, a2, a3, a4, a5, a6, a7, a8, a9, a10, a11, a12, a13, a14, a15) (nI r) (nI 0) p2 := by
  unfold wpX_insert
  dsimp only
  refine rt_rep hr (br_f (by decide) (br_f (by decide) ⟨rt_v hr, ?_⟩))
  rw [rt_cl (show r < 147 by omega)]
  exact br_f h1 (br_t hm (br_t rfl H))
theorem rt_insP {m : Int32} {a1 a2 a3 a4 a5 a6 a7 a8 a9 a10 a11 a12 a13 a14 a15 : Nat → Int32} {post : Int32 → St2 → Prop} (r l e : Nat) (p2 : Int32) (hr : r < 3) (hl : l < 48) (h1 : ¬ a15 r < nI (l + 1)) (hm : m < 48) (hf : rt_find a12 a13 (49 * r) 48 l (a12 (49 * r)) = some e)
    (H : wX_insert_48 post (nI r) p2 (nI e) m a1 a2 a3 a4 a5 a6 a7 a8 a9 a10 a11 a12 a13 a14 a15) : wpX_insert post (m, a1, a2, a3, a4, a5, a6, a7, a8, a9, a10, a11, a12, a13, a14, a15) (nI r) (nI (l + 1)) p2 := by
  unfold wpX_insert
  dsimp only
  refine rt_rep hr (br_f (by decide) (br_f (nI_pos (by omega)) ⟨rt_v hr, ?_⟩))
  rw [rt_cl (show r < 147 by omega)]
  refine br_f h1 (br_t hm (br_f (nI_ne0 (by omega) (by omega)) ?_))
  rw [nI_pred]
  exact rt_at r l e hr (by omega) hf H
theorem rt_insN {m : Int32} {a1 a2 a3 a4 a5 a6 a7 a8 a9 a10 a11 a12 a13 a14 a15 : Nat → Int32} {post : Int32 → St2 → Prop} (r : Nat) (p1 p2 : Int32) (hr : r < 3) (h : p1 < 0 ∨ a15 r < p1) (H : post (-1) (m, a1, a2, a3, a4, a5, a6, a7, a8, a9, a10, a11, a12, a13, a14, a15)) : wpX_insert post (m, a1, a2, a3, a4, a5, a6, a7, a8, a9, a10, a11, a12, a13, a14, a15) (nI r) p1 p2 := by
  unfold wpX_insert
  dsimp only
  refine rt_rep hr (br_f (by decide) (br_c (fun _ => H) (fun g => ⟨rt_v hr, ?_⟩)))
  rw [rt_cl (show r < 147 by omega)]
  exact br_t (h.resolve_left g) H
/-! letter -/
theorem rt_let {m : Int32} {a1 a2 a3 a4 a5 a6 a7 a8 a9 a10 a11 a12 a13 a14 a15 : Nat → Int32} {post : Int32 → Prop} (r l e : Nat) (hr : r < 3) (he : e < 48) (hl : l < 48) (h1 : nI l < a15 r) (hf : rt_find a12 a13 (49 * r) 48 l (a12 (49 * r)) = some e) (H : post (a4 e)) : wpX_letter post (m, a1, a2, a3, a4, a5, a6, a7, a8, a9, a10, a11, a12, a13, a14, a15) (nI r) (nI l) := by
  unfold wpX_letter
  dsimp only
  refine rt_rep hr (br_f (by decide) (br_f (nI_pos (by omega)) ⟨rt_v hr, ?_⟩))
  rw [rt_cl (show r < 147 by omega)]
  refine br_t h1 (rt_at r l e hr (by omega) hf ?_)
  rw [rt_cl (show e < 147 by omega)]
  exact ⟨rt_v he, H⟩
theorem rt_letN {m : Int32} {a1 a2 a3 a4 a5 a6 a7 a8 a9 a10 a11 a12 a13 a14 a15 : Nat → Int32} {post : Int32 → Prop} (r : Nat) (p1 : Int32) (hr : r < 3) (h : p1 < 0 ∨ ¬ p1 < a15 r) (H : post 0) : wpX_letter post (m, a1, a2, a3, a4, a5, a6, a7, a8, a9, a10, a11, a12, a13, a14, a15) (nI r) p1 := by
  unfold wpX_letter
  dsimp only
  refine rt_rep hr (br_f (by decide) (br_c (fun _ => H) (fun g => ⟨rt_v hr, ?_⟩)))
  rw [rt_cl (show r < 147 by omega)]
  exact br_f (h.resolve_left g) H
/-! isKnown, sync -/
theorem rt_kn0 {m : Int32} {a1 a2 a3 a4 a5 a6 a7 a8 a9 a10 a11 a12 a13 a14 a15 : Nat → Int32} {post : Int32 → Prop} (r c o : Nat) (hr : r < 3) (hc : c < 48) (ho : a2 c = nI o) (ho3 : o < 3) (h : a10 (3 * r + o) < a3 c) (H : post 0) : wpX_isKnown post (m, a1, a2, a3, a4, a5, a6, a7, a8, a9, a10, a11, a12, a13, a14, a15) (nI r) (nI c) := by
  have hq : 3 * r + o < 9 := by omega
  unfold wpX_isKnown
  dsimp only
  rw [rt_cl (show c < 147 by omega), ho, rt_3, rt_cl (show 3 * r + o < 147 by omega)]
  exact ⟨rt_v hc, rt_v hc, rt_v hq, br_t h H⟩
theorem rt_kn1 {m : Int32} {a1 a2 a3 a4 a5 a6 a7 a8 a9 a10 a11 a12 a13 a14 a15 : Nat → Int32} {post : Int32 → Prop} (r c o : Nat) (hr : r < 3) (hc : c < 48) (ho : a2 c = nI o) (ho3 : o < 3) (h : ¬ a10 (3 * r + o) < a3 c) (H : post 1) : wpX_isKnown post (m, a1, a2, a3, a4, a5, a6, a7, a8, a9, a10, a11, a12, a13, a14, a15) (nI r) (nI c) := by
  have hq : 3 * r + o < 9 := by omega
  unfold wpX_isKnown
  dsimp only
  rw [rt_cl (show c < 147 by omega), ho, rt_3, rt_cl (show 3 * r + o < 147 by omega)]
  exact ⟨rt_v hc, rt_v hc, rt_v hq, br_f h H⟩
theorem rt_syE {m : Int32} {a1 a2 a3 a4 a5 a6 a7 a8 a9 a10 a11 a12 a13 a14 a15 : Nat → Int32} {post : Int32 → St2 → Prop} (r s n c : Nat) (h : m ≤ nI c) (H : post 0 (m, a1, a2, a3, a4, a5, a6, a7, a8, a9, a10, a11, a12, a13, a14, a15)) : wX_sync_18 post (nI r) (nI s) (n + 1) (nI c) m a1 a2 a3 a4 a5 a6 a7 a8 a9 a10 a11 a12 a13 a14 a15 := br_t h H
/-- the sender doesn't know change c -/
theorem rt_syU {m : Int32} {a1 a2 a3 a4 a5 a6 a7 a8 a9 a10 a11 a12 a13 a14 a15 : Nat → Int32} {post : Int32 → St2 → Prop} (r s n c o : Nat) (hr : r < 3) (hc : c < 48) (hm : ¬ m ≤ nI c) (ho : a2 c = nI o) (ho3 : o < 3) (h : a10 (3 * r + o) < a3 c)
    (H : wX_sync_18 post (nI r) (nI s) n (nI (c + 1)) m a1 a2 a3 a4 a5 a6 a7 a8 a9 a10 a11 a12 a13 a14 a15) : wX_sync_18 post (nI r) (nI s) (n + 1) (nI c) m a1 a2 a3 a4 a5 a6 a7 a8 a9 a10 a11 a12 a13 a14 a15 :=
  br_f hm (rt_kn0 r c o hr hc ho ho3 h (br_t rfl (nm_r (nI_1 c) H)))
/-- both know change c -/
theorem rt_syK {m : Int32} {a1 a2 a3 a4 a5 a6 a7 a8 a9 a10 a11 a12 a13 a14 a15 : Nat → Int32} {post : Int32 → St2 → Prop} (r s n c o : Nat) (hr : r < 3) (hs : s < 3) (hc : c < 48) (hm : ¬ m ≤ nI c) (ho : a2 c = nI o) (ho3 : o < 3) (h : ¬ a10 (3 * r + o) < a3 c) (h' : ¬ a10 (3 * s + o) < a3 c)
    (H : wX_sync_18 post (nI r) (nI s) n (nI (c + 1)) m a1 a2 a3 a4 a5 a6 a7 a8 a9 a10 a11 a12 a13 a14 a15) : wX_sync_18 post (nI r) (nI s) (n + 1) (nI c) m a1 a2 a3 a4 a5 a6 a7 a8 a9 a10 a11 a12 a13 a14 a15 :=
  br_f hm (rt_kn1 r c o hr hc ho ho3 h (br_f (by decide) (rt_kn1 s c o hs hc ho ho3 h' (br_f (by decide) (nm_r (nI_1 c) H)))))
/-- change c is learnt -/
theorem rt_syL {m : Int32} {a1 a2 a3 a4 a5 a6 a7 a8 a9 a10 a11 a12 a13 a14 a15 : Nat → Int32} {m' : Int32} {a1' a2' a3' a4' a5' a6' a7' a8' a9' a10' a11' a12' a13' a14' a15' : Nat → Int32} {post : Int32 → St2 → Prop} (r s n c o : Nat) (hr : r < 3) (hs : s < 3) (hc : c < 48) (hm : ¬ m ≤ nI c) (ho : a2 c = nI o) (ho3 : o < 3) (h : ¬ a10 (3 * r + o) < a3 c) (h' : a10 (3 * s + o) < a3 c)
    (HL : ∀ P : St2 → Prop, P (m', a1', a2', a3', a4', a5', a6', a7', a8', a9', a10', a11', a12', a13', a14', a15') → wpX_learn P (m, a1, a2, a3, a4, a5, a6, a7, a8, a9, a10, a11, a12, a13, a14, a15) (nI s) (nI c))
    (H : wX_sync_18 post (nI r) (nI s) n (nI (c + 1)) m' a1' a2' a3' a4' a5' a6' a7' a8' a9' a10' a11' a12' a13' a14' a15') : wX_sync_18 post (nI r) (nI s) (n + 1) (nI c) m a1 a2 a3 a4 a5 a6 a7 a8 a9 a10 a11 a12 a13 a14 a15 :=
  br_f hm (rt_kn1 r c o hr hc ho ho3 h (br_f (by decide) (rt_kn0 s c o hs hc ho ho3 h' (br_t rfl (HL _ (nm_r (nI_1 c) H))))))
theorem rt_sync {m : Int32} {a1 a2 a3 a4 a5 a6 a7 a8 a9 a10 a11 a12 a13 a14 a15 : Nat → Int32} {post : Int32 → St2 → Prop} (r s n : Nat) (hr : r < 3) (hs : s < 3) (H : wX_sync_18 post (nI r) (nI s) n (nI 0) m a1 a2 a3 a4 a5 a6 a7 a8 a9 a10 a11 a12 a13 a14 a15) : wpX_sync post (m, a1, a2, a3, a4, a5, a6, a7, a8, a9, a10, a11, a12, a13, a14, a15) (nI r) (nI s) := by
  unfold wpX_sync
  dsimp only
  exact rt_rep hr (br_f (by decide) (rt_rep hs (br_f (by decide) ⟨n, H⟩)))
/-! shown, alike -/
def rt_sh (a13 : Nat → Int32) (B : Nat) (x : Int32) : Bool := decide (x < 0) || (decide (B + 1 + x.toNatClampNeg < 147) && decide (a13 (B + 1 + x.toNatClampNeg) = 0))
theorem rt_shown {m : Int32} {a1 a2 a3 a4 a5 a6 a7 a8 a9 a10 a11 a12 a13 a14 a15 : Nat → Int32} {post : Int32 → Prop} (r : Nat) (x : Int32) (h : rt_sh a13 (49 * r) x = true) (H : post x) : wpX_shown post (m, a1, a2, a3, a4, a5, a6, a7, a8, a9, a10, a11, a12, a13, a14, a15) (nI r) x := by
  unfold wpX_shown
  dsimp only
  refine ⟨1, br_f (by decide) (br_c (fun _ => H) (fun g => ?_))⟩
  obtain ⟨hd, _⟩ := rt_of g
  unfold rt_sh at h
  rw [decide_eq_false g, Bool.false_or, Bool.and_eq_true, decide_eq_true_eq, decide_eq_true_eq] at h
  rw [rt_49]
  have e : nI (49 * r) + 1 + x = nI (49 * r + 1 + x.toNatClampNeg) := by rw [← rt_j, ← hd]
  rw [e, rt_cl h.1]
  exact ⟨rt_v h.1, br_t h.2 H⟩
/-- both rows go on alike from x -/
def rt_same (a12 a13 : Nat → Int32) (A B : Nat) : Nat → Int32 → Bool
  | 0, _ => false
  | n + 1, x => if x < 0 then true else decide (x.toNatClampNeg < 48) && (decide (a12 (A + 1 + x.toNatClampNeg) = a12 (B + 1 + x.toNatClampNeg)) && (rt_sh a13 A (a12 (A + 1 + x.toNatClampNeg)) && (rt_sh a13 B (a12 (A + 1 + x.toNatClampNeg)) && rt_same a12 a13 A B n (a12 (A + 1 + x.toNatClampNeg)))))
theorem rt_67 {m : Int32} {a1 a2 a3 a4 a5 a6 a7 a8 a9 a10 a11 a12 a13 a14 a15 : Nat → Int32} {post : Int32 → Prop} (r s : Nat) (hr : r < 3) (hs : s < 3) (H : post 1) :
    ∀ (n k : Nat) (x : Int32), n + k ≤ 48 → rt_same a12 a13 (49 * r) (49 * s) n x = true → wX_alike_67 post (nI r) (nI s) m a1 a2 a3 a4 a5 a6 a7 a8 a9 a10 a11 a12 a13 a14 a15 n x x (nI k) := by
  intro n
  induction n with
  | zero =>
    intro k x _ h
    exact absurd h (by simp [rt_same])
  | succ n ih =>
    intro k x hk h
    refine pk_le 48 k (fun z => absurd z (by omega)) (fun _ => br_c (fun _ => H) (fun g => br_f g ?_))
    rw [rt_same, if_neg g] at h
    obtain ⟨hd, _⟩ := rt_of g
    revert h hd
    generalize x.toNatClampNeg = d
    intro h hd
    simp only [Bool.and_eq_true, decide_eq_true_eq] at h
    obtain ⟨h1, h2, h3, h4, h5⟩ := h
    rw [hd, rt_49, rt_49, rt_j, rt_j, rt_cl (show 49 * r + 1 + d < 147 by omega), rt_cl (show 49 * s + 1 + d < 147 by omega), ← h2]
    refine ⟨rt_v h1, rt_v h1, br_t rfl ⟨rt_v (by omega), rt_shown r _ h3 ⟨rt_v (by omega), rt_shown s _ h4 (nm_r (nI_1 k) ?_)⟩⟩⟩
    exact ih (k + 1) _ (by omega) h5
theorem rt_alike {m : Int32} {a1 a2 a3 a4 a5 a6 a7 a8 a9 a10 a11 a12 a13 a14 a15 : Nat → Int32} {post : Int32 → Prop} (r s : Nat) (hr : r < 3) (hs : s < 3) (h0 : a15 r = a15 s) (h1 : a12 (49 * r) = a12 (49 * s)) (h2 : rt_sh a13 (49 * r) (a12 (49 * r)) = true) (h3 : rt_sh a13 (49 * s) (a12 (49 * r)) = true)
    (h4 : rt_same a12 a13 (49 * r) (49 * s) 48 (a12 (49 * r)) = true) (H : post 1) : wpX_alike post (m, a1, a2, a3, a4, a5, a6, a7, a8, a9, a10, a11, a12, a13, a14, a15) (nI r) (nI s) := by
  unfold wpX_alike
  dsimp only
  refine rt_rep hr (br_f (by decide) (rt_rep hs (br_f (by decide) ⟨rt_v hr, rt_v hs, ?_⟩)))
  rw [rt_cl (show r < 147 by omega), rt_cl (show s < 147 by omega), rt_49, rt_49, rt_cl (show 49 * r < 147 by omega), rt_cl (show 49 * s < 147 by omega), ← h1]
  refine br_t h0 ⟨rt_v (by omega), rt_shown r _ h2 ⟨rt_v (by omega), rt_shown s _ h3 ⟨48, ?_⟩⟩⟩
  exact rt_67 r s hr hs H 48 0 _ (by omega) h4
end
section
/-! the states of the law's one object, as the law reaches them -/
def rt_s0_12 : Nat → Int32 := upd (upd (upd rt_z 0 (-1)) 49 (-1)) 98 (-1)
def rt_s1_1 : Nat → Int32 := upd rt_z 0 (vp_nar .boolean 1)
def rt_s1_2 : Nat → Int32 := upd rt_z 0 (nI 0)
def rt_s1_8 : Nat → Int32 := upd rt_z 0 (rt_z 0 + 1)
def rt_s1_3 : Nat → Int32 := upd rt_z 0 (rt_s1_8 0)
def rt_s1_9 : Nat → Int32 := upd rt_z 1 (nI 0)
def rt_s1_4 (a : Int32) : Nat → Int32 := upd rt_z 0 a
def rt_s1_5 : Nat → Int32 := upd rt_z 0 (-1)
def rt_s1_6 : Nat → Int32 := upd rt_z 0 (rt_z 0 + 1)
def rt_s1_10 : Nat → Int32 := upd rt_z 0 (rt_s1_3 0)
def rt_s1_11 : Nat → Int32 := rt_max rt_s1_6 rt_z 0 0
def rt_s1_12 : Nat → Int32 := upd (upd rt_s0_12 1 (rt_s0_12 0)) 0 (nI 0)
def rt_s1_13 : Nat → Int32 := upd rt_z 1 0
def rt_s1_14 : Nat → Int32 := upd rt_z 0 (rt_z 0 + 1)
def rt_s1_15 : Nat → Int32 := upd rt_z 0 (rt_z 0 + 1)
def rt_s2_1 : Nat → Int32 := upd rt_s1_1 1 (vp_nar .boolean 1)
def rt_s2_2 : Nat → Int32 := upd rt_s1_2 1 (nI 2)
def rt_s2_8 : Nat → Int32 := upd rt_s1_8 2 (rt_s1_8 2 + 1)
def rt_s2_3 : Nat → Int32 := upd rt_s1_3 1 (rt_s2_8 2)
def rt_s2_9 : Nat → Int32 := upd rt_s1_9 99 (nI 1)
def rt_s2_4 (a b : Int32) : Nat → Int32 := upd (rt_s1_4 a) 1 b
def rt_s2_5 : Nat → Int32 := upd rt_s1_5 1 (-1)
def rt_s2_6 : Nat → Int32 := upd rt_s1_6 1 (rt_s1_11 2 + 1)
def rt_s2_10 : Nat → Int32 := upd rt_s1_10 8 (rt_s2_3 1)
def rt_s2_11 : Nat → Int32 := rt_max rt_s2_6 rt_s1_11 2 1
def rt_s2_12 : Nat → Int32 := upd (upd rt_s1_12 100 (rt_s1_12 98)) 98 (nI 1)
def rt_s2_13 : Nat → Int32 := upd rt_s1_13 100 0
def rt_s2_14 : Nat → Int32 := upd rt_s1_14 2 (rt_s1_14 2 + 1)
def rt_s2_15 : Nat → Int32 := upd rt_s1_15 2 (rt_s1_15 2 + 1)
def rt_s3_10 : Nat → Int32 := upd rt_s2_10 6 (rt_s2_3 0)
def rt_s3_11 : Nat → Int32 := rt_max rt_s2_6 rt_s2_11 2 0
def rt_s3_12 : Nat → Int32 := upd (upd rt_s2_12 99 (rt_s2_12 100)) 100 (nI 0)
def rt_s3_13 : Nat → Int32 := upd rt_s2_13 99 0
def rt_s3_14 : Nat → Int32 := upd rt_s2_14 2 (rt_s2_14 2 + 1)
def rt_s3_15 : Nat → Int32 := upd rt_s2_15 2 (rt_s2_15 2 + 1)
def rt_s40_1 : Nat → Int32 := upd rt_s2_1 2 (vp_nar .boolean 1)
def rt_s40_2 : Nat → Int32 := upd rt_s2_2 2 (nI 2)
def rt_s40_8 : Nat → Int32 := upd rt_s2_8 2 (rt_s2_8 2 + 1)
def rt_s40_3 : Nat → Int32 := upd rt_s2_3 2 (rt_s40_8 2)
def rt_s40_9 : Nat → Int32 := upd rt_s2_9 100 (nI 2)
def rt_s40_4 (a b c : Int32) : Nat → Int32 := upd (rt_s2_4 a b) 2 c
def rt_s40_5 : Nat → Int32 := upd rt_s2_5 2 (-1)
def rt_s40_6 : Nat → Int32 := upd rt_s2_6 2 (rt_s3_11 2 + 1)
def rt_s40_10 : Nat → Int32 := upd rt_s3_10 8 (rt_s40_3 2)
def rt_s40_11 : Nat → Int32 := rt_max rt_s40_6 rt_s3_11 2 2
def rt_s40_12 : Nat → Int32 := upd (upd rt_s3_12 101 (rt_s3_12 98)) 98 (nI 2)
def rt_s40_13 : Nat → Int32 := upd rt_s3_13 101 0
def rt_s40_14 : Nat → Int32 := upd rt_s3_14 2 (rt_s3_14 2 + 1)
def rt_s40_15 : Nat → Int32 := upd rt_s3_15 2 (rt_s3_15 2 + 1)
def rt_s50_10 : Nat → Int32 := upd rt_s40_10 2 (rt_s40_3 1)
def rt_s50_11 : Nat → Int32 := rt_max rt_s40_6 rt_s40_11 0 1
def rt_s50_12 : Nat → Int32 := upd (upd rt_s40_12 2 (rt_s40_12 0)) 0 (nI 1)
def rt_s50_13 : Nat → Int32 := upd rt_s40_13 2 0
def rt_s50_14 : Nat → Int32 := upd rt_s40_14 0 (rt_s40_14 0 + 1)
def rt_s50_15 : Nat → Int32 := upd rt_s40_15 0 (rt_s40_15 0 + 1)
def rt_s60_10 : Nat → Int32 := upd rt_s50_10 2 (rt_s40_3 2)
def rt_s60_11 : Nat → Int32 := rt_max rt_s40_6 rt_s50_11 0 2
def rt_s60_12 : Nat → Int32 := upd (upd rt_s50_12 3 (rt_s50_12 0)) 0 (nI 2)
def rt_s60_13 : Nat → Int32 := upd rt_s50_13 3 0
def rt_s60_14 : Nat → Int32 := upd rt_s50_14 0 (rt_s50_14 0 + 1)
def rt_s60_15 : Nat → Int32 := upd rt_s50_15 0 (rt_s50_15 0 + 1)
def rt_s41_1 : Nat → Int32 := upd rt_s2_1 2 (vp_nar .boolean 1)
def rt_s41_2 : Nat → Int32 := upd rt_s2_2 2 (nI 2)
def rt_s41_8 : Nat → Int32 := upd rt_s2_8 2 (rt_s2_8 2 + 1)
def rt_s41_3 : Nat → Int32 := upd rt_s2_3 2 (rt_s41_8 2)
def rt_s41_9 : Nat → Int32 := upd rt_s2_9 100 (nI 2)
def rt_s41_4 (a b c : Int32) : Nat → Int32 := upd (rt_s2_4 a b) 2 c
def rt_s41_5 : Nat → Int32 := upd rt_s2_5 2 (nI 1)
def rt_s41_6 : Nat → Int32 := upd rt_s2_6 2 (rt_s3_11 2 + 1)
def rt_s41_10 : Nat → Int32 := upd rt_s3_10 8 (rt_s41_3 2)
def rt_s41_11 : Nat → Int32 := rt_max rt_s41_6 rt_s3_11 2 2
def rt_s41_12 : Nat → Int32 := upd (upd rt_s3_12 101 (rt_s3_12 100)) 100 (nI 2)
def rt_s41_13 : Nat → Int32 := upd rt_s3_13 101 0
def rt_s41_14 : Nat → Int32 := upd rt_s3_14 2 (rt_s3_14 2 + 1)
def rt_s41_15 : Nat → Int32 := upd rt_s3_15 2 (rt_s3_15 2 + 1)
def rt_s51_10 : Nat → Int32 := upd rt_s41_10 2 (rt_s41_3 1)
def rt_s51_11 : Nat → Int32 := rt_max rt_s41_6 rt_s41_11 0 1
def rt_s51_12 : Nat → Int32 := upd (upd rt_s41_12 2 (rt_s41_12 0)) 0 (nI 1)
def rt_s51_13 : Nat → Int32 := upd rt_s41_13 2 0
def rt_s51_14 : Nat → Int32 := upd rt_s41_14 0 (rt_s41_14 0 + 1)
def rt_s51_15 : Nat → Int32 := upd rt_s41_15 0 (rt_s41_15 0 + 1)
def rt_s61_10 : Nat → Int32 := upd rt_s51_10 2 (rt_s41_3 2)
def rt_s61_11 : Nat → Int32 := rt_max rt_s41_6 rt_s51_11 0 2
def rt_s61_12 : Nat → Int32 := upd (upd rt_s51_12 3 (rt_s51_12 2)) 2 (nI 2)
def rt_s61_13 : Nat → Int32 := upd rt_s51_13 3 0
def rt_s61_14 : Nat → Int32 := upd rt_s51_14 0 (rt_s51_14 0 + 1)
def rt_s61_15 : Nat → Int32 := upd rt_s51_15 0 (rt_s51_15 0 + 1)
def rt_s42_1 : Nat → Int32 := upd rt_s2_1 2 (vp_nar .boolean 1)
def rt_s42_2 : Nat → Int32 := upd rt_s2_2 2 (nI 2)
def rt_s42_8 : Nat → Int32 := upd rt_s2_8 2 (rt_s2_8 2 + 1)
def rt_s42_3 : Nat → Int32 := upd rt_s2_3 2 (rt_s42_8 2)
def rt_s42_9 : Nat → Int32 := upd rt_s2_9 100 (nI 2)
def rt_s42_4 (a b c : Int32) : Nat → Int32 := upd (rt_s2_4 a b) 2 c
def rt_s42_5 : Nat → Int32 := upd rt_s2_5 2 (nI 0)
def rt_s42_6 : Nat → Int32 := upd rt_s2_6 2 (rt_s3_11 2 + 1)
def rt_s42_10 : Nat → Int32 := upd rt_s3_10 8 (rt_s42_3 2)
def rt_s42_11 : Nat → Int32 := rt_max rt_s42_6 rt_s3_11 2 2
def rt_s42_12 : Nat → Int32 := upd (upd rt_s3_12 101 (rt_s3_12 99)) 99 (nI 2)
def rt_s42_13 : Nat → Int32 := upd rt_s3_13 101 0
def rt_s42_14 : Nat → Int32 := upd rt_s3_14 2 (rt_s3_14 2 + 1)
def rt_s42_15 : Nat → Int32 := upd rt_s3_15 2 (rt_s3_15 2 + 1)
def rt_s52_10 : Nat → Int32 := upd rt_s42_10 2 (rt_s42_3 1)
def rt_s52_11 : Nat → Int32 := rt_max rt_s42_6 rt_s42_11 0 1
def rt_s52_12 : Nat → Int32 := upd (upd rt_s42_12 2 (rt_s42_12 0)) 0 (nI 1)
def rt_s52_13 : Nat → Int32 := upd rt_s42_13 2 0
def rt_s52_14 : Nat → Int32 := upd rt_s42_14 0 (rt_s42_14 0 + 1)
def rt_s52_15 : Nat → Int32 := upd rt_s42_15 0 (rt_s42_15 0 + 1)
def rt_s62_10 : Nat → Int32 := upd rt_s52_10 2 (rt_s42_3 2)
def rt_s62_11 : Nat → Int32 := rt_max rt_s42_6 rt_s52_11 0 2
def rt_s62_12 : Nat → Int32 := upd (upd rt_s52_12 3 (rt_s52_12 1)) 1 (nI 2)
def rt_s62_13 : Nat → Int32 := upd rt_s52_13 3 0
def rt_s62_14 : Nat → Int32 := upd rt_s52_14 0 (rt_s52_14 0 + 1)
def rt_s62_15 : Nat → Int32 := upd rt_s52_15 0 (rt_s52_15 0 + 1)
def rt_s5n_10 : Nat → Int32 := upd rt_s3_10 2 (rt_s2_3 1)
def rt_s5n_11 : Nat → Int32 := rt_max rt_s2_6 rt_s3_11 0 1
def rt_s5n_12 : Nat → Int32 := upd (upd rt_s3_12 2 (rt_s3_12 0)) 0 (nI 1)
def rt_s5n_13 : Nat → Int32 := upd rt_s3_13 2 0
def rt_s5n_14 : Nat → Int32 := upd rt_s3_14 0 (rt_s3_14 0 + 1)
def rt_s5n_15 : Nat → Int32 := upd rt_s3_15 0 (rt_s3_15 0 + 1)
end
section
/-! the calls of the law, one by one -/
theorem rt_i1 {m : Int32} {a1 a2 a3 a4 a5 a6 a7 a8 a9 a10 a11 a12 a13 a14 a15 : Nat → Int32} {post : St2 → Prop} {mc ms kc ks : Nat} (n i : Nat) (hi : i < 3) (H : wX_init_125 post mc ms kc ks m n (nI (i + 1)) a1 a2 a3 a4 a5 a6 a7 a8 a9 a10 a11 (upd a12 (49 * i) (-1)) a13 a14 a15) : wX_init_125 post mc ms kc ks m (n + 1) (nI i) a1 a2 a3 a4 a5 a6 a7 a8 a9 a10 a11 a12 a13 a14 a15 := by
  refine pk_le 3 i (fun z => absurd z (by omega)) (fun _ => ?_)
  rw [rt_49, rt_cl (show 49 * i < 147 by omega)]
  exact ⟨rt_v (by omega), nm_e (nm_r (nI_1 i) H)⟩
theorem rt_c0 {post : St2 → Prop} (H : post ((nI 0), rt_z, rt_z, rt_z, rt_z, rt_z, rt_z, rt_z, rt_z, rt_z, rt_z, rt_z, rt_s0_12, rt_z, rt_z, rt_z)) : wpX_init post 15 798 0 := by
  refine ⟨by decide, by decide, by decide, by decide, by decide, by decide, by decide, by decide, by decide, by decide, by decide, by decide, by decide, by decide, by decide, by decide, by decide, by decide, by decide, by decide, by decide, by decide, by decide, by decide, by decide, by decide, by decide, by decide, by decide, by decide, 4, ?_⟩
  exact rt_i1 3 0 (by decide) (rt_i1 2 1 (by decide) (rt_i1 1 2 (by decide) (br_t (by decide) H)))
theorem rt_c1 {post : Int32 → St2 → Prop} (a : Int32) (H : post 1 ((nI 1), rt_s1_1, rt_s1_2, rt_s1_3, (rt_s1_4 a), rt_s1_5, rt_s1_6, rt_z, rt_s1_8, rt_s1_9, rt_s1_10, rt_s1_11, rt_s1_12, rt_s1_13, rt_s1_14, rt_s1_15)) : wpX_insert post ((nI 0), rt_z, rt_z, rt_z, rt_z, rt_z, rt_z, rt_z, rt_z, rt_z, rt_z, rt_z, rt_s0_12, rt_z, rt_z, rt_z) (nI 0) (nI 0) a := by
  have e : upd rt_z 0 (rt_z 0 + 1) 0 = 1 := by decide +kernel
  refine rt_ins0 0 a (by decide) (by decide +kernel) (by decide +kernel) ?_
  exact rt_48 0 0 1 0 0 a (-1) (by decide) (by decide) rfl (by decide +kernel) (by decide) (by decide +kernel) (by decide +kernel) (ek_v (P := fun x => post x ((nI 1), rt_s1_1, rt_s1_2, rt_s1_3, (rt_s1_4 a), rt_s1_5, rt_s1_6, rt_z, rt_s1_8, rt_s1_9, rt_s1_10, rt_s1_11, rt_s1_12, rt_s1_13, rt_s1_14, rt_s1_15)) e H)
theorem rt_c2 {post : Int32 → St2 → Prop} (a b : Int32) (H : post 1 ((nI 2), rt_s2_1, rt_s2_2, rt_s2_3, (rt_s2_4 a b), rt_s2_5, rt_s2_6, rt_z, rt_s2_8, rt_s2_9, rt_s2_10, rt_s2_11, rt_s2_12, rt_s2_13, rt_s2_14, rt_s2_15)) : wpX_insert post ((nI 1), rt_s1_1, rt_s1_2, rt_s1_3, (rt_s1_4 a), rt_s1_5, rt_s1_6, rt_z, rt_s1_8, rt_s1_9, rt_s1_10, rt_s1_11, rt_s1_12, rt_s1_13, rt_s1_14, rt_s1_15) (nI 2) (nI 0) b := by
  have e : upd rt_s1_15 2 (rt_s1_15 2 + 1) 2 = 1 := by decide +kernel
  refine rt_ins0 2 b (by decide) (by decide +kernel) (by decide +kernel) ?_
  exact rt_48 2 1 99 98 98 b (-1) (by decide) (by decide) rfl (by decide +kernel) (by decide) (by decide +kernel) (by decide +kernel) (ek_v (P := fun x => post x ((nI 2), rt_s2_1, rt_s2_2, rt_s2_3, (rt_s2_4 a b), rt_s2_5, rt_s2_6, rt_z, rt_s2_8, rt_s2_9, rt_s2_10, rt_s2_11, rt_s2_12, rt_s2_13, rt_s2_14, rt_s2_15)) e H)
theorem rt_c40 {post : Int32 → St2 → Prop} (a b c : Int32) (H : post 3 ((nI 3), rt_s40_1, rt_s40_2, rt_s40_3, (rt_s40_4 a b c), rt_s40_5, rt_s40_6, rt_z, rt_s40_8, rt_s40_9, rt_s40_10, rt_s40_11, rt_s40_12, rt_s40_13, rt_s40_14, rt_s40_15)) : wpX_insert post ((nI 2), rt_s2_1, rt_s2_2, rt_s2_3, (rt_s2_4 a b), rt_s2_5, rt_s2_6, rt_z, rt_s2_8, rt_s2_9, rt_s3_10, rt_s3_11, rt_s3_12, rt_s3_13, rt_s3_14, rt_s3_15) (nI 2) (nI 0) c := by
  have e : upd rt_s3_15 2 (rt_s3_15 2 + 1) 2 = 3 := by decide +kernel
  refine rt_ins0 2 c (by decide) (by decide +kernel) (by decide +kernel) ?_
  exact rt_48 2 2 100 98 98 c (-1) (by decide) (by decide) rfl (by decide +kernel) (by decide) (by decide +kernel) (by decide +kernel) (ek_v (P := fun x => post x ((nI 3), rt_s40_1, rt_s40_2, rt_s40_3, (rt_s40_4 a b c), rt_s40_5, rt_s40_6, rt_z, rt_s40_8, rt_s40_9, rt_s40_10, rt_s40_11, rt_s40_12, rt_s40_13, rt_s40_14, rt_s40_15)) e H)
theorem rt_c41 {post : Int32 → St2 → Prop} (a b c : Int32) (H : post 3 ((nI 3), rt_s41_1, rt_s41_2, rt_s41_3, (rt_s41_4 a b c), rt_s41_5, rt_s41_6, rt_z, rt_s41_8, rt_s41_9, rt_s41_10, rt_s41_11, rt_s41_12, rt_s41_13, rt_s41_14, rt_s41_15)) : wpX_insert post ((nI 2), rt_s2_1, rt_s2_2, rt_s2_3, (rt_s2_4 a b), rt_s2_5, rt_s2_6, rt_z, rt_s2_8, rt_s2_9, rt_s3_10, rt_s3_11, rt_s3_12, rt_s3_13, rt_s3_14, rt_s3_15) (nI 2) (nI 1) c := by
  have e : upd rt_s3_15 2 (rt_s3_15 2 + 1) 2 = 3 := by decide +kernel
  refine rt_insP 2 0 1 c (by decide) (by decide) (by decide +kernel) (by decide +kernel) (by decide +kernel) ?_
  exact rt_48 2 2 100 100 100 c (nI 1) (by decide) (by decide) rfl (by decide +kernel) (by decide) (by decide +kernel) (by decide +kernel) (ek_v (P := fun x => post x ((nI 3), rt_s41_1, rt_s41_2, rt_s41_3, (rt_s41_4 a b c), rt_s41_5, rt_s41_6, rt_z, rt_s41_8, rt_s41_9, rt_s41_10, rt_s41_11, rt_s41_12, rt_s41_13, rt_s41_14, rt_s41_15)) e H)
theorem rt_c42 {post : Int32 → St2 → Prop} (a b c : Int32) (H : post 3 ((nI 3), rt_s42_1, rt_s42_2, rt_s42_3, (rt_s42_4 a b c), rt_s42_5, rt_s42_6, rt_z, rt_s42_8, rt_s42_9, rt_s42_10, rt_s42_11, rt_s42_12, rt_s42_13, rt_s42_14, rt_s42_15)) : wpX_insert post ((nI 2), rt_s2_1, rt_s2_2, rt_s2_3, (rt_s2_4 a b), rt_s2_5, rt_s2_6, rt_z, rt_s2_8, rt_s2_9, rt_s3_10, rt_s3_11, rt_s3_12, rt_s3_13, rt_s3_14, rt_s3_15) (nI 2) (nI 2) c := by
  have e : upd rt_s3_15 2 (rt_s3_15 2 + 1) 2 = 3 := by decide +kernel
  refine rt_insP 2 1 0 c (by decide) (by decide) (by decide +kernel) (by decide +kernel) (by decide +kernel) ?_
  exact rt_48 2 2 100 99 99 c (nI 0) (by decide) (by decide) rfl (by decide +kernel) (by decide) (by decide +kernel) (by decide +kernel) (ek_v (P := fun x => post x ((nI 3), rt_s42_1, rt_s42_2, rt_s42_3, (rt_s42_4 a b c), rt_s42_5, rt_s42_6, rt_z, rt_s42_8, rt_s42_9, rt_s42_10, rt_s42_11, rt_s42_12, rt_s42_13, rt_s42_14, rt_s42_15)) e H)
theorem rt_l3 (a b : Int32) : ∀ P : St2 → Prop, P ((nI 2), rt_s2_1, rt_s2_2, rt_s2_3, (rt_s2_4 a b), rt_s2_5, rt_s2_6, rt_z, rt_s2_8, rt_s2_9, rt_s3_10, rt_s3_11, rt_s3_12, rt_s3_13, rt_s3_14, rt_s3_15) → wpX_learn P ((nI 2), rt_s2_1, rt_s2_2, rt_s2_3, (rt_s2_4 a b), rt_s2_5, rt_s2_6, rt_z, rt_s2_8, rt_s2_9, rt_s2_10, rt_s2_11, rt_s2_12, rt_s2_13, rt_s2_14, rt_s2_15) (nI 2) (nI 0) :=
  fun P h => rt_learn 2 0 0 98 100 (by decide) (by decide) (by decide +kernel) (by decide) (by decide +kernel) (by decide +kernel) (by decide +kernel) h
theorem rt_l5n (a b : Int32) : ∀ P : St2 → Prop, P ((nI 2), rt_s2_1, rt_s2_2, rt_s2_3, (rt_s2_4 a b), rt_s2_5, rt_s2_6, rt_z, rt_s2_8, rt_s2_9, rt_s5n_10, rt_s5n_11, rt_s5n_12, rt_s5n_13, rt_s5n_14, rt_s5n_15) → wpX_learn P ((nI 2), rt_s2_1, rt_s2_2, rt_s2_3, (rt_s2_4 a b), rt_s2_5, rt_s2_6, rt_z, rt_s2_8, rt_s2_9, rt_s3_10, rt_s3_11, rt_s3_12, rt_s3_13, rt_s3_14, rt_s3_15) (nI 0) (nI 1) :=
  fun P h => rt_learn 0 1 2 0 0 (by decide) (by decide) (by decide +kernel) (by decide) (by decide +kernel) (by decide +kernel) (by decide +kernel) h
theorem rt_l50 (a b c : Int32) : ∀ P : St2 → Prop, P ((nI 3), rt_s40_1, rt_s40_2, rt_s40_3, (rt_s40_4 a b c), rt_s40_5, rt_s40_6, rt_z, rt_s40_8, rt_s40_9, rt_s50_10, rt_s50_11, rt_s50_12, rt_s50_13, rt_s50_14, rt_s50_15) → wpX_learn P ((nI 3), rt_s40_1, rt_s40_2, rt_s40_3, (rt_s40_4 a b c), rt_s40_5, rt_s40_6, rt_z, rt_s40_8, rt_s40_9, rt_s40_10, rt_s40_11, rt_s40_12, rt_s40_13, rt_s40_14, rt_s40_15) (nI 0) (nI 1) :=
  fun P h => rt_learn 0 1 2 0 0 (by decide) (by decide) (by decide +kernel) (by decide) (by decide +kernel) (by decide +kernel) (by decide +kernel) h
theorem rt_l60 (a b c : Int32) : ∀ P : St2 → Prop, P ((nI 3), rt_s40_1, rt_s40_2, rt_s40_3, (rt_s40_4 a b c), rt_s40_5, rt_s40_6, rt_z, rt_s40_8, rt_s40_9, rt_s60_10, rt_s60_11, rt_s60_12, rt_s60_13, rt_s60_14, rt_s60_15) → wpX_learn P ((nI 3), rt_s40_1, rt_s40_2, rt_s40_3, (rt_s40_4 a b c), rt_s40_5, rt_s40_6, rt_z, rt_s40_8, rt_s40_9, rt_s50_10, rt_s50_11, rt_s50_12, rt_s50_13, rt_s50_14, rt_s50_15) (nI 0) (nI 2) :=
  fun P h => rt_learn 0 2 2 0 0 (by decide) (by decide) (by decide +kernel) (by decide) (by decide +kernel) (by decide +kernel) (by decide +kernel) h
theorem rt_l51 (a b c : Int32) : ∀ P : St2 → Prop, P ((nI 3), rt_s41_1, rt_s41_2, rt_s41_3, (rt_s41_4 a b c), rt_s41_5, rt_s41_6, rt_z, rt_s41_8, rt_s41_9, rt_s51_10, rt_s51_11, rt_s51_12, rt_s51_13, rt_s51_14, rt_s51_15) → wpX_learn P ((nI 3), rt_s41_1, rt_s41_2, rt_s41_3, (rt_s41_4 a b c), rt_s41_5, rt_s41_6, rt_z, rt_s41_8, rt_s41_9, rt_s41_10, rt_s41_11, rt_s41_12, rt_s41_13, rt_s41_14, rt_s41_15) (nI 0) (nI 1) :=
  fun P h => rt_learn 0 1 2 0 0 (by decide) (by decide) (by decide +kernel) (by decide) (by decide +kernel) (by decide +kernel) (by decide +kernel) h
theorem rt_l61 (a b c : Int32) : ∀ P : St2 → Prop, P ((nI 3), rt_s41_1, rt_s41_2, rt_s41_3, (rt_s41_4 a b c), rt_s41_5, rt_s41_6, rt_z, rt_s41_8, rt_s41_9, rt_s61_10, rt_s61_11, rt_s61_12, rt_s61_13, rt_s61_14, rt_s61_15) → wpX_learn P ((nI 3), rt_s41_1, rt_s41_2, rt_s41_3, (rt_s41_4 a b c), rt_s41_5, rt_s41_6, rt_z, rt_s41_8, rt_s41_9, rt_s51_10, rt_s51_11, rt_s51_12, rt_s51_13, rt_s51_14, rt_s51_15) (nI 0) (nI 2) :=
  fun P h => rt_learn 0 2 2 2 2 (by decide) (by decide) (by decide +kernel) (by decide) (by decide +kernel) (by decide +kernel) (by decide +kernel) h
theorem rt_l52 (a b c : Int32) : ∀ P : St2 → Prop, P ((nI 3), rt_s42_1, rt_s42_2, rt_s42_3, (rt_s42_4 a b c), rt_s42_5, rt_s42_6, rt_z, rt_s42_8, rt_s42_9, rt_s52_10, rt_s52_11, rt_s52_12, rt_s52_13, rt_s52_14, rt_s52_15) → wpX_learn P ((nI 3), rt_s42_1, rt_s42_2, rt_s42_3, (rt_s42_4 a b c), rt_s42_5, rt_s42_6, rt_z, rt_s42_8, rt_s42_9, rt_s42_10, rt_s42_11, rt_s42_12, rt_s42_13, rt_s42_14, rt_s42_15) (nI 0) (nI 1) :=
  fun P h => rt_learn 0 1 2 0 0 (by decide) (by decide) (by decide +kernel) (by decide) (by decide +kernel) (by decide +kernel) (by decide +kernel) h
theorem rt_l62 (a b c : Int32) : ∀ P : St2 → Prop, P ((nI 3), rt_s42_1, rt_s42_2, rt_s42_3, (rt_s42_4 a b c), rt_s42_5, rt_s42_6, rt_z, rt_s42_8, rt_s42_9, rt_s62_10, rt_s62_11, rt_s62_12, rt_s62_13, rt_s62_14, rt_s62_15) → wpX_learn P ((nI 3), rt_s42_1, rt_s42_2, rt_s42_3, (rt_s42_4 a b c), rt_s42_5, rt_s42_6, rt_z, rt_s42_8, rt_s42_9, rt_s52_10, rt_s52_11, rt_s52_12, rt_s52_13, rt_s52_14, rt_s52_15) (nI 0) (nI 2) :=
  fun P h => rt_learn 0 2 2 1 1 (by decide) (by decide) (by decide +kernel) (by decide) (by decide +kernel) (by decide +kernel) (by decide +kernel) h
theorem rt_c3 {post : Int32 → St2 → Prop} (a b : Int32) (H : post 0 ((nI 2), rt_s2_1, rt_s2_2, rt_s2_3, (rt_s2_4 a b), rt_s2_5, rt_s2_6, rt_z, rt_s2_8, rt_s2_9, rt_s3_10, rt_s3_11, rt_s3_12, rt_s3_13, rt_s3_14, rt_s3_15)) : wpX_sync post ((nI 2), rt_s2_1, rt_s2_2, rt_s2_3, (rt_s2_4 a b), rt_s2_5, rt_s2_6, rt_z, rt_s2_8, rt_s2_9, rt_s2_10, rt_s2_11, rt_s2_12, rt_s2_13, rt_s2_14, rt_s2_15) (nI 0) (nI 2) := by
  refine rt_sync 0 2 3 (by decide) (by decide) ?_
  refine rt_syL 0 2 2 0 0 (by decide) (by decide) (by decide) (by decide +kernel) rfl (by decide) (by decide +kernel) (by decide +kernel) (rt_l3 a b) ?_
  refine rt_syU 0 2 1 1 2 (by decide) (by decide) (by decide +kernel) rfl (by decide) (by decide +kernel) ?_
  exact rt_syE 0 2 0 2 (by decide +kernel) H
theorem rt_c5n {post : Int32 → St2 → Prop} (a b : Int32) (H : post 0 ((nI 2), rt_s2_1, rt_s2_2, rt_s2_3, (rt_s2_4 a b), rt_s2_5, rt_s2_6, rt_z, rt_s2_8, rt_s2_9, rt_s5n_10, rt_s5n_11, rt_s5n_12, rt_s5n_13, rt_s5n_14, rt_s5n_15)) : wpX_sync post ((nI 2), rt_s2_1, rt_s2_2, rt_s2_3, (rt_s2_4 a b), rt_s2_5, rt_s2_6, rt_z, rt_s2_8, rt_s2_9, rt_s3_10, rt_s3_11, rt_s3_12, rt_s3_13, rt_s3_14, rt_s3_15) (nI 2) (nI 0) := by
  refine rt_sync 2 0 3 (by decide) (by decide) ?_
  refine rt_syK 2 0 2 0 0 (by decide) (by decide) (by decide) (by decide +kernel) rfl (by decide) (by decide +kernel) (by decide +kernel) ?_
  refine rt_syL 2 0 1 1 2 (by decide) (by decide) (by decide) (by decide +kernel) rfl (by decide) (by decide +kernel) (by decide +kernel) (rt_l5n a b) ?_
  exact rt_syE 2 0 0 2 (by decide +kernel) H
theorem rt_c50 {post : Int32 → St2 → Prop} (a b c : Int32) (H : post 0 ((nI 3), rt_s40_1, rt_s40_2, rt_s40_3, (rt_s40_4 a b c), rt_s40_5, rt_s40_6, rt_z, rt_s40_8, rt_s40_9, rt_s60_10, rt_s60_11, rt_s60_12, rt_s60_13, rt_s60_14, rt_s60_15)) : wpX_sync post ((nI 3), rt_s40_1, rt_s40_2, rt_s40_3, (rt_s40_4 a b c), rt_s40_5, rt_s40_6, rt_z, rt_s40_8, rt_s40_9, rt_s40_10, rt_s40_11, rt_s40_12, rt_s40_13, rt_s40_14, rt_s40_15) (nI 2) (nI 0) := by
  refine rt_sync 2 0 4 (by decide) (by decide) ?_
  refine rt_syK 2 0 3 0 0 (by decide) (by decide) (by decide) (by decide +kernel) rfl (by decide) (by decide +kernel) (by decide +kernel) ?_
  refine rt_syL 2 0 2 1 2 (by decide) (by decide) (by decide) (by decide +kernel) rfl (by decide) (by decide +kernel) (by decide +kernel) (rt_l50 a b c) ?_
  refine rt_syL 2 0 1 2 2 (by decide) (by decide) (by decide) (by decide +kernel) rfl (by decide) (by decide +kernel) (by decide +kernel) (rt_l60 a b c) ?_
  exact rt_syE 2 0 0 3 (by decide +kernel) H
theorem rt_c51 {post : Int32 → St2 → Prop} (a b c : Int32) (H : post 0 ((nI 3), rt_s41_1, rt_s41_2, rt_s41_3, (rt_s41_4 a b c), rt_s41_5, rt_s41_6, rt_z, rt_s41_8, rt_s41_9, rt_s61_10, rt_s61_11, rt_s61_12, rt_s61_13, rt_s61_14, rt_s61_15)) : wpX_sync post ((nI 3), rt_s41_1, rt_s41_2, rt_s41_3, (rt_s41_4 a b c), rt_s41_5, rt_s41_6, rt_z, rt_s41_8, rt_s41_9, rt_s41_10, rt_s41_11, rt_s41_12, rt_s41_13, rt_s41_14, rt_s41_15) (nI 2) (nI 0) := by
  refine rt_sync 2 0 4 (by decide) (by decide) ?_
  refine rt_syK 2 0 3 0 0 (by decide) (by decide) (by decide) (by decide +kernel) rfl (by decide) (by decide +kernel) (by decide +kernel) ?_
  refine rt_syL 2 0 2 1 2 (by decide) (by decide) (by decide) (by decide +kernel) rfl (by decide) (by decide +kernel) (by decide +kernel) (rt_l51 a b c) ?_
  refine rt_syL 2 0 1 2 2 (by decide) (by decide) (by decide) (by decide +kernel) rfl (by decide) (by decide +kernel) (by decide +kernel) (rt_l61 a b c) ?_
  exact rt_syE 2 0 0 3 (by decide +kernel) H
theorem rt_c52 {post : Int32 → St2 → Prop} (a b c : Int32) (H : post 0 ((nI 3), rt_s42_1, rt_s42_2, rt_s42_3, (rt_s42_4 a b c), rt_s42_5, rt_s42_6, rt_z, rt_s42_8, rt_s42_9, rt_s62_10, rt_s62_11, rt_s62_12, rt_s62_13, rt_s62_14, rt_s62_15)) : wpX_sync post ((nI 3), rt_s42_1, rt_s42_2, rt_s42_3, (rt_s42_4 a b c), rt_s42_5, rt_s42_6, rt_z, rt_s42_8, rt_s42_9, rt_s42_10, rt_s42_11, rt_s42_12, rt_s42_13, rt_s42_14, rt_s42_15) (nI 2) (nI 0) := by
  refine rt_sync 2 0 4 (by decide) (by decide) ?_
  refine rt_syK 2 0 3 0 0 (by decide) (by decide) (by decide) (by decide +kernel) rfl (by decide) (by decide +kernel) (by decide +kernel) ?_
  refine rt_syL 2 0 2 1 2 (by decide) (by decide) (by decide) (by decide +kernel) rfl (by decide) (by decide +kernel) (by decide +kernel) (rt_l52 a b c) ?_
  refine rt_syL 2 0 1 2 2 (by decide) (by decide) (by decide) (by decide +kernel) rfl (by decide) (by decide +kernel) (by decide +kernel) (rt_l62 a b c) ?_
  exact rt_syE 2 0 0 3 (by decide +kernel) H
end
section
/-! the law -/
theorem rt_83n {post : Int32 → St0 → Prop} {mc ms kc ks : Nat} (a b c p : Int32) (h : p < 0 ∨ 2 < p) (H : post 1 ()) : wL_lawOf_83 post mc ms a c p 0 kc ks (nI 2) rt_s2_1 rt_s2_2 rt_s2_3 (rt_s2_4 a b) rt_s2_5 rt_s2_6 rt_z rt_s2_8 rt_s2_9 rt_s3_10 rt_s3_11 rt_s3_12 rt_s3_13 rt_s3_14 rt_s3_15 := by
  have e2 : rt_s3_15 2 = 2 := by decide +kernel
  unfold wL_lawOf_83
  refine rt_insN 2 p c (by decide) (by rw [e2]; exact h) ?_
  refine br_t rfl ?_
  unfold wL_lawOf_103
  refine br_t rfl ?_
  refine rt_letN 2 p (by decide) ?_ (br_t rfl ?_)
  · rw [e2]
    exact h.imp id (fun g => Int32.not_lt.mpr (Int32.le_of_lt g))
  unfold wL_lawOf_125
  refine br_t rfl ?_
  refine rt_c5n a b (br_t rfl ?_)
  refine rt_alike 0 2 (by decide) (by decide) (by decide +kernel) (by decide +kernel) (by decide +kernel) (by decide +kernel) (by decide +kernel) (br_t rfl ?_)
  refine rt_letN 0 2 (by decide) (by decide +kernel) (br_t rfl ?_)
  exact br_t rfl H
theorem rt_830 {post : Int32 → St0 → Prop} {mc ms kc ks : Nat} (a b c : Int32) (H : post 1 ()) : wL_lawOf_83 post mc ms a c (nI 0) 1 kc ks (nI 2) rt_s2_1 rt_s2_2 rt_s2_3 (rt_s2_4 a b) rt_s2_5 rt_s2_6 rt_z rt_s2_8 rt_s2_9 rt_s3_10 rt_s3_11 rt_s3_12 rt_s3_13 rt_s3_14 rt_s3_15 := by
  unfold wL_lawOf_83
  refine rt_c40 a b c (br_f (by decide) ?_)
  unfold wL_lawOf_103
  refine br_t rfl ?_
  refine rt_let 2 0 2 (by decide) (by decide) (by decide) (by decide +kernel) (by decide +kernel) (br_f (by decide) ?_)
  unfold wL_lawOf_125
  refine br_t rfl ?_
  refine rt_c50 a b c (br_t rfl ?_)
  refine rt_alike 0 2 (by decide) (by decide) (by decide +kernel) (by decide +kernel) (by decide +kernel) (by decide +kernel) (by decide +kernel) (br_t rfl ?_)
  refine rt_let 0 2 0 (by decide) (by decide) (by decide) (by decide +kernel) (by decide +kernel) (br_f (by decide) ?_)
  exact br_f (by decide) (br_t rfl H)
theorem rt_831 {post : Int32 → St0 → Prop} {mc ms kc ks : Nat} (a b c : Int32) (H : post 1 ()) : wL_lawOf_83 post mc ms a c (nI 1) 1 kc ks (nI 2) rt_s2_1 rt_s2_2 rt_s2_3 (rt_s2_4 a b) rt_s2_5 rt_s2_6 rt_z rt_s2_8 rt_s2_9 rt_s3_10 rt_s3_11 rt_s3_12 rt_s3_13 rt_s3_14 rt_s3_15 := by
  unfold wL_lawOf_83
  refine rt_c41 a b c (br_f (by decide) ?_)
  unfold wL_lawOf_103
  refine br_t rfl ?_
  refine rt_let 2 1 2 (by decide) (by decide) (by decide) (by decide +kernel) (by decide +kernel) (br_f (by decide) ?_)
  unfold wL_lawOf_125
  refine br_t rfl ?_
  refine rt_c51 a b c (br_t rfl ?_)
  refine rt_alike 0 2 (by decide) (by decide) (by decide +kernel) (by decide +kernel) (by decide +kernel) (by decide +kernel) (by decide +kernel) (br_t rfl ?_)
  refine rt_let 0 2 0 (by decide) (by decide) (by decide) (by decide +kernel) (by decide +kernel) (br_f (by decide) ?_)
  exact br_f (by decide) (br_t rfl H)
theorem rt_832 {post : Int32 → St0 → Prop} {mc ms kc ks : Nat} (a b c : Int32) (H : post 1 ()) : wL_lawOf_83 post mc ms a c (nI 2) 1 kc ks (nI 2) rt_s2_1 rt_s2_2 rt_s2_3 (rt_s2_4 a b) rt_s2_5 rt_s2_6 rt_z rt_s2_8 rt_s2_9 rt_s3_10 rt_s3_11 rt_s3_12 rt_s3_13 rt_s3_14 rt_s3_15 := by
  unfold wL_lawOf_83
  refine rt_c42 a b c (br_f (by decide) ?_)
  unfold wL_lawOf_103
  refine br_t rfl ?_
  refine rt_let 2 2 2 (by decide) (by decide) (by decide) (by decide +kernel) (by decide +kernel) (br_f (by decide) ?_)
  unfold wL_lawOf_125
  refine br_t rfl ?_
  refine rt_c52 a b c (br_t rfl ?_)
  refine rt_alike 0 2 (by decide) (by decide) (by decide +kernel) (by decide +kernel) (by decide +kernel) (by decide +kernel) (by decide +kernel) (br_t rfl ?_)
  refine rt_let 0 2 2 (by decide) (by decide) (by decide) (by decide +kernel) (by decide +kernel) (br_f (by decide) ?_)
  exact br_t rfl (br_t rfl H)
theorem rt_lawOf {post : Int32 → St0 → Prop} (a b c p : Int32) (H : post 1 ()) : wpL_lawOf post 370 5920 () a b c p := by
  unfold wpL_lawOf
  refine ⟨by decide, by decide, 15, 798, by decide, by decide, rt_c0 ?_⟩
  refine rt_c1 a (br_t rfl ?_)
  refine rt_c2 a b (br_t rfl ?_)
  refine rt_c3 a b (br_t rfl ?_)
  refine rt_let 2 0 1 (by decide) (by decide) (by decide) (by decide +kernel) (by decide +kernel) (br_t rfl ?_)
  refine rt_let 2 1 0 (by decide) (by decide) (by decide) (by decide +kernel) (by decide +kernel) (br_t rfl ?_)
  refine br_c (fun h => rt_83n a b c p (Or.inl h) H) (fun h0 => br_c (fun h => rt_83n a b c p (Or.inr h) H) (fun h => ?_))
  obtain ⟨j, hj, rfl⟩ := nI_of2 (M := 2) (n := 2) rfl h0 (Int32.not_lt.mp h)
  match j, hj with
  | 0, _ => exact rt_830 a b c H
  | 1, _ => exact rt_831 a b c H
  | 2, _ => exact rt_832 a b c H
  | j + 3, hj => exact absurd hj (by omega)
theorem rt_cell {post : Int32 → Prop} {L : Nat} {xs : Nat → Int32} (i : Nat) (hL : L < 2 ^ 31) (hi : i < 2 ^ 31) (H : ∀ r, post r) : wpL_cellAt post L xs () (nI i) :=
  pk_le L i (fun _ => H _) (fun z => ⟨vp_in_nI z hL, H _⟩)
theorem i_vc (xs : Nat → Int32) (L : Nat) (hL : L ≤ 4) : wpL_law (fun r => r = 1) L xs := by
  unfold wpL_law
  refine rt_cell 0 (by omega) (by decide) (fun a => ?_)
  refine rt_cell 1 (by omega) (by decide) (fun b => ?_)
  refine rt_cell 2 (by omega) (by decide) (fun c => ?_)
  refine rt_cell 3 (by omega) (by decide) (fun p => ?_)
  exact ⟨370, 5920, by decide, by decide, rt_lawOf a b c p rfl⟩
end
