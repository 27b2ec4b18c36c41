section
/-! ===== the methods that change nothing: each by a plain function of its ints ===== -/
def db_in (a s : Int32) : Bool := !decide (((a.toUInt32 >>> (s.toUInt32 &&& Int32.toUInt32 31)).toInt32 &&& 1) = 0)
theorem db_in_ok {post : Int32 → Prop} {a s : Int32} (f : db_in a s = true → post 1) (g : db_in a s = false → post 0) : wpX_in post () a s :=
  br_c (fun h => g (by unfold db_in; rw [decide_eq_true h]; rfl)) (fun h => f (by unfold db_in; rw [decide_eq_false h]; rfl))
/-- 'in' asked for a branch -/
theorem db_in_br {A B : Prop} {a s : Int32} (f : db_in a s = true → B) (g : db_in a s = false → A) : wpX_in (fun r => (r = 0 → A) ∧ (¬ r = 0 → B)) () a s :=
  db_in_ok (fun h => br_f (by decide) (f h)) (fun h => br_t rfl (g h))
def db_can (ki tm s d : Int32) : Bool := if db_in ki s then true else if tm = 0 then (if d < 2 then false else true) else (if 2 ≤ d then false else true)
def db_nb (s d : Int32) : Int32 :=
  let r := (s >>> ((2 : Int32) &&& 31)) + (if 2 ≤ d then 1 else (-1))
  let c := 2 * (s &&& 3) + (if ((s >>> ((2 : Int32) &&& 31)) &&& 1) = 0 then 1 else 0) + (if (d &&& 1) = 0 then (-1) else 1)
  if r < 0 then (-1) else if 8 ≤ r then (-1) else if c < 0 then (-1) else if 8 ≤ c then (-1) else (r * 4) + (c >>> ((1 : Int32) &&& 31))
/-- the landing square, the square jumped over being o -/
def db_to (fi se tm b d g o : Int32) : Int32 :=
  if o < 0 then (-1)
  else if db_in ((if tm = 0 then se else fi) &&& (g ^^^ (-1))) o then
    (if db_nb o d < 0 then (-1) else if db_nb o d = b then db_nb o d else if db_in (fi ||| se) (db_nb o d) then (-1) else db_nb o d)
  else (-1)
def db_over (ki tm b f d : Int32) : Int32 := if db_can ki tm b d then db_nb f d else (-1)
def db_jt (fi se ki tm b f d g : Int32) : Int32 := db_to fi se tm b d g (db_over ki tm b f d)
def db_stops (ki tm b s : Int32) : Bool := if db_in ki b then false else if tm = 0 then decide (s >>> ((2 : Int32) &&& 31) = 7) else decide (s >>> ((2 : Int32) &&& 31) = 0)
def db_own (fi se tm : Int32) : Int32 := if tm = 0 then fi else se
/-- c directions are left, j is the next -/
def db_mjd (fi se ki tm s : Int32) : Nat → Nat → Bool
  | 0, _ => false
  | c + 1, j => if db_jt fi se ki tm s s (nI j) 0 < 0 then db_mjd fi se ki tm s c (j + 1) else true
/-- c squares are left, j is the next -/
def db_mjs (fi se ki tm mine : Int32) : Nat → Nat → Bool
  | 0, _ => false
  | c + 1, j => if db_in mine (nI j) then (if db_mjd fi se ki tm (nI j) 4 0 then true else db_mjs fi se ki tm mine c (j + 1)) else db_mjs fi se ki tm mine c (j + 1)
def db_must (fi se ki tm : Int32) : Int32 := if db_mjs fi se ki tm (db_own fi se tm) 32 0 then 1 else 0
def db_bits (x : Int32) : Nat → Nat → Int32 → Int32
  | 0, _, n => n
  | c + 1, j, n => db_bits x c (j + 1) (n + (((x.toUInt32 >>> ((nI j).toUInt32 &&& Int32.toUInt32 31)).toInt32) &&& 1))
def db_ones (x : Int32) : Int32 := db_bits x 32 0 0

theorem db_bits_ok {post : Int32 → Prop} {x : Int32} : ∀ c j n, j + c = 32 → post (db_bits x c j n) → wX_ones_4 post x (c + 1) n (nI j)
  | 0, j, n, h, hp => by
    have : j = 32 := by omega
    subst this
    exact br_t (by decide) hp
  | c + 1, j, n, h, hp => by
    refine br_f (nI_ge (b := 32) (by omega) (by decide)) (nm_e (nm_r (nI_1 j) ?_))
    exact db_bits_ok c (j + 1) _ (by omega) hp
theorem db_ones_ok {post : Int32 → Prop} {x : Int32} (h : post (db_ones x)) : wpX_ones post () x := by
  have t : wX_ones_4 post x 33 0 (nI 0) := db_bits_ok 32 0 0 (by omega) h
  rw [nI_0] at t
  exact ⟨33, t⟩
theorem db_nb72 {post : Int32 → Prop} {x2 x3 : Int32} (h : post (-1)) : wX_neighbour_71 post x2 x3 := by
  unfold wX_neighbour_71 wX_neighbour_72
  exact br_t rfl h
theorem db_nb45 {post : Int32 → Prop} {r c z0 z1 : Int32} (e : z1 + z0 = c)
    (h : post (if r < 0 then (-1) else if 8 ≤ r then (-1) else if c < 0 then (-1) else if 8 ≤ c then (-1) else (r * 4) + (c >>> ((1 : Int32) &&& 31)))) : wX_neighbour_45 post r z0 z1 := by
  unfold wX_neighbour_45
  refine nm_r e ?_
  by_cases h1 : r < 0
  · rw [if_pos h1] at h
    exact br_t h1 (db_nb72 h)
  · rw [if_neg h1] at h
    refine br_f h1 ?_
    by_cases h2 : 8 ≤ r
    · rw [if_pos h2] at h
      exact br_t h2 (db_nb72 h)
    · rw [if_neg h2] at h
      refine br_f h2 ?_
      by_cases h3 : c < 0
      · rw [if_pos h3] at h
        exact br_t h3 (db_nb72 h)
      · rw [if_neg h3] at h
        refine br_f h3 ?_
        by_cases h4 : 8 ≤ c
        · rw [if_pos h4] at h
          exact br_t h4 (db_nb72 h)
        · rw [if_neg h4] at h
          refine br_f h4 ?_
          unfold wX_neighbour_72
          exact br_f (by decide) h
theorem db_nb33 {post : Int32 → Prop} {x1 r z0 z1 w : Int32} (ew : z1 + z0 = w)
    (h : post (if r < 0 then (-1) else if 8 ≤ r then (-1) else if w + (if (x1 &&& 1) = 0 then (-1) else 1) < 0 then (-1) else if 8 ≤ w + (if (x1 &&& 1) = 0 then (-1) else 1) then (-1) else (r * 4) + ((w + (if (x1 &&& 1) = 0 then (-1) else 1)) >>> ((1 : Int32) &&& 31)))) : wX_neighbour_33 post x1 r z0 z1 := by
  unfold wX_neighbour_33
  subst ew
  by_cases e : (x1 &&& 1) = 0
  · simp only [if_pos e] at h
    exact br_t e (db_nb45 rfl h)
  · simp only [if_neg e] at h
    exact br_f e (db_nb45 rfl h)
theorem db_nb_ok {post : Int32 → Prop} {s d : Int32} (h : post (db_nb s d)) : wpX_neighbour post () s d := by
  unfold wpX_neighbour
  unfold db_nb at h
  dsimp only at h
  by_cases e : 2 ≤ d
  · simp only [if_pos e] at h
    refine br_t e ?_
    unfold wX_neighbour_13
    refine nm_e ?_
    by_cases e2 : ((s >>> ((2 : Int32) &&& 31)) &&& 1) = 0
    · simp only [if_pos e2] at h
      exact br_t e2 (db_nb33 rfl h)
    · simp only [if_neg e2] at h
      exact br_f e2 (db_nb33 rfl h)
  · simp only [if_neg e] at h
    refine br_f e ?_
    unfold wX_neighbour_13
    refine nm_e ?_
    by_cases e2 : ((s >>> ((2 : Int32) &&& 31)) &&& 1) = 0
    · simp only [if_pos e2] at h
      exact br_t e2 (db_nb33 rfl h)
    · simp only [if_neg e2] at h
      exact br_f e2 (db_nb33 rfl h)
section
variable {fi se ki tm pt ps sc tk wa sn mo be : Int32} {a1 a2 a3 a4 a5 a6 : Nat → Int32}
theorem db_can_br {A B : Prop} {s d : Int32} (f : db_can ki tm s d = true → B) (g : db_can ki tm s d = false → A) :
    wpX_canGo (fun r => (r = 0 → A) ∧ (¬ r = 0 → B)) (fi, se, ki, tm, pt, ps, sc, tk, wa, sn, mo, be, a1, a2, a3, a4, a5, a6) s d := by
  unfold wpX_canGo
  unfold db_can at f g
  refine db_in_br (fun h => ?_) (fun h => ?_)
  · rw [if_pos h] at f
    exact br_f (by decide) (f rfl)
  · rw [if_neg (by rw [h]; decide)] at f g
    by_cases e : tm = 0
    · rw [if_pos e] at f g
      refine br_t e ?_
      by_cases e2 : d < 2
      · rw [if_pos e2] at g
        exact br_t e2 (br_t rfl (g rfl))
      · rw [if_neg e2] at f
        exact br_f e2 (br_f (by decide) (f rfl))
    · rw [if_neg e] at f g
      refine br_f e ?_
      by_cases e2 : 2 ≤ d
      · rw [if_pos e2] at g
        exact br_t e2 (br_t rfl (g rfl))
      · rw [if_neg e2] at f
        exact br_f e2 (br_f (by decide) (f rfl))
theorem db_stops_br {A B : Prop} {b s : Int32} (f : db_stops ki tm b s = true → B) (g : db_stops ki tm b s = false → A) :
    wpX_stops (fun r => (r = 0 → A) ∧ (¬ r = 0 → B)) (fi, se, ki, tm, pt, ps, sc, tk, wa, sn, mo, be, a1, a2, a3, a4, a5, a6) b s := by
  unfold wpX_stops
  unfold db_stops at f g
  refine db_in_br (fun h => ?_) (fun h => ?_)
  · rw [if_pos h] at g
    exact br_t rfl (g rfl)
  · rw [if_neg (by rw [h]; decide)] at f g
    by_cases e : tm = 0
    · rw [if_pos e] at f g
      refine br_t e ?_
      unfold wX_stops_27
      exact br_c (fun z => br_f (by decide) (f (decide_eq_true z))) (fun z => br_t rfl (g (decide_eq_false z)))
    · rw [if_neg e] at f g
      refine br_f e ?_
      unfold wX_stops_27
      exact br_c (fun z => br_f (by decide) (f (decide_eq_true z))) (fun z => br_t rfl (g (decide_eq_false z)))
theorem db_88 {post : Int32 → Prop} {x : Int32} (h : post (-1)) : wX_jumpTo_88 post x fi se ki tm pt ps sc tk wa sn mo be a1 a2 a3 a4 a5 a6 := by
  unfold wX_jumpTo_88 wX_jumpTo_89
  exact br_t rfl h
theorem db_84 {post : Int32 → Prop} {x : Int32} (h : post x) : wX_jumpTo_84 post x fi se ki tm pt ps sc tk wa sn mo be a1 a2 a3 a4 a5 a6 := by
  unfold wX_jumpTo_84 wX_jumpTo_89
  exact br_f (by decide) h
theorem db_theirs_ok {post : Int32 → Prop} (h : post (if tm = 0 then se else fi)) : wpX_theirs post (fi, se, ki, tm, pt, ps, sc, tk, wa, sn, mo, be, a1, a2, a3, a4, a5, a6) := by
  unfold wpX_theirs
  exact br_c (fun e => by rw [if_pos e] at h; exact h) (fun e => by rw [if_neg e] at h; exact h)
theorem db_own_ok {post : Int32 → Prop} (h : post (db_own fi se tm)) : wpX_own post (fi, se, ki, tm, pt, ps, sc, tk, wa, sn, mo, be, a1, a2, a3, a4, a5, a6) := by
  unfold wpX_own
  unfold db_own at h
  exact br_c (fun e => by rw [if_pos e] at h; exact h) (fun e => by rw [if_neg e] at h; exact h)
theorem db_to_ok {post : Int32 → Prop} {b d g o : Int32} (h : post (db_to fi se tm b d g o)) : wX_jumpTo_18 post b d g o fi se ki tm pt ps sc tk wa sn mo be a1 a2 a3 a4 a5 a6 := by
  unfold wX_jumpTo_18
  unfold db_to at h
  refine db_theirs_ok (nm_e ?_)
  by_cases e : o < 0
  · rw [if_pos e] at h
    exact br_t e h
  · rw [if_neg e] at h
    refine br_f e (db_in_br (fun e2 => ?_) (fun e2 => ?_))
    · rw [if_pos e2] at h
      refine db_nb_ok ?_
      by_cases e3 : db_nb o d < 0
      · rw [if_pos e3] at h
        exact br_t e3 (db_88 h)
      · rw [if_neg e3] at h
        refine br_f e3 ?_
        by_cases e4 : db_nb o d = b
        · rw [if_pos e4] at h
          exact br_t e4 (db_84 h)
        · rw [if_neg e4] at h
          refine br_f e4 (db_in_br (fun e5 => ?_) (fun e5 => ?_))
          · rw [if_pos e5] at h
            exact db_88 h
          · rw [if_neg (by rw [e5]; decide)] at h
            exact db_84 h
    · rw [if_neg (by rw [e2]; decide)] at h
      exact h
theorem db_jt_ok {post : Int32 → Prop} {b f d g : Int32} (h : post (db_jt fi se ki tm b f d g)) : wpX_jumpTo post (fi, se, ki, tm, pt, ps, sc, tk, wa, sn, mo, be, a1, a2, a3, a4, a5, a6) b f d g := by
  unfold wpX_jumpTo
  unfold db_jt db_over at h
  refine db_can_br (fun e => ?_) (fun e => ?_)
  · rw [if_pos e] at h
    exact db_nb_ok (db_to_ok h)
  · rw [if_neg (by rw [e]; decide)] at h
    exact db_to_ok h
theorem db_mjd_ok {post : Int32 → Prop} {J : Int32 → Prop} {x1 s : Int32} (hi : db_in x1 s = true) : ∀ c j, j + c = 4 → (db_mjd fi se ki tm s c j = true → post 1) → (db_mjd fi se ki tm s c j = false → J (s + 1)) →
    wX_mustJump_15 post J x1 s fi se ki tm pt ps sc tk wa sn mo be a1 a2 a3 a4 a5 a6 (c + 1) (nI j)
  | 0, j, h, _, g => by
    have : j = 4 := by omega
    subst this
    exact br_t (by decide) (nm_e (g rfl))
  | c + 1, j, h, f, g => by
    refine br_f (nI_ge (b := 4) (by omega) (by decide)) (db_in_br (fun _ => db_jt_ok ?_) (fun z => absurd (hi.symm.trans z) (by decide)))
    unfold db_mjd at f g
    by_cases e : db_jt fi se ki tm s s (nI j) 0 < 0
    · rw [if_pos e] at f g
      exact br_t e (nm_r (nI_1 j) (db_mjd_ok hi c (j + 1) (by omega) f g))
    · rw [if_neg e] at f
      exact br_f e (f rfl)
theorem db_mjs_ok {post : Int32 → Prop} {x1 : Int32} : ∀ c j, j + c = 32 → post (if db_mjs fi se ki tm x1 c j then 1 else 0) →
    wX_mustJump_7 post x1 fi se ki tm pt ps sc tk wa sn mo be a1 a2 a3 a4 a5 a6 (c + 1) (nI j)
  | 0, j, h, hp => by
    have : j = 32 := by omega
    subst this
    exact br_t (by decide) hp
  | c + 1, j, h, hp => by
    refine br_f (nI_ge (b := 32) (by omega) (by decide)) ?_
    unfold db_mjs at hp
    have ih : post (if db_mjs fi se ki tm x1 c (j + 1) then 1 else 0) → wX_mustJump_7 post x1 fi se ki tm pt ps sc tk wa sn mo be a1 a2 a3 a4 a5 a6 (c + 1) (nI (j + 1)) := fun z => db_mjs_ok c (j + 1) (by omega) z
    by_cases e : db_in x1 (nI j) = true
    · rw [if_pos e] at hp
      have t := db_mjd_ok (post := post) (J := wX_mustJump_7 post x1 fi se ki tm pt ps sc tk wa sn mo be a1 a2 a3 a4 a5 a6 (c + 1)) (x1 := x1) (s := nI j) (fi := fi) (se := se) (ki := ki) (tm := tm) (pt := pt) (ps := ps) (sc := sc) (tk := tk) (wa := wa) (sn := sn) (mo := mo) (be := be) (a1 := a1) (a2 := a2) (a3 := a3) (a4 := a4) (a5 := a5) (a6 := a6) e 4 0 (by omega)
        (fun z => by rw [if_pos z] at hp; exact hp)
        (fun z => by rw [if_neg (show ¬ db_mjd fi se ki tm (nI j) 4 0 = true by rw [z]; decide)] at hp; rw [nI_1]; exact ih hp)
      rw [nI_0] at t
      exact ⟨5, t⟩
    · rw [if_neg e] at hp
      exact ⟨1, br_f (by decide) (db_in_br (fun z => absurd z e) (fun _ => nm_r (nI_1 j) (ih hp)))⟩
theorem db_must_ok {post : Int32 → Prop} (h : post (db_must fi se ki tm)) : wpX_mustJump post (fi, se, ki, tm, pt, ps, sc, tk, wa, sn, mo, be, a1, a2, a3, a4, a5, a6) := by
  unfold wpX_mustJump
  refine db_own_ok ?_
  have t := db_mjs_ok (pt := pt) (ps := ps) (sc := sc) (tk := tk) (wa := wa) (sn := sn) (mo := mo) (be := be) (a1 := a1) (a2 := a2) (a3 := a3) (a4 := a4) (a5 := a5) (a6 := a6) 32 0 (by omega) h
  rw [nI_0] at t
  exact ⟨33, t⟩
theorem db_count_ok {post : Int32 → Prop} {p : Int32} (h1 : ¬ p < 1) (h4 : p ≤ 4) (h3 : 3 ≤ p) (h : post (db_ones (if (p &&& 1) = 0 then se &&& ki else se &&& (ki ^^^ (-1))))) :
    wpX_count post (fi, se, ki, tm, pt, ps, sc, tk, wa, sn, mo, be, a1, a2, a3, a4, a5, a6) p := by
  unfold wpX_count
  refine br_f h1 (br_t h4 (br_t h3 ?_))
  unfold wX_count_28
  refine br_c (fun e => ?_) (fun e => ?_)
  · rw [if_pos e] at h
    exact db_ones_ok h
  · rw [if_neg e] at h
    exact db_ones_ok h
end
end
section
/-! ===== the methods that look for moves: what they change is a tuple: squareCount, taken, seen, most, beginnings, squares, direction, ledOn ===== -/
abbrev db_M : Type := Int32 × Int32 × Int32 × Int32 × Int32 × (Nat → Int32) × (Nat → Int32) × (Nat → Int32)
/-- the whole state: what stands still, and the tuple -/
def db_st (fi se ki tm pt ps wa : Int32) (a1 a5 a6 : Nat → Int32) (m : db_M) : St2 :=
  (fi, se, ki, tm, pt, ps, m.1, m.2.1, wa, m.2.2.1, m.2.2.2.1, m.2.2.2.2.1, a1, m.2.2.2.2.2.1, m.2.2.2.2.2.2.1, m.2.2.2.2.2.2.2, a5, a6)
def db_b (b : Bool) : Int32 := if b then 1 else 0
def db_vin (i : Int32) : Bool := decide (¬ (i < 0 ∨ 12 ≤ i.toNatClampNeg))
theorem db_vin_ok {i : Int32} (h : db_vin i = true) : vp_in i 12 := by
  have t : ¬ (i < 0 ∨ 12 ≤ i.toNatClampNeg) := of_decide_eq_true h
  exact t
def db_meet (wa : Int32) (m : db_M) : Bool × db_M := match m with
  | (sc, tk, sn, mo, be, a2, a3, a4) => (decide ((sn + 1) - 1 = wa), (sc, tk, sn + 1, (if db_ones tk ≤ mo then mo else db_ones tk), be ||| ((1 : Int32) <<< ((a2 0) &&& 31)), a2, a3, a4))
/-- c directions are left, d is the next -/
def db_ms (fi se ki tm wa s : Int32) : Nat → Nat → db_M → Bool × db_M
  | 0, _, m => (false, m)
  | c + 1, d, (sc, tk, sn, mo, be, a2, a3, a4) =>
    if db_over ki tm s s (nI d) < 0 then db_ms fi se ki tm wa s c (d + 1) (sc, tk, sn, mo, be, a2, a3, a4)
    else if db_in (fi ||| se) (db_over ki tm s s (nI d)) then db_ms fi se ki tm wa s c (d + 1) (sc, tk, sn, mo, be, a2, a3, a4)
    else if (db_meet wa (2, 0, sn, mo, be, upd a2 1 (db_over ki tm s s (nI d)).toInt8.toInt32, a3, a4)).1
      then (true, (db_meet wa (2, 0, sn, mo, be, upd a2 1 (db_over ki tm s s (nI d)).toInt8.toInt32, a3, a4)).2)
      else db_ms fi se ki tm wa s c (d + 1) (db_meet wa (2, 0, sn, mo, be, upd a2 1 (db_over ki tm s s (nI d)).toInt8.toInt32, a3, a4)).2
/-- what a turn of the jump loop does: it fails, it finds the move looked for, or it goes on at another level -/
abbrev db_T : Type := Option (Sum db_M (Int32 × db_M))
def db_down (l : Int32) (m : db_M) : db_T := match m with
  | (sc, tk, sn, mo, be, a2, a3, a4) =>
    if l + (-1) < 0 then some (.inr (l + (-1), (sc, tk, sn, mo, be, a2, a3, a4)))
    else if db_vin (l + (-1)) then some (.inr (l + (-1), (sc, tk &&& (((1 : Int32) <<< ((db_nb (a2 (l + (-1)).toNatClampNeg) ((a3 (l + (-1)).toNatClampNeg) - 1)) &&& 31)) ^^^ (-1)), sn, mo, be, a2, a3, a4)))
    else none
def db_back (wa l : Int32) (m : db_M) : db_T := match m with
  | (_, tk, sn, mo, be, a2, a3, a4) =>
    if l ≤ 0 then db_down l (l + 1, tk, sn, mo, be, a2, a3, a4)
    else if a4 l.toNatClampNeg = 0 then
      (if (db_meet wa (l + 1, tk, sn, mo, be, a2, a3, a4)).1 then some (.inl (db_meet wa (l + 1, tk, sn, mo, be, a2, a3, a4)).2) else db_down l (db_meet wa (l + 1, tk, sn, mo, be, a2, a3, a4)).2)
    else db_down l (l + 1, tk, sn, mo, be, a2, a3, a4)
def db_fwd (fi se ki tm s l h d : Int32) (m : db_M) : db_T := match m with
  | (sc, tk, sn, mo, be, a2, a3, a4) =>
    if db_jt fi se ki tm s h d tk < 0 then some (.inr (l, (sc, tk, sn, mo, be, a2, upd a3 l.toNatClampNeg (((a3 l.toNatClampNeg) + 1).toInt8.toInt32), a4)))
    else if db_vin (l + 1) then
      some (.inr (l + 1, (sc, tk ||| ((1 : Int32) <<< ((db_nb h d) &&& 31)), sn, mo, be, upd a2 (l + 1).toNatClampNeg (db_jt fi se ki tm s h d tk).toInt8.toInt32,
        upd (upd a3 l.toNatClampNeg (((a3 l.toNatClampNeg) + 1).toInt8.toInt32)) (l + 1).toNatClampNeg 0, upd (upd a4 l.toNatClampNeg 1) (l + 1).toNatClampNeg 0)))
    else none
def db_turn (fi se ki tm wa s l : Int32) (m : db_M) : db_T :=
  if db_vin l then
    (if m.2.2.2.2.2.2.1 l.toNatClampNeg = 4 then db_back wa l m
     else if l ≤ 0 then db_fwd fi se ki tm s l (m.2.2.2.2.2.1 l.toNatClampNeg) (m.2.2.2.2.2.2.1 l.toNatClampNeg) m
     else if db_stops ki tm s (m.2.2.2.2.2.1 l.toNatClampNeg) then db_back wa l m
     else db_fwd fi se ki tm s l (m.2.2.2.2.2.1 l.toNatClampNeg) (m.2.2.2.2.2.2.1 l.toNatClampNeg) m)
  else none
def db_mj (fi se ki tm wa s : Int32) : Nat → Int32 → Int32 → db_M → Option (Bool × db_M)
  | 0, _, _, _ => none
  | n + 1, l, k, m =>
    if 1048576 ≤ k then some (false, m) else if l < 0 then some (false, m)
    else match db_turn fi se ki tm wa s l m with
      | none => none
      | some (.inl m') => some (true, m')
      | some (.inr (l', m')) => db_mj fi se ki tm wa s n l' (k + 1) m'
def db_next (r : Option (Bool × db_M)) (f : db_M → Option (Bool × db_M)) : Option (Bool × db_M) := match r with
  | none => none
  | some (true, m) => some (true, m)
  | some (false, m) => f m
/-- the moves of the piece on square j -/
def db_piece (fi se ki tm wa jm : Int32) (j : Nat) (m : db_M) : Option (Bool × db_M) := match m with
  | (sc, tk, sn, mo, be, a2, a3, a4) =>
    if jm = 0 then some (db_ms fi se ki tm wa (nI j) 4 0 (sc, tk, sn, mo, be, upd a2 0 (nI j).toInt8.toInt32, a3, a4))
    else db_mj fi se ki tm wa (nI j) 24 0 0 (sc, 0, sn, mo, be, upd a2 0 (nI j).toInt8.toInt32, upd a3 0 0, upd a4 0 0)
/-- c squares are left, j is the next -/
def db_sk (fi se ki tm wa jm mine : Int32) : Nat → Nat → db_M → Option (Bool × db_M)
  | 0, _, m => some (false, m)
  | c + 1, j, m => if db_in mine (nI j) then db_next (db_piece fi se ki tm wa jm j m) (fun m' => db_sk fi se ki tm wa jm mine c (j + 1) m') else db_sk fi se ki tm wa jm mine c (j + 1) m
def db_seek (fi se ki tm p : Int32) (m : db_M) : Option (Bool × db_M) := db_sk fi se ki tm p (db_must fi se ki tm) (db_own fi se tm) 32 0 (m.1, m.2.1, 0, 0, 0, m.2.2.2.2.2.1, m.2.2.2.2.2.2.1, m.2.2.2.2.2.2.2)

section
variable {fi se ki tm pt ps sc tk wa sn mo be : Int32} {a1 a2 a3 a4 a5 a6 : Nat → Int32}
theorem db_meet_br {Q : Int32 → St2 → Prop}
    (f : (db_meet wa (sc, tk, sn, mo, be, a2, a3, a4)).1 = true → Q 1 (db_st fi se ki tm pt ps wa a1 a5 a6 (db_meet wa (sc, tk, sn, mo, be, a2, a3, a4)).2))
    (g : (db_meet wa (sc, tk, sn, mo, be, a2, a3, a4)).1 = false → Q 0 (db_st fi se ki tm pt ps wa a1 a5 a6 (db_meet wa (sc, tk, sn, mo, be, a2, a3, a4)).2)) :
    wpX_meet Q (fi, se, ki, tm, pt, ps, sc, tk, wa, sn, mo, be, a1, a2, a3, a4, a5, a6) := by
  unfold wpX_meet
  refine nm_e (db_ones_ok ?_)
  have f' : (sn + 1) - 1 = wa → Q 1 (fi, se, ki, tm, pt, ps, sc, tk, wa, sn + 1, (if db_ones tk ≤ mo then mo else db_ones tk), be ||| ((1 : Int32) <<< ((a2 0) &&& 31)), a1, a2, a3, a4, a5, a6) := fun e => f (decide_eq_true e)
  have g' : ¬ (sn + 1) - 1 = wa → Q 0 (fi, se, ki, tm, pt, ps, sc, tk, wa, sn + 1, (if db_ones tk ≤ mo then mo else db_ones tk), be ||| ((1 : Int32) <<< ((a2 0) &&& 31)), a1, a2, a3, a4, a5, a6) := fun e => g (decide_eq_false e)
  by_cases e : db_ones tk ≤ mo
  · rw [if_pos e] at f' g'
    refine br_t e ?_
    unfold wX_meet_42
    exact nm_e (br_c f' g')
  · rw [if_neg e] at f' g'
    refine br_f e ?_
    unfold wX_meet_42
    exact nm_e (br_c f' g')
theorem db_ms_s {s : Int32} {c d : Nat} : db_ms fi se ki tm wa s (c + 1) d (sc, tk, sn, mo, be, a2, a3, a4) =
    (if db_over ki tm s s (nI d) < 0 then db_ms fi se ki tm wa s c (d + 1) (sc, tk, sn, mo, be, a2, a3, a4)
    else if db_in (fi ||| se) (db_over ki tm s s (nI d)) then db_ms fi se ki tm wa s c (d + 1) (sc, tk, sn, mo, be, a2, a3, a4)
    else if (db_meet wa (2, 0, sn, mo, be, upd a2 1 (db_over ki tm s s (nI d)).toInt8.toInt32, a3, a4)).1
      then (true, (db_meet wa (2, 0, sn, mo, be, upd a2 1 (db_over ki tm s s (nI d)).toInt8.toInt32, a3, a4)).2)
      else db_ms fi se ki tm wa s c (d + 1) (db_meet wa (2, 0, sn, mo, be, upd a2 1 (db_over ki tm s s (nI d)).toInt8.toInt32, a3, a4)).2) := rfl
/-- one direction of the steps, J: the next one -/
theorem db_ms25 {post : Int32 → St2 → Prop} {J : Int32 → Int32 → Int32 → Int32 → Int32 → Int32 → Int32 → Int32 → Int32 → Int32 → Int32 → Int32 → Int32 → (Nat → Int32) → (Nat → Int32) → (Nat → Int32) → (Nat → Int32) → (Nat → Int32) → (Nat → Int32) → Prop} {s z : Int32} {d : Nat}
    (h0 : z < 0 → J (nI (d + 1)) fi se ki tm pt ps sc tk wa sn mo be a1 a2 a3 a4 a5 a6)
    (h1 : ¬ z < 0 → db_in (fi ||| se) z = true → J (nI (d + 1)) fi se ki tm pt ps sc tk wa sn mo be a1 a2 a3 a4 a5 a6)
    (h2 : ¬ z < 0 → db_in (fi ||| se) z = false → ∀ v, v = db_meet wa (2, 0, sn, mo, be, upd a2 1 z.toInt8.toInt32, a3, a4) → (v.1 = true → post 1 (db_st fi se ki tm pt ps wa a1 a5 a6 v.2)) ∧ (v.1 = false → J (nI (d + 1)) fi se ki tm pt ps v.2.1 v.2.2.1 wa v.2.2.2.1 v.2.2.2.2.1 v.2.2.2.2.2.1 a1 v.2.2.2.2.2.2.1 v.2.2.2.2.2.2.2.1 v.2.2.2.2.2.2.2.2 a5 a6)) :
    wX_meetSteps_25 post J s (nI d) z fi se ki tm pt ps sc tk wa sn mo be a1 a2 a3 a4 a5 a6 := by
  unfold wX_meetSteps_25
  refine br_c (fun e => nm_r (nI_1 d) (h0 e)) (fun e => db_in_br (fun e2 => nm_r (nI_1 d) (h1 e e2)) (fun e2 => nm_e ?_))
  obtain ⟨k1, k2⟩ := h2 e e2 _ rfl
  exact db_meet_br (fun v => br_f (by decide) (k1 v)) (fun v => br_t rfl (nm_r (nI_1 d) (k2 v)))
theorem db_ms_ok {post : Int32 → St2 → Prop} {s : Int32} : ∀ (c d : Nat) (sc tk sn mo be : Int32) (a2 a3 a4 : Nat → Int32), d + c = 4 →
    post (db_b (db_ms fi se ki tm wa s c d (sc, tk, sn, mo, be, a2, a3, a4)).1) (db_st fi se ki tm pt ps wa a1 a5 a6 (db_ms fi se ki tm wa s c d (sc, tk, sn, mo, be, a2, a3, a4)).2) →
    wX_meetSteps_2 post s (c + 1) (nI d) fi se ki tm pt ps sc tk wa sn mo be a1 a2 a3 a4 a5 a6
  | 0, d, sc, tk, sn, mo, be, a2, a3, a4, h, hp => by
    have : d = 4 := by omega
    subst this
    exact br_t (by decide) hp
  | c + 1, d, sc, tk, sn, mo, be, a2, a3, a4, h, hp => by
    refine br_f (nI_ge (b := 4) (by omega) (by decide)) ?_
    rw [db_ms_s] at hp
    have key : ∀ z, db_over ki tm s s (nI d) = z → wX_meetSteps_25 post (wX_meetSteps_2 post s (c + 1)) s (nI d) z fi se ki tm pt ps sc tk wa sn mo be a1 a2 a3 a4 a5 a6 := by
      intro z ez
      rw [ez] at hp
      refine db_ms25 (fun e => ?_) (fun e e2 => ?_) (fun e e2 v ev => ⟨fun e3 => ?_, fun e3 => ?_⟩)
      · rw [if_pos e] at hp
        exact db_ms_ok c (d + 1) sc tk sn mo be a2 a3 a4 (by omega) hp
      · rw [if_neg e, if_pos e2] at hp
        exact db_ms_ok c (d + 1) sc tk sn mo be a2 a3 a4 (by omega) hp
      · rw [if_neg e, if_neg (by rw [e2]; decide), ← ev, if_pos e3] at hp
        exact hp
      · rw [if_neg e, if_neg (by rw [e2]; decide), ← ev, if_neg (by rw [e3]; decide)] at hp
        exact db_ms_ok c (d + 1) v.2.1 v.2.2.1 v.2.2.2.1 v.2.2.2.2.1 v.2.2.2.2.2.1 v.2.2.2.2.2.2.1 v.2.2.2.2.2.2.2.1 v.2.2.2.2.2.2.2.2 (by omega) hp
    refine db_can_br (fun e => db_nb_ok (key _ ?_)) (fun e => key _ ?_)
    · unfold db_over
      rw [if_pos e]
    · unfold db_over
      rw [if_neg (by rw [e]; decide)]
theorem db_meetSteps_ok {Q : Int32 → St2 → Prop} {s : Int32}
    (hp : Q (db_b (db_ms fi se ki tm wa s 4 0 (sc, tk, sn, mo, be, a2, a3, a4)).1) (db_st fi se ki tm pt ps wa a1 a5 a6 (db_ms fi se ki tm wa s 4 0 (sc, tk, sn, mo, be, a2, a3, a4)).2)) :
    wpX_meetSteps Q (fi, se, ki, tm, pt, ps, sc, tk, wa, sn, mo, be, a1, a2, a3, a4, a5, a6) s := by
  unfold wpX_meetSteps
  have t := db_ms_ok 4 0 sc tk sn mo be a2 a3 a4 (by omega) hp
  rw [nI_0] at t
  exact ⟨5, t⟩
end
end
section
/-! ===== the loop over rows of jumps, and the search ===== -/
section
variable {fi se ki tm pt ps sc tk wa sn mo be : Int32} {a1 a2 a3 a4 a5 a6 : Nat → Int32}
variable {post : Int32 → St2 → Prop} {J : Int32 → Int32 → Int32 → Int32 → Int32 → Int32 → Int32 → Int32 → Int32 → Int32 → Int32 → Int32 → Int32 → Int32 → (Nat → Int32) → (Nat → Int32) → (Nat → Int32) → (Nat → Int32) → (Nat → Int32) → (Nat → Int32) → Prop}
/-- what must hold behind a turn, k: the number of turns before it -/
def db_res (post : Int32 → St2 → Prop) (J : Int32 → Int32 → Int32 → Int32 → Int32 → Int32 → Int32 → Int32 → Int32 → Int32 → Int32 → Int32 → Int32 → Int32 → (Nat → Int32) → (Nat → Int32) → (Nat → Int32) → (Nat → Int32) → (Nat → Int32) → (Nat → Int32) → Prop)
    (fi se ki tm pt ps wa : Int32) (a1 a5 a6 : Nat → Int32) (k : Int32) (t : db_T) : Prop :=
  (∃ m : db_M, t = some (.inl m) ∧ post 1 (db_st fi se ki tm pt ps wa a1 a5 a6 m)) ∨
  (∃ (l : Int32) (m : db_M), t = some (.inr (l, m)) ∧ J l (k + 1) fi se ki tm pt ps m.1 m.2.1 wa m.2.2.1 m.2.2.2.1 m.2.2.2.2.1 a1 m.2.2.2.2.2.1 m.2.2.2.2.2.2.1 m.2.2.2.2.2.2.2 a5 a6)
theorem db_res_n {k : Int32} {P : Prop} (h : db_res post J fi se ki tm pt ps wa a1 a5 a6 k none) : P := by
  rcases h with ⟨m, e, _⟩ | ⟨l, m, e, _⟩
  · cases e
  · cases e
theorem db_res_l {k : Int32} {m : db_M} (h : db_res post J fi se ki tm pt ps wa a1 a5 a6 k (some (.inl m))) : post 1 (db_st fi se ki tm pt ps wa a1 a5 a6 m) := by
  rcases h with ⟨m', e, h⟩ | ⟨l, m', e, h⟩
  · cases e
    exact h
  · cases e
theorem db_res_r {k l : Int32} {m : db_M} (h : db_res post J fi se ki tm pt ps wa a1 a5 a6 k (some (.inr (l, m)))) :
    J l (k + 1) fi se ki tm pt ps m.1 m.2.1 wa m.2.2.1 m.2.2.2.1 m.2.2.2.2.1 a1 m.2.2.2.2.2.1 m.2.2.2.2.2.2.1 m.2.2.2.2.2.2.2 a5 a6 := by
  rcases h with ⟨m', e, h⟩ | ⟨l', m', e, h⟩
  · cases e
  · cases e
    exact h
theorem db_down_ok {s l k : Int32} (h : db_res post J fi se ki tm pt ps wa a1 a5 a6 k (db_down l (sc, tk, sn, mo, be, a2, a3, a4))) :
    wX_meetJumps_110 post J s l k fi se ki tm pt ps sc tk wa sn mo be a1 a2 a3 a4 a5 a6 := by
  unfold wX_meetJumps_110
  unfold db_down at h
  dsimp only at h
  refine nm_e ?_
  by_cases e : l + (-1) < 0
  · rw [if_pos e] at h
    exact br_t e (nm_e (db_res_r h))
  · rw [if_neg e] at h
    refine br_f e ?_
    by_cases e2 : db_vin (l + (-1)) = true
    · rw [if_pos e2] at h
      exact ⟨db_vin_ok e2, db_vin_ok e2, db_nb_ok (nm_e (nm_e (db_res_r h)))⟩
    · rw [if_neg e2] at h
      exact db_res_n h
theorem db_fwd_ok {s l k x d : Int32} (hl : db_vin l = true) (h : db_res post J fi se ki tm pt ps wa a1 a5 a6 k (db_fwd fi se ki tm s l x d (sc, tk, sn, mo, be, a2, a3, a4))) :
    wX_meetJumps_73 post J s l k x d fi se ki tm pt ps sc tk wa sn mo be a1 a2 a3 a4 a5 a6 := by
  unfold wX_meetJumps_73 wX_meetJumps_74
  unfold db_fwd at h
  dsimp only at h
  refine br_t rfl ⟨db_vin_ok hl, db_vin_ok hl, nm_e (db_jt_ok ?_)⟩
  by_cases e : db_jt fi se ki tm s x d tk < 0
  · rw [if_pos e] at h
    exact br_t e (nm_e (db_res_r h))
  · rw [if_neg e] at h
    refine br_f e ⟨db_vin_ok hl, nm_e (db_nb_ok (nm_e (nm_e ?_)))⟩
    by_cases e2 : db_vin (l + 1) = true
    · rw [if_pos e2] at h
      exact ⟨db_vin_ok e2, nm_e ⟨db_vin_ok e2, nm_e ⟨db_vin_ok e2, nm_e (nm_e (db_res_r h))⟩⟩⟩
    · rw [if_neg e2] at h
      exact db_res_n h
theorem db_back_ok {s l k x d : Int32} (hl : db_vin l = true) (h : db_res post J fi se ki tm pt ps wa a1 a5 a6 k (db_back wa l (sc, tk, sn, mo, be, a2, a3, a4))) :
    wX_meetJumps_69 post J s l k x d fi se ki tm pt ps sc tk wa sn mo be a1 a2 a3 a4 a5 a6 := by
  unfold wX_meetJumps_69 wX_meetJumps_74
  unfold db_back at h
  dsimp only at h
  refine br_f (by decide) (nm_e ?_)
  by_cases e : l ≤ 0
  · rw [if_pos e] at h
    exact br_t e (db_down_ok h)
  · rw [if_neg e] at h
    refine br_f e ⟨db_vin_ok hl, ?_⟩
    by_cases e2 : a4 l.toNatClampNeg = 0
    · rw [if_pos e2] at h
      refine br_t e2 (db_meet_br (fun v => br_f (by decide) ?_) (fun v => br_t rfl ?_))
      · rw [if_pos v] at h
        exact db_res_l h
      · rw [if_neg (by rw [v]; decide)] at h
        exact db_down_ok h
    · rw [if_neg e2] at h
      exact br_f e2 (db_down_ok h)
theorem db_turn_ok {s l k : Int32} {n : Nat} (e1 : ¬ 1048576 ≤ k) (e2 : ¬ l < 0) (h : db_res post (wX_meetJumps_23 post s n) fi se ki tm pt ps wa a1 a5 a6 k (db_turn fi se ki tm wa s l (sc, tk, sn, mo, be, a2, a3, a4))) :
    wX_meetJumps_23 post s (n + 1) l k fi se ki tm pt ps sc tk wa sn mo be a1 a2 a3 a4 a5 a6 := by
  refine br_f e1 (br_f e2 ?_)
  unfold db_turn at h
  dsimp only at h
  by_cases hl : db_vin l = true
  · rw [if_pos hl] at h
    refine ⟨db_vin_ok hl, nm_e ⟨db_vin_ok hl, nm_e ?_⟩⟩
    by_cases e3 : a3 l.toNatClampNeg = 4
    · rw [if_pos e3] at h
      exact br_t e3 (db_back_ok hl h)
    · rw [if_neg e3] at h
      refine br_f e3 ?_
      by_cases e4 : l ≤ 0
      · rw [if_pos e4] at h
        exact br_t e4 (db_fwd_ok hl h)
      · rw [if_neg e4] at h
        refine br_f e4 (db_stops_br (fun v => ?_) (fun v => ?_))
        · rw [if_pos v] at h
          exact db_back_ok hl h
        · rw [if_neg (by rw [v]; decide)] at h
          exact db_fwd_ok hl h
  · rw [if_neg hl] at h
    exact db_res_n h
theorem db_mj_s {s l k : Int32} {n : Nat} {m : db_M} : db_mj fi se ki tm wa s (n + 1) l k m =
    (if 1048576 ≤ k then some (false, m) else if l < 0 then some (false, m)
    else match db_turn fi se ki tm wa s l m with
      | none => none
      | some (.inl m') => some (true, m')
      | some (.inr (l', m')) => db_mj fi se ki tm wa s n l' (k + 1) m') := rfl
theorem db_mj_ok {s : Int32} {r : Bool × db_M} (hp : post (db_b r.1) (db_st fi se ki tm pt ps wa a1 a5 a6 r.2)) : ∀ (n : Nat) (l k sc tk sn mo be : Int32) (a2 a3 a4 : Nat → Int32),
    db_mj fi se ki tm wa s n l k (sc, tk, sn, mo, be, a2, a3, a4) = some r →
    wX_meetJumps_23 post s n l k fi se ki tm pt ps sc tk wa sn mo be a1 a2 a3 a4 a5 a6
  | 0, l, k, sc, tk, sn, mo, be, a2, a3, a4, h => by
    have h' : (none : Option (Bool × db_M)) = some r := h
    cases h'
  | n + 1, l, k, sc, tk, sn, mo, be, a2, a3, a4, h => by
    rw [db_mj_s] at h
    by_cases e1 : 1048576 ≤ k
    · rw [if_pos e1] at h
      cases h
      exact br_t e1 hp
    · rw [if_neg e1] at h
      by_cases e2 : l < 0
      · rw [if_pos e2] at h
        cases h
        exact br_f e1 (br_t e2 hp)
      · rw [if_neg e2] at h
        refine db_turn_ok e1 e2 ?_
        cases ht : db_turn fi se ki tm wa s l (sc, tk, sn, mo, be, a2, a3, a4) with
        | none =>
          rw [ht] at h
          have h' : (none : Option (Bool × db_M)) = some r := h
          cases h'
        | some v =>
          cases v with
          | inl m' =>
            rw [ht] at h
            have h' : some (true, m') = some r := h
            cases h'
            exact Or.inl ⟨m', rfl, hp⟩
          | inr q =>
            obtain ⟨l', c1, c2, c3, c4, c5, c6, c7, c8⟩ := q
            rw [ht] at h
            exact Or.inr ⟨l', (c1, c2, c3, c4, c5, c6, c7, c8), rfl, db_mj_ok hp n l' (k + 1) c1 c2 c3 c4 c5 c6 c7 c8 h⟩
theorem db_piece_ok {Q : Int32 → St2 → Prop} {jm : Int32} {j : Nat} {r : Bool × db_M} (hr : db_piece fi se ki tm wa jm j (sc, tk, sn, mo, be, a2, a3, a4) = some r)
    (hp : Q (db_b r.1) (db_st fi se ki tm pt ps wa a1 a5 a6 r.2)) :
    (jm = 0 → wpX_meetSteps Q (fi, se, ki, tm, pt, ps, sc, tk, wa, sn, mo, be, a1, upd a2 0 (nI j).toInt8.toInt32, a3, a4, a5, a6) (nI j)) ∧
    (¬ jm = 0 → wpX_meetJumps Q (fi, se, ki, tm, pt, ps, sc, tk, wa, sn, mo, be, a1, upd a2 0 (nI j).toInt8.toInt32, a3, a4, a5, a6) (nI j)) := by
  unfold db_piece at hr
  refine br_c (fun e => ?_) (fun e => ?_)
  · simp only [if_pos e] at hr
    cases hr
    exact db_meetSteps_ok hp
  · simp only [if_neg e] at hr
    unfold wpX_meetJumps
    exact nm_e (nm_e ⟨24, db_mj_ok hp 24 0 0 sc 0 sn mo be _ _ _ hr⟩)
theorem db_sk_s {jm mine : Int32} {c j : Nat} {m : db_M} : db_sk fi se ki tm wa jm mine (c + 1) j m =
    (if db_in mine (nI j) then db_next (db_piece fi se ki tm wa jm j m) (fun m' => db_sk fi se ki tm wa jm mine c (j + 1) m') else db_sk fi se ki tm wa jm mine c (j + 1) m) := rfl
theorem db_sk_ok {jm mine : Int32} {r : Bool × db_M} (hp : post (db_b r.1) (db_st fi se ki tm pt ps wa a1 a5 a6 r.2)) : ∀ (c j : Nat) (sc tk sn mo be : Int32) (a2 a3 a4 : Nat → Int32), j + c = 32 →
    db_sk fi se ki tm wa jm mine c j (sc, tk, sn, mo, be, a2, a3, a4) = some r →
    wX_seek_33 post jm mine (c + 1) (nI j) fi se ki tm pt ps sc tk wa sn mo be a1 a2 a3 a4 a5 a6
  | 0, j, sc, tk, sn, mo, be, a2, a3, a4, hj, h => by
    have : j = 32 := by omega
    subst this
    have h' : some (false, (sc, tk, sn, mo, be, a2, a3, a4)) = some r := h
    cases h'
    exact br_t (by decide) hp
  | c + 1, j, sc, tk, sn, mo, be, a2, a3, a4, hj, h => by
    rw [db_sk_s] at h
    refine br_f (nI_ge (b := 32) (by omega) (by decide)) (db_in_br (fun e => nm_e ?_) (fun e => nm_r (nI_1 j) ?_))
    · rw [if_pos e] at h
      cases ht : db_piece fi se ki tm wa jm j (sc, tk, sn, mo, be, a2, a3, a4) with
      | none =>
        rw [ht] at h
        have h' : (none : Option (Bool × db_M)) = some r := h
        cases h'
      | some v =>
        rw [ht] at h
        have key : wX_seek_77 post (wX_seek_33 post jm mine (c + 1)) jm mine (nI j) (db_b v.1) fi se ki tm pt ps v.2.1 v.2.2.1 wa v.2.2.2.1 v.2.2.2.2.1 v.2.2.2.2.2.1 a1 v.2.2.2.2.2.2.1 v.2.2.2.2.2.2.2.1 v.2.2.2.2.2.2.2.2 a5 a6 := by
          obtain ⟨b, c1, c2, c3, c4, c5, c6, c7, c8⟩ := v
          unfold wX_seek_77
          cases b with
          | true =>
            have h' : some (true, (c1, c2, c3, c4, c5, c6, c7, c8)) = some r := h
            cases h'
            exact br_f (show ¬ db_b true = 0 by decide) hp
          | false => exact br_t rfl (nm_r (nI_1 j) (db_sk_ok hp c (j + 1) c1 c2 c3 c4 c5 c6 c7 c8 (by omega) h))
        exact br_c (fun e => (db_piece_ok ht key).1 e) (fun e => (db_piece_ok ht key).2 e)
    · rw [if_neg (by rw [e]; decide)] at h
      exact db_sk_ok hp c (j + 1) sc tk sn mo be a2 a3 a4 (by omega) h
theorem db_seek_ok {Q : Int32 → St2 → Prop} {p : Int32} {r : Bool × db_M} (h : db_seek fi se ki tm p (sc, tk, sn, mo, be, a2, a3, a4) = some r)
    (hp : Q (db_b r.1) (db_st fi se ki tm pt ps p a1 a5 a6 r.2)) :
    wpX_seek Q (fi, se, ki, tm, pt, ps, sc, tk, wa, sn, mo, be, a1, a2, a3, a4, a5, a6) p := by
  unfold wpX_seek
  refine db_must_ok (db_own_ok ⟨33, ?_⟩)
  have t := db_sk_ok hp 32 0 sc tk 0 0 0 a2 a3 a4 (by omega) h
  rw [nI_0] at t
  exact t
end
end
section
/-! ===== setting up, carrying out, and the law over a board ===== -/
def db_bit (q : Int32) : Int32 := (1 : Int32) <<< (q &&& 31)
/-- a set of squares behind 'place': the square comes in for the pieces u and v, else it goes out -/
def db_put (u v p q x : Int32) : Int32 := if p = u then x ||| db_bit q else if p = v then x ||| db_bit q else x &&& (db_bit q ^^^ (-1))
def db_pok (q p : Int32) : Bool := decide (¬ q < 0) && (decide (¬ 32 ≤ q) && (decide (¬ p < 0) && (decide (p ≤ 4) && (decide (¬ (p = 1 ∧ q >>> ((2 : Int32) &&& 31) = 7)) && decide (¬ (p = 3 ∧ q >>> ((2 : Int32) &&& 31) = 0))))))
section
variable {fi se ki tm pt ps sc tk wa sn mo be : Int32} {a1 a2 a3 a4 a5 a6 : Nat → Int32} {Q : Int32 → St2 → Prop}
theorem db_145 {z : Int32} (h : Q 1 (fi, se, z, tm, pt, 0, sc, tk, wa, sn, mo, be, a1, a2, a3, a4, a5, a6)) :
    wX_place_145 Q z fi se ki tm pt ps sc tk wa sn mo be a1 a2 a3 a4 a5 a6 := by
  unfold wX_place_145 wpX_forget
  exact h
theorem db_112 {p q z : Int32} (h : Q 1 (fi, z, db_put 2 4 p q ki, tm, pt, 0, sc, tk, wa, sn, mo, be, a1, a2, a3, a4, a5, a6)) :
    wX_place_112 Q p (db_bit q) z fi se ki tm pt ps sc tk wa sn mo be a1 a2 a3 a4 a5 a6 := by
  unfold wX_place_112 wX_place_126
  unfold db_put at h
  by_cases e : p = 2
  · rw [if_pos e] at h
    exact br_t e (db_145 h)
  · rw [if_neg e] at h
    refine br_f e ?_
    by_cases e2 : p = 4
    · rw [if_pos e2] at h
      exact br_t e2 (db_145 h)
    · rw [if_neg e2] at h
      exact br_f e2 (db_145 h)
theorem db_79 {p q z : Int32} (h : Q 1 (z, db_put 3 4 p q se, db_put 2 4 p q ki, tm, pt, 0, sc, tk, wa, sn, mo, be, a1, a2, a3, a4, a5, a6)) :
    wX_place_79 Q p (db_bit q) z fi se ki tm pt ps sc tk wa sn mo be a1 a2 a3 a4 a5 a6 := by
  unfold wX_place_79 wX_place_93
  unfold db_put at h
  by_cases e : p = 3
  · rw [if_pos e] at h
    exact br_t e (db_112 h)
  · rw [if_neg e] at h
    refine br_f e ?_
    by_cases e2 : p = 4
    · rw [if_pos e2] at h
      exact br_t e2 (db_112 h)
    · rw [if_neg e2] at h
      exact br_f e2 (db_112 h)
theorem db_44 {p q : Int32} (h : Q 1 (db_put 1 2 p q fi, db_put 3 4 p q se, db_put 2 4 p q ki, tm, pt, 0, sc, tk, wa, sn, mo, be, a1, a2, a3, a4, a5, a6)) :
    wX_place_44 Q q p fi se ki tm pt ps sc tk wa sn mo be a1 a2 a3 a4 a5 a6 := by
  unfold wX_place_44 wX_place_60
  refine nm_e ?_
  by_cases e : p = 1
  · rw [show db_put 1 2 p q fi = fi ||| db_bit q by unfold db_put; rw [if_pos e]] at h
    exact br_t e (db_79 h)
  · refine br_f e ?_
    by_cases e2 : p = 2
    · rw [show db_put 1 2 p q fi = fi ||| db_bit q by unfold db_put; rw [if_neg e, if_pos e2]] at h
      exact br_t e2 (db_79 h)
    · rw [show db_put 1 2 p q fi = fi &&& (db_bit q ^^^ (-1)) by unfold db_put; rw [if_neg e, if_neg e2]] at h
      exact br_f e2 (db_79 h)
theorem db_place_ok {p q : Int32} (hk : db_pok q p = true) (h : Q 1 (db_put 1 2 p q fi, db_put 3 4 p q se, db_put 2 4 p q ki, tm, pt, 0, sc, tk, wa, sn, mo, be, a1, a2, a3, a4, a5, a6)) :
    wpX_place Q (fi, se, ki, tm, pt, ps, sc, tk, wa, sn, mo, be, a1, a2, a3, a4, a5, a6) q p := by
  unfold db_pok at hk
  simp only [Bool.and_eq_true, decide_eq_true_eq] at hk
  obtain ⟨k1, k2, k3, k4, k5, k6⟩ := hk
  unfold wpX_place wpX_isSquare
  refine br_f k1 (br_f k2 (br_f (by decide) (br_f k3 (br_t k4 (nm_e ?_)))))
  have key : wX_place_33 Q q p (q >>> ((2 : Int32) &&& 31)) fi se ki tm pt ps sc tk wa sn mo be a1 a2 a3 a4 a5 a6 := by
    unfold wX_place_33
    exact br_c (fun e => br_f (fun e2 => k6 ⟨e, e2⟩) (db_44 h)) (fun e => db_44 h)
  exact br_c (fun e => br_f (fun e2 => k5 ⟨e, e2⟩) key) (fun e => key)
theorem db_remember_ok {Q : St2 → Prop} (h : ∀ pt ps a1, Q (fi, se, ki, tm, pt, ps, sc, tk, wa, sn, mo, be, a1, a2, a3, a4, a5, a6)) :
    wpX_remember Q (fi, se, ki, tm, 0, 0, sc, tk, wa, sn, mo, be, a1, a2, a3, a4, a5, a6) := by
  unfold wpX_remember
  refine ⟨vp_in_iff.mpr (by decide), nm_e ⟨vp_in_iff.mpr (by decide), nm_e ⟨vp_in_iff.mpr (by decide), nm_e ⟨vp_in_iff.mpr (by decide), nm_e ⟨by decide, nm_e ?_⟩⟩⟩⟩⟩
  exact br_c (fun _ => h _ _ _) (fun _ => nm_e (h _ _ _))
/-- the other side's squares and the kings behind a move of the first side -/
def db_cse (tk q se : Int32) : Int32 := (se &&& ((tk ||| db_bit q) ^^^ (-1))) ||| 0
def db_cki (tk q last ki : Int32) : Int32 := (ki &&& ((tk ||| db_bit q) ^^^ (-1))) ||| (if db_in ki q then db_bit last else if db_stops ki 0 q last then db_bit last else 0)
theorem db_carry_ok (hv : db_vin (sc - 1) = true)
    (h : ∀ fi tm, Q (db_ones tk) (fi, db_cse tk (a2 0) se, db_cki tk (a2 0) (a2 (sc - 1).toNatClampNeg) ki, tm, pt, ps, sc, tk, wa, sn, mo, be, a1, a2, a3, a4, a5, a6)) :
    wpX_carry Q (fi, se, ki, 0, pt, ps, sc, tk, wa, sn, mo, be, a1, a2, a3, a4, a5, a6) := by
  unfold wpX_carry
  refine nm_e ⟨db_vin_ok hv, nm_e ?_⟩
  have K0 : (if db_in ki (a2 0) then db_bit (a2 (sc - 1).toNatClampNeg) else if db_stops ki 0 (a2 0) (a2 (sc - 1).toNatClampNeg) then db_bit (a2 (sc - 1).toNatClampNeg) else 0) = 0 →
      wX_carry_56 Q (db_bit (a2 0)) (a2 (sc - 1).toNatClampNeg) 0 fi se ki 0 pt ps sc tk wa sn mo be a1 a2 a3 a4 a5 a6 := by
    intro e
    unfold db_cki at h
    rw [e] at h
    unfold wX_carry_56 wX_carry_131 wX_carry_154 wX_carry_173
    exact nm_e (nm_e (nm_e (nm_e (br_t rfl (nm_e (br_f (by decide) (nm_e (br_t rfl (nm_e (nm_e (db_ones_ok (h _ _))))))))))))
  have K1 : (if db_in ki (a2 0) then db_bit (a2 (sc - 1).toNatClampNeg) else if db_stops ki 0 (a2 0) (a2 (sc - 1).toNatClampNeg) then db_bit (a2 (sc - 1).toNatClampNeg) else 0) = db_bit (a2 (sc - 1).toNatClampNeg) →
      wX_carry_51 Q (db_bit (a2 0)) (a2 (sc - 1).toNatClampNeg) fi se ki 0 pt ps sc tk wa sn mo be a1 a2 a3 a4 a5 a6 := by
    intro e
    unfold db_cki at h
    rw [e] at h
    unfold wX_carry_51 wX_carry_56 wX_carry_131 wX_carry_154 wX_carry_173
    exact nm_e (nm_e (nm_e (nm_e (br_t rfl (nm_e (br_f (by decide) (nm_e (br_f (by decide) (nm_e (nm_e (db_ones_ok (h _ _))))))))))))
  refine db_in_br (fun e => K1 (if_pos e)) (fun e => db_stops_br (fun e2 => K1 ?_) (fun e2 => K0 ?_))
  · rw [if_neg (by rw [e]; decide), if_pos e2]
  · rw [if_neg (by rw [e]; decide), if_neg (by rw [e2]; decide)]
end
/-! the law's checks, in order; k: king, o: other, f: far -/
def db_any (r : Option (Bool × db_M)) (c : Bool → db_M → Bool) : Bool := match r with
  | none => false
  | some (b, m) => c b m
theorem db_any_t {r : Option (Bool × db_M)} {c : Bool → db_M → Bool} (h : db_any r c = true) : ∃ b m, r = some (b, m) ∧ c b m = true := by
  cases r with
  | none =>
    have h' : false = true := h
    cases h'
  | some v => exact ⟨v.1, v.2, rfl, h⟩
def db_left (o se ki : Int32) : Int32 := db_ones (if (o &&& 1) = 0 then se &&& ki else se &&& (ki ^^^ (-1)))
def db_far (f : Int32) : Int32 := if f = 1 then 18 else if f = 2 then 22 else 31
def db_end (k o f fi se ki n len first : Int32) (m : db_M) : Bool :=
  decide (db_must fi se ki 0 = (if f = 1 then 0 else 1)) && (decide (¬ n < 1) && (decide (len = (if f = 2 then 3 else 2)) && (decide (first = (if f = 1 then (if k = 1 then 5 else 13) else 18)) &&
  (decide (db_ones m.2.1 = (if f = 1 then 0 else if f = 2 then 2 else 1)) && (db_vin (m.1 - 1) &&
  decide (db_left o (db_cse m.2.1 (m.2.2.2.2.2.1 0) se) (db_cki m.2.1 (m.2.2.2.2.2.1 0) (m.2.2.2.2.2.1 (m.1 - 1).toNatClampNeg) ki) + db_left (7 - o) (db_cse m.2.1 (m.2.2.2.2.2.1 0) se) (db_cki m.2.1 (m.2.2.2.2.2.1 0) (m.2.2.2.2.2.1 (m.1 - 1).toNatClampNeg) ki) = 2 - db_ones m.2.1))))))
def db_play (k o f fi se ki : Int32) : Bool :=
  db_any (db_seek fi se ki 0 (-1) (0, 0, 0, 0, 0, fun _ => 0, fun _ => 0, fun _ => 0)) (fun _ m1 =>
  db_any (db_seek fi se ki 0 0 m1) (fun b2 m2 => b2 &&
  db_any (db_seek fi se ki 0 0 m2) (fun b3 m3 => b3 && (decide (¬ m3.1 ≤ 1) &&
  db_any (db_seek fi se ki 0 0 m3) (fun b4 m4 => b4 && db_end k o f fi se ki m1.2.2.1 m2.1 (m3.2.2.2.2.2.1 1) m4)))))
def db_law (k o f : Int32) : Bool :=
  (db_pok 9 (1 + k) && (db_pok 14 o && db_pok (db_far f) 4)) && ((decide (¬ o < 1 ∧ o ≤ 4 ∧ 3 ≤ o) && decide (¬ 7 - o < 1 ∧ 7 - o ≤ 4 ∧ 3 ≤ 7 - o)) &&
  db_play k o f (db_put 1 2 4 (db_far f) (db_put 1 2 o 14 (db_put 1 2 (1 + k) 9 0))) (db_put 3 4 4 (db_far f) (db_put 3 4 o 14 (db_put 3 4 (1 + k) 9 0))) (db_put 2 4 4 (db_far f) (db_put 2 4 o 14 (db_put 2 4 (1 + k) 9 0))))
end
section
/-! ===== the twelve boards ===== -/
theorem db_twelve : ∀ k, k < 2 → ∀ o, o < 2 → ∀ f, f < 3 → db_law (nI k) (3 + nI o) (nI f) = true := by decide +kernel
end
section
/-! ===== the law, walked ===== -/
section
variable {fi se ki tm pt ps sc tk wa sn mo be : Int32} {a1 a2 a3 a4 a5 a6 : Nat → Int32} {Q : Int32 → St2 → Prop}
theorem db_moves_ok {r : Bool × db_M} (h : db_seek fi se ki tm (-1) (sc, tk, sn, mo, be, a2, a3, a4) = some r) (hp : Q r.2.2.2.1 (db_st fi se ki tm pt ps (-1) a1 a5 a6 r.2)) :
    wpX_moves Q (fi, se, ki, tm, pt, ps, sc, tk, wa, sn, mo, be, a1, a2, a3, a4, a5, a6) := by
  unfold wpX_moves
  exact db_seek_ok h hp
theorem db_length_ok {m : db_M} (h : db_seek fi se ki tm 0 (sc, tk, sn, mo, be, a2, a3, a4) = some (true, m)) (hp : Q m.1 (db_st fi se ki tm pt ps 0 a1 a5 a6 m)) :
    wpX_length Q (fi, se, ki, tm, pt, ps, sc, tk, wa, sn, mo, be, a1, a2, a3, a4, a5, a6) 0 := by
  unfold wpX_length
  exact br_f (by decide) (db_seek_ok h (br_f (show ¬ db_b true = 0 by decide) hp))
theorem db_path_ok {m : db_M} (h : db_seek fi se ki tm 0 (sc, tk, sn, mo, be, a2, a3, a4) = some (true, m)) (h1 : ¬ m.1 ≤ 1) (hp : Q (m.2.2.2.2.2.1 1) (db_st fi se ki tm pt ps 0 a1 a5 a6 m)) :
    wpX_path Q (fi, se, ki, tm, pt, ps, sc, tk, wa, sn, mo, be, a1, a2, a3, a4, a5, a6) 0 1 := by
  unfold wpX_path
  exact br_f (by decide) (db_seek_ok h (br_f (show ¬ db_b true = 0 by decide) (br_f (by decide) (br_f h1 ⟨vp_in_iff.mpr (by decide), hp⟩))))
theorem db_play_ok {m : db_M} (h : db_seek fi se ki 0 0 (sc, tk, sn, mo, be, a2, a3, a4) = some (true, m)) (hv : db_vin (m.1 - 1) = true)
    (hp : ∀ fi tm pt ps sc tk wa sn mo be a1 a2 a3 a4 a5 a6, Q (db_ones m.2.1) (fi, db_cse m.2.1 (m.2.2.2.2.2.1 0) se, db_cki m.2.1 (m.2.2.2.2.2.1 0) (m.2.2.2.2.2.1 (m.1 - 1).toNatClampNeg) ki, tm, pt, ps, sc, tk, wa, sn, mo, be, a1, a2, a3, a4, a5, a6)) :
    wpX_play Q (fi, se, ki, 0, 0, 0, sc, tk, wa, sn, mo, be, a1, a2, a3, a4, a5, a6) 0 := by
  unfold wpX_play
  exact br_f (by decide) (db_seek_ok h (br_f (show ¬ db_b true = 0 by decide) (db_remember_ok (fun _ _ _ => db_carry_ok hv (fun _ _ => hp _ _ _ _ _ _ _ _ _ _ _ _ _ _ _ _)))))
end
section
variable {mc ms kc ks : Nat} {x4 x5 x6 x8 x9 x10 x11 x12 z0 z1 : Int32}
theorem db_219 (h : z1 = z0) (h2 : x12 = 2 - x11) : wL_lawOf_219 (fun r _ => r = 1) mc ms x11 x12 z0 z1 kc ks := br_t h (br_t h2 rfl)
theorem db_193 (h : z1 = z0) (hg : x11 = (if x6 = 1 then 0 else if x6 = 2 then 2 else 1)) (h2 : x12 = 2 - x11) : wL_lawOf_193 (fun r _ => r = 1) mc ms x6 x11 x12 z0 z1 kc ks :=
  br_t h (br_c (fun e => db_219 (by rw [if_pos e] at hg; exact hg) h2) (fun e => br_c (fun e2 => db_219 (by rw [if_neg e, if_pos e2] at hg; exact hg) h2) (fun e2 => db_219 (by rw [if_neg e, if_neg e2] at hg; exact hg) h2)))
theorem db_165 (h : z1 = z0) (hf : x10 = (if x6 = 1 then (if x4 = 1 then 5 else 13) else 18)) (hg : x11 = (if x6 = 1 then 0 else if x6 = 2 then 2 else 1)) (h2 : x12 = 2 - x11) : wL_lawOf_165 (fun r _ => r = 1) mc ms x4 x6 x10 x11 x12 z0 z1 kc ks :=
  br_t h (br_c (fun e => br_c (fun e2 => db_193 (by rw [if_pos e, if_pos e2] at hf; exact hf) hg h2) (fun e2 => db_193 (by rw [if_pos e, if_neg e2] at hf; exact hf) hg h2)) (fun e => db_193 (by rw [if_neg e] at hf; exact hf) hg h2))
theorem db_143 (h : z1 = z0) (hn : ¬ x8 < 1) (hl : x9 = (if x6 = 2 then 3 else 2)) (hf : x10 = (if x6 = 1 then (if x4 = 1 then 5 else 13) else 18)) (hg : x11 = (if x6 = 1 then 0 else if x6 = 2 then 2 else 1)) (h2 : x12 = 2 - x11) :
    wL_lawOf_143 (fun r _ => r = 1) mc ms x4 x6 x8 x9 x10 x11 x12 z0 z1 kc ks :=
  br_t h (br_f hn (br_c (fun e => db_165 (by rw [if_pos e] at hl; exact hl) hf hg h2) (fun e => db_165 (by rw [if_neg e] at hl; exact hl) hf hg h2)))
theorem db_and {a b : Bool} (h : (a && b) = true) : a = true ∧ b = true := (Bool.and_eq_true a b).mp h
theorem db_73 {k o f fi se ki z : Int32} (hz : db_pok z 4 = true) (ho : ¬ o < 1 ∧ o ≤ 4 ∧ 3 ≤ o) (ho' : ¬ 7 - o < 1 ∧ 7 - o ≤ 4 ∧ 3 ≤ 7 - o)
    (hpl : db_play k o f (db_put 1 2 4 z fi) (db_put 3 4 4 z se) (db_put 2 4 4 z ki) = true) :
    wL_lawOf_73 (fun r _ => r = 1) mc ms k o f z kc ks fi se ki 0 0 0 0 0 0 0 0 0 (fun _ => 0) (fun _ => 0) (fun _ => 0) (fun _ => 0) (fun _ => 0) (fun _ => 0) := by
  unfold wL_lawOf_73
  refine db_place_ok hz ?_
  revert hpl
  generalize db_put 1 2 4 z fi = fi'
  generalize db_put 3 4 4 z se = se'
  generalize db_put 2 4 4 z ki = ki'
  intro hpl
  obtain ⟨b1, m1, s1, w1⟩ := db_any_t hpl
  obtain ⟨b2, m2, s2, w2⟩ := db_any_t w1
  obtain ⟨t2, w3⟩ := db_and w2
  obtain ⟨b3, m3, s3, w4⟩ := db_any_t w3
  obtain ⟨t3, w5⟩ := db_and w4
  obtain ⟨u3, w6⟩ := db_and w5
  obtain ⟨b4, m4, s4, w7⟩ := db_any_t w6
  obtain ⟨t4, w8⟩ := db_and w7
  rw [t2] at s2
  rw [t3] at s3
  rw [t4] at s4
  unfold db_end at w8
  obtain ⟨c1, v1⟩ := db_and w8
  obtain ⟨c2, v2⟩ := db_and v1
  obtain ⟨c3, v3⟩ := db_and v2
  obtain ⟨c4, v4⟩ := db_and v3
  obtain ⟨c5, v5⟩ := db_and v4
  obtain ⟨c6, c7⟩ := db_and v5
  have d1 := of_decide_eq_true c1
  have d2 := of_decide_eq_true c2
  have d3 := of_decide_eq_true c3
  have d4 := of_decide_eq_true c4
  have d5 := of_decide_eq_true c5
  have d7 := of_decide_eq_true c7
  refine db_must_ok (db_moves_ok s1 (db_length_ok s2 (db_path_ok s3 (of_decide_eq_true u3) (db_play_ok s4 c6 ?_))))
  intro g1 g4 g5 g6 g7 g8 g9 g10 g11 g12 e1 e2 e3 e4 e5 e6
  refine db_count_ok ho.1 ho.2.1 ho.2.2 (db_count_ok ho'.1 ho'.2.1 ho'.2.2 (nm_e ?_))
  exact br_c (fun e => db_143 (by rw [if_pos e] at d1; exact d1) d2 d3 d4 d5 d7) (fun e => db_143 (by rw [if_neg e] at d1; exact d1) d2 d3 d4 d5 d7)
theorem db_lawOf (p0 p1 p2 : Int32) : wpL_lawOf (fun r _ => r = 1) 80 1264 () p0 p1 p2 := by
  obtain ⟨k, hk, ek⟩ := pk_andE p0 (m := 1) 1 (by decide)
  obtain ⟨o, ho, eo⟩ := pk_andE p1 (m := 1) 1 (by decide)
  obtain ⟨j, hj, ej⟩ := pk_andE p2 (m := 65535) 16 (by decide)
  have ef : (p2 &&& 65535) - (p2 &&& 65535) / 3 * 3 = nI (j % 3) := by
    rw [ej]
    exact pk_rem (d := 3) (by omega) (by omega) (by omega)
  have H := db_twelve k hk o ho (j % 3) (Nat.mod_lt _ (by omega))
  unfold db_law at H
  obtain ⟨H1, H⟩ := db_and H
  obtain ⟨p9, H1⟩ := db_and H1
  obtain ⟨p14, pz⟩ := db_and H1
  obtain ⟨H2, H⟩ := db_and H
  obtain ⟨q1, q2⟩ := db_and H2
  unfold wpL_lawOf
  refine ⟨by decide, by decide, 79, 1246, by decide, by decide, ?_⟩
  unfold wpX_init
  refine ⟨by decide, by decide, by decide, by decide, by decide, by decide, by decide, by decide, by decide, by decide, by decide, by decide, ?_⟩
  refine nm_r ek (nm_r (by rw [eo]) ⟨by decide, nm_r ef (db_place_ok p9 (db_place_ok p14 ?_))⟩)
  by_cases e : nI (j % 3) = 1
  · rw [show db_far (nI (j % 3)) = 18 by unfold db_far; rw [if_pos e]] at H pz
    exact br_t e (db_73 pz (of_decide_eq_true q1) (of_decide_eq_true q2) H)
  · refine br_f e ?_
    by_cases e2 : nI (j % 3) = 2
    · rw [show db_far (nI (j % 3)) = 22 by unfold db_far; rw [if_neg e, if_pos e2]] at H pz
      exact br_t e2 (db_73 pz (of_decide_eq_true q1) (of_decide_eq_true q2) H)
    · rw [show db_far (nI (j % 3)) = 31 by unfold db_far; rw [if_neg e, if_neg e2]] at H pz
      exact br_f e2 (db_73 pz (of_decide_eq_true q1) (of_decide_eq_true q2) H)
end
theorem db_cell {post : Int32 → Prop} {L : Nat} {xs : Nat → Int32} {p : Int32} (hL : L ≤ 3) (j : Nat) (hj : j < 3) (hp : p = nI j) (h : ∀ x, post x) : wpL_cellAt post L xs () p := by
  subst hp
  unfold wpL_cellAt
  exact pk_le L j (fun _ => h _) (fun z => ⟨vp_in_nI z (by omega), h _⟩)
theorem i_vc (xs : Nat → Int32) (L : Nat) (hL : L ≤ 3) : wpL_law (fun r => r = 1) L xs :=
  db_cell hL 0 (by decide) rfl (fun a => db_cell hL 1 (by decide) rfl (fun b => db_cell hL 2 (by decide) rfl (fun c => ⟨80, 1264, by decide, by decide, db_lawOf a b c⟩)))
end
