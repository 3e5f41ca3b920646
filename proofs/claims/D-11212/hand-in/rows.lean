section
/-- an array as a list: 0 behind its end -/
def mr_ar : List Int32 → Nat → Int32
  | [], _ => 0
  | x :: _, 0 => x
  | _ :: l, k + 1 => mr_ar l k
def mr_set : List Int32 → Nat → Int32 → List Int32
  | [], 0, v => [v]
  | [], k + 1, v => 0 :: mr_set [] k v
  | _ :: l, 0, v => v :: l
  | x :: l, k + 1, v => x :: mr_set l k v
theorem mr_nil : (fun _ => (0 : Int32)) = mr_ar [] := by
  funext j
  rfl
theorem mr_updA : ∀ (k : Nat) (l : List Int32) (v : Int32) (j : Nat), (if j = k then v else mr_ar l j) = mr_ar (mr_set l k v) j := by
  intro k
  induction k with
  | zero =>
    intro l v j
    cases l with
    | nil =>
      cases j with
      | zero => rfl
      | succ j =>
        rw [if_neg (Nat.succ_ne_zero j)]
        rfl
    | cons x l =>
      cases j with
      | zero => rfl
      | succ j =>
        rw [if_neg (Nat.succ_ne_zero j)]
        rfl
  | succ k ih =>
    intro l v j
    cases l with
    | nil =>
      cases j with
      | zero =>
        rw [if_neg (Nat.succ_ne_zero k).symm]
        rfl
      | succ j =>
        have e : mr_ar (mr_set [] (k + 1) v) (j + 1) = mr_ar (mr_set [] k v) j := rfl
        rw [e, ← ih [] v j]
        by_cases c : j = k
        · rw [if_pos c, if_pos (congrArg Nat.succ c)]
        · rw [if_neg c, if_neg (fun z => c (Nat.succ.inj z))]
          rfl
    | cons x l =>
      cases j with
      | zero =>
        rw [if_neg (Nat.succ_ne_zero k).symm]
        rfl
      | succ j =>
        have e : mr_ar (mr_set (x :: l) (k + 1) v) (j + 1) = mr_ar (mr_set l k v) j := rfl
        rw [e, ← ih l v j]
        by_cases c : j = k
        · rw [if_pos c, if_pos (congrArg Nat.succ c)]
        · rw [if_neg c, if_neg (fun z => c (Nat.succ.inj z))]
          rfl
theorem mr_upd (l : List Int32) (k : Nat) (v : Int32) : upd (mr_ar l) k v = mr_ar (mr_set l k v) := by
  funext j
  exact mr_updA k l v j
/-- an index in its bounds, to compute -/
def mr_in (i : Int32) (n : Nat) : Bool := decide (¬ (i < 0 ∨ n ≤ i.toNatClampNeg))
theorem mr_in_ok {i : Int32} {n : Nat} (h : mr_in i n = true) : vp_in i n := by
  have z : ¬ (i < 0 ∨ n ≤ i.toNatClampNeg) := of_decide_eq_true h
  exact z
theorem mr_no {α : Type} {r : α} {P : Prop} (h : (none : Option α) = some r) : P := by cases h
theorem mr_br {α : Type} {c A B : Prop} {d : Decidable c} {x y : Option α} {r : α} (h : (@ite _ c d x y) = some r) (hA : x = some r → A) (hB : y = some r → B) : (c → A) ∧ (¬ c → B) :=
  ⟨fun z => hA (by rw [if_pos z] at h; exact h), fun z => hB (by rw [if_neg z] at h; exact h)⟩
theorem mr_g {α : Type} {i : Int32} {n : Nat} {P : Prop} {x : Option α} {r : α} (h : (if mr_in i n = true then x else none) = some r) (H : vp_in i n → x = some r → P) : vp_in i n ∧ P := by
  by_cases c : mr_in i n = true
  · rw [if_pos c] at h
    exact ⟨mr_in_ok c, H (mr_in_ok c) h⟩
  · rw [if_neg c] at h
    exact mr_no h
/-- a guard whose bounds come later -/
theorem mr_gg {α : Type} {i : Int32} {n : Nat} {P : Prop} {x : Option α} {r : α} (h : (if mr_in i n = true then x else none) = some r) (H : vp_in i n → x = some r → P) : P := (mr_g h H).2
theorem mr_bd {α β : Type} {x : Option α} {k : α → Option β} {r : β} {P : Prop} (h : x.bind k = some r) (H : ∀ a, x = some a → k a = some r → P) : P := by
  cases x with
  | none => exact mr_no h
  | some a => exact H a rfl h
theorem mr_nar {α : Type} {x : Int32} {P : Prop} {y : Option α} {r : α} (h : (if x &&& 1 = x then y else none) = some r) (H : y = some r → P) : narrow .boolean (.int x) = .int x ∧ P := by
  by_cases c : x &&& 1 = x
  · rw [if_pos c] at h
    refine ⟨?_, H h⟩
    show Value.int (x &&& 1) = Value.int x
    rw [c]
  · rw [if_neg c] at h
    exact mr_no h
end
section
def mr_bits : Nat → Int32 → Int32 → Int32 → Option Int32
  | 0, _, _, _ => none
  | n + 1, x2, x3, x4 => if 20 ≤ x4 then some x2 else if x3 = 0 then some x2 else mr_bits n (x2 + 1) (x3 &&& (x3 - 1)) (x4 + 1)
def mr_bitsOf (s : Int32) : Option Int32 := mr_bits 21 0 s 0
theorem mr_bits_ok {post : Int32 → Prop} {r : Int32} {f0_wanted f0_covered f0_groupCount f0_rest f0_cells f0_mines f0_decidedMines f0_decidedFree f0_clash : Int32} {a1 a2 a3 a4 a5 a6 a7 a8 a9 a10 : Nat → Int32} : ∀ (n : Nat) (x2 x3 x4 : Int32), mr_bits n x2 x3 x4 = some r → (post r) → wX_bitsOf_7 post f0_wanted f0_covered f0_groupCount f0_rest f0_cells f0_mines f0_decidedMines f0_decidedFree f0_clash a1 a2 a3 a4 a5 a6 a7 a8 a9 a10 n x2 x3 x4 := by
  intro n
  induction n with
  | zero => intro x2 x3 x4 h hp; exact mr_no h
  | succ n ih =>
    intro x2 x3 x4 h hp
    exact mr_br h (fun h => by cases h; exact hp) (fun h => mr_br h (fun h => by cases h; exact hp) (fun h => nm_e (nm_e (nm_e (ih _ _ _ h hp)))))
theorem mr_bitsOf_ok {post : Int32 → Prop} {r p0 : Int32} {u : St2} (h : mr_bitsOf p0 = some r) (hp : post r) : wpX_bitsOf post u p0 := by
  obtain ⟨f0_wanted, f0_covered, f0_groupCount, f0_rest, f0_cells, f0_mines, f0_decidedMines, f0_decidedFree, f0_clash, a1, a2, a3, a4, a5, a6, a7, a8, a9, a10⟩ := u
  exact Exists.intro 21 (mr_bits_ok 21 0 p0 0 h hp)
def mr_has (p0 p1 : Int32) : Int32 := if ((p0 >>> (p1 &&& 31)) &&& 1) = 1 then 1 else 0
theorem mr_has_ok {post : Int32 → Prop} {p0 p1 : Int32} {u : St2} (hp : post (mr_has p0 p1)) : wpX_has post u p0 p1 := by
  obtain ⟨f0_wanted, f0_covered, f0_groupCount, f0_rest, f0_cells, f0_mines, f0_decidedMines, f0_decidedFree, f0_clash, a1, a2, a3, a4, a5, a6, a7, a8, a9, a10⟩ := u
  refine br_c (fun c => ?_) (fun c => ?_)
  · have e : mr_has p0 p1 = 1 := if_pos c
    rw [e] at hp
    exact hp
  · have e : mr_has p0 p1 = 0 := if_neg c
    rw [e] at hp
    exact hp
def mr_bad (p0 : Int32) : Int32 := if p0 < 0 then 1 else if p0 < 20 then 0 else 1
theorem mr_bad_ok {post : Int32 → Prop} {p0 : Int32} {u : St2} (hp : post (mr_bad p0)) : wpX_badCell post u p0 := by
  obtain ⟨f0_wanted, f0_covered, f0_groupCount, f0_rest, f0_cells, f0_mines, f0_decidedMines, f0_decidedFree, f0_clash, a1, a2, a3, a4, a5, a6, a7, a8, a9, a10⟩ := u
  refine br_c (fun c => ?_) (fun c => br_c (fun d => ?_) (fun d => ?_))
  · have e : mr_bad p0 = 1 := if_pos c
    rw [e] at hp
    exact hp
  · have e : mr_bad p0 = 0 := (if_neg c).trans (if_pos d)
    rw [e] at hp
    exact hp
  · have e : mr_bad p0 = 1 := (if_neg c).trans (if_neg d)
    rw [e] at hp
    exact hp
def mr_nb (x1 : Int32) : Nat → Int32 → Int32 → Option Int32
  | 0, _, _ => none
  | n + 1, x2, x3 => if 20 ≤ x3 then some x2 else
      if (x1 / 5) - (x3 / 5) < (-1) then mr_nb x1 n x2 (x3 + 1) else
      if 1 < (x1 / 5) - (x3 / 5) then mr_nb x1 n x2 (x3 + 1) else
      if (x1 - x1 / 5 * 5) - (x3 - x3 / 5 * 5) < (-1) then mr_nb x1 n x2 (x3 + 1) else
      if 1 < (x1 - x1 / 5 * 5) - (x3 - x3 / 5 * 5) then mr_nb x1 n x2 (x3 + 1) else
      if x1 = x3 then mr_nb x1 n x2 (x3 + 1) else mr_nb x1 n (x2 ||| ((1 : Int32) <<< (x3 &&& 31))) (x3 + 1)
theorem mr_5 {P : Prop} (p : P) : ¬ (5 : Int32) = 0 ∧ P := ⟨by decide, p⟩
theorem mr_nb_ok {post : Int32 → Prop} {x1 r : Int32} {f0_wanted f0_covered f0_groupCount f0_rest f0_cells f0_mines f0_decidedMines f0_decidedFree f0_clash : Int32} {a1 a2 a3 a4 a5 a6 a7 a8 a9 a10 : Nat → Int32} : ∀ (n : Nat) (x2 x3 : Int32), mr_nb x1 n x2 x3 = some r → (post r) → wX_neighboursOf_4 post x1 f0_wanted f0_covered f0_groupCount f0_rest f0_cells f0_mines f0_decidedMines f0_decidedFree f0_clash a1 a2 a3 a4 a5 a6 a7 a8 a9 a10 n x2 x3 := by
  intro n
  induction n with
  | zero => intro x2 x3 h hp; exact mr_no h
  | succ n ih =>
    intro x2 x3 h hp
    have k0 : mr_nb x1 n x2 (x3 + 1) = some r → wX_neighboursOf_61 post (wX_neighboursOf_4 post x1 f0_wanted f0_covered f0_groupCount f0_rest f0_cells f0_mines f0_decidedMines f0_decidedFree f0_clash a1 a2 a3 a4 a5 a6 a7 a8 a9 a10 n) x1 x2 x3 f0_wanted f0_covered f0_groupCount f0_rest f0_cells f0_mines f0_decidedMines f0_decidedFree f0_clash a1 a2 a3 a4 a5 a6 a7 a8 a9 a10 := fun h => br_t rfl (nm_e (ih _ _ h hp))
    have k1 : mr_nb x1 n (x2 ||| ((1 : Int32) <<< (x3 &&& 31))) (x3 + 1) = some r → wX_neighboursOf_62 post (wX_neighboursOf_4 post x1 f0_wanted f0_covered f0_groupCount f0_rest f0_cells f0_mines f0_decidedMines f0_decidedFree f0_clash a1 a2 a3 a4 a5 a6 a7 a8 a9 a10 n) x1 x2 x3 1 f0_wanted f0_covered f0_groupCount f0_rest f0_cells f0_mines f0_decidedMines f0_decidedFree f0_clash a1 a2 a3 a4 a5 a6 a7 a8 a9 a10 := fun h => br_f (by decide) (nm_e (nm_e (ih _ _ h hp)))
    exact mr_br h (fun h => by cases h; exact hp) (fun h => mr_5 (mr_5 (nm_e (mr_5 (mr_5 (nm_e (mr_br h k0 (fun h => mr_br h k0 (fun h => mr_br h k0 (fun h => mr_br h k0 (fun h => mr_br h k0 k1)))))))))))
theorem mr_nbOf_ok {post : Int32 → Prop} {r p0 : Int32} {u : St2} (h : mr_nb p0 21 0 0 = some r) (hp : post r) : wpX_neighboursOf post u p0 := by
  obtain ⟨f0_wanted, f0_covered, f0_groupCount, f0_rest, f0_cells, f0_mines, f0_decidedMines, f0_decidedFree, f0_clash, a1, a2, a3, a4, a5, a6, a7, a8, a9, a10⟩ := u
  exact Exists.intro 21 (mr_nb_ok 21 0 0 h hp)
def mr_i150 (x1 : Int32) : Nat → Int32 → List Int32 → Option (List Int32)
  | 0, _, _ => none
  | n + 1, x2, l => if x1 < x2 then some l else
      if mr_in (((21 * (x1 - 1)) + x2) - 1) 441 = true then (if mr_in ((21 * (x1 - 1)) + x2) 441 = true then (if mr_in ((21 * x1) + x2) 441 = true then
        mr_i150 x1 n (x2 + 1) (mr_set l ((21 * x1) + x2).toNatClampNeg ((mr_ar l (((21 * (x1 - 1)) + x2) - 1).toNatClampNeg) + (mr_ar l ((21 * (x1 - 1)) + x2).toNatClampNeg)))
      else none) else none) else none
theorem mr_i150_ok {post : St2 → Prop} {mc ms : Nat} {J132 : Int32 → (Nat → Int32) → (Nat → Int32) → (Nat → Int32) → (Nat → Int32) → (Nat → Int32) → (Nat → Int32) → (Nat → Int32) → (Nat → Int32) → (Nat → Int32) → (Nat → Int32) → Prop} {x1 : Int32} {kc ks : Nat} {f0_wanted f0_covered f0_groupCount f0_rest f0_cells f0_mines f0_decidedMines f0_decidedFree f0_clash : Int32} {a1 a2 a3 a4 a5 a6 a7 a9 a10 : Nat → Int32} {r : List Int32} : ∀ (n : Nat) (x2 : Int32) (l8 : List Int32), mr_i150 x1 n x2 l8 = some r → (J132 (x1 + 1) a1 a2 a3 a4 a5 a6 a7 (mr_ar r) a9 a10) → wX_init_150 post mc ms J132 x1 kc ks f0_wanted f0_covered f0_groupCount f0_rest f0_cells f0_mines f0_decidedMines f0_decidedFree f0_clash n x2 a1 a2 a3 a4 a5 a6 a7 (mr_ar l8) a9 a10 := by
  intro n
  induction n with
  | zero => intro x2 l8 h hp; exact mr_no h
  | succ n ih =>
    intro x2 l8 h hp
    exact mr_br h (fun h => nm_e (by cases h; exact hp)) (fun h => mr_g h (fun _ h => mr_g h (fun _ h => mr_g h (fun _ h => nm_r (mr_upd _ _ _) (nm_e (ih _ _ h hp))))))
def mr_i132 : Nat → Int32 → List Int32 → Option (List Int32)
  | 0, _, _ => none
  | n + 1, x1, l => if 21 ≤ x1 then some l else
      if mr_in (21 * x1) 441 = true then (mr_i150 x1 22 1 (mr_set l (21 * x1).toNatClampNeg 1)).bind (fun q => mr_i132 n (x1 + 1) q) else none
theorem mr_i132_ok {post : St2 → Prop} {mc ms : Nat} {kc ks : Nat} {f0_wanted f0_covered f0_groupCount f0_rest f0_cells f0_mines f0_decidedMines f0_decidedFree f0_clash : Int32} {a1 a2 a3 a4 a5 a6 a7 a9 a10 : Nat → Int32} {r : List Int32} : ∀ (n : Nat) (x1 : Int32) (l8 : List Int32), mr_i132 n x1 l8 = some r → (post (f0_wanted, f0_covered, f0_groupCount, f0_rest, f0_cells, f0_mines, f0_decidedMines, f0_decidedFree, f0_clash, a1, a2, a3, a4, a5, a6, a7, mr_ar r, a9, a10)) → wX_init_132 post mc ms kc ks f0_wanted f0_covered f0_groupCount f0_rest f0_cells f0_mines f0_decidedMines f0_decidedFree f0_clash n x1 a1 a2 a3 a4 a5 a6 a7 (mr_ar l8) a9 a10 := by
  intro n
  induction n with
  | zero => intro x1 l8 h hp; exact mr_no h
  | succ n ih =>
    intro x1 l8 h hp
    exact mr_br h (fun h => by cases h; exact hp) (fun h => mr_g h (fun _ h => nm_r (mr_upd _ _ _) (mr_bd h (fun q e h => Exists.intro 22 (mr_i150_ok 22 1 _ e (ih _ _ h hp))))))
def mr_i100 : Nat → Int32 → List Int32 → List Int32 → Option (List Int32 × List Int32)
  | 0, _, _, _ => none
  | n + 1, x1, l1, l2 => if 20 ≤ x1 then some (l1, l2) else
      if mr_in x1 20 = true then (mr_nb x1 21 0 0).bind (fun q => mr_i100 n (x1 + 1) (mr_set l1 x1.toNatClampNeg (-1)) (mr_set l2 x1.toNatClampNeg q)) else none
theorem mr_i100_ok {post : St2 → Prop} {mc ms : Nat} {kc ks : Nat} {f0_wanted f0_covered f0_groupCount f0_rest f0_cells f0_mines f0_decidedMines f0_decidedFree f0_clash : Int32} {a3 a4 a5 a6 a7 a8 a9 a10 : Nat → Int32} {r : List Int32 × List Int32} : ∀ (n : Nat) (x1 : Int32) (l1 l2 : List Int32), mr_i100 n x1 l1 l2 = some r → (∃ fu132 : Nat, wX_init_132 post mc ms kc ks f0_wanted f0_covered f0_groupCount f0_rest f0_cells f0_mines f0_decidedMines f0_decidedFree f0_clash fu132 0 (mr_ar r.1) (mr_ar r.2) a3 a4 a5 a6 a7 a8 a9 a10) → wX_init_100 post mc ms kc ks f0_wanted f0_covered f0_groupCount f0_rest f0_cells f0_mines f0_decidedMines f0_decidedFree f0_clash n x1 (mr_ar l1) (mr_ar l2) a3 a4 a5 a6 a7 a8 a9 a10 := by
  intro n
  induction n with
  | zero => intro x1 l1 l2 h hp; exact mr_no h
  | succ n ih =>
    intro x1 l1 l2 h hp
    exact mr_br h (fun h => by cases h; exact hp) (fun h => mr_g h (fun g h => nm_r (mr_upd _ _ _) (mr_bd h (fun q e h => mr_nbOf_ok e (And.intro g (nm_r (mr_upd _ _ _) (nm_e (ih _ _ _ h hp))))))))
theorem mr_init_ok {post : St2 → Prop} {r1 : List Int32 × List Int32} {r8 : List Int32} {f0_wanted f0_covered f0_groupCount f0_rest f0_cells f0_mines f0_decidedMines f0_decidedFree f0_clash : Int32} (h1 : mr_i100 21 0 [] [] = some r1) (h8 : mr_i132 22 0 [] = some r8)
    (hp : post (-1, 1048575, f0_groupCount, f0_rest, f0_cells, f0_mines, f0_decidedMines, f0_decidedFree, f0_clash, mr_ar r1.1, mr_ar r1.2, mr_ar [], mr_ar [], mr_ar [], mr_ar [], mr_ar [], mr_ar r8, mr_ar [], mr_ar [])) : wpX_init post 10 1424 (f0_wanted, f0_covered, f0_groupCount, f0_rest, f0_cells, f0_mines, f0_decidedMines, f0_decidedFree, f0_clash) := by
  have H : ∃ fu100 : Nat, wX_init_100 post 10 1424 10 1424 (-1) 1048575 f0_groupCount f0_rest f0_cells f0_mines f0_decidedMines f0_decidedFree f0_clash fu100 0 (mr_ar []) (mr_ar []) (mr_ar []) (mr_ar []) (mr_ar []) (mr_ar []) (mr_ar []) (mr_ar []) (mr_ar []) (mr_ar []) :=
    Exists.intro 21 (mr_i100_ok 21 0 [] [] h1 (Exists.intro 22 (mr_i132_ok 22 0 [] h8 hp)))
  rw [← mr_nil] at H
  have d : ∀ (a b : Nat) (Q : Prop), a ≤ b → Q → a ≤ b ∧ Q := fun _ _ _ x y => ⟨x, y⟩
  exact d _ _ _ (by decide) (d _ _ _ (by decide) (d _ _ _ (by decide) (d _ _ _ (by decide) (d _ _ _ (by decide) (d _ _ _ (by decide) (d _ _ _ (by decide) (d _ _ _ (by decide) (d _ _ _ (by decide) (d _ _ _ (by decide) (d _ _ _ (by decide) (d _ _ _ (by decide) (d _ _ _ (by decide) (d _ _ _ (by decide) (d _ _ _ (by decide) (d _ _ _ (by decide) (d _ _ _ (by decide) (d _ _ _ (by decide) (d _ _ _ (by decide) (d _ _ _ (by decide) H)))))))))))))))))))
end
section
def mr_rf (l1 : List Int32) : Nat → Int32 → Int32 → Option Int32
  | 0, _, _ => none
  | n + 1, x1, cov => if 20 ≤ x1 then some cov else
      if mr_in x1 20 = true then (if (mr_ar l1 x1.toNatClampNeg) = (-1) then mr_rf l1 n (x1 + 1) (cov ||| ((1 : Int32) <<< (x1 &&& 31))) else mr_rf l1 n (x1 + 1) cov) else none
theorem mr_rf_ok {post : St2 → Prop} {f0_wanted f0_groupCount f0_rest f0_cells f0_mines f0_decidedMines f0_decidedFree f0_clash : Int32} {a2 a3 a4 a5 a6 a7 a8 a9 a10 : Nat → Int32} {l1 : List Int32} {r : Int32} : ∀ (n : Nat) (x1 cov : Int32), mr_rf l1 n x1 cov = some r → (post (f0_wanted, r, f0_groupCount, f0_rest, f0_cells, f0_mines, f0_decidedMines, f0_decidedFree, f0_clash, (mr_ar l1), a2, a3, a4, a5, a6, a7, a8, a9, a10)) → wX_refresh_7 post f0_wanted f0_groupCount f0_rest f0_cells f0_mines f0_decidedMines f0_decidedFree f0_clash (mr_ar l1) a2 a3 a4 a5 a6 a7 a8 a9 a10 n x1 cov := by
  intro n
  induction n with
  | zero => intro x1 cov h hp; exact mr_no h
  | succ n ih =>
    intro x1 cov h hp
    exact mr_br h (fun h => by cases h; exact hp) (fun h => mr_g h (fun _ h => mr_br h (fun h => nm_e (nm_e (ih _ _ h hp))) (fun h => nm_e (ih _ _ h hp))))
def mr_show (l1 : List Int32) (p0 p1 : Int32) : Option (Int32 × List Int32) :=
  if mr_bad p0 = 0 then (if p1 < 0 then none else if p1 ≤ 8 then (if mr_in p0 20 = true then (mr_rf (mr_set l1 p0.toNatClampNeg p1) 21 0 0).bind (fun q => some (q, mr_set l1 p0.toNatClampNeg p1)) else none) else none) else none
theorem mr_show_ok {post : Int32 → St2 → Prop} {f0_wanted f0_covered f0_groupCount f0_rest f0_cells f0_mines f0_decidedMines f0_decidedFree f0_clash : Int32} {a2 a3 a4 a5 a6 a7 a8 a9 a10 : Nat → Int32} {l1 : List Int32} {p0 p1 : Int32} {r : Int32 × List Int32} (h : mr_show l1 p0 p1 = some r) (hp : ∀ q : Int32, post q (f0_wanted, r.1, f0_groupCount, f0_rest, f0_cells, f0_mines, f0_decidedMines, f0_decidedFree, f0_clash, mr_ar r.2, a2, a3, a4, a5, a6, a7, a8, a9, a10)) : wpX_show post (f0_wanted, f0_covered, f0_groupCount, f0_rest, f0_cells, f0_mines, f0_decidedMines, f0_decidedFree, f0_clash, (mr_ar l1), a2, a3, a4, a5, a6, a7, a8, a9, a10) p0 p1 := by
  unfold wpX_show
  refine mr_bad_ok ?_
  refine mr_br h (fun h => mr_br h (fun h => mr_no h) (fun h => mr_br h (fun h => mr_g h (fun g h => nm_e (And.intro g (nm_r (mr_upd _ _ _) (mr_bd h (fun q e h => ?_)))))) (fun h => mr_no h))) (fun h => mr_no h)
  cases h
  exact Exists.intro 21 (mr_rf_ok 21 0 0 e (br_c (fun _ => hp _) (fun _ => hp _)))
def mr_lk (l1 l2 : List Int32) (cov x1 : Int32) : Nat → Int32 → Int32 → Option Int32
  | 0, _, _ => none
  | n + 1, x2, x3 => if 20 ≤ x3 then some x2 else
      if mr_in x3 20 = true then (if (mr_ar l1 x3.toNatClampNeg) = (-1) then mr_lk l1 l2 cov x1 n x2 (x3 + 1) else
        if (((mr_ar l2 x3.toNatClampNeg) &&& cov) &&& x1) = 0 then mr_lk l1 l2 cov x1 n x2 (x3 + 1) else mr_lk l1 l2 cov x1 n (x2 ||| ((mr_ar l2 x3.toNatClampNeg) &&& cov)) (x3 + 1)) else none
theorem mr_lk_ok {post : Int32 → Prop} {x1 r : Int32} {f0_wanted f0_covered f0_groupCount f0_rest f0_cells f0_mines f0_decidedMines f0_decidedFree f0_clash : Int32} {a3 a4 a5 a6 a7 a8 a9 a10 : Nat → Int32} {l1 l2 : List Int32} : ∀ (n : Nat) (x2 x3 : Int32), mr_lk l1 l2 f0_covered x1 n x2 x3 = some r → (post r) → wX_linkedTo_4 post x1 f0_wanted f0_covered f0_groupCount f0_rest f0_cells f0_mines f0_decidedMines f0_decidedFree f0_clash (mr_ar l1) (mr_ar l2) a3 a4 a5 a6 a7 a8 a9 a10 n x2 x3 := by
  intro n
  induction n with
  | zero => intro x2 x3 h hp; exact mr_no h
  | succ n ih =>
    intro x2 x3 h hp
    exact mr_br h (fun h => by cases h; exact hp) (fun h => mr_g h (fun g h => mr_br h (fun h => nm_e (ih _ _ h hp)) (fun h => And.intro g (mr_br h (fun h => nm_e (ih _ _ h hp)) (fun h => And.intro g (nm_e (nm_e (ih _ _ h hp))))))))
theorem mr_lkTo_ok {post : Int32 → Prop} {p0 r : Int32} {f0_wanted f0_covered f0_groupCount f0_rest f0_cells f0_mines f0_decidedMines f0_decidedFree f0_clash : Int32} {a3 a4 a5 a6 a7 a8 a9 a10 : Nat → Int32} {l1 l2 : List Int32} (h : mr_lk l1 l2 f0_covered p0 21 p0 0 = some r) (hp : post r) : wpX_linkedTo post (f0_wanted, f0_covered, f0_groupCount, f0_rest, f0_cells, f0_mines, f0_decidedMines, f0_decidedFree, f0_clash, (mr_ar l1), (mr_ar l2), a3, a4, a5, a6, a7, a8, a9, a10) p0 :=
  Exists.intro 21 (mr_lk_ok 21 p0 0 h hp)
def mr_f84 (l1 l2 : List Int32) (cov : Int32) : Nat → Int32 → Int32 → Option Int32
  | 0, _, _ => none
  | n + 1, x4, x5 => if 20 ≤ x5 then some x4 else (mr_lk l1 l2 cov x4 21 x4 0).bind (fun q => mr_f84 l1 l2 cov n q (x5 + 1))
theorem mr_f84_ok {post : St2 → Prop} {J65 : Int32 → Int32 → Int32 → (Nat → Int32) → (Nat → Int32) → (Nat → Int32) → (Nat → Int32) → (Nat → Int32) → (Nat → Int32) → (Nat → Int32) → (Nat → Int32) → (Nat → Int32) → (Nat → Int32) → Prop} {x2 x3 r : Int32} {f0_wanted f0_covered f0_groupCount f0_rest f0_cells f0_mines f0_decidedMines f0_decidedFree f0_clash : Int32} {a4 a5 a6 a7 a8 a9 a10 : Nat → Int32} {l1 l2 l3 : List Int32} : ∀ (n : Nat) (x4 x5 : Int32), mr_f84 l1 l2 f0_covered n x4 x5 = some r → vp_in f0_groupCount 20 → (J65 (x2 &&& (r ^^^ (-1))) (x3 + 1) (f0_groupCount + 1) (mr_ar l1) (mr_ar l2) (mr_ar (mr_set l3 f0_groupCount.toNatClampNeg r)) a4 a5 a6 a7 a8 a9 a10) → wX_findGroups_84 post J65 x2 x3 f0_wanted f0_covered f0_groupCount f0_rest f0_cells f0_mines f0_decidedMines f0_decidedFree f0_clash (mr_ar l1) (mr_ar l2) (mr_ar l3) a4 a5 a6 a7 a8 a9 a10 n x4 x5 := by
  intro n
  induction n with
  | zero => intro x4 x5 h hg hp; exact mr_no h
  | succ n ih =>
    intro x4 x5 h hg hp
    exact mr_br h (fun h => by cases h; exact And.intro hg (nm_r (mr_upd _ _ _) (nm_e (nm_e (nm_e hp))))) (fun h => mr_bd h (fun q e h => mr_lkTo_ok e (nm_e (ih _ _ h hg hp))))
def mr_f65 (l1 l2 : List Int32) (cov : Int32) : Nat → Int32 → Int32 → Int32 → List Int32 → Option (Int32 × List Int32)
  | 0, _, _, _, _ => none
  | n + 1, x2, x3, gc, l3 => if 20 ≤ x3 then some (gc, l3) else if x2 = 0 then some (gc, l3) else
      if mr_in gc 20 = true then (mr_f84 l1 l2 cov 21 (x2 &&& (-x2)) 0).bind (fun q => mr_f65 l1 l2 cov n (x2 &&& (q ^^^ (-1))) (x3 + 1) (gc + 1) (mr_set l3 gc.toNatClampNeg q)) else none
theorem mr_f65_ok {post : St2 → Prop} {r : Int32 × List Int32} {f0_wanted f0_covered f0_rest f0_cells f0_mines f0_decidedMines f0_decidedFree f0_clash : Int32} {a4 a5 a6 a7 a8 a9 a10 : Nat → Int32} {l1 l2 : List Int32} : ∀ (n : Nat) (x2 x3 gc : Int32) (l3 : List Int32), mr_f65 l1 l2 f0_covered n x2 x3 gc l3 = some r → (post (f0_wanted, f0_covered, r.1, f0_rest, f0_cells, f0_mines, f0_decidedMines, f0_decidedFree, f0_clash, (mr_ar l1), (mr_ar l2), mr_ar r.2, a4, a5, a6, a7, a8, a9, a10)) → wX_findGroups_65 post f0_wanted f0_covered f0_rest f0_cells f0_mines f0_decidedMines f0_decidedFree f0_clash n x2 x3 gc (mr_ar l1) (mr_ar l2) (mr_ar l3) a4 a5 a6 a7 a8 a9 a10 := by
  intro n
  induction n with
  | zero => intro x2 x3 gc l3 h hp; exact mr_no h
  | succ n ih =>
    intro x2 x3 gc l3 h hp
    exact mr_br h (fun h => by cases h; exact hp) (fun h => mr_br h (fun h => by cases h; exact hp) (fun h => nm_e (mr_gg h (fun g h => mr_bd h (fun q e h => Exists.intro 21 (mr_f84_ok 21 _ 0 e g (ih _ _ _ _ h hp)))))))
def mr_f9 (l1 l2 : List Int32) (cov : Int32) : Nat → Int32 → Int32 → Option Int32
  | 0, _, _ => none
  | n + 1, x1, x2 => if 20 ≤ x2 then some x1 else
      if mr_in x2 20 = true then (if (mr_ar l1 x2.toNatClampNeg) = (-1) then mr_f9 l1 l2 cov n x1 (x2 + 1) else mr_f9 l1 l2 cov n (x1 ||| ((mr_ar l2 x2.toNatClampNeg) &&& cov)) (x2 + 1)) else none
theorem mr_f9_ok {post : St2 → Prop} {r : Int32} {f0_wanted f0_covered f0_groupCount f0_rest f0_cells f0_mines f0_decidedMines f0_decidedFree f0_clash : Int32} {a3 a4 a5 a6 a7 a8 a9 a10 : Nat → Int32} {l1 l2 : List Int32} : ∀ (n : Nat) (x1 x2 : Int32), mr_f9 l1 l2 f0_covered n x1 x2 = some r → (∃ fu65 : Nat, wX_findGroups_65 post f0_wanted f0_covered (f0_covered &&& (r ^^^ (-1))) f0_cells f0_mines f0_decidedMines f0_decidedFree f0_clash fu65 r 0 f0_groupCount (mr_ar l1) (mr_ar l2) a3 a4 a5 a6 a7 a8 a9 a10) → wX_findGroups_9 post f0_wanted f0_covered f0_groupCount f0_rest f0_cells f0_mines f0_decidedMines f0_decidedFree f0_clash (mr_ar l1) (mr_ar l2) a3 a4 a5 a6 a7 a8 a9 a10 n x1 x2 := by
  intro n
  induction n with
  | zero => intro x1 x2 h hp; exact mr_no h
  | succ n ih =>
    intro x1 x2 h hp
    exact mr_br h (fun h => by cases h; exact nm_e hp) (fun h => mr_g h (fun g h => mr_br h (fun h => nm_e (ih _ _ h hp)) (fun h => And.intro g (nm_e (nm_e (ih _ _ h hp))))))
/-- findGroups: groupCount, rest, groupSet -/
def mr_fg (l1 l2 : List Int32) (cov : Int32) (l3 : List Int32) : Option (Int32 × Int32 × List Int32) :=
  (mr_f9 l1 l2 cov 21 0 0).bind (fun e => (mr_f65 l1 l2 cov 21 e 0 0 l3).bind (fun q => some (q.1, cov &&& (e ^^^ (-1)), q.2)))
theorem mr_fg_ok {post : St2 → Prop} {r : Int32 × Int32 × List Int32} {f0_wanted f0_covered f0_groupCount f0_rest f0_cells f0_mines f0_decidedMines f0_decidedFree f0_clash : Int32} {a4 a5 a6 a7 a8 a9 a10 : Nat → Int32} {l1 l2 l3 : List Int32} (h : mr_fg l1 l2 f0_covered l3 = some r) (hp : post (f0_wanted, f0_covered, r.1, r.2.1, f0_cells, f0_mines, f0_decidedMines, f0_decidedFree, f0_clash, (mr_ar l1), (mr_ar l2), mr_ar r.2.2, a4, a5, a6, a7, a8, a9, a10)) : wpX_findGroups post (f0_wanted, f0_covered, f0_groupCount, f0_rest, f0_cells, f0_mines, f0_decidedMines, f0_decidedFree, f0_clash, (mr_ar l1), (mr_ar l2), (mr_ar l3), a4, a5, a6, a7, a8, a9, a10) := by
  refine mr_bd h (fun e h1 h => mr_bd h (fun q h2 h => ?_))
  cases h
  exact Exists.intro 21 (mr_f9_ok 21 0 0 h1 (Exists.intro 21 (mr_f65_ok 21 _ _ _ _ h2 hp)))
def mr_e39 (l1 : List Int32) (x1 x2 z0 : Int32) : Int32 := if x1 = 0 then 0 else if z0 = 0 then 1 else if (mr_ar l1 x2.toNatClampNeg) = 0 then 1 else 0
theorem mr_e39_ok {post : Int32 → Prop} {J4 : Int32 → Int32 → Prop} {x1 x2 z0 : Int32} {f0_wanted f0_covered f0_groupCount f0_rest f0_cells f0_mines f0_decidedMines f0_decidedFree f0_clash : Int32} {a2 a3 a4 a5 a6 a7 a8 a9 a10 : Nat → Int32} {l1 : List Int32} (g : vp_in x2 20) (hp : J4 (mr_e39 l1 x1 x2 z0) (x2 + 1)) : wX_emptyCluesGood_39 post J4 x1 x2 z0 f0_wanted f0_covered f0_groupCount f0_rest f0_cells f0_mines f0_decidedMines f0_decidedFree f0_clash (mr_ar l1) a2 a3 a4 a5 a6 a7 a8 a9 a10 := by
  refine br_c (fun c => nm_e ?_) (fun c => br_c (fun d => nm_e ?_) (fun d => And.intro g (br_c (fun f => nm_e ?_) (fun f => nm_e ?_))))
  · have e : mr_e39 l1 x1 x2 z0 = 0 := if_pos c
    rw [e] at hp
    exact hp
  · have e : mr_e39 l1 x1 x2 z0 = 1 := (if_neg c).trans (if_pos d)
    rw [e] at hp
    exact hp
  · have e : mr_e39 l1 x1 x2 z0 = 1 := (if_neg c).trans ((if_neg d).trans (if_pos f))
    rw [e] at hp
    exact hp
  · have e : mr_e39 l1 x1 x2 z0 = 0 := (if_neg c).trans ((if_neg d).trans (if_neg f))
    rw [e] at hp
    exact hp
def mr_ec (l1 l2 : List Int32) (cov : Int32) : Nat → Int32 → Int32 → Option Int32
  | 0, _, _ => none
  | n + 1, x1, x2 => if 20 ≤ x2 then (if x1 &&& 1 = x1 then some x1 else none) else
      if mr_in x2 20 = true then (if (mr_ar l1 x2.toNatClampNeg) = (-1) then mr_ec l1 l2 cov n (mr_e39 l1 x1 x2 0) (x2 + 1) else
        if ((mr_ar l2 x2.toNatClampNeg) &&& cov) = 0 then mr_ec l1 l2 cov n (mr_e39 l1 x1 x2 1) (x2 + 1) else mr_ec l1 l2 cov n (mr_e39 l1 x1 x2 0) (x2 + 1)) else none
theorem mr_ec_ok {post : Int32 → Prop} {r : Int32} {f0_wanted f0_covered f0_groupCount f0_rest f0_cells f0_mines f0_decidedMines f0_decidedFree f0_clash : Int32} {a3 a4 a5 a6 a7 a8 a9 a10 : Nat → Int32} {l1 l2 : List Int32} : ∀ (n : Nat) (x1 x2 : Int32), mr_ec l1 l2 f0_covered n x1 x2 = some r → (post r) → wX_emptyCluesGood_4 post f0_wanted f0_covered f0_groupCount f0_rest f0_cells f0_mines f0_decidedMines f0_decidedFree f0_clash (mr_ar l1) (mr_ar l2) a3 a4 a5 a6 a7 a8 a9 a10 n x1 x2 := by
  intro n
  induction n with
  | zero => intro x1 x2 h hp; exact mr_no h
  | succ n ih =>
    intro x1 x2 h hp
    exact mr_br h (fun h => mr_nar h (fun h => by cases h; exact hp)) (fun h => mr_g h (fun g h => mr_br h (fun h => mr_e39_ok g (ih _ _ h hp)) (fun h => And.intro g (mr_br h (fun h => mr_e39_ok g (ih _ _ h hp)) (fun h => mr_e39_ok g (ih _ _ h hp))))))
theorem mr_ecOf_ok {post : Int32 → Prop} {r : Int32} {f0_wanted f0_covered f0_groupCount f0_rest f0_cells f0_mines f0_decidedMines f0_decidedFree f0_clash : Int32} {a3 a4 a5 a6 a7 a8 a9 a10 : Nat → Int32} {l1 l2 : List Int32} (h : mr_ec l1 l2 f0_covered 21 1 0 = some r) (hp : post r) : wpX_emptyCluesGood post (f0_wanted, f0_covered, f0_groupCount, f0_rest, f0_cells, f0_mines, f0_decidedMines, f0_decidedFree, f0_clash, (mr_ar l1), (mr_ar l2), a3, a4, a5, a6, a7, a8, a9, a10) :=
  Exists.intro 21 (mr_ec_ok 21 1 0 h hp)
end
section
def mr_lc (x1 : Int32) : Nat → Int32 → Int32 → List Int32 → Option (Int32 × List Int32)
  | 0, _, _, _ => none
  | n + 1, x2, cells, l9 => if 20 ≤ x2 then some (cells, l9) else
      if mr_has x1 x2 = 0 then mr_lc x1 n (x2 + 1) cells l9 else
        if mr_in cells 20 = true then mr_lc x1 n (x2 + 1) (cells + 1) (mr_set l9 cells.toNatClampNeg x2) else none
theorem mr_lc_ok {post : St2 → Prop} {x1 : Int32} {r : Int32 × List Int32} {f0_wanted f0_covered f0_groupCount f0_rest f0_mines f0_decidedMines f0_decidedFree f0_clash : Int32} {a1 a2 a3 a4 a5 a6 a7 a8 a10 : Nat → Int32} : ∀ (n : Nat) (x2 cells : Int32) (l9 : List Int32), mr_lc x1 n x2 cells l9 = some r → (post (f0_wanted, f0_covered, f0_groupCount, f0_rest, r.1, f0_mines, f0_decidedMines, f0_decidedFree, f0_clash, a1, a2, a3, a4, a5, a6, a7, a8, mr_ar r.2, a10)) → wX_listCells_7 post x1 f0_wanted f0_covered f0_groupCount f0_rest f0_mines f0_decidedMines f0_decidedFree f0_clash n x2 cells a1 a2 a3 a4 a5 a6 a7 a8 (mr_ar l9) a10 := by
  intro n
  induction n with
  | zero => intro x2 cells l9 h hp; exact mr_no h
  | succ n ih =>
    intro x2 cells l9 h hp
    exact mr_br h (fun h => by cases h; exact hp) (fun h => mr_has_ok (mr_br h (fun h => nm_e (ih _ _ _ h hp)) (fun h => mr_g h (fun _ h => nm_r (mr_upd _ _ _) (nm_e (nm_e (ih _ _ _ h hp)))))))
def mr_of (cells : Int32) (l9 : List Int32) : Nat → Int32 → Int32 → Option Int32
  | 0, _, _ => none
  | n + 1, x2, x3 => if cells ≤ x3 then some x2 else
      if mr_in x3 20 = true then mr_of cells l9 n (x2 ||| ((1 : Int32) <<< ((mr_ar l9 x3.toNatClampNeg) &&& 31))) (x3 + 1) else none
theorem mr_of_ok {post : Int32 → Prop} {r : Int32} {f0_wanted f0_covered f0_groupCount f0_rest f0_cells f0_mines f0_decidedMines f0_decidedFree f0_clash : Int32} {a1 a2 a3 a4 a5 a6 a7 a8 a10 : Nat → Int32} {l9 : List Int32} : ∀ (n : Nat) (x2 x3 : Int32), mr_of f0_cells l9 n x2 x3 = some r → (post r) → wX_openFrom_4 post f0_wanted f0_covered f0_groupCount f0_rest f0_cells f0_mines f0_decidedMines f0_decidedFree f0_clash a1 a2 a3 a4 a5 a6 a7 a8 (mr_ar l9) a10 n x2 x3 := by
  intro n
  induction n with
  | zero => intro x2 x3 h hp; exact mr_no h
  | succ n ih =>
    intro x2 x3 h hp
    exact mr_br h (fun h => by cases h; exact hp) (fun h => mr_g h (fun _ h => nm_e (nm_e (ih _ _ h hp))))
def mr_cm (l1 l2 : List Int32) (mines p0 p1 : Int32) : Option Int32 :=
  if mr_in p0 20 = true then (mr_bitsOf ((mr_ar l2 p0.toNatClampNeg) &&& mines)).bind (fun r2 => (mr_bitsOf ((mr_ar l2 p0.toNatClampNeg) &&& p1)).bind (fun r4 =>
    if (mr_ar l1 p0.toNatClampNeg) < r2 then some 0 else if (r2 + r4) < (mr_ar l1 p0.toNatClampNeg) then some 0 else some 1)) else none
theorem mr_cm_ok {post : Int32 → Prop} {p0 p1 r : Int32} {f0_wanted f0_covered f0_groupCount f0_rest f0_cells f0_mines f0_decidedMines f0_decidedFree f0_clash : Int32} {a3 a4 a5 a6 a7 a8 a9 a10 : Nat → Int32} {l1 l2 : List Int32} (h : mr_cm l1 l2 f0_mines p0 p1 = some r) (hp : post r) : wpX_canMeet post (f0_wanted, f0_covered, f0_groupCount, f0_rest, f0_cells, f0_mines, f0_decidedMines, f0_decidedFree, f0_clash, (mr_ar l1), (mr_ar l2), a3, a4, a5, a6, a7, a8, a9, a10) p0 p1 :=
  mr_g h (fun g h => mr_bd h (fun r2 e2 h => mr_bitsOf_ok e2 (And.intro g (mr_bd h (fun r4 e4 h => mr_bitsOf_ok e4 (And.intro g (mr_br h (fun h => by cases h; exact hp) (fun h => And.intro g (mr_br h (fun h => by cases h; exact hp) (fun h => by cases h; exact hp)))))))))) 
def mr_cs (l1 l2 : List Int32) (mines x1 x2 : Int32) : Nat → Int32 → Int32 → Option Int32
  | 0, _, _ => none
  | n + 1, x3, x4 => if 20 ≤ x4 then (if x3 &&& 1 = x3 then some x3 else none) else if x3 = 0 then (if x3 &&& 1 = x3 then some x3 else none) else
      if mr_in x4 20 = true then (if (mr_ar l1 x4.toNatClampNeg) = (-1) then mr_cs l1 l2 mines x1 x2 n 1 (x4 + 1) else
        if mr_has (mr_ar l2 x4.toNatClampNeg) x1 = 0 then mr_cs l1 l2 mines x1 x2 n 1 (x4 + 1) else
        (mr_cm l1 l2 mines x4 x2).bind (fun q => if q = 0 then mr_cs l1 l2 mines x1 x2 n 0 (x4 + 1) else mr_cs l1 l2 mines x1 x2 n 1 (x4 + 1))) else none
theorem mr_cs_ok {post : Int32 → Prop} {x1 x2 r : Int32} {f0_wanted f0_covered f0_groupCount f0_rest f0_cells f0_mines f0_decidedMines f0_decidedFree f0_clash : Int32} {a3 a4 a5 a6 a7 a8 a9 a10 : Nat → Int32} {l1 l2 : List Int32} : ∀ (n : Nat) (x3 x4 : Int32), mr_cs l1 l2 f0_mines x1 x2 n x3 x4 = some r → (post r) → wX_canStand_5 post x1 x2 f0_wanted f0_covered f0_groupCount f0_rest f0_cells f0_mines f0_decidedMines f0_decidedFree f0_clash (mr_ar l1) (mr_ar l2) a3 a4 a5 a6 a7 a8 a9 a10 n x3 x4 := by
  intro n
  induction n with
  | zero => intro x3 x4 h hp; exact mr_no h
  | succ n ih =>
    intro x3 x4 h hp
    exact mr_br h (fun h => mr_nar h (fun h => by cases h; exact hp)) (fun h => mr_br h (fun h => mr_nar h (fun h => by cases h; exact hp)) (fun h => mr_g h (fun g h => mr_br h (fun h => nm_e (ih _ _ h hp)) (fun h => And.intro g (mr_has_ok (mr_br h (fun h => nm_e (ih _ _ h hp)) (fun h => mr_bd h (fun q e h => mr_cm_ok e (mr_br h (fun h => nm_e (ih _ _ h hp)) (fun h => nm_e (ih _ _ h hp)))))))))))
def mr_t38 (cells : Int32) (l1 l2 l9 l10 : List Int32) (x1 x2 z0 : Int32) : Option (Int32 × Int32 × List Int32) :=
  if mr_in x1 21 = true then (mr_of cells l9 21 0 (x1 + 1)).bind (fun r8 => (mr_cs l1 l2 z0 x2 r8 21 1 0).bind (fun r9 =>
    if r9 = 0 then some (x1, z0, mr_set l10 x1.toNatClampNeg ((mr_ar l10 x1.toNatClampNeg) + 1)) else
      if mr_in (x1 + 1) 21 = true then some (x1 + 1, z0, mr_set (mr_set l10 x1.toNatClampNeg ((mr_ar l10 x1.toNatClampNeg) + 1)) (x1 + 1).toNatClampNeg 0) else none)) else none
theorem mr_t81_ok {post : Int32 → St2 → Prop} {x1 x3 : Int32} {f0_wanted f0_covered f0_groupCount f0_rest f0_cells f0_mines f0_decidedMines f0_decidedFree f0_clash : Int32} {a1 a2 a3 a4 a5 a6 a7 a8 a9 a10 : Nat → Int32} (h0 : x3 = 0 → post x1 (f0_wanted, f0_covered, f0_groupCount, f0_rest, f0_cells, f0_mines, f0_decidedMines, f0_decidedFree, f0_clash, a1, a2, a3, a4, a5, a6, a7, a8, a9, a10)) (h1 : ¬ x3 = 0 → post (x1 + 1) (f0_wanted, f0_covered, f0_groupCount, f0_rest, f0_cells, f0_mines, f0_decidedMines, f0_decidedFree, f0_clash, a1, a2, a3, a4, a5, a6, a7, a8, a9, a10)) : wX_tryCell_81 post x1 x3 f0_wanted f0_covered f0_groupCount f0_rest f0_cells f0_mines f0_decidedMines f0_decidedFree f0_clash a1 a2 a3 a4 a5 a6 a7 a8 a9 a10 := br_c h0 h1
theorem mr_t38_ok {post : Int32 → St2 → Prop} {x1 x2 z0 : Int32} {r : Int32 × Int32 × List Int32} {f0_wanted f0_covered f0_groupCount f0_rest f0_cells f0_mines f0_decidedMines f0_decidedFree f0_clash : Int32} {a3 a4 a5 a6 a7 a8 : Nat → Int32} {l1 l2 l9 l10 : List Int32} (h : mr_t38 f0_cells l1 l2 l9 l10 x1 x2 z0 = some r)
    (hp : post r.1 (f0_wanted, f0_covered, f0_groupCount, f0_rest, f0_cells, r.2.1, f0_decidedMines, f0_decidedFree, f0_clash, (mr_ar l1), (mr_ar l2), a3, a4, a5, a6, a7, a8, (mr_ar l9), mr_ar r.2.2)) : wX_tryCell_38 post x1 x2 z0 f0_wanted f0_covered f0_groupCount f0_rest f0_cells f0_mines f0_decidedMines f0_decidedFree f0_clash (mr_ar l1) (mr_ar l2) a3 a4 a5 a6 a7 a8 (mr_ar l9) (mr_ar l10) := by
  refine mr_g h (fun g h => And.intro g (nm_r (mr_upd _ _ _) (mr_bd h (fun r8 e8 h => Exists.intro 21 (mr_of_ok 21 0 _ e8 (mr_bd h (fun r9 e9 h => Exists.intro 21 (mr_cs_ok 21 1 0 e9 ?_))))))))
  by_cases c : r9 = 0
  · rw [if_pos c] at h
    cases h
    exact br_t c (mr_t81_ok (fun _ => hp) (fun d => absurd c d))
  · rw [if_neg c] at h
    refine br_f c (mr_g h (fun g h => nm_r (mr_upd _ _ _) ?_))
    cases h
    exact mr_t81_ok (fun d => absurd d c) (fun _ => hp)
def mr_tc (cells mines : Int32) (l1 l2 l9 l10 : List Int32) (p0 : Int32) : Option (Int32 × Int32 × List Int32) :=
  if mr_in p0 20 = true then (if mr_in p0 21 = true then (if (mr_ar l10 p0.toNatClampNeg) = 0 then mr_t38 cells l1 l2 l9 l10 p0 (mr_ar l9 p0.toNatClampNeg) (mines &&& (((1 : Int32) <<< ((mr_ar l9 p0.toNatClampNeg) &&& 31)) ^^^ (-1)))
    else mr_t38 cells l1 l2 l9 l10 p0 (mr_ar l9 p0.toNatClampNeg) (mines ||| ((1 : Int32) <<< ((mr_ar l9 p0.toNatClampNeg) &&& 31)))) else none) else none
theorem mr_tc_ok {post : Int32 → St2 → Prop} {p0 : Int32} {r : Int32 × Int32 × List Int32} {f0_wanted f0_covered f0_groupCount f0_rest f0_cells f0_mines f0_decidedMines f0_decidedFree f0_clash : Int32} {a3 a4 a5 a6 a7 a8 : Nat → Int32} {l1 l2 l9 l10 : List Int32} (h : mr_tc f0_cells f0_mines l1 l2 l9 l10 p0 = some r)
    (hp : post r.1 (f0_wanted, f0_covered, f0_groupCount, f0_rest, f0_cells, r.2.1, f0_decidedMines, f0_decidedFree, f0_clash, (mr_ar l1), (mr_ar l2), a3, a4, a5, a6, a7, a8, (mr_ar l9), mr_ar r.2.2)) : wpX_tryCell post (f0_wanted, f0_covered, f0_groupCount, f0_rest, f0_cells, f0_mines, f0_decidedMines, f0_decidedFree, f0_clash, (mr_ar l1), (mr_ar l2), a3, a4, a5, a6, a7, a8, (mr_ar l9), (mr_ar l10)) p0 :=
  mr_g h (fun _ h => nm_e (mr_g h (fun _ h => mr_br h (fun h => mr_t38_ok h hp) (fun h => mr_t38_ok h hp))))
def mr_nw (g q mines : Int32) (l4 l5 : List Int32) : Option (List Int32 × List Int32) :=
  (mr_bitsOf mines).bind (fun b => if mr_in ((21 * g) + b) 420 = true then
    (if q = (-1) then some (mr_set l4 ((21 * g) + b).toNatClampNeg ((mr_ar l4 ((21 * g) + b).toNatClampNeg) + 1), l5) else
      if mr_has mines q = 0 then some (mr_set l4 ((21 * g) + b).toNatClampNeg ((mr_ar l4 ((21 * g) + b).toNatClampNeg) + 1), l5) else
      some (mr_set l4 ((21 * g) + b).toNatClampNeg ((mr_ar l4 ((21 * g) + b).toNatClampNeg) + 1), mr_set l5 ((21 * g) + b).toNatClampNeg ((mr_ar l5 ((21 * g) + b).toNatClampNeg) + 1))) else none)
theorem mr_nw_ok {post : St2 → Prop} {p0 p1 : Int32} {r : List Int32 × List Int32} {f0_wanted f0_covered f0_groupCount f0_rest f0_cells f0_mines f0_decidedMines f0_decidedFree f0_clash : Int32} {a1 a2 a3 a6 a7 a8 a9 a10 : Nat → Int32} {l4 l5 : List Int32} (h : mr_nw p0 p1 f0_mines l4 l5 = some r)
    (hp : post (f0_wanted, f0_covered, f0_groupCount, f0_rest, f0_cells, f0_mines, f0_decidedMines, f0_decidedFree, f0_clash, a1, a2, a3, mr_ar r.1, mr_ar r.2, a6, a7, a8, a9, a10)) : wpX_noteWay post (f0_wanted, f0_covered, f0_groupCount, f0_rest, f0_cells, f0_mines, f0_decidedMines, f0_decidedFree, f0_clash, a1, a2, a3, (mr_ar l4), (mr_ar l5), a6, a7, a8, a9, a10) p0 p1 := by
  unfold wpX_noteWay
  exact mr_bd h (fun b e h => mr_bitsOf_ok e (mr_g h (fun g h => And.intro g (nm_r (mr_upd _ _ _) (mr_br h (fun h => by cases h; exact hp) (fun h => mr_has_ok (mr_br h (fun h => by cases h; exact hp) (fun h => And.intro g (And.intro g (nm_r (mr_upd _ _ _) (by cases h; exact hp)))))))))))
def mr_fl (x1 x2 cells : Int32) (l1 l2 l9 : List Int32) : Nat → Int32 → Int32 → Int32 → List Int32 → List Int32 → List Int32 → Option (Int32 × List Int32 × List Int32 × List Int32)
  | 0, _, _, _, _, _, _ => none
  | n + 1, x3, x4, mines, l4, l5, l10 => if 5000000 ≤ x4 then some (mines, l4, l5, l10) else if x3 < 0 then some (mines, l4, l5, l10) else
      if x3 = cells then (mr_nw x1 x2 mines l4 l5).bind (fun q => mr_fl x1 x2 cells l1 l2 l9 n (x3 + (-1)) (x4 + 1) mines q.1 q.2 l10) else
      if mr_in x3 21 = true then (if (mr_ar l10 x3.toNatClampNeg) = 2 then
          (if mr_in x3 20 = true then mr_fl x1 x2 cells l1 l2 l9 n (x3 + (-1)) (x4 + 1) (mines &&& (((1 : Int32) <<< ((mr_ar l9 x3.toNatClampNeg) &&& 31)) ^^^ (-1))) l4 l5 l10 else none) else
          (mr_tc cells mines l1 l2 l9 l10 x3).bind (fun q => mr_fl x1 x2 cells l1 l2 l9 n q.1 (x4 + 1) q.2.1 l4 l5 q.2.2)) else none
theorem mr_fl_ok {post : St2 → Prop} {x1 x2 : Int32} {r : Int32 × List Int32 × List Int32 × List Int32} {f0_wanted f0_covered f0_groupCount f0_rest f0_cells f0_decidedMines f0_decidedFree f0_clash : Int32} {a3 a6 a7 a8 : Nat → Int32} {l1 l2 l9 : List Int32} : ∀ (n : Nat) (x3 x4 mines : Int32) (l4 l5 l10 : List Int32), mr_fl x1 x2 f0_cells l1 l2 l9 n x3 x4 mines l4 l5 l10 = some r → (post (f0_wanted, f0_covered, f0_groupCount, f0_rest, f0_cells, r.1, f0_decidedMines, f0_decidedFree, f0_clash, (mr_ar l1), (mr_ar l2), a3, mr_ar r.2.1, mr_ar r.2.2.1, a6, a7, a8, (mr_ar l9), mr_ar r.2.2.2)) →
      wX_fillGroup_65 post x1 x2 n x3 x4 f0_wanted f0_covered f0_groupCount f0_rest f0_cells mines f0_decidedMines f0_decidedFree f0_clash (mr_ar l1) (mr_ar l2) a3 (mr_ar l4) (mr_ar l5) a6 a7 a8 (mr_ar l9) (mr_ar l10) := by
  intro n
  induction n with
  | zero => intro x3 x4 mines l4 l5 l10 h hp; exact mr_no h
  | succ n ih =>
    intro x3 x4 mines l4 l5 l10 h hp
    exact mr_br h (fun h => by cases h; exact hp) (fun h => mr_br h (fun h => by cases h; exact hp) (fun h => mr_br h (fun h => mr_bd h (fun q e h => mr_nw_ok e (nm_e (nm_e (ih _ _ _ _ _ _ h hp)))))
      (fun h => mr_g h (fun _ h => mr_br h (fun h => mr_g h (fun _ h => nm_e (nm_e (nm_e (ih _ _ _ _ _ _ h hp))))) (fun h => mr_bd h (fun q e h => mr_tc_ok e (nm_e (ih _ _ _ _ _ _ h hp))))))))
def mr_f12 (x1 : Int32) : Nat → Int32 → List Int32 → List Int32 → Option (List Int32 × List Int32)
  | 0, _, _, _ => none
  | n + 1, x3, l4, l5 => if 21 ≤ x3 then some (l4, l5) else
      if mr_in ((21 * x1) + x3) 420 = true then mr_f12 x1 n (x3 + 1) (mr_set l4 ((21 * x1) + x3).toNatClampNeg 0) (mr_set l5 ((21 * x1) + x3).toNatClampNeg 0) else none
theorem mr_f12_ok {post : St2 → Prop} {x1 x2 : Int32} {r : List Int32 × List Int32} {f0_wanted f0_covered f0_groupCount f0_rest f0_cells f0_mines f0_decidedMines f0_decidedFree f0_clash : Int32} {a1 a2 a3 a6 a7 a8 a9 : Nat → Int32} {l10 : List Int32} : ∀ (n : Nat) (x3 : Int32) (l4 l5 : List Int32), mr_f12 x1 n x3 l4 l5 = some r → (∃ fu65 : Nat, wX_fillGroup_65 post x1 x2 fu65 0 0 f0_wanted f0_covered f0_groupCount f0_rest f0_cells 0 f0_decidedMines f0_decidedFree f0_clash a1 a2 a3 (mr_ar r.1) (mr_ar r.2) a6 a7 a8 a9 (mr_ar (mr_set l10 0 0))) →
      wX_fillGroup_12 post x1 x2 f0_wanted f0_covered f0_groupCount f0_rest f0_cells f0_mines f0_decidedMines f0_decidedFree f0_clash n x3 a1 a2 a3 (mr_ar l4) (mr_ar l5) a6 a7 a8 a9 (mr_ar l10) := by
  intro n
  induction n with
  | zero => intro x3 l4 l5 h hp; exact mr_no h
  | succ n ih =>
    intro x3 l4 l5 h hp
    exact mr_br h (fun h => nm_r (mr_upd _ _ _) (by cases h; exact hp)) (fun h => mr_g h (fun g h => nm_r (mr_upd _ _ _) (And.intro g (nm_r (mr_upd _ _ _) (nm_e (ih _ _ _ h hp))))))
/-- fillGroup: cells, mines, ways, waysWith, cellAt, stateAt -/
def mr_fill (g q : Int32) (l1 l2 l3 l4 l5 l9 l10 : List Int32) : Option (Int32 × Int32 × List Int32 × List Int32 × List Int32 × List Int32) :=
  if mr_in g 20 = true then (mr_lc (mr_ar l3 g.toNatClampNeg) 21 0 0 l9).bind (fun c => (mr_f12 g 22 0 l4 l5).bind (fun w => (mr_fl g q c.1 l1 l2 c.2 60 0 0 0 w.1 w.2 (mr_set l10 0 0)).bind (fun s =>
    some (c.1, s.1, s.2.1, s.2.2.1, c.2, s.2.2.2)))) else none
theorem mr_fill_ok {post : St2 → Prop} {p0 p1 : Int32} {r : Int32 × Int32 × List Int32 × List Int32 × List Int32 × List Int32} {f0_wanted f0_covered f0_groupCount f0_rest f0_cells f0_mines f0_decidedMines f0_decidedFree f0_clash : Int32} {a6 a7 a8 : Nat → Int32} {l1 l2 l3 l4 l5 l9 l10 : List Int32} (h : mr_fill p0 p1 l1 l2 l3 l4 l5 l9 l10 = some r)
    (hp : post (f0_wanted, f0_covered, f0_groupCount, f0_rest, r.1, r.2.1, f0_decidedMines, f0_decidedFree, f0_clash, (mr_ar l1), (mr_ar l2), (mr_ar l3), mr_ar r.2.2.1, mr_ar r.2.2.2.1, a6, a7, a8, mr_ar r.2.2.2.2.1, mr_ar r.2.2.2.2.2)) : wpX_fillGroup post (f0_wanted, f0_covered, f0_groupCount, f0_rest, f0_cells, f0_mines, f0_decidedMines, f0_decidedFree, f0_clash, (mr_ar l1), (mr_ar l2), (mr_ar l3), (mr_ar l4), (mr_ar l5), a6, a7, a8, (mr_ar l9), (mr_ar l10)) p0 p1 := by
  refine mr_g h (fun g h => mr_bd h (fun c ec h => mr_bd h (fun w ew h => mr_bd h (fun s es h => ?_))))
  cases h
  exact Exists.intro 21 (mr_lc_ok 21 _ _ _ ec (Exists.intro 22 (mr_f12_ok 22 _ _ _ ew (Exists.intro 60 (mr_fl_ok 60 _ _ _ _ _ _ es hp)))))
end
section
def mr_cp (l7 : List Int32) : Nat → Int32 → List Int32 → Option (List Int32)
  | 0, _, _ => none
  | n + 1, x3, l6 => if 21 ≤ x3 then some l6 else if mr_in x3 21 = true then mr_cp l7 n (x3 + 1) (mr_set l6 x3.toNatClampNeg (mr_ar l7 x3.toNatClampNeg)) else none
theorem mr_cpR_ok {post : St2 → Prop} {r : List Int32} {f0_wanted f0_covered f0_groupCount f0_rest f0_cells f0_mines f0_decidedMines f0_decidedFree f0_clash : Int32} {a1 a2 a3 a4 a5 a8 a9 a10 : Nat → Int32} {l7 : List Int32} : ∀ (n : Nat) (x3 : Int32) (l6 : List Int32), mr_cp l7 n x3 l6 = some r → post (f0_wanted, f0_covered, f0_groupCount, f0_rest, f0_cells, f0_mines, f0_decidedMines, f0_decidedFree, f0_clash, a1, a2, a3, a4, a5, mr_ar r, (mr_ar l7), a8, a9, a10) → wX_joinRest_116 post f0_wanted f0_covered f0_groupCount f0_rest f0_cells f0_mines f0_decidedMines f0_decidedFree f0_clash n x3 a1 a2 a3 a4 a5 (mr_ar l6) (mr_ar l7) a8 a9 a10 := by
  intro n
  induction n with
  | zero => intro x3 l6 h hp; exact mr_no h
  | succ n ih =>
    intro x3 l6 h hp
    exact mr_br h (fun h => by cases h; exact hp) (fun h => mr_g h (fun g h => And.intro g (nm_r (mr_upd _ _ _) (nm_e (ih _ _ h hp)))))
theorem mr_cpW_ok {post : St2 → Prop} {r : List Int32} {f0_wanted f0_covered f0_groupCount f0_rest f0_cells f0_mines f0_decidedMines f0_decidedFree f0_clash : Int32} {a1 a2 a3 a4 a5 a8 a9 a10 : Nat → Int32} {l7 : List Int32} : ∀ (n : Nat) (x3 : Int32) (l6 : List Int32), mr_cp l7 n x3 l6 = some r → post (f0_wanted, f0_covered, f0_groupCount, f0_rest, f0_cells, f0_mines, f0_decidedMines, f0_decidedFree, f0_clash, a1, a2, a3, a4, a5, mr_ar r, (mr_ar l7), a8, a9, a10) → wX_joinWays_116 post f0_wanted f0_covered f0_groupCount f0_rest f0_cells f0_mines f0_decidedMines f0_decidedFree f0_clash n x3 a1 a2 a3 a4 a5 (mr_ar l6) (mr_ar l7) a8 a9 a10 := by
  intro n
  induction n with
  | zero => intro x3 l6 h hp; exact mr_no h
  | succ n ih =>
    intro x3 l6 h hp
    exact mr_br h (fun h => by cases h; exact hp) (fun h => mr_g h (fun g h => And.intro g (nm_r (mr_upd _ _ _) (nm_e (ih _ _ h hp)))))
def mr_z7 : Nat → Int32 → List Int32 → Option (List Int32)
  | 0, _, _ => none
  | n + 1, x3, l7 => if 21 ≤ x3 then some l7 else if mr_in x3 21 = true then mr_z7 n (x3 + 1) (mr_set l7 x3.toNatClampNeg 0) else none
def mr_r43 (x1 x2 x3 : Int32) (l6 l8 : List Int32) : Nat → Int32 → List Int32 → Option (List Int32)
  | 0, _, _ => none
  | n + 1, x4, l7 => if x2 < x4 then some l7 else if 21 ≤ ((x4 + x3) + x1) then some l7 else
      if mr_in ((x3 + x4) + x1) 21 = true then (if mr_in x3 21 = true then (if mr_in ((21 * x2) + x4) 441 = true then
        mr_r43 x1 x2 x3 l6 l8 n (x4 + 1) (mr_set l7 ((x3 + x4) + x1).toNatClampNeg ((mr_ar l7 ((x3 + x4) + x1).toNatClampNeg) + ((mr_ar l6 x3.toNatClampNeg) * (mr_ar l8 ((21 * x2) + x4).toNatClampNeg)))) else none) else none) else none
theorem mr_r43_ok {post : St2 → Prop} {J34 : Int32 → (Nat → Int32) → (Nat → Int32) → (Nat → Int32) → (Nat → Int32) → (Nat → Int32) → (Nat → Int32) → (Nat → Int32) → (Nat → Int32) → (Nat → Int32) → (Nat → Int32) → Prop} {x1 x2 x3 : Int32} {r : List Int32} {f0_wanted f0_covered f0_groupCount f0_rest f0_cells f0_mines f0_decidedMines f0_decidedFree f0_clash : Int32} {a1 a2 a3 a4 a5 a9 a10 : Nat → Int32} {l6 l8 : List Int32} : ∀ (n : Nat) (x4 : Int32) (l7 : List Int32), mr_r43 x1 x2 x3 l6 l8 n x4 l7 = some r →
    J34 (x3 + 1) a1 a2 a3 a4 a5 (mr_ar l6) (mr_ar r) (mr_ar l8) a9 a10 → wX_joinRest_43 post J34 x1 x2 x3 f0_wanted f0_covered f0_groupCount f0_rest f0_cells f0_mines f0_decidedMines f0_decidedFree f0_clash n x4 a1 a2 a3 a4 a5 (mr_ar l6) (mr_ar l7) (mr_ar l8) a9 a10 := by
  intro n
  induction n with
  | zero => intro x4 l7 h hp; exact mr_no h
  | succ n ih =>
    intro x4 l7 h hp
    exact mr_br h (fun h => nm_e (by cases h; exact hp)) (fun h => mr_br h (fun h => nm_e (by cases h; exact hp)) (fun h => mr_g h (fun g h => mr_g h (fun _ h => mr_g h (fun _ h => And.intro g (nm_r (mr_upd _ _ _) (nm_e (ih _ _ h hp))))))))
def mr_r34 (x1 x2 : Int32) (l6 l8 : List Int32) : Nat → Int32 → List Int32 → Option (List Int32)
  | 0, _, _ => none
  | n + 1, x3, l7 => if 21 ≤ x3 then some l7 else (mr_r43 x1 x2 x3 l6 l8 22 0 l7).bind (fun q => mr_r34 x1 x2 l6 l8 n (x3 + 1) q)
theorem mr_r34_ok {post : St2 → Prop} {x1 x2 : Int32} {r : List Int32} {f0_wanted f0_covered f0_groupCount f0_rest f0_cells f0_mines f0_decidedMines f0_decidedFree f0_clash : Int32} {a1 a2 a3 a4 a5 a9 a10 : Nat → Int32} {l6 l8 : List Int32} : ∀ (n : Nat) (x3 : Int32) (l7 : List Int32), mr_r34 x1 x2 l6 l8 n x3 l7 = some r →
    (∃ fu116 : Nat, wX_joinRest_116 post f0_wanted f0_covered f0_groupCount f0_rest f0_cells f0_mines f0_decidedMines f0_decidedFree f0_clash fu116 0 a1 a2 a3 a4 a5 (mr_ar l6) (mr_ar r) (mr_ar l8) a9 a10) → wX_joinRest_34 post x1 x2 f0_wanted f0_covered f0_groupCount f0_rest f0_cells f0_mines f0_decidedMines f0_decidedFree f0_clash n x3 a1 a2 a3 a4 a5 (mr_ar l6) (mr_ar l7) (mr_ar l8) a9 a10 := by
  intro n
  induction n with
  | zero => intro x3 l7 h hp; exact mr_no h
  | succ n ih =>
    intro x3 l7 h hp
    exact mr_br h (fun h => by cases h; exact hp) (fun h => mr_bd h (fun q e h => Exists.intro 22 (mr_r43_ok 22 0 _ e (ih _ _ h hp))))
theorem mr_z7R_ok {post : St2 → Prop} {x1 x2 : Int32} {r : List Int32} {f0_wanted f0_covered f0_groupCount f0_rest f0_cells f0_mines f0_decidedMines f0_decidedFree f0_clash : Int32} {a1 a2 a3 a4 a5 a6 a8 a9 a10 : Nat → Int32} : ∀ (n : Nat) (x3 : Int32) (l7 : List Int32), mr_z7 n x3 l7 = some r →
    (∃ fu34 : Nat, wX_joinRest_34 post x1 x2 f0_wanted f0_covered f0_groupCount f0_rest f0_cells f0_mines f0_decidedMines f0_decidedFree f0_clash fu34 0 a1 a2 a3 a4 a5 a6 (mr_ar r) a8 a9 a10) → wX_joinRest_13 post x1 x2 f0_wanted f0_covered f0_groupCount f0_rest f0_cells f0_mines f0_decidedMines f0_decidedFree f0_clash n x3 a1 a2 a3 a4 a5 a6 (mr_ar l7) a8 a9 a10 := by
  intro n
  induction n with
  | zero => intro x3 l7 h hp; exact mr_no h
  | succ n ih =>
    intro x3 l7 h hp
    exact mr_br h (fun h => by cases h; exact hp) (fun h => mr_g h (fun g h => nm_r (mr_upd _ _ _) (nm_e (ih _ _ h hp))))
/-- joinRest: sum, sumNext -/
def mr_jr (p0 rest : Int32) (l6 l7 l8 : List Int32) : Option (List Int32 × List Int32) :=
  (mr_bitsOf rest).bind (fun b => (mr_z7 22 0 l7).bind (fun z => (mr_r34 p0 (b - p0) l6 l8 22 0 z).bind (fun s => (mr_cp s 22 0 l6).bind (fun t => some (t, s)))))
theorem mr_jr_ok {post : St2 → Prop} {p0 : Int32} {r : List Int32 × List Int32} {f0_wanted f0_covered f0_groupCount f0_rest f0_cells f0_mines f0_decidedMines f0_decidedFree f0_clash : Int32} {a1 a2 a3 a4 a5 a9 a10 : Nat → Int32} {l6 l7 l8 : List Int32} (h : mr_jr p0 f0_rest l6 l7 l8 = some r) (hp : post (f0_wanted, f0_covered, f0_groupCount, f0_rest, f0_cells, f0_mines, f0_decidedMines, f0_decidedFree, f0_clash, a1, a2, a3, a4, a5, mr_ar r.1, mr_ar r.2, (mr_ar l8), a9, a10)) : wpX_joinRest post (f0_wanted, f0_covered, f0_groupCount, f0_rest, f0_cells, f0_mines, f0_decidedMines, f0_decidedFree, f0_clash, a1, a2, a3, a4, a5, (mr_ar l6), (mr_ar l7), (mr_ar l8), a9, a10) p0 := by
  refine mr_bd h (fun b eb h => mr_bd h (fun z ez h => mr_bd h (fun s es h => mr_bd h (fun t et h => ?_))))
  cases h
  unfold wpX_joinRest
  exact mr_bitsOf_ok eb (nm_e (Exists.intro 22 (mr_z7R_ok 22 0 _ ez (Exists.intro 22 (mr_r34_ok 22 0 _ es (Exists.intro 22 (mr_cpR_ok 22 0 _ et hp)))))))
def mr_w32 (x1 x2 x3 : Int32) (l4 l5 l6 : List Int32) : Nat → Int32 → List Int32 → Option (List Int32)
  | 0, _, _ => none
  | n + 1, x4, l7 => if 21 ≤ (x4 + x3) then some l7 else
      if x2 = 0 then (if mr_in ((21 * x1) + x4) 420 = true then (if mr_in (x3 + x4) 21 = true then (if mr_in x3 21 = true then
        mr_w32 x1 x2 x3 l4 l5 l6 n (x4 + 1) (mr_set l7 (x3 + x4).toNatClampNeg ((mr_ar l7 (x3 + x4).toNatClampNeg) + ((mr_ar l6 x3.toNatClampNeg) * (mr_ar l4 ((21 * x1) + x4).toNatClampNeg)))) else none) else none) else none)
      else (if mr_in ((21 * x1) + x4) 420 = true then (if mr_in (x3 + x4) 21 = true then (if mr_in x3 21 = true then
        mr_w32 x1 x2 x3 l4 l5 l6 n (x4 + 1) (mr_set l7 (x3 + x4).toNatClampNeg ((mr_ar l7 (x3 + x4).toNatClampNeg) + ((mr_ar l6 x3.toNatClampNeg) * (mr_ar l5 ((21 * x1) + x4).toNatClampNeg)))) else none) else none) else none)
theorem mr_w72_ok {post : St2 → Prop} {J23 J32 : Int32 → (Nat → Int32) → (Nat → Int32) → (Nat → Int32) → (Nat → Int32) → (Nat → Int32) → (Nat → Int32) → (Nat → Int32) → (Nat → Int32) → (Nat → Int32) → (Nat → Int32) → Prop} {x1 x2 x3 x4 z0 : Int32} {f0_wanted f0_covered f0_groupCount f0_rest f0_cells f0_mines f0_decidedMines f0_decidedFree f0_clash : Int32} {a1 a2 a3 a4 a5 a8 a9 a10 : Nat → Int32} {l6 l7 : List Int32} (g : vp_in (x3 + x4) 21) (g' : vp_in x3 21)
    (hp : J32 (x4 + 1) a1 a2 a3 a4 a5 (mr_ar l6) (mr_ar (mr_set l7 (x3 + x4).toNatClampNeg ((mr_ar l7 (x3 + x4).toNatClampNeg) + ((mr_ar l6 x3.toNatClampNeg) * z0)))) a8 a9 a10) : wX_joinWays_72 post J23 J32 x1 x2 x3 x4 z0 f0_wanted f0_covered f0_groupCount f0_rest f0_cells f0_mines f0_decidedMines f0_decidedFree f0_clash a1 a2 a3 a4 a5 (mr_ar l6) (mr_ar l7) a8 a9 a10 :=
  And.intro g (And.intro g' (And.intro g (nm_r (mr_upd _ _ _) (nm_e hp))))
theorem mr_w32_ok {post : St2 → Prop} {J23 : Int32 → (Nat → Int32) → (Nat → Int32) → (Nat → Int32) → (Nat → Int32) → (Nat → Int32) → (Nat → Int32) → (Nat → Int32) → (Nat → Int32) → (Nat → Int32) → (Nat → Int32) → Prop} {x1 x2 x3 : Int32} {r : List Int32} {f0_wanted f0_covered f0_groupCount f0_rest f0_cells f0_mines f0_decidedMines f0_decidedFree f0_clash : Int32} {a1 a2 a3 a8 a9 a10 : Nat → Int32} {l4 l5 l6 : List Int32} : ∀ (n : Nat) (x4 : Int32) (l7 : List Int32), mr_w32 x1 x2 x3 l4 l5 l6 n x4 l7 = some r →
    J23 (x3 + 1) a1 a2 a3 (mr_ar l4) (mr_ar l5) (mr_ar l6) (mr_ar r) a8 a9 a10 → wX_joinWays_32 post J23 x1 x2 x3 f0_wanted f0_covered f0_groupCount f0_rest f0_cells f0_mines f0_decidedMines f0_decidedFree f0_clash n x4 a1 a2 a3 (mr_ar l4) (mr_ar l5) (mr_ar l6) (mr_ar l7) a8 a9 a10 := by
  intro n
  induction n with
  | zero => intro x4 l7 h hp; exact mr_no h
  | succ n ih =>
    intro x4 l7 h hp
    exact mr_br h (fun h => nm_e (by cases h; exact hp)) (fun h => mr_br h (fun h => mr_g h (fun _ h => mr_gg h (fun g h => mr_gg h (fun g' h => mr_w72_ok g g' (ih _ _ h hp)))))
      (fun h => mr_g h (fun _ h => mr_gg h (fun g h => mr_gg h (fun g' h => mr_w72_ok g g' (ih _ _ h hp))))))
def mr_w23 (x1 x2 : Int32) (l4 l5 l6 : List Int32) : Nat → Int32 → List Int32 → Option (List Int32)
  | 0, _, _ => none
  | n + 1, x3, l7 => if 21 ≤ x3 then some l7 else (mr_w32 x1 x2 x3 l4 l5 l6 22 0 l7).bind (fun q => mr_w23 x1 x2 l4 l5 l6 n (x3 + 1) q)
theorem mr_w23_ok {post : St2 → Prop} {x1 x2 : Int32} {r : List Int32} {f0_wanted f0_covered f0_groupCount f0_rest f0_cells f0_mines f0_decidedMines f0_decidedFree f0_clash : Int32} {a1 a2 a3 a8 a9 a10 : Nat → Int32} {l4 l5 l6 : List Int32} : ∀ (n : Nat) (x3 : Int32) (l7 : List Int32), mr_w23 x1 x2 l4 l5 l6 n x3 l7 = some r →
    (∃ fu116 : Nat, wX_joinWays_116 post f0_wanted f0_covered f0_groupCount f0_rest f0_cells f0_mines f0_decidedMines f0_decidedFree f0_clash fu116 0 a1 a2 a3 (mr_ar l4) (mr_ar l5) (mr_ar l6) (mr_ar r) a8 a9 a10) → wX_joinWays_23 post x1 x2 f0_wanted f0_covered f0_groupCount f0_rest f0_cells f0_mines f0_decidedMines f0_decidedFree f0_clash n x3 a1 a2 a3 (mr_ar l4) (mr_ar l5) (mr_ar l6) (mr_ar l7) a8 a9 a10 := by
  intro n
  induction n with
  | zero => intro x3 l7 h hp; exact mr_no h
  | succ n ih =>
    intro x3 l7 h hp
    exact mr_br h (fun h => by cases h; exact hp) (fun h => mr_bd h (fun q e h => Exists.intro 22 (mr_w32_ok 22 0 _ e (ih _ _ h hp))))
theorem mr_z7W_ok {post : St2 → Prop} {x1 x2 : Int32} {r : List Int32} {f0_wanted f0_covered f0_groupCount f0_rest f0_cells f0_mines f0_decidedMines f0_decidedFree f0_clash : Int32} {a1 a2 a3 a4 a5 a6 a8 a9 a10 : Nat → Int32} : ∀ (n : Nat) (x3 : Int32) (l7 : List Int32), mr_z7 n x3 l7 = some r →
    (∃ fu23 : Nat, wX_joinWays_23 post x1 x2 f0_wanted f0_covered f0_groupCount f0_rest f0_cells f0_mines f0_decidedMines f0_decidedFree f0_clash fu23 0 a1 a2 a3 a4 a5 a6 (mr_ar r) a8 a9 a10) → wX_joinWays_2 post x1 x2 f0_wanted f0_covered f0_groupCount f0_rest f0_cells f0_mines f0_decidedMines f0_decidedFree f0_clash n x3 a1 a2 a3 a4 a5 a6 (mr_ar l7) a8 a9 a10 := by
  intro n
  induction n with
  | zero => intro x3 l7 h hp; exact mr_no h
  | succ n ih =>
    intro x3 l7 h hp
    exact mr_br h (fun h => by cases h; exact hp) (fun h => mr_g h (fun g h => nm_r (mr_upd _ _ _) (nm_e (ih _ _ h hp))))
/-- joinWays: sum, sumNext -/
def mr_jw (p0 p1 : Int32) (l4 l5 l6 l7 : List Int32) : Option (List Int32 × List Int32) :=
  (mr_z7 22 0 l7).bind (fun z => (mr_w23 p0 p1 l4 l5 l6 22 0 z).bind (fun s => (mr_cp s 22 0 l6).bind (fun t => some (t, s))))
theorem mr_jw_ok {post : St2 → Prop} {p0 p1 : Int32} {r : List Int32 × List Int32} {f0_wanted f0_covered f0_groupCount f0_rest f0_cells f0_mines f0_decidedMines f0_decidedFree f0_clash : Int32} {a1 a2 a3 a8 a9 a10 : Nat → Int32} {l4 l5 l6 l7 : List Int32} (h : mr_jw p0 p1 l4 l5 l6 l7 = some r) (hp : post (f0_wanted, f0_covered, f0_groupCount, f0_rest, f0_cells, f0_mines, f0_decidedMines, f0_decidedFree, f0_clash, a1, a2, a3, (mr_ar l4), (mr_ar l5), mr_ar r.1, mr_ar r.2, a8, a9, a10)) : wpX_joinWays post (f0_wanted, f0_covered, f0_groupCount, f0_rest, f0_cells, f0_mines, f0_decidedMines, f0_decidedFree, f0_clash, a1, a2, a3, (mr_ar l4), (mr_ar l5), (mr_ar l6), (mr_ar l7), a8, a9, a10) p0 p1 := by
  refine mr_bd h (fun z ez h => mr_bd h (fun s es h => mr_bd h (fun t et h => ?_)))
  cases h
  exact Exists.intro 22 (mr_z7W_ok 22 0 _ ez (Exists.intro 22 (mr_w23_ok 22 0 _ es (Exists.intro 22 (mr_cpW_ok 22 0 _ et hp)))))
end
section
def mr_wi (x1 s : Int32) : Int32 := if x1 = (-1) then 0 else if mr_has s x1 = 0 then 0 else 1
/-- the loop over the groups: cells, mines, ways, waysWith, sum, sumNext, cellAt, stateAt -/
def mr_c45 (x1 gc : Int32) (l1 l2 l3 : List Int32) : Nat → Int32 → Int32 → Int32 → List Int32 → List Int32 → List Int32 → List Int32 → List Int32 → List Int32 → Option (Int32 × Int32 × List Int32 × List Int32 × List Int32 × List Int32 × List Int32 × List Int32)
  | 0, _, _, _, _, _, _, _, _, _ => none
  | n + 1, x2, cells, mines, l4, l5, l6, l7, l9, l10 => if gc ≤ x2 then some (cells, mines, l4, l5, l6, l7, l9, l10) else
      if mr_in x2 20 = true then (mr_fill x2 x1 l1 l2 l3 l4 l5 l9 l10).bind (fun s => (mr_jw x2 (mr_wi x1 (mr_ar l3 x2.toNatClampNeg)) s.2.2.1 s.2.2.2.1 l6 l7).bind (fun t =>
        mr_c45 x1 gc l1 l2 l3 n (x2 + 1) s.1 s.2.1 s.2.2.1 s.2.2.2.1 t.1 t.2 s.2.2.2.2.1 s.2.2.2.2.2)) else none
theorem mr_c85_ok {post : St2 → Prop} {J45 : Int32 → Int32 → Int32 → Int32 → Int32 → Int32 → Int32 → Int32 → Int32 → Int32 → (Nat → Int32) → (Nat → Int32) → (Nat → Int32) → (Nat → Int32) → (Nat → Int32) → (Nat → Int32) → (Nat → Int32) → (Nat → Int32) → (Nat → Int32) → (Nat → Int32) → Prop} {x1 x2 z0 z1 : Int32} {r : List Int32 × List Int32} {f0_wanted f0_covered f0_groupCount f0_rest f0_cells f0_mines f0_decidedMines f0_decidedFree f0_clash : Int32} {a1 a2 a3 a8 a9 a10 : Nat → Int32} {l4 l5 l6 l7 : List Int32} (h : mr_jw z1 z0 l4 l5 l6 l7 = some r)
    (hp : J45 (x2 + 1) f0_wanted f0_covered f0_groupCount f0_rest f0_cells f0_mines f0_decidedMines f0_decidedFree f0_clash a1 a2 a3 (mr_ar l4) (mr_ar l5) (mr_ar r.1) (mr_ar r.2) a8 a9 a10) : wX_countAll_85 post J45 x1 x2 z0 z1 f0_wanted f0_covered f0_groupCount f0_rest f0_cells f0_mines f0_decidedMines f0_decidedFree f0_clash a1 a2 a3 (mr_ar l4) (mr_ar l5) (mr_ar l6) (mr_ar l7) a8 a9 a10 := by
  unfold wX_countAll_85
  exact mr_jw_ok h (nm_e hp)
theorem mr_c117_ok {post : St2 → Prop} {z0 : Int32} {r : List Int32 × List Int32} {f0_wanted f0_covered f0_groupCount f0_rest f0_cells f0_mines f0_decidedMines f0_decidedFree f0_clash : Int32} {a1 a2 a3 a4 a5 a9 a10 : Nat → Int32} {l6 l7 l8 : List Int32} (h : mr_jr z0 f0_rest l6 l7 l8 = some r) (hp : post (f0_wanted, f0_covered, f0_groupCount, f0_rest, f0_cells, f0_mines, f0_decidedMines, f0_decidedFree, f0_clash, a1, a2, a3, a4, a5, mr_ar r.1, mr_ar r.2, (mr_ar l8), a9, a10)) : wX_countAll_117 post z0 f0_wanted f0_covered f0_groupCount f0_rest f0_cells f0_mines f0_decidedMines f0_decidedFree f0_clash a1 a2 a3 a4 a5 (mr_ar l6) (mr_ar l7) (mr_ar l8) a9 a10 := by
  unfold wX_countAll_117
  exact mr_jr_ok h hp
theorem mr_cx_ok {post : St2 → Prop} {x1 : Int32} {r : List Int32 × List Int32} {f0_wanted f0_covered f0_groupCount f0_rest f0_cells f0_mines f0_decidedMines f0_decidedFree f0_clash : Int32} {a1 a2 a3 a4 a5 a9 a10 : Nat → Int32} {l6 l7 l8 : List Int32} (h : mr_jr (mr_wi x1 f0_rest) f0_rest l6 l7 l8 = some r) (hp : post (f0_wanted, f0_covered, f0_groupCount, f0_rest, f0_cells, f0_mines, f0_decidedMines, f0_decidedFree, f0_clash, a1, a2, a3, a4, a5, mr_ar r.1, mr_ar r.2, (mr_ar l8), a9, a10)) :
    ((x1 = (-1) → (wX_countAll_116 post f0_wanted f0_covered f0_groupCount f0_rest f0_cells f0_mines f0_decidedMines f0_decidedFree f0_clash a1 a2 a3 a4 a5 (mr_ar l6) (mr_ar l7) (mr_ar l8) a9 a10)) ∧ (¬ x1 = (-1) → (wpX_has (fun r_88 => (((r_88 = 0 → (wX_countAll_116 post f0_wanted f0_covered f0_groupCount f0_rest f0_cells f0_mines f0_decidedMines f0_decidedFree f0_clash a1 a2 a3 a4 a5 (mr_ar l6) (mr_ar l7) (mr_ar l8) a9 a10)) ∧ (¬ r_88 = 0 → (wX_countAll_117 post 1 f0_wanted f0_covered f0_groupCount f0_rest f0_cells f0_mines f0_decidedMines f0_decidedFree f0_clash a1 a2 a3 a4 a5 (mr_ar l6) (mr_ar l7) (mr_ar l8) a9 a10))))) (f0_wanted, f0_covered, f0_groupCount, f0_rest, f0_cells, f0_mines, f0_decidedMines, f0_decidedFree, f0_clash, a1, a2, a3, a4, a5, (mr_ar l6), (mr_ar l7), (mr_ar l8), a9, a10) f0_rest x1))) := by
  refine br_c (fun c => ?_) (fun c => mr_has_ok (br_c (fun d => ?_) (fun d => ?_)))
  · have e : mr_wi x1 f0_rest = 0 := if_pos c
    rw [e] at h
    exact mr_c117_ok h hp
  · have e : mr_wi x1 f0_rest = 0 := (if_neg c).trans (if_pos d)
    rw [e] at h
    exact mr_c117_ok h hp
  · have e : mr_wi x1 f0_rest = 1 := (if_neg c).trans (if_neg d)
    rw [e] at h
    exact mr_c117_ok h hp
theorem mr_cy_ok {post : St2 → Prop} {J45 : Int32 → Int32 → Int32 → Int32 → Int32 → Int32 → Int32 → Int32 → Int32 → Int32 → (Nat → Int32) → (Nat → Int32) → (Nat → Int32) → (Nat → Int32) → (Nat → Int32) → (Nat → Int32) → (Nat → Int32) → (Nat → Int32) → (Nat → Int32) → (Nat → Int32) → Prop} {x1 x2 : Int32} {r : List Int32 × List Int32} {f0_wanted f0_covered f0_groupCount f0_rest f0_cells f0_mines f0_decidedMines f0_decidedFree f0_clash : Int32} {a1 a2 a8 a9 a10 : Nat → Int32} {l3 l4 l5 l6 l7 : List Int32} (g : vp_in x2 20) (h : mr_jw x2 (mr_wi x1 (mr_ar l3 x2.toNatClampNeg)) l4 l5 l6 l7 = some r)
    (hp : J45 (x2 + 1) f0_wanted f0_covered f0_groupCount f0_rest f0_cells f0_mines f0_decidedMines f0_decidedFree f0_clash a1 a2 (mr_ar l3) (mr_ar l4) (mr_ar l5) (mr_ar r.1) (mr_ar r.2) a8 a9 a10) :
    ((x1 = (-1) → (wX_countAll_84 post J45 x1 x2 x2 f0_wanted f0_covered f0_groupCount f0_rest f0_cells f0_mines f0_decidedMines f0_decidedFree f0_clash a1 a2 (mr_ar l3) (mr_ar l4) (mr_ar l5) (mr_ar l6) (mr_ar l7) a8 a9 a10)) ∧ (¬ x1 = (-1) → (vp_in x2 20 ∧ (wpX_has (fun r_173 => (((r_173 = 0 → (wX_countAll_84 post J45 x1 x2 x2 f0_wanted f0_covered f0_groupCount f0_rest f0_cells f0_mines f0_decidedMines f0_decidedFree f0_clash a1 a2 (mr_ar l3) (mr_ar l4) (mr_ar l5) (mr_ar l6) (mr_ar l7) a8 a9 a10)) ∧ (¬ r_173 = 0 → (wX_countAll_85 post J45 x1 x2 1 x2 f0_wanted f0_covered f0_groupCount f0_rest f0_cells f0_mines f0_decidedMines f0_decidedFree f0_clash a1 a2 (mr_ar l3) (mr_ar l4) (mr_ar l5) (mr_ar l6) (mr_ar l7) a8 a9 a10))))) (f0_wanted, f0_covered, f0_groupCount, f0_rest, f0_cells, f0_mines, f0_decidedMines, f0_decidedFree, f0_clash, a1, a2, (mr_ar l3), (mr_ar l4), (mr_ar l5), (mr_ar l6), (mr_ar l7), a8, a9, a10) (mr_ar l3 x2.toNatClampNeg) x1)))) := by
  refine br_c (fun c => ?_) (fun c => And.intro g (mr_has_ok (br_c (fun d => ?_) (fun d => ?_))))
  · have e : mr_wi x1 (mr_ar l3 x2.toNatClampNeg) = 0 := if_pos c
    rw [e] at h
    exact mr_c85_ok h hp
  · have e : mr_wi x1 (mr_ar l3 x2.toNatClampNeg) = 0 := (if_neg c).trans (if_pos d)
    rw [e] at h
    exact mr_c85_ok h hp
  · have e : mr_wi x1 (mr_ar l3 x2.toNatClampNeg) = 1 := (if_neg c).trans (if_neg d)
    rw [e] at h
    exact mr_c85_ok h hp
theorem mr_c45_ok {post : St2 → Prop} {x1 : Int32} {r : Int32 × Int32 × List Int32 × List Int32 × List Int32 × List Int32 × List Int32 × List Int32} {v : List Int32 × List Int32} {f0_wanted f0_covered f0_groupCount f0_rest f0_decidedMines f0_decidedFree f0_clash : Int32} {l1 l2 l3 l8 : List Int32} (hv : mr_jr (mr_wi x1 f0_rest) f0_rest r.2.2.2.2.1 r.2.2.2.2.2.1 l8 = some v)
    (hp : post (f0_wanted, f0_covered, f0_groupCount, f0_rest, r.1, r.2.1, f0_decidedMines, f0_decidedFree, f0_clash, (mr_ar l1), (mr_ar l2), (mr_ar l3), mr_ar r.2.2.1, mr_ar r.2.2.2.1, mr_ar v.1, mr_ar v.2, (mr_ar l8), mr_ar r.2.2.2.2.2.2.1, mr_ar r.2.2.2.2.2.2.2)) :
    ∀ (n : Nat) (x2 cells mines : Int32) (l4 l5 l6 l7 l9 l10 : List Int32), mr_c45 x1 f0_groupCount l1 l2 l3 n x2 cells mines l4 l5 l6 l7 l9 l10 = some r → wX_countAll_45 post x1 n x2 f0_wanted f0_covered f0_groupCount f0_rest cells mines f0_decidedMines f0_decidedFree f0_clash (mr_ar l1) (mr_ar l2) (mr_ar l3) (mr_ar l4) (mr_ar l5) (mr_ar l6) (mr_ar l7) (mr_ar l8) (mr_ar l9) (mr_ar l10) := by
  intro n
  induction n with
  | zero => intro x2 cells mines l4 l5 l6 l7 l9 l10 h; exact mr_no h
  | succ n ih =>
    intro x2 cells mines l4 l5 l6 l7 l9 l10 h
    exact mr_br h (fun h => by cases h; exact mr_cx_ok hv hp) (fun h => mr_gg h (fun g h => mr_bd h (fun s es h => mr_bd h (fun t et h => mr_fill_ok es (mr_cy_ok g et (ih _ _ _ _ _ _ _ _ _ h))))))
def mr_z6 : Nat → Int32 → List Int32 → Option (List Int32)
  | 0, _, _ => none
  | n + 1, x2, l6 => if 21 ≤ x2 then some l6 else if mr_in x2 21 = true then mr_z6 n (x2 + 1) (mr_set l6 x2.toNatClampNeg 0) else none
def mr_b1 (e : Int32) : Int32 := if e = 0 then 0 else 1
theorem mr_c6_ok {post : St2 → Prop} {x1 e : Int32} {r : List Int32} {f0_wanted f0_covered f0_groupCount f0_rest f0_cells f0_mines f0_decidedMines f0_decidedFree f0_clash : Int32} {a3 a4 a5 a7 a8 a9 a10 : Nat → Int32} {l1 l2 : List Int32} (he : mr_ec l1 l2 f0_covered 21 1 0 = some e)
    (hp : ∃ fu45 : Nat, wX_countAll_45 post x1 fu45 0 f0_wanted f0_covered f0_groupCount f0_rest f0_cells f0_mines f0_decidedMines f0_decidedFree f0_clash (mr_ar l1) (mr_ar l2) a3 a4 a5 (mr_ar (mr_set r 0 (mr_b1 e))) a7 a8 a9 a10) : ∀ (n : Nat) (x2 : Int32) (l6 : List Int32), mr_z6 n x2 l6 = some r → wX_countAll_6 post x1 f0_wanted f0_covered f0_groupCount f0_rest f0_cells f0_mines f0_decidedMines f0_decidedFree f0_clash n x2 (mr_ar l1) (mr_ar l2) a3 a4 a5 (mr_ar l6) a7 a8 a9 a10 := by
  intro n
  induction n with
  | zero => intro x2 l6 h; exact mr_no h
  | succ n ih =>
    intro x2 l6 h
    refine mr_br h (fun h => mr_ecOf_ok he (br_c (fun c => nm_r (mr_upd _ _ _) ?_) (fun c => nm_r (mr_upd _ _ _) ?_))) (fun h => mr_g h (fun _ h => nm_r (mr_upd _ _ _) (nm_e (ih _ _ h))))
    · cases h
      have k : mr_b1 e = 0 := if_pos c
      rw [k] at hp
      exact hp
    · cases h
      have k : mr_b1 e = 1 := if_neg c
      rw [k] at hp
      exact hp
/-- what countAll changes: groupCount, rest, cells, mines, groupSet, ways, waysWith, sum, sumNext, cellAt, stateAt -/
abbrev MrS : Type := Int32 × Int32 × Int32 × Int32 × List Int32 × List Int32 × List Int32 × List Int32 × List Int32 × List Int32 × List Int32
def mr_ca (q cov : Int32) (l1 l2 l8 : List Int32) (cells mines : Int32) (l3 l4 l5 l6 l7 l9 l10 : List Int32) : Option MrS :=
  (mr_fg l1 l2 cov l3).bind (fun g => (mr_z6 22 0 l6).bind (fun z => (mr_ec l1 l2 cov 21 1 0).bind (fun e =>
    (mr_c45 q g.1 l1 l2 g.2.2 3 0 cells mines l4 l5 (mr_set z 0 (mr_b1 e)) l7 l9 l10).bind (fun s => (mr_jr (mr_wi q g.2.1) g.2.1 s.2.2.2.2.1 s.2.2.2.2.2.1 l8).bind (fun v =>
      some (g.1, g.2.1, s.1, s.2.1, g.2.2, s.2.2.1, s.2.2.2.1, v.1, v.2, s.2.2.2.2.2.2.1, s.2.2.2.2.2.2.2))))))
theorem mr_ca_ok {post : St2 → Prop} {p0 : Int32} {r : MrS} {f0_wanted f0_covered f0_groupCount f0_rest f0_cells f0_mines f0_decidedMines f0_decidedFree f0_clash : Int32} {l1 l2 l3 l4 l5 l6 l7 l8 l9 l10 : List Int32} (h : mr_ca p0 f0_covered l1 l2 l8 f0_cells f0_mines l3 l4 l5 l6 l7 l9 l10 = some r)
    (hp : post (f0_wanted, f0_covered, r.1, r.2.1, r.2.2.1, r.2.2.2.1, f0_decidedMines, f0_decidedFree, f0_clash, (mr_ar l1), (mr_ar l2), mr_ar r.2.2.2.2.1, mr_ar r.2.2.2.2.2.1, mr_ar r.2.2.2.2.2.2.1, mr_ar r.2.2.2.2.2.2.2.1, mr_ar r.2.2.2.2.2.2.2.2.1, (mr_ar l8), mr_ar r.2.2.2.2.2.2.2.2.2.1, mr_ar r.2.2.2.2.2.2.2.2.2.2)) :
    wpX_countAll post (f0_wanted, f0_covered, f0_groupCount, f0_rest, f0_cells, f0_mines, f0_decidedMines, f0_decidedFree, f0_clash, (mr_ar l1), (mr_ar l2), (mr_ar l3), (mr_ar l4), (mr_ar l5), (mr_ar l6), (mr_ar l7), (mr_ar l8), (mr_ar l9), (mr_ar l10)) p0 := by
  refine mr_bd h (fun g eg h => mr_bd h (fun z ez h => mr_bd h (fun e ee h => mr_bd h (fun s es h => mr_bd h (fun v ev h => ?_)))))
  cases h
  unfold wpX_countAll
  refine mr_fg_ok eg ?_
  refine Exists.intro 22 (mr_c6_ok ee ?_ 22 _ _ ez)
  exact Exists.intro 3 (mr_c45_ok ev hp 3 _ _ _ _ _ _ _ _ _ es)
def mr_cw (w : Int32) (l6 : List Int32) : Nat → Int32 → Int32 → Option Int32
  | 0, _, _ => none
  | n + 1, x1, x2 => if 21 ≤ x2 then some x1 else
      if w = (-1) then (if mr_in x2 21 = true then mr_cw w l6 n (x1 + (mr_ar l6 x2.toNatClampNeg)) (x2 + 1) else none) else
      if w = x2 then (if mr_in x2 21 = true then mr_cw w l6 n (x1 + (mr_ar l6 x2.toNatClampNeg)) (x2 + 1) else none) else mr_cw w l6 n x1 (x2 + 1)
theorem mr_cw_ok {post : Int32 → Prop} {r : Int32} {f0_wanted f0_covered f0_groupCount f0_rest f0_cells f0_mines f0_decidedMines f0_decidedFree f0_clash : Int32} {a1 a2 a3 a4 a5 a7 a8 a9 a10 : Nat → Int32} {l6 : List Int32} : ∀ (n : Nat) (x1 x2 : Int32), mr_cw f0_wanted l6 n x1 x2 = some r → post r → wX_countWanted_4 post f0_wanted f0_covered f0_groupCount f0_rest f0_cells f0_mines f0_decidedMines f0_decidedFree f0_clash a1 a2 a3 a4 a5 (mr_ar l6) a7 a8 a9 a10 n x1 x2 := by
  intro n
  induction n with
  | zero => intro x1 x2 h hp; exact mr_no h
  | succ n ih =>
    intro x1 x2 h hp
    exact mr_br h (fun h => by cases h; exact hp) (fun h => mr_br h (fun h => mr_g h (fun _ h => nm_e (nm_e (ih _ _ h hp)))) (fun h => mr_br h (fun h => mr_g h (fun _ h => nm_e (nm_e (ih _ _ h hp)))) (fun h => nm_e (ih _ _ h hp))))
theorem mr_cwOf_ok {post : Int32 → Prop} {r : Int32} {f0_wanted f0_covered f0_groupCount f0_rest f0_cells f0_mines f0_decidedMines f0_decidedFree f0_clash : Int32} {a1 a2 a3 a4 a5 a7 a8 a9 a10 : Nat → Int32} {l6 : List Int32} (h : mr_cw f0_wanted l6 22 0 0 = some r) (hp : post r) : wpX_countWanted post (f0_wanted, f0_covered, f0_groupCount, f0_rest, f0_cells, f0_mines, f0_decidedMines, f0_decidedFree, f0_clash, a1, a2, a3, a4, a5, (mr_ar l6), a7, a8, a9, a10) := Exists.intro 22 (mr_cw_ok 22 0 0 h hp)
def mr_go (gc : Int32) (l3 : List Int32) (x1 : Int32) : Nat → Int32 → Option Int32
  | 0, _ => none
  | n + 1, x2 => if gc ≤ x2 then some 0 else if mr_in x2 20 = true then (if mr_has (mr_ar l3 x2.toNatClampNeg) x1 = 0 then mr_go gc l3 x1 n (x2 + 1) else mr_bitsOf (mr_ar l3 x2.toNatClampNeg)) else none
theorem mr_go_ok {post : Int32 → St2 → Prop} {x1 r : Int32} {f0_wanted f0_covered f0_groupCount f0_rest f0_cells f0_mines f0_decidedMines f0_decidedFree f0_clash : Int32} {a1 a2 a4 a5 a6 a7 a8 a9 a10 : Nat → Int32} {l3 : List Int32} : ∀ (n : Nat) (x2 : Int32), mr_go f0_groupCount l3 x1 n x2 = some r → post r (f0_wanted, f0_covered, f0_groupCount, f0_rest, f0_cells, f0_mines, f0_decidedMines, f0_decidedFree, f0_clash, a1, a2, (mr_ar l3), a4, a5, a6, a7, a8, a9, a10) → wX_groupOf_16 post x1 f0_wanted f0_covered f0_groupCount f0_rest f0_cells f0_mines f0_decidedMines f0_decidedFree f0_clash a1 a2 (mr_ar l3) a4 a5 a6 a7 a8 a9 a10 n x2 := by
  intro n
  induction n with
  | zero => intro x2 h hp; exact mr_no h
  | succ n ih =>
    intro x2 h hp
    exact mr_br h (fun h => by cases h; exact hp) (fun h => mr_g h (fun g h => mr_has_ok (mr_br h (fun h => nm_e (ih _ h hp)) (fun h => And.intro g (mr_bitsOf_ok h hp)))))
end
section
theorem mr_cond {α : Type} {c P : Prop} {d : Decidable c} {x : Option α} {r : α} (h : (@ite _ c d x none) = some r) (H : c → x = some r → P) : P := by
  by_cases z : c
  · rw [if_pos z] at h
    exact H z h
  · rw [if_neg z] at h
    exact mr_no h
theorem mr_condN {α : Type} {c P : Prop} {d : Decidable c} {x : Option α} {r : α} (h : (@ite _ c d none x) = some r) (H : ¬ c → x = some r → P) : P := by
  by_cases z : c
  · rw [if_pos z] at h
    exact mr_no h
  · rw [if_neg z] at h
    exact H z h
theorem mr_lay_ok {post : Int32 → St2 → Prop} {r : MrS} {c : Int32} {f0_wanted f0_covered f0_groupCount f0_rest f0_cells f0_mines f0_decidedMines f0_decidedFree f0_clash : Int32} {l1 l2 l3 l4 l5 l6 l7 l8 l9 l10 : List Int32} (h : mr_ca (-1) f0_covered l1 l2 l8 f0_cells f0_mines l3 l4 l5 l6 l7 l9 l10 = some r) (hc : mr_cw f0_wanted r.2.2.2.2.2.2.2.1 22 0 0 = some c)
    (hp : post c (f0_wanted, f0_covered, r.1, r.2.1, r.2.2.1, r.2.2.2.1, f0_decidedMines, f0_decidedFree, f0_clash, (mr_ar l1), (mr_ar l2), mr_ar r.2.2.2.2.1, mr_ar r.2.2.2.2.2.1, mr_ar r.2.2.2.2.2.2.1, mr_ar r.2.2.2.2.2.2.2.1, mr_ar r.2.2.2.2.2.2.2.2.1, (mr_ar l8), mr_ar r.2.2.2.2.2.2.2.2.2.1, mr_ar r.2.2.2.2.2.2.2.2.2.2)) : wpX_layouts post (f0_wanted, f0_covered, f0_groupCount, f0_rest, f0_cells, f0_mines, f0_decidedMines, f0_decidedFree, f0_clash, (mr_ar l1), (mr_ar l2), (mr_ar l3), (mr_ar l4), (mr_ar l5), (mr_ar l6), (mr_ar l7), (mr_ar l8), (mr_ar l9), (mr_ar l10)) := by
  unfold wpX_layouts
  exact mr_ca_ok h (mr_cwOf_ok hc hp)
def mr_mined (w p0 cov : Int32) (l1 l2 l8 : List Int32) (cells mines : Int32) (l3 l4 l5 l6 l7 l9 l10 : List Int32) : Option (Int32 × MrS) :=
  if mr_bad p0 = 0 then (if mr_has cov p0 = 0 then none else (mr_ca p0 cov l1 l2 l8 cells mines l3 l4 l5 l6 l7 l9 l10).bind (fun t => (mr_cw w t.2.2.2.2.2.2.2.1 22 0 0).bind (fun c => some (c, t)))) else none
theorem mr_mined_ok {post : Int32 → St2 → Prop} {p0 : Int32} {r : Int32 × MrS} {f0_wanted f0_covered f0_groupCount f0_rest f0_cells f0_mines f0_decidedMines f0_decidedFree f0_clash : Int32} {l1 l2 l3 l4 l5 l6 l7 l8 l9 l10 : List Int32} (h : mr_mined f0_wanted p0 f0_covered l1 l2 l8 f0_cells f0_mines l3 l4 l5 l6 l7 l9 l10 = some r)
    (hp : post r.1 (f0_wanted, f0_covered, r.2.1, r.2.2.1, r.2.2.2.1, r.2.2.2.2.1, f0_decidedMines, f0_decidedFree, f0_clash, (mr_ar l1), (mr_ar l2), mr_ar r.2.2.2.2.2.1, mr_ar r.2.2.2.2.2.2.1, mr_ar r.2.2.2.2.2.2.2.1, mr_ar r.2.2.2.2.2.2.2.2.1, mr_ar r.2.2.2.2.2.2.2.2.2.1, (mr_ar l8), mr_ar r.2.2.2.2.2.2.2.2.2.2.1, mr_ar r.2.2.2.2.2.2.2.2.2.2.2)) : wpX_mined post (f0_wanted, f0_covered, f0_groupCount, f0_rest, f0_cells, f0_mines, f0_decidedMines, f0_decidedFree, f0_clash, (mr_ar l1), (mr_ar l2), (mr_ar l3), (mr_ar l4), (mr_ar l5), (mr_ar l6), (mr_ar l7), (mr_ar l8), (mr_ar l9), (mr_ar l10)) p0 := by
  refine mr_cond h (fun hb h => mr_condN h (fun hh h => mr_bd h (fun t et h => mr_bd h (fun c ec h => ?_))))
  cases h
  unfold wpX_mined
  refine mr_bad_ok (br_t hb ?_)
  unfold wpX_minedIn
  refine mr_has_ok (br_f hh ?_)
  exact mr_ca_ok et (mr_cwOf_ok ec hp)
theorem mr_groupOf_ok {post : Int32 → St2 → Prop} {p0 c : Int32} {g : Int32 × Int32 × List Int32} {f0_wanted f0_covered f0_groupCount f0_rest f0_cells f0_mines f0_decidedMines f0_decidedFree f0_clash : Int32} {a4 a5 a6 a7 a8 a9 a10 : Nat → Int32} {l1 l2 l3 : List Int32} (hb : mr_bad p0 = 0) (hg : mr_fg l1 l2 f0_covered l3 = some g) (ho : mr_go g.1 g.2.2 p0 3 0 = some c)
    (hp : post c (f0_wanted, f0_covered, g.1, g.2.1, f0_cells, f0_mines, f0_decidedMines, f0_decidedFree, f0_clash, (mr_ar l1), (mr_ar l2), mr_ar g.2.2, a4, a5, a6, a7, a8, a9, a10)) : wpX_groupOf post (f0_wanted, f0_covered, f0_groupCount, f0_rest, f0_cells, f0_mines, f0_decidedMines, f0_decidedFree, f0_clash, (mr_ar l1), (mr_ar l2), (mr_ar l3), a4, a5, a6, a7, a8, a9, a10) p0 := by
  unfold wpX_groupOf
  refine mr_bad_ok (br_t hb ?_)
  exact mr_fg_ok hg (Exists.intro 3 (mr_go_ok 3 0 ho hp))
theorem mr_groups_ok {post : Int32 → St2 → Prop} {g : Int32 × Int32 × List Int32} {f0_wanted f0_covered f0_groupCount f0_rest f0_cells f0_mines f0_decidedMines f0_decidedFree f0_clash : Int32} {a4 a5 a6 a7 a8 a9 a10 : Nat → Int32} {l1 l2 l3 : List Int32} (hg : mr_fg l1 l2 f0_covered l3 = some g)
    (hp : post g.1 (f0_wanted, f0_covered, g.1, g.2.1, f0_cells, f0_mines, f0_decidedMines, f0_decidedFree, f0_clash, (mr_ar l1), (mr_ar l2), mr_ar g.2.2, a4, a5, a6, a7, a8, a9, a10)) : wpX_groups post (f0_wanted, f0_covered, f0_groupCount, f0_rest, f0_cells, f0_mines, f0_decidedMines, f0_decidedFree, f0_clash, (mr_ar l1), (mr_ar l2), (mr_ar l3), a4, a5, a6, a7, a8, a9, a10) := by
  unfold wpX_groups
  exact mr_fg_ok hg hp
def mr_ch (x : Int32) : Int32 := if x = 0 then 1 else if x = 3 then 1 else 3
def mr_mm (x : Int32) : Int32 := if x = 3 then 1 else x
/-- the five answers that the law wants -/
def mr_want (x : Int32) : Int32 × Int32 × Int32 × Int32 × Int32 := (mr_ch x <<< ((16 : Int32) &&& 31), 3, 1, mr_mm x <<< ((16 : Int32) &&& 31), mr_ch x <<< ((15 : Int32) &&& 31))
theorem mr_143_ok {post : Int32 → St0 → Prop} {mc ms kc ks : Nat} {x4 x5 x6 x7 x8 x9 z0 : Int32} (h5 : x5 = z0 <<< ((16 : Int32) &&& 31)) (h6 : x6 = 3) (h7 : x7 = 1) (h8 : x8 = mr_mm x4 <<< ((16 : Int32) &&& 31)) (h9 : x9 = z0 <<< ((15 : Int32) &&& 31))
    (hp : post 1 ()) : wL_lawOf_143 post mc ms x4 x5 x6 x7 x8 x9 z0 kc ks := by
  refine br_t h5 (br_t h6 (br_t h7 (br_c (fun c => ?_) (fun c => ?_))))
  · have e : mr_mm x4 = 1 := if_pos c
    rw [e] at h8
    exact br_t h8 (br_t h9 hp)
  · have e : mr_mm x4 = x4 := if_neg c
    rw [e] at h8
    exact br_t h8 (br_t h9 hp)
theorem mr_fin_ok {post : Int32 → St0 → Prop} {mc ms kc ks : Nat} {x4 x5 x6 x7 x8 x9 : Int32} (h : (x5, x6, x7, x8, x9) = mr_want x4) (hp : post 1 ()) :
    (x4 = 0 → (wL_lawOf_138 post mc ms x4 x5 x6 x7 x8 x9 kc ks)) ∧ (¬ x4 = 0 → (((x4 = 3 → (wL_lawOf_138 post mc ms x4 x5 x6 x7 x8 x9 kc ks)) ∧ (¬ x4 = 3 → (wL_lawOf_143 post mc ms x4 x5 x6 x7 x8 x9 3 kc ks))))) := by
  have h5 : x5 = mr_ch x4 <<< ((16 : Int32) &&& 31) := congrArg (fun t => t.1) h
  have h6 : x6 = 3 := congrArg (fun t => t.2.1) h
  have h7 : x7 = 1 := congrArg (fun t => t.2.2.1) h
  have h8 : x8 = mr_mm x4 <<< ((16 : Int32) &&& 31) := congrArg (fun t => t.2.2.2.1) h
  have h9 : x9 = mr_ch x4 <<< ((15 : Int32) &&& 31) := congrArg (fun t => t.2.2.2.2) h
  refine br_c (fun c => ?_) (fun c => br_c (fun d => ?_) (fun d => ?_))
  · have e : mr_ch x4 = 1 := if_pos c
    rw [e] at h5 h9
    exact mr_143_ok h5 h6 h7 h8 h9 hp
  · have e : mr_ch x4 = 1 := (if_neg c).trans (if_pos d)
    rw [e] at h5 h9
    exact mr_143_ok h5 h6 h7 h8 h9 hp
  · have e : mr_ch x4 = 3 := (if_neg c).trans (if_neg d)
    rw [e] at h5 h9
    exact mr_143_ok h5 h6 h7 h8 h9 hp
def mr_nbr (z0 : Int32) : Int32 := if 10 ≤ z0 then z0 - 5 else z0 + 5
/-- the law over the made object -/
def mr_law (l1 l2 l8 : List Int32) (z0 nb x4 fi : Int32) : Option (Int32 × Int32 × Int32 × Int32 × Int32) :=
  (mr_show l1 z0 x4).bind (fun sh => (mr_ca (-1) sh.1 sh.2 l2 l8 0 0 [] [] [] [] [] [] []).bind (fun s => (mr_cw (-1) s.2.2.2.2.2.2.2.1 22 0 0).bind (fun lay =>
    if mr_bad nb = 0 then (mr_fg sh.2 l2 sh.1 s.2.2.2.2.1).bind (fun g => (mr_go g.1 g.2.2 nb 3 0).bind (fun grp => (mr_fg sh.2 l2 sh.1 g.2.2).bind (fun g' =>
      (mr_mined (-1) nb sh.1 sh.2 l2 l8 s.2.2.1 s.2.2.2.1 g'.2.2 s.2.2.2.2.2.1 s.2.2.2.2.2.2.1 s.2.2.2.2.2.2.2.1 s.2.2.2.2.2.2.2.2.1 s.2.2.2.2.2.2.2.2.2.1 s.2.2.2.2.2.2.2.2.2.2).bind (fun m => (mr_mined (-1) fi sh.1 sh.2 l2 l8 m.2.2.2.1 m.2.2.2.2.1 m.2.2.2.2.2.1 m.2.2.2.2.2.2.1 m.2.2.2.2.2.2.2.1 m.2.2.2.2.2.2.2.2.1 m.2.2.2.2.2.2.2.2.2.1 m.2.2.2.2.2.2.2.2.2.2.1 m.2.2.2.2.2.2.2.2.2.2.2).bind (fun f =>
        some (lay, grp, g'.1, m.1, f.1)))))) else none)))
theorem mr_43_ok {post : Int32 → St0 → Prop} {mc ms kc ks : Nat} {x0 x1 z0 f0_covered f0_groupCount f0_rest : Int32} {l1 l2 l8 : List Int32} (h : mr_law l1 l2 l8 z0 (mr_nbr z0) (x1 &&& 3) (7 + (((x0 >>> ((2 : Int32) &&& 31)) &&& 1) * 5)) = some (mr_want (x1 &&& 3))) (hp : post 1 ()) :
    wL_lawOf_43 post mc ms x0 x1 z0 kc ks (-1) f0_covered f0_groupCount f0_rest 0 0 0 0 0 (mr_ar l1) (mr_ar l2) (mr_ar []) (mr_ar []) (mr_ar []) (mr_ar []) (mr_ar []) (mr_ar l8) (mr_ar []) (mr_ar []) := by
  refine mr_bd h (fun sh e1 h => mr_bd h (fun s e2 h => mr_bd h (fun lay e3 h => mr_cond h (fun hb h => mr_bd h (fun g e4 h => mr_bd h (fun grp e5 h => mr_bd h (fun g' e6 h => mr_bd h (fun m e7 h => mr_bd h (fun f e8 h => ?_)))))))))
  have W : (lay, grp, g'.1, m.1, f.1) = mr_want (x1 &&& 3) := Option.some.inj h
  have H106 : wL_lawOf_106 post mc ms x0 (x1 &&& 3) lay grp g'.1 (mr_nbr z0) kc ks (-1) sh.1 g'.1 g'.2.1 s.2.2.1 s.2.2.2.1 0 0 0 (mr_ar sh.2) (mr_ar l2) (mr_ar g'.2.2) (mr_ar s.2.2.2.2.2.1) (mr_ar s.2.2.2.2.2.2.1) (mr_ar s.2.2.2.2.2.2.2.1) (mr_ar s.2.2.2.2.2.2.2.2.1) (mr_ar l8) (mr_ar s.2.2.2.2.2.2.2.2.2.1) (mr_ar s.2.2.2.2.2.2.2.2.2.2) := by
    unfold wL_lawOf_106
    exact mr_mined_ok e7 (mr_mined_ok e8 (mr_fin_ok W hp))
  have H79 : wL_lawOf_79 post mc ms x0 z0 (x1 &&& 3) lay (mr_nbr z0) kc ks (-1) sh.1 s.1 s.2.1 s.2.2.1 s.2.2.2.1 0 0 0 (mr_ar sh.2) (mr_ar l2) (mr_ar s.2.2.2.2.1) (mr_ar s.2.2.2.2.2.1) (mr_ar s.2.2.2.2.2.2.1) (mr_ar s.2.2.2.2.2.2.2.1) (mr_ar s.2.2.2.2.2.2.2.2.1) (mr_ar l8) (mr_ar s.2.2.2.2.2.2.2.2.2.1) (mr_ar s.2.2.2.2.2.2.2.2.2.2) := by
    unfold wL_lawOf_79
    refine mr_groupOf_ok hb e4 e5 (mr_groups_ok e6 (br_c (fun c => ?_) (fun c => ?_)))
    · have e : mr_nbr z0 = z0 - 5 := if_pos c
      rw [e] at H106
      exact H106
    · have e : mr_nbr z0 = z0 + 5 := if_neg c
      rw [e] at H106
      exact H106
  unfold wL_lawOf_43
  refine nm_e (mr_show_ok e1 (fun _ => mr_lay_ok e2 e3 (br_c (fun c => ?_) (fun c => ?_))))
  · have e : mr_nbr z0 = z0 - 5 := if_pos c
    rw [e] at H79
    exact H79
  · have e : mr_nbr z0 = z0 + 5 := if_neg c
    rw [e] at H79
    exact H79
end
section
def mr_L1 : List Int32 := [-1, -1, -1, -1, -1, -1, -1, -1, -1, -1, -1, -1, -1, -1, -1, -1, -1, -1, -1, -1]
def mr_NT : List Int32 := [98, 229, 458, 916, 776, 3139, 7335, 14670, 29340, 24856, 100448, 234720, 469440, 938880, 795392, 68608, 171008, 342016, 684032, 286720]
set_option maxRecDepth 100000 in
def mr_CT : List Int32 := [1, 0, 0, 0, 0, 0, 0, 0, 0, 0, 0, 0, 0, 0, 0, 0, 0, 0, 0, 0, 0, 1, 1, 0, 0, 0, 0, 0, 0, 0, 0, 0, 0, 0, 0, 0, 0, 0, 0, 0, 0, 0, 1, 2, 1, 0, 0, 0, 0, 0, 0, 0, 0, 0, 0, 0, 0, 0, 0, 0, 0, 0, 0, 1, 3, 3, 1, 0, 0, 0, 0, 0, 0, 0, 0, 0, 0, 0, 0, 0, 0, 0, 0, 0, 1, 4, 6, 4, 1, 0, 0, 0, 0, 0, 0, 0, 0, 0, 0, 0, 0, 0, 0, 0, 0, 1, 5, 10, 10, 5, 1, 0, 0, 0, 0, 0, 0, 0, 0, 0, 0, 0, 0, 0, 0, 0, 1, 6, 15, 20, 15, 6, 1, 0, 0, 0, 0, 0, 0, 0, 0, 0, 0, 0, 0, 0, 0, 1, 7, 21, 35, 35, 21, 7, 1, 0, 0, 0, 0, 0, 0, 0, 0, 0, 0, 0, 0, 0, 1, 8, 28, 56, 70, 56, 28, 8, 1, 0, 0, 0, 0, 0, 0, 0, 0, 0, 0, 0, 0, 1, 9, 36, 84, 126, 126, 84, 36, 9, 1, 0, 0, 0, 0, 0, 0, 0, 0, 0, 0, 0, 1, 10, 45, 120, 210, 252, 210, 120, 45, 10, 1, 0, 0, 0, 0, 0, 0, 0, 0, 0, 0, 1, 11, 55, 165, 330, 462, 462, 330, 165, 55, 11, 1, 0, 0, 0, 0, 0, 0, 0, 0, 0, 1, 12, 66, 220, 495, 792, 924, 792, 495, 220, 66, 12, 1, 0, 0, 0, 0, 0, 0, 0, 0, 1, 13, 78, 286, 715, 1287, 1716, 1716, 1287, 715, 286, 78, 13, 1, 0, 0, 0, 0, 0, 0, 0, 1, 14, 91, 364, 1001, 2002, 3003, 3432, 3003, 2002, 1001, 364, 91, 14, 1, 0, 0, 0, 0, 0, 0, 1, 15, 105, 455, 1365, 3003, 5005, 6435, 6435, 5005, 3003, 1365, 455, 105, 15, 1, 0, 0, 0, 0, 0, 1, 16, 120, 560, 1820, 4368, 8008, 11440, 12870, 11440, 8008, 4368, 1820, 560, 120, 16, 1, 0, 0, 0, 0, 1, 17, 136, 680, 2380, 6188, 12376, 19448, 24310, 24310, 19448, 12376, 6188, 2380, 680, 136, 17, 1, 0, 0, 0, 1, 18, 153, 816, 3060, 8568, 18564, 31824, 43758, 48620, 43758, 31824, 18564, 8568, 3060, 816, 153, 18, 1, 0, 0, 1, 19, 171, 969, 3876, 11628, 27132, 50388, 75582, 92378, 92378, 75582, 50388, 27132, 11628, 3876, 969, 171, 19, 1, 0, 1, 20, 190, 1140, 4845, 15504, 38760, 77520, 125970, 167960, 184756, 167960, 125970, 77520, 38760, 15504, 4845, 1140, 190, 20, 1]
set_option maxRecDepth 100000 in
theorem mr_ev100 : mr_i100 21 0 [] [] = some (mr_L1, mr_NT) := by decide +kernel
set_option maxRecDepth 100000 in
theorem mr_ev132 : mr_i132 22 0 [] = some mr_CT := by decide +kernel
def mr_chk (z0 : Int32) (k b : Nat) : Bool := decide (mr_law mr_L1 mr_NT mr_CT z0 (mr_nbr z0) (nI k) (7 + nI b * 5) = some (mr_want (nI k)))
end
section
set_option maxRecDepth 100000 in
theorem mr_ev_0 : ∀ k, k < 4 → ∀ b, b < 2 → mr_chk 0 k b = true := by decide +kernel
end
section
set_option maxRecDepth 100000 in
theorem mr_ev_4 : ∀ k, k < 4 → ∀ b, b < 2 → mr_chk 4 k b = true := by decide +kernel
end
section
set_option maxRecDepth 100000 in
theorem mr_ev_15 : ∀ k, k < 4 → ∀ b, b < 2 → mr_chk 15 k b = true := by decide +kernel
end
section
set_option maxRecDepth 100000 in
theorem mr_ev_19 : ∀ k, k < 4 → ∀ b, b < 2 → mr_chk 19 k b = true := by decide +kernel
end
section
theorem mr_evx {z0 : Int32} (E : ∀ k, k < 4 → ∀ b, b < 2 → mr_chk z0 k b = true) (x y : Int32) :
    mr_law mr_L1 mr_NT mr_CT z0 (mr_nbr z0) (y &&& 3) (7 + (((x >>> ((2 : Int32) &&& 31)) &&& 1) * 5)) = some (mr_want (y &&& 3)) := by
  obtain ⟨k, hk, ek⟩ := pk_andE y (m := 3) 2 (by decide)
  obtain ⟨b, hb, eb⟩ := pk_andE (x >>> ((2 : Int32) &&& 31)) (m := 1) 1 (by decide)
  rw [ek, eb]
  exact of_decide_eq_true (E k hk b hb)
theorem mr_lawOf_ok (x y : Int32) : wpL_lawOf (fun r _ => r = 1) 746 11920 () x y := by
  unfold wpL_lawOf
  refine ⟨by decide, by decide, 10, 1424, by decide, by decide, mr_init_ok mr_ev100 mr_ev132 ?_⟩
  exact br_c (fun _ => mr_43_ok (mr_evx mr_ev_0 x y) rfl) (fun _ => br_c (fun _ => mr_43_ok (mr_evx mr_ev_4 x y) rfl) (fun _ => br_c (fun _ => mr_43_ok (mr_evx mr_ev_15 x y) rfl) (fun _ => mr_43_ok (mr_evx mr_ev_19 x y) rfl)))
theorem mr_cell {post : Int32 → Prop} {L : Nat} {xs : Nat → Int32} {u : St0} {p1 : Int32} (hv : ¬ Int32.ofNat L ≤ p1 → vp_in p1 L) (hp : ∀ r, post r) : wpL_cellAt post L xs u p1 := br_c (fun _ => hp _) (fun c => And.intro (hv c) (hp _))
theorem mr_L {L : Nat} (hL : L ≤ 2) (p1 : Int32) (h : p1 = 0 ∨ p1 = 1) : ¬ Int32.ofNat L ≤ p1 → vp_in p1 L := by
  intro c
  have k : L = 0 ∨ L = 1 ∨ L = 2 := by omega
  rcases k with rfl | rfl | rfl <;> rcases h with rfl | rfl <;> first | exact vp_in_iff.mpr (by decide) | exact absurd (by decide) c
theorem i_vc (xs : Nat → Int32) (L : Nat) (hL : L ≤ 2) : wpL_law (fun r => r = 1) L xs := by
  unfold wpL_law
  refine mr_cell (mr_L hL 0 (Or.inl rfl)) (fun r1 => ?_)
  refine mr_cell (mr_L hL 1 (Or.inr rfl)) (fun r2 => ?_)
  exact ⟨746, 11920, by decide, by decide, mr_lawOf_ok r1 r2⟩
end
