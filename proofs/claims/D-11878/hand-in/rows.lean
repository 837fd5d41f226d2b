section
abbrev du_T6 : Type := Int32 × Int32 × List Int32 × List Int32 × List Int32 × List Int32
/-- an array as a list: 0 outside -/
def du_rd : List Int32 → Nat → Int32
  | [], _ => 0
  | x :: _, 0 => x
  | _ :: l, n + 1 => du_rd l n
/-- a store into it, padding with 0 -/
def du_st : List Int32 → Nat → Int32 → List Int32
  | [], 0, v => [v]
  | [], n + 1, v => 0 :: du_st [] n v
  | _ :: l, 0, v => v :: l
  | x :: l, n + 1, v => x :: du_st l n v
theorem du_rd_st : ∀ (n : Nat) (l : List Int32) (v : Int32) (j : Nat), du_rd (du_st l n v) j = if j = n then v else du_rd l j := by
  intro n
  induction n with
  | zero => intro l v j; cases l <;> cases j <;> simp [du_st, du_rd]
  | succ n ih => intro l v j; cases l <;> cases j <;> simp [du_st, du_rd, ih]
theorem du_upd (l : List Int32) (n : Nat) (v : Int32) : upd (du_rd l) n v = du_rd (du_st l n v) := by
  funext j
  rw [du_rd_st]
  rfl
theorem du_nil : (fun _ => 0) = du_rd [] := by
  funext j
  cases j <;> rfl
/-- an index is held against its bound -/
def du_g {α : Type} (i : Int32) (n : Nat) (x : Option α) : Option α := if i < 0 ∨ n ≤ i.toNatClampNeg then none else x
theorem du_gi {α : Type} {i : Int32} {n : Nat} {x : Option α} {y : α} {Q : Prop} (h : du_g i n x = some y) (f : vp_in i n → x = some y → Q) : vp_in i n ∧ Q := by
  unfold du_g at h
  by_cases c : i < 0 ∨ n ≤ i.toNatClampNeg
  · rw [if_pos c] at h
    exact absurd h (by simp)
  · rw [if_neg c] at h
    exact ⟨c, f c h⟩
/-- a boolean is 0 or 1 -/
def du_b {α : Type} (r : Int32) (x : Option α) : Option α := if r = 0 then x else if r = 1 then x else none
theorem du_b01 {α : Type} {r : Int32} {x : Option α} {y : α} (h : du_b r x = some y) : (r = 0 ∨ r = 1) ∧ x = some y := by
  unfold du_b at h
  by_cases c : r = 0
  · rw [if_pos c] at h
    exact ⟨Or.inl c, h⟩
  · rw [if_neg c] at h
    by_cases d : r = 1
    · rw [if_pos d] at h
      exact ⟨Or.inr d, h⟩
    · rw [if_neg d] at h
      exact absurd h (by simp)
theorem du_bi {α : Type} {r : Int32} {x : Option α} {y : α} {Q : Prop} (h : du_b r x = some y) (f : x = some y → Q) : narrow .boolean (.int r) = .int r ∧ fits .boolean (.int r) = true ∧ Q := by
  obtain ⟨c, h⟩ := du_b01 h
  rcases c with c | c
  · subst c; exact ⟨rfl, rfl, f h⟩
  · subst c; exact ⟨rfl, rfl, f h⟩
theorem du_bj {α : Type} {r : Int32} {x : Option α} {y : α} {Q : Prop} (h : du_b r x = some y) (f : vp_nar .boolean r = r → x = some y → Q) : Q := by
  obtain ⟨c, h⟩ := du_b01 h
  rcases c with c | c
  · subst c; exact f rfl h
  · subst c; exact f rfl h
theorem du_if {α : Type} {c : Prop} [Decidable c] {x z : Option α} {y : α} {A B : Prop} (h : (if c then x else z) = some y) (f : c → x = some y → A) (g : ¬ c → z = some y → B) : (c → A) ∧ (¬ c → B) :=
  ⟨fun hc => f hc (by rw [if_pos hc] at h; exact h), fun hc => g hc (by rw [if_neg hc] at h; exact h)⟩
theorem du_bd {α β : Type} {x : Option α} {f : α → Option β} {y : β} {Q : Prop} (h : x.bind f = some y) (k : ∀ z, x = some z → f z = some y → Q) : Q := by
  cases x with
  | none => exact absurd h (by simp)
  | some z => exact k z rfl h
theorem du_no {α : Type} {y : α} {Q : Prop} (h : (none : Option α) = some y) : Q := absurd h (by simp)
theorem du_gj {α : Type} {i : Int32} {n : Nat} {x : Option α} {y : α} {Q : Prop} (h : du_g i n x = some y) (f : vp_in i n → x = some y → Q) : Q := (du_gi h f).2
theorem du_4041 {x : Int32} (h : vp_in x 40) : vp_in x 41 := fun c => h (c.elim Or.inl (fun d => Or.inr (Nat.le_trans (by decide) d)))
theorem du_same {W : List Int32} {n : Nat} {v : Int32} (h : v = du_rd W n) : du_rd (du_st W n v) = du_rd W := by
  funext j
  rw [du_rd_st]
  by_cases c : j = n
  · rw [if_pos c, c, h]
  · rw [if_neg c]
end
section
/-- openLoop -/
def du_ol32 (S : List Int32) (x : Int32) : Option Int32 := if 0 ≤ x then du_g x 40 (some (du_rd S x.toNatClampNeg)) else some (-1)
def du_ol (K S : List Int32) : Nat → Int32 → Option Int32
  | 0, _ => none
  | n + 1, x => if x < 0 then du_ol32 S x else du_g x 40 (du_g (du_rd S x.toNatClampNeg) 40 (if du_rd K (du_rd S x.toNatClampNeg).toNatClampNeg = 2 then du_ol K S n (x + (-1)) else du_ol32 S x))
theorem du_ol32_ok {post : Int32 → Prop} {ln rd gd op nw lv : Int32} {a1 a2 a3 a4 a5 a7 a8 a9 a10 a11 : Nat → Int32} {S : List Int32} {x y : Int32} (h : du_ol32 S x = some y) (hp : post y) : wX_openLoop_32 post x ln rd gd op nw lv a1 a2 a3 a4 a5 (du_rd S) a7 a8 a9 a10 a11 :=
  du_if h (fun _ h => du_gi h (fun _ h => by cases h; exact hp)) (fun _ h => by cases h; exact hp)
theorem du_ol_ok {post : Int32 → Prop} {ln rd gd op nw lv : Int32} {a2 a3 a4 a5 a7 a8 a9 a10 a11 : Nat → Int32} {K S : List Int32} : ∀ (n : Nat) (x y : Int32), du_ol K S n x = some y → post y → wX_openLoop_7 post ln rd gd op nw lv (du_rd K) a2 a3 a4 a5 (du_rd S) a7 a8 a9 a10 a11 n x := by
  intro n
  induction n with
  | zero => intro x y h; exact du_no h
  | succ n ih =>
    intro x y h hp
    exact du_if h (fun _ h => du_ol32_ok h hp) (fun _ h => du_gi h (fun _ h => du_gi h (fun _ h => du_if h (fun _ h => nm_e (ih _ _ h hp)) (fun _ h => du_ol32_ok h hp))))
/-- placeToken -/
def du_pt43 (p op : Int32) (E L O S : List Int32) : Option du_T6 := du_g op 40 (some (1, op + 1, E, L, O, du_st S op.toNatClampNeg p))
def du_pt77b (p op r : Int32) (E L O S : List Int32) : Option du_T6 := du_g p 40 (if du_rd O p.toNatClampNeg < 0 then some (0, op, E, L, O, S) else some (1, op, E, L, O, S))
def du_pt77 (K : List Int32) (p op : Int32) (E L O S : List Int32) : Option du_T6 := (du_ol K S 41 (op - 1)).bind (fun r => du_pt77b p op r E L (du_st O p.toNatClampNeg r) S)
def du_pt115b (K : List Int32) (p k t op : Int32) (E L O S : List Int32) : Option du_T6 :=
  if k = 6 then du_g t 40 (some (1, op - 1, du_st E t.toNatClampNeg p, L, O, S)) else du_g t 40 (if du_rd K t.toNatClampNeg = 2 then (if du_rd L t.toNatClampNeg < 0 then some (1, op, E, du_st L t.toNatClampNeg p, O, S) else some (0, op, E, L, O, S)) else some (0, op, E, L, O, S))
def du_pt115 (K : List Int32) (p k op : Int32) (E L O S : List Int32) : Option du_T6 :=
  if op = 0 then some (0, op, E, L, O, S) else du_g (op - 1) 40 (du_g p 40 (du_pt115b K p k (du_rd S (op - 1).toNatClampNeg) op E L (du_st O p.toNatClampNeg (du_rd S (op - 1).toNatClampNeg)) S))
def du_pt2 (K : List Int32) (p k op : Int32) (E L O S : List Int32) : Option du_T6 :=
  if k = 2 then du_pt43 p op E L O S else if k = 4 then du_pt43 p op E L O S else if k = 5 then du_pt43 p op E L O S else if k = 7 then du_pt77 K p op E L O S else if k = 8 then du_pt77 K p op E L O S else if k = 3 then du_pt115 K p k op E L O S else if k = 6 then du_pt115 K p k op E L O S else some (1, op, E, L, O, S)
def du_pt (K : List Int32) (p op : Int32) (E L O S : List Int32) : Option du_T6 :=
  du_g p 40 (du_pt2 K p (du_rd K p.toNatClampNeg) op (du_st E p.toNatClampNeg (-1)) (du_st L p.toNatClampNeg (-1)) (du_st O p.toNatClampNeg (-1)) S)
theorem du_pt43_ok {post : Int32 → St2 → Prop} {ln rd gd nw lv : Int32} {a1 a2 a7 a8 a9 a10 a11 : Nat → Int32} {p op : Int32} {E L O S : List Int32} {y : du_T6} (h : du_pt43 p op E L O S = some y)
    (hp : post y.1 (ln, rd, gd, y.2.1, nw, lv, a1, a2, du_rd y.2.2.1, du_rd y.2.2.2.1, du_rd y.2.2.2.2.1, du_rd y.2.2.2.2.2, a7, a8, a9, a10, a11)) : wX_placeToken_43 post p ln rd gd op nw lv a1 a2 (du_rd E) (du_rd L) (du_rd O) (du_rd S) a7 a8 a9 a10 a11 :=
  du_gi h (fun _ h => nm_r (du_upd _ _ _) (nm_e (by cases h; exact hp)))
theorem du_pt77_ok {post : Int32 → St2 → Prop} {ln rd gd nw lv : Int32} {a2 a7 a8 a9 a10 a11 : Nat → Int32} {p op : Int32} {K E L O S : List Int32} {y : du_T6} (h : du_pt77 K p op E L O S = some y)
    (hp : post y.1 (ln, rd, gd, y.2.1, nw, lv, du_rd K, a2, du_rd y.2.2.1, du_rd y.2.2.2.1, du_rd y.2.2.2.2.1, du_rd y.2.2.2.2.2, a7, a8, a9, a10, a11)) : wX_placeToken_77 post p ln rd gd op nw lv (du_rd K) a2 (du_rd E) (du_rd L) (du_rd O) (du_rd S) a7 a8 a9 a10 a11 :=
  du_bd h (fun r hr h => nm_e ⟨41, du_ol_ok 41 _ r hr (du_gi h (fun i h => nm_r (du_upd _ _ _) ⟨i, du_if h (fun _ h => by cases h; exact hp) (fun _ h => by cases h; exact hp)⟩))⟩)
theorem du_pt115_ok {post : Int32 → St2 → Prop} {ln rd gd nw lv : Int32} {a2 a7 a8 a9 a10 a11 : Nat → Int32} {p k op : Int32} {K E L O S : List Int32} {y : du_T6} (h : du_pt115 K p k op E L O S = some y)
    (hp : post y.1 (ln, rd, gd, y.2.1, nw, lv, du_rd K, a2, du_rd y.2.2.1, du_rd y.2.2.2.1, du_rd y.2.2.2.2.1, du_rd y.2.2.2.2.2, a7, a8, a9, a10, a11)) : wX_placeToken_115 post p k ln rd gd op nw lv (du_rd K) a2 (du_rd E) (du_rd L) (du_rd O) (du_rd S) a7 a8 a9 a10 a11 :=
  du_if h (fun _ h => by cases h; exact hp) (fun _ h => du_gi h (fun _ h => nm_e (du_gi h (fun _ h => nm_r (du_upd _ _ _) (du_if h
    (fun _ h => du_gi h (fun _ h => nm_r (du_upd _ _ _) (nm_e (by cases h; exact hp))))
    (fun _ h => du_gi h (fun i h => du_if h (fun _ h => ⟨i, du_if h (fun _ h => ⟨i, nm_r (du_upd _ _ _) (by cases h; exact hp)⟩) (fun _ h => by cases h; exact hp)⟩) (fun _ h => by cases h; exact hp))))))))
theorem du_pt_ok {post : Int32 → St2 → Prop} {ln rd gd nw lv : Int32} {a2 a7 a8 a9 a10 a11 : Nat → Int32} {p op : Int32} {K E L O S : List Int32} {y : du_T6} (h : du_pt K p op E L O S = some y)
    (hp : post y.1 (ln, rd, gd, y.2.1, nw, lv, du_rd K, a2, du_rd y.2.2.1, du_rd y.2.2.2.1, du_rd y.2.2.2.2.1, du_rd y.2.2.2.2.2, a7, a8, a9, a10, a11)) : wpX_placeToken post (ln, rd, gd, op, nw, lv, du_rd K, a2, du_rd E, du_rd L, du_rd O, du_rd S, a7, a8, a9, a10, a11) p :=
  du_gi h (fun i h => nm_e ⟨i, nm_r (du_upd _ _ _) ⟨i, nm_r (du_upd _ _ _) ⟨i, nm_r (du_upd _ _ _)
    (du_if h (fun _ h => du_pt43_ok h hp) (fun _ h => du_if h (fun _ h => du_pt43_ok h hp) (fun _ h => du_if h (fun _ h => du_pt43_ok h hp) (fun _ h => du_if h (fun _ h => du_pt77_ok h hp) (fun _ h => du_if h (fun _ h => du_pt77_ok h hp) (fun _ h => du_if h (fun _ h => du_pt115_ok h hp) (fun _ h => du_if h (fun _ h => du_pt115_ok h hp) (fun _ h => by cases h; exact hp))))))))⟩⟩⟩)
/-- findStructure -/
def du_fs42 (gd op : Int32) (E L O S : List Int32) : Option du_T6 := if op ≤ 0 then some (gd, op, E, L, O, S) else some (0, op, E, L, O, S)
def du_fs (K : List Int32) (ln : Int32) : Nat → Int32 → Int32 → Int32 → List Int32 → List Int32 → List Int32 → List Int32 → Option du_T6
  | 0, _, _, _, _, _, _, _ => none
  | n + 1, x, gd, op, E, L, O, S => if ln ≤ x then du_fs42 gd op E L O S else if gd = 0 then du_fs42 gd op E L O S else (du_pt K x op E L O S).bind (fun y => du_b y.1 (du_fs K ln n (x + 1) y.1 y.2.1 y.2.2.1 y.2.2.2.1 y.2.2.2.2.1 y.2.2.2.2.2))
theorem du_fs42_ok {post : St2 → Prop} {ln rd nw lv : Int32} {a1 a2 a7 a8 a9 a10 a11 : Nat → Int32} {gd op : Int32} {E L O S : List Int32} {y : du_T6} (h : du_fs42 gd op E L O S = some y)
    (hp : post (ln, rd, y.1, y.2.1, nw, lv, a1, a2, du_rd y.2.2.1, du_rd y.2.2.2.1, du_rd y.2.2.2.2.1, du_rd y.2.2.2.2.2, a7, a8, a9, a10, a11)) : wX_findStructure_42 post ln rd gd op nw lv a1 a2 (du_rd E) (du_rd L) (du_rd O) (du_rd S) a7 a8 a9 a10 a11 :=
  du_if h (fun _ h => by cases h; exact hp) (fun _ h => by cases h; exact hp)
theorem du_fs_ok {post : St2 → Prop} {ln rd nw lv : Int32} {a2 a7 a8 a9 a10 a11 : Nat → Int32} {K : List Int32} : ∀ (n : Nat) (x gd op : Int32) (E L O S : List Int32) (y : du_T6), du_fs K ln n x gd op E L O S = some y →
    post (ln, rd, y.1, y.2.1, nw, lv, du_rd K, a2, du_rd y.2.2.1, du_rd y.2.2.2.1, du_rd y.2.2.2.2.1, du_rd y.2.2.2.2.2, a7, a8, a9, a10, a11) → wX_findStructure_12 post n x ln rd gd op nw lv (du_rd K) a2 (du_rd E) (du_rd L) (du_rd O) (du_rd S) a7 a8 a9 a10 a11 := by
  intro n
  induction n with
  | zero => intro x gd op E L O S y h; exact du_no h
  | succ n ih =>
    intro x gd op E L O S y h hp
    exact du_if h (fun _ h => du_fs42_ok h hp) (fun _ h => du_if h (fun _ h => du_fs42_ok h hp) (fun _ h => du_bd h (fun z hz h => du_pt_ok hz (du_bi h (fun h => nm_e (ih _ _ _ _ _ _ _ _ h hp))))))
theorem du_fstr {post : St2 → Prop} {ln rd nw lv : Int32} {a2 a7 a8 a9 a10 a11 : Nat → Int32} {gd op : Int32} {K E L O S : List Int32} (n : Nat) {y : du_T6} (h : du_fs K ln n 0 1 0 E L O S = some y)
    (hp : post (ln, rd, y.1, y.2.1, nw, lv, du_rd K, a2, du_rd y.2.2.1, du_rd y.2.2.2.1, du_rd y.2.2.2.2.1, du_rd y.2.2.2.2.2, a7, a8, a9, a10, a11)) : wpX_findStructure post (ln, rd, gd, op, nw, lv, du_rd K, a2, du_rd E, du_rd L, du_rd O, du_rd S, a7, a8, a9, a10, a11) :=
  ⟨n, du_fs_ok n _ _ _ _ _ _ _ _ h hp⟩
end
section
/-- meetAt, takeMeeting, takeBack -/
def du_me (p nw lv : Int32) (M N : List Int32) : Option (List Int32 × List Int32) := if lv = 0 then some (M, N) else du_g p 40 (some (du_st M p.toNatClampNeg (du_rd M p.toNatClampNeg &&& nw), du_st N p.toNatClampNeg 1))
def du_tm (p : Int32) (M N : List Int32) : Option (Int32 × Int32) := du_g p 40 (du_b (du_rd N p.toNatClampNeg) (some (du_rd M p.toNatClampNeg, du_rd N p.toNatClampNeg)))
def du_tb (p : Int32) (B C M N : List Int32) : Option (List Int32 × List Int32) := du_g p 41 (du_b (du_rd C p.toNatClampNeg) (du_me p (du_rd B p.toNatClampNeg) (du_rd C p.toNatClampNeg) M N))
theorem du_me_ok {post : St2 → Prop} {ln rd gd op nw lv : Int32} {a1 a2 a3 a4 a5 a6 a7 a8 a11 : Nat → Int32} {p : Int32} {M N : List Int32} {y : List Int32 × List Int32} (h : du_me p nw lv M N = some y) (hp : post (ln, rd, gd, op, nw, lv, a1, a2, a3, a4, a5, a6, a7, a8, du_rd y.1, du_rd y.2, a11)) : wpX_meetAt post (ln, rd, gd, op, nw, lv, a1, a2, a3, a4, a5, a6, a7, a8, du_rd M, du_rd N, a11) p :=
  du_if h (fun _ h => by cases h; exact hp) (fun _ h => du_gi h (fun i h => ⟨i, nm_r (du_upd _ _ _) ⟨i, nm_r (du_upd _ _ _) (by cases h; exact hp)⟩⟩))
theorem du_tm_ok {post : St2 → Prop} {ln rd gd op nw lv : Int32} {a1 a2 a3 a4 a5 a6 a7 a8 a11 : Nat → Int32} {p : Int32} {M N : List Int32} {y : Int32 × Int32} (h : du_tm p M N = some y) (hp : post (ln, rd, gd, op, y.1, y.2, a1, a2, a3, a4, a5, a6, a7, a8, du_rd M, du_rd N, a11)) : wpX_takeMeeting post (ln, rd, gd, op, nw, lv, a1, a2, a3, a4, a5, a6, a7, a8, du_rd M, du_rd N, a11) p :=
  du_gi h (fun i h => nm_e ⟨i, nm_e (du_bi h (fun h => by cases h; exact hp))⟩)
theorem du_tb_ok {post : St2 → Prop} {ln rd gd op nw lv : Int32} {a1 a2 a3 a4 a5 a6 a11 : Nat → Int32} {p : Int32} {B C M N : List Int32} {y : List Int32 × List Int32} (h : du_tb p B C M N = some y) (hp : post (ln, rd, gd, op, du_rd B p.toNatClampNeg, du_rd C p.toNatClampNeg, a1, a2, a3, a4, a5, a6, du_rd B, du_rd C, du_rd y.1, du_rd y.2, a11)) : wpX_takeBack post (ln, rd, gd, op, nw, lv, a1, a2, a3, a4, a5, a6, du_rd B, du_rd C, du_rd M, du_rd N, a11) p :=
  du_gi h (fun i h => nm_e ⟨i, nm_e (du_bi h (fun h => du_me_ok h hp))⟩)
/-- forwardEnd -/
def du_fe36 (p t : Int32) (B C M N : List Int32) : Option du_T6 := (du_tm t M N).bind (fun z => du_g p 41 (du_b z.2 (some (z.1, z.2, du_st B p.toNatClampNeg z.1, du_st C p.toNatClampNeg z.2, M, N))))
def du_fe101 (t : Int32) (B C M N : List Int32) : Option du_T6 := (du_tm t M N).bind (fun z => some (z.1, z.2, B, C, M, N))
def du_fe4 (t : Int32) (B C M N : List Int32) : Option du_T6 := (du_tb t B C M N).bind (fun w => du_fe101 t B C w.1 w.2)
def du_fe2 (K L : List Int32) (t p nw lv : Int32) (B C M N : List Int32) : Option du_T6 :=
  du_g t 40 (if du_rd K t.toNatClampNeg = 2 then (du_me t nw lv M N).bind (fun z => if 0 ≤ du_rd L t.toNatClampNeg then du_fe36 p t B C z.1 z.2 else (du_tb t B C z.1 z.2).bind (fun w => du_fe36 p t B C w.1 w.2)) else du_g p 41 (du_b lv (if du_rd K t.toNatClampNeg = 4 then du_fe4 t (du_st B p.toNatClampNeg nw) (du_st C p.toNatClampNeg lv) M N else du_fe101 t (du_st B p.toNatClampNeg nw) (du_st C p.toNatClampNeg lv) M N)))
def du_fe (K L O : List Int32) (p nw lv : Int32) (B C M N : List Int32) : Option du_T6 := du_g p 40 (du_fe2 K L (du_rd O p.toNatClampNeg) p nw lv B C M N)
theorem du_fe36_ok {post : St2 → Prop} {ln rd gd op nw lv : Int32} {a1 a2 a3 a4 a5 a6 a11 : Nat → Int32} {p t : Int32} {B C M N : List Int32} {y : du_T6} (h : du_fe36 p t B C M N = some y)
    (hp : post (ln, rd, gd, op, y.1, y.2.1, a1, a2, a3, a4, a5, a6, du_rd y.2.2.1, du_rd y.2.2.2.1, du_rd y.2.2.2.2.1, du_rd y.2.2.2.2.2, a11)) : wX_forwardEnd_36 post p t ln rd gd op nw lv a1 a2 a3 a4 a5 a6 (du_rd B) (du_rd C) (du_rd M) (du_rd N) a11 :=
  du_bd h (fun z hz h => du_tm_ok hz (du_gi h (fun i h => nm_r (du_upd _ _ _) ⟨i, du_bj h (fun e h => nm_r ((congrArg (upd _ _) e).trans (du_upd _ _ _)) (by cases h; exact hp))⟩)))
theorem du_fe101_ok {post : St2 → Prop} {ln rd gd op nw lv : Int32} {a1 a2 a3 a4 a5 a6 a11 : Nat → Int32} {t : Int32} {B C M N : List Int32} {y : du_T6} (h : du_fe101 t B C M N = some y)
    (hp : post (ln, rd, gd, op, y.1, y.2.1, a1, a2, a3, a4, a5, a6, du_rd y.2.2.1, du_rd y.2.2.2.1, du_rd y.2.2.2.2.1, du_rd y.2.2.2.2.2, a11)) : wX_forwardEnd_101 post t ln rd gd op nw lv a1 a2 a3 a4 a5 a6 (du_rd B) (du_rd C) (du_rd M) (du_rd N) a11 :=
  du_bd h (fun z hz h => du_tm_ok hz (by cases h; exact hp))
theorem du_fe_ok {post : St2 → Prop} {ln rd gd op nw lv : Int32} {a2 a3 a6 a11 : Nat → Int32} {p : Int32} {K L O B C M N : List Int32} {y : du_T6} (h : du_fe K L O p nw lv B C M N = some y)
    (hp : post (ln, rd, gd, op, y.1, y.2.1, du_rd K, a2, a3, du_rd L, du_rd O, a6, du_rd y.2.2.1, du_rd y.2.2.2.1, du_rd y.2.2.2.2.1, du_rd y.2.2.2.2.2, a11)) : wpX_forwardEnd post (ln, rd, gd, op, nw, lv, du_rd K, a2, a3, du_rd L, du_rd O, a6, du_rd B, du_rd C, du_rd M, du_rd N, a11) p :=
  du_gi h (fun i h => nm_e (du_gi h (fun j h => du_if h
    (fun _ h => du_bd h (fun z hz h => du_me_ok hz ⟨j, du_if h (fun _ h => du_fe36_ok h hp) (fun _ h => du_bd h (fun w hw h => du_tb_ok hw (du_fe36_ok h hp)))⟩))
    (fun _ h => du_gi h (fun i h => nm_r (du_upd _ _ _) ⟨i, du_bj h (fun e h => nm_r ((congrArg (upd _ _) e).trans (du_upd _ _ _)) ⟨j, du_if h (fun _ h => du_bd h (fun w hw h => du_tb_ok hw (du_fe101_ok h hp))) (fun _ h => du_fe101_ok h hp)⟩)⟩)))))
/-- forward -/
def du_fw148 (k nw lv : Int32) (B C M N : List Int32) : Option du_T6 := if k < 7 then some (nw, lv, B, C, M, N) else some (63, 0, B, C, M, N)
def du_fw132 (O : List Int32) (p k nw lv : Int32) (B C M N : List Int32) : Option du_T6 := if k = 7 then (du_me (du_rd O p.toNatClampNeg) nw lv M N).bind (fun z => du_fw148 k nw lv B C z.1 z.2) else du_fw148 k nw lv B C M N
def du_fw87 (O : List Int32) (p k nw lv : Int32) (B C M N : List Int32) : Option du_T6 :=
  if k = 3 then (du_me (du_rd O p.toNatClampNeg) nw lv M N).bind (fun z => du_g (du_rd O p.toNatClampNeg) 41 (du_b (du_rd C (du_rd O p.toNatClampNeg).toNatClampNeg) (du_fw132 O p k (du_rd B (du_rd O p.toNatClampNeg).toNatClampNeg) (du_rd C (du_rd O p.toNatClampNeg).toNatClampNeg) B C z.1 z.2))) else du_fw132 O p k nw lv B C M N
def du_fw67 (O : List Int32) (p k nw lv : Int32) (B C M N : List Int32) : Option du_T6 :=
  if k = 2 then du_fw87 O p k nw lv B C (du_st M p.toNatClampNeg 63) (du_st N p.toNatClampNeg 0) else if k = 4 then du_fw87 O p k nw lv B C (du_st M p.toNatClampNeg 63) (du_st N p.toNatClampNeg 0) else if k = 5 then du_fw87 O p k nw lv B C (du_st M p.toNatClampNeg 63) (du_st N p.toNatClampNeg 0) else du_fw87 O p k nw lv B C M N
def du_fw2 (K V L O : List Int32) (p k nw lv : Int32) (B C M N : List Int32) : Option du_T6 :=
  if k = 6 then du_fe K L O p nw lv B C M N else du_g p 41 (du_b lv (if k = 0 then (if lv = 0 then du_fw67 O p k nw lv (du_st B p.toNatClampNeg nw) (du_st C p.toNatClampNeg lv) M N else du_fw67 O p k (nw ||| ((1 : Int32) <<< ((du_rd V p.toNatClampNeg) &&& 31))) lv (du_st B p.toNatClampNeg nw) (du_st C p.toNatClampNeg lv) M N) else du_fw67 O p k nw lv (du_st B p.toNatClampNeg nw) (du_st C p.toNatClampNeg lv) M N))
def du_fw (K V L O : List Int32) (p nw lv : Int32) (B C M N : List Int32) : Option du_T6 := du_g p 40 (du_fw2 K V L O p (du_rd K p.toNatClampNeg) nw lv B C M N)
theorem du_fw148_ok {post : St2 → Prop} {ln rd gd op nw lv : Int32} {a1 a2 a3 a4 a5 a6 a11 : Nat → Int32} {k : Int32} {B C M N : List Int32} {y : du_T6} (h : du_fw148 k nw lv B C M N = some y)
    (hp : post (ln, rd, gd, op, y.1, y.2.1, a1, a2, a3, a4, a5, a6, du_rd y.2.2.1, du_rd y.2.2.2.1, du_rd y.2.2.2.2.1, du_rd y.2.2.2.2.2, a11)) : wX_forward_148 post k ln rd gd op nw lv a1 a2 a3 a4 a5 a6 (du_rd B) (du_rd C) (du_rd M) (du_rd N) a11 :=
  du_if h (fun _ h => by cases h; exact hp) (fun _ h => by cases h; exact hp)
theorem du_fw132_ok {post : St2 → Prop} {ln rd gd op nw lv : Int32} {a1 a2 a3 a4 a6 a11 : Nat → Int32} {p k : Int32} {O B C M N : List Int32} {y : du_T6} (i : vp_in p 40) (h : du_fw132 O p k nw lv B C M N = some y)
    (hp : post (ln, rd, gd, op, y.1, y.2.1, a1, a2, a3, a4, du_rd O, a6, du_rd y.2.2.1, du_rd y.2.2.2.1, du_rd y.2.2.2.2.1, du_rd y.2.2.2.2.2, a11)) : wX_forward_132 post p k ln rd gd op nw lv a1 a2 a3 a4 (du_rd O) a6 (du_rd B) (du_rd C) (du_rd M) (du_rd N) a11 :=
  du_if h (fun _ h => ⟨i, du_bd h (fun z hz h => du_me_ok hz (du_fw148_ok h hp))⟩) (fun _ h => du_fw148_ok h hp)
theorem du_fw87_ok {post : St2 → Prop} {ln rd gd op nw lv : Int32} {a1 a2 a3 a4 a6 a11 : Nat → Int32} {p k : Int32} {O B C M N : List Int32} {y : du_T6} (i : vp_in p 40) (h : du_fw87 O p k nw lv B C M N = some y)
    (hp : post (ln, rd, gd, op, y.1, y.2.1, a1, a2, a3, a4, du_rd O, a6, du_rd y.2.2.1, du_rd y.2.2.2.1, du_rd y.2.2.2.2.1, du_rd y.2.2.2.2.2, a11)) : wX_forward_87 post p k ln rd gd op nw lv a1 a2 a3 a4 (du_rd O) a6 (du_rd B) (du_rd C) (du_rd M) (du_rd N) a11 :=
  du_if h (fun _ h => ⟨i, du_bd h (fun z hz h => du_me_ok hz ⟨i, du_gi h (fun j h => nm_e ⟨i, j, nm_e (du_bi h (fun h => du_fw132_ok i h hp))⟩)⟩)⟩) (fun _ h => du_fw132_ok i h hp)
theorem du_fw82_ok {post : St2 → Prop} {ln rd gd op nw lv : Int32} {a1 a2 a3 a4 a6 a11 : Nat → Int32} {p k : Int32} {O B C M N : List Int32} {y : du_T6} (i : vp_in p 40) (h : du_fw87 O p k nw lv B C (du_st M p.toNatClampNeg 63) (du_st N p.toNatClampNeg 0) = some y)
    (hp : post (ln, rd, gd, op, y.1, y.2.1, a1, a2, a3, a4, du_rd O, a6, du_rd y.2.2.1, du_rd y.2.2.2.1, du_rd y.2.2.2.2.1, du_rd y.2.2.2.2.2, a11)) : wX_forward_82 post p k ln rd gd op nw lv a1 a2 a3 a4 (du_rd O) a6 (du_rd B) (du_rd C) (du_rd M) (du_rd N) a11 :=
  ⟨i, nm_r (du_upd _ _ _) ⟨i, nm_r (du_upd _ _ _) (du_fw87_ok i h hp)⟩⟩
theorem du_fw67_ok {post : St2 → Prop} {ln rd gd op nw lv : Int32} {a1 a2 a3 a4 a6 a11 : Nat → Int32} {p k : Int32} {O B C M N : List Int32} {y : du_T6} (i : vp_in p 40) (h : du_fw67 O p k nw lv B C M N = some y)
    (hp : post (ln, rd, gd, op, y.1, y.2.1, a1, a2, a3, a4, du_rd O, a6, du_rd y.2.2.1, du_rd y.2.2.2.1, du_rd y.2.2.2.2.1, du_rd y.2.2.2.2.2, a11)) : wX_forward_67 post p k ln rd gd op nw lv a1 a2 a3 a4 (du_rd O) a6 (du_rd B) (du_rd C) (du_rd M) (du_rd N) a11 :=
  du_if h (fun _ h => du_fw82_ok i h hp) (fun _ h => du_if h (fun _ h => du_fw82_ok i h hp) (fun _ h => du_if h (fun _ h => du_fw82_ok i h hp) (fun _ h => du_fw87_ok i h hp)))
theorem du_fw_ok {post : St2 → Prop} {ln rd gd op nw lv : Int32} {a3 a6 a11 : Nat → Int32} {p : Int32} {K V L O B C M N : List Int32} {y : du_T6} (h : du_fw K V L O p nw lv B C M N = some y)
    (hp : post (ln, rd, gd, op, y.1, y.2.1, du_rd K, du_rd V, a3, du_rd L, du_rd O, a6, du_rd y.2.2.1, du_rd y.2.2.2.1, du_rd y.2.2.2.2.1, du_rd y.2.2.2.2.2, a11)) : wpX_forward post (ln, rd, gd, op, nw, lv, du_rd K, du_rd V, a3, du_rd L, du_rd O, a6, du_rd B, du_rd C, du_rd M, du_rd N, a11) p :=
  du_gi h (fun i h => nm_e (du_if h (fun _ h => du_fe_ok h hp) (fun _ h => du_gi h (fun j h => nm_r (du_upd _ _ _) ⟨j, du_bj h (fun e h => nm_r ((congrArg (upd _ _) e).trans (du_upd _ _ _))
    (du_if h (fun _ h => du_if h (fun _ h => du_fw67_ok i h hp) (fun _ h => ⟨i, nm_e (du_fw67_ok i h hp)⟩)) (fun _ h => du_fw67_ok i h hp)))⟩))))
/-- the loop of prepare -/
def du_pf (K V L O : List Int32) (ln : Int32) : Nat → Int32 → Int32 → Int32 → List Int32 → List Int32 → List Int32 → List Int32 → Option du_T6
  | 0, _, _, _, _, _, _, _ => none
  | n + 1, x, nw, lv, B, C, M, N => if ln ≤ x then du_g ln 41 (du_b lv (some (nw, lv, du_st B ln.toNatClampNeg nw, du_st C ln.toNatClampNeg lv, M, N))) else (du_fw K V L O x nw lv B C M N).bind (fun y => du_pf K V L O ln n (x + 1) y.1 y.2.1 y.2.2.1 y.2.2.2.1 y.2.2.2.2.1 y.2.2.2.2.2)
theorem du_pf_ok {post : St2 → Prop} {ln rd gd op : Int32} {a3 a6 a11 : Nat → Int32} {K V L O : List Int32} : ∀ (n : Nat) (x nw lv : Int32) (B C M N : List Int32) (y : du_T6), du_pf K V L O ln n x nw lv B C M N = some y →
    (∀ q : St2 → Prop, (∀ s, post s → q s) → wpX_backward q (ln, rd, gd, op, y.1, y.2.1, du_rd K, du_rd V, a3, du_rd L, du_rd O, a6, du_rd y.2.2.1, du_rd y.2.2.2.1, du_rd y.2.2.2.2.1, du_rd y.2.2.2.2.2, a11)) →
    wX_prepare_37 post n x ln rd gd op nw lv (du_rd K) (du_rd V) a3 (du_rd L) (du_rd O) a6 (du_rd B) (du_rd C) (du_rd M) (du_rd N) a11 := by
  intro n
  induction n with
  | zero => intro x nw lv B C M N y h; exact du_no h
  | succ n ih =>
    intro x nw lv B C M N y h hp
    exact du_if h (fun _ h => du_gi h (fun i h => nm_r (du_upd _ _ _) ⟨i, du_bj h (fun e h => nm_r ((congrArg (upd _ _) e).trans (du_upd _ _ _)) (by cases h; exact hp _ (fun ⟨_, _, _, _, _, _, _, _, _, _, _, _, _, _, _, _, _⟩ hs => hs)))⟩))
      (fun _ h => du_bd h (fun z hz h => du_fw_ok hz (nm_e (ih _ _ _ _ _ _ _ _ h hp))))
end
section
/-- onward, otherWay, wantedBehind -/
def du_on52 (E O : List Int32) (ln p k : Int32) : Option Int32 := if k = 7 then du_g (du_rd O p.toNatClampNeg) 40 (some (du_rd E (du_rd O p.toNatClampNeg).toNatClampNeg + 1)) else if k = 8 then some (du_rd O p.toNatClampNeg) else if k = 9 then some ln else some (p + 1)
def du_on2 (K E O : List Int32) (ln p k : Int32) : Option Int32 := if k = 3 then du_g (du_rd O p.toNatClampNeg) 40 (some (du_rd E (du_rd O p.toNatClampNeg).toNatClampNeg)) else if k = 6 then du_g (du_rd O p.toNatClampNeg) 40 (if du_rd K (du_rd O p.toNatClampNeg).toNatClampNeg = 2 then du_on52 E O ln p k else some (du_rd O p.toNatClampNeg)) else du_on52 E O ln p k
def du_on (K E O : List Int32) (ln p : Int32) : Option Int32 := du_g p 40 (du_on2 K E O ln p (du_rd K p.toNatClampNeg))
def du_ow (K E L : List Int32) (p : Int32) : Option Int32 := du_g p 40 (if du_rd K p.toNatClampNeg = 4 then some (du_rd E p.toNatClampNeg + 1) else if du_rd K p.toNatClampNeg = 2 then (if du_rd L p.toNatClampNeg < 0 then some (du_rd E p.toNatClampNeg) else some (du_rd L p.toNatClampNeg + 1)) else some (-1))
def du_wb (K E L O W : List Int32) (ln p : Int32) : Option Int32 := (du_on K E O ln p).bind (fun r => du_g r 41 ((du_ow K E L p).bind (fun q => if 0 ≤ q then du_g q 41 (some (du_rd W r.toNatClampNeg ||| du_rd W q.toNatClampNeg)) else some (du_rd W r.toNatClampNeg))))
theorem du_on52_ok {post : Int32 → Prop} {ln rd gd op nw lv : Int32} {a1 a2 a4 a6 a7 a8 a9 a10 a11 : Nat → Int32} {E O : List Int32} {p k y : Int32} (i : vp_in p 40) (h : du_on52 E O ln p k = some y) (hp : post y) : wX_onward_52 post p k ln rd gd op nw lv a1 a2 (du_rd E) a4 (du_rd O) a6 a7 a8 a9 a10 a11 :=
  du_if h (fun _ h => ⟨i, du_gi h (fun _ h => by cases h; exact hp)⟩) (fun _ h => du_if h (fun _ h => ⟨i, by cases h; exact hp⟩) (fun _ h => du_if h (fun _ h => by cases h; exact hp) (fun _ h => by cases h; exact hp)))
theorem du_on_ok {post : Int32 → Prop} {ln rd gd op nw lv : Int32} {a2 a4 a6 a7 a8 a9 a10 a11 : Nat → Int32} {K E O : List Int32} {p y : Int32} (h : du_on K E O ln p = some y) (hp : post y) : wpX_onward post (ln, rd, gd, op, nw, lv, du_rd K, a2, du_rd E, a4, du_rd O, a6, a7, a8, a9, a10, a11) p :=
  du_gi h (fun i h => nm_e (du_if h (fun _ h => ⟨i, du_gi h (fun _ h => by cases h; exact hp)⟩) (fun _ h => du_if h (fun _ h => ⟨i, du_gi h (fun _ h => du_if h (fun _ h => du_on52_ok i h hp) (fun _ h => ⟨i, by cases h; exact hp⟩))⟩) (fun _ h => du_on52_ok i h hp))))
theorem du_ow_ok {post : Int32 → Prop} {ln rd gd op nw lv : Int32} {a2 a5 a6 a7 a8 a9 a10 a11 : Nat → Int32} {K E L : List Int32} {p y : Int32} (h : du_ow K E L p = some y) (hp : post y) : wpX_otherWay post (ln, rd, gd, op, nw, lv, du_rd K, a2, du_rd E, du_rd L, a5, a6, a7, a8, a9, a10, a11) p :=
  du_gi h (fun i h => du_if h (fun _ h => ⟨i, by cases h; exact hp⟩) (fun _ h => ⟨i, du_if h (fun _ h => ⟨i, du_if h (fun _ h => ⟨i, by cases h; exact hp⟩) (fun _ h => ⟨i, by cases h; exact hp⟩)⟩) (fun _ h => by cases h; exact hp)⟩))
theorem du_wb_ok {post : Int32 → Prop} {ln rd gd op nw lv : Int32} {a2 a6 a7 a8 a9 a10 : Nat → Int32} {K E L O W : List Int32} {p y : Int32} (h : du_wb K E L O W ln p = some y) (hp : post y) : wpX_wantedBehind post (ln, rd, gd, op, nw, lv, du_rd K, a2, du_rd E, du_rd L, du_rd O, a6, a7, a8, a9, a10, du_rd W) p := by
  unfold wpX_wantedBehind
  exact du_bd h (fun r hr h => du_on_ok hr (du_gi h (fun _ h => nm_e (du_bd h (fun q hq h => du_ow_ok hq (du_if h (fun _ h => du_gi h (fun _ h => by cases h; exact hp)) (fun _ h => by cases h; exact hp)))))))
/-- one pass -/
def du_v1 (k v r : Int32) : Int32 := if k = 0 then r &&& (((1 : Int32) <<< (v &&& 31)) ^^^ (-1)) else r
def du_v2 (k v r : Int32) : Int32 := if k = 1 then r ||| ((1 : Int32) <<< (v &&& 31)) else r
def du_ps (K V E L O : List Int32) (ln : Int32) : Nat → Int32 → List Int32 → Option (List Int32)
  | 0, _, _ => none
  | n + 1, x, W => if x < 0 then some W else du_g x 40 ((du_wb K E L O W ln x).bind (fun r => du_ps K V E L O ln n (x + (-1)) (du_st W x.toNatClampNeg (du_v2 (du_rd K x.toNatClampNeg) (du_rd V x.toNatClampNeg) (du_v1 (du_rd K x.toNatClampNeg) (du_rd V x.toNatClampNeg) r)))))
theorem du_105_ok {post : St2 → Prop} {J27 J47 : Int32 → Int32 → (Nat → Int32) → (Nat → Int32) → (Nat → Int32) → (Nat → Int32) → (Nat → Int32) → (Nat → Int32) → (Nat → Int32) → (Nat → Int32) → (Nat → Int32) → (Nat → Int32) → (Nat → Int32) → Prop} {ln rd gd op nw lv : Int32} {a1 a2 a3 a4 a5 a6 a7 a8 a9 a10 : Nat → Int32} {W : List Int32} {x x1 x2 x4 : Int32} (i : vp_in x 41)
    (hJ : ∀ m, (m = 0 → x1 = 0 ∧ x4 = du_rd W x.toNatClampNeg) → J47 m (x + (-1)) a1 a2 a3 a4 a5 a6 a7 a8 a9 a10 (du_rd (du_st W x.toNatClampNeg x4))) : wX_backward_105 post J27 J47 x1 x2 x x4 ln rd gd op nw lv a1 a2 a3 a4 a5 a6 a7 a8 a9 a10 (du_rd W) :=
  ⟨i, br_c (fun c => ⟨i, nm_r (du_upd _ _ _) (nm_e (hJ x1 (fun e => ⟨e, c⟩)))⟩) (fun c => ⟨i, nm_r (du_upd _ _ _) (nm_e (hJ 1 (fun e => absurd e (by decide))))⟩)⟩
theorem du_82_ok {post : St2 → Prop} {J27 J47 : Int32 → Int32 → (Nat → Int32) → (Nat → Int32) → (Nat → Int32) → (Nat → Int32) → (Nat → Int32) → (Nat → Int32) → (Nat → Int32) → (Nat → Int32) → (Nat → Int32) → (Nat → Int32) → (Nat → Int32) → Prop} {ln rd gd op nw lv : Int32} {a1 a2 a3 a4 a5 a6 a7 a8 a9 a10 : Nat → Int32} {W : List Int32} {x x1 x2 x4 : Int32} (i : vp_in x 40)
    (hJ : ∀ m, (m = 0 → x1 = 0 ∧ du_v2 (a1 x.toNatClampNeg) (a2 x.toNatClampNeg) x4 = du_rd W x.toNatClampNeg) → J47 m (x + (-1)) a1 a2 a3 a4 a5 a6 a7 a8 a9 a10 (du_rd (du_st W x.toNatClampNeg (du_v2 (a1 x.toNatClampNeg) (a2 x.toNatClampNeg) x4)))) : wX_backward_82 post J27 J47 x1 x2 x x4 ln rd gd op nw lv a1 a2 a3 a4 a5 a6 a7 a8 a9 a10 (du_rd W) := by
  by_cases c : a1 x.toNatClampNeg = 1
  · have e : du_v2 (a1 x.toNatClampNeg) (a2 x.toNatClampNeg) x4 = x4 ||| ((1 : Int32) <<< ((a2 x.toNatClampNeg) &&& 31)) := if_pos c
    rw [e] at hJ
    exact ⟨i, br_t c ⟨i, nm_e (du_105_ok (du_4041 i) hJ)⟩⟩
  · have e : du_v2 (a1 x.toNatClampNeg) (a2 x.toNatClampNeg) x4 = x4 := if_neg c
    rw [e] at hJ
    exact ⟨i, br_f c (du_105_ok (du_4041 i) hJ)⟩
theorem du_ps_ok {post : St2 → Prop} {J : Int32 → Int32 → (Nat → Int32) → (Nat → Int32) → (Nat → Int32) → (Nat → Int32) → (Nat → Int32) → (Nat → Int32) → (Nat → Int32) → (Nat → Int32) → (Nat → Int32) → (Nat → Int32) → (Nat → Int32) → Prop} {ln rd gd op nw lv : Int32} {a6 a7 a8 a9 a10 : Nat → Int32} {K V E L O : List Int32} {x2 : Int32} :
    ∀ (n : Nat) (x x1 : Int32) (W y : List Int32), du_ps K V E L O ln n x W = some y →
    (∀ m, (m = 0 → x1 = 0 ∧ du_rd y = du_rd W) → J m (x2 + 1) (du_rd K) (du_rd V) (du_rd E) (du_rd L) (du_rd O) a6 a7 a8 a9 a10 (du_rd y)) →
    wX_backward_47 post J x2 ln rd gd op nw lv n x1 x (du_rd K) (du_rd V) (du_rd E) (du_rd L) (du_rd O) a6 a7 a8 a9 a10 (du_rd W) := by
  intro n
  induction n with
  | zero => intro x x1 W y h; exact du_no h
  | succ n ih =>
    intro x x1 W y h hp
    refine du_if h (fun _ h => nm_e (by cases h; exact hp _ (fun e => ⟨e, rfl⟩))) (fun _ h => du_gj h (fun i h => du_bd h (fun r hr h => du_wb_ok hr ⟨i, ?_⟩)))
    have go : ∀ m, (m = 0 → x1 = 0 ∧ du_v2 (du_rd K x.toNatClampNeg) (du_rd V x.toNatClampNeg) (du_v1 (du_rd K x.toNatClampNeg) (du_rd V x.toNatClampNeg) r) = du_rd W x.toNatClampNeg) → wX_backward_47 post J x2 ln rd gd op nw lv n m (x + (-1)) (du_rd K) (du_rd V) (du_rd E) (du_rd L) (du_rd O) a6 a7 a8 a9 a10 (du_rd (du_st W x.toNatClampNeg (du_v2 (du_rd K x.toNatClampNeg) (du_rd V x.toNatClampNeg) (du_v1 (du_rd K x.toNatClampNeg) (du_rd V x.toNatClampNeg) r)))) :=
      fun m hm => ih _ m _ y h (fun m' hm' => hp m' (fun e => ⟨(hm (hm' e).1).1, (hm' e).2.trans (du_same (hm (hm' e).1).2)⟩))
    by_cases c : du_rd K x.toNatClampNeg = 0
    · have e : du_v1 (du_rd K x.toNatClampNeg) (du_rd V x.toNatClampNeg) r = r &&& (((1 : Int32) <<< ((du_rd V x.toNatClampNeg) &&& 31)) ^^^ (-1)) := if_pos c
      rw [e] at go
      exact br_t c ⟨i, nm_e (du_82_ok i go)⟩
    · have e : du_v1 (du_rd K x.toNatClampNeg) (du_rd V x.toNatClampNeg) r = r := if_neg c
      rw [e] at go
      exact br_f c (du_82_ok i go)
/-- the rounds -/
theorem du_r_step {post : St2 → Prop} {ln rd gd op nw lv : Int32} {a6 a7 a8 a9 a10 : Nat → Int32} {K V E L O W W' : List Int32} {x1 x2 : Int32} {n f : Nat} (hF : du_ps K V E L O ln f (ln - 1) W = some W') (h1 : ¬ x1 = 0) (h2 : ¬ 240 < x2)
    (hn : ∀ m, (m = 0 → du_rd W' = du_rd W) → wX_backward_27 post ln rd gd op nw lv n m (x2 + 1) (du_rd K) (du_rd V) (du_rd E) (du_rd L) (du_rd O) a6 a7 a8 a9 a10 (du_rd W')) :
    wX_backward_27 post ln rd gd op nw lv (n + 1) x1 x2 (du_rd K) (du_rd V) (du_rd E) (du_rd L) (du_rd O) a6 a7 a8 a9 a10 (du_rd W) :=
  br_f h2 (br_f h1 (nm_e ⟨f, du_ps_ok f _ 0 _ _ hF (fun m hm => hn m (fun e => (hm e).2))⟩))
theorem du_r_any {post : St2 → Prop} {ln rd gd op nw lv : Int32} {a6 a7 a8 a9 a10 : Nat → Int32} {K V E L O : List Int32} {f : Nat} (I : List Int32 → Prop) (hF : ∀ W, I W → ∃ W', I W' ∧ du_ps K V E L O ln f (ln - 1) W = some W')
    (hp : ∀ W, I W → post (ln, rd, gd, op, nw, lv, du_rd K, du_rd V, du_rd E, du_rd L, du_rd O, a6, a7, a8, a9, a10, du_rd W)) : ∀ (k : Nat) (x1 : Int32) (j : Nat) (W : List Int32), I W → j + k = 241 →
    wX_backward_27 post ln rd gd op nw lv (k + 1) x1 (nI j) (du_rd K) (du_rd V) (du_rd E) (du_rd L) (du_rd O) a6 a7 a8 a9 a10 (du_rd W) := by
  intro k
  induction k with
  | zero =>
    intro x1 j W hI hj
    have e : j = 241 := by omega
    rw [e]
    exact br_t (by decide) (hp W hI)
  | succ k ih =>
    intro x1 j W hI hj
    have h2 : ¬ (240 : Int32) < nI j := nI_nlt (a := 240) (b := j) (by omega) (by decide)
    by_cases c : x1 = 0
    · exact br_f h2 (br_t c (hp W hI))
    · obtain ⟨W', hI', hF'⟩ := hF W hI
      refine du_r_step hF' c h2 (fun m _ => ?_)
      rw [nI_1]
      exact ih m (j + 1) W' hI' (by omega)
/-- the array is set to 0 -/
def du_z (ln : Int32) : Nat → Int32 → List Int32 → Option (List Int32)
  | 0, _, _ => none
  | n + 1, x, W => if ln < x then some W else du_g x 41 (du_z ln n (x + 1) (du_st W x.toNatClampNeg 0))
theorem du_z_ok {post : St2 → Prop} {ln rd gd op nw lv : Int32} {a1 a2 a3 a4 a5 a6 a7 a8 a9 a10 : Nat → Int32} : ∀ (n : Nat) (x : Int32) (W y : List Int32), du_z ln n x W = some y → (∃ f, wX_backward_27 post ln rd gd op nw lv f 1 0 a1 a2 a3 a4 a5 a6 a7 a8 a9 a10 (du_rd y)) →
    wX_backward_2 post ln rd gd op nw lv n x a1 a2 a3 a4 a5 a6 a7 a8 a9 a10 (du_rd W) := by
  intro n
  induction n with
  | zero => intro x W y h; exact du_no h
  | succ n ih =>
    intro x W y h hp
    exact du_if h (fun _ h => by cases h; exact hp) (fun _ h => du_gi h (fun _ h => nm_r (du_upd _ _ _) (nm_e (ih _ _ _ h hp))))
end
section
/-- prepare, as a whole -/
theorem du_prep_bad {post : St2 → Prop} {ln nw lv : Int32} {a2 a7 a8 a9 a10 a11 : Nat → Int32} {gd op : Int32} {K E L O S : List Int32} (n : Nat) {y : du_T6} (h : du_fs K ln n 0 1 0 E L O S = some y) (hg : y.1 = 0)
    (hp : post (ln, 1, y.1, y.2.1, nw, lv, du_rd K, a2, du_rd y.2.2.1, du_rd y.2.2.2.1, du_rd y.2.2.2.2.1, du_rd y.2.2.2.2.2, a7, a8, a9, a10, a11)) : wpX_prepare post (ln, 0, gd, op, nw, lv, du_rd K, a2, du_rd E, du_rd L, du_rd O, du_rd S, a7, a8, a9, a10, a11) :=
  br_t rfl (du_fstr n h (br_t hg hp))
theorem du_prep_good {post : St2 → Prop} {ln : Int32} {a11 : Nat → Int32} {gd op nw lv : Int32} {K V E L O S B C M N : List Int32} (n n2 : Nat) {y z : du_T6} (h : du_fs K ln n 0 1 0 E L O S = some y) (hg : ¬ y.1 = 0)
    (h2 : du_pf K V y.2.2.2.1 y.2.2.2.2.1 ln n2 0 0 1 B C M N = some z)
    (hp : ∀ q : St2 → Prop, (∀ s, post s → q s) → wpX_backward q (ln, 1, y.1, y.2.1, z.1, z.2.1, du_rd K, du_rd V, du_rd y.2.2.1, du_rd y.2.2.2.1, du_rd y.2.2.2.2.1, du_rd y.2.2.2.2.2, du_rd z.2.2.1, du_rd z.2.2.2.1, du_rd z.2.2.2.2.1, du_rd z.2.2.2.2.2, a11)) :
    wpX_prepare post (ln, 0, gd, op, nw, lv, du_rd K, du_rd V, du_rd E, du_rd L, du_rd O, du_rd S, du_rd B, du_rd C, du_rd M, du_rd N, a11) :=
  br_t rfl (du_fstr n h (br_f hg ⟨n2, du_pf_ok n2 _ _ _ _ _ _ _ _ h2 hp⟩))
/-- the token list -/
def du_K1 (c : Int32) : List Int32 := [2, 0, 3, 0, 6, 1, c, 2, 7, 6, 0]
def du_K2 (c k : Int32) : List Int32 := [2, 0, 3, 0, 6, 1, c, 2, k, 6, 0, 6, 1, 9, 0]
def du_V1 (a b u d : Int32) : List Int32 := [0, a, 0, b, 0, u, 0, 0, 0, 0, d]
def du_V2 (a b u d e : Int32) : List Int32 := [0, a, 0, b, 0, u, 0, 0, 0, 0, d, 0, e, 0, 3]
def du_E1 : List Int32 := [4, -1, -1, -1, -1, -1, -1, 9, -1, -1, -1]
def du_L1 : List Int32 := [2, -1, -1, -1, -1, -1, -1, -1, -1, -1, -1]
def du_O1 : List Int32 := [-1, -1, 0, -1, 0, -1, -1, -1, 6, 7, -1]
def du_S1 : List Int32 := [6, 7]
def du_E2 : List Int32 := [4, -1, -1, -1, -1, -1, 11, 9, -1, -1, -1, -1, -1, -1, -1]
def du_L2 : List Int32 := [2, -1, -1, -1, -1, -1, -1, -1, -1, -1, -1, -1, -1, -1, -1]
def du_O2 : List Int32 := [-1, -1, 0, -1, 0, -1, -1, -1, 6, 7, -1, 6, -1, -1, -1]
theorem du_fs1_4 : du_fs (du_K1 4) 11 12 0 1 0 [] [] [] [] = some (0, 1, du_E1, du_L1, du_O1, du_S1) := rfl
theorem du_fs1_5 : du_fs (du_K1 5) 11 12 0 1 0 [] [] [] [] = some (0, 1, du_E1, du_L1, du_O1, du_S1) := rfl
theorem du_fs2_4 : du_fs (du_K2 4 7) 15 16 0 1 0 du_E1 du_L1 du_O1 du_S1 = some (1, 0, du_E2, du_L2, du_O2, du_S1) := rfl
theorem du_fs2_5 : du_fs (du_K2 5 7) 15 16 0 1 0 du_E1 du_L1 du_O1 du_S1 = some (1, 0, du_E2, du_L2, du_O2, du_S1) := rfl
theorem du_fs3_4 : du_fs (du_K2 4 8) 15 16 0 1 0 du_E2 du_L2 du_O2 du_S1 = some (1, 0, du_E2, du_L2, du_O2, du_S1) := rfl
theorem du_fs3_5 : du_fs (du_K2 5 8) 15 16 0 1 0 du_E2 du_L2 du_O2 du_S1 = some (1, 0, du_E2, du_L2, du_O2, du_S1) := rfl
/-- forward: what stands before each token -/
def du_A (x : Int32) : Int32 := (1 : Int32) <<< (x &&& 31)
def du_m (a b : Int32) : Int32 := (63 &&& (0 ||| du_A a)) &&& (0 ||| du_A b)
def du_B (a b d x : Int32) : List Int32 := [0, 0, 0 ||| du_A a, 0, du_m a b, du_m a b, du_m a b, du_m a b, du_m a b, 63 &&& du_m a b, 63 &&& du_m a b, (63 &&& du_m a b) ||| du_A d, x, x, 63, 63]
def du_C (x : Int32) : List Int32 := [1, 1, 1, 1, 1, 1, 1, 1, 1, 1, 1, 1, x, x, 0, 0]
def du_M (a b x : Int32) : List Int32 := [du_m a b, 0, 0, 0, 0, 0, x, 63 &&& du_m a b]
def du_N (x : Int32) : List Int32 := [1, 0, 0, 0, 0, 0, x, 1]
theorem du_pf2_4 (a b u d e : Int32) : du_pf (du_K2 4 7) (du_V2 a b u d e) du_L2 du_O2 15 16 0 0 1 [] [] [] [] = some (63, 0, du_B a b d ((63 &&& du_m a b) &&& du_m a b), du_C 1, du_M a b ((63 &&& du_m a b) &&& du_m a b), du_N 1) := rfl
theorem du_pf2_5 (a b u d e : Int32) : du_pf (du_K2 5 7) (du_V2 a b u d e) du_L2 du_O2 15 16 0 0 1 [] [] [] [] = some (63, 0, du_B a b d (63 &&& du_m a b), du_C 1, du_M a b (63 &&& du_m a b), du_N 1) := rfl
theorem du_pf3_4 (a b u d e x y : Int32) : du_pf (du_K2 4 8) (du_V2 a b u d e) du_L2 du_O2 15 16 0 0 1 (du_B a b d x) (du_C 1) (du_M a b x) (du_N 1) = some (63, 0, du_B a b d (63 &&& du_m a b), du_C 1, du_M a b (63 &&& du_m a b), du_N 1) := rfl
theorem du_pf3_5 (a b u d e x y : Int32) : du_pf (du_K2 5 8) (du_V2 a b u d e) du_L2 du_O2 15 16 0 0 1 (du_B a b d x) (du_C 1) (du_M a b x) (du_N 1) = some (63, 0, du_B a b d 63, du_C 0, du_M a b 63, du_N 0) := rfl
end
section
theorem du_abs (x y : Int32) : x ||| (x &&& y) = x := by
  apply Int32.toBitVec_inj.1
  rw [Int32.toBitVec_or, Int32.toBitVec_and]
  ext i hi
  simp only [BitVec.getElem_or, BitVec.getElem_and]
  cases x.toBitVec[i] <;> rfl
/-- what is wanted before each token -/
def du_W (a b d z ee q y s : Int32) : List Int32 := [(s &&& (du_A a ^^^ (-1))) ||| (s &&& (du_A b ^^^ (-1))), s &&& (du_A a ^^^ (-1)), s, s &&& (du_A b ^^^ (-1)), s, s, y, q, ee, z &&& (du_A d ^^^ (-1)), z &&& (du_A d ^^^ (-1)), z, ee, 0, 0 &&& (du_A 3 ^^^ (-1)), 0]
def du_Wn (a b u d e z : Int32) : List Int32 := du_W a b d z (du_A e) (du_A e) (du_A e) (du_A e ||| du_A u)
theorem du_wr_4 (a b u d e w0 w1 w2 w3 w4 w5 w6 w7 w8 w9 w10 w11 w12 w13 w14 : Int32) : du_ps (du_K2 4 7) (du_V2 a b u d e) du_E2 du_L2 du_O2 15 16 (15 - 1) [w0, w1, w2, w3, w4, w5, w6, w7, w8, w9, w10, w11, w12, w13, w14, 0] =
    some (du_W a b d w6 (0 ||| du_A e) ((0 ||| du_A e) ||| (w6 &&& (du_A d ^^^ (-1)))) (((0 ||| du_A e) ||| (w6 &&& (du_A d ^^^ (-1)))) ||| (0 ||| du_A e)) ((((0 ||| du_A e) ||| (w6 &&& (du_A d ^^^ (-1)))) ||| (0 ||| du_A e)) ||| du_A u)) := rfl
theorem du_wr_5 (a b u d e w0 w1 w2 w3 w4 w5 w6 w7 w8 w9 w10 w11 w12 w13 w14 : Int32) : du_ps (du_K2 5 7) (du_V2 a b u d e) du_E2 du_L2 du_O2 15 16 (15 - 1) [w0, w1, w2, w3, w4, w5, w6, w7, w8, w9, w10, w11, w12, w13, w14, 0] =
    some (du_W a b d w6 (0 ||| du_A e) ((0 ||| du_A e) ||| (w6 &&& (du_A d ^^^ (-1)))) ((0 ||| du_A e) ||| (w6 &&& (du_A d ^^^ (-1)))) (((0 ||| du_A e) ||| (w6 &&& (du_A d ^^^ (-1)))) ||| du_A u)) := rfl
theorem du_wn_4 (a b u d e z w0 w1 w2 w3 w4 w5 w7 w8 w9 w10 w11 w12 w13 w14 : Int32) (hz : du_A e ||| (z &&& (du_A d ^^^ (-1))) = du_A e) : du_ps (du_K2 4 7) (du_V2 a b u d e) du_E2 du_L2 du_O2 15 16 (15 - 1) [w0, w1, w2, w3, w4, w5, z, w7, w8, w9, w10, w11, w12, w13, w14, 0] = some (du_Wn a b u d e z) := by
  rw [du_wr_4, Int32.zero_or, hz, Int32.or_self]
  rfl
theorem du_wn_5 (a b u d e z w0 w1 w2 w3 w4 w5 w7 w8 w9 w10 w11 w12 w13 w14 : Int32) (hz : du_A e ||| (z &&& (du_A d ^^^ (-1))) = du_A e) : du_ps (du_K2 5 7) (du_V2 a b u d e) du_E2 du_L2 du_O2 15 16 (15 - 1) [w0, w1, w2, w3, w4, w5, z, w7, w8, w9, w10, w11, w12, w13, w14, 0] = some (du_Wn a b u d e z) := by
  rw [du_wr_5, Int32.zero_or, hz]
  rfl
def du_0 : List Int32 := [0, 0, 0, 0, 0, 0, 0, 0, 0, 0, 0, 0, 0, 0, 0, 0]
/-- the three passes of a law's first good prepare -/
theorem du_rounds {post : St2 → Prop} {rd gd op nw lv : Int32} {a6 a7 a8 a9 a10 : Nat → Int32} {K : List Int32} {a b u d e : Int32} (hA : ¬ du_A e = 0)
    (hF : ∀ z w0 w1 w2 w3 w4 w5 w7 w8 w9 w10 w11 w12 w13 w14 : Int32, du_A e ||| (z &&& (du_A d ^^^ (-1))) = du_A e → du_ps K (du_V2 a b u d e) du_E2 du_L2 du_O2 15 16 (15 - 1) [w0, w1, w2, w3, w4, w5, z, w7, w8, w9, w10, w11, w12, w13, w14, 0] = some (du_Wn a b u d e z))
    (hp : post (15, rd, gd, op, nw, lv, du_rd K, du_rd (du_V2 a b u d e), du_rd du_E2, du_rd du_L2, du_rd du_O2, a6, a7, a8, a9, a10, du_rd (du_Wn a b u d e (du_A e)))) :
    ∃ f, wX_backward_27 post 15 rd gd op nw lv f 1 0 (du_rd K) (du_rd (du_V2 a b u d e)) (du_rd du_E2) (du_rd du_L2) (du_rd du_O2) a6 a7 a8 a9 a10 (du_rd du_0) := by
  have z0 : du_A e ||| (0 &&& (du_A d ^^^ (-1))) = du_A e := by rw [Int32.zero_and, Int32.or_zero]
  have zE : du_A e ||| (du_A e &&& (du_A d ^^^ (-1))) = du_A e := du_abs _ _
  have F1 : du_ps K (du_V2 a b u d e) du_E2 du_L2 du_O2 15 16 (15 - 1) du_0 = some (du_Wn a b u d e 0) := hF 0 _ _ _ _ _ _ _ _ _ _ _ _ _ _ z0
  have F2 : du_ps K (du_V2 a b u d e) du_E2 du_L2 du_O2 15 16 (15 - 1) (du_Wn a b u d e 0) = some (du_Wn a b u d e (du_A e)) := hF (du_A e) _ _ _ _ _ _ _ _ _ _ _ _ _ _ zE
  have F3 : du_ps K (du_V2 a b u d e) du_E2 du_L2 du_O2 15 16 (15 - 1) (du_Wn a b u d e (du_A e)) = some (du_Wn a b u d e (du_A e)) := hF (du_A e) _ _ _ _ _ _ _ _ _ _ _ _ _ _ zE
  refine ⟨242, du_r_step F1 (by decide) (by decide) (fun m hm => ?_)⟩
  have m0 : ¬ m = 0 := fun c => hA (congrFun (hm c) 12)
  refine du_r_step F2 m0 (by decide) (fun m' hm' => ?_)
  exact du_r_any (fun W => W = du_Wn a b u d e (du_A e)) (fun W hW => ⟨W, hW, by rw [hW]; exact F3⟩) (fun W hW => by rw [hW]; exact hp) 239 m' 2 _ rfl (by decide)
theorem du_z0 : du_z 15 17 0 [] = some du_0 := rfl
theorem du_zW (a b u d e z : Int32) : du_z 15 17 0 (du_Wn a b u d e z) = some du_0 := rfl
theorem du_back {post : St2 → Prop} {rd gd op nw lv : Int32} {a6 a7 a8 a9 a10 : Nat → Int32} {K : List Int32} {a b u d e : Int32} (hA : ¬ du_A e = 0)
    (hF : ∀ z w0 w1 w2 w3 w4 w5 w7 w8 w9 w10 w11 w12 w13 w14 : Int32, du_A e ||| (z &&& (du_A d ^^^ (-1))) = du_A e → du_ps K (du_V2 a b u d e) du_E2 du_L2 du_O2 15 16 (15 - 1) [w0, w1, w2, w3, w4, w5, z, w7, w8, w9, w10, w11, w12, w13, w14, 0] = some (du_Wn a b u d e z))
    (hp : post (15, rd, gd, op, nw, lv, du_rd K, du_rd (du_V2 a b u d e), du_rd du_E2, du_rd du_L2, du_rd du_O2, a6, a7, a8, a9, a10, du_rd (du_Wn a b u d e (du_A e)))) :
    wpX_backward post (15, rd, gd, op, nw, lv, du_rd K, du_rd (du_V2 a b u d e), du_rd du_E2, du_rd du_L2, du_rd du_O2, a6, a7, a8, a9, a10, du_rd ([])) :=
  ⟨17, du_z_ok 17 0 [] du_0 du_z0 (du_rounds hA hF hp)⟩
/-- the second good prepare: only that it ends -/
theorem du_any_4 (V W : List Int32) : ∃ W', True ∧ du_ps (du_K2 4 8) V du_E2 du_L2 du_O2 15 16 (15 - 1) W = some W' := ⟨_, trivial, rfl⟩
theorem du_any_5 (V W : List Int32) : ∃ W', True ∧ du_ps (du_K2 5 8) V du_E2 du_L2 du_O2 15 16 (15 - 1) W = some W' := ⟨_, trivial, rfl⟩
theorem du_back2 {post : St2 → Prop} {rd gd op nw lv : Int32} {a6 a7 a8 a9 a10 : Nat → Int32} {K V : List Int32} {a b u d e z : Int32}
    (hF : ∀ W, ∃ W', True ∧ du_ps K V du_E2 du_L2 du_O2 15 16 (15 - 1) W = some W')
    (hp : ∀ w, post (15, rd, gd, op, nw, lv, du_rd K, du_rd V, du_rd du_E2, du_rd du_L2, du_rd du_O2, a6, a7, a8, a9, a10, w)) :
    wpX_backward post (15, rd, gd, op, nw, lv, du_rd K, du_rd V, du_rd du_E2, du_rd du_L2, du_rd du_O2, a6, a7, a8, a9, a10, du_rd (du_Wn a b u d e z)) :=
  ⟨17, du_z_ok 17 0 _ du_0 (du_zW a b u d e z) ⟨242, du_r_any (fun _ => True) (fun W _ => hF W) (fun W _ => hp _) 241 1 0 du_0 trivial rfl⟩⟩
end
section
/-- questions to a state that is ready -/
theorem du_prep1 {post : St2 → Prop} {ln gd op nw lv : Int32} {a1 a2 a3 a4 a5 a6 a7 a8 a9 a10 a11 : Nat → Int32} (hp : post (ln, 1, gd, op, nw, lv, a1, a2, a3, a4, a5, a6, a7, a8, a9, a10, a11)) : wpX_prepare post (ln, 1, gd, op, nw, lv, a1, a2, a3, a4, a5, a6, a7, a8, a9, a10, a11) := br_f (by decide) hp
theorem du_in {x : Int32} {n : Nat} (h : ¬ (x < 0 ∨ n ≤ x.toNatClampNeg)) : vp_in x n := h
theorem du_doubts_bad {post : Int32 → St2 → Prop} {ln op nw lv : Int32} {a1 a2 a3 a4 a5 a6 a7 a8 a9 a10 a11 : Nat → Int32} (hp : post (-4) (ln, 1, 0, op, nw, lv, a1, a2, a3, a4, a5, a6, a7, a8, a9, a10, a11)) : wpX_doubts post (ln, 1, 0, op, nw, lv, a1, a2, a3, a4, a5, a6, a7, a8, a9, a10, a11) := br_f (by decide) (br_t rfl hp)
theorem du_reached_bad {post : Int32 → St2 → Prop} {ln op nw lv : Int32} {a1 a2 a3 a4 a5 a6 a7 a8 a9 a10 a11 : Nat → Int32} {p : Int32} (hp : post 0 (ln, 1, 0, op, nw, lv, a1, a2, a3, a4, a5, a6, a7, a8, a9, a10, a11)) : wpX_reached post (ln, 1, 0, op, nw, lv, a1, a2, a3, a4, a5, a6, a7, a8, a9, a10, a11) p := br_f (by decide) (br_t rfl hp)
theorem du_surely1 {post : Int32 → St2 → Prop} {ln op nw lv : Int32} {a1 a2 a3 a4 a5 a6 a7 a8 a9 a10 a11 : Nat → Int32} {p : Int32} (h0 : ¬ p < 0) (h1 : p < ln) (i : vp_in p 41) (c : ¬ a8 p.toNatClampNeg = 0) (hp : post (a7 p.toNatClampNeg) (ln, 1, 1, op, nw, lv, a1, a2, a3, a4, a5, a6, a7, a8, a9, a10, a11)) : wpX_surely post (ln, 1, 1, op, nw, lv, a1, a2, a3, a4, a5, a6, a7, a8, a9, a10, a11) p :=
  br_f (by decide) (br_f (by decide) (br_f h0 (br_t h1 (br_t rfl ⟨i, br_f c ⟨i, hp⟩⟩))))
theorem du_surely0 {post : Int32 → St2 → Prop} {ln op nw lv : Int32} {a1 a2 a3 a4 a5 a6 a7 a8 a9 a10 a11 : Nat → Int32} {p : Int32} (h0 : ¬ p < 0) (h1 : p < ln) (i : vp_in p 41) (c : a8 p.toNatClampNeg = 0) (hp : post 63 (ln, 1, 1, op, nw, lv, a1, a2, a3, a4, a5, a6, a7, a8, a9, a10, a11)) : wpX_surely post (ln, 1, 1, op, nw, lv, a1, a2, a3, a4, a5, a6, a7, a8, a9, a10, a11) p :=
  br_f (by decide) (br_f (by decide) (br_f h0 (br_t h1 (br_t rfl ⟨i, br_t c hp⟩))))
theorem du_reached1 {post : Int32 → St2 → Prop} {ln op nw lv : Int32} {a1 a2 a3 a4 a5 a6 a7 a8 a9 a10 a11 : Nat → Int32} {p : Int32} (h0 : ¬ p < 0) (h1 : p < ln) (i : vp_in p 41) (c : ¬ a8 p.toNatClampNeg = 0) (hp : post 1 (ln, 1, 1, op, nw, lv, a1, a2, a3, a4, a5, a6, a7, a8, a9, a10, a11)) : wpX_reached post (ln, 1, 1, op, nw, lv, a1, a2, a3, a4, a5, a6, a7, a8, a9, a10, a11) p :=
  br_f (by decide) (br_f (by decide) (br_f h0 (br_t h1 (br_t rfl ⟨i, br_f c hp⟩))))
theorem du_reached0 {post : Int32 → St2 → Prop} {ln op nw lv : Int32} {a1 a2 a3 a4 a5 a6 a7 a8 a9 a10 a11 : Nat → Int32} {p : Int32} (h0 : ¬ p < 0) (h1 : p < ln) (i : vp_in p 41) (c : a8 p.toNatClampNeg = 0) (hp : post 0 (ln, 1, 1, op, nw, lv, a1, a2, a3, a4, a5, a6, a7, a8, a9, a10, a11)) : wpX_reached post (ln, 1, 1, op, nw, lv, a1, a2, a3, a4, a5, a6, a7, a8, a9, a10, a11) p :=
  br_f (by decide) (br_f (by decide) (br_f h0 (br_t h1 (br_t rfl ⟨i, br_t c hp⟩))))
theorem du_completes0 {post : Int32 → St2 → Prop} {ln op nw lv : Int32} {a1 a2 a3 a4 a5 a6 a7 a8 a9 a10 a11 : Nat → Int32} (i : vp_in ln 41) (c : a8 ln.toNatClampNeg = 0) (hp : post 0 (ln, 1, 1, op, nw, lv, a1, a2, a3, a4, a5, a6, a7, a8, a9, a10, a11)) : wpX_completes post (ln, 1, 1, op, nw, lv, a1, a2, a3, a4, a5, a6, a7, a8, a9, a10, a11) :=
  br_f (by decide) (br_f (by decide) ⟨i, br_t c hp⟩)
theorem du_wanted {post : Int32 → St2 → Prop} {ln op nw lv : Int32} {a1 a2 a3 a4 a5 a6 a7 a8 a9 a10 a11 : Nat → Int32} {p : Int32} (h0 : ¬ p < 0) (h1 : p < ln) (i : vp_in p 41) (hp : post (a11 p.toNatClampNeg) (ln, 1, 1, op, nw, lv, a1, a2, a3, a4, a5, a6, a7, a8, a9, a10, a11)) : wpX_wanted post (ln, 1, 1, op, nw, lv, a1, a2, a3, a4, a5, a6, a7, a8, a9, a10, a11) p :=
  br_f (by decide) (br_f (by decide) (br_f h0 (br_t h1 (br_t rfl ⟨i, hp⟩))))
theorem du_endOf1 {post : Int32 → St2 → Prop} {ln op nw lv : Int32} {a1 a2 a3 a4 a5 a6 a7 a8 a9 a10 a11 : Nat → Int32} {p : Int32} (h0 : ¬ p < 0) (h1 : p < ln) (i : vp_in p 40) (c : 0 ≤ a3 p.toNatClampNeg) (hp : post (a3 p.toNatClampNeg) (ln, 1, 1, op, nw, lv, a1, a2, a3, a4, a5, a6, a7, a8, a9, a10, a11)) : wpX_endOf post (ln, 1, 1, op, nw, lv, a1, a2, a3, a4, a5, a6, a7, a8, a9, a10, a11) p :=
  br_f (by decide) (br_f (by decide) (br_f h0 (br_t h1 (br_t rfl ⟨i, br_t c ⟨i, hp⟩⟩))))
theorem du_endOf0 {post : Int32 → St2 → Prop} {ln op nw lv : Int32} {a1 a2 a3 a4 a5 a6 a7 a8 a9 a10 a11 : Nat → Int32} {p : Int32} (h0 : ¬ p < 0) (h1 : p < ln) (i : vp_in p 40) (c : ¬ 0 ≤ a3 p.toNatClampNeg) (hp : post (-5) (ln, 1, 1, op, nw, lv, a1, a2, a3, a4, a5, a6, a7, a8, a9, a10, a11)) : wpX_endOf post (ln, 1, 1, op, nw, lv, a1, a2, a3, a4, a5, a6, a7, a8, a9, a10, a11) p :=
  br_f (by decide) (br_f (by decide) (br_f h0 (br_t h1 (br_t rfl ⟨i, br_f c hp⟩))))
theorem du_isIdle0 {post : Int32 → Prop} {ln rd gd op nw lv : Int32} {a1 a2 a3 a4 a5 a6 a7 a8 a9 a10 a11 : Nat → Int32} {p : Int32} (i : vp_in p 40) (k : ¬ a1 p.toNatClampNeg = 0) (hp : post 0) : wpX_isIdle post (ln, rd, gd, op, nw, lv, a1, a2, a3, a4, a5, a6, a7, a8, a9, a10, a11) p := ⟨i, br_f k hp⟩
theorem du_isIdleC {post : Int32 → Prop} {ln rd gd op nw lv : Int32} {a1 a2 a3 a4 a5 a6 a7 a8 a9 a10 a11 : Nat → Int32} {p : Int32} (i : vp_in p 40) (k : a1 p.toNatClampNeg = 0) (c : a8 p.toNatClampNeg = 0) (hp : post 0) : wpX_isIdle post (ln, rd, gd, op, nw, lv, a1, a2, a3, a4, a5, a6, a7, a8, a9, a10, a11) p := ⟨i, br_t k ⟨du_4041 i, br_t c hp⟩⟩
theorem du_isIdle1 {post : Int32 → Prop} {ln rd gd op nw lv : Int32} {a1 a2 a3 a4 a5 a6 a7 a8 a9 a10 a11 : Nat → Int32} {p s : Int32} (i : vp_in p 40) (k : a1 p.toNatClampNeg = 0) (c : ¬ a8 p.toNatClampNeg = 0) (hw : ∀ q : Int32 → Prop, q s → wpX_wantedBehind q (ln, rd, gd, op, nw, lv, a1, a2, a3, a4, a5, a6, a7, a8, a9, a10, a11) p) (hp : post (if ((s >>> ((a2 p.toNatClampNeg) &&& 31)) &&& 1) = 0 then 1 else 0)) : wpX_isIdle post (ln, rd, gd, op, nw, lv, a1, a2, a3, a4, a5, a6, a7, a8, a9, a10, a11) p :=
  ⟨i, br_t k ⟨du_4041 i, br_f c (hw _ ⟨i, br_c (fun z => by rw [if_pos z] at hp; exact hp) (fun z => by rw [if_neg z] at hp; exact hp)⟩)⟩⟩
theorem du_idle {post : Int32 → St2 → Prop} {ln op nw lv : Int32} {a1 a2 a3 a4 a5 a6 a7 a8 a9 a10 a11 : Nat → Int32} {p r : Int32} (h0 : ¬ p < 0) (h1 : p < ln) (H : ∀ q : Int32 → Prop, q r → wpX_isIdle q (ln, 1, 1, op, nw, lv, a1, a2, a3, a4, a5, a6, a7, a8, a9, a10, a11) p) (hr : r = 0 ∨ r = 1) (hp : post r (ln, 1, 1, op, nw, lv, a1, a2, a3, a4, a5, a6, a7, a8, a9, a10, a11)) : wpX_idle post (ln, 1, 1, op, nw, lv, a1, a2, a3, a4, a5, a6, a7, a8, a9, a10, a11) p :=
  br_f (by decide) (br_f (by decide) (br_f h0 (br_t h1 (br_t rfl (H _ ⟨by rcases hr with hr | hr <;> subst hr <;> rfl, hp⟩)))))
theorem du_ids_s {post : Int32 → St2 → Prop} {ln rd gd op nw lv : Int32} {a1 a2 a3 a4 a5 a6 a7 a8 a9 a10 a11 : Nat → Int32} {x x' x1 r : Int32} {n : Nat} (h : ¬ ln ≤ x) (H : ∀ q : Int32 → Prop, q r → wpX_isIdle q (ln, rd, gd, op, nw, lv, a1, a2, a3, a4, a5, a6, a7, a8, a9, a10, a11) x) (e : x + 1 = x') (rest : wX_idles_18 post ln rd gd op nw lv a1 a2 a3 a4 a5 a6 a7 a8 a9 a10 a11 n (if r = 0 then x1 else x1 + 1) x') : wX_idles_18 post ln rd gd op nw lv a1 a2 a3 a4 a5 a6 a7 a8 a9 a10 a11 (n + 1) x1 x :=
  br_f h (H _ (br_c (fun z => nm_r e (by rw [if_pos z] at rest; exact rest)) (fun z => nm_e (nm_r e (by rw [if_neg z] at rest; exact rest)))))
theorem du_ids_0 {post : Int32 → St2 → Prop} {ln rd gd op nw lv : Int32} {a1 a2 a3 a4 a5 a6 a7 a8 a9 a10 a11 : Nat → Int32} {x x' x1 : Int32} {n : Nat} (h : ¬ ln ≤ x) (H : ∀ q : Int32 → Prop, q 0 → wpX_isIdle q (ln, rd, gd, op, nw, lv, a1, a2, a3, a4, a5, a6, a7, a8, a9, a10, a11) x) (e : x + 1 = x') (rest : wX_idles_18 post ln rd gd op nw lv a1 a2 a3 a4 a5 a6 a7 a8 a9 a10 a11 n x1 x') : wX_idles_18 post ln rd gd op nw lv a1 a2 a3 a4 a5 a6 a7 a8 a9 a10 a11 (n + 1) x1 x :=
  br_f h (H _ (br_t rfl (nm_r e rest)))
theorem du_ids_x {post : Int32 → St2 → Prop} {ln rd gd op nw lv : Int32} {a1 a2 a3 a4 a5 a6 a7 a8 a9 a10 a11 : Nat → Int32} {x x1 : Int32} {n : Nat} (h : ln ≤ x) (hp : post x1 (ln, rd, gd, op, nw, lv, a1, a2, a3, a4, a5, a6, a7, a8, a9, a10, a11)) : wX_idles_18 post ln rd gd op nw lv a1 a2 a3 a4 a5 a6 a7 a8 a9 a10 a11 (n + 1) x1 x := br_t h hp
theorem du_idles {post : Int32 → St2 → Prop} {ln op nw lv : Int32} {a1 a2 a3 a4 a5 a6 a7 a8 a9 a10 a11 : Nat → Int32} (n : Nat) (h : wX_idles_18 post ln 1 1 op nw lv a1 a2 a3 a4 a5 a6 a7 a8 a9 a10 a11 n 0 0) : wpX_idles post (ln, 1, 1, op, nw, lv, a1, a2, a3, a4, a5, a6, a7, a8, a9, a10, a11) := br_f (by decide) (br_f (by decide) ⟨n, h⟩)
theorem du_db_n {post : Int32 → St2 → Prop} {ln rd gd op nw lv : Int32} {a1 a2 a3 a4 a5 a6 a7 a8 a9 a10 a11 : Nat → Int32} {x x' x1 : Int32} {n : Nat} (h : ¬ ln ≤ x) (i : vp_in x 40) (k : ¬ a1 x.toNatClampNeg = 1) (e : x + 1 = x') (rest : wX_doubts_18 post ln rd gd op nw lv a1 a2 a3 a4 a5 a6 a7 a8 a9 a10 a11 n x1 x') : wX_doubts_18 post ln rd gd op nw lv a1 a2 a3 a4 a5 a6 a7 a8 a9 a10 a11 (n + 1) x1 x := br_f h ⟨i, br_f k (nm_r e rest)⟩
theorem du_db_y {post : Int32 → St2 → Prop} {ln rd gd op nw lv : Int32} {a1 a2 a3 a4 a5 a6 a7 a8 a9 a10 a11 : Nat → Int32} {x x' x1 : Int32} {n : Nat} (h : ¬ ln ≤ x) (i : vp_in x 40) (k : a1 x.toNatClampNeg = 1) (c : ¬ a8 x.toNatClampNeg = 0) (e : x + 1 = x') (rest : wX_doubts_18 post ln rd gd op nw lv a1 a2 a3 a4 a5 a6 a7 a8 a9 a10 a11 n (if (((a7 x.toNatClampNeg) >>> ((a2 x.toNatClampNeg) &&& 31)) &&& 1) = 0 then x1 + 1 else x1) x') : wX_doubts_18 post ln rd gd op nw lv a1 a2 a3 a4 a5 a6 a7 a8 a9 a10 a11 (n + 1) x1 x :=
  br_f h ⟨i, br_t k ⟨du_4041 i, br_f c ⟨du_4041 i, i, br_c (fun z => nm_e (nm_r e (by rw [if_pos z] at rest; exact rest))) (fun z => nm_r e (by rw [if_neg z] at rest; exact rest))⟩⟩⟩
theorem du_db_x {post : Int32 → St2 → Prop} {ln rd gd op nw lv : Int32} {a1 a2 a3 a4 a5 a6 a7 a8 a9 a10 a11 : Nat → Int32} {x x1 : Int32} {n : Nat} (h : ln ≤ x) (hp : post x1 (ln, rd, gd, op, nw, lv, a1, a2, a3, a4, a5, a6, a7, a8, a9, a10, a11)) : wX_doubts_18 post ln rd gd op nw lv a1 a2 a3 a4 a5 a6 a7 a8 a9 a10 a11 (n + 1) x1 x := br_t h hp
theorem du_doubts {post : Int32 → St2 → Prop} {ln op nw lv : Int32} {a1 a2 a3 a4 a5 a6 a7 a8 a9 a10 a11 : Nat → Int32} (n : Nat) (h : wX_doubts_18 post ln 1 1 op nw lv a1 a2 a3 a4 a5 a6 a7 a8 a9 a10 a11 n 0 0) : wpX_doubts post (ln, 1, 1, op, nw, lv, a1, a2, a3, a4, a5, a6, a7, a8, a9, a10, a11) := br_f (by decide) (br_f (by decide) ⟨n, h⟩)
/-- a token added, one with a variable and one without; one changed -/
theorem du_bv {post : Int32 → Prop} {k v : Int32} (hk : k = 0 ∨ k = 1) (h0 : ¬ v < 0) (h5 : v ≤ 5) (hp : post 0) : wpX_badVariable post () k v := by
  rcases hk with hk | hk
  · exact br_t hk (br_f h0 (br_t h5 hp))
  · exact br_f (by rw [hk]; decide) (br_t hk (br_f h0 (br_t h5 hp)))
theorem du_addv {post : Int32 → St2 → Prop} {gd op nw lv : Int32} {a3 a4 a5 a6 a7 a8 a9 a10 a11 : Nat → Int32} (ln ln' : Int32) {rd : Int32} (k v : Int32) (K V K' V' : List Int32) (hk : k = 0 ∨ k = 1) (h0 : ¬ v < 0) (h5 : v ≤ 5) (hl : ln < 40) (i : vp_in ln 40) (hK : du_st K ln.toNatClampNeg k = K') (hV : du_st V ln.toNatClampNeg v = V') (hn : ln + 1 = ln')
    (hp : post (ln' - 1) (ln', 0, gd, op, nw, lv, du_rd K', du_rd V', a3, a4, a5, a6, a7, a8, a9, a10, a11)) : wpX_add post (ln, rd, gd, op, nw, lv, du_rd K, du_rd V, a3, a4, a5, a6, a7, a8, a9, a10, a11) k v := by
  have k0 : ¬ k < 0 := by rcases hk with hk | hk <;> rw [hk] <;> decide
  have k9 : k ≤ 9 := by rcases hk with hk | hk <;> rw [hk] <;> decide
  have k1 : ¬ 1 < k := by rcases hk with hk | hk <;> rw [hk] <;> decide
  exact br_f k0 (br_t k9 (du_bv hk h0 h5 (br_t rfl (br_t hl ⟨i, nm_r ((du_upd _ _ _).trans (congrArg du_rd hK)) (br_f k1 ⟨i, nm_r ((du_upd _ _ _).trans (congrArg du_rd hV)) (nm_r hn hp)⟩)⟩))))
theorem du_addn {post : Int32 → St2 → Prop} {gd op nw lv : Int32} {a3 a4 a5 a6 a7 a8 a9 a10 a11 : Nat → Int32} (ln ln' : Int32) {rd : Int32} (k v : Int32) (K V K' V' : List Int32) (k1 : 1 < k) (k0 : ¬ k < 0) (k9 : k ≤ 9) (kz : ¬ k = 0) (ko : ¬ k = 1) (hl : ln < 40) (i : vp_in ln 40) (hK : du_st K ln.toNatClampNeg k = K') (hV : du_st V ln.toNatClampNeg 0 = V') (hn : ln + 1 = ln')
    (hp : post (ln' - 1) (ln', 0, gd, op, nw, lv, du_rd K', du_rd V', a3, a4, a5, a6, a7, a8, a9, a10, a11)) : wpX_add post (ln, rd, gd, op, nw, lv, du_rd K, du_rd V, a3, a4, a5, a6, a7, a8, a9, a10, a11) k v :=
  br_f k0 (br_t k9 (br_f kz (br_f ko (br_t rfl (br_t hl ⟨i, nm_r ((du_upd _ _ _).trans (congrArg du_rd hK)) (br_t k1 ⟨i, nm_r ((du_upd _ _ _).trans (congrArg du_rd hV)) (nm_r hn hp)⟩)⟩)))))
theorem du_change {post : Int32 → St2 → Prop} {ln gd op nw lv : Int32} {a3 a4 a5 a6 a7 a8 a9 a10 a11 : Nat → Int32} {rd : Int32} {K V K' V' : List Int32} (p k v r : Int32) (h0 : ¬ p < 0) (h1 : p < ln) (k1 : 1 < k) (k0 : ¬ k < 0) (k9 : k ≤ 9) (kz : ¬ k = 0) (ko : ¬ k = 1) (i : vp_in p 40) (hr : du_rd K p.toNatClampNeg = r) (hK : du_st K p.toNatClampNeg k = K') (hV : du_st V p.toNatClampNeg 0 = V')
    (hp : post r (ln, 0, gd, op, nw, lv, du_rd K', du_rd V', a3, a4, a5, a6, a7, a8, a9, a10, a11)) : wpX_change post (ln, rd, gd, op, nw, lv, du_rd K, du_rd V, a3, a4, a5, a6, a7, a8, a9, a10, a11) p k v :=
  br_f h0 (br_t h1 (br_t rfl (br_f k0 (br_t k9 (br_f kz (br_f ko (br_t rfl ⟨i, nm_r hr ⟨i, nm_r ((du_upd _ _ _).trans (congrArg du_rd hK)) (br_t k1 ⟨i, nm_r ((du_upd _ _ _).trans (congrArg du_rd hV)) hp⟩)⟩⟩)))))))
end
section
/-- numbers 0..5 -/
def du_sure (a b : Int32) : Int32 := if a = b then du_A a else 0
def du_ne (u e a : Int32) : Int32 := if u = a then 0 else if e = a then 0 else 1
def du_n1 (e d : Int32) : Int32 := if e = d then 0 else 1
def du_f1 (a b u : Int32) : Int32 := if a = u then (if b = u then 0 else du_A u) else du_A u
theorem du_num_m : ∀ a, a < 6 → ∀ b, b < 6 → du_m (nI a) (nI b) = du_sure (nI a) (nI b) := by decide +kernel
theorem du_num_63 : ∀ a, a < 6 → ∀ b, b < 6 → 63 &&& du_sure (nI a) (nI b) = du_sure (nI a) (nI b) := by decide +kernel
theorem du_num_A : ∀ e, e < 6 → ¬ du_A (nI e) = 0 := by decide +kernel
theorem du_num_ne : ∀ u, u < 6 → ∀ e, e < 6 → ∀ a, a < 6 → (if (((du_A (nI e) ||| du_A (nI u)) >>> (nI a &&& 31)) &&& 1) = 0 then (1 : Int32) else 0) = du_ne (nI u) (nI e) (nI a) := by decide +kernel
theorem du_num_n1 : ∀ e, e < 6 → ∀ d, d < 6 → (if ((du_A (nI e) >>> (nI d &&& 31)) &&& 1) = 0 then (1 : Int32) else 0) = du_n1 (nI e) (nI d) := by decide +kernel
theorem du_num_f1 : ∀ a, a < 6 → ∀ b, b < 6 → ∀ u, u < 6 → ∀ e, e < 6 → ((du_A (nI e) ||| du_A (nI u)) &&& (du_A (nI a) ^^^ (-1))) ||| ((du_A (nI e) ||| du_A (nI u)) &&& (du_A (nI b) ^^^ (-1))) = du_f1 (nI a) (nI b) (nI u) ||| du_f1 (nI a) (nI b) (nI e) := by decide +kernel
theorem du_num_w : ∀ d, d < 6 → ∀ e, e < 6 → du_A (nI e) &&& (du_A (nI d) ^^^ (-1)) = if nI d = nI e then 0 else du_A (nI e) := by decide +kernel
theorem du_num_lo : ∀ a, a < 6 → ¬ nI a < 0 ∧ nI a ≤ 5 := by decide +kernel
theorem du_mod (x : Int32) : ∃ a : Nat, a < 6 ∧ (x &&& 255) - (x &&& 255) / 6 * 6 = nI a := by
  obtain ⟨j, hj, e⟩ := pk_andE x (m := 255) 8 (by decide)
  refine ⟨j % 6, by omega, ?_⟩
  rw [e]
  exact pk_rem (d := 6) (by omega) (by decide) (by decide)
theorem du_bit (x : Int32) : (x &&& 1 = 0 ∧ ¬ x &&& 1 = 1) ∨ (x &&& 1 = 1 ∧ ¬ x &&& 1 = 0) := by
  obtain ⟨j, hj, e⟩ := pk_andE x (m := 1) 1 (by decide)
  rw [e]
  have : j = 0 ∨ j = 1 := by omega
  rcases this with h | h <;> subst h
  · exact Or.inl ⟨rfl, by decide⟩
  · exact Or.inr ⟨rfl, by decide⟩
theorem du_num_db (z w u e : Int32) (h : w = z) : (if ((w >>> (e &&& 31)) &&& 1) = 0 then (if ((z >>> (u &&& 31)) &&& 1) = 0 then (0 : Int32) + 1 else 0) + 1 else (if ((z >>> (u &&& 31)) &&& 1) = 0 then (0 : Int32) + 1 else 0)) = (((z >>> (u &&& 31)) &&& 1) ^^^ 1) + (((z >>> (e &&& 31)) &&& 1) ^^^ 1) := by
  rw [h]
  rcases du_bit (z >>> (e &&& 31)) with ⟨h1, _⟩ | ⟨h1, _⟩ <;> rcases du_bit (z >>> (u &&& 31)) with ⟨h2, _⟩ | ⟨h2, _⟩ <;> rw [h1, h2] <;> decide
theorem du_ne01 (u e a : Int32) : du_ne u e a = 0 ∨ du_ne u e a = 1 := by
  unfold du_ne
  by_cases h : u = a
  · rw [if_pos h]; exact Or.inl rfl
  · rw [if_neg h]
    by_cases h' : e = a
    · rw [if_pos h']; exact Or.inl rfl
    · rw [if_neg h']; exact Or.inr rfl
theorem du_n101 (e d : Int32) : du_n1 e d = 0 ∨ du_n1 e d = 1 := by
  unfold du_n1
  by_cases h : e = d
  · rw [if_pos h]; exact Or.inl rfl
  · rw [if_neg h]; exact Or.inr rfl
/-- a boolean counted -/
def du_o (x : Int32) : Int32 := if x = 0 then 0 else 1
theorem du_num_c (x y z : Int32) (hx : x = 0 ∨ x = 1) (hy : y = 0 ∨ y = 1) (hz : z = 0 ∨ z = 1) : (if z = 0 then (if y = 0 then (if x = 0 then (0 : Int32) else 0 + 1) else (if x = 0 then (0 : Int32) else 0 + 1) + 1) else (if y = 0 then (if x = 0 then (0 : Int32) else 0 + 1) else (if x = 0 then (0 : Int32) else 0 + 1) + 1) + 1) = (du_o x + du_o y) + du_o z := by
  rcases hx with rfl | rfl <;> rcases hy with rfl | rfl <;> rcases hz with rfl | rfl <;> decide
end
section
/-- the state with every token added, before it is asked; prepared; changed; prepared again -/
def du_P0 (c a b u d e : Int32) : St2 := (15, 0, 0, 1, 0, 0, du_rd (du_K2 c 7), du_rd (du_V2 a b u d e), du_rd du_E1, du_rd du_L1, du_rd du_O1, du_rd du_S1, du_rd ([]), du_rd ([]), du_rd ([]), du_rd ([]), du_rd ([]))
def du_PS (c a b u d e x : Int32) : St2 := (15, 1, 1, 0, 63, 0, du_rd (du_K2 c 7), du_rd (du_V2 a b u d e), du_rd du_E2, du_rd du_L2, du_rd du_O2, du_rd du_S1, du_rd (du_B a b d x), du_rd (du_C 1), du_rd (du_M a b x), du_rd (du_N 1), du_rd (du_Wn a b u d e (du_A e)))
def du_PC (c a b u d e x : Int32) : St2 := (15, 0, 1, 0, 63, 0, du_rd (du_K2 c 8), du_rd (du_V2 a b u d e), du_rd du_E2, du_rd du_L2, du_rd du_O2, du_rd du_S1, du_rd (du_B a b d x), du_rd (du_C 1), du_rd (du_M a b x), du_rd (du_N 1), du_rd (du_Wn a b u d e (du_A e)))
def du_PT (c a b u d e x y : Int32) (w : Nat → Int32) : St2 := (15, 1, 1, 0, 63, 0, du_rd (du_K2 c 8), du_rd (du_V2 a b u d e), du_rd du_E2, du_rd du_L2, du_rd du_O2, du_rd du_S1, du_rd (du_B a b d x), du_rd (du_C y), du_rd (du_M a b x), du_rd (du_N y), w)
theorem du_qe {q : Int32 → St2 → Prop} {s : St2} {x y : Int32} (e : x = y) (h : q y s) : q x s := by rw [e]; exact h
theorem du_qf {q : Int32 → Prop} {x y : Int32} (e : x = y) (h : q y) : q x := by rw [e]; exact h
theorem du_prep2_4 (a b u d e : Int32) (hA : ¬ du_A e = 0) (q : St2 → Prop) (h : q (du_PS 4 a b u d e ((63 &&& du_m a b) &&& du_m a b))) : wpX_prepare q (du_P0 4 a b u d e) :=
  du_prep_good 16 16 du_fs2_4 (by decide) (du_pf2_4 a b u d e) (fun q' hq => du_back hA (du_wn_4 a b u d e) (hq _ h))
theorem du_sound2_4 (a b u d e : Int32) (hA : ¬ du_A e = 0) (q : Int32 → St2 → Prop) (h : q 1 (du_PS 4 a b u d e ((63 &&& du_m a b) &&& du_m a b))) : wpX_sound q (du_P0 4 a b u d e) := by
  unfold wpX_sound du_P0
  exact du_prep2_4 a b u d e hA _ ⟨rfl, h⟩
theorem du_prep2_5 (a b u d e : Int32) (hA : ¬ du_A e = 0) (q : St2 → Prop) (h : q (du_PS 5 a b u d e (63 &&& du_m a b))) : wpX_prepare q (du_P0 5 a b u d e) :=
  du_prep_good 16 16 du_fs2_5 (by decide) (du_pf2_5 a b u d e) (fun q' hq => du_back hA (du_wn_5 a b u d e) (hq _ h))
theorem du_sound2_5 (a b u d e : Int32) (hA : ¬ du_A e = 0) (q : Int32 → St2 → Prop) (h : q 1 (du_PS 5 a b u d e (63 &&& du_m a b))) : wpX_sound q (du_P0 5 a b u d e) := by
  unfold wpX_sound du_P0
  exact du_prep2_5 a b u d e hA _ ⟨rfl, h⟩
theorem du_s4_4 (a b u d e x : Int32) (q : Int32 → St2 → Prop) (h : q (du_m a b) (du_PS 4 a b u d e x)) : wpX_surely q (du_PS 4 a b u d e x) 4 := du_surely1 (by decide) (by decide) (du_in (by decide)) (by decide) h
theorem du_s5_4 (a b u d e x : Int32) (q : Int32 → St2 → Prop) (h : q (du_m a b) (du_PS 4 a b u d e x)) : wpX_surely q (du_PS 4 a b u d e x) 5 := du_surely1 (by decide) (by decide) (du_in (by decide)) (by decide) h
theorem du_s7_4 (a b u d e x : Int32) (q : Int32 → St2 → Prop) (h : q (du_m a b) (du_PS 4 a b u d e x)) : wpX_surely q (du_PS 4 a b u d e x) 7 := du_surely1 (by decide) (by decide) (du_in (by decide)) (by decide) h
theorem du_s10_4 (a b u d e x : Int32) (q : Int32 → St2 → Prop) (h : q (63 &&& du_m a b) (du_PS 4 a b u d e x)) : wpX_surely q (du_PS 4 a b u d e x) 10 := du_surely1 (by decide) (by decide) (du_in (by decide)) (by decide) h
theorem du_s11_4 (a b u d e x : Int32) (q : Int32 → St2 → Prop) (h : q ((63 &&& du_m a b) ||| du_A d) (du_PS 4 a b u d e x)) : wpX_surely q (du_PS 4 a b u d e x) 11 := du_surely1 (by decide) (by decide) (du_in (by decide)) (by decide) h
theorem du_s12_4 (a b u d e x : Int32) (q : Int32 → St2 → Prop) (h : q x (du_PS 4 a b u d e x)) : wpX_surely q (du_PS 4 a b u d e x) 12 := du_surely1 (by decide) (by decide) (du_in (by decide)) (by decide) h
theorem du_s14_4 (a b u d e x : Int32) (q : Int32 → St2 → Prop) (h : q 63 (du_PS 4 a b u d e x)) : wpX_surely q (du_PS 4 a b u d e x) 14 := du_surely0 (by decide) (by decide) (du_in (by decide)) rfl h
theorem du_r14_4 (a b u d e x : Int32) (q : Int32 → St2 → Prop) (h : q 0 (du_PS 4 a b u d e x)) : wpX_reached q (du_PS 4 a b u d e x) 14 := du_reached0 (by decide) (by decide) (du_in (by decide)) rfl h
theorem du_r13_4 (a b u d e x : Int32) (q : Int32 → St2 → Prop) (h : q 1 (du_PS 4 a b u d e x)) : wpX_reached q (du_PS 4 a b u d e x) 13 := du_reached1 (by decide) (by decide) (du_in (by decide)) (by decide) h
theorem du_cm_4 (a b u d e x : Int32) (q : Int32 → St2 → Prop) (h : q 0 (du_PS 4 a b u d e x)) : wpX_completes q (du_PS 4 a b u d e x) := du_completes0 (du_in (by decide)) rfl h
theorem du_db_4 (a b u d e x : Int32) (q : Int32 → St2 → Prop) (h : q (if ((x >>> (e &&& 31)) &&& 1) = 0 then (if ((du_m a b >>> (u &&& 31)) &&& 1) = 0 then (0 : Int32) + 1 else 0) + 1 else (if ((du_m a b >>> (u &&& 31)) &&& 1) = 0 then (0 : Int32) + 1 else 0)) (du_PS 4 a b u d e x)) : wpX_doubts q (du_PS 4 a b u d e x) :=
  du_doubts 16 (du_db_n (x := 0) (x' := 1) (by decide) (du_in (by decide)) (by decide) rfl (du_db_n (x := 1) (x' := 2) (by decide) (du_in (by decide)) (by decide) rfl (du_db_n (x := 2) (x' := 3) (by decide) (du_in (by decide)) (by decide) rfl (du_db_n (x := 3) (x' := 4) (by decide) (du_in (by decide)) (by decide) rfl (du_db_n (x := 4) (x' := 5) (by decide) (du_in (by decide)) (by decide) rfl (du_db_y (x := 5) (x' := 6) (by decide) (du_in (by decide)) rfl (by decide) rfl (du_db_n (x := 6) (x' := 7) (by decide) (du_in (by decide)) (by decide) rfl (du_db_n (x := 7) (x' := 8) (by decide) (du_in (by decide)) (by decide) rfl (du_db_n (x := 8) (x' := 9) (by decide) (du_in (by decide)) (by decide) rfl (du_db_n (x := 9) (x' := 10) (by decide) (du_in (by decide)) (by decide) rfl (du_db_n (x := 10) (x' := 11) (by decide) (du_in (by decide)) (by decide) rfl (du_db_n (x := 11) (x' := 12) (by decide) (du_in (by decide)) (by decide) rfl (du_db_y (x := 12) (x' := 13) (by decide) (du_in (by decide)) rfl (by decide) rfl (du_db_n (x := 13) (x' := 14) (by decide) (du_in (by decide)) (by decide) rfl (du_db_n (x := 14) (x' := 15) (by decide) (du_in (by decide)) (by decide) rfl (du_db_x (by decide) h))))))))))))))))
theorem du_ii1_4 (a b u d e x : Int32) (q : Int32 → Prop) (h : q (if (((du_A e ||| du_A u) >>> (a &&& 31)) &&& 1) = 0 then 1 else 0)) : wpX_isIdle q (du_PS 4 a b u d e x) 1 := du_isIdle1 (s := (du_A e ||| du_A u)) (du_in (by decide)) rfl (by decide) (fun q' h' => du_wb_ok (y := (du_A e ||| du_A u)) rfl h') h
theorem du_ii3_4 (a b u d e x : Int32) (q : Int32 → Prop) (h : q (if (((du_A e ||| du_A u) >>> (b &&& 31)) &&& 1) = 0 then 1 else 0)) : wpX_isIdle q (du_PS 4 a b u d e x) 3 := du_isIdle1 (s := (du_A e ||| du_A u)) (du_in (by decide)) rfl (by decide) (fun q' h' => du_wb_ok (y := (du_A e ||| du_A u)) rfl h') h
theorem du_ii10_4 (a b u d e x : Int32) (q : Int32 → Prop) (h : q (if (((du_A e) >>> (d &&& 31)) &&& 1) = 0 then 1 else 0)) : wpX_isIdle q (du_PS 4 a b u d e x) 10 := du_isIdle1 (s := (du_A e)) (du_in (by decide)) rfl (by decide) (fun q' h' => du_wb_ok (y := (du_A e)) rfl h') h
theorem du_ii0_4 (a b u d e x : Int32) (q : Int32 → Prop) (h : q 0) : wpX_isIdle q (du_PS 4 a b u d e x) 0 := du_isIdle0 (du_in (by decide)) (by decide) h
theorem du_ii2_4 (a b u d e x : Int32) (q : Int32 → Prop) (h : q 0) : wpX_isIdle q (du_PS 4 a b u d e x) 2 := du_isIdle0 (du_in (by decide)) (by decide) h
theorem du_ii4_4 (a b u d e x : Int32) (q : Int32 → Prop) (h : q 0) : wpX_isIdle q (du_PS 4 a b u d e x) 4 := du_isIdle0 (du_in (by decide)) (by decide) h
theorem du_ii5_4 (a b u d e x : Int32) (q : Int32 → Prop) (h : q 0) : wpX_isIdle q (du_PS 4 a b u d e x) 5 := du_isIdle0 (du_in (by decide)) (by decide) h
theorem du_ii6_4 (a b u d e x : Int32) (q : Int32 → Prop) (h : q 0) : wpX_isIdle q (du_PS 4 a b u d e x) 6 := du_isIdle0 (du_in (by decide)) (by decide) h
theorem du_ii7_4 (a b u d e x : Int32) (q : Int32 → Prop) (h : q 0) : wpX_isIdle q (du_PS 4 a b u d e x) 7 := du_isIdle0 (du_in (by decide)) (by decide) h
theorem du_ii8_4 (a b u d e x : Int32) (q : Int32 → Prop) (h : q 0) : wpX_isIdle q (du_PS 4 a b u d e x) 8 := du_isIdle0 (du_in (by decide)) (by decide) h
theorem du_ii9_4 (a b u d e x : Int32) (q : Int32 → Prop) (h : q 0) : wpX_isIdle q (du_PS 4 a b u d e x) 9 := du_isIdle0 (du_in (by decide)) (by decide) h
theorem du_ii11_4 (a b u d e x : Int32) (q : Int32 → Prop) (h : q 0) : wpX_isIdle q (du_PS 4 a b u d e x) 11 := du_isIdle0 (du_in (by decide)) (by decide) h
theorem du_ii12_4 (a b u d e x : Int32) (q : Int32 → Prop) (h : q 0) : wpX_isIdle q (du_PS 4 a b u d e x) 12 := du_isIdle0 (du_in (by decide)) (by decide) h
theorem du_ii13_4 (a b u d e x : Int32) (q : Int32 → Prop) (h : q 0) : wpX_isIdle q (du_PS 4 a b u d e x) 13 := du_isIdle0 (du_in (by decide)) (by decide) h
theorem du_ii14_4 (a b u d e x : Int32) (q : Int32 → Prop) (h : q 0) : wpX_isIdle q (du_PS 4 a b u d e x) 14 := du_isIdleC (du_in (by decide)) rfl rfl h
theorem du_i1_4 (a b u d e x r : Int32) (er : (if (((du_A e ||| du_A u) >>> (a &&& 31)) &&& 1) = 0 then (1 : Int32) else 0) = r) (h01 : r = 0 ∨ r = 1) (q : Int32 → St2 → Prop) (h : q r (du_PS 4 a b u d e x)) : wpX_idle q (du_PS 4 a b u d e x) 1 := du_idle (by decide) (by decide) (fun q' h' => du_ii1_4 a b u d e x q' (du_qf er h')) h01 h
theorem du_i3_4 (a b u d e x r : Int32) (er : (if (((du_A e ||| du_A u) >>> (b &&& 31)) &&& 1) = 0 then (1 : Int32) else 0) = r) (h01 : r = 0 ∨ r = 1) (q : Int32 → St2 → Prop) (h : q r (du_PS 4 a b u d e x)) : wpX_idle q (du_PS 4 a b u d e x) 3 := du_idle (by decide) (by decide) (fun q' h' => du_ii3_4 a b u d e x q' (du_qf er h')) h01 h
theorem du_i10_4 (a b u d e x r : Int32) (er : (if (((du_A e) >>> (d &&& 31)) &&& 1) = 0 then (1 : Int32) else 0) = r) (h01 : r = 0 ∨ r = 1) (q : Int32 → St2 → Prop) (h : q r (du_PS 4 a b u d e x)) : wpX_idle q (du_PS 4 a b u d e x) 10 := du_idle (by decide) (by decide) (fun q' h' => du_ii10_4 a b u d e x q' (du_qf er h')) h01 h
theorem du_i14_4 (a b u d e x : Int32) (q : Int32 → St2 → Prop) (h : q 0 (du_PS 4 a b u d e x)) : wpX_idle q (du_PS 4 a b u d e x) 14 := du_idle (by decide) (by decide) (fun q' h' => du_ii14_4 a b u d e x q' h') (Or.inl rfl) h
theorem du_is_4 (a b u d e x r1 r3 r10 : Int32) (h1 : r1 = 0 ∨ r1 = 1) (h3 : r3 = 0 ∨ r3 = 1) (h10 : r10 = 0 ∨ r10 = 1)
    (e1 : (if (((du_A e ||| du_A u) >>> (a &&& 31)) &&& 1) = 0 then (1 : Int32) else 0) = r1) (e3 : (if (((du_A e ||| du_A u) >>> (b &&& 31)) &&& 1) = 0 then (1 : Int32) else 0) = r3) (e10 : (if ((du_A e >>> (d &&& 31)) &&& 1) = 0 then (1 : Int32) else 0) = r10)
    (q : Int32 → St2 → Prop) (h : q ((du_o r1 + du_o r3) + du_o r10) (du_PS 4 a b u d e x)) : wpX_idles q (du_PS 4 a b u d e x) :=
  du_idles 16 (du_ids_0 (x := 0) (x' := 1) (by decide) (fun q' h' => du_ii0_4 a b u d e x q' h') rfl (du_ids_s (r := r1) (x := 1) (x' := 2) (by decide) (fun q' h' => du_ii1_4 a b u d e x q' (du_qf e1 h')) rfl (du_ids_0 (x := 2) (x' := 3) (by decide) (fun q' h' => du_ii2_4 a b u d e x q' h') rfl (du_ids_s (r := r3) (x := 3) (x' := 4) (by decide) (fun q' h' => du_ii3_4 a b u d e x q' (du_qf e3 h')) rfl (du_ids_0 (x := 4) (x' := 5) (by decide) (fun q' h' => du_ii4_4 a b u d e x q' h') rfl (du_ids_0 (x := 5) (x' := 6) (by decide) (fun q' h' => du_ii5_4 a b u d e x q' h') rfl (du_ids_0 (x := 6) (x' := 7) (by decide) (fun q' h' => du_ii6_4 a b u d e x q' h') rfl (du_ids_0 (x := 7) (x' := 8) (by decide) (fun q' h' => du_ii7_4 a b u d e x q' h') rfl (du_ids_0 (x := 8) (x' := 9) (by decide) (fun q' h' => du_ii8_4 a b u d e x q' h') rfl (du_ids_0 (x := 9) (x' := 10) (by decide) (fun q' h' => du_ii9_4 a b u d e x q' h') rfl (du_ids_s (r := r10) (x := 10) (x' := 11) (by decide) (fun q' h' => du_ii10_4 a b u d e x q' (du_qf e10 h')) rfl (du_ids_0 (x := 11) (x' := 12) (by decide) (fun q' h' => du_ii11_4 a b u d e x q' h') rfl (du_ids_0 (x := 12) (x' := 13) (by decide) (fun q' h' => du_ii12_4 a b u d e x q' h') rfl (du_ids_0 (x := 13) (x' := 14) (by decide) (fun q' h' => du_ii13_4 a b u d e x q' h') rfl (du_ids_0 (x := 14) (x' := 15) (by decide) (fun q' h' => du_ii14_4 a b u d e x q' h') rfl (du_ids_x (by decide) (du_qe (du_num_c r1 r3 r10 h1 h3 h10) h)))))))))))))))))
theorem du_w0_4 (a b u d e x : Int32) (q : Int32 → St2 → Prop) (h : q (((du_A e ||| du_A u) &&& (du_A a ^^^ (-1))) ||| ((du_A e ||| du_A u) &&& (du_A b ^^^ (-1)))) (du_PS 4 a b u d e x)) : wpX_wanted q (du_PS 4 a b u d e x) 0 := du_wanted (by decide) (by decide) (du_in (by decide)) h
theorem du_w10_4 (a b u d e x : Int32) (q : Int32 → St2 → Prop) (h : q (du_A e &&& (du_A d ^^^ (-1))) (du_PS 4 a b u d e x)) : wpX_wanted q (du_PS 4 a b u d e x) 10 := du_wanted (by decide) (by decide) (du_in (by decide)) h
theorem du_w13_4 (a b u d e x : Int32) (q : Int32 → St2 → Prop) (h : q 0 (du_PS 4 a b u d e x)) : wpX_wanted q (du_PS 4 a b u d e x) 13 := du_wanted (by decide) (by decide) (du_in (by decide)) h
theorem du_w5_4 (a b u d e x : Int32) (q : Int32 → St2 → Prop) (h : q (du_A e ||| du_A u) (du_PS 4 a b u d e x)) : wpX_wanted q (du_PS 4 a b u d e x) 5 := du_wanted (by decide) (by decide) (du_in (by decide)) h
theorem du_e0_4 (a b u d e x : Int32) (q : Int32 → St2 → Prop) (h : q 4 (du_PS 4 a b u d e x)) : wpX_endOf q (du_PS 4 a b u d e x) 0 := du_endOf1 (by decide) (by decide) (du_in (by decide)) (by decide) h
theorem du_e6_4 (a b u d e x : Int32) (q : Int32 → St2 → Prop) (h : q 11 (du_PS 4 a b u d e x)) : wpX_endOf q (du_PS 4 a b u d e x) 6 := du_endOf1 (by decide) (by decide) (du_in (by decide)) (by decide) h
theorem du_e7_4 (a b u d e x : Int32) (q : Int32 → St2 → Prop) (h : q 9 (du_PS 4 a b u d e x)) : wpX_endOf q (du_PS 4 a b u d e x) 7 := du_endOf1 (by decide) (by decide) (du_in (by decide)) (by decide) h
theorem du_e2_4 (a b u d e x : Int32) (q : Int32 → St2 → Prop) (h : q (-5) (du_PS 4 a b u d e x)) : wpX_endOf q (du_PS 4 a b u d e x) 2 := du_endOf0 (by decide) (by decide) (du_in (by decide)) (by decide) h
theorem du_ch_4 (a b u d e x : Int32) (q : Int32 → St2 → Prop) (h : q 7 (du_PC 4 a b u d e x)) : wpX_change q (du_PS 4 a b u d e x) 8 8 0 := du_change 8 8 0 7 (by decide) (by decide) (by decide) (by decide) (by decide) (by decide) (by decide) (du_in (by decide)) rfl rfl rfl h
theorem du_prep3_4 (a b u d e x : Int32) (q : St2 → Prop) (h : ∀ w, q (du_PT 4 a b u d e (63 &&& du_m a b) 1 w)) : wpX_prepare q (du_PC 4 a b u d e x) :=
  du_prep_good 16 16 du_fs3_4 (by decide) (du_pf3_4 a b u d e x x) (fun q' hq => du_back2 (du_any_4 _) (fun w => hq _ (h w)))
theorem du_rc_4 (a b u d e x : Int32) (q : Int32 → St2 → Prop) (h : ∀ w, q 1 (du_PT 4 a b u d e (63 &&& du_m a b) 1 w)) : wpX_reached q (du_PC 4 a b u d e x) 12 := by
  unfold wpX_reached du_PC
  exact du_prep3_4 a b u d e x _ (fun w => br_f (by decide) (br_f (by decide) (br_t (by decide) (br_t rfl ⟨(du_in (by decide)), br_f (by decide) (h w)⟩))))
theorem du_sv_4 (a b u d e : Int32) (w : Nat → Int32) (q : Int32 → St2 → Prop) (h : q (63 &&& du_m a b) (du_PT 4 a b u d e (63 &&& du_m a b) 1 w)) : wpX_surely q (du_PT 4 a b u d e (63 &&& du_m a b) 1 w) 12 := du_surely1 (by decide) (by decide) (du_in (by decide)) (by decide) h
theorem du_s4_5 (a b u d e x : Int32) (q : Int32 → St2 → Prop) (h : q (du_m a b) (du_PS 5 a b u d e x)) : wpX_surely q (du_PS 5 a b u d e x) 4 := du_surely1 (by decide) (by decide) (du_in (by decide)) (by decide) h
theorem du_s5_5 (a b u d e x : Int32) (q : Int32 → St2 → Prop) (h : q (du_m a b) (du_PS 5 a b u d e x)) : wpX_surely q (du_PS 5 a b u d e x) 5 := du_surely1 (by decide) (by decide) (du_in (by decide)) (by decide) h
theorem du_s7_5 (a b u d e x : Int32) (q : Int32 → St2 → Prop) (h : q (du_m a b) (du_PS 5 a b u d e x)) : wpX_surely q (du_PS 5 a b u d e x) 7 := du_surely1 (by decide) (by decide) (du_in (by decide)) (by decide) h
theorem du_s10_5 (a b u d e x : Int32) (q : Int32 → St2 → Prop) (h : q (63 &&& du_m a b) (du_PS 5 a b u d e x)) : wpX_surely q (du_PS 5 a b u d e x) 10 := du_surely1 (by decide) (by decide) (du_in (by decide)) (by decide) h
theorem du_s11_5 (a b u d e x : Int32) (q : Int32 → St2 → Prop) (h : q ((63 &&& du_m a b) ||| du_A d) (du_PS 5 a b u d e x)) : wpX_surely q (du_PS 5 a b u d e x) 11 := du_surely1 (by decide) (by decide) (du_in (by decide)) (by decide) h
theorem du_s12_5 (a b u d e x : Int32) (q : Int32 → St2 → Prop) (h : q x (du_PS 5 a b u d e x)) : wpX_surely q (du_PS 5 a b u d e x) 12 := du_surely1 (by decide) (by decide) (du_in (by decide)) (by decide) h
theorem du_s14_5 (a b u d e x : Int32) (q : Int32 → St2 → Prop) (h : q 63 (du_PS 5 a b u d e x)) : wpX_surely q (du_PS 5 a b u d e x) 14 := du_surely0 (by decide) (by decide) (du_in (by decide)) rfl h
theorem du_r14_5 (a b u d e x : Int32) (q : Int32 → St2 → Prop) (h : q 0 (du_PS 5 a b u d e x)) : wpX_reached q (du_PS 5 a b u d e x) 14 := du_reached0 (by decide) (by decide) (du_in (by decide)) rfl h
theorem du_r13_5 (a b u d e x : Int32) (q : Int32 → St2 → Prop) (h : q 1 (du_PS 5 a b u d e x)) : wpX_reached q (du_PS 5 a b u d e x) 13 := du_reached1 (by decide) (by decide) (du_in (by decide)) (by decide) h
theorem du_cm_5 (a b u d e x : Int32) (q : Int32 → St2 → Prop) (h : q 0 (du_PS 5 a b u d e x)) : wpX_completes q (du_PS 5 a b u d e x) := du_completes0 (du_in (by decide)) rfl h
theorem du_db_5 (a b u d e x : Int32) (q : Int32 → St2 → Prop) (h : q (if ((x >>> (e &&& 31)) &&& 1) = 0 then (if ((du_m a b >>> (u &&& 31)) &&& 1) = 0 then (0 : Int32) + 1 else 0) + 1 else (if ((du_m a b >>> (u &&& 31)) &&& 1) = 0 then (0 : Int32) + 1 else 0)) (du_PS 5 a b u d e x)) : wpX_doubts q (du_PS 5 a b u d e x) :=
  du_doubts 16 (du_db_n (x := 0) (x' := 1) (by decide) (du_in (by decide)) (by decide) rfl (du_db_n (x := 1) (x' := 2) (by decide) (du_in (by decide)) (by decide) rfl (du_db_n (x := 2) (x' := 3) (by decide) (du_in (by decide)) (by decide) rfl (du_db_n (x := 3) (x' := 4) (by decide) (du_in (by decide)) (by decide) rfl (du_db_n (x := 4) (x' := 5) (by decide) (du_in (by decide)) (by decide) rfl (du_db_y (x := 5) (x' := 6) (by decide) (du_in (by decide)) rfl (by decide) rfl (du_db_n (x := 6) (x' := 7) (by decide) (du_in (by decide)) (by decide) rfl (du_db_n (x := 7) (x' := 8) (by decide) (du_in (by decide)) (by decide) rfl (du_db_n (x := 8) (x' := 9) (by decide) (du_in (by decide)) (by decide) rfl (du_db_n (x := 9) (x' := 10) (by decide) (du_in (by decide)) (by decide) rfl (du_db_n (x := 10) (x' := 11) (by decide) (du_in (by decide)) (by decide) rfl (du_db_n (x := 11) (x' := 12) (by decide) (du_in (by decide)) (by decide) rfl (du_db_y (x := 12) (x' := 13) (by decide) (du_in (by decide)) rfl (by decide) rfl (du_db_n (x := 13) (x' := 14) (by decide) (du_in (by decide)) (by decide) rfl (du_db_n (x := 14) (x' := 15) (by decide) (du_in (by decide)) (by decide) rfl (du_db_x (by decide) h))))))))))))))))
theorem du_ii1_5 (a b u d e x : Int32) (q : Int32 → Prop) (h : q (if (((du_A e ||| du_A u) >>> (a &&& 31)) &&& 1) = 0 then 1 else 0)) : wpX_isIdle q (du_PS 5 a b u d e x) 1 := du_isIdle1 (s := (du_A e ||| du_A u)) (du_in (by decide)) rfl (by decide) (fun q' h' => du_wb_ok (y := (du_A e ||| du_A u)) rfl h') h
theorem du_ii3_5 (a b u d e x : Int32) (q : Int32 → Prop) (h : q (if (((du_A e ||| du_A u) >>> (b &&& 31)) &&& 1) = 0 then 1 else 0)) : wpX_isIdle q (du_PS 5 a b u d e x) 3 := du_isIdle1 (s := (du_A e ||| du_A u)) (du_in (by decide)) rfl (by decide) (fun q' h' => du_wb_ok (y := (du_A e ||| du_A u)) rfl h') h
theorem du_ii10_5 (a b u d e x : Int32) (q : Int32 → Prop) (h : q (if (((du_A e) >>> (d &&& 31)) &&& 1) = 0 then 1 else 0)) : wpX_isIdle q (du_PS 5 a b u d e x) 10 := du_isIdle1 (s := (du_A e)) (du_in (by decide)) rfl (by decide) (fun q' h' => du_wb_ok (y := (du_A e)) rfl h') h
theorem du_ii0_5 (a b u d e x : Int32) (q : Int32 → Prop) (h : q 0) : wpX_isIdle q (du_PS 5 a b u d e x) 0 := du_isIdle0 (du_in (by decide)) (by decide) h
theorem du_ii2_5 (a b u d e x : Int32) (q : Int32 → Prop) (h : q 0) : wpX_isIdle q (du_PS 5 a b u d e x) 2 := du_isIdle0 (du_in (by decide)) (by decide) h
theorem du_ii4_5 (a b u d e x : Int32) (q : Int32 → Prop) (h : q 0) : wpX_isIdle q (du_PS 5 a b u d e x) 4 := du_isIdle0 (du_in (by decide)) (by decide) h
theorem du_ii5_5 (a b u d e x : Int32) (q : Int32 → Prop) (h : q 0) : wpX_isIdle q (du_PS 5 a b u d e x) 5 := du_isIdle0 (du_in (by decide)) (by decide) h
theorem du_ii6_5 (a b u d e x : Int32) (q : Int32 → Prop) (h : q 0) : wpX_isIdle q (du_PS 5 a b u d e x) 6 := du_isIdle0 (du_in (by decide)) (by decide) h
theorem du_ii7_5 (a b u d e x : Int32) (q : Int32 → Prop) (h : q 0) : wpX_isIdle q (du_PS 5 a b u d e x) 7 := du_isIdle0 (du_in (by decide)) (by decide) h
theorem du_ii8_5 (a b u d e x : Int32) (q : Int32 → Prop) (h : q 0) : wpX_isIdle q (du_PS 5 a b u d e x) 8 := du_isIdle0 (du_in (by decide)) (by decide) h
theorem du_ii9_5 (a b u d e x : Int32) (q : Int32 → Prop) (h : q 0) : wpX_isIdle q (du_PS 5 a b u d e x) 9 := du_isIdle0 (du_in (by decide)) (by decide) h
theorem du_ii11_5 (a b u d e x : Int32) (q : Int32 → Prop) (h : q 0) : wpX_isIdle q (du_PS 5 a b u d e x) 11 := du_isIdle0 (du_in (by decide)) (by decide) h
theorem du_ii12_5 (a b u d e x : Int32) (q : Int32 → Prop) (h : q 0) : wpX_isIdle q (du_PS 5 a b u d e x) 12 := du_isIdle0 (du_in (by decide)) (by decide) h
theorem du_ii13_5 (a b u d e x : Int32) (q : Int32 → Prop) (h : q 0) : wpX_isIdle q (du_PS 5 a b u d e x) 13 := du_isIdle0 (du_in (by decide)) (by decide) h
theorem du_ii14_5 (a b u d e x : Int32) (q : Int32 → Prop) (h : q 0) : wpX_isIdle q (du_PS 5 a b u d e x) 14 := du_isIdleC (du_in (by decide)) rfl rfl h
theorem du_i1_5 (a b u d e x r : Int32) (er : (if (((du_A e ||| du_A u) >>> (a &&& 31)) &&& 1) = 0 then (1 : Int32) else 0) = r) (h01 : r = 0 ∨ r = 1) (q : Int32 → St2 → Prop) (h : q r (du_PS 5 a b u d e x)) : wpX_idle q (du_PS 5 a b u d e x) 1 := du_idle (by decide) (by decide) (fun q' h' => du_ii1_5 a b u d e x q' (du_qf er h')) h01 h
theorem du_i3_5 (a b u d e x r : Int32) (er : (if (((du_A e ||| du_A u) >>> (b &&& 31)) &&& 1) = 0 then (1 : Int32) else 0) = r) (h01 : r = 0 ∨ r = 1) (q : Int32 → St2 → Prop) (h : q r (du_PS 5 a b u d e x)) : wpX_idle q (du_PS 5 a b u d e x) 3 := du_idle (by decide) (by decide) (fun q' h' => du_ii3_5 a b u d e x q' (du_qf er h')) h01 h
theorem du_i10_5 (a b u d e x r : Int32) (er : (if (((du_A e) >>> (d &&& 31)) &&& 1) = 0 then (1 : Int32) else 0) = r) (h01 : r = 0 ∨ r = 1) (q : Int32 → St2 → Prop) (h : q r (du_PS 5 a b u d e x)) : wpX_idle q (du_PS 5 a b u d e x) 10 := du_idle (by decide) (by decide) (fun q' h' => du_ii10_5 a b u d e x q' (du_qf er h')) h01 h
theorem du_i14_5 (a b u d e x : Int32) (q : Int32 → St2 → Prop) (h : q 0 (du_PS 5 a b u d e x)) : wpX_idle q (du_PS 5 a b u d e x) 14 := du_idle (by decide) (by decide) (fun q' h' => du_ii14_5 a b u d e x q' h') (Or.inl rfl) h
theorem du_is_5 (a b u d e x r1 r3 r10 : Int32) (h1 : r1 = 0 ∨ r1 = 1) (h3 : r3 = 0 ∨ r3 = 1) (h10 : r10 = 0 ∨ r10 = 1)
    (e1 : (if (((du_A e ||| du_A u) >>> (a &&& 31)) &&& 1) = 0 then (1 : Int32) else 0) = r1) (e3 : (if (((du_A e ||| du_A u) >>> (b &&& 31)) &&& 1) = 0 then (1 : Int32) else 0) = r3) (e10 : (if ((du_A e >>> (d &&& 31)) &&& 1) = 0 then (1 : Int32) else 0) = r10)
    (q : Int32 → St2 → Prop) (h : q ((du_o r1 + du_o r3) + du_o r10) (du_PS 5 a b u d e x)) : wpX_idles q (du_PS 5 a b u d e x) :=
  du_idles 16 (du_ids_0 (x := 0) (x' := 1) (by decide) (fun q' h' => du_ii0_5 a b u d e x q' h') rfl (du_ids_s (r := r1) (x := 1) (x' := 2) (by decide) (fun q' h' => du_ii1_5 a b u d e x q' (du_qf e1 h')) rfl (du_ids_0 (x := 2) (x' := 3) (by decide) (fun q' h' => du_ii2_5 a b u d e x q' h') rfl (du_ids_s (r := r3) (x := 3) (x' := 4) (by decide) (fun q' h' => du_ii3_5 a b u d e x q' (du_qf e3 h')) rfl (du_ids_0 (x := 4) (x' := 5) (by decide) (fun q' h' => du_ii4_5 a b u d e x q' h') rfl (du_ids_0 (x := 5) (x' := 6) (by decide) (fun q' h' => du_ii5_5 a b u d e x q' h') rfl (du_ids_0 (x := 6) (x' := 7) (by decide) (fun q' h' => du_ii6_5 a b u d e x q' h') rfl (du_ids_0 (x := 7) (x' := 8) (by decide) (fun q' h' => du_ii7_5 a b u d e x q' h') rfl (du_ids_0 (x := 8) (x' := 9) (by decide) (fun q' h' => du_ii8_5 a b u d e x q' h') rfl (du_ids_0 (x := 9) (x' := 10) (by decide) (fun q' h' => du_ii9_5 a b u d e x q' h') rfl (du_ids_s (r := r10) (x := 10) (x' := 11) (by decide) (fun q' h' => du_ii10_5 a b u d e x q' (du_qf e10 h')) rfl (du_ids_0 (x := 11) (x' := 12) (by decide) (fun q' h' => du_ii11_5 a b u d e x q' h') rfl (du_ids_0 (x := 12) (x' := 13) (by decide) (fun q' h' => du_ii12_5 a b u d e x q' h') rfl (du_ids_0 (x := 13) (x' := 14) (by decide) (fun q' h' => du_ii13_5 a b u d e x q' h') rfl (du_ids_0 (x := 14) (x' := 15) (by decide) (fun q' h' => du_ii14_5 a b u d e x q' h') rfl (du_ids_x (by decide) (du_qe (du_num_c r1 r3 r10 h1 h3 h10) h)))))))))))))))))
theorem du_w0_5 (a b u d e x : Int32) (q : Int32 → St2 → Prop) (h : q (((du_A e ||| du_A u) &&& (du_A a ^^^ (-1))) ||| ((du_A e ||| du_A u) &&& (du_A b ^^^ (-1)))) (du_PS 5 a b u d e x)) : wpX_wanted q (du_PS 5 a b u d e x) 0 := du_wanted (by decide) (by decide) (du_in (by decide)) h
theorem du_w10_5 (a b u d e x : Int32) (q : Int32 → St2 → Prop) (h : q (du_A e &&& (du_A d ^^^ (-1))) (du_PS 5 a b u d e x)) : wpX_wanted q (du_PS 5 a b u d e x) 10 := du_wanted (by decide) (by decide) (du_in (by decide)) h
theorem du_w13_5 (a b u d e x : Int32) (q : Int32 → St2 → Prop) (h : q 0 (du_PS 5 a b u d e x)) : wpX_wanted q (du_PS 5 a b u d e x) 13 := du_wanted (by decide) (by decide) (du_in (by decide)) h
theorem du_w5_5 (a b u d e x : Int32) (q : Int32 → St2 → Prop) (h : q (du_A e ||| du_A u) (du_PS 5 a b u d e x)) : wpX_wanted q (du_PS 5 a b u d e x) 5 := du_wanted (by decide) (by decide) (du_in (by decide)) h
theorem du_e0_5 (a b u d e x : Int32) (q : Int32 → St2 → Prop) (h : q 4 (du_PS 5 a b u d e x)) : wpX_endOf q (du_PS 5 a b u d e x) 0 := du_endOf1 (by decide) (by decide) (du_in (by decide)) (by decide) h
theorem du_e6_5 (a b u d e x : Int32) (q : Int32 → St2 → Prop) (h : q 11 (du_PS 5 a b u d e x)) : wpX_endOf q (du_PS 5 a b u d e x) 6 := du_endOf1 (by decide) (by decide) (du_in (by decide)) (by decide) h
theorem du_e7_5 (a b u d e x : Int32) (q : Int32 → St2 → Prop) (h : q 9 (du_PS 5 a b u d e x)) : wpX_endOf q (du_PS 5 a b u d e x) 7 := du_endOf1 (by decide) (by decide) (du_in (by decide)) (by decide) h
theorem du_e2_5 (a b u d e x : Int32) (q : Int32 → St2 → Prop) (h : q (-5) (du_PS 5 a b u d e x)) : wpX_endOf q (du_PS 5 a b u d e x) 2 := du_endOf0 (by decide) (by decide) (du_in (by decide)) (by decide) h
theorem du_ch_5 (a b u d e x : Int32) (q : Int32 → St2 → Prop) (h : q 7 (du_PC 5 a b u d e x)) : wpX_change q (du_PS 5 a b u d e x) 8 8 0 := du_change 8 8 0 7 (by decide) (by decide) (by decide) (by decide) (by decide) (by decide) (by decide) (du_in (by decide)) rfl rfl rfl h
theorem du_prep3_5 (a b u d e x : Int32) (q : St2 → Prop) (h : ∀ w, q (du_PT 5 a b u d e 63 0 w)) : wpX_prepare q (du_PC 5 a b u d e x) :=
  du_prep_good 16 16 du_fs3_5 (by decide) (du_pf3_5 a b u d e x x) (fun q' hq => du_back2 (du_any_5 _) (fun w => hq _ (h w)))
theorem du_rc_5 (a b u d e x : Int32) (q : Int32 → St2 → Prop) (h : ∀ w, q 0 (du_PT 5 a b u d e 63 0 w)) : wpX_reached q (du_PC 5 a b u d e x) 12 := by
  unfold wpX_reached du_PC
  exact du_prep3_5 a b u d e x _ (fun w => br_f (by decide) (br_f (by decide) (br_t (by decide) (br_t rfl ⟨(du_in (by decide)), br_t rfl (h w)⟩))))
theorem du_sv_5 (a b u d e : Int32) (w : Nat → Int32) (q : Int32 → St2 → Prop) (h : q 63 (du_PT 5 a b u d e 63 0 w)) : wpX_surely q (du_PT 5 a b u d e 63 0 w) 12 := du_surely0 (by decide) (by decide) (du_in (by decide)) rfl h
end
section
/-- the law's walk from its first good question on, over any states that answer so -/
theorem du_walk {post : Int32 → St0 → Prop} {mc ms kc ks : Nat} {x2 x4 x5 x6 x7 x8 z0 : Int32} {oln ord ogd oop onw olv : Int32} {oa1 oa2 oa3 oa4 oa5 oa6 oa7 oa8 oa9 oa10 oa11 : Nat → Int32} {ln rd gd op nw lv : Int32} {a1 a2 a3 a4 a5 a6 a7 a8 a9 a10 a11 : Nat → Int32} {mln mrd mgd mop mnw mlv : Int32} {ma1 ma2 ma3 ma4 ma5 ma6 ma7 ma8 ma9 ma10 ma11 : Nat → Int32} {nln nrd ngd nop nnw nlv : Int32} {na1 na2 na3 na4 na5 na6 na7 na8 na9 na10 : Nat → Int32} (hp : post 1 ())
    (hs : ∀ q : Int32 → St2 → Prop, q 1 (ln, rd, gd, op, nw, lv, a1, a2, a3, a4, a5, a6, a7, a8, a9, a10, a11) → wpX_sound q (oln, ord, ogd, oop, onw, olv, oa1, oa2, oa3, oa4, oa5, oa6, oa7, oa8, oa9, oa10, oa11))
    (s5 : ∀ q : Int32 → St2 → Prop, q z0 (ln, rd, gd, op, nw, lv, a1, a2, a3, a4, a5, a6, a7, a8, a9, a10, a11) → wpX_surely q (ln, rd, gd, op, nw, lv, a1, a2, a3, a4, a5, a6, a7, a8, a9, a10, a11) 5)
    (s7 : ∀ q : Int32 → St2 → Prop, q z0 (ln, rd, gd, op, nw, lv, a1, a2, a3, a4, a5, a6, a7, a8, a9, a10, a11) → wpX_surely q (ln, rd, gd, op, nw, lv, a1, a2, a3, a4, a5, a6, a7, a8, a9, a10, a11) 7)
    (s12 : ∀ q : Int32 → St2 → Prop, q z0 (ln, rd, gd, op, nw, lv, a1, a2, a3, a4, a5, a6, a7, a8, a9, a10, a11) → wpX_surely q (ln, rd, gd, op, nw, lv, a1, a2, a3, a4, a5, a6, a7, a8, a9, a10, a11) 12)
    (s4 : ∀ q : Int32 → St2 → Prop, q z0 (ln, rd, gd, op, nw, lv, a1, a2, a3, a4, a5, a6, a7, a8, a9, a10, a11) → wpX_surely q (ln, rd, gd, op, nw, lv, a1, a2, a3, a4, a5, a6, a7, a8, a9, a10, a11) 4)
    (s10 : ∀ q : Int32 → St2 → Prop, q z0 (ln, rd, gd, op, nw, lv, a1, a2, a3, a4, a5, a6, a7, a8, a9, a10, a11) → wpX_surely q (ln, rd, gd, op, nw, lv, a1, a2, a3, a4, a5, a6, a7, a8, a9, a10, a11) 10)
    (s11 : ∀ q : Int32 → St2 → Prop, q (z0 ||| ((1 : Int32) <<< (x7 &&& 31))) (ln, rd, gd, op, nw, lv, a1, a2, a3, a4, a5, a6, a7, a8, a9, a10, a11) → wpX_surely q (ln, rd, gd, op, nw, lv, a1, a2, a3, a4, a5, a6, a7, a8, a9, a10, a11) 11)
    (s14 : ∀ q : Int32 → St2 → Prop, q 63 (ln, rd, gd, op, nw, lv, a1, a2, a3, a4, a5, a6, a7, a8, a9, a10, a11) → wpX_surely q (ln, rd, gd, op, nw, lv, a1, a2, a3, a4, a5, a6, a7, a8, a9, a10, a11) 14)
    (r14 : ∀ q : Int32 → St2 → Prop, q 0 (ln, rd, gd, op, nw, lv, a1, a2, a3, a4, a5, a6, a7, a8, a9, a10, a11) → wpX_reached q (ln, rd, gd, op, nw, lv, a1, a2, a3, a4, a5, a6, a7, a8, a9, a10, a11) 14)
    (r13 : ∀ q : Int32 → St2 → Prop, q 1 (ln, rd, gd, op, nw, lv, a1, a2, a3, a4, a5, a6, a7, a8, a9, a10, a11) → wpX_reached q (ln, rd, gd, op, nw, lv, a1, a2, a3, a4, a5, a6, a7, a8, a9, a10, a11) 13)
    (cm : ∀ q : Int32 → St2 → Prop, q 0 (ln, rd, gd, op, nw, lv, a1, a2, a3, a4, a5, a6, a7, a8, a9, a10, a11) → wpX_completes q (ln, rd, gd, op, nw, lv, a1, a2, a3, a4, a5, a6, a7, a8, a9, a10, a11))
    (db : ∀ q : Int32 → St2 → Prop, q ((((z0 >>> (x6 &&& 31)) &&& 1) ^^^ 1) + (((z0 >>> (x8 &&& 31)) &&& 1) ^^^ 1)) (ln, rd, gd, op, nw, lv, a1, a2, a3, a4, a5, a6, a7, a8, a9, a10, a11) → wpX_doubts q (ln, rd, gd, op, nw, lv, a1, a2, a3, a4, a5, a6, a7, a8, a9, a10, a11))
    (i1 : ∀ q : Int32 → St2 → Prop, q (du_ne x6 x8 x4) (ln, rd, gd, op, nw, lv, a1, a2, a3, a4, a5, a6, a7, a8, a9, a10, a11) → wpX_idle q (ln, rd, gd, op, nw, lv, a1, a2, a3, a4, a5, a6, a7, a8, a9, a10, a11) 1)
    (i3 : ∀ q : Int32 → St2 → Prop, q (du_ne x6 x8 x5) (ln, rd, gd, op, nw, lv, a1, a2, a3, a4, a5, a6, a7, a8, a9, a10, a11) → wpX_idle q (ln, rd, gd, op, nw, lv, a1, a2, a3, a4, a5, a6, a7, a8, a9, a10, a11) 3)
    (i10 : ∀ q : Int32 → St2 → Prop, q (du_n1 x8 x7) (ln, rd, gd, op, nw, lv, a1, a2, a3, a4, a5, a6, a7, a8, a9, a10, a11) → wpX_idle q (ln, rd, gd, op, nw, lv, a1, a2, a3, a4, a5, a6, a7, a8, a9, a10, a11) 10)
    (i14 : ∀ q : Int32 → St2 → Prop, q 0 (ln, rd, gd, op, nw, lv, a1, a2, a3, a4, a5, a6, a7, a8, a9, a10, a11) → wpX_idle q (ln, rd, gd, op, nw, lv, a1, a2, a3, a4, a5, a6, a7, a8, a9, a10, a11) 14)
    (is : ∀ q : Int32 → St2 → Prop, q ((du_o (du_ne x6 x8 x4) + du_o (du_ne x6 x8 x5)) + du_o (du_n1 x8 x7)) (ln, rd, gd, op, nw, lv, a1, a2, a3, a4, a5, a6, a7, a8, a9, a10, a11) → wpX_idles q (ln, rd, gd, op, nw, lv, a1, a2, a3, a4, a5, a6, a7, a8, a9, a10, a11))
    (w0 : ∀ q : Int32 → St2 → Prop, q (du_f1 x4 x5 x6 ||| du_f1 x4 x5 x8) (ln, rd, gd, op, nw, lv, a1, a2, a3, a4, a5, a6, a7, a8, a9, a10, a11) → wpX_wanted q (ln, rd, gd, op, nw, lv, a1, a2, a3, a4, a5, a6, a7, a8, a9, a10, a11) 0)
    (w10 : ∀ q : Int32 → St2 → Prop, q (if x7 = x8 then 0 else (1 : Int32) <<< (x8 &&& 31)) (ln, rd, gd, op, nw, lv, a1, a2, a3, a4, a5, a6, a7, a8, a9, a10, a11) → wpX_wanted q (ln, rd, gd, op, nw, lv, a1, a2, a3, a4, a5, a6, a7, a8, a9, a10, a11) 10)
    (w13 : ∀ q : Int32 → St2 → Prop, q 0 (ln, rd, gd, op, nw, lv, a1, a2, a3, a4, a5, a6, a7, a8, a9, a10, a11) → wpX_wanted q (ln, rd, gd, op, nw, lv, a1, a2, a3, a4, a5, a6, a7, a8, a9, a10, a11) 13)
    (w5 : ∀ q : Int32 → St2 → Prop, q (((1 : Int32) <<< (x6 &&& 31)) ||| ((1 : Int32) <<< (x8 &&& 31))) (ln, rd, gd, op, nw, lv, a1, a2, a3, a4, a5, a6, a7, a8, a9, a10, a11) → wpX_wanted q (ln, rd, gd, op, nw, lv, a1, a2, a3, a4, a5, a6, a7, a8, a9, a10, a11) 5)
    (e0 : ∀ q : Int32 → St2 → Prop, q 4 (ln, rd, gd, op, nw, lv, a1, a2, a3, a4, a5, a6, a7, a8, a9, a10, a11) → wpX_endOf q (ln, rd, gd, op, nw, lv, a1, a2, a3, a4, a5, a6, a7, a8, a9, a10, a11) 0)
    (e6 : ∀ q : Int32 → St2 → Prop, q 11 (ln, rd, gd, op, nw, lv, a1, a2, a3, a4, a5, a6, a7, a8, a9, a10, a11) → wpX_endOf q (ln, rd, gd, op, nw, lv, a1, a2, a3, a4, a5, a6, a7, a8, a9, a10, a11) 6)
    (e7 : ∀ q : Int32 → St2 → Prop, q 9 (ln, rd, gd, op, nw, lv, a1, a2, a3, a4, a5, a6, a7, a8, a9, a10, a11) → wpX_endOf q (ln, rd, gd, op, nw, lv, a1, a2, a3, a4, a5, a6, a7, a8, a9, a10, a11) 7)
    (e2 : ∀ q : Int32 → St2 → Prop, q (-5) (ln, rd, gd, op, nw, lv, a1, a2, a3, a4, a5, a6, a7, a8, a9, a10, a11) → wpX_endOf q (ln, rd, gd, op, nw, lv, a1, a2, a3, a4, a5, a6, a7, a8, a9, a10, a11) 2)
    (ch : ∀ q : Int32 → St2 → Prop, q 7 (mln, mrd, mgd, mop, mnw, mlv, ma1, ma2, ma3, ma4, ma5, ma6, ma7, ma8, ma9, ma10, ma11) → wpX_change q (ln, rd, gd, op, nw, lv, a1, a2, a3, a4, a5, a6, a7, a8, a9, a10, a11) 8 8 0)
    (rc : ∀ q : Int32 → St2 → Prop, (∀ w, q (if (x2 &&& 1) = 0 then 1 else 0) (nln, nrd, ngd, nop, nnw, nlv, na1, na2, na3, na4, na5, na6, na7, na8, na9, na10, w)) → wpX_reached q (mln, mrd, mgd, mop, mnw, mlv, ma1, ma2, ma3, ma4, ma5, ma6, ma7, ma8, ma9, ma10, ma11) 12)
    (sv : ∀ (w : Nat → Int32) (q : Int32 → St2 → Prop), q (if (x2 &&& 1) = 0 then z0 else 63) (nln, nrd, ngd, nop, nnw, nlv, na1, na2, na3, na4, na5, na6, na7, na8, na9, na10, w) → wpX_surely q (nln, nrd, ngd, nop, nnw, nlv, na1, na2, na3, na4, na5, na6, na7, na8, na9, na10, w) 12) :
    wL_lawOf_238 post mc ms x2 x4 x5 x6 x7 x8 z0 kc ks oln ord ogd oop onw olv oa1 oa2 oa3 oa4 oa5 oa6 oa7 oa8 oa9 oa10 oa11 := by
  have W702 : ∀ (w : Nat → Int32) (t r : Int32), r = t → wL_lawOf_702 post mc ms x2 z0 t r kc ks nln nrd ngd nop nnw nlv na1 na2 na3 na4 na5 na6 na7 na8 na9 na10 w := fun w t r e =>
    br_t e (sv w _ (br_c (fun c => br_t (if_pos c) hp) (fun c => br_t (if_neg c) hp)))
  have W599 : ∀ t r : Int32, r = t → wL_lawOf_599 post mc ms x2 x6 x8 z0 t r kc ks ln rd gd op nw lv a1 a2 a3 a4 a5 a6 a7 a8 a9 a10 a11 := by
    intro t r e
    unfold wL_lawOf_599
    refine br_t e ?_
    refine w13 _ ?_
    refine br_t rfl ?_
    refine w5 _ ?_
    refine br_t rfl ?_
    refine e0 _ ?_
    refine br_t rfl ?_
    refine e6 _ ?_
    refine br_t rfl ?_
    refine e7 _ ?_
    refine br_t rfl ?_
    refine e2 _ ?_
    refine br_t rfl ?_
    refine ch _ ?_
    refine br_t rfl ?_
    refine rc _ (fun w => ?_)
    exact br_c (fun c => W702 w _ _ (if_pos c)) (fun c => W702 w _ _ (if_neg c))
  have W565 : ∀ t r : Int32, r = du_f1 x4 x5 x6 → t = du_f1 x4 x5 x8 → wL_lawOf_565 post mc ms x2 x6 x7 x8 z0 t r kc ks ln rd gd op nw lv a1 a2 a3 a4 a5 a6 a7 a8 a9 a10 a11 := by
    intro t r hr ht
    subst hr ht
    exact nm_e (w0 _ (br_t rfl (w10 _ (br_c (fun c => W599 _ _ (if_pos c)) (fun c => W599 _ _ (if_neg c))))))
  have W543 : ∀ r : Int32, r = du_f1 x4 x5 x6 → wL_lawOf_543 post mc ms x2 x4 x5 x6 x7 x8 z0 r kc ks ln rd gd op nw lv a1 a2 a3 a4 a5 a6 a7 a8 a9 a10 a11 := by
    intro r hr
    unfold wL_lawOf_543 wL_lawOf_561
    refine br_c (fun c => br_c (fun c' => ?_) (fun c' => ?_)) (fun c => ?_)
    · exact W565 _ _ hr (by unfold du_f1; rw [if_pos c, if_pos c'])
    · exact W565 _ _ hr (by unfold du_f1; rw [if_pos c, if_neg c']; rfl)
    · exact W565 _ _ hr (by unfold du_f1; rw [if_neg c]; rfl)
  have W515 : ∀ r s t : Int32, t = s + r → wL_lawOf_515 post mc ms x2 x4 x5 x6 x7 x8 z0 r s t kc ks ln rd gd op nw lv a1 a2 a3 a4 a5 a6 a7 a8 a9 a10 a11 := by
    intro r s t h
    unfold wL_lawOf_515 wL_lawOf_539
    refine br_t h (br_c (fun c => br_c (fun c' => ?_) (fun c' => ?_)) (fun c => ?_))
    · exact W543 _ (by unfold du_f1; rw [if_pos c, if_pos c'])
    · exact W543 _ (by unfold du_f1; rw [if_pos c, if_neg c']; rfl)
    · exact W543 _ (by unfold du_f1; rw [if_neg c]; rfl)
  have W504 : ∀ z r s t : Int32, t = (s + r) + du_o z → wL_lawOf_504 post mc ms x2 x4 x5 x6 x7 x8 z0 z r s t kc ks ln rd gd op nw lv a1 a2 a3 a4 a5 a6 a7 a8 a9 a10 a11 := by
    intro z r s t h
    exact br_c (fun c => W515 _ _ _ (by rw [h]; unfold du_o; rw [if_pos c])) (fun c => W515 _ _ _ (by rw [h]; unfold du_o; rw [if_neg c]))
  have W494 : ∀ y z r t : Int32, t = (r + du_o y) + du_o z → wL_lawOf_494 post mc ms x2 x4 x5 x6 x7 x8 z0 y z r t kc ks ln rd gd op nw lv a1 a2 a3 a4 a5 a6 a7 a8 a9 a10 a11 := by
    intro y z r t h
    exact br_c (fun c => W504 _ _ _ _ (by rw [h]; unfold du_o; rw [if_pos c])) (fun c => W504 _ _ _ _ (by rw [h]; unfold du_o; rw [if_neg c]))
  have W438 : ∀ x y z : Int32, x = du_ne x6 x8 x4 → y = du_ne x6 x8 x5 → z = du_n1 x8 x7 → wL_lawOf_438 post mc ms x2 x4 x5 x6 x7 x8 z0 x y z kc ks ln rd gd op nw lv a1 a2 a3 a4 a5 a6 a7 a8 a9 a10 a11 := by
    intro x y z hx hy hz
    subst hx hy hz
    unfold wL_lawOf_438
    refine i1 _ ?_
    refine br_t rfl ?_
    refine i3 _ ?_
    refine br_t rfl ?_
    refine i10 _ ?_
    refine br_t rfl ?_
    refine i14 _ ?_
    refine br_t rfl ?_
    refine is _ ?_
    exact br_c (fun c => W494 _ _ _ _ (by rw [show du_o (du_ne x6 x8 x4) = 0 from if_pos c])) (fun c => W494 _ _ _ _ (by rw [show du_o (du_ne x6 x8 x4) = 1 from if_neg c]))
  have W424 : ∀ x y : Int32, x = du_ne x6 x8 x4 → y = du_ne x6 x8 x5 → wL_lawOf_424 post mc ms x2 x4 x5 x6 x7 x8 z0 x y kc ks ln rd gd op nw lv a1 a2 a3 a4 a5 a6 a7 a8 a9 a10 a11 := by
    intro x y hx hy
    exact br_c (fun c => W438 _ _ _ hx hy (if_pos c).symm) (fun c => W438 _ _ _ hx hy (if_neg c).symm)
  have W403 : ∀ x : Int32, x = du_ne x6 x8 x4 → wL_lawOf_403 post mc ms x2 x4 x5 x6 x7 x8 z0 x kc ks ln rd gd op nw lv a1 a2 a3 a4 a5 a6 a7 a8 a9 a10 a11 := by
    intro x hx
    unfold wL_lawOf_403 wL_lawOf_423
    refine br_c (fun c => ?_) (fun c => br_c (fun c' => ?_) (fun c' => ?_))
    · exact W424 _ _ hx (by unfold du_ne; rw [if_pos c])
    · exact W424 _ _ hx (by unfold du_ne; rw [if_neg c, if_pos c'])
    · exact W424 _ _ hx (by unfold du_ne; rw [if_neg c, if_neg c'])
  unfold wL_lawOf_238
  refine hs _ ?_
  refine br_f (by decide) ?_
  refine s5 _ ?_
  refine br_t rfl ?_
  refine s7 _ ?_
  refine br_t rfl ?_
  refine s12 _ ?_
  refine br_t rfl ?_
  refine s4 _ ?_
  refine br_t rfl ?_
  refine s10 _ ?_
  refine br_t rfl ?_
  refine s11 _ ?_
  refine br_t rfl ?_
  refine s14 _ ?_
  refine br_t rfl ?_
  refine r14 _ ?_
  refine br_t rfl ?_
  refine r13 _ ?_
  refine br_f (by decide) ?_
  refine cm _ ?_
  refine br_t rfl ?_
  refine db _ ?_
  refine br_t rfl ?_
  unfold wL_lawOf_402
  refine br_c (fun c => ?_) (fun c => br_c (fun c' => ?_) (fun c' => ?_))
  · exact W403 _ (by unfold du_ne; rw [if_pos c])
  · exact W403 _ (by unfold du_ne; rw [if_neg c, if_pos c'])
  · exact W403 _ (by unfold du_ne; rw [if_neg c, if_neg c'])
end
section
theorem du_238_4 {post : Int32 → St0 → Prop} {mc ms kc ks : Nat} {x2 z0 : Int32} (a b u d e : Nat) (ha : a < 6) (hb : b < 6) (hu : u < 6) (hd : d < 6) (he : e < 6) (hx : x2 &&& 1 = 0) (hz : du_m (nI a) (nI b) = z0) (h63 : 63 &&& z0 = z0) (hp : post 1 ()) :
    wL_lawOf_238 post mc ms x2 (nI a) (nI b) (nI u) (nI d) (nI e) z0 kc ks 15 0 0 1 0 0 (du_rd (du_K2 4 7)) (du_rd (du_V2 (nI a) (nI b) (nI u) (nI d) (nI e))) (du_rd du_E1) (du_rd du_L1) (du_rd du_O1) (du_rd du_S1) (du_rd ([])) (du_rd ([])) (du_rd ([])) (du_rd ([])) (du_rd ([])) := by
  have hx12 : ((63 &&& du_m (nI a) (nI b)) &&& du_m (nI a) (nI b)) = z0 := by rw [hz, h63]; exact Int32.and_self
  have h63m : 63 &&& du_m (nI a) (nI b) = z0 := by rw [hz, h63]
  have h11 : (63 &&& du_m (nI a) (nI b)) ||| du_A (nI d) = z0 ||| ((1 : Int32) <<< (nI d &&& 31)) := by rw [h63m]; rfl
  have hdb := du_num_db z0 ((63 &&& du_m (nI a) (nI b)) &&& du_m (nI a) (nI b)) (nI u) (nI e) hx12
  have hsv : 63 &&& du_m (nI a) (nI b) = (if (x2 &&& 1) = 0 then z0 else 63) := by rw [if_pos hx, h63m]
  have hrc : (1 : Int32) = (if (x2 &&& 1) = 0 then 1 else 0) := by rw [if_pos hx]
  have hw5 : du_A (nI e) ||| du_A (nI u) = ((1 : Int32) <<< (nI u &&& 31)) ||| ((1 : Int32) <<< (nI e &&& 31)) := Int32.or_comm _ _
  have hdb' : (if ((((63 &&& du_m (nI a) (nI b)) &&& du_m (nI a) (nI b)) >>> (nI e &&& 31)) &&& 1) = 0 then (if ((du_m (nI a) (nI b) >>> (nI u &&& 31)) &&& 1) = 0 then (0 : Int32) + 1 else 0) + 1 else (if ((du_m (nI a) (nI b) >>> (nI u &&& 31)) &&& 1) = 0 then (0 : Int32) + 1 else 0)) = (((z0 >>> (nI u &&& 31)) &&& 1) ^^^ 1) + (((z0 >>> (nI e &&& 31)) &&& 1) ^^^ 1) := by
    rw [hx12] at hdb ⊢
    rw [hz]
    exact hdb
  exact du_walk hp (fun q h => du_sound2_4 (nI a) (nI b) (nI u) (nI d) (nI e) (du_num_A e he) q h)
    (fun q h => du_s5_4 (nI a) (nI b) (nI u) (nI d) (nI e) ((63 &&& du_m (nI a) (nI b)) &&& du_m (nI a) (nI b)) q (du_qe hz h)) (fun q h => du_s7_4 (nI a) (nI b) (nI u) (nI d) (nI e) ((63 &&& du_m (nI a) (nI b)) &&& du_m (nI a) (nI b)) q (du_qe hz h)) (fun q h => du_s12_4 (nI a) (nI b) (nI u) (nI d) (nI e) ((63 &&& du_m (nI a) (nI b)) &&& du_m (nI a) (nI b)) q (du_qe hx12 h)) (fun q h => du_s4_4 (nI a) (nI b) (nI u) (nI d) (nI e) ((63 &&& du_m (nI a) (nI b)) &&& du_m (nI a) (nI b)) q (du_qe hz h)) (fun q h => du_s10_4 (nI a) (nI b) (nI u) (nI d) (nI e) ((63 &&& du_m (nI a) (nI b)) &&& du_m (nI a) (nI b)) q (du_qe h63m h)) (fun q h => du_s11_4 (nI a) (nI b) (nI u) (nI d) (nI e) ((63 &&& du_m (nI a) (nI b)) &&& du_m (nI a) (nI b)) q (du_qe h11 h))
    (fun q h => du_s14_4 (nI a) (nI b) (nI u) (nI d) (nI e) ((63 &&& du_m (nI a) (nI b)) &&& du_m (nI a) (nI b)) q h) (fun q h => du_r14_4 (nI a) (nI b) (nI u) (nI d) (nI e) ((63 &&& du_m (nI a) (nI b)) &&& du_m (nI a) (nI b)) q h) (fun q h => du_r13_4 (nI a) (nI b) (nI u) (nI d) (nI e) ((63 &&& du_m (nI a) (nI b)) &&& du_m (nI a) (nI b)) q h) (fun q h => du_cm_4 (nI a) (nI b) (nI u) (nI d) (nI e) ((63 &&& du_m (nI a) (nI b)) &&& du_m (nI a) (nI b)) q h) (fun q h => du_db_4 (nI a) (nI b) (nI u) (nI d) (nI e) ((63 &&& du_m (nI a) (nI b)) &&& du_m (nI a) (nI b)) q (du_qe hdb' h))
    (fun q h => du_i1_4 (nI a) (nI b) (nI u) (nI d) (nI e) ((63 &&& du_m (nI a) (nI b)) &&& du_m (nI a) (nI b)) _ (du_num_ne u hu e he a ha) (du_ne01 _ _ _) q h) (fun q h => du_i3_4 (nI a) (nI b) (nI u) (nI d) (nI e) ((63 &&& du_m (nI a) (nI b)) &&& du_m (nI a) (nI b)) _ (du_num_ne u hu e he b hb) (du_ne01 _ _ _) q h) (fun q h => du_i10_4 (nI a) (nI b) (nI u) (nI d) (nI e) ((63 &&& du_m (nI a) (nI b)) &&& du_m (nI a) (nI b)) _ (du_num_n1 e he d hd) (du_n101 _ _) q h) (fun q h => du_i14_4 (nI a) (nI b) (nI u) (nI d) (nI e) ((63 &&& du_m (nI a) (nI b)) &&& du_m (nI a) (nI b)) q h)
    (fun q h => du_is_4 (nI a) (nI b) (nI u) (nI d) (nI e) ((63 &&& du_m (nI a) (nI b)) &&& du_m (nI a) (nI b)) _ _ _ (du_ne01 _ _ _) (du_ne01 _ _ _) (du_n101 _ _) (du_num_ne u hu e he a ha) (du_num_ne u hu e he b hb) (du_num_n1 e he d hd) q h)
    (fun q h => du_w0_4 (nI a) (nI b) (nI u) (nI d) (nI e) ((63 &&& du_m (nI a) (nI b)) &&& du_m (nI a) (nI b)) q (du_qe (du_num_f1 a ha b hb u hu e he) h)) (fun q h => du_w10_4 (nI a) (nI b) (nI u) (nI d) (nI e) ((63 &&& du_m (nI a) (nI b)) &&& du_m (nI a) (nI b)) q (du_qe (du_num_w d hd e he) h)) (fun q h => du_w13_4 (nI a) (nI b) (nI u) (nI d) (nI e) ((63 &&& du_m (nI a) (nI b)) &&& du_m (nI a) (nI b)) q h) (fun q h => du_w5_4 (nI a) (nI b) (nI u) (nI d) (nI e) ((63 &&& du_m (nI a) (nI b)) &&& du_m (nI a) (nI b)) q (du_qe hw5 h))
    (fun q h => du_e0_4 (nI a) (nI b) (nI u) (nI d) (nI e) ((63 &&& du_m (nI a) (nI b)) &&& du_m (nI a) (nI b)) q h) (fun q h => du_e6_4 (nI a) (nI b) (nI u) (nI d) (nI e) ((63 &&& du_m (nI a) (nI b)) &&& du_m (nI a) (nI b)) q h) (fun q h => du_e7_4 (nI a) (nI b) (nI u) (nI d) (nI e) ((63 &&& du_m (nI a) (nI b)) &&& du_m (nI a) (nI b)) q h) (fun q h => du_e2_4 (nI a) (nI b) (nI u) (nI d) (nI e) ((63 &&& du_m (nI a) (nI b)) &&& du_m (nI a) (nI b)) q h)
    (fun q h => du_ch_4 (nI a) (nI b) (nI u) (nI d) (nI e) ((63 &&& du_m (nI a) (nI b)) &&& du_m (nI a) (nI b)) q h) (fun q h => du_rc_4 (nI a) (nI b) (nI u) (nI d) (nI e) ((63 &&& du_m (nI a) (nI b)) &&& du_m (nI a) (nI b)) q (fun w => du_qe hrc (h w))) (fun w q h => du_sv_4 (nI a) (nI b) (nI u) (nI d) (nI e) w q (du_qe hsv h))
theorem du_238_5 {post : Int32 → St0 → Prop} {mc ms kc ks : Nat} {x2 z0 : Int32} (a b u d e : Nat) (ha : a < 6) (hb : b < 6) (hu : u < 6) (hd : d < 6) (he : e < 6) (hx : ¬ x2 &&& 1 = 0) (hz : du_m (nI a) (nI b) = z0) (h63 : 63 &&& z0 = z0) (hp : post 1 ()) :
    wL_lawOf_238 post mc ms x2 (nI a) (nI b) (nI u) (nI d) (nI e) z0 kc ks 15 0 0 1 0 0 (du_rd (du_K2 5 7)) (du_rd (du_V2 (nI a) (nI b) (nI u) (nI d) (nI e))) (du_rd du_E1) (du_rd du_L1) (du_rd du_O1) (du_rd du_S1) (du_rd ([])) (du_rd ([])) (du_rd ([])) (du_rd ([])) (du_rd ([])) := by
  have hx12 : (63 &&& du_m (nI a) (nI b)) = z0 := by rw [hz, h63]
  have h63m : 63 &&& du_m (nI a) (nI b) = z0 := by rw [hz, h63]
  have h11 : (63 &&& du_m (nI a) (nI b)) ||| du_A (nI d) = z0 ||| ((1 : Int32) <<< (nI d &&& 31)) := by rw [h63m]; rfl
  have hdb := du_num_db z0 (63 &&& du_m (nI a) (nI b)) (nI u) (nI e) hx12
  have hsv : 63 = (if (x2 &&& 1) = 0 then z0 else 63) := by rw [if_neg hx]
  have hrc : (0 : Int32) = (if (x2 &&& 1) = 0 then 1 else 0) := by rw [if_neg hx]
  have hw5 : du_A (nI e) ||| du_A (nI u) = ((1 : Int32) <<< (nI u &&& 31)) ||| ((1 : Int32) <<< (nI e &&& 31)) := Int32.or_comm _ _
  have hdb' : (if (((63 &&& du_m (nI a) (nI b)) >>> (nI e &&& 31)) &&& 1) = 0 then (if ((du_m (nI a) (nI b) >>> (nI u &&& 31)) &&& 1) = 0 then (0 : Int32) + 1 else 0) + 1 else (if ((du_m (nI a) (nI b) >>> (nI u &&& 31)) &&& 1) = 0 then (0 : Int32) + 1 else 0)) = (((z0 >>> (nI u &&& 31)) &&& 1) ^^^ 1) + (((z0 >>> (nI e &&& 31)) &&& 1) ^^^ 1) := by
    rw [hx12] at hdb ⊢
    rw [hz]
    exact hdb
  exact du_walk hp (fun q h => du_sound2_5 (nI a) (nI b) (nI u) (nI d) (nI e) (du_num_A e he) q h)
    (fun q h => du_s5_5 (nI a) (nI b) (nI u) (nI d) (nI e) (63 &&& du_m (nI a) (nI b)) q (du_qe hz h)) (fun q h => du_s7_5 (nI a) (nI b) (nI u) (nI d) (nI e) (63 &&& du_m (nI a) (nI b)) q (du_qe hz h)) (fun q h => du_s12_5 (nI a) (nI b) (nI u) (nI d) (nI e) (63 &&& du_m (nI a) (nI b)) q (du_qe hx12 h)) (fun q h => du_s4_5 (nI a) (nI b) (nI u) (nI d) (nI e) (63 &&& du_m (nI a) (nI b)) q (du_qe hz h)) (fun q h => du_s10_5 (nI a) (nI b) (nI u) (nI d) (nI e) (63 &&& du_m (nI a) (nI b)) q (du_qe h63m h)) (fun q h => du_s11_5 (nI a) (nI b) (nI u) (nI d) (nI e) (63 &&& du_m (nI a) (nI b)) q (du_qe h11 h))
    (fun q h => du_s14_5 (nI a) (nI b) (nI u) (nI d) (nI e) (63 &&& du_m (nI a) (nI b)) q h) (fun q h => du_r14_5 (nI a) (nI b) (nI u) (nI d) (nI e) (63 &&& du_m (nI a) (nI b)) q h) (fun q h => du_r13_5 (nI a) (nI b) (nI u) (nI d) (nI e) (63 &&& du_m (nI a) (nI b)) q h) (fun q h => du_cm_5 (nI a) (nI b) (nI u) (nI d) (nI e) (63 &&& du_m (nI a) (nI b)) q h) (fun q h => du_db_5 (nI a) (nI b) (nI u) (nI d) (nI e) (63 &&& du_m (nI a) (nI b)) q (du_qe hdb' h))
    (fun q h => du_i1_5 (nI a) (nI b) (nI u) (nI d) (nI e) (63 &&& du_m (nI a) (nI b)) _ (du_num_ne u hu e he a ha) (du_ne01 _ _ _) q h) (fun q h => du_i3_5 (nI a) (nI b) (nI u) (nI d) (nI e) (63 &&& du_m (nI a) (nI b)) _ (du_num_ne u hu e he b hb) (du_ne01 _ _ _) q h) (fun q h => du_i10_5 (nI a) (nI b) (nI u) (nI d) (nI e) (63 &&& du_m (nI a) (nI b)) _ (du_num_n1 e he d hd) (du_n101 _ _) q h) (fun q h => du_i14_5 (nI a) (nI b) (nI u) (nI d) (nI e) (63 &&& du_m (nI a) (nI b)) q h)
    (fun q h => du_is_5 (nI a) (nI b) (nI u) (nI d) (nI e) (63 &&& du_m (nI a) (nI b)) _ _ _ (du_ne01 _ _ _) (du_ne01 _ _ _) (du_n101 _ _) (du_num_ne u hu e he a ha) (du_num_ne u hu e he b hb) (du_num_n1 e he d hd) q h)
    (fun q h => du_w0_5 (nI a) (nI b) (nI u) (nI d) (nI e) (63 &&& du_m (nI a) (nI b)) q (du_qe (du_num_f1 a ha b hb u hu e he) h)) (fun q h => du_w10_5 (nI a) (nI b) (nI u) (nI d) (nI e) (63 &&& du_m (nI a) (nI b)) q (du_qe (du_num_w d hd e he) h)) (fun q h => du_w13_5 (nI a) (nI b) (nI u) (nI d) (nI e) (63 &&& du_m (nI a) (nI b)) q h) (fun q h => du_w5_5 (nI a) (nI b) (nI u) (nI d) (nI e) (63 &&& du_m (nI a) (nI b)) q (du_qe hw5 h))
    (fun q h => du_e0_5 (nI a) (nI b) (nI u) (nI d) (nI e) (63 &&& du_m (nI a) (nI b)) q h) (fun q h => du_e6_5 (nI a) (nI b) (nI u) (nI d) (nI e) (63 &&& du_m (nI a) (nI b)) q h) (fun q h => du_e7_5 (nI a) (nI b) (nI u) (nI d) (nI e) (63 &&& du_m (nI a) (nI b)) q h) (fun q h => du_e2_5 (nI a) (nI b) (nI u) (nI d) (nI e) (63 &&& du_m (nI a) (nI b)) q h)
    (fun q h => du_ch_5 (nI a) (nI b) (nI u) (nI d) (nI e) (63 &&& du_m (nI a) (nI b)) q h) (fun q h => du_rc_5 (nI a) (nI b) (nI u) (nI d) (nI e) (63 &&& du_m (nI a) (nI b)) q (fun w => du_qe hrc (h w))) (fun w q h => du_sv_5 (nI a) (nI b) (nI u) (nI d) (nI e) w q (du_qe hsv h))
end
section
theorem du_sound1_4 {q : Int32 → St2 → Prop} {nw lv : Int32} {a2 a7 a8 a9 a10 a11 : Nat → Int32} {gd op : Int32} (h : q 0 (11, 1, 0, 1, nw, lv, du_rd (du_K1 4), a2, du_rd du_E1, du_rd du_L1, du_rd du_O1, du_rd du_S1, a7, a8, a9, a10, a11)) : wpX_sound q (11, 0, gd, op, nw, lv, du_rd (du_K1 4), a2, du_rd ([]), du_rd ([]), du_rd ([]), du_rd ([]), a7, a8, a9, a10, a11) := by
  unfold wpX_sound
  exact du_prep_bad 12 du_fs1_4 rfl ⟨rfl, h⟩
theorem du_126_4 {post : Int32 → St0 → Prop} {mc ms kc ks : Nat} {x2 : Int32} (a b u d e : Nat) (ha : a < 6) (hb : b < 6) (hu : u < 6) (hd : d < 6) (he : e < 6) (hx : x2 &&& 1 = 0) (hp : post 1 ()) :
    wL_lawOf_126 post mc ms x2 (nI a) (nI b) (nI u) (nI d) (nI e) 4 kc ks 6 0 0 0 0 0 (du_rd [2, 0, 3, 0, 6, 1]) (du_rd [0, nI a, 0, nI b, 0, nI u]) (du_rd ([])) (du_rd ([])) (du_rd ([])) (du_rd ([])) (du_rd ([])) (du_rd ([])) (du_rd ([])) (du_rd ([])) (du_rd ([])) := by
  unfold wL_lawOf_126
  refine du_addn 6 7 4 0 [2, 0, 3, 0, 6, 1] [0, nI a, 0, nI b, 0, nI u] [2, 0, 3, 0, 6, 1, 4] [0, nI a, 0, nI b, 0, nI u, 0] (by decide) (by decide) (by decide) (by decide) (by decide) (by decide) (du_in (by decide)) rfl rfl rfl ?_
  refine du_addn 7 8 2 0 [2, 0, 3, 0, 6, 1, 4] [0, nI a, 0, nI b, 0, nI u, 0] [2, 0, 3, 0, 6, 1, 4, 2] [0, nI a, 0, nI b, 0, nI u, 0, 0] (by decide) (by decide) (by decide) (by decide) (by decide) (by decide) (du_in (by decide)) rfl rfl rfl ?_
  refine du_addn 8 9 7 0 [2, 0, 3, 0, 6, 1, 4, 2] [0, nI a, 0, nI b, 0, nI u, 0, 0] [2, 0, 3, 0, 6, 1, 4, 2, 7] [0, nI a, 0, nI b, 0, nI u, 0, 0, 0] (by decide) (by decide) (by decide) (by decide) (by decide) (by decide) (du_in (by decide)) rfl rfl rfl ?_
  refine du_addn 9 10 6 0 [2, 0, 3, 0, 6, 1, 4, 2, 7] [0, nI a, 0, nI b, 0, nI u, 0, 0, 0] [2, 0, 3, 0, 6, 1, 4, 2, 7, 6] [0, nI a, 0, nI b, 0, nI u, 0, 0, 0, 0] (by decide) (by decide) (by decide) (by decide) (by decide) (by decide) (du_in (by decide)) rfl rfl rfl ?_
  refine du_addv 10 11 0 (nI d) [2, 0, 3, 0, 6, 1, 4, 2, 7, 6] [0, nI a, 0, nI b, 0, nI u, 0, 0, 0, 0] (du_K1 4) (du_V1 (nI a) (nI b) (nI u) (nI d)) (by decide) (du_num_lo d hd).1 (du_num_lo d hd).2 (by decide) (du_in (by decide)) rfl rfl rfl ?_
  refine du_sound1_4 ?_
  refine br_t rfl ?_
  refine du_doubts_bad ?_
  refine br_t rfl ?_
  refine du_reached_bad ?_
  refine br_t rfl ?_
  refine du_addn 11 12 6 0 (du_K1 4) (du_V1 (nI a) (nI b) (nI u) (nI d)) [2, 0, 3, 0, 6, 1, 4, 2, 7, 6, 0, 6] [0, nI a, 0, nI b, 0, nI u, 0, 0, 0, 0, nI d, 0] (by decide) (by decide) (by decide) (by decide) (by decide) (by decide) (du_in (by decide)) rfl rfl rfl ?_
  refine br_t (by decide) ?_
  refine du_addv 12 13 1 (nI e) [2, 0, 3, 0, 6, 1, 4, 2, 7, 6, 0, 6] [0, nI a, 0, nI b, 0, nI u, 0, 0, 0, 0, nI d, 0] [2, 0, 3, 0, 6, 1, 4, 2, 7, 6, 0, 6, 1] [0, nI a, 0, nI b, 0, nI u, 0, 0, 0, 0, nI d, 0, nI e] (by decide) (du_num_lo e he).1 (du_num_lo e he).2 (by decide) (du_in (by decide)) rfl rfl rfl ?_
  refine du_addn 13 14 9 0 [2, 0, 3, 0, 6, 1, 4, 2, 7, 6, 0, 6, 1] [0, nI a, 0, nI b, 0, nI u, 0, 0, 0, 0, nI d, 0, nI e] [2, 0, 3, 0, 6, 1, 4, 2, 7, 6, 0, 6, 1, 9] [0, nI a, 0, nI b, 0, nI u, 0, 0, 0, 0, nI d, 0, nI e, 0] (by decide) (by decide) (by decide) (by decide) (by decide) (by decide) (du_in (by decide)) rfl rfl rfl ?_
  refine du_addv 14 15 0 3 [2, 0, 3, 0, 6, 1, 4, 2, 7, 6, 0, 6, 1, 9] [0, nI a, 0, nI b, 0, nI u, 0, 0, 0, 0, nI d, 0, nI e, 0] (du_K2 4 7) (du_V2 (nI a) (nI b) (nI u) (nI d) (nI e)) (by decide) (by decide) (by decide) (by decide) (du_in (by decide)) rfl rfl rfl ?_
  refine br_c (fun ce => ?_) (fun ce => ?_)
  · have hz : du_m (nI a) (nI b) = (1 : Int32) <<< (nI a &&& 31) := by rw [du_num_m a ha b hb]; exact if_pos ce
    have h63 : 63 &&& ((1 : Int32) <<< (nI a &&& 31)) = (1 : Int32) <<< (nI a &&& 31) := by
      rw [← hz, du_num_m a ha b hb]
      exact du_num_63 a ha b hb
    exact du_238_4 a b u d e ha hb hu hd he hx hz h63 hp
  · have hz : du_m (nI a) (nI b) = 0 := by rw [du_num_m a ha b hb]; exact if_neg ce
    exact du_238_4 a b u d e ha hb hu hd he hx hz (by decide) hp
theorem du_sound1_5 {q : Int32 → St2 → Prop} {nw lv : Int32} {a2 a7 a8 a9 a10 a11 : Nat → Int32} {gd op : Int32} (h : q 0 (11, 1, 0, 1, nw, lv, du_rd (du_K1 5), a2, du_rd du_E1, du_rd du_L1, du_rd du_O1, du_rd du_S1, a7, a8, a9, a10, a11)) : wpX_sound q (11, 0, gd, op, nw, lv, du_rd (du_K1 5), a2, du_rd ([]), du_rd ([]), du_rd ([]), du_rd ([]), a7, a8, a9, a10, a11) := by
  unfold wpX_sound
  exact du_prep_bad 12 du_fs1_5 rfl ⟨rfl, h⟩
theorem du_126_5 {post : Int32 → St0 → Prop} {mc ms kc ks : Nat} {x2 : Int32} (a b u d e : Nat) (ha : a < 6) (hb : b < 6) (hu : u < 6) (hd : d < 6) (he : e < 6) (hx : ¬ x2 &&& 1 = 0) (hp : post 1 ()) :
    wL_lawOf_126 post mc ms x2 (nI a) (nI b) (nI u) (nI d) (nI e) 5 kc ks 6 0 0 0 0 0 (du_rd [2, 0, 3, 0, 6, 1]) (du_rd [0, nI a, 0, nI b, 0, nI u]) (du_rd ([])) (du_rd ([])) (du_rd ([])) (du_rd ([])) (du_rd ([])) (du_rd ([])) (du_rd ([])) (du_rd ([])) (du_rd ([])) := by
  unfold wL_lawOf_126
  refine du_addn 6 7 5 0 [2, 0, 3, 0, 6, 1] [0, nI a, 0, nI b, 0, nI u] [2, 0, 3, 0, 6, 1, 5] [0, nI a, 0, nI b, 0, nI u, 0] (by decide) (by decide) (by decide) (by decide) (by decide) (by decide) (du_in (by decide)) rfl rfl rfl ?_
  refine du_addn 7 8 2 0 [2, 0, 3, 0, 6, 1, 5] [0, nI a, 0, nI b, 0, nI u, 0] [2, 0, 3, 0, 6, 1, 5, 2] [0, nI a, 0, nI b, 0, nI u, 0, 0] (by decide) (by decide) (by decide) (by decide) (by decide) (by decide) (du_in (by decide)) rfl rfl rfl ?_
  refine du_addn 8 9 7 0 [2, 0, 3, 0, 6, 1, 5, 2] [0, nI a, 0, nI b, 0, nI u, 0, 0] [2, 0, 3, 0, 6, 1, 5, 2, 7] [0, nI a, 0, nI b, 0, nI u, 0, 0, 0] (by decide) (by decide) (by decide) (by decide) (by decide) (by decide) (du_in (by decide)) rfl rfl rfl ?_
  refine du_addn 9 10 6 0 [2, 0, 3, 0, 6, 1, 5, 2, 7] [0, nI a, 0, nI b, 0, nI u, 0, 0, 0] [2, 0, 3, 0, 6, 1, 5, 2, 7, 6] [0, nI a, 0, nI b, 0, nI u, 0, 0, 0, 0] (by decide) (by decide) (by decide) (by decide) (by decide) (by decide) (du_in (by decide)) rfl rfl rfl ?_
  refine du_addv 10 11 0 (nI d) [2, 0, 3, 0, 6, 1, 5, 2, 7, 6] [0, nI a, 0, nI b, 0, nI u, 0, 0, 0, 0] (du_K1 5) (du_V1 (nI a) (nI b) (nI u) (nI d)) (by decide) (du_num_lo d hd).1 (du_num_lo d hd).2 (by decide) (du_in (by decide)) rfl rfl rfl ?_
  refine du_sound1_5 ?_
  refine br_t rfl ?_
  refine du_doubts_bad ?_
  refine br_t rfl ?_
  refine du_reached_bad ?_
  refine br_t rfl ?_
  refine du_addn 11 12 6 0 (du_K1 5) (du_V1 (nI a) (nI b) (nI u) (nI d)) [2, 0, 3, 0, 6, 1, 5, 2, 7, 6, 0, 6] [0, nI a, 0, nI b, 0, nI u, 0, 0, 0, 0, nI d, 0] (by decide) (by decide) (by decide) (by decide) (by decide) (by decide) (du_in (by decide)) rfl rfl rfl ?_
  refine br_t (by decide) ?_
  refine du_addv 12 13 1 (nI e) [2, 0, 3, 0, 6, 1, 5, 2, 7, 6, 0, 6] [0, nI a, 0, nI b, 0, nI u, 0, 0, 0, 0, nI d, 0] [2, 0, 3, 0, 6, 1, 5, 2, 7, 6, 0, 6, 1] [0, nI a, 0, nI b, 0, nI u, 0, 0, 0, 0, nI d, 0, nI e] (by decide) (du_num_lo e he).1 (du_num_lo e he).2 (by decide) (du_in (by decide)) rfl rfl rfl ?_
  refine du_addn 13 14 9 0 [2, 0, 3, 0, 6, 1, 5, 2, 7, 6, 0, 6, 1] [0, nI a, 0, nI b, 0, nI u, 0, 0, 0, 0, nI d, 0, nI e] [2, 0, 3, 0, 6, 1, 5, 2, 7, 6, 0, 6, 1, 9] [0, nI a, 0, nI b, 0, nI u, 0, 0, 0, 0, nI d, 0, nI e, 0] (by decide) (by decide) (by decide) (by decide) (by decide) (by decide) (du_in (by decide)) rfl rfl rfl ?_
  refine du_addv 14 15 0 3 [2, 0, 3, 0, 6, 1, 5, 2, 7, 6, 0, 6, 1, 9] [0, nI a, 0, nI b, 0, nI u, 0, 0, 0, 0, nI d, 0, nI e, 0] (du_K2 5 7) (du_V2 (nI a) (nI b) (nI u) (nI d) (nI e)) (by decide) (by decide) (by decide) (by decide) (du_in (by decide)) rfl rfl rfl ?_
  refine br_c (fun ce => ?_) (fun ce => ?_)
  · have hz : du_m (nI a) (nI b) = (1 : Int32) <<< (nI a &&& 31) := by rw [du_num_m a ha b hb]; exact if_pos ce
    have h63 : 63 &&& ((1 : Int32) <<< (nI a &&& 31)) = (1 : Int32) <<< (nI a &&& 31) := by
      rw [← hz, du_num_m a ha b hb]
      exact du_num_63 a ha b hb
    exact du_238_5 a b u d e ha hb hu hd he hx hz h63 hp
  · have hz : du_m (nI a) (nI b) = 0 := by rw [du_num_m a ha b hb]; exact if_neg ce
    exact du_238_5 a b u d e ha hb hu hd he hx hz (by decide) hp
theorem du_lawOf {post : Int32 → St0 → Prop} (p0 p1 p2 : Int32) (hp : post 1 ()) : wpL_lawOf post 224 3584 () p0 p1 p2 := by
  obtain ⟨a, ha, ea⟩ := du_mod p0
  obtain ⟨b, hb, eb⟩ := du_mod (p0 >>> ((8 : Int32) &&& 31))
  obtain ⟨u, hu, eu⟩ := du_mod (p0 >>> ((16 : Int32) &&& 31))
  obtain ⟨d, hd, ed⟩ := du_mod p1
  obtain ⟨e, he, ee⟩ := du_mod (p1 >>> ((8 : Int32) &&& 31))
  refine ⟨by decide, by decide, 11, 443, by decide, by decide, ?_⟩
  refine ⟨by decide, by decide, by decide, by decide, by decide, by decide, by decide, by decide, by decide, by decide, by decide, by decide, by decide, by decide, by decide, by decide, by decide, by decide, by decide, by decide, by decide, by decide, ?_⟩
  refine ⟨by decide, nm_r ea ⟨by decide, nm_r eb ⟨by decide, nm_r eu ⟨by decide, nm_r ed ⟨by decide, nm_r ee ?_⟩⟩⟩⟩⟩
  refine du_addn 0 1 2 0 [] [] [2] [0] (by decide) (by decide) (by decide) (by decide) (by decide) (by decide) (du_in (by decide)) rfl rfl rfl ?_
  refine du_addv 1 2 0 (nI a) [2] [0] [2, 0] [0, nI a] (by decide) (du_num_lo a ha).1 (du_num_lo a ha).2 (by decide) (du_in (by decide)) rfl rfl rfl ?_
  refine du_addn 2 3 3 9 [2, 0] [0, nI a] [2, 0, 3] [0, nI a, 0] (by decide) (by decide) (by decide) (by decide) (by decide) (by decide) (du_in (by decide)) rfl rfl rfl ?_
  refine du_addv 3 4 0 (nI b) [2, 0, 3] [0, nI a, 0] [2, 0, 3, 0] [0, nI a, 0, nI b] (by decide) (du_num_lo b hb).1 (du_num_lo b hb).2 (by decide) (du_in (by decide)) rfl rfl rfl ?_
  refine du_addn 4 5 6 0 [2, 0, 3, 0] [0, nI a, 0, nI b] [2, 0, 3, 0, 6] [0, nI a, 0, nI b, 0] (by decide) (by decide) (by decide) (by decide) (by decide) (by decide) (du_in (by decide)) rfl rfl rfl ?_
  refine du_addv 5 6 1 (nI u) [2, 0, 3, 0, 6] [0, nI a, 0, nI b, 0] [2, 0, 3, 0, 6, 1] [0, nI a, 0, nI b, 0, nI u] (by decide) (du_num_lo u hu).1 (du_num_lo u hu).2 (by decide) (du_in (by decide)) rfl rfl rfl ?_
  exact br_c (fun hx => du_126_4 a b u d e ha hb hu hd he hx hp) (fun hx => du_126_5 a b u d e ha hb hu hd he hx hp)
theorem du_cell {post : Int32 → Prop} {L : Nat} {xs : Nat → Int32} (hL : L ≤ 3) (p : Nat) (h3 : p < 3) (hp : ∀ r, post r) : wpL_cellAt post L xs () (nI p) :=
  br_c (fun _ => hp _) (fun h => ⟨vp_in_nI (Nat.lt_of_not_le (fun g => h (nI_le g (by omega)))) (by omega), hp _⟩)
theorem i_vc (xs : Nat → Int32) (L : Nat) (hL : L ≤ 3) : wpL_law (fun r => r = 1) L xs :=
  du_cell hL 0 (by decide) (fun r1 => du_cell hL 1 (by decide) (fun r2 => du_cell hL 2 (by decide) (fun r3 => ⟨224, 3584, by decide, by decide, du_lawOf r1 r2 r3 rfl⟩)))
end
