section
/-- what is computed is there, and meets P -/
def qz_W {α : Type} (o : Option α) (P : α → Prop) : Prop := match o with
  | none => False
  | some a => P a
theorem qz_wif {α : Type} {c A B : Prop} [Decidable c] {x y : Option α} {P : α → Prop} (hh : qz_W (if c then x else y) P) (ha : c → qz_W x P → A) (hb : ¬ c → qz_W y P → B) : (c → A) ∧ (¬ c → B) :=
  ⟨fun z => ha z (by rw [if_pos z] at hh; exact hh), fun z => hb z (by rw [if_neg z] at hh; exact hh)⟩
theorem qz_wb {α β : Type} {o : Option α} {k : α → Option β} {P : β → Prop} {Q : α → Prop} (hh : qz_W (o.bind k) P) (q : ∀ a, qz_W (k a) P → Q a) : qz_W o Q := by
  cases o with
  | none => exact hh
  | some a => exact q a hh
theorem qz_wm {α : Type} {o : Option α} {P Q : α → Prop} (hh : qz_W o P) (q : ∀ a, P a → Q a) : qz_W o Q := by
  cases o with
  | none => exact hh
  | some a => exact q a hh
theorem qz_we {α : Type} {o : Option α} {a : α} {P : α → Prop} (ho : o = some a) (hh : P a) : qz_W o P := by
  rw [ho]
  exact hh
/-- a place of an array, looked at -/
def qz_in (i : Int32) (n : Nat) : Bool := decide (¬ i < 0) && decide (i.toNatClampNeg < n)
theorem qz_in_ok {i : Int32} {n : Nat} (hh : qz_in i n = true) : vp_in i n := by
  unfold qz_in at hh
  rw [Bool.and_eq_true, decide_eq_true_iff, decide_eq_true_iff] at hh
  intro z
  rcases z with z | z
  · exact hh.1 z
  · exact absurd hh.2 (Nat.not_lt.mpr z)
def qz_g {α : Type} (i : Int32) (n : Nat) (x : Option α) : Option α := if qz_in i n = true then x else none
theorem qz_wg {α : Type} {i : Int32} {n : Nat} {x : Option α} {P : α → Prop} (hh : qz_W (qz_g i n x) P) : vp_in i n ∧ qz_W x P := by
  unfold qz_g at hh
  by_cases c : qz_in i n = true
  · rw [if_pos c] at hh
    exact ⟨qz_in_ok c, hh⟩
  · rw [if_neg c] at hh
    exact False.elim hh
/-- an array as a row: what stands there, d behind it -/
def qz_get {α : Type} (d : α) : List α → Nat → α
  | [], _ => d
  | y :: _, 0 => y
  | _ :: t, k + 1 => qz_get d t k
def qz_set {α : Type} (d : α) : List α → Nat → α → List α
  | [], 0, x => [x]
  | [], k + 1, x => d :: qz_set d [] k x
  | _ :: t, 0, x => x :: t
  | y :: t, k + 1, x => y :: qz_set d t k x
theorem qz_gs {α : Type} (d : α) : ∀ (l : List α) (k : Nat) (x : α) (j : Nat), qz_get d (qz_set d l k x) j = if j = k then x else qz_get d l j
  | [], 0, x, 0 => by simp [qz_get, qz_set]
  | [], 0, x, j + 1 => by simp [qz_get, qz_set]
  | [], k + 1, x, 0 => by simp [qz_get, qz_set]
  | [], k + 1, x, j + 1 => by
    have t := qz_gs d [] k x j
    simp [qz_get, qz_set] at t ⊢
    exact t
  | _ :: t, 0, x, 0 => by simp [qz_get, qz_set]
  | _ :: t, 0, x, j + 1 => by simp [qz_get, qz_set]
  | _ :: t, k + 1, x, 0 => by simp [qz_get, qz_set]
  | _ :: t, k + 1, x, j + 1 => by
    have t := qz_gs d t k x j
    simp [qz_get, qz_set] at t ⊢
    exact t
def qz_i (l : List Int32) : Nat → Int32 := qz_get 0 l
def qz_l (l : List Int64) : Nat → Int64 := qz_get 0 l
theorem qz_iu (l : List Int32) (k : Nat) (x : Int32) : upd (qz_i l) k x = qz_i (qz_set 0 l k x) := funext fun j => (qz_gs 0 l k x j).symm
theorem qz_lu (l : List Int64) (k : Nat) (x : Int64) : vp_updL (qz_l l) k x = qz_l (qz_set 0 l k x) := funext fun j => (qz_gs 0 l k x j).symm
theorem qz_i0 : (fun _ => 0) = qz_i [] := funext fun _ => rfl
theorem qz_l0 : (fun _ => 0) = qz_l [] := funext fun _ => rfl
end
section
/-- the set that a name leads to, as step computes it -/
def qz_step (l7 : List Int64) (st : Int32) (x1 : Int64) (x3 : Int32) : Nat → Int64 → Int32 → Option Int64
  | 0 => fun _ _ => none
  | n + 1 => fun x4 x6 => if st ≤ x6 then some x4 else if (((x1.toUInt64 >>> (x6.toInt64.toUInt64 &&& Int64.toUInt64 63)).toInt64) &&& 1) = 1 then qz_g ((x6 * 4) + x3) 256 (qz_step l7 st x1 x3 n (x4 ||| (qz_l l7 ((x6 * 4) + x3).toNatClampNeg)) (x6 + 1)) else qz_step l7 st x1 x3 n x4 (x6 + 1)
def qz_next (l7 : List Int64) (st : Int32) (s : Int64) : Nat → Int32 → Int32 → Option Int32
  | 0 => fun _ _ => none
  | n + 1 => fun x1 x2 => if 4 ≤ x2 then some x1 else (qz_step l7 st s x2 20 0 0).bind (fun r => if r = 0 then qz_next l7 st s n x1 (x2 + 1) else qz_next l7 st s n (x1 ||| ((1 : Int32) <<< (x2 &&& 31))) (x2 + 1))
def qz_b18 (l7 : List Int64) (x1 : Int64) (x3 : Int32) (x6 : Int32) : Nat → Int64 → Int32 → Option Int64
  | 0 => fun _ _ => none
  | n + 1 => fun x4 x7 => if 4 ≤ x7 then some x4 else if ((x3 >>> (x7 &&& 31)) &&& 1) = 0 then qz_g ((x6 * 4) + x7) 256 (if ((qz_l l7 ((x6 * 4) + x7).toNatClampNeg) &&& x1) = 0 then qz_b18 l7 x1 x3 x6 n x4 (x7 + 1) else qz_b18 l7 x1 x3 x6 n (x4 ||| ((1 : Int64) <<< (x6.toInt64 &&& 63))) (x7 + 1)) else qz_b18 l7 x1 x3 x6 n x4 (x7 + 1)
def qz_b6 (l7 : List Int64) (st : Int32) (x1 : Int64) (x3 : Int32) : Nat → Int64 → Int32 → Option Int64
  | 0 => fun _ _ => none
  | n + 1 => fun x4 x6 => if st ≤ x6 then some x4 else (qz_b18 l7 x1 x3 x6 5 x4 0).bind (fun r => qz_b6 l7 st x1 x3 n r (x6 + 1))
def qz_least (l7 : List Int64) (st : Int32) (x1 : Int64) (x3 : Int32) : Nat → Int64 → Int32 → Option Int32
  | 0 => fun _ _ => none
  | n + 1 => fun x4 x6 => if 65 ≤ x6 then some (-4) else if (x4 &&& x1) = 0 then (qz_b6 l7 st x4 x3 20 x4 0).bind (fun r => if r = x4 then some (-4) else qz_least l7 st x1 x3 n r (x6 + 1)) else some x6
def qz_need (l7 : List Int64) (st : Int32) (f : Int64) (s : Int64) : Nat → Int32 → Int32 → Option Int32
  | 0 => fun _ _ => none
  | n + 1 => fun x1 x2 => if 4 ≤ x2 then some x1 else (qz_least l7 st s ((1 : Int32) <<< (x2 &&& 31)) 20 f 0).bind (fun r => if r = (-4) then qz_need l7 st f s n (x1 ||| ((1 : Int32) <<< (x2 &&& 31))) (x2 + 1) else qz_need l7 st f s n x1 (x2 + 1))
def qz_a27 (l7 : List Int64) (st : Int32) (f : Int64) (s : Int64) (x1 : Int32) : Nat → Int32 → Option Int32
  | 0 => fun _ => none
  | n + 1 => fun x2 => if 4 ≤ x2 then some (-4) else (qz_step l7 st s x2 20 0 0).bind (fun r => (qz_least l7 st r 0 20 f 0).bind (fun q => if q = (x1 - 1) then some x2 else qz_a27 l7 st f s x1 n (x2 + 1)))
def qz_adv (l7 : List Int64) (st : Int32) (f : Int64) (s : Int64) : Option Int32 :=
  if (s &&& f) = 0 then (qz_least l7 st s 0 20 f 0).bind (fun r => qz_a27 l7 st f s r 5 0) else some (-4)
section
variable {h m e jn st : Int32} {f : Int64} {g : Int32} {a1 a2 : Nat → Int32} {a3 : Nat → Int64} {a4 : Nat → Int32} {a5 : Nat → Int64} {a6 : Nat → Int32} {a7 : Nat → Int64} {a8 : Nat → Int32} {a9 : Nat → Int64} {l7 : List Int64}
theorem qz_step_ok {post : Int64 → Prop} {x1 : Int64} {x3 : Int32} : ∀ (n : Nat) (x4 : Int64) (x6 : Int32), qz_W (qz_step l7 st x1 x3 n x4 x6) post → wX_step_6 post x1 x3 h m e jn st f g a1 a2 a3 a4 a5 a6 (qz_l l7) a8 a9 n x4 x6
  | 0, _, _, hh => False.elim hh
  | n + 1, x4, x6, hh => qz_wif hh (fun _ hh => hh) (fun _ hh => qz_wif hh (fun _ hh => ⟨(qz_wg hh).1, nm_e (nm_e (qz_step_ok n _ _ (qz_wg hh).2))⟩) (fun _ hh => nm_e (qz_step_ok n _ _ hh)))
theorem qz_step_wp {post : Int64 → Prop} {x1 : Int64} {x3 : Int32} (hh : qz_W (qz_step l7 st x1 x3 20 0 0) post) : wpX_step post (h, m, e, jn, st, f, g, a1, a2, a3, a4, a5, a6, qz_l l7, a8, a9) x1 x3 :=
  Exists.intro 20 (qz_step_ok 20 0 0 hh)
theorem qz_next_ok {post : Int32 → Prop} (hg : vp_in g 8) : ∀ (n : Nat) (x1 x2 : Int32), qz_W (qz_next l7 st (a9 g.toNatClampNeg) n x1 x2) post → wX_next_4 post h m e jn st f g a1 a2 a3 a4 a5 a6 (qz_l l7) a8 a9 n x1 x2
  | 0, _, _, hh => False.elim hh
  | n + 1, x1, x2, hh => qz_wif hh (fun _ hh => hh) (fun _ hh => ⟨hg, qz_step_wp (qz_wb hh (fun r hh => qz_wif hh (fun _ hh => nm_e (qz_next_ok hg n _ _ hh)) (fun _ hh => nm_e (nm_e (qz_next_ok hg n _ _ hh)))))⟩)
theorem qz_next_wp {post : Int32 → Prop} (hg : vp_in g 8) (hh : qz_W (qz_next l7 st (a9 g.toNatClampNeg) 5 0 0) post) : wpX_next post (h, m, e, jn, st, f, g, a1, a2, a3, a4, a5, a6, qz_l l7, a8, a9) :=
  Exists.intro 5 (qz_next_ok hg 5 0 0 hh)
theorem qz_b18_ok {post : Int64 → Prop} {J : Int64 → Int32 → Prop} {x1 : Int64} {x3 x6 : Int32} : ∀ (n : Nat) (x4 : Int64) (x7 : Int32), qz_W (qz_b18 l7 x1 x3 x6 n x4 x7) (fun r => J r (x6 + 1)) → wX_before_18 post J x1 x3 x6 h m e jn st f g a1 a2 a3 a4 a5 a6 (qz_l l7) a8 a9 n x4 x7
  | 0, _, _, hh => False.elim hh
  | n + 1, x4, x7, hh => qz_wif hh (fun _ hh => nm_e hh) (fun _ hh => qz_wif hh (fun _ hh => ⟨(qz_wg hh).1, qz_wif (qz_wg hh).2 (fun _ hh => nm_e (qz_b18_ok n _ _ hh)) (fun _ hh => nm_e (nm_e (qz_b18_ok n _ _ hh)))⟩) (fun _ hh => nm_e (qz_b18_ok n _ _ hh)))
theorem qz_b6_ok {post : Int64 → Prop} {x1 : Int64} {x3 : Int32} : ∀ (n : Nat) (x4 : Int64) (x6 : Int32), qz_W (qz_b6 l7 st x1 x3 n x4 x6) post → wX_before_6 post x1 x3 h m e jn st f g a1 a2 a3 a4 a5 a6 (qz_l l7) a8 a9 n x4 x6
  | 0, _, _, hh => False.elim hh
  | n + 1, x4, x6, hh => qz_wif hh (fun _ hh => hh) (fun _ hh => ⟨5, qz_b18_ok 5 _ _ (qz_wb hh (fun r hh => qz_b6_ok n _ _ hh))⟩)
theorem qz_before_wp {post : Int64 → Prop} {x1 : Int64} {x3 : Int32} (hh : qz_W (qz_b6 l7 st x1 x3 20 x1 0) post) : wpX_before post (h, m, e, jn, st, f, g, a1, a2, a3, a4, a5, a6, qz_l l7, a8, a9) x1 x3 :=
  Exists.intro 20 (qz_b6_ok 20 x1 0 hh)
theorem qz_least_ok {post : Int32 → Prop} {x1 : Int64} {x3 : Int32} : ∀ (n : Nat) (x4 : Int64) (x6 : Int32), qz_W (qz_least l7 st x1 x3 n x4 x6) post → wX_least_9 post x1 x3 h m e jn st f g a1 a2 a3 a4 a5 a6 (qz_l l7) a8 a9 n x4 x6
  | 0, _, _, hh => False.elim hh
  | n + 1, x4, x6, hh => qz_wif hh (fun _ hh => hh) (fun _ hh => qz_wif hh (fun _ hh => qz_before_wp (qz_wb hh (fun r hh => qz_wif hh (fun _ hh => hh) (fun _ hh => nm_e (qz_least_ok n _ _ hh))))) (fun _ hh => hh))
theorem qz_least_wp {post : Int32 → Prop} {x1 : Int64} {x3 : Int32} (hh : qz_W (qz_least l7 st x1 x3 20 f 0) post) : wpX_least post (h, m, e, jn, st, f, g, a1, a2, a3, a4, a5, a6, qz_l l7, a8, a9) x1 x3 :=
  Exists.intro 20 (qz_least_ok 20 f 0 hh)
theorem qz_need_ok {post : Int32 → Prop} (hg : vp_in g 8) : ∀ (n : Nat) (x1 x2 : Int32), qz_W (qz_need l7 st f (a9 g.toNatClampNeg) n x1 x2) post → wX_needed_4 post h m e jn st f g a1 a2 a3 a4 a5 a6 (qz_l l7) a8 a9 n x1 x2
  | 0, _, _, hh => False.elim hh
  | n + 1, x1, x2, hh => qz_wif hh (fun _ hh => hh) (fun _ hh => ⟨hg, qz_least_wp (qz_wb hh (fun r hh => qz_wif hh (fun _ hh => nm_e (nm_e (qz_need_ok hg n _ _ hh))) (fun _ hh => nm_e (qz_need_ok hg n _ _ hh))))⟩)
theorem qz_need_wp {post : Int32 → Prop} (hg : vp_in g 8) (hh : qz_W (qz_need l7 st f (a9 g.toNatClampNeg) 5 0 0) post) : wpX_needed post (h, m, e, jn, st, f, g, a1, a2, a3, a4, a5, a6, qz_l l7, a8, a9) :=
  Exists.intro 5 (qz_need_ok hg 5 0 0 hh)
theorem qz_a27_ok {post : Int32 → Prop} {x1 : Int32} (hg : vp_in g 8) : ∀ (n : Nat) (x2 : Int32), qz_W (qz_a27 l7 st f (a9 g.toNatClampNeg) x1 n x2) post → wX_advice_27 post x1 h m e jn st f g a1 a2 a3 a4 a5 a6 (qz_l l7) a8 a9 n x2
  | 0, _, hh => False.elim hh
  | n + 1, x2, hh => qz_wif hh (fun _ hh => hh) (fun _ hh => ⟨hg, qz_step_wp (qz_wb hh (fun r hh => qz_least_wp (qz_wb hh (fun q hh => qz_wif hh (fun _ hh => hh) (fun _ hh => nm_e (qz_a27_ok hg n _ hh))))))⟩)
theorem qz_stop_wp {post : Int32 → Prop} (hg : vp_in g 8) (h0 : (a9 g.toNatClampNeg &&& f) = 0 → post 0) (h1 : ¬ (a9 g.toNatClampNeg &&& f) = 0 → post 1) : wpX_mayStop post (h, m, e, jn, st, f, g, a1, a2, a3, a4, a5, a6, a7, a8, a9) :=
  And.intro hg (br_c h0 h1)
theorem qz_adv_wp {post : Int32 → Prop} (hg : vp_in g 8) (hh : qz_W (qz_adv l7 st f (a9 g.toNatClampNeg)) post) : wpX_advice post (h, m, e, jn, st, f, g, a1, a2, a3, a4, a5, a6, qz_l l7, a8, a9) := by
  unfold qz_adv at hh
  unfold wpX_advice
  by_cases c : (a9 g.toNatClampNeg &&& f) = 0
  · rw [if_pos c] at hh
    exact qz_stop_wp hg (fun _ => br_t rfl ⟨hg, qz_least_wp (qz_wb hh (fun r hh => ⟨5, qz_a27_ok hg 5 0 hh⟩))⟩) (fun z => absurd c z)
  · rw [if_neg c] at hh
    exact qz_stop_wp hg (fun z => absurd z c) (fun _ => br_f (by decide) hh)
theorem qz_rem_wp {post : Int32 → Prop} (hg : vp_in g 8) (hh : qz_W (qz_least l7 st (a9 g.toNatClampNeg) 0 20 f 0) post) : wpX_remaining post (h, m, e, jn, st, f, g, a1, a2, a3, a4, a5, a6, qz_l l7, a8, a9) 0 :=
  br_f (by decide) (br_t (by decide) ⟨hg, qz_least_wp hh⟩)
end
end
section
def qz_clear (x1 : Int32) : Nat → Int32 → List Int64 → Option (List Int64)
  | 0 => fun _ _ => none
  | n + 1 => fun x2 l3 => if 4 ≤ x2 then some l3 else qz_g ((x1 * 4) + x2) 320 (qz_clear x1 n (x2 + 1) (qz_set 0 l3 ((x1 * 4) + x2).toNatClampNeg 0))
def qz_opl (x1 x2 : Int32) : Nat → Int32 → List Int64 → List Int32 → Option (List Int64 × List Int32)
  | 0 => fun _ _ _ => none
  | n + 1 => fun x3 l3 l4 => if (x2 + x1) ≤ x3 then some (l3, l4) else qz_g x3 80 ((qz_clear x3 5 0 l3).bind (fun l => qz_opl x1 x2 n (x3 + 1) l (qz_set 0 l4 x3.toNatClampNeg 0)))
def qz_op33 (x1 x2 h : Int32) (l1 l2 : List Int32) (l3 : List Int64) (l4 : List Int32) : Option (Int32 × List Int32 × List Int32 × List Int64 × List Int32) :=
  qz_g h 8 ((qz_opl x1 x2 20 x2 l3 l4).bind (fun q => some (x2, qz_set 0 l1 h.toNatClampNeg x2, qz_set 0 l2 h.toNatClampNeg x1, q.1, q.2)))
def qz_opn (x1 h : Int32) (l1 l2 : List Int32) (l3 : List Int64) (l4 : List Int32) : Option (Int32 × List Int32 × List Int32 × List Int64 × List Int32) :=
  if h ≤ 0 then qz_op33 x1 0 h l1 l2 l3 l4 else qz_g (h - 1) 8 (qz_op33 x1 ((qz_i l1 (h - 1).toNatClampNeg) + (qz_i l2 (h - 1).toNatClampNeg)) h l1 l2 l3 l4)
def qz_event (p0 h m e : Int32) (l1 l2 : List Int32) (l3 : List Int64) (l4 : List Int32) : Option (List Int32 × List Int32 × List Int64 × List Int32) :=
  if p0 < 0 then none else if p0 ≤ 3 then (if m = 16 then none else if h = 8 then none else if e = 6 then none else (qz_opn 2 h l1 l2 l3 l4).bind (fun q => qz_g ((q.1 * 4) + p0) 320 (qz_g (q.1 + 1) 80 (some (q.2.1, q.2.2.1, qz_set 0 q.2.2.2.1 ((q.1 * 4) + p0).toNatClampNeg 2, qz_set 0 q.2.2.2.2 (q.1 + 1).toNatClampNeg 1))))) else none
def qz_copy (x1 x2 x3 : Int32) (l3 : List Int64) : Nat → Int32 → List Int64 → Option (List Int64)
  | 0 => fun _ _ => none
  | n + 1 => fun x4 l5 => if 4 ≤ x4 then some l5 else qz_g ((x1 * 4) + x4) 320 (qz_g ((x2 * 4) + x4) 256 (qz_copy x1 x2 x3 l3 n (x4 + 1) (qz_set 0 l5 ((x2 * 4) + x4).toNatClampNeg ((qz_l l3 ((x1 * 4) + x4).toNatClampNeg) <<< (x3.toInt64 &&& 63)))))
def qz_add (x1 x2 x3 : Int32) (l3 : List Int64) : Nat → Int32 → List Int64 → Option (List Int64)
  | 0 => fun _ _ => none
  | n + 1 => fun x4 l5 => if 4 ≤ x4 then some l5 else qz_g ((x2 * 4) + x4) 256 (qz_g ((x1 * 4) + x4) 320 (qz_add x1 x2 x3 l3 n (x4 + 1) (qz_set 0 l5 ((x2 * 4) + x4).toNatClampNeg ((qz_l l5 ((x2 * 4) + x4).toNatClampNeg) ||| ((qz_l l3 ((x1 * 4) + x4).toNatClampNeg) <<< (x3.toInt64 &&& 63))))))
def qz_tl15 (x1 x2 x3 : Int32) (l3 : List Int64) (l4 : List Int32) : Nat → Int32 → List Int64 → List Int32 → Option (List Int64 × List Int32)
  | 0 => fun _ _ _ => none
  | n + 1 => fun x4 l5 l6 => if x3 ≤ x4 then some (l5, l6) else qz_g (x1 + x4) 80 (qz_g (x2 + x4) 64 ((qz_copy (x1 + x4) (x2 + x4) x2 l3 5 0 l5).bind (fun l => qz_tl15 x1 x2 x3 l3 l4 n (x4 + 1) l (qz_set 0 l6 (x2 + x4).toNatClampNeg (vp_nar .boolean (qz_i l4 (x1 + x4).toNatClampNeg))))))
def qz_st73 (x1 x2 : Int32) (l5 : List Int64) : Nat → Int32 → List Int64 → Option (List Int64)
  | 0 => fun _ _ => none
  | n + 1 => fun x3 l3 => if 4 ≤ x3 then some l3 else qz_g ((x2 * 4) + x3) 256 (qz_g (((x1 + x2) * 4) + x3) 320 (qz_st73 x1 x2 l5 n (x3 + 1) (qz_set 0 l3 (((x1 + x2) * 4) + x3).toNatClampNeg (qz_l l5 ((x2 * 4) + x3).toNatClampNeg))))
def qz_st49 (x1 jn : Int32) (l5 : List Int64) (l6 : List Int32) : Nat → Int32 → List Int64 → List Int32 → Option (List Int64 × List Int32)
  | 0 => fun _ _ _ => none
  | n + 1 => fun x2 l3 l4 => if jn ≤ x2 then some (l3, l4) else qz_g x2 64 (qz_g (x1 + x2) 80 ((qz_st73 x1 x2 l5 5 0 l3).bind (fun l => qz_st49 x1 jn l5 l6 n (x2 + 1) l (qz_set 0 l4 (x1 + x2).toNatClampNeg (vp_nar .boolean (qz_i l6 x2.toNatClampNeg))))))
def qz_settle (h jn : Int32) (l1 l2 : List Int32) (l3 : List Int64) (l4 : List Int32) (l5 : List Int64) (l6 : List Int32) : Option (List Int32 × List Int64 × List Int32) :=
  qz_g (h - 1 - 1) 8 ((qz_st49 (qz_i l1 (h - 1 - 1).toNatClampNeg) jn l5 l6 20 0 l3 l4).bind (fun q => some (qz_set 0 l2 (h - 1 - 1).toNatClampNeg jn, q.1, q.2)))
section
variable {h m e jn st : Int32} {f : Int64} {g : Int32} {a1 a2 : Nat → Int32} {a3 : Nat → Int64} {a4 : Nat → Int32} {a5 : Nat → Int64} {a6 : Nat → Int32} {a7 : Nat → Int64} {a8 : Nat → Int32} {a9 : Nat → Int64} {l1 l2 : List Int32}
theorem qz_clear_ok {post : St2 → Prop} {x1 : Int32} : ∀ (n : Nat) (x2 : Int32) (l3 : List Int64), qz_W (qz_clear x1 n x2 l3) (fun l => post (h, m, e, jn, st, f, g, a1, a2, qz_l l, a4, a5, a6, a7, a8, a9)) → wX_clearEdges_2 post x1 h m e jn st f g n x2 a1 a2 (qz_l l3) a4 a5 a6 a7 a8 a9
  | 0, _, _, hh => False.elim hh
  | n + 1, x2, l3, hh => qz_wif hh (fun _ hh => hh) (fun _ hh => ⟨(qz_wg hh).1, nm_r (qz_lu _ _ _) (nm_e (qz_clear_ok n _ _ (qz_wg hh).2))⟩)
theorem qz_clear_wp {post : St2 → Prop} {x1 : Int32} {l3 : List Int64} (hh : qz_W (qz_clear x1 5 0 l3) (fun l => post (h, m, e, jn, st, f, g, a1, a2, qz_l l, a4, a5, a6, a7, a8, a9))) : wpX_clearEdges post (h, m, e, jn, st, f, g, a1, a2, qz_l l3, a4, a5, a6, a7, a8, a9) x1 :=
  Exists.intro 5 (qz_clear_ok 5 0 l3 hh)
theorem qz_opl_ok {post : Int32 → St2 → Prop} {x1 x2 : Int32} : ∀ (n : Nat) (x3 : Int32) (l3 : List Int64) (l4 : List Int32), qz_W (qz_opl x1 x2 n x3 l3 l4) (fun q => post x2 (h, m, e, jn, st, f, g, a1, a2, qz_l q.1, qz_i q.2, a5, a6, a7, a8, a9)) → wX_open_65 post x1 x2 n x3 h m e jn st f g a1 a2 (qz_l l3) (qz_i l4) a5 a6 a7 a8 a9
  | 0, _, _, _, hh => False.elim hh
  | n + 1, x3, l3, l4, hh => qz_wif hh (fun _ hh => hh) (fun _ hh => ⟨(qz_wg hh).1, nm_r (qz_iu _ _ _) (qz_clear_wp (qz_wb (qz_wg hh).2 (fun l hh => nm_e (qz_opl_ok n _ _ _ hh))))⟩)
theorem qz_op33_ok {post : Int32 → St2 → Prop} {x1 x2 : Int32} {l3 : List Int64} {l4 : List Int32} (hh : qz_W (qz_op33 x1 x2 h l1 l2 l3 l4) (fun q => post q.1 (h + 1, m, e, jn, st, f, g, qz_i q.2.1, qz_i q.2.2.1, qz_l q.2.2.2.1, qz_i q.2.2.2.2, a5, a6, a7, a8, a9))) : wX_open_33 post x1 x2 h m e jn st f g (qz_i l1) (qz_i l2) (qz_l l3) (qz_i l4) a5 a6 a7 a8 a9 := by
  unfold qz_op33 at hh
  unfold wX_open_33
  exact ⟨(qz_wg hh).1, nm_r (qz_iu _ _ _) ⟨(qz_wg hh).1, nm_r (qz_iu _ _ _) (nm_e ⟨20, qz_opl_ok 20 _ _ _ (qz_wb (qz_wg hh).2 (fun q hh => hh))⟩)⟩⟩
theorem qz_opn_wp {post : Int32 → St2 → Prop} {x1 : Int32} {l3 : List Int64} {l4 : List Int32} (hh : qz_W (qz_opn x1 h l1 l2 l3 l4) (fun q => post q.1 (h + 1, m, e, jn, st, f, g, qz_i q.2.1, qz_i q.2.2.1, qz_l q.2.2.2.1, qz_i q.2.2.2.2, a5, a6, a7, a8, a9))) : wpX_open post (h, m, e, jn, st, f, g, qz_i l1, qz_i l2, qz_l l3, qz_i l4, a5, a6, a7, a8, a9) x1 := by
  unfold qz_opn at hh
  unfold wpX_open
  exact qz_wif hh (fun _ hh => qz_op33_ok hh) (fun _ hh => ⟨(qz_wg hh).1, (qz_wg hh).1, nm_e (qz_op33_ok (qz_wg hh).2)⟩)
theorem qz_event_wp {post : Int32 → St2 → Prop} {p0 : Int32} {l3 : List Int64} {l4 : List Int32} (hh : qz_W (qz_event p0 h m e l1 l2 l3 l4) (fun q => post (h + 1) (h + 1, m + 1, e + 1, jn, st, f, g, qz_i q.1, qz_i q.2.1, qz_l q.2.2.1, qz_i q.2.2.2, a5, a6, a7, a8, a9))) : wpX_event post (h, m, e, jn, st, f, g, qz_i l1, qz_i l2, qz_l l3, qz_i l4, a5, a6, a7, a8, a9) p0 := by
  unfold qz_event at hh
  unfold wpX_event
  exact qz_wif hh (fun _ hh => False.elim hh) (fun _ hh => qz_wif hh (fun _ hh => qz_wif hh (fun _ hh => False.elim hh) (fun _ hh => qz_wif hh (fun _ hh => False.elim hh) (fun _ hh => qz_wif hh (fun _ hh => False.elim hh) (fun _ hh => qz_opn_wp (qz_wb hh (fun q hh => ⟨(qz_wg hh).1, nm_r (qz_lu _ _ _) ⟨(qz_wg (qz_wg hh).2).1, nm_r (qz_iu _ _ _) (nm_e (nm_e (qz_wg (qz_wg hh).2).2))⟩⟩)))))) (fun _ hh => False.elim hh))
theorem qz_copy_ok {post : St2 → Prop} {x1 x2 x3 : Int32} {l3 : List Int64} : ∀ (n : Nat) (x4 : Int32) (l5 : List Int64), qz_W (qz_copy x1 x2 x3 l3 n x4 l5) (fun l => post (h, m, e, jn, st, f, g, a1, a2, qz_l l3, a4, qz_l l, a6, a7, a8, a9)) → wX_copyEdges_3 post x1 x2 x3 h m e jn st f g n x4 a1 a2 (qz_l l3) a4 (qz_l l5) a6 a7 a8 a9
  | 0, _, _, hh => False.elim hh
  | n + 1, x4, l5, hh => qz_wif hh (fun _ hh => hh) (fun _ hh => ⟨(qz_wg hh).1, (qz_wg (qz_wg hh).2).1, nm_r (qz_lu _ _ _) (nm_e (qz_copy_ok n _ _ (qz_wg (qz_wg hh).2).2))⟩)
theorem qz_copy_wp {post : St2 → Prop} {x1 x2 x3 : Int32} {l3 l5 : List Int64} (hh : qz_W (qz_copy x1 x2 x3 l3 5 0 l5) (fun l => post (h, m, e, jn, st, f, g, a1, a2, qz_l l3, a4, qz_l l, a6, a7, a8, a9))) : wpX_copyEdges post (h, m, e, jn, st, f, g, a1, a2, qz_l l3, a4, qz_l l5, a6, a7, a8, a9) x1 x2 x3 :=
  Exists.intro 5 (qz_copy_ok 5 0 l5 hh)
theorem qz_add_ok {post : St2 → Prop} {x1 x2 x3 : Int32} {l3 : List Int64} : ∀ (n : Nat) (x4 : Int32) (l5 : List Int64), qz_W (qz_add x1 x2 x3 l3 n x4 l5) (fun l => post (h, m, e, jn, st, f, g, a1, a2, qz_l l3, a4, qz_l l, a6, a7, a8, a9)) → wX_addEdges_3 post x1 x2 x3 h m e jn st f g n x4 a1 a2 (qz_l l3) a4 (qz_l l5) a6 a7 a8 a9
  | 0, _, _, hh => False.elim hh
  | n + 1, x4, l5, hh => qz_wif hh (fun _ hh => hh) (fun _ hh => ⟨(qz_wg hh).1, (qz_wg (qz_wg hh).2).1, (qz_wg hh).1, nm_r (qz_lu _ _ _) (nm_e (qz_add_ok n _ _ (qz_wg (qz_wg hh).2).2))⟩)
theorem qz_add_wp {post : St2 → Prop} {x1 x2 x3 : Int32} {l3 l5 : List Int64} (hh : qz_W (qz_add x1 x2 x3 l3 5 0 l5) (fun l => post (h, m, e, jn, st, f, g, a1, a2, qz_l l3, a4, qz_l l, a6, a7, a8, a9))) : wpX_addEdges post (h, m, e, jn, st, f, g, a1, a2, qz_l l3, a4, qz_l l5, a6, a7, a8, a9) x1 x2 x3 :=
  Exists.intro 5 (qz_add_ok 5 0 l5 hh)
theorem qz_tl15_ok {post : St2 → Prop} {x1 x2 x3 : Int32} {l3 : List Int64} {l4 : List Int32} : ∀ (n : Nat) (x4 : Int32) (l5 : List Int64) (l6 : List Int32), qz_W (qz_tl15 x1 x2 x3 l3 l4 n x4 l5 l6) (fun q => post (h, m, e, x2 + x3, st, f, g, a1, a2, qz_l l3, qz_i l4, qz_l q.1, qz_i q.2, a7, a8, a9)) → wX_appendTail_15 post x1 x2 x3 n x4 h m e jn st f g a1 a2 (qz_l l3) (qz_i l4) (qz_l l5) (qz_i l6) a7 a8 a9
  | 0, _, _, _, hh => False.elim hh
  | n + 1, x4, l5, l6, hh => qz_wif hh (fun _ hh => nm_e hh) (fun _ hh => ⟨(qz_wg hh).1, (qz_wg (qz_wg hh).2).1, nm_r (qz_iu _ _ _) (qz_copy_wp (qz_wb (qz_wg (qz_wg hh).2).2 (fun l hh => nm_e (qz_tl15_ok n _ _ _ hh))))⟩)
theorem qz_st73_ok {post : Int32 → St2 → Prop} {J : Int32 → (Nat → Int32) → (Nat → Int32) → (Nat → Int64) → (Nat → Int32) → (Nat → Int64) → (Nat → Int32) → (Nat → Int64) → (Nat → Int32) → (Nat → Int64) → Prop} {x1 x2 : Int32} {l5 : List Int64} : ∀ (n : Nat) (x3 : Int32) (l3 : List Int64), qz_W (qz_st73 x1 x2 l5 n x3 l3) (fun l => J (x2 + 1) a1 a2 (qz_l l) a4 (qz_l l5) a6 a7 a8 a9) → wX_settle_73 post J x1 x2 h m e jn st f g n x3 a1 a2 (qz_l l3) a4 (qz_l l5) a6 a7 a8 a9
  | 0, _, _, hh => False.elim hh
  | n + 1, x3, l3, hh => qz_wif hh (fun _ hh => nm_e hh) (fun _ hh => ⟨(qz_wg hh).1, (qz_wg (qz_wg hh).2).1, nm_r (qz_lu _ _ _) (nm_e (qz_st73_ok n _ _ (qz_wg (qz_wg hh).2).2))⟩)
theorem qz_st49_ok {post : Int32 → St2 → Prop} {x1 : Int32} {l5 : List Int64} {l6 : List Int32} : ∀ (n : Nat) (x2 : Int32) (l3 : List Int64) (l4 : List Int32), qz_W (qz_st49 x1 jn l5 l6 n x2 l3 l4) (fun q => post h (h, m, e, jn, st, f, g, a1, a2, qz_l q.1, qz_i q.2, qz_l l5, qz_i l6, a7, a8, a9)) → wX_settle_49 post x1 h m e jn st f g n x2 a1 a2 (qz_l l3) (qz_i l4) (qz_l l5) (qz_i l6) a7 a8 a9
  | 0, _, _, _, hh => False.elim hh
  | n + 1, x2, l3, l4, hh => qz_wif hh (fun _ hh => hh) (fun _ hh => ⟨(qz_wg hh).1, (qz_wg (qz_wg hh).2).1, nm_r (qz_iu _ _ _) ⟨5, qz_st73_ok 5 0 _ (qz_wb (qz_wg (qz_wg hh).2).2 (fun l hh => qz_st49_ok n _ _ _ hh))⟩⟩)
theorem qz_settle_wp {post : Int32 → St2 → Prop} {l3 : List Int64} {l4 : List Int32} {l5 : List Int64} {l6 : List Int32} (hh : qz_W (qz_settle h jn l1 l2 l3 l4 l5 l6) (fun q => post (h - 1) (h - 1, m + 1, e, jn, st, f, g, qz_i l1, qz_i q.1, qz_l q.2.1, qz_i q.2.2, qz_l l5, qz_i l6, a7, a8, a9))) : wpX_settle post (h, m, e, jn, st, f, g, qz_i l1, qz_i l2, qz_l l3, qz_i l4, qz_l l5, qz_i l6, a7, a8, a9) := by
  unfold qz_settle at hh
  unfold wpX_settle
  exact nm_e (nm_e ⟨(qz_wg hh).1, nm_e ⟨(qz_wg hh).1, nm_r (qz_iu _ _ _) ⟨20, qz_st49_ok 20 0 _ _ (qz_wb (qz_wg hh).2 (fun q hh => hh))⟩⟩⟩)
end
end
section
/-- the first machine's states, the second's first edges put to those that may stop: one round of seq's loop -/
def qz_s108 (x2 x3 x4 x5 z0 : Int32) (l3 : List Int64) (l4 : List Int32) (l5 : List Int64) (l6 : List Int32) : Option (List Int64 × List Int32) :=
  qz_g x5 64 ((qz_copy (x2 + x5) x5 0 l3 5 0 l5).bind (fun l => qz_g (x2 + x5) 80 (if qz_i l4 (x2 + x5).toNatClampNeg = 0 then some (l, qz_set 0 l6 x5.toNatClampNeg (vp_nar .boolean z0)) else (qz_add x3 x5 x4 l3 5 0 l).bind (fun q => some (q, qz_set 0 l6 x5.toNatClampNeg (vp_nar .boolean z0))))))
def qz_s69 (x2 x3 x4 : Int32) (l3 : List Int64) (l4 : List Int32) : Nat → Int32 → List Int64 → List Int32 → Option (List Int64 × List Int32)
  | 0 => fun _ _ _ => none
  | n + 1 => fun x5 l5 l6 => if x4 < x5 then some (l5, l6) else qz_g (x2 + x5) 80 (if qz_i l4 (x2 + x5).toNatClampNeg = 0 then (qz_s108 x2 x3 x4 x5 0 l3 l4 l5 l6).bind (fun q => qz_s69 x2 x3 x4 l3 l4 n (x5 + 1) q.1 q.2) else qz_g x3 80 (if qz_i l4 x3.toNatClampNeg = 0 then (qz_s108 x2 x3 x4 x5 0 l3 l4 l5 l6).bind (fun q => qz_s69 x2 x3 x4 l3 l4 n (x5 + 1) q.1 q.2) else (qz_s108 x2 x3 x4 x5 1 l3 l4 l5 l6).bind (fun q => qz_s69 x2 x3 x4 l3 l4 n (x5 + 1) q.1 q.2)))
def qz_stail (x3 x4 h : Int32) (l1 l2 : List Int32) (l3 : List Int64) (l4 : List Int32) (l5 : List Int64) (l6 : List Int32) : Option (List Int32 × List Int64 × List Int32 × List Int64 × List Int32) :=
  qz_g (h - 1) 8 ((qz_tl15 x3 x4 (qz_i l2 (h - 1).toNatClampNeg) l3 l4 20 1 l5 l6).bind (fun q => (qz_settle h (x4 + qz_i l2 (h - 1).toNatClampNeg) l1 l2 l3 l4 q.1 q.2).bind (fun p => some (p.1, p.2.1, p.2.2, q.1, q.2))))
def qz_seq (h m : Int32) (l1 l2 : List Int32) (l3 : List Int64) (l4 : List Int32) (l5 : List Int64) (l6 : List Int32) : Option (List Int32 × List Int64 × List Int32 × List Int64 × List Int32) :=
  if m = 16 then none else if 2 ≤ h then qz_g (h - 2) 8 (qz_g (h - 1) 8 ((qz_s69 (qz_i l1 (h - 2).toNatClampNeg) (qz_i l1 (h - 1).toNatClampNeg) ((qz_i l2 (h - 2).toNatClampNeg) - 1) l3 l4 20 0 l5 l6).bind (fun q => qz_stail (qz_i l1 (h - 1).toNatClampNeg) ((qz_i l2 (h - 2).toNatClampNeg) - 1) h l1 l2 l3 l4 q.1 q.2))) else none
def qz_spread (x1 : Int64) (x3 x4 : Int32) : Nat → Int64 → Int32 → Option Int64
  | 0 => fun _ _ => none
  | n + 1 => fun x5 x7 => if 64 ≤ x7 then some x5 else if (((x1.toUInt64 >>> (x7.toInt64.toUInt64 &&& Int64.toUInt64 63)).toInt64) &&& 1) = 1 then qz_spread x1 x3 x4 n (x5 ||| ((1 : Int64) <<< (((x7 * x3) + x4).toInt64 &&& 63))) (x7 + 1) else qz_spread x1 x3 x4 n x5 (x7 + 1)
def qz_p72 (x1 x2 x3 x4 x5 x6 : Int32) (l3 : List Int64) : Nat → Int32 → List Int64 → Option (List Int64)
  | 0 => fun _ _ => none
  | n + 1 => fun x7 l5 => if 4 ≤ x7 then some l5 else qz_g ((x4 * 4) + x7) 320 ((qz_spread (qz_l l3 ((x4 * 4) + x7).toNatClampNeg) x3 x2 70 0 0).bind (fun r => qz_g ((x5 * 4) + x7) 320 (qz_g ((x6 * 4) + x7) 256 (qz_p72 x1 x2 x3 x4 x5 x6 l3 n (x7 + 1) (qz_set 0 l5 ((x6 * 4) + x7).toNatClampNeg (r ||| ((qz_l l3 ((x5 * 4) + x7).toNatClampNeg) <<< ((x1 * x3).toInt64 &&& 63))))))))
def qz_p6 (p0 p1 p2 x4 x5 x6 : Int32) (l3 : List Int64) (l4 : List Int32) (l5 : List Int64) (l6 : List Int32) : Option (List Int64 × List Int32) :=
  qz_g x4 80 (qz_g x6 64 (if qz_i l4 x4.toNatClampNeg = 0 then (qz_p72 p0 p1 p2 x4 x5 x6 l3 5 0 l5).bind (fun l => some (l, qz_set 0 l6 x6.toNatClampNeg 0)) else qz_g x5 80 (if qz_i l4 x5.toNatClampNeg = 0 then (qz_p72 p0 p1 p2 x4 x5 x6 l3 5 0 l5).bind (fun l => some (l, qz_set 0 l6 x6.toNatClampNeg 0)) else (qz_p72 p0 p1 p2 x4 x5 x6 l3 5 0 l5).bind (fun l => some (l, qz_set 0 l6 x6.toNatClampNeg 1)))))
def qz_pair (h p0 p1 p2 : Int32) (l1 : List Int32) (l3 : List Int64) (l4 : List Int32) (l5 : List Int64) (l6 : List Int32) : Option (List Int64 × List Int32) :=
  qz_g (h - 2) 8 (qz_g (h - 1) 8 (qz_p6 p0 p1 p2 ((qz_i l1 (h - 2).toNatClampNeg) + p0) ((qz_i l1 (h - 1).toNatClampNeg) + p1) ((p0 * p2) + p1) l3 l4 l5 l6))
def qz_b48 (h x3 x4 : Int32) (l1 : List Int32) (l3 : List Int64) (l4 : List Int32) : Nat → Int32 → List Int64 → List Int32 → Option (List Int64 × List Int32)
  | 0 => fun _ _ _ => none
  | n + 1 => fun x5 l5 l6 => if x3 ≤ x5 then some (l5, l6) else (qz_pair h x4 x5 x3 l1 l3 l4 l5 l6).bind (fun q => qz_b48 h x3 x4 l1 l3 l4 n (x5 + 1) q.1 q.2)
def qz_b39 (h x2 x3 : Int32) (l1 : List Int32) (l3 : List Int64) (l4 : List Int32) : Nat → Int32 → List Int64 → List Int32 → Option (List Int64 × List Int32)
  | 0 => fun _ _ _ => none
  | n + 1 => fun x4 l5 l6 => if x2 ≤ x4 then some (l5, l6) else (qz_b48 h x3 x4 l1 l3 l4 20 0 l5 l6).bind (fun q => qz_b39 h x2 x3 l1 l3 l4 n (x4 + 1) q.1 q.2)
def qz_both (h m : Int32) (l1 l2 : List Int32) (l3 : List Int64) (l4 : List Int32) (l5 : List Int64) (l6 : List Int32) : Option (List Int32 × List Int64 × List Int32 × List Int64 × List Int32) :=
  if m = 16 then none else if 2 ≤ h then qz_g (h - 2) 8 (qz_g (h - 1) 8 ((qz_b39 h (qz_i l2 (h - 2).toNatClampNeg) (qz_i l2 (h - 1).toNatClampNeg) l1 l3 l4 20 0 l5 l6).bind (fun q => (qz_settle h ((qz_i l2 (h - 2).toNatClampNeg) * (qz_i l2 (h - 1).toNatClampNeg)) l1 l2 l3 l4 q.1 q.2).bind (fun p => some (p.1, p.2.1, p.2.2, q.1, q.2))))) else none
def qz_d59 (x1 : Int32) (l3 : List Int64) : Nat → Int32 → List Int64 → Option (List Int64)
  | 0 => fun _ _ => none
  | n + 1 => fun x2 l7 => if 4 ≤ x2 then some l7 else qz_g ((x1 * 4) + x2) 320 (qz_g ((x1 * 4) + x2) 256 (qz_d59 x1 l3 n (x2 + 1) (qz_set 0 l7 ((x1 * 4) + x2).toNatClampNeg (qz_l l3 ((x1 * 4) + x2).toNatClampNeg))))
def qz_d28 (st : Int32) (l3 : List Int64) (l4 : List Int32) : Nat → Int32 → Int64 → List Int64 → Option (Int64 × List Int64)
  | 0 => fun _ _ _ => none
  | n + 1 => fun x1 f l7 => if st ≤ x1 then some (f, l7) else qz_g x1 80 (if qz_i l4 x1.toNatClampNeg = 0 then (qz_d59 x1 l3 5 0 l7).bind (fun l => qz_d28 st l3 l4 n (x1 + 1) f l) else (qz_d59 x1 l3 5 0 l7).bind (fun l => qz_d28 st l3 l4 n (x1 + 1) (f ||| ((1 : Int64) <<< (x1.toInt64 &&& 63))) l))
def qz_define (h : Int32) (l2 : List Int32) (l3 : List Int64) (l4 : List Int32) (l7 : List Int64) : Option (Int64 × List Int64) :=
  if h = 1 then qz_d28 (qz_i l2 0) l3 l4 20 0 0 l7 else none
section
variable {h m e jn st : Int32} {f : Int64} {g : Int32} {a1 a2 : Nat → Int32} {a3 : Nat → Int64} {a4 : Nat → Int32} {a5 : Nat → Int64} {a6 : Nat → Int32} {a7 : Nat → Int64} {a8 : Nat → Int32} {a9 : Nat → Int64} {l1 l2 : List Int32} {l3 : List Int64} {l4 : List Int32}
theorem qz_s108_ok {post : Int32 → St2 → Prop} {J : Int32 → Int32 → Int32 → Int32 → Int32 → Int32 → Int64 → Int32 → (Nat → Int32) → (Nat → Int32) → (Nat → Int64) → (Nat → Int32) → (Nat → Int64) → (Nat → Int32) → (Nat → Int64) → (Nat → Int32) → (Nat → Int64) → Prop} {x2 x3 x4 x5 z0 : Int32} {l5 : List Int64} {l6 : List Int32} (hh : qz_W (qz_s108 x2 x3 x4 x5 z0 l3 l4 l5 l6) (fun q => J (x5 + 1) h m e jn st f g a1 a2 (qz_l l3) (qz_i l4) (qz_l q.1) (qz_i q.2) a7 a8 a9)) : wX_seq_108 post J x2 x3 x4 x5 z0 x5 h m e jn st f g a1 a2 (qz_l l3) (qz_i l4) (qz_l l5) (qz_i l6) a7 a8 a9 := by
  unfold qz_s108 at hh
  unfold wX_seq_108
  exact ⟨(qz_wg hh).1, nm_r (qz_iu _ _ _) (qz_copy_wp (qz_wb (qz_wg hh).2 (fun l hh => ⟨(qz_wg hh).1, qz_wif (qz_wg hh).2 (fun _ hh => nm_e hh) (fun _ hh => qz_add_wp (qz_wb hh (fun q hh => nm_e hh)))⟩)))⟩
theorem qz_s107_ok {post : Int32 → St2 → Prop} {J : Int32 → Int32 → Int32 → Int32 → Int32 → Int32 → Int64 → Int32 → (Nat → Int32) → (Nat → Int32) → (Nat → Int64) → (Nat → Int32) → (Nat → Int64) → (Nat → Int32) → (Nat → Int64) → (Nat → Int32) → (Nat → Int64) → Prop} {x2 x3 x4 x5 : Int32} {l5 : List Int64} {l6 : List Int32} (hh : qz_W (qz_s108 x2 x3 x4 x5 0 l3 l4 l5 l6) (fun q => J (x5 + 1) h m e jn st f g a1 a2 (qz_l l3) (qz_i l4) (qz_l q.1) (qz_i q.2) a7 a8 a9)) : wX_seq_107 post J x2 x3 x4 x5 x5 h m e jn st f g a1 a2 (qz_l l3) (qz_i l4) (qz_l l5) (qz_i l6) a7 a8 a9 := by
  unfold wX_seq_107
  exact qz_s108_ok hh
theorem qz_tail_wp {post : St2 → Prop} {x3 x4 : Int32} {l5 : List Int64} {l6 : List Int32} (hg : vp_in (h - 1) 8) (hh : qz_W (qz_tl15 x3 x4 (qz_i l2 (h - 1).toNatClampNeg) l3 l4 20 1 l5 l6) (fun q => post (h, m, e, x4 + qz_i l2 (h - 1).toNatClampNeg, st, f, g, a1, qz_i l2, qz_l l3, qz_i l4, qz_l q.1, qz_i q.2, a7, a8, a9))) : wpX_appendTail post (h, m, e, jn, st, f, g, a1, qz_i l2, qz_l l3, qz_i l4, qz_l l5, qz_i l6, a7, a8, a9) x3 x4 := by
  unfold wpX_appendTail
  exact ⟨hg, nm_e ⟨20, qz_tl15_ok 20 1 _ _ hh⟩⟩
theorem qz_s69_ok {post : Int32 → St2 → Prop} {x2 x3 x4 : Int32} : ∀ (n : Nat) (x5 : Int32) (l5 : List Int64) (l6 : List Int32), qz_W (qz_s69 x2 x3 x4 l3 l4 n x5 l5 l6) (fun q => qz_W (qz_stail x3 x4 h l1 l2 l3 l4 q.1 q.2) (fun q => post (h - 1) (h - 1, m + 1, e, x4 + qz_i l2 (h - 1).toNatClampNeg, st, f, g, qz_i l1, qz_i q.1, qz_l q.2.1, qz_i q.2.2.1, qz_l q.2.2.2.1, qz_i q.2.2.2.2, a7, a8, a9))) → wX_seq_69 post x2 x3 x4 n x5 h m e jn st f g (qz_i l1) (qz_i l2) (qz_l l3) (qz_i l4) (qz_l l5) (qz_i l6) a7 a8 a9
  | 0, _, _, _, hh => False.elim hh
  | n + 1, x5, l5, l6, hh => qz_wif hh (fun _ hh => by
      have hq : qz_W (qz_stail x3 x4 h l1 l2 l3 l4 l5 l6) _ := hh
      unfold qz_stail at hq
      exact qz_tail_wp (qz_wg hq).1 (qz_wb (qz_wg hq).2 (fun q hh => qz_settle_wp (qz_wb hh (fun p hh => hh))))) (fun _ hh => ⟨(qz_wg hh).1, qz_wif (qz_wg hh).2 (fun _ hh => qz_s107_ok (qz_wb hh (fun q hh => qz_s69_ok n _ _ _ hh))) (fun _ hh => ⟨(qz_wg hh).1, qz_wif (qz_wg hh).2 (fun _ hh => qz_s107_ok (qz_wb hh (fun q hh => qz_s69_ok n _ _ _ hh))) (fun _ hh => qz_s108_ok (qz_wb hh (fun q hh => qz_s69_ok n _ _ _ hh)))⟩)⟩)
theorem qz_seq_wp {post : Int32 → St2 → Prop} {l5 : List Int64} {l6 : List Int32} (hh : qz_W (qz_seq h m l1 l2 l3 l4 l5 l6) (fun q => post (h - 1) (h - 1, m + 1, e, (qz_i l2 (h - 2).toNatClampNeg) - 1 + qz_i l2 (h - 1).toNatClampNeg, st, f, g, qz_i l1, qz_i q.1, qz_l q.2.1, qz_i q.2.2.1, qz_l q.2.2.2.1, qz_i q.2.2.2.2, a7, a8, a9))) : wpX_seq post (h, m, e, jn, st, f, g, qz_i l1, qz_i l2, qz_l l3, qz_i l4, qz_l l5, qz_i l6, a7, a8, a9) := by
  unfold qz_seq at hh
  unfold wpX_seq wpX_refused
  exact qz_wif hh (fun _ hh => False.elim hh) (fun _ hh => qz_wif hh (fun _ hh => br_t (by decide) ⟨(qz_wg hh).1, nm_e ⟨(qz_wg (qz_wg hh).2).1, nm_e ⟨(qz_wg hh).1, nm_e ⟨(qz_wg hh).1, nm_e ⟨20, qz_s69_ok 20 0 _ _ (qz_wb (qz_wg (qz_wg hh).2).2 (fun q hh => hh))⟩⟩⟩⟩⟩) (fun _ hh => False.elim hh))
theorem qz_spread_ok {post : Int64 → Prop} {x1 : Int64} {x3 x4 : Int32} : ∀ (n : Nat) (x5 : Int64) (x7 : Int32), qz_W (qz_spread x1 x3 x4 n x5 x7) post → wX_spread_6 post x1 x3 x4 h m e jn st f g a1 a2 a3 a4 a5 a6 a7 a8 a9 n x5 x7
  | 0, _, _, hh => False.elim hh
  | n + 1, x5, x7, hh => qz_wif hh (fun _ hh => hh) (fun _ hh => qz_wif hh (fun _ hh => nm_e (nm_e (qz_spread_ok n _ _ hh))) (fun _ hh => nm_e (qz_spread_ok n _ _ hh)))
theorem qz_spread_wp {post : Int64 → Prop} {x1 : Int64} {x3 x4 : Int32} (hh : qz_W (qz_spread x1 x3 x4 70 0 0) post) : wpX_spread post (h, m, e, jn, st, f, g, a1, a2, a3, a4, a5, a6, a7, a8, a9) x1 x3 x4 :=
  Exists.intro 70 (qz_spread_ok 70 0 0 hh)
theorem qz_p72_ok {post : St2 → Prop} {x1 x2 x3 x4 x5 x6 : Int32} : ∀ (n : Nat) (x7 : Int32) (l5 : List Int64), qz_W (qz_p72 x1 x2 x3 x4 x5 x6 l3 n x7 l5) (fun l => post (h, m, e, jn, st, f, g, a1, a2, qz_l l3, a4, qz_l l, a6, a7, a8, a9)) → wX_pair_72 post x1 x2 x3 x4 x5 x6 h m e jn st f g n x7 a1 a2 (qz_l l3) a4 (qz_l l5) a6 a7 a8 a9
  | 0, _, _, hh => False.elim hh
  | n + 1, x7, l5, hh => qz_wif hh (fun _ hh => hh) (fun _ hh => ⟨(qz_wg hh).1, qz_spread_wp (qz_wb (qz_wg hh).2 (fun r hh => ⟨(qz_wg hh).1, nm_e ⟨(qz_wg (qz_wg hh).2).1, nm_r (qz_lu _ _ _) (nm_e (qz_p72_ok n _ _ (qz_wg (qz_wg hh).2).2))⟩⟩))⟩)
theorem qz_pair_wp {post : St2 → Prop} {p0 p1 p2 : Int32} {l5 : List Int64} {l6 : List Int32} (hh : qz_W (qz_pair h p0 p1 p2 l1 l3 l4 l5 l6) (fun q => post (h, m, e, jn, st, f, g, qz_i l1, a2, qz_l l3, qz_i l4, qz_l q.1, qz_i q.2, a7, a8, a9))) : wpX_pair post (h, m, e, jn, st, f, g, qz_i l1, a2, qz_l l3, qz_i l4, qz_l l5, qz_i l6, a7, a8, a9) p0 p1 p2 := by
  unfold qz_pair at hh
  unfold wpX_pair
  refine ⟨(qz_wg hh).1, nm_e ⟨(qz_wg (qz_wg hh).2).1, nm_e (nm_e ?_)⟩⟩
  have hq := (qz_wg (qz_wg hh).2).2
  unfold qz_p6 at hq
  exact ⟨(qz_wg hq).1, qz_wif (qz_wg (qz_wg hq).2).2 (fun _ hp => ⟨(qz_wg (qz_wg hq).2).1, nm_r (qz_iu _ _ _) ⟨5, qz_p72_ok 5 0 _ (qz_wb hp (fun l hp => hp))⟩⟩) (fun _ hp => ⟨(qz_wg hp).1, qz_wif (qz_wg hp).2 (fun _ hp => ⟨(qz_wg (qz_wg hq).2).1, nm_r (qz_iu _ _ _) ⟨5, qz_p72_ok 5 0 _ (qz_wb hp (fun l hp => hp))⟩⟩) (fun _ hp => ⟨(qz_wg (qz_wg hq).2).1, nm_r (qz_iu _ _ _) ⟨5, qz_p72_ok 5 0 _ (qz_wb hp (fun l hp => hp))⟩⟩)⟩)⟩
theorem qz_b48_ok {post : Int32 → St2 → Prop} {J : Int32 → Int32 → Int32 → Int32 → Int32 → Int32 → Int64 → Int32 → (Nat → Int32) → (Nat → Int32) → (Nat → Int64) → (Nat → Int32) → (Nat → Int64) → (Nat → Int32) → (Nat → Int64) → (Nat → Int32) → (Nat → Int64) → Prop} {x2 x3 x4 : Int32} : ∀ (n : Nat) (x5 : Int32) (l5 : List Int64) (l6 : List Int32), qz_W (qz_b48 h x3 x4 l1 l3 l4 n x5 l5 l6) (fun q => J (x4 + 1) h m e jn st f g (qz_i l1) a2 (qz_l l3) (qz_i l4) (qz_l q.1) (qz_i q.2) a7 a8 a9) → wX_both_48 post J x2 x3 x4 n x5 h m e jn st f g (qz_i l1) a2 (qz_l l3) (qz_i l4) (qz_l l5) (qz_i l6) a7 a8 a9
  | 0, _, _, _, hh => False.elim hh
  | n + 1, x5, l5, l6, hh => qz_wif hh (fun _ hh => nm_e hh) (fun _ hh => qz_pair_wp (qz_wb hh (fun q hh => nm_e (qz_b48_ok n _ _ _ hh))))
theorem qz_b39_ok {post : Int32 → St2 → Prop} {x2 x3 : Int32} : ∀ (n : Nat) (x4 : Int32) (l5 : List Int64) (l6 : List Int32), qz_W (qz_b39 h x2 x3 l1 l3 l4 n x4 l5 l6) (fun q => qz_W (qz_settle h (x2 * x3) l1 l2 l3 l4 q.1 q.2) (fun p => post (h - 1) (h - 1, m + 1, e, x2 * x3, st, f, g, qz_i l1, qz_i p.1, qz_l p.2.1, qz_i p.2.2, qz_l q.1, qz_i q.2, a7, a8, a9))) → wX_both_39 post x2 x3 n x4 h m e jn st f g (qz_i l1) (qz_i l2) (qz_l l3) (qz_i l4) (qz_l l5) (qz_i l6) a7 a8 a9
  | 0, _, _, _, hh => False.elim hh
  | n + 1, x4, l5, l6, hh => qz_wif hh (fun _ hh => nm_e (qz_settle_wp hh)) (fun _ hh => ⟨20, qz_b48_ok 20 0 _ _ (qz_wb hh (fun q hh => qz_b39_ok n _ _ _ hh))⟩)
theorem qz_both_wp {post : Int32 → St2 → Prop} {l5 : List Int64} {l6 : List Int32} (hh : qz_W (qz_both h m l1 l2 l3 l4 l5 l6) (fun q => post (h - 1) (h - 1, m + 1, e, (qz_i l2 (h - 2).toNatClampNeg) * (qz_i l2 (h - 1).toNatClampNeg), st, f, g, qz_i l1, qz_i q.1, qz_l q.2.1, qz_i q.2.2.1, qz_l q.2.2.2.1, qz_i q.2.2.2.2, a7, a8, a9))) : wpX_both post (h, m, e, jn, st, f, g, qz_i l1, qz_i l2, qz_l l3, qz_i l4, qz_l l5, qz_i l6, a7, a8, a9) := by
  unfold qz_both at hh
  unfold wpX_both wpX_refused
  exact qz_wif hh (fun _ hh => False.elim hh) (fun _ hh => qz_wif hh (fun _ hh => br_t (by decide) ⟨(qz_wg hh).1, nm_e ⟨(qz_wg (qz_wg hh).2).1, nm_e ⟨20, qz_b39_ok 20 0 _ _ (qz_wb (qz_wg (qz_wg hh).2).2 (fun q hh => qz_wb hh (fun p hh => hh)))⟩⟩⟩) (fun _ hh => False.elim hh))
theorem qz_d59_ok {post : Int32 → St2 → Prop} {J : Int32 → Int64 → (Nat → Int32) → (Nat → Int32) → (Nat → Int64) → (Nat → Int32) → (Nat → Int64) → (Nat → Int32) → (Nat → Int64) → (Nat → Int32) → (Nat → Int64) → Prop} {x1 : Int32} : ∀ (n : Nat) (x2 : Int32) (l7 : List Int64), qz_W (qz_d59 x1 l3 n x2 l7) (fun l => J (x1 + 1) f a1 a2 (qz_l l3) a4 a5 a6 (qz_l l) a8 a9) → wX_define_59 post J x1 h m e jn st f g n x2 a1 a2 (qz_l l3) a4 a5 a6 (qz_l l7) a8 a9
  | 0, _, _, hh => False.elim hh
  | n + 1, x2, l7, hh => qz_wif hh (fun _ hh => nm_e hh) (fun _ hh => ⟨(qz_wg hh).1, (qz_wg (qz_wg hh).2).1, nm_r (qz_lu _ _ _) (nm_e (qz_d59_ok n _ _ (qz_wg (qz_wg hh).2).2))⟩)
theorem qz_d28_ok {post : Int32 → St2 → Prop} : ∀ (n : Nat) (x1 : Int32) (f : Int64) (l7 : List Int64), qz_W (qz_d28 st l3 l4 n x1 f l7) (fun q => post 0 (0, 0, 0, jn, st, q.1, 0, a1, a2, qz_l l3, qz_i l4, a5, a6, qz_l q.2, a8, a9)) → wX_define_28 post h m e jn st g n x1 f a1 a2 (qz_l l3) (qz_i l4) a5 a6 (qz_l l7) a8 a9
  | 0, _, _, _, hh => False.elim hh
  | n + 1, x1, f, l7, hh => qz_wif hh (fun _ hh => hh) (fun _ hh => ⟨(qz_wg hh).1, qz_wif (qz_wg hh).2 (fun _ hh => ⟨5, qz_d59_ok 5 0 _ (qz_wb hh (fun l hh => qz_d28_ok n _ _ _ hh))⟩) (fun _ hh => nm_e ⟨5, qz_d59_ok 5 0 _ (qz_wb hh (fun l hh => qz_d28_ok n _ _ _ hh))⟩)⟩)
theorem qz_define_wp {post : Int32 → St2 → Prop} {l7 : List Int64} (hh : qz_W (qz_define h l2 l3 l4 l7) (fun q => post 0 (0, 0, 0, jn, qz_i l2 0, q.1, 0, a1, qz_i l2, qz_l l3, qz_i l4, a5, a6, qz_l q.2, a8, a9))) : wpX_define post (h, m, e, jn, st, f, g, a1, qz_i l2, qz_l l3, qz_i l4, a5, a6, qz_l l7, a8, a9) := by
  unfold qz_define at hh
  unfold wpX_define
  exact qz_wif hh (fun _ hh => nm_e ⟨20, qz_d28_ok 20 0 0 _ hh⟩) (fun _ hh => False.elim hh)
end
end
section
/-- height, made, events, joined, base, size, edge, ends, joinEdge, joinEnds: what changes ahead of define -/
abbrev qz_C : Type := Int32 × Int32 × Int32 × Int32 × List Int32 × List Int32 × List Int64 × List Int32 × List Int64 × List Int32
def qz_evC (p0 : Int32) : qz_C → Option qz_C
  | (h, m, e, jn, l1, l2, l3, l4, l5, l6) => (qz_event p0 h m e l1 l2 l3 l4).bind (fun q => some (h + 1, m + 1, e + 1, jn, q.1, q.2.1, q.2.2.1, q.2.2.2, l5, l6))
def qz_sqC : qz_C → Option qz_C
  | (h, m, e, jn, l1, l2, l3, l4, l5, l6) => (qz_seq h m l1 l2 l3 l4 l5 l6).bind (fun q => some (h - 1, m + 1, e, (qz_i l2 (h - 2).toNatClampNeg) - 1 + qz_i l2 (h - 1).toNatClampNeg, l1, q.1, q.2.1, q.2.2.1, q.2.2.2.1, q.2.2.2.2))
def qz_boC : qz_C → Option qz_C
  | (h, m, e, jn, l1, l2, l3, l4, l5, l6) => (qz_both h m l1 l2 l3 l4 l5 l6).bind (fun q => some (h - 1, m + 1, e, (qz_i l2 (h - 2).toNatClampNeg) * (qz_i l2 (h - 1).toNatClampNeg), l1, q.1, q.2.1, q.2.2.1, q.2.2.2.1, q.2.2.2.2))
/-- both's answer, then states, finals and move as define leaves them -/
def qz_dfC : qz_C → Option (Int32 × Int32 × Int64 × List Int64)
  | (h, m, e, jn, l1, l2, l3, l4, l5, l6) => (qz_define h l2 l3 l4 []).bind (fun q => some (h, qz_i l2 0, q.1, q.2))
def qz_bld (k0 k1 k2 k3 : Int32) : Option (Int32 × Int32 × Int64 × List Int64) :=
  (qz_evC k0 (0, 0, 0, 0, [], [], [], [], [], [])).bind (fun c => (qz_evC k1 c).bind (fun c => (qz_sqC c).bind (fun c => (qz_evC k2 c).bind (fun c => (qz_evC k3 c).bind (fun c => (qz_sqC c).bind (fun c => (qz_boC c).bind qz_dfC))))))
section
variable {h m e jn : Int32} {l1 l2 : List Int32} {l3 : List Int64} {l4 : List Int32} {l5 : List Int64} {l6 : List Int32}
theorem qz_evC_wp {post : Int32 → St2 → Prop} {p0 : Int32} {R : qz_C → Prop} (hh : qz_W (qz_evC p0 (h, m, e, jn, l1, l2, l3, l4, l5, l6)) R) (q : ∀ (h m e jn : Int32) (l1 l2 : List Int32) (l3 : List Int64) (l4 : List Int32) (l5 : List Int64) (l6 : List Int32), R (h, m, e, jn, l1, l2, l3, l4, l5, l6) → post h (h, m, e, jn, 1, 1, 0, qz_i l1, qz_i l2, qz_l l3, qz_i l4, qz_l l5, qz_i l6, qz_l [], qz_i [], qz_l [1])) : wpX_event post (h, m, e, jn, 1, 1, 0, qz_i l1, qz_i l2, qz_l l3, qz_i l4, qz_l l5, qz_i l6, qz_l [], qz_i [], qz_l [1]) p0 :=
  qz_event_wp (qz_wb hh (fun _ hh => q _ _ _ _ _ _ _ _ _ _ hh))
theorem qz_sqC_wp {post : Int32 → St2 → Prop} {R : qz_C → Prop} (hh : qz_W (qz_sqC (h, m, e, jn, l1, l2, l3, l4, l5, l6)) R) (q : ∀ (h m e jn : Int32) (l1 l2 : List Int32) (l3 : List Int64) (l4 : List Int32) (l5 : List Int64) (l6 : List Int32), R (h, m, e, jn, l1, l2, l3, l4, l5, l6) → post h (h, m, e, jn, 1, 1, 0, qz_i l1, qz_i l2, qz_l l3, qz_i l4, qz_l l5, qz_i l6, qz_l [], qz_i [], qz_l [1])) : wpX_seq post (h, m, e, jn, 1, 1, 0, qz_i l1, qz_i l2, qz_l l3, qz_i l4, qz_l l5, qz_i l6, qz_l [], qz_i [], qz_l [1]) :=
  qz_seq_wp (qz_wb hh (fun _ hh => q _ _ _ _ _ _ _ _ _ _ hh))
theorem qz_boC_wp {post : Int32 → St2 → Prop} {R : qz_C → Prop} (hh : qz_W (qz_boC (h, m, e, jn, l1, l2, l3, l4, l5, l6)) R) (q : ∀ (h m e jn : Int32) (l1 l2 : List Int32) (l3 : List Int64) (l4 : List Int32) (l5 : List Int64) (l6 : List Int32), R (h, m, e, jn, l1, l2, l3, l4, l5, l6) → post h (h, m, e, jn, 1, 1, 0, qz_i l1, qz_i l2, qz_l l3, qz_i l4, qz_l l5, qz_i l6, qz_l [], qz_i [], qz_l [1])) : wpX_both post (h, m, e, jn, 1, 1, 0, qz_i l1, qz_i l2, qz_l l3, qz_i l4, qz_l l5, qz_i l6, qz_l [], qz_i [], qz_l [1]) :=
  qz_both_wp (qz_wb hh (fun _ hh => q _ _ _ _ _ _ _ _ _ _ hh))
theorem qz_dfC_wp {post : Int32 → St2 → Prop} {R : Int32 × Int32 × Int64 × List Int64 → Prop} (hh : qz_W (qz_dfC (h, m, e, jn, l1, l2, l3, l4, l5, l6)) R) (q : ∀ (st : Int32) (f : Int64) (l7 : List Int64), R (h, st, f, l7) → post 0 (0, 0, 0, jn, st, f, 0, qz_i l1, qz_i l2, qz_l l3, qz_i l4, qz_l l5, qz_i l6, qz_l l7, qz_i [], qz_l [1])) : wpX_define post (h, m, e, jn, 1, 1, 0, qz_i l1, qz_i l2, qz_l l3, qz_i l4, qz_l l5, qz_i l6, qz_l [], qz_i [], qz_l [1]) :=
  qz_define_wp (qz_wb hh (fun _ hh => q _ _ _ hh))
end
end
section
/-- move, by the first name: nine states (s, t), the lower chain in s, the upper in t -/
def qz_T : Nat → List Int64
  | 0 => [8, 0, 2, 0, 16, 0, 0, 4, 32, 0, 0, 0, 0, 64, 16, 0, 0, 128, 0, 32, 0, 256, 0, 0, 0, 0, 128, 0, 0, 0, 0, 256, 0, 0, 0, 0]
  | 1 => [0, 8, 0, 2, 4, 16, 0, 0, 0, 32, 0, 0, 0, 0, 64, 16, 32, 0, 128, 0, 0, 0, 256, 0, 0, 0, 0, 128, 256, 0, 0, 0, 0, 0, 0, 0]
  | 2 => [2, 0, 8, 0, 0, 4, 16, 0, 0, 0, 32, 0, 16, 0, 0, 64, 0, 32, 0, 128, 0, 0, 0, 256, 128, 0, 0, 0, 0, 256, 0, 0, 0, 0, 0, 0]
  | _ => [0, 2, 0, 8, 0, 0, 4, 16, 0, 0, 0, 32, 64, 16, 0, 0, 128, 0, 32, 0, 256, 0, 0, 0, 0, 128, 0, 0, 0, 0, 256, 0, 0, 0, 0, 0]
/-- the set of the one state (i, j) -/
def qz_B (i j : Nat) : Int64 := Int64.ofNat (2 ^ (3 * i + j))
def qz_x9 (k i : Nat) : Int32 := (nI k + nI i) &&& 3
def qz_x10 (k j : Nat) : Int32 := (nI k + (2 + nI j)) &&& 3
def qz_due (x6 x7 x9 x10 : Int32) : Int32 := (if 2 ≤ x6 then 0 else (1 : Int32) <<< (x9 &&& 31)) ||| (if 2 ≤ x7 then 0 else (1 : Int32) <<< (x10 &&& 31))
def qz_lst (x6 x7 x9 x10 : Int32) : Int32 := if 2 ≤ x6 then x10 else if x7 = 2 then x9 else if x10 ≤ x9 then x10 else x9
/-- what is answered at (i, j), and where the two names lead -/
def qz_F (k i j : Nat) : Bool :=
  decide (qz_next (qz_T k) 9 (qz_B i j) 5 0 0 = some (qz_due (nI i) (nI j) (qz_x9 k i) (qz_x10 k j))) && (decide (qz_least (qz_T k) 9 (qz_B i j) 0 20 256 0 = some (4 - nI (i + j))) && (decide (qz_adv (qz_T k) 9 256 (qz_B i j) = some (qz_lst (nI i) (nI j) (qz_x9 k i) (qz_x10 k j))) && ((decide (2 ≤ i) || decide (qz_step (qz_T k) 9 (qz_B i j) (qz_x9 k i) 20 0 0 = some (qz_B (i + 1) j))) && (decide (2 ≤ j) || decide (qz_step (qz_T k) 9 (qz_B i j) (qz_x10 k j) 20 0 0 = some (qz_B i (j + 1)))))))
/-- the same at the end -/
def qz_E (k : Nat) : Bool :=
  decide (qz_next (qz_T k) 9 (qz_B 2 2) 5 0 0 = some 0) && (decide (qz_need (qz_T k) 9 256 (qz_B 2 2) 5 0 0 = some 0) && (decide (qz_adv (qz_T k) 9 256 (qz_B 2 2) = some (-4)) && decide (¬ (qz_B 2 2 &&& 256) = 0)))
theorem qz_E_all : ∀ k, k < 4 → qz_E k = true := by decide +kernel
theorem qz_F_all : ∀ k, k < 4 → ∀ i, i < 3 → ∀ j, j < 3 → i + j < 4 → qz_F k i j = true := by decide +kernel
def qz_bok (o : Option (Int32 × Int32 × Int64 × List Int64)) (k : Nat) : Bool := match o with
  | none => false
  | some (a, b, c, l) => decide (a = 1) && (decide (b = 9) && (decide (c = 256) && decide (l = qz_T k)))
theorem qz_bok_all : ∀ k, k < 4 → qz_bok (qz_bld (nI k) ((nI k + 1) &&& 3) ((nI k + 2) &&& 3) ((nI k + 3) &&& 3)) k = true := by decide +kernel
theorem qz_bok_ok {o : Option (Int32 × Int32 × Int64 × List Int64)} {k : Nat} (hh : qz_bok o k = true) : qz_W o (fun q => q = (1, 9, 256, qz_T k)) := by
  cases o with
  | none => exact absurd (show false = true from hh) (by decide)
  | some q =>
    obtain ⟨a, b, c, l⟩ := q
    unfold qz_bok at hh
    dsimp only at hh
    rw [Bool.and_eq_true, Bool.and_eq_true, Bool.and_eq_true, decide_eq_true_iff, decide_eq_true_iff, decide_eq_true_iff, decide_eq_true_iff] at hh
    obtain ⟨e1, e2, e3, e4⟩ := hh
    subst e1 e2 e3 e4
    exact rfl
theorem qz_n7 : ∀ t, t < 4 → ¬ nI t = 7 := by decide +kernel
theorem qz_n4 : ∀ t, t < 4 → ¬ 4 ≤ nI t := by decide +kernel
theorem qz_e2 : ∀ j, j < 3 → (nI j = 2 ↔ j = 2) := by decide +kernel
theorem qz_l2 : ∀ i, i < 3 → (2 ≤ nI i ↔ 2 ≤ i) := by decide +kernel
theorem qz_B0 : ∀ i, i < 3 → ∀ j, j < 3 → ¬ qz_B i j = 0 := by decide +kernel
theorem qz_9r : ∀ k, k < 4 → ∀ i, i < 3 → ¬ qz_x9 k i < 0 ∧ qz_x9 k i ≤ 3 := by decide +kernel
theorem qz_10r : ∀ k, k < 4 → ∀ i, i < 3 → ¬ qz_x10 k i < 0 ∧ qz_x10 k i ≤ 3 := by decide +kernel
theorem qz_F1 {k i j : Nat} (hk : k < 4) (hi : i < 3) (hj : j < 3) (hij : i + j < 4) :
    qz_next (qz_T k) 9 (qz_B i j) 5 0 0 = some (qz_due (nI i) (nI j) (qz_x9 k i) (qz_x10 k j)) ∧ qz_least (qz_T k) 9 (qz_B i j) 0 20 256 0 = some (4 - nI (i + j)) ∧ qz_adv (qz_T k) 9 256 (qz_B i j) = some (qz_lst (nI i) (nI j) (qz_x9 k i) (qz_x10 k j)) ∧ (i < 2 → qz_step (qz_T k) 9 (qz_B i j) (qz_x9 k i) 20 0 0 = some (qz_B (i + 1) j)) ∧ (j < 2 → qz_step (qz_T k) 9 (qz_B i j) (qz_x10 k j) 20 0 0 = some (qz_B i (j + 1))) := by
  have t := qz_F_all k hk i hi j hj hij
  unfold qz_F at t
  rw [Bool.and_eq_true, Bool.and_eq_true, Bool.and_eq_true, Bool.and_eq_true, Bool.or_eq_true, Bool.or_eq_true, decide_eq_true_iff, decide_eq_true_iff, decide_eq_true_iff, decide_eq_true_iff, decide_eq_true_iff, decide_eq_true_iff, decide_eq_true_iff] at t
  exact ⟨t.1, t.2.1, t.2.2.1, fun z => t.2.2.2.1.resolve_left (Nat.not_le.mpr z), fun z => t.2.2.2.2.resolve_left (Nat.not_le.mpr z)⟩
theorem qz_E1 {k : Nat} (hk : k < 4) : qz_next (qz_T k) 9 (qz_B 2 2) 5 0 0 = some 0 ∧ qz_need (qz_T k) 9 256 (qz_B 2 2) 5 0 0 = some 0 ∧ qz_adv (qz_T k) 9 256 (qz_B 2 2) = some (-4) ∧ ¬ (qz_B 2 2 &&& 256) = 0 := by
  have t := qz_E_all k hk
  unfold qz_E at t
  rw [Bool.and_eq_true, Bool.and_eq_true, Bool.and_eq_true, decide_eq_true_iff, decide_eq_true_iff, decide_eq_true_iff, decide_eq_true_iff] at t
  exact t
/-- a name depends on the start's two lowest bits alone -/
theorem qz_nmk {p0 : Int32} {k : Nat} (hp : p0 &&& 3 = nI k) (x : Int32) : (p0 + x) &&& 3 = (nI k + x) &&& 3 := by
  have h3 : (3 : Int32).toBitVec.toNat = 2 ^ 2 - 1 := by decide
  rw [← hp, pk_and (p0 + x) 2 h3, pk_and ((p0 &&& 3) + x) 2 h3, pk_and p0 2 h3]
  have h1 : (p0 + x).toBitVec.toNat = (p0.toBitVec.toNat + x.toBitVec.toNat) % 2 ^ 32 := by
    rw [Int32.toBitVec_add, BitVec.toNat_add]
  have h2 : (nI (p0.toBitVec.toNat % 2 ^ 2) + x).toBitVec.toNat = (p0.toBitVec.toNat % 2 ^ 2 + x.toBitVec.toNat) % 2 ^ 32 := by
    rw [Int32.toBitVec_add, BitVec.toNat_add, pk_tn (by omega)]
  rw [h1, h2]
  congr 1
  omega
end
section
section
variable {post : Int32 → St0 → Prop} {mc ms kc ks : Nat} {J : Int32 → Int32 → Int32 → Int32 → Int32 → Int32 → Int32 → Int32 → Int32 → Int64 → Int32 → (Nat → Int32) → (Nat → Int32) → (Nat → Int64) → (Nat → Int32) → (Nat → Int64) → (Nat → Int32) → (Nat → Int64) → (Nat → Int32) → (Nat → Int64) → Prop} {p0 p1 : Int32} {h m e jn st : Int32} {f : Int64} {g : Int32} {a1 a2 : Nat → Int32} {a3 : Nat → Int64} {a4 : Nat → Int32} {a5 : Nat → Int64} {a6 : Nat → Int32} {a7 : Nat → Int64} {a8 : Nat → Int32} {a9 : Nat → Int64} {T : List Int64}
theorem qz_nm {P : Int32 → Prop} {x y : Int32} (ey : (p0 + x) &&& 3 = y) (hh : P y) : wpL_name P () p0 x := by
  unfold wpL_name
  rw [ey]
  exact hh
theorem qz_L283 {x6 x7 x8 x13 z0 : Int32} (H0 : x13 = 0 → J z0 x6 (x7 + 1) (x8 + 1) h m e jn st f g a1 a2 a3 a4 a5 a6 a7 a8 a9) (H1 : ¬ x13 = 0 → J z0 (x6 + 1) x7 (x8 + 1) h m e jn st f g a1 a2 a3 a4 a5 a6 a7 a8 a9) : wL_lawOf_283 post mc ms J p0 p1 x6 x7 x8 x13 z0 kc ks h m e jn st f g a1 a2 a3 a4 a5 a6 a7 a8 a9 := by
  unfold wL_lawOf_283 wL_lawOf_299
  exact br_c (fun c => br_t c (nm_e (nm_e (H0 c)))) (fun c => br_f c (nm_e (H1 c)))
theorem qz_L236 {x6 x7 x11 x12 x13 x14 x15 x16 z0 : Int32} {t : Nat} {r : Int64} (ht : t < 4) (hn : x14 = x11) (hr : x15 = 4 - nI t) (ha : x16 = x12) (hs : qz_step T 9 (a9 t) z0 20 0 0 = some r) (r0 : ¬ r = 0) (z1 : ¬ z0 < 0) (z3 : z0 ≤ 3)
    (H0 : x13 = 0 → J 1 x6 (x7 + 1) (nI t + 1) h m e jn 9 256 (nI (t + 1)) a1 a2 a3 a4 a5 a6 (qz_l T) (upd a8 t z0) (vp_updL a9 (t + 1) r))
    (H1 : ¬ x13 = 0 → J 1 (x6 + 1) x7 (nI t + 1) h m e jn 9 256 (nI (t + 1)) a1 a2 a3 a4 a5 a6 (qz_l T) (upd a8 t z0) (vp_updL a9 (t + 1) r)) :
    wL_lawOf_236 post mc ms J p0 p1 1 x6 x7 (nI t) x11 x12 x13 x14 x15 x16 z0 kc ks h m e jn 9 256 (nI t) a1 a2 a3 a4 a5 a6 (qz_l T) a8 a9 := by
  have hc : (nI t).toNatClampNeg = t := nI_clamp (by omega)
  have hc1 : (nI (t + 1)).toNatClampNeg = t + 1 := nI_clamp (by omega)
  have hg : vp_in (nI t) 8 := vp_in_nI (by omega) (by omega)
  have hg1 : vp_in (nI (t + 1)) 8 := vp_in_nI (by omega) (by omega)
  unfold wL_lawOf_236 wpX_feed
  refine br_f z1 (br_t z3 (br_f (qz_n7 t ht) ⟨hg, qz_step_wp (qz_we (by rw [hc]; exact hs) (br_f r0 ⟨hg, nm_r (e' := upd a8 t z0) (by rw [hc]) (nm_r (nI_1 t) ⟨hg1, nm_r (e' := vp_updL a9 (t + 1) r) (by rw [hc1]) ?_⟩)⟩))⟩))
  exact br_f (by decide) (br_t hn (br_t hr (br_t ha (br_t (nI_1 t).symm (qz_L283 H0 H1)))))
theorem qz_L202 {k i j : Nat} {x11 x12 z0 : Int32} (hk : k < 4) (hi : i < 3) (hj : j < 3) (hij : i + j < 4) (ha9 : a9 (i + j) = qz_B i j) (h11 : x11 = qz_due (nI i) (nI j) (qz_x9 k i) (qz_x10 k j)) (h12 : x12 = qz_lst (nI i) (nI j) (qz_x9 k i) (qz_x10 k j)) (Hl : ¬ z0 = 0 → i < 2) (Hr : z0 = 0 → j < 2)
    (HJ : ∀ (i' j' : Nat) (a8 : Nat → Int32) (a9 : Nat → Int64), i' < 3 → j' < 3 → i' + j' = i + j + 1 → a9 (i' + j') = qz_B i' j' → J 1 (nI i') (nI j') (nI (i' + j')) h m e jn 9 256 (nI (i' + j')) a1 a2 a3 a4 a5 a6 (qz_l (qz_T k)) a8 a9) :
    wL_lawOf_202 post mc ms J p0 p1 1 (nI i) (nI j) (nI (i + j)) (qz_x9 k i) (qz_x10 k j) x11 x12 z0 kc ks h m e jn 9 256 (nI (i + j)) a1 a2 a3 a4 a5 a6 (qz_l (qz_T k)) a8 a9 := by
  have hc : (nI (i + j)).toNatClampNeg = i + j := nI_clamp (by omega)
  have hg : vp_in (nI (i + j)) 8 := vp_in_nI (by omega) (by omega)
  obtain ⟨F1, F2, F3, F4, F5⟩ := qz_F1 hk hi hj hij
  unfold wL_lawOf_202
  refine qz_next_wp hg (qz_we (by rw [hc, ha9]; exact F1) (qz_rem_wp hg (qz_we (by rw [hc, ha9]; exact F2) (qz_adv_wp hg (qz_we (by rw [hc, ha9]; exact F3) (br_c (fun c => ?_) (fun c => ?_)))))))
  · have hj2 := Hr c
    have t := HJ i (j + 1) (upd a8 (i + j) (qz_x10 k j)) (vp_updL a9 (i + j + 1) (qz_B i (j + 1))) hi (by omega) (by omega) pk_uLs
    refine qz_L236 (T := qz_T k) (r := qz_B i (j + 1)) hij h11.symm rfl h12.symm (by rw [ha9]; exact F5 hj2) (qz_B0 i hi (j + 1) (by omega)) (qz_10r k hk j hj).1 (qz_10r k hk j hj).2 (fun _ => ?_) (fun z => absurd c z)
    rw [nI_1, nI_1]
    exact t
  · have hi2 := Hl c
    have e1 : i + 1 + j = i + j + 1 := by omega
    have t := HJ (i + 1) j (upd a8 (i + j) (qz_x9 k i)) (vp_updL a9 (i + j + 1) (qz_B (i + 1) j)) (by omega) hj (by omega) (by rw [e1]; exact pk_uLs)
    rw [e1] at t
    refine qz_L236 (T := qz_T k) (r := qz_B (i + 1) j) hij h11.symm rfl h12.symm (by rw [ha9]; exact F4 hi2) (qz_B0 (i + 1) (by omega) j hj) (qz_9r k hk i hi).1 (qz_9r k hk i hi).2 (fun z => absurd z c) (fun _ => ?_)
    rw [nI_1, nI_1]
    exact t
theorem qz_L174 {k i j : Nat} {x11 x12 : Int32} (hk : k < 4) (hi : i < 3) (hj : j < 3) (hij : i + j < 4) (ha9 : a9 (i + j) = qz_B i j) (h11 : x11 = qz_due (nI i) (nI j) (qz_x9 k i) (qz_x10 k j)) (h12 : x12 = qz_lst (nI i) (nI j) (qz_x9 k i) (qz_x10 k j))
    (HJ : ∀ (i' j' : Nat) (a8 : Nat → Int32) (a9 : Nat → Int64), i' < 3 → j' < 3 → i' + j' = i + j + 1 → a9 (i' + j') = qz_B i' j' → J 1 (nI i') (nI j') (nI (i' + j')) h m e jn 9 256 (nI (i' + j')) a1 a2 a3 a4 a5 a6 (qz_l (qz_T k)) a8 a9) :
    wL_lawOf_174 post mc ms J p0 p1 1 (nI i) (nI j) (nI (i + j)) (qz_x9 k i) (qz_x10 k j) x11 x12 kc ks h m e jn 9 256 (nI (i + j)) a1 a2 a3 a4 a5 a6 (qz_l (qz_T k)) a8 a9 := by
  unfold wL_lawOf_174 wL_lawOf_197 wL_lawOf_201
  refine br_c (fun c => ?_) (fun c => br_c (fun d => ?_) (fun d => br_c (fun _ => ?_) (fun _ => ?_)))
  · have := (qz_e2 j hj).mp c
    exact qz_L202 hk hi hj hij ha9 h11 h12 (fun _ => by omega) (fun z => absurd z (by decide)) HJ
  · have t : ¬ j = 2 := fun z => c ((qz_e2 j hj).mpr z)
    exact qz_L202 hk hi hj hij ha9 h11 h12 (fun z => absurd rfl z) (fun _ => by omega) HJ
  · have t : ¬ 2 ≤ i := fun z => d ((qz_l2 i hi).mpr z)
    exact qz_L202 hk hi hj hij ha9 h11 h12 (fun _ => by omega) (fun z => absurd z (by decide)) HJ
  · have t : ¬ j = 2 := fun z => c ((qz_e2 j hj).mpr z)
    exact qz_L202 hk hi hj hij ha9 h11 h12 (fun z => absurd rfl z) (fun _ => by omega) HJ
theorem qz_L145 {k i j : Nat} {z0 z1 : Int32} (hk : k < 4) (hi : i < 3) (hj : j < 3) (hij : i + j < 4) (ha9 : a9 (i + j) = qz_B i j) (h11 : z1 ||| z0 = qz_due (nI i) (nI j) (qz_x9 k i) (qz_x10 k j))
    (HJ : ∀ (i' j' : Nat) (a8 : Nat → Int32) (a9 : Nat → Int64), i' < 3 → j' < 3 → i' + j' = i + j + 1 → a9 (i' + j') = qz_B i' j' → J 1 (nI i') (nI j') (nI (i' + j')) h m e jn 9 256 (nI (i' + j')) a1 a2 a3 a4 a5 a6 (qz_l (qz_T k)) a8 a9) :
    wL_lawOf_145 post mc ms J p0 p1 1 (nI i) (nI j) (nI (i + j)) (qz_x9 k i) (qz_x10 k j) z0 z1 kc ks h m e jn 9 256 (nI (i + j)) a1 a2 a3 a4 a5 a6 (qz_l (qz_T k)) a8 a9 := by
  unfold wL_lawOf_145 wL_lawOf_172 wL_lawOf_167
  refine nm_e (br_c (fun c => ?_) (fun c => br_c (fun d => ?_) (fun d => br_c (fun b => ?_) (fun b => ?_))))
  · exact qz_L174 hk hi hj hij ha9 h11 (by unfold qz_lst; rw [if_pos c]) HJ
  · exact qz_L174 hk hi hj hij ha9 h11 (by unfold qz_lst; rw [if_neg c, if_pos d]) HJ
  · exact qz_L174 hk hi hj hij ha9 h11 (by unfold qz_lst; rw [if_neg c, if_neg d, if_pos b]) HJ
  · exact qz_L174 hk hi hj hij ha9 h11 (by unfold qz_lst; rw [if_neg c, if_neg d, if_neg b]) HJ
theorem qz_L131 {k i j : Nat} {z0 : Int32} (hk : k < 4) (hi : i < 3) (hj : j < 3) (hij : i + j < 4) (ha9 : a9 (i + j) = qz_B i j) (hz : z0 = if 2 ≤ nI i then 0 else (1 : Int32) <<< (qz_x9 k i &&& 31))
    (HJ : ∀ (i' j' : Nat) (a8 : Nat → Int32) (a9 : Nat → Int64), i' < 3 → j' < 3 → i' + j' = i + j + 1 → a9 (i' + j') = qz_B i' j' → J 1 (nI i') (nI j') (nI (i' + j')) h m e jn 9 256 (nI (i' + j')) a1 a2 a3 a4 a5 a6 (qz_l (qz_T k)) a8 a9) :
    wL_lawOf_131 post mc ms J p0 p1 1 (nI i) (nI j) (nI (i + j)) (qz_x9 k i) (qz_x10 k j) z0 kc ks h m e jn 9 256 (nI (i + j)) a1 a2 a3 a4 a5 a6 (qz_l (qz_T k)) a8 a9 := by
  unfold wL_lawOf_131
  refine br_c (fun c => ?_) (fun c => ?_)
  · exact qz_L145 hk hi hj hij ha9 (by unfold qz_due; rw [← hz, if_pos c]) HJ
  · exact qz_L145 hk hi hj hij ha9 (by unfold qz_due; rw [← hz, if_neg c]) HJ
theorem qz_loop {k : Nat} (hk : k < 4) (hp : p0 &&& 3 = nI k) (h1 : post 1 ()) : ∀ (d n i j : Nat) (a8 : Nat → Int32) (a9 : Nat → Int64), i < 3 → j < 3 → i + j + d = 4 → a9 (i + j) = qz_B i j → wL_lawOf_93 post mc ms p0 p1 kc ks (n + d + 1) 1 (nI i) (nI j) (nI (i + j)) h m e jn 9 256 (nI (i + j)) a1 a2 a3 a4 a5 a6 (qz_l (qz_T k)) a8 a9
  | 0, n, i, j, a8, a9, hi, hj, hd, ha9 => by
    have e1 : i = 2 := by omega
    have e2 : j = 2 := by omega
    subst e1
    subst e2
    have hc : (nI (2 + 2)).toNatClampNeg = 2 + 2 := nI_clamp (by omega)
    have hg : vp_in (nI (2 + 2)) 8 := vp_in_nI (by omega) (by omega)
    obtain ⟨E1, E2, E3, E4⟩ := qz_E1 hk
    refine br_t (by decide) (br_f (by decide) (qz_stop_wp hg (fun z => absurd z (by rw [hc, ha9]; exact E4)) (fun _ => br_f (by decide) (qz_next_wp hg (qz_we (by rw [hc, ha9]; exact E1) (br_t rfl (qz_need_wp hg (qz_we (by rw [hc, ha9]; exact E2) (br_t rfl (qz_adv_wp hg (qz_we (by rw [hc, ha9]; exact E3) (br_t rfl h1))))))))))))
  | d + 1, n, i, j, a8, a9, hi, hj, hd, ha9 => by
    have HJ : ∀ (i' j' : Nat) (a8 : Nat → Int32) (a9 : Nat → Int64), i' < 3 → j' < 3 → i' + j' = i + j + 1 → a9 (i' + j') = qz_B i' j' → wL_lawOf_93 post mc ms p0 p1 kc ks (n + d + 1) 1 (nI i') (nI j') (nI (i' + j')) h m e jn 9 256 (nI (i' + j')) a1 a2 a3 a4 a5 a6 (qz_l (qz_T k)) a8 a9 :=
      fun i' j' a8 a9 b1 b2 b3 b4 => qz_loop hk hp h1 d n i' j' a8 a9 b1 b2 (by omega) b4
    have hij : i + j < 4 := by omega
    exact br_f (qz_n4 (i + j) hij) (qz_nm (qz_nmk hp (nI i)) (qz_nm (qz_nmk hp (2 + nI j)) (br_c (fun c => qz_L131 hk hi hj hij ha9 (by rw [if_pos c]) HJ) (fun c => qz_L131 hk hi hj hij ha9 (by rw [if_neg c]; rfl) HJ))))
end
end
section
theorem qz_lawOf {post : Int32 → St0 → Prop} (p0 p1 : Int32) (h1 : post 1 ()) : wpL_lawOf post 10 1024 () p0 p1 := by
  obtain ⟨k, hk, hp⟩ := pk_andE p0 (m := 3) 2 (by decide)
  have hb : qz_W (qz_bld (p0 &&& 3) ((p0 + 1) &&& 3) ((p0 + 2) &&& 3) ((p0 + 3) &&& 3)) (fun q => q = (1, 9, 256, qz_T k)) := by
    rw [qz_nmk hp 1, qz_nmk hp 2, qz_nmk hp 3, hp]
    exact qz_bok_ok (qz_bok_all k hk)
  unfold qz_bld at hb
  unfold wpL_lawOf
  refine ⟨by decide, by decide, 9, 1008, by decide, by decide, ?_⟩
  unfold wpX_init
  refine ⟨by decide, by decide, by decide, by decide, by decide, by decide, by decide, by decide, by decide, by decide, by decide, by decide, by decide, by decide, by decide, by decide, by decide, by decide, nm_r (e' := qz_l [1]) (qz_lu [] 0 1) ?_⟩
  refine qz_evC_wp (l1 := []) (l2 := []) (l3 := []) (l4 := []) (l5 := []) (l6 := []) (qz_wb hb (fun _ hb => hb)) (fun h m e jn l1 l2 l3 l4 l5 l6 hb => ?_)
  refine qz_nm (y := (p0 + 1) &&& 3) rfl ?_
  refine qz_evC_wp (qz_wb hb (fun _ hb => hb)) (fun h m e jn l1 l2 l3 l4 l5 l6 hb => ?_)
  refine qz_sqC_wp (qz_wb hb (fun _ hb => hb)) (fun h m e jn l1 l2 l3 l4 l5 l6 hb => ?_)
  refine qz_nm (y := (p0 + 2) &&& 3) rfl ?_
  refine qz_evC_wp (qz_wb hb (fun _ hb => hb)) (fun h m e jn l1 l2 l3 l4 l5 l6 hb => ?_)
  refine qz_nm (y := (p0 + 3) &&& 3) rfl ?_
  refine qz_evC_wp (qz_wb hb (fun _ hb => hb)) (fun h m e jn l1 l2 l3 l4 l5 l6 hb => ?_)
  refine qz_sqC_wp (qz_wb hb (fun _ hb => hb)) (fun h m e jn l1 l2 l3 l4 l5 l6 hb => ?_)
  refine qz_boC_wp (qz_wb hb (fun _ hb => hb)) (fun h m e jn l1 l2 l3 l4 l5 l6 hb => ?_)
  refine qz_dfC_wp hb (fun st f l7 hq => ?_)
  have q1 : h = 1 := congrArg (fun q => q.1) hq
  have q2 : st = 9 := congrArg (fun q => q.2.1) hq
  have q3 : f = 256 := congrArg (fun q => q.2.2.1) hq
  have q4 : l7 = qz_T k := congrArg (fun q => q.2.2.2) hq
  subst q1
  subst q2
  subst q3
  subst q4
  exact br_t rfl (br_t rfl ⟨5, qz_loop hk hp h1 4 0 0 0 _ _ (by omega) (by omega) (by omega) (by decide)⟩)
theorem i_vc (xs : Nat → Int32) (L : Nat) (hL : L ≤ 2) : wpL_law (fun r => r = 1) L xs := by
  have H : ∀ r1 r2 : Int32, ∃ mc_4 ms_5 : Nat, 0 + mc_4 ≤ 898 ∧ 0 + ms_5 ≤ 14368 ∧ (wpL_lawOf (fun r_3 _ => r_3 = 1) mc_4 ms_5 () r1 r2) :=
    fun r1 r2 => ⟨10, 1024, by decide, by decide, qz_lawOf r1 r2 rfl⟩
  have B : ∀ p : Nat, p < 2 → ¬ Int32.ofNat L ≤ nI p → vp_in (nI p) L := by
    intro p hp c
    refine vp_in_nI ?_ (by omega)
    refine Nat.lt_of_not_le (fun z => c ?_)
    exact nI_le z (by omega)
  unfold wpL_law wpL_cellAt
  exact br_c (fun _ => br_c (fun _ => H _ _) (fun c => ⟨B 1 (by decide) c, H _ _⟩)) (fun c => ⟨B 0 (by decide) c, br_c (fun _ => H _ _) (fun c => ⟨B 1 (by decide) c, H _ _⟩)⟩)
end
