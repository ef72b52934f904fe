section
/-- the picture: plain functions of naturals -/
def mm_up {α : Type} (f : Nat → α) (k : Nat) (v : α) : Nat → α := fun j => bif Nat.beq j k then v else f j
theorem mm_us {α : Type} {f : Nat → α} {k : Nat} {v : α} : mm_up f k v k = v := by
  unfold mm_up
  rw [Nat.beq_refl]
  rfl
theorem mm_un {α : Type} {f : Nat → α} {k j : Nat} {v : α} (h : j ≠ k) : mm_up f k v j = f j := by
  unfold mm_up
  cases e : Nat.beq j k
  · rfl
  · exact absurd (Nat.eq_of_beq_eq_true e) h
def mm_ck {α : Type} (c : Bool) (x : Option α) : Option α := bif c then x else none
theorem mm_ckS {α : Type} {c : Bool} {x : Option α} {y : α} (h : mm_ck c x = some y) : c = true ∧ x = some y := by
  cases c
  · exact absurd h (fun z => nomatch z)
  · exact ⟨rfl, h⟩
theorem mm_bT {α : Type} {c : Bool} {x y : Option α} {z : α} (hc : c = true) (h : (bif c then x else y) = some z) : x = some z := by
  subst hc
  exact h
theorem mm_bF {α : Type} {c : Bool} {x y : Option α} {z : α} (hc : c = false) (h : (bif c then x else y) = some z) : y = some z := by
  subst hc
  exact h
theorem mm_beqT {a b : Nat} (h : a = b) : Nat.beq a b = true := by
  rw [h, Nat.beq_refl]
theorem mm_beqF {a b : Nat} (h : a ≠ b) : Nat.beq a b = false := by
  cases e : Nat.beq a b
  · rfl
  · exact absurd (Nat.eq_of_beq_eq_true e) h
theorem mm_bleF {a b : Nat} (h : b < a) : Nat.ble a b = false := by
  cases e : Nat.ble a b
  · rfl
  · exact absurd (Nat.le_of_ble_eq_true e) (by omega)
theorem mm_bdS {α β : Type} {x : Option α} {f : α → Option β} {y : β} (h : x.bind f = some y) : ∃ z, x = some z ∧ f z = some y := by
  cases x with
  | none => exact absurd h (fun z => nomatch z)
  | some z => exact ⟨z, rfl, h⟩
theorem mm_ltB {a b : Nat} (h : Nat.ble (a + 1) b = true) : a < b := Nat.le_of_ble_eq_true h
theorem mm_leB {a b : Nat} (h : Nat.ble a b = true) : a ≤ b := Nat.le_of_ble_eq_true h
theorem mm_gtB {a b : Nat} (h : Nat.ble a b = false) : b < a := by
  rcases Nat.lt_or_ge b a with z | z
  · exact z
  · rw [Nat.ble_eq_true_of_le z] at h
    exact absurd h (fun z => nomatch z)
theorem mm_eqB {a b : Nat} (h : Nat.beq a b = true) : a = b := Nat.eq_of_beq_eq_true h
theorem mm_neB {a b : Nat} (h : Nat.beq a b = false) : a ≠ b := Nat.ne_of_beq_eq_false h
theorem mm_andS {a b : Bool} (h : (a && b) = true) : a = true ∧ b = true := by
  cases a
  · exact absurd h (fun z => nomatch z)
  · exact ⟨rfl, h⟩
abbrev mm_Fr : Type := Nat → Nat
abbrev mm_Air : Type := Nat × (Nat → Bool) × (Nat → Nat) × (Nat → Nat) × (Nat → Nat) × (Nat → mm_Fr)
abbrev mm_Q : Type := Nat × Bool × mm_Air × ((Nat → Nat) × Bool) × ((Nat → Nat) × (Nat → Nat) × (Nat → Nat)) × ((Nat → Nat) × Nat × Nat) × (Nat → List Nat) × (Bool × Nat × Nat) × mm_Fr × mm_Fr
def mm_E (A : Nat) : Nat := (A + 3) % 8
def mm_nb (A s t : Nat) : Bool :=
  (Nat.ble ((s + 8 - A) % 8) 3 && Nat.ble ((t + 8 - A) % 8) 3) && (Nat.beq ((s + 8 - A) % 8 + 1) ((t + 8 - A) % 8) || Nat.beq ((t + 8 - A) % 8 + 1) ((s + 8 - A) % 8))
def mm_mem (x : Nat) : List Nat → Bool
  | [] => false
  | y :: l => bif Nat.beq y x then true else mm_mem x l
def mm_bg (q : mm_Q) (k f g : Nat) : mm_Q := match q with
  | (t, dn, ar, oc, wy, nm, se, sd, _, r) => (t, dn, ar, oc, wy, nm, se, sd, mm_up (mm_up (mm_up (fun _ => 0) 0 k) 1 f) 2 g, r)
def mm_wr (q : mm_Q) (k x : Nat) : mm_Q := match q with
  | (t, dn, ar, oc, wy, nm, se, sd, w, r) => (t, dn, ar, oc, wy, nm, se, sd, mm_up w k x, r)
def mm_cp (q : mm_Q) : mm_Q := match q with
  | (t, dn, ar, oc, wy, nm, se, sd, _, r) => (t, dn, ar, oc, wy, nm, se, sd, r, r)
def mm_w (q : mm_Q) : mm_Fr := match q with
  | (_, _, _, _, _, _, _, _, w, _) => w
def mm_r (q : mm_Q) : mm_Fr := match q with
  | (_, _, _, _, _, _, _, _, _, r) => r
def mm_fly (q : mm_Q) (s to due : Nat) : Option mm_Q := match q with
  | (t, dn, (n, au, sn, ta, ad, af), oc, wy, nm, se, sd, w, r) =>
    mm_ck (Nat.ble (n + 1) 1000 && (Nat.ble (due + 1) 100000 && (Nat.ble (s + 1) 8 && Nat.ble (to + 1) 8)))
      (some (t, dn, (n + 1, mm_up au n true, mm_up sn n s, mm_up ta n to, mm_up ad n due, mm_up af n w), oc, wy, nm, se, sd, w, r))
def mm_hit (os ok : Nat) (cnt : Nat → Nat) (ou : Bool) (s : Nat) : Bool := ou && (Nat.beq os s && Nat.beq ok (cnt s))
def mm_send (os ok od : Nat) (q : mm_Q) (s to : Nat) : Option mm_Q := match q with
  | (t, dn, ar, (cnt, ou), wy, nm, se, sd, w, r) =>
    mm_ck (Nat.ble (cnt s + 1) 1000 && Nat.ble (s + 1) 8)
      (bif mm_hit os ok cnt ou s then
        bif Nat.beq od 0 then some (t, dn, ar, (mm_up cnt s (cnt s + 1), false), wy, nm, se, sd, w, r)
        else bif Nat.beq od 1 then (mm_fly (t, dn, ar, (mm_up cnt s (cnt s + 1), false), wy, nm, se, sd, w, r) s to (t + 1)).bind (fun q' => mm_fly q' s to (t + 2))
        else mm_fly (t, dn, ar, (mm_up cnt s (cnt s + 1), false), wy, nm, se, sd, w, r) s to (t + 6)
      else mm_fly (t, dn, ar, (mm_up cnt s (cnt s + 1), ou), wy, nm, se, sd, w, r) s to (t + 1))
def mm_tell (A os ok od s : Nat) : Nat → Nat → mm_Q → Option mm_Q
  | 0, _, q => some q
  | m + 1, i, q => bif mm_nb A s i then (mm_send os ok od q s i).bind (fun q' => mm_tell A os ok od s m (i + 1) q') else mm_tell A os ok od s m (i + 1) q
def mm_learn (q : mm_Q) (s g nx li nu : Nat) : Option mm_Q := match q with
  | (t, dn, ar, oc, (wn, wl, wm), nm, se, sd, w, r) =>
    bif Nat.beq s g then some q
    else mm_ck ((Nat.ble (s + 1) 8 && Nat.ble (g + 1) 8) && (Nat.ble (nx + 1) 8 && (Nat.ble (li + 1) 100 && Nat.ble (nu + 1) 10000)))
      (bif Nat.ble (wm (s * 8 + g) + 1) nu || (Nat.beq nu (wm (s * 8 + g)) && (Nat.beq (wn (s * 8 + g)) 0 || Nat.ble (li + 1) (wl (s * 8 + g))))
        then some (t, dn, ar, oc, (mm_up wn (s * 8 + g) (nx + 1), mm_up wl (s * 8 + g) li, mm_up wm (s * 8 + g) nu), nm, se, sd, w, r)
        else some q)
def mm_see (q : mm_Q) (s x : Nat) : Option mm_Q := match q with
  | (t, dn, ar, oc, wy, nm, se, sd, w, r) =>
    mm_ck ((Nat.ble (s + 1) 8 && Nat.ble (x + 1) 1000) && Nat.ble ((se s).length + 1) 60) (some (t, dn, ar, oc, wy, nm, mm_up se s (se s ++ [x]), sd, w, r))
def mm_pass (A os ok od : Nat) (q : mm_Q) (s : Nat) : Option mm_Q := match q with
  | (t, dn, ar, oc, (wn, wl, wm), nm, se, sd, w, r) =>
    mm_ck (Nat.ble (s + 1) 8 && Nat.ble (w 2 + 1) 8)
      (bif Nat.beq (wn (s * 8 + w 2)) 0 then some q
        else mm_ck (mm_nb A s (wn (s * 8 + w 2) - 1)) (mm_send os ok od q s (wn (s * 8 + w 2) - 1)))
def mm_hAsk (A os ok od : Nat) (q : mm_Q) (s snd : Nat) : Option mm_Q := match q with
  | (t, dn, ar, oc, wy, nm, se, sd, w, r) =>
    mm_ck ((Nat.beq (r 1) A && Nat.ble (r 2 + 1) 8) && (Nat.ble (s + 1) 8 && Nat.ble (r 5 + 1) 1000))
      (bif mm_mem (r 5) (se s) then some q
      else (mm_see q s (r 5)).bind (fun q1 => (mm_learn q1 s A snd (r 4 + 1) (r 3)).bind (fun q2 =>
        bif Nat.beq (r 2) s then (match q2 with
          | (t, dn, ar, oc, wy, (own, qn, la), se, sd, w, r) =>
            mm_pass A os ok od (mm_wr (mm_bg (t, dn, ar, oc, wy, (mm_up own s (own s + 1), qn, la), se, sd, w, r) 1 s A) 3 (own s + 1)) s)
        else mm_tell A os ok od s 8 0 (mm_wr (mm_cp q2) 4 (r 4 + 1)))))
def mm_hTell (A os ok od : Nat) (q : mm_Q) (s snd : Nat) : Option mm_Q := match q with
  | (t, dn, ar, oc, wy, nm, se, sd, w, r) =>
    mm_ck (Nat.ble (s + 1) 8 && (Nat.ble (r 2 + 1) 8 && Nat.ble (r 1 + 1) 8))
      ((mm_learn q s (r 1) snd (r 4 + 1) (r 3)).bind (fun q1 =>
        bif Nat.beq (r 2) s then some q1 else mm_pass A os ok od (mm_wr (mm_cp q1) 4 (r 4 + 1)) s))
def mm_hPiece (A os ok od : Nat) (q : mm_Q) (s : Nat) : Option mm_Q := match q with
  | (t, dn, ar, oc, wy, nm, se, sd, w, r) =>
    mm_ck (Nat.ble (s + 1) 8 && (Nat.ble (r 2 + 1) 8 && (Nat.ble 1 (r 5) && Nat.ble (r 5) 1000)))
      (bif Nat.beq (r 2) s then
        mm_ck ((!dn && (Nat.beq (r 1) A && Nat.beq s (mm_E A))) && ((Nat.beq (r 3) 0 && Nat.beq (r 4) 0) && (Nat.beq (r 6) 1 && (Nat.beq (r 7) 1 && Nat.beq (r 8) 1))))
          (mm_pass A os ok od (mm_wr (mm_wr (mm_wr (mm_bg (t, true, ar, oc, wy, nm, se, sd, w, r) 4 s A) 3 1) 4 0) 5 8) s)
      else bif Nat.beq (r 5) 1 then some (mm_wr (mm_cp q) 5 0) else mm_pass A os ok od (mm_wr (mm_cp q) 5 (r 5 - 1)) s)
def mm_hear (A os ok od : Nat) (q : mm_Q) (s snd : Nat) : Option mm_Q :=
  bif Nat.beq (mm_r q 0) 0 then mm_hAsk A os ok od q s snd
  else bif Nat.beq (mm_r q 0) 1 then mm_hTell A os ok od q s snd
  else mm_ck (Nat.beq (mm_r q 0) 3) (mm_hPiece A os ok od q s)
def mm_slot (A os ok od : Nat) (q : mm_Q) (i : Nat) : Option mm_Q := match q with
  | (t, dn, (n, au, sn, ta, ad, af), oc, wy, nm, se, sd, w, r) =>
    bif au i && Nat.ble (ad i) t then
      mm_ck (mm_nb A (sn i) (ta i)) (mm_hear A os ok od (t, dn, (n, mm_up au i false, sn, ta, ad, af), oc, wy, nm, se, sd, w, af i) (ta i) (sn i))
    else some q
def mm_n (q : mm_Q) : Nat := match q with
  | (_, _, (n, _), _) => n
def mm_lis (A os ok od : Nat) : Nat → Nat → mm_Q → Option mm_Q
  | 0, _, q => some q
  | m + 1, i, q => bif Nat.ble (mm_n q) i then some q else (mm_slot A os ok od q i).bind (fun q' => mm_lis A os ok od m (i + 1) q')
def mm_ask (A os ok od : Nat) (q : mm_Q) : Option mm_Q := match q with
  | (t, dn, ar, oc, wy, (own, qn, la), se, sd, w, r) =>
    mm_ck (Nat.ble (la + 1) 100000)
    (bif Nat.ble la t then
      (mm_see (t, dn, ar, oc, wy, (mm_up own A (own A + 1), qn + 1, t + 24), se, sd, w, r) A (qn + 1)).bind (fun q1 =>
        mm_tell A os ok od A 8 0 (mm_wr (mm_wr (mm_wr (mm_bg q1 0 A (mm_E A)) 3 (own A + 1)) 4 0) 5 (qn + 1)))
    else some q)
def mm_piece (A : Nat) : mm_Fr := mm_up (mm_up (mm_up (mm_up (mm_up (mm_up (mm_up (mm_up (mm_up (fun _ => 0) 0 3) 1 A) 2 (mm_E A)) 3 0) 4 0) 5 8) 6 1) 7 1) 8 1
def mm_urge (A os ok od : Nat) (q : mm_Q) : Option mm_Q := match q with
  | (t, dn, ar, oc, (wn, wl, wm), nm, se, (so, st, tr), w, r) =>
    mm_ck (Nat.ble st t)
    (bif so && Nat.ble (t + 1) (st + 26) then some q
    else mm_ck (!dn) (mm_ck (!so || Nat.beq tr 0)
      (bif Nat.beq (wn (A * 8 + mm_E A)) 0 then mm_ask A os ok od (t, dn, ar, oc, (wn, wl, wm), nm, se, (false, st, bif so then 1 else 0), w, r)
      else mm_ck (mm_nb A A (wn (A * 8 + mm_E A) - 1)) (mm_pass A os ok od (t, dn, ar, oc, (wn, wl, wm), nm, se, (true, t, bif so then 1 else 0), mm_piece A, r) A))))
def mm_mom (A os ok od : Nat) (q : mm_Q) : Option mm_Q := match q with
  | (t, dn, ar, oc, wy, nm, se, sd, w, r) =>
    mm_ck (Nat.ble (t + 2) 10000) ((mm_lis A os ok od 1024 0 (t + 1, dn, ar, oc, wy, nm, se, sd, w, r)).bind (fun q1 => mm_urge A os ok od q1))
def mm_dn (q : mm_Q) : Bool := match q with
  | (_, dn, _) => dn
def mm_run (A os ok od : Nat) : Nat → mm_Q → Bool
  | 0, _ => false
  | m + 1, q => bif mm_dn q then true else match mm_mom A os ok od q with
    | none => false
    | some q' => mm_run A os ok od m q'
def mm_q0 : mm_Q := (0, false, (0, fun _ => false, fun _ => 0, fun _ => 0, fun _ => 0, fun _ _ => 0), (fun _ => 0, true), (fun _ => 0, fun _ => 0, fun _ => 0), (fun _ => 1, 0, 0), fun _ => [], (false, 0, 0), fun _ => 0, fun _ => 0)
def mm_allB (f : Nat → Bool) : Nat → Bool
  | 0 => true
  | n + 1 => f n && mm_allB f n
theorem mm_allS {f : Nat → Bool} : ∀ {n : Nat}, mm_allB f n = true → ∀ i, i < n → f i = true
  | 0, _, i, hi => absurd hi (Nat.not_lt_zero i)
  | n + 1, h, i, hi => by
    have h' := mm_andS h
    by_cases e : i = n
    · rw [e]
      exact h'.1
    · exact mm_allS h'.2 i (by omega)
end
section
theorem mm_kern0 : mm_allB (fun os => mm_allB (fun ok => mm_allB (fun od => mm_run 0 os ok od 60 mm_q0) 3) 16) 2 = true := by decide +kernel
theorem mm_kern1 : mm_allB (fun os => mm_allB (fun ok => mm_allB (fun od => mm_run 1 os ok od 60 mm_q0) 3) 16) 2 = true := by decide +kernel
theorem mm_kern2 : mm_allB (fun os => mm_allB (fun ok => mm_allB (fun od => mm_run 2 os ok od 60 mm_q0) 3) 16) 2 = true := by decide +kernel
theorem mm_kern3 : mm_allB (fun os => mm_allB (fun ok => mm_allB (fun od => mm_run 3 os ok od 60 mm_q0) 3) 16) 2 = true := by decide +kernel
theorem mm_kern4 : mm_allB (fun os => mm_allB (fun ok => mm_allB (fun od => mm_run 4 os ok od 60 mm_q0) 3) 16) 2 = true := by decide +kernel
theorem mm_kern5 : mm_allB (fun os => mm_allB (fun ok => mm_allB (fun od => mm_run 5 os ok od 60 mm_q0) 3) 16) 2 = true := by decide +kernel
theorem mm_kern6 : mm_allB (fun os => mm_allB (fun ok => mm_allB (fun od => mm_run 6 os ok od 60 mm_q0) 3) 16) 2 = true := by decide +kernel
theorem mm_kern7 : mm_allB (fun os => mm_allB (fun ok => mm_allB (fun od => mm_run 7 os ok od 60 mm_q0) 3) 16) 2 = true := by decide +kernel
theorem mm_kern : ∀ A, A < 8 → ∀ os, os < 2 → ∀ ok, ok < 16 → ∀ od, od < 3 → mm_run A os ok od 60 mm_q0 = true := by
  intro A hA os hos ok hok od hod
  have h : mm_allB (fun os => mm_allB (fun ok => mm_allB (fun od => mm_run A os ok od 60 mm_q0) 3) 16) 2 = true := by
    have hc : A = 0 ∨ A = 1 ∨ A = 2 ∨ A = 3 ∨ A = 4 ∨ A = 5 ∨ A = 6 ∨ A = 7 := by omega
    rcases hc with e | e | e | e | e | e | e | e
    · subst e
      exact mm_kern0
    · subst e
      exact mm_kern1
    · subst e
      exact mm_kern2
    · subst e
      exact mm_kern3
    · subst e
      exact mm_kern4
    · subst e
      exact mm_kern5
    · subst e
      exact mm_kern6
    · subst e
      exact mm_kern7
  exact mm_allS (mm_allS (mm_allS h os hos) ok hok) od hod
end
section
/-! numbers -/
theorem mm_m8 (s g : Nat) : nI s * 8 + nI g = nI (s * 8 + g) := by
  rw [show (8 : Int32) = nI 8 from rfl, pk_mul, nI_add]
theorem mm_m12 (s g : Nat) : nI s * 12 + nI g = nI (s * 12 + g) := by
  rw [show (12 : Int32) = nI 12 from rfl, pk_mul, nI_add]
theorem mm_m64 (s g : Nat) : nI s * 64 + nI g = nI (s * 64 + g) := by
  rw [show (64 : Int32) = nI 64 from rfl, pk_mul, nI_add]
theorem mm_p8 (s g : Nat) : nI s + 8 * nI g = nI (s + 8 * g) := by
  rw [show (8 : Int32) = nI 8 from rfl, pk_mul, nI_add]
theorem mm_b8 : ∀ s, s < 128 → (nI s).toInt8.toInt32 = nI s := by decide +kernel
theorem mm_E8 (A : Nat) : mm_E A < 8 := Nat.mod_lt _ (by decide)
/-! frames -/
def mm_val (B : Int32) (i x : Nat) : Int32 := if i = 8 then (if x = 1 then B else 0) else nI x
theorem mm_vn {B : Int32} {i x : Nat} (h : i ≠ 8) : mm_val B i x = nI x := if_neg h
theorem mm_v0 {B : Int32} {i : Nat} : mm_val B i 0 = 0 := by
  unfold mm_val
  split
  · rfl
  · rfl
theorem mm_v8 {B : Int32} : mm_val B 8 1 = B := rfl
def mm_F (B : Int32) (w : mm_Fr) (a : Nat → Int32) : Prop := ∀ i, i < 12 → a i = mm_val B i (w i)
theorem mm_Fn {B : Int32} {w : mm_Fr} {a : Nat → Int32} (h : mm_F B w a) (i : Nat) (hi : i < 12 := by decide) (h8 : i ≠ 8 := by decide) : a i = nI (w i) := by
  rw [h i hi]
  exact if_neg h8
theorem mm_Fu {B : Int32} {w : mm_Fr} {a : Nat → Int32} {k x : Nat} {v : Int32} (h : mm_F B w a) (hv : v = mm_val B k x) : mm_F B (mm_up w k x) (upd a k v) := by
  intro i hi
  by_cases e : i = k
  · subst e
    rw [pk_us, mm_us, hv]
  · rw [pk_un e, mm_un e]
    exact h i hi
theorem mm_Fun {B : Int32} {w : mm_Fr} {a : Nat → Int32} {k x : Nat} {v : Int32} (h : mm_F B w a) (hv : v = nI x) (hk : k ≠ 8 := by decide) : mm_F B (mm_up w k x) (upd a k v) :=
  mm_Fu h (hv.trans (mm_vn hk).symm)
/-! links -/
def mm_l1 (L : Nat → Int32) (a b : Nat) : Nat → Int32 :=
  upd (upd L a ((L a ||| ((1 : Int32) <<< (nI b &&& 31))).toInt8.toInt32)) b (((upd L a ((L a ||| ((1 : Int32) <<< (nI b &&& 31))).toInt8.toInt32)) b ||| ((1 : Int32) <<< (nI a &&& 31))).toInt8.toInt32)
def mm_l0 (L : Nat → Int32) (a b : Nat) : Nat → Int32 :=
  upd (upd L a ((L a &&& (((1 : Int32) <<< (nI b &&& 31)) ^^^ (-1))).toInt8.toInt32)) b (((upd L a ((L a &&& (((1 : Int32) <<< (nI b &&& 31)) ^^^ (-1))).toInt8.toInt32)) b &&& (((1 : Int32) <<< (nI a &&& 31)) ^^^ (-1))).toInt8.toInt32)
def mm_Lh (A : Nat) : Nat → Int32 := mm_l1 (mm_l1 (fun _ => 0) A ((A + 1) % 8)) ((A + 2) % 8) ((A + 3) % 8)
def mm_LK (A : Nat) : Nat → Int32 := mm_l1 (mm_Lh A) ((A + 1) % 8) ((A + 2) % 8)
def mm_Lo (A : Nat) : Nat → Int32 := mm_l0 (mm_Lh A) ((A + 1) % 8) ((A + 2) % 8)
theorem mm_lkUp : ∀ A, A < 8 → ∀ s, s < 8 → ∀ t, t < 8 → ((((mm_LK A s) >>> (nI t &&& 31)) &&& 1) = 0 ↔ mm_nb A s t = false) := by decide +kernel
theorem mm_lkNz : ∀ A, A < 8 → ¬ mm_LK A A = 0 := by decide +kernel
theorem mm_nb8 : ∀ A, A < 8 → mm_nb A A A = false := by decide +kernel
/-! the relation, group by group -/
def mm_gS (A : Nat) (B : Int32) (dn : Bool) (f1 f2 : Int32) (a1 a4 a5 a6 a7 a8 a9 a10 a20 a24 a25 : Nat → Int32) : Prop :=
  (A < 8 ∧ f1 = 1 ∧ f2 = (bif dn then 1 else 0) ∧ a1 = mm_LK A) ∧ (a4 0 = nI A ∧ a5 0 = nI (mm_E A) ∧ a6 0 = 1 ∧ a7 0 &&& 255 = B) ∧ (∀ j, j < 64 → a9 j = 0) ∧
  (∀ j, j < 64 → a10 j = (bif dn && Nat.beq j (A + 8 * mm_E A) then 1 else 0)) ∧ a20 (A + 8 * mm_E A) = 0 ∧ (a24 (A + 8 * mm_E A) = 0 ∧ a25 (A + 8 * mm_E A) = 0) ∧ (dn = true → a8 0 = B.toInt8.toInt32)
def mm_gA (B : Int32) (ar : mm_Air) (f5 : Int32) (a27 a28 a29 a30 a31 : Nat → Int32) : Prop := match ar with
  | (n, au, sn, ta, ad, af) => n ≤ 1000 ∧ f5 = nI n ∧ (∀ i, i < 1024 → a27 i = (bif au i then 1 else 0)) ∧
    (∀ i, i < 1024 → au i = true → (i < n ∧ sn i < 8 ∧ ta i < 8 ∧ ad i < 100000) ∧ (a28 i = nI (sn i) ∧ a29 i = nI (ta i) ∧ a30 i = nI (ad i)) ∧ ∀ k, k < 12 → a31 (i * 12 + k) = mm_val B k (af i k))
def mm_gO (os ok od : Nat) (oc : (Nat → Nat) × Bool) (a32 a33 a34 a35 a36 : Nat → Int32) : Prop := match oc with
  | (cnt, ou) => (os < 8 ∧ ok < 1000 ∧ od < 3) ∧ (∀ s, s < 8 → a32 s = nI (cnt s)) ∧ a33 0 = (bif ou then 1 else 0) ∧ (∀ i, 0 < i → i < 16 → a33 i = 0) ∧ (a34 0 = nI os ∧ a35 0 = nI ok ∧ a36 0 = nI od)
def mm_gW (wy : (Nat → Nat) × (Nat → Nat) × (Nat → Nat)) (a13 a14 a15 : Nat → Int32) : Prop := match wy with
  | (wn, wl, wm) => ∀ k, k < 64 → (wn k ≤ 8 ∧ wl k < 100 ∧ wm k < 10000) ∧ a13 k = nI (wn k) - 1 ∧ a14 k = nI (wl k) ∧ a15 k = nI (wm k)
def mm_gN (A : Nat) (nm : (Nat → Nat) × Nat × Nat) (a11 a12 a16 : Nat → Int32) : Prop := match nm with
  | (own, qn, la) => (∀ s, s < 8 → a11 s = nI (own s)) ∧ a12 A = nI qn ∧ a16 (A * 8 + mm_E A) = nI la - 24
def mm_gE (A : Nat) (se : Nat → List Nat) (a17 a18 a19 : Nat → Int32) : Prop :=
  ∀ s, s < 8 → ((se s).length < 61 ∧ a19 s = nI (se s).length) ∧ (∀ j, j < (se s).length → a17 (s * 64 + j) = nI A ∧ a18 (s * 64 + j) = nI ((se s).getD j 0) ∧ (se s).getD j 0 < 1000) ∧ (∀ j, (se s).length ≤ j → j < 64 → a17 (s * 64 + j) = -1)
def mm_gD (p : Nat) (sd : Bool × Nat × Nat) (a21 a22 a23 : Nat → Int32) : Prop := match sd with
  | (so, st, tr) => a23 p = (bif so then 1 else 0) ∧ a21 p = nI st ∧ a22 p = nI tr ∧ st < 10000
def mm_R (A : Nat) (B : Int32) (os ok od : Nat) (q : mm_Q) (u : St2) : Prop := match q with
  | (t, dn, ar, oc, wy, nm, se, sd, w, r) => match u with
    | (f0, f1, f2, f3, f4, f5, a1, a2, a3, a4, a5, a6, a7, a8, a9, a10, a11, a12, a13, a14, a15, a16, a17, a18, a19, a20, a21, a22, a23, a24, a25, a26, a27, a28, a29, a30, a31, a32, a33, a34, a35, a36, a37, a38) => (t < 10000 ∧ f4 = nI t) ∧ mm_gS A B dn f1 f2 a1 a4 a5 a6 a7 a8 a9 a10 a20 a24 a25 ∧ mm_gA B ar f5 a27 a28 a29 a30 a31 ∧ mm_gO os ok od oc a32 a33 a34 a35 a36 ∧
      mm_gW wy a13 a14 a15 ∧ mm_gN A nm a11 a12 a16 ∧ mm_gE A se a17 a18 a19 ∧ mm_gD (A + 8 * mm_E A) sd a21 a22 a23 ∧ mm_F B w a37 ∧ mm_F B r a38
theorem mm_Rw {A os ok od : Nat} {B : Int32} {q : mm_Q} {k x : Nat} {v : Int32} {f0 f1 f2 f3 f4 f5 : Int32} {a1 a2 a3 a4 a5 a6 a7 a8 a9 a10 a11 a12 a13 a14 a15 a16 a17 a18 a19 a20 a21 a22 a23 a24 a25 a26 a27 a28 a29 a30 a31 a32 a33 a34 a35 a36 a37 a38 : Nat → Int32} (h : mm_R A B os ok od q (f0, f1, f2, f3, f4, f5, a1, a2, a3, a4, a5, a6, a7, a8, a9, a10, a11, a12, a13, a14, a15, a16, a17, a18, a19, a20, a21, a22, a23, a24, a25, a26, a27, a28, a29, a30, a31, a32, a33, a34, a35, a36, a37, a38)) (hv : v = nI x) (hk : k ≠ 8 := by decide) :
    mm_R A B os ok od (mm_wr q k x) (f0, f1, f2, f3, f4, f5, a1, a2, a3, a4, a5, a6, a7, a8, a9, a10, a11, a12, a13, a14, a15, a16, a17, a18, a19, a20, a21, a22, a23, a24, a25, a26, a27, a28, a29, a30, a31, a32, a33, a34, a35, a36, upd a37 k v, a38) := by
  obtain ⟨t, dn, ar, oc, wy, nm, se, sd, w, r⟩ := q
  obtain ⟨hT, hS, hA, hO, hW, hN, hE, hD, hw, hr⟩ := h
  exact ⟨hT, hS, hA, hO, hW, hN, hE, hD, mm_Fun hw hv hk, hr⟩
theorem mm_Rr {A os ok od : Nat} {B : Int32} {q : mm_Q} {f0 f1 f2 f3 f4 f5 : Int32} {a1 a2 a3 a4 a5 a6 a7 a8 a9 a10 a11 a12 a13 a14 a15 a16 a17 a18 a19 a20 a21 a22 a23 a24 a25 a26 a27 a28 a29 a30 a31 a32 a33 a34 a35 a36 a37 a38 : Nat → Int32} (h : mm_R A B os ok od q (f0, f1, f2, f3, f4, f5, a1, a2, a3, a4, a5, a6, a7, a8, a9, a10, a11, a12, a13, a14, a15, a16, a17, a18, a19, a20, a21, a22, a23, a24, a25, a26, a27, a28, a29, a30, a31, a32, a33, a34, a35, a36, a37, a38)) (i : Nat) (hi : i < 12 := by decide) (h8 : i ≠ 8 := by decide) : a38 i = nI (mm_r q i) := by
  obtain ⟨t, dn, ar, oc, wy, nm, se, sd, w, r⟩ := q
  obtain ⟨hT, hS, hA, hO, hW, hN, hE, hD, hw, hr⟩ := h
  exact mm_Fn hr i hi h8
theorem mm_Rwi {A os ok od : Nat} {B : Int32} {q : mm_Q} {f0 f1 f2 f3 f4 f5 : Int32} {a1 a2 a3 a4 a5 a6 a7 a8 a9 a10 a11 a12 a13 a14 a15 a16 a17 a18 a19 a20 a21 a22 a23 a24 a25 a26 a27 a28 a29 a30 a31 a32 a33 a34 a35 a36 a37 a38 : Nat → Int32} (h : mm_R A B os ok od q (f0, f1, f2, f3, f4, f5, a1, a2, a3, a4, a5, a6, a7, a8, a9, a10, a11, a12, a13, a14, a15, a16, a17, a18, a19, a20, a21, a22, a23, a24, a25, a26, a27, a28, a29, a30, a31, a32, a33, a34, a35, a36, a37, a38)) (i : Nat) (hi : i < 12 := by decide) (h8 : i ≠ 8 := by decide) : a37 i = nI (mm_w q i) := by
  obtain ⟨t, dn, ar, oc, wy, nm, se, sd, w, r⟩ := q
  obtain ⟨hT, hS, hA, hO, hW, hN, hE, hD, hw, hr⟩ := h
  exact mm_Fn hw i hi h8
theorem mm_RS {A os ok od : Nat} {B : Int32} {q : mm_Q} {f0 f1 f2 f3 f4 f5 : Int32} {a1 a2 a3 a4 a5 a6 a7 a8 a9 a10 a11 a12 a13 a14 a15 a16 a17 a18 a19 a20 a21 a22 a23 a24 a25 a26 a27 a28 a29 a30 a31 a32 a33 a34 a35 a36 a37 a38 : Nat → Int32} (h : mm_R A B os ok od q (f0, f1, f2, f3, f4, f5, a1, a2, a3, a4, a5, a6, a7, a8, a9, a10, a11, a12, a13, a14, a15, a16, a17, a18, a19, a20, a21, a22, a23, a24, a25, a26, a27, a28, a29, a30, a31, a32, a33, a34, a35, a36, a37, a38)) : mm_gS A B (mm_dn q) f1 f2 a1 a4 a5 a6 a7 a8 a9 a10 a20 a24 a25 := by
  obtain ⟨t, dn, ar, oc, wy, nm, se, sd, w, r⟩ := q
  exact h.2.1
theorem mm_isUp {post : Int32 → Prop} {A s t : Nat} {p0 p1 : Int32} {f0 f1 f2 f3 f4 f5 : Int32} {a1 a2 a3 a4 a5 a6 a7 a8 a9 a10 a11 a12 a13 a14 a15 a16 a17 a18 a19 a20 a21 a22 a23 a24 a25 a26 a27 a28 a29 a30 a31 a32 a33 a34 a35 a36 a37 a38 : Nat → Int32} (h1 : a1 = mm_LK A) (hA : A < 8) (hs : s < 8) (ht : t < 8) (e0 : p0 = nI s) (e1 : p1 = nI t)
    (H1 : mm_nb A s t = true → post 1) (H0 : mm_nb A s t = false → post 0) : wpX_isUp post (f0, f1, f2, f3, f4, f5, a1, a2, a3, a4, a5, a6, a7, a8, a9, a10, a11, a12, a13, a14, a15, a16, a17, a18, a19, a20, a21, a22, a23, a24, a25, a26, a27, a28, a29, a30, a31, a32, a33, a34, a35, a36, a37, a38) p0 p1 := by
  subst e0 e1 h1
  unfold wpX_isUp
  dsimp only
  rw [nI_clamp (show s < 2 ^ 31 by omega)]
  refine ⟨pk_in s 8 hs, ek_if (mm_lkUp A hA s hs t ht) H0 (fun z => H1 ?_)⟩
  cases e : mm_nb A s t
  · exact absurd e z
  · rfl
end
section
section
variable {A os ok od : Nat} {B : Int32}
theorem mm_begin {post : St2 → Prop} {q : mm_Q} {u : St2} {p0 p1 p2 : Int32} (k f g : Nat) (h : mm_R A B os ok od q u) (e0 : p0 = nI k) (e1 : p1 = nI f) (e2 : p2 = nI g)
    (hp : ∀ u', mm_R A B os ok od (mm_bg q k f g) u' → post u') : wpX_begin post u p0 p1 p2 := by
  subst e0 e1 e2
  obtain ⟨t, dn, ar, oc, wy, nm, se, sd, w, r⟩ := q
  obtain ⟨f0, f1, f2, f3, f4, f5, a1, a2, a3, a4, a5, a6, a7, a8, a9, a10, a11, a12, a13, a14, a15, a16, a17, a18, a19, a20, a21, a22, a23, a24, a25, a26, a27, a28, a29, a30, a31, a32, a33, a34, a35, a36, a37, a38⟩ := u
  obtain ⟨hT, hS, hA, hO, hW, hN, hE, hD, hw, hr⟩ := h
  refine pk_loop (fun n i s => wX_begin_3 post (nI k) (nI f) (nI g) f0 f1 f2 f3 f4 f5 n (nI i) a1 a2 a3 a4 a5 a6 a7 a8 a9 a10 a11 a12 a13 a14 a15 a16 a17 a18 a19 a20 a21 a22 a23 a24 a25 a26 a27 a28 a29 a30 a31 a32 a33 a34 a35 a36 s a38) (fun i s => ∀ j, j < i → s j = 0) 12 0 a37 (by omega) (fun j hj => absurd hj (by omega)) ?_ ?_
  · intro n s hs
    have hz : mm_F B (fun _ => 0) s := fun i hi => (hs i hi).trans mm_v0.symm
    exact pk_le 12 12 (fun _ => nm_e (nm_e (nm_e (hp _ ⟨hT, hS, hA, hO, hW, hN, hE, hD, mm_Fun (mm_Fun (mm_Fun hz rfl) rfl) rfl, hr⟩)))) (fun z => absurd z (by omega))
  · intro n i s hi hs hk
    refine pk_le 12 i (fun z => absurd z (by omega)) (fun _ => ⟨pk_in i 12 hi, nm_e (nm_r (nI_1 i) (hk _ ?_))⟩)
    intro j hj
    rw [nI_clamp (show i < 2 ^ 31 by omega)]
    by_cases e : j = i
    · rw [e, pk_us]
    · rw [pk_un e]
      exact hs j (by omega)
theorem mm_copy {post : St2 → Prop} {q : mm_Q} {u : St2} (h : mm_R A B os ok od q u)
    (hp : ∀ u', mm_R A B os ok od (mm_cp q) u' → post u') : wpX_copyReadToWire post u := by
  obtain ⟨t, dn, ar, oc, wy, nm, se, sd, w, r⟩ := q
  obtain ⟨f0, f1, f2, f3, f4, f5, a1, a2, a3, a4, a5, a6, a7, a8, a9, a10, a11, a12, a13, a14, a15, a16, a17, a18, a19, a20, a21, a22, a23, a24, a25, a26, a27, a28, a29, a30, a31, a32, a33, a34, a35, a36, a37, a38⟩ := u
  obtain ⟨hT, hS, hA, hO, hW, hN, hE, hD, hw, hr⟩ := h
  refine pk_loop (fun n i s => wX_copyReadToWire_2 post f0 f1 f2 f3 f4 f5 n (nI i) a1 a2 a3 a4 a5 a6 a7 a8 a9 a10 a11 a12 a13 a14 a15 a16 a17 a18 a19 a20 a21 a22 a23 a24 a25 a26 a27 a28 a29 a30 a31 a32 a33 a34 a35 a36 s a38) (fun i s => ∀ j, j < i → s j = a38 j) 12 0 a37 (by omega) (fun j hj => absurd hj (by omega)) ?_ ?_
  · intro n s hs
    exact pk_le 12 12 (fun _ => hp _ ⟨hT, hS, hA, hO, hW, hN, hE, hD, fun i hi => (hs i hi).trans (hr i hi), hr⟩) (fun z => absurd z (by omega))
  · intro n i s hi hs hk
    refine pk_le 12 i (fun z => absurd z (by omega)) (fun _ => ⟨pk_in i 12 hi, pk_in i 12 hi, nm_e (nm_r (nI_1 i) (hk _ ?_))⟩)
    intro j hj
    rw [nI_clamp (show i < 2 ^ 31 by omega)]
    by_cases e : j = i
    · rw [e, pk_us]
    · rw [pk_un e]
      exact hs j (by omega)
theorem mm_gA_fly {n s to due : Nat} {au : Nat → Bool} {sn ta ad : Nat → Nat} {af : Nat → mm_Fr} {w : mm_Fr} {f5 : Int32} {a27 a28 a29 a30 a31 a37 s31 : Nat → Int32} (h : mm_gA B (n, au, sn, ta, ad, af) f5 a27 a28 a29 a30 a31)
    (hn : n < 1000) (hd : due < 100000) (hs : s < 8) (ht : to < 8) (hw : mm_F B w a37) (h1 : ∀ j, j < 12 → s31 (n * 12 + j) = a37 j) (h2 : ∀ m, (m < n * 12 ∨ n * 12 + 12 ≤ m) → s31 m = a31 m) :
    mm_gA B (n + 1, mm_up au n true, mm_up sn n s, mm_up ta n to, mm_up ad n due, mm_up af n w) (nI (n + 1)) (upd a27 n 1) (upd a28 n (nI s)) (upd a29 n (nI to)) (upd a30 n (nI due)) s31 := by
  obtain ⟨_, _, k1, k2⟩ := h
  refine ⟨by omega, rfl, fun i hi => ?_, fun i hi hu => ?_⟩
  · by_cases e : i = n
    · rw [e, pk_us, mm_us]
      rfl
    · rw [pk_un e, mm_un e]
      exact k1 i hi
  · by_cases e : i = n
    · subst e
      rw [mm_us, mm_us, mm_us, mm_us, pk_us, pk_us, pk_us]
      exact ⟨⟨by omega, hs, ht, hd⟩, ⟨rfl, rfl, rfl⟩, fun k hk => (h1 k hk).trans (hw k hk)⟩
    · rw [mm_un e] at hu
      obtain ⟨⟨g1, g2, g3, g4⟩, ⟨g5, g6, g7⟩, g8⟩ := k2 i hi hu
      rw [mm_un e, mm_un e, mm_un e, mm_un e, pk_un e, pk_un e, pk_un e]
      exact ⟨⟨by omega, g2, g3, g4⟩, ⟨g5, g6, g7⟩, fun k hk => (h2 _ (by omega)).trans (g8 k hk)⟩
theorem mm_flyP {post : St2 → Prop} {q q' : mm_Q} {u : St2} {p0 p1 p2 : Int32} {s to due : Nat} (h : mm_R A B os ok od q u) (hs : mm_fly q s to due = some q') (e0 : p0 = nI s) (e1 : p1 = nI to) (e2 : p2 = nI due)
    (hp : ∀ u', mm_R A B os ok od q' u' → post u') : wpX_fly post u p0 p1 p2 := by
  subst e0 e1 e2
  obtain ⟨t, dn, ⟨n, au, sn, ta, ad, af⟩, oc, wy, nm, se, sd, w, r⟩ := q
  obtain ⟨f0, f1, f2, f3, f4, f5, a1, a2, a3, a4, a5, a6, a7, a8, a9, a10, a11, a12, a13, a14, a15, a16, a17, a18, a19, a20, a21, a22, a23, a24, a25, a26, a27, a28, a29, a30, a31, a32, a33, a34, a35, a36, a37, a38⟩ := u
  obtain ⟨hT, hS, hA, hO, hW, hN, hE, hD, hw, hr⟩ := h
  obtain ⟨c, hq⟩ := mm_ckS hs
  obtain ⟨c1, c⟩ := mm_andS c
  obtain ⟨c2, c⟩ := mm_andS c
  obtain ⟨c3, c4⟩ := mm_andS c
  have hn := mm_ltB c1
  have hdu := mm_ltB c2
  have hs8 := mm_ltB c3
  have ht8 := mm_ltB c4
  have hq' := Option.some.inj hq
  subst hq'
  have h5 : f5 = nI n := hA.2.1
  subst h5
  have hc : (nI n).toNatClampNeg = n := nI_clamp (by omega)
  have hm : (nI n + 1) - (nI n + 1) / 1024 * 1024 = nI (n + 1) := by
    rw [nI_1, show (1024 : Int32) = nI 1024 from rfl, pk_rem (by omega) (by omega) (by omega), Nat.mod_eq_of_lt (by omega)]
  unfold wpX_fly
  dsimp only
  rw [hc, hm, mm_b8 s (by omega), mm_b8 to (by omega)]
  refine ⟨by decide, nm_e ⟨pk_in n 1024 (by omega), nm_e ⟨pk_in n 1024 (by omega), nm_e ⟨pk_in n 1024 (by omega), nm_e ⟨pk_in n 1024 (by omega), nm_e ?_⟩⟩⟩⟩⟩
  refine pk_loop (fun m i s31 => wX_fly_57 post (nI n) f0 f1 f2 f3 f4 (nI (n + 1)) m (nI i) a1 a2 a3 a4 a5 a6 a7 a8 a9 a10 a11 a12 a13 a14 a15 a16 a17 a18 a19 a20 a21 a22 a23 a24 a25 a26 (upd a27 n 1) (upd a28 n (nI s)) (upd a29 n (nI to)) (upd a30 n (nI due)) s31 a32 a33 a34 a35 a36 a37 a38)
    (fun i s31 => (∀ j, j < i → s31 (n * 12 + j) = a37 j) ∧ (∀ m, (m < n * 12 ∨ n * 12 + 12 ≤ m) → s31 m = a31 m)) 12 0 a31 (by omega) ⟨fun j hj => absurd hj (by omega), fun _ _ => rfl⟩ ?_ ?_
  · intro m s31 hs
    exact pk_le 12 12 (fun _ => hp _ ⟨hT, hS, mm_gA_fly hA hn hdu hs8 ht8 hw hs.1 hs.2, hO, hW, hN, hE, hD, hw, hr⟩) (fun z => absurd z (by omega))
  · intro m i s31 hi hs hk
    have hx : (nI n * 12 + nI i) = nI (n * 12 + i) := mm_m12 n i
    refine pk_le 12 i (fun z => absurd z (by omega)) (fun _ => ⟨pk_in i 12 hi, pk_in (n * 12 + i) 12288 (by omega) hx, nm_e (nm_r (nI_1 i) (hk _ ?_))⟩)
    rw [hx, nI_clamp (show i < 2 ^ 31 by omega), nI_clamp (show n * 12 + i < 2 ^ 31 by omega)]
    refine ⟨fun j hj => ?_, fun m hm => ?_⟩
    · by_cases e : j = i
      · rw [e, pk_us]
      · rw [pk_un (by omega)]
        exact hs.1 j (by omega)
    · rw [pk_un (by omega)]
      exact hs.2 m hm
end
end
section
section
variable {A os ok od : Nat} {B : Int32}
theorem mm_s26 {post : St2 → Prop} {x1 x2 x3 x4 x5 : Int32} {f0 f1 f2 f3 f4 f5 : Int32} {a1 a2 a3 a4 a5 a6 a7 a8 a9 a10 a11 a12 a13 a14 a15 a16 a17 a18 a19 a20 a21 a22 a23 a24 a25 a26 a27 a28 a29 a30 a31 a32 a33 a34 a35 a36 a37 a38 : Nat → Int32} (h0 : ∀ i, 0 < i → i < 16 → a33 i = 0) (H : ∃ n, wX_send_138 post x1 x2 x4 x5 n 0 f0 f1 f2 f3 f4 f5 a1 a2 a3 a4 a5 a6 a7 a8 a9 a10 a11 a12 a13 a14 a15 a16 a17 a18 a19 a20 a21 a22 a23 a24 a25 a26 a27 a28 a29 a30 a31 a32 a33 a34 a35 a36 a37 a38) :
    ∀ m i, i + m = 16 → 0 < i → wX_send_26 post x1 x2 x3 f0 f1 f2 f3 f4 f5 (m + 1) x4 x5 (nI i) a1 a2 a3 a4 a5 a6 a7 a8 a9 a10 a11 a12 a13 a14 a15 a16 a17 a18 a19 a20 a21 a22 a23 a24 a25 a26 a27 a28 a29 a30 a31 a32 a33 a34 a35 a36 a37 a38
  | 0, i, hm, hi => pk_le 16 i (fun _ => H) (fun z => absurd z (by omega))
  | m + 1, i, hm, hi => by
    refine pk_le 16 i (fun z => absurd z (by omega)) (fun _ => ⟨pk_in i 16 (by omega), br_t ?_ (nm_r (nI_1 i) (mm_s26 h0 H m (i + 1) (by omega) (by omega)))⟩)
    rw [nI_clamp (show i < 2 ^ 31 by omega)]
    exact h0 i hi (by omega)
theorem mm_s138_0 {post : St2 → Prop} {x1 x2 x5 : Int32} {f0 f1 f2 f3 f4 f5 : Int32} {a1 a2 a3 a4 a5 a6 a7 a8 a9 a10 a11 a12 a13 a14 a15 a16 a17 a18 a19 a20 a21 a22 a23 a24 a25 a26 a27 a28 a29 a30 a31 a32 a33 a34 a35 a36 a37 a38 : Nat → Int32} (hp : post (f0, f1, f2, f3, f4, f5, a1, a2, a3, a4, a5, a6, a7, a8, a9, a10, a11, a12, a13, a14, a15, a16, a17, a18, a19, a20, a21, a22, a23, a24, a25, a26, a27, a28, a29, a30, a31, a32, a33, a34, a35, a36, a37, a38)) : ∃ n, wX_send_138 post x1 x2 0 x5 n 0 f0 f1 f2 f3 f4 f5 a1 a2 a3 a4 a5 a6 a7 a8 a9 a10 a11 a12 a13 a14 a15 a16 a17 a18 a19 a20 a21 a22 a23 a24 a25 a26 a27 a28 a29 a30 a31 a32 a33 a34 a35 a36 a37 a38 :=
  ⟨1, pk_le 0 0 (fun _ => hp) (fun z => absurd z (by omega))⟩
theorem mm_s138_1 {post : St2 → Prop} {q q' : mm_Q} {x1 x2 x5 : Int32} {s to d : Nat} {f0 f1 f2 f3 f4 f5 : Int32} {a1 a2 a3 a4 a5 a6 a7 a8 a9 a10 a11 a12 a13 a14 a15 a16 a17 a18 a19 a20 a21 a22 a23 a24 a25 a26 a27 a28 a29 a30 a31 a32 a33 a34 a35 a36 a37 a38 : Nat → Int32} (h : mm_R A B os ok od q (f0, f1, f2, f3, f4, f5, a1, a2, a3, a4, a5, a6, a7, a8, a9, a10, a11, a12, a13, a14, a15, a16, a17, a18, a19, a20, a21, a22, a23, a24, a25, a26, a27, a28, a29, a30, a31, a32, a33, a34, a35, a36, a37, a38)) (e1 : x1 = nI s) (e2 : x2 = nI to) (e5 : f4 + x5 = nI d) (hs : mm_fly q s to d = some q')
    (hp : ∀ u', mm_R A B os ok od q' u' → post u') : ∃ n, wX_send_138 post x1 x2 1 x5 n 0 f0 f1 f2 f3 f4 f5 a1 a2 a3 a4 a5 a6 a7 a8 a9 a10 a11 a12 a13 a14 a15 a16 a17 a18 a19 a20 a21 a22 a23 a24 a25 a26 a27 a28 a29 a30 a31 a32 a33 a34 a35 a36 a37 a38 := by
  refine ⟨2, pk_le 1 0 (fun z => absurd z (by omega)) (fun _ => mm_flyP h hs e1 e2 (by rw [e5]; exact Int32.add_zero _) (fun u' h' => ?_))⟩
  obtain ⟨f0b, f1b, f2b, f3b, f4b, f5b, a1b, a2b, a3b, a4b, a5b, a6b, a7b, a8b, a9b, a10b, a11b, a12b, a13b, a14b, a15b, a16b, a17b, a18b, a19b, a20b, a21b, a22b, a23b, a24b, a25b, a26b, a27b, a28b, a29b, a30b, a31b, a32b, a33b, a34b, a35b, a36b, a37b, a38b⟩ := u'
  exact nm_r (nI_1 0) (pk_le 1 1 (fun _ => hp _ h') (fun z => absurd z (by omega)))
theorem mm_s138_2 {post : St2 → Prop} {q q1 q' : mm_Q} {x1 x2 x5 : Int32} {s to d : Nat} {f0 f1 f2 f3 f4 f5 : Int32} {a1 a2 a3 a4 a5 a6 a7 a8 a9 a10 a11 a12 a13 a14 a15 a16 a17 a18 a19 a20 a21 a22 a23 a24 a25 a26 a27 a28 a29 a30 a31 a32 a33 a34 a35 a36 a37 a38 : Nat → Int32} (h : mm_R A B os ok od q (f0, f1, f2, f3, f4, f5, a1, a2, a3, a4, a5, a6, a7, a8, a9, a10, a11, a12, a13, a14, a15, a16, a17, a18, a19, a20, a21, a22, a23, a24, a25, a26, a27, a28, a29, a30, a31, a32, a33, a34, a35, a36, a37, a38)) (e1 : x1 = nI s) (e2 : x2 = nI to) (e5 : f4 + x5 = nI d) (hf : ∀ u', mm_R A B os ok od q1 u' → u'.2.2.2.2.1 = f4)
    (hs : mm_fly q s to d = some q1) (hs' : mm_fly q1 s to (d + 1) = some q')
    (hp : ∀ u', mm_R A B os ok od q' u' → post u') : ∃ n, wX_send_138 post x1 x2 2 x5 n 0 f0 f1 f2 f3 f4 f5 a1 a2 a3 a4 a5 a6 a7 a8 a9 a10 a11 a12 a13 a14 a15 a16 a17 a18 a19 a20 a21 a22 a23 a24 a25 a26 a27 a28 a29 a30 a31 a32 a33 a34 a35 a36 a37 a38 := by
  refine ⟨3, pk_le 2 0 (fun z => absurd z (by omega)) (fun _ => mm_flyP h hs e1 e2 (by rw [e5]; exact Int32.add_zero _) (fun u' h' => ?_))⟩
  have hf' := hf u' h'
  obtain ⟨f0b, f1b, f2b, f3b, f4b, f5b, a1b, a2b, a3b, a4b, a5b, a6b, a7b, a8b, a9b, a10b, a11b, a12b, a13b, a14b, a15b, a16b, a17b, a18b, a19b, a20b, a21b, a22b, a23b, a24b, a25b, a26b, a27b, a28b, a29b, a30b, a31b, a32b, a33b, a34b, a35b, a36b, a37b, a38b⟩ := u'
  have hf2 : f4b = f4 := hf'
  refine nm_r (nI_1 0) (pk_le 2 1 (fun z => absurd z (by omega)) (fun _ => mm_flyP h' hs' e1 e2 (by rw [hf2, e5]; exact nI_1 d) (fun u'' h'' => ?_)))
  obtain ⟨f0c, f1c, f2c, f3c, f4c, f5c, a1c, a2c, a3c, a4c, a5c, a6c, a7c, a8c, a9c, a10c, a11c, a12c, a13c, a14c, a15c, a16c, a17c, a18c, a19c, a20c, a21c, a22c, a23c, a24c, a25c, a26c, a27c, a28c, a29c, a30c, a31c, a32c, a33c, a34c, a35c, a36c, a37c, a38c⟩ := u''
  exact nm_r (nI_1 1) (pk_le 2 2 (fun _ => hp _ h'') (fun z => absurd z (by omega)))
theorem mm_gO_cnt {cnt : Nat → Nat} {ou ou' : Bool} {s : Nat} {a32 a33 a33' a34 a35 a36 : Nat → Int32} (h : mm_gO os ok od (cnt, ou) a32 a33 a34 a35 a36) (e0 : a33' 0 = (bif ou' then 1 else 0)) (e1 : ∀ i, 0 < i → i < 16 → a33' i = 0) {v : Int32} (hv : v = nI (cnt s + 1)) :
    mm_gO os ok od (mm_up cnt s (cnt s + 1), ou') (upd a32 s v) a33' a34 a35 a36 := by
  obtain ⟨h1, h2, h3, h4, h5⟩ := h
  refine ⟨h1, fun j hj => ?_, e0, e1, h5⟩
  by_cases e : j = s
  · subst e
    rw [pk_us, mm_us, hv]
  · rw [pk_un e, mm_un e]
    exact h2 j hj
theorem mm_now {q : mm_Q} {f0 f1 f2 f3 f4 f5 : Int32} {a1 a2 a3 a4 a5 a6 a7 a8 a9 a10 a11 a12 a13 a14 a15 a16 a17 a18 a19 a20 a21 a22 a23 a24 a25 a26 a27 a28 a29 a30 a31 a32 a33 a34 a35 a36 a37 a38 : Nat → Int32} (h : mm_R A B os ok od q (f0, f1, f2, f3, f4, f5, a1, a2, a3, a4, a5, a6, a7, a8, a9, a10, a11, a12, a13, a14, a15, a16, a17, a18, a19, a20, a21, a22, a23, a24, a25, a26, a27, a28, a29, a30, a31, a32, a33, a34, a35, a36, a37, a38)) : f4 = nI q.1 := by
  obtain ⟨t, dn, ar, oc, wy, nm, se, sd, w, r⟩ := q
  exact h.1.2
theorem mm_now' {q : mm_Q} {u : St2} (h : mm_R A B os ok od q u) : u.2.2.2.2.1 = nI q.1 := by
  obtain ⟨f0, f1, f2, f3, f4, f5, a1, a2, a3, a4, a5, a6, a7, a8, a9, a10, a11, a12, a13, a14, a15, a16, a17, a18, a19, a20, a21, a22, a23, a24, a25, a26, a27, a28, a29, a30, a31, a32, a33, a34, a35, a36, a37, a38⟩ := u
  exact mm_now h
theorem mm_flyT {q q' : mm_Q} {s to due : Nat} (hs : mm_fly q s to due = some q') : q'.1 = q.1 := by
  obtain ⟨t, dn, ⟨n, au, sn, ta, ad, af⟩, oc, wy, nm, se, sd, w, r⟩ := q
  obtain ⟨c, hq⟩ := mm_ckS hs
  have hq' := Option.some.inj hq
  subst hq'
  rfl
theorem mm_sendP {post : St2 → Prop} {q q' : mm_Q} {u : St2} {p0 p1 : Int32} {s to : Nat} (h : mm_R A B os ok od q u) (hs : mm_send os ok od q s to = some q') (e0 : p0 = nI s) (e1 : p1 = nI to)
    (hp : ∀ u', mm_R A B os ok od q' u' → post u') : wpX_send post u p0 p1 := by
  subst e0 e1
  obtain ⟨t, dn, ar, ⟨cnt, ou⟩, wy, nm, se, sd, w, r⟩ := q
  obtain ⟨f0, f1, f2, f3, f4, f5, a1, a2, a3, a4, a5, a6, a7, a8, a9, a10, a11, a12, a13, a14, a15, a16, a17, a18, a19, a20, a21, a22, a23, a24, a25, a26, a27, a28, a29, a30, a31, a32, a33, a34, a35, a36, a37, a38⟩ := u
  obtain ⟨hT, hS, hA, hO, hW, hN, hE, hD, hw, hr⟩ := h
  obtain ⟨c, hq⟩ := mm_ckS hs
  obtain ⟨c1, c2⟩ := mm_andS c
  have hc8 := mm_ltB c1
  have hs8 := mm_ltB c2
  obtain ⟨⟨o1, o2, o3⟩, o4, o5, o6, o7, o8, o9⟩ := hO
  have hO : mm_gO os ok od (cnt, ou) a32 a33 a34 a35 a36 := ⟨⟨o1, o2, o3⟩, o4, o5, o6, o7, o8, o9⟩
  have hcl : (nI s).toNatClampNeg = s := nI_clamp (by omega)
  have h32 : a32 s = nI (cnt s) := o4 s hs8
  have h4 : f4 = nI t := hT.2
  unfold wpX_send
  dsimp only
  rw [hcl, h32, nI_1]
  refine ⟨pk_in s 8 hs8, nm_e ⟨pk_in s 8 hs8, pk_in s 8 hs8, nm_e ⟨17, ?_⟩⟩⟩
  refine pk_le 16 0 (fun z => absurd z (by omega)) (fun _ => ⟨pk_in 0 16 (by omega), ?_⟩)
  rw [sb_cl0]
  have miss : mm_hit os ok cnt ou s = false → wX_send_26 post (nI s) (nI to) (nI (cnt s)) f0 f1 f2 f3 f4 f5 16 1 1 (nI 1) a1 a2 a3 a4 a5 a6 a7 a8 a9 a10 a11 a12 a13 a14 a15 a16 a17 a18 a19 a20 a21 a22 a23 a24 a25 a26 a27 a28 a29 a30 a31 (upd a32 s (nI (cnt s + 1))) a33 a34 a35 a36 a37 a38 := by
    intro hm
    have hq := mm_bF hm hq
    have hR : mm_R A B os ok od (t, dn, ar, (mm_up cnt s (cnt s + 1), ou), wy, nm, se, sd, w, r) (f0, f1, f2, f3, f4, f5, a1, a2, a3, a4, a5, a6, a7, a8, a9, a10, a11, a12, a13, a14, a15, a16, a17, a18, a19, a20, a21, a22, a23, a24, a25, a26, a27, a28, a29, a30, a31, upd a32 s (nI (cnt s + 1)), a33, a34, a35, a36, a37, a38) := ⟨hT, hS, hA, mm_gO_cnt hO o5 o6 rfl, hW, hN, hE, hD, hw, hr⟩
    exact mm_s26 o6 (mm_s138_1 hR rfl rfl (by rw [h4]; exact nI_1 t) hq hp) 15 1 (by omega) (by omega)
  refine br_c (fun z => nm_r (nI_1 0) (miss ?_)) (fun z => ⟨pk_in 0 16 (by omega), ?_⟩)
  · rw [o5] at z
    cases ou
    · rfl
    · exact absurd z (by decide)
  have hou : ou = true := by
    rw [o5] at z
    cases ou
    · exact absurd rfl z
    · rfl
  subst hou
  rw [o7]
  refine pk_eq os s (fun z1 => ⟨pk_in 0 16 (by omega), ?_⟩) (fun z1 => nm_r (nI_1 0) (miss ?_)) rfl rfl (by omega) (by omega)
  rotate_left
  · unfold mm_hit
    cases e : Nat.beq os s
    · rfl
    · exact absurd (mm_eqB e) z1
  rw [o8]
  refine pk_eq ok (cnt s) (fun z2 => ⟨pk_in 0 16 (by omega), nm_e ⟨pk_in 0 16 (by omega), ?_⟩⟩) (fun z2 => nm_r (nI_1 0) (miss ?_)) rfl rfl (by omega) (by omega)
  rotate_left
  · unfold mm_hit
    cases e : Nat.beq ok (cnt s)
    · cases Nat.beq os s <;> rfl
    · exact absurd (mm_eqB e) z2
  have hh : mm_hit os ok cnt true s = true := by
    unfold mm_hit
    rw [z1, ← z2, Nat.beq_refl, Nat.beq_refl]
    rfl
  have hq := mm_bT hh hq
  have o6' : ∀ i, 0 < i → i < 16 → upd a33 0 0 i = 0 := fun i h1 h2 => by
    rw [pk_un (by omega)]
    exact o6 i h1 h2
  have hR : mm_R A B os ok od (t, dn, ar, (mm_up cnt s (cnt s + 1), false), wy, nm, se, sd, w, r) (f0, f1, f2, f3, f4, f5, a1, a2, a3, a4, a5, a6, a7, a8, a9, a10, a11, a12, a13, a14, a15, a16, a17, a18, a19, a20, a21, a22, a23, a24, a25, a26, a27, a28, a29, a30, a31, upd a32 s (nI (cnt s + 1)), upd a33 0 0, a34, a35, a36, a37, a38) :=
    ⟨hT, hS, hA, mm_gO_cnt hO pk_us o6' rfl, hW, hN, hE, hD, hw, hr⟩
  refine nm_r o9 ?_
  have hod : od = 0 ∨ od = 1 ∨ od = 2 := by omega
  rcases hod with e | e | e
  · subst e
    have hq2 := Option.some.inj (mm_bT rfl hq)
    subst hq2
    exact pk_eq 0 0 (fun _ => pk_le 0 1 (fun _ => nm_r (nI_1 0) (mm_s26 o6' (mm_s138_0 (hp _ hR)) 15 1 (by omega) (by omega))) (fun z => absurd z (by omega))) (fun z => absurd rfl z)
  · subst e
    obtain ⟨q1, g1, g2⟩ := mm_bdS (mm_bT rfl (mm_bF rfl hq))
    refine pk_eq 1 0 (fun z => absurd z (by omega)) (fun _ => pk_eq 1 1 (fun _ => pk_le 4 1 (fun z => absurd z (by omega)) (fun _ => pk_le 1 1 (fun _ => nm_r (nI_1 0) ?_) (fun z => absurd z (by omega)))) (fun z => absurd rfl z))
    exact mm_s26 o6' (mm_s138_2 hR rfl rfl (by rw [h4]; exact nI_1 t) (fun u' h' => (mm_now' h').trans ((congrArg nI (mm_flyT g1)).trans h4.symm)) g1 g2 hp) 15 1 (by omega) (by omega)
  · subst e
    refine pk_eq 2 0 (fun z => absurd z (by omega)) (fun _ => pk_eq 2 1 (fun z => absurd z (by omega)) (fun _ => pk_le 2 1 (fun z => absurd z (by omega)) (fun _ => nm_r (nI_1 0) ?_)))
    exact mm_s26 o6' (mm_s138_1 hR rfl rfl (by rw [h4]; exact nI_add t 6) (mm_bF rfl (mm_bF rfl hq)) hp) 15 1 (by omega) (by omega)
theorem mm_LKof {q : mm_Q} {f0 f1 f2 f3 f4 f5 : Int32} {a1 a2 a3 a4 a5 a6 a7 a8 a9 a10 a11 a12 a13 a14 a15 a16 a17 a18 a19 a20 a21 a22 a23 a24 a25 a26 a27 a28 a29 a30 a31 a32 a33 a34 a35 a36 a37 a38 : Nat → Int32} (h : mm_R A B os ok od q (f0, f1, f2, f3, f4, f5, a1, a2, a3, a4, a5, a6, a7, a8, a9, a10, a11, a12, a13, a14, a15, a16, a17, a18, a19, a20, a21, a22, a23, a24, a25, a26, a27, a28, a29, a30, a31, a32, a33, a34, a35, a36, a37, a38)) : A < 8 ∧ a1 = mm_LK A := by
  obtain ⟨t, dn, ar, oc, wy, nm, se, sd, w, r⟩ := q
  exact ⟨h.2.1.1.1, h.2.1.1.2.2.2⟩
theorem mm_tellP {post : St2 → Prop} {q' : mm_Q} {p0 : Int32} {s : Nat} (e0 : p0 = nI s) (hs8 : s < 8) (hp : ∀ u', mm_R A B os ok od q' u' → post u') :
    ∀ (m i : Nat) (q : mm_Q) (f0 f1 f2 f3 f4 f5 : Int32) (a1 a2 a3 a4 a5 a6 a7 a8 a9 a10 a11 a12 a13 a14 a15 a16 a17 a18 a19 a20 a21 a22 a23 a24 a25 a26 a27 a28 a29 a30 a31 a32 a33 a34 a35 a36 a37 a38 : Nat → Int32), i + m = 8 → mm_R A B os ok od q (f0, f1, f2, f3, f4, f5, a1, a2, a3, a4, a5, a6, a7, a8, a9, a10, a11, a12, a13, a14, a15, a16, a17, a18, a19, a20, a21, a22, a23, a24, a25, a26, a27, a28, a29, a30, a31, a32, a33, a34, a35, a36, a37, a38) → mm_tell A os ok od s m i q = some q' → wX_tellAll_2 post p0 (m + 1) (nI i) f0 f1 f2 f3 f4 f5 a1 a2 a3 a4 a5 a6 a7 a8 a9 a10 a11 a12 a13 a14 a15 a16 a17 a18 a19 a20 a21 a22 a23 a24 a25 a26 a27 a28 a29 a30 a31 a32 a33 a34 a35 a36 a37 a38 := by
  subst e0
  intro m
  induction m with
  | zero =>
    intro i q f0 f1 f2 f3 f4 f5 a1 a2 a3 a4 a5 a6 a7 a8 a9 a10 a11 a12 a13 a14 a15 a16 a17 a18 a19 a20 a21 a22 a23 a24 a25 a26 a27 a28 a29 a30 a31 a32 a33 a34 a35 a36 a37 a38 hm h hs
    have hq := Option.some.inj hs
    subst hq
    exact pk_le 8 i (fun _ => hp _ h) (fun z => absurd z (by omega))
  | succ m ih =>
    intro i q f0 f1 f2 f3 f4 f5 a1 a2 a3 a4 a5 a6 a7 a8 a9 a10 a11 a12 a13 a14 a15 a16 a17 a18 a19 a20 a21 a22 a23 a24 a25 a26 a27 a28 a29 a30 a31 a32 a33 a34 a35 a36 a37 a38 hm h hs
    obtain ⟨hA8, h1⟩ := mm_LKof h
    refine pk_le 8 i (fun z => absurd z (by omega)) (fun _ => mm_isUp h1 hA8 hs8 (by omega) rfl rfl (fun hb => ?_) (fun hb => ?_))
    · unfold mm_tell at hs
      obtain ⟨q1, g1, g2⟩ := mm_bdS (mm_bT hb hs)
      refine br_f (by decide) (mm_sendP h g1 rfl rfl (fun u' h' => ?_))
      obtain ⟨f0b, f1b, f2b, f3b, f4b, f5b, a1b, a2b, a3b, a4b, a5b, a6b, a7b, a8b, a9b, a10b, a11b, a12b, a13b, a14b, a15b, a16b, a17b, a18b, a19b, a20b, a21b, a22b, a23b, a24b, a25b, a26b, a27b, a28b, a29b, a30b, a31b, a32b, a33b, a34b, a35b, a36b, a37b, a38b⟩ := u'
      exact nm_r (nI_1 i) (ih (i + 1) q1 f0b f1b f2b f3b f4b f5b a1b a2b a3b a4b a5b a6b a7b a8b a9b a10b a11b a12b a13b a14b a15b a16b a17b a18b a19b a20b a21b a22b a23b a24b a25b a26b a27b a28b a29b a30b a31b a32b a33b a34b a35b a36b a37b a38b (by omega) h' g2)
    · unfold mm_tell at hs
      exact br_t rfl (nm_r (nI_1 i) (ih (i + 1) q f0 f1 f2 f3 f4 f5 a1 a2 a3 a4 a5 a6 a7 a8 a9 a10 a11 a12 a13 a14 a15 a16 a17 a18 a19 a20 a21 a22 a23 a24 a25 a26 a27 a28 a29 a30 a31 a32 a33 a34 a35 a36 a37 a38 (by omega) h (mm_bF hb hs)))
theorem mm_tellA {post : St2 → Prop} {q q' : mm_Q} {u : St2} {p0 : Int32} {s : Nat} (h : mm_R A B os ok od q u) (hs : mm_tell A os ok od s 8 0 q = some q') (e0 : p0 = nI s) (hs8 : s < 8) (hp : ∀ u', mm_R A B os ok od q' u' → post u') : wpX_tellAll post u p0 := by
  obtain ⟨f0, f1, f2, f3, f4, f5, a1, a2, a3, a4, a5, a6, a7, a8, a9, a10, a11, a12, a13, a14, a15, a16, a17, a18, a19, a20, a21, a22, a23, a24, a25, a26, a27, a28, a29, a30, a31, a32, a33, a34, a35, a36, a37, a38⟩ := u
  exact ⟨9, mm_tellP e0 hs8 hp 8 0 q f0 f1 f2 f3 f4 f5 a1 a2 a3 a4 a5 a6 a7 a8 a9 a10 a11 a12 a13 a14 a15 a16 a17 a18 a19 a20 a21 a22 a23 a24 a25 a26 a27 a28 a29 a30 a31 a32 a33 a34 a35 a36 a37 a38 rfl h hs⟩
end
end
section
section
variable {A os ok od : Nat} {B : Int32}
theorem mm_gW_up {wn wl wm : Nat → Nat} {k nx li nu : Nat} {a13 a14 a15 : Nat → Int32} {v13 v14 v15 : Int32} (h : mm_gW (wn, wl, wm) a13 a14 a15) (h1 : nx < 8) (h2 : li < 100) (h3 : nu < 10000) (e1 : v13 = nI nx) (e2 : v14 = nI li) (e3 : v15 = nI nu) :
    mm_gW (mm_up wn k (nx + 1), mm_up wl k li, mm_up wm k nu) (upd a13 k v13) (upd a14 k v14) (upd a15 k v15) := by
  intro j hj
  by_cases e : j = k
  · subst e
    rw [pk_us, pk_us, pk_us, mm_us, mm_us, mm_us]
    exact ⟨⟨by omega, h2, h3⟩, e1.trans (nI_pred nx).symm, e2, e3⟩
  · rw [pk_un e, pk_un e, pk_un e, mm_un e, mm_un e, mm_un e]
    exact h j hj
theorem mm_wnN {w : Nat} (h : w ≤ 8) : nI w - 1 = (-1) ↔ w = 0 := by
  have t : ∀ w, w < 9 → (nI w - 1 = (-1) ↔ w = 0) := by decide +kernel
  exact t w (by omega)
theorem mm_wnS {w : Nat} (h : w ≠ 0) : nI w - 1 = nI (w - 1) := by
  cases w with
  | zero => exact absurd rfl h
  | succ n => exact nI_pred n
theorem mm_learnP {post : St2 → Prop} {q q' : mm_Q} {u : St2} {p0 p1 p2 p3 p4 : Int32} {s g nx li nu : Nat} (h : mm_R A B os ok od q u) (hs : mm_learn q s g nx li nu = some q') (e0 : p0 = nI s) (e1 : p1 = nI g) (e2 : p2 = nI nx) (e3 : p3 = nI li) (e4 : p4 = nI nu)
    (hs8 : s < 8) (hg8 : g < 8) (hp : ∀ u', mm_R A B os ok od q' u' → post u') : wpX_learn post u p0 p1 p2 p3 p4 := by
  subst e0 e1 e2 e3 e4
  obtain ⟨t, dn, ar, oc, ⟨wn, wl, wm⟩, nm, se, sd, w, r⟩ := q
  obtain ⟨f0, f1, f2, f3, f4, f5, a1, a2, a3, a4, a5, a6, a7, a8, a9, a10, a11, a12, a13, a14, a15, a16, a17, a18, a19, a20, a21, a22, a23, a24, a25, a26, a27, a28, a29, a30, a31, a32, a33, a34, a35, a36, a37, a38⟩ := u
  have hR := h
  obtain ⟨hT, hS, hA, hO, hW, hN, hE, hD, hw, hr⟩ := h
  unfold mm_learn at hs
  dsimp only at hs
  unfold wpX_learn
  dsimp only
  refine pk_eq s g (fun z => ?_) (fun z => ?_)
  · have hq := Option.some.inj (mm_bT (mm_beqT z) hs)
    subst hq
    exact hp _ hR
  · obtain ⟨c, hq⟩ := mm_ckS (mm_bF (mm_beqF z) hs)
    obtain ⟨c, c'⟩ := mm_andS c
    obtain ⟨c3, c'⟩ := mm_andS c'
    obtain ⟨c4, c5⟩ := mm_andS c'
    have hnx := mm_ltB c3
    have hli := mm_ltB c4
    have hnu := mm_ltB c5
    have hk : s * 8 + g < 64 := by omega
    obtain ⟨⟨w1, w2, w3⟩, w4, w5, w6⟩ := hW (s * 8 + g) hk
    have hcl : (nI (s * 8 + g)).toNatClampNeg = s * 8 + g := nI_clamp (by omega)
    have take : (Nat.ble (wm (s * 8 + g) + 1) nu || (Nat.beq nu (wm (s * 8 + g)) && (Nat.beq (wn (s * 8 + g)) 0 || Nat.ble (li + 1) (wl (s * 8 + g))))) = true →
        wX_learn_85 post (nI nx) (nI li) (nI nu) (nI (s * 8 + g)) f0 f1 f2 f3 f4 f5 a1 a2 a3 a4 a5 a6 a7 a8 a9 a10 a11 a12 a13 a14 a15 a16 a17 a18 a19 a20 a21 a22 a23 a24 a25 a26 a27 a28 a29 a30 a31 a32 a33 a34 a35 a36 a37 a38 := by
      intro hc
      have hq' := Option.some.inj (mm_bT hc hq)
      subst hq'
      unfold wX_learn_85
      rw [hcl, mm_b8 nx (by omega), mm_b8 li (by omega)]
      exact ⟨pk_in _ 64 hk, nm_e ⟨pk_in _ 64 hk, nm_e ⟨pk_in _ 64 hk, nm_e (hp _ ⟨hT, hS, hA, hO, mm_gW_up hW hnx hli hnu rfl rfl rfl, hN, hE, hD, hw, hr⟩)⟩⟩⟩
    have leave : (Nat.ble (wm (s * 8 + g) + 1) nu || (Nat.beq nu (wm (s * 8 + g)) && (Nat.beq (wn (s * 8 + g)) 0 || Nat.ble (li + 1) (wl (s * 8 + g))))) = false → post (f0, f1, f2, f3, f4, f5, a1, a2, a3, a4, a5, a6, a7, a8, a9, a10, a11, a12, a13, a14, a15, a16, a17, a18, a19, a20, a21, a22, a23, a24, a25, a26, a27, a28, a29, a30, a31, a32, a33, a34, a35, a36, a37, a38) := by
      intro hc
      have hq' := Option.some.inj (mm_bF hc hq)
      subst hq'
      exact hp _ hR
    have t1 : wm (s * 8 + g) < nu → Nat.ble (wm (s * 8 + g) + 1) nu = true := fun h => Nat.ble_eq_true_of_le h
    have t0 : nu ≤ wm (s * 8 + g) → Nat.ble (wm (s * 8 + g) + 1) nu = false := fun h => by
      cases e : Nat.ble (wm (s * 8 + g) + 1) nu
      · rfl
      · exact absurd (mm_ltB e) (by omega)
    refine nm_r (mm_m8 s g) ⟨pk_in _ 64 hk, ?_⟩
    have core : ∀ z0 : Int32, (z0 = 0 → nu ≤ wm (s * 8 + g)) → (¬ z0 = 0 → wm (s * 8 + g) < nu) → wX_learn_31 post (nI nx) (nI li) (nI nu) (nI (s * 8 + g)) z0 f0 f1 f2 f3 f4 f5 a1 a2 a3 a4 a5 a6 a7 a8 a9 a10 a11 a12 a13 a14 a15 a16 a17 a18 a19 a20 a21 a22 a23 a24 a25 a26 a27 a28 a29 a30 a31 a32 a33 a34 a35 a36 a37 a38 := by
      intro z0 k0 k1
      have fin1 : (nu ≤ wm (s * 8 + g) → (Nat.beq nu (wm (s * 8 + g)) && (Nat.beq (wn (s * 8 + g)) 0 || Nat.ble (li + 1) (wl (s * 8 + g)))) = true) → wX_learn_68 post (nI nx) (nI li) (nI nu) (nI (s * 8 + g)) z0 f0 f1 f2 f3 f4 f5 a1 a2 a3 a4 a5 a6 a7 a8 a9 a10 a11 a12 a13 a14 a15 a16 a17 a18 a19 a20 a21 a22 a23 a24 a25 a26 a27 a28 a29 a30 a31 a32 a33 a34 a35 a36 a37 a38 := by
        intro hc
        refine br_c (fun y => br_f (by decide) (take ?_)) (fun y => take ?_)
        · rw [t0 (k0 y), hc (k0 y)]
          rfl
        · rw [t1 (k1 y)]
          rfl
      have fin0 : (nu ≤ wm (s * 8 + g) → (Nat.beq nu (wm (s * 8 + g)) && (Nat.beq (wn (s * 8 + g)) 0 || Nat.ble (li + 1) (wl (s * 8 + g)))) = false) → wX_learn_72 post (nI nx) (nI li) (nI nu) (nI (s * 8 + g)) z0 f0 f1 f2 f3 f4 f5 a1 a2 a3 a4 a5 a6 a7 a8 a9 a10 a11 a12 a13 a14 a15 a16 a17 a18 a19 a20 a21 a22 a23 a24 a25 a26 a27 a28 a29 a30 a31 a32 a33 a34 a35 a36 a37 a38 := by
        intro hc
        refine br_c (fun y => br_t rfl (leave ?_)) (fun y => take ?_)
        · rw [t0 (k0 y), hc (k0 y)]
          rfl
        · rw [t1 (k1 y)]
          rfl
      unfold wX_learn_31
      rw [hcl, w4, w5, w6]
      refine ⟨pk_in _ 64 hk, pk_eq nu (wm (s * 8 + g)) (fun y => ⟨pk_in _ 64 hk, ek_if (mm_wnN w1) (fun y1 => fin1 (fun _ => ?_)) (fun y1 => ⟨pk_in _ 64 hk, pk_le (wl (s * 8 + g)) li (fun y2 => fin0 (fun _ => ?_)) (fun y2 => fin1 (fun _ => ?_))⟩)⟩) (fun y => fin0 (fun _ => ?_))⟩
      · rw [y, y1, Nat.beq_refl, Nat.beq_refl]
        rfl
      · have b1 : Nat.beq (wn (s * 8 + g)) 0 = false := by
          cases e : Nat.beq (wn (s * 8 + g)) 0
          · rfl
          · exact absurd (mm_eqB e) y1
        have b2 : Nat.ble (li + 1) (wl (s * 8 + g)) = false := by
          cases e : Nat.ble (li + 1) (wl (s * 8 + g))
          · rfl
          · exact absurd (mm_ltB e) (by omega)
        rw [b1, b2, y, Nat.beq_refl]
        rfl
      · have b2 : Nat.ble (li + 1) (wl (s * 8 + g)) = true := Nat.ble_eq_true_of_le y2
        rw [b2, y, Nat.beq_refl]
        cases Nat.beq (wn (s * 8 + g)) 0 <;> rfl
      · have b1 : Nat.beq nu (wm (s * 8 + g)) = false := by
          cases e : Nat.beq nu (wm (s * 8 + g))
          · rfl
          · exact absurd (mm_eqB e) y
        rw [b1]
        rfl
    rw [hcl, w6]
    exact pk_le nu (wm (s * 8 + g)) (fun y => core 0 (fun _ => y) (fun z => absurd rfl z)) (fun y => core 1 (fun z => absurd z (by decide)) (fun _ => y))
theorem mm_memS {x : Nat} : ∀ {l : List Nat}, mm_mem x l = true ↔ ∃ j, j < l.length ∧ l.getD j 0 = x
  | [] => ⟨(fun h => nomatch h), (fun ⟨j, hj, _⟩ => absurd hj (Nat.not_lt_zero j))⟩
  | y :: l => by
    unfold mm_mem
    cases e : Nat.beq y x
    · refine ⟨fun h => ?_, fun ⟨j, hj, hx⟩ => ?_⟩
      · obtain ⟨j, hj, hx⟩ := mm_memS.mp (show mm_mem x l = true from h)
        exact ⟨j + 1, Nat.succ_lt_succ hj, hx⟩
      · cases j with
        | zero => exact absurd hx (mm_neB e)
        | succ j =>
          have h' : mm_mem x l = true := mm_memS.mpr ⟨j, Nat.lt_of_succ_lt_succ hj, hx⟩
          exact h'
    · exact ⟨fun _ => ⟨0, Nat.succ_pos _, mm_eqB e⟩, fun _ => rfl⟩
theorem mm_wasSeenP {post : Int32 → Prop} {q : mm_Q} {p0 p1 p2 : Int32} {s x : Nat} {f0 f1 f2 f3 f4 f5 : Int32} {a1 a2 a3 a4 a5 a6 a7 a8 a9 a10 a11 a12 a13 a14 a15 a16 a17 a18 a19 a20 a21 a22 a23 a24 a25 a26 a27 a28 a29 a30 a31 a32 a33 a34 a35 a36 a37 a38 : Nat → Int32} (h : mm_R A B os ok od q (f0, f1, f2, f3, f4, f5, a1, a2, a3, a4, a5, a6, a7, a8, a9, a10, a11, a12, a13, a14, a15, a16, a17, a18, a19, a20, a21, a22, a23, a24, a25, a26, a27, a28, a29, a30, a31, a32, a33, a34, a35, a36, a37, a38)) (e0 : p0 = nI s) (e1 : p1 = nI A) (e2 : p2 = nI x) (hs8 : s < 8) (hx : x < 1000)
    (H1 : mm_mem x (q.2.2.2.2.2.2.1 s) = true → post 1) (H0 : mm_mem x (q.2.2.2.2.2.2.1 s) = false → post 0) : wpX_wasSeen post (f0, f1, f2, f3, f4, f5, a1, a2, a3, a4, a5, a6, a7, a8, a9, a10, a11, a12, a13, a14, a15, a16, a17, a18, a19, a20, a21, a22, a23, a24, a25, a26, a27, a28, a29, a30, a31, a32, a33, a34, a35, a36, a37, a38) p0 p1 p2 := by
  subst e0 e1 e2
  obtain ⟨t, dn, ar, oc, wy, nm, se, sd, w, r⟩ := q
  obtain ⟨hT, hS, hA, hO, hW, hN, hE, hD, hw, hr⟩ := h
  have hA8 : A < 8 := hS.1.1
  obtain ⟨⟨g1, g2⟩, g3, g4⟩ := hE s hs8
  dsimp only at H1 H0
  have e64 : nI s * 64 = nI (s * 64) := pk_mul s 64
  have e65 : nI s * 64 + 64 = nI (s * 64 + 64) := mm_m64 s 64
  have loop : ∀ m i, i + m = 64 → (∀ j, j < i → j < (se s).length → (se s).getD j 0 ≠ x) → wX_wasSeen_6 post (nI s) (nI A) (nI x) f0 f1 f2 f3 f4 f5 a1 a2 a3 a4 a5 a6 a7 a8 a9 a10 a11 a12 a13 a14 a15 a16 a17 a18 a19 a20 a21 a22 a23 a24 a25 a26 a27 a28 a29 a30 a31 a32 a33 a34 a35 a36 a37 a38 (m + 1) (nI (s * 64 + i)) := by
    intro m
    induction m with
    | zero =>
      intro i hi hn
      refine pk_le (s * 64 + 64) (s * 64 + i) (fun _ => H0 ?_) (fun z => absurd z (by omega)) e65
      cases e : mm_mem x (se s)
      · rfl
      · obtain ⟨j, hj, hx⟩ := mm_memS.mp e
        exact absurd hx (hn j (by omega) hj)
    | succ m ih =>
      intro i hi hn
      refine pk_le (s * 64 + 64) (s * 64 + i) (fun z => absurd z (by omega)) (fun _ => ⟨pk_in (s * 64 + i) 512 (by omega), ?_⟩) e65
      rw [nI_clamp (show s * 64 + i < 2 ^ 31 by omega)]
      have next : (i < (se s).length → (se s).getD i 0 ≠ x) → wX_wasSeen_6 post (nI s) (nI A) (nI x) f0 f1 f2 f3 f4 f5 a1 a2 a3 a4 a5 a6 a7 a8 a9 a10 a11 a12 a13 a14 a15 a16 a17 a18 a19 a20 a21 a22 a23 a24 a25 a26 a27 a28 a29 a30 a31 a32 a33 a34 a35 a36 a37 a38 (m + 1) (nI (s * 64 + i) + 1) := by
        intro hh
        rw [nI_1]
        refine ih (i + 1) (by omega) (fun j hj hl => ?_)
        by_cases e : j = i
        · rw [e]
          exact hh (by omega)
        · exact hn j (by omega) hl
      rcases Nat.lt_or_ge i (se s).length with hl | hl
      · obtain ⟨k1, k2, k3⟩ := g3 i hl
        refine br_t k1 ⟨pk_in (s * 64 + i) 512 (by omega), ?_⟩
        rw [k2]
        exact pk_eq ((se s).getD i 0) x (fun z => H1 (mm_memS.mpr ⟨i, hl, z⟩)) (fun z => nm_e (next (fun _ => z)))
      · refine br_f ?_ (nm_e (next (fun z => absurd z (by omega))))
        rw [g4 i hl (by omega)]
        have t : ∀ A, A < 8 → ¬ (-1 : Int32) = nI A := by decide +kernel
        exact t A hA8
  exact nm_r e64 ⟨65, loop 64 0 rfl (fun j hj => absurd hj (by omega))⟩
theorem mm_gE_up {se : Nat → List Nat} {s x : Nat} {a17 a18 a19 : Nat → Int32} {v17 v18 v19 : Int32} (h : mm_gE A se a17 a18 a19) (hs8 : s < 8) (hx : x < 1000) (hl : (se s).length < 60) (e1 : v17 = nI A) (e2 : v18 = nI x) (e3 : v19 = nI ((se s).length + 1)) :
    mm_gE A (mm_up se s (se s ++ [x])) (upd a17 (s * 64 + (se s).length) v17) (upd a18 (s * 64 + (se s).length) v18) (upd a19 s v19) := by
  intro j hj
  by_cases e : j = s
  · subst e
    obtain ⟨⟨g1, g2⟩, g3, g4⟩ := h j hj
    rw [mm_us, pk_us, List.length_append]
    refine ⟨⟨by simp only [List.length_singleton]; omega, e3⟩, fun i hi => ?_, fun i hi hi2 => ?_⟩
    · have hi' : i < (se j).length + 1 := hi
      by_cases ei : i = (se j).length
      · subst ei
        rw [pk_us, pk_us, e1, e2]
        have : (se j ++ [x]).getD (se j).length 0 = x := by simp
        rw [this]
        exact ⟨rfl, rfl, hx⟩
      · rw [pk_un (by omega), pk_un (by omega)]
        have hi2 : i < (se j).length := by omega
        have : (se j ++ [x]).getD i 0 = (se j).getD i 0 := by
          simp [List.getD, List.getElem?_append_left hi2]
        rw [this]
        exact g3 i hi2
    · have hi' : (se j).length + 1 ≤ i := hi
      rw [pk_un (by omega)]
      exact g4 i (by omega) hi2
  · have hh := h j hj
    rw [mm_un e, pk_un e]
    obtain ⟨⟨g1, g2⟩, g3, g4⟩ := hh
    refine ⟨⟨g1, g2⟩, fun i hi => ?_, fun i hi hi2 => ?_⟩
    · rw [pk_un (by omega), pk_un (by omega)]
      exact g3 i hi
    · rw [pk_un (by omega)]
      exact g4 i hi hi2
theorem mm_seeP {post : St2 → Prop} {q q' : mm_Q} {u : St2} {p0 p1 p2 : Int32} {s x : Nat} (h : mm_R A B os ok od q u) (hs : mm_see q s x = some q') (e0 : p0 = nI s) (e1 : p1 = nI A) (e2 : p2 = nI x)
    (hp : ∀ u', mm_R A B os ok od q' u' → post u') : wpX_see post u p0 p1 p2 := by
  subst e0 e1 e2
  obtain ⟨t, dn, ar, oc, wy, nm, se, sd, w, r⟩ := q
  obtain ⟨f0, f1, f2, f3, f4, f5, a1, a2, a3, a4, a5, a6, a7, a8, a9, a10, a11, a12, a13, a14, a15, a16, a17, a18, a19, a20, a21, a22, a23, a24, a25, a26, a27, a28, a29, a30, a31, a32, a33, a34, a35, a36, a37, a38⟩ := u
  obtain ⟨hT, hS, hA, hO, hW, hN, hE, hD, hw, hr⟩ := h
  obtain ⟨c, hq⟩ := mm_ckS hs
  obtain ⟨c, c3⟩ := mm_andS c
  obtain ⟨c1, c2⟩ := mm_andS c
  have hs8 := mm_ltB c1
  have hx := mm_ltB c2
  have hl := mm_ltB c3
  have hq' := Option.some.inj hq
  subst hq'
  obtain ⟨⟨g1, g2⟩, g3, g4⟩ := hE s hs8
  have hA8 : A < 8 := hS.1.1
  unfold wpX_see
  dsimp only
  have hrem : nI ((se s).length + 1) - nI ((se s).length + 1) / 64 * 64 = nI ((se s).length + 1) := by
    rw [show (64 : Int32) = nI 64 from rfl, pk_rem (by omega) (by omega) (by omega), Nat.mod_eq_of_lt (show (se s).length + 1 < 64 by omega)]
  rw [nI_clamp (show s < 2 ^ 31 by omega), g2, nI_1, mm_m64, hrem, mm_b8 _ (show (se s).length + 1 < 128 by omega), mm_b8 A (by omega)]
  refine ⟨pk_in s 8 hs8, nm_e ⟨pk_in (s * 64 + (se s).length) 512 (by omega), ?_⟩⟩
  rw [nI_clamp (show s * 64 + (se s).length < 2 ^ 31 by omega)]
  exact nm_e ⟨pk_in (s * 64 + (se s).length) 512 (by omega), nm_e ⟨pk_in s 8 hs8, by decide, pk_in s 8 hs8, nm_e (hp _ ⟨hT, hS, hA, hO, hW, hN, mm_gE_up hE hs8 hx hl rfl rfl rfl, hD, hw, hr⟩)⟩⟩
theorem mm_passP {post : St2 → Prop} {q q' : mm_Q} {u : St2} {p0 : Int32} {s : Nat} (h : mm_R A B os ok od q u) (hs : mm_pass A os ok od q s = some q') (e0 : p0 = nI s)
    (hp : ∀ u', mm_R A B os ok od q' u' → post u') : wpX_passOn post u p0 := by
  subst e0
  obtain ⟨t, dn, ar, oc, ⟨wn, wl, wm⟩, nm, se, sd, w, r⟩ := q
  obtain ⟨f0, f1, f2, f3, f4, f5, a1, a2, a3, a4, a5, a6, a7, a8, a9, a10, a11, a12, a13, a14, a15, a16, a17, a18, a19, a20, a21, a22, a23, a24, a25, a26, a27, a28, a29, a30, a31, a32, a33, a34, a35, a36, a37, a38⟩ := u
  have hR := h
  obtain ⟨hT, hS, hA, hO, hW, hN, hE, hD, hw, hr⟩ := h
  obtain ⟨c, hq⟩ := mm_ckS hs
  obtain ⟨c1, c2⟩ := mm_andS c
  have hs8 := mm_ltB c1
  have hg8 := mm_ltB c2
  have hk : s * 8 + w 2 < 64 := by omega
  obtain ⟨⟨w1, w2, w3⟩, w4, w5, w6⟩ := hW _ hk
  have hA8 : A < 8 := hS.1.1
  unfold wpX_passOn
  dsimp only
  refine nm_r (mm_Fn hw 2) (nm_r (mm_m8 s (w 2)) ⟨pk_in _ 64 hk, nm_r (e' := nI (wn (s * 8 + w 2)) - 1) (by rw [nI_clamp (show s * 8 + w 2 < 2 ^ 31 by omega), w4]) ?_⟩)
  refine ek_if (mm_wnN w1) (fun z => ?_) (fun z => ?_)
  · have hq' := Option.some.inj (mm_bT (mm_beqT z) hq)
    subst hq'
    exact hp _ hR
  · obtain ⟨cn, hq⟩ := mm_ckS (mm_bF (mm_beqF z) hq)
    have e1 := mm_wnS z
    refine mm_isUp hS.1.2.2.2 hA8 hs8 (show wn (s * 8 + w 2) - 1 < 8 by omega) rfl e1 (fun _ => br_f (by decide) (mm_sendP hR hq rfl e1 (fun u' h' => ?_))) (fun z => absurd (cn.symm.trans z) (by decide))
    obtain ⟨f0b, f1b, f2b, f3b, f4b, f5b, a1b, a2b, a3b, a4b, a5b, a6b, a7b, a8b, a9b, a10b, a11b, a12b, a13b, a14b, a15b, a16b, a17b, a18b, a19b, a20b, a21b, a22b, a23b, a24b, a25b, a26b, a27b, a28b, a29b, a30b, a31b, a32b, a33b, a34b, a35b, a36b, a37b, a38b⟩ := u'
    exact hp _ h'
theorem mm_askC {t la : Nat} (ht : t < 10000) (hl : la < 100000) {P Q : Prop} (f : la ≤ t → P) (g : t < la → Q) : (24 ≤ nI t - (nI la - 24) → P) ∧ (¬ 24 ≤ nI t - (nI la - 24) → Q) := by
  have e : (nI t - (nI la - 24)).toInt = (t : Int) + 24 - la := by
    have e1 : nI t - (nI la - 24) = nI (t + 24) - nI la := by
      rw [← nI_add, show nI 24 = (24 : Int32) from rfl]
      grind
    rw [e1, pk_sub_toInt (by omega) (by omega)]
    omega
  have e2 : (24 ≤ nI t - (nI la - 24)) ↔ la ≤ t := by
    rw [Int32.le_iff_toInt_le, e, show (24 : Int32).toInt = 24 from rfl]
    omega
  exact ek_if e2 f (fun z => g (by omega))
theorem mm_gN_ask {own : Nat → Nat} {qn la x : Nat} {a11 a12 a16 : Nat → Int32} {v11 v12 v16 : Int32} (h : mm_gN A (own, qn, la) a11 a12 a16) (e1 : v11 = nI (own A + 1)) (e2 : v12 = nI (qn + 1)) (e3 : v16 = nI x - 24) :
    mm_gN A (mm_up own A (own A + 1), qn + 1, x) (upd a11 A v11) (upd a12 A v12) (upd a16 (A * 8 + mm_E A) v16) := by
  obtain ⟨h1, h2, h3⟩ := h
  refine ⟨fun s hs => ?_, ?_, ?_⟩
  · by_cases e : s = A
    · subst e
      rw [pk_us, mm_us, e1]
    · rw [pk_un e, mm_un e]
      exact h1 s hs
  · rw [pk_us, e2]
  · rw [pk_us, e3]
theorem mm_seeN {q q' : mm_Q} {s x : Nat} (hs : mm_see q s x = some q') : q'.2.2.2.2.2.1 = q.2.2.2.2.2.1 := by
  obtain ⟨t, dn, ar, oc, wy, nm, se, sd, w, r⟩ := q
  obtain ⟨c, hq⟩ := mm_ckS hs
  have hq' := Option.some.inj hq
  subst hq'
  rfl
theorem mm_bgN {q : mm_Q} {k f g : Nat} : (mm_bg q k f g).2.2.2.2.2.1 = q.2.2.2.2.2.1 := by
  obtain ⟨t, dn, ar, oc, wy, nm, se, sd, w, r⟩ := q
  rfl
theorem mm_wrN {q : mm_Q} {k x : Nat} : (mm_wr q k x).2.2.2.2.2.1 = q.2.2.2.2.2.1 := by
  obtain ⟨t, dn, ar, oc, wy, nm, se, sd, w, r⟩ := q
  rfl
theorem mm_RN {q : mm_Q} {f0 f1 f2 f3 f4 f5 : Int32} {a1 a2 a3 a4 a5 a6 a7 a8 a9 a10 a11 a12 a13 a14 a15 a16 a17 a18 a19 a20 a21 a22 a23 a24 a25 a26 a27 a28 a29 a30 a31 a32 a33 a34 a35 a36 a37 a38 : Nat → Int32} (h : mm_R A B os ok od q (f0, f1, f2, f3, f4, f5, a1, a2, a3, a4, a5, a6, a7, a8, a9, a10, a11, a12, a13, a14, a15, a16, a17, a18, a19, a20, a21, a22, a23, a24, a25, a26, a27, a28, a29, a30, a31, a32, a33, a34, a35, a36, a37, a38)) : mm_gN A q.2.2.2.2.2.1 a11 a12 a16 := by
  obtain ⟨t, dn, ar, oc, wy, nm, se, sd, w, r⟩ := q
  exact h.2.2.2.2.2.1
theorem mm_askP {post : St2 → Prop} {q q' : mm_Q} {u : St2} {p0 p1 : Int32} (h : mm_R A B os ok od q u) (hs : mm_ask A os ok od q = some q') (e0 : p0 = nI A) (e1 : p1 = nI (mm_E A))
    (hp : ∀ u', mm_R A B os ok od q' u' → post u') : wpX_ask post u p0 p1 := by
  subst e0 e1
  obtain ⟨t, dn, ar, oc, wy, ⟨own, qn, la⟩, se, sd, w, r⟩ := q
  obtain ⟨f0, f1, f2, f3, f4, f5, a1, a2, a3, a4, a5, a6, a7, a8, a9, a10, a11, a12, a13, a14, a15, a16, a17, a18, a19, a20, a21, a22, a23, a24, a25, a26, a27, a28, a29, a30, a31, a32, a33, a34, a35, a36, a37, a38⟩ := u
  have hR := h
  obtain ⟨hT, hS, hA, hO, hW, hN, hE, hD, hw, hr⟩ := h
  obtain ⟨c, hq⟩ := mm_ckS hs
  have hla := mm_ltB c
  have hA8 : A < 8 := hS.1.1
  have hE8 := mm_E8 A
  have hk : A * 8 + mm_E A < 64 := by omega
  obtain ⟨n1, n2, n3⟩ := hN
  have hN : mm_gN A (own, qn, la) a11 a12 a16 := ⟨n1, n2, n3⟩
  have hclA : (nI A).toNatClampNeg = A := nI_clamp (by omega)
  have h4 : f4 = nI t := hT.2
  subst h4
  unfold wpX_ask
  dsimp only
  rw [mm_m8]
  refine nm_e ⟨pk_in _ 64 hk, ?_⟩
  rw [nI_clamp (show A * 8 + mm_E A < 2 ^ 31 by omega), n3, hclA, n1 A hA8, n2, nI_1, nI_1]
  refine mm_askC hT.1 hla (fun z => ?_) (fun z => ?_)
  · obtain ⟨q1, g1, g2⟩ := mm_bdS (mm_bT (Nat.ble_eq_true_of_le z) hq)
    refine ⟨pk_in _ 64 hk, nm_e ⟨pk_in A 8 hA8, pk_in A 8 hA8, nm_e ⟨pk_in A 8 hA8, pk_in A 8 hA8, nm_e ⟨pk_in A 8 hA8, ?_⟩⟩⟩⟩
    have e24 : nI t = nI (t + 24) - 24 := by
      rw [← nI_add, show nI 24 = (24 : Int32) from rfl]
      grind
    have hR1 : mm_R A B os ok od (t, dn, ar, oc, wy, (mm_up own A (own A + 1), qn + 1, t + 24), se, sd, w, r) (f0, f1, f2, f3, nI t, f5, a1, a2, a3, a4, a5, a6, a7, a8, a9, a10, upd a11 A (nI (own A + 1)), upd a12 A (nI (qn + 1)), a13, a14, a15, upd a16 (A * 8 + mm_E A) (nI t), a17, a18, a19, a20, a21, a22, a23, a24, a25, a26, a27, a28, a29, a30, a31, a32, a33, a34, a35, a36, a37, a38) :=
      ⟨hT, hS, hA, hO, hW, mm_gN_ask hN rfl rfl e24, hE, hD, hw, hr⟩
    refine mm_seeP hR1 g1 rfl rfl pk_us (fun u1 h1 => ?_)
    obtain ⟨f0b, f1b, f2b, f3b, f4b, f5b, a1b, a2b, a3b, a4b, a5b, a6b, a7b, a8b, a9b, a10b, a11b, a12b, a13b, a14b, a15b, a16b, a17b, a18b, a19b, a20b, a21b, a22b, a23b, a24b, a25b, a26b, a27b, a28b, a29b, a30b, a31b, a32b, a33b, a34b, a35b, a36b, a37b, a38b⟩ := u1
    refine mm_begin 0 A (mm_E A) h1 rfl rfl rfl (fun u2 h2 => ?_)
    obtain ⟨f0c, f1c, f2c, f3c, f4c, f5c, a1c, a2c, a3c, a4c, a5c, a6c, a7c, a8c, a9c, a10c, a11c, a12c, a13c, a14c, a15c, a16c, a17c, a18c, a19c, a20c, a21c, a22c, a23c, a24c, a25c, a26c, a27c, a28c, a29c, a30c, a31c, a32c, a33c, a34c, a35c, a36c, a37c, a38c⟩ := u2
    have hN2 := mm_RN h2
    rw [mm_bgN, mm_seeN g1] at hN2
    obtain ⟨k1, k2, k3⟩ := hN2
    have k1' : a11c A = nI (own A + 1) := by
      rw [k1 A hA8, mm_us]
    dsimp only
    rw [k1', k2]
    refine ⟨pk_in A 8 hA8, nm_e (nm_e ⟨pk_in A 8 hA8, nm_e ?_⟩)⟩
    refine mm_tellA (mm_Rw (mm_Rw (mm_Rw h2 rfl) rfl) rfl) g2 rfl hA8 (fun u3 h3 => ?_)
    obtain ⟨f0d, f1d, f2d, f3d, f4d, f5d, a1d, a2d, a3d, a4d, a5d, a6d, a7d, a8d, a9d, a10d, a11d, a12d, a13d, a14d, a15d, a16d, a17d, a18d, a19d, a20d, a21d, a22d, a23d, a24d, a25d, a26d, a27d, a28d, a29d, a30d, a31d, a32d, a33d, a34d, a35d, a36d, a37d, a38d⟩ := u3
    exact hp _ h3
  · have hq' := Option.some.inj (mm_bF (mm_bleF z) hq)
    subst hq'
    exact hp _ hR
end
end
section
section
variable {A os ok od : Nat} {B : Int32}
theorem mm_seeR {q q' : mm_Q} {s x : Nat} (hs : mm_see q s x = some q') : mm_r q' = mm_r q := by
  obtain ⟨t, dn, ar, oc, wy, nm, se, sd, w, r⟩ := q
  obtain ⟨c, hq⟩ := mm_ckS hs
  have hq' := Option.some.inj hq
  subst hq'
  rfl
theorem mm_learnR {q q' : mm_Q} {s g nx li nu : Nat} (hs : mm_learn q s g nx li nu = some q') : mm_r q' = mm_r q := by
  obtain ⟨t, dn, ar, oc, ⟨wn, wl, wm⟩, nm, se, sd, w, r⟩ := q
  unfold mm_learn at hs
  dsimp only at hs
  cases e : Nat.beq s g
  · obtain ⟨c, hq⟩ := mm_ckS (mm_bF e hs)
    cases e2 : (Nat.ble (wm (s * 8 + g) + 1) nu || (Nat.beq nu (wm (s * 8 + g)) && (Nat.beq (wn (s * 8 + g)) 0 || Nat.ble (li + 1) (wl (s * 8 + g)))))
    · have hq' := Option.some.inj (mm_bF e2 hq)
      subst hq'
      rfl
    · have hq' := Option.some.inj (mm_bT e2 hq)
      subst hq'
      rfl
  · have hq' := Option.some.inj (mm_bT e hs)
    subst hq'
    rfl
theorem mm_cpW {q : mm_Q} : mm_w (mm_cp q) = mm_r q := by
  obtain ⟨t, dn, ar, oc, wy, nm, se, sd, w, r⟩ := q
  rfl
theorem mm_gN_own {own : Nat → Nat} {qn la s : Nat} {a11 a12 a16 : Nat → Int32} {v11 : Int32} (h : mm_gN A (own, qn, la) a11 a12 a16) (e1 : v11 = nI (own s + 1)) :
    mm_gN A (mm_up own s (own s + 1), qn, la) (upd a11 s v11) a12 a16 := by
  obtain ⟨h1, h2, h3⟩ := h
  refine ⟨fun j hj => ?_, h2, h3⟩
  by_cases e : j = s
  · subst e
    rw [pk_us, mm_us, e1]
  · rw [pk_un e, mm_un e]
    exact h1 j hj
theorem mm_hAskP {post : St2 → Prop} {q q' : mm_Q} {u : St2} {p0 p1 : Int32} {s snd : Nat} (h : mm_R A B os ok od q u) (hs : mm_hAsk A os ok od q s snd = some q') (e0 : p0 = nI s) (e1 : p1 = nI snd)
    (hp : ∀ u', mm_R A B os ok od q' u' → post u') : wpX_hearAsk post u p0 p1 := by
  subst e0 e1
  obtain ⟨f0, f1, f2, f3, f4, f5, a1, a2, a3, a4, a5, a6, a7, a8, a9, a10, a11, a12, a13, a14, a15, a16, a17, a18, a19, a20, a21, a22, a23, a24, a25, a26, a27, a28, a29, a30, a31, a32, a33, a34, a35, a36, a37, a38⟩ := u
  have r1 := mm_Rr h 1
  have r5 := mm_Rr h 5
  have hA8 := (mm_LKof h).1
  obtain ⟨t, dn, ar, oc, wy, nm, se, sd, w, r⟩ := q
  obtain ⟨c, hq⟩ := mm_ckS hs
  obtain ⟨c, c'⟩ := mm_andS c
  obtain ⟨c1, c2⟩ := mm_andS c
  obtain ⟨c3, c4⟩ := mm_andS c'
  have hr1 : r 1 = A := mm_eqB c1
  have hg8 := mm_ltB c2
  have hs8 := mm_ltB c3
  have hx := mm_ltB c4
  dsimp only [mm_r] at r1 r5
  rw [hr1] at r1
  unfold wpX_hearAsk
  dsimp only
  refine nm_r r1 (mm_wasSeenP h rfl rfl r5 hs8 hx (fun hm => ?_) (fun hm => ?_))
  · have hq' := Option.some.inj (mm_bT hm hq)
    subst hq'
    exact br_f (by decide) (hp _ h)
  · obtain ⟨q1, g1, hq⟩ := mm_bdS (mm_bF hm hq)
    obtain ⟨q2, g2, hq⟩ := mm_bdS hq
    refine br_t rfl (mm_seeP h g1 rfl rfl r5 (fun u1 h1 => ?_))
    obtain ⟨f0b, f1b, f2b, f3b, f4b, f5b, a1b, a2b, a3b, a4b, a5b, a6b, a7b, a8b, a9b, a10b, a11b, a12b, a13b, a14b, a15b, a16b, a17b, a18b, a19b, a20b, a21b, a22b, a23b, a24b, a25b, a26b, a27b, a28b, a29b, a30b, a31b, a32b, a33b, a34b, a35b, a36b, a37b, a38b⟩ := u1
    have b3 := mm_Rr h1 3
    have b4 := mm_Rr h1 4
    rw [mm_seeR g1] at b3 b4
    refine mm_learnP h1 g2 rfl rfl rfl (show a38b 4 + 1 = nI (r 4 + 1) by rw [b4]; exact nI_1 _) b3 hs8 hA8 (fun u2 h2 => ?_)
    obtain ⟨f0c, f1c, f2c, f3c, f4c, f5c, a1c, a2c, a3c, a4c, a5c, a6c, a7c, a8c, a9c, a10c, a11c, a12c, a13c, a14c, a15c, a16c, a17c, a18c, a19c, a20c, a21c, a22c, a23c, a24c, a25c, a26c, a27c, a28c, a29c, a30c, a31c, a32c, a33c, a34c, a35c, a36c, a37c, a38c⟩ := u2
    have c2 := mm_Rr h2 2
    rw [mm_learnR g2, mm_seeR g1] at c2
    dsimp only
    rw [c2]
    refine pk_eq (r 2) s (fun z => ?_) (fun z => ?_)
    · have hq := mm_bT (mm_beqT z) hq
      obtain ⟨t2, dn2, ar2, oc2, wy2, ⟨own, qn, la⟩, se2, sd2, w2, r2⟩ := q2
      obtain ⟨kT, kS, kA, kO, kW, kN, kE, kD, kw, kr⟩ := h2
      rw [nI_clamp (show s < 2 ^ 31 by omega), kN.1 s hs8, nI_1]
      refine ⟨pk_in s 8 hs8, pk_in s 8 hs8, nm_e ?_⟩
      have h3 : mm_R A B os ok od (t2, dn2, ar2, oc2, wy2, (mm_up own s (own s + 1), qn, la), se2, sd2, w2, r2) (f0c, f1c, f2c, f3c, f4c, f5c, a1c, a2c, a3c, a4c, a5c, a6c, a7c, a8c, a9c, a10c, upd a11c s (nI (own s + 1)), a12c, a13c, a14c, a15c, a16c, a17c, a18c, a19c, a20c, a21c, a22c, a23c, a24c, a25c, a26c, a27c, a28c, a29c, a30c, a31c, a32c, a33c, a34c, a35c, a36c, a37c, a38c) :=
        ⟨kT, kS, kA, kO, kW, mm_gN_own kN rfl, kE, kD, kw, kr⟩
      refine mm_begin 1 s A h3 rfl rfl rfl (fun u4 h4 => ?_)
      obtain ⟨f0d, f1d, f2d, f3d, f4d, f5d, a1d, a2d, a3d, a4d, a5d, a6d, a7d, a8d, a9d, a10d, a11d, a12d, a13d, a14d, a15d, a16d, a17d, a18d, a19d, a20d, a21d, a22d, a23d, a24d, a25d, a26d, a27d, a28d, a29d, a30d, a31d, a32d, a33d, a34d, a35d, a36d, a37d, a38d⟩ := u4
      have kN4 : mm_gN A (mm_up own s (own s + 1), qn, la) a11d a12d a16d := mm_RN h4
      have k11 : a11d s = nI (own s + 1) := by
        have k := kN4.1 s hs8
        rw [mm_us] at k
        exact k
      dsimp only
      rw [k11]
      refine ⟨pk_in s 8 hs8, nm_e (mm_passP (mm_Rw h4 rfl) hq rfl (fun u5 h5 => ?_))⟩
      obtain ⟨f0e, f1e, f2e, f3e, f4e, f5e, a1e, a2e, a3e, a4e, a5e, a6e, a7e, a8e, a9e, a10e, a11e, a12e, a13e, a14e, a15e, a16e, a17e, a18e, a19e, a20e, a21e, a22e, a23e, a24e, a25e, a26e, a27e, a28e, a29e, a30e, a31e, a32e, a33e, a34e, a35e, a36e, a37e, a38e⟩ := u5
      exact hp _ h5
    · have hq := mm_bF (mm_beqF z) hq
      refine mm_copy h2 (fun u4 h4 => ?_)
      obtain ⟨f0d, f1d, f2d, f3d, f4d, f5d, a1d, a2d, a3d, a4d, a5d, a6d, a7d, a8d, a9d, a10d, a11d, a12d, a13d, a14d, a15d, a16d, a17d, a18d, a19d, a20d, a21d, a22d, a23d, a24d, a25d, a26d, a27d, a28d, a29d, a30d, a31d, a32d, a33d, a34d, a35d, a36d, a37d, a38d⟩ := u4
      have d4 := mm_Rwi h4 4
      rw [mm_cpW, mm_learnR g2, mm_seeR g1] at d4
      dsimp only [mm_r] at d4
      dsimp only
      rw [d4, nI_1]
      refine nm_e (mm_tellA (mm_Rw h4 rfl) hq rfl hs8 (fun u5 h5 => ?_))
      obtain ⟨f0e, f1e, f2e, f3e, f4e, f5e, a1e, a2e, a3e, a4e, a5e, a6e, a7e, a8e, a9e, a10e, a11e, a12e, a13e, a14e, a15e, a16e, a17e, a18e, a19e, a20e, a21e, a22e, a23e, a24e, a25e, a26e, a27e, a28e, a29e, a30e, a31e, a32e, a33e, a34e, a35e, a36e, a37e, a38e⟩ := u5
      exact hp _ h5
theorem mm_hTellP {post : St2 → Prop} {q q' : mm_Q} {u : St2} {p0 p1 : Int32} {s snd : Nat} (h : mm_R A B os ok od q u) (hs : mm_hTell A os ok od q s snd = some q') (e0 : p0 = nI s) (e1 : p1 = nI snd)
    (hp : ∀ u', mm_R A B os ok od q' u' → post u') : wpX_hearTell post u p0 p1 := by
  subst e0 e1
  obtain ⟨f0, f1, f2, f3, f4, f5, a1, a2, a3, a4, a5, a6, a7, a8, a9, a10, a11, a12, a13, a14, a15, a16, a17, a18, a19, a20, a21, a22, a23, a24, a25, a26, a27, a28, a29, a30, a31, a32, a33, a34, a35, a36, a37, a38⟩ := u
  have r1 := mm_Rr h 1
  have r3 := mm_Rr h 3
  have r4 := mm_Rr h 4
  obtain ⟨t, dn, ar, oc, wy, nm, se, sd, w, r⟩ := q
  obtain ⟨c, hq⟩ := mm_ckS hs
  obtain ⟨c1, c⟩ := mm_andS c
  obtain ⟨c2, c3⟩ := mm_andS c
  have hs8 := mm_ltB c1
  have hg8 := mm_ltB c2
  have hf8 := mm_ltB c3
  obtain ⟨q1, g1, hq⟩ := mm_bdS hq
  unfold wpX_hearTell
  dsimp only
  refine mm_learnP h g1 rfl r1 rfl (by rw [r4]; exact nI_1 _) r3 hs8 hf8 (fun u1 h1 => ?_)
  obtain ⟨f0b, f1b, f2b, f3b, f4b, f5b, a1b, a2b, a3b, a4b, a5b, a6b, a7b, a8b, a9b, a10b, a11b, a12b, a13b, a14b, a15b, a16b, a17b, a18b, a19b, a20b, a21b, a22b, a23b, a24b, a25b, a26b, a27b, a28b, a29b, a30b, a31b, a32b, a33b, a34b, a35b, a36b, a37b, a38b⟩ := u1
  have b2 := mm_Rr h1 2
  rw [mm_learnR g1] at b2
  dsimp only [mm_r] at b2
  dsimp only
  rw [b2]
  refine pk_eq (r 2) s (fun z => ?_) (fun z => ?_)
  · have hq' := Option.some.inj (mm_bT (mm_beqT z) hq)
    subst hq'
    exact hp _ h1
  · have hq := mm_bF (mm_beqF z) hq
    refine mm_copy h1 (fun u4 h4 => ?_)
    obtain ⟨f0d, f1d, f2d, f3d, f4d, f5d, a1d, a2d, a3d, a4d, a5d, a6d, a7d, a8d, a9d, a10d, a11d, a12d, a13d, a14d, a15d, a16d, a17d, a18d, a19d, a20d, a21d, a22d, a23d, a24d, a25d, a26d, a27d, a28d, a29d, a30d, a31d, a32d, a33d, a34d, a35d, a36d, a37d, a38d⟩ := u4
    have d4 := mm_Rwi h4 4
    rw [mm_cpW, mm_learnR g1] at d4
    dsimp only [mm_r] at d4
    dsimp only
    rw [d4, nI_1]
    refine nm_e (mm_passP (mm_Rw h4 rfl) hq rfl (fun u5 h5 => ?_))
    obtain ⟨f0e, f1e, f2e, f3e, f4e, f5e, a1e, a2e, a3e, a4e, a5e, a6e, a7e, a8e, a9e, a10e, a11e, a12e, a13e, a14e, a15e, a16e, a17e, a18e, a19e, a20e, a21e, a22e, a23e, a24e, a25e, a26e, a27e, a28e, a29e, a30e, a31e, a32e, a33e, a34e, a35e, a36e, a37e, a38e⟩ := u5
    exact hp _ h5
theorem mm_hasB : ∀ i, i < 16 → ((((1 : Int32) >>> (nI i &&& 31)) &&& 1) = 0 ↔ i ≠ 0) := by decide +kernel
theorem mm_hasP {post : Int32 → Prop} {p0 : Int32} {i : Nat} {f0 f1 f2 f3 f4 f5 : Int32} {a1 a2 a3 a4 a5 a6 a7 a8 a9 a10 a11 a12 a13 a14 a15 a16 a17 a18 a19 a20 a21 a22 a23 a24 a25 a26 a27 a28 a29 a30 a31 a32 a33 a34 a35 a36 a37 a38 : Nat → Int32} (h : f1 = 1) (e0 : p0 = nI i) (hi : i < 16) (H1 : i = 0 → post 1) (H0 : i ≠ 0 → post 0) : wpX_has post (f0, f1, f2, f3, f4, f5, a1, a2, a3, a4, a5, a6, a7, a8, a9, a10, a11, a12, a13, a14, a15, a16, a17, a18, a19, a20, a21, a22, a23, a24, a25, a26, a27, a28, a29, a30, a31, a32, a33, a34, a35, a36, a37, a38) p0 := by
  subst e0 h
  exact ek_if (mm_hasB i hi) H0 (fun z => H1 (by omega))
theorem mm_thereP {post : Int32 → Prop} {p0 : Int32} {dn : Bool} {f0 f1 f2 f3 f4 f5 : Int32} {a1 a2 a3 a4 a5 a6 a7 a8 a9 a10 a11 a12 a13 a14 a15 a16 a17 a18 a19 a20 a21 a22 a23 a24 a25 a26 a27 a28 a29 a30 a31 a32 a33 a34 a35 a36 a37 a38 : Nat → Int32} (h : f2 = (bif dn then 1 else 0)) (e0 : p0 = nI 0) (H1 : dn = true → post 1) (H0 : dn = false → post 0) : wpX_isThere post (f0, f1, f2, f3, f4, f5, a1, a2, a3, a4, a5, a6, a7, a8, a9, a10, a11, a12, a13, a14, a15, a16, a17, a18, a19, a20, a21, a22, a23, a24, a25, a26, a27, a28, a29, a30, a31, a32, a33, a34, a35, a36, a37, a38) p0 := by
  subst e0 h
  cases dn
  · exact br_t (by decide) (H0 rfl)
  · exact br_f (by decide) (H1 rfl)
theorem mm_fw1 {post : Int32 → Prop} {x1 x2 x3 : Int32} {f0 f1 f2 f3 f4 f5 : Int32} {a1 a2 a3 a4 a5 a6 a7 a8 a9 a10 a11 a12 a13 a14 a15 a16 a17 a18 a19 a20 a21 a22 a23 a24 a25 a26 a27 a28 a29 a30 a31 a32 a33 a34 a35 a36 a37 a38 : Nat → Int32} (h : f1 = 1) (hp : post x3) : ∀ m i, i + m = 16 → 0 < i → wX_firstWaiting_5 post x1 x2 f0 f1 f2 f3 f4 f5 a1 a2 a3 a4 a5 a6 a7 a8 a9 a10 a11 a12 a13 a14 a15 a16 a17 a18 a19 a20 a21 a22 a23 a24 a25 a26 a27 a28 a29 a30 a31 a32 a33 a34 a35 a36 a37 a38 (m + 1) x3 (nI i)
  | 0, i, hm, hi => pk_le 16 i (fun _ => hp) (fun z => absurd z (by omega))
  | m + 1, i, hm, hi => pk_le 16 i (fun z => absurd z (by omega)) (fun _ => mm_hasP h rfl (by omega) (fun z => absurd z (by omega)) (fun _ => br_t rfl (br_t rfl (nm_r (nI_1 i) (mm_fw1 h hp m (i + 1) (by omega) (by omega))))))
theorem mm_fwP {post : Int32 → Prop} {p0 p1 : Int32} {dn : Bool} {s g : Nat} {f0 f1 f2 f3 f4 f5 : Int32} {a1 a2 a3 a4 a5 a6 a7 a8 a9 a10 a11 a12 a13 a14 a15 a16 a17 a18 a19 a20 a21 a22 a23 a24 a25 a26 a27 a28 a29 a30 a31 a32 a33 a34 a35 a36 a37 a38 : Nat → Int32} (h1 : f1 = 1) (h2 : f2 = (bif dn then 1 else 0)) (h4 : a4 0 = nI A) (h5 : a5 0 = nI (mm_E A)) (hA8 : A < 8) (hs8 : s < 8) (hg8 : g < 8) (e0 : p0 = nI s) (e1 : p1 = nI g)
    (H0 : dn = false → s = A → g = mm_E A → post 0) (H1 : ¬ (dn = false ∧ s = A ∧ g = mm_E A) → post (-1)) : wpX_firstWaiting post (f0, f1, f2, f3, f4, f5, a1, a2, a3, a4, a5, a6, a7, a8, a9, a10, a11, a12, a13, a14, a15, a16, a17, a18, a19, a20, a21, a22, a23, a24, a25, a26, a27, a28, a29, a30, a31, a32, a33, a34, a35, a36, a37, a38) p0 p1 := by
  subst e0 e1
  have hE8 := mm_E8 A
  refine ⟨17, pk_le 16 0 (fun z => absurd z (by omega)) (fun _ => mm_hasP h1 rfl (by omega) (fun _ => br_f (by decide) (mm_thereP h2 rfl (fun z => ?_) (fun z => ?_))) (fun z => absurd rfl z))⟩
  · exact br_f (by decide) (br_t rfl (nm_r (nI_1 0) (mm_fw1 h1 (H1 (fun y => absurd (z.symm.trans y.1) (by decide))) 15 1 (by omega) (by omega))))
  · refine br_t rfl ⟨pk_in 0 16 (by omega), ?_⟩
    rw [show (0 : Int32).toNatClampNeg = 0 from rfl, h4]
    refine pk_eq A s (fun z1 => ⟨pk_in 0 16 (by omega), ?_⟩) (fun z1 => br_t rfl (nm_r (nI_1 0) (mm_fw1 h1 (H1 (fun y => absurd y.2.1.symm z1)) 15 1 (by omega) (by omega))))
    rw [h5]
    refine pk_eq (mm_E A) g (fun z2 => br_f (by decide) (br_t (by decide) (nm_r (nI_1 0) (mm_fw1 h1 (H0 z z1.symm z2.symm) 15 1 (by omega) (by omega))))) (fun z2 => br_t rfl (nm_r (nI_1 0) (mm_fw1 h1 (H1 (fun y => absurd y.2.2.symm z2)) 15 1 (by omega) (by omega))))
end
end
section
section
variable {A os ok od : Nat} {B : Int32}
theorem mm_carryP {post : St2 → Prop} {q q' : mm_Q} {u : St2} {p0 : Int32} {s : Nat} (h : mm_R A B os ok od q u) (h1 : 1 ≤ mm_r q 5) (h2 : mm_r q 5 ≤ 1000)
    (hs : (bif Nat.beq (mm_r q 5) 1 then some (mm_wr (mm_cp q) 5 0) else mm_pass A os ok od (mm_wr (mm_cp q) 5 (mm_r q 5 - 1)) s) = some q') (e0 : p0 = nI s)
    (hp : ∀ u', mm_R A B os ok od q' u' → post u') : wpX_carryOn post u p0 := by
  subst e0
  obtain ⟨f0, f1, f2, f3, f4, f5, a1, a2, a3, a4, a5, a6, a7, a8, a9, a10, a11, a12, a13, a14, a15, a16, a17, a18, a19, a20, a21, a22, a23, a24, a25, a26, a27, a28, a29, a30, a31, a32, a33, a34, a35, a36, a37, a38⟩ := u
  unfold wpX_carryOn
  dsimp only
  refine mm_copy h (fun u1 k1 => ?_)
  obtain ⟨f0b, f1b, f2b, f3b, f4b, f5b, a1b, a2b, a3b, a4b, a5b, a6b, a7b, a8b, a9b, a10b, a11b, a12b, a13b, a14b, a15b, a16b, a17b, a18b, a19b, a20b, a21b, a22b, a23b, a24b, a25b, a26b, a27b, a28b, a29b, a30b, a31b, a32b, a33b, a34b, a35b, a36b, a37b, a38b⟩ := u1
  have b5 := mm_Rwi k1 5
  rw [mm_cpW] at b5
  have e5 : a37b 5 - 1 = nI (mm_r q 5 - 1) := by
    rw [b5]
    exact pk_sub (b := 1) h1
  dsimp only
  rw [e5]
  refine nm_e ?_
  rw [pk_us]
  have k2 := mm_Rw (k := 5) (x := mm_r q 5 - 1) k1 rfl
  refine pk_le (mm_r q 5 - 1) 0 (fun z => ?_) (fun z => ?_)
  · have e1 : mm_r q 5 = 1 := by omega
    have hq' := Option.some.inj (mm_bT (mm_beqT e1) hs)
    rw [e1] at k2 ⊢
    subst hq'
    exact hp _ k2
  · refine mm_passP k2 (mm_bF (mm_beqF (show mm_r q 5 ≠ 1 by omega)) hs) rfl (fun u2 k3 => ?_)
    obtain ⟨f0c, f1c, f2c, f3c, f4c, f5c, a1c, a2c, a3c, a4c, a5c, a6c, a7c, a8c, a9c, a10c, a11c, a12c, a13c, a14c, a15c, a16c, a17c, a18c, a19c, a20c, a21c, a22c, a23c, a24c, a25c, a26c, a27c, a28c, a29c, a30c, a31c, a32c, a33c, a34c, a35c, a36c, a37c, a38c⟩ := u2
    exact hp _ k3
theorem mm_keepP {post : St2 → Prop} {p0 : Int32} {p : Nat} {f0 f1 f2 f3 f4 f5 : Int32} {a1 a2 a3 a4 a5 a6 a7 a8 a9 a10 a11 a12 a13 a14 a15 a16 a17 a18 a19 a20 a21 a22 a23 a24 a25 a26 a27 a28 a29 a30 a31 a32 a33 a34 a35 a36 a37 a38 : Nat → Int32} (e0 : p0 = nI p) (hp64 : p < 64) (h6 : a38 6 = nI 1) (h8 : a38 8 = B) (h25 : a25 p = 0)
    (hp : post (f0, f1, f2, f3, f4, f5, a1, a2, a3, a4, a5, a6, a7, a8, a9, a10, a11, a12, a13, a14, a15, a16, a17, a18, a19, a20, a21, a22, a23, a24, upd a25 p 1, upd a26 (p * 8) B.toInt8.toInt32, a27, a28, a29, a30, a31, a32, a33, a34, a35, a36, a37, a38)) : wpX_keepPiece post (f0, f1, f2, f3, f4, f5, a1, a2, a3, a4, a5, a6, a7, a8, a9, a10, a11, a12, a13, a14, a15, a16, a17, a18, a19, a20, a21, a22, a23, a24, a25, a26, a27, a28, a29, a30, a31, a32, a33, a34, a35, a36, a37, a38) p0 := by
  subst e0
  have hcl : (nI p).toNatClampNeg = p := nI_clamp (by omega)
  have hi : nI p * 8 + (0 : Int32) = nI (p * 8) := by
    have := mm_m8 p 0
    rwa [nI_0, Nat.add_zero] at this
  refine ⟨2, pk_le 1 0 (fun z => absurd z (by omega)) (fun _ => ⟨pk_in p 64 hp64, ?_⟩) h6⟩
  rw [hcl, h25, hi, nI_clamp (show p * 8 < 2 ^ 31 by omega)]
  refine br_f (by decide) ⟨pk_in p 64 hp64, pk_in 8 12 (by omega), pk_in (p * 8) 512 (by omega), nm_e ⟨pk_in p 64 hp64, pk_in p 64 hp64, nm_e (nm_r (nI_1 0) ?_)⟩⟩
  rw [show (8 + 0 : Int32).toNatClampNeg = 8 from rfl, h8, show ((0 : Int32) + 1).toInt8.toInt32 = 1 from rfl]
  exact pk_le 1 1 (fun _ => hp) (fun z => absurd z (by omega)) h6
theorem mm_acceptP {post : St2 → Prop} {p0 p1 : Int32} {V : Int32} {f0 f1 f2 f3 f4 f5 : Int32} {a1 a2 a3 a4 a5 a6 a7 a8 a9 a10 a11 a12 a13 a14 a15 a16 a17 a18 a19 a20 a21 a22 a23 a24 a25 a26 a27 a28 a29 a30 a31 a32 a33 a34 a35 a36 a37 a38 : Nat → Int32} (h1 : f1 = 1) (h2 : f2 = 0) (h4 : a4 0 = nI A) (h5 : a5 0 = nI (mm_E A)) (hA8 : A < 8) (e0 : p0 = nI A) (e1 : p1 = nI (mm_E A))
    (h25 : a25 (A + 8 * mm_E A) = 1) (h26 : a26 ((A + 8 * mm_E A) * 8) = V.toInt8.toInt32) (h10 : a10 (A + 8 * mm_E A) = 0)
    (hp : post (f0, f1, 1, f3, f4, f5, a1, a2, a3, a4, a5, upd a6 0 1, a7, upd a8 0 V.toInt8.toInt32, a9, upd a10 (A + 8 * mm_E A) 1, a11, a12, a13, a14, a15, a16, a17, a18, a19, a20, a21, a22, a23, upd a24 (A + 8 * mm_E A) 0, upd a25 (A + 8 * mm_E A) 0, a26, a27, a28, a29, a30, a31, a32, a33, a34, a35, a36, a37, a38)) : wpX_accept post (f0, f1, f2, f3, f4, f5, a1, a2, a3, a4, a5, a6, a7, a8, a9, a10, a11, a12, a13, a14, a15, a16, a17, a18, a19, a20, a21, a22, a23, a24, a25, a26, a27, a28, a29, a30, a31, a32, a33, a34, a35, a36, a37, a38) p0 p1 := by
  subst e0 e1 h2
  have hE8 := mm_E8 A
  have hp64 : A + 8 * mm_E A < 64 := by omega
  have hcl : (nI (A + 8 * mm_E A)).toNatClampNeg = A + 8 * mm_E A := nI_clamp (by omega)
  unfold wpX_accept wpX_pair
  dsimp only
  rw [mm_p8]
  refine mm_fwP (dn := false) h1 rfl h4 h5 hA8 hA8 hE8 rfl rfl (fun _ _ _ => ?_) (fun z => absurd ⟨rfl, rfl, rfl⟩ z)
  refine br_f (by decide) ⟨pk_in _ 64 hp64, pk_in 0 16 (by omega), ?_⟩
  rw [hcl, h25, show vp_nar .byte 1 = (1 : Int32) from vp_nar_byte 1, show (0 : Int32).toNatClampNeg = 0 from rfl]
  refine nm_e ⟨2, pk_in _ 64 hp64, ?_⟩
  rw [hcl, h25]
  have hi : nI (A + 8 * mm_E A) * 8 + nI 0 = nI ((A + 8 * mm_E A) * 8) := mm_m8 _ 0
  refine pk_le 1 0 (fun z => absurd z (by omega)) (fun _ => ⟨pk_in ((A + 8 * mm_E A) * 8) 512 (by omega) hi, pk_in 0 128 (by omega), ?_⟩)
  rw [show nI (A + 8 * mm_E A) * 8 + 0 = nI ((A + 8 * mm_E A) * 8) from hi, nI_clamp (show (A + 8 * mm_E A) * 8 < 2 ^ 31 by omega), h26, pk_vb, show ((0 : Int32) * 8 + 0).toNatClampNeg = 0 from rfl]
  refine nm_e (nm_r (nI_1 0) ⟨pk_in _ 64 hp64, ?_⟩)
  rw [hcl, h25]
  refine pk_le 1 1 (fun _ => nm_r (e' := 1) (by decide) ⟨pk_in _ 64 hp64, pk_in _ 64 hp64, ?_⟩) (fun z => absurd z (by omega))
  rw [hcl, h10]
  exact nm_r (e' := upd a10 (A + 8 * mm_E A) 1) rfl ⟨pk_in _ 64 hp64, nm_e ⟨pk_in _ 64 hp64, nm_e hp⟩⟩
theorem mm_bgD {q : mm_Q} {k f g : Nat} : mm_dn (mm_bg q k f g) = mm_dn q := by
  obtain ⟨t, dn, ar, oc, wy, nm, se, sd, w, r⟩ := q
  rfl
theorem mm_h92P {post : St2 → Prop} {q q' : mm_Q} {x1 x2 x3 : Int32} {s : Nat} {f0 f1 f2 f3 f4 f5 : Int32} {a1 a2 a3 a4 a5 a6 a7 a8 a9 a10 a11 a12 a13 a14 a15 a16 a17 a18 a19 a20 a21 a22 a23 a24 a25 a26 a27 a28 a29 a30 a31 a32 a33 a34 a35 a36 a37 a38 : Nat → Int32} (h : mm_R A B os ok od q (f0, f1, f2, f3, f4, f5, a1, a2, a3, a4, a5, a6, a7, a8, a9, a10, a11, a12, a13, a14, a15, a16, a17, a18, a19, a20, a21, a22, a23, a24, a25, a26, a27, a28, a29, a30, a31, a32, a33, a34, a35, a36, a37, a38)) (hd : mm_dn q = true) (e1 : x1 = nI s) (e2 : x2 = nI A) (e3 : x3 = nI (A + 8 * mm_E A))
    (hs : mm_pass A os ok od (mm_wr (mm_wr (mm_wr (mm_bg q 4 s A) 3 1) 4 0) 5 8) s = some q') (hp : ∀ u', mm_R A B os ok od q' u' → post u') : wX_hearPiece_92 post x1 x2 x3 f0 f1 f2 f3 f4 f5 a1 a2 a3 a4 a5 a6 a7 a8 a9 a10 a11 a12 a13 a14 a15 a16 a17 a18 a19 a20 a21 a22 a23 a24 a25 a26 a27 a28 a29 a30 a31 a32 a33 a34 a35 a36 a37 a38 := by
  subst e1 e2 e3
  have hA8 := (mm_LKof h).1
  have hE8 := mm_E8 A
  have hp64 : A + 8 * mm_E A < 64 := by omega
  have hcl : (nI (A + 8 * mm_E A)).toNatClampNeg = A + 8 * mm_E A := nI_clamp (by omega)
  unfold wX_hearPiece_92
  refine mm_begin 4 s A h rfl rfl rfl (fun u1 h1 => ?_)
  obtain ⟨f0b, f1b, f2b, f3b, f4b, f5b, a1b, a2b, a3b, a4b, a5b, a6b, a7b, a8b, a9b, a10b, a11b, a12b, a13b, a14b, a15b, a16b, a17b, a18b, a19b, a20b, a21b, a22b, a23b, a24b, a25b, a26b, a27b, a28b, a29b, a30b, a31b, a32b, a33b, a34b, a35b, a36b, a37b, a38b⟩ := u1
  have kS := mm_RS h1
  rw [mm_bgD, hd] at kS
  obtain ⟨k1, k2, k3, k4, k5, ⟨k6, k7⟩, k8⟩ := kS
  have k4' := k4 _ hp64
  rw [Nat.beq_refl] at k4'
  have k4'' : a10b (A + 8 * mm_E A) = 1 := k4'
  dsimp only
  rw [hcl, k4'', k6]
  refine ⟨pk_in _ 64 hp64, nm_e ⟨pk_in _ 64 hp64, nm_e (nm_e ?_)⟩⟩
  refine mm_passP (mm_Rw (mm_Rw (mm_Rw h1 (x := 1) rfl) (x := 0) rfl) (x := 8) rfl) hs rfl (fun u2 h2 => ?_)
  obtain ⟨f0c, f1c, f2c, f3c, f4c, f5c, a1c, a2c, a3c, a4c, a5c, a6c, a7c, a8c, a9c, a10c, a11c, a12c, a13c, a14c, a15c, a16c, a17c, a18c, a19c, a20c, a21c, a22c, a23c, a24c, a25c, a26c, a27c, a28c, a29c, a30c, a31c, a32c, a33c, a34c, a35c, a36c, a37c, a38c⟩ := u2
  exact hp _ h2
theorem mm_gS_acc {f1 f2 v24 v25 : Int32} {a1 a4 a5 a6 a7 a8 a9 a10 a20 a24 a25 : Nat → Int32} (h : mm_gS A B false f1 f2 a1 a4 a5 a6 a7 a8 a9 a10 a20 a24 a25) :
    mm_gS A B true f1 1 a1 a4 a5 (upd a6 0 1) a7 (upd a8 0 B.toInt8.toInt32) a9 (upd a10 (A + 8 * mm_E A) 1) a20 (upd (upd a24 (A + 8 * mm_E A) v24) (A + 8 * mm_E A) 0) (upd (upd a25 (A + 8 * mm_E A) v25) (A + 8 * mm_E A) 0) := by
  obtain ⟨⟨k1, k2, k3, k4⟩, ⟨k5, k6, k7, k8⟩, k9, k10, k11, k12, k13⟩ := h
  refine ⟨⟨k1, k2, rfl, k4⟩, ⟨k5, k6, pk_us, k8⟩, k9, fun j hj => ?_, k11, ⟨pk_us, pk_us⟩, fun _ => pk_us⟩
  by_cases e : j = A + 8 * mm_E A
  · rw [e, pk_us, Nat.beq_refl]
    rfl
  · rw [pk_un e, k10 j hj]
    have hb : Nat.beq j (A + 8 * mm_E A) = false := by
      cases e2 : Nat.beq j (A + 8 * mm_E A)
      · rfl
      · exact absurd (mm_eqB e2) e
    rw [hb]
    rfl
theorem mm_hPieceP {post : St2 → Prop} {q q' : mm_Q} {u : St2} {p0 : Int32} {s : Nat} (h : mm_R A B os ok od q u) (hs : mm_hPiece A os ok od q s = some q') (e0 : p0 = nI s)
    (hp : ∀ u', mm_R A B os ok od q' u' → post u') : wpX_hearPiece post u p0 := by
  subst e0
  obtain ⟨t, dn, ar, oc, wy, nm, se, sd, w, r⟩ := q
  obtain ⟨f0, f1, f2, f3, f4, f5, a1, a2, a3, a4, a5, a6, a7, a8, a9, a10, a11, a12, a13, a14, a15, a16, a17, a18, a19, a20, a21, a22, a23, a24, a25, a26, a27, a28, a29, a30, a31, a32, a33, a34, a35, a36, a37, a38⟩ := u
  have hR := h
  obtain ⟨hT, hS, hA, hO, hW, hN, hE, hD, hw, hr⟩ := h
  obtain ⟨c, hq⟩ := mm_ckS hs
  obtain ⟨c1, c⟩ := mm_andS c
  obtain ⟨c2, c⟩ := mm_andS c
  obtain ⟨c3, c4⟩ := mm_andS c
  have hs8 := mm_ltB c1
  have hg8 := mm_ltB c2
  have h51 := mm_leB c3
  have h52 := mm_leB c4
  have r2 := mm_Fn hr 2
  unfold wpX_hearPiece
  dsimp only
  rw [r2]
  refine pk_eq (r 2) s (fun z => ?_) (fun z => ?_)
  · obtain ⟨c, hq2⟩ := mm_ckS (mm_bT (mm_beqT z) hq)
    obtain ⟨c, c'⟩ := mm_andS c
    obtain ⟨d1, c⟩ := mm_andS c
    obtain ⟨d2, d3⟩ := mm_andS c
    obtain ⟨c, c'⟩ := mm_andS c'
    obtain ⟨d4, d5⟩ := mm_andS c
    obtain ⟨d6, c'⟩ := mm_andS c'
    obtain ⟨d7, d8⟩ := mm_andS c'
    have hdn : dn = false := by
      cases dn
      · rfl
      · exact absurd d1 (by decide)
    subst hdn
    have hsE := mm_eqB d3
    subst hsE
    have r1 : a38 1 = nI A := (mm_Fn hr 1).trans (congrArg nI (mm_eqB d2))
    have r3 : a38 3 = 0 := (mm_Fn hr 3).trans (congrArg nI (mm_eqB d4))
    have r4 : a38 4 = 0 := (mm_Fn hr 4).trans (congrArg nI (mm_eqB d5))
    have r6 : a38 6 = nI 1 := (mm_Fn hr 6).trans (congrArg nI (mm_eqB d6))
    have r7 : a38 7 = 1 := (mm_Fn hr 7).trans (congrArg nI (mm_eqB d7))
    have r8 : a38 8 = B := (hr 8 (by decide)).trans (by rw [mm_eqB d8]; rfl)
    have hS' := hS
    obtain ⟨⟨k1, k2, k3, k4⟩, ⟨k5, k6, k7, k8⟩, k9, k10, k11, ⟨k12, k13⟩, k14⟩ := hS'
    have hp64 : A + 8 * mm_E A < 64 := by omega
    have hcl : (nI (A + 8 * mm_E A)).toNatClampNeg = A + 8 * mm_E A := nI_clamp (by omega)
    have k10' : a10 (A + 8 * mm_E A) = 0 := k10 _ hp64
    refine nm_r r1 ?_
    unfold wpX_pair
    dsimp only
    rw [mm_p8, hcl, r3, r4, k10', k12]
    refine ⟨pk_in _ 64 hp64, br_t rfl ⟨pk_in _ 64 hp64, br_t rfl (mm_keepP rfl hp64 r6 r8 k13 ?_)⟩⟩
    dsimp only
    refine ⟨pk_in _ 64 hp64, pk_in _ 64 hp64, nm_e (br_t r7 (mm_acceptP k2 k3 k5 k6 k1 rfl rfl pk_us pk_us k10' ?_))⟩
    dsimp only
    exact mm_h92P (q := (t, true, ar, oc, wy, nm, se, sd, w, r)) ⟨hT, mm_gS_acc hS, hA, hO, hW, hN, hE, hD, hw, hr⟩ rfl rfl rfl rfl hq2 hp
  · refine mm_carryP hR h51 h52 (mm_bF (mm_beqF z) hq) rfl (fun u1 h1 => ?_)
    obtain ⟨f0b, f1b, f2b, f3b, f4b, f5b, a1b, a2b, a3b, a4b, a5b, a6b, a7b, a8b, a9b, a10b, a11b, a12b, a13b, a14b, a15b, a16b, a17b, a18b, a19b, a20b, a21b, a22b, a23b, a24b, a25b, a26b, a27b, a28b, a29b, a30b, a31b, a32b, a33b, a34b, a35b, a36b, a37b, a38b⟩ := u1
    exact hp _ h1
theorem mm_hearP {post : St2 → Prop} {q q' : mm_Q} {u : St2} {p0 p1 : Int32} {s snd : Nat} (h : mm_R A B os ok od q u) (hs : mm_hear A os ok od q s snd = some q') (e0 : p0 = nI s) (e1 : p1 = nI snd)
    (hp : ∀ u', mm_R A B os ok od q' u' → post u') : wpX_hear post u p0 p1 := by
  obtain ⟨f0, f1, f2, f3, f4, f5, a1, a2, a3, a4, a5, a6, a7, a8, a9, a10, a11, a12, a13, a14, a15, a16, a17, a18, a19, a20, a21, a22, a23, a24, a25, a26, a27, a28, a29, a30, a31, a32, a33, a34, a35, a36, a37, a38⟩ := u
  have r0 := mm_Rr h 0
  unfold wpX_hear
  dsimp only
  unfold mm_hear at hs
  refine nm_r r0 ?_
  cases c0 : Nat.beq (mm_r q 0) 0
  · have hs := mm_bF c0 hs
    cases c1 : Nat.beq (mm_r q 0) 1
    · obtain ⟨c3, hq⟩ := mm_ckS (mm_bF c1 hs)
      rw [mm_eqB c3]
      refine br_f (by decide) (br_f (by decide) (br_f (by decide) (br_t rfl (mm_hPieceP h hq e0 (fun u1 h1 => ?_)))))
      obtain ⟨f0b, f1b, f2b, f3b, f4b, f5b, a1b, a2b, a3b, a4b, a5b, a6b, a7b, a8b, a9b, a10b, a11b, a12b, a13b, a14b, a15b, a16b, a17b, a18b, a19b, a20b, a21b, a22b, a23b, a24b, a25b, a26b, a27b, a28b, a29b, a30b, a31b, a32b, a33b, a34b, a35b, a36b, a37b, a38b⟩ := u1
      exact hp _ h1
    · have hs := mm_bT c1 hs
      rw [mm_eqB c1]
      refine br_f (by decide) (br_t rfl (mm_hTellP h hs e0 e1 (fun u1 h1 => ?_)))
      obtain ⟨f0b, f1b, f2b, f3b, f4b, f5b, a1b, a2b, a3b, a4b, a5b, a6b, a7b, a8b, a9b, a10b, a11b, a12b, a13b, a14b, a15b, a16b, a17b, a18b, a19b, a20b, a21b, a22b, a23b, a24b, a25b, a26b, a27b, a28b, a29b, a30b, a31b, a32b, a33b, a34b, a35b, a36b, a37b, a38b⟩ := u1
      exact hp _ h1
  · have hs := mm_bT c0 hs
    rw [mm_eqB c0]
    refine br_t rfl (mm_hAskP h hs e0 e1 (fun u1 h1 => ?_))
    obtain ⟨f0b, f1b, f2b, f3b, f4b, f5b, a1b, a2b, a3b, a4b, a5b, a6b, a7b, a8b, a9b, a10b, a11b, a12b, a13b, a14b, a15b, a16b, a17b, a18b, a19b, a20b, a21b, a22b, a23b, a24b, a25b, a26b, a27b, a28b, a29b, a30b, a31b, a32b, a33b, a34b, a35b, a36b, a37b, a38b⟩ := u1
    exact hp _ h1
end
end
section
section
variable {A os ok od : Nat} {B : Int32}
theorem mm_lisE {post : St2 → Prop} {f0 f1 f2 f3 f4 f5 : Int32} {a1 a2 a3 a4 a5 a6 a7 a8 a9 a10 a11 a12 a13 a14 a15 a16 a17 a18 a19 a20 a21 a22 a23 a24 a25 a26 a27 a28 a29 a30 a31 a32 a33 a34 a35 a36 a37 a38 : Nat → Int32} (hp : post (f0, f1, f2, f3, f4, f5, a1, a2, a3, a4, a5, a6, a7, a8, a9, a10, a11, a12, a13, a14, a15, a16, a17, a18, a19, a20, a21, a22, a23, a24, a25, a26, a27, a28, a29, a30, a31, a32, a33, a34, a35, a36, a37, a38)) : ∀ m i, i + m = 1024 → (∀ j, i ≤ j → j < 1024 → a27 j = 0) → wX_listen_2 post (m + 1) (nI i) f0 f1 f2 f3 f4 f5 a1 a2 a3 a4 a5 a6 a7 a8 a9 a10 a11 a12 a13 a14 a15 a16 a17 a18 a19 a20 a21 a22 a23 a24 a25 a26 a27 a28 a29 a30 a31 a32 a33 a34 a35 a36 a37 a38
  | 0, i, hm, hz => pk_le 1024 i (fun _ => hp) (fun z => absurd z (by omega))
  | m + 1, i, hm, hz => by
    refine pk_le 1024 i (fun z => absurd z (by omega)) (fun _ => ⟨pk_in i 1024 (by omega), br_t ?_ (nm_r (nI_1 i) (mm_lisE hp m (i + 1) (by omega) (fun j h1 h2 => hz j (by omega) h2)))⟩)
    rw [nI_clamp (show i < 2 ^ 31 by omega)]
    exact hz i (Nat.le_refl i) (by omega)
theorem mm_rd64 {post : St2 → Prop} {J : Int32 → Int32 → Int32 → Int32 → Int32 → Int32 → Int32 → (Nat → Int32) → (Nat → Int32) → (Nat → Int32) → (Nat → Int32) → (Nat → Int32) → (Nat → Int32) → (Nat → Int32) → (Nat → Int32) → (Nat → Int32) → (Nat → Int32) → (Nat → Int32) → (Nat → Int32) → (Nat → Int32) → (Nat → Int32) → (Nat → Int32) → (Nat → Int32) → (Nat → Int32) → (Nat → Int32) → (Nat → Int32) → (Nat → Int32) → (Nat → Int32) → (Nat → Int32) → (Nat → Int32) → (Nat → Int32) → (Nat → Int32) → (Nat → Int32) → (Nat → Int32) → (Nat → Int32) → (Nat → Int32) → (Nat → Int32) → (Nat → Int32) → (Nat → Int32) → (Nat → Int32) → (Nat → Int32) → (Nat → Int32) → (Nat → Int32) → (Nat → Int32) → (Nat → Int32) → Prop}
    {x2 x3 : Int32} {k : Nat} {f0 f1 f2 f3 f4 f5 : Int32} {a1 a2 a3 a4 a5 a6 a7 a8 a9 a10 a11 a12 a13 a14 a15 a16 a17 a18 a19 a20 a21 a22 a23 a24 a25 a26 a27 a28 a29 a30 a31 a32 a33 a34 a35 a36 a37 a38 : Nat → Int32} (hk : k < 1024)
    (H : ∀ s38 : Nat → Int32, (∀ j, j < 12 → s38 j = a31 (k * 12 + j)) → wpX_hear (fun u => match u with | (f0b, f1b, f2b, f3b, f4b, f5b, a1b, a2b, a3b, a4b, a5b, a6b, a7b, a8b, a9b, a10b, a11b, a12b, a13b, a14b, a15b, a16b, a17b, a18b, a19b, a20b, a21b, a22b, a23b, a24b, a25b, a26b, a27b, a28b, a29b, a30b, a31b, a32b, a33b, a34b, a35b, a36b, a37b, a38b) => ∀ x : Int32, x = nI k + 1 → J x f0b f1b f2b f3b f4b f5b a1b a2b a3b a4b a5b a6b a7b a8b a9b a10b a11b a12b a13b a14b a15b a16b a17b a18b a19b a20b a21b a22b a23b a24b a25b a26b a27b a28b a29b a30b a31b a32b a33b a34b a35b a36b a37b a38b) (f0, f1, f2, f3, f4, f5, a1, a2, a3, a4, a5, a6, a7, a8, a9, a10, a11, a12, a13, a14, a15, a16, a17, a18, a19, a20, a21, a22, a23, a24, a25, a26, a27, a28, a29, a30, a31, a32, a33, a34, a35, a36, a37, s38) x2 x3) :
    ∃ n, wX_listen_64 post J (nI k) x2 x3 f0 f1 f2 f3 f4 f5 n 0 a1 a2 a3 a4 a5 a6 a7 a8 a9 a10 a11 a12 a13 a14 a15 a16 a17 a18 a19 a20 a21 a22 a23 a24 a25 a26 a27 a28 a29 a30 a31 a32 a33 a34 a35 a36 a37 a38 := by
  refine pk_loop (fun n i s => wX_listen_64 post J (nI k) x2 x3 f0 f1 f2 f3 f4 f5 n (nI i) a1 a2 a3 a4 a5 a6 a7 a8 a9 a10 a11 a12 a13 a14 a15 a16 a17 a18 a19 a20 a21 a22 a23 a24 a25 a26 a27 a28 a29 a30 a31 a32 a33 a34 a35 a36 a37 s) (fun i s => ∀ j, j < i → s j = a31 (k * 12 + j)) 12 0 a38 (by omega) (fun j hj => absurd hj (by omega)) ?_ ?_
  · intro n s hs
    exact pk_le 12 12 (fun _ => H s hs) (fun z => absurd z (by omega))
  · intro n i s hi hs hn
    have hx : (nI k * 12 + nI i) = nI (k * 12 + i) := mm_m12 k i
    refine pk_le 12 i (fun z => absurd z (by omega)) (fun _ => ⟨pk_in (k * 12 + i) 12288 (by omega) hx, pk_in i 12 hi, nm_e (nm_r (nI_1 i) (hn _ ?_))⟩)
    rw [hx, nI_clamp (show i < 2 ^ 31 by omega), nI_clamp (show k * 12 + i < 2 ^ 31 by omega)]
    intro j hj
    by_cases e : j = i
    · rw [e, pk_us]
    · rw [pk_un e]
      exact hs j (by omega)
theorem mm_gA_off {n i : Nat} {au : Nat → Bool} {sn ta ad : Nat → Nat} {af : Nat → mm_Fr} {f5 : Int32} {a27 a28 a29 a30 a31 : Nat → Int32} (h : mm_gA B (n, au, sn, ta, ad, af) f5 a27 a28 a29 a30 a31) :
    mm_gA B (n, mm_up au i false, sn, ta, ad, af) f5 (upd a27 i 0) a28 a29 a30 a31 := by
  obtain ⟨k0, k1, k2, k3⟩ := h
  refine ⟨k0, k1, fun j hj => ?_, fun j hj hu => ?_⟩
  · by_cases e : j = i
    · rw [e, pk_us, mm_us]
      rfl
    · rw [pk_un e, mm_un e]
      exact k2 j hj
  · by_cases e : j = i
    · rw [e, mm_us] at hu
      exact absurd hu (by decide)
    · rw [mm_un e] at hu
      exact k3 j hj hu
theorem mm_lisP {post : St2 → Prop} {q' : mm_Q} (hp : ∀ u', mm_R A B os ok od q' u' → post u') :
    ∀ (m i : Nat) (q : mm_Q) (f0 f1 f2 f3 f4 f5 : Int32) (a1 a2 a3 a4 a5 a6 a7 a8 a9 a10 a11 a12 a13 a14 a15 a16 a17 a18 a19 a20 a21 a22 a23 a24 a25 a26 a27 a28 a29 a30 a31 a32 a33 a34 a35 a36 a37 a38 : Nat → Int32), i + m = 1024 → mm_R A B os ok od q (f0, f1, f2, f3, f4, f5, a1, a2, a3, a4, a5, a6, a7, a8, a9, a10, a11, a12, a13, a14, a15, a16, a17, a18, a19, a20, a21, a22, a23, a24, a25, a26, a27, a28, a29, a30, a31, a32, a33, a34, a35, a36, a37, a38) → mm_lis A os ok od m i q = some q' → wX_listen_2 post (m + 1) (nI i) f0 f1 f2 f3 f4 f5 a1 a2 a3 a4 a5 a6 a7 a8 a9 a10 a11 a12 a13 a14 a15 a16 a17 a18 a19 a20 a21 a22 a23 a24 a25 a26 a27 a28 a29 a30 a31 a32 a33 a34 a35 a36 a37 a38 := by
  intro m
  induction m with
  | zero =>
    intro i q f0 f1 f2 f3 f4 f5 a1 a2 a3 a4 a5 a6 a7 a8 a9 a10 a11 a12 a13 a14 a15 a16 a17 a18 a19 a20 a21 a22 a23 a24 a25 a26 a27 a28 a29 a30 a31 a32 a33 a34 a35 a36 a37 a38 hm h hs
    have hq := Option.some.inj hs
    subst hq
    exact pk_le 1024 i (fun _ => hp _ h) (fun z => absurd z (by omega))
  | succ m ih =>
    intro i q f0 f1 f2 f3 f4 f5 a1 a2 a3 a4 a5 a6 a7 a8 a9 a10 a11 a12 a13 a14 a15 a16 a17 a18 a19 a20 a21 a22 a23 a24 a25 a26 a27 a28 a29 a30 a31 a32 a33 a34 a35 a36 a37 a38 hm h hs
    unfold mm_lis at hs
    cases cn : Nat.ble (mm_n q) i
    · obtain ⟨q1, g1, g2⟩ := mm_bdS (mm_bF cn hs)
      obtain ⟨t, dn, ⟨n, au, sn, ta, ad, af⟩, oc, wy, nm, se, sd, w, r⟩ := q
      have hR := h
      obtain ⟨hT, hS, hA, hO, hW, hN, hE, hD, hw, hr⟩ := h
      have hA' := hA
      obtain ⟨k0, k1, k2, k3⟩ := hA'
      have h4 : f4 = nI t := hT.2
      have hi : i < 1024 := by omega
      have next : q1 = (t, dn, (n, au, sn, ta, ad, af), oc, wy, nm, se, sd, w, r) → wX_listen_2 post (m + 1) (nI i + 1) f0 f1 f2 f3 f4 f5 a1 a2 a3 a4 a5 a6 a7 a8 a9 a10 a11 a12 a13 a14 a15 a16 a17 a18 a19 a20 a21 a22 a23 a24 a25 a26 a27 a28 a29 a30 a31 a32 a33 a34 a35 a36 a37 a38 := by
        intro e
        subst e
        rw [nI_1]
        exact ih (i + 1) _ f0 f1 f2 f3 f4 f5 a1 a2 a3 a4 a5 a6 a7 a8 a9 a10 a11 a12 a13 a14 a15 a16 a17 a18 a19 a20 a21 a22 a23 a24 a25 a26 a27 a28 a29 a30 a31 a32 a33 a34 a35 a36 a37 a38 (by omega) hR g2
      refine pk_le 1024 i (fun z => absurd z (by omega)) (fun _ => ⟨pk_in i 1024 hi, ?_⟩)
      rw [nI_clamp (show i < 2 ^ 31 by omega), k2 i hi]
      unfold mm_slot at g1
      dsimp only at g1
      cases cu : au i
      · have e := (Option.some.inj (mm_bF (by rw [cu]; rfl) g1)).symm
        exact br_t rfl (nm_e (next e))
      · obtain ⟨⟨u1, u2, u3, u4⟩, ⟨u5, u6, u7⟩, u8⟩ := k3 i hi cu
        have hA8 : A < 8 := hS.1.1
        refine br_f (by decide) ⟨pk_in i 1024 hi, ?_⟩
        refine pk_lt t (ad i) (fun z => ?_) (fun z => ?_) h4 u7 (by omega) (by omega)
        · have e := (Option.some.inj (mm_bF (by rw [cu, mm_bleF z]; rfl) g1)).symm
          exact nm_e (next e)
        · obtain ⟨cb, g1⟩ := mm_ckS (mm_bT (by rw [cu, Nat.ble_eq_true_of_le z]; rfl) g1)
          refine ⟨pk_in i 1024 hi, nm_e ⟨pk_in i 1024 hi, nm_r u6 ⟨pk_in i 1024 hi, nm_r u5 (mm_isUp hS.1.2.2.2 hA8 u2 u3 rfl rfl (fun _ => br_f (by decide) (mm_rd64 hi (fun s38 hs38 => ?_))) (fun z => absurd (cb.symm.trans z) (by decide)))⟩⟩⟩
          have hR2 : mm_R A B os ok od (t, dn, (n, mm_up au i false, sn, ta, ad, af), oc, wy, nm, se, sd, w, af i) (f0, f1, f2, f3, f4, f5, a1, a2, a3, a4, a5, a6, a7, a8, a9, a10, a11, a12, a13, a14, a15, a16, a17, a18, a19, a20, a21, a22, a23, a24, a25, a26, upd a27 i 0, a28, a29, a30, a31, a32, a33, a34, a35, a36, a37, s38) :=
            ⟨hT, hS, mm_gA_off hA, hO, hW, hN, hE, hD, hw, fun j hj => (hs38 j hj).trans (u8 j hj)⟩
          refine mm_hearP hR2 g1 rfl rfl (fun u1 h1 => ?_)
          obtain ⟨f0b, f1b, f2b, f3b, f4b, f5b, a1b, a2b, a3b, a4b, a5b, a6b, a7b, a8b, a9b, a10b, a11b, a12b, a13b, a14b, a15b, a16b, a17b, a18b, a19b, a20b, a21b, a22b, a23b, a24b, a25b, a26b, a27b, a28b, a29b, a30b, a31b, a32b, a33b, a34b, a35b, a36b, a37b, a38b⟩ := u1
          exact nm_r (nI_1 i) (ih (i + 1) q1 f0b f1b f2b f3b f4b f5b a1b a2b a3b a4b a5b a6b a7b a8b a9b a10b a11b a12b a13b a14b a15b a16b a17b a18b a19b a20b a21b a22b a23b a24b a25b a26b a27b a28b a29b a30b a31b a32b a33b a34b a35b a36b a37b a38b (by omega) h1 g2)
    · have hq := Option.some.inj (mm_bT cn hs)
      subst hq
      have hle := mm_leB cn
      refine mm_lisE (hp _ h) (m + 1) i hm (fun j h1 h2 => ?_)
      obtain ⟨t, dn, ⟨n, au, sn, ta, ad, af⟩, oc, wy, nm, se, sd, w, r⟩ := q
      obtain ⟨k0, k1, k2, k3⟩ := h.2.2.1
      rw [k2 j h2]
      cases cu : au j
      · rfl
      · have hlt := (k3 j h2 cu).1.1
        have hle' : n ≤ i := hle
        exact absurd hlt (by omega)
theorem mm_listenP {post : St2 → Prop} {q q' : mm_Q} {u : St2} (h : mm_R A B os ok od q u) (hs : mm_lis A os ok od 1024 0 q = some q') (hp : ∀ u', mm_R A B os ok od q' u' → post u') : wpX_listen post u := by
  obtain ⟨f0, f1, f2, f3, f4, f5, a1, a2, a3, a4, a5, a6, a7, a8, a9, a10, a11, a12, a13, a14, a15, a16, a17, a18, a19, a20, a21, a22, a23, a24, a25, a26, a27, a28, a29, a30, a31, a32, a33, a34, a35, a36, a37, a38⟩ := u
  exact ⟨1025, mm_lisP hp 1024 0 q f0 f1 f2 f3 f4 f5 a1 a2 a3 a4 a5 a6 a7 a8 a9 a10 a11 a12 a13 a14 a15 a16 a17 a18 a19 a20 a21 a22 a23 a24 a25 a26 a27 a28 a29 a30 a31 a32 a33 a34 a35 a36 a37 a38 rfl h hs⟩
end
end
section
section
variable {A os ok od : Nat} {B : Int32}
theorem mm_urgeO {post : St2 → Prop} {q : mm_Q} {p0 p1 : Int32} {s g : Nat} {f0 f1 f2 f3 f4 f5 : Int32} {a1 a2 a3 a4 a5 a6 a7 a8 a9 a10 a11 a12 a13 a14 a15 a16 a17 a18 a19 a20 a21 a22 a23 a24 a25 a26 a27 a28 a29 a30 a31 a32 a33 a34 a35 a36 a37 a38 : Nat → Int32} (h : mm_R A B os ok od q (f0, f1, f2, f3, f4, f5, a1, a2, a3, a4, a5, a6, a7, a8, a9, a10, a11, a12, a13, a14, a15, a16, a17, a18, a19, a20, a21, a22, a23, a24, a25, a26, a27, a28, a29, a30, a31, a32, a33, a34, a35, a36, a37, a38)) (e0 : p0 = nI s) (e1 : p1 = nI g) (hs8 : s < 8) (hg8 : g < 8) (hn : s * 8 + g ≠ A * 8 + mm_E A) (hp : post (f0, f1, f2, f3, f4, f5, a1, a2, a3, a4, a5, a6, a7, a8, a9, a10, a11, a12, a13, a14, a15, a16, a17, a18, a19, a20, a21, a22, a23, a24, a25, a26, a27, a28, a29, a30, a31, a32, a33, a34, a35, a36, a37, a38)) : wpX_urge post (f0, f1, f2, f3, f4, f5, a1, a2, a3, a4, a5, a6, a7, a8, a9, a10, a11, a12, a13, a14, a15, a16, a17, a18, a19, a20, a21, a22, a23, a24, a25, a26, a27, a28, a29, a30, a31, a32, a33, a34, a35, a36, a37, a38) p0 p1 := by
  subst e0 e1
  obtain ⟨⟨k1, k2, k3, k4⟩, ⟨k5, k6, k7, k8⟩, k9, k10, k11, k12, k13⟩ := mm_RS h
  have hE8 := mm_E8 A
  have hp64 : s + 8 * g < 64 := by omega
  have hcl : (nI (s + 8 * g)).toNatClampNeg = s + 8 * g := nI_clamp (by omega)
  have hb : Nat.beq (s + 8 * g) (A + 8 * mm_E A) = false := by
    cases e : Nat.beq (s + 8 * g) (A + 8 * mm_E A)
    · rfl
    · exact absurd (mm_eqB e) (by omega)
  have h10 : a10 (s + 8 * g) = 0 := by
    rw [k10 _ hp64, hb, Bool.and_false]
    rfl
  unfold wpX_urge wpX_pair
  dsimp only
  rw [mm_p8, hcl, h10, k9 _ hp64]
  refine ⟨pk_in _ 64 hp64, pk_in _ 64 hp64, pk_le 0 0 (fun _ => ?_) (fun z => absurd z (by omega))⟩
  unfold wX_urge_26 wpX_sending wpX_pair
  dsimp only
  rw [mm_p8, hcl, h10, k9 _ hp64]
  refine ⟨pk_in _ 64 hp64, pk_in _ 64 hp64, pk_le 0 0 (fun _ => ?_) (fun z => absurd z (by omega))⟩
  exact mm_fwP k2 k3 k5 k6 k1 hs8 hg8 rfl rfl (fun _ y1 y2 => absurd (show s * 8 + g = A * 8 + mm_E A by rw [y1, y2]) hn) (fun _ => br_f (by decide) (br_t rfl hp))
theorem mm_writeP {post : St2 → Prop} {q : mm_Q} {u : St2} {p0 p1 p2 : Int32} (h : mm_R A B os ok od q u) (e0 : p0 = nI A) (e1 : p1 = nI (mm_E A)) (e2 : p2 = nI 0)
    (hp : ∀ u', mm_R A B os ok od (mm_wr (mm_wr (mm_wr (mm_wr (mm_wr (mm_wr (mm_bg q 3 A (mm_E A)) 3 0) 4 0) 5 8) 6 1) 7 1) 8 1) u' → post u') : wpX_writePiece post u p0 p1 p2 := by
  subst e0 e1 e2
  obtain ⟨f0, f1, f2, f3, f4, f5, a1, a2, a3, a4, a5, a6, a7, a8, a9, a10, a11, a12, a13, a14, a15, a16, a17, a18, a19, a20, a21, a22, a23, a24, a25, a26, a27, a28, a29, a30, a31, a32, a33, a34, a35, a36, a37, a38⟩ := u
  obtain ⟨⟨k1, k2, k3, k4⟩, ⟨k5, k6, k7, k8⟩, k9, k10, k11, k12, k13⟩ := mm_RS h
  have hE8 := mm_E8 A
  have hp64 : A + 8 * mm_E A < 64 := by omega
  have hcl : (nI (A + 8 * mm_E A)).toNatClampNeg = A + 8 * mm_E A := nI_clamp (by omega)
  unfold wpX_writePiece wpX_pair
  dsimp only
  rw [mm_p8, hcl, k11, show (nI 0).toNatClampNeg = 0 from rfl, k7]
  refine ⟨pk_in _ 64 hp64, nm_e ⟨pk_in 0 16 (by omega), nm_r (e' := 1) (by decide) (br_t (by decide) (br_f (by decide) ?_))⟩⟩
  unfold wX_writePiece_50
  refine mm_begin 3 A (mm_E A) h rfl rfl rfl (fun u1 h1 => ?_)
  obtain ⟨f0b, f1b, f2b, f3b, f4b, f5b, a1b, a2b, a3b, a4b, a5b, a6b, a7b, a8b, a9b, a10b, a11b, a12b, a13b, a14b, a15b, a16b, a17b, a18b, a19b, a20b, a21b, a22b, a23b, a24b, a25b, a26b, a27b, a28b, a29b, a30b, a31b, a32b, a33b, a34b, a35b, a36b, a37b, a38b⟩ := u1
  obtain ⟨⟨b1, b2, b3, b4⟩, ⟨b5, b6, b7, b8⟩, b9, b10, b11, b12, b13⟩ := mm_RS h1
  dsimp only
  rw [hcl, b9 _ hp64]
  refine ⟨pk_in _ 64 hp64, nm_e (nm_e (nm_e (nm_e (br_f (by decide) (nm_e ⟨2, ?_⟩)))))⟩
  have h2 := mm_Rw (k := 7) (x := 1) (mm_Rw (k := 6) (x := 1) (mm_Rw (k := 5) (x := 8) (mm_Rw (k := 4) (x := 0) (mm_Rw (k := 3) (x := 0) h1 rfl) rfl) rfl) rfl) rfl
  refine pk_le 1 0 (fun z => absurd z (by omega)) (fun _ => ⟨pk_in 0 128 (by omega), pk_in 8 12 (by omega), nm_e (nm_r (nI_1 0) (pk_le 1 1 (fun _ => hp _ ?_) (fun z => absurd z (by omega))))⟩)
  obtain ⟨t, dn, ar, oc, wy, nm, se, sd, w, r⟩ := q
  obtain ⟨hT, hS, hA, hO, hW, hN, hE, hD, hw, hr⟩ := h2
  exact ⟨hT, hS, hA, hO, hW, hN, hE, hD, mm_Fu (k := 8) (x := 1) hw b8, hr⟩
theorem mm_pat {t st : Nat} (ht : t < 10000) (hs : st ≤ t) {P Q : Prop} (f : st + 26 ≤ t → P) (g : t < st + 26 → Q) {x y : Int32} (ex : x = nI t) (ey : y = nI st) : (26 ≤ x - y → P) ∧ (¬ 26 ≤ x - y → Q) := by
  rw [ex, ey, pk_sub hs]
  exact pk_le 26 (t - st) (fun z => f (by omega)) (fun z => g (by omega))
theorem mm_gD_up {p tr' st' : Nat} {so' : Bool} {sd : Bool × Nat × Nat} {a21 a22 a23 a21' a22' a23' : Nat → Int32} (h : mm_gD p sd a21 a22 a23) (e3 : a23' p = (bif so' then 1 else 0)) (e1 : a21' p = nI st') (e2 : a22' p = nI tr') (hs : st' < 10000) : mm_gD p (so', st', tr') a21' a22' a23' :=
  ⟨e3, e1, e2, hs⟩
theorem mm_urge142 {post : St2 → Prop} {t st tr : Nat} {dn so : Bool} {ar : mm_Air} {oc : (Nat → Nat) × Bool} {wn wl wm : Nat → Nat} {nm : (Nat → Nat) × Nat × Nat} {se : Nat → List Nat} {w r : mm_Fr} {q' : mm_Q} {f0 f1 f2 f3 f4 f5 : Int32} {a1 a2 a3 a4 a5 a6 a7 a8 a9 a10 a11 a12 a13 a14 a15 a16 a17 a18 a19 a20 a21 a22 a23 a24 a25 a26 a27 a28 a29 a30 a31 a32 a33 a34 a35 a36 a37 a38 : Nat → Int32}
    (h : mm_R A B os ok od (t, dn, ar, oc, (wn, wl, wm), nm, se, (so, st, tr), w, r) (f0, f1, f2, f3, f4, f5, a1, a2, a3, a4, a5, a6, a7, a8, a9, a10, a11, a12, a13, a14, a15, a16, a17, a18, a19, a20, a21, a22, a23, a24, a25, a26, a27, a28, a29, a30, a31, a32, a33, a34, a35, a36, a37, a38))
    (hs : (bif Nat.beq (wn (A * 8 + mm_E A)) 0 then mm_ask A os ok od (t, dn, ar, oc, (wn, wl, wm), nm, se, (false, st, tr), w, r)
      else mm_ck (mm_nb A A (wn (A * 8 + mm_E A) - 1)) (mm_pass A os ok od (t, dn, ar, oc, (wn, wl, wm), nm, se, (true, t, tr), mm_piece A, r) A)) = some q')
    (hp : ∀ u', mm_R A B os ok od q' u' → post u') : wX_urge_142 post (nI A) (nI (mm_E A)) (nI (A + 8 * mm_E A)) 0 f0 f1 f2 f3 f4 f5 a1 a2 a3 a4 a5 a6 a7 a8 a9 a10 a11 a12 a13 a14 a15 a16 a17 a18 a19 a20 a21 a22 a23 a24 a25 a26 a27 a28 a29 a30 a31 a32 a33 a34 a35 a36 a37 a38 := by
  have hR := h
  obtain ⟨hT, hS, hA, hO, hW, hN, hE, hD, hw, hr⟩ := h
  have hA8 : A < 8 := hS.1.1
  have hE8 := mm_E8 A
  have hk : A * 8 + mm_E A < 64 := by omega
  have hp64 : A + 8 * mm_E A < 64 := by omega
  have hcl : (nI (A + 8 * mm_E A)).toNatClampNeg = A + 8 * mm_E A := nI_clamp (by omega)
  obtain ⟨⟨w1, w2, w3⟩, w4, w5, w6⟩ := hW _ hk
  unfold wX_urge_142 wpX_hasWay
  dsimp only
  rw [mm_m8]
  refine nm_e ⟨pk_in _ 64 hk, ?_⟩
  rw [nI_clamp (show A * 8 + mm_E A < 2 ^ 31 by omega), w4]
  refine nm_e (ek_if (mm_wnN w1) (fun z => ?_) (fun z => ?_))
  · have hs := mm_bT (mm_beqT z) hs
    refine br_t rfl ⟨pk_in _ 64 hp64, nm_e ?_⟩
    rw [hcl]
    refine mm_askP (q := (t, dn, ar, oc, (wn, wl, wm), nm, se, (false, st, tr), w, r)) ⟨hT, hS, hA, hO, hW, hN, hE, mm_gD_up hD pk_us hD.2.1 hD.2.2.1 hD.2.2.2, hw, hr⟩ hs rfl rfl (fun u1 h1 => ?_)
    obtain ⟨f0b, f1b, f2b, f3b, f4b, f5b, a1b, a2b, a3b, a4b, a5b, a6b, a7b, a8b, a9b, a10b, a11b, a12b, a13b, a14b, a15b, a16b, a17b, a18b, a19b, a20b, a21b, a22b, a23b, a24b, a25b, a26b, a27b, a28b, a29b, a30b, a31b, a32b, a33b, a34b, a35b, a36b, a37b, a38b⟩ := u1
    exact hp _ h1
  · obtain ⟨cb, hq⟩ := mm_ckS (mm_bF (mm_beqF z) hs)
    refine mm_isUp hS.1.2.2.2 hA8 hA8 (show wn (A * 8 + mm_E A) - 1 < 8 by omega) rfl (mm_wnS z) (fun _ => br_f (by decide) (br_f (by decide) (br_f (by decide) (mm_writeP hR rfl rfl rfl (fun u1 h1 => ?_))))) (fun z => absurd (cb.symm.trans z) (by decide))
    obtain ⟨f0b, f1b, f2b, f3b, f4b, f5b, a1b, a2b, a3b, a4b, a5b, a6b, a7b, a8b, a9b, a10b, a11b, a12b, a13b, a14b, a15b, a16b, a17b, a18b, a19b, a20b, a21b, a22b, a23b, a24b, a25b, a26b, a27b, a28b, a29b, a30b, a31b, a32b, a33b, a34b, a35b, a36b, a37b, a38b⟩ := u1
    obtain ⟨kT, kS, kA, kO, kW, kN, kE, kD, kw, kr⟩ := h1
    dsimp only
    unfold wX_urge_187
    rw [hcl]
    refine ⟨pk_in _ 64 hp64, nm_e ⟨pk_in _ 64 hp64, nm_e ?_⟩⟩
    refine mm_passP (q := (t, dn, ar, oc, (wn, wl, wm), nm, se, (true, t, tr), mm_piece A, r)) ⟨kT, kS, kA, kO, kW, kN, kE, mm_gD_up kD pk_us (pk_us.trans kT.2) kD.2.2.1 kT.1, kw, kr⟩ hq rfl (fun u2 h2 => ?_)
    obtain ⟨f0c, f1c, f2c, f3c, f4c, f5c, a1c, a2c, a3c, a4c, a5c, a6c, a7c, a8c, a9c, a10c, a11c, a12c, a13c, a14c, a15c, a16c, a17c, a18c, a19c, a20c, a21c, a22c, a23c, a24c, a25c, a26c, a27c, a28c, a29c, a30c, a31c, a32c, a33c, a34c, a35c, a36c, a37c, a38c⟩ := u2
    exact hp _ h2
theorem mm_urgeP {post : St2 → Prop} {q q' : mm_Q} {u : St2} {p0 p1 : Int32} (h : mm_R A B os ok od q u) (hs : mm_urge A os ok od q = some q') (e0 : p0 = nI A) (e1 : p1 = nI (mm_E A)) (hp : ∀ u', mm_R A B os ok od q' u' → post u') : wpX_urge post u p0 p1 := by
  subst e0 e1
  obtain ⟨t, dn, ar, oc, ⟨wn, wl, wm⟩, nm, se, ⟨so, st, tr⟩, w, r⟩ := q
  obtain ⟨f0, f1, f2, f3, f4, f5, a1, a2, a3, a4, a5, a6, a7, a8, a9, a10, a11, a12, a13, a14, a15, a16, a17, a18, a19, a20, a21, a22, a23, a24, a25, a26, a27, a28, a29, a30, a31, a32, a33, a34, a35, a36, a37, a38⟩ := u
  have hR := h
  obtain ⟨hT, hS, hA, hO, hW, hN, hE, hD, hw, hr⟩ := h
  have hS' := hS
  obtain ⟨⟨k1, k2, k3, k4⟩, ⟨k5, k6, k7, k8⟩, k9, k10, k11, k12, k13⟩ := hS'
  obtain ⟨d1, d2, d3, d4⟩ := hD
  have hD : mm_gD (A + 8 * mm_E A) (so, st, tr) a21 a22 a23 := ⟨d1, d2, d3, d4⟩
  obtain ⟨c, hq⟩ := mm_ckS hs
  have hst := mm_leB c
  have hE8 := mm_E8 A
  have hp64 : A + 8 * mm_E A < 64 := by omega
  have hcl : (nI (A + 8 * mm_E A)).toNatClampNeg = A + 8 * mm_E A := nI_clamp (by omega)
  have hclA : (nI A).toNatClampNeg = A := nI_clamp (by omega)
  have h4 : f4 = nI t := hT.2
  have h10 : a10 (A + 8 * mm_E A) = (bif dn then 1 else 0) := by
    rw [k10 _ hp64, Nat.beq_refl, Bool.and_true]
  have main : ∀ x5 : Int32, (dn = false → x5 = 0) → wX_urge_46 post (nI A) (nI (mm_E A)) (nI (A + 8 * mm_E A)) x5 f0 f1 f2 f3 f4 f5 a1 a2 a3 a4 a5 a6 a7 a8 a9 a10 a11 a12 a13 a14 a15 a16 a17 a18 a19 a20 a21 a22 a23 a24 a25 a26 a27 a28 a29 a30 a31 a32 a33 a34 a35 a36 a37 a38 := by
    intro x5 hx5
    have go : (so && Nat.ble (t + 1) (st + 26)) = false → wX_urge_82 post (nI A) (nI (mm_E A)) (nI (A + 8 * mm_E A)) x5 f0 f1 f2 f3 f4 f5 a1 a2 a3 a4 a5 a6 a7 a8 a9 a10 a11 a12 a13 a14 a15 a16 a17 a18 a19 a20 a21 a22 a23 a24 a25 a26 a27 a28 a29 a30 a31 a32 a33 a34 a35 a36 a37 a38 := by
      intro hc
      obtain ⟨ca, hq⟩ := mm_ckS (mm_bF hc hq)
      obtain ⟨cb, hq⟩ := mm_ckS hq
      have hdn : dn = false := by
        cases dn
        · rfl
        · exact absurd ca (by decide)
      rw [hx5 hdn]
      unfold wX_urge_82
      rw [hcl, d1, d3]
      cases so
      · refine ⟨pk_in _ 64 hp64, br_t rfl ?_⟩
        unfold wX_urge_108
        rw [hcl]
        refine ⟨pk_in _ 64 hp64, nm_r (e' := upd a22 (A + 8 * mm_E A) (nI 0)) rfl ⟨pk_in _ 64 hp64, ?_⟩⟩
        rw [pk_us]
        exact br_t (by decide) (mm_urge142 ⟨hT, hS, hA, hO, hW, hN, hE, mm_gD_up hD d1 d2 pk_us d4, hw, hr⟩ hq hp)
      · have htr : tr = 0 := mm_eqB cb
        rw [htr]
        refine ⟨pk_in _ 64 hp64, br_f (by decide) ⟨pk_in _ 64 hp64, ?_⟩⟩
        unfold wX_urge_108
        rw [hcl]
        refine ⟨pk_in _ 64 hp64, nm_r (e' := upd a22 (A + 8 * mm_E A) (nI 1)) rfl ⟨pk_in _ 64 hp64, ?_⟩⟩
        rw [pk_us]
        exact br_t (by decide) (mm_urge142 ⟨hT, hS, hA, hO, hW, hN, hE, mm_gD_up hD d1 d2 pk_us d4, hw, hr⟩ hq hp)
    unfold wX_urge_46
    rw [hclA, hcl]
    refine ⟨pk_in A 8 k1, br_f (by rw [k4]; exact mm_lkNz A k1) ⟨pk_in _ 64 hp64, ?_⟩⟩
    cases so
    · exact br_t d1 (go rfl)
    · refine br_f (by rw [d1]; decide) ⟨pk_in _ 64 hp64, mm_pat hT.1 hst (fun z => go (mm_bleF (by omega))) (fun z => ?_) h4 d2⟩
      have hq' := Option.some.inj (mm_bT (Nat.ble_eq_true_of_le z) hq)
      subst hq'
      exact hp _ hR
  unfold wpX_urge wpX_pair
  dsimp only
  rw [mm_p8, hcl, h10, k9 _ hp64]
  cases hdn : dn
  · refine ⟨pk_in _ 64 hp64, pk_in _ 64 hp64, br_t (by decide) ?_⟩
    unfold wX_urge_26 wpX_sending wpX_pair
    dsimp only
    rw [mm_p8, hcl, h10, k9 _ hp64, hdn]
    refine ⟨pk_in _ 64 hp64, pk_in _ 64 hp64, br_t (by decide) ?_⟩
    exact mm_fwP k2 k3 k5 k6 k1 k1 hE8 rfl rfl (fun _ _ _ => br_t (by decide) (main 0 (fun _ => rfl))) (fun z => absurd ⟨hdn, rfl, rfl⟩ z)
  · refine ⟨pk_in _ 64 hp64, pk_in _ 64 hp64, br_f (by decide) ?_⟩
    unfold wX_urge_26 wpX_sending wpX_pair
    dsimp only
    rw [mm_p8, hcl, h10, k9 _ hp64, hdn]
    exact ⟨pk_in _ 64 hp64, pk_in _ 64 hp64, br_f (by decide) (br_f (by decide) (br_f (by decide) (main (-1) (fun z => absurd (hdn.symm.trans z) (by decide)))))⟩
def mm_K (A : Nat) (B : Int32) (os ok od : Nat) (q q' : mm_Q) (c : Nat) (u : St2) : Prop := (c ≤ A * 8 + mm_E A → mm_R A B os ok od q u) ∧ (A * 8 + mm_E A < c → mm_R A B os ok od q' u)
theorem mm_m24 {post : St2 → Prop} {q q' : mm_Q} {J : Int32 → Int32 → Int32 → Int32 → Int32 → Int32 → Int32 → (Nat → Int32) → (Nat → Int32) → (Nat → Int32) → (Nat → Int32) → (Nat → Int32) → (Nat → Int32) → (Nat → Int32) → (Nat → Int32) → (Nat → Int32) → (Nat → Int32) → (Nat → Int32) → (Nat → Int32) → (Nat → Int32) → (Nat → Int32) → (Nat → Int32) → (Nat → Int32) → (Nat → Int32) → (Nat → Int32) → (Nat → Int32) → (Nat → Int32) → (Nat → Int32) → (Nat → Int32) → (Nat → Int32) → (Nat → Int32) → (Nat → Int32) → (Nat → Int32) → (Nat → Int32) → (Nat → Int32) → (Nat → Int32) → (Nat → Int32) → (Nat → Int32) → (Nat → Int32) → (Nat → Int32) → (Nat → Int32) → (Nat → Int32) → (Nat → Int32) → (Nat → Int32) → (Nat → Int32) → Prop} {i : Nat} (hi : i < 8) (hA8 : A < 8)
    (hs : mm_urge A os ok od q = some q') (HJ : ∀ (f0 f1 f2 f3 f4 f5 : Int32) (a1 a2 a3 a4 a5 a6 a7 a8 a9 a10 a11 a12 a13 a14 a15 a16 a17 a18 a19 a20 a21 a22 a23 a24 a25 a26 a27 a28 a29 a30 a31 a32 a33 a34 a35 a36 a37 a38 : Nat → Int32), mm_K A B os ok od q q' (i * 8 + 8) (f0, f1, f2, f3, f4, f5, a1, a2, a3, a4, a5, a6, a7, a8, a9, a10, a11, a12, a13, a14, a15, a16, a17, a18, a19, a20, a21, a22, a23, a24, a25, a26, a27, a28, a29, a30, a31, a32, a33, a34, a35, a36, a37, a38) → J (nI (i + 1)) f0 f1 f2 f3 f4 f5 a1 a2 a3 a4 a5 a6 a7 a8 a9 a10 a11 a12 a13 a14 a15 a16 a17 a18 a19 a20 a21 a22 a23 a24 a25 a26 a27 a28 a29 a30 a31 a32 a33 a34 a35 a36 a37 a38) :
    ∀ (m j : Nat) (f0 f1 f2 f3 f4 f5 : Int32) (a1 a2 a3 a4 a5 a6 a7 a8 a9 a10 a11 a12 a13 a14 a15 a16 a17 a18 a19 a20 a21 a22 a23 a24 a25 a26 a27 a28 a29 a30 a31 a32 a33 a34 a35 a36 a37 a38 : Nat → Int32), j + m = 8 → mm_K A B os ok od q q' (i * 8 + j) (f0, f1, f2, f3, f4, f5, a1, a2, a3, a4, a5, a6, a7, a8, a9, a10, a11, a12, a13, a14, a15, a16, a17, a18, a19, a20, a21, a22, a23, a24, a25, a26, a27, a28, a29, a30, a31, a32, a33, a34, a35, a36, a37, a38) → wX_moment_24 post J (nI i) (m + 1) (nI j) f0 f1 f2 f3 f4 f5 a1 a2 a3 a4 a5 a6 a7 a8 a9 a10 a11 a12 a13 a14 a15 a16 a17 a18 a19 a20 a21 a22 a23 a24 a25 a26 a27 a28 a29 a30 a31 a32 a33 a34 a35 a36 a37 a38 := by
  have hE8 := mm_E8 A
  have hEA : mm_E A ≠ A := by
    unfold mm_E
    omega
  intro m
  induction m with
  | zero =>
    intro j f0 f1 f2 f3 f4 f5 a1 a2 a3 a4 a5 a6 a7 a8 a9 a10 a11 a12 a13 a14 a15 a16 a17 a18 a19 a20 a21 a22 a23 a24 a25 a26 a27 a28 a29 a30 a31 a32 a33 a34 a35 a36 a37 a38 hm hK
    have hj : j = 8 := by omega
    subst hj
    exact pk_le 8 8 (fun _ => nm_r (nI_1 i) (HJ f0 f1 f2 f3 f4 f5 a1 a2 a3 a4 a5 a6 a7 a8 a9 a10 a11 a12 a13 a14 a15 a16 a17 a18 a19 a20 a21 a22 a23 a24 a25 a26 a27 a28 a29 a30 a31 a32 a33 a34 a35 a36 a37 a38 hK)) (fun z => absurd z (by omega))
  | succ m ih =>
    intro j f0 f1 f2 f3 f4 f5 a1 a2 a3 a4 a5 a6 a7 a8 a9 a10 a11 a12 a13 a14 a15 a16 a17 a18 a19 a20 a21 a22 a23 a24 a25 a26 a27 a28 a29 a30 a31 a32 a33 a34 a35 a36 a37 a38 hm hK
    refine pk_le 8 j (fun z => absurd z (by omega)) (fun _ => pk_eq i j (fun z => nm_r (nI_1 j) (ih (j + 1) f0 f1 f2 f3 f4 f5 a1 a2 a3 a4 a5 a6 a7 a8 a9 a10 a11 a12 a13 a14 a15 a16 a17 a18 a19 a20 a21 a22 a23 a24 a25 a26 a27 a28 a29 a30 a31 a32 a33 a34 a35 a36 a37 a38 (by omega) ⟨fun y => hK.1 (by omega), fun y => hK.2 (by omega)⟩)) (fun z => ?_))
    by_cases e : i * 8 + j = A * 8 + mm_E A
    · have e1 : i = A := by omega
      have e2 : j = mm_E A := by omega
      refine mm_urgeP (hK.1 (by omega)) hs (by rw [e1]) (by rw [e2]) (fun u1 h1 => ?_)
      obtain ⟨f0b, f1b, f2b, f3b, f4b, f5b, a1b, a2b, a3b, a4b, a5b, a6b, a7b, a8b, a9b, a10b, a11b, a12b, a13b, a14b, a15b, a16b, a17b, a18b, a19b, a20b, a21b, a22b, a23b, a24b, a25b, a26b, a27b, a28b, a29b, a30b, a31b, a32b, a33b, a34b, a35b, a36b, a37b, a38b⟩ := u1
      exact nm_r (nI_1 j) (ih (j + 1) f0b f1b f2b f3b f4b f5b a1b a2b a3b a4b a5b a6b a7b a8b a9b a10b a11b a12b a13b a14b a15b a16b a17b a18b a19b a20b a21b a22b a23b a24b a25b a26b a27b a28b a29b a30b a31b a32b a33b a34b a35b a36b a37b a38b (by omega) ⟨fun y => absurd y (by omega), fun _ => h1⟩)
    · have hc : mm_K A B os ok od q q' (i * 8 + (j + 1)) (f0, f1, f2, f3, f4, f5, a1, a2, a3, a4, a5, a6, a7, a8, a9, a10, a11, a12, a13, a14, a15, a16, a17, a18, a19, a20, a21, a22, a23, a24, a25, a26, a27, a28, a29, a30, a31, a32, a33, a34, a35, a36, a37, a38) := ⟨fun y => hK.1 (by omega), fun y => hK.2 (by omega)⟩
      have fin : wX_moment_24 post J (nI i) (m + 1) (nI (j + 1)) f0 f1 f2 f3 f4 f5 a1 a2 a3 a4 a5 a6 a7 a8 a9 a10 a11 a12 a13 a14 a15 a16 a17 a18 a19 a20 a21 a22 a23 a24 a25 a26 a27 a28 a29 a30 a31 a32 a33 a34 a35 a36 a37 a38 := ih (j + 1) f0 f1 f2 f3 f4 f5 a1 a2 a3 a4 a5 a6 a7 a8 a9 a10 a11 a12 a13 a14 a15 a16 a17 a18 a19 a20 a21 a22 a23 a24 a25 a26 a27 a28 a29 a30 a31 a32 a33 a34 a35 a36 a37 a38 (by omega) hc
      rcases Nat.lt_or_ge (A * 8 + mm_E A) (i * 8 + j) with z2 | z2
      · exact mm_urgeO (hK.2 z2) rfl rfl hi (by omega) e (nm_r (nI_1 j) fin)
      · exact mm_urgeO (hK.1 z2) rfl rfl hi (by omega) e (nm_r (nI_1 j) fin)
theorem mm_m16 {post : St2 → Prop} {q q' : mm_Q} (hA8 : A < 8) (hs : mm_urge A os ok od q = some q') (hp : ∀ u', mm_R A B os ok od q' u' → post u') :
    ∀ (m i : Nat) (f0 f1 f2 f3 f4 f5 : Int32) (a1 a2 a3 a4 a5 a6 a7 a8 a9 a10 a11 a12 a13 a14 a15 a16 a17 a18 a19 a20 a21 a22 a23 a24 a25 a26 a27 a28 a29 a30 a31 a32 a33 a34 a35 a36 a37 a38 : Nat → Int32), i + m = 8 → mm_K A B os ok od q q' (i * 8) (f0, f1, f2, f3, f4, f5, a1, a2, a3, a4, a5, a6, a7, a8, a9, a10, a11, a12, a13, a14, a15, a16, a17, a18, a19, a20, a21, a22, a23, a24, a25, a26, a27, a28, a29, a30, a31, a32, a33, a34, a35, a36, a37, a38) → wX_moment_16 post (m + 1) (nI i) f0 f1 f2 f3 f4 f5 a1 a2 a3 a4 a5 a6 a7 a8 a9 a10 a11 a12 a13 a14 a15 a16 a17 a18 a19 a20 a21 a22 a23 a24 a25 a26 a27 a28 a29 a30 a31 a32 a33 a34 a35 a36 a37 a38 := by
  have hE8 := mm_E8 A
  intro m
  induction m with
  | zero =>
    intro i f0 f1 f2 f3 f4 f5 a1 a2 a3 a4 a5 a6 a7 a8 a9 a10 a11 a12 a13 a14 a15 a16 a17 a18 a19 a20 a21 a22 a23 a24 a25 a26 a27 a28 a29 a30 a31 a32 a33 a34 a35 a36 a37 a38 hm hK
    exact pk_le 8 i (fun _ => hp _ (hK.2 (by omega))) (fun z => absurd z (by omega))
  | succ m ih =>
    intro i f0 f1 f2 f3 f4 f5 a1 a2 a3 a4 a5 a6 a7 a8 a9 a10 a11 a12 a13 a14 a15 a16 a17 a18 a19 a20 a21 a22 a23 a24 a25 a26 a27 a28 a29 a30 a31 a32 a33 a34 a35 a36 a37 a38 hm hK
    refine pk_le 8 i (fun z => absurd z (by omega)) (fun _ => ⟨9, mm_m24 (by omega) hA8 hs (fun f0b f1b f2b f3b f4b f5b a1b a2b a3b a4b a5b a6b a7b a8b a9b a10b a11b a12b a13b a14b a15b a16b a17b a18b a19b a20b a21b a22b a23b a24b a25b a26b a27b a28b a29b a30b a31b a32b a33b a34b a35b a36b a37b a38b hK' => ?_) 8 0 f0 f1 f2 f3 f4 f5 a1 a2 a3 a4 a5 a6 a7 a8 a9 a10 a11 a12 a13 a14 a15 a16 a17 a18 a19 a20 a21 a22 a23 a24 a25 a26 a27 a28 a29 a30 a31 a32 a33 a34 a35 a36 a37 a38 rfl hK⟩)
    exact ih (i + 1) f0b f1b f2b f3b f4b f5b a1b a2b a3b a4b a5b a6b a7b a8b a9b a10b a11b a12b a13b a14b a15b a16b a17b a18b a19b a20b a21b a22b a23b a24b a25b a26b a27b a28b a29b a30b a31b a32b a33b a34b a35b a36b a37b a38b (by omega) ⟨fun y => hK'.1 (by omega), fun y => hK'.2 (by omega)⟩
theorem mm_momP {post : St2 → Prop} {q q' : mm_Q} {u : St2} (h : mm_R A B os ok od q u) (hs : mm_mom A os ok od q = some q') (hp : ∀ u', mm_R A B os ok od q' u' → post u') : wpX_moment post u := by
  obtain ⟨t, dn, ar, oc, wy, nm, se, sd, w, r⟩ := q
  obtain ⟨f0, f1, f2, f3, f4, f5, a1, a2, a3, a4, a5, a6, a7, a8, a9, a10, a11, a12, a13, a14, a15, a16, a17, a18, a19, a20, a21, a22, a23, a24, a25, a26, a27, a28, a29, a30, a31, a32, a33, a34, a35, a36, a37, a38⟩ := u
  obtain ⟨hT, hS, hA, hO, hW, hN, hE, hD, hw, hr⟩ := h
  obtain ⟨c, hq⟩ := mm_ckS hs
  obtain ⟨q1, g1, g2⟩ := mm_bdS hq
  have ht := mm_ltB c
  unfold wpX_moment
  dsimp only
  refine nm_r (e' := nI (t + 1)) (by rw [hT.2, nI_1]) (mm_listenP (q := (t + 1, dn, ar, oc, wy, nm, se, sd, w, r)) ⟨⟨ht, rfl⟩, hS, hA, hO, hW, hN, hE, hD, hw, hr⟩ g1 (fun u1 h1 => ?_))
  obtain ⟨f0b, f1b, f2b, f3b, f4b, f5b, a1b, a2b, a3b, a4b, a5b, a6b, a7b, a8b, a9b, a10b, a11b, a12b, a13b, a14b, a15b, a16b, a17b, a18b, a19b, a20b, a21b, a22b, a23b, a24b, a25b, a26b, a27b, a28b, a29b, a30b, a31b, a32b, a33b, a34b, a35b, a36b, a37b, a38b⟩ := u1
  exact ⟨9, mm_m16 hS.1.1 g2 hp 8 0 f0b f1b f2b f3b f4b f5b a1b a2b a3b a4b a5b a6b a7b a8b a9b a10b a11b a12b a13b a14b a15b a16b a17b a18b a19b a20b a21b a22b a23b a24b a25b a26b a27b a28b a29b a30b a31b a32b a33b a34b a35b a36b a37b a38b rfl ⟨fun _ => h1, fun y => absurd y (by omega)⟩⟩
end
end
section
def mm_wid (L : Nat → Int32) (x3 : Int32) : Nat → Int32 → Nat → Int32
  | 0, x5, _ => x5
  | m + 1, x5, i => mm_wid L x3 m (if ((x3 >>> (nI i &&& 31)) &&& 1) = 0 then x5 ||| 0 else x5 ||| (L i &&& 255)) (i + 1)
def mm_dst (L : Nat → Int32) (g : Nat) : Nat → Int32 → Nat → Int32
  | 0, _, _ => -1
  | m + 1, x3, i => if ((x3 >>> (nI g &&& 31)) &&& 1) = 0 then mm_dst L g m (mm_wid L x3 8 x3 0) (i + 1) else nI i
def mm_dist (L : Nat → Int32) (s g : Nat) : Int32 := mm_dst L g 8 ((1 : Int32) <<< (nI s &&& 31)) 0
theorem mm_dLh : ∀ A, A < 8 → mm_dist (mm_Lh A) A (mm_E A) = -1 := by decide +kernel
theorem mm_dLo : ∀ A, A < 8 → mm_dist (mm_Lo A) A (mm_E A) = -1 ∧ mm_dist (mm_Lo A) (mm_E A) A = -1 := by decide +kernel
theorem mm_dLK : ∀ A, A < 8 → ¬ mm_dist (mm_LK A) A (mm_E A) = -1 ∧ mm_dist (mm_LK A) (mm_E A) A = 3 := by decide +kernel
section
variable {A os ok od : Nat} {B : Int32}
theorem mm_d47 {post : Int32 → Prop} {J : Int32 → Int32 → Prop} {x2 x3 : Int32} {k : Nat} {f0 f1 f2 f3 f4 f5 : Int32} {a1 a2 a3 a4 a5 a6 a7 a8 a9 a10 a11 a12 a13 a14 a15 a16 a17 a18 a19 a20 a21 a22 a23 a24 a25 a26 a27 a28 a29 a30 a31 a32 a33 a34 a35 a36 a37 a38 : Nat → Int32} : ∀ (m i : Nat) (x5 : Int32), i + m = 8 → J (mm_wid a1 x3 m x5 i) (nI (k + 1)) → wX_distance_47 post J x2 x3 (nI k) f0 f1 f2 f3 f4 f5 a1 a2 a3 a4 a5 a6 a7 a8 a9 a10 a11 a12 a13 a14 a15 a16 a17 a18 a19 a20 a21 a22 a23 a24 a25 a26 a27 a28 a29 a30 a31 a32 a33 a34 a35 a36 a37 a38 (m + 1) x5 (nI i)
  | 0, i, x5, hm, hJ => pk_le 8 i (fun _ => nm_r (nI_1 k) hJ) (fun z => absurd z (by omega))
  | m + 1, i, x5, hm, hJ => by
    unfold mm_wid at hJ
    refine pk_le 8 i (fun z => absurd z (by omega)) (fun _ => br_c (fun z => ?_) (fun z => ⟨pk_in i 8 (by omega), ?_⟩))
    · rw [if_pos z] at hJ
      exact nm_e (nm_r (nI_1 i) (mm_d47 m (i + 1) _ (by omega) hJ))
    · rw [if_neg z] at hJ
      rw [nI_clamp (show i < 2 ^ 31 by omega)]
      exact nm_e (nm_r (nI_1 i) (mm_d47 m (i + 1) _ (by omega) hJ))
theorem mm_d23 {post : Int32 → Prop} {g : Nat} {f0 f1 f2 f3 f4 f5 : Int32} {a1 a2 a3 a4 a5 a6 a7 a8 a9 a10 a11 a12 a13 a14 a15 a16 a17 a18 a19 a20 a21 a22 a23 a24 a25 a26 a27 a28 a29 a30 a31 a32 a33 a34 a35 a36 a37 a38 : Nat → Int32} : ∀ (m i : Nat) (x3 : Int32), i + m = 8 → post (mm_dst a1 g m x3 i) → wX_distance_23 post (nI g) f0 f1 f2 f3 f4 f5 a1 a2 a3 a4 a5 a6 a7 a8 a9 a10 a11 a12 a13 a14 a15 a16 a17 a18 a19 a20 a21 a22 a23 a24 a25 a26 a27 a28 a29 a30 a31 a32 a33 a34 a35 a36 a37 a38 (m + 1) x3 (nI i)
  | 0, i, x3, hm, hp => pk_le 8 i (fun _ => hp) (fun z => absurd z (by omega))
  | m + 1, i, x3, hm, hp => by
    unfold mm_dst at hp
    refine pk_le 8 i (fun z => absurd z (by omega)) (fun _ => br_c (fun z => ?_) (fun z => ?_))
    · rw [if_pos z] at hp
      exact ⟨9, mm_d47 8 0 x3 rfl (mm_d23 m (i + 1) _ (by omega) hp)⟩
    · rw [if_neg z] at hp
      exact hp
theorem mm_isSt {post : Int32 → Prop} {p0 : Int32} {s : Nat} (e0 : p0 = nI s) (hs : s < 8) (hp : post 1) : wpX_isStation post () p0 := by
  subst e0
  exact br_f (nI_pos (by omega)) (pk_le 8 s (fun z => absurd z (by omega)) (fun _ => hp))
theorem mm_distP {post : Int32 → Prop} {p0 p1 : Int32} {s g : Nat} {f0 f1 f2 f3 f4 f5 : Int32} {a1 a2 a3 a4 a5 a6 a7 a8 a9 a10 a11 a12 a13 a14 a15 a16 a17 a18 a19 a20 a21 a22 a23 a24 a25 a26 a27 a28 a29 a30 a31 a32 a33 a34 a35 a36 a37 a38 : Nat → Int32} (e0 : p0 = nI s) (e1 : p1 = nI g) (hs : s < 8) (hg : g < 8) (hp : post (mm_dist a1 s g)) : wpX_distance post (f0, f1, f2, f3, f4, f5, a1, a2, a3, a4, a5, a6, a7, a8, a9, a10, a11, a12, a13, a14, a15, a16, a17, a18, a19, a20, a21, a22, a23, a24, a25, a26, a27, a28, a29, a30, a31, a32, a33, a34, a35, a36, a37, a38) p0 p1 := by
  subst e0 e1
  unfold wpX_distance
  dsimp only
  exact mm_isSt rfl hs (br_f (by decide) (mm_isSt rfl hg (br_f (by decide) (nm_e ⟨9, mm_d23 8 0 _ rfl hp⟩))))
theorem mm_rd4 {post : Int32 → Prop} {x1 : Int32} {f0 f1 f2 f3 f4 f5 : Int32} {a1 a2 a3 a4 a5 a6 a7 a8 a9 a10 a11 a12 a13 a14 a15 a16 a17 a18 a19 a20 a21 a22 a23 a24 a25 a26 a27 a28 a29 a30 a31 a32 a33 a34 a35 a36 a37 a38 : Nat → Int32} (h1 : f1 = 1) (hp : post x1) : ∀ m i, i + m = 16 → 0 < i → wX_ready_4 post f0 f1 f2 f3 f4 f5 a1 a2 a3 a4 a5 a6 a7 a8 a9 a10 a11 a12 a13 a14 a15 a16 a17 a18 a19 a20 a21 a22 a23 a24 a25 a26 a27 a28 a29 a30 a31 a32 a33 a34 a35 a36 a37 a38 (m + 1) x1 (nI i)
  | 0, i, hm, hi => pk_le 16 i (fun _ => hp) (fun z => absurd z (by omega))
  | m + 1, i, hm, hi => pk_le 16 i (fun z => absurd z (by omega)) (fun _ => mm_hasP h1 rfl (by omega) (fun z => absurd z (by omega)) (fun _ => br_t rfl (nm_r (Int32.add_zero x1) (nm_r (nI_1 i) (mm_rd4 h1 hp m (i + 1) (by omega) (by omega))))))
theorem mm_readyP {post : Int32 → Prop} {dn : Bool} {s g : Nat} {f0 f1 f2 f3 f4 f5 : Int32} {a1 a2 a3 a4 a5 a6 a7 a8 a9 a10 a11 a12 a13 a14 a15 a16 a17 a18 a19 a20 a21 a22 a23 a24 a25 a26 a27 a28 a29 a30 a31 a32 a33 a34 a35 a36 a37 a38 : Nat → Int32} (h1 : f1 = 1) (h2 : f2 = (bif dn then 1 else 0)) (h4 : a4 0 = nI s) (h5 : a5 0 = nI g) (hs : s < 8) (hg : g < 8)
    (H0 : dn = true ∨ mm_dist a1 s g = -1 → post 0) (H1 : dn = false → ¬ mm_dist a1 s g = -1 → post 1) : wpX_ready post (f0, f1, f2, f3, f4, f5, a1, a2, a3, a4, a5, a6, a7, a8, a9, a10, a11, a12, a13, a14, a15, a16, a17, a18, a19, a20, a21, a22, a23, a24, a25, a26, a27, a28, a29, a30, a31, a32, a33, a34, a35, a36, a37, a38) := by
  refine ⟨17, pk_le 16 0 (fun z => absurd z (by omega)) (fun _ => mm_hasP h1 rfl (by omega) (fun _ => br_f (by decide) (mm_thereP h2 rfl (fun z => ?_) (fun z => ?_))) (fun z => absurd rfl z))⟩
  · exact br_f (by decide) (nm_r (e' := 0) rfl (nm_r (nI_1 0) (mm_rd4 h1 (H0 (Or.inl z)) 15 1 (by omega) (by omega))))
  · refine br_t rfl ⟨pk_in 0 16 (by omega), pk_in 0 16 (by omega), ?_⟩
    refine mm_distP (s := s) (g := g) h4 h5 hs hg (br_c (fun y => br_t rfl (nm_r (e' := 0) rfl (nm_r (nI_1 0) (mm_rd4 h1 (H0 (Or.inr y)) 15 1 (by omega) (by omega))))) (fun y => br_f (by decide) (nm_r (e' := 1) rfl (nm_r (nI_1 0) (mm_rd4 h1 (H1 z y) 15 1 (by omega) (by omega))))))
theorem mm_s66b : ∀ i, i < 16 → ((0 : Int32) >>> (nI i &&& 31)) &&& 1 = 0 ∧ ((1 : Int32) >>> (nI i &&& 31)) &&& 1 = (if i = 0 then 1 else 0) := by decide +kernel
theorem mm_s66 {post : Int32 → St2 → Prop} {x2 x3 : Int32} {f0 f1 f2 f3 f4 f5 : Int32} {a1 a2 a3 a4 a5 a6 a7 a8 a9 a10 a11 a12 a13 a14 a15 a16 a17 a18 a19 a20 a21 a22 a23 a24 a25 a26 a27 a28 a29 a30 a31 a32 a33 a34 a35 a36 a37 a38 : Nat → Int32} (hx : ∀ i, 0 < i → i < 16 → (x2 >>> (nI i &&& 31)) &&& 1 = 0) (hp : post x3 (f0, f1, f2, f3, f4, f5, a1, a2, a3, a4, a5, a6, a7, a8, a9, a10, a11, a12, a13, a14, a15, a16, a17, a18, a19, a20, a21, a22, a23, a24, a25, a26, a27, a28, a29, a30, a31, a32, a33, a34, a35, a36, a37, a38)) : ∀ m i, i + m = 16 → 0 < i → wX_settle_66 post x2 f0 f1 f2 f3 f4 f5 a1 a2 a3 a4 a5 a6 a7 a8 a9 a10 a11 a12 a13 a14 a15 a16 a17 a18 a19 a20 a21 a22 a23 a24 a25 a26 a27 a28 a29 a30 a31 a32 a33 a34 a35 a36 a37 a38 (m + 1) x3 (nI i)
  | 0, i, hm, hi => pk_le 16 i (fun _ => hp) (fun z => absurd z (by omega))
  | m + 1, i, hm, hi => pk_le 16 i (fun z => absurd z (by omega)) (fun _ => nm_r (by rw [hx i hi (by omega)]; exact Int32.add_zero x3) (nm_r (nI_1 i) (mm_s66 hx hp m (i + 1) (by omega) (by omega))))
theorem mm_s52 {post : Int32 → St2 → Prop} {dn : Bool} {f0 f1 f2 f3 f4 f5 : Int32} {a1 a2 a3 a4 a5 a6 a7 a8 a9 a10 a11 a12 a13 a14 a15 a16 a17 a18 a19 a20 a21 a22 a23 a24 a25 a26 a27 a28 a29 a30 a31 a32 a33 a34 a35 a36 a37 a38 : Nat → Int32} (h2 : f2 = (bif dn then 1 else 0)) (hp : post (bif dn then 1 else 0) (f0, f1, f2, f3, f4, f5, a1, a2, a3, a4, a5, a6, a7, a8, a9, a10, a11, a12, a13, a14, a15, a16, a17, a18, a19, a20, a21, a22, a23, a24, a25, a26, a27, a28, a29, a30, a31, a32, a33, a34, a35, a36, a37, a38)) : wX_settle_52 post 0 f0 f1 f2 f3 f4 f5 a1 a2 a3 a4 a5 a6 a7 a8 a9 a10 a11 a12 a13 a14 a15 a16 a17 a18 a19 a20 a21 a22 a23 a24 a25 a26 a27 a28 a29 a30 a31 a32 a33 a34 a35 a36 a37 a38 := by
  subst h2
  cases dn
  · refine nm_r (e' := 0) (by decide) ⟨17, pk_le 16 0 (fun z => absurd z (by omega)) (fun _ => nm_r (e' := 0) (by decide) (nm_r (nI_1 0) (mm_s66 (fun i _ h => (mm_s66b i h).1) hp 15 1 (by omega) (by omega))))⟩
  · refine nm_r (e' := 1) (by decide) ⟨17, pk_le 16 0 (fun z => absurd z (by omega)) (fun _ => nm_r (e' := 1) (by decide) (nm_r (nI_1 0) (mm_s66 (fun i h0 h => (mm_s66b i h).2.trans (if_neg (by omega))) hp 15 1 (by omega) (by omega))))⟩
theorem mm_s29 {post : Int32 → St2 → Prop} (hp : ∀ q u', mm_dn q = true → mm_R A B os ok od q u' → post 1 u') :
    ∀ (m i : Nat) (q : mm_Q) (f0 f1 f2 f3 f4 f5 : Int32) (a1 a2 a3 a4 a5 a6 a7 a8 a9 a10 a11 a12 a13 a14 a15 a16 a17 a18 a19 a20 a21 a22 a23 a24 a25 a26 a27 a28 a29 a30 a31 a32 a33 a34 a35 a36 a37 a38 : Nat → Int32), i + m ≤ 60000 → mm_R A B os ok od q (f0, f1, f2, f3, f4, f5, a1, a2, a3, a4, a5, a6, a7, a8, a9, a10, a11, a12, a13, a14, a15, a16, a17, a18, a19, a20, a21, a22, a23, a24, a25, a26, a27, a28, a29, a30, a31, a32, a33, a34, a35, a36, a37, a38) → mm_run A os ok od m q = true → wX_settle_29 post 0 (m + 1) (nI i) f0 f1 f2 f3 f4 f5 a1 a2 a3 a4 a5 a6 a7 a8 a9 a10 a11 a12 a13 a14 a15 a16 a17 a18 a19 a20 a21 a22 a23 a24 a25 a26 a27 a28 a29 a30 a31 a32 a33 a34 a35 a36 a37 a38 := by
  intro m
  induction m with
  | zero =>
    intro i q f0 f1 f2 f3 f4 f5 a1 a2 a3 a4 a5 a6 a7 a8 a9 a10 a11 a12 a13 a14 a15 a16 a17 a18 a19 a20 a21 a22 a23 a24 a25 a26 a27 a28 a29 a30 a31 a32 a33 a34 a35 a36 a37 a38 hm h hs
    exact absurd hs (by unfold mm_run; decide)
  | succ m ih =>
    intro i q f0 f1 f2 f3 f4 f5 a1 a2 a3 a4 a5 a6 a7 a8 a9 a10 a11 a12 a13 a14 a15 a16 a17 a18 a19 a20 a21 a22 a23 a24 a25 a26 a27 a28 a29 a30 a31 a32 a33 a34 a35 a36 a37 a38 hm h hs
    obtain ⟨⟨k1, k2, k3, k4⟩, ⟨k5, k6, k7, k8⟩, k9, k10, k11, k12, k13⟩ := mm_RS h
    unfold mm_run at hs
    refine pk_le 60000 i (fun z => absurd z (by omega)) (fun _ => mm_readyP k2 k3 k5 k6 k1 (mm_E8 A) (fun z => ?_) (fun z y => ?_))
    · rw [k4] at z
      have hd : mm_dn q = true := by
        rcases z with z | z
        · exact z
        · exact absurd z (mm_dLK A k1).1
      have hp' := hp q _ hd h
      exact br_t (by decide) (mm_s52 (dn := true) (by rw [k3, hd]) hp')
    · rw [z] at hs
      refine br_f (by decide) ?_
      cases e : mm_mom A os ok od q with
      | none =>
        rw [e] at hs
        exact absurd (show false = true from hs) (by decide)
      | some q1 =>
        rw [e] at hs
        refine mm_momP h e (fun u1 h1 => ?_)
        obtain ⟨f0b, f1b, f2b, f3b, f4b, f5b, a1b, a2b, a3b, a4b, a5b, a6b, a7b, a8b, a9b, a10b, a11b, a12b, a13b, a14b, a15b, a16b, a17b, a18b, a19b, a20b, a21b, a22b, a23b, a24b, a25b, a26b, a27b, a28b, a29b, a30b, a31b, a32b, a33b, a34b, a35b, a36b, a37b, a38b⟩ := u1
        exact nm_r (nI_1 i) (ih (i + 1) q1 f0b f1b f2b f3b f4b f5b a1b a2b a3b a4b a5b a6b a7b a8b a9b a10b a11b a12b a13b a14b a15b a16b a17b a18b a19b a20b a21b a22b a23b a24b a25b a26b a27b a28b a29b a30b a31b a32b a33b a34b a35b a36b a37b a38b (by omega) h1 hs)
theorem mm_s7 {post : Int32 → St2 → Prop} {f0 f1 f2 f3 f4 f5 : Int32} {a1 a2 a3 a4 a5 a6 a7 a8 a9 a10 a11 a12 a13 a14 a15 a16 a17 a18 a19 a20 a21 a22 a23 a24 a25 a26 a27 a28 a29 a30 a31 a32 a33 a34 a35 a36 a37 a38 : Nat → Int32} (h2 : f2 = 0) (H : ∀ s27 : Nat → Int32, (∀ j, j < 1024 → s27 j = 0) → ∃ n, wX_settle_29 post 0 n 0 f0 f1 (0 : Int32) f3 f4 f5 a1 a2 a3 a4 a5 a6 a7 a8 a9 a10 a11 a12 a13 a14 a15 a16 a17 a18 a19 a20 a21 a22 a23 a24 a25 a26 s27 a28 a29 a30 a31 a32 a33 a34 a35 a36 a37 a38) : wpX_settle post (f0, f1, f2, f3, f4, f5, a1, a2, a3, a4, a5, a6, a7, a8, a9, a10, a11, a12, a13, a14, a15, a16, a17, a18, a19, a20, a21, a22, a23, a24, a25, a26, a27, a28, a29, a30, a31, a32, a33, a34, a35, a36, a37, a38) := by
  subst h2
  refine pk_loop (fun n i s => wX_settle_7 post 0 f0 f1 (0 : Int32) f3 f4 f5 n (nI i) a1 a2 a3 a4 a5 a6 a7 a8 a9 a10 a11 a12 a13 a14 a15 a16 a17 a18 a19 a20 a21 a22 a23 a24 a25 a26 s a28 a29 a30 a31 a32 a33 a34 a35 a36 a37 a38) (fun i s => ∀ j, j < i → s j = 0) 1024 0 a27 (by omega) (fun j hj => absurd hj (by omega)) ?_ ?_
  · intro n s hs
    exact pk_le 1024 1024 (fun _ => H s hs) (fun z => absurd z (by omega))
  · intro n i s hi hs hn
    refine pk_le 1024 i (fun z => absurd z (by omega)) (fun _ => ⟨pk_in i 1024 hi, nm_e (nm_r (nI_1 i) (hn _ ?_))⟩)
    rw [nI_clamp (show i < 2 ^ 31 by omega)]
    intro j hj
    by_cases e : j = i
    · rw [e, pk_us]
    · rw [pk_un e]
      exact hs j (by omega)
end
end
section
def mm_z : Nat → Int32 := fun _ => 0
theorem mm_uz {k : Nat} {v : Int32} (h : v = 0 := by rfl) : upd mm_z k v = mm_z := by
  funext j
  subst h
  unfold upd mm_z
  split <;> rfl
theorem mm_uk {P : Int32} {a : Nat → Int32} {k : Nat} (h : ∀ j, j < k → a j = P) : ∀ j, j < k + 1 → upd a k P j = P := by
  intro j hj
  by_cases e : j = k
  · rw [e, pk_us]
  · rw [pk_un e]
    exact h j (by omega)
theorem mm_cl111 {post : St2 → Prop} {s : Nat} {a11 a13 a16 a17 : Nat → Int32} (hs : s < 8) (h17 : ∀ j, j < s * 64 → a17 j = -1)
    (hp : ∀ b17 : Nat → Int32, (∀ j, j < s * 64 + 64 → b17 j = -1) → post ((0 : Int32), (0 : Int32), (0 : Int32), (0 : Int32), (0 : Int32), (0 : Int32), mm_z, mm_z, mm_z, mm_z, mm_z, mm_z, mm_z, mm_z, mm_z, mm_z, a11, mm_z, a13, mm_z, mm_z, a16, b17, mm_z, mm_z, mm_z, mm_z, mm_z, mm_z, mm_z, mm_z, mm_z, mm_z, mm_z, mm_z, mm_z, mm_z, mm_z, mm_z, mm_z, mm_z, mm_z, mm_z, mm_z)) : ∃ n, wX_clear_111 post (nI s) (0 : Int32) (0 : Int32) (0 : Int32) (0 : Int32) (0 : Int32) (0 : Int32) n 0 mm_z mm_z mm_z mm_z mm_z mm_z mm_z mm_z mm_z mm_z a11 mm_z a13 mm_z mm_z a16 a17 mm_z mm_z mm_z mm_z mm_z mm_z mm_z mm_z mm_z mm_z mm_z mm_z mm_z mm_z mm_z mm_z mm_z mm_z mm_z mm_z mm_z := by
  refine pk_loop (fun n i b17 => wX_clear_111 post (nI s) (0 : Int32) (0 : Int32) (0 : Int32) (0 : Int32) (0 : Int32) (0 : Int32) n (nI i) mm_z mm_z mm_z mm_z mm_z mm_z mm_z mm_z mm_z mm_z a11 mm_z a13 mm_z mm_z a16 b17 mm_z mm_z mm_z mm_z mm_z mm_z mm_z mm_z mm_z mm_z mm_z mm_z mm_z mm_z mm_z mm_z mm_z mm_z mm_z mm_z mm_z) (fun i b17 => ∀ j, j < s * 64 + i → b17 j = -1) 64 0 a17 (by omega) h17 ?_ ?_
  · intro n b hb
    exact pk_le 64 64 (fun _ => hp b hb) (fun z => absurd z (by omega))
  · intro n i b hi hb hn
    have hx : nI s * 64 + nI i = nI (s * 64 + i) := mm_m64 s i
    refine pk_le 64 i (fun z => absurd z (by omega)) (fun _ => ⟨pk_in (s * 64 + i) 512 (by omega) hx, nm_e (nm_r (nI_1 i) (hn _ ?_))⟩)
    rw [hx, nI_clamp (show s * 64 + i < 2 ^ 31 by omega)]
    exact mm_uk hb
theorem mm_cl2 {post : St2 → Prop} {s : Nat} {a11 a17 : Nat → Int32} (hs : s < 8) (h17 : ∀ j, j < s * 64 → a17 j = -1)
    (hp : ∀ b13 b16 b17 : Nat → Int32, (∀ j, j < s * 8 + 8 → b13 j = -1) → (∀ j, j < s * 8 + 8 → b16 j = 0 - 24) → (∀ j, j < s * 64 + 64 → b17 j = -1) → post ((0 : Int32), (0 : Int32), (0 : Int32), (0 : Int32), (0 : Int32), (0 : Int32), mm_z, mm_z, mm_z, mm_z, mm_z, mm_z, mm_z, mm_z, mm_z, mm_z, a11, mm_z, b13, mm_z, mm_z, b16, b17, mm_z, mm_z, mm_z, mm_z, mm_z, mm_z, mm_z, mm_z, mm_z, mm_z, mm_z, mm_z, mm_z, mm_z, mm_z, mm_z, mm_z, mm_z, mm_z, mm_z, mm_z)) :
    ∀ (m o : Nat) (a13 a16 : Nat → Int32), o + m = 8 → (∀ j, j < s * 8 + o → a13 j = -1) → (∀ j, j < s * 8 + o → a16 j = 0 - 24) →
      wX_clear_2 post (nI s) (0 : Int32) (0 : Int32) (0 : Int32) (0 : Int32) (0 : Int32) (0 : Int32) (m + 1) (nI o) mm_z mm_z mm_z mm_z mm_z mm_z mm_z mm_z mm_z mm_z a11 mm_z a13 mm_z mm_z a16 a17 mm_z mm_z mm_z mm_z mm_z mm_z mm_z mm_z mm_z mm_z mm_z mm_z mm_z mm_z mm_z mm_z mm_z mm_z mm_z mm_z mm_z := by
  intro m
  induction m with
  | zero =>
    intro o a13 a16 hm h13 h16
    have ho : o = 8 := by omega
    subst ho
    exact pk_le 8 8 (fun _ => mm_cl111 hs h17 (fun b17 h => hp a13 a16 b17 h13 h16 h)) (fun z => absurd z (by omega))
  | succ m ih =>
    intro o a13 a16 hm h13 h16
    have k1 : s * 8 + o < 64 := by omega
    have k2 : s + 8 * o < 64 := by omega
    have k3 : o + 8 * s < 64 := by omega
    have c1 : (nI (s * 8 + o)).toNatClampNeg = s * 8 + o := nI_clamp (by omega)
    refine pk_le 8 o (fun z => absurd z (by omega)) (fun _ => nm_r (mm_m8 s o) ⟨pk_in _ 64 k1, ?_⟩)
    rw [c1]
    refine nm_e ⟨pk_in _ 64 k1, nm_r mm_uz ⟨pk_in _ 64 k1, nm_r mm_uz ⟨pk_in _ 64 k1, nm_e ?_⟩⟩⟩
    unfold wpX_pair
    rw [mm_p8, mm_p8]
    exact ⟨pk_in _ 64 k2, nm_r mm_uz ⟨pk_in _ 64 k2, nm_r mm_uz ⟨pk_in _ 64 k2, nm_r mm_uz ⟨pk_in _ 64 k3, nm_r mm_uz ⟨pk_in _ 64 k3, nm_r mm_uz (nm_r (nI_1 o) (ih (o + 1) _ _ (by omega) (mm_uk h13) (mm_uk h16)))⟩⟩⟩⟩⟩
theorem mm_i320 {post : St2 → Prop} {mc ms kc ks : Nat} (hp : ∀ a11 a13 a16 a17 : Nat → Int32, (∀ j, j < 8 → a11 j = 1) → (∀ j, j < 64 → a13 j = -1) → (∀ j, j < 64 → a16 j = 0 - 24) → (∀ j, j < 512 → a17 j = -1) → post ((0 : Int32), (0 : Int32), (0 : Int32), (0 : Int32), (0 : Int32), (0 : Int32), mm_z, mm_z, mm_z, mm_z, mm_z, mm_z, mm_z, mm_z, mm_z, mm_z, a11, mm_z, a13, mm_z, mm_z, a16, a17, mm_z, mm_z, mm_z, mm_z, mm_z, mm_z, mm_z, mm_z, mm_z, mm_z, mm_z, mm_z, mm_z, mm_z, mm_z, mm_z, mm_z, mm_z, mm_z, mm_z, mm_z)) :
    ∀ (m i : Nat) (a11 a13 a16 a17 : Nat → Int32), i + m = 8 → (∀ j, j < i → a11 j = 1) → (∀ j, j < i * 8 → a13 j = -1) → (∀ j, j < i * 8 → a16 j = 0 - 24) → (∀ j, j < i * 64 → a17 j = -1) →
      wX_init_320 post mc ms kc ks (m + 1) (nI i) (0 : Int32) (0 : Int32) (0 : Int32) (0 : Int32) (0 : Int32) (0 : Int32) mm_z mm_z mm_z mm_z mm_z mm_z mm_z mm_z mm_z mm_z a11 mm_z a13 mm_z mm_z a16 a17 mm_z mm_z mm_z mm_z mm_z mm_z mm_z mm_z mm_z mm_z mm_z mm_z mm_z mm_z mm_z mm_z mm_z mm_z mm_z mm_z mm_z := by
  intro m
  induction m with
  | zero =>
    intro i a11 a13 a16 a17 hm h11 h13 h16 h17
    have hi : i = 8 := by omega
    subst hi
    exact pk_le 8 8 (fun _ => hp a11 a13 a16 a17 h11 h13 h16 h17) (fun z => absurd z (by omega))
  | succ m ih =>
    intro i a11 a13 a16 a17 hm h11 h13 h16 h17
    refine pk_le 8 i (fun z => absurd z (by omega)) (fun _ => ⟨pk_in i 8 (by omega), ?_⟩)
    rw [nI_clamp (show i < 2 ^ 31 by omega)]
    refine nm_e ⟨9, mm_cl2 (by omega) h17 (fun b13 b16 b17 k13 k16 k17 => ?_) 8 0 a13 a16 rfl h13 h16⟩
    exact nm_r (nI_1 i) (ih (i + 1) _ b13 b16 b17 (by omega) (mm_uk h11) (fun j hj => k13 j (by omega)) (fun j hj => k16 j (by omega)) (fun j hj => k17 j (by omega)))
theorem mm_initP {post : St2 → Prop} (hp : ∀ a11 a13 a16 a17 : Nat → Int32, (∀ j, j < 8 → a11 j = 1) → (∀ j, j < 64 → a13 j = -1) → (∀ j, j < 64 → a16 j = 0 - 24) → (∀ j, j < 512 → a17 j = -1) → post ((0 : Int32), (0 : Int32), (0 : Int32), (0 : Int32), (0 : Int32), (0 : Int32), mm_z, mm_z, mm_z, mm_z, mm_z, mm_z, mm_z, mm_z, mm_z, mm_z, a11, mm_z, a13, mm_z, mm_z, a16, a17, mm_z, mm_z, mm_z, mm_z, mm_z, mm_z, mm_z, mm_z, mm_z, mm_z, mm_z, mm_z, mm_z, mm_z, mm_z, mm_z, mm_z, mm_z, mm_z, mm_z, mm_z)) :
    wpX_init post 38 19144 (0, 0, 0, 0, 0, 0) := by
  unfold wpX_init
  dsimp only
  repeat (first | refine And.intro (by decide) ?_)
  exact ⟨9, mm_i320 hp 8 0 mm_z mm_z mm_z mm_z rfl (fun j hj => absurd hj (by omega)) (fun j hj => absurd hj (by omega)) (fun j hj => absurd hj (by omega)) (fun j hj => absurd hj (by omega))⟩
theorem mm_link1 {post : Int32 → St2 → Prop} {p0 p1 p2 : Int32} {s g : Nat} {f0 f1 f2 f3 f4 f5 : Int32} {a1 a2 a3 a4 a5 a6 a7 a8 a9 a10 a11 a12 a13 a14 a15 a16 a17 a18 a19 a20 a21 a22 a23 a24 a25 a26 a27 a28 a29 a30 a31 a32 a33 a34 a35 a36 a37 a38 : Nat → Int32} (e0 : p0 = nI s) (e1 : p1 = nI g) (e2 : p2 = 1) (hs : s < 8) (hg : g < 8) (hn : s ≠ g) (hp : post 1 (f0, f1, f2, f3, f4, f5, mm_l1 a1 s g, a2, a3, a4, a5, a6, a7, a8, a9, a10, a11, a12, a13, a14, a15, a16, a17, a18, a19, a20, a21, a22, a23, a24, a25, a26, a27, a28, a29, a30, a31, a32, a33, a34, a35, a36, a37, a38)) : wpX_link post (f0, f1, f2, f3, f4, f5, a1, a2, a3, a4, a5, a6, a7, a8, a9, a10, a11, a12, a13, a14, a15, a16, a17, a18, a19, a20, a21, a22, a23, a24, a25, a26, a27, a28, a29, a30, a31, a32, a33, a34, a35, a36, a37, a38) p0 p1 p2 := by
  subst e0 e1 e2
  have cs : (nI s).toNatClampNeg = s := nI_clamp (by omega)
  have cg : (nI g).toNatClampNeg = g := nI_clamp (by omega)
  unfold wpX_link
  dsimp only
  refine mm_isSt rfl hs (br_f (by decide) (mm_isSt rfl hg (br_f (by decide) (pk_eq s g (fun z => absurd z hn) (fun _ => br_f (by decide) ⟨pk_in s 8 hs, ?_⟩)))))
  unfold wX_link_55
  rw [cs, cg]
  exact ⟨pk_in s 8 hs, nm_e (br_f (by decide) ⟨pk_in g 8 hg, pk_in g 8 hg, nm_e hp⟩)⟩
theorem mm_link0 {post : Int32 → St2 → Prop} {p0 p1 p2 : Int32} {s g : Nat} {f0 f1 f2 f3 f4 f5 : Int32} {a1 a2 a3 a4 a5 a6 a7 a8 a9 a10 a11 a12 a13 a14 a15 a16 a17 a18 a19 a20 a21 a22 a23 a24 a25 a26 a27 a28 a29 a30 a31 a32 a33 a34 a35 a36 a37 a38 : Nat → Int32} (e0 : p0 = nI s) (e1 : p1 = nI g) (e2 : p2 = 0) (hs : s < 8) (hg : g < 8) (hn : s ≠ g) (hp : post 1 (f0, f1, f2, f3, f4, f5, mm_l0 a1 s g, a2, a3, a4, a5, a6, a7, a8, a9, a10, a11, a12, a13, a14, a15, a16, a17, a18, a19, a20, a21, a22, a23, a24, a25, a26, a27, a28, a29, a30, a31, a32, a33, a34, a35, a36, a37, a38)) : wpX_link post (f0, f1, f2, f3, f4, f5, a1, a2, a3, a4, a5, a6, a7, a8, a9, a10, a11, a12, a13, a14, a15, a16, a17, a18, a19, a20, a21, a22, a23, a24, a25, a26, a27, a28, a29, a30, a31, a32, a33, a34, a35, a36, a37, a38) p0 p1 p2 := by
  subst e0 e1 e2
  have cs : (nI s).toNatClampNeg = s := nI_clamp (by omega)
  have cg : (nI g).toNatClampNeg = g := nI_clamp (by omega)
  unfold wpX_link
  dsimp only
  refine mm_isSt rfl hs (br_f (by decide) (mm_isSt rfl hg (br_f (by decide) (pk_eq s g (fun z => absurd z hn) (fun _ => br_t rfl ⟨pk_in s 8 hs, ?_⟩)))))
  unfold wX_link_55
  rw [cs, cg]
  exact ⟨pk_in s 8 hs, nm_e (br_t rfl ⟨pk_in g 8 hg, pk_in g 8 hg, nm_e hp⟩)⟩
theorem mm_writeB {post : Int32 → St2 → Prop} {p0 : Int32} {w : Nat} {f0 f1 f2 f3 f4 f5 : Int32} {a1 a2 a3 a4 a5 a6 a7 a8 a9 a10 a11 a12 a13 a14 a15 a16 a17 a18 a19 a20 a21 a22 a23 a24 a25 a26 a27 a28 a29 a30 a31 a32 a33 a34 a35 a36 a37 a38 : Nat → Int32} (e0 : p0 = nI w) (hw : w < 256) (h0 : f0 = 0) (hp : post 1 (1, f1, f2, f3, f4, f5, a1, upd a2 0 (nI w), a3, a4, a5, a6, a7, a8, a9, a10, a11, a12, a13, a14, a15, a16, a17, a18, a19, a20, a21, a22, a23, a24, a25, a26, a27, a28, a29, a30, a31, a32, a33, a34, a35, a36, a37, a38)) : wpX_write post (f0, f1, f2, f3, f4, f5, a1, a2, a3, a4, a5, a6, a7, a8, a9, a10, a11, a12, a13, a14, a15, a16, a17, a18, a19, a20, a21, a22, a23, a24, a25, a26, a27, a28, a29, a30, a31, a32, a33, a34, a35, a36, a37, a38) p0 := by
  subst e0 h0
  unfold wpX_write
  dsimp only
  exact br_f (nI_pos (by omega)) (pk_le w 255 (fun _ => br_t (by decide) ⟨pk_in 0 8 (by omega), nm_e (nm_r (nI_1 0) hp)⟩) (fun z => absurd z (by omega)))
theorem mm_msgP {post : Int32 → Prop} {f0 f1 f2 f3 f4 f5 : Int32} {a1 a2 a3 a4 a5 a6 a7 a8 a9 a10 a11 a12 a13 a14 a15 a16 a17 a18 a19 a20 a21 a22 a23 a24 a25 a26 a27 a28 a29 a30 a31 a32 a33 a34 a35 a36 a37 a38 : Nat → Int32} (hp : ∀ r, post r) : ∀ (m i : Nat) (x1 : Int32), i + m = 16 → wX_messages_4 post f0 f1 f2 f3 f4 f5 a1 a2 a3 a4 a5 a6 a7 a8 a9 a10 a11 a12 a13 a14 a15 a16 a17 a18 a19 a20 a21 a22 a23 a24 a25 a26 a27 a28 a29 a30 a31 a32 a33 a34 a35 a36 a37 a38 (m + 1) x1 (nI i)
  | 0, i, x1, hm => pk_le 16 i (fun _ => hp x1) (fun z => absurd z (by omega))
  | m + 1, i, x1, hm => by
    refine pk_le 16 i (fun z => absurd z (by omega)) (fun _ => ?_)
    unfold wpX_has
    dsimp only
    exact br_c (fun _ => br_t rfl (nm_e (nm_r (nI_1 i) (mm_msgP hp m (i + 1) _ (by omega))))) (fun _ => br_f (by decide) (nm_e (nm_r (nI_1 i) (mm_msgP hp m (i + 1) _ (by omega)))))
theorem mm_postP {post : Int32 → St2 → Prop} {p0 p1 : Int32} {s g : Nat} {f0 f1 f2 f3 f4 f5 : Int32} {a1 a2 a3 a4 a5 a6 a7 a8 a9 a10 a11 a12 a13 a14 a15 a16 a17 a18 a19 a20 a21 a22 a23 a24 a25 a26 a27 a28 a29 a30 a31 a32 a33 a34 a35 a36 a37 a38 : Nat → Int32} (e0 : p0 = nI s) (e1 : p1 = nI g) (hs : s < 8) (hg : g < 8) (hn : s ≠ g) (h0 : f0 = 1) (h1 : f1 = 0) (h2 : f2 = 0)
    (hp : ∀ r, post r (0, 1, 0, f3 + 1, f4, f5, a1, a2, upd a3 0 f3, upd a4 0 (nI s), upd a5 0 (nI g), upd a6 0 1, upd a7 0 (a2 0).toInt8.toInt32, a8, a9, a10, a11, a12, a13, a14, a15, a16, a17, a18, a19, a20, a21, a22, a23, a24, a25, a26, a27, a28, a29, a30, a31, a32, a33, a34, a35, a36, a37, a38)) : wpX_post post (f0, f1, f2, f3, f4, f5, a1, a2, a3, a4, a5, a6, a7, a8, a9, a10, a11, a12, a13, a14, a15, a16, a17, a18, a19, a20, a21, a22, a23, a24, a25, a26, a27, a28, a29, a30, a31, a32, a33, a34, a35, a36, a37, a38) p0 p1 := by
  subst e0 e1 h0 h1 h2
  unfold wpX_post
  dsimp only
  refine mm_isSt rfl hs (br_f (by decide) (mm_isSt rfl hg (br_f (by decide) (pk_eq s g (fun z => absurd z hn) (fun _ => ⟨1, pk_le 16 0 (fun z => absurd z (by omega)) (fun _ => ?_)⟩)))))
  unfold wpX_has
  dsimp only
  refine br_t (by decide) (br_t rfl ?_)
  unfold wX_post_43
  rw [mm_b8 s (by omega), mm_b8 g (by omega)]
  refine br_f (by decide) (nm_r (e' := 1) (by decide) (nm_r (e' := 0) (by decide) ⟨pk_in 0 16 (by omega), nm_r (e' := upd a3 0 f3) rfl (nm_e ⟨pk_in 0 16 (by omega), nm_r (e' := upd a4 0 (nI s)) rfl ⟨pk_in 0 16 (by omega), nm_r (e' := upd a5 0 (nI g)) rfl ⟨pk_in 0 16 (by omega), nm_r (e' := upd a6 0 1) rfl ⟨2, ?_⟩⟩⟩⟩)⟩))
  refine pk_le 1 0 (fun z => absurd z (by omega)) (fun _ => ⟨pk_in 0 8 (by omega), pk_in 0 128 (by omega), nm_r (e' := upd a7 0 (a2 0).toInt8.toInt32) rfl (nm_r (nI_1 0) (pk_le 1 1 (fun _ => ⟨17, mm_msgP hp 16 0 0 rfl⟩) (fun z => absurd z (by omega))))⟩)
theorem mm_settleN {post : Int32 → St2 → Prop} {s g : Nat} {f0 f1 f2 f3 f4 f5 : Int32} {a1 a2 a3 a4 a5 a6 a7 a8 a9 a10 a11 a12 a13 a14 a15 a16 a17 a18 a19 a20 a21 a22 a23 a24 a25 a26 a27 a28 a29 a30 a31 a32 a33 a34 a35 a36 a37 a38 : Nat → Int32} (h1 : f1 = 1) (h2 : f2 = 0) (h4 : a4 0 = nI s) (h5 : a5 0 = nI g) (hs : s < 8) (hg : g < 8) (hd : mm_dist a1 s g = -1)
    (hp : ∀ b27 : Nat → Int32, (∀ j, j < 1024 → b27 j = 0) → post 0 (f0, f1, 0, f3, f4, f5, a1, a2, a3, a4, a5, a6, a7, a8, a9, a10, a11, a12, a13, a14, a15, a16, a17, a18, a19, a20, a21, a22, a23, a24, a25, a26, b27, a28, a29, a30, a31, a32, a33, a34, a35, a36, a37, a38)) : wpX_settle post (f0, f1, f2, f3, f4, f5, a1, a2, a3, a4, a5, a6, a7, a8, a9, a10, a11, a12, a13, a14, a15, a16, a17, a18, a19, a20, a21, a22, a23, a24, a25, a26, a27, a28, a29, a30, a31, a32, a33, a34, a35, a36, a37, a38) := by
  refine mm_s7 h2 (fun b27 hb => ⟨1, pk_le 60000 0 (fun z => absurd z (by omega)) (fun _ => mm_readyP (dn := false) h1 rfl h4 h5 hs hg (fun _ => br_t (by decide) (mm_s52 (dn := false) rfl (hp b27 hb))) (fun _ y => absurd hd y))⟩)
theorem mm_disturbP {post : Int32 → St2 → Prop} {p0 p1 p2 : Int32} {os ok od : Nat} {f0 f1 f2 f3 f4 f5 : Int32} {a1 a2 a3 a4 a5 a6 a7 a8 a9 a10 a11 a12 a13 a14 a15 a16 a17 a18 a19 a20 a21 a22 a23 a24 a25 a26 a27 a28 a29 a30 a31 a32 a33 a34 a35 a36 a37 a38 : Nat → Int32} (e0 : p0 = nI os) (e1 : p1 = nI ok) (e2 : p2 = nI od) (h1 : os < 8) (h2 : ok < 20) (h3 : od < 3) (h33 : a33 0 = 0) (h32 : a32 os = 0)
    (hp : post 1 (f0, f1, f2, f3, f4, f5, a1, a2, a3, a4, a5, a6, a7, a8, a9, a10, a11, a12, a13, a14, a15, a16, a17, a18, a19, a20, a21, a22, a23, a24, a25, a26, a27, a28, a29, a30, a31, a32, upd a33 0 1, upd a34 0 (nI os), upd a35 0 (nI ok), upd a36 0 (nI od), a37, a38)) : wpX_disturb post (f0, f1, f2, f3, f4, f5, a1, a2, a3, a4, a5, a6, a7, a8, a9, a10, a11, a12, a13, a14, a15, a16, a17, a18, a19, a20, a21, a22, a23, a24, a25, a26, a27, a28, a29, a30, a31, a32, a33, a34, a35, a36, a37, a38) p0 p1 p2 := by
  subst e0 e1 e2
  unfold wpX_disturb
  dsimp only
  refine mm_isSt rfl h1 (br_f (by decide) (br_f (nI_pos (by omega)) (pk_lt 20 ok (fun z => absurd z (by omega)) (fun _ => br_f (nI_pos (by omega)) (pk_le od 2 (fun _ => ⟨1, pk_le 16 0 (fun z => absurd z (by omega)) (fun _ => ⟨pk_in 0 16 (by omega), br_t h33 ?_⟩)⟩) (fun z => absurd z (by omega)))))))
  rw [nI_clamp (show os < 2 ^ 31 by omega), h32, mm_b8 os (by omega), mm_b8 od (by omega), Int32.zero_add]
  exact ⟨pk_in 0 16 (by omega), nm_r (e' := upd a33 0 1) rfl ⟨pk_in 0 16 (by omega), nm_r (e' := upd a34 0 (nI os)) rfl ⟨pk_in os 8 h1, pk_in 0 16 (by omega), nm_r (e' := upd a35 0 (nI ok)) rfl ⟨pk_in 0 16 (by omega), nm_r (e' := upd a36 0 (nI od)) rfl hp⟩⟩⟩⟩
theorem mm_isAtN {post : Int32 → Prop} {p0 p1 p2 : Int32} {i : Nat} {f0 f1 f2 f3 f4 f5 : Int32} {a1 a2 a3 a4 a5 a6 a7 a8 a9 a10 a11 a12 a13 a14 a15 a16 a17 a18 a19 a20 a21 a22 a23 a24 a25 a26 a27 a28 a29 a30 a31 a32 a33 a34 a35 a36 a37 a38 : Nat → Int32} (h1 : f1 = 1) (e0 : p0 = nI i) (hi : i < 16) (h0 : i ≠ 0) (hp : post 0) : wpX_isAt post (f0, f1, f2, f3, f4, f5, a1, a2, a3, a4, a5, a6, a7, a8, a9, a10, a11, a12, a13, a14, a15, a16, a17, a18, a19, a20, a21, a22, a23, a24, a25, a26, a27, a28, a29, a30, a31, a32, a33, a34, a35, a36, a37, a38) p0 p1 p2 := by
  unfold wpX_isAt
  dsimp only
  exact mm_hasP h1 e0 hi (fun z => absurd z h0) (fun _ => br_t rfl hp)
theorem mm_isAt0 {post : Int32 → Prop} {p0 p1 p2 : Int32} {dn : Bool} {f0 f1 f2 f3 f4 f5 : Int32} {a1 a2 a3 a4 a5 a6 a7 a8 a9 a10 a11 a12 a13 a14 a15 a16 a17 a18 a19 a20 a21 a22 a23 a24 a25 a26 a27 a28 a29 a30 a31 a32 a33 a34 a35 a36 a37 a38 : Nat → Int32} (h1 : f1 = 1) (h2 : f2 = (bif dn then 1 else 0)) (h4 : a4 0 = p1) (h5 : a5 0 = p2) (e0 : p0 = nI 0) (H0 : dn = false → post 0) (H1 : dn = true → post 1) : wpX_isAt post (f0, f1, f2, f3, f4, f5, a1, a2, a3, a4, a5, a6, a7, a8, a9, a10, a11, a12, a13, a14, a15, a16, a17, a18, a19, a20, a21, a22, a23, a24, a25, a26, a27, a28, a29, a30, a31, a32, a33, a34, a35, a36, a37, a38) p0 p1 p2 := by
  subst e0
  unfold wpX_isAt
  dsimp only
  exact mm_hasP h1 rfl (by omega) (fun _ => br_f (by decide) (mm_thereP h2 rfl (fun z => br_f (by decide) ⟨pk_in 0 16 (by omega), br_t h4 ⟨pk_in 0 16 (by omega), br_t h5 (H1 z)⟩⟩) (fun z => br_t rfl (H0 z)))) (fun z => absurd rfl z)
theorem mm_f3 {post : Int32 → Prop} {x1 x2 x3 : Int32} {f0 f1 f2 f3 f4 f5 : Int32} {a1 a2 a3 a4 a5 a6 a7 a8 a9 a10 a11 a12 a13 a14 a15 a16 a17 a18 a19 a20 a21 a22 a23 a24 a25 a26 a27 a28 a29 a30 a31 a32 a33 a34 a35 a36 a37 a38 : Nat → Int32} (h1 : f1 = 1) (hp : post (-1)) : ∀ m i, i + m = 16 → 0 < i → wX_find_3 post x1 x2 x3 f0 f1 f2 f3 f4 f5 a1 a2 a3 a4 a5 a6 a7 a8 a9 a10 a11 a12 a13 a14 a15 a16 a17 a18 a19 a20 a21 a22 a23 a24 a25 a26 a27 a28 a29 a30 a31 a32 a33 a34 a35 a36 a37 a38 (m + 1) (nI i)
  | 0, i, hm, hi => pk_le 16 i (fun _ => hp) (fun z => absurd z (by omega))
  | m + 1, i, hm, hi => pk_le 16 i (fun z => absurd z (by omega)) (fun _ => mm_isAtN h1 rfl (by omega) (by omega) (br_t rfl (nm_r (nI_1 i) (mm_f3 h1 hp m (i + 1) (by omega) (by omega)))))
theorem mm_f27 {post : Int32 → Prop} {J : Int32 → Prop} {x1 x2 x4 : Int32} {f0 f1 f2 f3 f4 f5 : Int32} {a1 a2 a3 a4 a5 a6 a7 a8 a9 a10 a11 a12 a13 a14 a15 a16 a17 a18 a19 a20 a21 a22 a23 a24 a25 a26 a27 a28 a29 a30 a31 a32 a33 a34 a35 a36 a37 a38 : Nat → Int32} (h1 : f1 = 1) (hp : post x4) : ∀ m i, i + m = 16 → 0 < i → wX_find_27 post J x1 x2 0 x4 f0 f1 f2 f3 f4 f5 a1 a2 a3 a4 a5 a6 a7 a8 a9 a10 a11 a12 a13 a14 a15 a16 a17 a18 a19 a20 a21 a22 a23 a24 a25 a26 a27 a28 a29 a30 a31 a32 a33 a34 a35 a36 a37 a38 (m + 1) 0 (nI i)
  | 0, i, hm, hi => pk_le 16 i (fun _ => br_t rfl hp) (fun z => absurd z (by omega))
  | m + 1, i, hm, hi => pk_le 16 i (fun z => absurd z (by omega)) (fun _ => mm_isAtN h1 rfl (by omega) (by omega) (br_t rfl (nm_r (e' := 0) rfl (nm_r (nI_1 i) (mm_f27 h1 hp m (i + 1) (by omega) (by omega))))))
theorem mm_findP {post : Int32 → Prop} {p0 p1 : Int32} {dn : Bool} {f0 f1 f2 f3 f4 f5 : Int32} {a1 a2 a3 a4 a5 a6 a7 a8 a9 a10 a11 a12 a13 a14 a15 a16 a17 a18 a19 a20 a21 a22 a23 a24 a25 a26 a27 a28 a29 a30 a31 a32 a33 a34 a35 a36 a37 a38 : Nat → Int32} (h1 : f1 = 1) (h2 : f2 = (bif dn then 1 else 0)) (h4 : a4 0 = p0) (h5 : a5 0 = p1) (H0 : dn = false → post (-1)) (H1 : dn = true → post 0) : wpX_find post (f0, f1, f2, f3, f4, f5, a1, a2, a3, a4, a5, a6, a7, a8, a9, a10, a11, a12, a13, a14, a15, a16, a17, a18, a19, a20, a21, a22, a23, a24, a25, a26, a27, a28, a29, a30, a31, a32, a33, a34, a35, a36, a37, a38) p0 p1 0 := by
  refine ⟨17, pk_le 16 0 (fun z => absurd z (by omega)) (fun _ => mm_isAt0 h1 h2 h4 h5 rfl (fun z => br_t rfl (nm_r (nI_1 0) (mm_f3 h1 (H0 z) 15 1 (by omega) (by omega)))) (fun z => br_f (by decide) ⟨17, ?_⟩))⟩
  refine pk_le 16 0 (fun z => absurd z (by omega)) (fun _ => mm_isAt0 h1 h2 h4 h5 rfl (fun y => absurd (z.symm.trans y) (by decide)) (fun _ => br_f (by decide) ⟨pk_in 0 16 (by omega), pk_in 0 16 (by omega), br_t (Int32.le_refl _) (nm_r (e' := 0) rfl (nm_r (nI_1 0) (mm_f27 h1 (H1 z) 15 1 (by omega) (by omega))))⟩))
theorem mm_pr : ∀ A, A < 8 → nI (A + 8 * mm_E A) &&& 7 = nI A ∧ nI (A + 8 * mm_E A) >>> ((3 : Int32) &&& 31) = nI (mm_E A) := by decide +kernel
theorem mm_byteP {post : Int32 → Prop} {p0 : Int32} {dn : Bool} {A : Nat} {f0 f1 f2 f3 f4 f5 : Int32} {a1 a2 a3 a4 a5 a6 a7 a8 a9 a10 a11 a12 a13 a14 a15 a16 a17 a18 a19 a20 a21 a22 a23 a24 a25 a26 a27 a28 a29 a30 a31 a32 a33 a34 a35 a36 a37 a38 : Nat → Int32} (hA : A < 8) (e0 : p0 = nI (A + 8 * mm_E A)) (h1 : f1 = 1) (h2 : f2 = (bif dn then 1 else 0)) (h4 : a4 0 = nI A) (h5 : a5 0 = nI (mm_E A)) (h6 : a6 0 = 1) (H0 : dn = false → post (-1)) (H1 : dn = true → post (a8 0 &&& 255)) : wpX_byteAt post (f0, f1, f2, f3, f4, f5, a1, a2, a3, a4, a5, a6, a7, a8, a9, a10, a11, a12, a13, a14, a15, a16, a17, a18, a19, a20, a21, a22, a23, a24, a25, a26, a27, a28, a29, a30, a31, a32, a33, a34, a35, a36, a37, a38) p0 0 0 := by
  subst e0
  have hE8 := mm_E8 A
  unfold wpX_byteAt
  dsimp only
  refine br_f (nI_pos (by omega)) (pk_lt (A + 8 * mm_E A) 64 (fun _ => mm_findP h1 h2 (h4.trans (mm_pr A hA).1.symm) (h5.trans (mm_pr A hA).2.symm) (fun z => br_t (by decide) (H0 z)) (fun z => br_f (by decide) (br_f (by decide) ⟨pk_in 0 16 (by omega), ?_⟩))) (fun z => absurd z (by omega)))
  rw [show (0 : Int32).toNatClampNeg = 0 from rfl, h6]
  exact br_t (by decide) ⟨pk_in 0 128 (by omega), H1 z⟩
end
section
theorem mm_q0R {A os ok od w : Nat} {f0 f3 : Int32} {a2 a3 a7 a11 a13 a16 a17 a27 : Nat → Int32} (hA : A < 8) (h1 : os < 8) (h2 : ok < 20) (h3 : od < 3) (h7 : a7 0 &&& 255 = nI w)
    (h11 : ∀ j, j < 8 → a11 j = 1) (h13 : ∀ j, j < 64 → a13 j = -1) (h16 : ∀ j, j < 64 → a16 j = 0 - 24) (h17 : ∀ j, j < 512 → a17 j = -1) (h27 : ∀ j, j < 1024 → a27 j = 0) :
    mm_R A (nI w) os ok od mm_q0 (f0, 1, 0, f3, (0 : Int32), (0 : Int32), mm_LK A, a2, a3, upd mm_z 0 (nI A), upd mm_z 0 (nI (mm_E A)), upd mm_z 0 1, a7, mm_z, mm_z, mm_z, a11, mm_z, a13, mm_z, mm_z, a16, a17, mm_z, mm_z, mm_z, mm_z, mm_z, mm_z, mm_z, mm_z, mm_z, a27, mm_z, mm_z, mm_z, mm_z, mm_z, upd mm_z 0 1, upd mm_z 0 (nI os), upd mm_z 0 (nI ok), upd mm_z 0 (nI od), mm_z, mm_z) := by
  have hE8 := mm_E8 A
  refine ⟨⟨by decide, rfl⟩, ⟨⟨hA, rfl, rfl, rfl⟩, ⟨rfl, rfl, rfl, h7⟩, fun j hj => rfl, fun j hj => rfl, rfl, ⟨rfl, rfl⟩, fun z => absurd z (by decide)⟩, ⟨by decide, rfl, h27, fun i hi z => absurd (show false = true from z) (by decide)⟩, ⟨⟨h1, by omega, h3⟩, fun s hs => rfl, rfl, fun i hi hi2 => ?_, rfl, rfl, rfl⟩, fun k hk => ⟨⟨show 0 ≤ 8 by decide, show 0 < 100 by decide, show 0 < 10000 by decide⟩, h13 k hk, rfl, rfl⟩, ⟨fun s hs => h11 s hs, rfl, h16 _ (by omega)⟩, fun s hs => ⟨⟨show 0 < 61 by decide, rfl⟩, fun j hj => absurd hj (Nat.not_lt_zero j), fun j hj hj2 => h17 _ (by omega)⟩, ⟨rfl, rfl, rfl, by decide⟩, fun i hi => mm_v0.symm, fun i hi => mm_v0.symm⟩
  rw [pk_un (by omega)]
  rfl
theorem mm_and7 : ∀ A, A < 8 → (nI A + 1) &&& 7 = nI ((A + 1) % 8) ∧ (nI A + 2) &&& 7 = nI ((A + 2) % 8) ∧ (nI A + 3) &&& 7 = nI ((A + 3) % 8) := by decide +kernel
theorem mm_by : ∀ w, w < 256 → (nI w).toInt8.toInt32 &&& 255 = nI w := by decide +kernel
theorem mm_lawOf (p0 p1 p2 p3 : Int32) : wpL_lawOf (fun r _ => r = 1) 39 19188 () p0 p1 p2 p3 := by
  obtain ⟨A, hA, eA⟩ := pk_andE p0 (m := 7) 3 (by decide)
  obtain ⟨w, hw, ew⟩ := pk_andE p1 (m := 255) 8 (by decide)
  obtain ⟨os, hos, eos⟩ := pk_andE p2 (m := 1) 1 (by decide)
  obtain ⟨ok, hok, eok⟩ := pk_andE p3 (m := 15) 4 (by decide)
  obtain ⟨k3, hk3, ek3⟩ := pk_andE (p3 >>> ((4 : Int32) &&& 31)) (m := 3) 2 (by decide)
  have hA' : A < 8 := hA
  have hw' : w < 256 := hw
  have hos' : os < 2 := hos
  have hok' : ok < 16 := hok
  have hk3' : k3 < 4 := hk3
  have hE8 := mm_E8 A
  obtain ⟨e6, e7, e8⟩ := mm_and7 A hA'
  have eod : nI k3 - nI k3 / 3 * 3 = nI (k3 % 3) := pk_rem (d := 3) (by omega) (by omega) (by omega)
  have hod : k3 % 3 < 3 := Nat.mod_lt _ (by decide)
  refine ⟨by decide, by decide, 38, 19144, by decide, by decide, mm_initP (fun a11 a13 a16 a17 h11 h13 h16 h17 => ?_)⟩
  dsimp only
  refine nm_r eA (nm_r e6 (nm_r e7 (nm_r e8 ?_)))
  refine mm_link1 rfl rfl rfl hA' (Nat.mod_lt _ (by decide)) (by omega) ?_
  refine mm_link1 rfl rfl rfl (Nat.mod_lt _ (by decide)) (Nat.mod_lt _ (by decide)) (by omega) ?_
  refine mm_writeB ew hw' rfl ?_
  refine mm_postP rfl rfl hA' (Nat.mod_lt _ (by decide)) (by omega) rfl rfl rfl (fun r => ?_)
  refine mm_settleN (s := A) (g := mm_E A) rfl rfl rfl rfl hA' hE8 (mm_dLh A hA') (fun b27 hb27 => ?_)
  dsimp only
  refine ⟨by decide, ?_⟩
  rw [eos, eok, ek3, eod]
  refine mm_disturbP rfl rfl rfl (by omega) (by omega) hod rfl rfl ?_
  dsimp only
  refine br_c (fun hon => ?_) (fun hoff => ?_)
  · unfold wL_lawOf_129
    refine mm_link1 rfl rfl rfl (Nat.mod_lt _ (by decide)) (Nat.mod_lt _ (by decide)) (by omega) ?_
    refine mm_s7 rfl (fun c27 hc27 => ⟨61, mm_s29 (A := A) (B := nI w) (os := os) (ok := ok) (od := k3 % 3) (fun q u' hd hR => ?_) 60 0 mm_q0 _ _ _ _ _ _ _ _ _ _ _ _ _ _ _ _ _ _ _ _ _ _ _ _ _ _ _ _ _ _ _ _ _ _ _ _ _ _ _ _ _ _ _ _ (by omega) (mm_q0R hA' (by omega) (by omega) hod (mm_by w hw') h11 h13 h16 h17 hc27) (mm_kern A hA' os hos' ok hok' (k3 % 3) hod)⟩)
    obtain ⟨f0, f1, f2, f3, f4, f5, a1, a2, a3, a4, a5, a6, a7, a8, a9, a10, a11, a12, a13, a14, a15, a16, a17, a18, a19, a20, a21, a22, a23, a24, a25, a26, a27, a28, a29, a30, a31, a32, a33, a34, a35, a36, a37, a38⟩ := u'
    obtain ⟨⟨k1, k2, k4, k5⟩, ⟨k6, k7, k8, k9⟩, k10, k11, k12, k13, k14⟩ := mm_RS hR
    rw [hd] at k4
    have k14' := k14 hd
    dsimp only
    refine mm_distP (s := mm_E A) (g := A) rfl rfl hE8 hA' ?_
    refine mm_byteP (A := A) (dn := true) hA' (mm_p8 A (mm_E A)) k2 k4 k6 k7 k8 (fun z => absurd z (by decide)) (fun _ => ?_)
    rw [k5, (mm_dLK A hA').2, k14', mm_by w hw']
    exact br_t hon (br_t rfl (br_f (by decide) (br_t rfl (br_f (by decide) (br_t rfl (br_f (by decide) (br_t ew.symm rfl)))))))
  · unfold wL_lawOf_129
    refine mm_link0 rfl rfl rfl (Nat.mod_lt _ (by decide)) (Nat.mod_lt _ (by decide)) (by omega) ?_
    refine mm_settleN (s := A) (g := mm_E A) rfl rfl rfl rfl hA' hE8 (mm_dLo A hA').1 (fun c27 hc27 => ?_)
    dsimp only
    refine mm_distP (s := mm_E A) (g := A) rfl rfl hE8 hA' ?_
    refine mm_byteP (A := A) (dn := false) hA' (mm_p8 A (mm_E A)) rfl rfl rfl rfl rfl (fun _ => ?_) (fun z => absurd z (by decide))
    have hd : mm_dist (mm_l0 (mm_l1 (mm_l1 mm_z A ((A + 1) % 8)) ((A + 2) % 8) ((A + 3) % 8)) ((A + 1) % 8) ((A + 2) % 8)) (mm_E A) A = -1 := (mm_dLo A hA').2
    rw [hd]
    exact br_f hoff (br_t rfl (br_t rfl (br_t rfl (br_t rfl (br_t rfl (br_t rfl (br_t rfl rfl)))))))
theorem mm_cell {post : Int32 → Prop} {L : Nat} {xs : Nat → Int32} {p : Int32} {i : Nat} (e : p = nI i) (hi : i < 4) (hL : L ≤ 4) (hp : ∀ x, post x) : wpL_cellAt post L xs () p := by
  subst e
  exact pk_le L i (fun _ => hp _) (fun z => ⟨pk_in i L z, hp _⟩)
theorem i_vc (xs : Nat → Int32) (L : Nat) (hL : L ≤ 4) : wpL_law (fun r => r = 1) L xs := by
  unfold wpL_law
  exact mm_cell rfl (by decide : 0 < 4) hL (fun r1 => mm_cell rfl (by decide : 1 < 4) hL (fun r2 => mm_cell rfl (by decide : 2 < 4) hL (fun r3 => mm_cell rfl (by decide : 3 < 4) hL (fun r4 => ⟨39, 19188, by decide, by decide, mm_lawOf r1 r2 r3 r4⟩))))
end
